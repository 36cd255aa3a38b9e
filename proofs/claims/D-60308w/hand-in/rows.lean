section
-- ===== PART A: goes FIRST, ahead of the names: the tables' words, and 'selects' of the private methods out of them =====
/-- a private method of a class that the tables say can be made, by its rows of tables_1 -/
def lw_okq (q : MethodName × Nat) : Prop := (q.1.cls ≠ "java/lang/invoke/MethodHandle" ∧ q.1.cls ≠ "java/lang/invoke/VarHandle") ∧ Cond.instantiable q.1.cls q.2 ∈ tables_1 ∧ Cond.privateMethod q.1 ∈ tables_1 ∧ Cond.instanceMethod q.1 ∈ tables_1
set_option maxRecDepth 100000
theorem lw_t1 {w : Cond} (h : w ∈ tables_1_1) : w ∈ tables_1 := List.mem_append_left _ h
theorem lw_t2 {w : Cond} (h : w ∈ tables_1_2) : w ∈ tables_1 := List.mem_append_right _ h
theorem lw_p0 : lw_okq (⟨"BracketPairTree", "textLength", "()I"⟩, 19) := ⟨⟨by decide +kernel, by decide +kernel⟩, lw_t1 (List.mem_of_getElem? (i := 4) rfl), lw_t1 (List.mem_of_getElem? (i := 77) rfl), lw_t1 (List.mem_of_getElem? (i := 78) rfl)⟩
theorem lw_p1 : lw_okq (⟨"BracketPairTree", "sizeOf", "(I)I"⟩, 19) := ⟨⟨by decide +kernel, by decide +kernel⟩, lw_t1 (List.mem_of_getElem? (i := 4) rfl), lw_t1 (List.mem_of_getElem? (i := 81) rfl), lw_t1 (List.mem_of_getElem? (i := 82) rfl)⟩
theorem lw_p2 : lw_okq (⟨"BracketPairTree", "newNode", "(I)I"⟩, 19) := ⟨⟨by decide +kernel, by decide +kernel⟩, lw_t1 (List.mem_of_getElem? (i := 4) rfl), lw_t1 (List.mem_of_getElem? (i := 85) rfl), lw_t1 (List.mem_of_getElem? (i := 86) rfl)⟩
theorem lw_p3 : lw_okq (⟨"BracketPairTree", "refresh", "(I)V"⟩, 19) := ⟨⟨by decide +kernel, by decide +kernel⟩, lw_t1 (List.mem_of_getElem? (i := 4) rfl), lw_t1 (List.mem_of_getElem? (i := 90) rfl), lw_t1 (List.mem_of_getElem? (i := 91) rfl)⟩
theorem lw_p4 : lw_okq (⟨"BracketPairTree", "opensOf", "(II)I"⟩, 19) := ⟨⟨by decide +kernel, by decide +kernel⟩, lw_t1 (List.mem_of_getElem? (i := 4) rfl), lw_t1 (List.mem_of_getElem? (i := 94) rfl), lw_t1 (List.mem_of_getElem? (i := 95) rfl)⟩
theorem lw_p5 : lw_okq (⟨"BracketPairTree", "closesOf", "(II)I"⟩, 19) := ⟨⟨by decide +kernel, by decide +kernel⟩, lw_t1 (List.mem_of_getElem? (i := 4) rfl), lw_t1 (List.mem_of_getElem? (i := 98) rfl), lw_t1 (List.mem_of_getElem? (i := 99) rfl)⟩
theorem lw_p6 : lw_okq (⟨"BracketPairTree", "cut", "(II)V"⟩, 19) := ⟨⟨by decide +kernel, by decide +kernel⟩, lw_t1 (List.mem_of_getElem? (i := 4) rfl), lw_t1 (List.mem_of_getElem? (i := 102) rfl), lw_t1 (List.mem_of_getElem? (i := 103) rfl)⟩
theorem lw_p7 : lw_okq (⟨"BracketPairTree", "settle", "(I)V"⟩, 19) := ⟨⟨by decide +kernel, by decide +kernel⟩, lw_t1 (List.mem_of_getElem? (i := 4) rfl), lw_t1 (List.mem_of_getElem? (i := 106) rfl), lw_t1 (List.mem_of_getElem? (i := 107) rfl)⟩
theorem lw_p8 : lw_okq (⟨"BracketPairTree", "turn", "(I)V"⟩, 19) := ⟨⟨by decide +kernel, by decide +kernel⟩, lw_t1 (List.mem_of_getElem? (i := 4) rfl), lw_t1 (List.mem_of_getElem? (i := 110) rfl), lw_t1 (List.mem_of_getElem? (i := 111) rfl)⟩
theorem lw_p9 : lw_okq (⟨"BracketPairTree", "pushPath", "(I)V"⟩, 19) := ⟨⟨by decide +kernel, by decide +kernel⟩, lw_t1 (List.mem_of_getElem? (i := 4) rfl), lw_t1 (List.mem_of_getElem? (i := 114) rfl), lw_t1 (List.mem_of_getElem? (i := 115) rfl)⟩
theorem lw_p10 : lw_okq (⟨"BracketPairTree", "refreshPath", "()V"⟩, 19) := ⟨⟨by decide +kernel, by decide +kernel⟩, lw_t1 (List.mem_of_getElem? (i := 4) rfl), lw_t1 (List.mem_of_getElem? (i := 118) rfl), lw_t1 (List.mem_of_getElem? (i := 119) rfl)⟩
theorem lw_p11 : lw_okq (⟨"BracketPairTree", "join", "(II)I"⟩, 19) := ⟨⟨by decide +kernel, by decide +kernel⟩, lw_t1 (List.mem_of_getElem? (i := 4) rfl), lw_t1 (List.mem_of_getElem? (i := 122) rfl), lw_t1 (List.mem_of_getElem? (i := 123) rfl)⟩
theorem lw_p12 : lw_okq (⟨"BracketPairTree", "hang", "(IZI)V"⟩, 19) := ⟨⟨by decide +kernel, by decide +kernel⟩, lw_t1 (List.mem_of_getElem? (i := 4) rfl), lw_t1 (List.mem_of_getElem? (i := 126) rfl), lw_t1 (List.mem_of_getElem? (i := 127) rfl)⟩
theorem lw_p13 : lw_okq (⟨"BracketPairTree", "isStretch", "(II)Z"⟩, 19) := ⟨⟨by decide +kernel, by decide +kernel⟩, lw_t1 (List.mem_of_getElem? (i := 4) rfl), lw_t1 (List.mem_of_getElem? (i := 134) rfl), lw_t1 (List.mem_of_getElem? (i := 135) rfl)⟩
theorem lw_p14 : lw_okq (⟨"BracketPairTree", "takeApart", "(II)V"⟩, 19) := ⟨⟨by decide +kernel, by decide +kernel⟩, lw_t1 (List.mem_of_getElem? (i := 4) rfl), lw_t1 (List.mem_of_getElem? (i := 138) rfl), lw_t1 (List.mem_of_getElem? (i := 139) rfl)⟩
theorem lw_p15 : lw_okq (⟨"BracketPairTree", "release", "(I)V"⟩, 19) := ⟨⟨by decide +kernel, by decide +kernel⟩, lw_t1 (List.mem_of_getElem? (i := 4) rfl), lw_t1 (List.mem_of_getElem? (i := 142) rfl), lw_t1 (List.mem_of_getElem? (i := 143) rfl)⟩
def lw_privs_1 : List (MethodName × Nat) := [(⟨"BracketPairTree", "textLength", "()I"⟩, 19), (⟨"BracketPairTree", "sizeOf", "(I)I"⟩, 19), (⟨"BracketPairTree", "newNode", "(I)I"⟩, 19), (⟨"BracketPairTree", "refresh", "(I)V"⟩, 19), (⟨"BracketPairTree", "opensOf", "(II)I"⟩, 19), (⟨"BracketPairTree", "closesOf", "(II)I"⟩, 19), (⟨"BracketPairTree", "cut", "(II)V"⟩, 19), (⟨"BracketPairTree", "settle", "(I)V"⟩, 19), (⟨"BracketPairTree", "turn", "(I)V"⟩, 19), (⟨"BracketPairTree", "pushPath", "(I)V"⟩, 19), (⟨"BracketPairTree", "refreshPath", "()V"⟩, 19), (⟨"BracketPairTree", "join", "(II)I"⟩, 19), (⟨"BracketPairTree", "hang", "(IZI)V"⟩, 19), (⟨"BracketPairTree", "isStretch", "(II)Z"⟩, 19), (⟨"BracketPairTree", "takeApart", "(II)V"⟩, 19), (⟨"BracketPairTree", "release", "(I)V"⟩, 19)]
theorem lw_r1 : ∀ q ∈ lw_privs_1, lw_okq q := List.forall_mem_cons.mpr ⟨lw_p0, List.forall_mem_cons.mpr ⟨lw_p1, List.forall_mem_cons.mpr ⟨lw_p2, List.forall_mem_cons.mpr ⟨lw_p3, List.forall_mem_cons.mpr ⟨lw_p4, List.forall_mem_cons.mpr ⟨lw_p5, List.forall_mem_cons.mpr ⟨lw_p6, List.forall_mem_cons.mpr ⟨lw_p7, List.forall_mem_cons.mpr ⟨lw_p8, List.forall_mem_cons.mpr ⟨lw_p9, List.forall_mem_cons.mpr ⟨lw_p10, List.forall_mem_cons.mpr ⟨lw_p11, List.forall_mem_cons.mpr ⟨lw_p12, List.forall_mem_cons.mpr ⟨lw_p13, List.forall_mem_cons.mpr ⟨lw_p14, List.forall_mem_cons.mpr ⟨lw_p15, fun _ h => absurd h List.not_mem_nil⟩⟩⟩⟩⟩⟩⟩⟩⟩⟩⟩⟩⟩⟩⟩⟩
theorem lw_p16 : lw_okq (⟨"BracketPairTree", "putTogether", "()V"⟩, 19) := ⟨⟨by decide +kernel, by decide +kernel⟩, lw_t1 (List.mem_of_getElem? (i := 4) rfl), lw_t1 (List.mem_of_getElem? (i := 154) rfl), lw_t1 (List.mem_of_getElem? (i := 155) rfl)⟩
theorem lw_p17 : lw_okq (⟨"BracketPairTree", "nodeAt", "(I)I"⟩, 19) := ⟨⟨by decide +kernel, by decide +kernel⟩, lw_t1 (List.mem_of_getElem? (i := 4) rfl), lw_t1 (List.mem_of_getElem? (i := 162) rfl), lw_t1 (List.mem_of_getElem? (i := 163) rfl)⟩
theorem lw_p18 : lw_okq (⟨"BracketPairTree", "firstLooseClose", "(II)I"⟩, 19) := ⟨⟨by decide +kernel, by decide +kernel⟩, lw_t1 (List.mem_of_getElem? (i := 4) rfl), lw_t1 (List.mem_of_getElem? (i := 170) rfl), lw_t1 (List.mem_of_getElem? (i := 171) rfl)⟩
theorem lw_p19 : lw_okq (⟨"BracketPairTree", "lastLooseOpen", "(III)I"⟩, 19) := ⟨⟨by decide +kernel, by decide +kernel⟩, lw_t1 (List.mem_of_getElem? (i := 4) rfl), lw_t1 (List.mem_of_getElem? (i := 174) rfl), lw_t1 (List.mem_of_getElem? (i := 175) rfl)⟩
theorem lw_p20 : lw_okq (⟨"BracketPairTree", "pairsAround", "(I)I"⟩, 19) := ⟨⟨by decide +kernel, by decide +kernel⟩, lw_t1 (List.mem_of_getElem? (i := 4) rfl), lw_t1 (List.mem_of_getElem? (i := 182) rfl), lw_t1 (List.mem_of_getElem? (i := 183) rfl)⟩
theorem lw_p21 : lw_okq (⟨"BracketPairTreeModel", "isStretch", "(II)Z"⟩, 3) := ⟨⟨by decide +kernel, by decide +kernel⟩, lw_t1 (List.mem_of_getElem? (i := 198) rfl), lw_t1 (List.mem_of_getElem? (i := 222) rfl), lw_t1 (List.mem_of_getElem? (i := 223) rfl)⟩
theorem lw_p22 : lw_okq (⟨"BracketPairTreeModel", "isPlace", "(I)Z"⟩, 3) := ⟨⟨by decide +kernel, by decide +kernel⟩, lw_t1 (List.mem_of_getElem? (i := 198) rfl), lw_t2 (List.mem_of_getElem? (i := 0) rfl), lw_t2 (List.mem_of_getElem? (i := 1) rfl)⟩
theorem lw_p23 : lw_okq (⟨"BracketPairTreeModel", "mate", "(III)I"⟩, 3) := ⟨⟨by decide +kernel, by decide +kernel⟩, lw_t1 (List.mem_of_getElem? (i := 198) rfl), lw_t2 (List.mem_of_getElem? (i := 8) rfl), lw_t2 (List.mem_of_getElem? (i := 9) rfl)⟩
theorem lw_p24 : lw_okq (⟨"BracketPairTreeModel", "isPair", "(III)Z"⟩, 3) := ⟨⟨by decide +kernel, by decide +kernel⟩, lw_t1 (List.mem_of_getElem? (i := 198) rfl), lw_t2 (List.mem_of_getElem? (i := 12) rfl), lw_t2 (List.mem_of_getElem? (i := 13) rfl)⟩
theorem lw_p25 : lw_okq (⟨"BracketPairTreeModel", "loose", "(III)I"⟩, 3) := ⟨⟨by decide +kernel, by decide +kernel⟩, lw_t1 (List.mem_of_getElem? (i := 198) rfl), lw_t2 (List.mem_of_getElem? (i := 28) rfl), lw_t2 (List.mem_of_getElem? (i := 29) rfl)⟩
def lw_privs_2 : List (MethodName × Nat) := [(⟨"BracketPairTree", "putTogether", "()V"⟩, 19), (⟨"BracketPairTree", "nodeAt", "(I)I"⟩, 19), (⟨"BracketPairTree", "firstLooseClose", "(II)I"⟩, 19), (⟨"BracketPairTree", "lastLooseOpen", "(III)I"⟩, 19), (⟨"BracketPairTree", "pairsAround", "(I)I"⟩, 19), (⟨"BracketPairTreeModel", "isStretch", "(II)Z"⟩, 3), (⟨"BracketPairTreeModel", "isPlace", "(I)Z"⟩, 3), (⟨"BracketPairTreeModel", "mate", "(III)I"⟩, 3), (⟨"BracketPairTreeModel", "isPair", "(III)Z"⟩, 3), (⟨"BracketPairTreeModel", "loose", "(III)I"⟩, 3)]
theorem lw_r2 : ∀ q ∈ lw_privs_2, lw_okq q := List.forall_mem_cons.mpr ⟨lw_p16, List.forall_mem_cons.mpr ⟨lw_p17, List.forall_mem_cons.mpr ⟨lw_p18, List.forall_mem_cons.mpr ⟨lw_p19, List.forall_mem_cons.mpr ⟨lw_p20, List.forall_mem_cons.mpr ⟨lw_p21, List.forall_mem_cons.mpr ⟨lw_p22, List.forall_mem_cons.mpr ⟨lw_p23, List.forall_mem_cons.mpr ⟨lw_p24, List.forall_mem_cons.mpr ⟨lw_p25, fun _ h => absurd h List.not_mem_nil⟩⟩⟩⟩⟩⟩⟩⟩⟩⟩
def lw_privs : List (MethodName × Nat) := lw_privs_1 ++ (lw_privs_2)
def lw_tbl : List Cond := k2_sels lw_privs ++ tables_1
theorem lw_privs_ok : ∀ q ∈ lw_privs, lw_okq q := by
  show ∀ q ∈ lw_privs_1 ++ (lw_privs_2), lw_okq q
  exact List.forall_mem_append.mpr ⟨lw_r1, lw_r2⟩
-- ===== ONE list of words for every method: the tables' words that hold all through a run =====
def lw_all : List Cond := lw_tbl.filter goodWord
/-- a word of the tables by its place: claim/WORDS.tsv -/
theorem lw_w {w : Cond} (i : Nat) (h : lw_tbl[i]? = some w) (g : goodWord w = true) : w ∈ lw_all := List.mem_filter.mpr ⟨List.mem_of_getElem? h, g⟩
theorem lw_all_tbl {w : Cond} (h : w ∈ lw_all) : w ∈ lw_tbl := (List.mem_filter.mp h).1
theorem lw_self : GoodIn lw_all lw_all := fun w h => ⟨h, good_of_word (List.mem_filter.mp h).2⟩
/-- a class's field words, by their places -/
theorem lw_in (ws : List Cond) (ps : List Nat) (hp : ws = ps.filterMap (fun i => lw_tbl[i]?)) (hg : ws.all goodWord = true) : ∀ w ∈ ws, w ∈ lw_all := by
  intro w h
  have h1 := List.all_eq_true.mp hg w h
  rw [hp] at h
  obtain ⟨i, -, hi⟩ := List.mem_filterMap.mp h
  exact lw_w i hi h1
/-- the words of a contract for the method y with code b, L locals, answer r -/
abbrev ws_ (y : MethodName) (b : ByteArray) (L : Nat) (r : Option FieldType) : List Cond := Cond.code y b L r :: lw_all
theorem lw_meth {y : MethodName} {b : ByteArray} {L : Nat} {r : Option FieldType} (h : Cond.code y b L r ∈ lw_all) : GoodIn lw_all (ws_ y b L r) := by
  intro w hw
  rcases List.mem_cons.mp hw with e | e
  · rw [e]
    exact lw_self _ h
  · exact lw_self _ e
theorem lw_app {a c : List Cond} (ha : ∀ w ∈ a, w ∈ lw_all) (hc : GoodIn lw_all c) : GoodIn lw_all (a ++ c) := by
  intro w hw
  rcases List.mem_append.mp hw with e | e
  · exact lw_self w (ha w e)
  · exact hc w e
/-- what a call through an object asks: cwV n hts (lw_V ..) -/
theorem lw_V {own : String} {idx : Nat} {C : String} {y : MethodName} {b : ByteArray} {L : Nat} {r : Option FieldType} (h1 : Cond.methodLink own idx y ∈ lw_all) (h2 : Cond.instanceMethod y ∈ lw_all) (h3 : Cond.selects C y y ∈ lw_all) (h4 : Cond.initialized C ∈ lw_all) (h5 : Cond.code y b L r ∈ lw_all) : GoodIn lw_all (wsV own idx C y (ws_ y b L r)) := by
  refine lw_app ?_ (lw_meth h5)
  intro w hw
  simp only [List.mem_cons, List.not_mem_nil, or_false] at hw
  rcases hw with e | e | e | e
  · rw [e]; exact h1
  · rw [e]; exact h2
  · rw [e]; exact h3
  · rw [e]; exact h4
/-- what a static call asks: va_cwS n hts (lw_S ..) -/
theorem lw_S {own : String} {idx : Nat} {y : MethodName} {b : ByteArray} {L : Nat} {r : Option FieldType} (h1 : Cond.methodLink own idx y ∈ lw_all) (h2 : Cond.static y ∈ lw_all) (h3 : Cond.initialized y.cls ∈ lw_all) (h4 : Cond.code y b L r ∈ lw_all) : GoodIn lw_all (va_wsS own idx y (ws_ y b L r)) := by
  refine lw_app ?_ (lw_meth h4)
  intro w hw
  simp only [List.mem_cons, List.not_mem_nil, or_false] at hw
  rcases hw with e | e | e
  · rw [e]; exact h1
  · rw [e]; exact h2
  · rw [e]; exact h3
/-- the words of a contract for a method WITH HANDLERS (hh: its table) -/
abbrev wsW_ (y : MethodName) (b : ByteArray) (L : Nat) (r : Option FieldType) (hh : List (Nat × Nat × Nat × Nat)) : List Cond := Cond.codeWith y b L r hh :: lw_all
theorem lw_methW {y : MethodName} {b : ByteArray} {L : Nat} {r : Option FieldType} {hh : List (Nat × Nat × Nat × Nat)} (h : Cond.codeWith y b L r hh ∈ lw_all) : GoodIn lw_all (wsW_ y b L r hh) := by
  intro w hw
  rcases List.mem_cons.mp hw with e | e
  · rw [e]
    exact lw_self _ h
  · exact lw_self _ e
/-- any list of words by their places (lw_in), good -/
theorem lw_good {ws : List Cond} (h : ∀ w ∈ ws, w ∈ lw_all) : GoodIn lw_all ws := fun w hw => lw_self w (h w hw)
/-- what a call of a method with handlers asks: vx_cwVW n hts (lw_VW ..), vx_cwSW n hts (lw_SW ..) -/
theorem lw_VW {own : String} {idx : Nat} {C : String} {y : MethodName} {b : ByteArray} {L : Nat} {r : Option FieldType} {hh : List (Nat × Nat × Nat × Nat)} (h1 : Cond.methodLink own idx y ∈ lw_all) (h2 : Cond.instanceMethod y ∈ lw_all) (h3 : Cond.selects C y y ∈ lw_all) (h4 : Cond.initialized C ∈ lw_all) (h5 : Cond.codeWith y b L r hh ∈ lw_all) : GoodIn lw_all (wsV own idx C y (wsW_ y b L r hh)) := by
  refine lw_app ?_ (lw_methW h5)
  intro w hw
  simp only [List.mem_cons, List.not_mem_nil, or_false] at hw
  rcases hw with e | e | e | e
  · rw [e]; exact h1
  · rw [e]; exact h2
  · rw [e]; exact h3
  · rw [e]; exact h4
theorem lw_SW {own : String} {idx : Nat} {y : MethodName} {b : ByteArray} {L : Nat} {r : Option FieldType} {hh : List (Nat × Nat × Nat × Nat)} (h1 : Cond.methodLink own idx y ∈ lw_all) (h2 : Cond.static y ∈ lw_all) (h3 : Cond.initialized y.cls ∈ lw_all) (h4 : Cond.codeWith y b L r hh ∈ lw_all) : GoodIn lw_all (va_wsS own idx y (wsW_ y b L r hh)) := by
  refine lw_app ?_ (lw_methW h4)
  intro w hw
  simp only [List.mem_cons, List.not_mem_nil, or_false] at hw
  rcases hw with e | e | e
  · rw [e]; exact h1
  · rw [e]; exact h2
  · rw [e]; exact h3
/-- a word by its place in its run of the tables -/
theorem lw_at {r : List Cond} (hr : ∀ w ∈ r, w ∈ lw_tbl) {w : Cond} (i : Nat) (h : r[i]? = some w) : w ∈ lw_tbl := hr w (List.mem_of_getElem? h)
theorem lw_g {w : Cond} (h : w ∈ lw_tbl) (g : goodWord w = true) : w ∈ lw_all := List.mem_filter.mpr ⟨h, g⟩
theorem lw_ms : ∀ w ∈ k2_sels lw_privs, w ∈ lw_tbl := fun w h => show w ∈ k2_sels lw_privs ++ tables_1 from List.mem_append_left _ h
theorem lw_m1 : ∀ w ∈ tables_1_1, w ∈ lw_tbl := fun w h => show w ∈ k2_sels lw_privs ++ tables_1 from List.mem_append_right (k2_sels lw_privs) (show w ∈ tables_1 from List.mem_append_left _ h)
theorem lw_m2 : ∀ w ∈ tables_1_2, w ∈ lw_tbl := fun w h => show w ∈ k2_sels lw_privs ++ tables_1 from List.mem_append_right (k2_sels lw_privs) (show w ∈ tables_1 from List.mem_append_right _ h)
theorem qs0 : (Cond.selects "BracketPairTree" ⟨"BracketPairTree", "textLength", "()I"⟩ ⟨"BracketPairTree", "textLength", "()I"⟩) ∈ lw_all := lw_g (lw_at lw_ms 0 rfl) rfl
theorem qs1 : (Cond.selects "BracketPairTree" ⟨"BracketPairTree", "sizeOf", "(I)I"⟩ ⟨"BracketPairTree", "sizeOf", "(I)I"⟩) ∈ lw_all := lw_g (lw_at lw_ms 1 rfl) rfl
theorem qs2 : (Cond.selects "BracketPairTree" ⟨"BracketPairTree", "newNode", "(I)I"⟩ ⟨"BracketPairTree", "newNode", "(I)I"⟩) ∈ lw_all := lw_g (lw_at lw_ms 2 rfl) rfl
theorem qs3 : (Cond.selects "BracketPairTree" ⟨"BracketPairTree", "refresh", "(I)V"⟩ ⟨"BracketPairTree", "refresh", "(I)V"⟩) ∈ lw_all := lw_g (lw_at lw_ms 3 rfl) rfl
theorem qs4 : (Cond.selects "BracketPairTree" ⟨"BracketPairTree", "opensOf", "(II)I"⟩ ⟨"BracketPairTree", "opensOf", "(II)I"⟩) ∈ lw_all := lw_g (lw_at lw_ms 4 rfl) rfl
theorem qs5 : (Cond.selects "BracketPairTree" ⟨"BracketPairTree", "closesOf", "(II)I"⟩ ⟨"BracketPairTree", "closesOf", "(II)I"⟩) ∈ lw_all := lw_g (lw_at lw_ms 5 rfl) rfl
theorem qs6 : (Cond.selects "BracketPairTree" ⟨"BracketPairTree", "cut", "(II)V"⟩ ⟨"BracketPairTree", "cut", "(II)V"⟩) ∈ lw_all := lw_g (lw_at lw_ms 6 rfl) rfl
theorem qs7 : (Cond.selects "BracketPairTree" ⟨"BracketPairTree", "settle", "(I)V"⟩ ⟨"BracketPairTree", "settle", "(I)V"⟩) ∈ lw_all := lw_g (lw_at lw_ms 7 rfl) rfl
theorem qs8 : (Cond.selects "BracketPairTree" ⟨"BracketPairTree", "turn", "(I)V"⟩ ⟨"BracketPairTree", "turn", "(I)V"⟩) ∈ lw_all := lw_g (lw_at lw_ms 8 rfl) rfl
theorem qs9 : (Cond.selects "BracketPairTree" ⟨"BracketPairTree", "pushPath", "(I)V"⟩ ⟨"BracketPairTree", "pushPath", "(I)V"⟩) ∈ lw_all := lw_g (lw_at lw_ms 9 rfl) rfl
theorem qs10 : (Cond.selects "BracketPairTree" ⟨"BracketPairTree", "refreshPath", "()V"⟩ ⟨"BracketPairTree", "refreshPath", "()V"⟩) ∈ lw_all := lw_g (lw_at lw_ms 10 rfl) rfl
theorem qs11 : (Cond.selects "BracketPairTree" ⟨"BracketPairTree", "join", "(II)I"⟩ ⟨"BracketPairTree", "join", "(II)I"⟩) ∈ lw_all := lw_g (lw_at lw_ms 11 rfl) rfl
theorem qs12 : (Cond.selects "BracketPairTree" ⟨"BracketPairTree", "hang", "(IZI)V"⟩ ⟨"BracketPairTree", "hang", "(IZI)V"⟩) ∈ lw_all := lw_g (lw_at lw_ms 12 rfl) rfl
theorem qs13 : (Cond.selects "BracketPairTree" ⟨"BracketPairTree", "isStretch", "(II)Z"⟩ ⟨"BracketPairTree", "isStretch", "(II)Z"⟩) ∈ lw_all := lw_g (lw_at lw_ms 13 rfl) rfl
theorem qs14 : (Cond.selects "BracketPairTree" ⟨"BracketPairTree", "takeApart", "(II)V"⟩ ⟨"BracketPairTree", "takeApart", "(II)V"⟩) ∈ lw_all := lw_g (lw_at lw_ms 14 rfl) rfl
theorem qs15 : (Cond.selects "BracketPairTree" ⟨"BracketPairTree", "release", "(I)V"⟩ ⟨"BracketPairTree", "release", "(I)V"⟩) ∈ lw_all := lw_g (lw_at lw_ms 15 rfl) rfl
theorem qs16 : (Cond.selects "BracketPairTree" ⟨"BracketPairTree", "putTogether", "()V"⟩ ⟨"BracketPairTree", "putTogether", "()V"⟩) ∈ lw_all := lw_g (lw_at lw_ms 16 rfl) rfl
theorem qs17 : (Cond.selects "BracketPairTree" ⟨"BracketPairTree", "nodeAt", "(I)I"⟩ ⟨"BracketPairTree", "nodeAt", "(I)I"⟩) ∈ lw_all := lw_g (lw_at lw_ms 17 rfl) rfl
theorem qs18 : (Cond.selects "BracketPairTree" ⟨"BracketPairTree", "firstLooseClose", "(II)I"⟩ ⟨"BracketPairTree", "firstLooseClose", "(II)I"⟩) ∈ lw_all := lw_g (lw_at lw_ms 18 rfl) rfl
theorem qs19 : (Cond.selects "BracketPairTree" ⟨"BracketPairTree", "lastLooseOpen", "(III)I"⟩ ⟨"BracketPairTree", "lastLooseOpen", "(III)I"⟩) ∈ lw_all := lw_g (lw_at lw_ms 19 rfl) rfl
theorem qs20 : (Cond.selects "BracketPairTree" ⟨"BracketPairTree", "pairsAround", "(I)I"⟩ ⟨"BracketPairTree", "pairsAround", "(I)I"⟩) ∈ lw_all := lw_g (lw_at lw_ms 20 rfl) rfl
theorem qs21 : (Cond.selects "BracketPairTreeModel" ⟨"BracketPairTreeModel", "isStretch", "(II)Z"⟩ ⟨"BracketPairTreeModel", "isStretch", "(II)Z"⟩) ∈ lw_all := lw_g (lw_at lw_ms 21 rfl) rfl
theorem qs22 : (Cond.selects "BracketPairTreeModel" ⟨"BracketPairTreeModel", "isPlace", "(I)Z"⟩ ⟨"BracketPairTreeModel", "isPlace", "(I)Z"⟩) ∈ lw_all := lw_g (lw_at lw_ms 22 rfl) rfl
theorem qs23 : (Cond.selects "BracketPairTreeModel" ⟨"BracketPairTreeModel", "mate", "(III)I"⟩ ⟨"BracketPairTreeModel", "mate", "(III)I"⟩) ∈ lw_all := lw_g (lw_at lw_ms 23 rfl) rfl
theorem qs24 : (Cond.selects "BracketPairTreeModel" ⟨"BracketPairTreeModel", "isPair", "(III)Z"⟩ ⟨"BracketPairTreeModel", "isPair", "(III)Z"⟩) ∈ lw_all := lw_g (lw_at lw_ms 24 rfl) rfl
theorem qs25 : (Cond.selects "BracketPairTreeModel" ⟨"BracketPairTreeModel", "loose", "(III)I"⟩ ⟨"BracketPairTreeModel", "loose", "(III)I"⟩) ∈ lw_all := lw_g (lw_at lw_ms 25 rfl) rfl
end
section
set_option maxRecDepth 100000
/-! java/lang/Object -/
def RJ0 : String := "java/lang/Object"
abbrev cJ0_init : ByteArray := object_method_1_code
def yJ0_init : MethodName := ⟨RJ0, "<init>", "()V"⟩
theorem q35 : (Jvm.Cond.instanceMethod ({ cls := "java/lang/Object", name := "<init>", desc := "()V" } : Jvm.MethodName)) ∈ lw_all := lw_g (lw_at lw_m1 9 rfl) rfl
theorem q36 : (Jvm.Cond.code ({ cls := "java/lang/Object", name := "<init>", desc := "()V" } : Jvm.MethodName) object_method_1_code (1 : Nat) (Option.none : Option Jvm.ClassFile.FieldType)) ∈ lw_all := lw_g (lw_at lw_m1 10 rfl) rfl

/-! BracketPairTree -/
def RX0 : String := "BracketPairTree"
def TX0 : u_T := fun k => match k with
  | 0 => ("BracketPairTree", "code", "[B", true)
  | 1 => ("BracketPairTree", "left", "[B", true)
  | 2 => ("BracketPairTree", "right", "[B", true)
  | 3 => ("BracketPairTree", "size", "[B", true)
  | 4 => ("BracketPairTree", "turned", "[Z", true)
  | 5 => ("BracketPairTree", "rank", "[I", true)
  | 6 => ("BracketPairTree", "opens", "[B", true)
  | 7 => ("BracketPairTree", "closes", "[B", true)
  | 8 => ("BracketPairTree", "root", "I", false)
  | 9 => ("BracketPairTree", "seed", "I", false)
  | 10 => ("BracketPairTree", "spare", "[B", true)
  | 11 => ("BracketPairTree", "spareCount", "I", false)
  | 12 => ("BracketPairTree", "path", "[B", true)
  | 13 => ("BracketPairTree", "pathLength", "I", false)
  | 14 => ("BracketPairTree", "cutLeft", "I", false)
  | 15 => ("BracketPairTree", "cutRight", "I", false)
  | 16 => ("BracketPairTree", "before", "I", false)
  | 17 => ("BracketPairTree", "middle", "I", false)
  | _ => ("BracketPairTree", "after", "I", false)
def tyX0 : Nat → FieldType := fun k => match k with
  | 0 => .array .byte
  | 1 => .array .byte
  | 2 => .array .byte
  | 3 => .array .byte
  | 4 => .array .boolean
  | 5 => .array .int
  | 6 => .array .byte
  | 7 => .array .byte
  | 8 => .int
  | 9 => .int
  | 10 => .array .byte
  | 11 => .int
  | 12 => .array .byte
  | 13 => .int
  | 14 => .int
  | 15 => .int
  | 16 => .int
  | 17 => .int
  | _ => .int
abbrev wsX00 : List Cond := u_ws RX0 TX0 19
set_option maxRecDepth 100000 in
theorem nmX0 : ∀ a, a < 19 → ∀ b, b < 19 → a ≠ b → (TX0 a).2.1 ≠ (TX0 b).2.1 := by decide +kernel
set_option maxRecDepth 100000 in
theorem tyX0_ok : ∀ k, k < 19 → parseFieldDescriptor (TX0 k).2.2.1 = some (tyX0 k) := by decide +kernel
abbrev cX0_init : ByteArray := prog_1_method_1_code
def yX0_init : MethodName := ⟨RX0, "<init>", "()V"⟩
abbrev cX0_insert : ByteArray := prog_1_method_2_code
def yX0_insert : MethodName := ⟨RX0, "insert", "(II)I"⟩
abbrev cX0_textLength : ByteArray := prog_1_method_13_code
def yX0_textLength : MethodName := ⟨RX0, "textLength", "()I"⟩
abbrev cX0_sizeOf : ByteArray := prog_1_method_18_code
def yX0_sizeOf : MethodName := ⟨RX0, "sizeOf", "(I)I"⟩
abbrev cX0_newNode : ByteArray := prog_1_method_21_code
def yX0_newNode : MethodName := ⟨RX0, "newNode", "(I)I"⟩
abbrev cX0_refresh : ByteArray := prog_1_method_26_code
def yX0_refresh : MethodName := ⟨RX0, "refresh", "(I)V"⟩
abbrev cX0_opensOf : ByteArray := prog_1_method_19_code
def yX0_opensOf : MethodName := ⟨RX0, "opensOf", "(II)I"⟩
abbrev cX0_closesOf : ByteArray := prog_1_method_20_code
def yX0_closesOf : MethodName := ⟨RX0, "closesOf", "(II)I"⟩
abbrev cX0_cut : ByteArray := prog_1_method_28_code
def yX0_cut : MethodName := ⟨RX0, "cut", "(II)V"⟩
abbrev cX0_settle : ByteArray := prog_1_method_25_code
def yX0_settle : MethodName := ⟨RX0, "settle", "(I)V"⟩
abbrev cX0_turn : ByteArray := prog_1_method_24_code
def yX0_turn : MethodName := ⟨RX0, "turn", "(I)V"⟩
abbrev cX0_pushPath : ByteArray := prog_1_method_23_code
def yX0_pushPath : MethodName := ⟨RX0, "pushPath", "(I)V"⟩
abbrev cX0_refreshPath : ByteArray := prog_1_method_27_code
def yX0_refreshPath : MethodName := ⟨RX0, "refreshPath", "()V"⟩
abbrev cX0_join : ByteArray := prog_1_method_29_code
def yX0_join : MethodName := ⟨RX0, "join", "(II)I"⟩
abbrev cX0_hang : ByteArray := prog_1_method_30_code
def yX0_hang : MethodName := ⟨RX0, "hang", "(IZI)V"⟩
abbrev cX0_erase : ByteArray := prog_1_method_3_code
def yX0_erase : MethodName := ⟨RX0, "erase", "(II)I"⟩
abbrev cX0_isStretch : ByteArray := prog_1_method_14_code
def yX0_isStretch : MethodName := ⟨RX0, "isStretch", "(II)Z"⟩
abbrev cX0_takeApart : ByteArray := prog_1_method_31_code
def yX0_takeApart : MethodName := ⟨RX0, "takeApart", "(II)V"⟩
abbrev cX0_release : ByteArray := prog_1_method_22_code
def yX0_release : MethodName := ⟨RX0, "release", "(I)V"⟩
abbrev cX0_move : ByteArray := prog_1_method_4_code
def yX0_move : MethodName := ⟨RX0, "move", "(III)I"⟩
abbrev cX0_mirror : ByteArray := prog_1_method_5_code
def yX0_mirror : MethodName := ⟨RX0, "mirror", "(II)I"⟩
abbrev cX0_putTogether : ByteArray := prog_1_method_32_code
def yX0_putTogether : MethodName := ⟨RX0, "putTogether", "()V"⟩
abbrev cX0_codeAt : ByteArray := prog_1_method_6_code
def yX0_codeAt : MethodName := ⟨RX0, "codeAt", "(I)I"⟩
abbrev cX0_nodeAt : ByteArray := prog_1_method_15_code
def yX0_nodeAt : MethodName := ⟨RX0, "nodeAt", "(I)I"⟩
abbrev cX0_partner : ByteArray := prog_1_method_7_code
def yX0_partner : MethodName := ⟨RX0, "partner", "(I)I"⟩
abbrev cX0_firstLooseClose : ByteArray := prog_1_method_16_code
def yX0_firstLooseClose : MethodName := ⟨RX0, "firstLooseClose", "(II)I"⟩
abbrev cX0_lastLooseOpen : ByteArray := prog_1_method_17_code
def yX0_lastLooseOpen : MethodName := ⟨RX0, "lastLooseOpen", "(III)I"⟩
abbrev cX0_around : ByteArray := prog_1_method_8_code
def yX0_around : MethodName := ⟨RX0, "around", "(II)I"⟩
abbrev cX0_pairsAround : ByteArray := prog_1_method_12_code
def yX0_pairsAround : MethodName := ⟨RX0, "pairsAround", "(I)I"⟩
abbrev cX0_depth : ByteArray := prog_1_method_9_code
def yX0_depth : MethodName := ⟨RX0, "depth", "(II)I"⟩
abbrev cX0_looseOpen : ByteArray := prog_1_method_10_code
def yX0_looseOpen : MethodName := ⟨RX0, "looseOpen", "(III)I"⟩
abbrev cX0_looseClose : ByteArray := prog_1_method_11_code
def yX0_looseClose : MethodName := ⟨RX0, "looseClose", "(III)I"⟩
theorem q27 : (Jvm.Cond.initialized "BracketPairTree") ∈ lw_all := lw_g (lw_at lw_m1 1 rfl) rfl
theorem q30 : (Jvm.Cond.instantiable "BracketPairTree" (19 : Nat)) ∈ lw_all := lw_g (lw_at lw_m1 4 rfl) rfl
theorem q32 : (Jvm.Cond.instanceMethod ({ cls := "BracketPairTree", name := "<init>", desc := "()V" } : Jvm.MethodName)) ∈ lw_all := lw_g (lw_at lw_m1 6 rfl) rfl
theorem q33 : (Jvm.Cond.code ({ cls := "BracketPairTree", name := "<init>", desc := "()V" } : Jvm.MethodName) prog_1_method_1_code (2 : Nat) (Option.none : Option Jvm.ClassFile.FieldType)) ∈ lw_all := lw_g (lw_at lw_m1 7 rfl) rfl
theorem q34 : (Jvm.Cond.methodLink "BracketPairTree" (1 : Nat) ({ cls := "java/lang/Object", name := "<init>", desc := "()V" } : Jvm.MethodName)) ∈ lw_all := lw_g (lw_at lw_m1 8 rfl) rfl
theorem q37 : (Jvm.Cond.fieldLink "BracketPairTree" (7 : Nat) "BracketPairTree" "code" "[B") ∈ lw_all := lw_g (lw_at lw_m1 11 rfl) rfl
theorem q38 : (Jvm.Cond.fieldLink "BracketPairTree" (13 : Nat) "BracketPairTree" "left" "[B") ∈ lw_all := lw_g (lw_at lw_m1 12 rfl) rfl
theorem q39 : (Jvm.Cond.fieldLink "BracketPairTree" (16 : Nat) "BracketPairTree" "right" "[B") ∈ lw_all := lw_g (lw_at lw_m1 13 rfl) rfl
theorem q40 : (Jvm.Cond.fieldLink "BracketPairTree" (19 : Nat) "BracketPairTree" "size" "[B") ∈ lw_all := lw_g (lw_at lw_m1 14 rfl) rfl
theorem q41 : (Jvm.Cond.fieldLink "BracketPairTree" (22 : Nat) "BracketPairTree" "turned" "[Z") ∈ lw_all := lw_g (lw_at lw_m1 15 rfl) rfl
theorem q42 : (Jvm.Cond.fieldLink "BracketPairTree" (26 : Nat) "BracketPairTree" "rank" "[I") ∈ lw_all := lw_g (lw_at lw_m1 16 rfl) rfl
theorem q43 : (Jvm.Cond.fieldLink "BracketPairTree" (30 : Nat) "BracketPairTree" "opens" "[B") ∈ lw_all := lw_g (lw_at lw_m1 17 rfl) rfl
theorem q44 : (Jvm.Cond.fieldLink "BracketPairTree" (33 : Nat) "BracketPairTree" "closes" "[B") ∈ lw_all := lw_g (lw_at lw_m1 18 rfl) rfl
theorem q45 : (Jvm.Cond.fieldLink "BracketPairTree" (42 : Nat) "BracketPairTree" "root" "I") ∈ lw_all := lw_g (lw_at lw_m1 19 rfl) rfl
theorem q46 : (Jvm.Cond.fieldLink "BracketPairTree" (46 : Nat) "BracketPairTree" "seed" "I") ∈ lw_all := lw_g (lw_at lw_m1 20 rfl) rfl
theorem q47 : (Jvm.Cond.fieldLink "BracketPairTree" (36 : Nat) "BracketPairTree" "spare" "[B") ∈ lw_all := lw_g (lw_at lw_m1 21 rfl) rfl
theorem q48 : (Jvm.Cond.fieldLink "BracketPairTree" (49 : Nat) "BracketPairTree" "spareCount" "I") ∈ lw_all := lw_g (lw_at lw_m1 22 rfl) rfl
theorem q49 : (Jvm.Cond.fieldLink "BracketPairTree" (39 : Nat) "BracketPairTree" "path" "[B") ∈ lw_all := lw_g (lw_at lw_m1 23 rfl) rfl
theorem q50 : (Jvm.Cond.fieldLink "BracketPairTree" (129 : Nat) "BracketPairTree" "pathLength" "I") ∈ lw_all := lw_g (lw_at lw_m1 24 rfl) rfl
theorem q51 : (Jvm.Cond.fieldLink "BracketPairTree" (67 : Nat) "BracketPairTree" "cutLeft" "I") ∈ lw_all := lw_g (lw_at lw_m1 25 rfl) rfl
theorem q52 : (Jvm.Cond.fieldLink "BracketPairTree" (64 : Nat) "BracketPairTree" "cutRight" "I") ∈ lw_all := lw_g (lw_at lw_m1 26 rfl) rfl
theorem q53 : (Jvm.Cond.fieldLink "BracketPairTree" (88 : Nat) "BracketPairTree" "before" "I") ∈ lw_all := lw_g (lw_at lw_m1 27 rfl) rfl
theorem q54 : (Jvm.Cond.fieldLink "BracketPairTree" (81 : Nat) "BracketPairTree" "middle" "I") ∈ lw_all := lw_g (lw_at lw_m1 28 rfl) rfl
theorem q55 : (Jvm.Cond.fieldLink "BracketPairTree" (91 : Nat) "BracketPairTree" "after" "I") ∈ lw_all := lw_g (lw_at lw_m1 29 rfl) rfl
theorem q56 : (Jvm.Cond.laysFinal "BracketPairTree" "BracketPairTree" "code" "[B") ∈ lw_all := lw_g (lw_at lw_m1 30 rfl) rfl
theorem q57 : (Jvm.Cond.soleField "BracketPairTree" "code") ∈ lw_all := lw_g (lw_at lw_m1 31 rfl) rfl
theorem q58 : (Jvm.Cond.laysFinal "BracketPairTree" "BracketPairTree" "left" "[B") ∈ lw_all := lw_g (lw_at lw_m1 32 rfl) rfl
theorem q59 : (Jvm.Cond.soleField "BracketPairTree" "left") ∈ lw_all := lw_g (lw_at lw_m1 33 rfl) rfl
theorem q60 : (Jvm.Cond.laysFinal "BracketPairTree" "BracketPairTree" "right" "[B") ∈ lw_all := lw_g (lw_at lw_m1 34 rfl) rfl
theorem q61 : (Jvm.Cond.soleField "BracketPairTree" "right") ∈ lw_all := lw_g (lw_at lw_m1 35 rfl) rfl
theorem q62 : (Jvm.Cond.laysFinal "BracketPairTree" "BracketPairTree" "size" "[B") ∈ lw_all := lw_g (lw_at lw_m1 36 rfl) rfl
theorem q63 : (Jvm.Cond.soleField "BracketPairTree" "size") ∈ lw_all := lw_g (lw_at lw_m1 37 rfl) rfl
theorem q64 : (Jvm.Cond.laysFinal "BracketPairTree" "BracketPairTree" "turned" "[Z") ∈ lw_all := lw_g (lw_at lw_m1 38 rfl) rfl
theorem q65 : (Jvm.Cond.soleField "BracketPairTree" "turned") ∈ lw_all := lw_g (lw_at lw_m1 39 rfl) rfl
theorem q66 : (Jvm.Cond.laysFinal "BracketPairTree" "BracketPairTree" "rank" "[I") ∈ lw_all := lw_g (lw_at lw_m1 40 rfl) rfl
theorem q67 : (Jvm.Cond.soleField "BracketPairTree" "rank") ∈ lw_all := lw_g (lw_at lw_m1 41 rfl) rfl
theorem q68 : (Jvm.Cond.laysFinal "BracketPairTree" "BracketPairTree" "opens" "[B") ∈ lw_all := lw_g (lw_at lw_m1 42 rfl) rfl
theorem q69 : (Jvm.Cond.soleField "BracketPairTree" "opens") ∈ lw_all := lw_g (lw_at lw_m1 43 rfl) rfl
theorem q70 : (Jvm.Cond.laysFinal "BracketPairTree" "BracketPairTree" "closes" "[B") ∈ lw_all := lw_g (lw_at lw_m1 44 rfl) rfl
theorem q71 : (Jvm.Cond.soleField "BracketPairTree" "closes") ∈ lw_all := lw_g (lw_at lw_m1 45 rfl) rfl
theorem q72 : (Jvm.Cond.lays "BracketPairTree" "BracketPairTree" "root" "I") ∈ lw_all := lw_g (lw_at lw_m1 46 rfl) rfl
theorem q73 : (Jvm.Cond.soleField "BracketPairTree" "root") ∈ lw_all := lw_g (lw_at lw_m1 47 rfl) rfl
theorem q74 : (Jvm.Cond.lays "BracketPairTree" "BracketPairTree" "seed" "I") ∈ lw_all := lw_g (lw_at lw_m1 48 rfl) rfl
theorem q75 : (Jvm.Cond.soleField "BracketPairTree" "seed") ∈ lw_all := lw_g (lw_at lw_m1 49 rfl) rfl
theorem q76 : (Jvm.Cond.laysFinal "BracketPairTree" "BracketPairTree" "spare" "[B") ∈ lw_all := lw_g (lw_at lw_m1 50 rfl) rfl
theorem q77 : (Jvm.Cond.soleField "BracketPairTree" "spare") ∈ lw_all := lw_g (lw_at lw_m1 51 rfl) rfl
theorem q78 : (Jvm.Cond.lays "BracketPairTree" "BracketPairTree" "spareCount" "I") ∈ lw_all := lw_g (lw_at lw_m1 52 rfl) rfl
theorem q79 : (Jvm.Cond.soleField "BracketPairTree" "spareCount") ∈ lw_all := lw_g (lw_at lw_m1 53 rfl) rfl
theorem q80 : (Jvm.Cond.laysFinal "BracketPairTree" "BracketPairTree" "path" "[B") ∈ lw_all := lw_g (lw_at lw_m1 54 rfl) rfl
theorem q81 : (Jvm.Cond.soleField "BracketPairTree" "path") ∈ lw_all := lw_g (lw_at lw_m1 55 rfl) rfl
theorem q82 : (Jvm.Cond.lays "BracketPairTree" "BracketPairTree" "pathLength" "I") ∈ lw_all := lw_g (lw_at lw_m1 56 rfl) rfl
theorem q83 : (Jvm.Cond.soleField "BracketPairTree" "pathLength") ∈ lw_all := lw_g (lw_at lw_m1 57 rfl) rfl
theorem q84 : (Jvm.Cond.lays "BracketPairTree" "BracketPairTree" "cutLeft" "I") ∈ lw_all := lw_g (lw_at lw_m1 58 rfl) rfl
theorem q85 : (Jvm.Cond.soleField "BracketPairTree" "cutLeft") ∈ lw_all := lw_g (lw_at lw_m1 59 rfl) rfl
theorem q86 : (Jvm.Cond.lays "BracketPairTree" "BracketPairTree" "cutRight" "I") ∈ lw_all := lw_g (lw_at lw_m1 60 rfl) rfl
theorem q87 : (Jvm.Cond.soleField "BracketPairTree" "cutRight") ∈ lw_all := lw_g (lw_at lw_m1 61 rfl) rfl
theorem q88 : (Jvm.Cond.lays "BracketPairTree" "BracketPairTree" "before" "I") ∈ lw_all := lw_g (lw_at lw_m1 62 rfl) rfl
theorem q89 : (Jvm.Cond.soleField "BracketPairTree" "before") ∈ lw_all := lw_g (lw_at lw_m1 63 rfl) rfl
theorem q90 : (Jvm.Cond.lays "BracketPairTree" "BracketPairTree" "middle" "I") ∈ lw_all := lw_g (lw_at lw_m1 64 rfl) rfl
theorem q91 : (Jvm.Cond.soleField "BracketPairTree" "middle") ∈ lw_all := lw_g (lw_at lw_m1 65 rfl) rfl
theorem q92 : (Jvm.Cond.lays "BracketPairTree" "BracketPairTree" "after" "I") ∈ lw_all := lw_g (lw_at lw_m1 66 rfl) rfl
theorem q93 : (Jvm.Cond.soleField "BracketPairTree" "after") ∈ lw_all := lw_g (lw_at lw_m1 67 rfl) rfl
theorem q94 : (Jvm.Cond.superclass "BracketPairTree" "java/lang/Object") ∈ lw_all := lw_g (lw_at lw_m1 68 rfl) rfl
theorem q99 : (Jvm.Cond.instanceMethod ({ cls := "BracketPairTree", name := "insert", desc := "(II)I" } : Jvm.MethodName)) ∈ lw_all := lw_g (lw_at lw_m1 73 rfl) rfl
theorem q100 : (Jvm.Cond.selects "BracketPairTree" ({ cls := "BracketPairTree", name := "insert", desc := "(II)I" } : Jvm.MethodName) ({ cls := "BracketPairTree", name := "insert", desc := "(II)I" } : Jvm.MethodName)) ∈ lw_all := lw_g (lw_at lw_m1 74 rfl) rfl
theorem q101 : (Jvm.Cond.code ({ cls := "BracketPairTree", name := "insert", desc := "(II)I" } : Jvm.MethodName) prog_1_method_2_code (7 : Nat) (Option.some Jvm.ClassFile.FieldType.int)) ∈ lw_all := lw_g (lw_at lw_m1 75 rfl) rfl
theorem q102 : (Jvm.Cond.methodLink "BracketPairTree" (52 : Nat) ({ cls := "BracketPairTree", name := "textLength", desc := "()I" } : Jvm.MethodName)) ∈ lw_all := lw_g (lw_at lw_m1 76 rfl) rfl
theorem q103 : (Jvm.Cond.privateMethod ({ cls := "BracketPairTree", name := "textLength", desc := "()I" } : Jvm.MethodName)) ∈ lw_tbl := lw_at lw_m1 77 rfl
theorem q104 : (Jvm.Cond.instanceMethod ({ cls := "BracketPairTree", name := "textLength", desc := "()I" } : Jvm.MethodName)) ∈ lw_all := lw_g (lw_at lw_m1 78 rfl) rfl
theorem q105 : (Jvm.Cond.code ({ cls := "BracketPairTree", name := "textLength", desc := "()I" } : Jvm.MethodName) prog_1_method_13_code (1 : Nat) (Option.some Jvm.ClassFile.FieldType.int)) ∈ lw_all := lw_g (lw_at lw_m1 79 rfl) rfl
theorem q106 : (Jvm.Cond.methodLink "BracketPairTree" (119 : Nat) ({ cls := "BracketPairTree", name := "sizeOf", desc := "(I)I" } : Jvm.MethodName)) ∈ lw_all := lw_g (lw_at lw_m1 80 rfl) rfl
theorem q107 : (Jvm.Cond.privateMethod ({ cls := "BracketPairTree", name := "sizeOf", desc := "(I)I" } : Jvm.MethodName)) ∈ lw_tbl := lw_at lw_m1 81 rfl
theorem q108 : (Jvm.Cond.instanceMethod ({ cls := "BracketPairTree", name := "sizeOf", desc := "(I)I" } : Jvm.MethodName)) ∈ lw_all := lw_g (lw_at lw_m1 82 rfl) rfl
theorem q109 : (Jvm.Cond.code ({ cls := "BracketPairTree", name := "sizeOf", desc := "(I)I" } : Jvm.MethodName) prog_1_method_18_code (2 : Nat) (Option.some Jvm.ClassFile.FieldType.int)) ∈ lw_all := lw_g (lw_at lw_m1 83 rfl) rfl
theorem q110 : (Jvm.Cond.methodLink "BracketPairTree" (56 : Nat) ({ cls := "BracketPairTree", name := "newNode", desc := "(I)I" } : Jvm.MethodName)) ∈ lw_all := lw_g (lw_at lw_m1 84 rfl) rfl
theorem q111 : (Jvm.Cond.privateMethod ({ cls := "BracketPairTree", name := "newNode", desc := "(I)I" } : Jvm.MethodName)) ∈ lw_tbl := lw_at lw_m1 85 rfl
theorem q112 : (Jvm.Cond.instanceMethod ({ cls := "BracketPairTree", name := "newNode", desc := "(I)I" } : Jvm.MethodName)) ∈ lw_all := lw_g (lw_at lw_m1 86 rfl) rfl
theorem q113 : (Jvm.Cond.code ({ cls := "BracketPairTree", name := "newNode", desc := "(I)I" } : Jvm.MethodName) prog_1_method_21_code (3 : Nat) (Option.some Jvm.ClassFile.FieldType.int)) ∈ lw_all := lw_g (lw_at lw_m1 87 rfl) rfl
theorem q114 : (Jvm.Cond.constant "BracketPairTree" (125 : Nat) (1103515245 : Int32)) ∈ lw_all := lw_g (lw_at lw_m1 88 rfl) rfl
theorem q115 : (Jvm.Cond.methodLink "BracketPairTree" (126 : Nat) ({ cls := "BracketPairTree", name := "refresh", desc := "(I)V" } : Jvm.MethodName)) ∈ lw_all := lw_g (lw_at lw_m1 89 rfl) rfl
theorem q116 : (Jvm.Cond.privateMethod ({ cls := "BracketPairTree", name := "refresh", desc := "(I)V" } : Jvm.MethodName)) ∈ lw_tbl := lw_at lw_m1 90 rfl
theorem q117 : (Jvm.Cond.instanceMethod ({ cls := "BracketPairTree", name := "refresh", desc := "(I)V" } : Jvm.MethodName)) ∈ lw_all := lw_g (lw_at lw_m1 91 rfl) rfl
theorem q118 : (Jvm.Cond.code ({ cls := "BracketPairTree", name := "refresh", desc := "(I)V" } : Jvm.MethodName) prog_1_method_26_code (10 : Nat) (Option.none : Option Jvm.ClassFile.FieldType)) ∈ lw_all := lw_g (lw_at lw_m1 92 rfl) rfl
theorem q119 : (Jvm.Cond.methodLink "BracketPairTree" (113 : Nat) ({ cls := "BracketPairTree", name := "opensOf", desc := "(II)I" } : Jvm.MethodName)) ∈ lw_all := lw_g (lw_at lw_m1 93 rfl) rfl
theorem q120 : (Jvm.Cond.privateMethod ({ cls := "BracketPairTree", name := "opensOf", desc := "(II)I" } : Jvm.MethodName)) ∈ lw_tbl := lw_at lw_m1 94 rfl
theorem q121 : (Jvm.Cond.instanceMethod ({ cls := "BracketPairTree", name := "opensOf", desc := "(II)I" } : Jvm.MethodName)) ∈ lw_all := lw_g (lw_at lw_m1 95 rfl) rfl
theorem q122 : (Jvm.Cond.code ({ cls := "BracketPairTree", name := "opensOf", desc := "(II)I" } : Jvm.MethodName) prog_1_method_19_code (3 : Nat) (Option.some Jvm.ClassFile.FieldType.int)) ∈ lw_all := lw_g (lw_at lw_m1 96 rfl) rfl
theorem q123 : (Jvm.Cond.methodLink "BracketPairTree" (116 : Nat) ({ cls := "BracketPairTree", name := "closesOf", desc := "(II)I" } : Jvm.MethodName)) ∈ lw_all := lw_g (lw_at lw_m1 97 rfl) rfl
theorem q124 : (Jvm.Cond.privateMethod ({ cls := "BracketPairTree", name := "closesOf", desc := "(II)I" } : Jvm.MethodName)) ∈ lw_tbl := lw_at lw_m1 98 rfl
theorem q125 : (Jvm.Cond.instanceMethod ({ cls := "BracketPairTree", name := "closesOf", desc := "(II)I" } : Jvm.MethodName)) ∈ lw_all := lw_g (lw_at lw_m1 99 rfl) rfl
theorem q126 : (Jvm.Cond.code ({ cls := "BracketPairTree", name := "closesOf", desc := "(II)I" } : Jvm.MethodName) prog_1_method_20_code (3 : Nat) (Option.some Jvm.ClassFile.FieldType.int)) ∈ lw_all := lw_g (lw_at lw_m1 100 rfl) rfl
theorem q127 : (Jvm.Cond.methodLink "BracketPairTree" (60 : Nat) ({ cls := "BracketPairTree", name := "cut", desc := "(II)V" } : Jvm.MethodName)) ∈ lw_all := lw_g (lw_at lw_m1 101 rfl) rfl
theorem q128 : (Jvm.Cond.privateMethod ({ cls := "BracketPairTree", name := "cut", desc := "(II)V" } : Jvm.MethodName)) ∈ lw_tbl := lw_at lw_m1 102 rfl
theorem q129 : (Jvm.Cond.instanceMethod ({ cls := "BracketPairTree", name := "cut", desc := "(II)V" } : Jvm.MethodName)) ∈ lw_all := lw_g (lw_at lw_m1 103 rfl) rfl
theorem q130 : (Jvm.Cond.code ({ cls := "BracketPairTree", name := "cut", desc := "(II)V" } : Jvm.MethodName) prog_1_method_28_code (9 : Nat) (Option.none : Option Jvm.ClassFile.FieldType)) ∈ lw_all := lw_g (lw_at lw_m1 104 rfl) rfl
theorem q131 : (Jvm.Cond.methodLink "BracketPairTree" (122 : Nat) ({ cls := "BracketPairTree", name := "settle", desc := "(I)V" } : Jvm.MethodName)) ∈ lw_all := lw_g (lw_at lw_m1 105 rfl) rfl
theorem q132 : (Jvm.Cond.privateMethod ({ cls := "BracketPairTree", name := "settle", desc := "(I)V" } : Jvm.MethodName)) ∈ lw_tbl := lw_at lw_m1 106 rfl
theorem q133 : (Jvm.Cond.instanceMethod ({ cls := "BracketPairTree", name := "settle", desc := "(I)V" } : Jvm.MethodName)) ∈ lw_all := lw_g (lw_at lw_m1 107 rfl) rfl
theorem q134 : (Jvm.Cond.code ({ cls := "BracketPairTree", name := "settle", desc := "(I)V" } : Jvm.MethodName) prog_1_method_25_code (2 : Nat) (Option.none : Option Jvm.ClassFile.FieldType)) ∈ lw_all := lw_g (lw_at lw_m1 108 rfl) rfl
theorem q135 : (Jvm.Cond.methodLink "BracketPairTree" (94 : Nat) ({ cls := "BracketPairTree", name := "turn", desc := "(I)V" } : Jvm.MethodName)) ∈ lw_all := lw_g (lw_at lw_m1 109 rfl) rfl
theorem q136 : (Jvm.Cond.privateMethod ({ cls := "BracketPairTree", name := "turn", desc := "(I)V" } : Jvm.MethodName)) ∈ lw_tbl := lw_at lw_m1 110 rfl
theorem q137 : (Jvm.Cond.instanceMethod ({ cls := "BracketPairTree", name := "turn", desc := "(I)V" } : Jvm.MethodName)) ∈ lw_all := lw_g (lw_at lw_m1 111 rfl) rfl
theorem q138 : (Jvm.Cond.code ({ cls := "BracketPairTree", name := "turn", desc := "(I)V" } : Jvm.MethodName) prog_1_method_24_code (5 : Nat) (Option.none : Option Jvm.ClassFile.FieldType)) ∈ lw_all := lw_g (lw_at lw_m1 112 rfl) rfl
theorem q139 : (Jvm.Cond.methodLink "BracketPairTree" (132 : Nat) ({ cls := "BracketPairTree", name := "pushPath", desc := "(I)V" } : Jvm.MethodName)) ∈ lw_all := lw_g (lw_at lw_m1 113 rfl) rfl
theorem q140 : (Jvm.Cond.privateMethod ({ cls := "BracketPairTree", name := "pushPath", desc := "(I)V" } : Jvm.MethodName)) ∈ lw_tbl := lw_at lw_m1 114 rfl
theorem q141 : (Jvm.Cond.instanceMethod ({ cls := "BracketPairTree", name := "pushPath", desc := "(I)V" } : Jvm.MethodName)) ∈ lw_all := lw_g (lw_at lw_m1 115 rfl) rfl
theorem q142 : (Jvm.Cond.code ({ cls := "BracketPairTree", name := "pushPath", desc := "(I)V" } : Jvm.MethodName) prog_1_method_23_code (2 : Nat) (Option.none : Option Jvm.ClassFile.FieldType)) ∈ lw_all := lw_g (lw_at lw_m1 116 rfl) rfl
theorem q143 : (Jvm.Cond.methodLink "BracketPairTree" (135 : Nat) ({ cls := "BracketPairTree", name := "refreshPath", desc := "()V" } : Jvm.MethodName)) ∈ lw_all := lw_g (lw_at lw_m1 117 rfl) rfl
theorem q144 : (Jvm.Cond.privateMethod ({ cls := "BracketPairTree", name := "refreshPath", desc := "()V" } : Jvm.MethodName)) ∈ lw_tbl := lw_at lw_m1 118 rfl
theorem q145 : (Jvm.Cond.instanceMethod ({ cls := "BracketPairTree", name := "refreshPath", desc := "()V" } : Jvm.MethodName)) ∈ lw_all := lw_g (lw_at lw_m1 119 rfl) rfl
theorem q146 : (Jvm.Cond.code ({ cls := "BracketPairTree", name := "refreshPath", desc := "()V" } : Jvm.MethodName) prog_1_method_27_code (2 : Nat) (Option.none : Option Jvm.ClassFile.FieldType)) ∈ lw_all := lw_g (lw_at lw_m1 120 rfl) rfl
theorem q147 : (Jvm.Cond.methodLink "BracketPairTree" (70 : Nat) ({ cls := "BracketPairTree", name := "join", desc := "(II)I" } : Jvm.MethodName)) ∈ lw_all := lw_g (lw_at lw_m1 121 rfl) rfl
theorem q148 : (Jvm.Cond.privateMethod ({ cls := "BracketPairTree", name := "join", desc := "(II)I" } : Jvm.MethodName)) ∈ lw_tbl := lw_at lw_m1 122 rfl
theorem q149 : (Jvm.Cond.instanceMethod ({ cls := "BracketPairTree", name := "join", desc := "(II)I" } : Jvm.MethodName)) ∈ lw_all := lw_g (lw_at lw_m1 123 rfl) rfl
theorem q150 : (Jvm.Cond.code ({ cls := "BracketPairTree", name := "join", desc := "(II)I" } : Jvm.MethodName) prog_1_method_29_code (11 : Nat) (Option.some Jvm.ClassFile.FieldType.int)) ∈ lw_all := lw_g (lw_at lw_m1 124 rfl) rfl
theorem q151 : (Jvm.Cond.methodLink "BracketPairTree" (138 : Nat) ({ cls := "BracketPairTree", name := "hang", desc := "(IZI)V" } : Jvm.MethodName)) ∈ lw_all := lw_g (lw_at lw_m1 125 rfl) rfl
theorem q152 : (Jvm.Cond.privateMethod ({ cls := "BracketPairTree", name := "hang", desc := "(IZI)V" } : Jvm.MethodName)) ∈ lw_tbl := lw_at lw_m1 126 rfl
theorem q153 : (Jvm.Cond.instanceMethod ({ cls := "BracketPairTree", name := "hang", desc := "(IZI)V" } : Jvm.MethodName)) ∈ lw_all := lw_g (lw_at lw_m1 127 rfl) rfl
theorem q154 : (Jvm.Cond.code ({ cls := "BracketPairTree", name := "hang", desc := "(IZI)V" } : Jvm.MethodName) prog_1_method_30_code (4 : Nat) (Option.none : Option Jvm.ClassFile.FieldType)) ∈ lw_all := lw_g (lw_at lw_m1 128 rfl) rfl
theorem q156 : (Jvm.Cond.instanceMethod ({ cls := "BracketPairTree", name := "erase", desc := "(II)I" } : Jvm.MethodName)) ∈ lw_all := lw_g (lw_at lw_m1 130 rfl) rfl
theorem q157 : (Jvm.Cond.selects "BracketPairTree" ({ cls := "BracketPairTree", name := "erase", desc := "(II)I" } : Jvm.MethodName) ({ cls := "BracketPairTree", name := "erase", desc := "(II)I" } : Jvm.MethodName)) ∈ lw_all := lw_g (lw_at lw_m1 131 rfl) rfl
theorem q158 : (Jvm.Cond.code ({ cls := "BracketPairTree", name := "erase", desc := "(II)I" } : Jvm.MethodName) prog_1_method_3_code (3 : Nat) (Option.some Jvm.ClassFile.FieldType.int)) ∈ lw_all := lw_g (lw_at lw_m1 132 rfl) rfl
theorem q159 : (Jvm.Cond.methodLink "BracketPairTree" (74 : Nat) ({ cls := "BracketPairTree", name := "isStretch", desc := "(II)Z" } : Jvm.MethodName)) ∈ lw_all := lw_g (lw_at lw_m1 133 rfl) rfl
theorem q160 : (Jvm.Cond.privateMethod ({ cls := "BracketPairTree", name := "isStretch", desc := "(II)Z" } : Jvm.MethodName)) ∈ lw_tbl := lw_at lw_m1 134 rfl
theorem q161 : (Jvm.Cond.instanceMethod ({ cls := "BracketPairTree", name := "isStretch", desc := "(II)Z" } : Jvm.MethodName)) ∈ lw_all := lw_g (lw_at lw_m1 135 rfl) rfl
theorem q162 : (Jvm.Cond.code ({ cls := "BracketPairTree", name := "isStretch", desc := "(II)Z" } : Jvm.MethodName) prog_1_method_14_code (4 : Nat) (Option.some Jvm.ClassFile.FieldType.boolean)) ∈ lw_all := lw_g (lw_at lw_m1 136 rfl) rfl
theorem q163 : (Jvm.Cond.methodLink "BracketPairTree" (78 : Nat) ({ cls := "BracketPairTree", name := "takeApart", desc := "(II)V" } : Jvm.MethodName)) ∈ lw_all := lw_g (lw_at lw_m1 137 rfl) rfl
theorem q164 : (Jvm.Cond.privateMethod ({ cls := "BracketPairTree", name := "takeApart", desc := "(II)V" } : Jvm.MethodName)) ∈ lw_tbl := lw_at lw_m1 138 rfl
theorem q165 : (Jvm.Cond.instanceMethod ({ cls := "BracketPairTree", name := "takeApart", desc := "(II)V" } : Jvm.MethodName)) ∈ lw_all := lw_g (lw_at lw_m1 139 rfl) rfl
theorem q166 : (Jvm.Cond.code ({ cls := "BracketPairTree", name := "takeApart", desc := "(II)V" } : Jvm.MethodName) prog_1_method_31_code (3 : Nat) (Option.none : Option Jvm.ClassFile.FieldType)) ∈ lw_all := lw_g (lw_at lw_m1 140 rfl) rfl
theorem q167 : (Jvm.Cond.methodLink "BracketPairTree" (84 : Nat) ({ cls := "BracketPairTree", name := "release", desc := "(I)V" } : Jvm.MethodName)) ∈ lw_all := lw_g (lw_at lw_m1 141 rfl) rfl
theorem q168 : (Jvm.Cond.privateMethod ({ cls := "BracketPairTree", name := "release", desc := "(I)V" } : Jvm.MethodName)) ∈ lw_tbl := lw_at lw_m1 142 rfl
theorem q169 : (Jvm.Cond.instanceMethod ({ cls := "BracketPairTree", name := "release", desc := "(I)V" } : Jvm.MethodName)) ∈ lw_all := lw_g (lw_at lw_m1 143 rfl) rfl
theorem q170 : (Jvm.Cond.code ({ cls := "BracketPairTree", name := "release", desc := "(I)V" } : Jvm.MethodName) prog_1_method_22_code (4 : Nat) (Option.none : Option Jvm.ClassFile.FieldType)) ∈ lw_all := lw_g (lw_at lw_m1 144 rfl) rfl
theorem q172 : (Jvm.Cond.instanceMethod ({ cls := "BracketPairTree", name := "move", desc := "(III)I" } : Jvm.MethodName)) ∈ lw_all := lw_g (lw_at lw_m1 146 rfl) rfl
theorem q173 : (Jvm.Cond.selects "BracketPairTree" ({ cls := "BracketPairTree", name := "move", desc := "(III)I" } : Jvm.MethodName) ({ cls := "BracketPairTree", name := "move", desc := "(III)I" } : Jvm.MethodName)) ∈ lw_all := lw_g (lw_at lw_m1 147 rfl) rfl
theorem q174 : (Jvm.Cond.code ({ cls := "BracketPairTree", name := "move", desc := "(III)I" } : Jvm.MethodName) prog_1_method_4_code (8 : Nat) (Option.some Jvm.ClassFile.FieldType.int)) ∈ lw_all := lw_g (lw_at lw_m1 148 rfl) rfl
theorem q176 : (Jvm.Cond.instanceMethod ({ cls := "BracketPairTree", name := "mirror", desc := "(II)I" } : Jvm.MethodName)) ∈ lw_all := lw_g (lw_at lw_m1 150 rfl) rfl
theorem q177 : (Jvm.Cond.selects "BracketPairTree" ({ cls := "BracketPairTree", name := "mirror", desc := "(II)I" } : Jvm.MethodName) ({ cls := "BracketPairTree", name := "mirror", desc := "(II)I" } : Jvm.MethodName)) ∈ lw_all := lw_g (lw_at lw_m1 151 rfl) rfl
theorem q178 : (Jvm.Cond.code ({ cls := "BracketPairTree", name := "mirror", desc := "(II)I" } : Jvm.MethodName) prog_1_method_5_code (3 : Nat) (Option.some Jvm.ClassFile.FieldType.int)) ∈ lw_all := lw_g (lw_at lw_m1 152 rfl) rfl
theorem q179 : (Jvm.Cond.methodLink "BracketPairTree" (97 : Nat) ({ cls := "BracketPairTree", name := "putTogether", desc := "()V" } : Jvm.MethodName)) ∈ lw_all := lw_g (lw_at lw_m1 153 rfl) rfl
theorem q180 : (Jvm.Cond.privateMethod ({ cls := "BracketPairTree", name := "putTogether", desc := "()V" } : Jvm.MethodName)) ∈ lw_tbl := lw_at lw_m1 154 rfl
theorem q181 : (Jvm.Cond.instanceMethod ({ cls := "BracketPairTree", name := "putTogether", desc := "()V" } : Jvm.MethodName)) ∈ lw_all := lw_g (lw_at lw_m1 155 rfl) rfl
theorem q182 : (Jvm.Cond.code ({ cls := "BracketPairTree", name := "putTogether", desc := "()V" } : Jvm.MethodName) prog_1_method_32_code (2 : Nat) (Option.none : Option Jvm.ClassFile.FieldType)) ∈ lw_all := lw_g (lw_at lw_m1 156 rfl) rfl
theorem q184 : (Jvm.Cond.instanceMethod ({ cls := "BracketPairTree", name := "codeAt", desc := "(I)I" } : Jvm.MethodName)) ∈ lw_all := lw_g (lw_at lw_m1 158 rfl) rfl
theorem q185 : (Jvm.Cond.selects "BracketPairTree" ({ cls := "BracketPairTree", name := "codeAt", desc := "(I)I" } : Jvm.MethodName) ({ cls := "BracketPairTree", name := "codeAt", desc := "(I)I" } : Jvm.MethodName)) ∈ lw_all := lw_g (lw_at lw_m1 159 rfl) rfl
theorem q186 : (Jvm.Cond.code ({ cls := "BracketPairTree", name := "codeAt", desc := "(I)I" } : Jvm.MethodName) prog_1_method_6_code (3 : Nat) (Option.some Jvm.ClassFile.FieldType.int)) ∈ lw_all := lw_g (lw_at lw_m1 160 rfl) rfl
theorem q187 : (Jvm.Cond.methodLink "BracketPairTree" (100 : Nat) ({ cls := "BracketPairTree", name := "nodeAt", desc := "(I)I" } : Jvm.MethodName)) ∈ lw_all := lw_g (lw_at lw_m1 161 rfl) rfl
theorem q188 : (Jvm.Cond.privateMethod ({ cls := "BracketPairTree", name := "nodeAt", desc := "(I)I" } : Jvm.MethodName)) ∈ lw_tbl := lw_at lw_m1 162 rfl
theorem q189 : (Jvm.Cond.instanceMethod ({ cls := "BracketPairTree", name := "nodeAt", desc := "(I)I" } : Jvm.MethodName)) ∈ lw_all := lw_g (lw_at lw_m1 163 rfl) rfl
theorem q190 : (Jvm.Cond.code ({ cls := "BracketPairTree", name := "nodeAt", desc := "(I)I" } : Jvm.MethodName) prog_1_method_15_code (6 : Nat) (Option.some Jvm.ClassFile.FieldType.int)) ∈ lw_all := lw_g (lw_at lw_m1 164 rfl) rfl
theorem q192 : (Jvm.Cond.instanceMethod ({ cls := "BracketPairTree", name := "partner", desc := "(I)I" } : Jvm.MethodName)) ∈ lw_all := lw_g (lw_at lw_m1 166 rfl) rfl
theorem q193 : (Jvm.Cond.selects "BracketPairTree" ({ cls := "BracketPairTree", name := "partner", desc := "(I)I" } : Jvm.MethodName) ({ cls := "BracketPairTree", name := "partner", desc := "(I)I" } : Jvm.MethodName)) ∈ lw_all := lw_g (lw_at lw_m1 167 rfl) rfl
theorem q194 : (Jvm.Cond.code ({ cls := "BracketPairTree", name := "partner", desc := "(I)I" } : Jvm.MethodName) prog_1_method_7_code (6 : Nat) (Option.some Jvm.ClassFile.FieldType.int)) ∈ lw_all := lw_g (lw_at lw_m1 168 rfl) rfl
theorem q195 : (Jvm.Cond.methodLink "BracketPairTree" (103 : Nat) ({ cls := "BracketPairTree", name := "firstLooseClose", desc := "(II)I" } : Jvm.MethodName)) ∈ lw_all := lw_g (lw_at lw_m1 169 rfl) rfl
theorem q196 : (Jvm.Cond.privateMethod ({ cls := "BracketPairTree", name := "firstLooseClose", desc := "(II)I" } : Jvm.MethodName)) ∈ lw_tbl := lw_at lw_m1 170 rfl
theorem q197 : (Jvm.Cond.instanceMethod ({ cls := "BracketPairTree", name := "firstLooseClose", desc := "(II)I" } : Jvm.MethodName)) ∈ lw_all := lw_g (lw_at lw_m1 171 rfl) rfl
theorem q198 : (Jvm.Cond.code ({ cls := "BracketPairTree", name := "firstLooseClose", desc := "(II)I" } : Jvm.MethodName) prog_1_method_16_code (8 : Nat) (Option.some Jvm.ClassFile.FieldType.int)) ∈ lw_all := lw_g (lw_at lw_m1 172 rfl) rfl
theorem q199 : (Jvm.Cond.methodLink "BracketPairTree" (106 : Nat) ({ cls := "BracketPairTree", name := "lastLooseOpen", desc := "(III)I" } : Jvm.MethodName)) ∈ lw_all := lw_g (lw_at lw_m1 173 rfl) rfl
theorem q200 : (Jvm.Cond.privateMethod ({ cls := "BracketPairTree", name := "lastLooseOpen", desc := "(III)I" } : Jvm.MethodName)) ∈ lw_tbl := lw_at lw_m1 174 rfl
theorem q201 : (Jvm.Cond.instanceMethod ({ cls := "BracketPairTree", name := "lastLooseOpen", desc := "(III)I" } : Jvm.MethodName)) ∈ lw_all := lw_g (lw_at lw_m1 175 rfl) rfl
theorem q202 : (Jvm.Cond.code ({ cls := "BracketPairTree", name := "lastLooseOpen", desc := "(III)I" } : Jvm.MethodName) prog_1_method_17_code (9 : Nat) (Option.some Jvm.ClassFile.FieldType.int)) ∈ lw_all := lw_g (lw_at lw_m1 176 rfl) rfl
theorem q204 : (Jvm.Cond.instanceMethod ({ cls := "BracketPairTree", name := "around", desc := "(II)I" } : Jvm.MethodName)) ∈ lw_all := lw_g (lw_at lw_m1 178 rfl) rfl
theorem q205 : (Jvm.Cond.selects "BracketPairTree" ({ cls := "BracketPairTree", name := "around", desc := "(II)I" } : Jvm.MethodName) ({ cls := "BracketPairTree", name := "around", desc := "(II)I" } : Jvm.MethodName)) ∈ lw_all := lw_g (lw_at lw_m1 179 rfl) rfl
theorem q206 : (Jvm.Cond.code ({ cls := "BracketPairTree", name := "around", desc := "(II)I" } : Jvm.MethodName) prog_1_method_8_code (4 : Nat) (Option.some Jvm.ClassFile.FieldType.int)) ∈ lw_all := lw_g (lw_at lw_m1 180 rfl) rfl
theorem q207 : (Jvm.Cond.methodLink "BracketPairTree" (110 : Nat) ({ cls := "BracketPairTree", name := "pairsAround", desc := "(I)I" } : Jvm.MethodName)) ∈ lw_all := lw_g (lw_at lw_m1 181 rfl) rfl
theorem q208 : (Jvm.Cond.privateMethod ({ cls := "BracketPairTree", name := "pairsAround", desc := "(I)I" } : Jvm.MethodName)) ∈ lw_tbl := lw_at lw_m1 182 rfl
theorem q209 : (Jvm.Cond.instanceMethod ({ cls := "BracketPairTree", name := "pairsAround", desc := "(I)I" } : Jvm.MethodName)) ∈ lw_all := lw_g (lw_at lw_m1 183 rfl) rfl
theorem q210 : (Jvm.Cond.code ({ cls := "BracketPairTree", name := "pairsAround", desc := "(I)I" } : Jvm.MethodName) prog_1_method_12_code (5 : Nat) (Option.some Jvm.ClassFile.FieldType.int)) ∈ lw_all := lw_g (lw_at lw_m1 184 rfl) rfl
theorem q212 : (Jvm.Cond.instanceMethod ({ cls := "BracketPairTree", name := "depth", desc := "(II)I" } : Jvm.MethodName)) ∈ lw_all := lw_g (lw_at lw_m1 186 rfl) rfl
theorem q213 : (Jvm.Cond.selects "BracketPairTree" ({ cls := "BracketPairTree", name := "depth", desc := "(II)I" } : Jvm.MethodName) ({ cls := "BracketPairTree", name := "depth", desc := "(II)I" } : Jvm.MethodName)) ∈ lw_all := lw_g (lw_at lw_m1 187 rfl) rfl
theorem q214 : (Jvm.Cond.code ({ cls := "BracketPairTree", name := "depth", desc := "(II)I" } : Jvm.MethodName) prog_1_method_9_code (4 : Nat) (Option.some Jvm.ClassFile.FieldType.int)) ∈ lw_all := lw_g (lw_at lw_m1 188 rfl) rfl
theorem q216 : (Jvm.Cond.instanceMethod ({ cls := "BracketPairTree", name := "looseOpen", desc := "(III)I" } : Jvm.MethodName)) ∈ lw_all := lw_g (lw_at lw_m1 190 rfl) rfl
theorem q217 : (Jvm.Cond.selects "BracketPairTree" ({ cls := "BracketPairTree", name := "looseOpen", desc := "(III)I" } : Jvm.MethodName) ({ cls := "BracketPairTree", name := "looseOpen", desc := "(III)I" } : Jvm.MethodName)) ∈ lw_all := lw_g (lw_at lw_m1 191 rfl) rfl
theorem q218 : (Jvm.Cond.code ({ cls := "BracketPairTree", name := "looseOpen", desc := "(III)I" } : Jvm.MethodName) prog_1_method_10_code (5 : Nat) (Option.some Jvm.ClassFile.FieldType.int)) ∈ lw_all := lw_g (lw_at lw_m1 192 rfl) rfl
theorem q220 : (Jvm.Cond.instanceMethod ({ cls := "BracketPairTree", name := "looseClose", desc := "(III)I" } : Jvm.MethodName)) ∈ lw_all := lw_g (lw_at lw_m1 194 rfl) rfl
theorem q221 : (Jvm.Cond.selects "BracketPairTree" ({ cls := "BracketPairTree", name := "looseClose", desc := "(III)I" } : Jvm.MethodName) ({ cls := "BracketPairTree", name := "looseClose", desc := "(III)I" } : Jvm.MethodName)) ∈ lw_all := lw_g (lw_at lw_m1 195 rfl) rfl
theorem q222 : (Jvm.Cond.code ({ cls := "BracketPairTree", name := "looseClose", desc := "(III)I" } : Jvm.MethodName) prog_1_method_11_code (5 : Nat) (Option.some Jvm.ClassFile.FieldType.int)) ∈ lw_all := lw_g (lw_at lw_m1 196 rfl) rfl
theorem in_X0 : ∀ w ∈ wsX00, w ∈ lw_all := lw_in wsX00 [56, 58, 60, 62, 64, 66, 68, 70, 72, 74, 76, 78, 80, 82, 84, 86, 88, 90, 92] (by decide +kernel) (by decide +kernel)

/-! BracketPairTreeModel -/
def RX1 : String := "BracketPairTreeModel"
def TX1 : u_T := fun k => match k with
  | 0 => ("BracketPairTreeModel", "n", "I", false)
  | 1 => ("BracketPairTreeModel", "text", "[I", false)
  | _ => ("BracketPairTreeModel", "part", "[I", false)
def tyX1 : Nat → FieldType := fun k => match k with
  | 0 => .int
  | 1 => .array .int
  | _ => .array .int
abbrev wsX10 : List Cond := u_ws RX1 TX1 3
theorem nmX1 : ∀ a, a < 3 → ∀ b, b < 3 → a ≠ b → (TX1 a).2.1 ≠ (TX1 b).2.1 := by decide +kernel
theorem tyX1_ok : ∀ k, k < 3 → parseFieldDescriptor (TX1 k).2.2.1 = some (tyX1 k) := by decide +kernel
abbrev cX1_init : ByteArray := prog_3_method_1_code
def yX1_init : MethodName := ⟨RX1, "<init>", "()V"⟩
abbrev cX1_insert : ByteArray := prog_3_method_4_code
def yX1_insert : MethodName := ⟨RX1, "insert", "(II)I"⟩
abbrev cX1_erase : ByteArray := prog_3_method_5_code
def yX1_erase : MethodName := ⟨RX1, "erase", "(II)I"⟩
abbrev cX1_isStretch : ByteArray := prog_3_method_2_code
def yX1_isStretch : MethodName := ⟨RX1, "isStretch", "(II)Z"⟩
abbrev cX1_move : ByteArray := prog_3_method_6_code
def yX1_move : MethodName := ⟨RX1, "move", "(III)I"⟩
abbrev cX1_mirror : ByteArray := prog_3_method_7_code
def yX1_mirror : MethodName := ⟨RX1, "mirror", "(II)I"⟩
abbrev cX1_codeAt : ByteArray := prog_3_method_8_code
def yX1_codeAt : MethodName := ⟨RX1, "codeAt", "(I)I"⟩
abbrev cX1_isPlace : ByteArray := prog_3_method_3_code
def yX1_isPlace : MethodName := ⟨RX1, "isPlace", "(I)Z"⟩
abbrev cX1_partner : ByteArray := prog_3_method_11_code
def yX1_partner : MethodName := ⟨RX1, "partner", "(I)I"⟩
abbrev cX1_mate : ByteArray := prog_3_method_10_code
def yX1_mate : MethodName := ⟨RX1, "mate", "(III)I"⟩
abbrev cX1_isPair : ByteArray := prog_3_method_9_code
def yX1_isPair : MethodName := ⟨RX1, "isPair", "(III)Z"⟩
abbrev cX1_around : ByteArray := prog_3_method_12_code
def yX1_around : MethodName := ⟨RX1, "around", "(II)I"⟩
abbrev cX1_depth : ByteArray := prog_3_method_13_code
def yX1_depth : MethodName := ⟨RX1, "depth", "(II)I"⟩
abbrev cX1_looseOpen : ByteArray := prog_3_method_15_code
def yX1_looseOpen : MethodName := ⟨RX1, "looseOpen", "(III)I"⟩
abbrev cX1_loose : ByteArray := prog_3_method_14_code
def yX1_loose : MethodName := ⟨RX1, "loose", "(III)I"⟩
abbrev cX1_looseClose : ByteArray := prog_3_method_16_code
def yX1_looseClose : MethodName := ⟨RX1, "looseClose", "(III)I"⟩
theorem q28 : (Jvm.Cond.initialized "BracketPairTreeModel") ∈ lw_all := lw_g (lw_at lw_m1 2 rfl) rfl
theorem q224 : (Jvm.Cond.instantiable "BracketPairTreeModel" (3 : Nat)) ∈ lw_all := lw_g (lw_at lw_m1 198 rfl) rfl
theorem q226 : (Jvm.Cond.instanceMethod ({ cls := "BracketPairTreeModel", name := "<init>", desc := "()V" } : Jvm.MethodName)) ∈ lw_all := lw_g (lw_at lw_m1 200 rfl) rfl
theorem q227 : (Jvm.Cond.code ({ cls := "BracketPairTreeModel", name := "<init>", desc := "()V" } : Jvm.MethodName) prog_3_method_1_code (1 : Nat) (Option.none : Option Jvm.ClassFile.FieldType)) ∈ lw_all := lw_g (lw_at lw_m1 201 rfl) rfl
theorem q228 : (Jvm.Cond.methodLink "BracketPairTreeModel" (1 : Nat) ({ cls := "java/lang/Object", name := "<init>", desc := "()V" } : Jvm.MethodName)) ∈ lw_all := lw_g (lw_at lw_m1 202 rfl) rfl
theorem q229 : (Jvm.Cond.fieldLink "BracketPairTreeModel" (7 : Nat) "BracketPairTreeModel" "n" "I") ∈ lw_all := lw_g (lw_at lw_m1 203 rfl) rfl
theorem q230 : (Jvm.Cond.fieldLink "BracketPairTreeModel" (13 : Nat) "BracketPairTreeModel" "text" "[I") ∈ lw_all := lw_g (lw_at lw_m1 204 rfl) rfl
theorem q231 : (Jvm.Cond.fieldLink "BracketPairTreeModel" (17 : Nat) "BracketPairTreeModel" "part" "[I") ∈ lw_all := lw_g (lw_at lw_m1 205 rfl) rfl
theorem q232 : (Jvm.Cond.lays "BracketPairTreeModel" "BracketPairTreeModel" "n" "I") ∈ lw_all := lw_g (lw_at lw_m1 206 rfl) rfl
theorem q233 : (Jvm.Cond.soleField "BracketPairTreeModel" "n") ∈ lw_all := lw_g (lw_at lw_m1 207 rfl) rfl
theorem q234 : (Jvm.Cond.lays "BracketPairTreeModel" "BracketPairTreeModel" "text" "[I") ∈ lw_all := lw_g (lw_at lw_m1 208 rfl) rfl
theorem q235 : (Jvm.Cond.soleField "BracketPairTreeModel" "text") ∈ lw_all := lw_g (lw_at lw_m1 209 rfl) rfl
theorem q236 : (Jvm.Cond.lays "BracketPairTreeModel" "BracketPairTreeModel" "part" "[I") ∈ lw_all := lw_g (lw_at lw_m1 210 rfl) rfl
theorem q237 : (Jvm.Cond.soleField "BracketPairTreeModel" "part") ∈ lw_all := lw_g (lw_at lw_m1 211 rfl) rfl
theorem q238 : (Jvm.Cond.superclass "BracketPairTreeModel" "java/lang/Object") ∈ lw_all := lw_g (lw_at lw_m1 212 rfl) rfl
theorem q240 : (Jvm.Cond.instanceMethod ({ cls := "BracketPairTreeModel", name := "insert", desc := "(II)I" } : Jvm.MethodName)) ∈ lw_all := lw_g (lw_at lw_m1 214 rfl) rfl
theorem q241 : (Jvm.Cond.selects "BracketPairTreeModel" ({ cls := "BracketPairTreeModel", name := "insert", desc := "(II)I" } : Jvm.MethodName) ({ cls := "BracketPairTreeModel", name := "insert", desc := "(II)I" } : Jvm.MethodName)) ∈ lw_all := lw_g (lw_at lw_m1 215 rfl) rfl
theorem q242 : (Jvm.Cond.code ({ cls := "BracketPairTreeModel", name := "insert", desc := "(II)I" } : Jvm.MethodName) prog_3_method_4_code (4 : Nat) (Option.some Jvm.ClassFile.FieldType.int)) ∈ lw_all := lw_g (lw_at lw_m1 216 rfl) rfl
theorem q244 : (Jvm.Cond.instanceMethod ({ cls := "BracketPairTreeModel", name := "erase", desc := "(II)I" } : Jvm.MethodName)) ∈ lw_all := lw_g (lw_at lw_m1 218 rfl) rfl
theorem q245 : (Jvm.Cond.selects "BracketPairTreeModel" ({ cls := "BracketPairTreeModel", name := "erase", desc := "(II)I" } : Jvm.MethodName) ({ cls := "BracketPairTreeModel", name := "erase", desc := "(II)I" } : Jvm.MethodName)) ∈ lw_all := lw_g (lw_at lw_m1 219 rfl) rfl
theorem q246 : (Jvm.Cond.code ({ cls := "BracketPairTreeModel", name := "erase", desc := "(II)I" } : Jvm.MethodName) prog_3_method_5_code (4 : Nat) (Option.some Jvm.ClassFile.FieldType.int)) ∈ lw_all := lw_g (lw_at lw_m1 220 rfl) rfl
theorem q247 : (Jvm.Cond.methodLink "BracketPairTreeModel" (20 : Nat) ({ cls := "BracketPairTreeModel", name := "isStretch", desc := "(II)Z" } : Jvm.MethodName)) ∈ lw_all := lw_g (lw_at lw_m1 221 rfl) rfl
theorem q248 : (Jvm.Cond.privateMethod ({ cls := "BracketPairTreeModel", name := "isStretch", desc := "(II)Z" } : Jvm.MethodName)) ∈ lw_tbl := lw_at lw_m1 222 rfl
theorem q249 : (Jvm.Cond.instanceMethod ({ cls := "BracketPairTreeModel", name := "isStretch", desc := "(II)Z" } : Jvm.MethodName)) ∈ lw_all := lw_g (lw_at lw_m1 223 rfl) rfl
theorem q250 : (Jvm.Cond.code ({ cls := "BracketPairTreeModel", name := "isStretch", desc := "(II)Z" } : Jvm.MethodName) prog_3_method_2_code (3 : Nat) (Option.some Jvm.ClassFile.FieldType.boolean)) ∈ lw_all := lw_g (lw_at lw_m1 224 rfl) rfl
theorem q252 : (Jvm.Cond.instanceMethod ({ cls := "BracketPairTreeModel", name := "move", desc := "(III)I" } : Jvm.MethodName)) ∈ lw_all := lw_g (lw_at lw_m1 226 rfl) rfl
theorem q253 : (Jvm.Cond.selects "BracketPairTreeModel" ({ cls := "BracketPairTreeModel", name := "move", desc := "(III)I" } : Jvm.MethodName) ({ cls := "BracketPairTreeModel", name := "move", desc := "(III)I" } : Jvm.MethodName)) ∈ lw_all := lw_g (lw_at lw_m1 227 rfl) rfl
theorem q254 : (Jvm.Cond.code ({ cls := "BracketPairTreeModel", name := "move", desc := "(III)I" } : Jvm.MethodName) prog_3_method_6_code (5 : Nat) (Option.some Jvm.ClassFile.FieldType.int)) ∈ lw_all := lw_g (lw_at lw_m1 228 rfl) rfl
theorem q255 : (Jvm.Cond.methodLink "BracketPairTreeModel" (24 : Nat) ({ cls := "BracketPairTreeModel", name := "erase", desc := "(II)I" } : Jvm.MethodName)) ∈ lw_all := lw_g (lw_at lw_m1 229 rfl) rfl
theorem q256 : (Jvm.Cond.methodLink "BracketPairTreeModel" (28 : Nat) ({ cls := "BracketPairTreeModel", name := "insert", desc := "(II)I" } : Jvm.MethodName)) ∈ lw_all := lw_g (lw_at lw_m1 230 rfl) rfl
theorem q258 : (Jvm.Cond.instanceMethod ({ cls := "BracketPairTreeModel", name := "mirror", desc := "(II)I" } : Jvm.MethodName)) ∈ lw_all := lw_g (lw_at lw_m1 232 rfl) rfl
theorem q259 : (Jvm.Cond.selects "BracketPairTreeModel" ({ cls := "BracketPairTreeModel", name := "mirror", desc := "(II)I" } : Jvm.MethodName) ({ cls := "BracketPairTreeModel", name := "mirror", desc := "(II)I" } : Jvm.MethodName)) ∈ lw_all := lw_g (lw_at lw_m1 233 rfl) rfl
theorem q260 : (Jvm.Cond.code ({ cls := "BracketPairTreeModel", name := "mirror", desc := "(II)I" } : Jvm.MethodName) prog_3_method_7_code (5 : Nat) (Option.some Jvm.ClassFile.FieldType.int)) ∈ lw_all := lw_g (lw_at lw_m1 234 rfl) rfl
theorem q262 : (Jvm.Cond.instanceMethod ({ cls := "BracketPairTreeModel", name := "codeAt", desc := "(I)I" } : Jvm.MethodName)) ∈ lw_all := lw_g (lw_at lw_m1 236 rfl) rfl
theorem q263 : (Jvm.Cond.selects "BracketPairTreeModel" ({ cls := "BracketPairTreeModel", name := "codeAt", desc := "(I)I" } : Jvm.MethodName) ({ cls := "BracketPairTreeModel", name := "codeAt", desc := "(I)I" } : Jvm.MethodName)) ∈ lw_all := lw_g (lw_at lw_m1 237 rfl) rfl
theorem q264 : (Jvm.Cond.code ({ cls := "BracketPairTreeModel", name := "codeAt", desc := "(I)I" } : Jvm.MethodName) prog_3_method_8_code (2 : Nat) (Option.some Jvm.ClassFile.FieldType.int)) ∈ lw_all := lw_g (lw_at lw_m1 238 rfl) rfl
theorem q265 : (Jvm.Cond.methodLink "BracketPairTreeModel" (31 : Nat) ({ cls := "BracketPairTreeModel", name := "isPlace", desc := "(I)Z" } : Jvm.MethodName)) ∈ lw_all := lw_g (lw_at lw_m1 239 rfl) rfl
theorem q266 : (Jvm.Cond.privateMethod ({ cls := "BracketPairTreeModel", name := "isPlace", desc := "(I)Z" } : Jvm.MethodName)) ∈ lw_tbl := lw_at lw_m2 0 rfl
theorem q267 : (Jvm.Cond.instanceMethod ({ cls := "BracketPairTreeModel", name := "isPlace", desc := "(I)Z" } : Jvm.MethodName)) ∈ lw_all := lw_g (lw_at lw_m2 1 rfl) rfl
theorem q268 : (Jvm.Cond.code ({ cls := "BracketPairTreeModel", name := "isPlace", desc := "(I)Z" } : Jvm.MethodName) prog_3_method_3_code (2 : Nat) (Option.some Jvm.ClassFile.FieldType.boolean)) ∈ lw_all := lw_g (lw_at lw_m2 2 rfl) rfl
theorem q270 : (Jvm.Cond.instanceMethod ({ cls := "BracketPairTreeModel", name := "partner", desc := "(I)I" } : Jvm.MethodName)) ∈ lw_all := lw_g (lw_at lw_m2 4 rfl) rfl
theorem q271 : (Jvm.Cond.selects "BracketPairTreeModel" ({ cls := "BracketPairTreeModel", name := "partner", desc := "(I)I" } : Jvm.MethodName) ({ cls := "BracketPairTreeModel", name := "partner", desc := "(I)I" } : Jvm.MethodName)) ∈ lw_all := lw_g (lw_at lw_m2 5 rfl) rfl
theorem q272 : (Jvm.Cond.code ({ cls := "BracketPairTreeModel", name := "partner", desc := "(I)I" } : Jvm.MethodName) prog_3_method_11_code (2 : Nat) (Option.some Jvm.ClassFile.FieldType.int)) ∈ lw_all := lw_g (lw_at lw_m2 6 rfl) rfl
theorem q273 : (Jvm.Cond.methodLink "BracketPairTreeModel" (39 : Nat) ({ cls := "BracketPairTreeModel", name := "mate", desc := "(III)I" } : Jvm.MethodName)) ∈ lw_all := lw_g (lw_at lw_m2 7 rfl) rfl
theorem q274 : (Jvm.Cond.privateMethod ({ cls := "BracketPairTreeModel", name := "mate", desc := "(III)I" } : Jvm.MethodName)) ∈ lw_tbl := lw_at lw_m2 8 rfl
theorem q275 : (Jvm.Cond.instanceMethod ({ cls := "BracketPairTreeModel", name := "mate", desc := "(III)I" } : Jvm.MethodName)) ∈ lw_all := lw_g (lw_at lw_m2 9 rfl) rfl
theorem q276 : (Jvm.Cond.code ({ cls := "BracketPairTreeModel", name := "mate", desc := "(III)I" } : Jvm.MethodName) prog_3_method_10_code (7 : Nat) (Option.some Jvm.ClassFile.FieldType.int)) ∈ lw_all := lw_g (lw_at lw_m2 10 rfl) rfl
theorem q277 : (Jvm.Cond.methodLink "BracketPairTreeModel" (35 : Nat) ({ cls := "BracketPairTreeModel", name := "isPair", desc := "(III)Z" } : Jvm.MethodName)) ∈ lw_all := lw_g (lw_at lw_m2 11 rfl) rfl
theorem q278 : (Jvm.Cond.privateMethod ({ cls := "BracketPairTreeModel", name := "isPair", desc := "(III)Z" } : Jvm.MethodName)) ∈ lw_tbl := lw_at lw_m2 12 rfl
theorem q279 : (Jvm.Cond.instanceMethod ({ cls := "BracketPairTreeModel", name := "isPair", desc := "(III)Z" } : Jvm.MethodName)) ∈ lw_all := lw_g (lw_at lw_m2 13 rfl) rfl
theorem q280 : (Jvm.Cond.code ({ cls := "BracketPairTreeModel", name := "isPair", desc := "(III)Z" } : Jvm.MethodName) prog_3_method_9_code (6 : Nat) (Option.some Jvm.ClassFile.FieldType.boolean)) ∈ lw_all := lw_g (lw_at lw_m2 14 rfl) rfl
theorem q282 : (Jvm.Cond.instanceMethod ({ cls := "BracketPairTreeModel", name := "around", desc := "(II)I" } : Jvm.MethodName)) ∈ lw_all := lw_g (lw_at lw_m2 16 rfl) rfl
theorem q283 : (Jvm.Cond.selects "BracketPairTreeModel" ({ cls := "BracketPairTreeModel", name := "around", desc := "(II)I" } : Jvm.MethodName) ({ cls := "BracketPairTreeModel", name := "around", desc := "(II)I" } : Jvm.MethodName)) ∈ lw_all := lw_g (lw_at lw_m2 17 rfl) rfl
theorem q284 : (Jvm.Cond.code ({ cls := "BracketPairTreeModel", name := "around", desc := "(II)I" } : Jvm.MethodName) prog_3_method_12_code (5 : Nat) (Option.some Jvm.ClassFile.FieldType.int)) ∈ lw_all := lw_g (lw_at lw_m2 18 rfl) rfl
theorem q286 : (Jvm.Cond.instanceMethod ({ cls := "BracketPairTreeModel", name := "depth", desc := "(II)I" } : Jvm.MethodName)) ∈ lw_all := lw_g (lw_at lw_m2 20 rfl) rfl
theorem q287 : (Jvm.Cond.selects "BracketPairTreeModel" ({ cls := "BracketPairTreeModel", name := "depth", desc := "(II)I" } : Jvm.MethodName) ({ cls := "BracketPairTreeModel", name := "depth", desc := "(II)I" } : Jvm.MethodName)) ∈ lw_all := lw_g (lw_at lw_m2 21 rfl) rfl
theorem q288 : (Jvm.Cond.code ({ cls := "BracketPairTreeModel", name := "depth", desc := "(II)I" } : Jvm.MethodName) prog_3_method_13_code (6 : Nat) (Option.some Jvm.ClassFile.FieldType.int)) ∈ lw_all := lw_g (lw_at lw_m2 22 rfl) rfl
theorem q290 : (Jvm.Cond.instanceMethod ({ cls := "BracketPairTreeModel", name := "looseOpen", desc := "(III)I" } : Jvm.MethodName)) ∈ lw_all := lw_g (lw_at lw_m2 24 rfl) rfl
theorem q291 : (Jvm.Cond.selects "BracketPairTreeModel" ({ cls := "BracketPairTreeModel", name := "looseOpen", desc := "(III)I" } : Jvm.MethodName) ({ cls := "BracketPairTreeModel", name := "looseOpen", desc := "(III)I" } : Jvm.MethodName)) ∈ lw_all := lw_g (lw_at lw_m2 25 rfl) rfl
theorem q292 : (Jvm.Cond.code ({ cls := "BracketPairTreeModel", name := "looseOpen", desc := "(III)I" } : Jvm.MethodName) prog_3_method_15_code (4 : Nat) (Option.some Jvm.ClassFile.FieldType.int)) ∈ lw_all := lw_g (lw_at lw_m2 26 rfl) rfl
theorem q293 : (Jvm.Cond.methodLink "BracketPairTreeModel" (43 : Nat) ({ cls := "BracketPairTreeModel", name := "loose", desc := "(III)I" } : Jvm.MethodName)) ∈ lw_all := lw_g (lw_at lw_m2 27 rfl) rfl
theorem q294 : (Jvm.Cond.privateMethod ({ cls := "BracketPairTreeModel", name := "loose", desc := "(III)I" } : Jvm.MethodName)) ∈ lw_tbl := lw_at lw_m2 28 rfl
theorem q295 : (Jvm.Cond.instanceMethod ({ cls := "BracketPairTreeModel", name := "loose", desc := "(III)I" } : Jvm.MethodName)) ∈ lw_all := lw_g (lw_at lw_m2 29 rfl) rfl
theorem q296 : (Jvm.Cond.code ({ cls := "BracketPairTreeModel", name := "loose", desc := "(III)I" } : Jvm.MethodName) prog_3_method_14_code (7 : Nat) (Option.some Jvm.ClassFile.FieldType.int)) ∈ lw_all := lw_g (lw_at lw_m2 30 rfl) rfl
theorem q298 : (Jvm.Cond.instanceMethod ({ cls := "BracketPairTreeModel", name := "looseClose", desc := "(III)I" } : Jvm.MethodName)) ∈ lw_all := lw_g (lw_at lw_m2 32 rfl) rfl
theorem q299 : (Jvm.Cond.selects "BracketPairTreeModel" ({ cls := "BracketPairTreeModel", name := "looseClose", desc := "(III)I" } : Jvm.MethodName) ({ cls := "BracketPairTreeModel", name := "looseClose", desc := "(III)I" } : Jvm.MethodName)) ∈ lw_all := lw_g (lw_at lw_m2 33 rfl) rfl
theorem q300 : (Jvm.Cond.code ({ cls := "BracketPairTreeModel", name := "looseClose", desc := "(III)I" } : Jvm.MethodName) prog_3_method_16_code (4 : Nat) (Option.some Jvm.ClassFile.FieldType.int)) ∈ lw_all := lw_g (lw_at lw_m2 34 rfl) rfl
theorem in_X1 : ∀ w ∈ wsX10, w ∈ lw_all := lw_in wsX10 [232, 234, 236] (by decide +kernel) (by decide +kernel)

/-! the law's own entry -/
abbrev cL_law : ByteArray := code

theorem q26 : (Jvm.Cond.initialized "BracketPairTreeLaw") ∈ lw_all := lw_g (lw_at lw_m1 0 rfl) rfl
theorem q29 : (Jvm.Cond.classLink "BracketPairTreeLaw" (7 : Nat) "BracketPairTree") ∈ lw_all := lw_g (lw_at lw_m1 3 rfl) rfl
theorem q31 : (Jvm.Cond.methodLink "BracketPairTreeLaw" (9 : Nat) ({ cls := "BracketPairTree", name := "<init>", desc := "()V" } : Jvm.MethodName)) ∈ lw_all := lw_g (lw_at lw_m1 5 rfl) rfl
theorem q98 : (Jvm.Cond.methodLink "BracketPairTreeLaw" (13 : Nat) ({ cls := "BracketPairTree", name := "insert", desc := "(II)I" } : Jvm.MethodName)) ∈ lw_all := lw_g (lw_at lw_m1 72 rfl) rfl
theorem q155 : (Jvm.Cond.methodLink "BracketPairTreeLaw" (18 : Nat) ({ cls := "BracketPairTree", name := "erase", desc := "(II)I" } : Jvm.MethodName)) ∈ lw_all := lw_g (lw_at lw_m1 129 rfl) rfl
theorem q171 : (Jvm.Cond.methodLink "BracketPairTreeLaw" (22 : Nat) ({ cls := "BracketPairTree", name := "move", desc := "(III)I" } : Jvm.MethodName)) ∈ lw_all := lw_g (lw_at lw_m1 145 rfl) rfl
theorem q175 : (Jvm.Cond.methodLink "BracketPairTreeLaw" (27 : Nat) ({ cls := "BracketPairTree", name := "mirror", desc := "(II)I" } : Jvm.MethodName)) ∈ lw_all := lw_g (lw_at lw_m1 149 rfl) rfl
theorem q183 : (Jvm.Cond.methodLink "BracketPairTreeLaw" (31 : Nat) ({ cls := "BracketPairTree", name := "codeAt", desc := "(I)I" } : Jvm.MethodName)) ∈ lw_all := lw_g (lw_at lw_m1 157 rfl) rfl
theorem q191 : (Jvm.Cond.methodLink "BracketPairTreeLaw" (36 : Nat) ({ cls := "BracketPairTree", name := "partner", desc := "(I)I" } : Jvm.MethodName)) ∈ lw_all := lw_g (lw_at lw_m1 165 rfl) rfl
theorem q203 : (Jvm.Cond.methodLink "BracketPairTreeLaw" (40 : Nat) ({ cls := "BracketPairTree", name := "around", desc := "(II)I" } : Jvm.MethodName)) ∈ lw_all := lw_g (lw_at lw_m1 177 rfl) rfl
theorem q211 : (Jvm.Cond.methodLink "BracketPairTreeLaw" (44 : Nat) ({ cls := "BracketPairTree", name := "depth", desc := "(II)I" } : Jvm.MethodName)) ∈ lw_all := lw_g (lw_at lw_m1 185 rfl) rfl
theorem q215 : (Jvm.Cond.methodLink "BracketPairTreeLaw" (48 : Nat) ({ cls := "BracketPairTree", name := "looseOpen", desc := "(III)I" } : Jvm.MethodName)) ∈ lw_all := lw_g (lw_at lw_m1 189 rfl) rfl
theorem q219 : (Jvm.Cond.methodLink "BracketPairTreeLaw" (52 : Nat) ({ cls := "BracketPairTree", name := "looseClose", desc := "(III)I" } : Jvm.MethodName)) ∈ lw_all := lw_g (lw_at lw_m1 193 rfl) rfl
theorem q223 : (Jvm.Cond.classLink "BracketPairTreeLaw" (10 : Nat) "BracketPairTreeModel") ∈ lw_all := lw_g (lw_at lw_m1 197 rfl) rfl
theorem q225 : (Jvm.Cond.methodLink "BracketPairTreeLaw" (12 : Nat) ({ cls := "BracketPairTreeModel", name := "<init>", desc := "()V" } : Jvm.MethodName)) ∈ lw_all := lw_g (lw_at lw_m1 199 rfl) rfl
theorem q239 : (Jvm.Cond.methodLink "BracketPairTreeLaw" (17 : Nat) ({ cls := "BracketPairTreeModel", name := "insert", desc := "(II)I" } : Jvm.MethodName)) ∈ lw_all := lw_g (lw_at lw_m1 213 rfl) rfl
theorem q243 : (Jvm.Cond.methodLink "BracketPairTreeLaw" (21 : Nat) ({ cls := "BracketPairTreeModel", name := "erase", desc := "(II)I" } : Jvm.MethodName)) ∈ lw_all := lw_g (lw_at lw_m1 217 rfl) rfl
theorem q251 : (Jvm.Cond.methodLink "BracketPairTreeLaw" (26 : Nat) ({ cls := "BracketPairTreeModel", name := "move", desc := "(III)I" } : Jvm.MethodName)) ∈ lw_all := lw_g (lw_at lw_m1 225 rfl) rfl
theorem q257 : (Jvm.Cond.methodLink "BracketPairTreeLaw" (30 : Nat) ({ cls := "BracketPairTreeModel", name := "mirror", desc := "(II)I" } : Jvm.MethodName)) ∈ lw_all := lw_g (lw_at lw_m1 231 rfl) rfl
theorem q261 : (Jvm.Cond.methodLink "BracketPairTreeLaw" (35 : Nat) ({ cls := "BracketPairTreeModel", name := "codeAt", desc := "(I)I" } : Jvm.MethodName)) ∈ lw_all := lw_g (lw_at lw_m1 235 rfl) rfl
theorem q269 : (Jvm.Cond.methodLink "BracketPairTreeLaw" (39 : Nat) ({ cls := "BracketPairTreeModel", name := "partner", desc := "(I)I" } : Jvm.MethodName)) ∈ lw_all := lw_g (lw_at lw_m2 3 rfl) rfl
theorem q281 : (Jvm.Cond.methodLink "BracketPairTreeLaw" (43 : Nat) ({ cls := "BracketPairTreeModel", name := "around", desc := "(II)I" } : Jvm.MethodName)) ∈ lw_all := lw_g (lw_at lw_m2 15 rfl) rfl
theorem q285 : (Jvm.Cond.methodLink "BracketPairTreeLaw" (47 : Nat) ({ cls := "BracketPairTreeModel", name := "depth", desc := "(II)I" } : Jvm.MethodName)) ∈ lw_all := lw_g (lw_at lw_m2 19 rfl) rfl
theorem q289 : (Jvm.Cond.methodLink "BracketPairTreeLaw" (51 : Nat) ({ cls := "BracketPairTreeModel", name := "looseOpen", desc := "(III)I" } : Jvm.MethodName)) ∈ lw_all := lw_g (lw_at lw_m2 23 rfl) rfl
theorem q297 : (Jvm.Cond.methodLink "BracketPairTreeLaw" (55 : Nat) ({ cls := "BracketPairTreeModel", name := "looseClose", desc := "(III)I" } : Jvm.MethodName)) ∈ lw_all := lw_g (lw_at lw_m2 31 rfl) rfl

theorem q95 : (Jvm.Cond.arrayClass Jvm.ClassFile.FieldType.byte) ∈ lw_all := lw_g (lw_at lw_m1 69 rfl) rfl
theorem q96 : (Jvm.Cond.arrayClass Jvm.ClassFile.FieldType.boolean) ∈ lw_all := lw_g (lw_at lw_m1 70 rfl) rfl
theorem q97 : (Jvm.Cond.arrayClass Jvm.ClassFile.FieldType.int) ∈ lw_all := lw_g (lw_at lw_m1 71 rfl) rfl
end
section
set_option maxRecDepth 100000
theorem dJ0_init_0 : decode cJ0_init 0 = .ok (.return_, 1) := by decide +kernel
theorem dX0_init_0 : decode cX0_init 0 = .ok (.aload_n 0, 1) := by decide +kernel
theorem dX0_init_1 : decode cX0_init 1 = .ok (.invokespecial 1, 3) := by decide +kernel
theorem dX0_init_4 : decode cX0_init 4 = .ok (.aload_n 0, 1) := by decide +kernel
theorem dX0_init_5 : decode cX0_init 5 = .ok (.bipush 60, 2) := by decide +kernel
theorem dX0_init_7 : decode cX0_init 7 = .ok (.newarray .byte, 2) := by decide +kernel
theorem dX0_init_9 : decode cX0_init 9 = .ok (.putfield 7, 3) := by decide +kernel
theorem dX0_init_12 : decode cX0_init 12 = .ok (.aload_n 0, 1) := by decide +kernel
theorem dX0_init_13 : decode cX0_init 13 = .ok (.bipush 60, 2) := by decide +kernel
theorem dX0_init_15 : decode cX0_init 15 = .ok (.newarray .byte, 2) := by decide +kernel
theorem dX0_init_17 : decode cX0_init 17 = .ok (.putfield 13, 3) := by decide +kernel
theorem dX0_init_20 : decode cX0_init 20 = .ok (.aload_n 0, 1) := by decide +kernel
theorem dX0_init_21 : decode cX0_init 21 = .ok (.bipush 60, 2) := by decide +kernel
theorem dX0_init_23 : decode cX0_init 23 = .ok (.newarray .byte, 2) := by decide +kernel
theorem dX0_init_25 : decode cX0_init 25 = .ok (.putfield 16, 3) := by decide +kernel
theorem dX0_init_28 : decode cX0_init 28 = .ok (.aload_n 0, 1) := by decide +kernel
theorem dX0_init_29 : decode cX0_init 29 = .ok (.bipush 60, 2) := by decide +kernel
theorem dX0_init_31 : decode cX0_init 31 = .ok (.newarray .byte, 2) := by decide +kernel
theorem dX0_init_33 : decode cX0_init 33 = .ok (.putfield 19, 3) := by decide +kernel
theorem dX0_init_36 : decode cX0_init 36 = .ok (.aload_n 0, 1) := by decide +kernel
theorem dX0_init_37 : decode cX0_init 37 = .ok (.bipush 60, 2) := by decide +kernel
theorem dX0_init_39 : decode cX0_init 39 = .ok (.newarray .boolean, 2) := by decide +kernel
theorem dX0_init_41 : decode cX0_init 41 = .ok (.putfield 22, 3) := by decide +kernel
theorem dX0_init_44 : decode cX0_init 44 = .ok (.aload_n 0, 1) := by decide +kernel
theorem dX0_init_45 : decode cX0_init 45 = .ok (.bipush 60, 2) := by decide +kernel
theorem dX0_init_47 : decode cX0_init 47 = .ok (.newarray .int, 2) := by decide +kernel
theorem dX0_init_49 : decode cX0_init 49 = .ok (.putfield 26, 3) := by decide +kernel
theorem dX0_init_52 : decode cX0_init 52 = .ok (.aload_n 0, 1) := by decide +kernel
theorem dX0_init_53 : decode cX0_init 53 = .ok (.sipush 180, 3) := by decide +kernel
theorem dX0_init_56 : decode cX0_init 56 = .ok (.newarray .byte, 2) := by decide +kernel
theorem dX0_init_58 : decode cX0_init 58 = .ok (.putfield 30, 3) := by decide +kernel
theorem dX0_init_61 : decode cX0_init 61 = .ok (.aload_n 0, 1) := by decide +kernel
theorem dX0_init_62 : decode cX0_init 62 = .ok (.sipush 180, 3) := by decide +kernel
theorem dX0_init_65 : decode cX0_init 65 = .ok (.newarray .byte, 2) := by decide +kernel
theorem dX0_init_67 : decode cX0_init 67 = .ok (.putfield 33, 3) := by decide +kernel
theorem dX0_init_70 : decode cX0_init 70 = .ok (.aload_n 0, 1) := by decide +kernel
theorem dX0_init_71 : decode cX0_init 71 = .ok (.bipush 60, 2) := by decide +kernel
theorem dX0_init_73 : decode cX0_init 73 = .ok (.newarray .byte, 2) := by decide +kernel
theorem dX0_init_75 : decode cX0_init 75 = .ok (.putfield 36, 3) := by decide +kernel
theorem dX0_init_78 : decode cX0_init 78 = .ok (.aload_n 0, 1) := by decide +kernel
theorem dX0_init_79 : decode cX0_init 79 = .ok (.bipush 64, 2) := by decide +kernel
theorem dX0_init_81 : decode cX0_init 81 = .ok (.newarray .byte, 2) := by decide +kernel
theorem dX0_init_83 : decode cX0_init 83 = .ok (.putfield 39, 3) := by decide +kernel
theorem dX0_init_86 : decode cX0_init 86 = .ok (.aload_n 0, 1) := by decide +kernel
theorem dX0_init_87 : decode cX0_init 87 = .ok (.iconst (-1), 1) := by decide +kernel
theorem dX0_init_88 : decode cX0_init 88 = .ok (.putfield 42, 3) := by decide +kernel
theorem dX0_init_91 : decode cX0_init 91 = .ok (.aload_n 0, 1) := by decide +kernel
theorem dX0_init_92 : decode cX0_init 92 = .ok (.sipush 20011, 3) := by decide +kernel
theorem dX0_init_95 : decode cX0_init 95 = .ok (.putfield 46, 3) := by decide +kernel
theorem dX0_init_98 : decode cX0_init 98 = .ok (.bipush 59, 2) := by decide +kernel
theorem dX0_init_100 : decode cX0_init 100 = .ok (.istore_n 1, 1) := by decide +kernel
theorem dX0_init_101 : decode cX0_init 101 = .ok (.iload_n 1, 1) := by decide +kernel
theorem dX0_init_102 : decode cX0_init 102 = .ok (.ifCond .lt 30, 3) := by decide +kernel
theorem dX0_init_105 : decode cX0_init 105 = .ok (.aload_n 0, 1) := by decide +kernel
theorem dX0_init_106 : decode cX0_init 106 = .ok (.getfield 36, 3) := by decide +kernel
theorem dX0_init_109 : decode cX0_init 109 = .ok (.aload_n 0, 1) := by decide +kernel
theorem dX0_init_110 : decode cX0_init 110 = .ok (.getfield 49, 3) := by decide +kernel
theorem dX0_init_113 : decode cX0_init 113 = .ok (.iload_n 1, 1) := by decide +kernel
theorem dX0_init_114 : decode cX0_init 114 = .ok (.i2b, 1) := by decide +kernel
theorem dX0_init_115 : decode cX0_init 115 = .ok (.bastore, 1) := by decide +kernel
theorem dX0_init_116 : decode cX0_init 116 = .ok (.aload_n 0, 1) := by decide +kernel
theorem dX0_init_117 : decode cX0_init 117 = .ok (.dup, 1) := by decide +kernel
theorem dX0_init_118 : decode cX0_init 118 = .ok (.getfield 49, 3) := by decide +kernel
theorem dX0_init_121 : decode cX0_init 121 = .ok (.iconst 1, 1) := by decide +kernel
theorem dX0_init_122 : decode cX0_init 122 = .ok (.iadd, 1) := by decide +kernel
theorem dX0_init_123 : decode cX0_init 123 = .ok (.putfield 49, 3) := by decide +kernel
theorem dX0_init_126 : decode cX0_init 126 = .ok (.iinc 1 (-1), 3) := by decide +kernel
theorem dX0_init_129 : decode cX0_init 129 = .ok (.goto (-28), 3) := by decide +kernel
theorem dX0_init_132 : decode cX0_init 132 = .ok (.return_, 1) := by decide +kernel
theorem dX0_insert_0 : decode cX0_insert 0 = .ok (.aload_n 0, 1) := by decide +kernel
theorem dX0_insert_1 : decode cX0_insert 1 = .ok (.invokevirtual 52, 3) := by decide +kernel
theorem dX0_insert_4 : decode cX0_insert 4 = .ok (.istore_n 3, 1) := by decide +kernel
theorem dX0_insert_5 : decode cX0_insert 5 = .ok (.iload_n 3, 1) := by decide +kernel
theorem dX0_insert_6 : decode cX0_insert 6 = .ok (.bipush 60, 2) := by decide +kernel
theorem dX0_insert_8 : decode cX0_insert 8 = .ok (.if_icmp .lt 6, 3) := by decide +kernel
theorem dX0_insert_11 : decode cX0_insert 11 = .ok (.bipush (-2), 2) := by decide +kernel
theorem dX0_insert_13 : decode cX0_insert 13 = .ok (.ireturn, 1) := by decide +kernel
theorem dX0_insert_14 : decode cX0_insert 14 = .ok (.iload_n 1, 1) := by decide +kernel
theorem dX0_insert_15 : decode cX0_insert 15 = .ok (.ifCond .lt 18, 3) := by decide +kernel
theorem dX0_insert_18 : decode cX0_insert 18 = .ok (.iload_n 1, 1) := by decide +kernel
theorem dX0_insert_19 : decode cX0_insert 19 = .ok (.iload_n 3, 1) := by decide +kernel
theorem dX0_insert_20 : decode cX0_insert 20 = .ok (.if_icmp .gt 13, 3) := by decide +kernel
theorem dX0_insert_23 : decode cX0_insert 23 = .ok (.iload_n 2, 1) := by decide +kernel
theorem dX0_insert_24 : decode cX0_insert 24 = .ok (.ifCond .lt 9, 3) := by decide +kernel
theorem dX0_insert_27 : decode cX0_insert 27 = .ok (.iload_n 2, 1) := by decide +kernel
theorem dX0_insert_28 : decode cX0_insert 28 = .ok (.bipush 6, 2) := by decide +kernel
theorem dX0_insert_30 : decode cX0_insert 30 = .ok (.if_icmp .le 5, 3) := by decide +kernel
theorem dX0_insert_33 : decode cX0_insert 33 = .ok (.iconst (-1), 1) := by decide +kernel
theorem dX0_insert_34 : decode cX0_insert 34 = .ok (.ireturn, 1) := by decide +kernel
theorem dX0_insert_35 : decode cX0_insert 35 = .ok (.aload_n 0, 1) := by decide +kernel
theorem dX0_insert_36 : decode cX0_insert 36 = .ok (.iload_n 2, 1) := by decide +kernel
theorem dX0_insert_37 : decode cX0_insert 37 = .ok (.invokevirtual 56, 3) := by decide +kernel
theorem dX0_insert_40 : decode cX0_insert 40 = .ok (.istore 4, 2) := by decide +kernel
theorem dX0_insert_42 : decode cX0_insert 42 = .ok (.aload_n 0, 1) := by decide +kernel
theorem dX0_insert_43 : decode cX0_insert 43 = .ok (.aload_n 0, 1) := by decide +kernel
theorem dX0_insert_44 : decode cX0_insert 44 = .ok (.getfield 42, 3) := by decide +kernel
theorem dX0_insert_47 : decode cX0_insert 47 = .ok (.iload_n 1, 1) := by decide +kernel
theorem dX0_insert_48 : decode cX0_insert 48 = .ok (.invokevirtual 60, 3) := by decide +kernel
theorem dX0_insert_51 : decode cX0_insert 51 = .ok (.aload_n 0, 1) := by decide +kernel
theorem dX0_insert_52 : decode cX0_insert 52 = .ok (.getfield 64, 3) := by decide +kernel
theorem dX0_insert_55 : decode cX0_insert 55 = .ok (.istore 5, 2) := by decide +kernel
theorem dX0_insert_57 : decode cX0_insert 57 = .ok (.aload_n 0, 1) := by decide +kernel
theorem dX0_insert_58 : decode cX0_insert 58 = .ok (.aload_n 0, 1) := by decide +kernel
theorem dX0_insert_59 : decode cX0_insert 59 = .ok (.getfield 67, 3) := by decide +kernel
theorem dX0_insert_62 : decode cX0_insert 62 = .ok (.iload 4, 2) := by decide +kernel
theorem dX0_insert_64 : decode cX0_insert 64 = .ok (.invokevirtual 70, 3) := by decide +kernel
theorem dX0_insert_67 : decode cX0_insert 67 = .ok (.istore 6, 2) := by decide +kernel
theorem dX0_insert_69 : decode cX0_insert 69 = .ok (.aload_n 0, 1) := by decide +kernel
theorem dX0_insert_70 : decode cX0_insert 70 = .ok (.aload_n 0, 1) := by decide +kernel
theorem dX0_insert_71 : decode cX0_insert 71 = .ok (.iload 6, 2) := by decide +kernel
theorem dX0_insert_73 : decode cX0_insert 73 = .ok (.iload 5, 2) := by decide +kernel
theorem dX0_insert_75 : decode cX0_insert 75 = .ok (.invokevirtual 70, 3) := by decide +kernel
theorem dX0_insert_78 : decode cX0_insert 78 = .ok (.putfield 42, 3) := by decide +kernel
theorem dX0_insert_81 : decode cX0_insert 81 = .ok (.iload_n 3, 1) := by decide +kernel
theorem dX0_insert_82 : decode cX0_insert 82 = .ok (.iconst 1, 1) := by decide +kernel
theorem dX0_insert_83 : decode cX0_insert 83 = .ok (.iadd, 1) := by decide +kernel
theorem dX0_insert_84 : decode cX0_insert 84 = .ok (.ireturn, 1) := by decide +kernel
theorem dX0_textLength_0 : decode cX0_textLength 0 = .ok (.aload_n 0, 1) := by decide +kernel
theorem dX0_textLength_1 : decode cX0_textLength 1 = .ok (.aload_n 0, 1) := by decide +kernel
theorem dX0_textLength_2 : decode cX0_textLength 2 = .ok (.getfield 42, 3) := by decide +kernel
theorem dX0_textLength_5 : decode cX0_textLength 5 = .ok (.invokevirtual 119, 3) := by decide +kernel
theorem dX0_textLength_8 : decode cX0_textLength 8 = .ok (.ireturn, 1) := by decide +kernel
theorem dX0_sizeOf_0 : decode cX0_sizeOf 0 = .ok (.iload_n 1, 1) := by decide +kernel
theorem dX0_sizeOf_1 : decode cX0_sizeOf 1 = .ok (.ifCond .ge 7, 3) := by decide +kernel
theorem dX0_sizeOf_4 : decode cX0_sizeOf 4 = .ok (.iconst 0, 1) := by decide +kernel
theorem dX0_sizeOf_5 : decode cX0_sizeOf 5 = .ok (.goto 9, 3) := by decide +kernel
theorem dX0_sizeOf_8 : decode cX0_sizeOf 8 = .ok (.aload_n 0, 1) := by decide +kernel
theorem dX0_sizeOf_9 : decode cX0_sizeOf 9 = .ok (.getfield 19, 3) := by decide +kernel
theorem dX0_sizeOf_12 : decode cX0_sizeOf 12 = .ok (.iload_n 1, 1) := by decide +kernel
theorem dX0_sizeOf_13 : decode cX0_sizeOf 13 = .ok (.baload, 1) := by decide +kernel
theorem dX0_sizeOf_14 : decode cX0_sizeOf 14 = .ok (.ireturn, 1) := by decide +kernel
theorem dX0_newNode_0 : decode cX0_newNode 0 = .ok (.aload_n 0, 1) := by decide +kernel
theorem dX0_newNode_1 : decode cX0_newNode 1 = .ok (.dup, 1) := by decide +kernel
theorem dX0_newNode_2 : decode cX0_newNode 2 = .ok (.getfield 49, 3) := by decide +kernel
theorem dX0_newNode_5 : decode cX0_newNode 5 = .ok (.iconst 1, 1) := by decide +kernel
theorem dX0_newNode_6 : decode cX0_newNode 6 = .ok (.isub, 1) := by decide +kernel
theorem dX0_newNode_7 : decode cX0_newNode 7 = .ok (.putfield 49, 3) := by decide +kernel
theorem dX0_newNode_10 : decode cX0_newNode 10 = .ok (.aload_n 0, 1) := by decide +kernel
theorem dX0_newNode_11 : decode cX0_newNode 11 = .ok (.getfield 36, 3) := by decide +kernel
theorem dX0_newNode_14 : decode cX0_newNode 14 = .ok (.aload_n 0, 1) := by decide +kernel
theorem dX0_newNode_15 : decode cX0_newNode 15 = .ok (.getfield 49, 3) := by decide +kernel
theorem dX0_newNode_18 : decode cX0_newNode 18 = .ok (.baload, 1) := by decide +kernel
theorem dX0_newNode_19 : decode cX0_newNode 19 = .ok (.istore_n 2, 1) := by decide +kernel
theorem dX0_newNode_20 : decode cX0_newNode 20 = .ok (.aload_n 0, 1) := by decide +kernel
theorem dX0_newNode_21 : decode cX0_newNode 21 = .ok (.aload_n 0, 1) := by decide +kernel
theorem dX0_newNode_22 : decode cX0_newNode 22 = .ok (.getfield 46, 3) := by decide +kernel
theorem dX0_newNode_25 : decode cX0_newNode 25 = .ok (.ldc 125, 2) := by decide +kernel
theorem dX0_newNode_27 : decode cX0_newNode 27 = .ok (.imul, 1) := by decide +kernel
theorem dX0_newNode_28 : decode cX0_newNode 28 = .ok (.sipush 12345, 3) := by decide +kernel
theorem dX0_newNode_31 : decode cX0_newNode 31 = .ok (.iadd, 1) := by decide +kernel
theorem dX0_newNode_32 : decode cX0_newNode 32 = .ok (.putfield 46, 3) := by decide +kernel
theorem dX0_newNode_35 : decode cX0_newNode 35 = .ok (.aload_n 0, 1) := by decide +kernel
theorem dX0_newNode_36 : decode cX0_newNode 36 = .ok (.getfield 26, 3) := by decide +kernel
theorem dX0_newNode_39 : decode cX0_newNode 39 = .ok (.iload_n 2, 1) := by decide +kernel
theorem dX0_newNode_40 : decode cX0_newNode 40 = .ok (.aload_n 0, 1) := by decide +kernel
theorem dX0_newNode_41 : decode cX0_newNode 41 = .ok (.getfield 46, 3) := by decide +kernel
theorem dX0_newNode_44 : decode cX0_newNode 44 = .ok (.bipush 8, 2) := by decide +kernel
theorem dX0_newNode_46 : decode cX0_newNode 46 = .ok (.iushr, 1) := by decide +kernel
theorem dX0_newNode_47 : decode cX0_newNode 47 = .ok (.iastore, 1) := by decide +kernel
theorem dX0_newNode_48 : decode cX0_newNode 48 = .ok (.aload_n 0, 1) := by decide +kernel
theorem dX0_newNode_49 : decode cX0_newNode 49 = .ok (.getfield 7, 3) := by decide +kernel
theorem dX0_newNode_52 : decode cX0_newNode 52 = .ok (.iload_n 2, 1) := by decide +kernel
theorem dX0_newNode_53 : decode cX0_newNode 53 = .ok (.iload_n 1, 1) := by decide +kernel
theorem dX0_newNode_54 : decode cX0_newNode 54 = .ok (.i2b, 1) := by decide +kernel
theorem dX0_newNode_55 : decode cX0_newNode 55 = .ok (.bastore, 1) := by decide +kernel
theorem dX0_newNode_56 : decode cX0_newNode 56 = .ok (.aload_n 0, 1) := by decide +kernel
theorem dX0_newNode_57 : decode cX0_newNode 57 = .ok (.getfield 13, 3) := by decide +kernel
theorem dX0_newNode_60 : decode cX0_newNode 60 = .ok (.iload_n 2, 1) := by decide +kernel
theorem dX0_newNode_61 : decode cX0_newNode 61 = .ok (.iconst (-1), 1) := by decide +kernel
theorem dX0_newNode_62 : decode cX0_newNode 62 = .ok (.bastore, 1) := by decide +kernel
theorem dX0_newNode_63 : decode cX0_newNode 63 = .ok (.aload_n 0, 1) := by decide +kernel
theorem dX0_newNode_64 : decode cX0_newNode 64 = .ok (.getfield 16, 3) := by decide +kernel
theorem dX0_newNode_67 : decode cX0_newNode 67 = .ok (.iload_n 2, 1) := by decide +kernel
theorem dX0_newNode_68 : decode cX0_newNode 68 = .ok (.iconst (-1), 1) := by decide +kernel
theorem dX0_newNode_69 : decode cX0_newNode 69 = .ok (.bastore, 1) := by decide +kernel
theorem dX0_newNode_70 : decode cX0_newNode 70 = .ok (.aload_n 0, 1) := by decide +kernel
theorem dX0_newNode_71 : decode cX0_newNode 71 = .ok (.getfield 22, 3) := by decide +kernel
theorem dX0_newNode_74 : decode cX0_newNode 74 = .ok (.iload_n 2, 1) := by decide +kernel
theorem dX0_newNode_75 : decode cX0_newNode 75 = .ok (.iconst 0, 1) := by decide +kernel
theorem dX0_newNode_76 : decode cX0_newNode 76 = .ok (.bastore, 1) := by decide +kernel
theorem dX0_newNode_77 : decode cX0_newNode 77 = .ok (.aload_n 0, 1) := by decide +kernel
theorem dX0_newNode_78 : decode cX0_newNode 78 = .ok (.iload_n 2, 1) := by decide +kernel
theorem dX0_newNode_79 : decode cX0_newNode 79 = .ok (.invokevirtual 126, 3) := by decide +kernel
theorem dX0_newNode_82 : decode cX0_newNode 82 = .ok (.iload_n 2, 1) := by decide +kernel
theorem dX0_newNode_83 : decode cX0_newNode 83 = .ok (.ireturn, 1) := by decide +kernel
theorem dX0_refresh_0 : decode cX0_refresh 0 = .ok (.aload_n 0, 1) := by decide +kernel
theorem dX0_refresh_1 : decode cX0_refresh 1 = .ok (.getfield 13, 3) := by decide +kernel
theorem dX0_refresh_4 : decode cX0_refresh 4 = .ok (.iload_n 1, 1) := by decide +kernel
theorem dX0_refresh_5 : decode cX0_refresh 5 = .ok (.baload, 1) := by decide +kernel
theorem dX0_refresh_6 : decode cX0_refresh 6 = .ok (.istore_n 2, 1) := by decide +kernel
theorem dX0_refresh_7 : decode cX0_refresh 7 = .ok (.aload_n 0, 1) := by decide +kernel
theorem dX0_refresh_8 : decode cX0_refresh 8 = .ok (.getfield 16, 3) := by decide +kernel
theorem dX0_refresh_11 : decode cX0_refresh 11 = .ok (.iload_n 1, 1) := by decide +kernel
theorem dX0_refresh_12 : decode cX0_refresh 12 = .ok (.baload, 1) := by decide +kernel
theorem dX0_refresh_13 : decode cX0_refresh 13 = .ok (.istore_n 3, 1) := by decide +kernel
theorem dX0_refresh_14 : decode cX0_refresh 14 = .ok (.aload_n 0, 1) := by decide +kernel
theorem dX0_refresh_15 : decode cX0_refresh 15 = .ok (.getfield 19, 3) := by decide +kernel
theorem dX0_refresh_18 : decode cX0_refresh 18 = .ok (.iload_n 1, 1) := by decide +kernel
theorem dX0_refresh_19 : decode cX0_refresh 19 = .ok (.aload_n 0, 1) := by decide +kernel
theorem dX0_refresh_20 : decode cX0_refresh 20 = .ok (.iload_n 2, 1) := by decide +kernel
theorem dX0_refresh_21 : decode cX0_refresh 21 = .ok (.invokevirtual 119, 3) := by decide +kernel
theorem dX0_refresh_24 : decode cX0_refresh 24 = .ok (.iconst 1, 1) := by decide +kernel
theorem dX0_refresh_25 : decode cX0_refresh 25 = .ok (.iadd, 1) := by decide +kernel
theorem dX0_refresh_26 : decode cX0_refresh 26 = .ok (.aload_n 0, 1) := by decide +kernel
theorem dX0_refresh_27 : decode cX0_refresh 27 = .ok (.iload_n 3, 1) := by decide +kernel
theorem dX0_refresh_28 : decode cX0_refresh 28 = .ok (.invokevirtual 119, 3) := by decide +kernel
theorem dX0_refresh_31 : decode cX0_refresh 31 = .ok (.iadd, 1) := by decide +kernel
theorem dX0_refresh_32 : decode cX0_refresh 32 = .ok (.i2b, 1) := by decide +kernel
theorem dX0_refresh_33 : decode cX0_refresh 33 = .ok (.bastore, 1) := by decide +kernel
theorem dX0_refresh_34 : decode cX0_refresh 34 = .ok (.iconst 0, 1) := by decide +kernel
theorem dX0_refresh_35 : decode cX0_refresh 35 = .ok (.istore 4, 2) := by decide +kernel
theorem dX0_refresh_37 : decode cX0_refresh 37 = .ok (.iload 4, 2) := by decide +kernel
theorem dX0_refresh_39 : decode cX0_refresh 39 = .ok (.iconst 3, 1) := by decide +kernel
theorem dX0_refresh_40 : decode cX0_refresh 40 = .ok (.if_icmp .ge 144, 3) := by decide +kernel
theorem dX0_refresh_43 : decode cX0_refresh 43 = .ok (.aload_n 0, 1) := by decide +kernel
theorem dX0_refresh_44 : decode cX0_refresh 44 = .ok (.iload_n 2, 1) := by decide +kernel
theorem dX0_refresh_45 : decode cX0_refresh 45 = .ok (.iload 4, 2) := by decide +kernel
theorem dX0_refresh_47 : decode cX0_refresh 47 = .ok (.invokevirtual 113, 3) := by decide +kernel
theorem dX0_refresh_50 : decode cX0_refresh 50 = .ok (.istore 5, 2) := by decide +kernel
theorem dX0_refresh_52 : decode cX0_refresh 52 = .ok (.aload_n 0, 1) := by decide +kernel
theorem dX0_refresh_53 : decode cX0_refresh 53 = .ok (.iload_n 2, 1) := by decide +kernel
theorem dX0_refresh_54 : decode cX0_refresh 54 = .ok (.iload 4, 2) := by decide +kernel
theorem dX0_refresh_56 : decode cX0_refresh 56 = .ok (.invokevirtual 116, 3) := by decide +kernel
theorem dX0_refresh_59 : decode cX0_refresh 59 = .ok (.istore 6, 2) := by decide +kernel
theorem dX0_refresh_61 : decode cX0_refresh 61 = .ok (.aload_n 0, 1) := by decide +kernel
theorem dX0_refresh_62 : decode cX0_refresh 62 = .ok (.getfield 7, 3) := by decide +kernel
theorem dX0_refresh_65 : decode cX0_refresh 65 = .ok (.iload_n 1, 1) := by decide +kernel
theorem dX0_refresh_66 : decode cX0_refresh 66 = .ok (.baload, 1) := by decide +kernel
theorem dX0_refresh_67 : decode cX0_refresh 67 = .ok (.iload 4, 2) := by decide +kernel
theorem dX0_refresh_69 : decode cX0_refresh 69 = .ok (.iconst 1, 1) := by decide +kernel
theorem dX0_refresh_70 : decode cX0_refresh 70 = .ok (.iadd, 1) := by decide +kernel
theorem dX0_refresh_71 : decode cX0_refresh 71 = .ok (.if_icmp .ne 6, 3) := by decide +kernel
theorem dX0_refresh_74 : decode cX0_refresh 74 = .ok (.iinc 5 1, 3) := by decide +kernel
theorem dX0_refresh_77 : decode cX0_refresh 77 = .ok (.aload_n 0, 1) := by decide +kernel
theorem dX0_refresh_78 : decode cX0_refresh 78 = .ok (.getfield 7, 3) := by decide +kernel
theorem dX0_refresh_81 : decode cX0_refresh 81 = .ok (.iload_n 1, 1) := by decide +kernel
theorem dX0_refresh_82 : decode cX0_refresh 82 = .ok (.baload, 1) := by decide +kernel
theorem dX0_refresh_83 : decode cX0_refresh 83 = .ok (.iload 4, 2) := by decide +kernel
theorem dX0_refresh_85 : decode cX0_refresh 85 = .ok (.iconst 4, 1) := by decide +kernel
theorem dX0_refresh_86 : decode cX0_refresh 86 = .ok (.iadd, 1) := by decide +kernel
theorem dX0_refresh_87 : decode cX0_refresh 87 = .ok (.if_icmp .ne 17, 3) := by decide +kernel
theorem dX0_refresh_90 : decode cX0_refresh 90 = .ok (.iload 5, 2) := by decide +kernel
theorem dX0_refresh_92 : decode cX0_refresh 92 = .ok (.ifCond .le 9, 3) := by decide +kernel
theorem dX0_refresh_95 : decode cX0_refresh 95 = .ok (.iinc 5 (-1), 3) := by decide +kernel
theorem dX0_refresh_98 : decode cX0_refresh 98 = .ok (.goto 6, 3) := by decide +kernel
theorem dX0_refresh_101 : decode cX0_refresh 101 = .ok (.iinc 6 1, 3) := by decide +kernel
theorem dX0_refresh_104 : decode cX0_refresh 104 = .ok (.aload_n 0, 1) := by decide +kernel
theorem dX0_refresh_105 : decode cX0_refresh 105 = .ok (.iload_n 3, 1) := by decide +kernel
theorem dX0_refresh_106 : decode cX0_refresh 106 = .ok (.iload 4, 2) := by decide +kernel
theorem dX0_refresh_108 : decode cX0_refresh 108 = .ok (.invokevirtual 113, 3) := by decide +kernel
theorem dX0_refresh_111 : decode cX0_refresh 111 = .ok (.istore 7, 2) := by decide +kernel
theorem dX0_refresh_113 : decode cX0_refresh 113 = .ok (.aload_n 0, 1) := by decide +kernel
theorem dX0_refresh_114 : decode cX0_refresh 114 = .ok (.iload_n 3, 1) := by decide +kernel
theorem dX0_refresh_115 : decode cX0_refresh 115 = .ok (.iload 4, 2) := by decide +kernel
theorem dX0_refresh_117 : decode cX0_refresh 117 = .ok (.invokevirtual 116, 3) := by decide +kernel
theorem dX0_refresh_120 : decode cX0_refresh 120 = .ok (.istore 8, 2) := by decide +kernel
theorem dX0_refresh_122 : decode cX0_refresh 122 = .ok (.iload 5, 2) := by decide +kernel
theorem dX0_refresh_124 : decode cX0_refresh 124 = .ok (.iload 8, 2) := by decide +kernel
theorem dX0_refresh_126 : decode cX0_refresh 126 = .ok (.if_icmp .ge 8, 3) := by decide +kernel
theorem dX0_refresh_129 : decode cX0_refresh 129 = .ok (.iload 5, 2) := by decide +kernel
theorem dX0_refresh_131 : decode cX0_refresh 131 = .ok (.goto 5, 3) := by decide +kernel
theorem dX0_refresh_134 : decode cX0_refresh 134 = .ok (.iload 8, 2) := by decide +kernel
theorem dX0_refresh_136 : decode cX0_refresh 136 = .ok (.istore 9, 2) := by decide +kernel
theorem dX0_refresh_138 : decode cX0_refresh 138 = .ok (.aload_n 0, 1) := by decide +kernel
theorem dX0_refresh_139 : decode cX0_refresh 139 = .ok (.getfield 30, 3) := by decide +kernel
theorem dX0_refresh_142 : decode cX0_refresh 142 = .ok (.iconst 3, 1) := by decide +kernel
theorem dX0_refresh_143 : decode cX0_refresh 143 = .ok (.iload_n 1, 1) := by decide +kernel
theorem dX0_refresh_144 : decode cX0_refresh 144 = .ok (.imul, 1) := by decide +kernel
theorem dX0_refresh_145 : decode cX0_refresh 145 = .ok (.iload 4, 2) := by decide +kernel
theorem dX0_refresh_147 : decode cX0_refresh 147 = .ok (.iadd, 1) := by decide +kernel
theorem dX0_refresh_148 : decode cX0_refresh 148 = .ok (.iload 5, 2) := by decide +kernel
theorem dX0_refresh_150 : decode cX0_refresh 150 = .ok (.iload 9, 2) := by decide +kernel
theorem dX0_refresh_152 : decode cX0_refresh 152 = .ok (.isub, 1) := by decide +kernel
theorem dX0_refresh_153 : decode cX0_refresh 153 = .ok (.iload 7, 2) := by decide +kernel
theorem dX0_refresh_155 : decode cX0_refresh 155 = .ok (.iadd, 1) := by decide +kernel
theorem dX0_refresh_156 : decode cX0_refresh 156 = .ok (.i2b, 1) := by decide +kernel
theorem dX0_refresh_157 : decode cX0_refresh 157 = .ok (.bastore, 1) := by decide +kernel
theorem dX0_refresh_158 : decode cX0_refresh 158 = .ok (.aload_n 0, 1) := by decide +kernel
theorem dX0_refresh_159 : decode cX0_refresh 159 = .ok (.getfield 33, 3) := by decide +kernel
theorem dX0_refresh_162 : decode cX0_refresh 162 = .ok (.iconst 3, 1) := by decide +kernel
theorem dX0_refresh_163 : decode cX0_refresh 163 = .ok (.iload_n 1, 1) := by decide +kernel
theorem dX0_refresh_164 : decode cX0_refresh 164 = .ok (.imul, 1) := by decide +kernel
theorem dX0_refresh_165 : decode cX0_refresh 165 = .ok (.iload 4, 2) := by decide +kernel
theorem dX0_refresh_167 : decode cX0_refresh 167 = .ok (.iadd, 1) := by decide +kernel
theorem dX0_refresh_168 : decode cX0_refresh 168 = .ok (.iload 6, 2) := by decide +kernel
theorem dX0_refresh_170 : decode cX0_refresh 170 = .ok (.iload 8, 2) := by decide +kernel
theorem dX0_refresh_172 : decode cX0_refresh 172 = .ok (.iadd, 1) := by decide +kernel
theorem dX0_refresh_173 : decode cX0_refresh 173 = .ok (.iload 9, 2) := by decide +kernel
theorem dX0_refresh_175 : decode cX0_refresh 175 = .ok (.isub, 1) := by decide +kernel
theorem dX0_refresh_176 : decode cX0_refresh 176 = .ok (.i2b, 1) := by decide +kernel
theorem dX0_refresh_177 : decode cX0_refresh 177 = .ok (.bastore, 1) := by decide +kernel
theorem dX0_refresh_178 : decode cX0_refresh 178 = .ok (.iinc 4 1, 3) := by decide +kernel
theorem dX0_refresh_181 : decode cX0_refresh 181 = .ok (.goto (-144), 3) := by decide +kernel
theorem dX0_refresh_184 : decode cX0_refresh 184 = .ok (.return_, 1) := by decide +kernel
theorem dX0_opensOf_0 : decode cX0_opensOf 0 = .ok (.iload_n 1, 1) := by decide +kernel
theorem dX0_opensOf_1 : decode cX0_opensOf 1 = .ok (.ifCond .ge 7, 3) := by decide +kernel
theorem dX0_opensOf_4 : decode cX0_opensOf 4 = .ok (.iconst 0, 1) := by decide +kernel
theorem dX0_opensOf_5 : decode cX0_opensOf 5 = .ok (.goto 13, 3) := by decide +kernel
theorem dX0_opensOf_8 : decode cX0_opensOf 8 = .ok (.aload_n 0, 1) := by decide +kernel
theorem dX0_opensOf_9 : decode cX0_opensOf 9 = .ok (.getfield 30, 3) := by decide +kernel
theorem dX0_opensOf_12 : decode cX0_opensOf 12 = .ok (.iconst 3, 1) := by decide +kernel
theorem dX0_opensOf_13 : decode cX0_opensOf 13 = .ok (.iload_n 1, 1) := by decide +kernel
theorem dX0_opensOf_14 : decode cX0_opensOf 14 = .ok (.imul, 1) := by decide +kernel
theorem dX0_opensOf_15 : decode cX0_opensOf 15 = .ok (.iload_n 2, 1) := by decide +kernel
theorem dX0_opensOf_16 : decode cX0_opensOf 16 = .ok (.iadd, 1) := by decide +kernel
theorem dX0_opensOf_17 : decode cX0_opensOf 17 = .ok (.baload, 1) := by decide +kernel
theorem dX0_opensOf_18 : decode cX0_opensOf 18 = .ok (.ireturn, 1) := by decide +kernel
theorem dX0_closesOf_0 : decode cX0_closesOf 0 = .ok (.iload_n 1, 1) := by decide +kernel
theorem dX0_closesOf_1 : decode cX0_closesOf 1 = .ok (.ifCond .ge 7, 3) := by decide +kernel
theorem dX0_closesOf_4 : decode cX0_closesOf 4 = .ok (.iconst 0, 1) := by decide +kernel
theorem dX0_closesOf_5 : decode cX0_closesOf 5 = .ok (.goto 13, 3) := by decide +kernel
theorem dX0_closesOf_8 : decode cX0_closesOf 8 = .ok (.aload_n 0, 1) := by decide +kernel
theorem dX0_closesOf_9 : decode cX0_closesOf 9 = .ok (.getfield 33, 3) := by decide +kernel
theorem dX0_closesOf_12 : decode cX0_closesOf 12 = .ok (.iconst 3, 1) := by decide +kernel
theorem dX0_closesOf_13 : decode cX0_closesOf 13 = .ok (.iload_n 1, 1) := by decide +kernel
theorem dX0_closesOf_14 : decode cX0_closesOf 14 = .ok (.imul, 1) := by decide +kernel
theorem dX0_closesOf_15 : decode cX0_closesOf 15 = .ok (.iload_n 2, 1) := by decide +kernel
theorem dX0_closesOf_16 : decode cX0_closesOf 16 = .ok (.iadd, 1) := by decide +kernel
theorem dX0_closesOf_17 : decode cX0_closesOf 17 = .ok (.baload, 1) := by decide +kernel
theorem dX0_closesOf_18 : decode cX0_closesOf 18 = .ok (.ireturn, 1) := by decide +kernel
theorem dX0_cut_0 : decode cX0_cut 0 = .ok (.iload_n 1, 1) := by decide +kernel
theorem dX0_cut_1 : decode cX0_cut 1 = .ok (.istore_n 3, 1) := by decide +kernel
theorem dX0_cut_2 : decode cX0_cut 2 = .ok (.iload_n 2, 1) := by decide +kernel
theorem dX0_cut_3 : decode cX0_cut 3 = .ok (.istore 4, 2) := by decide +kernel
theorem dX0_cut_5 : decode cX0_cut 5 = .ok (.iconst (-1), 1) := by decide +kernel
theorem dX0_cut_6 : decode cX0_cut 6 = .ok (.istore 5, 2) := by decide +kernel
theorem dX0_cut_8 : decode cX0_cut 8 = .ok (.iconst (-1), 1) := by decide +kernel
theorem dX0_cut_9 : decode cX0_cut 9 = .ok (.istore 6, 2) := by decide +kernel
theorem dX0_cut_11 : decode cX0_cut 11 = .ok (.aload_n 0, 1) := by decide +kernel
theorem dX0_cut_12 : decode cX0_cut 12 = .ok (.iconst (-1), 1) := by decide +kernel
theorem dX0_cut_13 : decode cX0_cut 13 = .ok (.putfield 67, 3) := by decide +kernel
theorem dX0_cut_16 : decode cX0_cut 16 = .ok (.aload_n 0, 1) := by decide +kernel
theorem dX0_cut_17 : decode cX0_cut 17 = .ok (.iconst (-1), 1) := by decide +kernel
theorem dX0_cut_18 : decode cX0_cut 18 = .ok (.putfield 64, 3) := by decide +kernel
theorem dX0_cut_21 : decode cX0_cut 21 = .ok (.aload_n 0, 1) := by decide +kernel
theorem dX0_cut_22 : decode cX0_cut 22 = .ok (.iconst 0, 1) := by decide +kernel
theorem dX0_cut_23 : decode cX0_cut 23 = .ok (.putfield 129, 3) := by decide +kernel
theorem dX0_cut_26 : decode cX0_cut 26 = .ok (.iconst 0, 1) := by decide +kernel
theorem dX0_cut_27 : decode cX0_cut 27 = .ok (.istore 7, 2) := by decide +kernel
theorem dX0_cut_29 : decode cX0_cut 29 = .ok (.iload 7, 2) := by decide +kernel
theorem dX0_cut_31 : decode cX0_cut 31 = .ok (.bipush 60, 2) := by decide +kernel
theorem dX0_cut_33 : decode cX0_cut 33 = .ok (.if_icmp .ge 118, 3) := by decide +kernel
theorem dX0_cut_36 : decode cX0_cut 36 = .ok (.iload_n 3, 1) := by decide +kernel
theorem dX0_cut_37 : decode cX0_cut 37 = .ok (.ifCond .lt 114, 3) := by decide +kernel
theorem dX0_cut_40 : decode cX0_cut 40 = .ok (.aload_n 0, 1) := by decide +kernel
theorem dX0_cut_41 : decode cX0_cut 41 = .ok (.iload_n 3, 1) := by decide +kernel
theorem dX0_cut_42 : decode cX0_cut 42 = .ok (.invokevirtual 122, 3) := by decide +kernel
theorem dX0_cut_45 : decode cX0_cut 45 = .ok (.aload_n 0, 1) := by decide +kernel
theorem dX0_cut_46 : decode cX0_cut 46 = .ok (.iload_n 3, 1) := by decide +kernel
theorem dX0_cut_47 : decode cX0_cut 47 = .ok (.invokevirtual 132, 3) := by decide +kernel
theorem dX0_cut_50 : decode cX0_cut 50 = .ok (.aload_n 0, 1) := by decide +kernel
theorem dX0_cut_51 : decode cX0_cut 51 = .ok (.aload_n 0, 1) := by decide +kernel
theorem dX0_cut_52 : decode cX0_cut 52 = .ok (.getfield 13, 3) := by decide +kernel
theorem dX0_cut_55 : decode cX0_cut 55 = .ok (.iload_n 3, 1) := by decide +kernel
theorem dX0_cut_56 : decode cX0_cut 56 = .ok (.baload, 1) := by decide +kernel
theorem dX0_cut_57 : decode cX0_cut 57 = .ok (.invokevirtual 119, 3) := by decide +kernel
theorem dX0_cut_60 : decode cX0_cut 60 = .ok (.istore 8, 2) := by decide +kernel
theorem dX0_cut_62 : decode cX0_cut 62 = .ok (.iload 8, 2) := by decide +kernel
theorem dX0_cut_64 : decode cX0_cut 64 = .ok (.iload 4, 2) := by decide +kernel
theorem dX0_cut_66 : decode cX0_cut 66 = .ok (.if_icmp .ge 47, 3) := by decide +kernel
theorem dX0_cut_69 : decode cX0_cut 69 = .ok (.iload 4, 2) := by decide +kernel
theorem dX0_cut_71 : decode cX0_cut 71 = .ok (.iload 8, 2) := by decide +kernel
theorem dX0_cut_73 : decode cX0_cut 73 = .ok (.iconst 1, 1) := by decide +kernel
theorem dX0_cut_74 : decode cX0_cut 74 = .ok (.iadd, 1) := by decide +kernel
theorem dX0_cut_75 : decode cX0_cut 75 = .ok (.isub, 1) := by decide +kernel
theorem dX0_cut_76 : decode cX0_cut 76 = .ok (.istore 4, 2) := by decide +kernel
theorem dX0_cut_78 : decode cX0_cut 78 = .ok (.iload 5, 2) := by decide +kernel
theorem dX0_cut_80 : decode cX0_cut 80 = .ok (.ifCond .ge 11, 3) := by decide +kernel
theorem dX0_cut_83 : decode cX0_cut 83 = .ok (.aload_n 0, 1) := by decide +kernel
theorem dX0_cut_84 : decode cX0_cut 84 = .ok (.iload_n 3, 1) := by decide +kernel
theorem dX0_cut_85 : decode cX0_cut 85 = .ok (.putfield 67, 3) := by decide +kernel
theorem dX0_cut_88 : decode cX0_cut 88 = .ok (.goto 12, 3) := by decide +kernel
theorem dX0_cut_91 : decode cX0_cut 91 = .ok (.aload_n 0, 1) := by decide +kernel
theorem dX0_cut_92 : decode cX0_cut 92 = .ok (.getfield 16, 3) := by decide +kernel
theorem dX0_cut_95 : decode cX0_cut 95 = .ok (.iload 5, 2) := by decide +kernel
theorem dX0_cut_97 : decode cX0_cut 97 = .ok (.iload_n 3, 1) := by decide +kernel
theorem dX0_cut_98 : decode cX0_cut 98 = .ok (.i2b, 1) := by decide +kernel
theorem dX0_cut_99 : decode cX0_cut 99 = .ok (.bastore, 1) := by decide +kernel
theorem dX0_cut_100 : decode cX0_cut 100 = .ok (.iload_n 3, 1) := by decide +kernel
theorem dX0_cut_101 : decode cX0_cut 101 = .ok (.istore 5, 2) := by decide +kernel
theorem dX0_cut_103 : decode cX0_cut 103 = .ok (.aload_n 0, 1) := by decide +kernel
theorem dX0_cut_104 : decode cX0_cut 104 = .ok (.getfield 16, 3) := by decide +kernel
theorem dX0_cut_107 : decode cX0_cut 107 = .ok (.iload_n 3, 1) := by decide +kernel
theorem dX0_cut_108 : decode cX0_cut 108 = .ok (.baload, 1) := by decide +kernel
theorem dX0_cut_109 : decode cX0_cut 109 = .ok (.istore_n 3, 1) := by decide +kernel
theorem dX0_cut_110 : decode cX0_cut 110 = .ok (.goto 35, 3) := by decide +kernel
theorem dX0_cut_113 : decode cX0_cut 113 = .ok (.iload 6, 2) := by decide +kernel
theorem dX0_cut_115 : decode cX0_cut 115 = .ok (.ifCond .ge 11, 3) := by decide +kernel
theorem dX0_cut_118 : decode cX0_cut 118 = .ok (.aload_n 0, 1) := by decide +kernel
theorem dX0_cut_119 : decode cX0_cut 119 = .ok (.iload_n 3, 1) := by decide +kernel
theorem dX0_cut_120 : decode cX0_cut 120 = .ok (.putfield 64, 3) := by decide +kernel
theorem dX0_cut_123 : decode cX0_cut 123 = .ok (.goto 12, 3) := by decide +kernel
theorem dX0_cut_126 : decode cX0_cut 126 = .ok (.aload_n 0, 1) := by decide +kernel
theorem dX0_cut_127 : decode cX0_cut 127 = .ok (.getfield 13, 3) := by decide +kernel
theorem dX0_cut_130 : decode cX0_cut 130 = .ok (.iload 6, 2) := by decide +kernel
theorem dX0_cut_132 : decode cX0_cut 132 = .ok (.iload_n 3, 1) := by decide +kernel
theorem dX0_cut_133 : decode cX0_cut 133 = .ok (.i2b, 1) := by decide +kernel
theorem dX0_cut_134 : decode cX0_cut 134 = .ok (.bastore, 1) := by decide +kernel
theorem dX0_cut_135 : decode cX0_cut 135 = .ok (.iload_n 3, 1) := by decide +kernel
theorem dX0_cut_136 : decode cX0_cut 136 = .ok (.istore 6, 2) := by decide +kernel
theorem dX0_cut_138 : decode cX0_cut 138 = .ok (.aload_n 0, 1) := by decide +kernel
theorem dX0_cut_139 : decode cX0_cut 139 = .ok (.getfield 13, 3) := by decide +kernel
theorem dX0_cut_142 : decode cX0_cut 142 = .ok (.iload_n 3, 1) := by decide +kernel
theorem dX0_cut_143 : decode cX0_cut 143 = .ok (.baload, 1) := by decide +kernel
theorem dX0_cut_144 : decode cX0_cut 144 = .ok (.istore_n 3, 1) := by decide +kernel
theorem dX0_cut_145 : decode cX0_cut 145 = .ok (.iinc 7 1, 3) := by decide +kernel
theorem dX0_cut_148 : decode cX0_cut 148 = .ok (.goto (-119), 3) := by decide +kernel
theorem dX0_cut_151 : decode cX0_cut 151 = .ok (.iload 5, 2) := by decide +kernel
theorem dX0_cut_153 : decode cX0_cut 153 = .ok (.ifCond .lt 11, 3) := by decide +kernel
theorem dX0_cut_156 : decode cX0_cut 156 = .ok (.aload_n 0, 1) := by decide +kernel
theorem dX0_cut_157 : decode cX0_cut 157 = .ok (.getfield 16, 3) := by decide +kernel
theorem dX0_cut_160 : decode cX0_cut 160 = .ok (.iload 5, 2) := by decide +kernel
theorem dX0_cut_162 : decode cX0_cut 162 = .ok (.iconst (-1), 1) := by decide +kernel
theorem dX0_cut_163 : decode cX0_cut 163 = .ok (.bastore, 1) := by decide +kernel
theorem dX0_cut_164 : decode cX0_cut 164 = .ok (.iload 6, 2) := by decide +kernel
theorem dX0_cut_166 : decode cX0_cut 166 = .ok (.ifCond .lt 11, 3) := by decide +kernel
theorem dX0_cut_169 : decode cX0_cut 169 = .ok (.aload_n 0, 1) := by decide +kernel
theorem dX0_cut_170 : decode cX0_cut 170 = .ok (.getfield 13, 3) := by decide +kernel
theorem dX0_cut_173 : decode cX0_cut 173 = .ok (.iload 6, 2) := by decide +kernel
theorem dX0_cut_175 : decode cX0_cut 175 = .ok (.iconst (-1), 1) := by decide +kernel
theorem dX0_cut_176 : decode cX0_cut 176 = .ok (.bastore, 1) := by decide +kernel
theorem dX0_cut_177 : decode cX0_cut 177 = .ok (.aload_n 0, 1) := by decide +kernel
theorem dX0_cut_178 : decode cX0_cut 178 = .ok (.invokevirtual 135, 3) := by decide +kernel
theorem dX0_cut_181 : decode cX0_cut 181 = .ok (.return_, 1) := by decide +kernel
theorem dX0_settle_0 : decode cX0_settle 0 = .ok (.aload_n 0, 1) := by decide +kernel
theorem dX0_settle_1 : decode cX0_settle 1 = .ok (.getfield 22, 3) := by decide +kernel
theorem dX0_settle_4 : decode cX0_settle 4 = .ok (.iload_n 1, 1) := by decide +kernel
theorem dX0_settle_5 : decode cX0_settle 5 = .ok (.baload, 1) := by decide +kernel
theorem dX0_settle_6 : decode cX0_settle 6 = .ok (.ifCond .ne 4, 3) := by decide +kernel
theorem dX0_settle_9 : decode cX0_settle 9 = .ok (.return_, 1) := by decide +kernel
theorem dX0_settle_10 : decode cX0_settle 10 = .ok (.aload_n 0, 1) := by decide +kernel
theorem dX0_settle_11 : decode cX0_settle 11 = .ok (.getfield 22, 3) := by decide +kernel
theorem dX0_settle_14 : decode cX0_settle 14 = .ok (.iload_n 1, 1) := by decide +kernel
theorem dX0_settle_15 : decode cX0_settle 15 = .ok (.iconst 0, 1) := by decide +kernel
theorem dX0_settle_16 : decode cX0_settle 16 = .ok (.bastore, 1) := by decide +kernel
theorem dX0_settle_17 : decode cX0_settle 17 = .ok (.aload_n 0, 1) := by decide +kernel
theorem dX0_settle_18 : decode cX0_settle 18 = .ok (.getfield 13, 3) := by decide +kernel
theorem dX0_settle_21 : decode cX0_settle 21 = .ok (.iload_n 1, 1) := by decide +kernel
theorem dX0_settle_22 : decode cX0_settle 22 = .ok (.baload, 1) := by decide +kernel
theorem dX0_settle_23 : decode cX0_settle 23 = .ok (.ifCond .lt 13, 3) := by decide +kernel
theorem dX0_settle_26 : decode cX0_settle 26 = .ok (.aload_n 0, 1) := by decide +kernel
theorem dX0_settle_27 : decode cX0_settle 27 = .ok (.aload_n 0, 1) := by decide +kernel
theorem dX0_settle_28 : decode cX0_settle 28 = .ok (.getfield 13, 3) := by decide +kernel
theorem dX0_settle_31 : decode cX0_settle 31 = .ok (.iload_n 1, 1) := by decide +kernel
theorem dX0_settle_32 : decode cX0_settle 32 = .ok (.baload, 1) := by decide +kernel
theorem dX0_settle_33 : decode cX0_settle 33 = .ok (.invokevirtual 94, 3) := by decide +kernel
theorem dX0_settle_36 : decode cX0_settle 36 = .ok (.aload_n 0, 1) := by decide +kernel
theorem dX0_settle_37 : decode cX0_settle 37 = .ok (.getfield 16, 3) := by decide +kernel
theorem dX0_settle_40 : decode cX0_settle 40 = .ok (.iload_n 1, 1) := by decide +kernel
theorem dX0_settle_41 : decode cX0_settle 41 = .ok (.baload, 1) := by decide +kernel
end
section
set_option maxRecDepth 100000
theorem dX0_settle_42 : decode cX0_settle 42 = .ok (.ifCond .lt 13, 3) := by decide +kernel
theorem dX0_settle_45 : decode cX0_settle 45 = .ok (.aload_n 0, 1) := by decide +kernel
theorem dX0_settle_46 : decode cX0_settle 46 = .ok (.aload_n 0, 1) := by decide +kernel
theorem dX0_settle_47 : decode cX0_settle 47 = .ok (.getfield 16, 3) := by decide +kernel
theorem dX0_settle_50 : decode cX0_settle 50 = .ok (.iload_n 1, 1) := by decide +kernel
theorem dX0_settle_51 : decode cX0_settle 51 = .ok (.baload, 1) := by decide +kernel
theorem dX0_settle_52 : decode cX0_settle 52 = .ok (.invokevirtual 94, 3) := by decide +kernel
theorem dX0_settle_55 : decode cX0_settle 55 = .ok (.return_, 1) := by decide +kernel
theorem dX0_turn_0 : decode cX0_turn 0 = .ok (.aload_n 0, 1) := by decide +kernel
theorem dX0_turn_1 : decode cX0_turn 1 = .ok (.getfield 13, 3) := by decide +kernel
theorem dX0_turn_4 : decode cX0_turn 4 = .ok (.iload_n 1, 1) := by decide +kernel
theorem dX0_turn_5 : decode cX0_turn 5 = .ok (.baload, 1) := by decide +kernel
theorem dX0_turn_6 : decode cX0_turn 6 = .ok (.istore_n 2, 1) := by decide +kernel
theorem dX0_turn_7 : decode cX0_turn 7 = .ok (.aload_n 0, 1) := by decide +kernel
theorem dX0_turn_8 : decode cX0_turn 8 = .ok (.getfield 13, 3) := by decide +kernel
theorem dX0_turn_11 : decode cX0_turn 11 = .ok (.iload_n 1, 1) := by decide +kernel
theorem dX0_turn_12 : decode cX0_turn 12 = .ok (.aload_n 0, 1) := by decide +kernel
theorem dX0_turn_13 : decode cX0_turn 13 = .ok (.getfield 16, 3) := by decide +kernel
theorem dX0_turn_16 : decode cX0_turn 16 = .ok (.iload_n 1, 1) := by decide +kernel
theorem dX0_turn_17 : decode cX0_turn 17 = .ok (.baload, 1) := by decide +kernel
theorem dX0_turn_18 : decode cX0_turn 18 = .ok (.bastore, 1) := by decide +kernel
theorem dX0_turn_19 : decode cX0_turn 19 = .ok (.aload_n 0, 1) := by decide +kernel
theorem dX0_turn_20 : decode cX0_turn 20 = .ok (.getfield 16, 3) := by decide +kernel
theorem dX0_turn_23 : decode cX0_turn 23 = .ok (.iload_n 1, 1) := by decide +kernel
theorem dX0_turn_24 : decode cX0_turn 24 = .ok (.iload_n 2, 1) := by decide +kernel
theorem dX0_turn_25 : decode cX0_turn 25 = .ok (.bastore, 1) := by decide +kernel
theorem dX0_turn_26 : decode cX0_turn 26 = .ok (.aload_n 0, 1) := by decide +kernel
theorem dX0_turn_27 : decode cX0_turn 27 = .ok (.getfield 22, 3) := by decide +kernel
theorem dX0_turn_30 : decode cX0_turn 30 = .ok (.iload_n 1, 1) := by decide +kernel
theorem dX0_turn_31 : decode cX0_turn 31 = .ok (.aload_n 0, 1) := by decide +kernel
theorem dX0_turn_32 : decode cX0_turn 32 = .ok (.getfield 22, 3) := by decide +kernel
theorem dX0_turn_35 : decode cX0_turn 35 = .ok (.iload_n 1, 1) := by decide +kernel
theorem dX0_turn_36 : decode cX0_turn 36 = .ok (.baload, 1) := by decide +kernel
theorem dX0_turn_37 : decode cX0_turn 37 = .ok (.ifCond .ne 7, 3) := by decide +kernel
theorem dX0_turn_40 : decode cX0_turn 40 = .ok (.iconst 1, 1) := by decide +kernel
theorem dX0_turn_41 : decode cX0_turn 41 = .ok (.goto 4, 3) := by decide +kernel
theorem dX0_turn_44 : decode cX0_turn 44 = .ok (.iconst 0, 1) := by decide +kernel
theorem dX0_turn_45 : decode cX0_turn 45 = .ok (.bastore, 1) := by decide +kernel
theorem dX0_turn_46 : decode cX0_turn 46 = .ok (.aload_n 0, 1) := by decide +kernel
theorem dX0_turn_47 : decode cX0_turn 47 = .ok (.getfield 7, 3) := by decide +kernel
theorem dX0_turn_50 : decode cX0_turn 50 = .ok (.iload_n 1, 1) := by decide +kernel
theorem dX0_turn_51 : decode cX0_turn 51 = .ok (.baload, 1) := by decide +kernel
theorem dX0_turn_52 : decode cX0_turn 52 = .ok (.iconst 3, 1) := by decide +kernel
theorem dX0_turn_53 : decode cX0_turn 53 = .ok (.if_icmp .le 17, 3) := by decide +kernel
theorem dX0_turn_56 : decode cX0_turn 56 = .ok (.aload_n 0, 1) := by decide +kernel
theorem dX0_turn_57 : decode cX0_turn 57 = .ok (.getfield 7, 3) := by decide +kernel
theorem dX0_turn_60 : decode cX0_turn 60 = .ok (.iload_n 1, 1) := by decide +kernel
theorem dX0_turn_61 : decode cX0_turn 61 = .ok (.dup2, 1) := by decide +kernel
theorem dX0_turn_62 : decode cX0_turn 62 = .ok (.baload, 1) := by decide +kernel
theorem dX0_turn_63 : decode cX0_turn 63 = .ok (.iconst 3, 1) := by decide +kernel
theorem dX0_turn_64 : decode cX0_turn 64 = .ok (.isub, 1) := by decide +kernel
theorem dX0_turn_65 : decode cX0_turn 65 = .ok (.i2b, 1) := by decide +kernel
theorem dX0_turn_66 : decode cX0_turn 66 = .ok (.bastore, 1) := by decide +kernel
theorem dX0_turn_67 : decode cX0_turn 67 = .ok (.goto 23, 3) := by decide +kernel
theorem dX0_turn_70 : decode cX0_turn 70 = .ok (.aload_n 0, 1) := by decide +kernel
theorem dX0_turn_71 : decode cX0_turn 71 = .ok (.getfield 7, 3) := by decide +kernel
theorem dX0_turn_74 : decode cX0_turn 74 = .ok (.iload_n 1, 1) := by decide +kernel
theorem dX0_turn_75 : decode cX0_turn 75 = .ok (.baload, 1) := by decide +kernel
theorem dX0_turn_76 : decode cX0_turn 76 = .ok (.ifCond .le 14, 3) := by decide +kernel
theorem dX0_turn_79 : decode cX0_turn 79 = .ok (.aload_n 0, 1) := by decide +kernel
theorem dX0_turn_80 : decode cX0_turn 80 = .ok (.getfield 7, 3) := by decide +kernel
theorem dX0_turn_83 : decode cX0_turn 83 = .ok (.iload_n 1, 1) := by decide +kernel
theorem dX0_turn_84 : decode cX0_turn 84 = .ok (.dup2, 1) := by decide +kernel
theorem dX0_turn_85 : decode cX0_turn 85 = .ok (.baload, 1) := by decide +kernel
theorem dX0_turn_86 : decode cX0_turn 86 = .ok (.iconst 3, 1) := by decide +kernel
theorem dX0_turn_87 : decode cX0_turn 87 = .ok (.iadd, 1) := by decide +kernel
theorem dX0_turn_88 : decode cX0_turn 88 = .ok (.i2b, 1) := by decide +kernel
theorem dX0_turn_89 : decode cX0_turn 89 = .ok (.bastore, 1) := by decide +kernel
theorem dX0_turn_90 : decode cX0_turn 90 = .ok (.iconst 0, 1) := by decide +kernel
theorem dX0_turn_91 : decode cX0_turn 91 = .ok (.istore_n 3, 1) := by decide +kernel
theorem dX0_turn_92 : decode cX0_turn 92 = .ok (.iload_n 3, 1) := by decide +kernel
theorem dX0_turn_93 : decode cX0_turn 93 = .ok (.iconst 3, 1) := by decide +kernel
theorem dX0_turn_94 : decode cX0_turn 94 = .ok (.if_icmp .ge 53, 3) := by decide +kernel
theorem dX0_turn_97 : decode cX0_turn 97 = .ok (.aload_n 0, 1) := by decide +kernel
theorem dX0_turn_98 : decode cX0_turn 98 = .ok (.getfield 30, 3) := by decide +kernel
theorem dX0_turn_101 : decode cX0_turn 101 = .ok (.iconst 3, 1) := by decide +kernel
theorem dX0_turn_102 : decode cX0_turn 102 = .ok (.iload_n 1, 1) := by decide +kernel
theorem dX0_turn_103 : decode cX0_turn 103 = .ok (.imul, 1) := by decide +kernel
theorem dX0_turn_104 : decode cX0_turn 104 = .ok (.iload_n 3, 1) := by decide +kernel
theorem dX0_turn_105 : decode cX0_turn 105 = .ok (.iadd, 1) := by decide +kernel
theorem dX0_turn_106 : decode cX0_turn 106 = .ok (.baload, 1) := by decide +kernel
theorem dX0_turn_107 : decode cX0_turn 107 = .ok (.istore 4, 2) := by decide +kernel
theorem dX0_turn_109 : decode cX0_turn 109 = .ok (.aload_n 0, 1) := by decide +kernel
theorem dX0_turn_110 : decode cX0_turn 110 = .ok (.getfield 30, 3) := by decide +kernel
theorem dX0_turn_113 : decode cX0_turn 113 = .ok (.iconst 3, 1) := by decide +kernel
theorem dX0_turn_114 : decode cX0_turn 114 = .ok (.iload_n 1, 1) := by decide +kernel
theorem dX0_turn_115 : decode cX0_turn 115 = .ok (.imul, 1) := by decide +kernel
theorem dX0_turn_116 : decode cX0_turn 116 = .ok (.iload_n 3, 1) := by decide +kernel
theorem dX0_turn_117 : decode cX0_turn 117 = .ok (.iadd, 1) := by decide +kernel
theorem dX0_turn_118 : decode cX0_turn 118 = .ok (.aload_n 0, 1) := by decide +kernel
theorem dX0_turn_119 : decode cX0_turn 119 = .ok (.getfield 33, 3) := by decide +kernel
theorem dX0_turn_122 : decode cX0_turn 122 = .ok (.iconst 3, 1) := by decide +kernel
theorem dX0_turn_123 : decode cX0_turn 123 = .ok (.iload_n 1, 1) := by decide +kernel
theorem dX0_turn_124 : decode cX0_turn 124 = .ok (.imul, 1) := by decide +kernel
theorem dX0_turn_125 : decode cX0_turn 125 = .ok (.iload_n 3, 1) := by decide +kernel
theorem dX0_turn_126 : decode cX0_turn 126 = .ok (.iadd, 1) := by decide +kernel
theorem dX0_turn_127 : decode cX0_turn 127 = .ok (.baload, 1) := by decide +kernel
theorem dX0_turn_128 : decode cX0_turn 128 = .ok (.bastore, 1) := by decide +kernel
theorem dX0_turn_129 : decode cX0_turn 129 = .ok (.aload_n 0, 1) := by decide +kernel
theorem dX0_turn_130 : decode cX0_turn 130 = .ok (.getfield 33, 3) := by decide +kernel
theorem dX0_turn_133 : decode cX0_turn 133 = .ok (.iconst 3, 1) := by decide +kernel
theorem dX0_turn_134 : decode cX0_turn 134 = .ok (.iload_n 1, 1) := by decide +kernel
theorem dX0_turn_135 : decode cX0_turn 135 = .ok (.imul, 1) := by decide +kernel
theorem dX0_turn_136 : decode cX0_turn 136 = .ok (.iload_n 3, 1) := by decide +kernel
theorem dX0_turn_137 : decode cX0_turn 137 = .ok (.iadd, 1) := by decide +kernel
theorem dX0_turn_138 : decode cX0_turn 138 = .ok (.iload 4, 2) := by decide +kernel
theorem dX0_turn_140 : decode cX0_turn 140 = .ok (.bastore, 1) := by decide +kernel
theorem dX0_turn_141 : decode cX0_turn 141 = .ok (.iinc 3 1, 3) := by decide +kernel
theorem dX0_turn_144 : decode cX0_turn 144 = .ok (.goto (-52), 3) := by decide +kernel
theorem dX0_turn_147 : decode cX0_turn 147 = .ok (.return_, 1) := by decide +kernel
theorem dX0_pushPath_0 : decode cX0_pushPath 0 = .ok (.aload_n 0, 1) := by decide +kernel
theorem dX0_pushPath_1 : decode cX0_pushPath 1 = .ok (.getfield 39, 3) := by decide +kernel
theorem dX0_pushPath_4 : decode cX0_pushPath 4 = .ok (.aload_n 0, 1) := by decide +kernel
theorem dX0_pushPath_5 : decode cX0_pushPath 5 = .ok (.getfield 129, 3) := by decide +kernel
theorem dX0_pushPath_8 : decode cX0_pushPath 8 = .ok (.iload_n 1, 1) := by decide +kernel
theorem dX0_pushPath_9 : decode cX0_pushPath 9 = .ok (.i2b, 1) := by decide +kernel
theorem dX0_pushPath_10 : decode cX0_pushPath 10 = .ok (.bastore, 1) := by decide +kernel
theorem dX0_pushPath_11 : decode cX0_pushPath 11 = .ok (.aload_n 0, 1) := by decide +kernel
theorem dX0_pushPath_12 : decode cX0_pushPath 12 = .ok (.dup, 1) := by decide +kernel
theorem dX0_pushPath_13 : decode cX0_pushPath 13 = .ok (.getfield 129, 3) := by decide +kernel
theorem dX0_pushPath_16 : decode cX0_pushPath 16 = .ok (.iconst 1, 1) := by decide +kernel
theorem dX0_pushPath_17 : decode cX0_pushPath 17 = .ok (.iadd, 1) := by decide +kernel
theorem dX0_pushPath_18 : decode cX0_pushPath 18 = .ok (.putfield 129, 3) := by decide +kernel
theorem dX0_pushPath_21 : decode cX0_pushPath 21 = .ok (.return_, 1) := by decide +kernel
theorem dX0_refreshPath_0 : decode cX0_refreshPath 0 = .ok (.aload_n 0, 1) := by decide +kernel
theorem dX0_refreshPath_1 : decode cX0_refreshPath 1 = .ok (.getfield 129, 3) := by decide +kernel
theorem dX0_refreshPath_4 : decode cX0_refreshPath 4 = .ok (.iconst 1, 1) := by decide +kernel
theorem dX0_refreshPath_5 : decode cX0_refreshPath 5 = .ok (.isub, 1) := by decide +kernel
theorem dX0_refreshPath_6 : decode cX0_refreshPath 6 = .ok (.istore_n 1, 1) := by decide +kernel
theorem dX0_refreshPath_7 : decode cX0_refreshPath 7 = .ok (.iload_n 1, 1) := by decide +kernel
theorem dX0_refreshPath_8 : decode cX0_refreshPath 8 = .ok (.ifCond .lt 19, 3) := by decide +kernel
theorem dX0_refreshPath_11 : decode cX0_refreshPath 11 = .ok (.aload_n 0, 1) := by decide +kernel
theorem dX0_refreshPath_12 : decode cX0_refreshPath 12 = .ok (.aload_n 0, 1) := by decide +kernel
theorem dX0_refreshPath_13 : decode cX0_refreshPath 13 = .ok (.getfield 39, 3) := by decide +kernel
theorem dX0_refreshPath_16 : decode cX0_refreshPath 16 = .ok (.iload_n 1, 1) := by decide +kernel
theorem dX0_refreshPath_17 : decode cX0_refreshPath 17 = .ok (.baload, 1) := by decide +kernel
theorem dX0_refreshPath_18 : decode cX0_refreshPath 18 = .ok (.invokevirtual 126, 3) := by decide +kernel
theorem dX0_refreshPath_21 : decode cX0_refreshPath 21 = .ok (.iinc 1 (-1), 3) := by decide +kernel
theorem dX0_refreshPath_24 : decode cX0_refreshPath 24 = .ok (.goto (-17), 3) := by decide +kernel
theorem dX0_refreshPath_27 : decode cX0_refreshPath 27 = .ok (.aload_n 0, 1) := by decide +kernel
theorem dX0_refreshPath_28 : decode cX0_refreshPath 28 = .ok (.iconst 0, 1) := by decide +kernel
theorem dX0_refreshPath_29 : decode cX0_refreshPath 29 = .ok (.putfield 129, 3) := by decide +kernel
theorem dX0_refreshPath_32 : decode cX0_refreshPath 32 = .ok (.return_, 1) := by decide +kernel
theorem dX0_join_0 : decode cX0_join 0 = .ok (.iload_n 1, 1) := by decide +kernel
theorem dX0_join_1 : decode cX0_join 1 = .ok (.istore_n 3, 1) := by decide +kernel
theorem dX0_join_2 : decode cX0_join 2 = .ok (.iload_n 2, 1) := by decide +kernel
theorem dX0_join_3 : decode cX0_join 3 = .ok (.istore 4, 2) := by decide +kernel
theorem dX0_join_5 : decode cX0_join 5 = .ok (.iconst (-1), 1) := by decide +kernel
theorem dX0_join_6 : decode cX0_join 6 = .ok (.istore 5, 2) := by decide +kernel
theorem dX0_join_8 : decode cX0_join 8 = .ok (.iconst (-1), 1) := by decide +kernel
theorem dX0_join_9 : decode cX0_join 9 = .ok (.istore 6, 2) := by decide +kernel
theorem dX0_join_11 : decode cX0_join 11 = .ok (.iconst 0, 1) := by decide +kernel
theorem dX0_join_12 : decode cX0_join 12 = .ok (.istore 7, 2) := by decide +kernel
theorem dX0_join_14 : decode cX0_join 14 = .ok (.aload_n 0, 1) := by decide +kernel
theorem dX0_join_15 : decode cX0_join 15 = .ok (.iconst 0, 1) := by decide +kernel
theorem dX0_join_16 : decode cX0_join 16 = .ok (.putfield 129, 3) := by decide +kernel
theorem dX0_join_19 : decode cX0_join 19 = .ok (.iconst 0, 1) := by decide +kernel
theorem dX0_join_20 : decode cX0_join 20 = .ok (.istore 8, 2) := by decide +kernel
theorem dX0_join_22 : decode cX0_join 22 = .ok (.iload 8, 2) := by decide +kernel
theorem dX0_join_24 : decode cX0_join 24 = .ok (.bipush 120, 2) := by decide +kernel
theorem dX0_join_26 : decode cX0_join 26 = .ok (.if_icmp .ge 120, 3) := by decide +kernel
theorem dX0_join_29 : decode cX0_join 29 = .ok (.iload_n 3, 1) := by decide +kernel
theorem dX0_join_30 : decode cX0_join 30 = .ok (.ifCond .lt 116, 3) := by decide +kernel
theorem dX0_join_33 : decode cX0_join 33 = .ok (.iload 4, 2) := by decide +kernel
theorem dX0_join_35 : decode cX0_join 35 = .ok (.ifCond .lt 111, 3) := by decide +kernel
theorem dX0_join_38 : decode cX0_join 38 = .ok (.aload_n 0, 1) := by decide +kernel
theorem dX0_join_39 : decode cX0_join 39 = .ok (.getfield 26, 3) := by decide +kernel
theorem dX0_join_42 : decode cX0_join 42 = .ok (.iload_n 3, 1) := by decide +kernel
theorem dX0_join_43 : decode cX0_join 43 = .ok (.iaload, 1) := by decide +kernel
theorem dX0_join_44 : decode cX0_join 44 = .ok (.aload_n 0, 1) := by decide +kernel
theorem dX0_join_45 : decode cX0_join 45 = .ok (.getfield 26, 3) := by decide +kernel
theorem dX0_join_48 : decode cX0_join 48 = .ok (.iload 4, 2) := by decide +kernel
theorem dX0_join_50 : decode cX0_join 50 = .ok (.iaload, 1) := by decide +kernel
theorem dX0_join_51 : decode cX0_join 51 = .ok (.if_icmp .lt 7, 3) := by decide +kernel
theorem dX0_join_54 : decode cX0_join 54 = .ok (.iconst 1, 1) := by decide +kernel
theorem dX0_join_55 : decode cX0_join 55 = .ok (.goto 4, 3) := by decide +kernel
theorem dX0_join_58 : decode cX0_join 58 = .ok (.iconst 0, 1) := by decide +kernel
theorem dX0_join_59 : decode cX0_join 59 = .ok (.istore 9, 2) := by decide +kernel
theorem dX0_join_61 : decode cX0_join 61 = .ok (.iload 9, 2) := by decide +kernel
theorem dX0_join_63 : decode cX0_join 63 = .ok (.ifCond .eq 7, 3) := by decide +kernel
theorem dX0_join_66 : decode cX0_join 66 = .ok (.iload_n 3, 1) := by decide +kernel
theorem dX0_join_67 : decode cX0_join 67 = .ok (.goto 5, 3) := by decide +kernel
theorem dX0_join_70 : decode cX0_join 70 = .ok (.iload 4, 2) := by decide +kernel
theorem dX0_join_72 : decode cX0_join 72 = .ok (.istore 10, 2) := by decide +kernel
theorem dX0_join_74 : decode cX0_join 74 = .ok (.aload_n 0, 1) := by decide +kernel
theorem dX0_join_75 : decode cX0_join 75 = .ok (.iload 10, 2) := by decide +kernel
theorem dX0_join_77 : decode cX0_join 77 = .ok (.invokevirtual 122, 3) := by decide +kernel
theorem dX0_join_80 : decode cX0_join 80 = .ok (.iload 6, 2) := by decide +kernel
theorem dX0_join_82 : decode cX0_join 82 = .ok (.ifCond .ge 10, 3) := by decide +kernel
theorem dX0_join_85 : decode cX0_join 85 = .ok (.iload 10, 2) := by decide +kernel
theorem dX0_join_87 : decode cX0_join 87 = .ok (.istore 5, 2) := by decide +kernel
theorem dX0_join_89 : decode cX0_join 89 = .ok (.goto 13, 3) := by decide +kernel
theorem dX0_join_92 : decode cX0_join 92 = .ok (.aload_n 0, 1) := by decide +kernel
theorem dX0_join_93 : decode cX0_join 93 = .ok (.iload 6, 2) := by decide +kernel
theorem dX0_join_95 : decode cX0_join 95 = .ok (.iload 7, 2) := by decide +kernel
theorem dX0_join_97 : decode cX0_join 97 = .ok (.iload 10, 2) := by decide +kernel
theorem dX0_join_99 : decode cX0_join 99 = .ok (.invokevirtual 138, 3) := by decide +kernel
theorem dX0_join_102 : decode cX0_join 102 = .ok (.aload_n 0, 1) := by decide +kernel
theorem dX0_join_103 : decode cX0_join 103 = .ok (.iload 10, 2) := by decide +kernel
theorem dX0_join_105 : decode cX0_join 105 = .ok (.invokevirtual 132, 3) := by decide +kernel
theorem dX0_join_108 : decode cX0_join 108 = .ok (.iload 10, 2) := by decide +kernel
theorem dX0_join_110 : decode cX0_join 110 = .ok (.istore 6, 2) := by decide +kernel
theorem dX0_join_112 : decode cX0_join 112 = .ok (.iload 9, 2) := by decide +kernel
theorem dX0_join_114 : decode cX0_join 114 = .ok (.istore 7, 2) := by decide +kernel
theorem dX0_join_116 : decode cX0_join 116 = .ok (.iload 9, 2) := by decide +kernel
theorem dX0_join_118 : decode cX0_join 118 = .ok (.ifCond .eq 13, 3) := by decide +kernel
theorem dX0_join_121 : decode cX0_join 121 = .ok (.aload_n 0, 1) := by decide +kernel
theorem dX0_join_122 : decode cX0_join 122 = .ok (.getfield 16, 3) := by decide +kernel
theorem dX0_join_125 : decode cX0_join 125 = .ok (.iload_n 3, 1) := by decide +kernel
theorem dX0_join_126 : decode cX0_join 126 = .ok (.baload, 1) := by decide +kernel
theorem dX0_join_127 : decode cX0_join 127 = .ok (.istore_n 3, 1) := by decide +kernel
theorem dX0_join_128 : decode cX0_join 128 = .ok (.goto 12, 3) := by decide +kernel
theorem dX0_join_131 : decode cX0_join 131 = .ok (.aload_n 0, 1) := by decide +kernel
theorem dX0_join_132 : decode cX0_join 132 = .ok (.getfield 13, 3) := by decide +kernel
theorem dX0_join_135 : decode cX0_join 135 = .ok (.iload 4, 2) := by decide +kernel
theorem dX0_join_137 : decode cX0_join 137 = .ok (.baload, 1) := by decide +kernel
theorem dX0_join_138 : decode cX0_join 138 = .ok (.istore 4, 2) := by decide +kernel
theorem dX0_join_140 : decode cX0_join 140 = .ok (.iinc 8 1, 3) := by decide +kernel
theorem dX0_join_143 : decode cX0_join 143 = .ok (.goto (-121), 3) := by decide +kernel
theorem dX0_join_146 : decode cX0_join 146 = .ok (.iload_n 3, 1) := by decide +kernel
theorem dX0_join_147 : decode cX0_join 147 = .ok (.ifCond .lt 7, 3) := by decide +kernel
theorem dX0_join_150 : decode cX0_join 150 = .ok (.iload_n 3, 1) := by decide +kernel
theorem dX0_join_151 : decode cX0_join 151 = .ok (.goto 5, 3) := by decide +kernel
theorem dX0_join_154 : decode cX0_join 154 = .ok (.iload 4, 2) := by decide +kernel
theorem dX0_join_156 : decode cX0_join 156 = .ok (.istore 8, 2) := by decide +kernel
theorem dX0_join_158 : decode cX0_join 158 = .ok (.iload 6, 2) := by decide +kernel
theorem dX0_join_160 : decode cX0_join 160 = .ok (.ifCond .ge 10, 3) := by decide +kernel
theorem dX0_join_163 : decode cX0_join 163 = .ok (.iload 8, 2) := by decide +kernel
theorem dX0_join_165 : decode cX0_join 165 = .ok (.istore 5, 2) := by decide +kernel
theorem dX0_join_167 : decode cX0_join 167 = .ok (.goto 13, 3) := by decide +kernel
theorem dX0_join_170 : decode cX0_join 170 = .ok (.aload_n 0, 1) := by decide +kernel
theorem dX0_join_171 : decode cX0_join 171 = .ok (.iload 6, 2) := by decide +kernel
theorem dX0_join_173 : decode cX0_join 173 = .ok (.iload 7, 2) := by decide +kernel
theorem dX0_join_175 : decode cX0_join 175 = .ok (.iload 8, 2) := by decide +kernel
theorem dX0_join_177 : decode cX0_join 177 = .ok (.invokevirtual 138, 3) := by decide +kernel
theorem dX0_join_180 : decode cX0_join 180 = .ok (.aload_n 0, 1) := by decide +kernel
theorem dX0_join_181 : decode cX0_join 181 = .ok (.invokevirtual 135, 3) := by decide +kernel
theorem dX0_join_184 : decode cX0_join 184 = .ok (.iload 5, 2) := by decide +kernel
theorem dX0_join_186 : decode cX0_join 186 = .ok (.ireturn, 1) := by decide +kernel
theorem dX0_hang_0 : decode cX0_hang 0 = .ok (.iload_n 2, 1) := by decide +kernel
theorem dX0_hang_1 : decode cX0_hang 1 = .ok (.ifCond .eq 14, 3) := by decide +kernel
theorem dX0_hang_4 : decode cX0_hang 4 = .ok (.aload_n 0, 1) := by decide +kernel
theorem dX0_hang_5 : decode cX0_hang 5 = .ok (.getfield 16, 3) := by decide +kernel
theorem dX0_hang_8 : decode cX0_hang 8 = .ok (.iload_n 1, 1) := by decide +kernel
theorem dX0_hang_9 : decode cX0_hang 9 = .ok (.iload_n 3, 1) := by decide +kernel
theorem dX0_hang_10 : decode cX0_hang 10 = .ok (.i2b, 1) := by decide +kernel
theorem dX0_hang_11 : decode cX0_hang 11 = .ok (.bastore, 1) := by decide +kernel
theorem dX0_hang_12 : decode cX0_hang 12 = .ok (.goto 11, 3) := by decide +kernel
theorem dX0_hang_15 : decode cX0_hang 15 = .ok (.aload_n 0, 1) := by decide +kernel
theorem dX0_hang_16 : decode cX0_hang 16 = .ok (.getfield 13, 3) := by decide +kernel
theorem dX0_hang_19 : decode cX0_hang 19 = .ok (.iload_n 1, 1) := by decide +kernel
theorem dX0_hang_20 : decode cX0_hang 20 = .ok (.iload_n 3, 1) := by decide +kernel
theorem dX0_hang_21 : decode cX0_hang 21 = .ok (.i2b, 1) := by decide +kernel
theorem dX0_hang_22 : decode cX0_hang 22 = .ok (.bastore, 1) := by decide +kernel
theorem dX0_hang_23 : decode cX0_hang 23 = .ok (.return_, 1) := by decide +kernel
theorem dX0_erase_0 : decode cX0_erase 0 = .ok (.aload_n 0, 1) := by decide +kernel
theorem dX0_erase_1 : decode cX0_erase 1 = .ok (.iload_n 1, 1) := by decide +kernel
theorem dX0_erase_2 : decode cX0_erase 2 = .ok (.iload_n 2, 1) := by decide +kernel
theorem dX0_erase_3 : decode cX0_erase 3 = .ok (.invokevirtual 74, 3) := by decide +kernel
theorem dX0_erase_6 : decode cX0_erase 6 = .ok (.ifCond .ne 5, 3) := by decide +kernel
theorem dX0_erase_9 : decode cX0_erase 9 = .ok (.iconst (-1), 1) := by decide +kernel
theorem dX0_erase_10 : decode cX0_erase 10 = .ok (.ireturn, 1) := by decide +kernel
theorem dX0_erase_11 : decode cX0_erase 11 = .ok (.aload_n 0, 1) := by decide +kernel
theorem dX0_erase_12 : decode cX0_erase 12 = .ok (.iload_n 1, 1) := by decide +kernel
theorem dX0_erase_13 : decode cX0_erase 13 = .ok (.iload_n 2, 1) := by decide +kernel
theorem dX0_erase_14 : decode cX0_erase 14 = .ok (.invokevirtual 78, 3) := by decide +kernel
theorem dX0_erase_17 : decode cX0_erase 17 = .ok (.aload_n 0, 1) := by decide +kernel
theorem dX0_erase_18 : decode cX0_erase 18 = .ok (.aload_n 0, 1) := by decide +kernel
theorem dX0_erase_19 : decode cX0_erase 19 = .ok (.getfield 81, 3) := by decide +kernel
theorem dX0_erase_22 : decode cX0_erase 22 = .ok (.invokevirtual 84, 3) := by decide +kernel
theorem dX0_erase_25 : decode cX0_erase 25 = .ok (.aload_n 0, 1) := by decide +kernel
theorem dX0_erase_26 : decode cX0_erase 26 = .ok (.aload_n 0, 1) := by decide +kernel
theorem dX0_erase_27 : decode cX0_erase 27 = .ok (.aload_n 0, 1) := by decide +kernel
theorem dX0_erase_28 : decode cX0_erase 28 = .ok (.getfield 88, 3) := by decide +kernel
theorem dX0_erase_31 : decode cX0_erase 31 = .ok (.aload_n 0, 1) := by decide +kernel
theorem dX0_erase_32 : decode cX0_erase 32 = .ok (.getfield 91, 3) := by decide +kernel
theorem dX0_erase_35 : decode cX0_erase 35 = .ok (.invokevirtual 70, 3) := by decide +kernel
theorem dX0_erase_38 : decode cX0_erase 38 = .ok (.putfield 42, 3) := by decide +kernel
theorem dX0_erase_41 : decode cX0_erase 41 = .ok (.aload_n 0, 1) := by decide +kernel
theorem dX0_erase_42 : decode cX0_erase 42 = .ok (.invokevirtual 52, 3) := by decide +kernel
theorem dX0_erase_45 : decode cX0_erase 45 = .ok (.ireturn, 1) := by decide +kernel
theorem dX0_isStretch_0 : decode cX0_isStretch 0 = .ok (.aload_n 0, 1) := by decide +kernel
theorem dX0_isStretch_1 : decode cX0_isStretch 1 = .ok (.invokevirtual 52, 3) := by decide +kernel
theorem dX0_isStretch_4 : decode cX0_isStretch 4 = .ok (.istore_n 3, 1) := by decide +kernel
theorem dX0_isStretch_5 : decode cX0_isStretch 5 = .ok (.iload_n 1, 1) := by decide +kernel
theorem dX0_isStretch_6 : decode cX0_isStretch 6 = .ok (.ifCond .lt 12, 3) := by decide +kernel
theorem dX0_isStretch_9 : decode cX0_isStretch 9 = .ok (.iload_n 1, 1) := by decide +kernel
theorem dX0_isStretch_10 : decode cX0_isStretch 10 = .ok (.iload_n 3, 1) := by decide +kernel
theorem dX0_isStretch_11 : decode cX0_isStretch 11 = .ok (.if_icmp .gt 7, 3) := by decide +kernel
theorem dX0_isStretch_14 : decode cX0_isStretch 14 = .ok (.iload_n 2, 1) := by decide +kernel
theorem dX0_isStretch_15 : decode cX0_isStretch 15 = .ok (.ifCond .ge 5, 3) := by decide +kernel
theorem dX0_isStretch_18 : decode cX0_isStretch 18 = .ok (.iconst 0, 1) := by decide +kernel
theorem dX0_isStretch_19 : decode cX0_isStretch 19 = .ok (.ireturn, 1) := by decide +kernel
theorem dX0_isStretch_20 : decode cX0_isStretch 20 = .ok (.iload_n 2, 1) := by decide +kernel
theorem dX0_isStretch_21 : decode cX0_isStretch 21 = .ok (.iload_n 3, 1) := by decide +kernel
theorem dX0_isStretch_22 : decode cX0_isStretch 22 = .ok (.iload_n 1, 1) := by decide +kernel
theorem dX0_isStretch_23 : decode cX0_isStretch 23 = .ok (.isub, 1) := by decide +kernel
theorem dX0_isStretch_24 : decode cX0_isStretch 24 = .ok (.if_icmp .gt 7, 3) := by decide +kernel
theorem dX0_isStretch_27 : decode cX0_isStretch 27 = .ok (.iconst 1, 1) := by decide +kernel
theorem dX0_isStretch_28 : decode cX0_isStretch 28 = .ok (.goto 4, 3) := by decide +kernel
theorem dX0_isStretch_31 : decode cX0_isStretch 31 = .ok (.iconst 0, 1) := by decide +kernel
theorem dX0_isStretch_32 : decode cX0_isStretch 32 = .ok (.ireturn, 1) := by decide +kernel
theorem dX0_takeApart_0 : decode cX0_takeApart 0 = .ok (.aload_n 0, 1) := by decide +kernel
theorem dX0_takeApart_1 : decode cX0_takeApart 1 = .ok (.aload_n 0, 1) := by decide +kernel
theorem dX0_takeApart_2 : decode cX0_takeApart 2 = .ok (.getfield 42, 3) := by decide +kernel
theorem dX0_takeApart_5 : decode cX0_takeApart 5 = .ok (.iload_n 1, 1) := by decide +kernel
theorem dX0_takeApart_6 : decode cX0_takeApart 6 = .ok (.invokevirtual 60, 3) := by decide +kernel
theorem dX0_takeApart_9 : decode cX0_takeApart 9 = .ok (.aload_n 0, 1) := by decide +kernel
theorem dX0_takeApart_10 : decode cX0_takeApart 10 = .ok (.aload_n 0, 1) := by decide +kernel
theorem dX0_takeApart_11 : decode cX0_takeApart 11 = .ok (.getfield 67, 3) := by decide +kernel
theorem dX0_takeApart_14 : decode cX0_takeApart 14 = .ok (.putfield 88, 3) := by decide +kernel
theorem dX0_takeApart_17 : decode cX0_takeApart 17 = .ok (.aload_n 0, 1) := by decide +kernel
theorem dX0_takeApart_18 : decode cX0_takeApart 18 = .ok (.aload_n 0, 1) := by decide +kernel
theorem dX0_takeApart_19 : decode cX0_takeApart 19 = .ok (.getfield 64, 3) := by decide +kernel
theorem dX0_takeApart_22 : decode cX0_takeApart 22 = .ok (.iload_n 2, 1) := by decide +kernel
theorem dX0_takeApart_23 : decode cX0_takeApart 23 = .ok (.invokevirtual 60, 3) := by decide +kernel
theorem dX0_takeApart_26 : decode cX0_takeApart 26 = .ok (.aload_n 0, 1) := by decide +kernel
theorem dX0_takeApart_27 : decode cX0_takeApart 27 = .ok (.aload_n 0, 1) := by decide +kernel
theorem dX0_takeApart_28 : decode cX0_takeApart 28 = .ok (.getfield 67, 3) := by decide +kernel
theorem dX0_takeApart_31 : decode cX0_takeApart 31 = .ok (.putfield 81, 3) := by decide +kernel
theorem dX0_takeApart_34 : decode cX0_takeApart 34 = .ok (.aload_n 0, 1) := by decide +kernel
theorem dX0_takeApart_35 : decode cX0_takeApart 35 = .ok (.aload_n 0, 1) := by decide +kernel
theorem dX0_takeApart_36 : decode cX0_takeApart 36 = .ok (.getfield 64, 3) := by decide +kernel
theorem dX0_takeApart_39 : decode cX0_takeApart 39 = .ok (.putfield 91, 3) := by decide +kernel
theorem dX0_takeApart_42 : decode cX0_takeApart 42 = .ok (.return_, 1) := by decide +kernel
theorem dX0_release_0 : decode cX0_release 0 = .ok (.aload_n 0, 1) := by decide +kernel
theorem dX0_release_1 : decode cX0_release 1 = .ok (.iconst 0, 1) := by decide +kernel
theorem dX0_release_2 : decode cX0_release 2 = .ok (.putfield 129, 3) := by decide +kernel
theorem dX0_release_5 : decode cX0_release 5 = .ok (.iload_n 1, 1) := by decide +kernel
theorem dX0_release_6 : decode cX0_release 6 = .ok (.ifCond .lt 8, 3) := by decide +kernel
theorem dX0_release_9 : decode cX0_release 9 = .ok (.aload_n 0, 1) := by decide +kernel
theorem dX0_release_10 : decode cX0_release 10 = .ok (.iload_n 1, 1) := by decide +kernel
theorem dX0_release_11 : decode cX0_release 11 = .ok (.invokevirtual 132, 3) := by decide +kernel
theorem dX0_release_14 : decode cX0_release 14 = .ok (.iconst 0, 1) := by decide +kernel
theorem dX0_release_15 : decode cX0_release 15 = .ok (.istore_n 2, 1) := by decide +kernel
theorem dX0_release_16 : decode cX0_release 16 = .ok (.iload_n 2, 1) := by decide +kernel
theorem dX0_release_17 : decode cX0_release 17 = .ok (.bipush 60, 2) := by decide +kernel
theorem dX0_release_19 : decode cX0_release 19 = .ok (.if_icmp .ge 95, 3) := by decide +kernel
theorem dX0_release_22 : decode cX0_release 22 = .ok (.aload_n 0, 1) := by decide +kernel
theorem dX0_release_23 : decode cX0_release 23 = .ok (.getfield 129, 3) := by decide +kernel
theorem dX0_release_26 : decode cX0_release 26 = .ok (.ifCond .le 88, 3) := by decide +kernel
theorem dX0_release_29 : decode cX0_release 29 = .ok (.aload_n 0, 1) := by decide +kernel
theorem dX0_release_30 : decode cX0_release 30 = .ok (.dup, 1) := by decide +kernel
theorem dX0_release_31 : decode cX0_release 31 = .ok (.getfield 129, 3) := by decide +kernel
theorem dX0_release_34 : decode cX0_release 34 = .ok (.iconst 1, 1) := by decide +kernel
theorem dX0_release_35 : decode cX0_release 35 = .ok (.isub, 1) := by decide +kernel
theorem dX0_release_36 : decode cX0_release 36 = .ok (.putfield 129, 3) := by decide +kernel
theorem dX0_release_39 : decode cX0_release 39 = .ok (.aload_n 0, 1) := by decide +kernel
theorem dX0_release_40 : decode cX0_release 40 = .ok (.getfield 39, 3) := by decide +kernel
theorem dX0_release_43 : decode cX0_release 43 = .ok (.aload_n 0, 1) := by decide +kernel
theorem dX0_release_44 : decode cX0_release 44 = .ok (.getfield 129, 3) := by decide +kernel
theorem dX0_release_47 : decode cX0_release 47 = .ok (.baload, 1) := by decide +kernel
theorem dX0_release_48 : decode cX0_release 48 = .ok (.istore_n 3, 1) := by decide +kernel
theorem dX0_release_49 : decode cX0_release 49 = .ok (.aload_n 0, 1) := by decide +kernel
theorem dX0_release_50 : decode cX0_release 50 = .ok (.getfield 13, 3) := by decide +kernel
theorem dX0_release_53 : decode cX0_release 53 = .ok (.iload_n 3, 1) := by decide +kernel
theorem dX0_release_54 : decode cX0_release 54 = .ok (.baload, 1) := by decide +kernel
theorem dX0_release_55 : decode cX0_release 55 = .ok (.ifCond .lt 13, 3) := by decide +kernel
theorem dX0_release_58 : decode cX0_release 58 = .ok (.aload_n 0, 1) := by decide +kernel
theorem dX0_release_59 : decode cX0_release 59 = .ok (.aload_n 0, 1) := by decide +kernel
theorem dX0_release_60 : decode cX0_release 60 = .ok (.getfield 13, 3) := by decide +kernel
theorem dX0_release_63 : decode cX0_release 63 = .ok (.iload_n 3, 1) := by decide +kernel
theorem dX0_release_64 : decode cX0_release 64 = .ok (.baload, 1) := by decide +kernel
theorem dX0_release_65 : decode cX0_release 65 = .ok (.invokevirtual 132, 3) := by decide +kernel
theorem dX0_release_68 : decode cX0_release 68 = .ok (.aload_n 0, 1) := by decide +kernel
theorem dX0_release_69 : decode cX0_release 69 = .ok (.getfield 16, 3) := by decide +kernel
theorem dX0_release_72 : decode cX0_release 72 = .ok (.iload_n 3, 1) := by decide +kernel
theorem dX0_release_73 : decode cX0_release 73 = .ok (.baload, 1) := by decide +kernel
theorem dX0_release_74 : decode cX0_release 74 = .ok (.ifCond .lt 13, 3) := by decide +kernel
theorem dX0_release_77 : decode cX0_release 77 = .ok (.aload_n 0, 1) := by decide +kernel
theorem dX0_release_78 : decode cX0_release 78 = .ok (.aload_n 0, 1) := by decide +kernel
theorem dX0_release_79 : decode cX0_release 79 = .ok (.getfield 16, 3) := by decide +kernel
theorem dX0_release_82 : decode cX0_release 82 = .ok (.iload_n 3, 1) := by decide +kernel
theorem dX0_release_83 : decode cX0_release 83 = .ok (.baload, 1) := by decide +kernel
theorem dX0_release_84 : decode cX0_release 84 = .ok (.invokevirtual 132, 3) := by decide +kernel
theorem dX0_release_87 : decode cX0_release 87 = .ok (.aload_n 0, 1) := by decide +kernel
theorem dX0_release_88 : decode cX0_release 88 = .ok (.getfield 36, 3) := by decide +kernel
theorem dX0_release_91 : decode cX0_release 91 = .ok (.aload_n 0, 1) := by decide +kernel
theorem dX0_release_92 : decode cX0_release 92 = .ok (.getfield 49, 3) := by decide +kernel
theorem dX0_release_95 : decode cX0_release 95 = .ok (.iload_n 3, 1) := by decide +kernel
theorem dX0_release_96 : decode cX0_release 96 = .ok (.i2b, 1) := by decide +kernel
theorem dX0_release_97 : decode cX0_release 97 = .ok (.bastore, 1) := by decide +kernel
theorem dX0_release_98 : decode cX0_release 98 = .ok (.aload_n 0, 1) := by decide +kernel
theorem dX0_release_99 : decode cX0_release 99 = .ok (.dup, 1) := by decide +kernel
theorem dX0_release_100 : decode cX0_release 100 = .ok (.getfield 49, 3) := by decide +kernel
theorem dX0_release_103 : decode cX0_release 103 = .ok (.iconst 1, 1) := by decide +kernel
theorem dX0_release_104 : decode cX0_release 104 = .ok (.iadd, 1) := by decide +kernel
theorem dX0_release_105 : decode cX0_release 105 = .ok (.putfield 49, 3) := by decide +kernel
theorem dX0_release_108 : decode cX0_release 108 = .ok (.iinc 2 1, 3) := by decide +kernel
theorem dX0_release_111 : decode cX0_release 111 = .ok (.goto (-95), 3) := by decide +kernel
theorem dX0_release_114 : decode cX0_release 114 = .ok (.return_, 1) := by decide +kernel
theorem dX0_move_0 : decode cX0_move 0 = .ok (.aload_n 0, 1) := by decide +kernel
theorem dX0_move_1 : decode cX0_move 1 = .ok (.iload_n 1, 1) := by decide +kernel
theorem dX0_move_2 : decode cX0_move 2 = .ok (.iload_n 2, 1) := by decide +kernel
theorem dX0_move_3 : decode cX0_move 3 = .ok (.invokevirtual 74, 3) := by decide +kernel
theorem dX0_move_6 : decode cX0_move 6 = .ok (.ifCond .ne 5, 3) := by decide +kernel
theorem dX0_move_9 : decode cX0_move 9 = .ok (.iconst (-1), 1) := by decide +kernel
theorem dX0_move_10 : decode cX0_move 10 = .ok (.ireturn, 1) := by decide +kernel
theorem dX0_move_11 : decode cX0_move 11 = .ok (.iload_n 3, 1) := by decide +kernel
theorem dX0_move_12 : decode cX0_move 12 = .ok (.ifCond .lt 13, 3) := by decide +kernel
theorem dX0_move_15 : decode cX0_move 15 = .ok (.iload_n 3, 1) := by decide +kernel
theorem dX0_move_16 : decode cX0_move 16 = .ok (.aload_n 0, 1) := by decide +kernel
theorem dX0_move_17 : decode cX0_move 17 = .ok (.invokevirtual 52, 3) := by decide +kernel
theorem dX0_move_20 : decode cX0_move 20 = .ok (.iload_n 2, 1) := by decide +kernel
theorem dX0_move_21 : decode cX0_move 21 = .ok (.isub, 1) := by decide +kernel
theorem dX0_move_22 : decode cX0_move 22 = .ok (.if_icmp .le 5, 3) := by decide +kernel
theorem dX0_move_25 : decode cX0_move 25 = .ok (.iconst (-1), 1) := by decide +kernel
theorem dX0_move_26 : decode cX0_move 26 = .ok (.ireturn, 1) := by decide +kernel
theorem dX0_move_27 : decode cX0_move 27 = .ok (.aload_n 0, 1) := by decide +kernel
theorem dX0_move_28 : decode cX0_move 28 = .ok (.iload_n 1, 1) := by decide +kernel
theorem dX0_move_29 : decode cX0_move 29 = .ok (.iload_n 2, 1) := by decide +kernel
theorem dX0_move_30 : decode cX0_move 30 = .ok (.invokevirtual 78, 3) := by decide +kernel
theorem dX0_move_33 : decode cX0_move 33 = .ok (.aload_n 0, 1) := by decide +kernel
theorem dX0_move_34 : decode cX0_move 34 = .ok (.getfield 81, 3) := by decide +kernel
theorem dX0_move_37 : decode cX0_move 37 = .ok (.istore 4, 2) := by decide +kernel
theorem dX0_move_39 : decode cX0_move 39 = .ok (.aload_n 0, 1) := by decide +kernel
theorem dX0_move_40 : decode cX0_move 40 = .ok (.aload_n 0, 1) := by decide +kernel
theorem dX0_move_41 : decode cX0_move 41 = .ok (.getfield 88, 3) := by decide +kernel
theorem dX0_move_44 : decode cX0_move 44 = .ok (.aload_n 0, 1) := by decide +kernel
theorem dX0_move_45 : decode cX0_move 45 = .ok (.getfield 91, 3) := by decide +kernel
theorem dX0_move_48 : decode cX0_move 48 = .ok (.invokevirtual 70, 3) := by decide +kernel
theorem dX0_move_51 : decode cX0_move 51 = .ok (.istore 5, 2) := by decide +kernel
theorem dX0_move_53 : decode cX0_move 53 = .ok (.aload_n 0, 1) := by decide +kernel
theorem dX0_move_54 : decode cX0_move 54 = .ok (.iload 5, 2) := by decide +kernel
theorem dX0_move_56 : decode cX0_move 56 = .ok (.iload_n 3, 1) := by decide +kernel
theorem dX0_move_57 : decode cX0_move 57 = .ok (.invokevirtual 60, 3) := by decide +kernel
theorem dX0_move_60 : decode cX0_move 60 = .ok (.aload_n 0, 1) := by decide +kernel
theorem dX0_move_61 : decode cX0_move 61 = .ok (.getfield 64, 3) := by decide +kernel
theorem dX0_move_64 : decode cX0_move 64 = .ok (.istore 6, 2) := by decide +kernel
theorem dX0_move_66 : decode cX0_move 66 = .ok (.aload_n 0, 1) := by decide +kernel
theorem dX0_move_67 : decode cX0_move 67 = .ok (.aload_n 0, 1) := by decide +kernel
theorem dX0_move_68 : decode cX0_move 68 = .ok (.getfield 67, 3) := by decide +kernel
theorem dX0_move_71 : decode cX0_move 71 = .ok (.iload 4, 2) := by decide +kernel
theorem dX0_move_73 : decode cX0_move 73 = .ok (.invokevirtual 70, 3) := by decide +kernel
theorem dX0_move_76 : decode cX0_move 76 = .ok (.istore 7, 2) := by decide +kernel
theorem dX0_move_78 : decode cX0_move 78 = .ok (.aload_n 0, 1) := by decide +kernel
theorem dX0_move_79 : decode cX0_move 79 = .ok (.aload_n 0, 1) := by decide +kernel
theorem dX0_move_80 : decode cX0_move 80 = .ok (.iload 7, 2) := by decide +kernel
theorem dX0_move_82 : decode cX0_move 82 = .ok (.iload 6, 2) := by decide +kernel
theorem dX0_move_84 : decode cX0_move 84 = .ok (.invokevirtual 70, 3) := by decide +kernel
theorem dX0_move_87 : decode cX0_move 87 = .ok (.putfield 42, 3) := by decide +kernel
theorem dX0_move_90 : decode cX0_move 90 = .ok (.aload_n 0, 1) := by decide +kernel
theorem dX0_move_91 : decode cX0_move 91 = .ok (.invokevirtual 52, 3) := by decide +kernel
theorem dX0_move_94 : decode cX0_move 94 = .ok (.ireturn, 1) := by decide +kernel
theorem dX0_mirror_0 : decode cX0_mirror 0 = .ok (.aload_n 0, 1) := by decide +kernel
theorem dX0_mirror_1 : decode cX0_mirror 1 = .ok (.iload_n 1, 1) := by decide +kernel
theorem dX0_mirror_2 : decode cX0_mirror 2 = .ok (.iload_n 2, 1) := by decide +kernel
theorem dX0_mirror_3 : decode cX0_mirror 3 = .ok (.invokevirtual 74, 3) := by decide +kernel
theorem dX0_mirror_6 : decode cX0_mirror 6 = .ok (.ifCond .ne 5, 3) := by decide +kernel
theorem dX0_mirror_9 : decode cX0_mirror 9 = .ok (.iconst (-1), 1) := by decide +kernel
end
section
set_option maxRecDepth 100000
theorem dX0_mirror_10 : decode cX0_mirror 10 = .ok (.ireturn, 1) := by decide +kernel
theorem dX0_mirror_11 : decode cX0_mirror 11 = .ok (.aload_n 0, 1) := by decide +kernel
theorem dX0_mirror_12 : decode cX0_mirror 12 = .ok (.iload_n 1, 1) := by decide +kernel
theorem dX0_mirror_13 : decode cX0_mirror 13 = .ok (.iload_n 2, 1) := by decide +kernel
theorem dX0_mirror_14 : decode cX0_mirror 14 = .ok (.invokevirtual 78, 3) := by decide +kernel
theorem dX0_mirror_17 : decode cX0_mirror 17 = .ok (.aload_n 0, 1) := by decide +kernel
theorem dX0_mirror_18 : decode cX0_mirror 18 = .ok (.getfield 81, 3) := by decide +kernel
theorem dX0_mirror_21 : decode cX0_mirror 21 = .ok (.ifCond .lt 11, 3) := by decide +kernel
theorem dX0_mirror_24 : decode cX0_mirror 24 = .ok (.aload_n 0, 1) := by decide +kernel
theorem dX0_mirror_25 : decode cX0_mirror 25 = .ok (.aload_n 0, 1) := by decide +kernel
theorem dX0_mirror_26 : decode cX0_mirror 26 = .ok (.getfield 81, 3) := by decide +kernel
theorem dX0_mirror_29 : decode cX0_mirror 29 = .ok (.invokevirtual 94, 3) := by decide +kernel
theorem dX0_mirror_32 : decode cX0_mirror 32 = .ok (.aload_n 0, 1) := by decide +kernel
theorem dX0_mirror_33 : decode cX0_mirror 33 = .ok (.invokevirtual 97, 3) := by decide +kernel
theorem dX0_mirror_36 : decode cX0_mirror 36 = .ok (.aload_n 0, 1) := by decide +kernel
theorem dX0_mirror_37 : decode cX0_mirror 37 = .ok (.invokevirtual 52, 3) := by decide +kernel
theorem dX0_mirror_40 : decode cX0_mirror 40 = .ok (.ireturn, 1) := by decide +kernel
theorem dX0_putTogether_0 : decode cX0_putTogether 0 = .ok (.aload_n 0, 1) := by decide +kernel
theorem dX0_putTogether_1 : decode cX0_putTogether 1 = .ok (.aload_n 0, 1) := by decide +kernel
theorem dX0_putTogether_2 : decode cX0_putTogether 2 = .ok (.getfield 88, 3) := by decide +kernel
theorem dX0_putTogether_5 : decode cX0_putTogether 5 = .ok (.aload_n 0, 1) := by decide +kernel
theorem dX0_putTogether_6 : decode cX0_putTogether 6 = .ok (.getfield 81, 3) := by decide +kernel
theorem dX0_putTogether_9 : decode cX0_putTogether 9 = .ok (.invokevirtual 70, 3) := by decide +kernel
theorem dX0_putTogether_12 : decode cX0_putTogether 12 = .ok (.istore_n 1, 1) := by decide +kernel
theorem dX0_putTogether_13 : decode cX0_putTogether 13 = .ok (.aload_n 0, 1) := by decide +kernel
theorem dX0_putTogether_14 : decode cX0_putTogether 14 = .ok (.aload_n 0, 1) := by decide +kernel
theorem dX0_putTogether_15 : decode cX0_putTogether 15 = .ok (.iload_n 1, 1) := by decide +kernel
theorem dX0_putTogether_16 : decode cX0_putTogether 16 = .ok (.aload_n 0, 1) := by decide +kernel
theorem dX0_putTogether_17 : decode cX0_putTogether 17 = .ok (.getfield 91, 3) := by decide +kernel
theorem dX0_putTogether_20 : decode cX0_putTogether 20 = .ok (.invokevirtual 70, 3) := by decide +kernel
theorem dX0_putTogether_23 : decode cX0_putTogether 23 = .ok (.putfield 42, 3) := by decide +kernel
theorem dX0_putTogether_26 : decode cX0_putTogether 26 = .ok (.return_, 1) := by decide +kernel
theorem dX0_codeAt_0 : decode cX0_codeAt 0 = .ok (.iload_n 1, 1) := by decide +kernel
theorem dX0_codeAt_1 : decode cX0_codeAt 1 = .ok (.ifCond .lt 11, 3) := by decide +kernel
theorem dX0_codeAt_4 : decode cX0_codeAt 4 = .ok (.iload_n 1, 1) := by decide +kernel
theorem dX0_codeAt_5 : decode cX0_codeAt 5 = .ok (.aload_n 0, 1) := by decide +kernel
theorem dX0_codeAt_6 : decode cX0_codeAt 6 = .ok (.invokevirtual 52, 3) := by decide +kernel
theorem dX0_codeAt_9 : decode cX0_codeAt 9 = .ok (.if_icmp .lt 5, 3) := by decide +kernel
theorem dX0_codeAt_12 : decode cX0_codeAt 12 = .ok (.iconst (-1), 1) := by decide +kernel
theorem dX0_codeAt_13 : decode cX0_codeAt 13 = .ok (.ireturn, 1) := by decide +kernel
theorem dX0_codeAt_14 : decode cX0_codeAt 14 = .ok (.aload_n 0, 1) := by decide +kernel
theorem dX0_codeAt_15 : decode cX0_codeAt 15 = .ok (.iload_n 1, 1) := by decide +kernel
theorem dX0_codeAt_16 : decode cX0_codeAt 16 = .ok (.invokevirtual 100, 3) := by decide +kernel
theorem dX0_codeAt_19 : decode cX0_codeAt 19 = .ok (.istore_n 2, 1) := by decide +kernel
theorem dX0_codeAt_20 : decode cX0_codeAt 20 = .ok (.aload_n 0, 1) := by decide +kernel
theorem dX0_codeAt_21 : decode cX0_codeAt 21 = .ok (.getfield 7, 3) := by decide +kernel
theorem dX0_codeAt_24 : decode cX0_codeAt 24 = .ok (.iload_n 2, 1) := by decide +kernel
theorem dX0_codeAt_25 : decode cX0_codeAt 25 = .ok (.baload, 1) := by decide +kernel
theorem dX0_codeAt_26 : decode cX0_codeAt 26 = .ok (.ireturn, 1) := by decide +kernel
theorem dX0_nodeAt_0 : decode cX0_nodeAt 0 = .ok (.aload_n 0, 1) := by decide +kernel
theorem dX0_nodeAt_1 : decode cX0_nodeAt 1 = .ok (.getfield 42, 3) := by decide +kernel
theorem dX0_nodeAt_4 : decode cX0_nodeAt 4 = .ok (.istore_n 2, 1) := by decide +kernel
theorem dX0_nodeAt_5 : decode cX0_nodeAt 5 = .ok (.iload_n 1, 1) := by decide +kernel
theorem dX0_nodeAt_6 : decode cX0_nodeAt 6 = .ok (.istore_n 3, 1) := by decide +kernel
theorem dX0_nodeAt_7 : decode cX0_nodeAt 7 = .ok (.iconst 0, 1) := by decide +kernel
theorem dX0_nodeAt_8 : decode cX0_nodeAt 8 = .ok (.istore 4, 2) := by decide +kernel
theorem dX0_nodeAt_10 : decode cX0_nodeAt 10 = .ok (.iload 4, 2) := by decide +kernel
theorem dX0_nodeAt_12 : decode cX0_nodeAt 12 = .ok (.bipush 60, 2) := by decide +kernel
theorem dX0_nodeAt_14 : decode cX0_nodeAt 14 = .ok (.if_icmp .ge 64, 3) := by decide +kernel
theorem dX0_nodeAt_17 : decode cX0_nodeAt 17 = .ok (.aload_n 0, 1) := by decide +kernel
theorem dX0_nodeAt_18 : decode cX0_nodeAt 18 = .ok (.iload_n 2, 1) := by decide +kernel
theorem dX0_nodeAt_19 : decode cX0_nodeAt 19 = .ok (.invokevirtual 122, 3) := by decide +kernel
theorem dX0_nodeAt_22 : decode cX0_nodeAt 22 = .ok (.aload_n 0, 1) := by decide +kernel
theorem dX0_nodeAt_23 : decode cX0_nodeAt 23 = .ok (.aload_n 0, 1) := by decide +kernel
theorem dX0_nodeAt_24 : decode cX0_nodeAt 24 = .ok (.getfield 13, 3) := by decide +kernel
theorem dX0_nodeAt_27 : decode cX0_nodeAt 27 = .ok (.iload_n 2, 1) := by decide +kernel
theorem dX0_nodeAt_28 : decode cX0_nodeAt 28 = .ok (.baload, 1) := by decide +kernel
theorem dX0_nodeAt_29 : decode cX0_nodeAt 29 = .ok (.invokevirtual 119, 3) := by decide +kernel
theorem dX0_nodeAt_32 : decode cX0_nodeAt 32 = .ok (.istore 5, 2) := by decide +kernel
theorem dX0_nodeAt_34 : decode cX0_nodeAt 34 = .ok (.iload_n 3, 1) := by decide +kernel
theorem dX0_nodeAt_35 : decode cX0_nodeAt 35 = .ok (.iload 5, 2) := by decide +kernel
theorem dX0_nodeAt_37 : decode cX0_nodeAt 37 = .ok (.if_icmp .ne 5, 3) := by decide +kernel
theorem dX0_nodeAt_40 : decode cX0_nodeAt 40 = .ok (.iload_n 2, 1) := by decide +kernel
theorem dX0_nodeAt_41 : decode cX0_nodeAt 41 = .ok (.ireturn, 1) := by decide +kernel
theorem dX0_nodeAt_42 : decode cX0_nodeAt 42 = .ok (.iload_n 3, 1) := by decide +kernel
theorem dX0_nodeAt_43 : decode cX0_nodeAt 43 = .ok (.iload 5, 2) := by decide +kernel
theorem dX0_nodeAt_45 : decode cX0_nodeAt 45 = .ok (.if_icmp .ge 13, 3) := by decide +kernel
theorem dX0_nodeAt_48 : decode cX0_nodeAt 48 = .ok (.aload_n 0, 1) := by decide +kernel
theorem dX0_nodeAt_49 : decode cX0_nodeAt 49 = .ok (.getfield 13, 3) := by decide +kernel
theorem dX0_nodeAt_52 : decode cX0_nodeAt 52 = .ok (.iload_n 2, 1) := by decide +kernel
theorem dX0_nodeAt_53 : decode cX0_nodeAt 53 = .ok (.baload, 1) := by decide +kernel
theorem dX0_nodeAt_54 : decode cX0_nodeAt 54 = .ok (.istore_n 2, 1) := by decide +kernel
theorem dX0_nodeAt_55 : decode cX0_nodeAt 55 = .ok (.goto 17, 3) := by decide +kernel
theorem dX0_nodeAt_58 : decode cX0_nodeAt 58 = .ok (.iload_n 3, 1) := by decide +kernel
theorem dX0_nodeAt_59 : decode cX0_nodeAt 59 = .ok (.iload 5, 2) := by decide +kernel
theorem dX0_nodeAt_61 : decode cX0_nodeAt 61 = .ok (.iconst 1, 1) := by decide +kernel
theorem dX0_nodeAt_62 : decode cX0_nodeAt 62 = .ok (.iadd, 1) := by decide +kernel
theorem dX0_nodeAt_63 : decode cX0_nodeAt 63 = .ok (.isub, 1) := by decide +kernel
theorem dX0_nodeAt_64 : decode cX0_nodeAt 64 = .ok (.istore_n 3, 1) := by decide +kernel
theorem dX0_nodeAt_65 : decode cX0_nodeAt 65 = .ok (.aload_n 0, 1) := by decide +kernel
theorem dX0_nodeAt_66 : decode cX0_nodeAt 66 = .ok (.getfield 16, 3) := by decide +kernel
theorem dX0_nodeAt_69 : decode cX0_nodeAt 69 = .ok (.iload_n 2, 1) := by decide +kernel
theorem dX0_nodeAt_70 : decode cX0_nodeAt 70 = .ok (.baload, 1) := by decide +kernel
theorem dX0_nodeAt_71 : decode cX0_nodeAt 71 = .ok (.istore_n 2, 1) := by decide +kernel
theorem dX0_nodeAt_72 : decode cX0_nodeAt 72 = .ok (.iinc 4 1, 3) := by decide +kernel
theorem dX0_nodeAt_75 : decode cX0_nodeAt 75 = .ok (.goto (-65), 3) := by decide +kernel
theorem dX0_nodeAt_78 : decode cX0_nodeAt 78 = .ok (.iload_n 2, 1) := by decide +kernel
theorem dX0_nodeAt_79 : decode cX0_nodeAt 79 = .ok (.ireturn, 1) := by decide +kernel
theorem dX0_partner_0 : decode cX0_partner 0 = .ok (.iload_n 1, 1) := by decide +kernel
theorem dX0_partner_1 : decode cX0_partner 1 = .ok (.ifCond .lt 11, 3) := by decide +kernel
theorem dX0_partner_4 : decode cX0_partner 4 = .ok (.iload_n 1, 1) := by decide +kernel
theorem dX0_partner_5 : decode cX0_partner 5 = .ok (.aload_n 0, 1) := by decide +kernel
theorem dX0_partner_6 : decode cX0_partner 6 = .ok (.invokevirtual 52, 3) := by decide +kernel
theorem dX0_partner_9 : decode cX0_partner 9 = .ok (.if_icmp .lt 5, 3) := by decide +kernel
theorem dX0_partner_12 : decode cX0_partner 12 = .ok (.iconst (-1), 1) := by decide +kernel
theorem dX0_partner_13 : decode cX0_partner 13 = .ok (.ireturn, 1) := by decide +kernel
theorem dX0_partner_14 : decode cX0_partner 14 = .ok (.aload_n 0, 1) := by decide +kernel
theorem dX0_partner_15 : decode cX0_partner 15 = .ok (.iload_n 1, 1) := by decide +kernel
theorem dX0_partner_16 : decode cX0_partner 16 = .ok (.invokevirtual 100, 3) := by decide +kernel
theorem dX0_partner_19 : decode cX0_partner 19 = .ok (.istore_n 2, 1) := by decide +kernel
theorem dX0_partner_20 : decode cX0_partner 20 = .ok (.aload_n 0, 1) := by decide +kernel
theorem dX0_partner_21 : decode cX0_partner 21 = .ok (.getfield 7, 3) := by decide +kernel
theorem dX0_partner_24 : decode cX0_partner 24 = .ok (.iload_n 2, 1) := by decide +kernel
theorem dX0_partner_25 : decode cX0_partner 25 = .ok (.baload, 1) := by decide +kernel
theorem dX0_partner_26 : decode cX0_partner 26 = .ok (.istore_n 3, 1) := by decide +kernel
theorem dX0_partner_27 : decode cX0_partner 27 = .ok (.iload_n 3, 1) := by decide +kernel
theorem dX0_partner_28 : decode cX0_partner 28 = .ok (.ifCond .ne 6, 3) := by decide +kernel
theorem dX0_partner_31 : decode cX0_partner 31 = .ok (.bipush (-3), 2) := by decide +kernel
theorem dX0_partner_33 : decode cX0_partner 33 = .ok (.ireturn, 1) := by decide +kernel
theorem dX0_partner_34 : decode cX0_partner 34 = .ok (.aload_n 0, 1) := by decide +kernel
theorem dX0_partner_35 : decode cX0_partner 35 = .ok (.iload_n 1, 1) := by decide +kernel
theorem dX0_partner_36 : decode cX0_partner 36 = .ok (.iconst 1, 1) := by decide +kernel
theorem dX0_partner_37 : decode cX0_partner 37 = .ok (.invokevirtual 78, 3) := by decide +kernel
theorem dX0_partner_40 : decode cX0_partner 40 = .ok (.bipush (-3), 2) := by decide +kernel
theorem dX0_partner_42 : decode cX0_partner 42 = .ok (.istore 4, 2) := by decide +kernel
theorem dX0_partner_44 : decode cX0_partner 44 = .ok (.iload_n 3, 1) := by decide +kernel
theorem dX0_partner_45 : decode cX0_partner 45 = .ok (.iconst 3, 1) := by decide +kernel
theorem dX0_partner_46 : decode cX0_partner 46 = .ok (.if_icmp .gt 32, 3) := by decide +kernel
theorem dX0_partner_49 : decode cX0_partner 49 = .ok (.aload_n 0, 1) := by decide +kernel
theorem dX0_partner_50 : decode cX0_partner 50 = .ok (.aload_n 0, 1) := by decide +kernel
theorem dX0_partner_51 : decode cX0_partner 51 = .ok (.getfield 91, 3) := by decide +kernel
theorem dX0_partner_54 : decode cX0_partner 54 = .ok (.iload_n 3, 1) := by decide +kernel
theorem dX0_partner_55 : decode cX0_partner 55 = .ok (.iconst 1, 1) := by decide +kernel
theorem dX0_partner_56 : decode cX0_partner 56 = .ok (.isub, 1) := by decide +kernel
theorem dX0_partner_57 : decode cX0_partner 57 = .ok (.invokevirtual 103, 3) := by decide +kernel
theorem dX0_partner_60 : decode cX0_partner 60 = .ok (.istore 5, 2) := by decide +kernel
theorem dX0_partner_62 : decode cX0_partner 62 = .ok (.iload 5, 2) := by decide +kernel
theorem dX0_partner_64 : decode cX0_partner 64 = .ok (.ifCond .lt 11, 3) := by decide +kernel
theorem dX0_partner_67 : decode cX0_partner 67 = .ok (.iload_n 1, 1) := by decide +kernel
theorem dX0_partner_68 : decode cX0_partner 68 = .ok (.iconst 1, 1) := by decide +kernel
theorem dX0_partner_69 : decode cX0_partner 69 = .ok (.iadd, 1) := by decide +kernel
theorem dX0_partner_70 : decode cX0_partner 70 = .ok (.iload 5, 2) := by decide +kernel
theorem dX0_partner_72 : decode cX0_partner 72 = .ok (.iadd, 1) := by decide +kernel
theorem dX0_partner_73 : decode cX0_partner 73 = .ok (.istore 4, 2) := by decide +kernel
theorem dX0_partner_75 : decode cX0_partner 75 = .ok (.goto 26, 3) := by decide +kernel
theorem dX0_partner_78 : decode cX0_partner 78 = .ok (.aload_n 0, 1) := by decide +kernel
theorem dX0_partner_79 : decode cX0_partner 79 = .ok (.aload_n 0, 1) := by decide +kernel
theorem dX0_partner_80 : decode cX0_partner 80 = .ok (.getfield 88, 3) := by decide +kernel
theorem dX0_partner_83 : decode cX0_partner 83 = .ok (.iload_n 3, 1) := by decide +kernel
theorem dX0_partner_84 : decode cX0_partner 84 = .ok (.iconst 4, 1) := by decide +kernel
theorem dX0_partner_85 : decode cX0_partner 85 = .ok (.isub, 1) := by decide +kernel
theorem dX0_partner_86 : decode cX0_partner 86 = .ok (.iconst 0, 1) := by decide +kernel
theorem dX0_partner_87 : decode cX0_partner 87 = .ok (.invokevirtual 106, 3) := by decide +kernel
theorem dX0_partner_90 : decode cX0_partner 90 = .ok (.istore 5, 2) := by decide +kernel
theorem dX0_partner_92 : decode cX0_partner 92 = .ok (.iload 5, 2) := by decide +kernel
theorem dX0_partner_94 : decode cX0_partner 94 = .ok (.ifCond .lt 7, 3) := by decide +kernel
theorem dX0_partner_97 : decode cX0_partner 97 = .ok (.iload 5, 2) := by decide +kernel
theorem dX0_partner_99 : decode cX0_partner 99 = .ok (.istore 4, 2) := by decide +kernel
theorem dX0_partner_101 : decode cX0_partner 101 = .ok (.aload_n 0, 1) := by decide +kernel
theorem dX0_partner_102 : decode cX0_partner 102 = .ok (.invokevirtual 97, 3) := by decide +kernel
theorem dX0_partner_105 : decode cX0_partner 105 = .ok (.iload 4, 2) := by decide +kernel
theorem dX0_partner_107 : decode cX0_partner 107 = .ok (.ireturn, 1) := by decide +kernel
theorem dX0_firstLooseClose_0 : decode cX0_firstLooseClose 0 = .ok (.iload_n 1, 1) := by decide +kernel
theorem dX0_firstLooseClose_1 : decode cX0_firstLooseClose 1 = .ok (.istore_n 3, 1) := by decide +kernel
theorem dX0_firstLooseClose_2 : decode cX0_firstLooseClose 2 = .ok (.iconst 0, 1) := by decide +kernel
theorem dX0_firstLooseClose_3 : decode cX0_firstLooseClose 3 = .ok (.istore 4, 2) := by decide +kernel
theorem dX0_firstLooseClose_5 : decode cX0_firstLooseClose 5 = .ok (.iconst 0, 1) := by decide +kernel
theorem dX0_firstLooseClose_6 : decode cX0_firstLooseClose 6 = .ok (.istore 5, 2) := by decide +kernel
theorem dX0_firstLooseClose_8 : decode cX0_firstLooseClose 8 = .ok (.iconst 0, 1) := by decide +kernel
theorem dX0_firstLooseClose_9 : decode cX0_firstLooseClose 9 = .ok (.istore 6, 2) := by decide +kernel
theorem dX0_firstLooseClose_11 : decode cX0_firstLooseClose 11 = .ok (.iload 6, 2) := by decide +kernel
theorem dX0_firstLooseClose_13 : decode cX0_firstLooseClose 13 = .ok (.bipush 60, 2) := by decide +kernel
theorem dX0_firstLooseClose_15 : decode cX0_firstLooseClose 15 = .ok (.if_icmp .ge 123, 3) := by decide +kernel
theorem dX0_firstLooseClose_18 : decode cX0_firstLooseClose 18 = .ok (.iload_n 3, 1) := by decide +kernel
theorem dX0_firstLooseClose_19 : decode cX0_firstLooseClose 19 = .ok (.ifCond .lt 119, 3) := by decide +kernel
theorem dX0_firstLooseClose_22 : decode cX0_firstLooseClose 22 = .ok (.aload_n 0, 1) := by decide +kernel
theorem dX0_firstLooseClose_23 : decode cX0_firstLooseClose 23 = .ok (.iload_n 3, 1) := by decide +kernel
theorem dX0_firstLooseClose_24 : decode cX0_firstLooseClose 24 = .ok (.invokevirtual 122, 3) := by decide +kernel
theorem dX0_firstLooseClose_27 : decode cX0_firstLooseClose 27 = .ok (.aload_n 0, 1) := by decide +kernel
theorem dX0_firstLooseClose_28 : decode cX0_firstLooseClose 28 = .ok (.getfield 13, 3) := by decide +kernel
theorem dX0_firstLooseClose_31 : decode cX0_firstLooseClose 31 = .ok (.iload_n 3, 1) := by decide +kernel
theorem dX0_firstLooseClose_32 : decode cX0_firstLooseClose 32 = .ok (.baload, 1) := by decide +kernel
theorem dX0_firstLooseClose_33 : decode cX0_firstLooseClose 33 = .ok (.istore 7, 2) := by decide +kernel
theorem dX0_firstLooseClose_35 : decode cX0_firstLooseClose 35 = .ok (.aload_n 0, 1) := by decide +kernel
theorem dX0_firstLooseClose_36 : decode cX0_firstLooseClose 36 = .ok (.iload 7, 2) := by decide +kernel
theorem dX0_firstLooseClose_38 : decode cX0_firstLooseClose 38 = .ok (.iload_n 2, 1) := by decide +kernel
theorem dX0_firstLooseClose_39 : decode cX0_firstLooseClose 39 = .ok (.invokevirtual 116, 3) := by decide +kernel
theorem dX0_firstLooseClose_42 : decode cX0_firstLooseClose 42 = .ok (.iload 4, 2) := by decide +kernel
theorem dX0_firstLooseClose_44 : decode cX0_firstLooseClose 44 = .ok (.if_icmp .le 9, 3) := by decide +kernel
theorem dX0_firstLooseClose_47 : decode cX0_firstLooseClose 47 = .ok (.iload 7, 2) := by decide +kernel
theorem dX0_firstLooseClose_49 : decode cX0_firstLooseClose 49 = .ok (.istore_n 3, 1) := by decide +kernel
theorem dX0_firstLooseClose_50 : decode cX0_firstLooseClose 50 = .ok (.goto 82, 3) := by decide +kernel
theorem dX0_firstLooseClose_53 : decode cX0_firstLooseClose 53 = .ok (.iload 4, 2) := by decide +kernel
theorem dX0_firstLooseClose_55 : decode cX0_firstLooseClose 55 = .ok (.aload_n 0, 1) := by decide +kernel
theorem dX0_firstLooseClose_56 : decode cX0_firstLooseClose 56 = .ok (.iload 7, 2) := by decide +kernel
theorem dX0_firstLooseClose_58 : decode cX0_firstLooseClose 58 = .ok (.iload_n 2, 1) := by decide +kernel
theorem dX0_firstLooseClose_59 : decode cX0_firstLooseClose 59 = .ok (.invokevirtual 113, 3) := by decide +kernel
theorem dX0_firstLooseClose_62 : decode cX0_firstLooseClose 62 = .ok (.aload_n 0, 1) := by decide +kernel
theorem dX0_firstLooseClose_63 : decode cX0_firstLooseClose 63 = .ok (.iload 7, 2) := by decide +kernel
theorem dX0_firstLooseClose_65 : decode cX0_firstLooseClose 65 = .ok (.iload_n 2, 1) := by decide +kernel
theorem dX0_firstLooseClose_66 : decode cX0_firstLooseClose 66 = .ok (.invokevirtual 116, 3) := by decide +kernel
theorem dX0_firstLooseClose_69 : decode cX0_firstLooseClose 69 = .ok (.isub, 1) := by decide +kernel
theorem dX0_firstLooseClose_70 : decode cX0_firstLooseClose 70 = .ok (.iadd, 1) := by decide +kernel
theorem dX0_firstLooseClose_71 : decode cX0_firstLooseClose 71 = .ok (.istore 4, 2) := by decide +kernel
theorem dX0_firstLooseClose_73 : decode cX0_firstLooseClose 73 = .ok (.iload 5, 2) := by decide +kernel
theorem dX0_firstLooseClose_75 : decode cX0_firstLooseClose 75 = .ok (.aload_n 0, 1) := by decide +kernel
theorem dX0_firstLooseClose_76 : decode cX0_firstLooseClose 76 = .ok (.iload 7, 2) := by decide +kernel
theorem dX0_firstLooseClose_78 : decode cX0_firstLooseClose 78 = .ok (.invokevirtual 119, 3) := by decide +kernel
theorem dX0_firstLooseClose_81 : decode cX0_firstLooseClose 81 = .ok (.iadd, 1) := by decide +kernel
theorem dX0_firstLooseClose_82 : decode cX0_firstLooseClose 82 = .ok (.istore 5, 2) := by decide +kernel
theorem dX0_firstLooseClose_84 : decode cX0_firstLooseClose 84 = .ok (.aload_n 0, 1) := by decide +kernel
theorem dX0_firstLooseClose_85 : decode cX0_firstLooseClose 85 = .ok (.getfield 7, 3) := by decide +kernel
theorem dX0_firstLooseClose_88 : decode cX0_firstLooseClose 88 = .ok (.iload_n 3, 1) := by decide +kernel
theorem dX0_firstLooseClose_89 : decode cX0_firstLooseClose 89 = .ok (.baload, 1) := by decide +kernel
theorem dX0_firstLooseClose_90 : decode cX0_firstLooseClose 90 = .ok (.iload_n 2, 1) := by decide +kernel
theorem dX0_firstLooseClose_91 : decode cX0_firstLooseClose 91 = .ok (.iconst 4, 1) := by decide +kernel
theorem dX0_firstLooseClose_92 : decode cX0_firstLooseClose 92 = .ok (.iadd, 1) := by decide +kernel
theorem dX0_firstLooseClose_93 : decode cX0_firstLooseClose 93 = .ok (.if_icmp .ne 14, 3) := by decide +kernel
theorem dX0_firstLooseClose_96 : decode cX0_firstLooseClose 96 = .ok (.iload 4, 2) := by decide +kernel
theorem dX0_firstLooseClose_98 : decode cX0_firstLooseClose 98 = .ok (.ifCond .ne 6, 3) := by decide +kernel
theorem dX0_firstLooseClose_101 : decode cX0_firstLooseClose 101 = .ok (.iload 5, 2) := by decide +kernel
theorem dX0_firstLooseClose_103 : decode cX0_firstLooseClose 103 = .ok (.ireturn, 1) := by decide +kernel
theorem dX0_firstLooseClose_104 : decode cX0_firstLooseClose 104 = .ok (.iinc 4 (-1), 3) := by decide +kernel
theorem dX0_firstLooseClose_107 : decode cX0_firstLooseClose 107 = .ok (.aload_n 0, 1) := by decide +kernel
theorem dX0_firstLooseClose_108 : decode cX0_firstLooseClose 108 = .ok (.getfield 7, 3) := by decide +kernel
theorem dX0_firstLooseClose_111 : decode cX0_firstLooseClose 111 = .ok (.iload_n 3, 1) := by decide +kernel
theorem dX0_firstLooseClose_112 : decode cX0_firstLooseClose 112 = .ok (.baload, 1) := by decide +kernel
theorem dX0_firstLooseClose_113 : decode cX0_firstLooseClose 113 = .ok (.iload_n 2, 1) := by decide +kernel
theorem dX0_firstLooseClose_114 : decode cX0_firstLooseClose 114 = .ok (.iconst 1, 1) := by decide +kernel
theorem dX0_firstLooseClose_115 : decode cX0_firstLooseClose 115 = .ok (.iadd, 1) := by decide +kernel
theorem dX0_firstLooseClose_116 : decode cX0_firstLooseClose 116 = .ok (.if_icmp .ne 6, 3) := by decide +kernel
theorem dX0_firstLooseClose_119 : decode cX0_firstLooseClose 119 = .ok (.iinc 4 1, 3) := by decide +kernel
theorem dX0_firstLooseClose_122 : decode cX0_firstLooseClose 122 = .ok (.iinc 5 1, 3) := by decide +kernel
theorem dX0_firstLooseClose_125 : decode cX0_firstLooseClose 125 = .ok (.aload_n 0, 1) := by decide +kernel
theorem dX0_firstLooseClose_126 : decode cX0_firstLooseClose 126 = .ok (.getfield 16, 3) := by decide +kernel
theorem dX0_firstLooseClose_129 : decode cX0_firstLooseClose 129 = .ok (.iload_n 3, 1) := by decide +kernel
theorem dX0_firstLooseClose_130 : decode cX0_firstLooseClose 130 = .ok (.baload, 1) := by decide +kernel
theorem dX0_firstLooseClose_131 : decode cX0_firstLooseClose 131 = .ok (.istore_n 3, 1) := by decide +kernel
theorem dX0_firstLooseClose_132 : decode cX0_firstLooseClose 132 = .ok (.iinc 6 1, 3) := by decide +kernel
theorem dX0_firstLooseClose_135 : decode cX0_firstLooseClose 135 = .ok (.goto (-124), 3) := by decide +kernel
theorem dX0_firstLooseClose_138 : decode cX0_firstLooseClose 138 = .ok (.iconst (-1), 1) := by decide +kernel
theorem dX0_firstLooseClose_139 : decode cX0_firstLooseClose 139 = .ok (.ireturn, 1) := by decide +kernel
theorem dX0_lastLooseOpen_0 : decode cX0_lastLooseOpen 0 = .ok (.iload_n 1, 1) := by decide +kernel
theorem dX0_lastLooseOpen_1 : decode cX0_lastLooseOpen 1 = .ok (.istore 4, 2) := by decide +kernel
theorem dX0_lastLooseOpen_3 : decode cX0_lastLooseOpen 3 = .ok (.iload_n 3, 1) := by decide +kernel
theorem dX0_lastLooseOpen_4 : decode cX0_lastLooseOpen 4 = .ok (.istore 5, 2) := by decide +kernel
theorem dX0_lastLooseOpen_6 : decode cX0_lastLooseOpen 6 = .ok (.aload_n 0, 1) := by decide +kernel
theorem dX0_lastLooseOpen_7 : decode cX0_lastLooseOpen 7 = .ok (.iload_n 1, 1) := by decide +kernel
theorem dX0_lastLooseOpen_8 : decode cX0_lastLooseOpen 8 = .ok (.invokevirtual 119, 3) := by decide +kernel
theorem dX0_lastLooseOpen_11 : decode cX0_lastLooseOpen 11 = .ok (.istore 6, 2) := by decide +kernel
theorem dX0_lastLooseOpen_13 : decode cX0_lastLooseOpen 13 = .ok (.iconst 0, 1) := by decide +kernel
theorem dX0_lastLooseOpen_14 : decode cX0_lastLooseOpen 14 = .ok (.istore 7, 2) := by decide +kernel
theorem dX0_lastLooseOpen_16 : decode cX0_lastLooseOpen 16 = .ok (.iload 7, 2) := by decide +kernel
theorem dX0_lastLooseOpen_18 : decode cX0_lastLooseOpen 18 = .ok (.bipush 60, 2) := by decide +kernel
theorem dX0_lastLooseOpen_20 : decode cX0_lastLooseOpen 20 = .ok (.if_icmp .ge 133, 3) := by decide +kernel
theorem dX0_lastLooseOpen_23 : decode cX0_lastLooseOpen 23 = .ok (.iload 4, 2) := by decide +kernel
theorem dX0_lastLooseOpen_25 : decode cX0_lastLooseOpen 25 = .ok (.ifCond .lt 128, 3) := by decide +kernel
theorem dX0_lastLooseOpen_28 : decode cX0_lastLooseOpen 28 = .ok (.aload_n 0, 1) := by decide +kernel
theorem dX0_lastLooseOpen_29 : decode cX0_lastLooseOpen 29 = .ok (.iload 4, 2) := by decide +kernel
theorem dX0_lastLooseOpen_31 : decode cX0_lastLooseOpen 31 = .ok (.invokevirtual 122, 3) := by decide +kernel
theorem dX0_lastLooseOpen_34 : decode cX0_lastLooseOpen 34 = .ok (.aload_n 0, 1) := by decide +kernel
theorem dX0_lastLooseOpen_35 : decode cX0_lastLooseOpen 35 = .ok (.getfield 16, 3) := by decide +kernel
theorem dX0_lastLooseOpen_38 : decode cX0_lastLooseOpen 38 = .ok (.iload 4, 2) := by decide +kernel
theorem dX0_lastLooseOpen_40 : decode cX0_lastLooseOpen 40 = .ok (.baload, 1) := by decide +kernel
theorem dX0_lastLooseOpen_41 : decode cX0_lastLooseOpen 41 = .ok (.istore 8, 2) := by decide +kernel
theorem dX0_lastLooseOpen_43 : decode cX0_lastLooseOpen 43 = .ok (.aload_n 0, 1) := by decide +kernel
theorem dX0_lastLooseOpen_44 : decode cX0_lastLooseOpen 44 = .ok (.iload 8, 2) := by decide +kernel
theorem dX0_lastLooseOpen_46 : decode cX0_lastLooseOpen 46 = .ok (.iload_n 2, 1) := by decide +kernel
theorem dX0_lastLooseOpen_47 : decode cX0_lastLooseOpen 47 = .ok (.invokevirtual 113, 3) := by decide +kernel
theorem dX0_lastLooseOpen_50 : decode cX0_lastLooseOpen 50 = .ok (.iload 5, 2) := by decide +kernel
theorem dX0_lastLooseOpen_52 : decode cX0_lastLooseOpen 52 = .ok (.if_icmp .le 10, 3) := by decide +kernel
theorem dX0_lastLooseOpen_55 : decode cX0_lastLooseOpen 55 = .ok (.iload 8, 2) := by decide +kernel
theorem dX0_lastLooseOpen_57 : decode cX0_lastLooseOpen 57 = .ok (.istore 4, 2) := by decide +kernel
theorem dX0_lastLooseOpen_59 : decode cX0_lastLooseOpen 59 = .ok (.goto 88, 3) := by decide +kernel
theorem dX0_lastLooseOpen_62 : decode cX0_lastLooseOpen 62 = .ok (.iload 5, 2) := by decide +kernel
theorem dX0_lastLooseOpen_64 : decode cX0_lastLooseOpen 64 = .ok (.aload_n 0, 1) := by decide +kernel
theorem dX0_lastLooseOpen_65 : decode cX0_lastLooseOpen 65 = .ok (.iload 8, 2) := by decide +kernel
theorem dX0_lastLooseOpen_67 : decode cX0_lastLooseOpen 67 = .ok (.iload_n 2, 1) := by decide +kernel
theorem dX0_lastLooseOpen_68 : decode cX0_lastLooseOpen 68 = .ok (.invokevirtual 116, 3) := by decide +kernel
theorem dX0_lastLooseOpen_71 : decode cX0_lastLooseOpen 71 = .ok (.aload_n 0, 1) := by decide +kernel
theorem dX0_lastLooseOpen_72 : decode cX0_lastLooseOpen 72 = .ok (.iload 8, 2) := by decide +kernel
theorem dX0_lastLooseOpen_74 : decode cX0_lastLooseOpen 74 = .ok (.iload_n 2, 1) := by decide +kernel
theorem dX0_lastLooseOpen_75 : decode cX0_lastLooseOpen 75 = .ok (.invokevirtual 113, 3) := by decide +kernel
theorem dX0_lastLooseOpen_78 : decode cX0_lastLooseOpen 78 = .ok (.isub, 1) := by decide +kernel
theorem dX0_lastLooseOpen_79 : decode cX0_lastLooseOpen 79 = .ok (.iadd, 1) := by decide +kernel
theorem dX0_lastLooseOpen_80 : decode cX0_lastLooseOpen 80 = .ok (.istore 5, 2) := by decide +kernel
theorem dX0_lastLooseOpen_82 : decode cX0_lastLooseOpen 82 = .ok (.iload 6, 2) := by decide +kernel
theorem dX0_lastLooseOpen_84 : decode cX0_lastLooseOpen 84 = .ok (.aload_n 0, 1) := by decide +kernel
theorem dX0_lastLooseOpen_85 : decode cX0_lastLooseOpen 85 = .ok (.iload 8, 2) := by decide +kernel
theorem dX0_lastLooseOpen_87 : decode cX0_lastLooseOpen 87 = .ok (.invokevirtual 119, 3) := by decide +kernel
theorem dX0_lastLooseOpen_90 : decode cX0_lastLooseOpen 90 = .ok (.isub, 1) := by decide +kernel
theorem dX0_lastLooseOpen_91 : decode cX0_lastLooseOpen 91 = .ok (.istore 6, 2) := by decide +kernel
theorem dX0_lastLooseOpen_93 : decode cX0_lastLooseOpen 93 = .ok (.aload_n 0, 1) := by decide +kernel
theorem dX0_lastLooseOpen_94 : decode cX0_lastLooseOpen 94 = .ok (.getfield 7, 3) := by decide +kernel
theorem dX0_lastLooseOpen_97 : decode cX0_lastLooseOpen 97 = .ok (.iload 4, 2) := by decide +kernel
theorem dX0_lastLooseOpen_99 : decode cX0_lastLooseOpen 99 = .ok (.baload, 1) := by decide +kernel
theorem dX0_lastLooseOpen_100 : decode cX0_lastLooseOpen 100 = .ok (.iload_n 2, 1) := by decide +kernel
theorem dX0_lastLooseOpen_101 : decode cX0_lastLooseOpen 101 = .ok (.iconst 1, 1) := by decide +kernel
theorem dX0_lastLooseOpen_102 : decode cX0_lastLooseOpen 102 = .ok (.iadd, 1) := by decide +kernel
theorem dX0_lastLooseOpen_103 : decode cX0_lastLooseOpen 103 = .ok (.if_icmp .ne 16, 3) := by decide +kernel
theorem dX0_lastLooseOpen_106 : decode cX0_lastLooseOpen 106 = .ok (.iload 5, 2) := by decide +kernel
theorem dX0_lastLooseOpen_108 : decode cX0_lastLooseOpen 108 = .ok (.ifCond .ne 8, 3) := by decide +kernel
theorem dX0_lastLooseOpen_111 : decode cX0_lastLooseOpen 111 = .ok (.iload 6, 2) := by decide +kernel
theorem dX0_lastLooseOpen_113 : decode cX0_lastLooseOpen 113 = .ok (.iconst 1, 1) := by decide +kernel
theorem dX0_lastLooseOpen_114 : decode cX0_lastLooseOpen 114 = .ok (.isub, 1) := by decide +kernel
theorem dX0_lastLooseOpen_115 : decode cX0_lastLooseOpen 115 = .ok (.ireturn, 1) := by decide +kernel
theorem dX0_lastLooseOpen_116 : decode cX0_lastLooseOpen 116 = .ok (.iinc 5 (-1), 3) := by decide +kernel
theorem dX0_lastLooseOpen_119 : decode cX0_lastLooseOpen 119 = .ok (.aload_n 0, 1) := by decide +kernel
theorem dX0_lastLooseOpen_120 : decode cX0_lastLooseOpen 120 = .ok (.getfield 7, 3) := by decide +kernel
theorem dX0_lastLooseOpen_123 : decode cX0_lastLooseOpen 123 = .ok (.iload 4, 2) := by decide +kernel
theorem dX0_lastLooseOpen_125 : decode cX0_lastLooseOpen 125 = .ok (.baload, 1) := by decide +kernel
theorem dX0_lastLooseOpen_126 : decode cX0_lastLooseOpen 126 = .ok (.iload_n 2, 1) := by decide +kernel
theorem dX0_lastLooseOpen_127 : decode cX0_lastLooseOpen 127 = .ok (.iconst 4, 1) := by decide +kernel
theorem dX0_lastLooseOpen_128 : decode cX0_lastLooseOpen 128 = .ok (.iadd, 1) := by decide +kernel
theorem dX0_lastLooseOpen_129 : decode cX0_lastLooseOpen 129 = .ok (.if_icmp .ne 6, 3) := by decide +kernel
theorem dX0_lastLooseOpen_132 : decode cX0_lastLooseOpen 132 = .ok (.iinc 5 1, 3) := by decide +kernel
theorem dX0_lastLooseOpen_135 : decode cX0_lastLooseOpen 135 = .ok (.iinc 6 (-1), 3) := by decide +kernel
theorem dX0_lastLooseOpen_138 : decode cX0_lastLooseOpen 138 = .ok (.aload_n 0, 1) := by decide +kernel
theorem dX0_lastLooseOpen_139 : decode cX0_lastLooseOpen 139 = .ok (.getfield 13, 3) := by decide +kernel
theorem dX0_lastLooseOpen_142 : decode cX0_lastLooseOpen 142 = .ok (.iload 4, 2) := by decide +kernel
theorem dX0_lastLooseOpen_144 : decode cX0_lastLooseOpen 144 = .ok (.baload, 1) := by decide +kernel
theorem dX0_lastLooseOpen_145 : decode cX0_lastLooseOpen 145 = .ok (.istore 4, 2) := by decide +kernel
theorem dX0_lastLooseOpen_147 : decode cX0_lastLooseOpen 147 = .ok (.iinc 7 1, 3) := by decide +kernel
theorem dX0_lastLooseOpen_150 : decode cX0_lastLooseOpen 150 = .ok (.goto (-134), 3) := by decide +kernel
theorem dX0_lastLooseOpen_153 : decode cX0_lastLooseOpen 153 = .ok (.iconst (-1), 1) := by decide +kernel
theorem dX0_lastLooseOpen_154 : decode cX0_lastLooseOpen 154 = .ok (.ireturn, 1) := by decide +kernel
theorem dX0_around_0 : decode cX0_around 0 = .ok (.iload_n 1, 1) := by decide +kernel
theorem dX0_around_1 : decode cX0_around 1 = .ok (.ifCond .lt 21, 3) := by decide +kernel
theorem dX0_around_4 : decode cX0_around 4 = .ok (.iload_n 1, 1) := by decide +kernel
theorem dX0_around_5 : decode cX0_around 5 = .ok (.aload_n 0, 1) := by decide +kernel
theorem dX0_around_6 : decode cX0_around 6 = .ok (.invokevirtual 52, 3) := by decide +kernel
theorem dX0_around_9 : decode cX0_around 9 = .ok (.if_icmp .ge 13, 3) := by decide +kernel
theorem dX0_around_12 : decode cX0_around 12 = .ok (.iload_n 2, 1) := by decide +kernel
theorem dX0_around_13 : decode cX0_around 13 = .ok (.iconst 1, 1) := by decide +kernel
theorem dX0_around_14 : decode cX0_around 14 = .ok (.if_icmp .lt 8, 3) := by decide +kernel
theorem dX0_around_17 : decode cX0_around 17 = .ok (.iload_n 2, 1) := by decide +kernel
theorem dX0_around_18 : decode cX0_around 18 = .ok (.iconst 3, 1) := by decide +kernel
theorem dX0_around_19 : decode cX0_around 19 = .ok (.if_icmp .le 5, 3) := by decide +kernel
theorem dX0_around_22 : decode cX0_around 22 = .ok (.iconst (-1), 1) := by decide +kernel
theorem dX0_around_23 : decode cX0_around 23 = .ok (.ireturn, 1) := by decide +kernel
theorem dX0_around_24 : decode cX0_around 24 = .ok (.aload_n 0, 1) := by decide +kernel
theorem dX0_around_25 : decode cX0_around 25 = .ok (.iload_n 1, 1) := by decide +kernel
theorem dX0_around_26 : decode cX0_around 26 = .ok (.iconst 1, 1) := by decide +kernel
theorem dX0_around_27 : decode cX0_around 27 = .ok (.invokevirtual 78, 3) := by decide +kernel
theorem dX0_around_30 : decode cX0_around 30 = .ok (.bipush (-3), 2) := by decide +kernel
theorem dX0_around_32 : decode cX0_around 32 = .ok (.istore_n 3, 1) := by decide +kernel
theorem dX0_around_33 : decode cX0_around 33 = .ok (.aload_n 0, 1) := by decide +kernel
theorem dX0_around_34 : decode cX0_around 34 = .ok (.iload_n 2, 1) := by decide +kernel
theorem dX0_around_35 : decode cX0_around 35 = .ok (.invokevirtual 110, 3) := by decide +kernel
theorem dX0_around_38 : decode cX0_around 38 = .ok (.ifCond .le 35, 3) := by decide +kernel
theorem dX0_around_41 : decode cX0_around 41 = .ok (.aload_n 0, 1) := by decide +kernel
theorem dX0_around_42 : decode cX0_around 42 = .ok (.aload_n 0, 1) := by decide +kernel
theorem dX0_around_43 : decode cX0_around 43 = .ok (.getfield 88, 3) := by decide +kernel
theorem dX0_around_46 : decode cX0_around 46 = .ok (.iload_n 2, 1) := by decide +kernel
theorem dX0_around_47 : decode cX0_around 47 = .ok (.iconst 1, 1) := by decide +kernel
theorem dX0_around_48 : decode cX0_around 48 = .ok (.isub, 1) := by decide +kernel
theorem dX0_around_49 : decode cX0_around 49 = .ok (.aload_n 0, 1) := by decide +kernel
theorem dX0_around_50 : decode cX0_around 50 = .ok (.getfield 7, 3) := by decide +kernel
theorem dX0_around_53 : decode cX0_around 53 = .ok (.aload_n 0, 1) := by decide +kernel
theorem dX0_around_54 : decode cX0_around 54 = .ok (.getfield 81, 3) := by decide +kernel
theorem dX0_around_57 : decode cX0_around 57 = .ok (.baload, 1) := by decide +kernel
theorem dX0_around_58 : decode cX0_around 58 = .ok (.iload_n 2, 1) := by decide +kernel
theorem dX0_around_59 : decode cX0_around 59 = .ok (.iconst 3, 1) := by decide +kernel
theorem dX0_around_60 : decode cX0_around 60 = .ok (.iadd, 1) := by decide +kernel
theorem dX0_around_61 : decode cX0_around 61 = .ok (.if_icmp .ne 7, 3) := by decide +kernel
theorem dX0_around_64 : decode cX0_around 64 = .ok (.iconst 1, 1) := by decide +kernel
theorem dX0_around_65 : decode cX0_around 65 = .ok (.goto 4, 3) := by decide +kernel
theorem dX0_around_68 : decode cX0_around 68 = .ok (.iconst 0, 1) := by decide +kernel
theorem dX0_around_69 : decode cX0_around 69 = .ok (.invokevirtual 106, 3) := by decide +kernel
theorem dX0_around_72 : decode cX0_around 72 = .ok (.istore_n 3, 1) := by decide +kernel
theorem dX0_around_73 : decode cX0_around 73 = .ok (.aload_n 0, 1) := by decide +kernel
theorem dX0_around_74 : decode cX0_around 74 = .ok (.invokevirtual 97, 3) := by decide +kernel
theorem dX0_around_77 : decode cX0_around 77 = .ok (.iload_n 3, 1) := by decide +kernel
theorem dX0_around_78 : decode cX0_around 78 = .ok (.ireturn, 1) := by decide +kernel
theorem dX0_pairsAround_0 : decode cX0_pairsAround 0 = .ok (.aload_n 0, 1) := by decide +kernel
theorem dX0_pairsAround_1 : decode cX0_pairsAround 1 = .ok (.aload_n 0, 1) := by decide +kernel
theorem dX0_pairsAround_2 : decode cX0_pairsAround 2 = .ok (.getfield 88, 3) := by decide +kernel
theorem dX0_pairsAround_5 : decode cX0_pairsAround 5 = .ok (.iload_n 1, 1) := by decide +kernel
theorem dX0_pairsAround_6 : decode cX0_pairsAround 6 = .ok (.iconst 1, 1) := by decide +kernel
theorem dX0_pairsAround_7 : decode cX0_pairsAround 7 = .ok (.isub, 1) := by decide +kernel
theorem dX0_pairsAround_8 : decode cX0_pairsAround 8 = .ok (.invokevirtual 113, 3) := by decide +kernel
theorem dX0_pairsAround_11 : decode cX0_pairsAround 11 = .ok (.istore_n 2, 1) := by decide +kernel
theorem dX0_pairsAround_12 : decode cX0_pairsAround 12 = .ok (.aload_n 0, 1) := by decide +kernel
theorem dX0_pairsAround_13 : decode cX0_pairsAround 13 = .ok (.aload_n 0, 1) := by decide +kernel
theorem dX0_pairsAround_14 : decode cX0_pairsAround 14 = .ok (.getfield 91, 3) := by decide +kernel
theorem dX0_pairsAround_17 : decode cX0_pairsAround 17 = .ok (.iload_n 1, 1) := by decide +kernel
theorem dX0_pairsAround_18 : decode cX0_pairsAround 18 = .ok (.iconst 1, 1) := by decide +kernel
theorem dX0_pairsAround_19 : decode cX0_pairsAround 19 = .ok (.isub, 1) := by decide +kernel
theorem dX0_pairsAround_20 : decode cX0_pairsAround 20 = .ok (.invokevirtual 116, 3) := by decide +kernel
theorem dX0_pairsAround_23 : decode cX0_pairsAround 23 = .ok (.istore_n 3, 1) := by decide +kernel
theorem dX0_pairsAround_24 : decode cX0_pairsAround 24 = .ok (.aload_n 0, 1) := by decide +kernel
theorem dX0_pairsAround_25 : decode cX0_pairsAround 25 = .ok (.getfield 7, 3) := by decide +kernel
theorem dX0_pairsAround_28 : decode cX0_pairsAround 28 = .ok (.aload_n 0, 1) := by decide +kernel
theorem dX0_pairsAround_29 : decode cX0_pairsAround 29 = .ok (.getfield 81, 3) := by decide +kernel
theorem dX0_pairsAround_32 : decode cX0_pairsAround 32 = .ok (.baload, 1) := by decide +kernel
theorem dX0_pairsAround_33 : decode cX0_pairsAround 33 = .ok (.istore 4, 2) := by decide +kernel
theorem dX0_pairsAround_35 : decode cX0_pairsAround 35 = .ok (.iload 4, 2) := by decide +kernel
theorem dX0_pairsAround_37 : decode cX0_pairsAround 37 = .ok (.iload_n 1, 1) := by decide +kernel
theorem dX0_pairsAround_38 : decode cX0_pairsAround 38 = .ok (.iconst 3, 1) := by decide +kernel
theorem dX0_pairsAround_39 : decode cX0_pairsAround 39 = .ok (.iadd, 1) := by decide +kernel
theorem dX0_pairsAround_40 : decode cX0_pairsAround 40 = .ok (.if_icmp .ne 10, 3) := by decide +kernel
theorem dX0_pairsAround_43 : decode cX0_pairsAround 43 = .ok (.iload_n 2, 1) := by decide +kernel
theorem dX0_pairsAround_44 : decode cX0_pairsAround 44 = .ok (.ifCond .le 6, 3) := by decide +kernel
theorem dX0_pairsAround_47 : decode cX0_pairsAround 47 = .ok (.iinc 2 (-1), 3) := by decide +kernel
theorem dX0_pairsAround_50 : decode cX0_pairsAround 50 = .ok (.iload 4, 2) := by decide +kernel
theorem dX0_pairsAround_52 : decode cX0_pairsAround 52 = .ok (.iload_n 1, 1) := by decide +kernel
theorem dX0_pairsAround_53 : decode cX0_pairsAround 53 = .ok (.if_icmp .ne 10, 3) := by decide +kernel
theorem dX0_pairsAround_56 : decode cX0_pairsAround 56 = .ok (.iload_n 3, 1) := by decide +kernel
theorem dX0_pairsAround_57 : decode cX0_pairsAround 57 = .ok (.ifCond .le 6, 3) := by decide +kernel
theorem dX0_pairsAround_60 : decode cX0_pairsAround 60 = .ok (.iinc 3 (-1), 3) := by decide +kernel
theorem dX0_pairsAround_63 : decode cX0_pairsAround 63 = .ok (.iload_n 2, 1) := by decide +kernel
theorem dX0_pairsAround_64 : decode cX0_pairsAround 64 = .ok (.iload_n 3, 1) := by decide +kernel
theorem dX0_pairsAround_65 : decode cX0_pairsAround 65 = .ok (.if_icmp .ge 7, 3) := by decide +kernel
theorem dX0_pairsAround_68 : decode cX0_pairsAround 68 = .ok (.iload_n 2, 1) := by decide +kernel
theorem dX0_pairsAround_69 : decode cX0_pairsAround 69 = .ok (.goto 4, 3) := by decide +kernel
theorem dX0_pairsAround_72 : decode cX0_pairsAround 72 = .ok (.iload_n 3, 1) := by decide +kernel
theorem dX0_pairsAround_73 : decode cX0_pairsAround 73 = .ok (.ireturn, 1) := by decide +kernel
theorem dX0_depth_0 : decode cX0_depth 0 = .ok (.iload_n 1, 1) := by decide +kernel
theorem dX0_depth_1 : decode cX0_depth 1 = .ok (.ifCond .lt 21, 3) := by decide +kernel
theorem dX0_depth_4 : decode cX0_depth 4 = .ok (.iload_n 1, 1) := by decide +kernel
theorem dX0_depth_5 : decode cX0_depth 5 = .ok (.aload_n 0, 1) := by decide +kernel
theorem dX0_depth_6 : decode cX0_depth 6 = .ok (.invokevirtual 52, 3) := by decide +kernel
theorem dX0_depth_9 : decode cX0_depth 9 = .ok (.if_icmp .ge 13, 3) := by decide +kernel
theorem dX0_depth_12 : decode cX0_depth 12 = .ok (.iload_n 2, 1) := by decide +kernel
theorem dX0_depth_13 : decode cX0_depth 13 = .ok (.iconst 1, 1) := by decide +kernel
theorem dX0_depth_14 : decode cX0_depth 14 = .ok (.if_icmp .lt 8, 3) := by decide +kernel
theorem dX0_depth_17 : decode cX0_depth 17 = .ok (.iload_n 2, 1) := by decide +kernel
theorem dX0_depth_18 : decode cX0_depth 18 = .ok (.iconst 3, 1) := by decide +kernel
theorem dX0_depth_19 : decode cX0_depth 19 = .ok (.if_icmp .le 5, 3) := by decide +kernel
theorem dX0_depth_22 : decode cX0_depth 22 = .ok (.iconst (-1), 1) := by decide +kernel
theorem dX0_depth_23 : decode cX0_depth 23 = .ok (.ireturn, 1) := by decide +kernel
theorem dX0_depth_24 : decode cX0_depth 24 = .ok (.aload_n 0, 1) := by decide +kernel
theorem dX0_depth_25 : decode cX0_depth 25 = .ok (.iload_n 1, 1) := by decide +kernel
theorem dX0_depth_26 : decode cX0_depth 26 = .ok (.iconst 1, 1) := by decide +kernel
theorem dX0_depth_27 : decode cX0_depth 27 = .ok (.invokevirtual 78, 3) := by decide +kernel
theorem dX0_depth_30 : decode cX0_depth 30 = .ok (.aload_n 0, 1) := by decide +kernel
theorem dX0_depth_31 : decode cX0_depth 31 = .ok (.iload_n 2, 1) := by decide +kernel
theorem dX0_depth_32 : decode cX0_depth 32 = .ok (.invokevirtual 110, 3) := by decide +kernel
theorem dX0_depth_35 : decode cX0_depth 35 = .ok (.istore_n 3, 1) := by decide +kernel
theorem dX0_depth_36 : decode cX0_depth 36 = .ok (.aload_n 0, 1) := by decide +kernel
theorem dX0_depth_37 : decode cX0_depth 37 = .ok (.invokevirtual 97, 3) := by decide +kernel
theorem dX0_depth_40 : decode cX0_depth 40 = .ok (.iload_n 3, 1) := by decide +kernel
theorem dX0_depth_41 : decode cX0_depth 41 = .ok (.ireturn, 1) := by decide +kernel
theorem dX0_looseOpen_0 : decode cX0_looseOpen 0 = .ok (.aload_n 0, 1) := by decide +kernel
theorem dX0_looseOpen_1 : decode cX0_looseOpen 1 = .ok (.iload_n 1, 1) := by decide +kernel
theorem dX0_looseOpen_2 : decode cX0_looseOpen 2 = .ok (.iload_n 2, 1) := by decide +kernel
theorem dX0_looseOpen_3 : decode cX0_looseOpen 3 = .ok (.invokevirtual 74, 3) := by decide +kernel
theorem dX0_looseOpen_6 : decode cX0_looseOpen 6 = .ok (.ifCond .eq 13, 3) := by decide +kernel
theorem dX0_looseOpen_9 : decode cX0_looseOpen 9 = .ok (.iload_n 3, 1) := by decide +kernel
theorem dX0_looseOpen_10 : decode cX0_looseOpen 10 = .ok (.iconst 1, 1) := by decide +kernel
end
section
set_option maxRecDepth 100000
theorem dX0_looseOpen_11 : decode cX0_looseOpen 11 = .ok (.if_icmp .lt 8, 3) := by decide +kernel
theorem dX0_looseOpen_14 : decode cX0_looseOpen 14 = .ok (.iload_n 3, 1) := by decide +kernel
theorem dX0_looseOpen_15 : decode cX0_looseOpen 15 = .ok (.iconst 3, 1) := by decide +kernel
theorem dX0_looseOpen_16 : decode cX0_looseOpen 16 = .ok (.if_icmp .le 5, 3) := by decide +kernel
theorem dX0_looseOpen_19 : decode cX0_looseOpen 19 = .ok (.iconst (-1), 1) := by decide +kernel
theorem dX0_looseOpen_20 : decode cX0_looseOpen 20 = .ok (.ireturn, 1) := by decide +kernel
theorem dX0_looseOpen_21 : decode cX0_looseOpen 21 = .ok (.aload_n 0, 1) := by decide +kernel
theorem dX0_looseOpen_22 : decode cX0_looseOpen 22 = .ok (.iload_n 1, 1) := by decide +kernel
theorem dX0_looseOpen_23 : decode cX0_looseOpen 23 = .ok (.iload_n 2, 1) := by decide +kernel
theorem dX0_looseOpen_24 : decode cX0_looseOpen 24 = .ok (.invokevirtual 78, 3) := by decide +kernel
theorem dX0_looseOpen_27 : decode cX0_looseOpen 27 = .ok (.aload_n 0, 1) := by decide +kernel
theorem dX0_looseOpen_28 : decode cX0_looseOpen 28 = .ok (.aload_n 0, 1) := by decide +kernel
theorem dX0_looseOpen_29 : decode cX0_looseOpen 29 = .ok (.getfield 81, 3) := by decide +kernel
theorem dX0_looseOpen_32 : decode cX0_looseOpen 32 = .ok (.iload_n 3, 1) := by decide +kernel
theorem dX0_looseOpen_33 : decode cX0_looseOpen 33 = .ok (.iconst 1, 1) := by decide +kernel
theorem dX0_looseOpen_34 : decode cX0_looseOpen 34 = .ok (.isub, 1) := by decide +kernel
theorem dX0_looseOpen_35 : decode cX0_looseOpen 35 = .ok (.invokevirtual 113, 3) := by decide +kernel
theorem dX0_looseOpen_38 : decode cX0_looseOpen 38 = .ok (.istore 4, 2) := by decide +kernel
theorem dX0_looseOpen_40 : decode cX0_looseOpen 40 = .ok (.aload_n 0, 1) := by decide +kernel
theorem dX0_looseOpen_41 : decode cX0_looseOpen 41 = .ok (.invokevirtual 97, 3) := by decide +kernel
theorem dX0_looseOpen_44 : decode cX0_looseOpen 44 = .ok (.iload 4, 2) := by decide +kernel
theorem dX0_looseOpen_46 : decode cX0_looseOpen 46 = .ok (.ireturn, 1) := by decide +kernel
theorem dX0_looseClose_0 : decode cX0_looseClose 0 = .ok (.aload_n 0, 1) := by decide +kernel
theorem dX0_looseClose_1 : decode cX0_looseClose 1 = .ok (.iload_n 1, 1) := by decide +kernel
theorem dX0_looseClose_2 : decode cX0_looseClose 2 = .ok (.iload_n 2, 1) := by decide +kernel
theorem dX0_looseClose_3 : decode cX0_looseClose 3 = .ok (.invokevirtual 74, 3) := by decide +kernel
theorem dX0_looseClose_6 : decode cX0_looseClose 6 = .ok (.ifCond .eq 13, 3) := by decide +kernel
theorem dX0_looseClose_9 : decode cX0_looseClose 9 = .ok (.iload_n 3, 1) := by decide +kernel
theorem dX0_looseClose_10 : decode cX0_looseClose 10 = .ok (.iconst 1, 1) := by decide +kernel
theorem dX0_looseClose_11 : decode cX0_looseClose 11 = .ok (.if_icmp .lt 8, 3) := by decide +kernel
theorem dX0_looseClose_14 : decode cX0_looseClose 14 = .ok (.iload_n 3, 1) := by decide +kernel
theorem dX0_looseClose_15 : decode cX0_looseClose 15 = .ok (.iconst 3, 1) := by decide +kernel
theorem dX0_looseClose_16 : decode cX0_looseClose 16 = .ok (.if_icmp .le 5, 3) := by decide +kernel
theorem dX0_looseClose_19 : decode cX0_looseClose 19 = .ok (.iconst (-1), 1) := by decide +kernel
theorem dX0_looseClose_20 : decode cX0_looseClose 20 = .ok (.ireturn, 1) := by decide +kernel
theorem dX0_looseClose_21 : decode cX0_looseClose 21 = .ok (.aload_n 0, 1) := by decide +kernel
theorem dX0_looseClose_22 : decode cX0_looseClose 22 = .ok (.iload_n 1, 1) := by decide +kernel
theorem dX0_looseClose_23 : decode cX0_looseClose 23 = .ok (.iload_n 2, 1) := by decide +kernel
theorem dX0_looseClose_24 : decode cX0_looseClose 24 = .ok (.invokevirtual 78, 3) := by decide +kernel
theorem dX0_looseClose_27 : decode cX0_looseClose 27 = .ok (.aload_n 0, 1) := by decide +kernel
theorem dX0_looseClose_28 : decode cX0_looseClose 28 = .ok (.aload_n 0, 1) := by decide +kernel
theorem dX0_looseClose_29 : decode cX0_looseClose 29 = .ok (.getfield 81, 3) := by decide +kernel
theorem dX0_looseClose_32 : decode cX0_looseClose 32 = .ok (.iload_n 3, 1) := by decide +kernel
theorem dX0_looseClose_33 : decode cX0_looseClose 33 = .ok (.iconst 1, 1) := by decide +kernel
theorem dX0_looseClose_34 : decode cX0_looseClose 34 = .ok (.isub, 1) := by decide +kernel
theorem dX0_looseClose_35 : decode cX0_looseClose 35 = .ok (.invokevirtual 116, 3) := by decide +kernel
theorem dX0_looseClose_38 : decode cX0_looseClose 38 = .ok (.istore 4, 2) := by decide +kernel
theorem dX0_looseClose_40 : decode cX0_looseClose 40 = .ok (.aload_n 0, 1) := by decide +kernel
theorem dX0_looseClose_41 : decode cX0_looseClose 41 = .ok (.invokevirtual 97, 3) := by decide +kernel
theorem dX0_looseClose_44 : decode cX0_looseClose 44 = .ok (.iload 4, 2) := by decide +kernel
theorem dX0_looseClose_46 : decode cX0_looseClose 46 = .ok (.ireturn, 1) := by decide +kernel
theorem dX1_init_0 : decode cX1_init 0 = .ok (.aload_n 0, 1) := by decide +kernel
theorem dX1_init_1 : decode cX1_init 1 = .ok (.invokespecial 1, 3) := by decide +kernel
theorem dX1_init_4 : decode cX1_init 4 = .ok (.aload_n 0, 1) := by decide +kernel
theorem dX1_init_5 : decode cX1_init 5 = .ok (.iconst 0, 1) := by decide +kernel
theorem dX1_init_6 : decode cX1_init 6 = .ok (.putfield 7, 3) := by decide +kernel
theorem dX1_init_9 : decode cX1_init 9 = .ok (.aload_n 0, 1) := by decide +kernel
theorem dX1_init_10 : decode cX1_init 10 = .ok (.bipush 60, 2) := by decide +kernel
theorem dX1_init_12 : decode cX1_init 12 = .ok (.newarray .int, 2) := by decide +kernel
theorem dX1_init_14 : decode cX1_init 14 = .ok (.putfield 13, 3) := by decide +kernel
theorem dX1_init_17 : decode cX1_init 17 = .ok (.aload_n 0, 1) := by decide +kernel
theorem dX1_init_18 : decode cX1_init 18 = .ok (.bipush 60, 2) := by decide +kernel
theorem dX1_init_20 : decode cX1_init 20 = .ok (.newarray .int, 2) := by decide +kernel
theorem dX1_init_22 : decode cX1_init 22 = .ok (.putfield 17, 3) := by decide +kernel
theorem dX1_init_25 : decode cX1_init 25 = .ok (.return_, 1) := by decide +kernel
theorem dX1_insert_0 : decode cX1_insert 0 = .ok (.aload_n 0, 1) := by decide +kernel
theorem dX1_insert_1 : decode cX1_insert 1 = .ok (.getfield 7, 3) := by decide +kernel
theorem dX1_insert_4 : decode cX1_insert 4 = .ok (.bipush 60, 2) := by decide +kernel
theorem dX1_insert_6 : decode cX1_insert 6 = .ok (.if_icmp .ne 6, 3) := by decide +kernel
theorem dX1_insert_9 : decode cX1_insert 9 = .ok (.bipush (-2), 2) := by decide +kernel
theorem dX1_insert_11 : decode cX1_insert 11 = .ok (.ireturn, 1) := by decide +kernel
theorem dX1_insert_12 : decode cX1_insert 12 = .ok (.iload_n 1, 1) := by decide +kernel
theorem dX1_insert_13 : decode cX1_insert 13 = .ok (.ifCond .lt 21, 3) := by decide +kernel
theorem dX1_insert_16 : decode cX1_insert 16 = .ok (.iload_n 1, 1) := by decide +kernel
theorem dX1_insert_17 : decode cX1_insert 17 = .ok (.aload_n 0, 1) := by decide +kernel
theorem dX1_insert_18 : decode cX1_insert 18 = .ok (.getfield 7, 3) := by decide +kernel
theorem dX1_insert_21 : decode cX1_insert 21 = .ok (.if_icmp .gt 13, 3) := by decide +kernel
theorem dX1_insert_24 : decode cX1_insert 24 = .ok (.iload_n 2, 1) := by decide +kernel
theorem dX1_insert_25 : decode cX1_insert 25 = .ok (.ifCond .lt 9, 3) := by decide +kernel
theorem dX1_insert_28 : decode cX1_insert 28 = .ok (.iload_n 2, 1) := by decide +kernel
theorem dX1_insert_29 : decode cX1_insert 29 = .ok (.bipush 6, 2) := by decide +kernel
theorem dX1_insert_31 : decode cX1_insert 31 = .ok (.if_icmp .le 5, 3) := by decide +kernel
theorem dX1_insert_34 : decode cX1_insert 34 = .ok (.iconst (-1), 1) := by decide +kernel
theorem dX1_insert_35 : decode cX1_insert 35 = .ok (.ireturn, 1) := by decide +kernel
theorem dX1_insert_36 : decode cX1_insert 36 = .ok (.aload_n 0, 1) := by decide +kernel
theorem dX1_insert_37 : decode cX1_insert 37 = .ok (.getfield 7, 3) := by decide +kernel
theorem dX1_insert_40 : decode cX1_insert 40 = .ok (.istore_n 3, 1) := by decide +kernel
theorem dX1_insert_41 : decode cX1_insert 41 = .ok (.iload_n 3, 1) := by decide +kernel
theorem dX1_insert_42 : decode cX1_insert 42 = .ok (.iload_n 1, 1) := by decide +kernel
theorem dX1_insert_43 : decode cX1_insert 43 = .ok (.if_icmp .le 23, 3) := by decide +kernel
theorem dX1_insert_46 : decode cX1_insert 46 = .ok (.aload_n 0, 1) := by decide +kernel
theorem dX1_insert_47 : decode cX1_insert 47 = .ok (.getfield 13, 3) := by decide +kernel
theorem dX1_insert_50 : decode cX1_insert 50 = .ok (.iload_n 3, 1) := by decide +kernel
theorem dX1_insert_51 : decode cX1_insert 51 = .ok (.aload_n 0, 1) := by decide +kernel
theorem dX1_insert_52 : decode cX1_insert 52 = .ok (.getfield 13, 3) := by decide +kernel
theorem dX1_insert_55 : decode cX1_insert 55 = .ok (.iload_n 3, 1) := by decide +kernel
theorem dX1_insert_56 : decode cX1_insert 56 = .ok (.iconst 1, 1) := by decide +kernel
theorem dX1_insert_57 : decode cX1_insert 57 = .ok (.isub, 1) := by decide +kernel
theorem dX1_insert_58 : decode cX1_insert 58 = .ok (.iaload, 1) := by decide +kernel
theorem dX1_insert_59 : decode cX1_insert 59 = .ok (.iastore, 1) := by decide +kernel
theorem dX1_insert_60 : decode cX1_insert 60 = .ok (.iinc 3 (-1), 3) := by decide +kernel
theorem dX1_insert_63 : decode cX1_insert 63 = .ok (.goto (-22), 3) := by decide +kernel
theorem dX1_insert_66 : decode cX1_insert 66 = .ok (.aload_n 0, 1) := by decide +kernel
theorem dX1_insert_67 : decode cX1_insert 67 = .ok (.getfield 13, 3) := by decide +kernel
theorem dX1_insert_70 : decode cX1_insert 70 = .ok (.iload_n 1, 1) := by decide +kernel
theorem dX1_insert_71 : decode cX1_insert 71 = .ok (.iload_n 2, 1) := by decide +kernel
theorem dX1_insert_72 : decode cX1_insert 72 = .ok (.iastore, 1) := by decide +kernel
theorem dX1_insert_73 : decode cX1_insert 73 = .ok (.aload_n 0, 1) := by decide +kernel
theorem dX1_insert_74 : decode cX1_insert 74 = .ok (.dup, 1) := by decide +kernel
theorem dX1_insert_75 : decode cX1_insert 75 = .ok (.getfield 7, 3) := by decide +kernel
theorem dX1_insert_78 : decode cX1_insert 78 = .ok (.iconst 1, 1) := by decide +kernel
theorem dX1_insert_79 : decode cX1_insert 79 = .ok (.iadd, 1) := by decide +kernel
theorem dX1_insert_80 : decode cX1_insert 80 = .ok (.putfield 7, 3) := by decide +kernel
theorem dX1_insert_83 : decode cX1_insert 83 = .ok (.aload_n 0, 1) := by decide +kernel
theorem dX1_insert_84 : decode cX1_insert 84 = .ok (.getfield 7, 3) := by decide +kernel
theorem dX1_insert_87 : decode cX1_insert 87 = .ok (.ireturn, 1) := by decide +kernel
theorem dX1_erase_0 : decode cX1_erase 0 = .ok (.aload_n 0, 1) := by decide +kernel
theorem dX1_erase_1 : decode cX1_erase 1 = .ok (.iload_n 1, 1) := by decide +kernel
theorem dX1_erase_2 : decode cX1_erase 2 = .ok (.iload_n 2, 1) := by decide +kernel
theorem dX1_erase_3 : decode cX1_erase 3 = .ok (.invokevirtual 20, 3) := by decide +kernel
theorem dX1_erase_6 : decode cX1_erase 6 = .ok (.ifCond .ne 5, 3) := by decide +kernel
theorem dX1_erase_9 : decode cX1_erase 9 = .ok (.iconst (-1), 1) := by decide +kernel
theorem dX1_erase_10 : decode cX1_erase 10 = .ok (.ireturn, 1) := by decide +kernel
theorem dX1_erase_11 : decode cX1_erase 11 = .ok (.iload_n 1, 1) := by decide +kernel
theorem dX1_erase_12 : decode cX1_erase 12 = .ok (.iload_n 2, 1) := by decide +kernel
theorem dX1_erase_13 : decode cX1_erase 13 = .ok (.iadd, 1) := by decide +kernel
theorem dX1_erase_14 : decode cX1_erase 14 = .ok (.istore_n 3, 1) := by decide +kernel
theorem dX1_erase_15 : decode cX1_erase 15 = .ok (.iload_n 3, 1) := by decide +kernel
theorem dX1_erase_16 : decode cX1_erase 16 = .ok (.aload_n 0, 1) := by decide +kernel
theorem dX1_erase_17 : decode cX1_erase 17 = .ok (.getfield 7, 3) := by decide +kernel
theorem dX1_erase_20 : decode cX1_erase 20 = .ok (.if_icmp .ge 23, 3) := by decide +kernel
theorem dX1_erase_23 : decode cX1_erase 23 = .ok (.aload_n 0, 1) := by decide +kernel
theorem dX1_erase_24 : decode cX1_erase 24 = .ok (.getfield 13, 3) := by decide +kernel
theorem dX1_erase_27 : decode cX1_erase 27 = .ok (.iload_n 3, 1) := by decide +kernel
theorem dX1_erase_28 : decode cX1_erase 28 = .ok (.iload_n 2, 1) := by decide +kernel
theorem dX1_erase_29 : decode cX1_erase 29 = .ok (.isub, 1) := by decide +kernel
theorem dX1_erase_30 : decode cX1_erase 30 = .ok (.aload_n 0, 1) := by decide +kernel
theorem dX1_erase_31 : decode cX1_erase 31 = .ok (.getfield 13, 3) := by decide +kernel
theorem dX1_erase_34 : decode cX1_erase 34 = .ok (.iload_n 3, 1) := by decide +kernel
theorem dX1_erase_35 : decode cX1_erase 35 = .ok (.iaload, 1) := by decide +kernel
theorem dX1_erase_36 : decode cX1_erase 36 = .ok (.iastore, 1) := by decide +kernel
theorem dX1_erase_37 : decode cX1_erase 37 = .ok (.iinc 3 1, 3) := by decide +kernel
theorem dX1_erase_40 : decode cX1_erase 40 = .ok (.goto (-25), 3) := by decide +kernel
theorem dX1_erase_43 : decode cX1_erase 43 = .ok (.aload_n 0, 1) := by decide +kernel
theorem dX1_erase_44 : decode cX1_erase 44 = .ok (.dup, 1) := by decide +kernel
theorem dX1_erase_45 : decode cX1_erase 45 = .ok (.getfield 7, 3) := by decide +kernel
theorem dX1_erase_48 : decode cX1_erase 48 = .ok (.iload_n 2, 1) := by decide +kernel
theorem dX1_erase_49 : decode cX1_erase 49 = .ok (.isub, 1) := by decide +kernel
theorem dX1_erase_50 : decode cX1_erase 50 = .ok (.putfield 7, 3) := by decide +kernel
theorem dX1_erase_53 : decode cX1_erase 53 = .ok (.aload_n 0, 1) := by decide +kernel
theorem dX1_erase_54 : decode cX1_erase 54 = .ok (.getfield 7, 3) := by decide +kernel
theorem dX1_erase_57 : decode cX1_erase 57 = .ok (.ireturn, 1) := by decide +kernel
theorem dX1_isStretch_0 : decode cX1_isStretch 0 = .ok (.iload_n 1, 1) := by decide +kernel
theorem dX1_isStretch_1 : decode cX1_isStretch 1 = .ok (.ifCond .lt 29, 3) := by decide +kernel
theorem dX1_isStretch_4 : decode cX1_isStretch 4 = .ok (.iload_n 2, 1) := by decide +kernel
theorem dX1_isStretch_5 : decode cX1_isStretch 5 = .ok (.ifCond .lt 25, 3) := by decide +kernel
theorem dX1_isStretch_8 : decode cX1_isStretch 8 = .ok (.iload_n 1, 1) := by decide +kernel
theorem dX1_isStretch_9 : decode cX1_isStretch 9 = .ok (.aload_n 0, 1) := by decide +kernel
theorem dX1_isStretch_10 : decode cX1_isStretch 10 = .ok (.getfield 7, 3) := by decide +kernel
theorem dX1_isStretch_13 : decode cX1_isStretch 13 = .ok (.if_icmp .gt 17, 3) := by decide +kernel
theorem dX1_isStretch_16 : decode cX1_isStretch 16 = .ok (.iload_n 2, 1) := by decide +kernel
theorem dX1_isStretch_17 : decode cX1_isStretch 17 = .ok (.aload_n 0, 1) := by decide +kernel
theorem dX1_isStretch_18 : decode cX1_isStretch 18 = .ok (.getfield 7, 3) := by decide +kernel
theorem dX1_isStretch_21 : decode cX1_isStretch 21 = .ok (.iload_n 1, 1) := by decide +kernel
theorem dX1_isStretch_22 : decode cX1_isStretch 22 = .ok (.isub, 1) := by decide +kernel
theorem dX1_isStretch_23 : decode cX1_isStretch 23 = .ok (.if_icmp .gt 7, 3) := by decide +kernel
theorem dX1_isStretch_26 : decode cX1_isStretch 26 = .ok (.iconst 1, 1) := by decide +kernel
theorem dX1_isStretch_27 : decode cX1_isStretch 27 = .ok (.goto 4, 3) := by decide +kernel
theorem dX1_isStretch_30 : decode cX1_isStretch 30 = .ok (.iconst 0, 1) := by decide +kernel
theorem dX1_isStretch_31 : decode cX1_isStretch 31 = .ok (.ireturn, 1) := by decide +kernel
theorem dX1_move_0 : decode cX1_move 0 = .ok (.aload_n 0, 1) := by decide +kernel
theorem dX1_move_1 : decode cX1_move 1 = .ok (.iload_n 1, 1) := by decide +kernel
theorem dX1_move_2 : decode cX1_move 2 = .ok (.iload_n 2, 1) := by decide +kernel
theorem dX1_move_3 : decode cX1_move 3 = .ok (.invokevirtual 20, 3) := by decide +kernel
theorem dX1_move_6 : decode cX1_move 6 = .ok (.ifCond .eq 17, 3) := by decide +kernel
theorem dX1_move_9 : decode cX1_move 9 = .ok (.iload_n 3, 1) := by decide +kernel
theorem dX1_move_10 : decode cX1_move 10 = .ok (.ifCond .lt 13, 3) := by decide +kernel
theorem dX1_move_13 : decode cX1_move 13 = .ok (.iload_n 3, 1) := by decide +kernel
theorem dX1_move_14 : decode cX1_move 14 = .ok (.aload_n 0, 1) := by decide +kernel
theorem dX1_move_15 : decode cX1_move 15 = .ok (.getfield 7, 3) := by decide +kernel
theorem dX1_move_18 : decode cX1_move 18 = .ok (.iload_n 2, 1) := by decide +kernel
theorem dX1_move_19 : decode cX1_move 19 = .ok (.isub, 1) := by decide +kernel
theorem dX1_move_20 : decode cX1_move 20 = .ok (.if_icmp .le 5, 3) := by decide +kernel
theorem dX1_move_23 : decode cX1_move 23 = .ok (.iconst (-1), 1) := by decide +kernel
theorem dX1_move_24 : decode cX1_move 24 = .ok (.ireturn, 1) := by decide +kernel
theorem dX1_move_25 : decode cX1_move 25 = .ok (.iconst 0, 1) := by decide +kernel
theorem dX1_move_26 : decode cX1_move 26 = .ok (.istore 4, 2) := by decide +kernel
theorem dX1_move_28 : decode cX1_move 28 = .ok (.iload 4, 2) := by decide +kernel
theorem dX1_move_30 : decode cX1_move 30 = .ok (.iload_n 2, 1) := by decide +kernel
theorem dX1_move_31 : decode cX1_move 31 = .ok (.if_icmp .ge 25, 3) := by decide +kernel
theorem dX1_move_34 : decode cX1_move 34 = .ok (.aload_n 0, 1) := by decide +kernel
theorem dX1_move_35 : decode cX1_move 35 = .ok (.getfield 17, 3) := by decide +kernel
theorem dX1_move_38 : decode cX1_move 38 = .ok (.iload 4, 2) := by decide +kernel
theorem dX1_move_40 : decode cX1_move 40 = .ok (.aload_n 0, 1) := by decide +kernel
theorem dX1_move_41 : decode cX1_move 41 = .ok (.getfield 13, 3) := by decide +kernel
theorem dX1_move_44 : decode cX1_move 44 = .ok (.iload_n 1, 1) := by decide +kernel
theorem dX1_move_45 : decode cX1_move 45 = .ok (.iload 4, 2) := by decide +kernel
theorem dX1_move_47 : decode cX1_move 47 = .ok (.iadd, 1) := by decide +kernel
theorem dX1_move_48 : decode cX1_move 48 = .ok (.iaload, 1) := by decide +kernel
theorem dX1_move_49 : decode cX1_move 49 = .ok (.iastore, 1) := by decide +kernel
theorem dX1_move_50 : decode cX1_move 50 = .ok (.iinc 4 1, 3) := by decide +kernel
theorem dX1_move_53 : decode cX1_move 53 = .ok (.goto (-25), 3) := by decide +kernel
theorem dX1_move_56 : decode cX1_move 56 = .ok (.aload_n 0, 1) := by decide +kernel
theorem dX1_move_57 : decode cX1_move 57 = .ok (.iload_n 1, 1) := by decide +kernel
theorem dX1_move_58 : decode cX1_move 58 = .ok (.iload_n 2, 1) := by decide +kernel
theorem dX1_move_59 : decode cX1_move 59 = .ok (.invokevirtual 24, 3) := by decide +kernel
theorem dX1_move_62 : decode cX1_move 62 = .ok (.pop, 1) := by decide +kernel
theorem dX1_move_63 : decode cX1_move 63 = .ok (.iconst 0, 1) := by decide +kernel
theorem dX1_move_64 : decode cX1_move 64 = .ok (.istore 4, 2) := by decide +kernel
theorem dX1_move_66 : decode cX1_move 66 = .ok (.iload 4, 2) := by decide +kernel
theorem dX1_move_68 : decode cX1_move 68 = .ok (.iload_n 2, 1) := by decide +kernel
theorem dX1_move_69 : decode cX1_move 69 = .ok (.if_icmp .ge 25, 3) := by decide +kernel
theorem dX1_move_72 : decode cX1_move 72 = .ok (.aload_n 0, 1) := by decide +kernel
theorem dX1_move_73 : decode cX1_move 73 = .ok (.iload_n 3, 1) := by decide +kernel
theorem dX1_move_74 : decode cX1_move 74 = .ok (.iload 4, 2) := by decide +kernel
theorem dX1_move_76 : decode cX1_move 76 = .ok (.iadd, 1) := by decide +kernel
theorem dX1_move_77 : decode cX1_move 77 = .ok (.aload_n 0, 1) := by decide +kernel
theorem dX1_move_78 : decode cX1_move 78 = .ok (.getfield 17, 3) := by decide +kernel
theorem dX1_move_81 : decode cX1_move 81 = .ok (.iload 4, 2) := by decide +kernel
theorem dX1_move_83 : decode cX1_move 83 = .ok (.iaload, 1) := by decide +kernel
theorem dX1_move_84 : decode cX1_move 84 = .ok (.invokevirtual 28, 3) := by decide +kernel
theorem dX1_move_87 : decode cX1_move 87 = .ok (.pop, 1) := by decide +kernel
theorem dX1_move_88 : decode cX1_move 88 = .ok (.iinc 4 1, 3) := by decide +kernel
theorem dX1_move_91 : decode cX1_move 91 = .ok (.goto (-25), 3) := by decide +kernel
theorem dX1_move_94 : decode cX1_move 94 = .ok (.aload_n 0, 1) := by decide +kernel
theorem dX1_move_95 : decode cX1_move 95 = .ok (.getfield 7, 3) := by decide +kernel
theorem dX1_move_98 : decode cX1_move 98 = .ok (.ireturn, 1) := by decide +kernel
theorem dX1_mirror_0 : decode cX1_mirror 0 = .ok (.aload_n 0, 1) := by decide +kernel
theorem dX1_mirror_1 : decode cX1_mirror 1 = .ok (.iload_n 1, 1) := by decide +kernel
theorem dX1_mirror_2 : decode cX1_mirror 2 = .ok (.iload_n 2, 1) := by decide +kernel
theorem dX1_mirror_3 : decode cX1_mirror 3 = .ok (.invokevirtual 20, 3) := by decide +kernel
theorem dX1_mirror_6 : decode cX1_mirror 6 = .ok (.ifCond .ne 5, 3) := by decide +kernel
theorem dX1_mirror_9 : decode cX1_mirror 9 = .ok (.iconst (-1), 1) := by decide +kernel
theorem dX1_mirror_10 : decode cX1_mirror 10 = .ok (.ireturn, 1) := by decide +kernel
theorem dX1_mirror_11 : decode cX1_mirror 11 = .ok (.iconst 0, 1) := by decide +kernel
theorem dX1_mirror_12 : decode cX1_mirror 12 = .ok (.istore_n 3, 1) := by decide +kernel
theorem dX1_mirror_13 : decode cX1_mirror 13 = .ok (.iload_n 3, 1) := by decide +kernel
theorem dX1_mirror_14 : decode cX1_mirror 14 = .ok (.iload_n 2, 1) := by decide +kernel
theorem dX1_mirror_15 : decode cX1_mirror 15 = .ok (.if_icmp .ge 23, 3) := by decide +kernel
theorem dX1_mirror_18 : decode cX1_mirror 18 = .ok (.aload_n 0, 1) := by decide +kernel
theorem dX1_mirror_19 : decode cX1_mirror 19 = .ok (.getfield 17, 3) := by decide +kernel
theorem dX1_mirror_22 : decode cX1_mirror 22 = .ok (.iload_n 3, 1) := by decide +kernel
theorem dX1_mirror_23 : decode cX1_mirror 23 = .ok (.aload_n 0, 1) := by decide +kernel
theorem dX1_mirror_24 : decode cX1_mirror 24 = .ok (.getfield 13, 3) := by decide +kernel
theorem dX1_mirror_27 : decode cX1_mirror 27 = .ok (.iload_n 1, 1) := by decide +kernel
theorem dX1_mirror_28 : decode cX1_mirror 28 = .ok (.iload_n 3, 1) := by decide +kernel
theorem dX1_mirror_29 : decode cX1_mirror 29 = .ok (.iadd, 1) := by decide +kernel
theorem dX1_mirror_30 : decode cX1_mirror 30 = .ok (.iaload, 1) := by decide +kernel
theorem dX1_mirror_31 : decode cX1_mirror 31 = .ok (.iastore, 1) := by decide +kernel
theorem dX1_mirror_32 : decode cX1_mirror 32 = .ok (.iinc 3 1, 3) := by decide +kernel
theorem dX1_mirror_35 : decode cX1_mirror 35 = .ok (.goto (-22), 3) := by decide +kernel
theorem dX1_mirror_38 : decode cX1_mirror 38 = .ok (.iconst 0, 1) := by decide +kernel
theorem dX1_mirror_39 : decode cX1_mirror 39 = .ok (.istore_n 3, 1) := by decide +kernel
theorem dX1_mirror_40 : decode cX1_mirror 40 = .ok (.iload_n 3, 1) := by decide +kernel
theorem dX1_mirror_41 : decode cX1_mirror 41 = .ok (.iload_n 2, 1) := by decide +kernel
theorem dX1_mirror_42 : decode cX1_mirror 42 = .ok (.if_icmp .ge 55, 3) := by decide +kernel
theorem dX1_mirror_45 : decode cX1_mirror 45 = .ok (.aload_n 0, 1) := by decide +kernel
theorem dX1_mirror_46 : decode cX1_mirror 46 = .ok (.getfield 17, 3) := by decide +kernel
theorem dX1_mirror_49 : decode cX1_mirror 49 = .ok (.iload_n 2, 1) := by decide +kernel
theorem dX1_mirror_50 : decode cX1_mirror 50 = .ok (.iconst 1, 1) := by decide +kernel
theorem dX1_mirror_51 : decode cX1_mirror 51 = .ok (.isub, 1) := by decide +kernel
theorem dX1_mirror_52 : decode cX1_mirror 52 = .ok (.iload_n 3, 1) := by decide +kernel
theorem dX1_mirror_53 : decode cX1_mirror 53 = .ok (.isub, 1) := by decide +kernel
theorem dX1_mirror_54 : decode cX1_mirror 54 = .ok (.iaload, 1) := by decide +kernel
theorem dX1_mirror_55 : decode cX1_mirror 55 = .ok (.istore 4, 2) := by decide +kernel
theorem dX1_mirror_57 : decode cX1_mirror 57 = .ok (.aload_n 0, 1) := by decide +kernel
theorem dX1_mirror_58 : decode cX1_mirror 58 = .ok (.getfield 13, 3) := by decide +kernel
theorem dX1_mirror_61 : decode cX1_mirror 61 = .ok (.iload_n 1, 1) := by decide +kernel
theorem dX1_mirror_62 : decode cX1_mirror 62 = .ok (.iload_n 3, 1) := by decide +kernel
theorem dX1_mirror_63 : decode cX1_mirror 63 = .ok (.iadd, 1) := by decide +kernel
theorem dX1_mirror_64 : decode cX1_mirror 64 = .ok (.iload 4, 2) := by decide +kernel
theorem dX1_mirror_66 : decode cX1_mirror 66 = .ok (.ifCond .ne 7, 3) := by decide +kernel
theorem dX1_mirror_69 : decode cX1_mirror 69 = .ok (.iconst 0, 1) := by decide +kernel
theorem dX1_mirror_70 : decode cX1_mirror 70 = .ok (.goto 20, 3) := by decide +kernel
theorem dX1_mirror_73 : decode cX1_mirror 73 = .ok (.iload 4, 2) := by decide +kernel
theorem dX1_mirror_75 : decode cX1_mirror 75 = .ok (.iconst 3, 1) := by decide +kernel
theorem dX1_mirror_76 : decode cX1_mirror 76 = .ok (.if_icmp .gt 10, 3) := by decide +kernel
theorem dX1_mirror_79 : decode cX1_mirror 79 = .ok (.iload 4, 2) := by decide +kernel
theorem dX1_mirror_81 : decode cX1_mirror 81 = .ok (.iconst 3, 1) := by decide +kernel
theorem dX1_mirror_82 : decode cX1_mirror 82 = .ok (.iadd, 1) := by decide +kernel
theorem dX1_mirror_83 : decode cX1_mirror 83 = .ok (.goto 7, 3) := by decide +kernel
theorem dX1_mirror_86 : decode cX1_mirror 86 = .ok (.iload 4, 2) := by decide +kernel
theorem dX1_mirror_88 : decode cX1_mirror 88 = .ok (.iconst 3, 1) := by decide +kernel
theorem dX1_mirror_89 : decode cX1_mirror 89 = .ok (.isub, 1) := by decide +kernel
theorem dX1_mirror_90 : decode cX1_mirror 90 = .ok (.iastore, 1) := by decide +kernel
theorem dX1_mirror_91 : decode cX1_mirror 91 = .ok (.iinc 3 1, 3) := by decide +kernel
theorem dX1_mirror_94 : decode cX1_mirror 94 = .ok (.goto (-54), 3) := by decide +kernel
theorem dX1_mirror_97 : decode cX1_mirror 97 = .ok (.aload_n 0, 1) := by decide +kernel
theorem dX1_mirror_98 : decode cX1_mirror 98 = .ok (.getfield 7, 3) := by decide +kernel
theorem dX1_mirror_101 : decode cX1_mirror 101 = .ok (.ireturn, 1) := by decide +kernel
theorem dX1_codeAt_0 : decode cX1_codeAt 0 = .ok (.aload_n 0, 1) := by decide +kernel
theorem dX1_codeAt_1 : decode cX1_codeAt 1 = .ok (.iload_n 1, 1) := by decide +kernel
theorem dX1_codeAt_2 : decode cX1_codeAt 2 = .ok (.invokevirtual 31, 3) := by decide +kernel
theorem dX1_codeAt_5 : decode cX1_codeAt 5 = .ok (.ifCond .eq 12, 3) := by decide +kernel
theorem dX1_codeAt_8 : decode cX1_codeAt 8 = .ok (.aload_n 0, 1) := by decide +kernel
theorem dX1_codeAt_9 : decode cX1_codeAt 9 = .ok (.getfield 13, 3) := by decide +kernel
theorem dX1_codeAt_12 : decode cX1_codeAt 12 = .ok (.iload_n 1, 1) := by decide +kernel
theorem dX1_codeAt_13 : decode cX1_codeAt 13 = .ok (.iaload, 1) := by decide +kernel
theorem dX1_codeAt_14 : decode cX1_codeAt 14 = .ok (.goto 4, 3) := by decide +kernel
theorem dX1_codeAt_17 : decode cX1_codeAt 17 = .ok (.iconst (-1), 1) := by decide +kernel
theorem dX1_codeAt_18 : decode cX1_codeAt 18 = .ok (.ireturn, 1) := by decide +kernel
theorem dX1_isPlace_0 : decode cX1_isPlace 0 = .ok (.iload_n 1, 1) := by decide +kernel
theorem dX1_isPlace_1 : decode cX1_isPlace 1 = .ok (.ifCond .lt 15, 3) := by decide +kernel
theorem dX1_isPlace_4 : decode cX1_isPlace 4 = .ok (.iload_n 1, 1) := by decide +kernel
theorem dX1_isPlace_5 : decode cX1_isPlace 5 = .ok (.aload_n 0, 1) := by decide +kernel
theorem dX1_isPlace_6 : decode cX1_isPlace 6 = .ok (.getfield 7, 3) := by decide +kernel
theorem dX1_isPlace_9 : decode cX1_isPlace 9 = .ok (.if_icmp .ge 7, 3) := by decide +kernel
theorem dX1_isPlace_12 : decode cX1_isPlace 12 = .ok (.iconst 1, 1) := by decide +kernel
theorem dX1_isPlace_13 : decode cX1_isPlace 13 = .ok (.goto 4, 3) := by decide +kernel
theorem dX1_isPlace_16 : decode cX1_isPlace 16 = .ok (.iconst 0, 1) := by decide +kernel
theorem dX1_isPlace_17 : decode cX1_isPlace 17 = .ok (.ireturn, 1) := by decide +kernel
theorem dX1_partner_0 : decode cX1_partner 0 = .ok (.aload_n 0, 1) := by decide +kernel
theorem dX1_partner_1 : decode cX1_partner 1 = .ok (.iload_n 1, 1) := by decide +kernel
theorem dX1_partner_2 : decode cX1_partner 2 = .ok (.invokevirtual 31, 3) := by decide +kernel
theorem dX1_partner_5 : decode cX1_partner 5 = .ok (.ifCond .eq 16, 3) := by decide +kernel
theorem dX1_partner_8 : decode cX1_partner 8 = .ok (.aload_n 0, 1) := by decide +kernel
theorem dX1_partner_9 : decode cX1_partner 9 = .ok (.iload_n 1, 1) := by decide +kernel
theorem dX1_partner_10 : decode cX1_partner 10 = .ok (.iconst 0, 1) := by decide +kernel
theorem dX1_partner_11 : decode cX1_partner 11 = .ok (.aload_n 0, 1) := by decide +kernel
theorem dX1_partner_12 : decode cX1_partner 12 = .ok (.getfield 7, 3) := by decide +kernel
theorem dX1_partner_15 : decode cX1_partner 15 = .ok (.invokevirtual 39, 3) := by decide +kernel
theorem dX1_partner_18 : decode cX1_partner 18 = .ok (.goto 4, 3) := by decide +kernel
theorem dX1_partner_21 : decode cX1_partner 21 = .ok (.iconst (-1), 1) := by decide +kernel
theorem dX1_partner_22 : decode cX1_partner 22 = .ok (.ireturn, 1) := by decide +kernel
theorem dX1_mate_0 : decode cX1_mate 0 = .ok (.aload_n 0, 1) := by decide +kernel
theorem dX1_mate_1 : decode cX1_mate 1 = .ok (.getfield 13, 3) := by decide +kernel
theorem dX1_mate_4 : decode cX1_mate 4 = .ok (.iload_n 1, 1) := by decide +kernel
theorem dX1_mate_5 : decode cX1_mate 5 = .ok (.iaload, 1) := by decide +kernel
theorem dX1_mate_6 : decode cX1_mate 6 = .ok (.istore 4, 2) := by decide +kernel
theorem dX1_mate_8 : decode cX1_mate 8 = .ok (.iload 4, 2) := by decide +kernel
theorem dX1_mate_10 : decode cX1_mate 10 = .ok (.iconst 3, 1) := by decide +kernel
theorem dX1_mate_11 : decode cX1_mate 11 = .ok (.if_icmp .gt 8, 3) := by decide +kernel
theorem dX1_mate_14 : decode cX1_mate 14 = .ok (.iload 4, 2) := by decide +kernel
theorem dX1_mate_16 : decode cX1_mate 16 = .ok (.goto 7, 3) := by decide +kernel
theorem dX1_mate_19 : decode cX1_mate 19 = .ok (.iload 4, 2) := by decide +kernel
theorem dX1_mate_21 : decode cX1_mate 21 = .ok (.iconst 3, 1) := by decide +kernel
theorem dX1_mate_22 : decode cX1_mate 22 = .ok (.isub, 1) := by decide +kernel
theorem dX1_mate_23 : decode cX1_mate 23 = .ok (.istore 5, 2) := by decide +kernel
theorem dX1_mate_25 : decode cX1_mate 25 = .ok (.iload 4, 2) := by decide +kernel
theorem dX1_mate_27 : decode cX1_mate 27 = .ok (.ifCond .ne 6, 3) := by decide +kernel
theorem dX1_mate_30 : decode cX1_mate 30 = .ok (.bipush (-3), 2) := by decide +kernel
theorem dX1_mate_32 : decode cX1_mate 32 = .ok (.ireturn, 1) := by decide +kernel
theorem dX1_mate_33 : decode cX1_mate 33 = .ok (.iload_n 2, 1) := by decide +kernel
theorem dX1_mate_34 : decode cX1_mate 34 = .ok (.istore 6, 2) := by decide +kernel
theorem dX1_mate_36 : decode cX1_mate 36 = .ok (.iload 6, 2) := by decide +kernel
theorem dX1_mate_38 : decode cX1_mate 38 = .ok (.iload_n 3, 1) := by decide +kernel
theorem dX1_mate_39 : decode cX1_mate 39 = .ok (.if_icmp .ge 36, 3) := by decide +kernel
theorem dX1_mate_42 : decode cX1_mate 42 = .ok (.aload_n 0, 1) := by decide +kernel
theorem dX1_mate_43 : decode cX1_mate 43 = .ok (.iload_n 1, 1) := by decide +kernel
theorem dX1_mate_44 : decode cX1_mate 44 = .ok (.iload 6, 2) := by decide +kernel
theorem dX1_mate_46 : decode cX1_mate 46 = .ok (.iload 5, 2) := by decide +kernel
theorem dX1_mate_48 : decode cX1_mate 48 = .ok (.invokevirtual 35, 3) := by decide +kernel
theorem dX1_mate_51 : decode cX1_mate 51 = .ok (.ifCond .ne 15, 3) := by decide +kernel
theorem dX1_mate_54 : decode cX1_mate 54 = .ok (.aload_n 0, 1) := by decide +kernel
theorem dX1_mate_55 : decode cX1_mate 55 = .ok (.iload 6, 2) := by decide +kernel
theorem dX1_mate_57 : decode cX1_mate 57 = .ok (.iload_n 1, 1) := by decide +kernel
theorem dX1_mate_58 : decode cX1_mate 58 = .ok (.iload 5, 2) := by decide +kernel
theorem dX1_mate_60 : decode cX1_mate 60 = .ok (.invokevirtual 35, 3) := by decide +kernel
theorem dX1_mate_63 : decode cX1_mate 63 = .ok (.ifCond .eq 6, 3) := by decide +kernel
theorem dX1_mate_66 : decode cX1_mate 66 = .ok (.iload 6, 2) := by decide +kernel
theorem dX1_mate_68 : decode cX1_mate 68 = .ok (.ireturn, 1) := by decide +kernel
theorem dX1_mate_69 : decode cX1_mate 69 = .ok (.iinc 6 1, 3) := by decide +kernel
theorem dX1_mate_72 : decode cX1_mate 72 = .ok (.goto (-36), 3) := by decide +kernel
theorem dX1_mate_75 : decode cX1_mate 75 = .ok (.bipush (-3), 2) := by decide +kernel
theorem dX1_mate_77 : decode cX1_mate 77 = .ok (.ireturn, 1) := by decide +kernel
theorem dX1_isPair_0 : decode cX1_isPair 0 = .ok (.iload_n 1, 1) := by decide +kernel
theorem dX1_isPair_1 : decode cX1_isPair 1 = .ok (.iload_n 2, 1) := by decide +kernel
theorem dX1_isPair_2 : decode cX1_isPair 2 = .ok (.if_icmp .ge 25, 3) := by decide +kernel
theorem dX1_isPair_5 : decode cX1_isPair 5 = .ok (.aload_n 0, 1) := by decide +kernel
theorem dX1_isPair_6 : decode cX1_isPair 6 = .ok (.getfield 13, 3) := by decide +kernel
theorem dX1_isPair_9 : decode cX1_isPair 9 = .ok (.iload_n 1, 1) := by decide +kernel
theorem dX1_isPair_10 : decode cX1_isPair 10 = .ok (.iaload, 1) := by decide +kernel
theorem dX1_isPair_11 : decode cX1_isPair 11 = .ok (.iload_n 3, 1) := by decide +kernel
theorem dX1_isPair_12 : decode cX1_isPair 12 = .ok (.if_icmp .ne 15, 3) := by decide +kernel
theorem dX1_isPair_15 : decode cX1_isPair 15 = .ok (.aload_n 0, 1) := by decide +kernel
theorem dX1_isPair_16 : decode cX1_isPair 16 = .ok (.getfield 13, 3) := by decide +kernel
theorem dX1_isPair_19 : decode cX1_isPair 19 = .ok (.iload_n 2, 1) := by decide +kernel
theorem dX1_isPair_20 : decode cX1_isPair 20 = .ok (.iaload, 1) := by decide +kernel
theorem dX1_isPair_21 : decode cX1_isPair 21 = .ok (.iload_n 3, 1) := by decide +kernel
theorem dX1_isPair_22 : decode cX1_isPair 22 = .ok (.iconst 3, 1) := by decide +kernel
theorem dX1_isPair_23 : decode cX1_isPair 23 = .ok (.iadd, 1) := by decide +kernel
theorem dX1_isPair_24 : decode cX1_isPair 24 = .ok (.if_icmp .eq 5, 3) := by decide +kernel
theorem dX1_isPair_27 : decode cX1_isPair 27 = .ok (.iconst 0, 1) := by decide +kernel
theorem dX1_isPair_28 : decode cX1_isPair 28 = .ok (.ireturn, 1) := by decide +kernel
theorem dX1_isPair_29 : decode cX1_isPair 29 = .ok (.iconst 0, 1) := by decide +kernel
theorem dX1_isPair_30 : decode cX1_isPair 30 = .ok (.istore 4, 2) := by decide +kernel
theorem dX1_isPair_32 : decode cX1_isPair 32 = .ok (.iload_n 1, 1) := by decide +kernel
theorem dX1_isPair_33 : decode cX1_isPair 33 = .ok (.iconst 1, 1) := by decide +kernel
theorem dX1_isPair_34 : decode cX1_isPair 34 = .ok (.iadd, 1) := by decide +kernel
theorem dX1_isPair_35 : decode cX1_isPair 35 = .ok (.istore 5, 2) := by decide +kernel
theorem dX1_isPair_37 : decode cX1_isPair 37 = .ok (.iload 5, 2) := by decide +kernel
theorem dX1_isPair_39 : decode cX1_isPair 39 = .ok (.iload_n 2, 1) := by decide +kernel
theorem dX1_isPair_40 : decode cX1_isPair 40 = .ok (.if_icmp .ge 46, 3) := by decide +kernel
theorem dX1_isPair_43 : decode cX1_isPair 43 = .ok (.aload_n 0, 1) := by decide +kernel
theorem dX1_isPair_44 : decode cX1_isPair 44 = .ok (.getfield 13, 3) := by decide +kernel
theorem dX1_isPair_47 : decode cX1_isPair 47 = .ok (.iload 5, 2) := by decide +kernel
theorem dX1_isPair_49 : decode cX1_isPair 49 = .ok (.iaload, 1) := by decide +kernel
theorem dX1_isPair_50 : decode cX1_isPair 50 = .ok (.iload_n 3, 1) := by decide +kernel
theorem dX1_isPair_51 : decode cX1_isPair 51 = .ok (.if_icmp .ne 6, 3) := by decide +kernel
theorem dX1_isPair_54 : decode cX1_isPair 54 = .ok (.iinc 4 1, 3) := by decide +kernel
theorem dX1_isPair_57 : decode cX1_isPair 57 = .ok (.aload_n 0, 1) := by decide +kernel
theorem dX1_isPair_58 : decode cX1_isPair 58 = .ok (.getfield 13, 3) := by decide +kernel
theorem dX1_isPair_61 : decode cX1_isPair 61 = .ok (.iload 5, 2) := by decide +kernel
theorem dX1_isPair_63 : decode cX1_isPair 63 = .ok (.iaload, 1) := by decide +kernel
theorem dX1_isPair_64 : decode cX1_isPair 64 = .ok (.iload_n 3, 1) := by decide +kernel
theorem dX1_isPair_65 : decode cX1_isPair 65 = .ok (.iconst 3, 1) := by decide +kernel
theorem dX1_isPair_66 : decode cX1_isPair 66 = .ok (.iadd, 1) := by decide +kernel
theorem dX1_isPair_67 : decode cX1_isPair 67 = .ok (.if_icmp .ne 6, 3) := by decide +kernel
theorem dX1_isPair_70 : decode cX1_isPair 70 = .ok (.iinc 4 (-1), 3) := by decide +kernel
theorem dX1_isPair_73 : decode cX1_isPair 73 = .ok (.iload 4, 2) := by decide +kernel
theorem dX1_isPair_75 : decode cX1_isPair 75 = .ok (.ifCond .ge 5, 3) := by decide +kernel
theorem dX1_isPair_78 : decode cX1_isPair 78 = .ok (.iconst 0, 1) := by decide +kernel
theorem dX1_isPair_79 : decode cX1_isPair 79 = .ok (.ireturn, 1) := by decide +kernel
theorem dX1_isPair_80 : decode cX1_isPair 80 = .ok (.iinc 5 1, 3) := by decide +kernel
theorem dX1_isPair_83 : decode cX1_isPair 83 = .ok (.goto (-46), 3) := by decide +kernel
theorem dX1_isPair_86 : decode cX1_isPair 86 = .ok (.iload 4, 2) := by decide +kernel
theorem dX1_isPair_88 : decode cX1_isPair 88 = .ok (.ifCond .ne 7, 3) := by decide +kernel
theorem dX1_isPair_91 : decode cX1_isPair 91 = .ok (.iconst 1, 1) := by decide +kernel
theorem dX1_isPair_92 : decode cX1_isPair 92 = .ok (.goto 4, 3) := by decide +kernel
theorem dX1_isPair_95 : decode cX1_isPair 95 = .ok (.iconst 0, 1) := by decide +kernel
theorem dX1_isPair_96 : decode cX1_isPair 96 = .ok (.ireturn, 1) := by decide +kernel
theorem dX1_around_0 : decode cX1_around 0 = .ok (.aload_n 0, 1) := by decide +kernel
theorem dX1_around_1 : decode cX1_around 1 = .ok (.iload_n 1, 1) := by decide +kernel
theorem dX1_around_2 : decode cX1_around 2 = .ok (.invokevirtual 31, 3) := by decide +kernel
theorem dX1_around_5 : decode cX1_around 5 = .ok (.ifCond .eq 13, 3) := by decide +kernel
theorem dX1_around_8 : decode cX1_around 8 = .ok (.iload_n 2, 1) := by decide +kernel
theorem dX1_around_9 : decode cX1_around 9 = .ok (.iconst 1, 1) := by decide +kernel
theorem dX1_around_10 : decode cX1_around 10 = .ok (.if_icmp .lt 8, 3) := by decide +kernel
theorem dX1_around_13 : decode cX1_around 13 = .ok (.iload_n 2, 1) := by decide +kernel
theorem dX1_around_14 : decode cX1_around 14 = .ok (.iconst 3, 1) := by decide +kernel
theorem dX1_around_15 : decode cX1_around 15 = .ok (.if_icmp .le 5, 3) := by decide +kernel
theorem dX1_around_18 : decode cX1_around 18 = .ok (.iconst (-1), 1) := by decide +kernel
theorem dX1_around_19 : decode cX1_around 19 = .ok (.ireturn, 1) := by decide +kernel
theorem dX1_around_20 : decode cX1_around 20 = .ok (.iload_n 1, 1) := by decide +kernel
theorem dX1_around_21 : decode cX1_around 21 = .ok (.iconst 1, 1) := by decide +kernel
theorem dX1_around_22 : decode cX1_around 22 = .ok (.isub, 1) := by decide +kernel
theorem dX1_around_23 : decode cX1_around 23 = .ok (.istore_n 3, 1) := by decide +kernel
theorem dX1_around_24 : decode cX1_around 24 = .ok (.iload_n 3, 1) := by decide +kernel
theorem dX1_around_25 : decode cX1_around 25 = .ok (.ifCond .lt 42, 3) := by decide +kernel
theorem dX1_around_28 : decode cX1_around 28 = .ok (.aload_n 0, 1) := by decide +kernel
theorem dX1_around_29 : decode cX1_around 29 = .ok (.getfield 13, 3) := by decide +kernel
theorem dX1_around_32 : decode cX1_around 32 = .ok (.iload_n 3, 1) := by decide +kernel
theorem dX1_around_33 : decode cX1_around 33 = .ok (.iaload, 1) := by decide +kernel
theorem dX1_around_34 : decode cX1_around 34 = .ok (.iload_n 2, 1) := by decide +kernel
theorem dX1_around_35 : decode cX1_around 35 = .ok (.if_icmp .ne 26, 3) := by decide +kernel
theorem dX1_around_38 : decode cX1_around 38 = .ok (.aload_n 0, 1) := by decide +kernel
theorem dX1_around_39 : decode cX1_around 39 = .ok (.iload_n 3, 1) := by decide +kernel
theorem dX1_around_40 : decode cX1_around 40 = .ok (.iload_n 1, 1) := by decide +kernel
theorem dX1_around_41 : decode cX1_around 41 = .ok (.iconst 1, 1) := by decide +kernel
theorem dX1_around_42 : decode cX1_around 42 = .ok (.iadd, 1) := by decide +kernel
end
section
set_option maxRecDepth 100000
theorem dX1_around_43 : decode cX1_around 43 = .ok (.aload_n 0, 1) := by decide +kernel
theorem dX1_around_44 : decode cX1_around 44 = .ok (.getfield 7, 3) := by decide +kernel
theorem dX1_around_47 : decode cX1_around 47 = .ok (.invokevirtual 39, 3) := by decide +kernel
theorem dX1_around_50 : decode cX1_around 50 = .ok (.istore 4, 2) := by decide +kernel
theorem dX1_around_52 : decode cX1_around 52 = .ok (.iload 4, 2) := by decide +kernel
theorem dX1_around_54 : decode cX1_around 54 = .ok (.bipush (-3), 2) := by decide +kernel
theorem dX1_around_56 : decode cX1_around 56 = .ok (.if_icmp .eq 5, 3) := by decide +kernel
theorem dX1_around_59 : decode cX1_around 59 = .ok (.iload_n 3, 1) := by decide +kernel
theorem dX1_around_60 : decode cX1_around 60 = .ok (.ireturn, 1) := by decide +kernel
theorem dX1_around_61 : decode cX1_around 61 = .ok (.iinc 3 (-1), 3) := by decide +kernel
theorem dX1_around_64 : decode cX1_around 64 = .ok (.goto (-40), 3) := by decide +kernel
theorem dX1_around_67 : decode cX1_around 67 = .ok (.bipush (-3), 2) := by decide +kernel
theorem dX1_around_69 : decode cX1_around 69 = .ok (.ireturn, 1) := by decide +kernel
theorem dX1_depth_0 : decode cX1_depth 0 = .ok (.aload_n 0, 1) := by decide +kernel
theorem dX1_depth_1 : decode cX1_depth 1 = .ok (.iload_n 1, 1) := by decide +kernel
theorem dX1_depth_2 : decode cX1_depth 2 = .ok (.invokevirtual 31, 3) := by decide +kernel
theorem dX1_depth_5 : decode cX1_depth 5 = .ok (.ifCond .eq 13, 3) := by decide +kernel
theorem dX1_depth_8 : decode cX1_depth 8 = .ok (.iload_n 2, 1) := by decide +kernel
theorem dX1_depth_9 : decode cX1_depth 9 = .ok (.iconst 1, 1) := by decide +kernel
theorem dX1_depth_10 : decode cX1_depth 10 = .ok (.if_icmp .lt 8, 3) := by decide +kernel
theorem dX1_depth_13 : decode cX1_depth 13 = .ok (.iload_n 2, 1) := by decide +kernel
theorem dX1_depth_14 : decode cX1_depth 14 = .ok (.iconst 3, 1) := by decide +kernel
theorem dX1_depth_15 : decode cX1_depth 15 = .ok (.if_icmp .le 5, 3) := by decide +kernel
theorem dX1_depth_18 : decode cX1_depth 18 = .ok (.iconst (-1), 1) := by decide +kernel
theorem dX1_depth_19 : decode cX1_depth 19 = .ok (.ireturn, 1) := by decide +kernel
theorem dX1_depth_20 : decode cX1_depth 20 = .ok (.iconst 0, 1) := by decide +kernel
theorem dX1_depth_21 : decode cX1_depth 21 = .ok (.istore_n 3, 1) := by decide +kernel
theorem dX1_depth_22 : decode cX1_depth 22 = .ok (.iconst 0, 1) := by decide +kernel
theorem dX1_depth_23 : decode cX1_depth 23 = .ok (.istore 4, 2) := by decide +kernel
theorem dX1_depth_25 : decode cX1_depth 25 = .ok (.iload 4, 2) := by decide +kernel
theorem dX1_depth_27 : decode cX1_depth 27 = .ok (.iload_n 1, 1) := by decide +kernel
theorem dX1_depth_28 : decode cX1_depth 28 = .ok (.if_icmp .ge 44, 3) := by decide +kernel
theorem dX1_depth_31 : decode cX1_depth 31 = .ok (.iload_n 1, 1) := by decide +kernel
theorem dX1_depth_32 : decode cX1_depth 32 = .ok (.iconst 1, 1) := by decide +kernel
theorem dX1_depth_33 : decode cX1_depth 33 = .ok (.iadd, 1) := by decide +kernel
theorem dX1_depth_34 : decode cX1_depth 34 = .ok (.istore 5, 2) := by decide +kernel
theorem dX1_depth_36 : decode cX1_depth 36 = .ok (.iload 5, 2) := by decide +kernel
theorem dX1_depth_38 : decode cX1_depth 38 = .ok (.aload_n 0, 1) := by decide +kernel
theorem dX1_depth_39 : decode cX1_depth 39 = .ok (.getfield 7, 3) := by decide +kernel
theorem dX1_depth_42 : decode cX1_depth 42 = .ok (.if_icmp .ge 24, 3) := by decide +kernel
theorem dX1_depth_45 : decode cX1_depth 45 = .ok (.aload_n 0, 1) := by decide +kernel
theorem dX1_depth_46 : decode cX1_depth 46 = .ok (.iload 4, 2) := by decide +kernel
theorem dX1_depth_48 : decode cX1_depth 48 = .ok (.iload 5, 2) := by decide +kernel
theorem dX1_depth_50 : decode cX1_depth 50 = .ok (.iload_n 2, 1) := by decide +kernel
theorem dX1_depth_51 : decode cX1_depth 51 = .ok (.invokevirtual 35, 3) := by decide +kernel
theorem dX1_depth_54 : decode cX1_depth 54 = .ok (.ifCond .eq 6, 3) := by decide +kernel
theorem dX1_depth_57 : decode cX1_depth 57 = .ok (.iinc 3 1, 3) := by decide +kernel
theorem dX1_depth_60 : decode cX1_depth 60 = .ok (.iinc 5 1, 3) := by decide +kernel
theorem dX1_depth_63 : decode cX1_depth 63 = .ok (.goto (-27), 3) := by decide +kernel
theorem dX1_depth_66 : decode cX1_depth 66 = .ok (.iinc 4 1, 3) := by decide +kernel
theorem dX1_depth_69 : decode cX1_depth 69 = .ok (.goto (-44), 3) := by decide +kernel
theorem dX1_depth_72 : decode cX1_depth 72 = .ok (.iload_n 3, 1) := by decide +kernel
theorem dX1_depth_73 : decode cX1_depth 73 = .ok (.ireturn, 1) := by decide +kernel
theorem dX1_looseOpen_0 : decode cX1_looseOpen 0 = .ok (.aload_n 0, 1) := by decide +kernel
theorem dX1_looseOpen_1 : decode cX1_looseOpen 1 = .ok (.iload_n 1, 1) := by decide +kernel
theorem dX1_looseOpen_2 : decode cX1_looseOpen 2 = .ok (.iload_n 2, 1) := by decide +kernel
theorem dX1_looseOpen_3 : decode cX1_looseOpen 3 = .ok (.invokevirtual 20, 3) := by decide +kernel
theorem dX1_looseOpen_6 : decode cX1_looseOpen 6 = .ok (.ifCond .eq 13, 3) := by decide +kernel
theorem dX1_looseOpen_9 : decode cX1_looseOpen 9 = .ok (.iload_n 3, 1) := by decide +kernel
theorem dX1_looseOpen_10 : decode cX1_looseOpen 10 = .ok (.iconst 1, 1) := by decide +kernel
theorem dX1_looseOpen_11 : decode cX1_looseOpen 11 = .ok (.if_icmp .lt 8, 3) := by decide +kernel
theorem dX1_looseOpen_14 : decode cX1_looseOpen 14 = .ok (.iload_n 3, 1) := by decide +kernel
theorem dX1_looseOpen_15 : decode cX1_looseOpen 15 = .ok (.iconst 3, 1) := by decide +kernel
theorem dX1_looseOpen_16 : decode cX1_looseOpen 16 = .ok (.if_icmp .le 5, 3) := by decide +kernel
theorem dX1_looseOpen_19 : decode cX1_looseOpen 19 = .ok (.iconst (-1), 1) := by decide +kernel
theorem dX1_looseOpen_20 : decode cX1_looseOpen 20 = .ok (.ireturn, 1) := by decide +kernel
theorem dX1_looseOpen_21 : decode cX1_looseOpen 21 = .ok (.aload_n 0, 1) := by decide +kernel
theorem dX1_looseOpen_22 : decode cX1_looseOpen 22 = .ok (.iload_n 1, 1) := by decide +kernel
theorem dX1_looseOpen_23 : decode cX1_looseOpen 23 = .ok (.iload_n 2, 1) := by decide +kernel
theorem dX1_looseOpen_24 : decode cX1_looseOpen 24 = .ok (.iload_n 3, 1) := by decide +kernel
theorem dX1_looseOpen_25 : decode cX1_looseOpen 25 = .ok (.invokevirtual 43, 3) := by decide +kernel
theorem dX1_looseOpen_28 : decode cX1_looseOpen 28 = .ok (.ireturn, 1) := by decide +kernel
theorem dX1_loose_0 : decode cX1_loose 0 = .ok (.iconst 0, 1) := by decide +kernel
theorem dX1_loose_1 : decode cX1_loose 1 = .ok (.istore 4, 2) := by decide +kernel
theorem dX1_loose_3 : decode cX1_loose 3 = .ok (.iload_n 1, 1) := by decide +kernel
theorem dX1_loose_4 : decode cX1_loose 4 = .ok (.istore 5, 2) := by decide +kernel
theorem dX1_loose_6 : decode cX1_loose 6 = .ok (.iload 5, 2) := by decide +kernel
theorem dX1_loose_8 : decode cX1_loose 8 = .ok (.iload_n 1, 1) := by decide +kernel
theorem dX1_loose_9 : decode cX1_loose 9 = .ok (.iload_n 2, 1) := by decide +kernel
theorem dX1_loose_10 : decode cX1_loose 10 = .ok (.iadd, 1) := by decide +kernel
theorem dX1_loose_11 : decode cX1_loose 11 = .ok (.if_icmp .ge 42, 3) := by decide +kernel
theorem dX1_loose_14 : decode cX1_loose 14 = .ok (.aload_n 0, 1) := by decide +kernel
theorem dX1_loose_15 : decode cX1_loose 15 = .ok (.getfield 13, 3) := by decide +kernel
theorem dX1_loose_18 : decode cX1_loose 18 = .ok (.iload 5, 2) := by decide +kernel
theorem dX1_loose_20 : decode cX1_loose 20 = .ok (.iaload, 1) := by decide +kernel
theorem dX1_loose_21 : decode cX1_loose 21 = .ok (.iload_n 3, 1) := by decide +kernel
theorem dX1_loose_22 : decode cX1_loose 22 = .ok (.if_icmp .ne 25, 3) := by decide +kernel
theorem dX1_loose_25 : decode cX1_loose 25 = .ok (.aload_n 0, 1) := by decide +kernel
theorem dX1_loose_26 : decode cX1_loose 26 = .ok (.iload 5, 2) := by decide +kernel
theorem dX1_loose_28 : decode cX1_loose 28 = .ok (.iload_n 1, 1) := by decide +kernel
theorem dX1_loose_29 : decode cX1_loose 29 = .ok (.iload_n 1, 1) := by decide +kernel
theorem dX1_loose_30 : decode cX1_loose 30 = .ok (.iload_n 2, 1) := by decide +kernel
theorem dX1_loose_31 : decode cX1_loose 31 = .ok (.iadd, 1) := by decide +kernel
theorem dX1_loose_32 : decode cX1_loose 32 = .ok (.invokevirtual 39, 3) := by decide +kernel
theorem dX1_loose_35 : decode cX1_loose 35 = .ok (.istore 6, 2) := by decide +kernel
theorem dX1_loose_37 : decode cX1_loose 37 = .ok (.iload 6, 2) := by decide +kernel
theorem dX1_loose_39 : decode cX1_loose 39 = .ok (.bipush (-3), 2) := by decide +kernel
theorem dX1_loose_41 : decode cX1_loose 41 = .ok (.if_icmp .ne 6, 3) := by decide +kernel
theorem dX1_loose_44 : decode cX1_loose 44 = .ok (.iinc 4 1, 3) := by decide +kernel
theorem dX1_loose_47 : decode cX1_loose 47 = .ok (.iinc 5 1, 3) := by decide +kernel
theorem dX1_loose_50 : decode cX1_loose 50 = .ok (.goto (-44), 3) := by decide +kernel
theorem dX1_loose_53 : decode cX1_loose 53 = .ok (.iload 4, 2) := by decide +kernel
theorem dX1_loose_55 : decode cX1_loose 55 = .ok (.ireturn, 1) := by decide +kernel
theorem dX1_looseClose_0 : decode cX1_looseClose 0 = .ok (.aload_n 0, 1) := by decide +kernel
theorem dX1_looseClose_1 : decode cX1_looseClose 1 = .ok (.iload_n 1, 1) := by decide +kernel
theorem dX1_looseClose_2 : decode cX1_looseClose 2 = .ok (.iload_n 2, 1) := by decide +kernel
theorem dX1_looseClose_3 : decode cX1_looseClose 3 = .ok (.invokevirtual 20, 3) := by decide +kernel
theorem dX1_looseClose_6 : decode cX1_looseClose 6 = .ok (.ifCond .eq 13, 3) := by decide +kernel
theorem dX1_looseClose_9 : decode cX1_looseClose 9 = .ok (.iload_n 3, 1) := by decide +kernel
theorem dX1_looseClose_10 : decode cX1_looseClose 10 = .ok (.iconst 1, 1) := by decide +kernel
theorem dX1_looseClose_11 : decode cX1_looseClose 11 = .ok (.if_icmp .lt 8, 3) := by decide +kernel
theorem dX1_looseClose_14 : decode cX1_looseClose 14 = .ok (.iload_n 3, 1) := by decide +kernel
theorem dX1_looseClose_15 : decode cX1_looseClose 15 = .ok (.iconst 3, 1) := by decide +kernel
theorem dX1_looseClose_16 : decode cX1_looseClose 16 = .ok (.if_icmp .le 5, 3) := by decide +kernel
theorem dX1_looseClose_19 : decode cX1_looseClose 19 = .ok (.iconst (-1), 1) := by decide +kernel
theorem dX1_looseClose_20 : decode cX1_looseClose 20 = .ok (.ireturn, 1) := by decide +kernel
theorem dX1_looseClose_21 : decode cX1_looseClose 21 = .ok (.aload_n 0, 1) := by decide +kernel
theorem dX1_looseClose_22 : decode cX1_looseClose 22 = .ok (.iload_n 1, 1) := by decide +kernel
theorem dX1_looseClose_23 : decode cX1_looseClose 23 = .ok (.iload_n 2, 1) := by decide +kernel
theorem dX1_looseClose_24 : decode cX1_looseClose 24 = .ok (.iload_n 3, 1) := by decide +kernel
theorem dX1_looseClose_25 : decode cX1_looseClose 25 = .ok (.iconst 3, 1) := by decide +kernel
theorem dX1_looseClose_26 : decode cX1_looseClose 26 = .ok (.iadd, 1) := by decide +kernel
theorem dX1_looseClose_27 : decode cX1_looseClose 27 = .ok (.invokevirtual 43, 3) := by decide +kernel
theorem dX1_looseClose_30 : decode cX1_looseClose 30 = .ok (.ireturn, 1) := by decide +kernel
theorem dL_law_0 : decode cL_law 0 = .ok (.new 7, 3) := by decide +kernel
theorem dL_law_3 : decode cL_law 3 = .ok (.dup, 1) := by decide +kernel
theorem dL_law_4 : decode cL_law 4 = .ok (.invokespecial 9, 3) := by decide +kernel
theorem dL_law_7 : decode cL_law 7 = .ok (.astore_n 1, 1) := by decide +kernel
theorem dL_law_8 : decode cL_law 8 = .ok (.new 10, 3) := by decide +kernel
theorem dL_law_11 : decode cL_law 11 = .ok (.dup, 1) := by decide +kernel
theorem dL_law_12 : decode cL_law 12 = .ok (.invokespecial 12, 3) := by decide +kernel
theorem dL_law_15 : decode cL_law 15 = .ok (.astore_n 2, 1) := by decide +kernel
theorem dL_law_16 : decode cL_law 16 = .ok (.iconst 0, 1) := by decide +kernel
theorem dL_law_17 : decode cL_law 17 = .ok (.istore_n 3, 1) := by decide +kernel
theorem dL_law_18 : decode cL_law 18 = .ok (.iload_n 3, 1) := by decide +kernel
theorem dL_law_19 : decode cL_law 19 = .ok (.aload_n 0, 1) := by decide +kernel
theorem dL_law_20 : decode cL_law 20 = .ok (.arraylength, 1) := by decide +kernel
theorem dL_law_21 : decode cL_law 21 = .ok (.iconst 4, 1) := by decide +kernel
theorem dL_law_22 : decode cL_law 22 = .ok (.isub, 1) := by decide +kernel
theorem dL_law_23 : decode cL_law 23 = .ok (.if_icmp .gt 411, 3) := by decide +kernel
theorem dL_law_26 : decode cL_law 26 = .ok (.aload_n 0, 1) := by decide +kernel
theorem dL_law_27 : decode cL_law 27 = .ok (.iload_n 3, 1) := by decide +kernel
theorem dL_law_28 : decode cL_law 28 = .ok (.iaload, 1) := by decide +kernel
theorem dL_law_29 : decode cL_law 29 = .ok (.bipush 15, 2) := by decide +kernel
theorem dL_law_31 : decode cL_law 31 = .ok (.iand, 1) := by decide +kernel
theorem dL_law_32 : decode cL_law 32 = .ok (.tableswitch 396 0 9 #[56, 89, 122, 165, 198, 221, 244, 277, 310, 353], 56) := by decide +kernel
theorem dL_law_88 : decode cL_law 88 = .ok (.aload_n 1, 1) := by decide +kernel
theorem dL_law_89 : decode cL_law 89 = .ok (.aload_n 0, 1) := by decide +kernel
theorem dL_law_90 : decode cL_law 90 = .ok (.iload_n 3, 1) := by decide +kernel
theorem dL_law_91 : decode cL_law 91 = .ok (.iconst 1, 1) := by decide +kernel
theorem dL_law_92 : decode cL_law 92 = .ok (.iadd, 1) := by decide +kernel
theorem dL_law_93 : decode cL_law 93 = .ok (.iaload, 1) := by decide +kernel
theorem dL_law_94 : decode cL_law 94 = .ok (.aload_n 0, 1) := by decide +kernel
theorem dL_law_95 : decode cL_law 95 = .ok (.iload_n 3, 1) := by decide +kernel
theorem dL_law_96 : decode cL_law 96 = .ok (.iconst 2, 1) := by decide +kernel
theorem dL_law_97 : decode cL_law 97 = .ok (.iadd, 1) := by decide +kernel
theorem dL_law_98 : decode cL_law 98 = .ok (.iaload, 1) := by decide +kernel
theorem dL_law_99 : decode cL_law 99 = .ok (.invokevirtual 13, 3) := by decide +kernel
theorem dL_law_102 : decode cL_law 102 = .ok (.aload_n 2, 1) := by decide +kernel
theorem dL_law_103 : decode cL_law 103 = .ok (.aload_n 0, 1) := by decide +kernel
theorem dL_law_104 : decode cL_law 104 = .ok (.iload_n 3, 1) := by decide +kernel
theorem dL_law_105 : decode cL_law 105 = .ok (.iconst 1, 1) := by decide +kernel
theorem dL_law_106 : decode cL_law 106 = .ok (.iadd, 1) := by decide +kernel
theorem dL_law_107 : decode cL_law 107 = .ok (.iaload, 1) := by decide +kernel
theorem dL_law_108 : decode cL_law 108 = .ok (.aload_n 0, 1) := by decide +kernel
theorem dL_law_109 : decode cL_law 109 = .ok (.iload_n 3, 1) := by decide +kernel
theorem dL_law_110 : decode cL_law 110 = .ok (.iconst 2, 1) := by decide +kernel
theorem dL_law_111 : decode cL_law 111 = .ok (.iadd, 1) := by decide +kernel
theorem dL_law_112 : decode cL_law 112 = .ok (.iaload, 1) := by decide +kernel
theorem dL_law_113 : decode cL_law 113 = .ok (.invokevirtual 17, 3) := by decide +kernel
theorem dL_law_116 : decode cL_law 116 = .ok (.if_icmp .eq 312, 3) := by decide +kernel
theorem dL_law_119 : decode cL_law 119 = .ok (.iconst 0, 1) := by decide +kernel
theorem dL_law_120 : decode cL_law 120 = .ok (.ireturn, 1) := by decide +kernel
theorem dL_law_121 : decode cL_law 121 = .ok (.aload_n 1, 1) := by decide +kernel
theorem dL_law_122 : decode cL_law 122 = .ok (.aload_n 0, 1) := by decide +kernel
theorem dL_law_123 : decode cL_law 123 = .ok (.iload_n 3, 1) := by decide +kernel
theorem dL_law_124 : decode cL_law 124 = .ok (.iconst 1, 1) := by decide +kernel
theorem dL_law_125 : decode cL_law 125 = .ok (.iadd, 1) := by decide +kernel
theorem dL_law_126 : decode cL_law 126 = .ok (.iaload, 1) := by decide +kernel
theorem dL_law_127 : decode cL_law 127 = .ok (.aload_n 0, 1) := by decide +kernel
theorem dL_law_128 : decode cL_law 128 = .ok (.iload_n 3, 1) := by decide +kernel
theorem dL_law_129 : decode cL_law 129 = .ok (.iconst 2, 1) := by decide +kernel
theorem dL_law_130 : decode cL_law 130 = .ok (.iadd, 1) := by decide +kernel
theorem dL_law_131 : decode cL_law 131 = .ok (.iaload, 1) := by decide +kernel
theorem dL_law_132 : decode cL_law 132 = .ok (.invokevirtual 18, 3) := by decide +kernel
theorem dL_law_135 : decode cL_law 135 = .ok (.aload_n 2, 1) := by decide +kernel
theorem dL_law_136 : decode cL_law 136 = .ok (.aload_n 0, 1) := by decide +kernel
theorem dL_law_137 : decode cL_law 137 = .ok (.iload_n 3, 1) := by decide +kernel
theorem dL_law_138 : decode cL_law 138 = .ok (.iconst 1, 1) := by decide +kernel
theorem dL_law_139 : decode cL_law 139 = .ok (.iadd, 1) := by decide +kernel
theorem dL_law_140 : decode cL_law 140 = .ok (.iaload, 1) := by decide +kernel
theorem dL_law_141 : decode cL_law 141 = .ok (.aload_n 0, 1) := by decide +kernel
theorem dL_law_142 : decode cL_law 142 = .ok (.iload_n 3, 1) := by decide +kernel
theorem dL_law_143 : decode cL_law 143 = .ok (.iconst 2, 1) := by decide +kernel
theorem dL_law_144 : decode cL_law 144 = .ok (.iadd, 1) := by decide +kernel
theorem dL_law_145 : decode cL_law 145 = .ok (.iaload, 1) := by decide +kernel
theorem dL_law_146 : decode cL_law 146 = .ok (.invokevirtual 21, 3) := by decide +kernel
theorem dL_law_149 : decode cL_law 149 = .ok (.if_icmp .eq 279, 3) := by decide +kernel
theorem dL_law_152 : decode cL_law 152 = .ok (.iconst 0, 1) := by decide +kernel
theorem dL_law_153 : decode cL_law 153 = .ok (.ireturn, 1) := by decide +kernel
theorem dL_law_154 : decode cL_law 154 = .ok (.aload_n 1, 1) := by decide +kernel
theorem dL_law_155 : decode cL_law 155 = .ok (.aload_n 0, 1) := by decide +kernel
theorem dL_law_156 : decode cL_law 156 = .ok (.iload_n 3, 1) := by decide +kernel
theorem dL_law_157 : decode cL_law 157 = .ok (.iconst 1, 1) := by decide +kernel
theorem dL_law_158 : decode cL_law 158 = .ok (.iadd, 1) := by decide +kernel
theorem dL_law_159 : decode cL_law 159 = .ok (.iaload, 1) := by decide +kernel
theorem dL_law_160 : decode cL_law 160 = .ok (.aload_n 0, 1) := by decide +kernel
theorem dL_law_161 : decode cL_law 161 = .ok (.iload_n 3, 1) := by decide +kernel
theorem dL_law_162 : decode cL_law 162 = .ok (.iconst 2, 1) := by decide +kernel
theorem dL_law_163 : decode cL_law 163 = .ok (.iadd, 1) := by decide +kernel
theorem dL_law_164 : decode cL_law 164 = .ok (.iaload, 1) := by decide +kernel
theorem dL_law_165 : decode cL_law 165 = .ok (.aload_n 0, 1) := by decide +kernel
theorem dL_law_166 : decode cL_law 166 = .ok (.iload_n 3, 1) := by decide +kernel
theorem dL_law_167 : decode cL_law 167 = .ok (.iconst 3, 1) := by decide +kernel
theorem dL_law_168 : decode cL_law 168 = .ok (.iadd, 1) := by decide +kernel
theorem dL_law_169 : decode cL_law 169 = .ok (.iaload, 1) := by decide +kernel
theorem dL_law_170 : decode cL_law 170 = .ok (.invokevirtual 22, 3) := by decide +kernel
theorem dL_law_173 : decode cL_law 173 = .ok (.aload_n 2, 1) := by decide +kernel
theorem dL_law_174 : decode cL_law 174 = .ok (.aload_n 0, 1) := by decide +kernel
theorem dL_law_175 : decode cL_law 175 = .ok (.iload_n 3, 1) := by decide +kernel
theorem dL_law_176 : decode cL_law 176 = .ok (.iconst 1, 1) := by decide +kernel
theorem dL_law_177 : decode cL_law 177 = .ok (.iadd, 1) := by decide +kernel
theorem dL_law_178 : decode cL_law 178 = .ok (.iaload, 1) := by decide +kernel
theorem dL_law_179 : decode cL_law 179 = .ok (.aload_n 0, 1) := by decide +kernel
theorem dL_law_180 : decode cL_law 180 = .ok (.iload_n 3, 1) := by decide +kernel
theorem dL_law_181 : decode cL_law 181 = .ok (.iconst 2, 1) := by decide +kernel
theorem dL_law_182 : decode cL_law 182 = .ok (.iadd, 1) := by decide +kernel
theorem dL_law_183 : decode cL_law 183 = .ok (.iaload, 1) := by decide +kernel
theorem dL_law_184 : decode cL_law 184 = .ok (.aload_n 0, 1) := by decide +kernel
theorem dL_law_185 : decode cL_law 185 = .ok (.iload_n 3, 1) := by decide +kernel
theorem dL_law_186 : decode cL_law 186 = .ok (.iconst 3, 1) := by decide +kernel
theorem dL_law_187 : decode cL_law 187 = .ok (.iadd, 1) := by decide +kernel
theorem dL_law_188 : decode cL_law 188 = .ok (.iaload, 1) := by decide +kernel
theorem dL_law_189 : decode cL_law 189 = .ok (.invokevirtual 26, 3) := by decide +kernel
theorem dL_law_192 : decode cL_law 192 = .ok (.if_icmp .eq 236, 3) := by decide +kernel
theorem dL_law_195 : decode cL_law 195 = .ok (.iconst 0, 1) := by decide +kernel
theorem dL_law_196 : decode cL_law 196 = .ok (.ireturn, 1) := by decide +kernel
theorem dL_law_197 : decode cL_law 197 = .ok (.aload_n 1, 1) := by decide +kernel
theorem dL_law_198 : decode cL_law 198 = .ok (.aload_n 0, 1) := by decide +kernel
theorem dL_law_199 : decode cL_law 199 = .ok (.iload_n 3, 1) := by decide +kernel
theorem dL_law_200 : decode cL_law 200 = .ok (.iconst 1, 1) := by decide +kernel
theorem dL_law_201 : decode cL_law 201 = .ok (.iadd, 1) := by decide +kernel
theorem dL_law_202 : decode cL_law 202 = .ok (.iaload, 1) := by decide +kernel
theorem dL_law_203 : decode cL_law 203 = .ok (.aload_n 0, 1) := by decide +kernel
theorem dL_law_204 : decode cL_law 204 = .ok (.iload_n 3, 1) := by decide +kernel
theorem dL_law_205 : decode cL_law 205 = .ok (.iconst 2, 1) := by decide +kernel
theorem dL_law_206 : decode cL_law 206 = .ok (.iadd, 1) := by decide +kernel
theorem dL_law_207 : decode cL_law 207 = .ok (.iaload, 1) := by decide +kernel
theorem dL_law_208 : decode cL_law 208 = .ok (.invokevirtual 27, 3) := by decide +kernel
theorem dL_law_211 : decode cL_law 211 = .ok (.aload_n 2, 1) := by decide +kernel
theorem dL_law_212 : decode cL_law 212 = .ok (.aload_n 0, 1) := by decide +kernel
theorem dL_law_213 : decode cL_law 213 = .ok (.iload_n 3, 1) := by decide +kernel
theorem dL_law_214 : decode cL_law 214 = .ok (.iconst 1, 1) := by decide +kernel
theorem dL_law_215 : decode cL_law 215 = .ok (.iadd, 1) := by decide +kernel
theorem dL_law_216 : decode cL_law 216 = .ok (.iaload, 1) := by decide +kernel
theorem dL_law_217 : decode cL_law 217 = .ok (.aload_n 0, 1) := by decide +kernel
theorem dL_law_218 : decode cL_law 218 = .ok (.iload_n 3, 1) := by decide +kernel
theorem dL_law_219 : decode cL_law 219 = .ok (.iconst 2, 1) := by decide +kernel
theorem dL_law_220 : decode cL_law 220 = .ok (.iadd, 1) := by decide +kernel
theorem dL_law_221 : decode cL_law 221 = .ok (.iaload, 1) := by decide +kernel
theorem dL_law_222 : decode cL_law 222 = .ok (.invokevirtual 30, 3) := by decide +kernel
theorem dL_law_225 : decode cL_law 225 = .ok (.if_icmp .eq 203, 3) := by decide +kernel
theorem dL_law_228 : decode cL_law 228 = .ok (.iconst 0, 1) := by decide +kernel
theorem dL_law_229 : decode cL_law 229 = .ok (.ireturn, 1) := by decide +kernel
theorem dL_law_230 : decode cL_law 230 = .ok (.aload_n 1, 1) := by decide +kernel
theorem dL_law_231 : decode cL_law 231 = .ok (.aload_n 0, 1) := by decide +kernel
theorem dL_law_232 : decode cL_law 232 = .ok (.iload_n 3, 1) := by decide +kernel
theorem dL_law_233 : decode cL_law 233 = .ok (.iconst 1, 1) := by decide +kernel
theorem dL_law_234 : decode cL_law 234 = .ok (.iadd, 1) := by decide +kernel
theorem dL_law_235 : decode cL_law 235 = .ok (.iaload, 1) := by decide +kernel
theorem dL_law_236 : decode cL_law 236 = .ok (.invokevirtual 31, 3) := by decide +kernel
theorem dL_law_239 : decode cL_law 239 = .ok (.aload_n 2, 1) := by decide +kernel
theorem dL_law_240 : decode cL_law 240 = .ok (.aload_n 0, 1) := by decide +kernel
theorem dL_law_241 : decode cL_law 241 = .ok (.iload_n 3, 1) := by decide +kernel
theorem dL_law_242 : decode cL_law 242 = .ok (.iconst 1, 1) := by decide +kernel
theorem dL_law_243 : decode cL_law 243 = .ok (.iadd, 1) := by decide +kernel
theorem dL_law_244 : decode cL_law 244 = .ok (.iaload, 1) := by decide +kernel
theorem dL_law_245 : decode cL_law 245 = .ok (.invokevirtual 35, 3) := by decide +kernel
theorem dL_law_248 : decode cL_law 248 = .ok (.if_icmp .eq 180, 3) := by decide +kernel
theorem dL_law_251 : decode cL_law 251 = .ok (.iconst 0, 1) := by decide +kernel
theorem dL_law_252 : decode cL_law 252 = .ok (.ireturn, 1) := by decide +kernel
theorem dL_law_253 : decode cL_law 253 = .ok (.aload_n 1, 1) := by decide +kernel
theorem dL_law_254 : decode cL_law 254 = .ok (.aload_n 0, 1) := by decide +kernel
theorem dL_law_255 : decode cL_law 255 = .ok (.iload_n 3, 1) := by decide +kernel
theorem dL_law_256 : decode cL_law 256 = .ok (.iconst 1, 1) := by decide +kernel
theorem dL_law_257 : decode cL_law 257 = .ok (.iadd, 1) := by decide +kernel
theorem dL_law_258 : decode cL_law 258 = .ok (.iaload, 1) := by decide +kernel
theorem dL_law_259 : decode cL_law 259 = .ok (.invokevirtual 36, 3) := by decide +kernel
theorem dL_law_262 : decode cL_law 262 = .ok (.aload_n 2, 1) := by decide +kernel
theorem dL_law_263 : decode cL_law 263 = .ok (.aload_n 0, 1) := by decide +kernel
theorem dL_law_264 : decode cL_law 264 = .ok (.iload_n 3, 1) := by decide +kernel
theorem dL_law_265 : decode cL_law 265 = .ok (.iconst 1, 1) := by decide +kernel
theorem dL_law_266 : decode cL_law 266 = .ok (.iadd, 1) := by decide +kernel
theorem dL_law_267 : decode cL_law 267 = .ok (.iaload, 1) := by decide +kernel
theorem dL_law_268 : decode cL_law 268 = .ok (.invokevirtual 39, 3) := by decide +kernel
theorem dL_law_271 : decode cL_law 271 = .ok (.if_icmp .eq 157, 3) := by decide +kernel
theorem dL_law_274 : decode cL_law 274 = .ok (.iconst 0, 1) := by decide +kernel
theorem dL_law_275 : decode cL_law 275 = .ok (.ireturn, 1) := by decide +kernel
theorem dL_law_276 : decode cL_law 276 = .ok (.aload_n 1, 1) := by decide +kernel
theorem dL_law_277 : decode cL_law 277 = .ok (.aload_n 0, 1) := by decide +kernel
theorem dL_law_278 : decode cL_law 278 = .ok (.iload_n 3, 1) := by decide +kernel
theorem dL_law_279 : decode cL_law 279 = .ok (.iconst 1, 1) := by decide +kernel
theorem dL_law_280 : decode cL_law 280 = .ok (.iadd, 1) := by decide +kernel
theorem dL_law_281 : decode cL_law 281 = .ok (.iaload, 1) := by decide +kernel
theorem dL_law_282 : decode cL_law 282 = .ok (.aload_n 0, 1) := by decide +kernel
theorem dL_law_283 : decode cL_law 283 = .ok (.iload_n 3, 1) := by decide +kernel
theorem dL_law_284 : decode cL_law 284 = .ok (.iconst 2, 1) := by decide +kernel
theorem dL_law_285 : decode cL_law 285 = .ok (.iadd, 1) := by decide +kernel
theorem dL_law_286 : decode cL_law 286 = .ok (.iaload, 1) := by decide +kernel
theorem dL_law_287 : decode cL_law 287 = .ok (.invokevirtual 40, 3) := by decide +kernel
theorem dL_law_290 : decode cL_law 290 = .ok (.aload_n 2, 1) := by decide +kernel
theorem dL_law_291 : decode cL_law 291 = .ok (.aload_n 0, 1) := by decide +kernel
theorem dL_law_292 : decode cL_law 292 = .ok (.iload_n 3, 1) := by decide +kernel
theorem dL_law_293 : decode cL_law 293 = .ok (.iconst 1, 1) := by decide +kernel
theorem dL_law_294 : decode cL_law 294 = .ok (.iadd, 1) := by decide +kernel
theorem dL_law_295 : decode cL_law 295 = .ok (.iaload, 1) := by decide +kernel
theorem dL_law_296 : decode cL_law 296 = .ok (.aload_n 0, 1) := by decide +kernel
theorem dL_law_297 : decode cL_law 297 = .ok (.iload_n 3, 1) := by decide +kernel
theorem dL_law_298 : decode cL_law 298 = .ok (.iconst 2, 1) := by decide +kernel
theorem dL_law_299 : decode cL_law 299 = .ok (.iadd, 1) := by decide +kernel
theorem dL_law_300 : decode cL_law 300 = .ok (.iaload, 1) := by decide +kernel
theorem dL_law_301 : decode cL_law 301 = .ok (.invokevirtual 43, 3) := by decide +kernel
theorem dL_law_304 : decode cL_law 304 = .ok (.if_icmp .eq 124, 3) := by decide +kernel
theorem dL_law_307 : decode cL_law 307 = .ok (.iconst 0, 1) := by decide +kernel
theorem dL_law_308 : decode cL_law 308 = .ok (.ireturn, 1) := by decide +kernel
theorem dL_law_309 : decode cL_law 309 = .ok (.aload_n 1, 1) := by decide +kernel
theorem dL_law_310 : decode cL_law 310 = .ok (.aload_n 0, 1) := by decide +kernel
theorem dL_law_311 : decode cL_law 311 = .ok (.iload_n 3, 1) := by decide +kernel
theorem dL_law_312 : decode cL_law 312 = .ok (.iconst 1, 1) := by decide +kernel
theorem dL_law_313 : decode cL_law 313 = .ok (.iadd, 1) := by decide +kernel
theorem dL_law_314 : decode cL_law 314 = .ok (.iaload, 1) := by decide +kernel
theorem dL_law_315 : decode cL_law 315 = .ok (.aload_n 0, 1) := by decide +kernel
theorem dL_law_316 : decode cL_law 316 = .ok (.iload_n 3, 1) := by decide +kernel
theorem dL_law_317 : decode cL_law 317 = .ok (.iconst 2, 1) := by decide +kernel
theorem dL_law_318 : decode cL_law 318 = .ok (.iadd, 1) := by decide +kernel
theorem dL_law_319 : decode cL_law 319 = .ok (.iaload, 1) := by decide +kernel
theorem dL_law_320 : decode cL_law 320 = .ok (.invokevirtual 44, 3) := by decide +kernel
theorem dL_law_323 : decode cL_law 323 = .ok (.aload_n 2, 1) := by decide +kernel
theorem dL_law_324 : decode cL_law 324 = .ok (.aload_n 0, 1) := by decide +kernel
theorem dL_law_325 : decode cL_law 325 = .ok (.iload_n 3, 1) := by decide +kernel
theorem dL_law_326 : decode cL_law 326 = .ok (.iconst 1, 1) := by decide +kernel
theorem dL_law_327 : decode cL_law 327 = .ok (.iadd, 1) := by decide +kernel
theorem dL_law_328 : decode cL_law 328 = .ok (.iaload, 1) := by decide +kernel
theorem dL_law_329 : decode cL_law 329 = .ok (.aload_n 0, 1) := by decide +kernel
theorem dL_law_330 : decode cL_law 330 = .ok (.iload_n 3, 1) := by decide +kernel
theorem dL_law_331 : decode cL_law 331 = .ok (.iconst 2, 1) := by decide +kernel
theorem dL_law_332 : decode cL_law 332 = .ok (.iadd, 1) := by decide +kernel
theorem dL_law_333 : decode cL_law 333 = .ok (.iaload, 1) := by decide +kernel
theorem dL_law_334 : decode cL_law 334 = .ok (.invokevirtual 47, 3) := by decide +kernel
theorem dL_law_337 : decode cL_law 337 = .ok (.if_icmp .eq 91, 3) := by decide +kernel
theorem dL_law_340 : decode cL_law 340 = .ok (.iconst 0, 1) := by decide +kernel
theorem dL_law_341 : decode cL_law 341 = .ok (.ireturn, 1) := by decide +kernel
theorem dL_law_342 : decode cL_law 342 = .ok (.aload_n 1, 1) := by decide +kernel
theorem dL_law_343 : decode cL_law 343 = .ok (.aload_n 0, 1) := by decide +kernel
theorem dL_law_344 : decode cL_law 344 = .ok (.iload_n 3, 1) := by decide +kernel
theorem dL_law_345 : decode cL_law 345 = .ok (.iconst 1, 1) := by decide +kernel
theorem dL_law_346 : decode cL_law 346 = .ok (.iadd, 1) := by decide +kernel
theorem dL_law_347 : decode cL_law 347 = .ok (.iaload, 1) := by decide +kernel
theorem dL_law_348 : decode cL_law 348 = .ok (.aload_n 0, 1) := by decide +kernel
theorem dL_law_349 : decode cL_law 349 = .ok (.iload_n 3, 1) := by decide +kernel
theorem dL_law_350 : decode cL_law 350 = .ok (.iconst 2, 1) := by decide +kernel
theorem dL_law_351 : decode cL_law 351 = .ok (.iadd, 1) := by decide +kernel
theorem dL_law_352 : decode cL_law 352 = .ok (.iaload, 1) := by decide +kernel
theorem dL_law_353 : decode cL_law 353 = .ok (.aload_n 0, 1) := by decide +kernel
theorem dL_law_354 : decode cL_law 354 = .ok (.iload_n 3, 1) := by decide +kernel
theorem dL_law_355 : decode cL_law 355 = .ok (.iconst 3, 1) := by decide +kernel
theorem dL_law_356 : decode cL_law 356 = .ok (.iadd, 1) := by decide +kernel
theorem dL_law_357 : decode cL_law 357 = .ok (.iaload, 1) := by decide +kernel
theorem dL_law_358 : decode cL_law 358 = .ok (.invokevirtual 48, 3) := by decide +kernel
theorem dL_law_361 : decode cL_law 361 = .ok (.aload_n 2, 1) := by decide +kernel
theorem dL_law_362 : decode cL_law 362 = .ok (.aload_n 0, 1) := by decide +kernel
theorem dL_law_363 : decode cL_law 363 = .ok (.iload_n 3, 1) := by decide +kernel
theorem dL_law_364 : decode cL_law 364 = .ok (.iconst 1, 1) := by decide +kernel
theorem dL_law_365 : decode cL_law 365 = .ok (.iadd, 1) := by decide +kernel
theorem dL_law_366 : decode cL_law 366 = .ok (.iaload, 1) := by decide +kernel
theorem dL_law_367 : decode cL_law 367 = .ok (.aload_n 0, 1) := by decide +kernel
theorem dL_law_368 : decode cL_law 368 = .ok (.iload_n 3, 1) := by decide +kernel
theorem dL_law_369 : decode cL_law 369 = .ok (.iconst 2, 1) := by decide +kernel
theorem dL_law_370 : decode cL_law 370 = .ok (.iadd, 1) := by decide +kernel
theorem dL_law_371 : decode cL_law 371 = .ok (.iaload, 1) := by decide +kernel
theorem dL_law_372 : decode cL_law 372 = .ok (.aload_n 0, 1) := by decide +kernel
theorem dL_law_373 : decode cL_law 373 = .ok (.iload_n 3, 1) := by decide +kernel
theorem dL_law_374 : decode cL_law 374 = .ok (.iconst 3, 1) := by decide +kernel
theorem dL_law_375 : decode cL_law 375 = .ok (.iadd, 1) := by decide +kernel
theorem dL_law_376 : decode cL_law 376 = .ok (.iaload, 1) := by decide +kernel
theorem dL_law_377 : decode cL_law 377 = .ok (.invokevirtual 51, 3) := by decide +kernel
theorem dL_law_380 : decode cL_law 380 = .ok (.if_icmp .eq 48, 3) := by decide +kernel
theorem dL_law_383 : decode cL_law 383 = .ok (.iconst 0, 1) := by decide +kernel
theorem dL_law_384 : decode cL_law 384 = .ok (.ireturn, 1) := by decide +kernel
theorem dL_law_385 : decode cL_law 385 = .ok (.aload_n 1, 1) := by decide +kernel
theorem dL_law_386 : decode cL_law 386 = .ok (.aload_n 0, 1) := by decide +kernel
theorem dL_law_387 : decode cL_law 387 = .ok (.iload_n 3, 1) := by decide +kernel
theorem dL_law_388 : decode cL_law 388 = .ok (.iconst 1, 1) := by decide +kernel
theorem dL_law_389 : decode cL_law 389 = .ok (.iadd, 1) := by decide +kernel
theorem dL_law_390 : decode cL_law 390 = .ok (.iaload, 1) := by decide +kernel
theorem dL_law_391 : decode cL_law 391 = .ok (.aload_n 0, 1) := by decide +kernel
theorem dL_law_392 : decode cL_law 392 = .ok (.iload_n 3, 1) := by decide +kernel
theorem dL_law_393 : decode cL_law 393 = .ok (.iconst 2, 1) := by decide +kernel
theorem dL_law_394 : decode cL_law 394 = .ok (.iadd, 1) := by decide +kernel
theorem dL_law_395 : decode cL_law 395 = .ok (.iaload, 1) := by decide +kernel
theorem dL_law_396 : decode cL_law 396 = .ok (.aload_n 0, 1) := by decide +kernel
theorem dL_law_397 : decode cL_law 397 = .ok (.iload_n 3, 1) := by decide +kernel
theorem dL_law_398 : decode cL_law 398 = .ok (.iconst 3, 1) := by decide +kernel
theorem dL_law_399 : decode cL_law 399 = .ok (.iadd, 1) := by decide +kernel
theorem dL_law_400 : decode cL_law 400 = .ok (.iaload, 1) := by decide +kernel
theorem dL_law_401 : decode cL_law 401 = .ok (.invokevirtual 52, 3) := by decide +kernel
theorem dL_law_404 : decode cL_law 404 = .ok (.aload_n 2, 1) := by decide +kernel
theorem dL_law_405 : decode cL_law 405 = .ok (.aload_n 0, 1) := by decide +kernel
theorem dL_law_406 : decode cL_law 406 = .ok (.iload_n 3, 1) := by decide +kernel
theorem dL_law_407 : decode cL_law 407 = .ok (.iconst 1, 1) := by decide +kernel
theorem dL_law_408 : decode cL_law 408 = .ok (.iadd, 1) := by decide +kernel
theorem dL_law_409 : decode cL_law 409 = .ok (.iaload, 1) := by decide +kernel
theorem dL_law_410 : decode cL_law 410 = .ok (.aload_n 0, 1) := by decide +kernel
theorem dL_law_411 : decode cL_law 411 = .ok (.iload_n 3, 1) := by decide +kernel
theorem dL_law_412 : decode cL_law 412 = .ok (.iconst 2, 1) := by decide +kernel
theorem dL_law_413 : decode cL_law 413 = .ok (.iadd, 1) := by decide +kernel
theorem dL_law_414 : decode cL_law 414 = .ok (.iaload, 1) := by decide +kernel
theorem dL_law_415 : decode cL_law 415 = .ok (.aload_n 0, 1) := by decide +kernel
theorem dL_law_416 : decode cL_law 416 = .ok (.iload_n 3, 1) := by decide +kernel
theorem dL_law_417 : decode cL_law 417 = .ok (.iconst 3, 1) := by decide +kernel
theorem dL_law_418 : decode cL_law 418 = .ok (.iadd, 1) := by decide +kernel
theorem dL_law_419 : decode cL_law 419 = .ok (.iaload, 1) := by decide +kernel
theorem dL_law_420 : decode cL_law 420 = .ok (.invokevirtual 55, 3) := by decide +kernel
theorem dL_law_423 : decode cL_law 423 = .ok (.if_icmp .eq 5, 3) := by decide +kernel
theorem dL_law_426 : decode cL_law 426 = .ok (.iconst 0, 1) := by decide +kernel
theorem dL_law_427 : decode cL_law 427 = .ok (.ireturn, 1) := by decide +kernel
theorem dL_law_428 : decode cL_law 428 = .ok (.iinc 3 4, 3) := by decide +kernel
theorem dL_law_431 : decode cL_law 431 = .ok (.goto (-413), 3) := by decide +kernel
theorem dL_law_434 : decode cL_law 434 = .ok (.iconst 1, 1) := by decide +kernel
theorem dL_law_435 : decode cL_law 435 = .ok (.ireturn, 1) := by decide +kernel
end
section
/-! whole numbers for the machine's ints: zI z is the int z; zR z: z fits -/
abbrev zI (z : Int) : Int32 := Int32.ofInt z
abbrev zR (z : Int) : Prop := -2147483648 ≤ z ∧ z ≤ 2147483647
theorem zI_int {z : Int} (h : zR z) : (zI z).toInt = z := Int32.toInt_ofInt_of_le (by have := h.1; omega) (by have := h.2; omega)
theorem zI_of (x : Int32) : zI x.toInt = x := Int32.ofInt_toInt x
theorem zR_of (x : Int32) : zR x.toInt := by
  have h1 := Int32.le_toInt x
  have h2 := Int32.toInt_lt x
  exact ⟨by omega, by omega⟩
theorem zI_lt {a b : Int} (ha : zR a) (hb : zR b) : zI a < zI b ↔ a < b := by rw [Int32.lt_iff_toInt_lt, zI_int ha, zI_int hb]
theorem zI_le {a b : Int} (ha : zR a) (hb : zR b) : zI a ≤ zI b ↔ a ≤ b := by rw [Int32.le_iff_toInt_le, zI_int ha, zI_int hb]
theorem zI_eq {a b : Int} (ha : zR a) (hb : zR b) : zI a = zI b ↔ a = b := by rw [← Int32.toInt_inj, zI_int ha, zI_int hb]
theorem zI_z : (0 : Int32) = zI 0 := by decide +kernel
theorem zR_z : zR 0 := ⟨by decide, by decide⟩
theorem zI_lt0 {a : Int} (ha : zR a) : zI a < 0 ↔ a < 0 := by rw [zI_z]; exact zI_lt ha zR_z
theorem zI_le0 {a : Int} (ha : zR a) : zI a ≤ 0 ↔ a ≤ 0 := by rw [zI_z]; exact zI_le ha zR_z
theorem zI_gt0 {a : Int} (ha : zR a) : 0 < zI a ↔ 0 < a := by rw [zI_z]; exact zI_lt zR_z ha
theorem zI_ge0 {a : Int} (ha : zR a) : 0 ≤ zI a ↔ 0 ≤ a := by rw [zI_z]; exact zI_le zR_z ha
theorem zI_eq0 {a : Int} (ha : zR a) : zI a = 0 ↔ a = 0 := by rw [zI_z]; exact zI_eq ha zR_z
theorem zI_cl {z : Int} (h : zR z) : (zI z).toNatClampNeg = z.toNat := Int32.toNatClampNeg_ofInt_of_le (by have := h.1; omega) (by have := h.2; omega)
theorem zI_in {z : Int} {n : Nat} (h0 : 0 ≤ z) (h1 : z < n) (hr : zR z) : vp_in (zI z) n := vp_in_iff.mpr (by rw [zI_int hr]; exact ⟨h0, h1⟩)
theorem zI_nI (n : Nat) : nI n = zI n := Int32.ofInt_eq_ofNat.symm
/-- the low byte, with its sign -/
def zB (z : Int) : Int := (z + 128) % 256 - 128
theorem zB_id {z : Int} (h1 : -128 ≤ z) (h2 : z ≤ 127) : zB z = z := by unfold zB; omega
theorem zB_r (z : Int) : -128 ≤ zB z ∧ zB z ≤ 127 := by unfold zB; omega
theorem zI_i2b (z : Int) : (zI z).toInt8.toInt32 = zI (zB z) := by
  have h1 : (zI z).toInt8 = Int8.ofInt z := Int32.toInt8_ofInt
  rw [h1]
  apply Int32.toInt_inj.mp
  rw [zI_int (by have := zB_r z; exact ⟨by omega, by omega⟩)]
  rw [Int8.toInt_toInt32, Int8.toInt_ofInt]
  unfold zB
  rw [show (Int8.size) = 256 from rfl]
  rw [Int.bmod_def]
  split <;> omega
section ZR
variable {p : Program} {l : Launch} {e : Env} {R : Room} {s : State} {m : MethodId} {args : Array Value} {below : List Frame} {meth : Method} {c : Code} {H : Heap} {locs : List Loc} {cells slots : Nat} {Q : State → Prop} {cc : ByteArray} {nL : Nat} {own : String} {pc : Nat} {ls : Array Slot} {rest : List Value}
theorem zr_aload (S : CallFix p m c cc nL s args lw_all own) {k : Fin 4} {a : Nat} {lv : List (Nat × Value)} (hl : lv_has ls nL lv) (j : Nat) (hj : lv[j]? = some ((k : Nat), .ref a)) (hd : decode cc pc = .ok (.aload_n k, 1)) (kk : W p l e R s m args below meth c H locs cells slots Q (F0 m (pc + 1) ls (.ref a :: rest))) : W p l e R s m args below meth c H locs cells slots Q (F0 m pc ls rest) := lv_aload_n S.1 S.2.1 hd rfl (lv_at hl j hj) kk
theorem zr_iload_n (S : CallFix p m c cc nL s args lw_all own) {k : Fin 4} {x : Int32} {lv : List (Nat × Value)} (hl : lv_has ls nL lv) (j : Nat) (hj : lv[j]? = some ((k : Nat), .int x)) (hd : decode cc pc = .ok (.iload_n k, 1)) (kk : W p l e R s m args below meth c H locs cells slots Q (F0 m (pc + 1) ls (.int x :: rest))) : W p l e R s m args below meth c H locs cells slots Q (F0 m pc ls rest) := lv_iload_n S.1 S.2.1 hd rfl (lv_at hl j hj) kk
theorem zr_iload (S : CallFix p m c cc nL s args lw_all own) {i : Nat} {x : Int32} {lv : List (Nat × Value)} (hl : lv_has ls nL lv) (j : Nat) (hj : lv[j]? = some (i, .int x)) (hd : decode cc pc = .ok (.iload i, 2)) (kk : W p l e R s m args below meth c H locs cells slots Q (F0 m (pc + 2) ls (.int x :: rest))) : W p l e R s m args below meth c H locs cells slots Q (F0 m pc ls rest) := lv_iload S.1 S.2.1 hd (lv_at hl j hj) kk
theorem zr_istore_n (S : CallFix p m c cc nL s args lw_all own) {k : Fin 4} {x : Int32} {lv : List (Nat × Value)} (lv' : List (Nat × Value)) (hl : lv_has ls nL lv) (hn : (k : Nat) < nL) (hv : ((k : Nat), Value.int x) :: lv.filter (fun q => !(q.1 == (k : Nat)) && !(q.1 + 1 == (k : Nat) && q.2.category == 2)) = lv') (hd : decode cc pc = .ok (.istore_n k, 1)) (kk : ∀ ls' : Array Slot, lv_has ls' nL lv' → W p l e R s m args below meth c H locs cells slots Q (F0 m (pc + 1) ls' rest)) : W p l e R s m args below meth c H locs cells slots Q (F0 m pc ls (.int x :: rest)) := lv_istore_n S.1 S.2.1 hd rfl hl hn hv kk
theorem zr_istore (S : CallFix p m c cc nL s args lw_all own) {i : Nat} {x : Int32} {lv : List (Nat × Value)} (lv' : List (Nat × Value)) (hl : lv_has ls nL lv) (hn : i < nL) (hv : (i, Value.int x) :: lv.filter (fun q => !(q.1 == i) && !(q.1 + 1 == i && q.2.category == 2)) = lv') (hd : decode cc pc = .ok (.istore i, 2)) (kk : ∀ ls' : Array Slot, lv_has ls' nL lv' → W p l e R s m args below meth c H locs cells slots Q (F0 m (pc + 2) ls' rest)) : W p l e R s m args below meth c H locs cells slots Q (F0 m pc ls (.int x :: rest)) := lv_istore S.1 S.2.1 hd hl hn hv kk
theorem zr_iinc (S : CallFix p m c cc nL s args lw_all own) {i : Nat} {n a : Int} {lv : List (Nat × Value)} (v : Int) (hv : v = a + n) (lv' : List (Nat × Value)) (hl : lv_has ls nL lv) (j : Nat) (hj : lv[j]? = some (i, .int (zI a))) (hn : i < nL) (hf : (i, Value.int (zI v)) :: lv.filter (fun q => !(q.1 == i) && !(q.1 + 1 == i && q.2.category == 2)) = lv') (hd : decode cc pc = .ok (.iinc i n, 3)) (kk : ∀ ls' : Array Slot, lv_has ls' nL lv' → W p l e R s m args below meth c H locs cells slots Q (F0 m (pc + 3) ls' rest)) : W p l e R s m args below meth c H locs cells slots Q (F0 m pc ls rest) := lv_iinc (v := zI v) S.1 S.2.1 hd hl hj (by rw [hv]; exact (Int32.ofInt_add a n).symm) hn hf kk
theorem zr_iconst (S : CallFix p m c cc nL s args lw_all own) {n : Int} (hd : decode cc pc = .ok (.iconst n, 1)) (kk : W p l e R s m args below meth c H locs cells slots Q (F0 m (pc + 1) ls (.int (zI n) :: rest))) : W p l e R s m args below meth c H locs cells slots Q (F0 m pc ls rest) := lv_iconst (v := zI n) S.1 S.2.1 hd rfl kk
theorem zr_bipush (S : CallFix p m c cc nL s args lw_all own) {n : Int} (hn : (Int8.ofInt n).toInt32 = zI n) (hd : decode cc pc = .ok (.bipush n, 2)) (kk : W p l e R s m args below meth c H locs cells slots Q (F0 m (pc + 2) ls (.int (zI n) :: rest))) : W p l e R s m args below meth c H locs cells slots Q (F0 m pc ls rest) := lv_bipush (v := zI n) S.1 S.2.1 hd hn kk
theorem zr_sipush (S : CallFix p m c cc nL s args lw_all own) {n : Int} (hn : (Int16.ofInt n).toInt32 = zI n) (hd : decode cc pc = .ok (.sipush n, 3)) (kk : W p l e R s m args below meth c H locs cells slots Q (F0 m (pc + 3) ls (.int (zI n) :: rest))) : W p l e R s m args below meth c H locs cells slots Q (F0 m pc ls rest) := lv_sipush (v := zI n) S.1 S.2.1 hd hn kk
theorem zr_ldc (S : CallFix p m c cc nL s args lw_all own) (n : Int) {idx : Nat} {w : Int32} (hw : Cond.constant own idx w ∈ lw_all) (hn : w = zI n) (hd : decode cc pc = .ok (.ldc idx, 2)) (kk : W p l e R s m args below meth c H locs cells slots Q (F0 m (pc + 2) ls (.int (zI n) :: rest))) : W p l e R s m args below meth c H locs cells slots Q (F0 m pc ls rest) := lv_ldc (v := zI n) S.1 S.2.1 S.2.2.2.1 (S.2.2.2.2 _ (by rw [← hn]; exact hw)) hd kk
theorem zr_iadd (S : CallFix p m c cc nL s args lw_all own) {a b : Int} (hd : decode cc pc = .ok (.iadd, 1)) (kk : ∀ v : Int, v = a + b → W p l e R s m args below meth c H locs cells slots Q (F0 m (pc + 1) ls (.int (zI v) :: rest))) : W p l e R s m args below meth c H locs cells slots Q (F0 m pc ls (.int (zI b) :: .int (zI a) :: rest)) := lv_iadd S.1 S.2.1 hd (by rw [← Int32.ofInt_add]; exact kk _ rfl)
theorem zr_isub (S : CallFix p m c cc nL s args lw_all own) {a b : Int} (hd : decode cc pc = .ok (.isub, 1)) (kk : ∀ v : Int, v = a - b → W p l e R s m args below meth c H locs cells slots Q (F0 m (pc + 1) ls (.int (zI v) :: rest))) : W p l e R s m args below meth c H locs cells slots Q (F0 m pc ls (.int (zI b) :: .int (zI a) :: rest)) := lv_isub S.1 S.2.1 hd (by rw [← Int32.ofInt_sub]; exact kk _ rfl)
theorem zr_imul (S : CallFix p m c cc nL s args lw_all own) {a b : Int} (hd : decode cc pc = .ok (.imul, 1)) (kk : ∀ v : Int, v = a * b → W p l e R s m args below meth c H locs cells slots Q (F0 m (pc + 1) ls (.int (zI v) :: rest))) : W p l e R s m args below meth c H locs cells slots Q (F0 m pc ls (.int (zI b) :: .int (zI a) :: rest)) := lv_imul S.1 S.2.1 hd (by rw [← Int32.ofInt_mul]; exact kk _ rfl)
theorem zr_i2b (S : CallFix p m c cc nL s args lw_all own) {a : Int} (hd : decode cc pc = .ok (.i2b, 1)) (kk : ∀ v : Int, v = zB a → W p l e R s m args below meth c H locs cells slots Q (F0 m (pc + 1) ls (.int (zI v) :: rest))) : W p l e R s m args below meth c H locs cells slots Q (F0 m pc ls (.int (zI a) :: rest)) := lv_i2b (v := zI (zB a)) S.1 S.2.1 hd (zI_i2b a) (kk _ rfl)
/-- any number that the machine computed gets a name: the whole number that it is -/
theorem zr_any {x : Int32} (kk : ∀ v : Int, v = x.toInt → zR v → W p l e R s m args below meth c H locs cells slots Q (F0 m pc ls (.int (zI v) :: rest))) : W p l e R s m args below meth c H locs cells slots Q (F0 m pc ls (.int x :: rest)) := by
  have h := kk x.toInt rfl (zR_of x)
  rw [zI_of] at h
  exact h
theorem zr_goto (S : CallFix p m c cc nL s args lw_all own) {off : Int} (tgt : Nat) (ht : (pc : Int) + off = (tgt : Int)) (hd : decode cc pc = .ok (.goto off, 3)) (kk : W p l e R s m args below meth c H locs cells slots Q (F0 m tgt ls rest)) : W p l e R s m args below meth c H locs cells slots Q (F0 m pc ls rest) := lv_goto S.1 S.2.1 hd ht kk
theorem zr_dup (S : CallFix p m c cc nL s args lw_all own) {va : Value} (hva : va.category = 1) (hd : decode cc pc = .ok (.dup, 1)) (kk : W p l e R s m args below meth c H locs cells slots Q (F0 m (pc + 1) ls (va :: va :: rest))) : W p l e R s m args below meth c H locs cells slots Q (F0 m pc ls (va :: rest)) := lv_dup S.1 S.2.1 hd hva kk
theorem zr_dup2 (S : CallFix p m c cc nL s args lw_all own) {va vb : Value} (hva : va.category = 1) (hvb : vb.category = 1) (hd : decode cc pc = .ok (.dup2, 1)) (kk : W p l e R s m args below meth c H locs cells slots Q (F0 m (pc + 1) ls (va :: vb :: va :: vb :: rest))) : W p l e R s m args below meth c H locs cells slots Q (F0 m pc ls (va :: vb :: rest)) := lv_dup2_11 S.1 S.2.1 hd hva hvb kk
theorem zr_pop (S : CallFix p m c cc nL s args lw_all own) {va : Value} (hva : va.category = 1) (hd : decode cc pc = .ok (.pop, 1)) (kk : W p l e R s m args below meth c H locs cells slots Q (F0 m (pc + 1) ls rest)) : W p l e R s m args below meth c H locs cells slots Q (F0 m pc ls (va :: rest)) := lv_pop S.1 S.2.1 hd hva kk
theorem zr_if_lt (S : CallFix p m c cc nL s args lw_all own) {a : Int} {off : Int} (tgt : Nat) (ht : (pc : Int) + off = (tgt : Int)) (ha : zR a) (hd : decode cc pc = .ok (.ifCond .lt off, 3)) (kt : a < 0 → W p l e R s m args below meth c H locs cells slots Q (F0 m tgt ls rest)) (kf : ¬ a < 0 → W p l e R s m args below meth c H locs cells slots Q (F0 m (pc + 3) ls rest)) : W p l e R s m args below meth c H locs cells slots Q (F0 m pc ls (.int (zI a) :: rest)) := lv_if_lt S.1 S.2.1 hd ht (fun h => kt ((zI_lt0 ha).mp h)) (fun h => kf (fun q => h ((zI_lt0 ha).mpr q)))
theorem zr_if_ge (S : CallFix p m c cc nL s args lw_all own) {a : Int} {off : Int} (tgt : Nat) (ht : (pc : Int) + off = (tgt : Int)) (ha : zR a) (hd : decode cc pc = .ok (.ifCond .ge off, 3)) (kt : 0 ≤ a → W p l e R s m args below meth c H locs cells slots Q (F0 m tgt ls rest)) (kf : ¬ 0 ≤ a → W p l e R s m args below meth c H locs cells slots Q (F0 m (pc + 3) ls rest)) : W p l e R s m args below meth c H locs cells slots Q (F0 m pc ls (.int (zI a) :: rest)) := lv_if_ge S.1 S.2.1 hd ht (fun h => kt ((zI_ge0 ha).mp h)) (fun h => kf (fun q => h ((zI_ge0 ha).mpr q)))
theorem zr_if_gt (S : CallFix p m c cc nL s args lw_all own) {a : Int} {off : Int} (tgt : Nat) (ht : (pc : Int) + off = (tgt : Int)) (ha : zR a) (hd : decode cc pc = .ok (.ifCond .gt off, 3)) (kt : 0 < a → W p l e R s m args below meth c H locs cells slots Q (F0 m tgt ls rest)) (kf : ¬ 0 < a → W p l e R s m args below meth c H locs cells slots Q (F0 m (pc + 3) ls rest)) : W p l e R s m args below meth c H locs cells slots Q (F0 m pc ls (.int (zI a) :: rest)) := lv_if_gt S.1 S.2.1 hd ht (fun h => kt ((zI_gt0 ha).mp h)) (fun h => kf (fun q => h ((zI_gt0 ha).mpr q)))
theorem zr_if_le (S : CallFix p m c cc nL s args lw_all own) {a : Int} {off : Int} (tgt : Nat) (ht : (pc : Int) + off = (tgt : Int)) (ha : zR a) (hd : decode cc pc = .ok (.ifCond .le off, 3)) (kt : a ≤ 0 → W p l e R s m args below meth c H locs cells slots Q (F0 m tgt ls rest)) (kf : ¬ a ≤ 0 → W p l e R s m args below meth c H locs cells slots Q (F0 m (pc + 3) ls rest)) : W p l e R s m args below meth c H locs cells slots Q (F0 m pc ls (.int (zI a) :: rest)) := lv_if_le S.1 S.2.1 hd ht (fun h => kt ((zI_le0 ha).mp h)) (fun h => kf (fun q => h ((zI_le0 ha).mpr q)))
theorem zr_if_eq (S : CallFix p m c cc nL s args lw_all own) {a : Int} {off : Int} (tgt : Nat) (ht : (pc : Int) + off = (tgt : Int)) (ha : zR a) (hd : decode cc pc = .ok (.ifCond .eq off, 3)) (kt : a = 0 → W p l e R s m args below meth c H locs cells slots Q (F0 m tgt ls rest)) (kf : ¬ a = 0 → W p l e R s m args below meth c H locs cells slots Q (F0 m (pc + 3) ls rest)) : W p l e R s m args below meth c H locs cells slots Q (F0 m pc ls (.int (zI a) :: rest)) := lv_if_eq S.1 S.2.1 hd ht (fun h => kt ((zI_eq0 ha).mp h)) (fun h => kf (fun q => h ((zI_eq0 ha).mpr q)))
theorem zr_if_ne (S : CallFix p m c cc nL s args lw_all own) {a : Int} {off : Int} (tgt : Nat) (ht : (pc : Int) + off = (tgt : Int)) (ha : zR a) (hd : decode cc pc = .ok (.ifCond .ne off, 3)) (kt : ¬ a = 0 → W p l e R s m args below meth c H locs cells slots Q (F0 m tgt ls rest)) (kf : a = 0 → W p l e R s m args below meth c H locs cells slots Q (F0 m (pc + 3) ls rest)) : W p l e R s m args below meth c H locs cells slots Q (F0 m pc ls (.int (zI a) :: rest)) := lv_if_ne S.1 S.2.1 hd ht (fun h => kt (fun q => h ((zI_eq0 ha).mpr q))) (fun h => kf ((zI_eq0 ha).mp h))
theorem zr_icmp_lt (S : CallFix p m c cc nL s args lw_all own) {a b : Int} {off : Int} (tgt : Nat) (ht : (pc : Int) + off = (tgt : Int)) (ha : zR a) (hb : zR b) (hd : decode cc pc = .ok (.if_icmp .lt off, 3)) (kt : a < b → W p l e R s m args below meth c H locs cells slots Q (F0 m tgt ls rest)) (kf : ¬ a < b → W p l e R s m args below meth c H locs cells slots Q (F0 m (pc + 3) ls rest)) : W p l e R s m args below meth c H locs cells slots Q (F0 m pc ls (.int (zI b) :: .int (zI a) :: rest)) := lv_icmp_lt S.1 S.2.1 hd ht (fun h => kt ((zI_lt ha hb).mp h)) (fun h => kf (fun q => h ((zI_lt ha hb).mpr q)))
theorem zr_icmp_le (S : CallFix p m c cc nL s args lw_all own) {a b : Int} {off : Int} (tgt : Nat) (ht : (pc : Int) + off = (tgt : Int)) (ha : zR a) (hb : zR b) (hd : decode cc pc = .ok (.if_icmp .le off, 3)) (kt : a ≤ b → W p l e R s m args below meth c H locs cells slots Q (F0 m tgt ls rest)) (kf : ¬ a ≤ b → W p l e R s m args below meth c H locs cells slots Q (F0 m (pc + 3) ls rest)) : W p l e R s m args below meth c H locs cells slots Q (F0 m pc ls (.int (zI b) :: .int (zI a) :: rest)) := lv_icmp_le S.1 S.2.1 hd ht (fun h => kt ((zI_le ha hb).mp h)) (fun h => kf (fun q => h ((zI_le ha hb).mpr q)))
theorem zr_icmp_ge (S : CallFix p m c cc nL s args lw_all own) {a b : Int} {off : Int} (tgt : Nat) (ht : (pc : Int) + off = (tgt : Int)) (ha : zR a) (hb : zR b) (hd : decode cc pc = .ok (.if_icmp .ge off, 3)) (kt : b ≤ a → W p l e R s m args below meth c H locs cells slots Q (F0 m tgt ls rest)) (kf : ¬ b ≤ a → W p l e R s m args below meth c H locs cells slots Q (F0 m (pc + 3) ls rest)) : W p l e R s m args below meth c H locs cells slots Q (F0 m pc ls (.int (zI b) :: .int (zI a) :: rest)) := lv_icmp_ge S.1 S.2.1 hd ht (fun h => kt ((zI_le hb ha).mp h)) (fun h => kf (fun q => h ((zI_le hb ha).mpr q)))
theorem zr_icmp_gt (S : CallFix p m c cc nL s args lw_all own) {a b : Int} {off : Int} (tgt : Nat) (ht : (pc : Int) + off = (tgt : Int)) (ha : zR a) (hb : zR b) (hd : decode cc pc = .ok (.if_icmp .gt off, 3)) (kt : b < a → W p l e R s m args below meth c H locs cells slots Q (F0 m tgt ls rest)) (kf : ¬ b < a → W p l e R s m args below meth c H locs cells slots Q (F0 m (pc + 3) ls rest)) : W p l e R s m args below meth c H locs cells slots Q (F0 m pc ls (.int (zI b) :: .int (zI a) :: rest)) := lv_icmp_gt S.1 S.2.1 hd ht (fun h => kt ((zI_lt hb ha).mp h)) (fun h => kf (fun q => h ((zI_lt hb ha).mpr q)))
theorem zr_icmp_eq (S : CallFix p m c cc nL s args lw_all own) {a b : Int} {off : Int} (tgt : Nat) (ht : (pc : Int) + off = (tgt : Int)) (ha : zR a) (hb : zR b) (hd : decode cc pc = .ok (.if_icmp .eq off, 3)) (kt : a = b → W p l e R s m args below meth c H locs cells slots Q (F0 m tgt ls rest)) (kf : ¬ a = b → W p l e R s m args below meth c H locs cells slots Q (F0 m (pc + 3) ls rest)) : W p l e R s m args below meth c H locs cells slots Q (F0 m pc ls (.int (zI b) :: .int (zI a) :: rest)) := lv_icmp_eq S.1 S.2.1 hd ht (fun h => kt ((zI_eq ha hb).mp h)) (fun h => kf (fun q => h ((zI_eq ha hb).mpr q)))
theorem zr_icmp_ne (S : CallFix p m c cc nL s args lw_all own) {a b : Int} {off : Int} (tgt : Nat) (ht : (pc : Int) + off = (tgt : Int)) (ha : zR a) (hb : zR b) (hd : decode cc pc = .ok (.if_icmp .ne off, 3)) (kt : ¬ a = b → W p l e R s m args below meth c H locs cells slots Q (F0 m tgt ls rest)) (kf : a = b → W p l e R s m args below meth c H locs cells slots Q (F0 m (pc + 3) ls rest)) : W p l e R s m args below meth c H locs cells slots Q (F0 m pc ls (.int (zI b) :: .int (zI a) :: rest)) := lv_icmp_ne S.1 S.2.1 hd ht (fun h => kt (fun q => h ((zI_eq ha hb).mpr q))) (fun h => kf ((zI_eq ha hb).mp h))
end ZR
end
section
/-! the worlds of the two classes: a state is one function of field number and index -/
abbrev vwCl : List vw_C := [(RX0, TX0, 19), (RX1, TX1, 3)]
abbrev zS : Type := Nat → Nat → Int
abbrev zG : Type := va_G × (Nat → ClassId) × (Nat → Nat)
def zs_st (σ : zS) (k i : Nat) (v : Int) : zS := fun k' i' => if k' = k then (if i' = i then v else σ k' i') else σ k' i'
theorem zs_eq (σ : zS) (k i : Nat) (v : Int) : zs_st σ k i v k i = v := by simp [zs_st]
theorem zs_ne {σ : zS} {k i k' i' : Nat} {v : Int} (h : k' ≠ k) : zs_st σ k i v k' i' = σ k' i' := by simp [zs_st, h]
theorem zs_ni {σ : zS} {k i k' i' : Nat} {v : Int} (h : i' ≠ i) : zs_st σ k i v k' i' = σ k' i' := by simp [zs_st, h]
theorem zs_nk {σ : zS} {k i k' : Nat} {v : Int} (h : k' ≠ k) : zs_st σ k i v k' = σ k' := by funext j; exact zs_ne h
def zs_ar (g : zG) (σ : zS) (k n : Nat) : Nat × va_E := (g.2.2 k, .inl (g.2.1 k, n, .inl (fun j => zI (σ k j))))
theorem zs_ar_ne {g : zG} {σ : zS} {k n k' i : Nat} {z : Int} (h : k ≠ k') : zs_ar g (zs_st σ k' i z) k n = zs_ar g σ k n := by simp only [zs_ar, zs_ne h]
theorem zs_ar_eq (g : zG) (σ : zS) (k n i : Nat) (z : Int) : zs_ar g (zs_st σ k i z) k n = (g.2.2 k, .inl (g.2.1 k, n, .inl (upd (fun j => zI (σ k j)) i (zI z)))) := by
  have h : (fun j => zI (zs_st σ k i z k j)) = upd (fun j => zI (σ k j)) i (zI z) := by
    funext j
    unfold upd
    by_cases hj : j = i
    · subst hj
      rw [zs_eq, if_pos rfl]
    · rw [zs_ni hj, if_neg hj]
  unfold zs_ar
  rw [h]
theorem zI_nb {z : Int} (h1 : -128 ≤ z) (h2 : z ≤ 127) : vp_nar .byte (zI z) = zI z := by rw [vp_nar_byte, zI_i2b, zB_id h1 h2]
theorem zI_nz {z : Int} (h1 : 0 ≤ z) (h2 : z ≤ 1) : vp_nar .boolean (zI z) = zI z := by
  rcases (show z = 0 ∨ z = 1 by omega) with h | h
  · subst h; decide +kernel
  · subst h; decide +kernel
theorem zI_rz {z : Int} (h1 : 0 ≤ z) (h2 : z ≤ 1) : narrow .boolean (.int (zI z)) = .int (zI z) := by
  rcases (show z = 0 ∨ z = 1 by omega) with h | h
  · subst h; decide +kernel
  · subst h; decide +kernel

def zt_lo : Nat → Int := fun k => match k with
  | 0 => 0
  | 1 => (-1)
  | 2 => (-1)
  | 3 => (-128)
  | 4 => 0
  | 5 => (-2147483648)
  | 6 => (-128)
  | 7 => (-128)
  | 8 => (-1)
  | 9 => (-2147483648)
  | 10 => 0
  | 11 => 0
  | 12 => 0
  | 13 => 0
  | 14 => (-1)
  | 15 => (-1)
  | 16 => (-1)
  | 17 => (-1)
  | 18 => (-1)
  | _ => 0
def zt_hi : Nat → Int := fun k => match k with
  | 0 => 6
  | 1 => 59
  | 2 => 59
  | 3 => 127
  | 4 => 1
  | 5 => 2147483647
  | 6 => 127
  | 7 => 127
  | 8 => 59
  | 9 => 2147483647
  | 10 => 59
  | 11 => 60
  | 12 => 59
  | 13 => 64
  | 14 => 59
  | 15 => 59
  | 16 => 59
  | 17 => 59
  | 18 => 59
  | _ => 0
def zt_WF (σ : zS) : Prop := ∀ k i, zt_lo k ≤ σ k i ∧ σ k i ≤ zt_hi k
theorem zt_WF.st {σ : zS} (h : zt_WF σ) {k i : Nat} {z : Int} (h1 : zt_lo k ≤ z) (h2 : z ≤ zt_hi k) : zt_WF (zs_st σ k i z) := by
  intro k' i'
  by_cases hk : k' = k
  · subst hk
    by_cases hi : i' = i
    · subst hi
      rw [zs_eq]
      exact ⟨h1, h2⟩
    · rw [zs_ni hi]
      exact h k' i'
  · rw [zs_ne hk]
    exact h k' i'
def zt_fl (g : zG) (σ : zS) : List Value := [.ref (g.2.2 0), .ref (g.2.2 1), .ref (g.2.2 2), .ref (g.2.2 3), .ref (g.2.2 4), .ref (g.2.2 5), .ref (g.2.2 6), .ref (g.2.2 7), .int (zI (σ 8 0)), .int (zI (σ 9 0)), .ref (g.2.2 10), .int (zI (σ 11 0)), .ref (g.2.2 12), .int (zI (σ 13 0)), .int (zI (σ 14 0)), .int (zI (σ 15 0)), .int (zI (σ 16 0)), .int (zI (σ 17 0)), .int (zI (σ 18 0))]
def zt_ce (g : zG) (σ : zS) : va_W := [(g.2.2 19, .inr (0, zt_fl g σ)), zs_ar g σ 0 60, zs_ar g σ 1 60, zs_ar g σ 2 60, zs_ar g σ 3 60, zs_ar g σ 4 60, zs_ar g σ 5 60, zs_ar g σ 6 180, zs_ar g σ 7 180, zs_ar g σ 10 60, zs_ar g σ 12 64]
def zt_ty (g : zG) : List (ClassId × FieldType) := [(g.2.1 0, .byte), (g.2.1 1, .byte), (g.2.1 2, .byte), (g.2.1 3, .byte), (g.2.1 4, .boolean), (g.2.1 5, .int), (g.2.1 6, .byte), (g.2.1 7, .byte), (g.2.1 10, .byte), (g.2.1 12, .byte)]
def zt_ad (g : zG) : List Nat := [g.2.2 19, g.2.2 0, g.2.2 1, g.2.2 2, g.2.2 3, g.2.2 4, g.2.2 5, g.2.2 6, g.2.2 7, g.2.2 10, g.2.2 12]
theorem zt_ad_eq (g : zG) (σ : zS) : (zt_ce g σ).map (fun q => q.1) = zt_ad g := rfl
def zt_A (g : zG) (sz : Nat) : Nat → Prop := fun q => q ∈ zt_ad g ∨ sz ≤ q
theorem zt_A.of {g : zG} {σ : zS} {k : Nat} {q : Nat × va_E} (sz : Nat) (h : (zt_ce g σ)[k]? = some q) : zt_A g sz q.1 := Or.inl (by
  rw [← zt_ad_eq g σ]
  exact List.mem_map.mpr ⟨q, List.mem_of_getElem? h, rfl⟩)
theorem zt_A.to {g : zG} (σ : zS) {sz q : Nat} (h : zt_A g sz q) : (∃ (k : Nat) (e : va_E), (zt_ce g σ)[k]? = some (q, e)) ∨ sz ≤ q := by
  rcases h with h | h
  · left
    rw [← zt_ad_eq g σ] at h
    obtain ⟨x, hx, he⟩ := List.mem_map.mp h
    obtain ⟨k, hk⟩ := List.getElem?_of_mem hx
    exact ⟨k, x.2, by rw [hk, ← he]⟩
  · exact Or.inr h
def zt_fx : Nat → Nat := fun k => match k with
  | 0 => 7
  | 1 => 13
  | 2 => 16
  | 3 => 19
  | 4 => 22
  | 5 => 26
  | 6 => 30
  | 7 => 33
  | 8 => 42
  | 9 => 46
  | 10 => 36
  | 11 => 49
  | 12 => 39
  | 13 => 129
  | 14 => 67
  | 15 => 64
  | 16 => 88
  | 17 => 81
  | _ => 91
theorem zt_lk : ∀ k, k < 19 → Cond.fieldLink RX0 (zt_fx k) (TX0 k).1 (TX0 k).2.1 (TX0 k).2.2.1 ∈ lw_all := by
  intro k hk
  match k, hk with
  | 0, _ => exact q37
  | 1, _ => exact q38
  | 2, _ => exact q39
  | 3, _ => exact q40
  | 4, _ => exact q41
  | 5, _ => exact q42
  | 6, _ => exact q43
  | 7, _ => exact q44
  | 8, _ => exact q45
  | 9, _ => exact q46
  | 10, _ => exact q47
  | 11, _ => exact q48
  | 12, _ => exact q49
  | 13, _ => exact q50
  | 14, _ => exact q51
  | 15, _ => exact q52
  | 16, _ => exact q53
  | 17, _ => exact q54
  | 18, _ => exact q55
  | k + 19, h => exact absurd h (by omega)
theorem zt_s0 (g : zG) (σ : zS) (i : Nat) (z : Int) : (zt_ce g σ).set 1 (g.2.2 0, .inl (g.2.1 0, 60, .inl (upd (fun j => zI (σ 0 j)) i (zI z)))) = zt_ce g (zs_st σ 0 i z) := by
  rw [← zs_ar_eq]
  simp [zt_ce, zt_fl, zs_ar_ne, zs_ne]
theorem zt_s1 (g : zG) (σ : zS) (i : Nat) (z : Int) : (zt_ce g σ).set 2 (g.2.2 1, .inl (g.2.1 1, 60, .inl (upd (fun j => zI (σ 1 j)) i (zI z)))) = zt_ce g (zs_st σ 1 i z) := by
  rw [← zs_ar_eq]
  simp [zt_ce, zt_fl, zs_ar_ne, zs_ne]
theorem zt_s2 (g : zG) (σ : zS) (i : Nat) (z : Int) : (zt_ce g σ).set 3 (g.2.2 2, .inl (g.2.1 2, 60, .inl (upd (fun j => zI (σ 2 j)) i (zI z)))) = zt_ce g (zs_st σ 2 i z) := by
  rw [← zs_ar_eq]
  simp [zt_ce, zt_fl, zs_ar_ne, zs_ne]
theorem zt_s3 (g : zG) (σ : zS) (i : Nat) (z : Int) : (zt_ce g σ).set 4 (g.2.2 3, .inl (g.2.1 3, 60, .inl (upd (fun j => zI (σ 3 j)) i (zI z)))) = zt_ce g (zs_st σ 3 i z) := by
  rw [← zs_ar_eq]
  simp [zt_ce, zt_fl, zs_ar_ne, zs_ne]
theorem zt_s4 (g : zG) (σ : zS) (i : Nat) (z : Int) : (zt_ce g σ).set 5 (g.2.2 4, .inl (g.2.1 4, 60, .inl (upd (fun j => zI (σ 4 j)) i (zI z)))) = zt_ce g (zs_st σ 4 i z) := by
  rw [← zs_ar_eq]
  simp [zt_ce, zt_fl, zs_ar_ne, zs_ne]
theorem zt_s5 (g : zG) (σ : zS) (i : Nat) (z : Int) : (zt_ce g σ).set 6 (g.2.2 5, .inl (g.2.1 5, 60, .inl (upd (fun j => zI (σ 5 j)) i (zI z)))) = zt_ce g (zs_st σ 5 i z) := by
  rw [← zs_ar_eq]
  simp [zt_ce, zt_fl, zs_ar_ne, zs_ne]
theorem zt_s6 (g : zG) (σ : zS) (i : Nat) (z : Int) : (zt_ce g σ).set 7 (g.2.2 6, .inl (g.2.1 6, 180, .inl (upd (fun j => zI (σ 6 j)) i (zI z)))) = zt_ce g (zs_st σ 6 i z) := by
  rw [← zs_ar_eq]
  simp [zt_ce, zt_fl, zs_ar_ne, zs_ne]
theorem zt_s7 (g : zG) (σ : zS) (i : Nat) (z : Int) : (zt_ce g σ).set 8 (g.2.2 7, .inl (g.2.1 7, 180, .inl (upd (fun j => zI (σ 7 j)) i (zI z)))) = zt_ce g (zs_st σ 7 i z) := by
  rw [← zs_ar_eq]
  simp [zt_ce, zt_fl, zs_ar_ne, zs_ne]
theorem zt_s10 (g : zG) (σ : zS) (i : Nat) (z : Int) : (zt_ce g σ).set 9 (g.2.2 10, .inl (g.2.1 10, 60, .inl (upd (fun j => zI (σ 10 j)) i (zI z)))) = zt_ce g (zs_st σ 10 i z) := by
  rw [← zs_ar_eq]
  simp [zt_ce, zt_fl, zs_ar_ne, zs_ne]
theorem zt_s12 (g : zG) (σ : zS) (i : Nat) (z : Int) : (zt_ce g σ).set 10 (g.2.2 12, .inl (g.2.1 12, 64, .inl (upd (fun j => zI (σ 12 j)) i (zI z)))) = zt_ce g (zs_st σ 12 i z) := by
  rw [← zs_ar_eq]
  simp [zt_ce, zt_fl, zs_ar_ne, zs_ne]
theorem zt_s8 (g : zG) (σ : zS) (z : Int) : (zt_ce g σ).set 0 (g.2.2 19, .inr (0, (zt_fl g σ).set 8 (.int (zI z)))) = zt_ce g (zs_st σ 8 0 z) := by
  simp [zt_ce, zt_fl, zs_ar_ne, zs_ne, zs_eq]
theorem zt_s9 (g : zG) (σ : zS) (z : Int) : (zt_ce g σ).set 0 (g.2.2 19, .inr (0, (zt_fl g σ).set 9 (.int (zI z)))) = zt_ce g (zs_st σ 9 0 z) := by
  simp [zt_ce, zt_fl, zs_ar_ne, zs_ne, zs_eq]
theorem zt_s11 (g : zG) (σ : zS) (z : Int) : (zt_ce g σ).set 0 (g.2.2 19, .inr (0, (zt_fl g σ).set 11 (.int (zI z)))) = zt_ce g (zs_st σ 11 0 z) := by
  simp [zt_ce, zt_fl, zs_ar_ne, zs_ne, zs_eq]
theorem zt_s13 (g : zG) (σ : zS) (z : Int) : (zt_ce g σ).set 0 (g.2.2 19, .inr (0, (zt_fl g σ).set 13 (.int (zI z)))) = zt_ce g (zs_st σ 13 0 z) := by
  simp [zt_ce, zt_fl, zs_ar_ne, zs_ne, zs_eq]
theorem zt_s14 (g : zG) (σ : zS) (z : Int) : (zt_ce g σ).set 0 (g.2.2 19, .inr (0, (zt_fl g σ).set 14 (.int (zI z)))) = zt_ce g (zs_st σ 14 0 z) := by
  simp [zt_ce, zt_fl, zs_ar_ne, zs_ne, zs_eq]
theorem zt_s15 (g : zG) (σ : zS) (z : Int) : (zt_ce g σ).set 0 (g.2.2 19, .inr (0, (zt_fl g σ).set 15 (.int (zI z)))) = zt_ce g (zs_st σ 15 0 z) := by
  simp [zt_ce, zt_fl, zs_ar_ne, zs_ne, zs_eq]
theorem zt_s16 (g : zG) (σ : zS) (z : Int) : (zt_ce g σ).set 0 (g.2.2 19, .inr (0, (zt_fl g σ).set 16 (.int (zI z)))) = zt_ce g (zs_st σ 16 0 z) := by
  simp [zt_ce, zt_fl, zs_ar_ne, zs_ne, zs_eq]
theorem zt_s17 (g : zG) (σ : zS) (z : Int) : (zt_ce g σ).set 0 (g.2.2 19, .inr (0, (zt_fl g σ).set 17 (.int (zI z)))) = zt_ce g (zs_st σ 17 0 z) := by
  simp [zt_ce, zt_fl, zs_ar_ne, zs_ne, zs_eq]
theorem zt_s18 (g : zG) (σ : zS) (z : Int) : (zt_ce g σ).set 0 (g.2.2 19, .inr (0, (zt_fl g σ).set 18 (.int (zI z)))) = zt_ce g (zs_st σ 18 0 z) := by
  simp [zt_ce, zt_fl, zs_ar_ne, zs_ne, zs_eq]
/-- the world in a running method: the cells hold σ, are apart, in A; outside A nothing has changed -/
def zt_W (g : zG) (A : Nat → Prop) (s : State) (H : Heap) (locs : List Loc) (σ : zS) : Prop :=
  va_P g.1 vwCl (zt_ce g σ) H ∧ va_D A (zt_ce g σ) ∧ va_S A s.heap H locs ∧ va_K g.1 vwCl (zt_ty g) s ∧ zt_WF σ ∧ ∀ q, s.heap.size ≤ q → A q
/-- the world at a method's start, and behind it -/
def zt_P (g : zG) (σ : zS) (U : State) : Prop := va_P g.1 vwCl (zt_ce g σ) U.heap ∧ va_K g.1 vwCl (zt_ty g) U ∧ va_D (fun _ => True) (zt_ce g σ) ∧ zt_WF σ
def zt_B (g : zG) (sz : Nat) (σ : zS) (t : State) : Prop := va_P g.1 vwCl (zt_ce g σ) t.heap ∧ va_K g.1 vwCl (zt_ty g) t ∧ va_D (zt_A g sz) (zt_ce g σ) ∧ zt_WF σ
/-- contracts: y, called with the numbers as, answers z and leaves the state σ' with 'post z σ'' (int or boolean answer; void) -/
def zt_Mi (l : Launch) (y : MethodName) (b : ByteArray) (L : Nat) (ret : Option FieldType) (rm : Room) (g : zG) (σ : zS) (as : List Int) (post : Int → zS → Prop) : Prop :=
  ∀ sz, Met l y (ws_ y b L ret) rm (va_Pc (.ref (g.2.2 19) :: as.map (fun z => .int (zI z))) (fun U => U.heap.size = sz ∧ zt_P g σ U)) (va_Qi (fun r σ' => ∃ z, r = zI z ∧ post z σ') (zt_B g sz) (zt_A g sz)) 0 0 (zt_A g sz)
def zt_Mv (l : Launch) (y : MethodName) (b : ByteArray) (L : Nat) (rm : Room) (g : zG) (σ : zS) (as : List Int) (post : zS → Prop) : Prop :=
  ∀ sz, Met l y (ws_ y b L none) rm (va_Pc (.ref (g.2.2 19) :: as.map (fun z => .int (zI z))) (fun U => U.heap.size = sz ∧ zt_P g σ U)) (va_Qv post (zt_B g sz) (zt_A g sz)) 0 0 (zt_A g sz)
/-- the words of a call: own's constant idx is y, with n numbers -/
def zt_Q (own : String) (idx : Nat) (y : MethodName) (b : ByteArray) (L : Nat) (ret : Option FieldType) (n : Nat) : Prop :=
  Cond.methodLink own idx y ∈ lw_all ∧ Cond.instanceMethod y ∈ lw_all ∧ Cond.selects RX0 y y ∈ lw_all ∧ Cond.code y b L ret ∈ lw_all ∧ (y.cls = RX0 ∧ y.cls ≠ "java/lang/invoke/MethodHandle" ∧ y.cls ≠ "java/lang/invoke/VarHandle" ∧ (parseMethodDescriptor y.desc).map (fun d => d.parameters.length) = some n)
theorem zt_ini : Cond.initialized RX0 ∈ lw_all := q27
section Zzt
variable {p : Program} {l : Launch} {e : Env} {R : Room} {s : State} {m : MethodId} {args : Array Value} {below : List Frame} {meth : Method} {c : Code} {H : Heap} {locs : List Loc} {cells slots : Nat} {Q : State → Prop} {cc : ByteArray} {nL : Nat} {own : String} {pc : Nat} {ls : Array Slot} {rest : List Value} {g : zG} {A : Nat → Prop} {σ : zS}
theorem zt_get (S : CallFix p m c cc nL s args lw_all RX0) (hw : zt_W g A s H locs σ) (k : Nat) (v : Value) (hk : k < 19) (hv : (zt_fl g σ)[k]? = some v) (hd : decode cc pc = .ok (.getfield (zt_fx k), 3)) (kk : W p l e R s m args below meth c H locs cells slots Q (F0 m (pc + 3) ls (v :: rest))) : W p l e R s m args below meth c H locs cells slots Q (F0 m pc ls (.ref (g.2.2 19) :: rest)) :=
  va_get (D := g.1) (ci := 0) (C := RX0) (T := TX0) (N := 19) S.1 S.2.1 S.2.2.2.2 in_X0 S.2.2.2.1 hw.2.2.2.1 hw.1 0 rfl rfl k hk (S.2.2.2.2 _ (zt_lk k hk)) (fun _ h9 => h9) hv hd kk
theorem zt_geti (S : CallFix p m c cc nL s args lw_all RX0) (hw : zt_W g A s H locs σ) (k : Nat) (hk : k < 19) (hv : (zt_fl g σ)[k]? = some (.int (zI (σ k 0)))) (hd : decode cc pc = .ok (.getfield (zt_fx k), 3)) (kk : ∀ v : Int, v = σ k 0 → zt_lo k ≤ v ∧ v ≤ zt_hi k → W p l e R s m args below meth c H locs cells slots Q (F0 m (pc + 3) ls (.int (zI v) :: rest))) : W p l e R s m args below meth c H locs cells slots Q (F0 m pc ls (.ref (g.2.2 19) :: rest)) :=
  zt_get S hw k _ hk hv hd (kk _ rfl (hw.2.2.2.2.1 k 0))
theorem zt_put (S : CallFix p m c cc nL s args lw_all RX0) (hw : zt_W g A s H locs σ) (k : Nat) (hk : k < 19) {z : Int} (hs : (zt_ce g σ).set 0 (g.2.2 19, .inr (0, (zt_fl g σ).set k (.int (zI z)))) = zt_ce g (zs_st σ k 0 z)) (hfin : (TX0 k).2.2.2 = false) (hty : parseFieldDescriptor (TX0 k).2.2.1 = some .int) (hl : k < (zt_fl g σ).length) (h1 : zt_lo k ≤ z ∧ z ≤ zt_hi k) (hd : decode cc pc = .ok (.putfield (zt_fx k), 3)) (kk : ∀ (σ' : zS) (H1 : Heap) (locs1 : List Loc), σ' = zs_st σ k 0 z → zt_W g A s H1 locs1 σ' → W p l e R s m args below meth c H1 locs1 cells slots Q (F0 m (pc + 3) ls rest)) : W p l e R s m args below meth c H locs cells slots Q (F0 m pc ls (.int (zI z) :: .ref (g.2.2 19) :: rest)) := by
  refine va_put (D := g.1) (ci := 0) (v := .int (zI z)) (ty := .int) (C := RX0) (T := TX0) (N := 19) S.1 S.2.1 S.2.2.2.2 in_X0 tyX0 tyX0_ok nmX0 S.2.2.2.1 hw.2.2.2.1 hw.1 hw.2.1 hw.2.2.1 0 rfl rfl k hk (S.2.2.2.2 _ (zt_lk k hk)) (fun _ h9 => h9) hfin hty rfl rfl hl hd (fun H1 locs1 hP hD hS => ?_)
  rw [hs] at hP hD
  exact kk _ H1 locs1 rfl ⟨hP, hD, hS, hw.2.2.2.1, hw.2.2.2.2.1.st h1.1 h1.2, hw.2.2.2.2.2⟩
theorem zt_bald (S : CallFix p m c cc nL s args lw_all own) (hw : zt_W g A s H locs σ) (k n q0 t0 : Nat) {i : Int} (h0 : 0 ≤ i) (h1 : i < (n : Int)) (h2 : zR i) (ha : (zt_ce g σ)[q0]? = some (zs_ar g σ k n)) (ht : (zt_ty g)[t0]? = some (g.2.1 k, .byte)) (hd : decode cc pc = .ok (.baload, 1)) (kk : ∀ v : Int, v = σ k i.toNat → zt_lo k ≤ v ∧ v ≤ zt_hi k → W p l e R s m args below meth c H locs cells slots Q (F0 m (pc + 1) ls (.int (zI v) :: rest))) : W p l e R s m args below meth c H locs cells slots Q (F0 m pc ls (.int (zI i) :: .ref (g.2.2 k) :: rest)) :=
  va_bald S.1 S.2.1 hw.2.2.2.1 hw.1 q0 t0 ha ht (zI_in h0 h1 h2) hd (by rw [zI_cl h2]; exact kk _ rfl (hw.2.2.2.2.1 k i.toNat))
theorem zt_zald (S : CallFix p m c cc nL s args lw_all own) (hw : zt_W g A s H locs σ) (k n q0 t0 : Nat) {i : Int} (h0 : 0 ≤ i) (h1 : i < (n : Int)) (h2 : zR i) (ha : (zt_ce g σ)[q0]? = some (zs_ar g σ k n)) (ht : (zt_ty g)[t0]? = some (g.2.1 k, .boolean)) (hd : decode cc pc = .ok (.baload, 1)) (kk : ∀ v : Int, v = σ k i.toNat → zt_lo k ≤ v ∧ v ≤ zt_hi k → W p l e R s m args below meth c H locs cells slots Q (F0 m (pc + 1) ls (.int (zI v) :: rest))) : W p l e R s m args below meth c H locs cells slots Q (F0 m pc ls (.int (zI i) :: .ref (g.2.2 k) :: rest)) :=
  va_zald S.1 S.2.1 hw.2.2.2.1 hw.1 q0 t0 ha ht (zI_in h0 h1 h2) hd (by rw [zI_cl h2]; exact kk _ rfl (hw.2.2.2.2.1 k i.toNat))
theorem zt_iald (S : CallFix p m c cc nL s args lw_all own) (hw : zt_W g A s H locs σ) (k n q0 t0 : Nat) {i : Int} (h0 : 0 ≤ i) (h1 : i < (n : Int)) (h2 : zR i) (ha : (zt_ce g σ)[q0]? = some (zs_ar g σ k n)) (ht : (zt_ty g)[t0]? = some (g.2.1 k, .int)) (hd : decode cc pc = .ok (.iaload, 1)) (kk : ∀ v : Int, v = σ k i.toNat → zt_lo k ≤ v ∧ v ≤ zt_hi k → W p l e R s m args below meth c H locs cells slots Q (F0 m (pc + 1) ls (.int (zI v) :: rest))) : W p l e R s m args below meth c H locs cells slots Q (F0 m pc ls (.int (zI i) :: .ref (g.2.2 k) :: rest)) :=
  va_iald S.1 S.2.1 hw.2.2.2.1 hw.1 q0 t0 ha ht (zI_in h0 h1 h2) hd (by rw [zI_cl h2]; exact kk _ rfl (hw.2.2.2.2.1 k i.toNat))
theorem zt_bast (S : CallFix p m c cc nL s args lw_all own) (hw : zt_W g A s H locs σ) (k n q0 t0 : Nat) {i z : Int} (h0 : 0 ≤ i) (h1 : i < (n : Int)) (h2 : zR i) (hb : -128 ≤ z ∧ z ≤ 127) (h3 : zt_lo k ≤ z ∧ z ≤ zt_hi k) (ha : (zt_ce g σ)[q0]? = some (zs_ar g σ k n)) (ht : (zt_ty g)[t0]? = some (g.2.1 k, .byte)) (hs : (zt_ce g σ).set q0 (g.2.2 k, .inl (g.2.1 k, n, .inl (upd (fun j => zI (σ k j)) i.toNat (zI z)))) = zt_ce g (zs_st σ k i.toNat z)) (hd : decode cc pc = .ok (.bastore, 1)) (kk : ∀ (σ' : zS) (H1 : Heap) (locs1 : List Loc), σ' = zs_st σ k i.toNat z → zt_W g A s H1 locs1 σ' → W p l e R s m args below meth c H1 locs1 cells slots Q (F0 m (pc + 1) ls rest)) : W p l e R s m args below meth c H locs cells slots Q (F0 m pc ls (.int (zI z) :: .int (zI i) :: .ref (g.2.2 k) :: rest)) := by
  refine va_bast S.1 S.2.1 hw.2.2.2.1 hw.1 hw.2.1 hw.2.2.1 q0 t0 ha ht (zI_in h0 h1 h2) hd (fun H1 locs1 hP hD hS => ?_)
  rw [zI_cl h2, zI_nb hb.1 hb.2, hs] at hP hD
  exact kk _ H1 locs1 rfl ⟨hP, hD, hS, hw.2.2.2.1, hw.2.2.2.2.1.st h3.1 h3.2, hw.2.2.2.2.2⟩
theorem zt_zast (S : CallFix p m c cc nL s args lw_all own) (hw : zt_W g A s H locs σ) (k n q0 t0 : Nat) {i z : Int} (h0 : 0 ≤ i) (h1 : i < (n : Int)) (h2 : zR i) (hb : 0 ≤ z ∧ z ≤ 1) (h3 : zt_lo k ≤ z ∧ z ≤ zt_hi k) (ha : (zt_ce g σ)[q0]? = some (zs_ar g σ k n)) (ht : (zt_ty g)[t0]? = some (g.2.1 k, .boolean)) (hs : (zt_ce g σ).set q0 (g.2.2 k, .inl (g.2.1 k, n, .inl (upd (fun j => zI (σ k j)) i.toNat (zI z)))) = zt_ce g (zs_st σ k i.toNat z)) (hd : decode cc pc = .ok (.bastore, 1)) (kk : ∀ (σ' : zS) (H1 : Heap) (locs1 : List Loc), σ' = zs_st σ k i.toNat z → zt_W g A s H1 locs1 σ' → W p l e R s m args below meth c H1 locs1 cells slots Q (F0 m (pc + 1) ls rest)) : W p l e R s m args below meth c H locs cells slots Q (F0 m pc ls (.int (zI z) :: .int (zI i) :: .ref (g.2.2 k) :: rest)) := by
  refine va_zast S.1 S.2.1 hw.2.2.2.1 hw.1 hw.2.1 hw.2.2.1 q0 t0 ha ht (zI_in h0 h1 h2) hd (fun H1 locs1 hP hD hS => ?_)
  rw [zI_cl h2, zI_nz hb.1 hb.2, hs] at hP hD
  exact kk _ H1 locs1 rfl ⟨hP, hD, hS, hw.2.2.2.1, hw.2.2.2.2.1.st h3.1 h3.2, hw.2.2.2.2.2⟩
theorem zt_iast (S : CallFix p m c cc nL s args lw_all own) (hw : zt_W g A s H locs σ) (k n q0 t0 : Nat) {i z : Int} (h0 : 0 ≤ i) (h1 : i < (n : Int)) (h2 : zR i) (h3 : zt_lo k ≤ z ∧ z ≤ zt_hi k) (ha : (zt_ce g σ)[q0]? = some (zs_ar g σ k n)) (ht : (zt_ty g)[t0]? = some (g.2.1 k, .int)) (hs : (zt_ce g σ).set q0 (g.2.2 k, .inl (g.2.1 k, n, .inl (upd (fun j => zI (σ k j)) i.toNat (zI z)))) = zt_ce g (zs_st σ k i.toNat z)) (hd : decode cc pc = .ok (.iastore, 1)) (kk : ∀ (σ' : zS) (H1 : Heap) (locs1 : List Loc), σ' = zs_st σ k i.toNat z → zt_W g A s H1 locs1 σ' → W p l e R s m args below meth c H1 locs1 cells slots Q (F0 m (pc + 1) ls rest)) : W p l e R s m args below meth c H locs cells slots Q (F0 m pc ls (.int (zI z) :: .int (zI i) :: .ref (g.2.2 k) :: rest)) := by
  refine va_iast S.1 S.2.1 hw.2.2.2.1 hw.1 hw.2.1 hw.2.2.1 q0 t0 ha ht (zI_in h0 h1 h2) hd (fun H1 locs1 hP hD hS => ?_)
  rw [zI_cl h2, hs] at hP hD
  exact kk _ H1 locs1 rfl ⟨hP, hD, hS, hw.2.2.2.1, hw.2.2.2.2.1.st h3.1 h3.2, hw.2.2.2.2.2⟩
theorem zt_pre {as : List Int} (sz : Nat) : FrameBlind (va_Pc (.ref (g.2.2 19) :: as.map (fun z => .int (zI z))) (fun U => U.heap.size = sz ∧ zt_P g σ U)) := fun a U g' mk q => by
  obtain ⟨q0, q1, qP, qK, qD, qW⟩ := q
  exact ⟨q0, q1, qP, va_K.moved (u := U) (U := U.calling g' mk a) (Vm.Alike.refl U.vm) qK, qD, qW⟩
theorem zt_preV (hw : zt_W g A s H locs σ) (as : List Int) : PreV s H RX0 (g.2.2 19) (va_Pc (.ref (g.2.2 19) :: as.map (fun z => .int (zI z))) (fun U => U.heap.size = H.size ∧ zt_P g σ U)) (as.map (fun z => .int (zI z))) :=
  ⟨zt_pre H.size, va_recv hw.2.2.2.1 hw.1 (ci := 0) (q0 := 0) rfl rfl, fun U hU hW => ⟨rfl, by rw [hU], by rw [hU]; exact hw.1, va_K.moved hW.alike hw.2.2.2.1, hw.2.1.weaken (fun _ _ _ _ => trivial), hw.2.2.2.2.1⟩⟩
theorem zt_fr (hw : zt_W g A s H locs σ) : ∀ q, zt_A g H.size q → A q := by
  intro q h
  rcases zt_A.to σ h with ⟨k, e, h⟩ | h
  · exact hw.2.1.2 k _ h
  · exact hw.2.2.2.2.2 q (Nat.le_trans hw.2.2.1.1 h)
theorem zt_cw {y : MethodName} {b : ByteArray} {L : Nat} {ret : Option FieldType} {rm : Room} {n idx : Nat} (S : CallFix p m c cc nL s args lw_all own) (hq : zt_Q own idx y b L ret n) (hrc : rm.cells = 0) (hrs : rm.slots = 0) (hR : rm.frames + 1 ≤ R.frames ∧ 8 + (L + 11) + rm.locals ≤ R.locals) : CallW R s args own RX0 idx y b L ret (ws_ y b L ret) rm 0 0 n :=
  cwV n S.2.2.2.2 (lw_V hq.1 hq.2.1 hq.2.2.1 zt_ini hq.2.2.2.1) rfl hrc hrs hq.2.2.2.2 hR
theorem zt_calli {y : MethodName} {b : ByteArray} {L : Nat} {ret : Option FieldType} {rm : Room} {as : List Int} {post : Int → zS → Prop} {n idx : Nat} {st0 : List Value} (S : CallFix p m c cc nL s args lw_all own) (hw : zt_W g A s H locs σ) (hM : zt_Mi l y b L ret rm g σ as post) (hq : zt_Q own idx y b L ret n) (hrc : rm.cells = 0) (hrs : rm.slots = 0) (hR : rm.frames + 1 ≤ R.frames ∧ 8 + (L + 11) + rm.locals ≤ R.locals) (hn : as.length = n) (hst : st0 = (as.map (fun z => Value.int (zI z))).reverse ++ .ref (g.2.2 19) :: rest) (hls : ls.size = nL) (hrm : (rest.map fun v => v.category).sum ≤ 8) (hcs : cells ≤ R.cells ∧ slots ≤ R.slots) (hd : decode cc pc = .ok (.invokevirtual idx, 3)) (kk : ∀ (v : Int) (σ' : zS) (H1 : Heap) (locs1 : List Loc), post v σ' → zt_W g A s H1 locs1 σ' → W p l e R s m args below meth c H1 locs1 cells slots Q (F0 m (pc + 3) ls (.int (zI v) :: rest))) : W p l e R s m args below meth c H locs cells slots Q (F0 m pc ls st0) := by
  refine va_calli (va_runV (As := as.map (fun z => Value.int (zI z))) (rest := rest) S (hM H.size) (zt_cw S hq hrc hrs hR) (zt_preV hw as) rfl (by rw [List.length_map]; exact hn) hls hst (lv_room hrm) hd hcs) hw.2.2.1 (fun q _ h => zt_fr hw q h) (zt_fr hw) (fun r u t H1 locs1 ht hvm hp hB hz hk hS => ?_)
  obtain ⟨z, rfl, hp⟩ := hp
  obtain ⟨hP1, hK1, hD1, hW1⟩ := hB
  rw [ht] at hP1
  exact kk z u H1 locs1 hp ⟨hP1, hD1.weaken (fun _ _ _ h => zt_fr hw _ h), hS, hw.2.2.2.1, hW1, hw.2.2.2.2.2⟩
theorem zt_callv {y : MethodName} {b : ByteArray} {L : Nat} {rm : Room} {as : List Int} {post : zS → Prop} {n idx : Nat} {st0 : List Value} (S : CallFix p m c cc nL s args lw_all own) (hw : zt_W g A s H locs σ) (hM : zt_Mv l y b L rm g σ as post) (hq : zt_Q own idx y b L none n) (hrc : rm.cells = 0) (hrs : rm.slots = 0) (hR : rm.frames + 1 ≤ R.frames ∧ 8 + (L + 11) + rm.locals ≤ R.locals) (hn : as.length = n) (hst : st0 = (as.map (fun z => Value.int (zI z))).reverse ++ .ref (g.2.2 19) :: rest) (hls : ls.size = nL) (hrm : (rest.map fun v => v.category).sum ≤ 8) (hcs : cells ≤ R.cells ∧ slots ≤ R.slots) (hd : decode cc pc = .ok (.invokevirtual idx, 3)) (kk : ∀ (σ' : zS) (H1 : Heap) (locs1 : List Loc), post σ' → zt_W g A s H1 locs1 σ' → W p l e R s m args below meth c H1 locs1 cells slots Q (F0 m (pc + 3) ls rest)) : W p l e R s m args below meth c H locs cells slots Q (F0 m pc ls st0) := by
  refine va_callv (va_runV (As := as.map (fun z => Value.int (zI z))) (rest := rest) S (hM H.size) (zt_cw S hq hrc hrs hR) (zt_preV hw as) rfl (by rw [List.length_map]; exact hn) hls hst (lv_room hrm) hd hcs) hw.2.2.1 (fun q _ h => zt_fr hw q h) (zt_fr hw) (fun u t H1 locs1 ht hvm hp hB hz hk hS => ?_)
  obtain ⟨hP1, hK1, hD1, hW1⟩ := hB
  rw [ht] at hP1
  exact kk u H1 locs1 hp ⟨hP1, hD1.weaken (fun _ _ _ h => zt_fr hw _ h), hS, hw.2.2.2.1, hW1, hw.2.2.2.2.2⟩
end Zzt
/-- where a method's walk begins: what it may use -/
def zt_At (p : Program) (s : State) (m : MethodId) (args : Array Value) (meth : Method) (c : Code) (b : ByteArray) (L : Nat) (ret : Option FieldType) (g : zG) (σ : zS) : Prop :=
  CallFix p m c b L s args lw_all RX0 ∧ meth.sig.returnType = ret ∧ meth.locks = false ∧ zt_W g (zt_A g s.heap.size) s s.heap [] σ
abbrev zt_Ei (g : zG) (post : Int → zS → Prop) (below : List Frame) (args : Array Value) (s : State) : State → Prop := MQ below (va_Qi (fun r σ' => ∃ z, r = zI z ∧ post z σ') (zt_B g s.heap.size) (zt_A g s.heap.size)) args s 0 0 (zt_A g s.heap.size)
abbrev zt_Ev (g : zG) (post : zS → Prop) (below : List Frame) (args : Array Value) (s : State) : State → Prop := MQ below (va_Qv post (zt_B g s.heap.size) (zt_A g s.heap.size)) args s 0 0 (zt_A g s.heap.size)
theorem zt_ofi {l : Launch} {y : MethodName} {b : ByteArray} {L : Nat} {ret : Option FieldType} {rm : Room} {g : zG} {σ : zS} {as : List Int} {post : Int → zS → Prop} (hy : plainName y.cls = true) (hc : y.cls = RX0) (hL : (lg_sl (.ref (g.2.2 19) :: as.map (fun z => .int (zI z)))).length ≤ L)
    (body : ∀ (p : Program) (e : Env) (s : State) (m : MethodId) (args : Array Value) (below : List Frame) (meth : Method) (c : Code) (ls : Array Slot), zt_At p s m args meth c b L ret g σ → lv_has ls L (lv_args 0 (.ref (g.2.2 19) :: as.map (fun z => .int (zI z)))) → W p l e rm s m args below meth c s.heap [] 0 0 (zt_Ei g post below args s) (F0 m 0 ls [])) : zt_Mi l y b L ret rm g σ as post := by
  intro sz
  refine Met.ofW (cc := b) (maxL := L) (ret := ret) hy rfl ?_
  intro p e s m args below meth c s₁ B hml hv
  obtain ⟨rfl, hsz, hP, hK, hD0, hWF⟩ := hv
  subst hsz
  have hts := atoms_spec (ws := ws_ y b L ret) B.pre
  have hts : ∀ w ∈ lw_all, w.before _ s = true := fun w h => hts w (List.mem_cons_of_mem _ h)
  have hown : s.vm.findClass y.cls = some m.cls := findClass_of_methodNamed B.named
  rw [hc] at hown
  have hl := lv_entry (.ref (g.2.2 19) :: as.map (fun z => .int (zI z))) (n := L) hL
  rw [lg_entry_eq]
  exact body p e s m _ below meth c _ ⟨⟨B.exec, B.bytes, hml, hown, hts⟩, B.returns, B.notSynchronized, hP, ⟨hD0.1, fun k q hk => zt_A.of s.heap.size hk⟩, va_S.rf, hK, hWF, fun q h => Or.inr h⟩ hl
theorem zt_ofv {l : Launch} {y : MethodName} {b : ByteArray} {L : Nat} {rm : Room} {g : zG} {σ : zS} {as : List Int} {post : zS → Prop} (hy : plainName y.cls = true) (hc : y.cls = RX0) (hL : (lg_sl (.ref (g.2.2 19) :: as.map (fun z => .int (zI z)))).length ≤ L)
    (body : ∀ (p : Program) (e : Env) (s : State) (m : MethodId) (args : Array Value) (below : List Frame) (meth : Method) (c : Code) (ls : Array Slot), zt_At p s m args meth c b L none g σ → lv_has ls L (lv_args 0 (.ref (g.2.2 19) :: as.map (fun z => .int (zI z)))) → W p l e rm s m args below meth c s.heap [] 0 0 (zt_Ev g post below args s) (F0 m 0 ls [])) : zt_Mv l y b L rm g σ as post := by
  intro sz
  refine Met.ofW (cc := b) (maxL := L) (ret := none) hy rfl ?_
  intro p e s m args below meth c s₁ B hml hv
  obtain ⟨rfl, hsz, hP, hK, hD0, hWF⟩ := hv
  subst hsz
  have hts := atoms_spec (ws := ws_ y b L none) B.pre
  have hts : ∀ w ∈ lw_all, w.before _ s = true := fun w h => hts w (List.mem_cons_of_mem _ h)
  have hown : s.vm.findClass y.cls = some m.cls := findClass_of_methodNamed B.named
  rw [hc] at hown
  have hl := lv_entry (.ref (g.2.2 19) :: as.map (fun z => .int (zI z))) (n := L) hL
  rw [lg_entry_eq]
  exact body p e s m _ below meth c _ ⟨⟨B.exec, B.bytes, hml, hown, hts⟩, B.returns, B.notSynchronized, hP, ⟨hD0.1, fun k q hk => zt_A.of s.heap.size hk⟩, va_S.rf, hK, hWF, fun q h => Or.inr h⟩ hl
section Yzt
variable {p : Program} {l : Launch} {e : Env} {R : Room} {s : State} {m : MethodId} {args : Array Value} {below : List Frame} {meth : Method} {c : Code} {H : Heap} {locs : List Loc} {cc : ByteArray} {nL : Nat} {own : String} {pc : Nat} {ls : Array Slot} {g : zG} {σ : zS}
theorem zt_iret {post : Int → zS → Prop} (S : CallFix p m c cc nL s args lw_all own) (hr : meth.sig.returnType = some .int) (hlk : meth.locks = false) (hw : zt_W g (zt_A g s.heap.size) s H locs σ) {v : Int} (hp : post v σ) (hd : decode cc pc = .ok (.ireturn, 1)) : W p l e R s m args below meth c H locs 0 0 (zt_Ei g post below args s) (F0 m pc ls [.int (zI v)]) :=
  W.iret (v := zI v) S.1 S.2.1 hr (fun t ht hW => ⟨⟨zI v, σ, rfl, ⟨v, rfl, hp⟩, by rw [ht]; exact hw.1, va_K.moved hW.alike hw.2.2.2.1, hw.2.1, hw.2.2.2.2.1⟩, hw.2.2.1.F ht⟩) hw.2.2.1.2.2 hd hlk
theorem zt_zret {post : Int → zS → Prop} (S : CallFix p m c cc nL s args lw_all own) (hr : meth.sig.returnType = some .boolean) (hlk : meth.locks = false) (hw : zt_W g (zt_A g s.heap.size) s H locs σ) {v : Int} (hv : 0 ≤ v ∧ v ≤ 1) (hp : post v σ) (hd : decode cc pc = .ok (.ireturn, 1)) : W p l e R s m args below meth c H locs 0 0 (zt_Ei g post below args s) (F0 m pc ls [.int (zI v)]) :=
  W.zret (v := zI v) S.1 S.2.1 hr (zI_rz hv.1 hv.2) (fun t ht hW => ⟨⟨zI v, σ, rfl, ⟨v, rfl, hp⟩, by rw [ht]; exact hw.1, va_K.moved hW.alike hw.2.2.2.1, hw.2.1, hw.2.2.2.2.1⟩, hw.2.2.1.F ht⟩) hw.2.2.1.2.2 hd hlk
theorem zt_vret {post : zS → Prop} (S : CallFix p m c cc nL s args lw_all own) (hr : meth.sig.returnType = none) (hlk : meth.locks = false) (hw : zt_W g (zt_A g s.heap.size) s H locs σ) (hp : post σ) (hd : decode cc pc = .ok (.return_, 1)) : W p l e R s m args below meth c H locs 0 0 (zt_Ev g post below args s) (F0 m pc ls []) :=
  W.vret S.1 S.2.1 hr (fun t ht hW => ⟨⟨σ, rfl, hp, by rw [ht]; exact hw.1, va_K.moved hW.alike hw.2.2.2.1, hw.2.1, hw.2.2.2.2.1⟩, hw.2.2.1.F ht⟩) hw.2.2.1.2.2 hd hlk
end Yzt

def zm_lo : Nat → Int := fun k => match k with
  | 0 => 0
  | 1 => 0
  | 2 => 0
  | _ => 0
def zm_hi : Nat → Int := fun k => match k with
  | 0 => 60
  | 1 => 6
  | 2 => 6
  | _ => 0
def zm_WF (σ : zS) : Prop := ∀ k i, zm_lo k ≤ σ k i ∧ σ k i ≤ zm_hi k
theorem zm_WF.st {σ : zS} (h : zm_WF σ) {k i : Nat} {z : Int} (h1 : zm_lo k ≤ z) (h2 : z ≤ zm_hi k) : zm_WF (zs_st σ k i z) := by
  intro k' i'
  by_cases hk : k' = k
  · subst hk
    by_cases hi : i' = i
    · subst hi
      rw [zs_eq]
      exact ⟨h1, h2⟩
    · rw [zs_ni hi]
      exact h k' i'
  · rw [zs_ne hk]
    exact h k' i'
def zm_fl (g : zG) (σ : zS) : List Value := [.int (zI (σ 0 0)), .ref (g.2.2 1), .ref (g.2.2 2)]
def zm_ce (g : zG) (σ : zS) : va_W := [(g.2.2 3, .inr (1, zm_fl g σ)), zs_ar g σ 1 60, zs_ar g σ 2 60]
def zm_ty (g : zG) : List (ClassId × FieldType) := [(g.2.1 1, .int), (g.2.1 2, .int)]
def zm_ad (g : zG) : List Nat := [g.2.2 3, g.2.2 1, g.2.2 2]
theorem zm_ad_eq (g : zG) (σ : zS) : (zm_ce g σ).map (fun q => q.1) = zm_ad g := rfl
def zm_A (g : zG) (sz : Nat) : Nat → Prop := fun q => q ∈ zm_ad g ∨ sz ≤ q
theorem zm_A.of {g : zG} {σ : zS} {k : Nat} {q : Nat × va_E} (sz : Nat) (h : (zm_ce g σ)[k]? = some q) : zm_A g sz q.1 := Or.inl (by
  rw [← zm_ad_eq g σ]
  exact List.mem_map.mpr ⟨q, List.mem_of_getElem? h, rfl⟩)
theorem zm_A.to {g : zG} (σ : zS) {sz q : Nat} (h : zm_A g sz q) : (∃ (k : Nat) (e : va_E), (zm_ce g σ)[k]? = some (q, e)) ∨ sz ≤ q := by
  rcases h with h | h
  · left
    rw [← zm_ad_eq g σ] at h
    obtain ⟨x, hx, he⟩ := List.mem_map.mp h
    obtain ⟨k, hk⟩ := List.getElem?_of_mem hx
    exact ⟨k, x.2, by rw [hk, ← he]⟩
  · exact Or.inr h
def zm_fx : Nat → Nat := fun k => match k with
  | 0 => 7
  | 1 => 13
  | _ => 17
theorem zm_lk : ∀ k, k < 3 → Cond.fieldLink RX1 (zm_fx k) (TX1 k).1 (TX1 k).2.1 (TX1 k).2.2.1 ∈ lw_all := by
  intro k hk
  match k, hk with
  | 0, _ => exact q229
  | 1, _ => exact q230
  | 2, _ => exact q231
  | k + 3, h => exact absurd h (by omega)
theorem zm_s1 (g : zG) (σ : zS) (i : Nat) (z : Int) : (zm_ce g σ).set 1 (g.2.2 1, .inl (g.2.1 1, 60, .inl (upd (fun j => zI (σ 1 j)) i (zI z)))) = zm_ce g (zs_st σ 1 i z) := by
  rw [← zs_ar_eq]
  simp [zm_ce, zm_fl, zs_ar_ne, zs_ne]
theorem zm_s2 (g : zG) (σ : zS) (i : Nat) (z : Int) : (zm_ce g σ).set 2 (g.2.2 2, .inl (g.2.1 2, 60, .inl (upd (fun j => zI (σ 2 j)) i (zI z)))) = zm_ce g (zs_st σ 2 i z) := by
  rw [← zs_ar_eq]
  simp [zm_ce, zm_fl, zs_ar_ne, zs_ne]
theorem zm_s0 (g : zG) (σ : zS) (z : Int) : (zm_ce g σ).set 0 (g.2.2 3, .inr (1, (zm_fl g σ).set 0 (.int (zI z)))) = zm_ce g (zs_st σ 0 0 z) := by
  simp [zm_ce, zm_fl, zs_ar_ne, zs_ne, zs_eq]
/-- the world in a running method: the cells hold σ, are apart, in A; outside A nothing has changed -/
def zm_W (g : zG) (A : Nat → Prop) (s : State) (H : Heap) (locs : List Loc) (σ : zS) : Prop :=
  va_P g.1 vwCl (zm_ce g σ) H ∧ va_D A (zm_ce g σ) ∧ va_S A s.heap H locs ∧ va_K g.1 vwCl (zm_ty g) s ∧ zm_WF σ ∧ ∀ q, s.heap.size ≤ q → A q
/-- the world at a method's start, and behind it -/
def zm_P (g : zG) (σ : zS) (U : State) : Prop := va_P g.1 vwCl (zm_ce g σ) U.heap ∧ va_K g.1 vwCl (zm_ty g) U ∧ va_D (fun _ => True) (zm_ce g σ) ∧ zm_WF σ
def zm_B (g : zG) (sz : Nat) (σ : zS) (t : State) : Prop := va_P g.1 vwCl (zm_ce g σ) t.heap ∧ va_K g.1 vwCl (zm_ty g) t ∧ va_D (zm_A g sz) (zm_ce g σ) ∧ zm_WF σ
/-- contracts: y, called with the numbers as, answers z and leaves the state σ' with 'post z σ'' (int or boolean answer; void) -/
def zm_Mi (l : Launch) (y : MethodName) (b : ByteArray) (L : Nat) (ret : Option FieldType) (rm : Room) (g : zG) (σ : zS) (as : List Int) (post : Int → zS → Prop) : Prop :=
  ∀ sz, Met l y (ws_ y b L ret) rm (va_Pc (.ref (g.2.2 3) :: as.map (fun z => .int (zI z))) (fun U => U.heap.size = sz ∧ zm_P g σ U)) (va_Qi (fun r σ' => ∃ z, r = zI z ∧ post z σ') (zm_B g sz) (zm_A g sz)) 0 0 (zm_A g sz)
def zm_Mv (l : Launch) (y : MethodName) (b : ByteArray) (L : Nat) (rm : Room) (g : zG) (σ : zS) (as : List Int) (post : zS → Prop) : Prop :=
  ∀ sz, Met l y (ws_ y b L none) rm (va_Pc (.ref (g.2.2 3) :: as.map (fun z => .int (zI z))) (fun U => U.heap.size = sz ∧ zm_P g σ U)) (va_Qv post (zm_B g sz) (zm_A g sz)) 0 0 (zm_A g sz)
/-- the words of a call: own's constant idx is y, with n numbers -/
def zm_Q (own : String) (idx : Nat) (y : MethodName) (b : ByteArray) (L : Nat) (ret : Option FieldType) (n : Nat) : Prop :=
  Cond.methodLink own idx y ∈ lw_all ∧ Cond.instanceMethod y ∈ lw_all ∧ Cond.selects RX1 y y ∈ lw_all ∧ Cond.code y b L ret ∈ lw_all ∧ (y.cls = RX1 ∧ y.cls ≠ "java/lang/invoke/MethodHandle" ∧ y.cls ≠ "java/lang/invoke/VarHandle" ∧ (parseMethodDescriptor y.desc).map (fun d => d.parameters.length) = some n)
theorem zm_ini : Cond.initialized RX1 ∈ lw_all := q28
section Zzm
variable {p : Program} {l : Launch} {e : Env} {R : Room} {s : State} {m : MethodId} {args : Array Value} {below : List Frame} {meth : Method} {c : Code} {H : Heap} {locs : List Loc} {cells slots : Nat} {Q : State → Prop} {cc : ByteArray} {nL : Nat} {own : String} {pc : Nat} {ls : Array Slot} {rest : List Value} {g : zG} {A : Nat → Prop} {σ : zS}
theorem zm_get (S : CallFix p m c cc nL s args lw_all RX1) (hw : zm_W g A s H locs σ) (k : Nat) (v : Value) (hk : k < 3) (hv : (zm_fl g σ)[k]? = some v) (hd : decode cc pc = .ok (.getfield (zm_fx k), 3)) (kk : W p l e R s m args below meth c H locs cells slots Q (F0 m (pc + 3) ls (v :: rest))) : W p l e R s m args below meth c H locs cells slots Q (F0 m pc ls (.ref (g.2.2 3) :: rest)) :=
  va_get (D := g.1) (ci := 1) (C := RX1) (T := TX1) (N := 3) S.1 S.2.1 S.2.2.2.2 in_X1 S.2.2.2.1 hw.2.2.2.1 hw.1 0 rfl rfl k hk (S.2.2.2.2 _ (zm_lk k hk)) (fun _ h9 => h9) hv hd kk
theorem zm_geti (S : CallFix p m c cc nL s args lw_all RX1) (hw : zm_W g A s H locs σ) (k : Nat) (hk : k < 3) (hv : (zm_fl g σ)[k]? = some (.int (zI (σ k 0)))) (hd : decode cc pc = .ok (.getfield (zm_fx k), 3)) (kk : ∀ v : Int, v = σ k 0 → zm_lo k ≤ v ∧ v ≤ zm_hi k → W p l e R s m args below meth c H locs cells slots Q (F0 m (pc + 3) ls (.int (zI v) :: rest))) : W p l e R s m args below meth c H locs cells slots Q (F0 m pc ls (.ref (g.2.2 3) :: rest)) :=
  zm_get S hw k _ hk hv hd (kk _ rfl (hw.2.2.2.2.1 k 0))
theorem zm_put (S : CallFix p m c cc nL s args lw_all RX1) (hw : zm_W g A s H locs σ) (k : Nat) (hk : k < 3) {z : Int} (hs : (zm_ce g σ).set 0 (g.2.2 3, .inr (1, (zm_fl g σ).set k (.int (zI z)))) = zm_ce g (zs_st σ k 0 z)) (hfin : (TX1 k).2.2.2 = false) (hty : parseFieldDescriptor (TX1 k).2.2.1 = some .int) (hl : k < (zm_fl g σ).length) (h1 : zm_lo k ≤ z ∧ z ≤ zm_hi k) (hd : decode cc pc = .ok (.putfield (zm_fx k), 3)) (kk : ∀ (σ' : zS) (H1 : Heap) (locs1 : List Loc), σ' = zs_st σ k 0 z → zm_W g A s H1 locs1 σ' → W p l e R s m args below meth c H1 locs1 cells slots Q (F0 m (pc + 3) ls rest)) : W p l e R s m args below meth c H locs cells slots Q (F0 m pc ls (.int (zI z) :: .ref (g.2.2 3) :: rest)) := by
  refine va_put (D := g.1) (ci := 1) (v := .int (zI z)) (ty := .int) (C := RX1) (T := TX1) (N := 3) S.1 S.2.1 S.2.2.2.2 in_X1 tyX1 tyX1_ok nmX1 S.2.2.2.1 hw.2.2.2.1 hw.1 hw.2.1 hw.2.2.1 0 rfl rfl k hk (S.2.2.2.2 _ (zm_lk k hk)) (fun _ h9 => h9) hfin hty rfl rfl hl hd (fun H1 locs1 hP hD hS => ?_)
  rw [hs] at hP hD
  exact kk _ H1 locs1 rfl ⟨hP, hD, hS, hw.2.2.2.1, hw.2.2.2.2.1.st h1.1 h1.2, hw.2.2.2.2.2⟩
theorem zm_bald (S : CallFix p m c cc nL s args lw_all own) (hw : zm_W g A s H locs σ) (k n q0 t0 : Nat) {i : Int} (h0 : 0 ≤ i) (h1 : i < (n : Int)) (h2 : zR i) (ha : (zm_ce g σ)[q0]? = some (zs_ar g σ k n)) (ht : (zm_ty g)[t0]? = some (g.2.1 k, .byte)) (hd : decode cc pc = .ok (.baload, 1)) (kk : ∀ v : Int, v = σ k i.toNat → zm_lo k ≤ v ∧ v ≤ zm_hi k → W p l e R s m args below meth c H locs cells slots Q (F0 m (pc + 1) ls (.int (zI v) :: rest))) : W p l e R s m args below meth c H locs cells slots Q (F0 m pc ls (.int (zI i) :: .ref (g.2.2 k) :: rest)) :=
  va_bald S.1 S.2.1 hw.2.2.2.1 hw.1 q0 t0 ha ht (zI_in h0 h1 h2) hd (by rw [zI_cl h2]; exact kk _ rfl (hw.2.2.2.2.1 k i.toNat))
theorem zm_zald (S : CallFix p m c cc nL s args lw_all own) (hw : zm_W g A s H locs σ) (k n q0 t0 : Nat) {i : Int} (h0 : 0 ≤ i) (h1 : i < (n : Int)) (h2 : zR i) (ha : (zm_ce g σ)[q0]? = some (zs_ar g σ k n)) (ht : (zm_ty g)[t0]? = some (g.2.1 k, .boolean)) (hd : decode cc pc = .ok (.baload, 1)) (kk : ∀ v : Int, v = σ k i.toNat → zm_lo k ≤ v ∧ v ≤ zm_hi k → W p l e R s m args below meth c H locs cells slots Q (F0 m (pc + 1) ls (.int (zI v) :: rest))) : W p l e R s m args below meth c H locs cells slots Q (F0 m pc ls (.int (zI i) :: .ref (g.2.2 k) :: rest)) :=
  va_zald S.1 S.2.1 hw.2.2.2.1 hw.1 q0 t0 ha ht (zI_in h0 h1 h2) hd (by rw [zI_cl h2]; exact kk _ rfl (hw.2.2.2.2.1 k i.toNat))
theorem zm_iald (S : CallFix p m c cc nL s args lw_all own) (hw : zm_W g A s H locs σ) (k n q0 t0 : Nat) {i : Int} (h0 : 0 ≤ i) (h1 : i < (n : Int)) (h2 : zR i) (ha : (zm_ce g σ)[q0]? = some (zs_ar g σ k n)) (ht : (zm_ty g)[t0]? = some (g.2.1 k, .int)) (hd : decode cc pc = .ok (.iaload, 1)) (kk : ∀ v : Int, v = σ k i.toNat → zm_lo k ≤ v ∧ v ≤ zm_hi k → W p l e R s m args below meth c H locs cells slots Q (F0 m (pc + 1) ls (.int (zI v) :: rest))) : W p l e R s m args below meth c H locs cells slots Q (F0 m pc ls (.int (zI i) :: .ref (g.2.2 k) :: rest)) :=
  va_iald S.1 S.2.1 hw.2.2.2.1 hw.1 q0 t0 ha ht (zI_in h0 h1 h2) hd (by rw [zI_cl h2]; exact kk _ rfl (hw.2.2.2.2.1 k i.toNat))
theorem zm_bast (S : CallFix p m c cc nL s args lw_all own) (hw : zm_W g A s H locs σ) (k n q0 t0 : Nat) {i z : Int} (h0 : 0 ≤ i) (h1 : i < (n : Int)) (h2 : zR i) (hb : -128 ≤ z ∧ z ≤ 127) (h3 : zm_lo k ≤ z ∧ z ≤ zm_hi k) (ha : (zm_ce g σ)[q0]? = some (zs_ar g σ k n)) (ht : (zm_ty g)[t0]? = some (g.2.1 k, .byte)) (hs : (zm_ce g σ).set q0 (g.2.2 k, .inl (g.2.1 k, n, .inl (upd (fun j => zI (σ k j)) i.toNat (zI z)))) = zm_ce g (zs_st σ k i.toNat z)) (hd : decode cc pc = .ok (.bastore, 1)) (kk : ∀ (σ' : zS) (H1 : Heap) (locs1 : List Loc), σ' = zs_st σ k i.toNat z → zm_W g A s H1 locs1 σ' → W p l e R s m args below meth c H1 locs1 cells slots Q (F0 m (pc + 1) ls rest)) : W p l e R s m args below meth c H locs cells slots Q (F0 m pc ls (.int (zI z) :: .int (zI i) :: .ref (g.2.2 k) :: rest)) := by
  refine va_bast S.1 S.2.1 hw.2.2.2.1 hw.1 hw.2.1 hw.2.2.1 q0 t0 ha ht (zI_in h0 h1 h2) hd (fun H1 locs1 hP hD hS => ?_)
  rw [zI_cl h2, zI_nb hb.1 hb.2, hs] at hP hD
  exact kk _ H1 locs1 rfl ⟨hP, hD, hS, hw.2.2.2.1, hw.2.2.2.2.1.st h3.1 h3.2, hw.2.2.2.2.2⟩
theorem zm_zast (S : CallFix p m c cc nL s args lw_all own) (hw : zm_W g A s H locs σ) (k n q0 t0 : Nat) {i z : Int} (h0 : 0 ≤ i) (h1 : i < (n : Int)) (h2 : zR i) (hb : 0 ≤ z ∧ z ≤ 1) (h3 : zm_lo k ≤ z ∧ z ≤ zm_hi k) (ha : (zm_ce g σ)[q0]? = some (zs_ar g σ k n)) (ht : (zm_ty g)[t0]? = some (g.2.1 k, .boolean)) (hs : (zm_ce g σ).set q0 (g.2.2 k, .inl (g.2.1 k, n, .inl (upd (fun j => zI (σ k j)) i.toNat (zI z)))) = zm_ce g (zs_st σ k i.toNat z)) (hd : decode cc pc = .ok (.bastore, 1)) (kk : ∀ (σ' : zS) (H1 : Heap) (locs1 : List Loc), σ' = zs_st σ k i.toNat z → zm_W g A s H1 locs1 σ' → W p l e R s m args below meth c H1 locs1 cells slots Q (F0 m (pc + 1) ls rest)) : W p l e R s m args below meth c H locs cells slots Q (F0 m pc ls (.int (zI z) :: .int (zI i) :: .ref (g.2.2 k) :: rest)) := by
  refine va_zast S.1 S.2.1 hw.2.2.2.1 hw.1 hw.2.1 hw.2.2.1 q0 t0 ha ht (zI_in h0 h1 h2) hd (fun H1 locs1 hP hD hS => ?_)
  rw [zI_cl h2, zI_nz hb.1 hb.2, hs] at hP hD
  exact kk _ H1 locs1 rfl ⟨hP, hD, hS, hw.2.2.2.1, hw.2.2.2.2.1.st h3.1 h3.2, hw.2.2.2.2.2⟩
theorem zm_iast (S : CallFix p m c cc nL s args lw_all own) (hw : zm_W g A s H locs σ) (k n q0 t0 : Nat) {i z : Int} (h0 : 0 ≤ i) (h1 : i < (n : Int)) (h2 : zR i) (h3 : zm_lo k ≤ z ∧ z ≤ zm_hi k) (ha : (zm_ce g σ)[q0]? = some (zs_ar g σ k n)) (ht : (zm_ty g)[t0]? = some (g.2.1 k, .int)) (hs : (zm_ce g σ).set q0 (g.2.2 k, .inl (g.2.1 k, n, .inl (upd (fun j => zI (σ k j)) i.toNat (zI z)))) = zm_ce g (zs_st σ k i.toNat z)) (hd : decode cc pc = .ok (.iastore, 1)) (kk : ∀ (σ' : zS) (H1 : Heap) (locs1 : List Loc), σ' = zs_st σ k i.toNat z → zm_W g A s H1 locs1 σ' → W p l e R s m args below meth c H1 locs1 cells slots Q (F0 m (pc + 1) ls rest)) : W p l e R s m args below meth c H locs cells slots Q (F0 m pc ls (.int (zI z) :: .int (zI i) :: .ref (g.2.2 k) :: rest)) := by
  refine va_iast S.1 S.2.1 hw.2.2.2.1 hw.1 hw.2.1 hw.2.2.1 q0 t0 ha ht (zI_in h0 h1 h2) hd (fun H1 locs1 hP hD hS => ?_)
  rw [zI_cl h2, hs] at hP hD
  exact kk _ H1 locs1 rfl ⟨hP, hD, hS, hw.2.2.2.1, hw.2.2.2.2.1.st h3.1 h3.2, hw.2.2.2.2.2⟩
theorem zm_pre {as : List Int} (sz : Nat) : FrameBlind (va_Pc (.ref (g.2.2 3) :: as.map (fun z => .int (zI z))) (fun U => U.heap.size = sz ∧ zm_P g σ U)) := fun a U g' mk q => by
  obtain ⟨q0, q1, qP, qK, qD, qW⟩ := q
  exact ⟨q0, q1, qP, va_K.moved (u := U) (U := U.calling g' mk a) (Vm.Alike.refl U.vm) qK, qD, qW⟩
theorem zm_preV (hw : zm_W g A s H locs σ) (as : List Int) : PreV s H RX1 (g.2.2 3) (va_Pc (.ref (g.2.2 3) :: as.map (fun z => .int (zI z))) (fun U => U.heap.size = H.size ∧ zm_P g σ U)) (as.map (fun z => .int (zI z))) :=
  ⟨zm_pre H.size, va_recv hw.2.2.2.1 hw.1 (ci := 1) (q0 := 0) rfl rfl, fun U hU hW => ⟨rfl, by rw [hU], by rw [hU]; exact hw.1, va_K.moved hW.alike hw.2.2.2.1, hw.2.1.weaken (fun _ _ _ _ => trivial), hw.2.2.2.2.1⟩⟩
theorem zm_fr (hw : zm_W g A s H locs σ) : ∀ q, zm_A g H.size q → A q := by
  intro q h
  rcases zm_A.to σ h with ⟨k, e, h⟩ | h
  · exact hw.2.1.2 k _ h
  · exact hw.2.2.2.2.2 q (Nat.le_trans hw.2.2.1.1 h)
theorem zm_cw {y : MethodName} {b : ByteArray} {L : Nat} {ret : Option FieldType} {rm : Room} {n idx : Nat} (S : CallFix p m c cc nL s args lw_all own) (hq : zm_Q own idx y b L ret n) (hrc : rm.cells = 0) (hrs : rm.slots = 0) (hR : rm.frames + 1 ≤ R.frames ∧ 8 + (L + 11) + rm.locals ≤ R.locals) : CallW R s args own RX1 idx y b L ret (ws_ y b L ret) rm 0 0 n :=
  cwV n S.2.2.2.2 (lw_V hq.1 hq.2.1 hq.2.2.1 zm_ini hq.2.2.2.1) rfl hrc hrs hq.2.2.2.2 hR
theorem zm_calli {y : MethodName} {b : ByteArray} {L : Nat} {ret : Option FieldType} {rm : Room} {as : List Int} {post : Int → zS → Prop} {n idx : Nat} {st0 : List Value} (S : CallFix p m c cc nL s args lw_all own) (hw : zm_W g A s H locs σ) (hM : zm_Mi l y b L ret rm g σ as post) (hq : zm_Q own idx y b L ret n) (hrc : rm.cells = 0) (hrs : rm.slots = 0) (hR : rm.frames + 1 ≤ R.frames ∧ 8 + (L + 11) + rm.locals ≤ R.locals) (hn : as.length = n) (hst : st0 = (as.map (fun z => Value.int (zI z))).reverse ++ .ref (g.2.2 3) :: rest) (hls : ls.size = nL) (hrm : (rest.map fun v => v.category).sum ≤ 8) (hcs : cells ≤ R.cells ∧ slots ≤ R.slots) (hd : decode cc pc = .ok (.invokevirtual idx, 3)) (kk : ∀ (v : Int) (σ' : zS) (H1 : Heap) (locs1 : List Loc), post v σ' → zm_W g A s H1 locs1 σ' → W p l e R s m args below meth c H1 locs1 cells slots Q (F0 m (pc + 3) ls (.int (zI v) :: rest))) : W p l e R s m args below meth c H locs cells slots Q (F0 m pc ls st0) := by
  refine va_calli (va_runV (As := as.map (fun z => Value.int (zI z))) (rest := rest) S (hM H.size) (zm_cw S hq hrc hrs hR) (zm_preV hw as) rfl (by rw [List.length_map]; exact hn) hls hst (lv_room hrm) hd hcs) hw.2.2.1 (fun q _ h => zm_fr hw q h) (zm_fr hw) (fun r u t H1 locs1 ht hvm hp hB hz hk hS => ?_)
  obtain ⟨z, rfl, hp⟩ := hp
  obtain ⟨hP1, hK1, hD1, hW1⟩ := hB
  rw [ht] at hP1
  exact kk z u H1 locs1 hp ⟨hP1, hD1.weaken (fun _ _ _ h => zm_fr hw _ h), hS, hw.2.2.2.1, hW1, hw.2.2.2.2.2⟩
theorem zm_callv {y : MethodName} {b : ByteArray} {L : Nat} {rm : Room} {as : List Int} {post : zS → Prop} {n idx : Nat} {st0 : List Value} (S : CallFix p m c cc nL s args lw_all own) (hw : zm_W g A s H locs σ) (hM : zm_Mv l y b L rm g σ as post) (hq : zm_Q own idx y b L none n) (hrc : rm.cells = 0) (hrs : rm.slots = 0) (hR : rm.frames + 1 ≤ R.frames ∧ 8 + (L + 11) + rm.locals ≤ R.locals) (hn : as.length = n) (hst : st0 = (as.map (fun z => Value.int (zI z))).reverse ++ .ref (g.2.2 3) :: rest) (hls : ls.size = nL) (hrm : (rest.map fun v => v.category).sum ≤ 8) (hcs : cells ≤ R.cells ∧ slots ≤ R.slots) (hd : decode cc pc = .ok (.invokevirtual idx, 3)) (kk : ∀ (σ' : zS) (H1 : Heap) (locs1 : List Loc), post σ' → zm_W g A s H1 locs1 σ' → W p l e R s m args below meth c H1 locs1 cells slots Q (F0 m (pc + 3) ls rest)) : W p l e R s m args below meth c H locs cells slots Q (F0 m pc ls st0) := by
  refine va_callv (va_runV (As := as.map (fun z => Value.int (zI z))) (rest := rest) S (hM H.size) (zm_cw S hq hrc hrs hR) (zm_preV hw as) rfl (by rw [List.length_map]; exact hn) hls hst (lv_room hrm) hd hcs) hw.2.2.1 (fun q _ h => zm_fr hw q h) (zm_fr hw) (fun u t H1 locs1 ht hvm hp hB hz hk hS => ?_)
  obtain ⟨hP1, hK1, hD1, hW1⟩ := hB
  rw [ht] at hP1
  exact kk u H1 locs1 hp ⟨hP1, hD1.weaken (fun _ _ _ h => zm_fr hw _ h), hS, hw.2.2.2.1, hW1, hw.2.2.2.2.2⟩
end Zzm
/-- where a method's walk begins: what it may use -/
def zm_At (p : Program) (s : State) (m : MethodId) (args : Array Value) (meth : Method) (c : Code) (b : ByteArray) (L : Nat) (ret : Option FieldType) (g : zG) (σ : zS) : Prop :=
  CallFix p m c b L s args lw_all RX1 ∧ meth.sig.returnType = ret ∧ meth.locks = false ∧ zm_W g (zm_A g s.heap.size) s s.heap [] σ
abbrev zm_Ei (g : zG) (post : Int → zS → Prop) (below : List Frame) (args : Array Value) (s : State) : State → Prop := MQ below (va_Qi (fun r σ' => ∃ z, r = zI z ∧ post z σ') (zm_B g s.heap.size) (zm_A g s.heap.size)) args s 0 0 (zm_A g s.heap.size)
abbrev zm_Ev (g : zG) (post : zS → Prop) (below : List Frame) (args : Array Value) (s : State) : State → Prop := MQ below (va_Qv post (zm_B g s.heap.size) (zm_A g s.heap.size)) args s 0 0 (zm_A g s.heap.size)
theorem zm_ofi {l : Launch} {y : MethodName} {b : ByteArray} {L : Nat} {ret : Option FieldType} {rm : Room} {g : zG} {σ : zS} {as : List Int} {post : Int → zS → Prop} (hy : plainName y.cls = true) (hc : y.cls = RX1) (hL : (lg_sl (.ref (g.2.2 3) :: as.map (fun z => .int (zI z)))).length ≤ L)
    (body : ∀ (p : Program) (e : Env) (s : State) (m : MethodId) (args : Array Value) (below : List Frame) (meth : Method) (c : Code) (ls : Array Slot), zm_At p s m args meth c b L ret g σ → lv_has ls L (lv_args 0 (.ref (g.2.2 3) :: as.map (fun z => .int (zI z)))) → W p l e rm s m args below meth c s.heap [] 0 0 (zm_Ei g post below args s) (F0 m 0 ls [])) : zm_Mi l y b L ret rm g σ as post := by
  intro sz
  refine Met.ofW (cc := b) (maxL := L) (ret := ret) hy rfl ?_
  intro p e s m args below meth c s₁ B hml hv
  obtain ⟨rfl, hsz, hP, hK, hD0, hWF⟩ := hv
  subst hsz
  have hts := atoms_spec (ws := ws_ y b L ret) B.pre
  have hts : ∀ w ∈ lw_all, w.before _ s = true := fun w h => hts w (List.mem_cons_of_mem _ h)
  have hown : s.vm.findClass y.cls = some m.cls := findClass_of_methodNamed B.named
  rw [hc] at hown
  have hl := lv_entry (.ref (g.2.2 3) :: as.map (fun z => .int (zI z))) (n := L) hL
  rw [lg_entry_eq]
  exact body p e s m _ below meth c _ ⟨⟨B.exec, B.bytes, hml, hown, hts⟩, B.returns, B.notSynchronized, hP, ⟨hD0.1, fun k q hk => zm_A.of s.heap.size hk⟩, va_S.rf, hK, hWF, fun q h => Or.inr h⟩ hl
theorem zm_ofv {l : Launch} {y : MethodName} {b : ByteArray} {L : Nat} {rm : Room} {g : zG} {σ : zS} {as : List Int} {post : zS → Prop} (hy : plainName y.cls = true) (hc : y.cls = RX1) (hL : (lg_sl (.ref (g.2.2 3) :: as.map (fun z => .int (zI z)))).length ≤ L)
    (body : ∀ (p : Program) (e : Env) (s : State) (m : MethodId) (args : Array Value) (below : List Frame) (meth : Method) (c : Code) (ls : Array Slot), zm_At p s m args meth c b L none g σ → lv_has ls L (lv_args 0 (.ref (g.2.2 3) :: as.map (fun z => .int (zI z)))) → W p l e rm s m args below meth c s.heap [] 0 0 (zm_Ev g post below args s) (F0 m 0 ls [])) : zm_Mv l y b L rm g σ as post := by
  intro sz
  refine Met.ofW (cc := b) (maxL := L) (ret := none) hy rfl ?_
  intro p e s m args below meth c s₁ B hml hv
  obtain ⟨rfl, hsz, hP, hK, hD0, hWF⟩ := hv
  subst hsz
  have hts := atoms_spec (ws := ws_ y b L none) B.pre
  have hts : ∀ w ∈ lw_all, w.before _ s = true := fun w h => hts w (List.mem_cons_of_mem _ h)
  have hown : s.vm.findClass y.cls = some m.cls := findClass_of_methodNamed B.named
  rw [hc] at hown
  have hl := lv_entry (.ref (g.2.2 3) :: as.map (fun z => .int (zI z))) (n := L) hL
  rw [lg_entry_eq]
  exact body p e s m _ below meth c _ ⟨⟨B.exec, B.bytes, hml, hown, hts⟩, B.returns, B.notSynchronized, hP, ⟨hD0.1, fun k q hk => zm_A.of s.heap.size hk⟩, va_S.rf, hK, hWF, fun q h => Or.inr h⟩ hl
section Yzm
variable {p : Program} {l : Launch} {e : Env} {R : Room} {s : State} {m : MethodId} {args : Array Value} {below : List Frame} {meth : Method} {c : Code} {H : Heap} {locs : List Loc} {cc : ByteArray} {nL : Nat} {own : String} {pc : Nat} {ls : Array Slot} {g : zG} {σ : zS}
theorem zm_iret {post : Int → zS → Prop} (S : CallFix p m c cc nL s args lw_all own) (hr : meth.sig.returnType = some .int) (hlk : meth.locks = false) (hw : zm_W g (zm_A g s.heap.size) s H locs σ) {v : Int} (hp : post v σ) (hd : decode cc pc = .ok (.ireturn, 1)) : W p l e R s m args below meth c H locs 0 0 (zm_Ei g post below args s) (F0 m pc ls [.int (zI v)]) :=
  W.iret (v := zI v) S.1 S.2.1 hr (fun t ht hW => ⟨⟨zI v, σ, rfl, ⟨v, rfl, hp⟩, by rw [ht]; exact hw.1, va_K.moved hW.alike hw.2.2.2.1, hw.2.1, hw.2.2.2.2.1⟩, hw.2.2.1.F ht⟩) hw.2.2.1.2.2 hd hlk
theorem zm_zret {post : Int → zS → Prop} (S : CallFix p m c cc nL s args lw_all own) (hr : meth.sig.returnType = some .boolean) (hlk : meth.locks = false) (hw : zm_W g (zm_A g s.heap.size) s H locs σ) {v : Int} (hv : 0 ≤ v ∧ v ≤ 1) (hp : post v σ) (hd : decode cc pc = .ok (.ireturn, 1)) : W p l e R s m args below meth c H locs 0 0 (zm_Ei g post below args s) (F0 m pc ls [.int (zI v)]) :=
  W.zret (v := zI v) S.1 S.2.1 hr (zI_rz hv.1 hv.2) (fun t ht hW => ⟨⟨zI v, σ, rfl, ⟨v, rfl, hp⟩, by rw [ht]; exact hw.1, va_K.moved hW.alike hw.2.2.2.1, hw.2.1, hw.2.2.2.2.1⟩, hw.2.2.1.F ht⟩) hw.2.2.1.2.2 hd hlk
theorem zm_vret {post : zS → Prop} (S : CallFix p m c cc nL s args lw_all own) (hr : meth.sig.returnType = none) (hlk : meth.locks = false) (hw : zm_W g (zm_A g s.heap.size) s H locs σ) (hp : post σ) (hd : decode cc pc = .ok (.return_, 1)) : W p l e R s m args below meth c H locs 0 0 (zm_Ev g post below args s) (F0 m pc ls []) :=
  W.vret S.1 S.2.1 hr (fun t ht hW => ⟨⟨σ, rfl, hp, by rw [ht]; exact hw.1, va_K.moved hW.alike hw.2.2.2.1, hw.2.1, hw.2.2.2.2.1⟩, hw.2.2.1.F ht⟩) hw.2.2.1.2.2 hd hlk
end Yzm
end
section
/-! the words of every call -/
theorem kq_closesOf : zt_Q RX0 116 yX0_closesOf cX0_closesOf 3 (some .int) 2 := ⟨q123, q125, qs5, q126, by decide +kernel⟩
theorem kq_cut : zt_Q RX0 60 yX0_cut cX0_cut 9 none 2 := ⟨q127, q129, qs6, q130, by decide +kernel⟩
theorem kq_firstLooseClose : zt_Q RX0 103 yX0_firstLooseClose cX0_firstLooseClose 8 (some .int) 2 := ⟨q195, q197, qs18, q198, by decide +kernel⟩
theorem kq_hang : zt_Q RX0 138 yX0_hang cX0_hang 4 none 3 := ⟨q151, q153, qs12, q154, by decide +kernel⟩
theorem kq_isStretch : zt_Q RX0 74 yX0_isStretch cX0_isStretch 4 (some .boolean) 2 := ⟨q159, q161, qs13, q162, by decide +kernel⟩
theorem kq_join : zt_Q RX0 70 yX0_join cX0_join 11 (some .int) 2 := ⟨q147, q149, qs11, q150, by decide +kernel⟩
theorem kq_lastLooseOpen : zt_Q RX0 106 yX0_lastLooseOpen cX0_lastLooseOpen 9 (some .int) 3 := ⟨q199, q201, qs19, q202, by decide +kernel⟩
theorem kq_newNode : zt_Q RX0 56 yX0_newNode cX0_newNode 3 (some .int) 1 := ⟨q110, q112, qs2, q113, by decide +kernel⟩
theorem kq_nodeAt : zt_Q RX0 100 yX0_nodeAt cX0_nodeAt 6 (some .int) 1 := ⟨q187, q189, qs17, q190, by decide +kernel⟩
theorem kq_opensOf : zt_Q RX0 113 yX0_opensOf cX0_opensOf 3 (some .int) 2 := ⟨q119, q121, qs4, q122, by decide +kernel⟩
theorem kq_pairsAround : zt_Q RX0 110 yX0_pairsAround cX0_pairsAround 5 (some .int) 1 := ⟨q207, q209, qs20, q210, by decide +kernel⟩
theorem kq_pushPath : zt_Q RX0 132 yX0_pushPath cX0_pushPath 2 none 1 := ⟨q139, q141, qs9, q142, by decide +kernel⟩
theorem kq_putTogether : zt_Q RX0 97 yX0_putTogether cX0_putTogether 2 none 0 := ⟨q179, q181, qs16, q182, by decide +kernel⟩
theorem kq_refresh : zt_Q RX0 126 yX0_refresh cX0_refresh 10 none 1 := ⟨q115, q117, qs3, q118, by decide +kernel⟩
theorem kq_refreshPath : zt_Q RX0 135 yX0_refreshPath cX0_refreshPath 2 none 0 := ⟨q143, q145, qs10, q146, by decide +kernel⟩
theorem kq_release : zt_Q RX0 84 yX0_release cX0_release 4 none 1 := ⟨q167, q169, qs15, q170, by decide +kernel⟩
theorem kq_settle : zt_Q RX0 122 yX0_settle cX0_settle 2 none 1 := ⟨q131, q133, qs7, q134, by decide +kernel⟩
theorem kq_sizeOf : zt_Q RX0 119 yX0_sizeOf cX0_sizeOf 2 (some .int) 1 := ⟨q106, q108, qs1, q109, by decide +kernel⟩
theorem kq_takeApart : zt_Q RX0 78 yX0_takeApart cX0_takeApart 3 none 2 := ⟨q163, q165, qs14, q166, by decide +kernel⟩
theorem kq_textLength : zt_Q RX0 52 yX0_textLength cX0_textLength 1 (some .int) 0 := ⟨q102, q104, qs0, q105, by decide +kernel⟩
theorem kq_turn : zt_Q RX0 94 yX0_turn cX0_turn 5 none 1 := ⟨q135, q137, qs8, q138, by decide +kernel⟩
theorem kql0_around : zt_Q "BracketPairTreeLaw" 40 yX0_around cX0_around 4 (some .int) 2 := ⟨q203, q204, q205, q206, by decide +kernel⟩
theorem kql0_codeAt : zt_Q "BracketPairTreeLaw" 31 yX0_codeAt cX0_codeAt 3 (some .int) 1 := ⟨q183, q184, q185, q186, by decide +kernel⟩
theorem kql0_depth : zt_Q "BracketPairTreeLaw" 44 yX0_depth cX0_depth 4 (some .int) 2 := ⟨q211, q212, q213, q214, by decide +kernel⟩
theorem kql0_erase : zt_Q "BracketPairTreeLaw" 18 yX0_erase cX0_erase 3 (some .int) 2 := ⟨q155, q156, q157, q158, by decide +kernel⟩
theorem kql0_insert : zt_Q "BracketPairTreeLaw" 13 yX0_insert cX0_insert 7 (some .int) 2 := ⟨q98, q99, q100, q101, by decide +kernel⟩
theorem kql0_looseClose : zt_Q "BracketPairTreeLaw" 52 yX0_looseClose cX0_looseClose 5 (some .int) 3 := ⟨q219, q220, q221, q222, by decide +kernel⟩
theorem kql0_looseOpen : zt_Q "BracketPairTreeLaw" 48 yX0_looseOpen cX0_looseOpen 5 (some .int) 3 := ⟨q215, q216, q217, q218, by decide +kernel⟩
theorem kql0_mirror : zt_Q "BracketPairTreeLaw" 27 yX0_mirror cX0_mirror 3 (some .int) 2 := ⟨q175, q176, q177, q178, by decide +kernel⟩
theorem kql0_move : zt_Q "BracketPairTreeLaw" 22 yX0_move cX0_move 8 (some .int) 3 := ⟨q171, q172, q173, q174, by decide +kernel⟩
theorem kql0_partner : zt_Q "BracketPairTreeLaw" 36 yX0_partner cX0_partner 6 (some .int) 1 := ⟨q191, q192, q193, q194, by decide +kernel⟩
theorem kql1_around : zm_Q "BracketPairTreeLaw" 43 yX1_around cX1_around 5 (some .int) 2 := ⟨q281, q282, q283, q284, by decide +kernel⟩
theorem kql1_codeAt : zm_Q "BracketPairTreeLaw" 35 yX1_codeAt cX1_codeAt 2 (some .int) 1 := ⟨q261, q262, q263, q264, by decide +kernel⟩
theorem kql1_depth : zm_Q "BracketPairTreeLaw" 47 yX1_depth cX1_depth 6 (some .int) 2 := ⟨q285, q286, q287, q288, by decide +kernel⟩
theorem kql1_erase : zm_Q "BracketPairTreeLaw" 21 yX1_erase cX1_erase 4 (some .int) 2 := ⟨q243, q244, q245, q246, by decide +kernel⟩
theorem kql1_insert : zm_Q "BracketPairTreeLaw" 17 yX1_insert cX1_insert 4 (some .int) 2 := ⟨q239, q240, q241, q242, by decide +kernel⟩
theorem kql1_looseClose : zm_Q "BracketPairTreeLaw" 55 yX1_looseClose cX1_looseClose 4 (some .int) 3 := ⟨q297, q298, q299, q300, by decide +kernel⟩
theorem kql1_looseOpen : zm_Q "BracketPairTreeLaw" 51 yX1_looseOpen cX1_looseOpen 4 (some .int) 3 := ⟨q289, q290, q291, q292, by decide +kernel⟩
theorem kql1_mirror : zm_Q "BracketPairTreeLaw" 30 yX1_mirror cX1_mirror 5 (some .int) 2 := ⟨q257, q258, q259, q260, by decide +kernel⟩
theorem kql1_move : zm_Q "BracketPairTreeLaw" 26 yX1_move cX1_move 5 (some .int) 3 := ⟨q251, q252, q253, q254, by decide +kernel⟩
theorem kql1_partner : zm_Q "BracketPairTreeLaw" 39 yX1_partner cX1_partner 2 (some .int) 1 := ⟨q269, q270, q271, q272, by decide +kernel⟩
theorem kqm_erase : zm_Q RX1 24 yX1_erase cX1_erase 4 (some .int) 2 := ⟨q255, q244, q245, q246, by decide +kernel⟩
theorem kqm_insert : zm_Q RX1 28 yX1_insert cX1_insert 4 (some .int) 2 := ⟨q256, q240, q241, q242, by decide +kernel⟩
theorem kqm_isPair : zm_Q RX1 35 yX1_isPair cX1_isPair 6 (some .boolean) 3 := ⟨q277, q279, qs24, q280, by decide +kernel⟩
theorem kqm_isPlace : zm_Q RX1 31 yX1_isPlace cX1_isPlace 2 (some .boolean) 1 := ⟨q265, q267, qs22, q268, by decide +kernel⟩
theorem kqm_isStretch : zm_Q RX1 20 yX1_isStretch cX1_isStretch 3 (some .boolean) 2 := ⟨q247, q249, qs21, q250, by decide +kernel⟩
theorem kqm_loose : zm_Q RX1 43 yX1_loose cX1_loose 7 (some .int) 3 := ⟨q293, q295, qs25, q296, by decide +kernel⟩
theorem kqm_mate : zm_Q RX1 39 yX1_mate cX1_mate 7 (some .int) 3 := ⟨q273, q275, qs23, q276, by decide +kernel⟩
end
section
/-! the tree's small methods: sizeOf, opensOf, closesOf, textLength, pushPath, hang -/
def zSz (σ : zS) (x : Int) : Int := if x < 0 then 0 else σ 3 x.toNat
def zOp (σ : zS) (x k : Int) : Int := if x < 0 then 0 else σ 6 (3 * x + k).toNat
def zCl (σ : zS) (x k : Int) : Int := if x < 0 then 0 else σ 7 (3 * x + k).toNat
def zPush (σ : zS) (x : Int) : zS := zs_st (zs_st σ 12 (σ 13 0).toNat x) 13 0 (σ 13 0 + 1)
def zHang (σ : zS) (u o x : Int) : zS := if o = 0 then zs_st σ 1 u.toNat x else zs_st σ 2 u.toNat x
theorem zSz_r {σ : zS} (h : zt_WF σ) (x : Int) : -128 ≤ zSz σ x ∧ zSz σ x ≤ 127 := by
  unfold zSz
  split
  · omega
  · exact h 3 _
theorem zOp_r {σ : zS} (h : zt_WF σ) (x k : Int) : -128 ≤ zOp σ x k ∧ zOp σ x k ≤ 127 := by
  unfold zOp
  split
  · omega
  · exact h 6 _
theorem zCl_r {σ : zS} (h : zt_WF σ) (x k : Int) : -128 ≤ zCl σ x k ∧ zCl σ x k ≤ 127 := by
  unfold zCl
  split
  · omega
  · exact h 7 _
set_option maxHeartbeats 4000000 in
theorem met_sizeOf (l : Launch) (g : zG) (σ : zS) (x : Int) (hx : -1 ≤ x ∧ x ≤ 59) : zt_Mi l yX0_sizeOf cX0_sizeOf 2 (some .int) ({ frames := 0, cells := 0, slots := 0, locals := 0 }) g σ [x] (fun r σ' => σ' = σ ∧ r = zSz σ x) := by
  refine zt_ofi (by decide +kernel) rfl (Nat.le_of_ble_eq_true rfl) ?_
  intro p e s m args below meth c ls ⟨S, hr, hlk, hw⟩ hl
  have hl : lv_has ls 2 [(0, .ref (g.2.2 19)), (1, .int (zI x))] := hl
  refine zr_iload_n S hl 1 rfl dX0_sizeOf_0 ?_
  refine zr_if_ge S 8 (by decide) (by omega) dX0_sizeOf_1 (fun h1 => ?_) (fun h1 => ?_)
  · refine zr_aload S hl 0 rfl dX0_sizeOf_8 ?_
    refine zt_get S hw 3 (.ref (g.2.2 3)) (by decide) rfl dX0_sizeOf_9 ?_
    refine zr_iload_n S hl 1 rfl dX0_sizeOf_12 ?_
    refine zt_bald S hw 3 60 4 3 (i := x) (by omega) (by omega) (by omega) rfl rfl dX0_sizeOf_13 (fun v2 e3 r4 => ?_)
    have r4 : (-128) ≤ v2 ∧ v2 ≤ 127 := r4
    subst e3
    exact zt_iret S hr hlk hw (⟨rfl, by unfold zSz; rw [if_neg (by omega)]⟩) dX0_sizeOf_14
  · refine zr_iconst S dX0_sizeOf_4 ?_
    refine zr_goto S 14 (by decide) dX0_sizeOf_5 ?_
    exact zt_iret S hr hlk hw (⟨rfl, by unfold zSz; rw [if_pos (by omega)]⟩) dX0_sizeOf_14
set_option maxHeartbeats 4000000 in
theorem met_opensOf (l : Launch) (g : zG) (σ : zS) (x k : Int) (hx : -1 ≤ x ∧ x ≤ 59) (hk : 0 ≤ k ∧ k ≤ 2) : zt_Mi l yX0_opensOf cX0_opensOf 3 (some .int) ({ frames := 0, cells := 0, slots := 0, locals := 0 }) g σ [x, k] (fun r σ' => σ' = σ ∧ r = zOp σ x k) := by
  refine zt_ofi (by decide +kernel) rfl (Nat.le_of_ble_eq_true rfl) ?_
  intro p e s m args below meth c ls ⟨S, hr, hlk, hw⟩ hl
  have hl : lv_has ls 3 [(0, .ref (g.2.2 19)), (1, .int (zI x)), (2, .int (zI k))] := hl
  refine zr_iload_n S hl 1 rfl dX0_opensOf_0 ?_
  refine zr_if_ge S 8 (by decide) (by omega) dX0_opensOf_1 (fun h1 => ?_) (fun h1 => ?_)
  · refine zr_aload S hl 0 rfl dX0_opensOf_8 ?_
    refine zt_get S hw 6 (.ref (g.2.2 6)) (by decide) rfl dX0_opensOf_9 ?_
    refine zr_iconst S dX0_opensOf_12 ?_
    refine zr_iload_n S hl 1 rfl dX0_opensOf_13 ?_
    refine zr_imul S dX0_opensOf_14 (fun v2 e3 => ?_)
    refine zr_iload_n S hl 2 rfl dX0_opensOf_15 ?_
    refine zr_iadd S dX0_opensOf_16 (fun v4 e5 => ?_)
    refine zt_bald S hw 6 180 7 6 (i := v4) (by omega) (by omega) (by omega) rfl rfl dX0_opensOf_17 (fun v6 e7 r8 => ?_)
    have r8 : (-128) ≤ v6 ∧ v6 ≤ 127 := r8
    subst e3
    subst e5
    subst e7
    exact zt_iret S hr hlk hw (⟨rfl, by unfold zOp; rw [if_neg (by omega)]⟩) dX0_opensOf_18
  · refine zr_iconst S dX0_opensOf_4 ?_
    refine zr_goto S 18 (by decide) dX0_opensOf_5 ?_
    exact zt_iret S hr hlk hw (⟨rfl, by unfold zOp; rw [if_pos (by omega)]⟩) dX0_opensOf_18
set_option maxHeartbeats 4000000 in
theorem met_closesOf (l : Launch) (g : zG) (σ : zS) (x k : Int) (hx : -1 ≤ x ∧ x ≤ 59) (hk : 0 ≤ k ∧ k ≤ 2) : zt_Mi l yX0_closesOf cX0_closesOf 3 (some .int) ({ frames := 0, cells := 0, slots := 0, locals := 0 }) g σ [x, k] (fun r σ' => σ' = σ ∧ r = zCl σ x k) := by
  refine zt_ofi (by decide +kernel) rfl (Nat.le_of_ble_eq_true rfl) ?_
  intro p e s m args below meth c ls ⟨S, hr, hlk, hw⟩ hl
  have hl : lv_has ls 3 [(0, .ref (g.2.2 19)), (1, .int (zI x)), (2, .int (zI k))] := hl
  refine zr_iload_n S hl 1 rfl dX0_closesOf_0 ?_
  refine zr_if_ge S 8 (by decide) (by omega) dX0_closesOf_1 (fun h1 => ?_) (fun h1 => ?_)
  · refine zr_aload S hl 0 rfl dX0_closesOf_8 ?_
    refine zt_get S hw 7 (.ref (g.2.2 7)) (by decide) rfl dX0_closesOf_9 ?_
    refine zr_iconst S dX0_closesOf_12 ?_
    refine zr_iload_n S hl 1 rfl dX0_closesOf_13 ?_
    refine zr_imul S dX0_closesOf_14 (fun v2 e3 => ?_)
    refine zr_iload_n S hl 2 rfl dX0_closesOf_15 ?_
    refine zr_iadd S dX0_closesOf_16 (fun v4 e5 => ?_)
    refine zt_bald S hw 7 180 8 7 (i := v4) (by omega) (by omega) (by omega) rfl rfl dX0_closesOf_17 (fun v6 e7 r8 => ?_)
    have r8 : (-128) ≤ v6 ∧ v6 ≤ 127 := r8
    subst e3
    subst e5
    subst e7
    exact zt_iret S hr hlk hw (⟨rfl, by unfold zCl; rw [if_neg (by omega)]⟩) dX0_closesOf_18
  · refine zr_iconst S dX0_closesOf_4 ?_
    refine zr_goto S 18 (by decide) dX0_closesOf_5 ?_
    exact zt_iret S hr hlk hw (⟨rfl, by unfold zCl; rw [if_pos (by omega)]⟩) dX0_closesOf_18
set_option maxHeartbeats 4000000 in
theorem met_textLength (l : Launch) (g : zG) (σ : zS) : zt_Mi l yX0_textLength cX0_textLength 1 (some .int) ({ frames := 1, cells := 0, slots := 0, locals := 21 }) g σ [] (fun r σ' => σ' = σ ∧ r = zSz σ (σ 8 0)) := by
  refine zt_ofi (by decide +kernel) rfl (Nat.le_of_ble_eq_true rfl) ?_
  intro p e s m args below meth c ls ⟨S, hr, hlk, hw⟩ hl
  have hl : lv_has ls 1 [(0, .ref (g.2.2 19))] := hl
  refine zr_aload S hl 0 rfl dX0_textLength_0 ?_
  refine zr_aload S hl 0 rfl dX0_textLength_1 ?_
  refine zt_geti S hw 8 (by decide) rfl dX0_textLength_2 (fun v1 e2 r3 => ?_)
  have r3 : (-1) ≤ v1 ∧ v1 ≤ 59 := r3
  refine zt_calli S hw (met_sizeOf l g σ v1 (by omega)) kq_sizeOf rfl rfl ⟨by decide, by decide⟩ rfl rfl hl.1 (by decide) ⟨Nat.zero_le _, Nat.zero_le _⟩ dX0_textLength_5 (fun v6 σ4 H locs p5 hw => ?_)
  obtain ⟨hs_, e7⟩ := p5
  rw [hs_] at hw
  have r8 : -128 ≤ v6 ∧ v6 ≤ 127 := by rw [e7]; exact zSz_r hw.2.2.2.2.1 _
  subst e2
  subst e7
  exact zt_iret S hr hlk hw (⟨rfl, rfl⟩) dX0_textLength_8
set_option maxHeartbeats 4000000 in
theorem met_pushPath (l : Launch) (g : zG) (σ : zS) (x : Int) (hx : 0 ≤ x ∧ x ≤ 59) (hp : σ 13 0 ≤ 63) : zt_Mv l yX0_pushPath cX0_pushPath 2 ({ frames := 0, cells := 0, slots := 0, locals := 0 }) g σ [x] (fun σ' => σ' = zPush σ x) := by
  refine zt_ofv (by decide +kernel) rfl (Nat.le_of_ble_eq_true rfl) ?_
  intro p e s m args below meth c ls ⟨S, hr, hlk, hw⟩ hl
  have hl : lv_has ls 2 [(0, .ref (g.2.2 19)), (1, .int (zI x))] := hl
  have hp0 : 0 ≤ σ 13 0 ∧ σ 13 0 ≤ 64 := hw.2.2.2.2.1 13 0
  refine zr_aload S hl 0 rfl dX0_pushPath_0 ?_
  refine zt_get S hw 12 (.ref (g.2.2 12)) (by decide) rfl dX0_pushPath_1 ?_
  refine zr_aload S hl 0 rfl dX0_pushPath_4 ?_
  refine zt_geti S hw 13 (by decide) rfl dX0_pushPath_5 (fun v1 e2 r3 => ?_)
  have r3 : 0 ≤ v1 ∧ v1 ≤ 64 := r3
  refine zr_iload_n S hl 1 rfl dX0_pushPath_8 ?_
  refine zr_i2b S dX0_pushPath_9 (fun v4 e5 => ?_)
  have e5 : v4 = x := e5.trans (zB_id (by omega) (by omega))
  refine zt_bast S hw 12 64 10 9 (i := v1) (z := v4) (by omega) (by omega) (by omega) (by omega) (show 0 ≤ (v4 : Int) ∧ (v4 : Int) ≤ 59 by omega) rfl rfl (zt_s12 g σ _ _) dX0_pushPath_10 (fun σ6 H locs s7 hw => ?_)
  refine zr_aload S hl 0 rfl dX0_pushPath_11 ?_
  refine zr_dup S rfl dX0_pushPath_12 ?_
  refine zt_geti S hw 13 (by decide) rfl dX0_pushPath_13 (fun v8 e9 r10 => ?_)
  have r10 : 0 ≤ v8 ∧ v8 ≤ 64 := r10
  have f0 : v8 = σ 13 0 := by rw [e9, s7]; rfl
  refine zr_iconst S dX0_pushPath_16 ?_
  refine zr_iadd S dX0_pushPath_17 (fun v11 e12 => ?_)
  refine zt_put S hw 13 (by decide) (zt_s13 g σ6 v11) rfl (by decide +kernel) (Nat.le_of_ble_eq_true rfl) (show 0 ≤ (v11 : Int) ∧ (v11 : Int) ≤ 64 by omega) dX0_pushPath_18 (fun σ13 H locs s14 hw => ?_)
  subst e2
  subst e5
  subst s7
  subst e9
  subst e12
  subst s14
  exact zt_vret S hr hlk hw (rfl) dX0_pushPath_21
set_option maxHeartbeats 4000000 in
theorem met_hang (l : Launch) (g : zG) (σ : zS) (u o x : Int) (hu : 0 ≤ u ∧ u ≤ 59) (ho : 0 ≤ o ∧ o ≤ 1) (hx : -1 ≤ x ∧ x ≤ 59) : zt_Mv l yX0_hang cX0_hang 4 ({ frames := 0, cells := 0, slots := 0, locals := 0 }) g σ [u, o, x] (fun σ' => σ' = zHang σ u o x) := by
  refine zt_ofv (by decide +kernel) rfl (Nat.le_of_ble_eq_true rfl) ?_
  intro p e s m args below meth c ls ⟨S, hr, hlk, hw⟩ hl
  have hl : lv_has ls 4 [(0, .ref (g.2.2 19)), (1, .int (zI u)), (2, .int (zI o)), (3, .int (zI x))] := hl
  refine zr_iload_n S hl 2 rfl dX0_hang_0 ?_
  refine zr_if_eq S 15 (by decide) (by omega) dX0_hang_1 (fun h1 => ?_) (fun h1 => ?_)
  · refine zr_aload S hl 0 rfl dX0_hang_15 ?_
    refine zt_get S hw 1 (.ref (g.2.2 1)) (by decide) rfl dX0_hang_16 ?_
    refine zr_iload_n S hl 1 rfl dX0_hang_19 ?_
    refine zr_iload_n S hl 3 rfl dX0_hang_20 ?_
    refine zr_i2b S dX0_hang_21 (fun v2 e3 => ?_)
    have e3 : v2 = x := e3.trans (zB_id (by omega) (by omega))
    refine zt_bast S hw 1 60 2 1 (i := u) (z := v2) (by omega) (by omega) (by omega) (by omega) (show (-1) ≤ (v2 : Int) ∧ (v2 : Int) ≤ 59 by omega) rfl rfl (zt_s1 g σ _ _) dX0_hang_22 (fun σ4 H locs s5 hw => ?_)
    subst e3
    subst s5
    exact zt_vret S hr hlk hw (by unfold zHang; rw [if_pos h1]) dX0_hang_23
  · refine zr_aload S hl 0 rfl dX0_hang_4 ?_
    refine zt_get S hw 2 (.ref (g.2.2 2)) (by decide) rfl dX0_hang_5 ?_
    refine zr_iload_n S hl 1 rfl dX0_hang_8 ?_
    refine zr_iload_n S hl 3 rfl dX0_hang_9 ?_
    refine zr_i2b S dX0_hang_10 (fun v6 e7 => ?_)
    have e7 : v6 = x := e7.trans (zB_id (by omega) (by omega))
    refine zt_bast S hw 2 60 3 2 (i := u) (z := v6) (by omega) (by omega) (by omega) (by omega) (show (-1) ≤ (v6 : Int) ∧ (v6 : Int) ≤ 59 by omega) rfl rfl (zt_s2 g σ _ _) dX0_hang_11 (fun σ8 H locs s9 hw => ?_)
    refine zr_goto S 23 (by decide) dX0_hang_12 ?_
    subst e7
    subst s9
    exact zt_vret S hr hlk hw (by unfold zHang; rw [if_neg h1]) dX0_hang_23
end
section
/-! turn, settle, refresh, newNode, refreshPath -/
def zTk (σ : zS) (x k : Int) : zS := zs_st (zs_st σ 6 (3 * x + k).toNat (σ 7 (3 * x + k).toNat)) 7 (3 * x + k).toNat (σ 6 (3 * x + k).toNat)
def zTn : Nat → zS → Int → zS
  | 0, σ, _ => σ
  | n + 1, σ, x => zTn n (zTk σ x (2 - n)) x
def zTl (σ : zS) (x : Int) : zS := zs_st (zs_st σ 1 x.toNat (σ 2 x.toNat)) 2 x.toNat (σ 1 x.toNat)
def zTf (σ : zS) (x : Int) : zS := zs_st σ 4 x.toNat (1 - σ 4 x.toNat)
def zTc (σ : zS) (x : Int) : zS := if 3 < σ 0 x.toNat then zs_st σ 0 x.toNat (σ 0 x.toNat - 3) else if 0 < σ 0 x.toNat then zs_st σ 0 x.toNat (σ 0 x.toNat + 3) else σ
def zTurn (σ : zS) (x : Int) : zS := zTn 3 (zTc (zTf (zTl σ x) x) x) x
def zSe1 (σ : zS) (x : Int) : zS := if σ 1 x.toNat < 0 then σ else zTurn σ (σ 1 x.toNat)
def zSe2 (σ : zS) (x : Int) : zS := if σ 2 x.toNat < 0 then σ else zTurn σ (σ 2 x.toNat)
def zSettle (σ : zS) (x : Int) : zS := if σ 4 x.toNat = 0 then σ else zSe2 (zSe1 (zs_st σ 4 x.toNat 0) x) x
def zRo (σ : zS) (x l k : Int) : Int := if σ 0 x.toNat = k + 4 then (if 0 < zOp σ l k then zOp σ l k - 1 else zOp σ l k) else if σ 0 x.toNat = k + 1 then zOp σ l k + 1 else zOp σ l k
def zRc (σ : zS) (x l k : Int) : Int := if σ 0 x.toNat = k + 4 then (if 0 < zOp σ l k then zCl σ l k else zCl σ l k + 1) else zCl σ l k
def zMet (o c : Int) : Int := if o < c then o else c
def zRk (σ : zS) (x l r k : Int) : zS := zs_st (zs_st σ 6 (3 * x + k).toNat (zB (zRo σ x l k - zMet (zRo σ x l k) (zCl σ r k) + zOp σ r k))) 7 (3 * x + k).toNat (zB (zRc σ x l k + zCl σ r k - zMet (zRo σ x l k) (zCl σ r k)))
def zRn : Nat → zS → Int → Int → Int → zS
  | 0, σ, _, _, _ => σ
  | n + 1, σ, x, l, r => zRn n (zRk σ x l r (2 - n)) x l r
def zRef (σ : zS) (x : Int) : zS := zRn 3 (zs_st σ 3 x.toNat (zB (zSz σ (σ 1 x.toNat) + 1 + zSz σ (σ 2 x.toNat)))) x (σ 1 x.toNat) (σ 2 x.toNat)
def zRp : Nat → zS → zS
  | 0, σ => σ
  | n + 1, σ => zRp n (zRef σ (σ 12 n))
def zRefP (σ : zS) : zS := zs_st (zRp (σ 13 0).toNat σ) 13 0 0
set_option maxHeartbeats 4000000 in
theorem met_turn (l : Launch) (g : zG) (σ : zS) (x : Int) (hx : 0 ≤ x ∧ x ≤ 59) : zt_Mv l yX0_turn cX0_turn 5 ({ frames := 0, cells := 0, slots := 0, locals := 0 }) g σ [x] (fun σ' => σ' = zTurn σ x) := by
  refine zt_ofv (by decide +kernel) rfl (Nat.le_of_ble_eq_true rfl) ?_
  intro p e s m args below meth c ls ⟨S, hr, hlk, hw⟩ hl
  have hl : lv_has ls 5 [(0, .ref (g.2.2 19)), (1, .int (zI x))] := hl
  have loop : ∀ (n : Nat) (k : Int) (σ1 : zS) (H : Heap) (locs : List Loc) (ls : Array Slot), k = 3 - n → n ≤ 3 → zt_W g (zt_A g s.heap.size) s H locs σ1 → lv_has ls 5 [(0, .ref (g.2.2 19)), (1, .int (zI x)), (3, .int (zI k))] → zTn n σ1 x = zTurn σ x → W p l e ({ frames := 0, cells := 0, slots := 0, locals := 0 }) s m args below meth c H locs 0 0 (zt_Ev g (fun σ' => σ' = zTurn σ x) below args s) (F0 m 92 ls []) := by
    intro n
    induction n with
    | zero =>
      intro k σ1 H locs ls hk hn hw hl hq
      refine zr_iload_n S hl 2 rfl dX0_turn_92 ?_
      refine zr_iconst S dX0_turn_93 ?_
      refine zr_icmp_ge S 147 (by decide) (by omega) (by omega) dX0_turn_94 (fun ah1 => ?_) (fun ah1 => by omega)
      exact zt_vret S hr hlk hw (hq) dX0_turn_147
    | succ n ih =>
      intro k σ1 H locs ls hk hn hw hl hq
      refine zr_iload_n S hl 2 rfl dX0_turn_92 ?_
      refine zr_iconst S dX0_turn_93 ?_
      refine zr_icmp_ge S 147 (by decide) (by omega) (by omega) dX0_turn_94 (fun bh1 => by omega) (fun bh1 => ?_)
      refine zr_aload S hl 0 rfl dX0_turn_97 ?_
      refine zt_get S hw 6 (.ref (g.2.2 6)) (by decide) rfl dX0_turn_98 ?_
      refine zr_iconst S dX0_turn_101 ?_
      refine zr_iload_n S hl 1 rfl dX0_turn_102 ?_
      refine zr_imul S dX0_turn_103 (fun bv2 be3 => ?_)
      refine zr_iload_n S hl 2 rfl dX0_turn_104 ?_
      refine zr_iadd S dX0_turn_105 (fun bv4 be5 => ?_)
      refine zt_bald S hw 6 180 7 6 (i := bv4) (by omega) (by omega) (by omega) rfl rfl dX0_turn_106 (fun bv6 be7 br8 => ?_)
      have br8 : (-128) ≤ bv6 ∧ bv6 ≤ 127 := br8
      refine zr_istore S [(4, .int (zI bv6)), (0, .ref (g.2.2 19)), (1, .int (zI x)), (3, .int (zI k))] hl (by decide) rfl dX0_turn_107 (fun ls hl => ?_)
      refine zr_aload S hl 1 rfl dX0_turn_109 ?_
      refine zt_get S hw 6 (.ref (g.2.2 6)) (by decide) rfl dX0_turn_110 ?_
      refine zr_iconst S dX0_turn_113 ?_
      refine zr_iload_n S hl 2 rfl dX0_turn_114 ?_
      refine zr_imul S dX0_turn_115 (fun bv9 be10 => ?_)
      refine zr_iload_n S hl 3 rfl dX0_turn_116 ?_
      refine zr_iadd S dX0_turn_117 (fun bv11 be12 => ?_)
      refine zr_aload S hl 1 rfl dX0_turn_118 ?_
      refine zt_get S hw 7 (.ref (g.2.2 7)) (by decide) rfl dX0_turn_119 ?_
      refine zr_iconst S dX0_turn_122 ?_
      refine zr_iload_n S hl 2 rfl dX0_turn_123 ?_
      refine zr_imul S dX0_turn_124 (fun bv13 be14 => ?_)
      refine zr_iload_n S hl 3 rfl dX0_turn_125 ?_
      refine zr_iadd S dX0_turn_126 (fun bv15 be16 => ?_)
      refine zt_bald S hw 7 180 8 7 (i := bv15) (by omega) (by omega) (by omega) rfl rfl dX0_turn_127 (fun bv17 be18 br19 => ?_)
      have br19 : (-128) ≤ bv17 ∧ bv17 ≤ 127 := br19
      refine zt_bast S hw 6 180 7 6 (i := bv11) (z := bv17) (by omega) (by omega) (by omega) (by omega) (show (-128) ≤ (bv17 : Int) ∧ (bv17 : Int) ≤ 127 by omega) rfl rfl (zt_s6 g σ1 _ _) dX0_turn_128 (fun bσ20 H locs bs21 hw => ?_)
      refine zr_aload S hl 1 rfl dX0_turn_129 ?_
      refine zt_get S hw 7 (.ref (g.2.2 7)) (by decide) rfl dX0_turn_130 ?_
      refine zr_iconst S dX0_turn_133 ?_
      refine zr_iload_n S hl 2 rfl dX0_turn_134 ?_
      refine zr_imul S dX0_turn_135 (fun bv22 be23 => ?_)
      refine zr_iload_n S hl 3 rfl dX0_turn_136 ?_
      refine zr_iadd S dX0_turn_137 (fun bv24 be25 => ?_)
      refine zr_iload S hl 0 rfl dX0_turn_138 ?_
      refine zt_bast S hw 7 180 8 7 (i := bv24) (z := bv6) (by omega) (by omega) (by omega) (by omega) (show (-128) ≤ (bv6 : Int) ∧ (bv6 : Int) ≤ 127 by omega) rfl rfl (zt_s7 g bσ20 _ _) dX0_turn_140 (fun bσ26 H locs bs27 hw => ?_)
      obtain ⟨bv28, be29⟩ : ∃ v : Int, v = k + 1 := ⟨_, rfl⟩
      refine zr_iinc S bv28 be29 [(3, .int (zI bv28)), (4, .int (zI bv6)), (0, .ref (g.2.2 19)), (1, .int (zI x))] hl 3 rfl (by decide) rfl dX0_turn_141 (fun ls hl => ?_)
      refine zr_goto S 92 (by decide) dX0_turn_144 ?_
      have hk2 : bv28 = 3 - (n : Int) := by omega
      have hk3 : k = 2 - (n : Int) := by omega
      have hq2 : zTn n bσ26 x = zTurn σ x := by
        subst be29; subst bs27; subst be25; subst be23; subst bs21; subst be18; subst be16; subst be14; subst be12; subst be10; subst be7; subst be5; subst be3
        rw [← hq, zTn, ← hk3]
        rfl
      exact ih bv28 bσ26 H locs ls hk2 (by omega) hw (lv_sub hl [2, 3, 0] rfl) hq2
  have c46 : ∀ (σ1 : zS) (H : Heap) (locs : List Loc) (ls : Array Slot), zt_W g (zt_A g s.heap.size) s H locs σ1 → lv_has ls 5 [(0, .ref (g.2.2 19)), (1, .int (zI x))] → zTn 3 (zTc σ1 x) x = zTurn σ x → W p l e ({ frames := 0, cells := 0, slots := 0, locals := 0 }) s m args below meth c H locs 0 0 (zt_Ev g (fun σ' => σ' = zTurn σ x) below args s) (F0 m 46 ls []) := by
    intro σ1 H locs ls hw hl hq
    refine zr_aload S hl 0 rfl dX0_turn_46 ?_
    refine zt_get S hw 0 (.ref (g.2.2 0)) (by decide) rfl dX0_turn_47 ?_
    refine zr_iload_n S hl 1 rfl dX0_turn_50 ?_
    refine zt_bald S hw 0 60 1 0 (i := x) (by omega) (by omega) (by omega) rfl rfl dX0_turn_51 (fun cv1 ce2 cr3 => ?_)
    have cr3 : 0 ≤ cv1 ∧ cv1 ≤ 6 := cr3
    refine zr_iconst S dX0_turn_52 ?_
    refine zr_icmp_le S 70 (by decide) (by omega) (by omega) dX0_turn_53 (fun ch4 => ?_) (fun ch4 => ?_)
    · refine zr_aload S hl 0 rfl dX0_turn_70 ?_
      refine zt_get S hw 0 (.ref (g.2.2 0)) (by decide) rfl dX0_turn_71 ?_
      refine zr_iload_n S hl 1 rfl dX0_turn_74 ?_
      refine zt_bald S hw 0 60 1 0 (i := x) (by omega) (by omega) (by omega) rfl rfl dX0_turn_75 (fun cv5 ce6 cr7 => ?_)
      have cr7 : 0 ≤ cv5 ∧ cv5 ≤ 6 := cr7
      refine zr_if_le S 90 (by decide) (by omega) dX0_turn_76 (fun ch8 => ?_) (fun ch8 => ?_)
      · refine zr_iconst S dX0_turn_90 ?_
        refine zr_istore_n S [(3, .int (zI 0)), (0, .ref (g.2.2 19)), (1, .int (zI x))] hl (by decide) rfl dX0_turn_91 (fun ls hl => ?_)
        have hq2 : zTn 3 σ1 x = zTurn σ x := by
          subst ce6; subst ce2; rw [← hq, zTc, if_neg (by omega), if_neg (by omega)]
        exact loop 3 0 σ1 H locs ls (by decide) (by decide) hw (lv_sub hl [1, 2, 0] rfl) hq2
      · refine zr_aload S hl 0 rfl dX0_turn_79 ?_
        refine zt_get S hw 0 (.ref (g.2.2 0)) (by decide) rfl dX0_turn_80 ?_
        refine zr_iload_n S hl 1 rfl dX0_turn_83 ?_
        refine zr_dup2 S rfl rfl dX0_turn_84 ?_
        refine zt_bald S hw 0 60 1 0 (i := x) (by omega) (by omega) (by omega) rfl rfl dX0_turn_85 (fun cv9 ce10 cr11 => ?_)
        have cr11 : 0 ≤ cv9 ∧ cv9 ≤ 6 := cr11
        refine zr_iconst S dX0_turn_86 ?_
        refine zr_iadd S dX0_turn_87 (fun cv12 ce13 => ?_)
        refine zr_i2b S dX0_turn_88 (fun cv14 ce15 => ?_)
        have ce15 : cv14 = cv12 := ce15.trans (zB_id (by omega) (by omega))
        refine zt_bast S hw 0 60 1 0 (i := x) (z := cv14) (by omega) (by omega) (by omega) (by omega) (show 0 ≤ (cv14 : Int) ∧ (cv14 : Int) ≤ 6 by omega) rfl rfl (zt_s0 g σ1 _ _) dX0_turn_89 (fun cσ16 H locs cs17 hw => ?_)
        refine zr_iconst S dX0_turn_90 ?_
        refine zr_istore_n S [(3, .int (zI 0)), (0, .ref (g.2.2 19)), (1, .int (zI x))] hl (by decide) rfl dX0_turn_91 (fun ls hl => ?_)
        have hq2 : zTn 3 cσ16 x = zTurn σ x := by
          subst cs17; subst ce15; subst ce13; subst ce10; subst ce6; subst ce2; rw [← hq, zTc, if_neg (by omega), if_pos (by omega)]
        exact loop 3 0 cσ16 H locs ls (by decide) (by decide) hw (lv_sub hl [1, 2, 0] rfl) hq2
    · refine zr_aload S hl 0 rfl dX0_turn_56 ?_
      refine zt_get S hw 0 (.ref (g.2.2 0)) (by decide) rfl dX0_turn_57 ?_
      refine zr_iload_n S hl 1 rfl dX0_turn_60 ?_
      refine zr_dup2 S rfl rfl dX0_turn_61 ?_
      refine zt_bald S hw 0 60 1 0 (i := x) (by omega) (by omega) (by omega) rfl rfl dX0_turn_62 (fun cv18 ce19 cr20 => ?_)
      have cr20 : 0 ≤ cv18 ∧ cv18 ≤ 6 := cr20
      refine zr_iconst S dX0_turn_63 ?_
      refine zr_isub S dX0_turn_64 (fun cv21 ce22 => ?_)
      refine zr_i2b S dX0_turn_65 (fun cv23 ce24 => ?_)
      have ce24 : cv23 = cv21 := ce24.trans (zB_id (by omega) (by omega))
      refine zt_bast S hw 0 60 1 0 (i := x) (z := cv23) (by omega) (by omega) (by omega) (by omega) (show 0 ≤ (cv23 : Int) ∧ (cv23 : Int) ≤ 6 by omega) rfl rfl (zt_s0 g σ1 _ _) dX0_turn_66 (fun cσ25 H locs cs26 hw => ?_)
      refine zr_goto S 90 (by decide) dX0_turn_67 ?_
      refine zr_iconst S dX0_turn_90 ?_
      refine zr_istore_n S [(3, .int (zI 0)), (0, .ref (g.2.2 19)), (1, .int (zI x))] hl (by decide) rfl dX0_turn_91 (fun ls hl => ?_)
      have hq2 : zTn 3 cσ25 x = zTurn σ x := by
        subst cs26; subst ce24; subst ce22; subst ce19; subst ce2; rw [← hq, zTc, if_pos (by omega)]
      exact loop 3 0 cσ25 H locs ls (by decide) (by decide) hw (lv_sub hl [1, 2, 0] rfl) hq2
  refine zr_aload S hl 0 rfl dX0_turn_0 ?_
  refine zt_get S hw 1 (.ref (g.2.2 1)) (by decide) rfl dX0_turn_1 ?_
  refine zr_iload_n S hl 1 rfl dX0_turn_4 ?_
  refine zt_bald S hw 1 60 2 1 (i := x) (by omega) (by omega) (by omega) rfl rfl dX0_turn_5 (fun v1 e2 r3 => ?_)
  have r3 : (-1) ≤ v1 ∧ v1 ≤ 59 := r3
  refine zr_istore_n S [(2, .int (zI v1)), (0, .ref (g.2.2 19)), (1, .int (zI x))] hl (by decide) rfl dX0_turn_6 (fun ls hl => ?_)
  refine zr_aload S hl 1 rfl dX0_turn_7 ?_
  refine zt_get S hw 1 (.ref (g.2.2 1)) (by decide) rfl dX0_turn_8 ?_
  refine zr_iload_n S hl 2 rfl dX0_turn_11 ?_
  refine zr_aload S hl 1 rfl dX0_turn_12 ?_
  refine zt_get S hw 2 (.ref (g.2.2 2)) (by decide) rfl dX0_turn_13 ?_
  refine zr_iload_n S hl 2 rfl dX0_turn_16 ?_
  refine zt_bald S hw 2 60 3 2 (i := x) (by omega) (by omega) (by omega) rfl rfl dX0_turn_17 (fun v4 e5 r6 => ?_)
  have r6 : (-1) ≤ v4 ∧ v4 ≤ 59 := r6
  refine zt_bast S hw 1 60 2 1 (i := x) (z := v4) (by omega) (by omega) (by omega) (by omega) (show (-1) ≤ (v4 : Int) ∧ (v4 : Int) ≤ 59 by omega) rfl rfl (zt_s1 g σ _ _) dX0_turn_18 (fun σ7 H locs s8 hw => ?_)
  refine zr_aload S hl 1 rfl dX0_turn_19 ?_
  refine zt_get S hw 2 (.ref (g.2.2 2)) (by decide) rfl dX0_turn_20 ?_
  refine zr_iload_n S hl 2 rfl dX0_turn_23 ?_
  refine zr_iload_n S hl 0 rfl dX0_turn_24 ?_
  refine zt_bast S hw 2 60 3 2 (i := x) (z := v1) (by omega) (by omega) (by omega) (by omega) (show (-1) ≤ (v1 : Int) ∧ (v1 : Int) ≤ 59 by omega) rfl rfl (zt_s2 g σ7 _ _) dX0_turn_25 (fun σ9 H locs s10 hw => ?_)
  refine zr_aload S hl 1 rfl dX0_turn_26 ?_
  refine zt_get S hw 4 (.ref (g.2.2 4)) (by decide) rfl dX0_turn_27 ?_
  refine zr_iload_n S hl 2 rfl dX0_turn_30 ?_
  refine zr_aload S hl 1 rfl dX0_turn_31 ?_
  refine zt_get S hw 4 (.ref (g.2.2 4)) (by decide) rfl dX0_turn_32 ?_
  refine zr_iload_n S hl 2 rfl dX0_turn_35 ?_
  refine zt_zald S hw 4 60 5 4 (i := x) (by omega) (by omega) (by omega) rfl rfl dX0_turn_36 (fun v11 e12 r13 => ?_)
  have r13 : 0 ≤ v11 ∧ v11 ≤ 1 := r13
  have f14 : v11 = σ 4 x.toNat := by rw [e12, s10, zs_ne (by decide), s8, zs_ne (by decide)]
  refine zr_if_ne S 44 (by decide) (by omega) dX0_turn_37 (fun h15 => ?_) (fun h15 => ?_)
  · refine zr_iconst S dX0_turn_44 ?_
    refine zt_zast S hw 4 60 5 4 (i := x) (z := 0) (by omega) (by omega) (by omega) (by omega) (show 0 ≤ (0 : Int) ∧ (0 : Int) ≤ 1 by omega) rfl rfl (zt_s4 g σ9 _ _) dX0_turn_45 (fun σ16 H locs s17 hw => ?_)
    have hq2 : σ16 = zTf (zTl σ x) x := by
      rw [s17, zTf]
      have hz : 0 = 1 - zTl σ x 4 x.toNat := by
        have hf : v11 = zTl σ x 4 x.toNat := by subst e12; subst s10; subst s8; subst e5; subst e2; rfl
        omega
      rw [← hz]
      subst e12; subst s10; subst s8; subst e5; subst e2; rfl
    exact c46 σ16 H locs ls hw (lv_sub hl [1, 2] rfl) (by rw [hq2]; rfl)
  · refine zr_iconst S dX0_turn_40 ?_
    refine zr_goto S 45 (by decide) dX0_turn_41 ?_
    refine zt_zast S hw 4 60 5 4 (i := x) (z := 1) (by omega) (by omega) (by omega) (by omega) (show 0 ≤ (1 : Int) ∧ (1 : Int) ≤ 1 by omega) rfl rfl (zt_s4 g σ9 _ _) dX0_turn_45 (fun σ18 H locs s19 hw => ?_)
    have hq2 : σ18 = zTf (zTl σ x) x := by
      rw [s19, zTf]
      have hz : 1 = 1 - zTl σ x 4 x.toNat := by
        have hf : v11 = zTl σ x 4 x.toNat := by subst e12; subst s10; subst s8; subst e5; subst e2; rfl
        omega
      rw [← hz]
      subst e12; subst s10; subst s8; subst e5; subst e2; rfl
    exact c46 σ18 H locs ls hw (lv_sub hl [1, 2] rfl) (by rw [hq2]; rfl)
set_option maxHeartbeats 4000000 in
theorem met_settle (l : Launch) (g : zG) (σ : zS) (x : Int) (hx : 0 ≤ x ∧ x ≤ 59) : zt_Mv l yX0_settle cX0_settle 2 ({ frames := 1, cells := 0, slots := 0, locals := 24 }) g σ [x] (fun σ' => σ' = zSettle σ x) := by
  refine zt_ofv (by decide +kernel) rfl (Nat.le_of_ble_eq_true rfl) ?_
  intro p e s m args below meth c ls ⟨S, hr, hlk, hw⟩ hl
  have hl : lv_has ls 2 [(0, .ref (g.2.2 19)), (1, .int (zI x))] := hl
  refine zr_aload S hl 0 rfl dX0_settle_0 ?_
  refine zt_get S hw 4 (.ref (g.2.2 4)) (by decide) rfl dX0_settle_1 ?_
  refine zr_iload_n S hl 1 rfl dX0_settle_4 ?_
  refine zt_zald S hw 4 60 5 4 (i := x) (by omega) (by omega) (by omega) rfl rfl dX0_settle_5 (fun v1 e2 r3 => ?_)
  have r3 : 0 ≤ v1 ∧ v1 ≤ 1 := r3
  refine zr_if_ne S 10 (by decide) (by omega) dX0_settle_6 (fun h4 => ?_) (fun h4 => ?_)
  · refine zr_aload S hl 0 rfl dX0_settle_10 ?_
    refine zt_get S hw 4 (.ref (g.2.2 4)) (by decide) rfl dX0_settle_11 ?_
    refine zr_iload_n S hl 1 rfl dX0_settle_14 ?_
    refine zr_iconst S dX0_settle_15 ?_
    refine zt_zast S hw 4 60 5 4 (i := x) (z := 0) (by omega) (by omega) (by omega) (by omega) (show 0 ≤ (0 : Int) ∧ (0 : Int) ≤ 1 by omega) rfl rfl (zt_s4 g σ _ _) dX0_settle_16 (fun σ5 H locs s6 hw => ?_)
    refine zr_aload S hl 0 rfl dX0_settle_17 ?_
    refine zt_get S hw 1 (.ref (g.2.2 1)) (by decide) rfl dX0_settle_18 ?_
    refine zr_iload_n S hl 1 rfl dX0_settle_21 ?_
    refine zt_bald S hw 1 60 2 1 (i := x) (by omega) (by omega) (by omega) rfl rfl dX0_settle_22 (fun v7 e8 r9 => ?_)
    have r9 : (-1) ≤ v7 ∧ v7 ≤ 59 := r9
    have f10 : v7 = σ 1 x.toNat := by rw [e8, s6, zs_ne (by decide)]
    refine zr_if_lt S 36 (by decide) (by omega) dX0_settle_23 (fun h11 => ?_) (fun h11 => ?_)
    · refine zr_aload S hl 0 rfl dX0_settle_36 ?_
      refine zt_get S hw 2 (.ref (g.2.2 2)) (by decide) rfl dX0_settle_37 ?_
      refine zr_iload_n S hl 1 rfl dX0_settle_40 ?_
      refine zt_bald S hw 2 60 3 2 (i := x) (by omega) (by omega) (by omega) rfl rfl dX0_settle_41 (fun v12 e13 r14 => ?_)
      have r14 : (-1) ≤ v12 ∧ v12 ≤ 59 := r14
      have f15 : v12 = σ 2 x.toNat := by rw [e13, s6, zs_ne (by decide)]
      refine zr_if_lt S 55 (by decide) (by omega) dX0_settle_42 (fun h16 => ?_) (fun h16 => ?_)
      · exact zt_vret S hr hlk hw (by subst e13; subst e8; subst s6; subst e2; rw [zSettle, if_neg (by assumption), zSe1, if_pos (by assumption), zSe2, if_pos (by assumption)]) dX0_settle_55
      · refine zr_aload S hl 0 rfl dX0_settle_45 ?_
        refine zr_aload S hl 0 rfl dX0_settle_46 ?_
        refine zt_get S hw 2 (.ref (g.2.2 2)) (by decide) rfl dX0_settle_47 ?_
        refine zr_iload_n S hl 1 rfl dX0_settle_50 ?_
        refine zt_bald S hw 2 60 3 2 (i := x) (by omega) (by omega) (by omega) rfl rfl dX0_settle_51 (fun v17 e18 r19 => ?_)
        have r19 : (-1) ≤ v17 ∧ v17 ≤ 59 := r19
        have f20 : v17 = σ 2 x.toNat := by rw [e18, s6, zs_ne (by decide)]
        refine zt_callv S hw (met_turn l g σ5 v17 (by omega)) kq_turn rfl rfl ⟨by decide, by decide⟩ rfl rfl hl.1 (by decide) ⟨Nat.zero_le _, Nat.zero_le _⟩ dX0_settle_52 (fun σ21 H locs p22 hw => ?_)
        exact zt_vret S hr hlk hw (by subst p22; subst e18; subst e13; subst e8; subst s6; subst e2; rw [zSettle, if_neg (by assumption), zSe1, if_pos (by assumption), zSe2, if_neg (by assumption)]) dX0_settle_55
    · refine zr_aload S hl 0 rfl dX0_settle_26 ?_
      refine zr_aload S hl 0 rfl dX0_settle_27 ?_
      refine zt_get S hw 1 (.ref (g.2.2 1)) (by decide) rfl dX0_settle_28 ?_
      refine zr_iload_n S hl 1 rfl dX0_settle_31 ?_
      refine zt_bald S hw 1 60 2 1 (i := x) (by omega) (by omega) (by omega) rfl rfl dX0_settle_32 (fun v23 e24 r25 => ?_)
      have r25 : (-1) ≤ v23 ∧ v23 ≤ 59 := r25
      have f26 : v23 = σ 1 x.toNat := by rw [e24, s6, zs_ne (by decide)]
      refine zt_callv S hw (met_turn l g σ5 v23 (by omega)) kq_turn rfl rfl ⟨by decide, by decide⟩ rfl rfl hl.1 (by decide) ⟨Nat.zero_le _, Nat.zero_le _⟩ dX0_settle_33 (fun σ27 H locs p28 hw => ?_)
      refine zr_aload S hl 0 rfl dX0_settle_36 ?_
      refine zt_get S hw 2 (.ref (g.2.2 2)) (by decide) rfl dX0_settle_37 ?_
      refine zr_iload_n S hl 1 rfl dX0_settle_40 ?_
      refine zt_bald S hw 2 60 3 2 (i := x) (by omega) (by omega) (by omega) rfl rfl dX0_settle_41 (fun v29 e30 r31 => ?_)
      have r31 : (-1) ≤ v29 ∧ v29 ≤ 59 := r31
      refine zr_if_lt S 55 (by decide) (by omega) dX0_settle_42 (fun h32 => ?_) (fun h32 => ?_)
      · exact zt_vret S hr hlk hw (by subst e30; subst p28; subst e24; subst e8; subst s6; subst e2; rw [zSettle, if_neg (by assumption), zSe1, if_neg (by assumption), zSe2, if_pos (by assumption)]) dX0_settle_55
      · refine zr_aload S hl 0 rfl dX0_settle_45 ?_
        refine zr_aload S hl 0 rfl dX0_settle_46 ?_
        refine zt_get S hw 2 (.ref (g.2.2 2)) (by decide) rfl dX0_settle_47 ?_
        refine zr_iload_n S hl 1 rfl dX0_settle_50 ?_
        refine zt_bald S hw 2 60 3 2 (i := x) (by omega) (by omega) (by omega) rfl rfl dX0_settle_51 (fun v33 e34 r35 => ?_)
        have r35 : (-1) ≤ v33 ∧ v33 ≤ 59 := r35
        refine zt_callv S hw (met_turn l g σ27 v33 (by omega)) kq_turn rfl rfl ⟨by decide, by decide⟩ rfl rfl hl.1 (by decide) ⟨Nat.zero_le _, Nat.zero_le _⟩ dX0_settle_52 (fun σ36 H locs p37 hw => ?_)
        exact zt_vret S hr hlk hw (by subst p37; subst e34; subst e30; subst p28; subst e24; subst e8; subst s6; subst e2; rw [zSettle, if_neg (by assumption), zSe1, if_neg (by assumption), zSe2, if_neg (by assumption)]) dX0_settle_55
  · exact zt_vret S hr hlk hw (by subst e2; rw [zSettle, if_pos (by assumption)]) dX0_settle_9
end
section
/-! refresh, newNode, refreshPath -/
set_option maxHeartbeats 4000000 in
theorem met_refresh (l : Launch) (g : zG) (σ : zS) (x : Int) (hx : 0 ≤ x ∧ x ≤ 59) : zt_Mv l yX0_refresh cX0_refresh 10 ({ frames := 1, cells := 0, slots := 0, locals := 22 }) g σ [x] (fun σ' => σ' = zRef σ x) := by
  refine zt_ofv (by decide +kernel) rfl (Nat.le_of_ble_eq_true rfl) ?_
  intro p e s m args below meth c ls ⟨S, hr, hlk, hw⟩ hl
  have hl : lv_has ls 10 [(0, .ref (g.2.2 19)), (1, .int (zI x))] := hl
  have loop : ∀ (n : Nat) (k lc rc : Int) (σ1 : zS) (H : Heap) (locs : List Loc) (ls : Array Slot), k = 3 - n → n ≤ 3 → (-1 ≤ lc ∧ lc ≤ 59) → (-1 ≤ rc ∧ rc ≤ 59) → zt_W g (zt_A g s.heap.size) s H locs σ1 → lv_has ls 10 [(0, .ref (g.2.2 19)), (1, .int (zI x)), (2, .int (zI lc)), (3, .int (zI rc)), (4, .int (zI k))] → zRn n σ1 x lc rc = zRef σ x → W p l e ({ frames := 1, cells := 0, slots := 0, locals := 22 }) s m args below meth c H locs 0 0 (zt_Ev g (fun σ' => σ' = zRef σ x) below args s) (F0 m 37 ls []) := by
    intro n
    induction n with
    | zero =>
      intro k lc rc σ1 H locs ls hk hn hlc hrc hw hl hq
      refine zr_iload S hl 4 rfl dX0_refresh_37 ?_
      refine zr_iconst S dX0_refresh_39 ?_
      refine zr_icmp_ge S 184 (by decide) (by omega) (by omega) dX0_refresh_40 (fun ah1 => ?_) (fun ah1 => by omega)
      exact zt_vret S hr hlk hw (hq) dX0_refresh_184
    | succ n ih =>
      intro k lc rc σ1 H locs ls hk hn hlc hrc hw hl hq
      have hk3 : k = 2 - (n : Int) := by omega
      have c104 : ∀ (o cl : Int) (H : Heap) (locs : List Loc) (ls : Array Slot), zt_W g (zt_A g s.heap.size) s H locs σ1 → (-129 ≤ o ∧ o ≤ 128) → (-128 ≤ cl ∧ cl ≤ 128) → o = zRo σ1 x lc k → cl = zRc σ1 x lc k → lv_has ls 10 [(0, .ref (g.2.2 19)), (1, .int (zI x)), (2, .int (zI lc)), (3, .int (zI rc)), (4, .int (zI k)), (5, .int (zI o)), (6, .int (zI cl))] → W p l e ({ frames := 1, cells := 0, slots := 0, locals := 22 }) s m args below meth c H locs 0 0 (zt_Ev g (fun σ' => σ' = zRef σ x) below args s) (F0 m 104 ls []) := by
        intro o cl H locs ls hw ho hc eo ec hl
        refine zr_aload S hl 0 rfl dX0_refresh_104 ?_
        refine zr_iload_n S hl 3 rfl dX0_refresh_105 ?_
        refine zr_iload S hl 4 rfl dX0_refresh_106 ?_
        refine zt_calli S hw (met_opensOf l g σ1 rc k (by omega) (by omega)) kq_opensOf rfl rfl ⟨by decide, by decide⟩ rfl rfl hl.1 (Nat.le_of_ble_eq_true rfl) ⟨Nat.zero_le _, Nat.zero_le _⟩ dX0_refresh_108 (fun bv3 bσ1 H locs bp2 hw => ?_)
        obtain ⟨hs_, be4⟩ := bp2
        rw [hs_] at hw
        have br5 : -128 ≤ bv3 ∧ bv3 ≤ 127 := by rw [be4]; exact zOp_r hw.2.2.2.2.1 _ _
        refine zr_istore S [(7, .int (zI bv3)), (0, .ref (g.2.2 19)), (1, .int (zI x)), (2, .int (zI lc)), (3, .int (zI rc)), (4, .int (zI k)), (5, .int (zI o)), (6, .int (zI cl))] hl (by decide) rfl dX0_refresh_111 (fun ls hl => ?_)
        refine zr_aload S hl 1 rfl dX0_refresh_113 ?_
        refine zr_iload_n S hl 4 rfl dX0_refresh_114 ?_
        refine zr_iload S hl 5 rfl dX0_refresh_115 ?_
        refine zt_calli S hw (met_closesOf l g σ1 rc k (by omega) (by omega)) kq_closesOf rfl rfl ⟨by decide, by decide⟩ rfl rfl hl.1 (Nat.le_of_ble_eq_true rfl) ⟨Nat.zero_le _, Nat.zero_le _⟩ dX0_refresh_117 (fun bv8 bσ6 H locs bp7 hw => ?_)
        obtain ⟨hs_, be9⟩ := bp7
        rw [hs_] at hw
        have br10 : -128 ≤ bv8 ∧ bv8 ≤ 127 := by rw [be9]; exact zCl_r hw.2.2.2.2.1 _ _
        refine zr_istore S [(8, .int (zI bv8)), (7, .int (zI bv3)), (0, .ref (g.2.2 19)), (1, .int (zI x)), (2, .int (zI lc)), (3, .int (zI rc)), (4, .int (zI k)), (5, .int (zI o)), (6, .int (zI cl))] hl (by decide) rfl dX0_refresh_120 (fun ls hl => ?_)
        refine zr_iload S hl 7 rfl dX0_refresh_122 ?_
        refine zr_iload S hl 0 rfl dX0_refresh_124 ?_
        refine zr_icmp_ge S 134 (by decide) (by omega) (by omega) dX0_refresh_126 (fun bh11 => ?_) (fun bh11 => ?_)
        · refine zr_iload S hl 0 rfl dX0_refresh_134 ?_
          refine zr_istore S [(9, .int (zI bv8)), (8, .int (zI bv8)), (7, .int (zI bv3)), (0, .ref (g.2.2 19)), (1, .int (zI x)), (2, .int (zI lc)), (3, .int (zI rc)), (4, .int (zI k)), (5, .int (zI o)), (6, .int (zI cl))] hl (by decide) rfl dX0_refresh_136 (fun ls hl => ?_)
          refine zr_aload S hl 3 rfl dX0_refresh_138 ?_
          refine zt_get S hw 6 (.ref (g.2.2 6)) (by decide) rfl dX0_refresh_139 ?_
          refine zr_iconst S dX0_refresh_142 ?_
          refine zr_iload_n S hl 4 rfl dX0_refresh_143 ?_
          refine zr_imul S dX0_refresh_144 (fun bv12 be13 => ?_)
          refine zr_iload S hl 7 rfl dX0_refresh_145 ?_
          refine zr_iadd S dX0_refresh_147 (fun bv14 be15 => ?_)
          refine zr_iload S hl 8 rfl dX0_refresh_148 ?_
          refine zr_iload S hl 0 rfl dX0_refresh_150 ?_
          refine zr_isub S dX0_refresh_152 (fun bv16 be17 => ?_)
          refine zr_iload S hl 2 rfl dX0_refresh_153 ?_
          refine zr_iadd S dX0_refresh_155 (fun bv18 be19 => ?_)
          refine zr_i2b S dX0_refresh_156 (fun bv20 be21 => ?_)
          have br22 : -128 ≤ bv20 ∧ bv20 ≤ 127 := by rw [be21]; exact zB_r _
          refine zt_bast S hw 6 180 7 6 (i := bv14) (z := bv20) (by omega) (by omega) (by omega) (by omega) (show (-128) ≤ (bv20 : Int) ∧ (bv20 : Int) ≤ 127 by omega) rfl rfl (zt_s6 g σ1 _ _) dX0_refresh_157 (fun bσ23 H locs bs24 hw => ?_)
          refine zr_aload S hl 3 rfl dX0_refresh_158 ?_
          refine zt_get S hw 7 (.ref (g.2.2 7)) (by decide) rfl dX0_refresh_159 ?_
          refine zr_iconst S dX0_refresh_162 ?_
          refine zr_iload_n S hl 4 rfl dX0_refresh_163 ?_
          refine zr_imul S dX0_refresh_164 (fun bv25 be26 => ?_)
          refine zr_iload S hl 7 rfl dX0_refresh_165 ?_
          refine zr_iadd S dX0_refresh_167 (fun bv27 be28 => ?_)
          refine zr_iload S hl 9 rfl dX0_refresh_168 ?_
          refine zr_iload S hl 1 rfl dX0_refresh_170 ?_
          refine zr_iadd S dX0_refresh_172 (fun bv29 be30 => ?_)
          refine zr_iload S hl 0 rfl dX0_refresh_173 ?_
          refine zr_isub S dX0_refresh_175 (fun bv31 be32 => ?_)
          refine zr_i2b S dX0_refresh_176 (fun bv33 be34 => ?_)
          have br35 : -128 ≤ bv33 ∧ bv33 ≤ 127 := by rw [be34]; exact zB_r _
          refine zt_bast S hw 7 180 8 7 (i := bv27) (z := bv33) (by omega) (by omega) (by omega) (by omega) (show (-128) ≤ (bv33 : Int) ∧ (bv33 : Int) ≤ 127 by omega) rfl rfl (zt_s7 g bσ23 _ _) dX0_refresh_177 (fun bσ36 H locs bs37 hw => ?_)
          obtain ⟨bv38, be39⟩ : ∃ v : Int, v = k + 1 := ⟨_, rfl⟩
          refine zr_iinc S bv38 be39 [(4, .int (zI bv38)), (9, .int (zI bv8)), (8, .int (zI bv8)), (7, .int (zI bv3)), (0, .ref (g.2.2 19)), (1, .int (zI x)), (2, .int (zI lc)), (3, .int (zI rc)), (5, .int (zI o)), (6, .int (zI cl))] hl 7 rfl (by decide) rfl dX0_refresh_178 (fun ls hl => ?_)
          refine zr_goto S 37 (by decide) dX0_refresh_181 ?_
          have hk2 : bv38 = 3 - (n : Int) := by omega
          have hq2 : zRn n bσ36 x lc rc = zRef σ x := by
            subst be39; subst bs37; subst be34; subst be32; subst be30; subst be28; subst be26; subst bs24; subst be21; subst be19; subst be17; subst be15; subst be13; subst be9; subst be4
            rw [← hq, zRn, ← hk3, zRk, ← eo, ← ec, zMet, if_neg (by omega)]
          exact ih bv38 lc rc bσ36 H locs ls hk2 (by omega) hlc hrc hw (lv_sub hl [4, 5, 6, 7, 0] rfl) hq2
        · refine zr_iload S hl 7 rfl dX0_refresh_129 ?_
          refine zr_goto S 136 (by decide) dX0_refresh_131 ?_
          refine zr_istore S [(9, .int (zI o)), (8, .int (zI bv8)), (7, .int (zI bv3)), (0, .ref (g.2.2 19)), (1, .int (zI x)), (2, .int (zI lc)), (3, .int (zI rc)), (4, .int (zI k)), (5, .int (zI o)), (6, .int (zI cl))] hl (by decide) rfl dX0_refresh_136 (fun ls hl => ?_)
          refine zr_aload S hl 3 rfl dX0_refresh_138 ?_
          refine zt_get S hw 6 (.ref (g.2.2 6)) (by decide) rfl dX0_refresh_139 ?_
          refine zr_iconst S dX0_refresh_142 ?_
          refine zr_iload_n S hl 4 rfl dX0_refresh_143 ?_
          refine zr_imul S dX0_refresh_144 (fun bv40 be41 => ?_)
          refine zr_iload S hl 7 rfl dX0_refresh_145 ?_
          refine zr_iadd S dX0_refresh_147 (fun bv42 be43 => ?_)
          refine zr_iload S hl 8 rfl dX0_refresh_148 ?_
          refine zr_iload S hl 0 rfl dX0_refresh_150 ?_
          refine zr_isub S dX0_refresh_152 (fun bv44 be45 => ?_)
          refine zr_iload S hl 2 rfl dX0_refresh_153 ?_
          refine zr_iadd S dX0_refresh_155 (fun bv46 be47 => ?_)
          refine zr_i2b S dX0_refresh_156 (fun bv48 be49 => ?_)
          have br50 : -128 ≤ bv48 ∧ bv48 ≤ 127 := by rw [be49]; exact zB_r _
          refine zt_bast S hw 6 180 7 6 (i := bv42) (z := bv48) (by omega) (by omega) (by omega) (by omega) (show (-128) ≤ (bv48 : Int) ∧ (bv48 : Int) ≤ 127 by omega) rfl rfl (zt_s6 g σ1 _ _) dX0_refresh_157 (fun bσ51 H locs bs52 hw => ?_)
          refine zr_aload S hl 3 rfl dX0_refresh_158 ?_
          refine zt_get S hw 7 (.ref (g.2.2 7)) (by decide) rfl dX0_refresh_159 ?_
          refine zr_iconst S dX0_refresh_162 ?_
          refine zr_iload_n S hl 4 rfl dX0_refresh_163 ?_
          refine zr_imul S dX0_refresh_164 (fun bv53 be54 => ?_)
          refine zr_iload S hl 7 rfl dX0_refresh_165 ?_
          refine zr_iadd S dX0_refresh_167 (fun bv55 be56 => ?_)
          refine zr_iload S hl 9 rfl dX0_refresh_168 ?_
          refine zr_iload S hl 1 rfl dX0_refresh_170 ?_
          refine zr_iadd S dX0_refresh_172 (fun bv57 be58 => ?_)
          refine zr_iload S hl 0 rfl dX0_refresh_173 ?_
          refine zr_isub S dX0_refresh_175 (fun bv59 be60 => ?_)
          refine zr_i2b S dX0_refresh_176 (fun bv61 be62 => ?_)
          have br63 : -128 ≤ bv61 ∧ bv61 ≤ 127 := by rw [be62]; exact zB_r _
          refine zt_bast S hw 7 180 8 7 (i := bv55) (z := bv61) (by omega) (by omega) (by omega) (by omega) (show (-128) ≤ (bv61 : Int) ∧ (bv61 : Int) ≤ 127 by omega) rfl rfl (zt_s7 g bσ51 _ _) dX0_refresh_177 (fun bσ64 H locs bs65 hw => ?_)
          obtain ⟨bv66, be67⟩ : ∃ v : Int, v = k + 1 := ⟨_, rfl⟩
          refine zr_iinc S bv66 be67 [(4, .int (zI bv66)), (9, .int (zI o)), (8, .int (zI bv8)), (7, .int (zI bv3)), (0, .ref (g.2.2 19)), (1, .int (zI x)), (2, .int (zI lc)), (3, .int (zI rc)), (5, .int (zI o)), (6, .int (zI cl))] hl 7 rfl (by decide) rfl dX0_refresh_178 (fun ls hl => ?_)
          refine zr_goto S 37 (by decide) dX0_refresh_181 ?_
          have hk2 : bv66 = 3 - (n : Int) := by omega
          have hq2 : zRn n bσ64 x lc rc = zRef σ x := by
            subst be67; subst bs65; subst be62; subst be60; subst be58; subst be56; subst be54; subst bs52; subst be49; subst be47; subst be45; subst be43; subst be41; subst be9; subst be4
            rw [← hq, zRn, ← hk3, zRk, ← eo, ← ec, zMet, if_pos (by omega)]
          exact ih bv66 lc rc bσ64 H locs ls hk2 (by omega) hlc hrc hw (lv_sub hl [4, 5, 6, 7, 0] rfl) hq2
      refine zr_iload S hl 4 rfl dX0_refresh_37 ?_
      refine zr_iconst S dX0_refresh_39 ?_
      refine zr_icmp_ge S 184 (by decide) (by omega) (by omega) dX0_refresh_40 (fun ch1 => by omega) (fun ch1 => ?_)
      refine zr_aload S hl 0 rfl dX0_refresh_43 ?_
      refine zr_iload_n S hl 2 rfl dX0_refresh_44 ?_
      refine zr_iload S hl 4 rfl dX0_refresh_45 ?_
      refine zt_calli S hw (met_opensOf l g σ1 lc k (by omega) (by omega)) kq_opensOf rfl rfl ⟨by decide, by decide⟩ rfl rfl hl.1 (Nat.le_of_ble_eq_true rfl) ⟨Nat.zero_le _, Nat.zero_le _⟩ dX0_refresh_47 (fun cv4 cσ2 H locs cp3 hw => ?_)
      obtain ⟨hs_, ce5⟩ := cp3
      rw [hs_] at hw
      have cr6 : -128 ≤ cv4 ∧ cv4 ≤ 127 := by rw [ce5]; exact zOp_r hw.2.2.2.2.1 _ _
      refine zr_istore S [(5, .int (zI cv4)), (0, .ref (g.2.2 19)), (1, .int (zI x)), (2, .int (zI lc)), (3, .int (zI rc)), (4, .int (zI k))] hl (by decide) rfl dX0_refresh_50 (fun ls hl => ?_)
      refine zr_aload S hl 1 rfl dX0_refresh_52 ?_
      refine zr_iload_n S hl 3 rfl dX0_refresh_53 ?_
      refine zr_iload S hl 5 rfl dX0_refresh_54 ?_
      refine zt_calli S hw (met_closesOf l g σ1 lc k (by omega) (by omega)) kq_closesOf rfl rfl ⟨by decide, by decide⟩ rfl rfl hl.1 (Nat.le_of_ble_eq_true rfl) ⟨Nat.zero_le _, Nat.zero_le _⟩ dX0_refresh_56 (fun cv9 cσ7 H locs cp8 hw => ?_)
      obtain ⟨hs_, ce10⟩ := cp8
      rw [hs_] at hw
      have cr11 : -128 ≤ cv9 ∧ cv9 ≤ 127 := by rw [ce10]; exact zCl_r hw.2.2.2.2.1 _ _
      refine zr_istore S [(6, .int (zI cv9)), (5, .int (zI cv4)), (0, .ref (g.2.2 19)), (1, .int (zI x)), (2, .int (zI lc)), (3, .int (zI rc)), (4, .int (zI k))] hl (by decide) rfl dX0_refresh_59 (fun ls hl => ?_)
      refine zr_aload S hl 2 rfl dX0_refresh_61 ?_
      refine zt_get S hw 0 (.ref (g.2.2 0)) (by decide) rfl dX0_refresh_62 ?_
      refine zr_iload_n S hl 3 rfl dX0_refresh_65 ?_
      refine zt_bald S hw 0 60 1 0 (i := x) (by omega) (by omega) (by omega) rfl rfl dX0_refresh_66 (fun cv12 ce13 cr14 => ?_)
      have cr14 : 0 ≤ cv12 ∧ cv12 ≤ 6 := cr14
      refine zr_iload S hl 6 rfl dX0_refresh_67 ?_
      refine zr_iconst S dX0_refresh_69 ?_
      refine zr_iadd S dX0_refresh_70 (fun cv15 ce16 => ?_)
      refine zr_icmp_ne S 77 (by decide) (by omega) (by omega) dX0_refresh_71 (fun ch17 => ?_) (fun ch17 => ?_)
      · refine zr_aload S hl 2 rfl dX0_refresh_77 ?_
        refine zt_get S hw 0 (.ref (g.2.2 0)) (by decide) rfl dX0_refresh_78 ?_
        refine zr_iload_n S hl 3 rfl dX0_refresh_81 ?_
        refine zt_bald S hw 0 60 1 0 (i := x) (by omega) (by omega) (by omega) rfl rfl dX0_refresh_82 (fun cv18 ce19 cr20 => ?_)
        have cr20 : 0 ≤ cv18 ∧ cv18 ≤ 6 := cr20
        refine zr_iload S hl 6 rfl dX0_refresh_83 ?_
        refine zr_iconst S dX0_refresh_85 ?_
        refine zr_iadd S dX0_refresh_86 (fun cv21 ce22 => ?_)
        refine zr_icmp_ne S 104 (by decide) (by omega) (by omega) dX0_refresh_87 (fun ch23 => ?_) (fun ch23 => ?_)
        · have eo : cv4 = zRo σ1 x lc k := by rw [zRo, if_neg (by omega), if_neg (by omega)]; omega
          have ec : cv9 = zRc σ1 x lc k := by rw [zRc, if_neg (by omega)]; omega
          exact c104 cv4 cv9 H locs ls hw (by omega) (by omega) eo ec (lv_sub hl [2, 3, 4, 5, 6, 1, 0] rfl)
        · refine zr_iload S hl 1 rfl dX0_refresh_90 ?_
          refine zr_if_le S 101 (by decide) (by omega) dX0_refresh_92 (fun ch24 => ?_) (fun ch24 => ?_)
          · obtain ⟨cv25, ce26⟩ : ∃ v : Int, v = cv9 + 1 := ⟨_, rfl⟩
            refine zr_iinc S cv25 ce26 [(6, .int (zI cv25)), (5, .int (zI cv4)), (0, .ref (g.2.2 19)), (1, .int (zI x)), (2, .int (zI lc)), (3, .int (zI rc)), (4, .int (zI k))] hl 0 rfl (by decide) rfl dX0_refresh_101 (fun ls hl => ?_)
            have eo : cv4 = zRo σ1 x lc k := by rw [zRo, if_pos (by omega), if_neg (by omega)]; omega
            have ec : cv25 = zRc σ1 x lc k := by rw [zRc, if_pos (by omega), if_neg (by omega)]; omega
            exact c104 cv4 cv25 H locs ls hw (by omega) (by omega) eo ec (lv_sub hl [2, 3, 4, 5, 6, 1, 0] rfl)
          · obtain ⟨cv27, ce28⟩ : ∃ v : Int, v = cv4 + (-1) := ⟨_, rfl⟩
            refine zr_iinc S cv27 ce28 [(5, .int (zI cv27)), (6, .int (zI cv9)), (0, .ref (g.2.2 19)), (1, .int (zI x)), (2, .int (zI lc)), (3, .int (zI rc)), (4, .int (zI k))] hl 1 rfl (by decide) rfl dX0_refresh_95 (fun ls hl => ?_)
            refine zr_goto S 104 (by decide) dX0_refresh_98 ?_
            have eo : cv27 = zRo σ1 x lc k := by rw [zRo, if_pos (by omega), if_pos (by omega)]; omega
            have ec : cv9 = zRc σ1 x lc k := by rw [zRc, if_pos (by omega), if_pos (by omega)]; omega
            exact c104 cv27 cv9 H locs ls hw (by omega) (by omega) eo ec (lv_sub hl [2, 3, 4, 5, 6, 0, 1] rfl)
      · obtain ⟨cv29, ce30⟩ : ∃ v : Int, v = cv4 + 1 := ⟨_, rfl⟩
        refine zr_iinc S cv29 ce30 [(5, .int (zI cv29)), (6, .int (zI cv9)), (0, .ref (g.2.2 19)), (1, .int (zI x)), (2, .int (zI lc)), (3, .int (zI rc)), (4, .int (zI k))] hl 1 rfl (by decide) rfl dX0_refresh_74 (fun ls hl => ?_)
        refine zr_aload S hl 2 rfl dX0_refresh_77 ?_
        refine zt_get S hw 0 (.ref (g.2.2 0)) (by decide) rfl dX0_refresh_78 ?_
        refine zr_iload_n S hl 3 rfl dX0_refresh_81 ?_
        refine zt_bald S hw 0 60 1 0 (i := x) (by omega) (by omega) (by omega) rfl rfl dX0_refresh_82 (fun cv31 ce32 cr33 => ?_)
        have cr33 : 0 ≤ cv31 ∧ cv31 ≤ 6 := cr33
        refine zr_iload S hl 6 rfl dX0_refresh_83 ?_
        refine zr_iconst S dX0_refresh_85 ?_
        refine zr_iadd S dX0_refresh_86 (fun cv34 ce35 => ?_)
        refine zr_icmp_ne S 104 (by decide) (by omega) (by omega) dX0_refresh_87 (fun ch36 => ?_) (fun ch36 => by omega)
        have eo : cv29 = zRo σ1 x lc k := by rw [zRo, if_neg (by omega), if_pos (by omega)]; omega
        have ec : cv9 = zRc σ1 x lc k := by rw [zRc, if_neg (by omega)]; omega
        exact c104 cv29 cv9 H locs ls hw (by omega) (by omega) eo ec (lv_sub hl [2, 3, 4, 5, 6, 0, 1] rfl)
  refine zr_aload S hl 0 rfl dX0_refresh_0 ?_
  refine zt_get S hw 1 (.ref (g.2.2 1)) (by decide) rfl dX0_refresh_1 ?_
  refine zr_iload_n S hl 1 rfl dX0_refresh_4 ?_
  refine zt_bald S hw 1 60 2 1 (i := x) (by omega) (by omega) (by omega) rfl rfl dX0_refresh_5 (fun v1 e2 r3 => ?_)
  have r3 : (-1) ≤ v1 ∧ v1 ≤ 59 := r3
  refine zr_istore_n S [(2, .int (zI v1)), (0, .ref (g.2.2 19)), (1, .int (zI x))] hl (by decide) rfl dX0_refresh_6 (fun ls hl => ?_)
  refine zr_aload S hl 1 rfl dX0_refresh_7 ?_
  refine zt_get S hw 2 (.ref (g.2.2 2)) (by decide) rfl dX0_refresh_8 ?_
  refine zr_iload_n S hl 2 rfl dX0_refresh_11 ?_
  refine zt_bald S hw 2 60 3 2 (i := x) (by omega) (by omega) (by omega) rfl rfl dX0_refresh_12 (fun v4 e5 r6 => ?_)
  have r6 : (-1) ≤ v4 ∧ v4 ≤ 59 := r6
  refine zr_istore_n S [(3, .int (zI v4)), (2, .int (zI v1)), (0, .ref (g.2.2 19)), (1, .int (zI x))] hl (by decide) rfl dX0_refresh_13 (fun ls hl => ?_)
  refine zr_aload S hl 2 rfl dX0_refresh_14 ?_
  refine zt_get S hw 3 (.ref (g.2.2 3)) (by decide) rfl dX0_refresh_15 ?_
  refine zr_iload_n S hl 3 rfl dX0_refresh_18 ?_
  refine zr_aload S hl 2 rfl dX0_refresh_19 ?_
  refine zr_iload_n S hl 1 rfl dX0_refresh_20 ?_
  refine zt_calli S hw (met_sizeOf l g σ v1 (by omega)) kq_sizeOf rfl rfl ⟨by decide, by decide⟩ rfl rfl hl.1 (Nat.le_of_ble_eq_true rfl) ⟨Nat.zero_le _, Nat.zero_le _⟩ dX0_refresh_21 (fun v9 σ7 H locs p8 hw => ?_)
  obtain ⟨hs_, e10⟩ := p8
  rw [hs_] at hw
  have r11 : -128 ≤ v9 ∧ v9 ≤ 127 := by rw [e10]; exact zSz_r hw.2.2.2.2.1 _
  refine zr_iconst S dX0_refresh_24 ?_
  refine zr_iadd S dX0_refresh_25 (fun v12 e13 => ?_)
  refine zr_aload S hl 2 rfl dX0_refresh_26 ?_
  refine zr_iload_n S hl 0 rfl dX0_refresh_27 ?_
  refine zt_calli S hw (met_sizeOf l g σ v4 (by omega)) kq_sizeOf rfl rfl ⟨by decide, by decide⟩ rfl rfl hl.1 (Nat.le_of_ble_eq_true rfl) ⟨Nat.zero_le _, Nat.zero_le _⟩ dX0_refresh_28 (fun v16 σ14 H locs p15 hw => ?_)
  obtain ⟨hs_, e17⟩ := p15
  rw [hs_] at hw
  have r18 : -128 ≤ v16 ∧ v16 ≤ 127 := by rw [e17]; exact zSz_r hw.2.2.2.2.1 _
  refine zr_iadd S dX0_refresh_31 (fun v19 e20 => ?_)
  refine zr_i2b S dX0_refresh_32 (fun v21 e22 => ?_)
  have r23 : -128 ≤ v21 ∧ v21 ≤ 127 := by rw [e22]; exact zB_r _
  refine zt_bast S hw 3 60 4 3 (i := x) (z := v21) (by omega) (by omega) (by omega) (by omega) (show (-128) ≤ (v21 : Int) ∧ (v21 : Int) ≤ 127 by omega) rfl rfl (zt_s3 g σ _ _) dX0_refresh_33 (fun σ24 H locs s25 hw => ?_)
  refine zr_iconst S dX0_refresh_34 ?_
  refine zr_istore S [(4, .int (zI 0)), (3, .int (zI v4)), (2, .int (zI v1)), (0, .ref (g.2.2 19)), (1, .int (zI x))] hl (by decide) rfl dX0_refresh_35 (fun ls hl => ?_)
  have hq2 : zRn 3 σ24 x v1 v4 = zRef σ x := by
    subst s25; subst e22; subst e20; subst e17; subst e13; subst e10; subst e5; subst e2; rfl
  exact loop 3 0 v1 v4 σ24 H locs ls (by decide) (by decide) (by omega) (by omega) hw (lv_sub hl [3, 4, 2, 1, 0] rfl) hq2
def zNew (σ : zS) (c sd rk : Int) : zS :=
  zRef (zs_st (zs_st (zs_st (zs_st (zs_st (zs_st (zs_st σ 11 0 (σ 11 0 - 1)) 9 0 sd) 5 (σ 10 (σ 11 0 - 1).toNat).toNat rk) 0 (σ 10 (σ 11 0 - 1).toNat).toNat c) 1 (σ 10 (σ 11 0 - 1).toNat).toNat (-1)) 2 (σ 10 (σ 11 0 - 1).toNat).toNat (-1)) 4 (σ 10 (σ 11 0 - 1).toNat).toNat 0) (σ 10 (σ 11 0 - 1).toNat)
set_option maxHeartbeats 4000000 in
theorem met_newNode (l : Launch) (g : zG) (σ : zS) (k : Int) (hk : 0 ≤ k ∧ k ≤ 6) (hs : 1 ≤ σ 11 0) : zt_Mi l yX0_newNode cX0_newNode 3 (some .int) ({ frames := 2, cells := 0, slots := 0, locals := 51 }) g σ [k] (fun r σ' => ∃ sd rk, σ' = zNew σ k sd rk ∧ r = σ 10 (σ 11 0 - 1).toNat) := by
  refine zt_ofi (by decide +kernel) rfl (Nat.le_of_ble_eq_true rfl) ?_
  intro p e s m args below meth c ls ⟨S, hr, hlk, hw⟩ hl
  have hl : lv_has ls 3 [(0, .ref (g.2.2 19)), (1, .int (zI k))] := hl
  have hs0 : 0 ≤ σ 11 0 ∧ σ 11 0 ≤ 60 := hw.2.2.2.2.1 11 0
  refine zr_aload S hl 0 rfl dX0_newNode_0 ?_
  refine zr_dup S rfl dX0_newNode_1 ?_
  refine zt_geti S hw 11 (by decide) rfl dX0_newNode_2 (fun v1 e2 r3 => ?_)
  have r3 : 0 ≤ v1 ∧ v1 ≤ 60 := r3
  refine zr_iconst S dX0_newNode_5 ?_
  refine zr_isub S dX0_newNode_6 (fun v4 e5 => ?_)
  refine zt_put S hw 11 (by decide) (zt_s11 g σ v4) rfl (by decide +kernel) (Nat.le_of_ble_eq_true rfl) (show 0 ≤ (v4 : Int) ∧ (v4 : Int) ≤ 60 by omega) dX0_newNode_7 (fun σ6 H locs s7 hw => ?_)
  refine zr_aload S hl 0 rfl dX0_newNode_10 ?_
  refine zt_get S hw 10 (.ref (g.2.2 10)) (by decide) rfl dX0_newNode_11 ?_
  refine zr_aload S hl 0 rfl dX0_newNode_14 ?_
  refine zt_geti S hw 11 (by decide) rfl dX0_newNode_15 (fun v8 e9 r10 => ?_)
  have r10 : 0 ≤ v8 ∧ v8 ≤ 60 := r10
  have f11 : v8 = v4 := by rw [e9, s7, zs_eq]
  refine zt_bald S hw 10 60 9 8 (i := v8) (by omega) (by omega) (by omega) rfl rfl dX0_newNode_18 (fun v12 e13 r14 => ?_)
  have r14 : 0 ≤ v12 ∧ v12 ≤ 59 := r14
  have f15 : v12 = σ 10 v8.toNat := by rw [e13, s7, zs_ne (by decide)]
  refine zr_istore_n S [(2, .int (zI v12)), (0, .ref (g.2.2 19)), (1, .int (zI k))] hl (by decide) rfl dX0_newNode_19 (fun ls hl => ?_)
  refine zr_aload S hl 1 rfl dX0_newNode_20 ?_
  refine zr_aload S hl 1 rfl dX0_newNode_21 ?_
  refine zt_geti S hw 9 (by decide) rfl dX0_newNode_22 (fun v16 e17 r18 => ?_)
  have r18 : (-2147483648) ≤ v16 ∧ v16 ≤ 2147483647 := r18
  have f19 : v16 = σ 9 0 := by rw [e17, s7, zs_ne (by decide)]
  refine zr_ldc S 1103515245 q114 (by decide +kernel) dX0_newNode_25 ?_
  refine zr_imul S dX0_newNode_27 (fun v20 e21 => ?_)
  refine zr_sipush S (by decide +kernel) dX0_newNode_28 ?_
  refine zr_iadd S dX0_newNode_31 (fun v22 e23 => ?_)
  refine zr_any (fun v24 e25 r26 => ?_)
  refine zt_put S hw 9 (by decide) (zt_s9 g σ6 v24) rfl (by decide +kernel) (Nat.le_of_ble_eq_true rfl) (show (-2147483648) ≤ (v24 : Int) ∧ (v24 : Int) ≤ 2147483647 by omega) dX0_newNode_32 (fun σ27 H locs s28 hw => ?_)
  refine zr_aload S hl 1 rfl dX0_newNode_35 ?_
  refine zt_get S hw 5 (.ref (g.2.2 5)) (by decide) rfl dX0_newNode_36 ?_
  refine zr_iload_n S hl 0 rfl dX0_newNode_39 ?_
  refine zr_aload S hl 1 rfl dX0_newNode_40 ?_
  refine zt_geti S hw 9 (by decide) rfl dX0_newNode_41 (fun v29 e30 r31 => ?_)
  have r31 : (-2147483648) ≤ v29 ∧ v29 ≤ 2147483647 := r31
  have f32 : v29 = v24 := by rw [e30, s28, zs_eq]
  refine zr_bipush S (by decide +kernel) dX0_newNode_44 ?_
  refine lv_iushr S.1 S.2.1 dX0_newNode_46 rfl ?_
  refine zr_any (fun v33 e34 r35 => ?_)
  refine zt_iast S hw 5 60 6 5 (i := v12) (z := v33) (by omega) (by omega) (by omega) (show (-2147483648) ≤ (v33 : Int) ∧ (v33 : Int) ≤ 2147483647 by omega) rfl rfl (zt_s5 g σ27 _ _) dX0_newNode_47 (fun σ36 H locs s37 hw => ?_)
  refine zr_aload S hl 1 rfl dX0_newNode_48 ?_
  refine zt_get S hw 0 (.ref (g.2.2 0)) (by decide) rfl dX0_newNode_49 ?_
  refine zr_iload_n S hl 0 rfl dX0_newNode_52 ?_
  refine zr_iload_n S hl 2 rfl dX0_newNode_53 ?_
  refine zr_i2b S dX0_newNode_54 (fun v38 e39 => ?_)
  have e39 : v38 = k := e39.trans (zB_id (by omega) (by omega))
  refine zt_bast S hw 0 60 1 0 (i := v12) (z := v38) (by omega) (by omega) (by omega) (by omega) (show 0 ≤ (v38 : Int) ∧ (v38 : Int) ≤ 6 by omega) rfl rfl (zt_s0 g σ36 _ _) dX0_newNode_55 (fun σ40 H locs s41 hw => ?_)
  refine zr_aload S hl 1 rfl dX0_newNode_56 ?_
  refine zt_get S hw 1 (.ref (g.2.2 1)) (by decide) rfl dX0_newNode_57 ?_
  refine zr_iload_n S hl 0 rfl dX0_newNode_60 ?_
  refine zr_iconst S dX0_newNode_61 ?_
  refine zt_bast S hw 1 60 2 1 (i := v12) (z := (-1)) (by omega) (by omega) (by omega) (by omega) (show (-1) ≤ ((-1) : Int) ∧ ((-1) : Int) ≤ 59 by omega) rfl rfl (zt_s1 g σ40 _ _) dX0_newNode_62 (fun σ42 H locs s43 hw => ?_)
  refine zr_aload S hl 1 rfl dX0_newNode_63 ?_
  refine zt_get S hw 2 (.ref (g.2.2 2)) (by decide) rfl dX0_newNode_64 ?_
  refine zr_iload_n S hl 0 rfl dX0_newNode_67 ?_
  refine zr_iconst S dX0_newNode_68 ?_
  refine zt_bast S hw 2 60 3 2 (i := v12) (z := (-1)) (by omega) (by omega) (by omega) (by omega) (show (-1) ≤ ((-1) : Int) ∧ ((-1) : Int) ≤ 59 by omega) rfl rfl (zt_s2 g σ42 _ _) dX0_newNode_69 (fun σ44 H locs s45 hw => ?_)
  refine zr_aload S hl 1 rfl dX0_newNode_70 ?_
  refine zt_get S hw 4 (.ref (g.2.2 4)) (by decide) rfl dX0_newNode_71 ?_
  refine zr_iload_n S hl 0 rfl dX0_newNode_74 ?_
  refine zr_iconst S dX0_newNode_75 ?_
  refine zt_zast S hw 4 60 5 4 (i := v12) (z := 0) (by omega) (by omega) (by omega) (by omega) (show 0 ≤ (0 : Int) ∧ (0 : Int) ≤ 1 by omega) rfl rfl (zt_s4 g σ44 _ _) dX0_newNode_76 (fun σ46 H locs s47 hw => ?_)
  refine zr_aload S hl 1 rfl dX0_newNode_77 ?_
  refine zr_iload_n S hl 0 rfl dX0_newNode_78 ?_
  refine zt_callv S hw (met_refresh l g σ46 v12 (by omega)) kq_refresh rfl rfl ⟨by decide, by decide⟩ rfl rfl hl.1 (Nat.le_of_ble_eq_true rfl) ⟨Nat.zero_le _, Nat.zero_le _⟩ dX0_newNode_79 (fun σ48 H locs p49 hw => ?_)
  refine zr_iload_n S hl 0 rfl dX0_newNode_82 ?_
  have hx : v12 = σ 10 (σ 11 0 - 1).toNat := by rw [f15, f11, show v4 = σ 11 0 - 1 by omega]
  have hv : v4 = σ 11 0 - 1 := by omega
  exact zt_iret S hr hlk hw (⟨v24, v33, by rw [p49, s47, s45, s43, s41, s37, s28, s7, e39, hv, zNew, ← hx], hx⟩) dX0_newNode_83
set_option maxHeartbeats 4000000 in
theorem met_refreshPath (l : Launch) (g : zG) (σ : zS) : zt_Mv l yX0_refreshPath cX0_refreshPath 2 ({ frames := 2, cells := 0, slots := 0, locals := 51 }) g σ [] (fun σ' => σ' = zRefP σ) := by
  refine zt_ofv (by decide +kernel) rfl (Nat.le_of_ble_eq_true rfl) ?_
  intro p e s m args below meth c ls ⟨S, hr, hlk, hw⟩ hl
  have hl : lv_has ls 2 [(0, .ref (g.2.2 19))] := hl
  have loop : ∀ (n : Nat) (i : Int) (σ1 : zS) (H : Heap) (locs : List Loc) (ls : Array Slot), i = (n : Int) - 1 → n ≤ 64 → zt_W g (zt_A g s.heap.size) s H locs σ1 → lv_has ls 2 [(0, .ref (g.2.2 19)), (1, .int (zI i))] → zs_st (zRp n σ1) 13 0 0 = zRefP σ → W p l e ({ frames := 2, cells := 0, slots := 0, locals := 51 }) s m args below meth c H locs 0 0 (zt_Ev g (fun σ' => σ' = zRefP σ) below args s) (F0 m 7 ls []) := by
    intro n
    induction n with
    | zero =>
      intro i σ1 H locs ls hi hn hw hl hq
      refine zr_iload_n S hl 1 rfl dX0_refreshPath_7 ?_
      refine zr_if_lt S 27 (by decide) (by omega) dX0_refreshPath_8 (fun ah1 => ?_) (fun ah1 => by omega)
      refine zr_aload S hl 0 rfl dX0_refreshPath_27 ?_
      refine zr_iconst S dX0_refreshPath_28 ?_
      refine zt_put S hw 13 (by decide) (zt_s13 g σ1 0) rfl (by decide +kernel) (Nat.le_of_ble_eq_true rfl) (show 0 ≤ (0 : Int) ∧ (0 : Int) ≤ 64 by omega) dX0_refreshPath_29 (fun aσ2 H locs as3 hw => ?_)
      exact zt_vret S hr hlk hw (by rw [← hq, as3]; rfl) dX0_refreshPath_32
    | succ n ih =>
      intro i σ1 H locs ls hi hn hw hl hq
      refine zr_iload_n S hl 1 rfl dX0_refreshPath_7 ?_
      refine zr_if_lt S 27 (by decide) (by omega) dX0_refreshPath_8 (fun bh1 => by omega) (fun bh1 => ?_)
      refine zr_aload S hl 0 rfl dX0_refreshPath_11 ?_
      refine zr_aload S hl 0 rfl dX0_refreshPath_12 ?_
      refine zt_get S hw 12 (.ref (g.2.2 12)) (by decide) rfl dX0_refreshPath_13 ?_
      refine zr_iload_n S hl 1 rfl dX0_refreshPath_16 ?_
      refine zt_bald S hw 12 64 10 9 (i := i) (by omega) (by omega) (by omega) rfl rfl dX0_refreshPath_17 (fun bv2 be3 br4 => ?_)
      have br4 : 0 ≤ bv2 ∧ bv2 ≤ 59 := br4
      refine zt_callv S hw (met_refresh l g σ1 bv2 (by omega)) kq_refresh rfl rfl ⟨by decide, by decide⟩ rfl rfl hl.1 (Nat.le_of_ble_eq_true rfl) ⟨Nat.zero_le _, Nat.zero_le _⟩ dX0_refreshPath_18 (fun bσ5 H locs bp6 hw => ?_)
      obtain ⟨bv7, be8⟩ : ∃ v : Int, v = i + (-1) := ⟨_, rfl⟩
      refine zr_iinc S bv7 be8 [(1, .int (zI bv7)), (0, .ref (g.2.2 19))] hl 1 rfl (by decide) rfl dX0_refreshPath_21 (fun ls hl => ?_)
      refine zr_goto S 7 (by decide) dX0_refreshPath_24 ?_
      have hi2 : bv7 = (n : Int) - 1 := by omega
      have hin : i.toNat = n := by omega
      have hq2 : zs_st (zRp n bσ5) 13 0 0 = zRefP σ := by
        subst be8; subst bp6; subst be3
        rw [← hq, hin]; rfl
      exact ih bv7 bσ5 H locs ls hi2 (by omega) hw (lv_sub hl [1, 0] rfl) hq2
  refine zr_aload S hl 0 rfl dX0_refreshPath_0 ?_
  refine zt_geti S hw 13 (by decide) rfl dX0_refreshPath_1 (fun v1 e2 r3 => ?_)
  have r3 : 0 ≤ v1 ∧ v1 ≤ 64 := r3
  refine zr_iconst S dX0_refreshPath_4 ?_
  refine zr_isub S dX0_refreshPath_5 (fun v4 e5 => ?_)
  refine zr_istore_n S [(1, .int (zI v4)), (0, .ref (g.2.2 19))] hl (by decide) rfl dX0_refreshPath_6 (fun ls hl => ?_)
  have hi2 : v4 = ((σ 13 0).toNat : Int) - 1 := by omega
  exact loop (σ 13 0).toNat v4 σ s.heap [] ls hi2 (by omega) hw (lv_sub hl [1, 0] rfl) rfl
end
section
/-! cut, join, takeApart, putTogether -/
theorem zTn_o (x : Int) (i : Nat) {k : Nat} (h6 : k ≠ 6) (h7 : k ≠ 7) : ∀ (n : Nat) (σ : zS), zTn n σ x k i = σ k i
  | 0, σ => rfl
  | n + 1, σ => by rw [zTn, zTn_o x i h6 h7 n, zTk, zs_ne h7, zs_ne h6]
theorem zTc_o (σ : zS) (x : Int) (i : Nat) {k : Nat} (h0 : k ≠ 0) : zTc σ x k i = σ k i := by
  unfold zTc
  split
  · rw [zs_ne h0]
  · split
    · rw [zs_ne h0]
    · rfl
theorem zTurn_o (σ : zS) (x : Int) (i : Nat) {k : Nat} (h : k = 3 ∨ k = 5 ∨ 8 ≤ k) : zTurn σ x k i = σ k i := by
  rw [zTurn, zTn_o x i (by omega) (by omega), zTc_o _ _ _ (by omega), zTf, zs_ne (by omega), zTl, zs_ne (by omega), zs_ne (by omega)]
theorem zSe1_o (σ : zS) (x : Int) (i : Nat) {k : Nat} (h : k = 3 ∨ k = 5 ∨ 8 ≤ k) : zSe1 σ x k i = σ k i := by
  unfold zSe1
  split
  · rfl
  · exact zTurn_o _ _ _ h
theorem zSe2_o (σ : zS) (x : Int) (i : Nat) {k : Nat} (h : k = 3 ∨ k = 5 ∨ 8 ≤ k) : zSe2 σ x k i = σ k i := by
  unfold zSe2
  split
  · rfl
  · exact zTurn_o _ _ _ h
theorem zSettle_o (σ : zS) (x : Int) (i : Nat) {k : Nat} (h : k = 3 ∨ k = 5 ∨ 8 ≤ k) : zSettle σ x k i = σ k i := by
  unfold zSettle
  split
  · rfl
  · rw [zSe2_o _ _ _ h, zSe1_o _ _ _ h, zs_ne (by omega)]
theorem zPush_13 (σ : zS) (x : Int) : zPush σ x 13 0 = σ 13 0 + 1 := by rw [zPush, zs_eq]
def zCa (σ : zS) (x : Int) : zS := zPush (zSettle σ x) x
def zCw (σ : zS) (x : Int) : Int := zSz (zCa σ x) (zCa σ x 1 x.toNat)
def zCL (σ : zS) (x lt : Int) : zS := if lt < 0 then zs_st (zCa σ x) 14 0 x else zs_st (zCa σ x) 2 lt.toNat x
def zCR (σ : zS) (x rt : Int) : zS := if rt < 0 then zs_st (zCa σ x) 15 0 x else zs_st (zCa σ x) 1 rt.toNat x
def zCut : Nat → zS → Int → Int → Int → Int → zS × Int × Int
  | 0, σ, _, _, lt, rt => (σ, lt, rt)
  | n + 1, σ, x, q, lt, rt => if x < 0 then (σ, lt, rt) else if zCw σ x < q then zCut n (zCL σ x lt) (zCL σ x lt 2 x.toNat) (q - (zCw σ x + 1)) x rt else zCut n (zCR σ x rt) (zCR σ x rt 1 x.toNat) q lt x
def zCe1 (σ : zS) (lt : Int) : zS := if lt < 0 then σ else zs_st σ 2 lt.toNat (-1)
def zCe2 (σ : zS) (rt : Int) : zS := if rt < 0 then σ else zs_st σ 1 rt.toNat (-1)
def zCe (r : zS × Int × Int) : zS := zCe2 (zCe1 r.1 r.2.1) r.2.2
def zC0 (σ : zS) : zS := zs_st (zs_st (zs_st σ 14 0 (-1)) 15 0 (-1)) 13 0 0
def zCutF (σ : zS) (x k : Int) : zS := zRefP (zCe (zCut 60 (zC0 σ) x k (-1) (-1)))
def zJh (σ : zS) (tl o z : Int) : zS := if tl < 0 then σ else zHang σ tl o z
def zJa (σ : zS) (z tl o : Int) : zS := zPush (zJh (zSettle σ z) tl o z) z
def zJt (tl tp z : Int) : Int := if tl < 0 then z else tp
def zJoin : Nat → zS → Int → Int → Int → Int → Int → zS × Int × Int × Int × Int × Int
  | 0, σ, x, y, tp, tl, o => (σ, x, y, tp, tl, o)
  | n + 1, σ, x, y, tp, tl, o => if x < 0 ∨ y < 0 then (σ, x, y, tp, tl, o) else if σ 5 x.toNat < σ 5 y.toNat then zJoin n (zJa σ y tl o) x (zJa σ y tl o 1 y.toNat) (zJt tl tp y) y 0 else zJoin n (zJa σ x tl o) (zJa σ x tl o 2 x.toNat) y (zJt tl tp x) x 1
def zJr (x y : Int) : Int := if x < 0 then y else x
def zJe (r : zS × Int × Int × Int × Int × Int) : zS × Int := (zRefP (zJh r.1 r.2.2.2.2.1 r.2.2.2.2.2 (zJr r.2.1 r.2.2.1)), zJt r.2.2.2.2.1 r.2.2.2.1 (zJr r.2.1 r.2.2.1))
def zJ0 (σ : zS) (a b : Int) : zS × Int × Int × Int × Int × Int := zJoin 60 (zs_st σ 13 0 0) a b (-1) (-1) 0
def zJok (r : zS × Int × Int × Int × Int × Int) : Prop := r.2.1 < 0 ∨ r.2.2.1 < 0
def zJoinF (σ : zS) (a b : Int) : zS × Int := zJe (zJ0 σ a b)
set_option maxHeartbeats 4000000 in
theorem met_cut (l : Launch) (g : zG) (σ : zS) (t k : Int) (ht : -1 ≤ t ∧ t ≤ 59) (hk : 0 ≤ k ∧ k ≤ 60) : zt_Mv l yX0_cut cX0_cut 9 ({ frames := 3, cells := 0, slots := 0, locals := 72 }) g σ [t, k] (fun σ' => σ' = zCutF σ t k) := by
  refine zt_ofv (by decide +kernel) rfl (Nat.le_of_ble_eq_true rfl) ?_
  intro p e s m args below meth c ls ⟨S, hr, hlk, hw⟩ hl
  have hl : lv_has ls 9 [(0, .ref (g.2.2 19)), (1, .int (zI t)), (2, .int (zI k))] := hl
  have c151 : ∀ (lt rt : Int) (σ1 : zS) (H : Heap) (locs : List Loc) (ls : Array Slot), (-1 ≤ lt ∧ lt ≤ 59) → (-1 ≤ rt ∧ rt ≤ 59) → zt_W g (zt_A g s.heap.size) s H locs σ1 → lv_has ls 9 [(0, .ref (g.2.2 19)), (5, .int (zI lt)), (6, .int (zI rt))] → zRefP (zCe (σ1, lt, rt)) = zCutF σ t k → W p l e ({ frames := 3, cells := 0, slots := 0, locals := 72 }) s m args below meth c H locs 0 0 (zt_Ev g (fun σ' => σ' = zCutF σ t k) below args s) (F0 m 151 ls []) := by
    intro lt rt σ1 H locs ls hlt hrt hw hl hq
    refine zr_iload S hl 1 rfl dX0_cut_151 ?_
    refine zr_if_lt S 164 (by decide) (by omega) dX0_cut_153 (fun ah1 => ?_) (fun ah1 => ?_)
    · refine zr_iload S hl 2 rfl dX0_cut_164 ?_
      refine zr_if_lt S 177 (by decide) (by omega) dX0_cut_166 (fun ah2 => ?_) (fun ah2 => ?_)
      · refine zr_aload S hl 0 rfl dX0_cut_177 ?_
        refine zt_callv S hw (met_refreshPath l g σ1) kq_refreshPath rfl rfl ⟨by decide, by decide⟩ rfl rfl hl.1 (Nat.le_of_ble_eq_true rfl) ⟨Nat.zero_le _, Nat.zero_le _⟩ dX0_cut_178 (fun aσ3 H locs ap4 hw => ?_)
        exact zt_vret S hr hlk hw (by subst ap4; rw [← hq, zCe, zCe1, if_pos (by omega), zCe2, if_pos (by omega)]) dX0_cut_181
      · refine zr_aload S hl 0 rfl dX0_cut_169 ?_
        refine zt_get S hw 1 (.ref (g.2.2 1)) (by decide) rfl dX0_cut_170 ?_
        refine zr_iload S hl 2 rfl dX0_cut_173 ?_
        refine zr_iconst S dX0_cut_175 ?_
        refine zt_bast S hw 1 60 2 1 (i := rt) (z := (-1)) (by omega) (by omega) (by omega) (by omega) (show (-1) ≤ ((-1) : Int) ∧ ((-1) : Int) ≤ 59 by omega) rfl rfl (zt_s1 g σ1 _ _) dX0_cut_176 (fun aσ5 H locs as6 hw => ?_)
        refine zr_aload S hl 0 rfl dX0_cut_177 ?_
        refine zt_callv S hw (met_refreshPath l g aσ5) kq_refreshPath rfl rfl ⟨by decide, by decide⟩ rfl rfl hl.1 (Nat.le_of_ble_eq_true rfl) ⟨Nat.zero_le _, Nat.zero_le _⟩ dX0_cut_178 (fun aσ7 H locs ap8 hw => ?_)
        exact zt_vret S hr hlk hw (by subst ap8; subst as6; rw [← hq, zCe, zCe1, if_pos (by omega), zCe2, if_neg (by omega)]) dX0_cut_181
    · refine zr_aload S hl 0 rfl dX0_cut_156 ?_
      refine zt_get S hw 2 (.ref (g.2.2 2)) (by decide) rfl dX0_cut_157 ?_
      refine zr_iload S hl 1 rfl dX0_cut_160 ?_
      refine zr_iconst S dX0_cut_162 ?_
      refine zt_bast S hw 2 60 3 2 (i := lt) (z := (-1)) (by omega) (by omega) (by omega) (by omega) (show (-1) ≤ ((-1) : Int) ∧ ((-1) : Int) ≤ 59 by omega) rfl rfl (zt_s2 g σ1 _ _) dX0_cut_163 (fun aσ9 H locs as10 hw => ?_)
      refine zr_iload S hl 2 rfl dX0_cut_164 ?_
      refine zr_if_lt S 177 (by decide) (by omega) dX0_cut_166 (fun ah11 => ?_) (fun ah11 => ?_)
      · refine zr_aload S hl 0 rfl dX0_cut_177 ?_
        refine zt_callv S hw (met_refreshPath l g aσ9) kq_refreshPath rfl rfl ⟨by decide, by decide⟩ rfl rfl hl.1 (Nat.le_of_ble_eq_true rfl) ⟨Nat.zero_le _, Nat.zero_le _⟩ dX0_cut_178 (fun aσ12 H locs ap13 hw => ?_)
        exact zt_vret S hr hlk hw (by subst ap13; subst as10; rw [← hq, zCe, zCe1, if_neg (by omega), zCe2, if_pos (by omega)]) dX0_cut_181
      · refine zr_aload S hl 0 rfl dX0_cut_169 ?_
        refine zt_get S hw 1 (.ref (g.2.2 1)) (by decide) rfl dX0_cut_170 ?_
        refine zr_iload S hl 2 rfl dX0_cut_173 ?_
        refine zr_iconst S dX0_cut_175 ?_
        refine zt_bast S hw 1 60 2 1 (i := rt) (z := (-1)) (by omega) (by omega) (by omega) (by omega) (show (-1) ≤ ((-1) : Int) ∧ ((-1) : Int) ≤ 59 by omega) rfl rfl (zt_s1 g aσ9 _ _) dX0_cut_176 (fun aσ14 H locs as15 hw => ?_)
        refine zr_aload S hl 0 rfl dX0_cut_177 ?_
        refine zt_callv S hw (met_refreshPath l g aσ14) kq_refreshPath rfl rfl ⟨by decide, by decide⟩ rfl rfl hl.1 (Nat.le_of_ble_eq_true rfl) ⟨Nat.zero_le _, Nat.zero_le _⟩ dX0_cut_178 (fun aσ16 H locs ap17 hw => ?_)
        exact zt_vret S hr hlk hw (by subst ap17; subst as15; subst as10; rw [← hq, zCe, zCe1, if_neg (by omega), zCe2, if_neg (by omega)]) dX0_cut_181
  have loop : ∀ (n : Nat) (x q lt rt sp : Int) (σ1 : zS) (H : Heap) (locs : List Loc) (ls : Array Slot), n ≤ 60 → sp = 60 - n → (-1 ≤ x ∧ x ≤ 59) → (0 ≤ q ∧ q ≤ 60 + 200 * sp) → (-1 ≤ lt ∧ lt ≤ 59) → (-1 ≤ rt ∧ rt ≤ 59) → σ1 13 0 = sp → zt_W g (zt_A g s.heap.size) s H locs σ1 → lv_has ls 9 [(0, .ref (g.2.2 19)), (3, .int (zI x)), (4, .int (zI q)), (5, .int (zI lt)), (6, .int (zI rt)), (7, .int (zI sp))] → zRefP (zCe (zCut n σ1 x q lt rt)) = zCutF σ t k → W p l e ({ frames := 3, cells := 0, slots := 0, locals := 72 }) s m args below meth c H locs 0 0 (zt_Ev g (fun σ' => σ' = zCutF σ t k) below args s) (F0 m 29 ls []) := by
    intro n
    induction n with
    | zero =>
      intro x q lt rt sp σ1 H locs ls hn hsp hx hq0 hlt hrt hp hw hl hq
      refine zr_iload S hl 5 rfl dX0_cut_29 ?_
      refine zr_bipush S (by decide +kernel) dX0_cut_31 ?_
      refine zr_icmp_ge S 151 (by decide) (by omega) (by omega) dX0_cut_33 (fun bh1 => ?_) (fun bh1 => by omega)
      exact c151 lt rt σ1 H locs ls hlt hrt hw (lv_sub hl [0, 3, 4] rfl) hq
    | succ n ih =>
      intro x q lt rt sp σ1 H locs ls hn hsp hx hq0 hlt hrt hp hw hl hq
      refine zr_iload S hl 5 rfl dX0_cut_29 ?_
      refine zr_bipush S (by decide +kernel) dX0_cut_31 ?_
      refine zr_icmp_ge S 151 (by decide) (by omega) (by omega) dX0_cut_33 (fun ch1 => by omega) (fun ch1 => ?_)
      refine zr_iload_n S hl 1 rfl dX0_cut_36 ?_
      refine zr_if_lt S 151 (by decide) (by omega) dX0_cut_37 (fun ch2 => ?_) (fun ch2 => ?_)
      · exact c151 lt rt σ1 H locs ls hlt hrt hw (lv_sub hl [0, 3, 4] rfl) (by rw [← hq, zCut, if_pos (by omega)])
      · refine zr_aload S hl 0 rfl dX0_cut_40 ?_
        refine zr_iload_n S hl 1 rfl dX0_cut_41 ?_
        refine zt_callv S hw (met_settle l g σ1 x (by omega)) kq_settle rfl rfl ⟨by decide, by decide⟩ rfl rfl hl.1 (Nat.le_of_ble_eq_true rfl) ⟨Nat.zero_le _, Nat.zero_le _⟩ dX0_cut_42 (fun cσ3 H locs cp4 hw => ?_)
        have cf5 : cσ3 13 0 = σ1 13 0 := by rw [cp4]; exact zSettle_o _ _ _ (by decide)
        refine zr_aload S hl 0 rfl dX0_cut_45 ?_
        refine zr_iload_n S hl 1 rfl dX0_cut_46 ?_
        refine zt_callv S hw (met_pushPath l g cσ3 x (by omega) (by omega)) kq_pushPath rfl rfl ⟨by decide, by decide⟩ rfl rfl hl.1 (Nat.le_of_ble_eq_true rfl) ⟨Nat.zero_le _, Nat.zero_le _⟩ dX0_cut_47 (fun cσ6 H locs cp7 hw => ?_)
        have cf8 : cσ6 13 0 = cσ3 13 0 + 1 := by rw [cp7]; exact zPush_13 _ _
        refine zr_aload S hl 0 rfl dX0_cut_50 ?_
        refine zr_aload S hl 0 rfl dX0_cut_51 ?_
        refine zt_get S hw 1 (.ref (g.2.2 1)) (by decide) rfl dX0_cut_52 ?_
        refine zr_iload_n S hl 1 rfl dX0_cut_55 ?_
        refine zt_bald S hw 1 60 2 1 (i := x) (by omega) (by omega) (by omega) rfl rfl dX0_cut_56 (fun cv9 ce10 cr11 => ?_)
        have cr11 : (-1) ≤ cv9 ∧ cv9 ≤ 59 := cr11
        refine zt_calli S hw (met_sizeOf l g cσ6 cv9 (by omega)) kq_sizeOf rfl rfl ⟨by decide, by decide⟩ rfl rfl hl.1 (Nat.le_of_ble_eq_true rfl) ⟨Nat.zero_le _, Nat.zero_le _⟩ dX0_cut_57 (fun cv14 cσ12 H locs cp13 hw => ?_)
        obtain ⟨hs_, ce15⟩ := cp13
        rw [hs_] at hw
        have cr16 : -128 ≤ cv14 ∧ cv14 ≤ 127 := by rw [ce15]; exact zSz_r hw.2.2.2.2.1 _
        refine zr_istore S [(8, .int (zI cv14)), (0, .ref (g.2.2 19)), (3, .int (zI x)), (4, .int (zI q)), (5, .int (zI lt)), (6, .int (zI rt)), (7, .int (zI sp))] hl (by decide) rfl dX0_cut_60 (fun ls hl => ?_)
        refine zr_iload S hl 0 rfl dX0_cut_62 ?_
        refine zr_iload S hl 3 rfl dX0_cut_64 ?_
        refine zr_icmp_ge S 113 (by decide) (by omega) (by omega) dX0_cut_66 (fun ch17 => ?_) (fun ch17 => ?_)
        · refine zr_iload S hl 5 rfl dX0_cut_113 ?_
          refine zr_if_ge S 126 (by decide) (by omega) dX0_cut_115 (fun ch18 => ?_) (fun ch18 => ?_)
          · refine zr_aload S hl 1 rfl dX0_cut_126 ?_
            refine zt_get S hw 1 (.ref (g.2.2 1)) (by decide) rfl dX0_cut_127 ?_
            refine zr_iload S hl 5 rfl dX0_cut_130 ?_
            refine zr_iload_n S hl 2 rfl dX0_cut_132 ?_
            refine zr_i2b S dX0_cut_133 (fun cv19 ce20 => ?_)
            have ce20 : cv19 = x := ce20.trans (zB_id (by omega) (by omega))
            refine zt_bast S hw 1 60 2 1 (i := rt) (z := cv19) (by omega) (by omega) (by omega) (by omega) (show (-1) ≤ (cv19 : Int) ∧ (cv19 : Int) ≤ 59 by omega) rfl rfl (zt_s1 g cσ6 _ _) dX0_cut_134 (fun cσ21 H locs cs22 hw => ?_)
            refine zr_iload_n S hl 2 rfl dX0_cut_135 ?_
            refine zr_istore S [(6, .int (zI x)), (8, .int (zI cv14)), (0, .ref (g.2.2 19)), (3, .int (zI x)), (4, .int (zI q)), (5, .int (zI lt)), (7, .int (zI sp))] hl (by decide) rfl dX0_cut_136 (fun ls hl => ?_)
            refine zr_aload S hl 2 rfl dX0_cut_138 ?_
            refine zt_get S hw 1 (.ref (g.2.2 1)) (by decide) rfl dX0_cut_139 ?_
            refine zr_iload_n S hl 3 rfl dX0_cut_142 ?_
            refine zt_bald S hw 1 60 2 1 (i := x) (by omega) (by omega) (by omega) rfl rfl dX0_cut_143 (fun cv23 ce24 cr25 => ?_)
            have cr25 : (-1) ≤ cv23 ∧ cv23 ≤ 59 := cr25
            refine zr_istore_n S [(3, .int (zI cv23)), (6, .int (zI x)), (8, .int (zI cv14)), (0, .ref (g.2.2 19)), (4, .int (zI q)), (5, .int (zI lt)), (7, .int (zI sp))] hl (by decide) rfl dX0_cut_144 (fun ls hl => ?_)
            obtain ⟨cv26, ce27⟩ : ∃ v : Int, v = sp + 1 := ⟨_, rfl⟩
            refine zr_iinc S cv26 ce27 [(7, .int (zI cv26)), (3, .int (zI cv23)), (6, .int (zI x)), (8, .int (zI cv14)), (0, .ref (g.2.2 19)), (4, .int (zI q)), (5, .int (zI lt))] hl 6 rfl (by decide) rfl dX0_cut_145 (fun ls hl => ?_)
            refine zr_goto S 29 (by decide) dX0_cut_148 ?_
            have hc : cσ21 = zCR σ1 x rt := by rw [cs22, cp7, cp4, ce20, zCR, if_neg (by omega)]; rfl
            have hlow : cv14 = zCw σ1 x := by rw [ce15, ce10, cp7, cp4]; rfl
            have hq2 : zRefP (zCe (zCut n cσ21 cv23 q lt x)) = zCutF σ t k := by
              rw [← hq, zCut, if_neg (by omega), if_neg (by omega), ← hc, ← ce24]
            have hp2 : cσ21 13 0 = cv26 := by rw [cs22, zs_ne (by decide)]; omega
            exact ih cv23 q lt x cv26 cσ21 H locs ls (by omega) (by omega) (by omega) (by omega) (by omega) (by omega) hp2 hw (lv_sub hl [4, 1, 5, 6, 2, 0] rfl) hq2
          · refine zr_aload S hl 1 rfl dX0_cut_118 ?_
            refine zr_iload_n S hl 2 rfl dX0_cut_119 ?_
            refine zt_put S hw 15 (by decide) (zt_s15 g cσ6 x) rfl (by decide +kernel) (Nat.le_of_ble_eq_true rfl) (show (-1) ≤ (x : Int) ∧ (x : Int) ≤ 59 by omega) dX0_cut_120 (fun cσ28 H locs cs29 hw => ?_)
            refine zr_goto S 135 (by decide) dX0_cut_123 ?_
            refine zr_iload_n S hl 2 rfl dX0_cut_135 ?_
            refine zr_istore S [(6, .int (zI x)), (8, .int (zI cv14)), (0, .ref (g.2.2 19)), (3, .int (zI x)), (4, .int (zI q)), (5, .int (zI lt)), (7, .int (zI sp))] hl (by decide) rfl dX0_cut_136 (fun ls hl => ?_)
            refine zr_aload S hl 2 rfl dX0_cut_138 ?_
            refine zt_get S hw 1 (.ref (g.2.2 1)) (by decide) rfl dX0_cut_139 ?_
            refine zr_iload_n S hl 3 rfl dX0_cut_142 ?_
            refine zt_bald S hw 1 60 2 1 (i := x) (by omega) (by omega) (by omega) rfl rfl dX0_cut_143 (fun cv30 ce31 cr32 => ?_)
            have cr32 : (-1) ≤ cv30 ∧ cv30 ≤ 59 := cr32
            have cf33 : cv30 = cσ6 1 x.toNat := by rw [ce31, cs29, zs_ne (by decide)]
            refine zr_istore_n S [(3, .int (zI cv30)), (6, .int (zI x)), (8, .int (zI cv14)), (0, .ref (g.2.2 19)), (4, .int (zI q)), (5, .int (zI lt)), (7, .int (zI sp))] hl (by decide) rfl dX0_cut_144 (fun ls hl => ?_)
            obtain ⟨cv34, ce35⟩ : ∃ v : Int, v = sp + 1 := ⟨_, rfl⟩
            refine zr_iinc S cv34 ce35 [(7, .int (zI cv34)), (3, .int (zI cv30)), (6, .int (zI x)), (8, .int (zI cv14)), (0, .ref (g.2.2 19)), (4, .int (zI q)), (5, .int (zI lt))] hl 6 rfl (by decide) rfl dX0_cut_145 (fun ls hl => ?_)
            refine zr_goto S 29 (by decide) dX0_cut_148 ?_
            have hc : cσ28 = zCR σ1 x rt := by rw [cs29, cp7, cp4, zCR, if_pos (by omega)]; rfl
            have hlow : cv14 = zCw σ1 x := by rw [ce15, ce10, cp7, cp4]; rfl
            have hq2 : zRefP (zCe (zCut n cσ28 cv30 q lt x)) = zCutF σ t k := by
              rw [← hq, zCut, if_neg (by omega), if_neg (by omega), ← hc, ← ce31]
            have hp2 : cσ28 13 0 = cv34 := by rw [cs29, zs_ne (by decide)]; omega
            exact ih cv30 q lt x cv34 cσ28 H locs ls (by omega) (by omega) (by omega) (by omega) (by omega) (by omega) hp2 hw (lv_sub hl [4, 1, 5, 6, 2, 0] rfl) hq2
        · refine zr_iload S hl 3 rfl dX0_cut_69 ?_
          refine zr_iload S hl 0 rfl dX0_cut_71 ?_
          refine zr_iconst S dX0_cut_73 ?_
          refine zr_iadd S dX0_cut_74 (fun cv36 ce37 => ?_)
          refine zr_isub S dX0_cut_75 (fun cv38 ce39 => ?_)
          refine zr_istore S [(4, .int (zI cv38)), (8, .int (zI cv14)), (0, .ref (g.2.2 19)), (3, .int (zI x)), (5, .int (zI lt)), (6, .int (zI rt)), (7, .int (zI sp))] hl (by decide) rfl dX0_cut_76 (fun ls hl => ?_)
          refine zr_iload S hl 4 rfl dX0_cut_78 ?_
          refine zr_if_ge S 91 (by decide) (by omega) dX0_cut_80 (fun ch40 => ?_) (fun ch40 => ?_)
          · refine zr_aload S hl 2 rfl dX0_cut_91 ?_
            refine zt_get S hw 2 (.ref (g.2.2 2)) (by decide) rfl dX0_cut_92 ?_
            refine zr_iload S hl 4 rfl dX0_cut_95 ?_
            refine zr_iload_n S hl 3 rfl dX0_cut_97 ?_
            refine zr_i2b S dX0_cut_98 (fun cv41 ce42 => ?_)
            have ce42 : cv41 = x := ce42.trans (zB_id (by omega) (by omega))
            refine zt_bast S hw 2 60 3 2 (i := lt) (z := cv41) (by omega) (by omega) (by omega) (by omega) (show (-1) ≤ (cv41 : Int) ∧ (cv41 : Int) ≤ 59 by omega) rfl rfl (zt_s2 g cσ6 _ _) dX0_cut_99 (fun cσ43 H locs cs44 hw => ?_)
            refine zr_iload_n S hl 3 rfl dX0_cut_100 ?_
            refine zr_istore S [(5, .int (zI x)), (4, .int (zI cv38)), (8, .int (zI cv14)), (0, .ref (g.2.2 19)), (3, .int (zI x)), (6, .int (zI rt)), (7, .int (zI sp))] hl (by decide) rfl dX0_cut_101 (fun ls hl => ?_)
            refine zr_aload S hl 3 rfl dX0_cut_103 ?_
            refine zt_get S hw 2 (.ref (g.2.2 2)) (by decide) rfl dX0_cut_104 ?_
            refine zr_iload_n S hl 4 rfl dX0_cut_107 ?_
            refine zt_bald S hw 2 60 3 2 (i := x) (by omega) (by omega) (by omega) rfl rfl dX0_cut_108 (fun cv45 ce46 cr47 => ?_)
            have cr47 : (-1) ≤ cv45 ∧ cv45 ≤ 59 := cr47
            refine zr_istore_n S [(3, .int (zI cv45)), (5, .int (zI x)), (4, .int (zI cv38)), (8, .int (zI cv14)), (0, .ref (g.2.2 19)), (6, .int (zI rt)), (7, .int (zI sp))] hl (by decide) rfl dX0_cut_109 (fun ls hl => ?_)
            refine zr_goto S 145 (by decide) dX0_cut_110 ?_
            obtain ⟨cv48, ce49⟩ : ∃ v : Int, v = sp + 1 := ⟨_, rfl⟩
            refine zr_iinc S cv48 ce49 [(7, .int (zI cv48)), (3, .int (zI cv45)), (5, .int (zI x)), (4, .int (zI cv38)), (8, .int (zI cv14)), (0, .ref (g.2.2 19)), (6, .int (zI rt))] hl 6 rfl (by decide) rfl dX0_cut_145 (fun ls hl => ?_)
            refine zr_goto S 29 (by decide) dX0_cut_148 ?_
            have hc : cσ43 = zCL σ1 x lt := by rw [cs44, cp7, cp4, ce42, zCL, if_neg (by omega)]; rfl
            have hlow : cv14 = zCw σ1 x := by rw [ce15, ce10, cp7, cp4]; rfl
            have hq2 : zRefP (zCe (zCut n cσ43 cv45 cv38 x rt)) = zCutF σ t k := by
              rw [← hq, zCut, if_neg (by omega), if_pos (by omega), ← hc, ← hlow, ← ce46, show q - (cv14 + 1) = cv38 by omega]
            have hp2 : cσ43 13 0 = cv48 := by rw [cs44, zs_ne (by decide)]; omega
            exact ih cv45 cv38 x rt cv48 cσ43 H locs ls (by omega) (by omega) (by omega) (by omega) (by omega) (by omega) hp2 hw (lv_sub hl [5, 1, 3, 2, 6, 0] rfl) hq2
          · refine zr_aload S hl 2 rfl dX0_cut_83 ?_
            refine zr_iload_n S hl 3 rfl dX0_cut_84 ?_
            refine zt_put S hw 14 (by decide) (zt_s14 g cσ6 x) rfl (by decide +kernel) (Nat.le_of_ble_eq_true rfl) (show (-1) ≤ (x : Int) ∧ (x : Int) ≤ 59 by omega) dX0_cut_85 (fun cσ50 H locs cs51 hw => ?_)
            refine zr_goto S 100 (by decide) dX0_cut_88 ?_
            refine zr_iload_n S hl 3 rfl dX0_cut_100 ?_
            refine zr_istore S [(5, .int (zI x)), (4, .int (zI cv38)), (8, .int (zI cv14)), (0, .ref (g.2.2 19)), (3, .int (zI x)), (6, .int (zI rt)), (7, .int (zI sp))] hl (by decide) rfl dX0_cut_101 (fun ls hl => ?_)
            refine zr_aload S hl 3 rfl dX0_cut_103 ?_
            refine zt_get S hw 2 (.ref (g.2.2 2)) (by decide) rfl dX0_cut_104 ?_
            refine zr_iload_n S hl 4 rfl dX0_cut_107 ?_
            refine zt_bald S hw 2 60 3 2 (i := x) (by omega) (by omega) (by omega) rfl rfl dX0_cut_108 (fun cv52 ce53 cr54 => ?_)
            have cr54 : (-1) ≤ cv52 ∧ cv52 ≤ 59 := cr54
            have cf55 : cv52 = cσ6 2 x.toNat := by rw [ce53, cs51, zs_ne (by decide)]
            refine zr_istore_n S [(3, .int (zI cv52)), (5, .int (zI x)), (4, .int (zI cv38)), (8, .int (zI cv14)), (0, .ref (g.2.2 19)), (6, .int (zI rt)), (7, .int (zI sp))] hl (by decide) rfl dX0_cut_109 (fun ls hl => ?_)
            refine zr_goto S 145 (by decide) dX0_cut_110 ?_
            obtain ⟨cv56, ce57⟩ : ∃ v : Int, v = sp + 1 := ⟨_, rfl⟩
            refine zr_iinc S cv56 ce57 [(7, .int (zI cv56)), (3, .int (zI cv52)), (5, .int (zI x)), (4, .int (zI cv38)), (8, .int (zI cv14)), (0, .ref (g.2.2 19)), (6, .int (zI rt))] hl 6 rfl (by decide) rfl dX0_cut_145 (fun ls hl => ?_)
            refine zr_goto S 29 (by decide) dX0_cut_148 ?_
            have hc : cσ50 = zCL σ1 x lt := by rw [cs51, cp7, cp4, zCL, if_pos (by omega)]; rfl
            have hlow : cv14 = zCw σ1 x := by rw [ce15, ce10, cp7, cp4]; rfl
            have hq2 : zRefP (zCe (zCut n cσ50 cv52 cv38 x rt)) = zCutF σ t k := by
              rw [← hq, zCut, if_neg (by omega), if_pos (by omega), ← hc, ← hlow, ← ce53, show q - (cv14 + 1) = cv38 by omega]
            have hp2 : cσ50 13 0 = cv56 := by rw [cs51, zs_ne (by decide)]; omega
            exact ih cv52 cv38 x rt cv56 cσ50 H locs ls (by omega) (by omega) (by omega) (by omega) (by omega) (by omega) hp2 hw (lv_sub hl [5, 1, 3, 2, 6, 0] rfl) hq2
  refine zr_iload_n S hl 1 rfl dX0_cut_0 ?_
  refine zr_istore_n S [(3, .int (zI t)), (0, .ref (g.2.2 19)), (1, .int (zI t)), (2, .int (zI k))] hl (by decide) rfl dX0_cut_1 (fun ls hl => ?_)
  refine zr_iload_n S hl 3 rfl dX0_cut_2 ?_
  refine zr_istore S [(4, .int (zI k)), (3, .int (zI t)), (0, .ref (g.2.2 19)), (1, .int (zI t)), (2, .int (zI k))] hl (by decide) rfl dX0_cut_3 (fun ls hl => ?_)
  refine zr_iconst S dX0_cut_5 ?_
  refine zr_istore S [(5, .int (zI (-1))), (4, .int (zI k)), (3, .int (zI t)), (0, .ref (g.2.2 19)), (1, .int (zI t)), (2, .int (zI k))] hl (by decide) rfl dX0_cut_6 (fun ls hl => ?_)
  refine zr_iconst S dX0_cut_8 ?_
  refine zr_istore S [(6, .int (zI (-1))), (5, .int (zI (-1))), (4, .int (zI k)), (3, .int (zI t)), (0, .ref (g.2.2 19)), (1, .int (zI t)), (2, .int (zI k))] hl (by decide) rfl dX0_cut_9 (fun ls hl => ?_)
  refine zr_aload S hl 4 rfl dX0_cut_11 ?_
  refine zr_iconst S dX0_cut_12 ?_
  refine zt_put S hw 14 (by decide) (zt_s14 g σ (-1)) rfl (by decide +kernel) (Nat.le_of_ble_eq_true rfl) (show (-1) ≤ ((-1) : Int) ∧ ((-1) : Int) ≤ 59 by omega) dX0_cut_13 (fun σ1 H locs s2 hw => ?_)
  refine zr_aload S hl 4 rfl dX0_cut_16 ?_
  refine zr_iconst S dX0_cut_17 ?_
  refine zt_put S hw 15 (by decide) (zt_s15 g σ1 (-1)) rfl (by decide +kernel) (Nat.le_of_ble_eq_true rfl) (show (-1) ≤ ((-1) : Int) ∧ ((-1) : Int) ≤ 59 by omega) dX0_cut_18 (fun σ3 H locs s4 hw => ?_)
  refine zr_aload S hl 4 rfl dX0_cut_21 ?_
  refine zr_iconst S dX0_cut_22 ?_
  refine zt_put S hw 13 (by decide) (zt_s13 g σ3 0) rfl (by decide +kernel) (Nat.le_of_ble_eq_true rfl) (show 0 ≤ (0 : Int) ∧ (0 : Int) ≤ 64 by omega) dX0_cut_23 (fun σ5 H locs s6 hw => ?_)
  refine zr_iconst S dX0_cut_26 ?_
  refine zr_istore S [(7, .int (zI 0)), (6, .int (zI (-1))), (5, .int (zI (-1))), (4, .int (zI k)), (3, .int (zI t)), (0, .ref (g.2.2 19)), (1, .int (zI t)), (2, .int (zI k))] hl (by decide) rfl dX0_cut_27 (fun ls hl => ?_)
  have hq2 : zRefP (zCe (zCut 60 σ5 t k (-1) (-1))) = zCutF σ t k := by subst s6; subst s4; subst s2; rfl
  have hp2 : σ5 13 0 = 0 := by rw [s6, zs_eq]
  exact loop 60 t k (-1) (-1) 0 σ5 H locs ls (by decide) (by decide) ht (by omega) (by omega) (by omega) hp2 hw (lv_sub hl [5, 4, 3, 2, 1, 0] rfl) hq2
set_option maxHeartbeats 4000000 in
theorem met_join (l : Launch) (g : zG) (σ : zS) (a b : Int) (ha : -1 ≤ a ∧ a ≤ 59) (hb : -1 ≤ b ∧ b ≤ 59) (hJ : zJok (zJ0 σ a b)) : zt_Mi l yX0_join cX0_join 11 (some .int) ({ frames := 3, cells := 0, slots := 0, locals := 72 }) g σ [a, b] (fun r σ' => (σ', r) = zJoinF σ a b ∧ (-1 ≤ r ∧ r ≤ 59)) := by
  refine zt_ofi (by decide +kernel) rfl (Nat.le_of_ble_eq_true rfl) ?_
  intro p e s m args below meth c ls ⟨S, hr, hlk, hw⟩ hl
  have hl : lv_has ls 11 [(0, .ref (g.2.2 19)), (1, .int (zI a)), (2, .int (zI b))] := hl
  have c146 : ∀ (x y tp tl o : Int) (σ1 : zS) (H : Heap) (locs : List Loc) (ls : Array Slot), (-1 ≤ x ∧ x ≤ 59) → (-1 ≤ y ∧ y ≤ 59) → (-1 ≤ tp ∧ tp ≤ 59) → (-1 ≤ tl ∧ tl ≤ 59) → (0 ≤ o ∧ o ≤ 1) → zt_W g (zt_A g s.heap.size) s H locs σ1 → lv_has ls 11 [(0, .ref (g.2.2 19)), (3, .int (zI x)), (4, .int (zI y)), (5, .int (zI tp)), (6, .int (zI tl)), (7, .int (zI o))] → zJe (σ1, x, y, tp, tl, o) = zJoinF σ a b → W p l e ({ frames := 3, cells := 0, slots := 0, locals := 72 }) s m args below meth c H locs 0 0 (zt_Ei g (fun r σ' => (σ', r) = zJoinF σ a b ∧ (-1 ≤ r ∧ r ≤ 59)) below args s) (F0 m 146 ls []) := by
    intro x y tp tl o σ1 H locs ls hx hy htp htl ho hw hl hq
    refine zr_iload_n S hl 1 rfl dX0_join_146 ?_
    refine zr_if_lt S 154 (by decide) (by omega) dX0_join_147 (fun ah1 => ?_) (fun ah1 => ?_)
    · refine zr_iload S hl 2 rfl dX0_join_154 ?_
      refine zr_istore S [(8, .int (zI y)), (0, .ref (g.2.2 19)), (3, .int (zI x)), (4, .int (zI y)), (5, .int (zI tp)), (6, .int (zI tl)), (7, .int (zI o))] hl (by decide) rfl dX0_join_156 (fun ls hl => ?_)
      refine zr_iload S hl 5 rfl dX0_join_158 ?_
      refine zr_if_ge S 170 (by decide) (by omega) dX0_join_160 (fun ah2 => ?_) (fun ah2 => ?_)
      · refine zr_aload S hl 1 rfl dX0_join_170 ?_
        refine zr_iload S hl 5 rfl dX0_join_171 ?_
        refine zr_iload S hl 6 rfl dX0_join_173 ?_
        refine zr_iload S hl 0 rfl dX0_join_175 ?_
        refine zt_callv S hw (met_hang l g σ1 tl o y (by omega) (by omega) (by omega)) kq_hang rfl rfl ⟨by decide, by decide⟩ rfl rfl hl.1 (Nat.le_of_ble_eq_true rfl) ⟨Nat.zero_le _, Nat.zero_le _⟩ dX0_join_177 (fun aσ3 H locs ap4 hw => ?_)
        have af5 : aσ3 13 0 = σ1 13 0 := by rw [ap4, zHang]; split <;> rw [zs_ne (by decide)]
        refine zr_aload S hl 1 rfl dX0_join_180 ?_
        refine zt_callv S hw (met_refreshPath l g aσ3) kq_refreshPath rfl rfl ⟨by decide, by decide⟩ rfl rfl hl.1 (Nat.le_of_ble_eq_true rfl) ⟨Nat.zero_le _, Nat.zero_le _⟩ dX0_join_181 (fun aσ6 H locs ap7 hw => ?_)
        refine zr_iload S hl 4 rfl dX0_join_184 ?_
        have h1_ : zJr x y = y := by rw [zJr, if_pos (by omega)]
        have h2_ : ∀ z, zJt tl tp z = tp := fun z => by rw [zJt, if_neg (by omega)]
        have h3_ : ∀ z, zJh σ1 tl o z = zHang σ1 tl o z := fun z => by rw [zJh, if_neg (by omega)]
        exact zt_iret S hr hlk hw (⟨by rw [← hq, zJe]; show _ = (zRefP (zJh σ1 tl o (zJr x y)), zJt tl tp (zJr x y)); rw [h1_, h2_, h3_, ap7, ap4], by omega⟩) dX0_join_186
      · refine zr_iload S hl 0 rfl dX0_join_163 ?_
        refine zr_istore S [(5, .int (zI y)), (8, .int (zI y)), (0, .ref (g.2.2 19)), (3, .int (zI x)), (4, .int (zI y)), (6, .int (zI tl)), (7, .int (zI o))] hl (by decide) rfl dX0_join_165 (fun ls hl => ?_)
        refine zr_goto S 180 (by decide) dX0_join_167 ?_
        refine zr_aload S hl 2 rfl dX0_join_180 ?_
        refine zt_callv S hw (met_refreshPath l g σ1) kq_refreshPath rfl rfl ⟨by decide, by decide⟩ rfl rfl hl.1 (Nat.le_of_ble_eq_true rfl) ⟨Nat.zero_le _, Nat.zero_le _⟩ dX0_join_181 (fun aσ8 H locs ap9 hw => ?_)
        refine zr_iload S hl 0 rfl dX0_join_184 ?_
        have h1_ : zJr x y = y := by rw [zJr, if_pos (by omega)]
        have h2_ : ∀ z, zJt tl tp z = z := fun z => by rw [zJt, if_pos (by omega)]
        have h3_ : ∀ z, zJh σ1 tl o z = σ1 := fun z => by rw [zJh, if_pos (by omega)]
        exact zt_iret S hr hlk hw (⟨by rw [← hq, zJe]; show _ = (zRefP (zJh σ1 tl o (zJr x y)), zJt tl tp (zJr x y)); rw [h1_, h2_, h3_, ap9], by omega⟩) dX0_join_186
    · refine zr_iload_n S hl 1 rfl dX0_join_150 ?_
      refine zr_goto S 156 (by decide) dX0_join_151 ?_
      refine zr_istore S [(8, .int (zI x)), (0, .ref (g.2.2 19)), (3, .int (zI x)), (4, .int (zI y)), (5, .int (zI tp)), (6, .int (zI tl)), (7, .int (zI o))] hl (by decide) rfl dX0_join_156 (fun ls hl => ?_)
      refine zr_iload S hl 5 rfl dX0_join_158 ?_
      refine zr_if_ge S 170 (by decide) (by omega) dX0_join_160 (fun ah10 => ?_) (fun ah10 => ?_)
      · refine zr_aload S hl 1 rfl dX0_join_170 ?_
        refine zr_iload S hl 5 rfl dX0_join_171 ?_
        refine zr_iload S hl 6 rfl dX0_join_173 ?_
        refine zr_iload S hl 0 rfl dX0_join_175 ?_
        refine zt_callv S hw (met_hang l g σ1 tl o x (by omega) (by omega) (by omega)) kq_hang rfl rfl ⟨by decide, by decide⟩ rfl rfl hl.1 (Nat.le_of_ble_eq_true rfl) ⟨Nat.zero_le _, Nat.zero_le _⟩ dX0_join_177 (fun aσ11 H locs ap12 hw => ?_)
        have af13 : aσ11 13 0 = σ1 13 0 := by rw [ap12, zHang]; split <;> rw [zs_ne (by decide)]
        refine zr_aload S hl 1 rfl dX0_join_180 ?_
        refine zt_callv S hw (met_refreshPath l g aσ11) kq_refreshPath rfl rfl ⟨by decide, by decide⟩ rfl rfl hl.1 (Nat.le_of_ble_eq_true rfl) ⟨Nat.zero_le _, Nat.zero_le _⟩ dX0_join_181 (fun aσ14 H locs ap15 hw => ?_)
        refine zr_iload S hl 4 rfl dX0_join_184 ?_
        have h1_ : zJr x y = x := by rw [zJr, if_neg (by omega)]
        have h2_ : ∀ z, zJt tl tp z = tp := fun z => by rw [zJt, if_neg (by omega)]
        have h3_ : ∀ z, zJh σ1 tl o z = zHang σ1 tl o z := fun z => by rw [zJh, if_neg (by omega)]
        exact zt_iret S hr hlk hw (⟨by rw [← hq, zJe]; show _ = (zRefP (zJh σ1 tl o (zJr x y)), zJt tl tp (zJr x y)); rw [h1_, h2_, h3_, ap15, ap12], by omega⟩) dX0_join_186
      · refine zr_iload S hl 0 rfl dX0_join_163 ?_
        refine zr_istore S [(5, .int (zI x)), (8, .int (zI x)), (0, .ref (g.2.2 19)), (3, .int (zI x)), (4, .int (zI y)), (6, .int (zI tl)), (7, .int (zI o))] hl (by decide) rfl dX0_join_165 (fun ls hl => ?_)
        refine zr_goto S 180 (by decide) dX0_join_167 ?_
        refine zr_aload S hl 2 rfl dX0_join_180 ?_
        refine zt_callv S hw (met_refreshPath l g σ1) kq_refreshPath rfl rfl ⟨by decide, by decide⟩ rfl rfl hl.1 (Nat.le_of_ble_eq_true rfl) ⟨Nat.zero_le _, Nat.zero_le _⟩ dX0_join_181 (fun aσ16 H locs ap17 hw => ?_)
        refine zr_iload S hl 0 rfl dX0_join_184 ?_
        have h1_ : zJr x y = x := by rw [zJr, if_neg (by omega)]
        have h2_ : ∀ z, zJt tl tp z = z := fun z => by rw [zJt, if_pos (by omega)]
        have h3_ : ∀ z, zJh σ1 tl o z = σ1 := fun z => by rw [zJh, if_pos (by omega)]
        exact zt_iret S hr hlk hw (⟨by rw [← hq, zJe]; show _ = (zRefP (zJh σ1 tl o (zJr x y)), zJt tl tp (zJr x y)); rw [h1_, h2_, h3_, ap17], by omega⟩) dX0_join_186
  have loop : ∀ (n : Nat) (x y tp tl o sp : Int) (σ1 : zS) (H : Heap) (locs : List Loc) (ls : Array Slot), n ≤ 60 → sp = 60 - n → (-1 ≤ x ∧ x ≤ 59) → (-1 ≤ y ∧ y ≤ 59) → (-1 ≤ tp ∧ tp ≤ 59) → (-1 ≤ tl ∧ tl ≤ 59) → (0 ≤ o ∧ o ≤ 1) → σ1 13 0 = sp → zt_W g (zt_A g s.heap.size) s H locs σ1 → lv_has ls 11 [(0, .ref (g.2.2 19)), (3, .int (zI x)), (4, .int (zI y)), (5, .int (zI tp)), (6, .int (zI tl)), (7, .int (zI o)), (8, .int (zI sp))] → zJok (zJoin n σ1 x y tp tl o) → zJe (zJoin n σ1 x y tp tl o) = zJoinF σ a b → W p l e ({ frames := 3, cells := 0, slots := 0, locals := 72 }) s m args below meth c H locs 0 0 (zt_Ei g (fun r σ' => (σ', r) = zJoinF σ a b ∧ (-1 ≤ r ∧ r ≤ 59)) below args s) (F0 m 22 ls []) := by
    intro n
    induction n with
    | zero =>
      intro x y tp tl o sp σ1 H locs ls hn hsp hx hy htp htl ho hp hw hl hok hq
      have hok : x < 0 ∨ y < 0 := hok
      refine zr_iload S hl 6 rfl dX0_join_22 ?_
      refine zr_bipush S (by decide +kernel) dX0_join_24 ?_
      refine zr_icmp_ge S 146 (by decide) (by omega) (by omega) dX0_join_26 (fun bh1 => by omega) (fun bh1 => ?_)
      refine zr_iload_n S hl 1 rfl dX0_join_29 ?_
      refine zr_if_lt S 146 (by decide) (by omega) dX0_join_30 (fun bh2 => ?_) (fun bh2 => ?_)
      · exact c146 x y tp tl o σ1 H locs ls hx hy htp htl ho hw (lv_sub hl [0, 1, 2, 3, 4, 5] rfl) hq
      · refine zr_iload S hl 2 rfl dX0_join_33 ?_
        refine zr_if_lt S 146 (by decide) (by omega) dX0_join_35 (fun bh3 => ?_) (fun bh3 => by omega)
        exact c146 x y tp tl o σ1 H locs ls hx hy htp htl ho hw (lv_sub hl [0, 1, 2, 3, 4, 5] rfl) hq
    | succ n ih =>
      intro x y tp tl o sp σ1 H locs ls hn hsp hx hy htp htl ho hp hw hl hok hq
      refine zr_iload S hl 6 rfl dX0_join_22 ?_
      refine zr_bipush S (by decide +kernel) dX0_join_24 ?_
      refine zr_icmp_ge S 146 (by decide) (by omega) (by omega) dX0_join_26 (fun ch1 => by omega) (fun ch1 => ?_)
      refine zr_iload_n S hl 1 rfl dX0_join_29 ?_
      refine zr_if_lt S 146 (by decide) (by omega) dX0_join_30 (fun ch2 => ?_) (fun ch2 => ?_)
      · exact c146 x y tp tl o σ1 H locs ls hx hy htp htl ho hw (lv_sub hl [0, 1, 2, 3, 4, 5] rfl) (by rw [← hq, zJoin, if_pos (by omega)])
      · refine zr_iload S hl 2 rfl dX0_join_33 ?_
        refine zr_if_lt S 146 (by decide) (by omega) dX0_join_35 (fun ch3 => ?_) (fun ch3 => ?_)
        · exact c146 x y tp tl o σ1 H locs ls hx hy htp htl ho hw (lv_sub hl [0, 1, 2, 3, 4, 5] rfl) (by rw [← hq, zJoin, if_pos (by omega)])
        · refine zr_aload S hl 0 rfl dX0_join_38 ?_
          refine zt_get S hw 5 (.ref (g.2.2 5)) (by decide) rfl dX0_join_39 ?_
          refine zr_iload_n S hl 1 rfl dX0_join_42 ?_
          refine zt_iald S hw 5 60 6 5 (i := x) (by omega) (by omega) (by omega) rfl rfl dX0_join_43 (fun cv4 ce5 cr6 => ?_)
          have cr6 : (-2147483648) ≤ cv4 ∧ cv4 ≤ 2147483647 := cr6
          refine zr_aload S hl 0 rfl dX0_join_44 ?_
          refine zt_get S hw 5 (.ref (g.2.2 5)) (by decide) rfl dX0_join_45 ?_
          refine zr_iload S hl 2 rfl dX0_join_48 ?_
          refine zt_iald S hw 5 60 6 5 (i := y) (by omega) (by omega) (by omega) rfl rfl dX0_join_50 (fun cv7 ce8 cr9 => ?_)
          have cr9 : (-2147483648) ≤ cv7 ∧ cv7 ≤ 2147483647 := cr9
          refine zr_icmp_lt S 58 (by decide) (by omega) (by omega) dX0_join_51 (fun ch10 => ?_) (fun ch10 => ?_)
          · refine zr_iconst S dX0_join_58 ?_
            refine zr_istore S [(9, .int (zI 0)), (0, .ref (g.2.2 19)), (3, .int (zI x)), (4, .int (zI y)), (5, .int (zI tp)), (6, .int (zI tl)), (7, .int (zI o)), (8, .int (zI sp))] hl (by decide) rfl dX0_join_59 (fun ls hl => ?_)
            refine zr_iload S hl 0 rfl dX0_join_61 ?_
            refine zr_if_eq S 70 (by decide) (by omega) dX0_join_63 (fun ch11 => ?_) (fun ch11 => by omega)
            refine zr_iload S hl 3 rfl dX0_join_70 ?_
            refine zr_istore S [(10, .int (zI y)), (9, .int (zI 0)), (0, .ref (g.2.2 19)), (3, .int (zI x)), (4, .int (zI y)), (5, .int (zI tp)), (6, .int (zI tl)), (7, .int (zI o)), (8, .int (zI sp))] hl (by decide) rfl dX0_join_72 (fun ls hl => ?_)
            refine zr_aload S hl 2 rfl dX0_join_74 ?_
            refine zr_iload S hl 0 rfl dX0_join_75 ?_
            refine zt_callv S hw (met_settle l g σ1 y (by omega)) kq_settle rfl rfl ⟨by decide, by decide⟩ rfl rfl hl.1 (Nat.le_of_ble_eq_true rfl) ⟨Nat.zero_le _, Nat.zero_le _⟩ dX0_join_77 (fun cσ12 H locs cp13 hw => ?_)
            have cf14 : cσ12 13 0 = σ1 13 0 := by rw [cp13]; exact zSettle_o _ _ _ (by decide)
            refine zr_iload S hl 6 rfl dX0_join_80 ?_
            refine zr_if_ge S 92 (by decide) (by omega) dX0_join_82 (fun ch15 => ?_) (fun ch15 => ?_)
            · refine zr_aload S hl 2 rfl dX0_join_92 ?_
              refine zr_iload S hl 6 rfl dX0_join_93 ?_
              refine zr_iload S hl 7 rfl dX0_join_95 ?_
              refine zr_iload S hl 0 rfl dX0_join_97 ?_
              refine zt_callv S hw (met_hang l g cσ12 tl o y (by omega) (by omega) (by omega)) kq_hang rfl rfl ⟨by decide, by decide⟩ rfl rfl hl.1 (Nat.le_of_ble_eq_true rfl) ⟨Nat.zero_le _, Nat.zero_le _⟩ dX0_join_99 (fun cσ16 H locs cp17 hw => ?_)
              have cf18 : cσ16 13 0 = cσ12 13 0 := by rw [cp17, zHang]; split <;> rw [zs_ne (by decide)]
              refine zr_aload S hl 2 rfl dX0_join_102 ?_
              refine zr_iload S hl 0 rfl dX0_join_103 ?_
              refine zt_callv S hw (met_pushPath l g cσ16 y (by omega) (by omega)) kq_pushPath rfl rfl ⟨by decide, by decide⟩ rfl rfl hl.1 (Nat.le_of_ble_eq_true rfl) ⟨Nat.zero_le _, Nat.zero_le _⟩ dX0_join_105 (fun cσ19 H locs cp20 hw => ?_)
              have cf21 : cσ19 13 0 = cσ16 13 0 + 1 := by rw [cp20]; exact zPush_13 _ _
              refine zr_iload S hl 0 rfl dX0_join_108 ?_
              refine zr_istore S [(6, .int (zI y)), (10, .int (zI y)), (9, .int (zI 0)), (0, .ref (g.2.2 19)), (3, .int (zI x)), (4, .int (zI y)), (5, .int (zI tp)), (7, .int (zI o)), (8, .int (zI sp))] hl (by decide) rfl dX0_join_110 (fun ls hl => ?_)
              refine zr_iload S hl 2 rfl dX0_join_112 ?_
              refine zr_istore S [(7, .int (zI 0)), (6, .int (zI y)), (10, .int (zI y)), (9, .int (zI 0)), (0, .ref (g.2.2 19)), (3, .int (zI x)), (4, .int (zI y)), (5, .int (zI tp)), (8, .int (zI sp))] hl (by decide) rfl dX0_join_114 (fun ls hl => ?_)
              refine zr_iload S hl 3 rfl dX0_join_116 ?_
              refine zr_if_eq S 131 (by decide) (by omega) dX0_join_118 (fun ch22 => ?_) (fun ch22 => by omega)
              refine zr_aload S hl 4 rfl dX0_join_131 ?_
              refine zt_get S hw 1 (.ref (g.2.2 1)) (by decide) rfl dX0_join_132 ?_
              refine zr_iload S hl 6 rfl dX0_join_135 ?_
              refine zt_bald S hw 1 60 2 1 (i := y) (by omega) (by omega) (by omega) rfl rfl dX0_join_137 (fun cv23 ce24 cr25 => ?_)
              have cr25 : (-1) ≤ cv23 ∧ cv23 ≤ 59 := cr25
              refine zr_istore S [(4, .int (zI cv23)), (7, .int (zI 0)), (6, .int (zI y)), (10, .int (zI y)), (9, .int (zI 0)), (0, .ref (g.2.2 19)), (3, .int (zI x)), (5, .int (zI tp)), (8, .int (zI sp))] hl (by decide) rfl dX0_join_138 (fun ls hl => ?_)
              obtain ⟨cv26, ce27⟩ : ∃ v : Int, v = sp + 1 := ⟨_, rfl⟩
              refine zr_iinc S cv26 ce27 [(8, .int (zI cv26)), (4, .int (zI cv23)), (7, .int (zI 0)), (6, .int (zI y)), (10, .int (zI y)), (9, .int (zI 0)), (0, .ref (g.2.2 19)), (3, .int (zI x)), (5, .int (zI tp))] hl 8 rfl (by decide) rfl dX0_join_140 (fun ls hl => ?_)
              refine zr_goto S 22 (by decide) dX0_join_143 ?_
              have hc : cσ19 = zJa σ1 y tl o := by rw [cp20, cp17, cp13, zJa, zJh, if_neg (by omega)]
              have ht : tp = zJt tl tp y := by rw [zJt, if_neg (by omega)]
              have hz : zJoin (n + 1) σ1 x y tp tl o = zJoin n cσ19 x cv23 tp y 0 := by
                rw [zJoin, if_neg (by omega), if_pos (by omega), ← hc, ← ht, ← ce24]
              have hp2 : cσ19 13 0 = cv26 := by omega
              exact ih x cv23 tp y 0 cv26 cσ19 H locs ls (by omega) (by omega) (by omega) (by omega) (by omega) (by omega) (by omega) hp2 hw (lv_sub hl [6, 7, 1, 8, 3, 2, 0] rfl) (by rw [← hz]; exact hok) (by rw [← hz]; exact hq)
            · refine zr_iload S hl 0 rfl dX0_join_85 ?_
              refine zr_istore S [(5, .int (zI y)), (10, .int (zI y)), (9, .int (zI 0)), (0, .ref (g.2.2 19)), (3, .int (zI x)), (4, .int (zI y)), (6, .int (zI tl)), (7, .int (zI o)), (8, .int (zI sp))] hl (by decide) rfl dX0_join_87 (fun ls hl => ?_)
              refine zr_goto S 102 (by decide) dX0_join_89 ?_
              refine zr_aload S hl 3 rfl dX0_join_102 ?_
              refine zr_iload S hl 1 rfl dX0_join_103 ?_
              refine zt_callv S hw (met_pushPath l g cσ12 y (by omega) (by omega)) kq_pushPath rfl rfl ⟨by decide, by decide⟩ rfl rfl hl.1 (Nat.le_of_ble_eq_true rfl) ⟨Nat.zero_le _, Nat.zero_le _⟩ dX0_join_105 (fun cσ28 H locs cp29 hw => ?_)
              have cf30 : cσ28 13 0 = cσ12 13 0 + 1 := by rw [cp29]; exact zPush_13 _ _
              refine zr_iload S hl 1 rfl dX0_join_108 ?_
              refine zr_istore S [(6, .int (zI y)), (5, .int (zI y)), (10, .int (zI y)), (9, .int (zI 0)), (0, .ref (g.2.2 19)), (3, .int (zI x)), (4, .int (zI y)), (7, .int (zI o)), (8, .int (zI sp))] hl (by decide) rfl dX0_join_110 (fun ls hl => ?_)
              refine zr_iload S hl 3 rfl dX0_join_112 ?_
              refine zr_istore S [(7, .int (zI 0)), (6, .int (zI y)), (5, .int (zI y)), (10, .int (zI y)), (9, .int (zI 0)), (0, .ref (g.2.2 19)), (3, .int (zI x)), (4, .int (zI y)), (8, .int (zI sp))] hl (by decide) rfl dX0_join_114 (fun ls hl => ?_)
              refine zr_iload S hl 4 rfl dX0_join_116 ?_
              refine zr_if_eq S 131 (by decide) (by omega) dX0_join_118 (fun ch31 => ?_) (fun ch31 => by omega)
              refine zr_aload S hl 5 rfl dX0_join_131 ?_
              refine zt_get S hw 1 (.ref (g.2.2 1)) (by decide) rfl dX0_join_132 ?_
              refine zr_iload S hl 7 rfl dX0_join_135 ?_
              refine zt_bald S hw 1 60 2 1 (i := y) (by omega) (by omega) (by omega) rfl rfl dX0_join_137 (fun cv32 ce33 cr34 => ?_)
              have cr34 : (-1) ≤ cv32 ∧ cv32 ≤ 59 := cr34
              refine zr_istore S [(4, .int (zI cv32)), (7, .int (zI 0)), (6, .int (zI y)), (5, .int (zI y)), (10, .int (zI y)), (9, .int (zI 0)), (0, .ref (g.2.2 19)), (3, .int (zI x)), (8, .int (zI sp))] hl (by decide) rfl dX0_join_138 (fun ls hl => ?_)
              obtain ⟨cv35, ce36⟩ : ∃ v : Int, v = sp + 1 := ⟨_, rfl⟩
              refine zr_iinc S cv35 ce36 [(8, .int (zI cv35)), (4, .int (zI cv32)), (7, .int (zI 0)), (6, .int (zI y)), (5, .int (zI y)), (10, .int (zI y)), (9, .int (zI 0)), (0, .ref (g.2.2 19)), (3, .int (zI x))] hl 8 rfl (by decide) rfl dX0_join_140 (fun ls hl => ?_)
              refine zr_goto S 22 (by decide) dX0_join_143 ?_
              have hc : cσ28 = zJa σ1 y tl o := by rw [cp29, cp13, zJa, zJh, if_pos (by omega)]
              have ht : y = zJt tl tp y := by rw [zJt, if_pos (by omega)]
              have hz : zJoin (n + 1) σ1 x y tp tl o = zJoin n cσ28 x cv32 y y 0 := by
                rw [zJoin, if_neg (by omega), if_pos (by omega), ← hc, ← ht, ← ce33]
              have hp2 : cσ28 13 0 = cv35 := by omega
              exact ih x cv32 y y 0 cv35 cσ28 H locs ls (by omega) (by omega) (by omega) (by omega) (by omega) (by omega) (by omega) hp2 hw (lv_sub hl [7, 8, 1, 4, 3, 2, 0] rfl) (by rw [← hz]; exact hok) (by rw [← hz]; exact hq)
          · refine zr_iconst S dX0_join_54 ?_
            refine zr_goto S 59 (by decide) dX0_join_55 ?_
            refine zr_istore S [(9, .int (zI 1)), (0, .ref (g.2.2 19)), (3, .int (zI x)), (4, .int (zI y)), (5, .int (zI tp)), (6, .int (zI tl)), (7, .int (zI o)), (8, .int (zI sp))] hl (by decide) rfl dX0_join_59 (fun ls hl => ?_)
            refine zr_iload S hl 0 rfl dX0_join_61 ?_
            refine zr_if_eq S 70 (by decide) (by omega) dX0_join_63 (fun ch37 => by omega) (fun ch37 => ?_)
            refine zr_iload_n S hl 2 rfl dX0_join_66 ?_
            refine zr_goto S 72 (by decide) dX0_join_67 ?_
            refine zr_istore S [(10, .int (zI x)), (9, .int (zI 1)), (0, .ref (g.2.2 19)), (3, .int (zI x)), (4, .int (zI y)), (5, .int (zI tp)), (6, .int (zI tl)), (7, .int (zI o)), (8, .int (zI sp))] hl (by decide) rfl dX0_join_72 (fun ls hl => ?_)
            refine zr_aload S hl 2 rfl dX0_join_74 ?_
            refine zr_iload S hl 0 rfl dX0_join_75 ?_
            refine zt_callv S hw (met_settle l g σ1 x (by omega)) kq_settle rfl rfl ⟨by decide, by decide⟩ rfl rfl hl.1 (Nat.le_of_ble_eq_true rfl) ⟨Nat.zero_le _, Nat.zero_le _⟩ dX0_join_77 (fun cσ38 H locs cp39 hw => ?_)
            have cf40 : cσ38 13 0 = σ1 13 0 := by rw [cp39]; exact zSettle_o _ _ _ (by decide)
            refine zr_iload S hl 6 rfl dX0_join_80 ?_
            refine zr_if_ge S 92 (by decide) (by omega) dX0_join_82 (fun ch41 => ?_) (fun ch41 => ?_)
            · refine zr_aload S hl 2 rfl dX0_join_92 ?_
              refine zr_iload S hl 6 rfl dX0_join_93 ?_
              refine zr_iload S hl 7 rfl dX0_join_95 ?_
              refine zr_iload S hl 0 rfl dX0_join_97 ?_
              refine zt_callv S hw (met_hang l g cσ38 tl o x (by omega) (by omega) (by omega)) kq_hang rfl rfl ⟨by decide, by decide⟩ rfl rfl hl.1 (Nat.le_of_ble_eq_true rfl) ⟨Nat.zero_le _, Nat.zero_le _⟩ dX0_join_99 (fun cσ42 H locs cp43 hw => ?_)
              have cf44 : cσ42 13 0 = cσ38 13 0 := by rw [cp43, zHang]; split <;> rw [zs_ne (by decide)]
              refine zr_aload S hl 2 rfl dX0_join_102 ?_
              refine zr_iload S hl 0 rfl dX0_join_103 ?_
              refine zt_callv S hw (met_pushPath l g cσ42 x (by omega) (by omega)) kq_pushPath rfl rfl ⟨by decide, by decide⟩ rfl rfl hl.1 (Nat.le_of_ble_eq_true rfl) ⟨Nat.zero_le _, Nat.zero_le _⟩ dX0_join_105 (fun cσ45 H locs cp46 hw => ?_)
              have cf47 : cσ45 13 0 = cσ42 13 0 + 1 := by rw [cp46]; exact zPush_13 _ _
              refine zr_iload S hl 0 rfl dX0_join_108 ?_
              refine zr_istore S [(6, .int (zI x)), (10, .int (zI x)), (9, .int (zI 1)), (0, .ref (g.2.2 19)), (3, .int (zI x)), (4, .int (zI y)), (5, .int (zI tp)), (7, .int (zI o)), (8, .int (zI sp))] hl (by decide) rfl dX0_join_110 (fun ls hl => ?_)
              refine zr_iload S hl 2 rfl dX0_join_112 ?_
              refine zr_istore S [(7, .int (zI 1)), (6, .int (zI x)), (10, .int (zI x)), (9, .int (zI 1)), (0, .ref (g.2.2 19)), (3, .int (zI x)), (4, .int (zI y)), (5, .int (zI tp)), (8, .int (zI sp))] hl (by decide) rfl dX0_join_114 (fun ls hl => ?_)
              refine zr_iload S hl 3 rfl dX0_join_116 ?_
              refine zr_if_eq S 131 (by decide) (by omega) dX0_join_118 (fun ch48 => by omega) (fun ch48 => ?_)
              refine zr_aload S hl 4 rfl dX0_join_121 ?_
              refine zt_get S hw 2 (.ref (g.2.2 2)) (by decide) rfl dX0_join_122 ?_
              refine zr_iload_n S hl 5 rfl dX0_join_125 ?_
              refine zt_bald S hw 2 60 3 2 (i := x) (by omega) (by omega) (by omega) rfl rfl dX0_join_126 (fun cv49 ce50 cr51 => ?_)
              have cr51 : (-1) ≤ cv49 ∧ cv49 ≤ 59 := cr51
              refine zr_istore_n S [(3, .int (zI cv49)), (7, .int (zI 1)), (6, .int (zI x)), (10, .int (zI x)), (9, .int (zI 1)), (0, .ref (g.2.2 19)), (4, .int (zI y)), (5, .int (zI tp)), (8, .int (zI sp))] hl (by decide) rfl dX0_join_127 (fun ls hl => ?_)
              refine zr_goto S 140 (by decide) dX0_join_128 ?_
              obtain ⟨cv52, ce53⟩ : ∃ v : Int, v = sp + 1 := ⟨_, rfl⟩
              refine zr_iinc S cv52 ce53 [(8, .int (zI cv52)), (3, .int (zI cv49)), (7, .int (zI 1)), (6, .int (zI x)), (10, .int (zI x)), (9, .int (zI 1)), (0, .ref (g.2.2 19)), (4, .int (zI y)), (5, .int (zI tp))] hl 8 rfl (by decide) rfl dX0_join_140 (fun ls hl => ?_)
              refine zr_goto S 22 (by decide) dX0_join_143 ?_
              have hc : cσ45 = zJa σ1 x tl o := by rw [cp46, cp43, cp39, zJa, zJh, if_neg (by omega)]
              have ht : tp = zJt tl tp x := by rw [zJt, if_neg (by omega)]
              have hz : zJoin (n + 1) σ1 x y tp tl o = zJoin n cσ45 cv49 y tp x 1 := by
                rw [zJoin, if_neg (by omega), if_neg (by omega), ← hc, ← ht, ← ce50]
              have hp2 : cσ45 13 0 = cv52 := by omega
              exact ih cv49 y tp x 1 cv52 cσ45 H locs ls (by omega) (by omega) (by omega) (by omega) (by omega) (by omega) (by omega) hp2 hw (lv_sub hl [6, 1, 7, 8, 3, 2, 0] rfl) (by rw [← hz]; exact hok) (by rw [← hz]; exact hq)
            · refine zr_iload S hl 0 rfl dX0_join_85 ?_
              refine zr_istore S [(5, .int (zI x)), (10, .int (zI x)), (9, .int (zI 1)), (0, .ref (g.2.2 19)), (3, .int (zI x)), (4, .int (zI y)), (6, .int (zI tl)), (7, .int (zI o)), (8, .int (zI sp))] hl (by decide) rfl dX0_join_87 (fun ls hl => ?_)
              refine zr_goto S 102 (by decide) dX0_join_89 ?_
              refine zr_aload S hl 3 rfl dX0_join_102 ?_
              refine zr_iload S hl 1 rfl dX0_join_103 ?_
              refine zt_callv S hw (met_pushPath l g cσ38 x (by omega) (by omega)) kq_pushPath rfl rfl ⟨by decide, by decide⟩ rfl rfl hl.1 (Nat.le_of_ble_eq_true rfl) ⟨Nat.zero_le _, Nat.zero_le _⟩ dX0_join_105 (fun cσ54 H locs cp55 hw => ?_)
              have cf56 : cσ54 13 0 = cσ38 13 0 + 1 := by rw [cp55]; exact zPush_13 _ _
              refine zr_iload S hl 1 rfl dX0_join_108 ?_
              refine zr_istore S [(6, .int (zI x)), (5, .int (zI x)), (10, .int (zI x)), (9, .int (zI 1)), (0, .ref (g.2.2 19)), (3, .int (zI x)), (4, .int (zI y)), (7, .int (zI o)), (8, .int (zI sp))] hl (by decide) rfl dX0_join_110 (fun ls hl => ?_)
              refine zr_iload S hl 3 rfl dX0_join_112 ?_
              refine zr_istore S [(7, .int (zI 1)), (6, .int (zI x)), (5, .int (zI x)), (10, .int (zI x)), (9, .int (zI 1)), (0, .ref (g.2.2 19)), (3, .int (zI x)), (4, .int (zI y)), (8, .int (zI sp))] hl (by decide) rfl dX0_join_114 (fun ls hl => ?_)
              refine zr_iload S hl 4 rfl dX0_join_116 ?_
              refine zr_if_eq S 131 (by decide) (by omega) dX0_join_118 (fun ch57 => by omega) (fun ch57 => ?_)
              refine zr_aload S hl 5 rfl dX0_join_121 ?_
              refine zt_get S hw 2 (.ref (g.2.2 2)) (by decide) rfl dX0_join_122 ?_
              refine zr_iload_n S hl 6 rfl dX0_join_125 ?_
              refine zt_bald S hw 2 60 3 2 (i := x) (by omega) (by omega) (by omega) rfl rfl dX0_join_126 (fun cv58 ce59 cr60 => ?_)
              have cr60 : (-1) ≤ cv58 ∧ cv58 ≤ 59 := cr60
              refine zr_istore_n S [(3, .int (zI cv58)), (7, .int (zI 1)), (6, .int (zI x)), (5, .int (zI x)), (10, .int (zI x)), (9, .int (zI 1)), (0, .ref (g.2.2 19)), (4, .int (zI y)), (8, .int (zI sp))] hl (by decide) rfl dX0_join_127 (fun ls hl => ?_)
              refine zr_goto S 140 (by decide) dX0_join_128 ?_
              obtain ⟨cv61, ce62⟩ : ∃ v : Int, v = sp + 1 := ⟨_, rfl⟩
              refine zr_iinc S cv61 ce62 [(8, .int (zI cv61)), (3, .int (zI cv58)), (7, .int (zI 1)), (6, .int (zI x)), (5, .int (zI x)), (10, .int (zI x)), (9, .int (zI 1)), (0, .ref (g.2.2 19)), (4, .int (zI y))] hl 8 rfl (by decide) rfl dX0_join_140 (fun ls hl => ?_)
              refine zr_goto S 22 (by decide) dX0_join_143 ?_
              have hc : cσ54 = zJa σ1 x tl o := by rw [cp55, cp39, zJa, zJh, if_pos (by omega)]
              have ht : x = zJt tl tp x := by rw [zJt, if_pos (by omega)]
              have hz : zJoin (n + 1) σ1 x y tp tl o = zJoin n cσ54 cv58 y x x 1 := by
                rw [zJoin, if_neg (by omega), if_neg (by omega), ← hc, ← ht, ← ce59]
              have hp2 : cσ54 13 0 = cv61 := by omega
              exact ih cv58 y x x 1 cv61 cσ54 H locs ls (by omega) (by omega) (by omega) (by omega) (by omega) (by omega) (by omega) hp2 hw (lv_sub hl [7, 1, 8, 4, 3, 2, 0] rfl) (by rw [← hz]; exact hok) (by rw [← hz]; exact hq)
  refine zr_iload_n S hl 1 rfl dX0_join_0 ?_
  refine zr_istore_n S [(3, .int (zI a)), (0, .ref (g.2.2 19)), (1, .int (zI a)), (2, .int (zI b))] hl (by decide) rfl dX0_join_1 (fun ls hl => ?_)
  refine zr_iload_n S hl 3 rfl dX0_join_2 ?_
  refine zr_istore S [(4, .int (zI b)), (3, .int (zI a)), (0, .ref (g.2.2 19)), (1, .int (zI a)), (2, .int (zI b))] hl (by decide) rfl dX0_join_3 (fun ls hl => ?_)
  refine zr_iconst S dX0_join_5 ?_
  refine zr_istore S [(5, .int (zI (-1))), (4, .int (zI b)), (3, .int (zI a)), (0, .ref (g.2.2 19)), (1, .int (zI a)), (2, .int (zI b))] hl (by decide) rfl dX0_join_6 (fun ls hl => ?_)
  refine zr_iconst S dX0_join_8 ?_
  refine zr_istore S [(6, .int (zI (-1))), (5, .int (zI (-1))), (4, .int (zI b)), (3, .int (zI a)), (0, .ref (g.2.2 19)), (1, .int (zI a)), (2, .int (zI b))] hl (by decide) rfl dX0_join_9 (fun ls hl => ?_)
  refine zr_iconst S dX0_join_11 ?_
  refine zr_istore S [(7, .int (zI 0)), (6, .int (zI (-1))), (5, .int (zI (-1))), (4, .int (zI b)), (3, .int (zI a)), (0, .ref (g.2.2 19)), (1, .int (zI a)), (2, .int (zI b))] hl (by decide) rfl dX0_join_12 (fun ls hl => ?_)
  refine zr_aload S hl 5 rfl dX0_join_14 ?_
  refine zr_iconst S dX0_join_15 ?_
  refine zt_put S hw 13 (by decide) (zt_s13 g σ 0) rfl (by decide +kernel) (Nat.le_of_ble_eq_true rfl) (show 0 ≤ (0 : Int) ∧ (0 : Int) ≤ 64 by omega) dX0_join_16 (fun σ1 H locs s2 hw => ?_)
  refine zr_iconst S dX0_join_19 ?_
  refine zr_istore S [(8, .int (zI 0)), (7, .int (zI 0)), (6, .int (zI (-1))), (5, .int (zI (-1))), (4, .int (zI b)), (3, .int (zI a)), (0, .ref (g.2.2 19)), (1, .int (zI a)), (2, .int (zI b))] hl (by decide) rfl dX0_join_20 (fun ls hl => ?_)
  have hq2 : zJoin 60 σ1 a b (-1) (-1) 0 = zJ0 σ a b := by subst s2; rfl
  have hp2 : σ1 13 0 = 0 := by rw [s2, zs_eq]
  exact loop 60 a b (-1) (-1) 0 0 σ1 H locs ls (by decide) (by decide) ha hb (by omega) (by omega) (by omega) hp2 hw (lv_sub hl [6, 5, 4, 3, 2, 1, 0] rfl) (by rw [hq2]; exact hJ) (by rw [hq2]; rfl)
end
section
/-! takeApart, putTogether, isStretch, pairsAround, nodeAt -/
def zTA1 (σ : zS) : zS := zs_st σ 16 0 (σ 14 0)
def zTA2 (σ : zS) : zS := zs_st (zs_st σ 17 0 (σ 14 0)) 18 0 (σ 15 0)
def zTake (σ : zS) (f n : Int) : zS := zTA2 (zCutF (zTA1 (zCutF σ (σ 8 0) f)) (zCutF σ (σ 8 0) f 15 0) n)
def zPu1 (σ : zS) : zS × Int := zJoinF σ (σ 16 0) (σ 17 0)
def zPu2 (σ : zS) : zS × Int := zJoinF (zPu1 σ).1 (zPu1 σ).2 ((zPu1 σ).1 18 0)
def zPutOk (σ : zS) : Prop := zJok (zJ0 σ (σ 16 0) (σ 17 0)) ∧ zJok (zJ0 (zPu1 σ).1 (zPu1 σ).2 ((zPu1 σ).1 18 0))
def zPut (σ : zS) : zS := zs_st (zPu2 σ).1 8 0 (zPu2 σ).2
def zLen (σ : zS) : Int := zSz σ (σ 8 0)
def zStr (σ : zS) (f n : Int) : Prop := 0 ≤ f ∧ f ≤ zLen σ ∧ 0 ≤ n ∧ n ≤ zLen σ - f
def zPw (σ : zS) (k : Int) : Int := if σ 0 (σ 17 0).toNat = k + 3 ∧ 0 < zOp σ (σ 16 0) (k - 1) then zOp σ (σ 16 0) (k - 1) - 1 else zOp σ (σ 16 0) (k - 1)
def zPc (σ : zS) (k : Int) : Int := if σ 0 (σ 17 0).toNat = k ∧ 0 < zCl σ (σ 18 0) (k - 1) then zCl σ (σ 18 0) (k - 1) - 1 else zCl σ (σ 18 0) (k - 1)
def zPairs (σ : zS) (k : Int) : Int := if zPw σ k < zPc σ k then zPw σ k else zPc σ k
def zNw (σ : zS) (x : Int) : Int := zSz (zSettle σ x) (zSettle σ x 1 x.toNat)
def zNa : Nat → zS → Int → Int → Option (zS × Int)
  | 0, _, _, _ => none
  | n + 1, σ, x, k => if x < 0 then none else if k = zNw σ x then some (zSettle σ x, x) else if k < zNw σ x then zNa n (zSettle σ x) (zSettle σ x 1 x.toNat) k else zNa n (zSettle σ x) (zSettle σ x 2 x.toNat) (k - (zNw σ x + 1))
set_option maxHeartbeats 4000000 in
theorem met_takeApart (l : Launch) (g : zG) (σ : zS) (f n : Int) (hf : 0 ≤ f ∧ f ≤ 60) (hn : 0 ≤ n ∧ n ≤ 60) : zt_Mv l yX0_takeApart cX0_takeApart 3 ({ frames := 4, cells := 0, slots := 0, locals := 100 }) g σ [f, n] (fun σ' => σ' = zTake σ f n) := by
  refine zt_ofv (by decide +kernel) rfl (Nat.le_of_ble_eq_true rfl) ?_
  intro p e s m args below meth c ls ⟨S, hr, hlk, hw⟩ hl
  have hl : lv_has ls 3 [(0, .ref (g.2.2 19)), (1, .int (zI f)), (2, .int (zI n))] := hl
  refine zr_aload S hl 0 rfl dX0_takeApart_0 ?_
  refine zr_aload S hl 0 rfl dX0_takeApart_1 ?_
  refine zt_geti S hw 8 (by decide) rfl dX0_takeApart_2 (fun v1 e2 r3 => ?_)
  have r3 : (-1) ≤ v1 ∧ v1 ≤ 59 := r3
  refine zr_iload_n S hl 1 rfl dX0_takeApart_5 ?_
  refine zt_callv S hw (met_cut l g σ v1 f (by omega) (by omega)) kq_cut rfl rfl ⟨by decide, by decide⟩ rfl rfl hl.1 (Nat.le_of_ble_eq_true rfl) ⟨Nat.zero_le _, Nat.zero_le _⟩ dX0_takeApart_6 (fun σ4 H locs p5 hw => ?_)
  refine zr_aload S hl 0 rfl dX0_takeApart_9 ?_
  refine zr_aload S hl 0 rfl dX0_takeApart_10 ?_
  refine zt_geti S hw 14 (by decide) rfl dX0_takeApart_11 (fun v6 e7 r8 => ?_)
  have r8 : (-1) ≤ v6 ∧ v6 ≤ 59 := r8
  refine zt_put S hw 16 (by decide) (zt_s16 g σ4 v6) rfl (by decide +kernel) (Nat.le_of_ble_eq_true rfl) (show (-1) ≤ (v6 : Int) ∧ (v6 : Int) ≤ 59 by omega) dX0_takeApart_14 (fun σ9 H locs s10 hw => ?_)
  refine zr_aload S hl 0 rfl dX0_takeApart_17 ?_
  refine zr_aload S hl 0 rfl dX0_takeApart_18 ?_
  refine zt_geti S hw 15 (by decide) rfl dX0_takeApart_19 (fun v11 e12 r13 => ?_)
  have r13 : (-1) ≤ v11 ∧ v11 ≤ 59 := r13
  have f14 : v11 = σ4 15 0 := by rw [e12, s10, zs_ne (by decide)]
  refine zr_iload_n S hl 2 rfl dX0_takeApart_22 ?_
  refine zt_callv S hw (met_cut l g σ9 v11 n (by omega) (by omega)) kq_cut rfl rfl ⟨by decide, by decide⟩ rfl rfl hl.1 (Nat.le_of_ble_eq_true rfl) ⟨Nat.zero_le _, Nat.zero_le _⟩ dX0_takeApart_23 (fun σ15 H locs p16 hw => ?_)
  refine zr_aload S hl 0 rfl dX0_takeApart_26 ?_
  refine zr_aload S hl 0 rfl dX0_takeApart_27 ?_
  refine zt_geti S hw 14 (by decide) rfl dX0_takeApart_28 (fun v17 e18 r19 => ?_)
  have r19 : (-1) ≤ v17 ∧ v17 ≤ 59 := r19
  refine zt_put S hw 17 (by decide) (zt_s17 g σ15 v17) rfl (by decide +kernel) (Nat.le_of_ble_eq_true rfl) (show (-1) ≤ (v17 : Int) ∧ (v17 : Int) ≤ 59 by omega) dX0_takeApart_31 (fun σ20 H locs s21 hw => ?_)
  refine zr_aload S hl 0 rfl dX0_takeApart_34 ?_
  refine zr_aload S hl 0 rfl dX0_takeApart_35 ?_
  refine zt_geti S hw 15 (by decide) rfl dX0_takeApart_36 (fun v22 e23 r24 => ?_)
  have r24 : (-1) ≤ v22 ∧ v22 ≤ 59 := r24
  have f25 : v22 = σ15 15 0 := by rw [e23, s21, zs_ne (by decide)]
  refine zt_put S hw 18 (by decide) (zt_s18 g σ20 v22) rfl (by decide +kernel) (Nat.le_of_ble_eq_true rfl) (show (-1) ≤ (v22 : Int) ∧ (v22 : Int) ≤ 59 by omega) dX0_takeApart_39 (fun σ26 H locs s27 hw => ?_)
  exact zt_vret S hr hlk hw (by subst s27; subst e23; subst s21; subst e18; subst p16; subst e12; subst s10; subst e7; subst p5; subst e2; rfl) dX0_takeApart_42
set_option maxHeartbeats 4000000 in
theorem met_putTogether (l : Launch) (g : zG) (σ : zS) (hP : zPutOk σ) : zt_Mv l yX0_putTogether cX0_putTogether 2 ({ frames := 4, cells := 0, slots := 0, locals := 102 }) g σ [] (fun σ' => σ' = zPut σ) := by
  refine zt_ofv (by decide +kernel) rfl (Nat.le_of_ble_eq_true rfl) ?_
  intro p e s m args below meth c ls ⟨S, hr, hlk, hw⟩ hl
  have hl : lv_has ls 2 [(0, .ref (g.2.2 19))] := hl
  refine zr_aload S hl 0 rfl dX0_putTogether_0 ?_
  refine zr_aload S hl 0 rfl dX0_putTogether_1 ?_
  refine zt_geti S hw 16 (by decide) rfl dX0_putTogether_2 (fun v1 e2 r3 => ?_)
  have r3 : (-1) ≤ v1 ∧ v1 ≤ 59 := r3
  refine zr_aload S hl 0 rfl dX0_putTogether_5 ?_
  refine zt_geti S hw 17 (by decide) rfl dX0_putTogether_6 (fun v4 e5 r6 => ?_)
  have r6 : (-1) ≤ v4 ∧ v4 ≤ 59 := r6
  refine zt_calli S hw (met_join l g σ v1 v4 (by omega) (by omega) (by rw [e2, e5]; exact hP.1)) kq_join rfl rfl ⟨by decide, by decide⟩ rfl rfl hl.1 (Nat.le_of_ble_eq_true rfl) ⟨Nat.zero_le _, Nat.zero_le _⟩ dX0_putTogether_9 (fun v9 σ7 H locs p8 hw => ?_)
  obtain ⟨j10, r11⟩ := p8
  have hj : (σ7, v9) = zPu1 σ := by rw [j10, e2, e5]; rfl
  have hj1 : σ7 = (zPu1 σ).1 := by rw [← hj]
  have hj2 : v9 = (zPu1 σ).2 := by rw [← hj]
  refine zr_istore_n S [(1, .int (zI v9)), (0, .ref (g.2.2 19))] hl (by decide) rfl dX0_putTogether_12 (fun ls hl => ?_)
  refine zr_aload S hl 1 rfl dX0_putTogether_13 ?_
  refine zr_aload S hl 1 rfl dX0_putTogether_14 ?_
  refine zr_iload_n S hl 0 rfl dX0_putTogether_15 ?_
  refine zr_aload S hl 1 rfl dX0_putTogether_16 ?_
  refine zt_geti S hw 18 (by decide) rfl dX0_putTogether_17 (fun v12 e13 r14 => ?_)
  have r14 : (-1) ≤ v12 ∧ v12 ≤ 59 := r14
  refine zt_calli S hw (met_join l g σ7 v9 v12 (by omega) (by omega) (by rw [e13, hj1, hj2]; exact hP.2)) kq_join rfl rfl ⟨by decide, by decide⟩ rfl rfl hl.1 (Nat.le_of_ble_eq_true rfl) ⟨Nat.zero_le _, Nat.zero_le _⟩ dX0_putTogether_20 (fun v17 σ15 H locs p16 hw => ?_)
  obtain ⟨j18, r19⟩ := p16
  have hk : (σ15, v17) = zPu2 σ := by rw [j18, e13, hj1, hj2]; rfl
  have hk1 : σ15 = (zPu2 σ).1 := by rw [← hk]
  have hk2 : v17 = (zPu2 σ).2 := by rw [← hk]
  refine zt_put S hw 8 (by decide) (zt_s8 g σ15 v17) rfl (by decide +kernel) (Nat.le_of_ble_eq_true rfl) (show (-1) ≤ (v17 : Int) ∧ (v17 : Int) ≤ 59 by omega) dX0_putTogether_23 (fun σ20 H locs s21 hw => ?_)
  exact zt_vret S hr hlk hw (by rw [s21, hk1, hk2]; rfl) dX0_putTogether_26
set_option maxHeartbeats 4000000 in
theorem met_isStretch (l : Launch) (g : zG) (σ : zS) (f n : Int) (hf : zR f) (hn : zR n) : zt_Mi l yX0_isStretch cX0_isStretch 4 (some .boolean) ({ frames := 2, cells := 0, slots := 0, locals := 41 }) g σ [f, n] (fun r σ' => σ' = σ ∧ ((r = 1 ∧ zStr σ f n) ∨ (r = 0 ∧ ¬ zStr σ f n))) := by
  refine zt_ofi (by decide +kernel) rfl (Nat.le_of_ble_eq_true rfl) ?_
  intro p e s m args below meth c ls ⟨S, hr, hlk, hw⟩ hl
  have hl : lv_has ls 4 [(0, .ref (g.2.2 19)), (1, .int (zI f)), (2, .int (zI n))] := hl
  refine zr_aload S hl 0 rfl dX0_isStretch_0 ?_
  refine zt_calli S hw (met_textLength l g σ) kq_textLength rfl rfl ⟨by decide, by decide⟩ rfl rfl hl.1 (Nat.le_of_ble_eq_true rfl) ⟨Nat.zero_le _, Nat.zero_le _⟩ dX0_isStretch_1 (fun v3 σ1 H locs p2 hw => ?_)
  obtain ⟨hs_, e4⟩ := p2
  rw [hs_] at hw
  have r5 : -128 ≤ v3 ∧ v3 ≤ 127 := by rw [e4]; exact zSz_r hw.2.2.2.2.1 _
  refine zr_istore_n S [(3, .int (zI v3)), (0, .ref (g.2.2 19)), (1, .int (zI f)), (2, .int (zI n))] hl (by decide) rfl dX0_isStretch_4 (fun ls hl => ?_)
  refine zr_iload_n S hl 2 rfl dX0_isStretch_5 ?_
  refine zr_if_lt S 18 (by decide) (by omega) dX0_isStretch_6 (fun h6 => ?_) (fun h6 => ?_)
  · refine zr_iconst S dX0_isStretch_18 ?_
    have hz : v3 = zLen σ := e4
    exact zt_zret S hr hlk hw (by omega) (⟨rfl, Or.inr ⟨rfl, by unfold zStr; omega⟩⟩) dX0_isStretch_19
  · refine zr_iload_n S hl 2 rfl dX0_isStretch_9 ?_
    refine zr_iload_n S hl 0 rfl dX0_isStretch_10 ?_
    refine zr_icmp_gt S 18 (by decide) (by omega) (by omega) dX0_isStretch_11 (fun h7 => ?_) (fun h7 => ?_)
    · refine zr_iconst S dX0_isStretch_18 ?_
      have hz : v3 = zLen σ := e4
      exact zt_zret S hr hlk hw (by omega) (⟨rfl, Or.inr ⟨rfl, by unfold zStr; omega⟩⟩) dX0_isStretch_19
    · refine zr_iload_n S hl 3 rfl dX0_isStretch_14 ?_
      refine zr_if_ge S 20 (by decide) (by omega) dX0_isStretch_15 (fun h8 => ?_) (fun h8 => ?_)
      · refine zr_iload_n S hl 3 rfl dX0_isStretch_20 ?_
        refine zr_iload_n S hl 0 rfl dX0_isStretch_21 ?_
        refine zr_iload_n S hl 2 rfl dX0_isStretch_22 ?_
        refine zr_isub S dX0_isStretch_23 (fun v9 e10 => ?_)
        refine zr_icmp_gt S 31 (by decide) (by omega) (by omega) dX0_isStretch_24 (fun h11 => ?_) (fun h11 => ?_)
        · refine zr_iconst S dX0_isStretch_31 ?_
          have hz : v3 = zLen σ := e4
          exact zt_zret S hr hlk hw (by omega) (⟨rfl, Or.inr ⟨rfl, by unfold zStr; omega⟩⟩) dX0_isStretch_32
        · refine zr_iconst S dX0_isStretch_27 ?_
          refine zr_goto S 32 (by decide) dX0_isStretch_28 ?_
          have hz : v3 = zLen σ := e4
          exact zt_zret S hr hlk hw (by omega) (⟨rfl, Or.inl ⟨rfl, by unfold zStr; omega⟩⟩) dX0_isStretch_32
      · refine zr_iconst S dX0_isStretch_18 ?_
        have hz : v3 = zLen σ := e4
        exact zt_zret S hr hlk hw (by omega) (⟨rfl, Or.inr ⟨rfl, by unfold zStr; omega⟩⟩) dX0_isStretch_19
set_option maxHeartbeats 4000000 in
theorem met_pairsAround (l : Launch) (g : zG) (σ : zS) (k : Int) (hk : 1 ≤ k ∧ k ≤ 3) (hm : 0 ≤ σ 17 0) : zt_Mi l yX0_pairsAround cX0_pairsAround 5 (some .int) ({ frames := 1, cells := 0, slots := 0, locals := 22 }) g σ [k] (fun r σ' => σ' = σ ∧ r = zPairs σ k) := by
  refine zt_ofi (by decide +kernel) rfl (Nat.le_of_ble_eq_true rfl) ?_
  intro p e s m args below meth c ls ⟨S, hr, hlk, hw⟩ hl
  have hl : lv_has ls 5 [(0, .ref (g.2.2 19)), (1, .int (zI k))] := hl
  refine zr_aload S hl 0 rfl dX0_pairsAround_0 ?_
  refine zr_aload S hl 0 rfl dX0_pairsAround_1 ?_
  refine zt_geti S hw 16 (by decide) rfl dX0_pairsAround_2 (fun v1 e2 r3 => ?_)
  have r3 : (-1) ≤ v1 ∧ v1 ≤ 59 := r3
  refine zr_iload_n S hl 1 rfl dX0_pairsAround_5 ?_
  refine zr_iconst S dX0_pairsAround_6 ?_
  refine zr_isub S dX0_pairsAround_7 (fun v4 e5 => ?_)
  refine zt_calli S hw (met_opensOf l g σ v1 v4 (by omega) (by omega)) kq_opensOf rfl rfl ⟨by decide, by decide⟩ rfl rfl hl.1 (Nat.le_of_ble_eq_true rfl) ⟨Nat.zero_le _, Nat.zero_le _⟩ dX0_pairsAround_8 (fun v8 σ6 H locs p7 hw => ?_)
  obtain ⟨hs_, e9⟩ := p7
  rw [hs_] at hw
  have r10 : -128 ≤ v8 ∧ v8 ≤ 127 := by rw [e9]; exact zOp_r hw.2.2.2.2.1 _ _
  refine zr_istore_n S [(2, .int (zI v8)), (0, .ref (g.2.2 19)), (1, .int (zI k))] hl (by decide) rfl dX0_pairsAround_11 (fun ls hl => ?_)
  refine zr_aload S hl 1 rfl dX0_pairsAround_12 ?_
  refine zr_aload S hl 1 rfl dX0_pairsAround_13 ?_
  refine zt_geti S hw 18 (by decide) rfl dX0_pairsAround_14 (fun v11 e12 r13 => ?_)
  have r13 : (-1) ≤ v11 ∧ v11 ≤ 59 := r13
  refine zr_iload_n S hl 2 rfl dX0_pairsAround_17 ?_
  refine zr_iconst S dX0_pairsAround_18 ?_
  refine zr_isub S dX0_pairsAround_19 (fun v14 e15 => ?_)
  refine zt_calli S hw (met_closesOf l g σ v11 v14 (by omega) (by omega)) kq_closesOf rfl rfl ⟨by decide, by decide⟩ rfl rfl hl.1 (Nat.le_of_ble_eq_true rfl) ⟨Nat.zero_le _, Nat.zero_le _⟩ dX0_pairsAround_20 (fun v18 σ16 H locs p17 hw => ?_)
  obtain ⟨hs_, e19⟩ := p17
  rw [hs_] at hw
  have r20 : -128 ≤ v18 ∧ v18 ≤ 127 := by rw [e19]; exact zCl_r hw.2.2.2.2.1 _ _
  refine zr_istore_n S [(3, .int (zI v18)), (2, .int (zI v8)), (0, .ref (g.2.2 19)), (1, .int (zI k))] hl (by decide) rfl dX0_pairsAround_23 (fun ls hl => ?_)
  refine zr_aload S hl 2 rfl dX0_pairsAround_24 ?_
  refine zt_get S hw 0 (.ref (g.2.2 0)) (by decide) rfl dX0_pairsAround_25 ?_
  refine zr_aload S hl 2 rfl dX0_pairsAround_28 ?_
  refine zt_geti S hw 17 (by decide) rfl dX0_pairsAround_29 (fun v21 e22 r23 => ?_)
  have r23 : (-1) ≤ v21 ∧ v21 ≤ 59 := r23
  refine zt_bald S hw 0 60 1 0 (i := v21) (by omega) (by omega) (by omega) rfl rfl dX0_pairsAround_32 (fun v24 e25 r26 => ?_)
  have r26 : 0 ≤ v24 ∧ v24 ≤ 6 := r26
  refine zr_istore S [(4, .int (zI v24)), (3, .int (zI v18)), (2, .int (zI v8)), (0, .ref (g.2.2 19)), (1, .int (zI k))] hl (by decide) rfl dX0_pairsAround_33 (fun ls hl => ?_)
  refine zr_iload S hl 0 rfl dX0_pairsAround_35 ?_
  refine zr_iload_n S hl 4 rfl dX0_pairsAround_37 ?_
  refine zr_iconst S dX0_pairsAround_38 ?_
  refine zr_iadd S dX0_pairsAround_39 (fun v27 e28 => ?_)
  refine zr_icmp_ne S 50 (by decide) (by omega) (by omega) dX0_pairsAround_40 (fun h29 => ?_) (fun h29 => ?_)
  · refine zr_iload S hl 0 rfl dX0_pairsAround_50 ?_
    refine zr_iload_n S hl 4 rfl dX0_pairsAround_52 ?_
    refine zr_icmp_ne S 63 (by decide) (by omega) (by omega) dX0_pairsAround_53 (fun h30 => ?_) (fun h30 => ?_)
    · refine zr_iload_n S hl 2 rfl dX0_pairsAround_63 ?_
      refine zr_iload_n S hl 1 rfl dX0_pairsAround_64 ?_
      refine zr_icmp_ge S 72 (by decide) (by omega) (by omega) dX0_pairsAround_65 (fun h31 => ?_) (fun h31 => ?_)
      · refine zr_iload_n S hl 1 rfl dX0_pairsAround_72 ?_
        have ho : v8 = zOp σ (σ 16 0) (k - 1) := by rw [e9, e5, e2]
        have hc : v18 = zCl σ (σ 18 0) (k - 1) := by rw [e19, e15, e12]
        have hd : v24 = σ 0 (σ 17 0).toNat := by rw [e25, e22]
        have hw1 : v8 = zPw σ k := by rw [zPw, if_neg (by omega)]; omega
        have hw2 : v18 = zPc σ k := by rw [zPc, if_neg (by omega)]; omega
        exact zt_iret S hr hlk hw (⟨rfl, by rw [zPairs, ← hw1, ← hw2, if_neg (by omega)]⟩) dX0_pairsAround_73
      · refine zr_iload_n S hl 2 rfl dX0_pairsAround_68 ?_
        refine zr_goto S 73 (by decide) dX0_pairsAround_69 ?_
        have ho : v8 = zOp σ (σ 16 0) (k - 1) := by rw [e9, e5, e2]
        have hc : v18 = zCl σ (σ 18 0) (k - 1) := by rw [e19, e15, e12]
        have hd : v24 = σ 0 (σ 17 0).toNat := by rw [e25, e22]
        have hw1 : v8 = zPw σ k := by rw [zPw, if_neg (by omega)]; omega
        have hw2 : v18 = zPc σ k := by rw [zPc, if_neg (by omega)]; omega
        exact zt_iret S hr hlk hw (⟨rfl, by rw [zPairs, ← hw1, ← hw2, if_pos (by omega)]⟩) dX0_pairsAround_73
    · refine zr_iload_n S hl 1 rfl dX0_pairsAround_56 ?_
      refine zr_if_le S 63 (by decide) (by omega) dX0_pairsAround_57 (fun h32 => ?_) (fun h32 => ?_)
      · refine zr_iload_n S hl 2 rfl dX0_pairsAround_63 ?_
        refine zr_iload_n S hl 1 rfl dX0_pairsAround_64 ?_
        refine zr_icmp_ge S 72 (by decide) (by omega) (by omega) dX0_pairsAround_65 (fun h33 => ?_) (fun h33 => ?_)
        · refine zr_iload_n S hl 1 rfl dX0_pairsAround_72 ?_
          have ho : v8 = zOp σ (σ 16 0) (k - 1) := by rw [e9, e5, e2]
          have hc : v18 = zCl σ (σ 18 0) (k - 1) := by rw [e19, e15, e12]
          have hd : v24 = σ 0 (σ 17 0).toNat := by rw [e25, e22]
          have hw1 : v8 = zPw σ k := by rw [zPw, if_neg (by omega)]; omega
          have hw2 : v18 = zPc σ k := by rw [zPc, if_neg (by omega)]; omega
          exact zt_iret S hr hlk hw (⟨rfl, by rw [zPairs, ← hw1, ← hw2, if_neg (by omega)]⟩) dX0_pairsAround_73
        · refine zr_iload_n S hl 2 rfl dX0_pairsAround_68 ?_
          refine zr_goto S 73 (by decide) dX0_pairsAround_69 ?_
          have ho : v8 = zOp σ (σ 16 0) (k - 1) := by rw [e9, e5, e2]
          have hc : v18 = zCl σ (σ 18 0) (k - 1) := by rw [e19, e15, e12]
          have hd : v24 = σ 0 (σ 17 0).toNat := by rw [e25, e22]
          have hw1 : v8 = zPw σ k := by rw [zPw, if_neg (by omega)]; omega
          have hw2 : v18 = zPc σ k := by rw [zPc, if_neg (by omega)]; omega
          exact zt_iret S hr hlk hw (⟨rfl, by rw [zPairs, ← hw1, ← hw2, if_pos (by omega)]⟩) dX0_pairsAround_73
      · obtain ⟨v34, e35⟩ : ∃ v : Int, v = v18 + (-1) := ⟨_, rfl⟩
        refine zr_iinc S v34 e35 [(3, .int (zI v34)), (4, .int (zI v24)), (2, .int (zI v8)), (0, .ref (g.2.2 19)), (1, .int (zI k))] hl 1 rfl (by decide) rfl dX0_pairsAround_60 (fun ls hl => ?_)
        refine zr_iload_n S hl 2 rfl dX0_pairsAround_63 ?_
        refine zr_iload_n S hl 0 rfl dX0_pairsAround_64 ?_
        refine zr_icmp_ge S 72 (by decide) (by omega) (by omega) dX0_pairsAround_65 (fun h36 => ?_) (fun h36 => ?_)
        · refine zr_iload_n S hl 0 rfl dX0_pairsAround_72 ?_
          have ho : v8 = zOp σ (σ 16 0) (k - 1) := by rw [e9, e5, e2]
          have hc : v18 = zCl σ (σ 18 0) (k - 1) := by rw [e19, e15, e12]
          have hd : v24 = σ 0 (σ 17 0).toNat := by rw [e25, e22]
          have hw1 : v8 = zPw σ k := by rw [zPw, if_neg (by omega)]; omega
          have hw2 : v34 = zPc σ k := by rw [zPc, if_pos (by omega)]; omega
          exact zt_iret S hr hlk hw (⟨rfl, by rw [zPairs, ← hw1, ← hw2, if_neg (by omega)]⟩) dX0_pairsAround_73
        · refine zr_iload_n S hl 2 rfl dX0_pairsAround_68 ?_
          refine zr_goto S 73 (by decide) dX0_pairsAround_69 ?_
          have ho : v8 = zOp σ (σ 16 0) (k - 1) := by rw [e9, e5, e2]
          have hc : v18 = zCl σ (σ 18 0) (k - 1) := by rw [e19, e15, e12]
          have hd : v24 = σ 0 (σ 17 0).toNat := by rw [e25, e22]
          have hw1 : v8 = zPw σ k := by rw [zPw, if_neg (by omega)]; omega
          have hw2 : v34 = zPc σ k := by rw [zPc, if_pos (by omega)]; omega
          exact zt_iret S hr hlk hw (⟨rfl, by rw [zPairs, ← hw1, ← hw2, if_pos (by omega)]⟩) dX0_pairsAround_73
  · refine zr_iload_n S hl 2 rfl dX0_pairsAround_43 ?_
    refine zr_if_le S 50 (by decide) (by omega) dX0_pairsAround_44 (fun h37 => ?_) (fun h37 => ?_)
    · refine zr_iload S hl 0 rfl dX0_pairsAround_50 ?_
      refine zr_iload_n S hl 4 rfl dX0_pairsAround_52 ?_
      refine zr_icmp_ne S 63 (by decide) (by omega) (by omega) dX0_pairsAround_53 (fun h38 => ?_) (fun h38 => ?_)
      · refine zr_iload_n S hl 2 rfl dX0_pairsAround_63 ?_
        refine zr_iload_n S hl 1 rfl dX0_pairsAround_64 ?_
        refine zr_icmp_ge S 72 (by decide) (by omega) (by omega) dX0_pairsAround_65 (fun h39 => ?_) (fun h39 => ?_)
        · refine zr_iload_n S hl 1 rfl dX0_pairsAround_72 ?_
          have ho : v8 = zOp σ (σ 16 0) (k - 1) := by rw [e9, e5, e2]
          have hc : v18 = zCl σ (σ 18 0) (k - 1) := by rw [e19, e15, e12]
          have hd : v24 = σ 0 (σ 17 0).toNat := by rw [e25, e22]
          have hw1 : v8 = zPw σ k := by rw [zPw, if_neg (by omega)]; omega
          have hw2 : v18 = zPc σ k := by rw [zPc, if_neg (by omega)]; omega
          exact zt_iret S hr hlk hw (⟨rfl, by rw [zPairs, ← hw1, ← hw2, if_neg (by omega)]⟩) dX0_pairsAround_73
        · refine zr_iload_n S hl 2 rfl dX0_pairsAround_68 ?_
          refine zr_goto S 73 (by decide) dX0_pairsAround_69 ?_
          have ho : v8 = zOp σ (σ 16 0) (k - 1) := by rw [e9, e5, e2]
          have hc : v18 = zCl σ (σ 18 0) (k - 1) := by rw [e19, e15, e12]
          have hd : v24 = σ 0 (σ 17 0).toNat := by rw [e25, e22]
          have hw1 : v8 = zPw σ k := by rw [zPw, if_neg (by omega)]; omega
          have hw2 : v18 = zPc σ k := by rw [zPc, if_neg (by omega)]; omega
          exact zt_iret S hr hlk hw (⟨rfl, by rw [zPairs, ← hw1, ← hw2, if_pos (by omega)]⟩) dX0_pairsAround_73
      · refine zr_iload_n S hl 1 rfl dX0_pairsAround_56 ?_
        refine zr_if_le S 63 (by decide) (by omega) dX0_pairsAround_57 (fun h40 => ?_) (fun h40 => ?_)
        · refine zr_iload_n S hl 2 rfl dX0_pairsAround_63 ?_
          refine zr_iload_n S hl 1 rfl dX0_pairsAround_64 ?_
          refine zr_icmp_ge S 72 (by decide) (by omega) (by omega) dX0_pairsAround_65 (fun h41 => ?_) (fun h41 => ?_)
          · refine zr_iload_n S hl 1 rfl dX0_pairsAround_72 ?_
            have ho : v8 = zOp σ (σ 16 0) (k - 1) := by rw [e9, e5, e2]
            have hc : v18 = zCl σ (σ 18 0) (k - 1) := by rw [e19, e15, e12]
            have hd : v24 = σ 0 (σ 17 0).toNat := by rw [e25, e22]
            have hw1 : v8 = zPw σ k := by rw [zPw, if_neg (by omega)]; omega
            have hw2 : v18 = zPc σ k := by rw [zPc, if_neg (by omega)]; omega
            exact zt_iret S hr hlk hw (⟨rfl, by rw [zPairs, ← hw1, ← hw2, if_neg (by omega)]⟩) dX0_pairsAround_73
          · refine zr_iload_n S hl 2 rfl dX0_pairsAround_68 ?_
            refine zr_goto S 73 (by decide) dX0_pairsAround_69 ?_
            have ho : v8 = zOp σ (σ 16 0) (k - 1) := by rw [e9, e5, e2]
            have hc : v18 = zCl σ (σ 18 0) (k - 1) := by rw [e19, e15, e12]
            have hd : v24 = σ 0 (σ 17 0).toNat := by rw [e25, e22]
            have hw1 : v8 = zPw σ k := by rw [zPw, if_neg (by omega)]; omega
            have hw2 : v18 = zPc σ k := by rw [zPc, if_neg (by omega)]; omega
            exact zt_iret S hr hlk hw (⟨rfl, by rw [zPairs, ← hw1, ← hw2, if_pos (by omega)]⟩) dX0_pairsAround_73
        · obtain ⟨v42, e43⟩ : ∃ v : Int, v = v18 + (-1) := ⟨_, rfl⟩
          refine zr_iinc S v42 e43 [(3, .int (zI v42)), (4, .int (zI v24)), (2, .int (zI v8)), (0, .ref (g.2.2 19)), (1, .int (zI k))] hl 1 rfl (by decide) rfl dX0_pairsAround_60 (fun ls hl => ?_)
          refine zr_iload_n S hl 2 rfl dX0_pairsAround_63 ?_
          refine zr_iload_n S hl 0 rfl dX0_pairsAround_64 ?_
          refine zr_icmp_ge S 72 (by decide) (by omega) (by omega) dX0_pairsAround_65 (fun h44 => ?_) (fun h44 => ?_)
          · refine zr_iload_n S hl 0 rfl dX0_pairsAround_72 ?_
            have ho : v8 = zOp σ (σ 16 0) (k - 1) := by rw [e9, e5, e2]
            have hc : v18 = zCl σ (σ 18 0) (k - 1) := by rw [e19, e15, e12]
            have hd : v24 = σ 0 (σ 17 0).toNat := by rw [e25, e22]
            have hw1 : v8 = zPw σ k := by rw [zPw, if_neg (by omega)]; omega
            have hw2 : v42 = zPc σ k := by rw [zPc, if_pos (by omega)]; omega
            exact zt_iret S hr hlk hw (⟨rfl, by rw [zPairs, ← hw1, ← hw2, if_neg (by omega)]⟩) dX0_pairsAround_73
          · refine zr_iload_n S hl 2 rfl dX0_pairsAround_68 ?_
            refine zr_goto S 73 (by decide) dX0_pairsAround_69 ?_
            have ho : v8 = zOp σ (σ 16 0) (k - 1) := by rw [e9, e5, e2]
            have hc : v18 = zCl σ (σ 18 0) (k - 1) := by rw [e19, e15, e12]
            have hd : v24 = σ 0 (σ 17 0).toNat := by rw [e25, e22]
            have hw1 : v8 = zPw σ k := by rw [zPw, if_neg (by omega)]; omega
            have hw2 : v42 = zPc σ k := by rw [zPc, if_pos (by omega)]; omega
            exact zt_iret S hr hlk hw (⟨rfl, by rw [zPairs, ← hw1, ← hw2, if_pos (by omega)]⟩) dX0_pairsAround_73
    · obtain ⟨v45, e46⟩ : ∃ v : Int, v = v8 + (-1) := ⟨_, rfl⟩
      refine zr_iinc S v45 e46 [(2, .int (zI v45)), (4, .int (zI v24)), (3, .int (zI v18)), (0, .ref (g.2.2 19)), (1, .int (zI k))] hl 2 rfl (by decide) rfl dX0_pairsAround_47 (fun ls hl => ?_)
      refine zr_iload S hl 1 rfl dX0_pairsAround_50 ?_
      refine zr_iload_n S hl 4 rfl dX0_pairsAround_52 ?_
      refine zr_icmp_ne S 63 (by decide) (by omega) (by omega) dX0_pairsAround_53 (fun h47 => ?_) (fun h47 => ?_)
      · refine zr_iload_n S hl 0 rfl dX0_pairsAround_63 ?_
        refine zr_iload_n S hl 2 rfl dX0_pairsAround_64 ?_
        refine zr_icmp_ge S 72 (by decide) (by omega) (by omega) dX0_pairsAround_65 (fun h48 => ?_) (fun h48 => ?_)
        · refine zr_iload_n S hl 2 rfl dX0_pairsAround_72 ?_
          have ho : v8 = zOp σ (σ 16 0) (k - 1) := by rw [e9, e5, e2]
          have hc : v18 = zCl σ (σ 18 0) (k - 1) := by rw [e19, e15, e12]
          have hd : v24 = σ 0 (σ 17 0).toNat := by rw [e25, e22]
          have hw1 : v45 = zPw σ k := by rw [zPw, if_pos (by omega)]; omega
          have hw2 : v18 = zPc σ k := by rw [zPc, if_neg (by omega)]; omega
          exact zt_iret S hr hlk hw (⟨rfl, by rw [zPairs, ← hw1, ← hw2, if_neg (by omega)]⟩) dX0_pairsAround_73
        · refine zr_iload_n S hl 0 rfl dX0_pairsAround_68 ?_
          refine zr_goto S 73 (by decide) dX0_pairsAround_69 ?_
          have ho : v8 = zOp σ (σ 16 0) (k - 1) := by rw [e9, e5, e2]
          have hc : v18 = zCl σ (σ 18 0) (k - 1) := by rw [e19, e15, e12]
          have hd : v24 = σ 0 (σ 17 0).toNat := by rw [e25, e22]
          have hw1 : v45 = zPw σ k := by rw [zPw, if_pos (by omega)]; omega
          have hw2 : v18 = zPc σ k := by rw [zPc, if_neg (by omega)]; omega
          exact zt_iret S hr hlk hw (⟨rfl, by rw [zPairs, ← hw1, ← hw2, if_pos (by omega)]⟩) dX0_pairsAround_73
      · refine zr_iload_n S hl 2 rfl dX0_pairsAround_56 ?_
        refine zr_if_le S 63 (by decide) (by omega) dX0_pairsAround_57 (fun h49 => ?_) (fun h49 => ?_)
        · refine zr_iload_n S hl 0 rfl dX0_pairsAround_63 ?_
          refine zr_iload_n S hl 2 rfl dX0_pairsAround_64 ?_
          refine zr_icmp_ge S 72 (by decide) (by omega) (by omega) dX0_pairsAround_65 (fun h50 => ?_) (fun h50 => ?_)
          · refine zr_iload_n S hl 2 rfl dX0_pairsAround_72 ?_
            have ho : v8 = zOp σ (σ 16 0) (k - 1) := by rw [e9, e5, e2]
            have hc : v18 = zCl σ (σ 18 0) (k - 1) := by rw [e19, e15, e12]
            have hd : v24 = σ 0 (σ 17 0).toNat := by rw [e25, e22]
            have hw1 : v45 = zPw σ k := by rw [zPw, if_pos (by omega)]; omega
            have hw2 : v18 = zPc σ k := by rw [zPc, if_neg (by omega)]; omega
            exact zt_iret S hr hlk hw (⟨rfl, by rw [zPairs, ← hw1, ← hw2, if_neg (by omega)]⟩) dX0_pairsAround_73
          · refine zr_iload_n S hl 0 rfl dX0_pairsAround_68 ?_
            refine zr_goto S 73 (by decide) dX0_pairsAround_69 ?_
            have ho : v8 = zOp σ (σ 16 0) (k - 1) := by rw [e9, e5, e2]
            have hc : v18 = zCl σ (σ 18 0) (k - 1) := by rw [e19, e15, e12]
            have hd : v24 = σ 0 (σ 17 0).toNat := by rw [e25, e22]
            have hw1 : v45 = zPw σ k := by rw [zPw, if_pos (by omega)]; omega
            have hw2 : v18 = zPc σ k := by rw [zPc, if_neg (by omega)]; omega
            exact zt_iret S hr hlk hw (⟨rfl, by rw [zPairs, ← hw1, ← hw2, if_pos (by omega)]⟩) dX0_pairsAround_73
        · obtain ⟨v51, e52⟩ : ∃ v : Int, v = v18 + (-1) := ⟨_, rfl⟩
          refine zr_iinc S v51 e52 [(3, .int (zI v51)), (2, .int (zI v45)), (4, .int (zI v24)), (0, .ref (g.2.2 19)), (1, .int (zI k))] hl 2 rfl (by decide) rfl dX0_pairsAround_60 (fun ls hl => ?_)
          refine zr_iload_n S hl 1 rfl dX0_pairsAround_63 ?_
          refine zr_iload_n S hl 0 rfl dX0_pairsAround_64 ?_
          refine zr_icmp_ge S 72 (by decide) (by omega) (by omega) dX0_pairsAround_65 (fun h53 => ?_) (fun h53 => ?_)
          · refine zr_iload_n S hl 0 rfl dX0_pairsAround_72 ?_
            have ho : v8 = zOp σ (σ 16 0) (k - 1) := by rw [e9, e5, e2]
            have hc : v18 = zCl σ (σ 18 0) (k - 1) := by rw [e19, e15, e12]
            have hd : v24 = σ 0 (σ 17 0).toNat := by rw [e25, e22]
            have hw1 : v45 = zPw σ k := by rw [zPw, if_pos (by omega)]; omega
            have hw2 : v51 = zPc σ k := by rw [zPc, if_pos (by omega)]; omega
            exact zt_iret S hr hlk hw (⟨rfl, by rw [zPairs, ← hw1, ← hw2, if_neg (by omega)]⟩) dX0_pairsAround_73
          · refine zr_iload_n S hl 1 rfl dX0_pairsAround_68 ?_
            refine zr_goto S 73 (by decide) dX0_pairsAround_69 ?_
            have ho : v8 = zOp σ (σ 16 0) (k - 1) := by rw [e9, e5, e2]
            have hc : v18 = zCl σ (σ 18 0) (k - 1) := by rw [e19, e15, e12]
            have hd : v24 = σ 0 (σ 17 0).toNat := by rw [e25, e22]
            have hw1 : v45 = zPw σ k := by rw [zPw, if_pos (by omega)]; omega
            have hw2 : v51 = zPc σ k := by rw [zPc, if_pos (by omega)]; omega
            exact zt_iret S hr hlk hw (⟨rfl, by rw [zPairs, ← hw1, ← hw2, if_pos (by omega)]⟩) dX0_pairsAround_73
set_option maxHeartbeats 4000000 in
theorem met_nodeAt (l : Launch) (g : zG) (σ : zS) (k y : Int) (σ2 : zS) (hk : 0 ≤ k ∧ k ≤ 60) (hN : zNa 60 σ (σ 8 0) k = some (σ2, y)) : zt_Mi l yX0_nodeAt cX0_nodeAt 6 (some .int) ({ frames := 2, cells := 0, slots := 0, locals := 45 }) g σ [k] (fun r σ' => σ' = σ2 ∧ r = y ∧ (0 ≤ r ∧ r ≤ 59)) := by
  refine zt_ofi (by decide +kernel) rfl (Nat.le_of_ble_eq_true rfl) ?_
  intro p e s m args below meth c ls ⟨S, hr, hlk, hw⟩ hl
  have hl : lv_has ls 6 [(0, .ref (g.2.2 19)), (1, .int (zI k))] := hl
  have loop : ∀ (n : Nat) (x q sp : Int) (σ1 : zS) (H : Heap) (locs : List Loc) (ls : Array Slot), n ≤ 60 → sp = 60 - n → (-1 ≤ x ∧ x ≤ 59) → (0 ≤ q ∧ q ≤ 60 + 200 * sp) → zt_W g (zt_A g s.heap.size) s H locs σ1 → lv_has ls 6 [(0, .ref (g.2.2 19)), (2, .int (zI x)), (3, .int (zI q)), (4, .int (zI sp))] → zNa n σ1 x q = some (σ2, y) → W p l e ({ frames := 2, cells := 0, slots := 0, locals := 45 }) s m args below meth c H locs 0 0 (zt_Ei g (fun r σ' => σ' = σ2 ∧ r = y ∧ (0 ≤ r ∧ r ≤ 59)) below args s) (F0 m 10 ls []) := by
    intro n
    induction n with
    | zero =>
      intro x q sp σ1 H locs ls hn hsp hx hq0 hw hl hq
      rw [zNa] at hq
      cases hq
    | succ n ih =>
      intro x q sp σ1 H locs ls hn hsp hx hq0 hw hl hq
      have hx0 : ¬ x < 0 := fun h => by rw [zNa, if_pos h] at hq; cases hq
      rw [zNa, if_neg hx0] at hq
      refine zr_iload S hl 3 rfl dX0_nodeAt_10 ?_
      refine zr_bipush S (by decide +kernel) dX0_nodeAt_12 ?_
      refine zr_icmp_ge S 78 (by decide) (by omega) (by omega) dX0_nodeAt_14 (fun ch1 => by omega) (fun ch1 => ?_)
      refine zr_aload S hl 0 rfl dX0_nodeAt_17 ?_
      refine zr_iload_n S hl 1 rfl dX0_nodeAt_18 ?_
      refine zt_callv S hw (met_settle l g σ1 x (by omega)) kq_settle rfl rfl ⟨by decide, by decide⟩ rfl rfl hl.1 (Nat.le_of_ble_eq_true rfl) ⟨Nat.zero_le _, Nat.zero_le _⟩ dX0_nodeAt_19 (fun cσ2 H locs cp3 hw => ?_)
      refine zr_aload S hl 0 rfl dX0_nodeAt_22 ?_
      refine zr_aload S hl 0 rfl dX0_nodeAt_23 ?_
      refine zt_get S hw 1 (.ref (g.2.2 1)) (by decide) rfl dX0_nodeAt_24 ?_
      refine zr_iload_n S hl 1 rfl dX0_nodeAt_27 ?_
      refine zt_bald S hw 1 60 2 1 (i := x) (by omega) (by omega) (by omega) rfl rfl dX0_nodeAt_28 (fun cv4 ce5 cr6 => ?_)
      have cr6 : (-1) ≤ cv4 ∧ cv4 ≤ 59 := cr6
      refine zt_calli S hw (met_sizeOf l g cσ2 cv4 (by omega)) kq_sizeOf rfl rfl ⟨by decide, by decide⟩ rfl rfl hl.1 (Nat.le_of_ble_eq_true rfl) ⟨Nat.zero_le _, Nat.zero_le _⟩ dX0_nodeAt_29 (fun cv9 cσ7 H locs cp8 hw => ?_)
      obtain ⟨hs_, ce10⟩ := cp8
      rw [hs_] at hw
      have cr11 : -128 ≤ cv9 ∧ cv9 ≤ 127 := by rw [ce10]; exact zSz_r hw.2.2.2.2.1 _
      refine zr_istore S [(5, .int (zI cv9)), (0, .ref (g.2.2 19)), (2, .int (zI x)), (3, .int (zI q)), (4, .int (zI sp))] hl (by decide) rfl dX0_nodeAt_32 (fun ls hl => ?_)
      refine zr_iload_n S hl 3 rfl dX0_nodeAt_34 ?_
      refine zr_iload S hl 0 rfl dX0_nodeAt_35 ?_
      refine zr_icmp_ne S 42 (by decide) (by omega) (by omega) dX0_nodeAt_37 (fun ch12 => ?_) (fun ch12 => ?_)
      · refine zr_iload_n S hl 3 rfl dX0_nodeAt_42 ?_
        refine zr_iload S hl 0 rfl dX0_nodeAt_43 ?_
        refine zr_icmp_ge S 58 (by decide) (by omega) (by omega) dX0_nodeAt_45 (fun ch13 => ?_) (fun ch13 => ?_)
        · refine zr_iload_n S hl 3 rfl dX0_nodeAt_58 ?_
          refine zr_iload S hl 0 rfl dX0_nodeAt_59 ?_
          refine zr_iconst S dX0_nodeAt_61 ?_
          refine zr_iadd S dX0_nodeAt_62 (fun cv14 ce15 => ?_)
          refine zr_isub S dX0_nodeAt_63 (fun cv16 ce17 => ?_)
          refine zr_istore_n S [(3, .int (zI cv16)), (5, .int (zI cv9)), (0, .ref (g.2.2 19)), (2, .int (zI x)), (4, .int (zI sp))] hl (by decide) rfl dX0_nodeAt_64 (fun ls hl => ?_)
          refine zr_aload S hl 2 rfl dX0_nodeAt_65 ?_
          refine zt_get S hw 2 (.ref (g.2.2 2)) (by decide) rfl dX0_nodeAt_66 ?_
          refine zr_iload_n S hl 3 rfl dX0_nodeAt_69 ?_
          refine zt_bald S hw 2 60 3 2 (i := x) (by omega) (by omega) (by omega) rfl rfl dX0_nodeAt_70 (fun cv18 ce19 cr20 => ?_)
          have cr20 : (-1) ≤ cv18 ∧ cv18 ≤ 59 := cr20
          refine zr_istore_n S [(2, .int (zI cv18)), (3, .int (zI cv16)), (5, .int (zI cv9)), (0, .ref (g.2.2 19)), (4, .int (zI sp))] hl (by decide) rfl dX0_nodeAt_71 (fun ls hl => ?_)
          obtain ⟨cv21, ce22⟩ : ∃ v : Int, v = sp + 1 := ⟨_, rfl⟩
          refine zr_iinc S cv21 ce22 [(4, .int (zI cv21)), (2, .int (zI cv18)), (3, .int (zI cv16)), (5, .int (zI cv9)), (0, .ref (g.2.2 19))] hl 4 rfl (by decide) rfl dX0_nodeAt_72 (fun ls hl => ?_)
          refine zr_goto S 10 (by decide) dX0_nodeAt_75 ?_
          have hlow : cv9 = zNw σ1 x := by rw [ce10, ce5, cp3]; rfl
          rw [if_neg (by omega), if_neg (by omega)] at hq
          exact ih cv18 cv16 cv21 cσ2 H locs ls (by omega) (by omega) (by omega) (by omega) hw (lv_sub hl [4, 1, 2, 0] rfl) (by rw [← hq, ce19, cp3, show cv16 = q - (zNw σ1 x + 1) by omega])
        · refine zr_aload S hl 1 rfl dX0_nodeAt_48 ?_
          refine zt_get S hw 1 (.ref (g.2.2 1)) (by decide) rfl dX0_nodeAt_49 ?_
          refine zr_iload_n S hl 2 rfl dX0_nodeAt_52 ?_
          refine zt_bald S hw 1 60 2 1 (i := x) (by omega) (by omega) (by omega) rfl rfl dX0_nodeAt_53 (fun cv23 ce24 cr25 => ?_)
          have cr25 : (-1) ≤ cv23 ∧ cv23 ≤ 59 := cr25
          refine zr_istore_n S [(2, .int (zI cv23)), (5, .int (zI cv9)), (0, .ref (g.2.2 19)), (3, .int (zI q)), (4, .int (zI sp))] hl (by decide) rfl dX0_nodeAt_54 (fun ls hl => ?_)
          refine zr_goto S 72 (by decide) dX0_nodeAt_55 ?_
          obtain ⟨cv26, ce27⟩ : ∃ v : Int, v = sp + 1 := ⟨_, rfl⟩
          refine zr_iinc S cv26 ce27 [(4, .int (zI cv26)), (2, .int (zI cv23)), (5, .int (zI cv9)), (0, .ref (g.2.2 19)), (3, .int (zI q))] hl 4 rfl (by decide) rfl dX0_nodeAt_72 (fun ls hl => ?_)
          refine zr_goto S 10 (by decide) dX0_nodeAt_75 ?_
          have hlow : cv9 = zNw σ1 x := by rw [ce10, ce5, cp3]; rfl
          rw [if_neg (by omega), if_pos (by omega)] at hq
          exact ih cv23 q cv26 cσ2 H locs ls (by omega) (by omega) (by omega) (by omega) hw (lv_sub hl [3, 1, 4, 0] rfl) (by rw [← hq, ce24, cp3])
      · refine zr_iload_n S hl 2 rfl dX0_nodeAt_40 ?_
        have hlow : cv9 = zNw σ1 x := by rw [ce10, ce5, cp3]; rfl
        rw [if_pos (by omega)] at hq
        have hq := Option.some.inj hq
        exact zt_iret S hr hlk hw (⟨by rw [cp3]; exact congrArg Prod.fst hq, congrArg Prod.snd hq, by omega⟩) dX0_nodeAt_41
  refine zr_aload S hl 0 rfl dX0_nodeAt_0 ?_
  refine zt_geti S hw 8 (by decide) rfl dX0_nodeAt_1 (fun v1 e2 r3 => ?_)
  have r3 : (-1) ≤ v1 ∧ v1 ≤ 59 := r3
  refine zr_istore_n S [(2, .int (zI v1)), (0, .ref (g.2.2 19)), (1, .int (zI k))] hl (by decide) rfl dX0_nodeAt_4 (fun ls hl => ?_)
  refine zr_iload_n S hl 2 rfl dX0_nodeAt_5 ?_
  refine zr_istore_n S [(3, .int (zI k)), (2, .int (zI v1)), (0, .ref (g.2.2 19)), (1, .int (zI k))] hl (by decide) rfl dX0_nodeAt_6 (fun ls hl => ?_)
  refine zr_iconst S dX0_nodeAt_7 ?_
  refine zr_istore S [(4, .int (zI 0)), (3, .int (zI k)), (2, .int (zI v1)), (0, .ref (g.2.2 19)), (1, .int (zI k))] hl (by decide) rfl dX0_nodeAt_8 (fun ls hl => ?_)
  exact loop 60 v1 k 0 σ s.heap [] ls (by decide) (by decide) (by omega) (by omega) hw (lv_sub hl [3, 2, 1, 0] rfl) (by rw [e2]; exact hN)
end
section
/-! release, firstLooseClose, lastLooseOpen -/
theorem zPush_o (σ : zS) (x : Int) (i : Nat) {k : Nat} (h : k ≠ 12) (h' : k ≠ 13) : zPush σ x k i = σ k i := by rw [zPush, zs_ne h', zs_ne h]
def zRx (σ : zS) : Int := σ 12 (σ 13 0 - 1).toNat
def zRs1 (σ : zS) : zS := zs_st σ 13 0 (σ 13 0 - 1)
def zRs2 (σ : zS) (x : Int) : zS := if σ 1 x.toNat < 0 then σ else zPush σ (σ 1 x.toNat)
def zRs3 (σ : zS) (x : Int) : zS := if σ 2 x.toNat < 0 then σ else zPush σ (σ 2 x.toNat)
def zRs4 (σ : zS) (x : Int) : zS := zs_st (zs_st σ 10 (σ 11 0).toNat x) 11 0 (σ 11 0 + 1)
def zRs (σ : zS) : zS := zRs4 (zRs3 (zRs2 (zRs1 σ) (zRx σ)) (zRx σ)) (zRx σ)
def zRl : Nat → zS → zS
  | 0, σ => σ
  | n + 1, σ => if σ 13 0 ≤ 0 then σ else zRl n (zRs σ)
def zRok : Nat → zS → Prop
  | 0, _ => True
  | n + 1, σ => σ 13 0 ≤ 0 ∨ (σ 11 0 ≤ 59 ∧ zRok n (zRs σ))
def zRel0 (σ : zS) (t : Int) : zS := if t < 0 then zs_st σ 13 0 0 else zPush (zs_st σ 13 0 0) t
def zRel (σ : zS) (t : Int) : zS := zRl 60 (zRel0 σ t)
def zFo (σ : zS) (l k o : Int) : Int := o + (zOp σ l k - zCl σ l k)
def zFd (σ : zS) (x k o : Int) : Int := if σ 0 x.toNat = k + 4 then o - 1 else if σ 0 x.toNat = k + 1 then o + 1 else o
def zFl : Nat → zS → Int → Int → Int → Int → zS × Int
  | 0, σ, _, _, _, _ => (σ, -1)
  | n + 1, σ, x, k, o, f => if x < 0 then (σ, -1) else if o < zCl (zSettle σ x) (zSettle σ x 1 x.toNat) k then zFl n (zSettle σ x) (zSettle σ x 1 x.toNat) k o f
    else if zSettle σ x 0 x.toNat = k + 4 ∧ zFo (zSettle σ x) (zSettle σ x 1 x.toNat) k o = 0 then (zSettle σ x, f + zSz (zSettle σ x) (zSettle σ x 1 x.toNat))
    else zFl n (zSettle σ x) (zSettle σ x 2 x.toNat) k (zFd (zSettle σ x) x k (zFo (zSettle σ x) (zSettle σ x 1 x.toNat) k o)) (f + zSz (zSettle σ x) (zSettle σ x 1 x.toNat) + 1)
def zLo (σ : zS) (l k o : Int) : Int := o + (zCl σ l k - zOp σ l k)
def zLd (σ : zS) (x k o : Int) : Int := if σ 0 x.toNat = k + 1 then o - 1 else if σ 0 x.toNat = k + 4 then o + 1 else o
def zLl : Nat → zS → Int → Int → Int → Int → zS × Int
  | 0, σ, _, _, _, _ => (σ, -1)
  | n + 1, σ, x, k, o, f => if x < 0 then (σ, -1) else if o < zOp (zSettle σ x) (zSettle σ x 2 x.toNat) k then zLl n (zSettle σ x) (zSettle σ x 2 x.toNat) k o f
    else if zSettle σ x 0 x.toNat = k + 1 ∧ zLo (zSettle σ x) (zSettle σ x 2 x.toNat) k o = 0 then (zSettle σ x, f - zSz (zSettle σ x) (zSettle σ x 2 x.toNat) - 1)
    else zLl n (zSettle σ x) (zSettle σ x 1 x.toNat) k (zLd (zSettle σ x) x k (zLo (zSettle σ x) (zSettle σ x 2 x.toNat) k o)) (f - zSz (zSettle σ x) (zSettle σ x 2 x.toNat) - 1)
set_option maxHeartbeats 4000000 in
theorem met_release (l : Launch) (g : zG) (σ : zS) (t : Int) (ht : -1 ≤ t ∧ t ≤ 59) (hR : zRok 60 (zRel0 σ t)) : zt_Mv l yX0_release cX0_release 4 ({ frames := 1, cells := 0, slots := 0, locals := 21 }) g σ [t] (fun σ' => σ' = zRel σ t) := by
  refine zt_ofv (by decide +kernel) rfl (Nat.le_of_ble_eq_true rfl) ?_
  intro p e s m args below meth c ls ⟨S, hr, hlk, hw⟩ hl
  have hl : lv_has ls 4 [(0, .ref (g.2.2 19)), (1, .int (zI t))] := hl
  have loop : ∀ (n : Nat) (sp : Int) (σ1 : zS) (H : Heap) (locs : List Loc) (ls : Array Slot), n ≤ 60 → sp = 60 - n → σ1 13 0 ≤ 1 + sp → zt_W g (zt_A g s.heap.size) s H locs σ1 → lv_has ls 4 [(0, .ref (g.2.2 19)), (2, .int (zI sp))] → zRok n σ1 → zRl n σ1 = zRel σ t → W p l e ({ frames := 1, cells := 0, slots := 0, locals := 21 }) s m args below meth c H locs 0 0 (zt_Ev g (fun σ' => σ' = zRel σ t) below args s) (F0 m 16 ls []) := by
    intro n
    induction n with
    | zero =>
      intro sp σ1 H locs ls hn hsp hp hw hl hok hq
      refine zr_iload_n S hl 1 rfl dX0_release_16 ?_
      refine zr_bipush S (by decide +kernel) dX0_release_17 ?_
      refine zr_icmp_ge S 114 (by decide) (by omega) (by omega) dX0_release_19 (fun ah1 => ?_) (fun ah1 => by omega)
      exact zt_vret S hr hlk hw (hq) dX0_release_114
    | succ n ih =>
      intro sp σ1 H locs ls hn hsp hp hw hl hok hq
      have hok : σ1 13 0 ≤ 0 ∨ (σ1 11 0 ≤ 59 ∧ zRok n (zRs σ1)) := hok
      have h13 : 0 ≤ σ1 13 0 ∧ σ1 13 0 ≤ 64 := hw.2.2.2.2.1 13 0
      have c87 : ∀ (x : Int) (σ3 : zS) (H : Heap) (locs : List Loc) (ls : Array Slot), x = zRx σ1 → (0 ≤ x ∧ x ≤ 59) → zRs4 σ3 x = zRs σ1 → σ1 11 0 ≤ 59 → zRok n (zRs σ1) → zRl n (zRs σ1) = zRel σ t → σ3 13 0 ≤ σ1 13 0 + 1 → σ3 11 0 = σ1 11 0 → zt_W g (zt_A g s.heap.size) s H locs σ3 → lv_has ls 4 [(0, .ref (g.2.2 19)), (2, .int (zI sp)), (3, .int (zI x))] → W p l e ({ frames := 1, cells := 0, slots := 0, locals := 21 }) s m args below meth c H locs 0 0 (zt_Ev g (fun σ' => σ' = zRel σ t) below args s) (F0 m 87 ls []) := by
        intro x σ3 H locs ls hx hx2 e3 h59 hok2 hq2 h13b h11 hw hl
        refine zr_aload S hl 0 rfl dX0_release_87 ?_
        refine zt_get S hw 10 (.ref (g.2.2 10)) (by decide) rfl dX0_release_88 ?_
        refine zr_aload S hl 0 rfl dX0_release_91 ?_
        refine zt_geti S hw 11 (by decide) rfl dX0_release_92 (fun bv1 be2 br3 => ?_)
        have br3 : 0 ≤ bv1 ∧ bv1 ≤ 60 := br3
        refine zr_iload_n S hl 2 rfl dX0_release_95 ?_
        refine zr_i2b S dX0_release_96 (fun bv4 be5 => ?_)
        have be5 : bv4 = x := be5.trans (zB_id (by omega) (by omega))
        refine zt_bast S hw 10 60 9 8 (i := bv1) (z := bv4) (by omega) (by omega) (by omega) (by omega) (show 0 ≤ (bv4 : Int) ∧ (bv4 : Int) ≤ 59 by omega) rfl rfl (zt_s10 g σ3 _ _) dX0_release_97 (fun bσ6 H locs bs7 hw => ?_)
        refine zr_aload S hl 0 rfl dX0_release_98 ?_
        refine zr_dup S rfl dX0_release_99 ?_
        refine zt_geti S hw 11 (by decide) rfl dX0_release_100 (fun bv8 be9 br10 => ?_)
        have br10 : 0 ≤ bv8 ∧ bv8 ≤ 60 := br10
        have bf11 : bv8 = σ3 11 0 := by rw [be9, bs7, zs_ne (by decide)]
        refine zr_iconst S dX0_release_103 ?_
        refine zr_iadd S dX0_release_104 (fun bv12 be13 => ?_)
        refine zt_put S hw 11 (by decide) (zt_s11 g bσ6 bv12) rfl (by decide +kernel) (Nat.le_of_ble_eq_true rfl) (show 0 ≤ (bv12 : Int) ∧ (bv12 : Int) ≤ 60 by omega) dX0_release_105 (fun bσ14 H locs bs15 hw => ?_)
        obtain ⟨bv16, be17⟩ : ∃ v : Int, v = sp + 1 := ⟨_, rfl⟩
        refine zr_iinc S bv16 be17 [(2, .int (zI bv16)), (0, .ref (g.2.2 19)), (3, .int (zI x))] hl 1 rfl (by decide) rfl dX0_release_108 (fun ls hl => ?_)
        refine zr_goto S 16 (by decide) dX0_release_111 ?_
        have hc : bσ14 = zRs4 σ3 x := by rw [bs15, bs7, be5, zRs4, ← be2, show bv12 = bv1 + 1 by omega]
        have hk : bσ14 = zRs σ1 := by rw [hc, e3]
        have hp2 : bσ14 13 0 = σ3 13 0 := by rw [hc, zRs4, zs_ne (by decide), zs_ne (by decide)]
        exact ih bv16 bσ14 H locs ls (by omega) (by omega) (by omega) hw (lv_sub hl [1, 0] rfl) (by rw [hk]; exact hok2) (by rw [hk]; exact hq2)
      have c68 : ∀ (x : Int) (σ3 : zS) (H : Heap) (locs : List Loc) (ls : Array Slot), x = zRx σ1 → (0 ≤ x ∧ x ≤ 59) → σ3 = zRs2 (zRs1 σ1) x → σ1 11 0 ≤ 59 → zRok n (zRs σ1) → zRl n (zRs σ1) = zRel σ t → σ3 13 0 ≤ σ1 13 0 → σ3 11 0 = σ1 11 0 → zt_W g (zt_A g s.heap.size) s H locs σ3 → lv_has ls 4 [(0, .ref (g.2.2 19)), (2, .int (zI sp)), (3, .int (zI x))] → W p l e ({ frames := 1, cells := 0, slots := 0, locals := 21 }) s m args below meth c H locs 0 0 (zt_Ev g (fun σ' => σ' = zRel σ t) below args s) (F0 m 68 ls []) := by
        intro x σ3 H locs ls hx hx2 e3 h59 hok2 hq2 h13b h11 hw hl
        refine zr_aload S hl 0 rfl dX0_release_68 ?_
        refine zt_get S hw 2 (.ref (g.2.2 2)) (by decide) rfl dX0_release_69 ?_
        refine zr_iload_n S hl 2 rfl dX0_release_72 ?_
        refine zt_bald S hw 2 60 3 2 (i := x) (by omega) (by omega) (by omega) rfl rfl dX0_release_73 (fun cv1 ce2 cr3 => ?_)
        have cr3 : (-1) ≤ cv1 ∧ cv1 ≤ 59 := cr3
        refine zr_if_lt S 87 (by decide) (by omega) dX0_release_74 (fun ch4 => ?_) (fun ch4 => ?_)
        · have hc : σ3 = zRs3 σ3 x := by rw [zRs3, if_pos (by omega)]
          exact c87 x σ3 H locs ls hx hx2 (by rw [hc, e3, hx]; rfl) h59 hok2 hq2 (by omega) (by omega) hw (lv_sub hl [0, 1, 2] rfl)
        · refine zr_aload S hl 0 rfl dX0_release_77 ?_
          refine zr_aload S hl 0 rfl dX0_release_78 ?_
          refine zt_get S hw 2 (.ref (g.2.2 2)) (by decide) rfl dX0_release_79 ?_
          refine zr_iload_n S hl 2 rfl dX0_release_82 ?_
          refine zt_bald S hw 2 60 3 2 (i := x) (by omega) (by omega) (by omega) rfl rfl dX0_release_83 (fun cv5 ce6 cr7 => ?_)
          have cr7 : (-1) ≤ cv5 ∧ cv5 ≤ 59 := cr7
          refine zt_callv S hw (met_pushPath l g σ3 cv5 (by omega) (by omega)) kq_pushPath rfl rfl ⟨by decide, by decide⟩ rfl rfl hl.1 (Nat.le_of_ble_eq_true rfl) ⟨Nat.zero_le _, Nat.zero_le _⟩ dX0_release_84 (fun cσ8 H locs cp9 hw => ?_)
          have cf10 : cσ8 13 0 = σ3 13 0 + 1 := by rw [cp9]; exact zPush_13 _ _
          have cf11 : cσ8 11 0 = σ3 11 0 := by rw [cp9]; exact zPush_o _ _ _ (by decide) (by decide)
          have hc : cσ8 = zRs3 σ3 x := by rw [zRs3, if_neg (by omega), cp9, ce6]
          exact c87 x cσ8 H locs ls hx hx2 (by rw [hc, e3, hx]; rfl) h59 hok2 hq2 (by omega) (by omega) hw (lv_sub hl [0, 1, 2] rfl)
      refine zr_iload_n S hl 1 rfl dX0_release_16 ?_
      refine zr_bipush S (by decide +kernel) dX0_release_17 ?_
      refine zr_icmp_ge S 114 (by decide) (by omega) (by omega) dX0_release_19 (fun dh1 => by omega) (fun dh1 => ?_)
      refine zr_aload S hl 0 rfl dX0_release_22 ?_
      refine zt_geti S hw 13 (by decide) rfl dX0_release_23 (fun dv2 de3 dr4 => ?_)
      have dr4 : 0 ≤ dv2 ∧ dv2 ≤ 64 := dr4
      refine zr_if_le S 114 (by decide) (by omega) dX0_release_26 (fun dh5 => ?_) (fun dh5 => ?_)
      · exact zt_vret S hr hlk hw (by rw [← hq, zRl, if_pos (by omega)]) dX0_release_114
      · refine zr_aload S hl 0 rfl dX0_release_29 ?_
        refine zr_dup S rfl dX0_release_30 ?_
        refine zt_geti S hw 13 (by decide) rfl dX0_release_31 (fun dv6 de7 dr8 => ?_)
        have dr8 : 0 ≤ dv6 ∧ dv6 ≤ 64 := dr8
        refine zr_iconst S dX0_release_34 ?_
        refine zr_isub S dX0_release_35 (fun dv9 de10 => ?_)
        refine zt_put S hw 13 (by decide) (zt_s13 g σ1 dv9) rfl (by decide +kernel) (Nat.le_of_ble_eq_true rfl) (show 0 ≤ (dv9 : Int) ∧ (dv9 : Int) ≤ 64 by omega) dX0_release_36 (fun dσ11 H locs ds12 hw => ?_)
        refine zr_aload S hl 0 rfl dX0_release_39 ?_
        refine zt_get S hw 12 (.ref (g.2.2 12)) (by decide) rfl dX0_release_40 ?_
        refine zr_aload S hl 0 rfl dX0_release_43 ?_
        refine zt_geti S hw 13 (by decide) rfl dX0_release_44 (fun dv13 de14 dr15 => ?_)
        have dr15 : 0 ≤ dv13 ∧ dv13 ≤ 64 := dr15
        have df16 : dv13 = dv9 := by rw [de14, ds12, zs_eq]
        refine zt_bald S hw 12 64 10 9 (i := dv13) (by omega) (by omega) (by omega) rfl rfl dX0_release_47 (fun dv17 de18 dr19 => ?_)
        have dr19 : 0 ≤ dv17 ∧ dv17 ≤ 59 := dr19
        have df20 : dv17 = σ1 12 dv13.toNat := by rw [de18, ds12, zs_ne (by decide)]
        refine zr_istore_n S [(3, .int (zI dv17)), (0, .ref (g.2.2 19)), (2, .int (zI sp))] hl (by decide) rfl dX0_release_48 (fun ls hl => ?_)
        refine zr_aload S hl 1 rfl dX0_release_49 ?_
        refine zt_get S hw 1 (.ref (g.2.2 1)) (by decide) rfl dX0_release_50 ?_
        refine zr_iload_n S hl 0 rfl dX0_release_53 ?_
        refine zt_bald S hw 1 60 2 1 (i := dv17) (by omega) (by omega) (by omega) rfl rfl dX0_release_54 (fun dv21 de22 dr23 => ?_)
        have dr23 : (-1) ≤ dv21 ∧ dv21 ≤ 59 := dr23
        have df24 : dv21 = σ1 1 dv17.toNat := by rw [de22, ds12, zs_ne (by decide)]
        refine zr_if_lt S 68 (by decide) (by omega) dX0_release_55 (fun dh25 => ?_) (fun dh25 => ?_)
        · rcases hok with hz | ⟨h59, hok2⟩
          · omega
          have hx : dv17 = zRx σ1 := by rw [df20, show dv13 = σ1 13 0 - 1 by omega]; rfl
          have hs1 : dσ11 = zRs1 σ1 := by rw [ds12, zRs1, show dv9 = σ1 13 0 - 1 by omega]
          have hc : dσ11 = zRs2 (zRs1 σ1) dv17 := by rw [zRs2, ← hs1, if_pos (by omega)]
          have h13c : dσ11 13 0 = σ1 13 0 - 1 := by rw [hs1, zRs1, zs_eq]
          have h11c : dσ11 11 0 = σ1 11 0 := by rw [hs1, zRs1, zs_ne (by decide)]
          exact c68 dv17 dσ11 H locs ls hx (by omega) hc h59 hok2 (by rw [← hq, zRl, if_neg (by omega)]) (by omega) (by omega) hw (lv_sub hl [1, 2, 0] rfl)
        · refine zr_aload S hl 1 rfl dX0_release_58 ?_
          refine zr_aload S hl 1 rfl dX0_release_59 ?_
          refine zt_get S hw 1 (.ref (g.2.2 1)) (by decide) rfl dX0_release_60 ?_
          refine zr_iload_n S hl 0 rfl dX0_release_63 ?_
          refine zt_bald S hw 1 60 2 1 (i := dv17) (by omega) (by omega) (by omega) rfl rfl dX0_release_64 (fun dv26 de27 dr28 => ?_)
          have dr28 : (-1) ≤ dv26 ∧ dv26 ≤ 59 := dr28
          have df29 : dv26 = σ1 1 dv17.toNat := by rw [de27, ds12, zs_ne (by decide)]
          refine zt_callv S hw (met_pushPath l g dσ11 dv26 (by omega) (by omega)) kq_pushPath rfl rfl ⟨by decide, by decide⟩ rfl rfl hl.1 (Nat.le_of_ble_eq_true rfl) ⟨Nat.zero_le _, Nat.zero_le _⟩ dX0_release_65 (fun dσ30 H locs dp31 hw => ?_)
          have df32 : dσ30 13 0 = dσ11 13 0 + 1 := by rw [dp31]; exact zPush_13 _ _
          have df33 : dσ30 11 0 = dσ11 11 0 := by rw [dp31]; exact zPush_o _ _ _ (by decide) (by decide)
          rcases hok with hz | ⟨h59, hok2⟩
          · omega
          have hx : dv17 = zRx σ1 := by rw [df20, show dv13 = σ1 13 0 - 1 by omega]; rfl
          have hs1 : dσ11 = zRs1 σ1 := by rw [ds12, zRs1, show dv9 = σ1 13 0 - 1 by omega]
          have hc : dσ30 = zRs2 (zRs1 σ1) dv17 := by rw [zRs2, ← hs1, if_neg (by omega), dp31, de27]
          have h13c : dσ11 13 0 = σ1 13 0 - 1 := by rw [hs1, zRs1, zs_eq]
          have h11c : dσ11 11 0 = σ1 11 0 := by rw [hs1, zRs1, zs_ne (by decide)]
          exact c68 dv17 dσ30 H locs ls hx (by omega) hc h59 hok2 (by rw [← hq, zRl, if_neg (by omega)]) (by omega) (by omega) hw (lv_sub hl [1, 2, 0] rfl)
  refine zr_aload S hl 0 rfl dX0_release_0 ?_
  refine zr_iconst S dX0_release_1 ?_
  refine zt_put S hw 13 (by decide) (zt_s13 g σ 0) rfl (by decide +kernel) (Nat.le_of_ble_eq_true rfl) (show 0 ≤ (0 : Int) ∧ (0 : Int) ≤ 64 by omega) dX0_release_2 (fun σ1 H locs s2 hw => ?_)
  refine zr_iload_n S hl 1 rfl dX0_release_5 ?_
  refine zr_if_lt S 14 (by decide) (by omega) dX0_release_6 (fun h3 => ?_) (fun h3 => ?_)
  · refine zr_iconst S dX0_release_14 ?_
    refine zr_istore_n S [(2, .int (zI 0)), (0, .ref (g.2.2 19)), (1, .int (zI t))] hl (by decide) rfl dX0_release_15 (fun ls hl => ?_)
    have hc : σ1 = zRel0 σ t := by rw [zRel0, if_pos (by omega), s2]
    have hp2 : σ1 13 0 ≤ 1 := by rw [s2, zs_eq]; decide
    exact loop 60 0 σ1 H locs ls (by decide) (by decide) (by omega) hw (lv_sub hl [1, 0] rfl) (by rw [hc]; exact hR) (by rw [hc]; rfl)
  · refine zr_aload S hl 0 rfl dX0_release_9 ?_
    refine zr_iload_n S hl 1 rfl dX0_release_10 ?_
    have hz0 : σ1 13 0 = 0 := by rw [s2, zs_eq]
    refine zt_callv S hw (met_pushPath l g σ1 t (by omega) (by omega)) kq_pushPath rfl rfl ⟨by decide, by decide⟩ rfl rfl hl.1 (Nat.le_of_ble_eq_true rfl) ⟨Nat.zero_le _, Nat.zero_le _⟩ dX0_release_11 (fun σ4 H locs p5 hw => ?_)
    have f6 : σ4 13 0 = σ1 13 0 + 1 := by rw [p5]; exact zPush_13 _ _
    have f7 : σ4 11 0 = σ1 11 0 := by rw [p5]; exact zPush_o _ _ _ (by decide) (by decide)
    refine zr_iconst S dX0_release_14 ?_
    refine zr_istore_n S [(2, .int (zI 0)), (0, .ref (g.2.2 19)), (1, .int (zI t))] hl (by decide) rfl dX0_release_15 (fun ls hl => ?_)
    have hc : σ4 = zRel0 σ t := by rw [zRel0, if_neg (by omega), p5, s2]
    have hp2 : σ4 13 0 ≤ 1 := by rw [p5, zPush_13, s2, zs_eq]; decide
    exact loop 60 0 σ4 H locs ls (by decide) (by decide) (by omega) hw (lv_sub hl [1, 0] rfl) (by rw [hc]; exact hR) (by rw [hc]; rfl)
set_option maxHeartbeats 4000000 in
theorem met_firstLooseClose (l : Launch) (g : zG) (σ : zS) (t k : Int) (ht : -1 ≤ t ∧ t ≤ 59) (hk : 0 ≤ k ∧ k ≤ 2) : zt_Mi l yX0_firstLooseClose cX0_firstLooseClose 8 (some .int) ({ frames := 2, cells := 0, slots := 0, locals := 45 }) g σ [t, k] (fun r σ' => (σ', r) = zFl 60 σ t k 0 0 ∧ (-100000 ≤ r ∧ r ≤ 100000)) := by
  refine zt_ofi (by decide +kernel) rfl (Nat.le_of_ble_eq_true rfl) ?_
  intro p e s m args below meth c ls ⟨S, hr, hlk, hw⟩ hl
  have hl : lv_has ls 8 [(0, .ref (g.2.2 19)), (1, .int (zI t)), (2, .int (zI k))] := hl
  have loop : ∀ (n : Nat) (x o f sp : Int) (σ1 : zS) (H : Heap) (locs : List Loc) (ls : Array Slot), n ≤ 60 → sp = 60 - n → (-1 ≤ x ∧ x ≤ 59) → (-300 * (sp + 1) ≤ o ∧ o ≤ 300 * (sp + 1)) → (-300 * (sp + 1) ≤ f ∧ f ≤ 300 * (sp + 1)) → zt_W g (zt_A g s.heap.size) s H locs σ1 → lv_has ls 8 [(0, .ref (g.2.2 19)), (2, .int (zI k)), (3, .int (zI x)), (4, .int (zI o)), (5, .int (zI f)), (6, .int (zI sp))] → zFl n σ1 x k o f = zFl 60 σ t k 0 0 → W p l e ({ frames := 2, cells := 0, slots := 0, locals := 45 }) s m args below meth c H locs 0 0 (zt_Ei g (fun r σ' => (σ', r) = zFl 60 σ t k 0 0 ∧ (-100000 ≤ r ∧ r ≤ 100000)) below args s) (F0 m 11 ls []) := by
    intro n
    induction n with
    | zero =>
      intro x o f sp σ1 H locs ls hn hsp hx ho hf hw hl hq
      refine zr_iload S hl 5 rfl dX0_firstLooseClose_11 ?_
      refine zr_bipush S (by decide +kernel) dX0_firstLooseClose_13 ?_
      refine zr_icmp_ge S 138 (by decide) (by omega) (by omega) dX0_firstLooseClose_15 (fun ah1 => ?_) (fun ah1 => by omega)
      refine zr_iconst S dX0_firstLooseClose_138 ?_
      exact zt_iret S hr hlk hw (⟨hq, by omega⟩) dX0_firstLooseClose_139
    | succ n ih =>
      intro x o f sp σ1 H locs ls hn hsp hx ho hf hw hl hq
      refine zr_iload S hl 5 rfl dX0_firstLooseClose_11 ?_
      refine zr_bipush S (by decide +kernel) dX0_firstLooseClose_13 ?_
      refine zr_icmp_ge S 138 (by decide) (by omega) (by omega) dX0_firstLooseClose_15 (fun ch1 => by omega) (fun ch1 => ?_)
      refine zr_iload_n S hl 2 rfl dX0_firstLooseClose_18 ?_
      refine zr_if_lt S 138 (by decide) (by omega) dX0_firstLooseClose_19 (fun ch2 => ?_) (fun ch2 => ?_)
      · refine zr_iconst S dX0_firstLooseClose_138 ?_
        exact zt_iret S hr hlk hw (⟨by rw [← hq, zFl, if_pos (by omega)], by omega⟩) dX0_firstLooseClose_139
      · refine zr_aload S hl 0 rfl dX0_firstLooseClose_22 ?_
        refine zr_iload_n S hl 2 rfl dX0_firstLooseClose_23 ?_
        refine zt_callv S hw (met_settle l g σ1 x (by omega)) kq_settle rfl rfl ⟨by decide, by decide⟩ rfl rfl hl.1 (Nat.le_of_ble_eq_true rfl) ⟨Nat.zero_le _, Nat.zero_le _⟩ dX0_firstLooseClose_24 (fun cσ3 H locs cp4 hw => ?_)
        refine zr_aload S hl 0 rfl dX0_firstLooseClose_27 ?_
        refine zt_get S hw 1 (.ref (g.2.2 1)) (by decide) rfl dX0_firstLooseClose_28 ?_
        refine zr_iload_n S hl 2 rfl dX0_firstLooseClose_31 ?_
        refine zt_bald S hw 1 60 2 1 (i := x) (by omega) (by omega) (by omega) rfl rfl dX0_firstLooseClose_32 (fun cv5 ce6 cr7 => ?_)
        have cr7 : (-1) ≤ cv5 ∧ cv5 ≤ 59 := cr7
        refine zr_istore S [(7, .int (zI cv5)), (0, .ref (g.2.2 19)), (2, .int (zI k)), (3, .int (zI x)), (4, .int (zI o)), (5, .int (zI f)), (6, .int (zI sp))] hl (by decide) rfl dX0_firstLooseClose_33 (fun ls hl => ?_)
        refine zr_aload S hl 1 rfl dX0_firstLooseClose_35 ?_
        refine zr_iload S hl 0 rfl dX0_firstLooseClose_36 ?_
        refine zr_iload_n S hl 2 rfl dX0_firstLooseClose_38 ?_
        refine zt_calli S hw (met_closesOf l g cσ3 cv5 k (by omega) (by omega)) kq_closesOf rfl rfl ⟨by decide, by decide⟩ rfl rfl hl.1 (Nat.le_of_ble_eq_true rfl) ⟨Nat.zero_le _, Nat.zero_le _⟩ dX0_firstLooseClose_39 (fun cv10 cσ8 H locs cp9 hw => ?_)
        obtain ⟨hs_, ce11⟩ := cp9
        rw [hs_] at hw
        have cr12 : -128 ≤ cv10 ∧ cv10 ≤ 127 := by rw [ce11]; exact zCl_r hw.2.2.2.2.1 _ _
        refine zr_iload S hl 4 rfl dX0_firstLooseClose_42 ?_
        refine zr_icmp_le S 53 (by decide) (by omega) (by omega) dX0_firstLooseClose_44 (fun ch13 => ?_) (fun ch13 => ?_)
        · refine zr_iload S hl 4 rfl dX0_firstLooseClose_53 ?_
          refine zr_aload S hl 1 rfl dX0_firstLooseClose_55 ?_
          refine zr_iload S hl 0 rfl dX0_firstLooseClose_56 ?_
          refine zr_iload_n S hl 2 rfl dX0_firstLooseClose_58 ?_
          refine zt_calli S hw (met_opensOf l g cσ3 cv5 k (by omega) (by omega)) kq_opensOf rfl rfl ⟨by decide, by decide⟩ rfl rfl hl.1 (Nat.le_of_ble_eq_true rfl) ⟨Nat.zero_le _, Nat.zero_le _⟩ dX0_firstLooseClose_59 (fun cv16 cσ14 H locs cp15 hw => ?_)
          obtain ⟨hs_, ce17⟩ := cp15
          rw [hs_] at hw
          have cr18 : -128 ≤ cv16 ∧ cv16 ≤ 127 := by rw [ce17]; exact zOp_r hw.2.2.2.2.1 _ _
          refine zr_aload S hl 1 rfl dX0_firstLooseClose_62 ?_
          refine zr_iload S hl 0 rfl dX0_firstLooseClose_63 ?_
          refine zr_iload_n S hl 2 rfl dX0_firstLooseClose_65 ?_
          refine zt_calli S hw (met_closesOf l g cσ3 cv5 k (by omega) (by omega)) kq_closesOf rfl rfl ⟨by decide, by decide⟩ rfl rfl hl.1 (Nat.le_of_ble_eq_true rfl) ⟨Nat.zero_le _, Nat.zero_le _⟩ dX0_firstLooseClose_66 (fun cv21 cσ19 H locs cp20 hw => ?_)
          obtain ⟨hs_, ce22⟩ := cp20
          rw [hs_] at hw
          have cr23 : -128 ≤ cv21 ∧ cv21 ≤ 127 := by rw [ce22]; exact zCl_r hw.2.2.2.2.1 _ _
          refine zr_isub S dX0_firstLooseClose_69 (fun cv24 ce25 => ?_)
          refine zr_iadd S dX0_firstLooseClose_70 (fun cv26 ce27 => ?_)
          refine zr_istore S [(4, .int (zI cv26)), (7, .int (zI cv5)), (0, .ref (g.2.2 19)), (2, .int (zI k)), (3, .int (zI x)), (5, .int (zI f)), (6, .int (zI sp))] hl (by decide) rfl dX0_firstLooseClose_71 (fun ls hl => ?_)
          refine zr_iload S hl 5 rfl dX0_firstLooseClose_73 ?_
          refine zr_aload S hl 2 rfl dX0_firstLooseClose_75 ?_
          refine zr_iload S hl 1 rfl dX0_firstLooseClose_76 ?_
          refine zt_calli S hw (met_sizeOf l g cσ3 cv5 (by omega)) kq_sizeOf rfl rfl ⟨by decide, by decide⟩ rfl rfl hl.1 (Nat.le_of_ble_eq_true rfl) ⟨Nat.zero_le _, Nat.zero_le _⟩ dX0_firstLooseClose_78 (fun cv30 cσ28 H locs cp29 hw => ?_)
          obtain ⟨hs_, ce31⟩ := cp29
          rw [hs_] at hw
          have cr32 : -128 ≤ cv30 ∧ cv30 ≤ 127 := by rw [ce31]; exact zSz_r hw.2.2.2.2.1 _
          refine zr_iadd S dX0_firstLooseClose_81 (fun cv33 ce34 => ?_)
          refine zr_istore S [(5, .int (zI cv33)), (4, .int (zI cv26)), (7, .int (zI cv5)), (0, .ref (g.2.2 19)), (2, .int (zI k)), (3, .int (zI x)), (6, .int (zI sp))] hl (by decide) rfl dX0_firstLooseClose_82 (fun ls hl => ?_)
          refine zr_aload S hl 3 rfl dX0_firstLooseClose_84 ?_
          refine zt_get S hw 0 (.ref (g.2.2 0)) (by decide) rfl dX0_firstLooseClose_85 ?_
          refine zr_iload_n S hl 5 rfl dX0_firstLooseClose_88 ?_
          refine zt_bald S hw 0 60 1 0 (i := x) (by omega) (by omega) (by omega) rfl rfl dX0_firstLooseClose_89 (fun cv35 ce36 cr37 => ?_)
          have cr37 : 0 ≤ cv35 ∧ cv35 ≤ 6 := cr37
          refine zr_iload_n S hl 4 rfl dX0_firstLooseClose_90 ?_
          refine zr_iconst S dX0_firstLooseClose_91 ?_
          refine zr_iadd S dX0_firstLooseClose_92 (fun cv38 ce39 => ?_)
          refine zr_icmp_ne S 107 (by decide) (by omega) (by omega) dX0_firstLooseClose_93 (fun ch40 => ?_) (fun ch40 => ?_)
          · refine zr_aload S hl 3 rfl dX0_firstLooseClose_107 ?_
            refine zt_get S hw 0 (.ref (g.2.2 0)) (by decide) rfl dX0_firstLooseClose_108 ?_
            refine zr_iload_n S hl 5 rfl dX0_firstLooseClose_111 ?_
            refine zt_bald S hw 0 60 1 0 (i := x) (by omega) (by omega) (by omega) rfl rfl dX0_firstLooseClose_112 (fun cv41 ce42 cr43 => ?_)
            have cr43 : 0 ≤ cv41 ∧ cv41 ≤ 6 := cr43
            refine zr_iload_n S hl 4 rfl dX0_firstLooseClose_113 ?_
            refine zr_iconst S dX0_firstLooseClose_114 ?_
            refine zr_iadd S dX0_firstLooseClose_115 (fun cv44 ce45 => ?_)
            refine zr_icmp_ne S 122 (by decide) (by omega) (by omega) dX0_firstLooseClose_116 (fun ch46 => ?_) (fun ch46 => ?_)
            · obtain ⟨cv47, ce48⟩ : ∃ v : Int, v = cv33 + 1 := ⟨_, rfl⟩
              refine zr_iinc S cv47 ce48 [(5, .int (zI cv47)), (4, .int (zI cv26)), (7, .int (zI cv5)), (0, .ref (g.2.2 19)), (2, .int (zI k)), (3, .int (zI x)), (6, .int (zI sp))] hl 0 rfl (by decide) rfl dX0_firstLooseClose_122 (fun ls hl => ?_)
              refine zr_aload S hl 3 rfl dX0_firstLooseClose_125 ?_
              refine zt_get S hw 2 (.ref (g.2.2 2)) (by decide) rfl dX0_firstLooseClose_126 ?_
              refine zr_iload_n S hl 5 rfl dX0_firstLooseClose_129 ?_
              refine zt_bald S hw 2 60 3 2 (i := x) (by omega) (by omega) (by omega) rfl rfl dX0_firstLooseClose_130 (fun cv49 ce50 cr51 => ?_)
              have cr51 : (-1) ≤ cv49 ∧ cv49 ≤ 59 := cr51
              refine zr_istore_n S [(3, .int (zI cv49)), (5, .int (zI cv47)), (4, .int (zI cv26)), (7, .int (zI cv5)), (0, .ref (g.2.2 19)), (2, .int (zI k)), (6, .int (zI sp))] hl (by decide) rfl dX0_firstLooseClose_131 (fun ls hl => ?_)
              obtain ⟨cv52, ce53⟩ : ∃ v : Int, v = sp + 1 := ⟨_, rfl⟩
              refine zr_iinc S cv52 ce53 [(6, .int (zI cv52)), (3, .int (zI cv49)), (5, .int (zI cv47)), (4, .int (zI cv26)), (7, .int (zI cv5)), (0, .ref (g.2.2 19)), (2, .int (zI k))] hl 6 rfl (by decide) rfl dX0_firstLooseClose_132 (fun ls hl => ?_)
              refine zr_goto S 11 (by decide) dX0_firstLooseClose_135 ?_
              have hs1 : cσ3 = zSettle σ1 x := cp4
              have hch : cv5 = zSettle σ1 x 1 x.toNat := by rw [← hs1]; exact ce6
              have hcm : cv10 = zCl (zSettle σ1 x) (zSettle σ1 x 1 x.toNat) k := by rw [← hs1, ce11, ce6]
              have hfo : cv26 = zFo (zSettle σ1 x) (zSettle σ1 x 1 x.toNat) k o := by rw [zFo, ← hch, ← hs1, ← ce17, ← ce22]; omega
              have hsz : cv30 = zSz (zSettle σ1 x) (zSettle σ1 x 1 x.toNat) := by rw [← hch, ← hs1, ← ce31]
              have hcd : cv35 = zSettle σ1 x 0 x.toNat := by rw [← hs1, ← ce36]
              have hfd : cv26 = zFd (zSettle σ1 x) x k (zFo (zSettle σ1 x) (zSettle σ1 x 1 x.toNat) k o) := by rw [zFd, if_neg (by omega), if_neg (by omega)]; omega
              have hnx : cv49 = zSettle σ1 x 2 x.toNat := by rw [← hs1]; exact ce50
              have hq2 : zFl n cσ3 cv49 k cv26 cv47 = zFl 60 σ t k 0 0 := by rw [← hq, zFl, if_neg (by omega), if_neg (by omega), if_neg (by omega), ← hfd, ← hnx, ← hs1]; congr 1; rw [hs1]; omega
              exact ih cv49 cv26 cv47 cv52 cσ3 H locs ls (by omega) (by omega) (by omega) (by omega) (by omega) hw (lv_sub hl [5, 6, 1, 3, 2, 0] rfl) hq2
            · obtain ⟨cv54, ce55⟩ : ∃ v : Int, v = cv26 + 1 := ⟨_, rfl⟩
              refine zr_iinc S cv54 ce55 [(4, .int (zI cv54)), (5, .int (zI cv33)), (7, .int (zI cv5)), (0, .ref (g.2.2 19)), (2, .int (zI k)), (3, .int (zI x)), (6, .int (zI sp))] hl 1 rfl (by decide) rfl dX0_firstLooseClose_119 (fun ls hl => ?_)
              obtain ⟨cv56, ce57⟩ : ∃ v : Int, v = cv33 + 1 := ⟨_, rfl⟩
              refine zr_iinc S cv56 ce57 [(5, .int (zI cv56)), (4, .int (zI cv54)), (7, .int (zI cv5)), (0, .ref (g.2.2 19)), (2, .int (zI k)), (3, .int (zI x)), (6, .int (zI sp))] hl 1 rfl (by decide) rfl dX0_firstLooseClose_122 (fun ls hl => ?_)
              refine zr_aload S hl 3 rfl dX0_firstLooseClose_125 ?_
              refine zt_get S hw 2 (.ref (g.2.2 2)) (by decide) rfl dX0_firstLooseClose_126 ?_
              refine zr_iload_n S hl 5 rfl dX0_firstLooseClose_129 ?_
              refine zt_bald S hw 2 60 3 2 (i := x) (by omega) (by omega) (by omega) rfl rfl dX0_firstLooseClose_130 (fun cv58 ce59 cr60 => ?_)
              have cr60 : (-1) ≤ cv58 ∧ cv58 ≤ 59 := cr60
              refine zr_istore_n S [(3, .int (zI cv58)), (5, .int (zI cv56)), (4, .int (zI cv54)), (7, .int (zI cv5)), (0, .ref (g.2.2 19)), (2, .int (zI k)), (6, .int (zI sp))] hl (by decide) rfl dX0_firstLooseClose_131 (fun ls hl => ?_)
              obtain ⟨cv61, ce62⟩ : ∃ v : Int, v = sp + 1 := ⟨_, rfl⟩
              refine zr_iinc S cv61 ce62 [(6, .int (zI cv61)), (3, .int (zI cv58)), (5, .int (zI cv56)), (4, .int (zI cv54)), (7, .int (zI cv5)), (0, .ref (g.2.2 19)), (2, .int (zI k))] hl 6 rfl (by decide) rfl dX0_firstLooseClose_132 (fun ls hl => ?_)
              refine zr_goto S 11 (by decide) dX0_firstLooseClose_135 ?_
              have hs1 : cσ3 = zSettle σ1 x := cp4
              have hch : cv5 = zSettle σ1 x 1 x.toNat := by rw [← hs1]; exact ce6
              have hcm : cv10 = zCl (zSettle σ1 x) (zSettle σ1 x 1 x.toNat) k := by rw [← hs1, ce11, ce6]
              have hfo : cv26 = zFo (zSettle σ1 x) (zSettle σ1 x 1 x.toNat) k o := by rw [zFo, ← hch, ← hs1, ← ce17, ← ce22]; omega
              have hsz : cv30 = zSz (zSettle σ1 x) (zSettle σ1 x 1 x.toNat) := by rw [← hch, ← hs1, ← ce31]
              have hcd : cv35 = zSettle σ1 x 0 x.toNat := by rw [← hs1, ← ce36]
              have hfd : cv54 = zFd (zSettle σ1 x) x k (zFo (zSettle σ1 x) (zSettle σ1 x 1 x.toNat) k o) := by rw [zFd, if_neg (by omega), if_pos (by omega)]; omega
              have hnx : cv58 = zSettle σ1 x 2 x.toNat := by rw [← hs1]; exact ce59
              have hq2 : zFl n cσ3 cv58 k cv54 cv56 = zFl 60 σ t k 0 0 := by rw [← hq, zFl, if_neg (by omega), if_neg (by omega), if_neg (by omega), ← hfd, ← hnx, ← hs1]; congr 1; rw [hs1]; omega
              exact ih cv58 cv54 cv56 cv61 cσ3 H locs ls (by omega) (by omega) (by omega) (by omega) (by omega) hw (lv_sub hl [5, 6, 1, 3, 2, 0] rfl) hq2
          · refine zr_iload S hl 1 rfl dX0_firstLooseClose_96 ?_
            refine zr_if_ne S 104 (by decide) (by omega) dX0_firstLooseClose_98 (fun ch63 => ?_) (fun ch63 => ?_)
            · obtain ⟨cv64, ce65⟩ : ∃ v : Int, v = cv26 + (-1) := ⟨_, rfl⟩
              refine zr_iinc S cv64 ce65 [(4, .int (zI cv64)), (5, .int (zI cv33)), (7, .int (zI cv5)), (0, .ref (g.2.2 19)), (2, .int (zI k)), (3, .int (zI x)), (6, .int (zI sp))] hl 1 rfl (by decide) rfl dX0_firstLooseClose_104 (fun ls hl => ?_)
              refine zr_aload S hl 3 rfl dX0_firstLooseClose_107 ?_
              refine zt_get S hw 0 (.ref (g.2.2 0)) (by decide) rfl dX0_firstLooseClose_108 ?_
              refine zr_iload_n S hl 5 rfl dX0_firstLooseClose_111 ?_
              refine zt_bald S hw 0 60 1 0 (i := x) (by omega) (by omega) (by omega) rfl rfl dX0_firstLooseClose_112 (fun cv66 ce67 cr68 => ?_)
              have cr68 : 0 ≤ cv66 ∧ cv66 ≤ 6 := cr68
              refine zr_iload_n S hl 4 rfl dX0_firstLooseClose_113 ?_
              refine zr_iconst S dX0_firstLooseClose_114 ?_
              refine zr_iadd S dX0_firstLooseClose_115 (fun cv69 ce70 => ?_)
              refine zr_icmp_ne S 122 (by decide) (by omega) (by omega) dX0_firstLooseClose_116 (fun ch71 => ?_) (fun ch71 => by omega)
              obtain ⟨cv72, ce73⟩ : ∃ v : Int, v = cv33 + 1 := ⟨_, rfl⟩
              refine zr_iinc S cv72 ce73 [(5, .int (zI cv72)), (4, .int (zI cv64)), (7, .int (zI cv5)), (0, .ref (g.2.2 19)), (2, .int (zI k)), (3, .int (zI x)), (6, .int (zI sp))] hl 1 rfl (by decide) rfl dX0_firstLooseClose_122 (fun ls hl => ?_)
              refine zr_aload S hl 3 rfl dX0_firstLooseClose_125 ?_
              refine zt_get S hw 2 (.ref (g.2.2 2)) (by decide) rfl dX0_firstLooseClose_126 ?_
              refine zr_iload_n S hl 5 rfl dX0_firstLooseClose_129 ?_
              refine zt_bald S hw 2 60 3 2 (i := x) (by omega) (by omega) (by omega) rfl rfl dX0_firstLooseClose_130 (fun cv74 ce75 cr76 => ?_)
              have cr76 : (-1) ≤ cv74 ∧ cv74 ≤ 59 := cr76
              refine zr_istore_n S [(3, .int (zI cv74)), (5, .int (zI cv72)), (4, .int (zI cv64)), (7, .int (zI cv5)), (0, .ref (g.2.2 19)), (2, .int (zI k)), (6, .int (zI sp))] hl (by decide) rfl dX0_firstLooseClose_131 (fun ls hl => ?_)
              obtain ⟨cv77, ce78⟩ : ∃ v : Int, v = sp + 1 := ⟨_, rfl⟩
              refine zr_iinc S cv77 ce78 [(6, .int (zI cv77)), (3, .int (zI cv74)), (5, .int (zI cv72)), (4, .int (zI cv64)), (7, .int (zI cv5)), (0, .ref (g.2.2 19)), (2, .int (zI k))] hl 6 rfl (by decide) rfl dX0_firstLooseClose_132 (fun ls hl => ?_)
              refine zr_goto S 11 (by decide) dX0_firstLooseClose_135 ?_
              have hs1 : cσ3 = zSettle σ1 x := cp4
              have hch : cv5 = zSettle σ1 x 1 x.toNat := by rw [← hs1]; exact ce6
              have hcm : cv10 = zCl (zSettle σ1 x) (zSettle σ1 x 1 x.toNat) k := by rw [← hs1, ce11, ce6]
              have hfo : cv26 = zFo (zSettle σ1 x) (zSettle σ1 x 1 x.toNat) k o := by rw [zFo, ← hch, ← hs1, ← ce17, ← ce22]; omega
              have hsz : cv30 = zSz (zSettle σ1 x) (zSettle σ1 x 1 x.toNat) := by rw [← hch, ← hs1, ← ce31]
              have hcd : cv35 = zSettle σ1 x 0 x.toNat := by rw [← hs1, ← ce36]
              have hfd : cv64 = zFd (zSettle σ1 x) x k (zFo (zSettle σ1 x) (zSettle σ1 x 1 x.toNat) k o) := by rw [zFd, if_pos (by omega)]; omega
              have hnx : cv74 = zSettle σ1 x 2 x.toNat := by rw [← hs1]; exact ce75
              have hq2 : zFl n cσ3 cv74 k cv64 cv72 = zFl 60 σ t k 0 0 := by rw [← hq, zFl, if_neg (by omega), if_neg (by omega), if_neg (by omega), ← hfd, ← hnx, ← hs1]; congr 1; rw [hs1]; omega
              exact ih cv74 cv64 cv72 cv77 cσ3 H locs ls (by omega) (by omega) (by omega) (by omega) (by omega) hw (lv_sub hl [5, 6, 1, 3, 2, 0] rfl) hq2
            · refine zr_iload S hl 0 rfl dX0_firstLooseClose_101 ?_
              have hs1 : cσ3 = zSettle σ1 x := cp4
              have hch : cv5 = zSettle σ1 x 1 x.toNat := by rw [← hs1]; exact ce6
              have hcm : cv10 = zCl (zSettle σ1 x) (zSettle σ1 x 1 x.toNat) k := by rw [← hs1, ce11, ce6]
              have hfo : cv26 = zFo (zSettle σ1 x) (zSettle σ1 x 1 x.toNat) k o := by rw [zFo, ← hch, ← hs1, ← ce17, ← ce22]; omega
              have hsz : cv30 = zSz (zSettle σ1 x) (zSettle σ1 x 1 x.toNat) := by rw [← hch, ← hs1, ← ce31]
              have hcd : cv35 = zSettle σ1 x 0 x.toNat := by rw [← hs1, ← ce36]
              exact zt_iret S hr hlk hw (⟨by rw [← hq, zFl, if_neg (by omega), if_neg (by omega), if_pos (by omega)]; refine Prod.ext hs1 ?_; dsimp only; omega, by omega⟩) dX0_firstLooseClose_103
        · refine zr_iload S hl 0 rfl dX0_firstLooseClose_47 ?_
          refine zr_istore_n S [(3, .int (zI cv5)), (7, .int (zI cv5)), (0, .ref (g.2.2 19)), (2, .int (zI k)), (4, .int (zI o)), (5, .int (zI f)), (6, .int (zI sp))] hl (by decide) rfl dX0_firstLooseClose_49 (fun ls hl => ?_)
          refine zr_goto S 132 (by decide) dX0_firstLooseClose_50 ?_
          obtain ⟨cv79, ce80⟩ : ∃ v : Int, v = sp + 1 := ⟨_, rfl⟩
          refine zr_iinc S cv79 ce80 [(6, .int (zI cv79)), (3, .int (zI cv5)), (7, .int (zI cv5)), (0, .ref (g.2.2 19)), (2, .int (zI k)), (4, .int (zI o)), (5, .int (zI f))] hl 6 rfl (by decide) rfl dX0_firstLooseClose_132 (fun ls hl => ?_)
          refine zr_goto S 11 (by decide) dX0_firstLooseClose_135 ?_
          have hs1 : cσ3 = zSettle σ1 x := cp4
          have hch : cv5 = zSettle σ1 x 1 x.toNat := by rw [← hs1]; exact ce6
          have hcm : cv10 = zCl (zSettle σ1 x) (zSettle σ1 x 1 x.toNat) k := by rw [← hs1, ce11, ce6]
          have hq2 : zFl n cσ3 cv5 k o f = zFl 60 σ t k 0 0 := by rw [← hq, zFl, if_neg (by omega), if_pos (by omega), ← hch, ← hs1]
          exact ih cv5 o f cv79 cσ3 H locs ls (by omega) (by omega) (by omega) (by omega) (by omega) hw (lv_sub hl [3, 4, 1, 5, 6, 0] rfl) hq2
  refine zr_iload_n S hl 1 rfl dX0_firstLooseClose_0 ?_
  refine zr_istore_n S [(3, .int (zI t)), (0, .ref (g.2.2 19)), (1, .int (zI t)), (2, .int (zI k))] hl (by decide) rfl dX0_firstLooseClose_1 (fun ls hl => ?_)
  refine zr_iconst S dX0_firstLooseClose_2 ?_
  refine zr_istore S [(4, .int (zI 0)), (3, .int (zI t)), (0, .ref (g.2.2 19)), (1, .int (zI t)), (2, .int (zI k))] hl (by decide) rfl dX0_firstLooseClose_3 (fun ls hl => ?_)
  refine zr_iconst S dX0_firstLooseClose_5 ?_
  refine zr_istore S [(5, .int (zI 0)), (4, .int (zI 0)), (3, .int (zI t)), (0, .ref (g.2.2 19)), (1, .int (zI t)), (2, .int (zI k))] hl (by decide) rfl dX0_firstLooseClose_6 (fun ls hl => ?_)
  refine zr_iconst S dX0_firstLooseClose_8 ?_
  refine zr_istore S [(6, .int (zI 0)), (5, .int (zI 0)), (4, .int (zI 0)), (3, .int (zI t)), (0, .ref (g.2.2 19)), (1, .int (zI t)), (2, .int (zI k))] hl (by decide) rfl dX0_firstLooseClose_9 (fun ls hl => ?_)
  exact loop 60 t 0 0 0 σ s.heap [] ls (by decide) (by decide) ht (by omega) (by omega) hw (lv_sub hl [4, 6, 3, 2, 1, 0] rfl) rfl
set_option maxHeartbeats 4000000 in
theorem met_lastLooseOpen (l : Launch) (g : zG) (σ : zS) (t k d : Int) (ht : -1 ≤ t ∧ t ≤ 59) (hk : 0 ≤ k ∧ k ≤ 2) (hd : 0 ≤ d ∧ d ≤ 1) : zt_Mi l yX0_lastLooseOpen cX0_lastLooseOpen 9 (some .int) ({ frames := 2, cells := 0, slots := 0, locals := 45 }) g σ [t, k, d] (fun r σ' => (σ', r) = zLl 60 σ t k d (zSz σ t) ∧ (-100000 ≤ r ∧ r ≤ 100000)) := by
  refine zt_ofi (by decide +kernel) rfl (Nat.le_of_ble_eq_true rfl) ?_
  intro p e s m args below meth c ls ⟨S, hr, hlk, hw⟩ hl
  have hl : lv_has ls 9 [(0, .ref (g.2.2 19)), (1, .int (zI t)), (2, .int (zI k)), (3, .int (zI d))] := hl
  have loop : ∀ (n : Nat) (x o f sp : Int) (σ1 : zS) (H : Heap) (locs : List Loc) (ls : Array Slot), n ≤ 60 → sp = 60 - n → (-1 ≤ x ∧ x ≤ 59) → (-300 * (sp + 1) ≤ o ∧ o ≤ 300 * (sp + 1)) → (-300 * (sp + 1) ≤ f ∧ f ≤ 300 * (sp + 1)) → zt_W g (zt_A g s.heap.size) s H locs σ1 → lv_has ls 9 [(0, .ref (g.2.2 19)), (2, .int (zI k)), (4, .int (zI x)), (5, .int (zI o)), (6, .int (zI f)), (7, .int (zI sp))] → zLl n σ1 x k o f = zLl 60 σ t k d (zSz σ t) → W p l e ({ frames := 2, cells := 0, slots := 0, locals := 45 }) s m args below meth c H locs 0 0 (zt_Ei g (fun r σ' => (σ', r) = zLl 60 σ t k d (zSz σ t) ∧ (-100000 ≤ r ∧ r ≤ 100000)) below args s) (F0 m 16 ls []) := by
    intro n
    induction n with
    | zero =>
      intro x o f sp σ1 H locs ls hn hsp hx ho hf hw hl hq
      refine zr_iload S hl 5 rfl dX0_lastLooseOpen_16 ?_
      refine zr_bipush S (by decide +kernel) dX0_lastLooseOpen_18 ?_
      refine zr_icmp_ge S 153 (by decide) (by omega) (by omega) dX0_lastLooseOpen_20 (fun ah1 => ?_) (fun ah1 => by omega)
      refine zr_iconst S dX0_lastLooseOpen_153 ?_
      exact zt_iret S hr hlk hw (⟨hq, by omega⟩) dX0_lastLooseOpen_154
    | succ n ih =>
      intro x o f sp σ1 H locs ls hn hsp hx ho hf hw hl hq
      refine zr_iload S hl 5 rfl dX0_lastLooseOpen_16 ?_
      refine zr_bipush S (by decide +kernel) dX0_lastLooseOpen_18 ?_
      refine zr_icmp_ge S 153 (by decide) (by omega) (by omega) dX0_lastLooseOpen_20 (fun ch1 => by omega) (fun ch1 => ?_)
      refine zr_iload S hl 2 rfl dX0_lastLooseOpen_23 ?_
      refine zr_if_lt S 153 (by decide) (by omega) dX0_lastLooseOpen_25 (fun ch2 => ?_) (fun ch2 => ?_)
      · refine zr_iconst S dX0_lastLooseOpen_153 ?_
        exact zt_iret S hr hlk hw (⟨by rw [← hq, zLl, if_pos (by omega)], by omega⟩) dX0_lastLooseOpen_154
      · refine zr_aload S hl 0 rfl dX0_lastLooseOpen_28 ?_
        refine zr_iload S hl 2 rfl dX0_lastLooseOpen_29 ?_
        refine zt_callv S hw (met_settle l g σ1 x (by omega)) kq_settle rfl rfl ⟨by decide, by decide⟩ rfl rfl hl.1 (Nat.le_of_ble_eq_true rfl) ⟨Nat.zero_le _, Nat.zero_le _⟩ dX0_lastLooseOpen_31 (fun cσ3 H locs cp4 hw => ?_)
        refine zr_aload S hl 0 rfl dX0_lastLooseOpen_34 ?_
        refine zt_get S hw 2 (.ref (g.2.2 2)) (by decide) rfl dX0_lastLooseOpen_35 ?_
        refine zr_iload S hl 2 rfl dX0_lastLooseOpen_38 ?_
        refine zt_bald S hw 2 60 3 2 (i := x) (by omega) (by omega) (by omega) rfl rfl dX0_lastLooseOpen_40 (fun cv5 ce6 cr7 => ?_)
        have cr7 : (-1) ≤ cv5 ∧ cv5 ≤ 59 := cr7
        refine zr_istore S [(8, .int (zI cv5)), (0, .ref (g.2.2 19)), (2, .int (zI k)), (4, .int (zI x)), (5, .int (zI o)), (6, .int (zI f)), (7, .int (zI sp))] hl (by decide) rfl dX0_lastLooseOpen_41 (fun ls hl => ?_)
        refine zr_aload S hl 1 rfl dX0_lastLooseOpen_43 ?_
        refine zr_iload S hl 0 rfl dX0_lastLooseOpen_44 ?_
        refine zr_iload_n S hl 2 rfl dX0_lastLooseOpen_46 ?_
        refine zt_calli S hw (met_opensOf l g cσ3 cv5 k (by omega) (by omega)) kq_opensOf rfl rfl ⟨by decide, by decide⟩ rfl rfl hl.1 (Nat.le_of_ble_eq_true rfl) ⟨Nat.zero_le _, Nat.zero_le _⟩ dX0_lastLooseOpen_47 (fun cv10 cσ8 H locs cp9 hw => ?_)
        obtain ⟨hs_, ce11⟩ := cp9
        rw [hs_] at hw
        have cr12 : -128 ≤ cv10 ∧ cv10 ≤ 127 := by rw [ce11]; exact zOp_r hw.2.2.2.2.1 _ _
        refine zr_iload S hl 4 rfl dX0_lastLooseOpen_50 ?_
        refine zr_icmp_le S 62 (by decide) (by omega) (by omega) dX0_lastLooseOpen_52 (fun ch13 => ?_) (fun ch13 => ?_)
        · refine zr_iload S hl 4 rfl dX0_lastLooseOpen_62 ?_
          refine zr_aload S hl 1 rfl dX0_lastLooseOpen_64 ?_
          refine zr_iload S hl 0 rfl dX0_lastLooseOpen_65 ?_
          refine zr_iload_n S hl 2 rfl dX0_lastLooseOpen_67 ?_
          refine zt_calli S hw (met_closesOf l g cσ3 cv5 k (by omega) (by omega)) kq_closesOf rfl rfl ⟨by decide, by decide⟩ rfl rfl hl.1 (Nat.le_of_ble_eq_true rfl) ⟨Nat.zero_le _, Nat.zero_le _⟩ dX0_lastLooseOpen_68 (fun cv16 cσ14 H locs cp15 hw => ?_)
          obtain ⟨hs_, ce17⟩ := cp15
          rw [hs_] at hw
          have cr18 : -128 ≤ cv16 ∧ cv16 ≤ 127 := by rw [ce17]; exact zCl_r hw.2.2.2.2.1 _ _
          refine zr_aload S hl 1 rfl dX0_lastLooseOpen_71 ?_
          refine zr_iload S hl 0 rfl dX0_lastLooseOpen_72 ?_
          refine zr_iload_n S hl 2 rfl dX0_lastLooseOpen_74 ?_
          refine zt_calli S hw (met_opensOf l g cσ3 cv5 k (by omega) (by omega)) kq_opensOf rfl rfl ⟨by decide, by decide⟩ rfl rfl hl.1 (Nat.le_of_ble_eq_true rfl) ⟨Nat.zero_le _, Nat.zero_le _⟩ dX0_lastLooseOpen_75 (fun cv21 cσ19 H locs cp20 hw => ?_)
          obtain ⟨hs_, ce22⟩ := cp20
          rw [hs_] at hw
          have cr23 : -128 ≤ cv21 ∧ cv21 ≤ 127 := by rw [ce22]; exact zOp_r hw.2.2.2.2.1 _ _
          refine zr_isub S dX0_lastLooseOpen_78 (fun cv24 ce25 => ?_)
          refine zr_iadd S dX0_lastLooseOpen_79 (fun cv26 ce27 => ?_)
          refine zr_istore S [(5, .int (zI cv26)), (8, .int (zI cv5)), (0, .ref (g.2.2 19)), (2, .int (zI k)), (4, .int (zI x)), (6, .int (zI f)), (7, .int (zI sp))] hl (by decide) rfl dX0_lastLooseOpen_80 (fun ls hl => ?_)
          refine zr_iload S hl 5 rfl dX0_lastLooseOpen_82 ?_
          refine zr_aload S hl 2 rfl dX0_lastLooseOpen_84 ?_
          refine zr_iload S hl 1 rfl dX0_lastLooseOpen_85 ?_
          refine zt_calli S hw (met_sizeOf l g cσ3 cv5 (by omega)) kq_sizeOf rfl rfl ⟨by decide, by decide⟩ rfl rfl hl.1 (Nat.le_of_ble_eq_true rfl) ⟨Nat.zero_le _, Nat.zero_le _⟩ dX0_lastLooseOpen_87 (fun cv30 cσ28 H locs cp29 hw => ?_)
          obtain ⟨hs_, ce31⟩ := cp29
          rw [hs_] at hw
          have cr32 : -128 ≤ cv30 ∧ cv30 ≤ 127 := by rw [ce31]; exact zSz_r hw.2.2.2.2.1 _
          refine zr_isub S dX0_lastLooseOpen_90 (fun cv33 ce34 => ?_)
          refine zr_istore S [(6, .int (zI cv33)), (5, .int (zI cv26)), (8, .int (zI cv5)), (0, .ref (g.2.2 19)), (2, .int (zI k)), (4, .int (zI x)), (7, .int (zI sp))] hl (by decide) rfl dX0_lastLooseOpen_91 (fun ls hl => ?_)
          refine zr_aload S hl 3 rfl dX0_lastLooseOpen_93 ?_
          refine zt_get S hw 0 (.ref (g.2.2 0)) (by decide) rfl dX0_lastLooseOpen_94 ?_
          refine zr_iload S hl 5 rfl dX0_lastLooseOpen_97 ?_
          refine zt_bald S hw 0 60 1 0 (i := x) (by omega) (by omega) (by omega) rfl rfl dX0_lastLooseOpen_99 (fun cv35 ce36 cr37 => ?_)
          have cr37 : 0 ≤ cv35 ∧ cv35 ≤ 6 := cr37
          refine zr_iload_n S hl 4 rfl dX0_lastLooseOpen_100 ?_
          refine zr_iconst S dX0_lastLooseOpen_101 ?_
          refine zr_iadd S dX0_lastLooseOpen_102 (fun cv38 ce39 => ?_)
          refine zr_icmp_ne S 119 (by decide) (by omega) (by omega) dX0_lastLooseOpen_103 (fun ch40 => ?_) (fun ch40 => ?_)
          · refine zr_aload S hl 3 rfl dX0_lastLooseOpen_119 ?_
            refine zt_get S hw 0 (.ref (g.2.2 0)) (by decide) rfl dX0_lastLooseOpen_120 ?_
            refine zr_iload S hl 5 rfl dX0_lastLooseOpen_123 ?_
            refine zt_bald S hw 0 60 1 0 (i := x) (by omega) (by omega) (by omega) rfl rfl dX0_lastLooseOpen_125 (fun cv41 ce42 cr43 => ?_)
            have cr43 : 0 ≤ cv41 ∧ cv41 ≤ 6 := cr43
            refine zr_iload_n S hl 4 rfl dX0_lastLooseOpen_126 ?_
            refine zr_iconst S dX0_lastLooseOpen_127 ?_
            refine zr_iadd S dX0_lastLooseOpen_128 (fun cv44 ce45 => ?_)
            refine zr_icmp_ne S 135 (by decide) (by omega) (by omega) dX0_lastLooseOpen_129 (fun ch46 => ?_) (fun ch46 => ?_)
            · obtain ⟨cv47, ce48⟩ : ∃ v : Int, v = cv33 + (-1) := ⟨_, rfl⟩
              refine zr_iinc S cv47 ce48 [(6, .int (zI cv47)), (5, .int (zI cv26)), (8, .int (zI cv5)), (0, .ref (g.2.2 19)), (2, .int (zI k)), (4, .int (zI x)), (7, .int (zI sp))] hl 0 rfl (by decide) rfl dX0_lastLooseOpen_135 (fun ls hl => ?_)
              refine zr_aload S hl 3 rfl dX0_lastLooseOpen_138 ?_
              refine zt_get S hw 1 (.ref (g.2.2 1)) (by decide) rfl dX0_lastLooseOpen_139 ?_
              refine zr_iload S hl 5 rfl dX0_lastLooseOpen_142 ?_
              refine zt_bald S hw 1 60 2 1 (i := x) (by omega) (by omega) (by omega) rfl rfl dX0_lastLooseOpen_144 (fun cv49 ce50 cr51 => ?_)
              have cr51 : (-1) ≤ cv49 ∧ cv49 ≤ 59 := cr51
              refine zr_istore S [(4, .int (zI cv49)), (6, .int (zI cv47)), (5, .int (zI cv26)), (8, .int (zI cv5)), (0, .ref (g.2.2 19)), (2, .int (zI k)), (7, .int (zI sp))] hl (by decide) rfl dX0_lastLooseOpen_145 (fun ls hl => ?_)
              obtain ⟨cv52, ce53⟩ : ∃ v : Int, v = sp + 1 := ⟨_, rfl⟩
              refine zr_iinc S cv52 ce53 [(7, .int (zI cv52)), (4, .int (zI cv49)), (6, .int (zI cv47)), (5, .int (zI cv26)), (8, .int (zI cv5)), (0, .ref (g.2.2 19)), (2, .int (zI k))] hl 6 rfl (by decide) rfl dX0_lastLooseOpen_147 (fun ls hl => ?_)
              refine zr_goto S 16 (by decide) dX0_lastLooseOpen_150 ?_
              have hs1 : cσ3 = zSettle σ1 x := cp4
              have hch : cv5 = zSettle σ1 x 2 x.toNat := by rw [← hs1]; exact ce6
              have hcm : cv10 = zOp (zSettle σ1 x) (zSettle σ1 x 2 x.toNat) k := by rw [← hs1, ce11, ce6]
              have hfo : cv26 = zLo (zSettle σ1 x) (zSettle σ1 x 2 x.toNat) k o := by rw [zLo, ← hch, ← hs1, ← ce17, ← ce22]; omega
              have hsz : cv30 = zSz (zSettle σ1 x) (zSettle σ1 x 2 x.toNat) := by rw [← hch, ← hs1, ← ce31]
              have hcd : cv35 = zSettle σ1 x 0 x.toNat := by rw [← hs1, ← ce36]
              have hfd : cv26 = zLd (zSettle σ1 x) x k (zLo (zSettle σ1 x) (zSettle σ1 x 2 x.toNat) k o) := by rw [zLd, if_neg (by omega), if_neg (by omega)]; omega
              have hnx : cv49 = zSettle σ1 x 1 x.toNat := by rw [← hs1]; exact ce50
              have hq2 : zLl n cσ3 cv49 k cv26 cv47 = zLl 60 σ t k d (zSz σ t) := by rw [← hq, zLl, if_neg (by omega), if_neg (by omega), if_neg (by omega), ← hfd, ← hnx, ← hs1]; congr 1; rw [hs1]; omega
              exact ih cv49 cv26 cv47 cv52 cσ3 H locs ls (by omega) (by omega) (by omega) (by omega) (by omega) hw (lv_sub hl [5, 6, 1, 3, 2, 0] rfl) hq2
            · obtain ⟨cv54, ce55⟩ : ∃ v : Int, v = cv26 + 1 := ⟨_, rfl⟩
              refine zr_iinc S cv54 ce55 [(5, .int (zI cv54)), (6, .int (zI cv33)), (8, .int (zI cv5)), (0, .ref (g.2.2 19)), (2, .int (zI k)), (4, .int (zI x)), (7, .int (zI sp))] hl 1 rfl (by decide) rfl dX0_lastLooseOpen_132 (fun ls hl => ?_)
              obtain ⟨cv56, ce57⟩ : ∃ v : Int, v = cv33 + (-1) := ⟨_, rfl⟩
              refine zr_iinc S cv56 ce57 [(6, .int (zI cv56)), (5, .int (zI cv54)), (8, .int (zI cv5)), (0, .ref (g.2.2 19)), (2, .int (zI k)), (4, .int (zI x)), (7, .int (zI sp))] hl 1 rfl (by decide) rfl dX0_lastLooseOpen_135 (fun ls hl => ?_)
              refine zr_aload S hl 3 rfl dX0_lastLooseOpen_138 ?_
              refine zt_get S hw 1 (.ref (g.2.2 1)) (by decide) rfl dX0_lastLooseOpen_139 ?_
              refine zr_iload S hl 5 rfl dX0_lastLooseOpen_142 ?_
              refine zt_bald S hw 1 60 2 1 (i := x) (by omega) (by omega) (by omega) rfl rfl dX0_lastLooseOpen_144 (fun cv58 ce59 cr60 => ?_)
              have cr60 : (-1) ≤ cv58 ∧ cv58 ≤ 59 := cr60
              refine zr_istore S [(4, .int (zI cv58)), (6, .int (zI cv56)), (5, .int (zI cv54)), (8, .int (zI cv5)), (0, .ref (g.2.2 19)), (2, .int (zI k)), (7, .int (zI sp))] hl (by decide) rfl dX0_lastLooseOpen_145 (fun ls hl => ?_)
              obtain ⟨cv61, ce62⟩ : ∃ v : Int, v = sp + 1 := ⟨_, rfl⟩
              refine zr_iinc S cv61 ce62 [(7, .int (zI cv61)), (4, .int (zI cv58)), (6, .int (zI cv56)), (5, .int (zI cv54)), (8, .int (zI cv5)), (0, .ref (g.2.2 19)), (2, .int (zI k))] hl 6 rfl (by decide) rfl dX0_lastLooseOpen_147 (fun ls hl => ?_)
              refine zr_goto S 16 (by decide) dX0_lastLooseOpen_150 ?_
              have hs1 : cσ3 = zSettle σ1 x := cp4
              have hch : cv5 = zSettle σ1 x 2 x.toNat := by rw [← hs1]; exact ce6
              have hcm : cv10 = zOp (zSettle σ1 x) (zSettle σ1 x 2 x.toNat) k := by rw [← hs1, ce11, ce6]
              have hfo : cv26 = zLo (zSettle σ1 x) (zSettle σ1 x 2 x.toNat) k o := by rw [zLo, ← hch, ← hs1, ← ce17, ← ce22]; omega
              have hsz : cv30 = zSz (zSettle σ1 x) (zSettle σ1 x 2 x.toNat) := by rw [← hch, ← hs1, ← ce31]
              have hcd : cv35 = zSettle σ1 x 0 x.toNat := by rw [← hs1, ← ce36]
              have hfd : cv54 = zLd (zSettle σ1 x) x k (zLo (zSettle σ1 x) (zSettle σ1 x 2 x.toNat) k o) := by rw [zLd, if_neg (by omega), if_pos (by omega)]; omega
              have hnx : cv58 = zSettle σ1 x 1 x.toNat := by rw [← hs1]; exact ce59
              have hq2 : zLl n cσ3 cv58 k cv54 cv56 = zLl 60 σ t k d (zSz σ t) := by rw [← hq, zLl, if_neg (by omega), if_neg (by omega), if_neg (by omega), ← hfd, ← hnx, ← hs1]; congr 1; rw [hs1]; omega
              exact ih cv58 cv54 cv56 cv61 cσ3 H locs ls (by omega) (by omega) (by omega) (by omega) (by omega) hw (lv_sub hl [5, 6, 1, 3, 2, 0] rfl) hq2
          · refine zr_iload S hl 1 rfl dX0_lastLooseOpen_106 ?_
            refine zr_if_ne S 116 (by decide) (by omega) dX0_lastLooseOpen_108 (fun ch63 => ?_) (fun ch63 => ?_)
            · obtain ⟨cv64, ce65⟩ : ∃ v : Int, v = cv26 + (-1) := ⟨_, rfl⟩
              refine zr_iinc S cv64 ce65 [(5, .int (zI cv64)), (6, .int (zI cv33)), (8, .int (zI cv5)), (0, .ref (g.2.2 19)), (2, .int (zI k)), (4, .int (zI x)), (7, .int (zI sp))] hl 1 rfl (by decide) rfl dX0_lastLooseOpen_116 (fun ls hl => ?_)
              refine zr_aload S hl 3 rfl dX0_lastLooseOpen_119 ?_
              refine zt_get S hw 0 (.ref (g.2.2 0)) (by decide) rfl dX0_lastLooseOpen_120 ?_
              refine zr_iload S hl 5 rfl dX0_lastLooseOpen_123 ?_
              refine zt_bald S hw 0 60 1 0 (i := x) (by omega) (by omega) (by omega) rfl rfl dX0_lastLooseOpen_125 (fun cv66 ce67 cr68 => ?_)
              have cr68 : 0 ≤ cv66 ∧ cv66 ≤ 6 := cr68
              refine zr_iload_n S hl 4 rfl dX0_lastLooseOpen_126 ?_
              refine zr_iconst S dX0_lastLooseOpen_127 ?_
              refine zr_iadd S dX0_lastLooseOpen_128 (fun cv69 ce70 => ?_)
              refine zr_icmp_ne S 135 (by decide) (by omega) (by omega) dX0_lastLooseOpen_129 (fun ch71 => ?_) (fun ch71 => by omega)
              obtain ⟨cv72, ce73⟩ : ∃ v : Int, v = cv33 + (-1) := ⟨_, rfl⟩
              refine zr_iinc S cv72 ce73 [(6, .int (zI cv72)), (5, .int (zI cv64)), (8, .int (zI cv5)), (0, .ref (g.2.2 19)), (2, .int (zI k)), (4, .int (zI x)), (7, .int (zI sp))] hl 1 rfl (by decide) rfl dX0_lastLooseOpen_135 (fun ls hl => ?_)
              refine zr_aload S hl 3 rfl dX0_lastLooseOpen_138 ?_
              refine zt_get S hw 1 (.ref (g.2.2 1)) (by decide) rfl dX0_lastLooseOpen_139 ?_
              refine zr_iload S hl 5 rfl dX0_lastLooseOpen_142 ?_
              refine zt_bald S hw 1 60 2 1 (i := x) (by omega) (by omega) (by omega) rfl rfl dX0_lastLooseOpen_144 (fun cv74 ce75 cr76 => ?_)
              have cr76 : (-1) ≤ cv74 ∧ cv74 ≤ 59 := cr76
              refine zr_istore S [(4, .int (zI cv74)), (6, .int (zI cv72)), (5, .int (zI cv64)), (8, .int (zI cv5)), (0, .ref (g.2.2 19)), (2, .int (zI k)), (7, .int (zI sp))] hl (by decide) rfl dX0_lastLooseOpen_145 (fun ls hl => ?_)
              obtain ⟨cv77, ce78⟩ : ∃ v : Int, v = sp + 1 := ⟨_, rfl⟩
              refine zr_iinc S cv77 ce78 [(7, .int (zI cv77)), (4, .int (zI cv74)), (6, .int (zI cv72)), (5, .int (zI cv64)), (8, .int (zI cv5)), (0, .ref (g.2.2 19)), (2, .int (zI k))] hl 6 rfl (by decide) rfl dX0_lastLooseOpen_147 (fun ls hl => ?_)
              refine zr_goto S 16 (by decide) dX0_lastLooseOpen_150 ?_
              have hs1 : cσ3 = zSettle σ1 x := cp4
              have hch : cv5 = zSettle σ1 x 2 x.toNat := by rw [← hs1]; exact ce6
              have hcm : cv10 = zOp (zSettle σ1 x) (zSettle σ1 x 2 x.toNat) k := by rw [← hs1, ce11, ce6]
              have hfo : cv26 = zLo (zSettle σ1 x) (zSettle σ1 x 2 x.toNat) k o := by rw [zLo, ← hch, ← hs1, ← ce17, ← ce22]; omega
              have hsz : cv30 = zSz (zSettle σ1 x) (zSettle σ1 x 2 x.toNat) := by rw [← hch, ← hs1, ← ce31]
              have hcd : cv35 = zSettle σ1 x 0 x.toNat := by rw [← hs1, ← ce36]
              have hfd : cv64 = zLd (zSettle σ1 x) x k (zLo (zSettle σ1 x) (zSettle σ1 x 2 x.toNat) k o) := by rw [zLd, if_pos (by omega)]; omega
              have hnx : cv74 = zSettle σ1 x 1 x.toNat := by rw [← hs1]; exact ce75
              have hq2 : zLl n cσ3 cv74 k cv64 cv72 = zLl 60 σ t k d (zSz σ t) := by rw [← hq, zLl, if_neg (by omega), if_neg (by omega), if_neg (by omega), ← hfd, ← hnx, ← hs1]; congr 1; rw [hs1]; omega
              exact ih cv74 cv64 cv72 cv77 cσ3 H locs ls (by omega) (by omega) (by omega) (by omega) (by omega) hw (lv_sub hl [5, 6, 1, 3, 2, 0] rfl) hq2
            · refine zr_iload S hl 0 rfl dX0_lastLooseOpen_111 ?_
              refine zr_iconst S dX0_lastLooseOpen_113 ?_
              refine zr_isub S dX0_lastLooseOpen_114 (fun cv79 ce80 => ?_)
              have hs1 : cσ3 = zSettle σ1 x := cp4
              have hch : cv5 = zSettle σ1 x 2 x.toNat := by rw [← hs1]; exact ce6
              have hcm : cv10 = zOp (zSettle σ1 x) (zSettle σ1 x 2 x.toNat) k := by rw [← hs1, ce11, ce6]
              have hfo : cv26 = zLo (zSettle σ1 x) (zSettle σ1 x 2 x.toNat) k o := by rw [zLo, ← hch, ← hs1, ← ce17, ← ce22]; omega
              have hsz : cv30 = zSz (zSettle σ1 x) (zSettle σ1 x 2 x.toNat) := by rw [← hch, ← hs1, ← ce31]
              have hcd : cv35 = zSettle σ1 x 0 x.toNat := by rw [← hs1, ← ce36]
              exact zt_iret S hr hlk hw (⟨by rw [← hq, zLl, if_neg (by omega), if_neg (by omega), if_pos (by omega)]; refine Prod.ext hs1 ?_; dsimp only; omega, by omega⟩) dX0_lastLooseOpen_115
        · refine zr_iload S hl 0 rfl dX0_lastLooseOpen_55 ?_
          refine zr_istore S [(4, .int (zI cv5)), (8, .int (zI cv5)), (0, .ref (g.2.2 19)), (2, .int (zI k)), (5, .int (zI o)), (6, .int (zI f)), (7, .int (zI sp))] hl (by decide) rfl dX0_lastLooseOpen_57 (fun ls hl => ?_)
          refine zr_goto S 147 (by decide) dX0_lastLooseOpen_59 ?_
          obtain ⟨cv81, ce82⟩ : ∃ v : Int, v = sp + 1 := ⟨_, rfl⟩
          refine zr_iinc S cv81 ce82 [(7, .int (zI cv81)), (4, .int (zI cv5)), (8, .int (zI cv5)), (0, .ref (g.2.2 19)), (2, .int (zI k)), (5, .int (zI o)), (6, .int (zI f))] hl 6 rfl (by decide) rfl dX0_lastLooseOpen_147 (fun ls hl => ?_)
          refine zr_goto S 16 (by decide) dX0_lastLooseOpen_150 ?_
          have hs1 : cσ3 = zSettle σ1 x := cp4
          have hch : cv5 = zSettle σ1 x 2 x.toNat := by rw [← hs1]; exact ce6
          have hcm : cv10 = zOp (zSettle σ1 x) (zSettle σ1 x 2 x.toNat) k := by rw [← hs1, ce11, ce6]
          have hq2 : zLl n cσ3 cv5 k o f = zLl 60 σ t k d (zSz σ t) := by rw [← hq, zLl, if_neg (by omega), if_pos (by omega), ← hch, ← hs1]
          exact ih cv5 o f cv81 cσ3 H locs ls (by omega) (by omega) (by omega) (by omega) (by omega) hw (lv_sub hl [3, 4, 1, 5, 6, 0] rfl) hq2
  refine zr_iload_n S hl 1 rfl dX0_lastLooseOpen_0 ?_
  refine zr_istore S [(4, .int (zI t)), (0, .ref (g.2.2 19)), (1, .int (zI t)), (2, .int (zI k)), (3, .int (zI d))] hl (by decide) rfl dX0_lastLooseOpen_1 (fun ls hl => ?_)
  refine zr_iload_n S hl 4 rfl dX0_lastLooseOpen_3 ?_
  refine zr_istore S [(5, .int (zI d)), (4, .int (zI t)), (0, .ref (g.2.2 19)), (1, .int (zI t)), (2, .int (zI k)), (3, .int (zI d))] hl (by decide) rfl dX0_lastLooseOpen_4 (fun ls hl => ?_)
  refine zr_aload S hl 2 rfl dX0_lastLooseOpen_6 ?_
  refine zr_iload_n S hl 3 rfl dX0_lastLooseOpen_7 ?_
  refine zt_calli S hw (met_sizeOf l g σ t (by omega)) kq_sizeOf rfl rfl ⟨by decide, by decide⟩ rfl rfl hl.1 (Nat.le_of_ble_eq_true rfl) ⟨Nat.zero_le _, Nat.zero_le _⟩ dX0_lastLooseOpen_8 (fun v3 σ1 H locs p2 hw => ?_)
  obtain ⟨hs_, e4⟩ := p2
  rw [hs_] at hw
  have r5 : -128 ≤ v3 ∧ v3 ≤ 127 := by rw [e4]; exact zSz_r hw.2.2.2.2.1 _
  refine zr_istore S [(6, .int (zI v3)), (5, .int (zI d)), (4, .int (zI t)), (0, .ref (g.2.2 19)), (1, .int (zI t)), (2, .int (zI k)), (3, .int (zI d))] hl (by decide) rfl dX0_lastLooseOpen_11 (fun ls hl => ?_)
  refine zr_iconst S dX0_lastLooseOpen_13 ?_
  refine zr_istore S [(7, .int (zI 0)), (6, .int (zI v3)), (5, .int (zI d)), (4, .int (zI t)), (0, .ref (g.2.2 19)), (1, .int (zI t)), (2, .int (zI k)), (3, .int (zI d))] hl (by decide) rfl dX0_lastLooseOpen_14 (fun ls hl => ?_)
  exact loop 60 t d v3 0 σ H locs ls (by decide) (by decide) ht (by omega) (by omega) hw (lv_sub hl [4, 6, 3, 2, 1, 0] rfl) (by rw [e4])
end
section
/-! PURE: texts, mirrored texts, what a text leaves open and unclosed -/
def bflip (c : Int) : Int := if 3 < c then c - 3 else if 0 < c then c + 3 else c
def bmir (T : List Int) : List Int := (T.map bflip).reverse
def bcod (T : List Int) : Prop := ∀ c ∈ T, 0 ≤ c ∧ c ≤ 6
def bst (k : Int) (p : Int × Int) (c : Int) : Int × Int := if c = k + 1 then (p.1 + 1, p.2) else if c = k + 4 then (if 0 < p.1 then (p.1 - 1, p.2) else (p.1, p.2 + 1)) else p
def boc (k : Int) (T : List Int) : Int × Int := T.foldl (bst k) (0, 0)
def bo (k : Int) (T : List Int) : Int := (boc k T).1
def bc (k : Int) (T : List Int) : Int := (boc k T).2
def bcomb (a b : Int × Int) : Int × Int := (a.1 - zMet a.1 b.2 + b.1, a.2 + b.2 - zMet a.1 b.2)
theorem zMet_c (a b : Int) : (zMet a b = a ∧ a < b) ∨ (zMet a b = b ∧ b ≤ a) := by
  unfold zMet
  split <;> omega
theorem bst_pos (k : Int) (p : Int × Int) (c : Int) (h : 0 ≤ p.1 ∧ 0 ≤ p.2) : 0 ≤ (bst k p c).1 ∧ 0 ≤ (bst k p c).2 := by
  unfold bst
  split
  · exact ⟨by dsimp only; omega, h.2⟩
  · split
    · split
      · exact ⟨by dsimp only; omega, h.2⟩
      · exact ⟨h.1, by dsimp only; omega⟩
    · exact h
theorem boc_snoc (k : Int) (T : List Int) (c : Int) : boc k (T ++ [c]) = bst k (boc k T) c := by
  unfold boc
  rw [List.foldl_append]
  rfl
theorem list_snoc {α : Type} {P : List α → Prop} (h0 : P []) (h1 : ∀ l a, P l → P (l ++ [a])) (l : List α) : P l := by
  have key : ∀ n (l : List α), l.length = n → P l := by
    intro n
    induction n with
    | zero =>
      intro l hl
      rw [List.length_eq_zero_iff.mp hl]
      exact h0
    | succ n ih =>
      intro l hl
      have hne : l ≠ [] := by
        intro h
        rw [h] at hl
        exact absurd hl (by simp)
      rw [← List.dropLast_concat_getLast hne]
      exact h1 _ _ (ih _ (by rw [List.length_dropLast, hl]; rfl))
  exact key l.length l rfl
theorem boc_pos (k : Int) (T : List Int) : 0 ≤ (boc k T).1 ∧ 0 ≤ (boc k T).2 := by
  refine list_snoc (P := fun T => 0 ≤ (boc k T).1 ∧ 0 ≤ (boc k T).2) ⟨Int.le_refl 0, Int.le_refl 0⟩ (fun l a ih => ?_) T
  rw [boc_snoc]
  exact bst_pos k _ _ ih
theorem bo_pos (k : Int) (T : List Int) : 0 ≤ bo k T := (boc_pos k T).1
theorem bc_pos (k : Int) (T : List Int) : 0 ≤ bc k T := (boc_pos k T).2
theorem bst_comb (k : Int) (p q : Int × Int) (c : Int) (hp : 0 ≤ p.1 ∧ 0 ≤ p.2) (hq : 0 ≤ q.1 ∧ 0 ≤ q.2) : bst k (bcomb p q) c = bcomb p (bst k q c) := by
  obtain ⟨p1, p2⟩ := p
  obtain ⟨q1, q2⟩ := q
  dsimp only at hp hq
  unfold bst bcomb
  dsimp only
  have h1 := zMet_c p1 q2
  have h2 := zMet_c p1 (q2 + 1)
  by_cases e1 : c = k + 1
  · rw [if_pos e1, if_pos e1]
    dsimp only
    exact Prod.ext (by dsimp only; omega) rfl
  · rw [if_neg e1, if_neg e1]
    by_cases e2 : c = k + 4
    · rw [if_pos e2, if_pos e2]
      by_cases e3 : 0 < q1
      · rw [if_pos (by omega), if_pos e3]
        exact Prod.ext (by dsimp only; omega) rfl
      · rw [if_neg e3]
        dsimp only
        by_cases e4 : 0 < p1 - zMet p1 q2 + q1
        · rw [if_pos e4]
          exact Prod.ext (by dsimp only; omega) (by dsimp only; omega)
        · rw [if_neg e4]
          exact Prod.ext (by dsimp only; omega) (by dsimp only; omega)
    · rw [if_neg e2, if_neg e2]
theorem bcomb_0 (p : Int × Int) (hp : 0 ≤ p.1 ∧ 0 ≤ p.2) : bcomb p (0, 0) = p := by
  obtain ⟨p1, p2⟩ := p
  dsimp only at hp
  have h1 := zMet_c p1 0
  exact Prod.ext (by dsimp only [bcomb]; omega) (by dsimp only [bcomb]; omega)
theorem boc_app (k : Int) (A B : List Int) : boc k (A ++ B) = bcomb (boc k A) (boc k B) := by
  refine list_snoc (P := fun B => boc k (A ++ B) = bcomb (boc k A) (boc k B)) ?_ (fun l a ih => ?_) B
  · rw [List.append_nil]
    exact (bcomb_0 _ (boc_pos k A)).symm
  · rw [← List.append_assoc, boc_snoc, ih, boc_snoc]
    exact bst_comb k _ _ _ (boc_pos k A) (boc_pos k l)
theorem bo_app (k : Int) (A B : List Int) : bo k (A ++ B) = bo k A - zMet (bo k A) (bc k B) + bo k B := congrArg Prod.fst (boc_app k A B)
theorem bc_app (k : Int) (A B : List Int) : bc k (A ++ B) = bc k A + bc k B - zMet (bo k A) (bc k B) := congrArg Prod.snd (boc_app k A B)
theorem bo_nil (k : Int) : bo k [] = 0 := rfl
theorem bc_nil (k : Int) : bc k [] = 0 := rfl
theorem boc_one (k c : Int) : boc k [c] = bst k (0, 0) c := rfl
theorem bo_snoc (k : Int) (A : List Int) (c : Int) : bo k (A ++ [c]) = if c = k + 1 then bo k A + 1 else if c = k + 4 then (if 0 < bo k A then bo k A - 1 else bo k A) else bo k A := by
  unfold bo
  rw [boc_snoc]
  unfold bst
  split
  · rfl
  · split
    · split <;> rfl
    · rfl
theorem bc_snoc (k : Int) (A : List Int) (c : Int) (hk : c ≠ k + 1 ∨ True) : bc k (A ++ [c]) = if c = k + 4 then (if 0 < bo k A then bc k A else bc k A + 1) else bc k A := by
  unfold bc bo
  rw [boc_snoc]
  unfold bst
  by_cases e1 : c = k + 1
  · rw [if_pos e1, if_neg (by omega)]
  · rw [if_neg e1]
    split
    · split <;> rfl
    · rfl
theorem boc_len (k : Int) (T : List Int) : bo k T + bc k T ≤ T.length := by
  refine list_snoc (P := fun T => bo k T + bc k T ≤ T.length) (Int.le_refl 0) (fun l a ih => ?_) T
  rw [bo_snoc, bc_snoc _ _ _ (Or.inr trivial), List.length_append]
  have h := bo_pos k l
  simp only [List.length_cons, List.length_nil]
  split <;> split <;> (try split) <;> omega
theorem bo_len (k : Int) (T : List Int) : bo k T ≤ T.length := by have := boc_len k T; have := bc_pos k T; omega
theorem bc_len (k : Int) (T : List Int) : bc k T ≤ T.length := by have := boc_len k T; have := bo_pos k T; omega
theorem bmir_nil : bmir [] = [] := rfl
theorem bmir_app (A B : List Int) : bmir (A ++ B) = bmir B ++ bmir A := by
  unfold bmir
  rw [List.map_append, List.reverse_append]
theorem bmir_cons (c : Int) (A : List Int) : bmir (c :: A) = bmir A ++ [bflip c] := by
  unfold bmir
  rw [List.map_cons, List.reverse_cons]
theorem bmir_one (c : Int) : bmir [c] = [bflip c] := rfl
theorem bmir_len (A : List Int) : (bmir A).length = A.length := by
  unfold bmir
  rw [List.length_reverse, List.length_map]
theorem bflip_r {c : Int} (h : 0 ≤ c ∧ c ≤ 6) : 0 ≤ bflip c ∧ bflip c ≤ 6 := by
  unfold bflip
  split
  · omega
  · split <;> omega
theorem bflip_2 {c : Int} (h : 0 ≤ c ∧ c ≤ 6) : bflip (bflip c) = c := by
  unfold bflip
  by_cases h1 : 3 < c
  · rw [if_pos h1, if_neg (by omega), if_pos (by omega)]
    omega
  · rw [if_neg h1]
    by_cases h2 : 0 < c
    · rw [if_pos h2, if_pos (by omega)]
      omega
    · rw [if_neg h2, if_neg h1, if_neg h2]
theorem bmir_2 {T : List Int} (h : bcod T) : bmir (bmir T) = T := by
  unfold bmir
  rw [List.map_reverse, List.reverse_reverse, List.map_map]
  have : ∀ T : List Int, bcod T → T.map (bflip ∘ bflip) = T := by
    intro T
    induction T with
    | nil => intro _; rfl
    | cons a t ih =>
      intro h
      rw [List.map_cons, ih (fun c hc => h c (List.mem_cons_of_mem _ hc))]
      show bflip (bflip a) :: t = a :: t
      rw [bflip_2 (h a List.mem_cons_self)]
  exact this T h
theorem bcod_mir {T : List Int} (h : bcod T) : bcod (bmir T) := by
  intro c hc
  unfold bmir at hc
  rw [List.mem_reverse] at hc
  obtain ⟨a, ha, rfl⟩ := List.mem_map.mp hc
  exact bflip_r (h a ha)
theorem bcod_app {A B : List Int} : bcod (A ++ B) ↔ bcod A ∧ bcod B := by
  constructor
  · intro h
    exact ⟨fun c hc => h c (List.mem_append_left _ hc), fun c hc => h c (List.mem_append_right _ hc)⟩
  · intro h c hc
    rcases List.mem_append.mp hc with h1 | h1
    · exact h.1 c h1
    · exact h.2 c h1
theorem bcod_cons {a : Int} {B : List Int} : bcod (a :: B) ↔ (0 ≤ a ∧ a ≤ 6) ∧ bcod B := by
  constructor
  · intro h
    exact ⟨h a List.mem_cons_self, fun c hc => h c (List.mem_cons_of_mem _ hc)⟩
  · intro h c hc
    rcases List.mem_cons.mp hc with h1 | h1
    · rw [h1]; exact h.1
    · exact h.2 c h1
def bswap (p : Int × Int) : Int × Int := (p.2, p.1)
theorem bcomb_swap (a b : Int × Int) : bswap (bcomb a b) = bcomb (bswap b) (bswap a) := by
  obtain ⟨a1, a2⟩ := a
  obtain ⟨b1, b2⟩ := b
  unfold bswap bcomb
  dsimp only
  have h1 := zMet_c a1 b2
  have h2 := zMet_c b2 a1
  exact Prod.ext (by dsimp only; omega) (by dsimp only; omega)
theorem bst_flip (k a : Int) (hk : 0 ≤ k ∧ k ≤ 2) (ha : 0 ≤ a ∧ a ≤ 6) : bst k (0, 0) (bflip a) = bswap (bst k (0, 0) a) := by
  rcases (show k = 0 ∨ k = 1 ∨ k = 2 by omega) with h | h | h <;> subst h <;>
    rcases (show a = 0 ∨ a = 1 ∨ a = 2 ∨ a = 3 ∨ a = 4 ∨ a = 5 ∨ a = 6 by omega) with h | h | h | h | h | h | h <;> subst h <;> decide
theorem boc_mir (k : Int) (hk : 0 ≤ k ∧ k ≤ 2) {T : List Int} (h : bcod T) : boc k (bmir T) = bswap (boc k T) := by
  induction T with
  | nil => rfl
  | cons a t ih =>
    have h2 := bcod_cons.mp h
    rw [bmir_cons, boc_app, ih h2.2, show a :: t = [a] ++ t from rfl, boc_app, bcomb_swap]
    congr 1
    rw [boc_one, boc_one]
    exact bst_flip k a hk h2.1
theorem bo_mir (k : Int) (hk : 0 ≤ k ∧ k ≤ 2) {T : List Int} (h : bcod T) : bo k (bmir T) = bc k T := congrArg Prod.fst (boc_mir k hk h)
theorem bc_mir (k : Int) (hk : 0 ≤ k ∧ k ≤ 2) {T : List Int} (h : bcod T) : bc k (bmir T) = bo k T := congrArg Prod.snd (boc_mir k hk h)
end
section
/-! PURE: the tree at a node spells a text; turn and settle -/
def bmm (t : Int) (T : List Int) : List Int := if t = 0 then T else bmir T
def zOk (σ : zS) (i : Nat) (T : List Int) : Prop := σ 3 i = (T.length : Int) ∧ ∀ k : Int, 0 ≤ k → k ≤ 2 → σ 6 (3 * (i : Int) + k).toNat = bo k T ∧ σ 7 (3 * (i : Int) + k).toNat = bc k T
def zNd (σ : zS) (i : Nat) : Prop := i < 60 ∧ (0 ≤ σ 0 i ∧ σ 0 i ≤ 6) ∧ (0 ≤ σ 4 i ∧ σ 4 i ≤ 1)
/-- at node x hangs a tree of depth at most d, with the nodes N, that spells T -/
def Tr (σ : zS) : Nat → Int → List Int → List Nat → Prop
  | 0, x, T, N => x = -1 ∧ T = [] ∧ N = []
  | d + 1, x, T, N => (x = -1 ∧ T = [] ∧ N = []) ∨ ∃ (i : Nat) (A B : List Int) (M P : List Nat), x = (i : Int) ∧ N.Perm (i :: (M ++ P)) ∧ zNd σ i ∧ Tr σ d (σ 1 i) A M ∧ Tr σ d (σ 2 i) B P ∧ T = bmm (σ 4 i) A ++ σ 0 i :: bmm (σ 4 i) B ∧ zOk σ i T
def zSame (σ σ' : zS) (i : Nat) : Prop := σ' 0 i = σ 0 i ∧ σ' 1 i = σ 1 i ∧ σ' 2 i = σ 2 i ∧ σ' 3 i = σ 3 i ∧ σ' 4 i = σ 4 i ∧ ∀ k : Int, 0 ≤ k → k ≤ 2 → σ' 6 (3 * (i : Int) + k).toNat = σ 6 (3 * (i : Int) + k).toNat ∧ σ' 7 (3 * (i : Int) + k).toNat = σ 7 (3 * (i : Int) + k).toNat
theorem zSame.rf {σ : zS} {i : Nat} : zSame σ σ i := ⟨rfl, rfl, rfl, rfl, rfl, fun _ _ _ => ⟨rfl, rfl⟩⟩
theorem zSame.tr {σ σ1 σ2 : zS} {i : Nat} (h1 : zSame σ σ1 i) (h2 : zSame σ1 σ2 i) : zSame σ σ2 i := by
  obtain ⟨a0, a1, a2, a3, a4, a6⟩ := h1
  obtain ⟨b0, b1, b2, b3, b4, b6⟩ := h2
  exact ⟨b0.trans a0, b1.trans a1, b2.trans a2, b3.trans a3, b4.trans a4, fun k h h' => ⟨(b6 k h h').1.trans (a6 k h h').1, (b6 k h h').2.trans (a6 k h h').2⟩⟩
theorem zSame.st {σ : zS} {k j : Nat} {v : Int} {i : Nat} (hk : k ≠ 6 ∧ k ≠ 7) (h : j ≠ i ∨ 8 ≤ k ∨ k = 5) : zSame σ (zs_st σ k j v) i := by
  have key : ∀ k', k' < 5 → zs_st σ k j v k' i = σ k' i := by
    intro k' h'
    rcases h with h | h | h
    · exact zs_ni (Ne.symm h)
    · exact zs_ne (by omega)
    · exact zs_ne (by omega)
  exact ⟨key 0 (by omega), key 1 (by omega), key 2 (by omega), key 3 (by omega), key 4 (by omega), fun k' _ _ => ⟨zs_ne (Ne.symm hk.1), zs_ne (Ne.symm hk.2)⟩⟩
theorem Tr_nil (σ : zS) (d : Nat) : Tr σ d (-1) [] [] := by
  cases d with
  | zero => exact ⟨rfl, rfl, rfl⟩
  | succ d => exact Or.inl ⟨rfl, rfl, rfl⟩
theorem Tr_neg {σ : zS} {d : Nat} {x : Int} {T : List Int} {N : List Nat} (h : Tr σ d x T N) (hx : x < 0) : x = -1 ∧ T = [] ∧ N = [] := by
  cases d with
  | zero => exact h
  | succ d =>
    rcases h with h | ⟨i, A, B, M, P, e, -⟩
    · exact h
    · omega
theorem Tr_node {σ : zS} {d : Nat} {x : Int} {T : List Int} {N : List Nat} (h : Tr σ d x T N) (hx : ¬ x < 0) : ∃ (d' i : Nat) (A B : List Int) (M P : List Nat), d = d' + 1 ∧ x = (i : Int) ∧ N.Perm (i :: (M ++ P)) ∧ zNd σ i ∧ Tr σ d' (σ 1 i) A M ∧ Tr σ d' (σ 2 i) B P ∧ T = bmm (σ 4 i) A ++ σ 0 i :: bmm (σ 4 i) B ∧ zOk σ i T := by
  cases d with
  | zero => exact absurd h.1 (by omega)
  | succ d =>
    rcases h with h | ⟨i, A, B, M, P, e⟩
    · exact absurd h.1 (by omega)
    · exact ⟨d, i, A, B, M, P, rfl, e⟩
theorem Tr_mono {σ : zS} : ∀ {d : Nat} {x : Int} {T : List Int} {N : List Nat}, Tr σ d x T N → Tr σ (d + 1) x T N
  | 0, x, T, N, h => Or.inl h
  | d + 1, x, T, N, h => by
    rcases h with h | ⟨i, A, B, M, P, e1, e2, e3, e4, e5, e6⟩
    · exact Or.inl h
    · exact Or.inr ⟨i, A, B, M, P, e1, e2, e3, Tr_mono e4, Tr_mono e5, e6⟩
theorem Tr_le {σ : zS} {d d' : Nat} {x : Int} {T : List Int} {N : List Nat} (h : Tr σ d x T N) (hd : d ≤ d') : Tr σ d' x T N := by
  induction d' with
  | zero =>
    have : d = 0 := by omega
    subst this
    exact h
  | succ d' ih =>
    by_cases e : d = d' + 1
    · subst e
      exact h
    · exact Tr_mono (ih (by omega))
theorem Tr_perm {σ : zS} {d : Nat} {x : Int} {T : List Int} {N N' : List Nat} (h : Tr σ d x T N) (hp : N.Perm N') : Tr σ d x T N' := by
  cases d with
  | zero =>
    obtain ⟨h1, h2, h3⟩ := h
    subst h3
    exact ⟨h1, h2, List.nil_perm.mp hp⟩
  | succ d =>
    rcases h with ⟨h1, h2, h3⟩ | ⟨i, A, B, M, P, e1, e2, e3⟩
    · subst h3
      exact Or.inl ⟨h1, h2, List.nil_perm.mp hp⟩
    · exact Or.inr ⟨i, A, B, M, P, e1, hp.symm.trans e2, e3⟩
theorem bmm_len (t : Int) (T : List Int) : (bmm t T).length = T.length := by
  unfold bmm
  split
  · rfl
  · exact bmir_len T
theorem bmm_cod {t : Int} {T : List Int} (h : bcod T) : bcod (bmm t T) := by
  unfold bmm
  split
  · exact h
  · exact bcod_mir h
theorem Tr_len {σ : zS} : ∀ {d : Nat} {x : Int} {T : List Int} {N : List Nat}, Tr σ d x T N → T.length = N.length
  | 0, x, T, N, h => by rw [h.2.1, h.2.2]; rfl
  | d + 1, x, T, N, h => by
    rcases h with h | ⟨i, A, B, M, P, e1, e2, e3, e4, e5, e6, e7⟩
    · rw [h.2.1, h.2.2]; rfl
    · have h1 := Tr_len e4
      have h2 := Tr_len e5
      have h3 := e2.length_eq
      rw [e6, h3]
      simp only [List.length_append, List.length_cons, bmm_len]
      omega
theorem Tr_cod {σ : zS} : ∀ {d : Nat} {x : Int} {T : List Int} {N : List Nat}, Tr σ d x T N → bcod T
  | 0, x, T, N, h => by rw [h.2.1]; intro c hc; cases hc
  | d + 1, x, T, N, h => by
    rcases h with h | ⟨i, A, B, M, P, e1, e2, e3, e4, e5, e6, e7⟩
    · rw [h.2.1]; intro c hc; cases hc
    · rw [e6]
      exact bcod_app.mpr ⟨bmm_cod (Tr_cod e4), bcod_cons.mpr ⟨e3.2.1, bmm_cod (Tr_cod e5)⟩⟩
theorem Tr_lt {σ : zS} : ∀ {d : Nat} {x : Int} {T : List Int} {N : List Nat}, Tr σ d x T N → ∀ i ∈ N, i < 60
  | 0, x, T, N, h => by rw [h.2.2]; intro c hc; cases hc
  | d + 1, x, T, N, h => by
    rcases h with h | ⟨i, A, B, M, P, e1, e2, e3, e4, e5, e6, e7⟩
    · rw [h.2.2]; intro c hc; cases hc
    · intro j hj
      rcases List.mem_cons.mp (e2.mem_iff.mp hj) with h | h
      · rw [h]; exact e3.1
      · rcases List.mem_append.mp h with h | h
        · exact Tr_lt e4 j h
        · exact Tr_lt e5 j h
theorem Tr_r {σ : zS} {d : Nat} {x : Int} {T : List Int} {N : List Nat} (h : Tr σ d x T N) : -1 ≤ x ∧ x ≤ 59 := by
  by_cases hx : x < 0
  · have := (Tr_neg h hx).1
    omega
  · obtain ⟨d', i, A, B, M, P, e0, e1, e2, e3, -⟩ := Tr_node h hx
    have := e3.1
    omega
theorem Tr_mem {σ : zS} {d : Nat} {x : Int} {T : List Int} {N : List Nat} (h : Tr σ d x T N) (hx : ¬ x < 0) : x.toNat ∈ N := by
  obtain ⟨d', i, A, B, M, P, e0, e1, e2, e3, -⟩ := Tr_node h hx
  rw [e1, Int.toNat_natCast]
  exact e2.mem_iff.mpr List.mem_cons_self
theorem zOk_same {σ σ' : zS} {i : Nat} {T : List Int} (hs : zSame σ σ' i) (h : zOk σ i T) : zOk σ' i T := ⟨hs.2.2.2.1.trans h.1, fun k h1 h2 => ⟨(hs.2.2.2.2.2 k h1 h2).1.trans (h.2 k h1 h2).1, (hs.2.2.2.2.2 k h1 h2).2.trans (h.2 k h1 h2).2⟩⟩
theorem zNd_same {σ σ' : zS} {i : Nat} (hs : zSame σ σ' i) (h : zNd σ i) : zNd σ' i := ⟨h.1, by rw [hs.1]; exact h.2.1, by rw [hs.2.2.2.2.1]; exact h.2.2⟩
theorem Tr_frame {σ σ' : zS} : ∀ {d : Nat} {x : Int} {T : List Int} {N : List Nat}, (∀ i ∈ N, zSame σ σ' i) → Tr σ d x T N → Tr σ' d x T N
  | 0, x, T, N, _, h => h
  | d + 1, x, T, N, hs, h => by
    rcases h with h | ⟨i, A, B, M, P, e1, e2, e3, e4, e5, e6, e7⟩
    · exact Or.inl h
    · have hi := hs i (e2.mem_iff.mpr List.mem_cons_self)
      refine Or.inr ⟨i, A, B, M, P, e1, e2, zNd_same hi e3, ?_, ?_, ?_, zOk_same hi e7⟩
      · rw [hi.2.1]
        exact Tr_frame (fun j hj => hs j (e2.mem_iff.mpr (List.mem_cons_of_mem _ (List.mem_append_left _ hj)))) e4
      · rw [hi.2.2.1]
        exact Tr_frame (fun j hj => hs j (e2.mem_iff.mpr (List.mem_cons_of_mem _ (List.mem_append_right _ hj)))) e5
      · rw [hi.1, hi.2.2.2.2.1]
        exact e6
theorem Tr_sz {σ : zS} {d : Nat} {x : Int} {T : List Int} {N : List Nat} (h : Tr σ d x T N) : zSz σ x = T.length := by
  unfold zSz
  by_cases hx : x < 0
  · rw [if_pos hx, (Tr_neg h hx).2.1]; rfl
  · obtain ⟨d', i, A, B, M, P, e0, e1, e2, e3, e4, e5, e6, e7⟩ := Tr_node h hx
    rw [if_neg hx, e1, Int.toNat_natCast]
    exact e7.1
theorem Tr_op {σ : zS} {d : Nat} {x : Int} {T : List Int} {N : List Nat} (h : Tr σ d x T N) {k : Int} (hk : 0 ≤ k ∧ k ≤ 2) : zOp σ x k = bo k T := by
  unfold zOp
  by_cases hx : x < 0
  · rw [if_pos hx, (Tr_neg h hx).2.1]; rfl
  · obtain ⟨d', i, A, B, M, P, e0, e1, e2, e3, e4, e5, e6, e7⟩ := Tr_node h hx
    rw [if_neg hx, e1]
    exact (e7.2 k hk.1 hk.2).1
theorem Tr_cl {σ : zS} {d : Nat} {x : Int} {T : List Int} {N : List Nat} (h : Tr σ d x T N) {k : Int} (hk : 0 ≤ k ∧ k ≤ 2) : zCl σ x k = bc k T := by
  unfold zCl
  by_cases hx : x < 0
  · rw [if_pos hx, (Tr_neg h hx).2.1]; rfl
  · obtain ⟨d', i, A, B, M, P, e0, e1, e2, e3, e4, e5, e6, e7⟩ := Tr_node h hx
    rw [if_neg hx, e1]
    exact (e7.2 k hk.1 hk.2).2
/-! turn, place by place -/
theorem zTk_6 (σ : zS) (x k : Int) (m : Nat) : zTk σ x k 6 m = if m = (3 * x + k).toNat then σ 7 m else σ 6 m := by
  unfold zTk
  rw [zs_ne (by decide)]
  by_cases h : m = (3 * x + k).toNat
  · rw [if_pos h, h, zs_eq]
  · rw [if_neg h, zs_ni h]
theorem zTk_7 (σ : zS) (x k : Int) (m : Nat) : zTk σ x k 7 m = if m = (3 * x + k).toNat then σ 6 m else σ 7 m := by
  unfold zTk
  by_cases h : m = (3 * x + k).toNat
  · rw [if_pos h, h, zs_eq]
  · rw [if_neg h, zs_ni h, zs_ne (by decide)]
theorem zTn_at (x : Int) (hx : 0 ≤ x) (m : Nat) : ∀ (n : Nat), n ≤ 3 → ∀ σ : zS, zTn n σ x 6 m = (if 3 * x + 3 - n ≤ (m : Int) ∧ (m : Int) < 3 * x + 3 then σ 7 m else σ 6 m) ∧ zTn n σ x 7 m = (if 3 * x + 3 - n ≤ (m : Int) ∧ (m : Int) < 3 * x + 3 then σ 6 m else σ 7 m)
  | 0, _, σ => by
    rw [if_neg (by omega), if_neg (by omega)]
    exact ⟨rfl, rfl⟩
  | n + 1, hn, σ => by
    obtain ⟨h6, h7⟩ := zTn_at x hx m n (by omega) (zTk σ x (2 - n))
    rw [zTn, h6, h7, zTk_6, zTk_7]
    by_cases c1 : 3 * x + 3 - (n : Int) ≤ (m : Int) ∧ (m : Int) < 3 * x + 3
    · rw [if_pos c1, if_neg (by omega), if_pos (by omega), if_pos c1, if_neg (by omega), if_pos (by omega)]
      exact ⟨rfl, rfl⟩
    · rw [if_neg c1, if_neg c1]
      by_cases c2 : m = (3 * x + (2 - (n : Int))).toNat
      · rw [if_pos c2, if_pos (by omega), if_pos c2, if_pos (by omega)]
        exact ⟨rfl, rfl⟩
      · rw [if_neg c2, if_neg (by omega), if_neg c2, if_neg (by omega)]
        exact ⟨rfl, rfl⟩
theorem zTc_0 (σ : zS) (i : Nat) : zTc σ (i : Int) 0 i = bflip (σ 0 i) := by
  unfold zTc bflip
  rw [Int.toNat_natCast]
  split
  · rw [zs_eq]
  · split
    · rw [zs_eq]
    · rfl
theorem zTc_ni (σ : zS) {i j : Nat} (h : j ≠ i) (k : Nat) : zTc σ (i : Int) k j = σ k j := by
  unfold zTc
  rw [Int.toNat_natCast]
  split
  · rw [zs_ni h]
  · split
    · rw [zs_ni h]
    · rfl
theorem zTurn_at (σ : zS) (i : Nat) : zTurn σ (i : Int) 0 i = bflip (σ 0 i) ∧ zTurn σ (i : Int) 1 i = σ 2 i ∧ zTurn σ (i : Int) 2 i = σ 1 i ∧ zTurn σ (i : Int) 3 i = σ 3 i ∧ zTurn σ (i : Int) 4 i = 1 - σ 4 i ∧ ∀ k : Int, 0 ≤ k → k ≤ 2 → zTurn σ (i : Int) 6 (3 * (i : Int) + k).toNat = σ 7 (3 * (i : Int) + k).toNat ∧ zTurn σ (i : Int) 7 (3 * (i : Int) + k).toNat = σ 6 (3 * (i : Int) + k).toNat := by
  refine ⟨?_, ?_, ?_, ?_, ?_, fun k h1 h2 => ?_⟩
  · rw [zTurn, zTn_o _ _ (by decide) (by decide), zTc_0, zTf, zs_ne (by decide), zTl, zs_ne (by decide), zs_ne (by decide)]
  · rw [zTurn, zTn_o _ _ (by decide) (by decide), zTc_o _ _ _ (by decide), zTf, zs_ne (by decide), zTl, zs_ne (by decide), Int.toNat_natCast, zs_eq]
  · rw [zTurn, zTn_o _ _ (by decide) (by decide), zTc_o _ _ _ (by decide), zTf, zs_ne (by decide), zTl, Int.toNat_natCast, zs_eq]
  · exact zTurn_o _ _ _ (by decide)
  · rw [zTurn, zTn_o _ _ (by decide) (by decide), zTc_o _ _ _ (by decide), zTf, Int.toNat_natCast, zs_eq, zTl, zs_ne (by decide), zs_ne (by decide)]
  · obtain ⟨h6, h7⟩ := zTn_at (i : Int) (by omega) (3 * (i : Int) + k).toNat 3 (by decide) (zTc (zTf (zTl σ i) i) i)
    rw [zTurn, h6, h7, if_pos (by omega), if_pos (by omega), zTc_o _ _ _ (by decide), zTc_o _ _ _ (by decide), zTf, zs_ne (by decide), zs_ne (by decide), zTl, zs_ne (by decide), zs_ne (by decide), zs_ne (by decide), zs_ne (by decide)]
    exact ⟨rfl, rfl⟩
theorem zTurn_ne (σ : zS) {i j : Nat} (h : j ≠ i) : zSame σ (zTurn σ (i : Int)) j := by
  have key : ∀ k, k ≠ 6 → k ≠ 7 → zTurn σ (i : Int) k j = σ k j := by
    intro k h6 h7
    rw [zTurn, zTn_o _ _ h6 h7, zTc_ni _ h, zTf, Int.toNat_natCast, zs_ni h, zTl, Int.toNat_natCast, zs_ni h, zs_ni h]
  refine ⟨key 0 (by decide) (by decide), key 1 (by decide) (by decide), key 2 (by decide) (by decide), key 3 (by decide) (by decide), key 4 (by decide) (by decide), fun k h1 h2 => ?_⟩
  obtain ⟨h6, h7⟩ := zTn_at (i : Int) (by omega) (3 * (j : Int) + k).toNat 3 (by decide) (zTc (zTf (zTl σ i) i) i)
  rw [zTurn, h6, h7, if_neg (by omega), if_neg (by omega), zTc_o _ _ _ (by decide), zTc_o _ _ _ (by decide), zTf, zs_ne (by decide), zs_ne (by decide), zTl, zs_ne (by decide), zs_ne (by decide), zs_ne (by decide), zs_ne (by decide)]
  exact ⟨rfl, rfl⟩
theorem bmm_mir {t : Int} (ht : 0 ≤ t ∧ t ≤ 1) {A : List Int} (h : bcod A) : bmir (bmm t A) = bmm (1 - t) A := by
  unfold bmm
  by_cases e : t = 0
  · rw [if_pos e, if_neg (by omega)]
  · rw [if_neg e, if_pos (by omega), bmir_2 h]
/-- turn: the tree spells the mirrored text -/
theorem Tr_turn {σ : zS} {d i : Nat} {T : List Int} {N : List Nat} (h : Tr σ d (i : Int) T N) (hn : N.Nodup) : Tr (zTurn σ (i : Int)) d (i : Int) (bmir T) N := by
  obtain ⟨d', i', A, B, M, P, e0, e1, e2, e3, e4, e5, e6, e7⟩ := Tr_node h (by omega)
  have hi : i' = i := by omega
  subst hi
  subst e0
  obtain ⟨a0, a1, a2, a3, a4, a6⟩ := zTurn_at σ i'
  have hn2 := e2.nodup_iff.mp hn
  have hni := (List.nodup_cons.mp hn2).1
  have hT := Tr_cod h
  refine Or.inr ⟨i', B, A, P, M, rfl, e2.trans ((List.perm_append_comm).cons i'), ⟨e3.1, by rw [a0]; exact bflip_r e3.2.1, by rw [a4]; have := e3.2.2; omega⟩, ?_, ?_, ?_, ?_⟩
  · rw [a1]
    exact Tr_frame (fun j hj => zTurn_ne σ (fun e => hni (by rw [← e]; exact List.mem_append_right _ hj))) e5
  · rw [a2]
    exact Tr_frame (fun j hj => zTurn_ne σ (fun e => hni (by rw [← e]; exact List.mem_append_left _ hj))) e4
  · rw [e6, a0, a4, bmir_app, bmir_cons, bmm_mir e3.2.2 (Tr_cod e4), bmm_mir e3.2.2 (Tr_cod e5), List.append_assoc]
    rfl
  · refine ⟨by rw [a3, bmir_len]; exact e7.1, fun k h1 h2 => ?_⟩
    rw [(a6 k h1 h2).1, (a6 k h1 h2).2, bo_mir k ⟨h1, h2⟩ hT, bc_mir k ⟨h1, h2⟩ hT]
    exact ⟨(e7.2 k h1 h2).2, (e7.2 k h1 h2).1⟩
def zTuO (σ : zS) (x : Int) : zS := if x < 0 then σ else zTurn σ x
theorem Tr_tuO {σ : zS} {d : Nat} {x : Int} {T : List Int} {N : List Nat} (h : Tr σ d x T N) (hn : N.Nodup) : Tr (zTuO σ x) d x (bmir T) N := by
  unfold zTuO
  by_cases hx : x < 0
  · rw [if_pos hx]
    obtain ⟨h1, h2, h3⟩ := Tr_neg h hx
    rw [h2] at h ⊢
    exact h
  · rw [if_neg hx]
    obtain ⟨d', i, A, B, M, P, e0, e1, -⟩ := Tr_node h hx
    rw [e1] at h ⊢
    exact Tr_turn h hn
theorem zTuO_ne {σ : zS} {d : Nat} {x : Int} {T : List Int} {N : List Nat} (h : Tr σ d x T N) {j : Nat} (hj : j ∉ N) : zSame σ (zTuO σ x) j := by
  unfold zTuO
  by_cases hx : x < 0
  · rw [if_pos hx]
    exact zSame.rf
  · rw [if_neg hx]
    have hm := Tr_mem h hx
    obtain ⟨d', i, A, B, M, P, e0, e1, -⟩ := Tr_node h hx
    rw [e1] at hm ⊢
    exact zTurn_ne σ (fun e => hj (by rw [e]; exact hm))
theorem zSe1_eq (σ : zS) (x : Int) : zSe1 σ x = zTuO σ (σ 1 x.toNat) := rfl
theorem zSe2_eq (σ : zS) (x : Int) : zSe2 σ x = zTuO σ (σ 2 x.toNat) := rfl
/-- settle: the same text, and the children stand as they look -/
theorem Tr_settle {σ : zS} {d i : Nat} {T : List Int} {N : List Nat} (h : Tr σ d (i : Int) T N) (hn : N.Nodup) :
    (∃ (d' : Nat) (A B : List Int) (M P : List Nat), d = d' + 1 ∧ N.Perm (i :: (M ++ P)) ∧ zNd (zSettle σ (i : Int)) i ∧ zSettle σ (i : Int) 4 i = 0 ∧ Tr (zSettle σ (i : Int)) d' (zSettle σ (i : Int) 1 i) A M ∧ Tr (zSettle σ (i : Int)) d' (zSettle σ (i : Int) 2 i) B P ∧ T = A ++ zSettle σ (i : Int) 0 i :: B ∧ zOk (zSettle σ (i : Int)) i T) ∧
    ∀ j, j ∉ N → zSame σ (zSettle σ (i : Int)) j := by
  obtain ⟨d', i', A, B, M, P, e0, e1, e2, e3, e4, e5, e6, e7⟩ := Tr_node h (by omega)
  have hi : i' = i := by omega
  subst hi
  have hn2 := List.nodup_cons.mp (e2.nodup_iff.mp hn)
  have hn3 := List.nodup_append.mp hn2.2
  unfold zSettle
  rw [Int.toNat_natCast]
  by_cases hf : σ 4 i' = 0
  · rw [if_pos hf]
    refine ⟨⟨d', A, B, M, P, e0, e2, e3, hf, e4, e5, ?_, e7⟩, fun j _ => zSame.rf⟩
    rw [e6, hf]
    rfl
  · rw [if_neg hf, zSe2_eq, zSe1_eq, Int.toNat_natCast]
    have hM : ∀ j ∈ M, j ≠ i' := fun j hj e => hn2.1 (by rw [← e]; exact List.mem_append_left _ hj)
    have hP : ∀ j ∈ P, j ≠ i' := fun j hj e => hn2.1 (by rw [← e]; exact List.mem_append_right _ hj)
    have hMP : ∀ j ∈ M, j ∉ P := fun j hj hj2 => hn3.2.2 j hj j hj2 rfl
    have hiM : i' ∉ M := fun e => hM i' e rfl
    have hiP : i' ∉ P := fun e => hP i' e rfl
    -- the flag is cleared
    have s1 : ∀ j, j ≠ i' → zSame σ (zs_st σ 4 i' 0) j := fun j hj => zSame.st ⟨by decide, by decide⟩ (Or.inl (Ne.symm hj))
    have l1 : Tr (zs_st σ 4 i' 0) d' (σ 1 i') A M := Tr_frame (fun j hj => s1 j (hM j hj)) e4
    have r1 : Tr (zs_st σ 4 i' 0) d' (σ 2 i') B P := Tr_frame (fun j hj => s1 j (hP j hj)) e5
    rw [show zs_st σ 4 i' 0 1 i' = σ 1 i' from zs_ne (by decide)]
    generalize hs1 : zs_st σ 4 i' 0 = σ1 at s1 l1 r1 ⊢
    -- the left child
    have s2 : ∀ j, j ∉ M → zSame σ1 (zTuO σ1 (σ 1 i')) j := fun j hj => zTuO_ne l1 hj
    have l2 := Tr_tuO l1 hn3.1
    have r2 : Tr (zTuO σ1 (σ 1 i')) d' (σ 2 i') B P := Tr_frame (fun j hj => s2 j (fun h => hMP j h hj)) r1
    have i2 := s2 i' hiM
    generalize hs2 : zTuO σ1 (σ 1 i') = σ2 at s2 l2 r2 i2 ⊢
    have g1 : σ1 2 i' = σ 2 i' := by rw [← hs1]; exact zs_ne (by decide)
    have e22 : σ2 2 i' = σ 2 i' := i2.2.2.1.trans g1
    rw [e22]
    have s3 : ∀ j, j ∉ P → zSame σ2 (zTuO σ2 (σ 2 i')) j := fun j hj => zTuO_ne r2 hj
    have r3 := Tr_tuO r2 hn3.2.1
    have l3 : Tr (zTuO σ2 (σ 2 i')) d' (σ 1 i') (bmir A) M := Tr_frame (fun j hj => s3 j (hMP j hj)) l2
    have i3 := s3 i' hiP
    generalize hs3 : zTuO σ2 (σ 2 i') = σ3 at s3 l3 r3 i3 ⊢
    have i4 := i2.tr i3
    have k0 : σ3 0 i' = σ 0 i' := i4.1.trans (by rw [← hs1]; exact zs_ne (by decide))
    have k1 : σ3 1 i' = σ 1 i' := i4.2.1.trans (by rw [← hs1]; exact zs_ne (by decide))
    have k2 : σ3 2 i' = σ 2 i' := i4.2.2.1.trans g1
    have k3 : σ3 3 i' = σ 3 i' := i4.2.2.2.1.trans (by rw [← hs1]; exact zs_ne (by decide))
    have k4 : σ3 4 i' = 0 := i4.2.2.2.2.1.trans (by rw [← hs1]; exact zs_eq _ _ _ _)
    refine ⟨⟨d', bmir A, bmir B, M, P, e0, e2, ⟨e3.1, by rw [k0]; exact e3.2.1, by rw [k4]; decide⟩, k4, by rw [k1]; exact l3, by rw [k2]; exact r3, ?_, ?_⟩, ?_⟩
    · rw [k0, e6]
      unfold bmm
      rw [if_neg hf, if_neg hf]
    · refine ⟨by rw [k3]; exact e7.1, fun k h1 h2 => ?_⟩
      obtain ⟨g6, g7⟩ := i4.2.2.2.2.2 k h1 h2
      rw [g6, g7, ← hs1, zs_ne (by decide), zs_ne (by decide)]
      exact e7.2 k h1 h2
    · intro j hj
      have hjm : ¬ j ∈ i' :: (M ++ P) := fun e => hj (e2.mem_iff.mpr e)
      have a1 : j ≠ i' := fun e => hjm (by rw [e]; exact List.mem_cons_self)
      have a2 : j ∉ M := fun e => hjm (List.mem_cons_of_mem _ (List.mem_append_left _ e))
      have a3 : j ∉ P := fun e => hjm (List.mem_cons_of_mem _ (List.mem_append_right _ e))
      exact (s1 j a1).tr ((s2 j a2).tr (s3 j a3))
end
section
/-! PURE: refresh, place by place; a node put together again -/
theorem nat_pigeon : ∀ (n : Nat) (l : List Nat), l.Nodup → (∀ i ∈ l, i < n) → l.length ≤ n
  | 0, l, _, h => by
    cases l with
    | nil => exact Nat.le_refl 0
    | cons a t => exact absurd (h a List.mem_cons_self) (by omega)
  | n + 1, l, hn, h => by
    by_cases hm : n ∈ l
    · have h1 := List.perm_cons_erase hm
      have h2 := h1.nodup_iff.mp hn
      have h3 := List.nodup_cons.mp h2
      have h4 := nat_pigeon n (l.erase n) h3.2 (fun i hi => by
        have := h i (List.mem_of_mem_erase hi)
        have : i ≠ n := fun e => h3.1 (by rw [e] at hi; exact hi)
        omega)
      have h5 := h1.length_eq
      rw [List.length_cons] at h5
      omega
    · have h4 := nat_pigeon n l hn (fun i hi => by
        have := h i hi
        have : i ≠ n := fun e => hm (by rw [← e]; exact hi)
        omega)
      omega
def zV6 (σ : zS) (x l r k : Int) : Int := zB (zRo σ x l k - zMet (zRo σ x l k) (zCl σ r k) + zOp σ r k)
def zV7 (σ : zS) (x l r k : Int) : Int := zB (zRc σ x l k + zCl σ r k - zMet (zRo σ x l k) (zCl σ r k))
theorem zRk_eq (σ : zS) (x l r k : Int) : zRk σ x l r k = zs_st (zs_st σ 6 (3 * x + k).toNat (zV6 σ x l r k)) 7 (3 * x + k).toNat (zV7 σ x l r k) := rfl
theorem zRk_o (σ : zS) (x l r k : Int) {f : Nat} (h6 : f ≠ 6) (h7 : f ≠ 7) (m : Nat) : zRk σ x l r k f m = σ f m := by rw [zRk_eq, zs_ne h7, zs_ne h6]
theorem zRk_6 (σ : zS) (x l r k : Int) (m : Nat) : zRk σ x l r k 6 m = if m = (3 * x + k).toNat then zV6 σ x l r k else σ 6 m := by
  rw [zRk_eq, zs_ne (by decide)]
  by_cases h : m = (3 * x + k).toNat
  · rw [if_pos h, h, zs_eq]
  · rw [if_neg h, zs_ni h]
theorem zRk_7 (σ : zS) (x l r k : Int) (m : Nat) : zRk σ x l r k 7 m = if m = (3 * x + k).toNat then zV7 σ x l r k else σ 7 m := by
  rw [zRk_eq]
  by_cases h : m = (3 * x + k).toNat
  · rw [if_pos h, h, zs_eq]
  · rw [if_neg h, zs_ni h, zs_ne (by decide)]
theorem zOp_k (σ : zS) (x l r k k' y : Int) (hx : 0 ≤ x) (hk : 0 ≤ k ∧ k ≤ 2) (hk' : 0 ≤ k' ∧ k' ≤ 2) (hne : k ≠ k') : zOp (zRk σ x l r k') y k = zOp σ y k := by
  unfold zOp
  by_cases h : y < 0
  · rw [if_pos h, if_pos h]
  · rw [if_neg h, if_neg h, zRk_6, if_neg (by omega)]
theorem zCl_k (σ : zS) (x l r k k' y : Int) (hx : 0 ≤ x) (hk : 0 ≤ k ∧ k ≤ 2) (hk' : 0 ≤ k' ∧ k' ≤ 2) (hne : k ≠ k') : zCl (zRk σ x l r k') y k = zCl σ y k := by
  unfold zCl
  by_cases h : y < 0
  · rw [if_pos h, if_pos h]
  · rw [if_neg h, if_neg h, zRk_7, if_neg (by omega)]
theorem zV6_k (σ : zS) (x l r k k' : Int) (hx : 0 ≤ x) (hk : 0 ≤ k ∧ k ≤ 2) (hk' : 0 ≤ k' ∧ k' ≤ 2) (hne : k ≠ k') : zV6 (zRk σ x l r k') x l r k = zV6 σ x l r k := by
  unfold zV6 zRo
  rw [zOp_k σ x l r k k' l hx hk hk' hne, zOp_k σ x l r k k' r hx hk hk' hne, zCl_k σ x l r k k' r hx hk hk' hne, zRk_o σ x l r k' (by decide) (by decide)]
theorem zV7_k (σ : zS) (x l r k k' : Int) (hx : 0 ≤ x) (hk : 0 ≤ k ∧ k ≤ 2) (hk' : 0 ≤ k' ∧ k' ≤ 2) (hne : k ≠ k') : zV7 (zRk σ x l r k') x l r k = zV7 σ x l r k := by
  unfold zV7 zRo zRc
  rw [zOp_k σ x l r k k' l hx hk hk' hne, zCl_k σ x l r k k' l hx hk hk' hne, zCl_k σ x l r k k' r hx hk hk' hne, zRk_o σ x l r k' (by decide) (by decide)]
theorem zRn_o (x l r : Int) {f : Nat} (h6 : f ≠ 6) (h7 : f ≠ 7) (m : Nat) : ∀ (n : Nat) (σ : zS), zRn n σ x l r f m = σ f m
  | 0, σ => rfl
  | n + 1, σ => by rw [zRn, zRn_o x l r h6 h7 m n, zRk_o _ _ _ _ _ h6 h7]
theorem zRn_out (x l r : Int) (hx : 0 ≤ x) (m : Nat) (hm : ¬ (3 * x ≤ (m : Int) ∧ (m : Int) < 3 * x + 3)) : ∀ (n : Nat) (σ : zS), n ≤ 3 → zRn n σ x l r 6 m = σ 6 m ∧ zRn n σ x l r 7 m = σ 7 m
  | 0, σ, _ => ⟨rfl, rfl⟩
  | n + 1, σ, hn => by
    obtain ⟨h6, h7⟩ := zRn_out x l r hx m hm n (zRk σ x l r (2 - n)) (by omega)
    rw [zRn, h6, h7, zRk_6, zRk_7, if_neg (by omega), if_neg (by omega)]
    exact ⟨rfl, rfl⟩
theorem zRn_in (x l r : Int) (hx : 0 ≤ x) (k : Int) (hk : 0 ≤ k ∧ k ≤ 2) : ∀ (n : Nat) (σ : zS), n ≤ 3 → zRn n σ x l r 6 (3 * x + k).toNat = (if 3 - (n : Int) ≤ k then zV6 σ x l r k else σ 6 (3 * x + k).toNat) ∧ zRn n σ x l r 7 (3 * x + k).toNat = (if 3 - (n : Int) ≤ k then zV7 σ x l r k else σ 7 (3 * x + k).toNat)
  | 0, σ, _ => by
    rw [if_neg (by omega), if_neg (by omega)]
    exact ⟨rfl, rfl⟩
  | n + 1, σ, hn => by
    obtain ⟨h6, h7⟩ := zRn_in x l r hx k hk n (zRk σ x l r (2 - n)) (by omega)
    rw [zRn, h6, h7]
    by_cases c1 : 3 - (n : Int) ≤ k
    · rw [if_pos c1, if_pos c1, if_pos (by omega), if_pos (by omega), zV6_k σ x l r k _ hx hk (by omega) (by omega), zV7_k σ x l r k _ hx hk (by omega) (by omega)]
      exact ⟨rfl, rfl⟩
    · rw [if_neg c1, if_neg c1, zRk_6, zRk_7]
      by_cases c2 : k = 2 - (n : Int)
      · rw [if_pos (by omega), if_pos (by omega), if_pos (by omega), if_pos (by omega), ← c2]
        exact ⟨rfl, rfl⟩
      · rw [if_neg (by omega), if_neg (by omega), if_neg (by omega), if_neg (by omega)]
        exact ⟨rfl, rfl⟩
theorem zRef_o (σ : zS) (x : Int) {f : Nat} (h3 : f ≠ 3) (h6 : f ≠ 6) (h7 : f ≠ 7) (m : Nat) : zRef σ x f m = σ f m := by rw [zRef, zRn_o _ _ _ h6 h7, zs_ne h3]
theorem zRef_ne (σ : zS) {i j : Nat} (h : j ≠ i) : zSame σ (zRef σ (i : Int)) j := by
  refine ⟨zRef_o σ _ (by decide) (by decide) (by decide) j, zRef_o σ _ (by decide) (by decide) (by decide) j, zRef_o σ _ (by decide) (by decide) (by decide) j, ?_, zRef_o σ _ (by decide) (by decide) (by decide) j, fun k h1 h2 => ?_⟩
  · rw [zRef, zRn_o _ _ _ (by decide) (by decide), Int.toNat_natCast, zs_ni h]
  · obtain ⟨h6, h7⟩ := zRn_out (i : Int) (σ 1 (i : Int).toNat) (σ 2 (i : Int).toNat) (by omega) (3 * (j : Int) + k).toNat (by omega) 3 (zs_st σ 3 (i : Int).toNat (zB (zSz σ (σ 1 (i : Int).toNat) + 1 + zSz σ (σ 2 (i : Int).toNat)))) (by decide)
    rw [zRef, h6, h7, zs_ne (by decide), zs_ne (by decide)]
    exact ⟨rfl, rfl⟩
theorem zV6_3 (σ : zS) (m : Nat) (v x l r k : Int) : zV6 (zs_st σ 3 m v) x l r k = zV6 σ x l r k := by
  unfold zV6 zRo zOp zCl
  simp only [zs_ne (show (0 : Nat) ≠ 3 by decide), zs_ne (show (6 : Nat) ≠ 3 by decide), zs_ne (show (7 : Nat) ≠ 3 by decide)]
theorem zV7_3 (σ : zS) (m : Nat) (v x l r k : Int) : zV7 (zs_st σ 3 m v) x l r k = zV7 σ x l r k := by
  unfold zV7 zRo zRc zOp zCl
  simp only [zs_ne (show (0 : Nat) ≠ 3 by decide), zs_ne (show (6 : Nat) ≠ 3 by decide), zs_ne (show (7 : Nat) ≠ 3 by decide)]
theorem zRef_at (σ : zS) (i : Nat) : zRef σ (i : Int) 3 i = zB (zSz σ (σ 1 i) + 1 + zSz σ (σ 2 i)) ∧ ∀ k : Int, 0 ≤ k → k ≤ 2 → zRef σ (i : Int) 6 (3 * (i : Int) + k).toNat = zV6 σ (i : Int) (σ 1 i) (σ 2 i) k ∧ zRef σ (i : Int) 7 (3 * (i : Int) + k).toNat = zV7 σ (i : Int) (σ 1 i) (σ 2 i) k := by
  refine ⟨?_, fun k h1 h2 => ?_⟩
  · rw [zRef, zRn_o _ _ _ (by decide) (by decide), Int.toNat_natCast, zs_eq]
  · obtain ⟨h6, h7⟩ := zRn_in (i : Int) (σ 1 (i : Int).toNat) (σ 2 (i : Int).toNat) (by omega) k ⟨h1, h2⟩ 3 (zs_st σ 3 (i : Int).toNat (zB (zSz σ (σ 1 (i : Int).toNat) + 1 + zSz σ (σ 2 (i : Int).toNat)))) (by decide)
    rw [zRef, h6, h7, if_pos (by omega), if_pos (by omega), zV6_3, zV7_3, Int.toNat_natCast]
    exact ⟨rfl, rfl⟩
theorem bcons_app (A : List Int) (c : Int) (B : List Int) : A ++ c :: B = (A ++ [c]) ++ B := by rw [List.append_assoc]; rfl
/-- a node over two trees, brought up to date -/
theorem Tr_ref {σ : zS} {d i : Nat} {A B : List Int} {M P : List Nat} (hi : i < 60) (hc : 0 ≤ σ 0 i ∧ σ 0 i ≤ 6) (h4 : σ 4 i = 0) (hl : Tr σ d (σ 1 i) A M) (hr : Tr σ d (σ 2 i) B P) (hn : (i :: (M ++ P)).Nodup) : Tr (zRef σ (i : Int)) (d + 1) (i : Int) (A ++ σ 0 i :: B) (i :: (M ++ P)) := by
  have hn2 := List.nodup_cons.mp hn
  obtain ⟨r3, r6⟩ := zRef_at σ i
  have hlen := nat_pigeon 60 (i :: (M ++ P)) hn (fun j hj => by
    rcases List.mem_cons.mp hj with h | h
    · rw [h]; exact hi
    · rcases List.mem_append.mp h with h | h
      · exact Tr_lt hl j h
      · exact Tr_lt hr j h)
  rw [List.length_cons, List.length_append, ← Tr_len hl, ← Tr_len hr] at hlen
  have k0 : zRef σ (i : Int) 0 i = σ 0 i := zRef_o σ _ (by decide) (by decide) (by decide) i
  have k1 : zRef σ (i : Int) 1 i = σ 1 i := zRef_o σ _ (by decide) (by decide) (by decide) i
  have k2 : zRef σ (i : Int) 2 i = σ 2 i := zRef_o σ _ (by decide) (by decide) (by decide) i
  have k4 : zRef σ (i : Int) 4 i = 0 := (zRef_o σ _ (by decide) (by decide) (by decide) i).trans h4
  have hM : ∀ j ∈ M, j ≠ i := fun j hj e => hn2.1 (by rw [← e]; exact List.mem_append_left _ hj)
  have hP : ∀ j ∈ P, j ≠ i := fun j hj e => hn2.1 (by rw [← e]; exact List.mem_append_right _ hj)
  refine Or.inr ⟨i, A, B, M, P, rfl, List.Perm.refl _, ⟨hi, by rw [k0]; exact hc, by rw [k4]; decide⟩, by rw [k1]; exact Tr_frame (fun j hj => zRef_ne σ (hM j hj)) hl, by rw [k2]; exact Tr_frame (fun j hj => zRef_ne σ (hP j hj)) hr, by rw [k0, k4]; rfl, ?_, fun k h1 h2 => ?_⟩
  · rw [r3, Tr_sz hl, Tr_sz hr, zB_id (by omega) (by omega), List.length_append, List.length_cons]
    omega
  · obtain ⟨e6, e7⟩ := r6 k h1 h2
    have hk : 0 ≤ k ∧ k ≤ 2 := ⟨h1, h2⟩
    have ho : zRo σ (i : Int) (σ 1 i) k = bo k (A ++ [σ 0 i]) := by
      unfold zRo
      rw [Tr_op hl hk, Int.toNat_natCast, bo_snoc]
      by_cases c1 : σ 0 i = k + 4
      · rw [if_pos c1, if_neg (show ¬ σ 0 i = k + 1 by omega), if_pos c1]
      · rw [if_neg c1, if_neg c1]
    have hcc : zRc σ (i : Int) (σ 1 i) k = bc k (A ++ [σ 0 i]) := by
      unfold zRc
      rw [Tr_op hl hk, Tr_cl hl hk, Int.toNat_natCast, bc_snoc _ _ _ (Or.inr trivial)]
    have b1 := bo_len k (A ++ σ 0 i :: B)
    have b2 := bc_len k (A ++ σ 0 i :: B)
    have b3 := bo_pos k (A ++ σ 0 i :: B)
    have b4 := bc_pos k (A ++ σ 0 i :: B)
    have hL : (A ++ σ 0 i :: B).length = A.length + (B.length + 1) := by rw [List.length_append, List.length_cons]
    rw [hL] at b1 b2
    have o1 : zRo σ (i : Int) (σ 1 i) k - zMet (zRo σ (i : Int) (σ 1 i) k) (zCl σ (σ 2 i) k) + zOp σ (σ 2 i) k = bo k (A ++ σ 0 i :: B) := by rw [ho, Tr_cl hr hk, Tr_op hr hk, bcons_app A (σ 0 i) B, bo_app k (A ++ [σ 0 i]) B]
    have o2 : zRc σ (i : Int) (σ 1 i) k + zCl σ (σ 2 i) k - zMet (zRo σ (i : Int) (σ 1 i) k) (zCl σ (σ 2 i) k) = bc k (A ++ σ 0 i :: B) := by rw [ho, hcc, Tr_cl hr hk, bcons_app A (σ 0 i) B, bc_app k (A ++ [σ 0 i]) B]
    rw [e6, e7]
    unfold zV6 zV7
    rw [o1, o2, zB_id (by omega) (by omega), zB_id (by omega) (by omega)]
    exact ⟨rfl, rfl⟩
/-- a way down, brought up to date from its end -/
def zRq : List Nat → zS → zS
  | [], σ => σ
  | i :: Q, σ => zRef (zRq Q σ) (i : Int)
theorem zRq_app (A B : List Nat) (σ : zS) : zRq (A ++ B) σ = zRq A (zRq B σ) := by
  induction A with
  | nil => rfl
  | cons a t ih =>
    show zRef (zRq (t ++ B) σ) a = zRef (zRq t (zRq B σ)) a
    rw [ih]
theorem zRq_o (Q : List Nat) (σ : zS) {f : Nat} (h3 : f ≠ 3) (h6 : f ≠ 6) (h7 : f ≠ 7) (m : Nat) : zRq Q σ f m = σ f m := by
  induction Q with
  | nil => rfl
  | cons a t ih => rw [zRq, zRef_o _ _ h3 h6 h7, ih]
theorem zRp_q : ∀ (n : Nat) (Q : List Nat) (σ : zS), Q.length = n → (∀ j, j < n → σ 12 j = (Q.getD j 0 : Nat)) → zRp n σ = zRq Q σ
  | 0, Q, σ, hl, _ => by
    rw [List.length_eq_zero_iff.mp hl]
    rfl
  | n + 1, Q, σ, hl, h => by
    have hne : Q ≠ [] := by
      intro e
      rw [e] at hl
      exact absurd hl (by simp)
    have hd := List.dropLast_concat_getLast hne
    have hdl : Q.dropLast.length = n := by rw [List.length_dropLast, hl]; rfl
    have hlast : (Q.getD n 0) = Q.getLast hne := by
      rw [List.getLast_eq_getElem, List.getD_eq_getElem?_getD, List.getElem?_eq_getElem (by omega)]
      simp [hl]
    rw [zRp, h n (by omega), hlast, zRp_q n Q.dropLast (zRef σ _) hdl (fun j hj => ?_)]
    · have e1 : zRq Q σ = zRq (Q.dropLast ++ [Q.getLast hne]) σ := by rw [hd]
      rw [e1, zRq_app]
      rfl
    · rw [zRef_o _ _ (by decide) (by decide) (by decide), h j (by omega), List.getD_eq_getElem?_getD, List.getD_eq_getElem?_getD, List.getElem?_dropLast, if_pos (by omega)]
end
section
/-! PURE: cut -/
/-- the open place of a tail t: field f of node t, or the scalar s where there is no tail -/
def zHo (σ : zS) (f s : Nat) (t a : Int) : Prop := if t < 0 then σ s 0 = a else σ f t.toNat = a
/-- what work on the nodes N with the open places lt (a right one) and rt (a left one) leaves as it was -/
def zFr (σ σ' : zS) (N : List Nat) (lt rt : Int) : Prop :=
  (∀ j : Nat, j ∉ N → σ' 0 j = σ 0 j ∧ σ' 3 j = σ 3 j ∧ σ' 4 j = σ 4 j ∧ (∀ k : Int, 0 ≤ k → k ≤ 2 → σ' 6 (3 * (j : Int) + k).toNat = σ 6 (3 * (j : Int) + k).toNat ∧ σ' 7 (3 * (j : Int) + k).toNat = σ 7 (3 * (j : Int) + k).toNat) ∧ ((j : Int) ≠ rt → σ' 1 j = σ 1 j) ∧ ((j : Int) ≠ lt → σ' 2 j = σ 2 j)) ∧
  ∀ k j : Nat, (k = 5 ∨ (8 ≤ k ∧ k ≤ 11) ∨ 16 ≤ k) → σ' k j = σ k j
theorem zFr.same {σ σ' : zS} {N : List Nat} {lt rt : Int} (h : zFr σ σ' N lt rt) {j : Nat} (hj : j ∉ N) (hl : (j : Int) ≠ lt) (hr : (j : Int) ≠ rt) : zSame σ σ' j := by
  obtain ⟨a0, a3, a4, a6, a1, a2⟩ := h.1 j hj
  exact ⟨a0, a1 hr, a2 hl, a3, a4, a6⟩
theorem zFr_step {σ σa σc σd σe : zS} {N P : List Nat} {i : Nat} {lt rt l1 r1 l2 r2 : Int} (hi : i ∈ N) (hP : ∀ j ∈ P, j ∈ N) (h1 : ∀ j, j ∉ N → zSame σ σa j) (h1o : ∀ k j, (k = 5 ∨ 8 ≤ k) → σa k j = σ k j) (h2 : zFr σa σc [] l1 r1) (h3 : zFr σc σd P l2 r2) (h4 : ∀ j, j ≠ i → zSame σd σe j) (h4o : ∀ k j, (k = 5 ∨ 8 ≤ k) → σe k j = σd k j)
    (hl : ∀ j : Nat, j ∉ N → (j : Int) ≠ lt → (j : Int) ≠ l1 ∧ (j : Int) ≠ l2) (hr : ∀ j : Nat, j ∉ N → (j : Int) ≠ rt → (j : Int) ≠ r1 ∧ (j : Int) ≠ r2) : zFr σ σe N lt rt := by
  refine ⟨fun j hj => ?_, fun k j hk => ?_⟩
  · have hjP : j ∉ P := fun h => hj (hP j h)
    have hji : j ≠ i := fun h => hj (by rw [h]; exact hi)
    obtain ⟨a0, a1, a2, a3, a4, a6⟩ := h1 j hj
    obtain ⟨b0, b3, b4, b6, b1, b2⟩ := h2.1 j List.not_mem_nil
    obtain ⟨c0, c3, c4, c6, c1, c2⟩ := h3.1 j hjP
    obtain ⟨d0, d1, d2, d3, d4, d6⟩ := h4 j hji
    refine ⟨by rw [d0, c0, b0, a0], by rw [d3, c3, b3, a3], by rw [d4, c4, b4, a4], fun k x y => ?_, fun h => ?_, fun h => ?_⟩
    · rw [(d6 k x y).1, (d6 k x y).2, (c6 k x y).1, (c6 k x y).2, (b6 k x y).1, (b6 k x y).2, (a6 k x y).1, (a6 k x y).2]
      exact ⟨rfl, rfl⟩
    · rw [d1, c1 (hr j hj h).2, b1 (hr j hj h).1, a1]
    · rw [d2, c2 (hl j hj h).2, b2 (hl j hj h).1, a2]
  · rw [h4o k j (by omega), h3.2 k j hk, h2.2 k j hk, h1o k j (by omega)]
theorem zPush_same (σ : zS) (x : Int) (j : Nat) : zSame σ (zPush σ x) j := by
  have key : ∀ k, k ≠ 12 → k ≠ 13 → ∀ m, zPush σ x k m = σ k m := fun k h1 h2 m => zPush_o σ x m h1 h2
  exact ⟨key 0 (by decide) (by decide) j, key 1 (by decide) (by decide) j, key 2 (by decide) (by decide) j, key 3 (by decide) (by decide) j, key 4 (by decide) (by decide) j, fun k _ _ => ⟨key 6 (by decide) (by decide) _, key 7 (by decide) (by decide) _⟩⟩
theorem zPush_12 (σ : zS) (x : Int) (m : Nat) : zPush σ x 12 m = if m = (σ 13 0).toNat then x else σ 12 m := by
  unfold zPush
  rw [zs_ne (by decide)]
  by_cases h : m = (σ 13 0).toNat
  · rw [if_pos h, h, zs_eq]
  · rw [if_neg h, zs_ni h]
/-- one store into an open place, or into the scalar: f is 2 with s = 14, or 1 with s = 15 -/
def zPl (σ : zS) (f s : Nat) (t v : Int) : zS := if t < 0 then zs_st σ s 0 v else zs_st σ f t.toNat v
theorem zPl_o (σ : zS) (f s : Nat) (t v : Int) {k : Nat} (h1 : k ≠ f) (h2 : k ≠ s) (m : Nat) : zPl σ f s t v k m = σ k m := by
  unfold zPl
  split
  · exact zs_ne h2
  · exact zs_ne h1
theorem zPl_f (σ : zS) {f s : Nat} (hfs : f ≠ s) (t v : Int) (ht : -1 ≤ t) {m : Nat} (h : (m : Int) ≠ t) : zPl σ f s t v f m = σ f m := by
  unfold zPl
  split
  · exact zs_ne hfs
  · exact zs_ni (by omega)
theorem zPl_ho (σ : zS) (f s : Nat) (t v : Int) : zHo (zPl σ f s t v) f s t v := by
  unfold zPl zHo
  by_cases h : t < 0
  · rw [if_pos h, if_pos h, zs_eq]
  · rw [if_neg h, if_neg h, zs_eq]
theorem zPl_s (σ : zS) {f s : Nat} (hfs : f ≠ s) (t v : Int) (h : ¬ t < 0) (m : Nat) : zPl σ f s t v s m = σ s m := by
  unfold zPl
  rw [if_neg h]
  exact zs_ne (Ne.symm hfs)
theorem zCL_eq (σ : zS) (x lt : Int) : zCL σ x lt = zPl (zCa σ x) 2 14 lt x := rfl
theorem zCR_eq (σ : zS) (x rt : Int) : zCR σ x rt = zPl (zCa σ x) 1 15 rt x := rfl
theorem zCa_o (σ : zS) (x : Int) {k : Nat} (h : k = 3 ∨ k = 5 ∨ 8 ≤ k) (h12 : k ≠ 12) (h13 : k ≠ 13) (m : Nat) : zCa σ x k m = σ k m := by rw [zCa, zPush_o _ _ _ h12 h13, zSettle_o _ _ _ h]
theorem zCa_13 (σ : zS) (x : Int) : zCa σ x 13 0 = σ 13 0 + 1 := by rw [zCa, zPush_13, zSettle_o _ _ _ (by decide)]
theorem zCa_12 (σ : zS) (x : Int) (m : Nat) : zCa σ x 12 m = if m = (σ 13 0).toNat then x else σ 12 m := by rw [zCa, zPush_12, zSettle_o _ _ _ (by decide), zSettle_o _ _ _ (by decide)]
theorem zCL_f (σ : zS) (x lt : Int) (hlt : -1 ≤ lt) : zFr (zSettle σ x) (zCL σ x lt) [] lt (-1) ∧ zHo (zCL σ x lt) 2 14 lt x ∧ (¬ lt < 0 → zCL σ x lt 14 0 = σ 14 0) ∧ zCL σ x lt 15 0 = σ 15 0 ∧ zCL σ x lt 13 0 = σ 13 0 + 1 ∧ ∀ m, zCL σ x lt 12 m = if m = (σ 13 0).toNat then x else σ 12 m := by
  rw [zCL_eq]
  refine ⟨⟨fun j _ => ?_, fun k j hk => ?_⟩, zPl_ho _ _ _ _ _, fun h => ?_, ?_, ?_, fun m => ?_⟩
  · obtain ⟨a0, a1, a2, a3, a4, a6⟩ := zPush_same (zSettle σ x) x j
    refine ⟨by rw [zPl_o _ _ _ _ _ (by decide) (by decide)]; exact a0, by rw [zPl_o _ _ _ _ _ (by decide) (by decide)]; exact a3, by rw [zPl_o _ _ _ _ _ (by decide) (by decide)]; exact a4, fun k h1 h2 => ?_, fun _ => by rw [zPl_o _ _ _ _ _ (by decide) (by decide)]; exact a1, fun h => by rw [zPl_f _ (by decide) _ _ hlt h]; exact a2⟩
    rw [zPl_o _ _ _ _ _ (by decide) (by decide), zPl_o _ _ _ _ _ (by decide) (by decide)]
    exact a6 k h1 h2
  · rw [zPl_o _ _ _ _ _ (by omega) (by omega), zCa, zPush_o _ _ _ (by omega) (by omega)]
  · rw [zPl_s _ (by decide) _ _ h, zCa_o _ _ (by decide) (by decide) (by decide)]
  · rw [zPl_o _ _ _ _ _ (by decide) (by decide), zCa_o _ _ (by decide) (by decide) (by decide)]
  · rw [zPl_o _ _ _ _ _ (by decide) (by decide), zCa_13]
  · rw [zPl_o _ _ _ _ _ (by decide) (by decide), zCa_12]
theorem zCR_f (σ : zS) (x rt : Int) (hrt : -1 ≤ rt) : zFr (zSettle σ x) (zCR σ x rt) [] (-1) rt ∧ zHo (zCR σ x rt) 1 15 rt x ∧ (¬ rt < 0 → zCR σ x rt 15 0 = σ 15 0) ∧ zCR σ x rt 14 0 = σ 14 0 ∧ zCR σ x rt 13 0 = σ 13 0 + 1 ∧ ∀ m, zCR σ x rt 12 m = if m = (σ 13 0).toNat then x else σ 12 m := by
  rw [zCR_eq]
  refine ⟨⟨fun j _ => ?_, fun k j hk => ?_⟩, zPl_ho _ _ _ _ _, fun h => ?_, ?_, ?_, fun m => ?_⟩
  · obtain ⟨a0, a1, a2, a3, a4, a6⟩ := zPush_same (zSettle σ x) x j
    refine ⟨by rw [zPl_o _ _ _ _ _ (by decide) (by decide)]; exact a0, by rw [zPl_o _ _ _ _ _ (by decide) (by decide)]; exact a3, by rw [zPl_o _ _ _ _ _ (by decide) (by decide)]; exact a4, fun k h1 h2 => ?_, fun h => by rw [zPl_f _ (by decide) _ _ hrt h]; exact a1, fun _ => by rw [zPl_o _ _ _ _ _ (by decide) (by decide)]; exact a2⟩
    rw [zPl_o _ _ _ _ _ (by decide) (by decide), zPl_o _ _ _ _ _ (by decide) (by decide)]
    exact a6 k h1 h2
  · rw [zPl_o _ _ _ _ _ (by omega) (by omega), zCa, zPush_o _ _ _ (by omega) (by omega)]
  · rw [zPl_s _ (by decide) _ _ h, zCa_o _ _ (by decide) (by decide) (by decide)]
  · rw [zPl_o _ _ _ _ _ (by decide) (by decide), zCa_o _ _ (by decide) (by decide) (by decide)]
  · rw [zPl_o _ _ _ _ _ (by decide) (by decide), zCa_13]
  · rw [zPl_o _ _ _ _ _ (by decide) (by decide), zCa_12]
theorem zCe_f (σ : zS) (lt rt : Int) (hlt : -1 ≤ lt) (hrt : -1 ≤ rt) (h14 : lt < 0 → σ 14 0 = -1) (h15 : rt < 0 → σ 15 0 = -1) : zHo (zCe (σ, lt, rt)) 2 14 lt (-1) ∧ zHo (zCe (σ, lt, rt)) 1 15 rt (-1) ∧ zFr σ (zCe (σ, lt, rt)) [] lt rt ∧ zCe (σ, lt, rt) 14 0 = σ 14 0 ∧ zCe (σ, lt, rt) 15 0 = σ 15 0 := by
  have e : zCe (σ, lt, rt) = zCe2 (zCe1 σ lt) rt := rfl
  rw [e]
  have c1 : ∀ k, k ≠ 2 → ∀ m, zCe1 σ lt k m = σ k m := by
    intro k hk m
    unfold zCe1
    split
    · rfl
    · exact zs_ne hk
  have c2 : ∀ (τ : zS) k, k ≠ 1 → ∀ m, zCe2 τ rt k m = τ k m := by
    intro τ k hk m
    unfold zCe2
    split
    · rfl
    · exact zs_ne hk
  have o : ∀ k, k ≠ 1 → k ≠ 2 → ∀ m, zCe2 (zCe1 σ lt) rt k m = σ k m := fun k h1 h2 m => (c2 _ k h1 m).trans (c1 k h2 m)
  refine ⟨?_, ?_, ⟨fun j _ => ⟨o 0 (by decide) (by decide) j, o 3 (by decide) (by decide) j, o 4 (by decide) (by decide) j, fun k _ _ => ⟨o 6 (by decide) (by decide) _, o 7 (by decide) (by decide) _⟩, fun h => ?_, fun h => ?_⟩, fun k j hk => o k (by omega) (by omega) j⟩, o 14 (by decide) (by decide) 0, o 15 (by decide) (by decide) 0⟩
  · unfold zHo
    by_cases h : lt < 0
    · rw [if_pos h, o 14 (by decide) (by decide), h14 h]
    · rw [if_neg h, c2 _ 2 (by decide), zCe1, if_neg h, zs_eq]
  · unfold zHo
    by_cases h : rt < 0
    · rw [if_pos h, o 15 (by decide) (by decide), h15 h]
    · rw [if_neg h, zCe2, if_neg h, zs_eq]
  · unfold zCe2
    split
    · exact c1 1 (by decide) j
    · rw [zs_ni (by omega)]
      exact c1 1 (by decide) j
  · rw [c2 _ 2 (by decide)]
    unfold zCe1
    split
    · rfl
    · exact zs_ni (by omega)
theorem zHo_ref {σ : zS} {x : Int} {f s : Nat} {t a : Int} (hf : f ≠ 3 ∧ f ≠ 6 ∧ f ≠ 7) (hs : s ≠ 3 ∧ s ≠ 6 ∧ s ≠ 7) (h : zHo σ f s t a) : zHo (zRef σ x) f s t a := by
  unfold zHo at h ⊢
  by_cases ht : t < 0
  · rw [if_pos ht] at h ⊢
    rw [zRef_o _ _ hs.1 hs.2.1 hs.2.2]
    exact h
  · rw [if_neg ht] at h ⊢
    rw [zRef_o _ _ hf.1 hf.2.1 hf.2.2]
    exact h
theorem take_mid {A B : List Int} {c : Int} {q : Int} (h : (A.length : Int) < q) : (A ++ c :: B).take q.toNat = A ++ c :: B.take (q - ((A.length : Int) + 1)).toNat := by
  have e : q.toNat = A.length + ((q - ((A.length : Int) + 1)).toNat + 1) := by omega
  rw [e, List.take_length_add_append]
  rfl
theorem drop_mid {A B : List Int} {c : Int} {q : Int} (h : (A.length : Int) < q) : (A ++ c :: B).drop q.toNat = B.drop (q - ((A.length : Int) + 1)).toNat := by
  have e : q.toNat = A.length + ((q - ((A.length : Int) + 1)).toNat + 1) := by omega
  rw [e, List.drop_length_add_append]
  rfl
theorem take_low {A B : List Int} {q : Int} (h : q ≤ (A.length : Int)) : (A ++ B).take q.toNat = A.take q.toNat := List.take_append_of_le_length (by omega)
theorem drop_low {A B : List Int} {q : Int} (h : q ≤ (A.length : Int)) : (A ++ B).drop q.toNat = A.drop q.toNat ++ B := List.drop_append_of_le_length (by omega)
set_option maxHeartbeats 2000000 in
theorem cut_spec : ∀ (n d : Nat) (σ : zS) (x q lt rt : Int) (T : List Int) (N : List Nat), Tr σ d x T N → N.Nodup → d ≤ n → 0 ≤ q → q ≤ T.length → (∀ j ∈ N, (j : Int) ≠ lt ∧ (j : Int) ≠ rt) → -1 ≤ lt → -1 ≤ rt → (lt < 0 → σ 14 0 = -1) → (rt < 0 → σ 15 0 = -1) → 0 ≤ σ 13 0 →
    ∃ (Q : List Nat) (a b : Int) (M P : List Nat),
      (zCut n σ x q lt rt).1 13 0 = σ 13 0 + Q.length ∧ (∀ j, j < Q.length → (zCut n σ x q lt rt).1 12 ((σ 13 0).toNat + j) = (Q.getD j 0 : Nat)) ∧ (∀ j, j < (σ 13 0).toNat → (zCut n σ x q lt rt).1 12 j = σ 12 j) ∧
      Tr (zRq Q (zCe (zCut n σ x q lt rt))) d a (T.take q.toNat) M ∧ Tr (zRq Q (zCe (zCut n σ x q lt rt))) d b (T.drop q.toNat) P ∧ N.Perm (M ++ P) ∧ zHo (zRq Q (zCe (zCut n σ x q lt rt))) 2 14 lt a ∧ zHo (zRq Q (zCe (zCut n σ x q lt rt))) 1 15 rt b ∧ zFr σ (zRq Q (zCe (zCut n σ x q lt rt))) N lt rt ∧ (¬ lt < 0 → zRq Q (zCe (zCut n σ x q lt rt)) 14 0 = σ 14 0) ∧ (¬ rt < 0 → zRq Q (zCe (zCut n σ x q lt rt)) 15 0 = σ 15 0) := by
  -- an empty tree
  have empty : ∀ (n d : Nat) (σ : zS) (x q lt rt : Int) (T : List Int) (N : List Nat), x < 0 → Tr σ d x T N → -1 ≤ lt → -1 ≤ rt → (lt < 0 → σ 14 0 = -1) → (rt < 0 → σ 15 0 = -1) → zCut n σ x q lt rt = (σ, lt, rt) →
    ∃ (Q : List Nat) (a b : Int) (M P : List Nat),
      (zCut n σ x q lt rt).1 13 0 = σ 13 0 + Q.length ∧ (∀ j, j < Q.length → (zCut n σ x q lt rt).1 12 ((σ 13 0).toNat + j) = (Q.getD j 0 : Nat)) ∧ (∀ j, j < (σ 13 0).toNat → (zCut n σ x q lt rt).1 12 j = σ 12 j) ∧
      Tr (zRq Q (zCe (zCut n σ x q lt rt))) d a (T.take q.toNat) M ∧ Tr (zRq Q (zCe (zCut n σ x q lt rt))) d b (T.drop q.toNat) P ∧ N.Perm (M ++ P) ∧ zHo (zRq Q (zCe (zCut n σ x q lt rt))) 2 14 lt a ∧ zHo (zRq Q (zCe (zCut n σ x q lt rt))) 1 15 rt b ∧ zFr σ (zRq Q (zCe (zCut n σ x q lt rt))) N lt rt ∧ (¬ lt < 0 → zRq Q (zCe (zCut n σ x q lt rt)) 14 0 = σ 14 0) ∧ (¬ rt < 0 → zRq Q (zCe (zCut n σ x q lt rt)) 15 0 = σ 15 0) := by
    intro n d σ x q lt rt T N hx hT hlt hrt h14 h15 hz
    obtain ⟨-, hT2, hN⟩ := Tr_neg hT hx
    obtain ⟨c1, c2, c3, c4, c5⟩ := zCe_f σ lt rt hlt hrt h14 h15
    rw [hz, hT2, hN, List.take_nil, List.drop_nil]
    exact ⟨[], -1, -1, [], [], by simp, fun j hj => absurd hj (by simp), fun _ _ => rfl, Tr_nil _ _, Tr_nil _ _, List.Perm.refl _, c1, c2, c3, fun _ => c4, fun _ => c5⟩
  intro n
  induction n with
  | zero =>
    intro d σ x q lt rt T N hT hn hd hq hq2 hne hlt hrt h14 h15 h13
    have hd0 : d = 0 := by omega
    subst hd0
    exact empty 0 0 σ x q lt rt T N (by have := hT.1; omega) hT hlt hrt h14 h15 rfl
  | succ n ih =>
    intro d σ x q lt rt T N hT hn hd hq hq2 hne hlt hrt h14 h15 h13
    by_cases hx : x < 0
    · exact empty (n + 1) d σ x q lt rt T N hx hT hlt hrt h14 h15 (by rw [zCut, if_pos hx])
    · obtain ⟨-, i, -, -, -, -, -, hxi, -⟩ := Tr_node hT hx
      subst hxi
      obtain ⟨⟨d', A, B, M, P, e0, e2, e3, e4, el, er, eT, eo⟩, hset⟩ := Tr_settle hT hn
      have hiN : i ∈ N := e2.mem_iff.mpr List.mem_cons_self
      have hMN : ∀ j ∈ M, j ∈ N := fun j hj => e2.mem_iff.mpr (List.mem_cons_of_mem _ (List.mem_append_left _ hj))
      have hPN : ∀ j ∈ P, j ∈ N := fun j hj => e2.mem_iff.mpr (List.mem_cons_of_mem _ (List.mem_append_right _ hj))
      have hn2 := List.nodup_cons.mp (e2.nodup_iff.mp hn)
      have hn3 := List.nodup_append.mp hn2.2
      have hiM : i ∉ M := fun h => hn2.1 (List.mem_append_left _ h)
      have hiP : i ∉ P := fun h => hn2.1 (List.mem_append_right _ h)
      have hMP : ∀ j ∈ M, j ∉ P := fun j hj hj2 => hn3.2.2 j hj j hj2 rfl
      have hw : zCw σ (i : Int) = A.length := by
        unfold zCw
        have hs : ∀ j, zSame (zSettle σ (i : Int)) (zCa σ (i : Int)) j := fun j => zPush_same _ _ j
        rw [Int.toNat_natCast, (hs i).2.1]
        exact Tr_sz (Tr_frame (fun j _ => hs j) el)
      have hsetO : ∀ k j, (k = 5 ∨ 8 ≤ k) → zSettle σ (i : Int) k j = σ k j := fun k j hk => zSettle_o _ _ _ (by omega)
      by_cases hc : (A.length : Int) < q
      · -- the node goes to the left part
        have hz : zCut (n + 1) σ (i : Int) q lt rt = zCut n (zCL σ (i : Int) lt) (zCL σ (i : Int) lt 2 i) (q - ((A.length : Int) + 1)) (i : Int) rt := by
          rw [zCut, if_neg hx, hw, if_pos hc, Int.toNat_natCast]
        rw [hz]
        obtain ⟨f1, f2, f3, f4, f5, f6⟩ := zCL_f σ (i : Int) lt hlt
        generalize zCL σ (i : Int) lt = σc at f1 f2 f3 f4 f5 f6 ⊢
        have hsc : ∀ j, j ∈ N → zSame (zSettle σ (i : Int)) σc j := fun j hj => f1.same List.not_mem_nil (hne j hj).1 (by omega)
        have hr1 : Tr σc d' (σc 2 i) B P := by
          rw [(hsc i hiN).2.2.1]
          exact Tr_frame (fun j hj => hsc j (hPN j hj)) er
        have hl1 : Tr σc d' (σc 1 i) A M := by
          rw [(hsc i hiN).2.1]
          exact Tr_frame (fun j hj => hsc j (hMN j hj)) el
        obtain ⟨Q', a', b', M', P', g1, g2, g3, g4, g5, g6, g7, g8, g9, g10, g11⟩ := ih d' σc (σc 2 i) (q - ((A.length : Int) + 1)) (i : Int) rt B P hr1 hn3.2.1 (by omega) (by omega) (by rw [eT, List.length_append, List.length_cons] at hq2; omega) (fun j hj => ⟨fun h => hiP (by rw [show i = j by omega]; exact hj), (hne j (hPN j hj)).2⟩) (by omega) hrt (fun h => absurd h (by omega)) (fun h => by rw [f4]; exact h15 h) (by omega)
        have g7' : zRq Q' (zCe (zCut n σc (σc 2 i) (q - ((A.length : Int) + 1)) (i : Int) rt)) 2 i = a' := by
          unfold zHo at g7
          rw [if_neg (by omega), Int.toNat_natCast] at g7
          exact g7
        generalize hr0 : zCut n σc (σc 2 i) (q - ((A.length : Int) + 1)) (i : Int) rt = r at g1 g2 g3 g4 g5 g7 g8 g9 g10 g11 g7' ⊢
        generalize hs3 : zRq Q' (zCe r) = σ3 at g4 g5 g7 g8 g9 g10 g11 g7' ⊢
        have hQ : zRq (i :: Q') (zCe r) = zRef σ3 (i : Int) := by rw [zRq, hs3]
        have hnP : ∀ j ∈ M', j ∈ P := fun j hj => g6.mem_iff.mpr (List.mem_append_left _ hj)
        have hnP' : ∀ j ∈ P', j ∈ P := fun j hj => g6.mem_iff.mpr (List.mem_append_right _ hj)
        have hperm : N.Perm ((i :: (M ++ M')) ++ P') := by
          refine e2.trans ?_
          rw [List.cons_append, List.append_assoc]
          exact (g6.append_left M).cons i
        have hnd : ((i :: (M ++ M')) ++ P').Nodup := hperm.nodup_iff.mp hn
        have hnd2 := List.nodup_append.mp hnd
        obtain ⟨k0, k3, k4, k6, k1, k2⟩ := g9.1 i hiP
        have hir : (i : Int) ≠ rt := (hne i hiN).2
        have q0 : σ3 0 i = zSettle σ (i : Int) 0 i := k0.trans (hsc i hiN).1
        have q4 : σ3 4 i = 0 := (k4.trans (hsc i hiN).2.2.2.2.1).trans e4
        have q1 : σ3 1 i = σc 1 i := k1 hir
        have hl3 : Tr σ3 d' (σ3 1 i) A M := by
          rw [q1]
          exact Tr_frame (fun j hj => g9.same (hMP j hj) (fun h => hiM (by rw [show i = j by omega]; exact hj)) (hne j (hMN j hj)).2) hl1
        have hnode := Tr_ref (σ := σ3) (i := i) e3.1 (by rw [q0]; exact e3.2.1) q4 hl3 (by rw [g7']; exact g4) hnd2.1
        rw [q0] at hnode
        refine ⟨i :: Q', (i : Int), b', i :: (M ++ M'), P', ?_, ?_, ?_, ?_, ?_, hperm, ?_, ?_, ?_, ?_, ?_⟩
        · rw [g1, f5, List.length_cons]
          omega
        · intro j hj
          have h13' : (σc 13 0).toNat = (σ 13 0).toNat + 1 := by omega
          cases j with
          | zero =>
            rw [Nat.add_zero, g3 _ (by omega), f6, if_pos rfl]
            rfl
          | succ j =>
            have := g2 j (by rw [List.length_cons] at hj; omega)
            rw [h13'] at this
            rw [show (σ 13 0).toNat + (j + 1) = (σ 13 0).toNat + 1 + j by omega, this]
            rfl
        · intro j hj
          rw [g3 j (by omega), f6, if_neg (by omega)]
        · rw [hQ, eT, take_mid hc, e0]
          exact hnode
        · rw [hQ, eT, drop_mid hc, e0]
          exact Tr_mono (Tr_frame (fun j hj => zRef_ne _ (fun h => hiP (by rw [← h]; exact hnP' j hj))) g5)
        · rw [hQ]
          refine zHo_ref ⟨by decide, by decide, by decide⟩ ⟨by decide, by decide, by decide⟩ ?_
          unfold zHo at f2 ⊢
          by_cases hl0 : lt < 0
          · rw [if_pos hl0] at f2 ⊢
            rw [g10 (by omega), f2]
          · rw [if_neg hl0] at f2 ⊢
            have hltN : lt.toNat ∉ N := fun h => (hne _ h).1 (by omega)
            obtain ⟨-, -, -, -, -, z2⟩ := g9.1 lt.toNat (fun h => hltN (hPN _ h))
            rw [z2 (fun h => hltN (by rw [show lt.toNat = i by omega]; exact hiN)), f2]
        · rw [hQ]
          exact zHo_ref ⟨by decide, by decide, by decide⟩ ⟨by decide, by decide, by decide⟩ g8
        · rw [hQ]
          exact zFr_step hiN hPN hset hsetO f1 g9 (fun j hj => zRef_ne _ hj) (fun k j hk => zRef_o _ _ (by omega) (by omega) (by omega) j) (fun j hj h => ⟨h, fun h2 => hj (by rw [show j = i by omega]; exact hiN)⟩) (fun j hj h => ⟨by omega, h⟩)
        · intro hl0
          rw [hQ, zRef_o _ _ (by decide) (by decide) (by decide), g10 (by omega), f3 hl0]
        · intro hr0
          rw [hQ, zRef_o _ _ (by decide) (by decide) (by decide), g11 hr0, f4]
      · -- the node goes to the right part
        have hz : zCut (n + 1) σ (i : Int) q lt rt = zCut n (zCR σ (i : Int) rt) (zCR σ (i : Int) rt 1 i) q lt (i : Int) := by
          rw [zCut, if_neg hx, hw, if_neg hc, Int.toNat_natCast]
        rw [hz]
        obtain ⟨f1, f2, f3, f4, f5, f6⟩ := zCR_f σ (i : Int) rt hrt
        generalize zCR σ (i : Int) rt = σc at f1 f2 f3 f4 f5 f6 ⊢
        have hsc : ∀ j, j ∈ N → zSame (zSettle σ (i : Int)) σc j := fun j hj => f1.same List.not_mem_nil (by omega) (hne j hj).2
        have hr1 : Tr σc d' (σc 2 i) B P := by
          rw [(hsc i hiN).2.2.1]
          exact Tr_frame (fun j hj => hsc j (hPN j hj)) er
        have hl1 : Tr σc d' (σc 1 i) A M := by
          rw [(hsc i hiN).2.1]
          exact Tr_frame (fun j hj => hsc j (hMN j hj)) el
        obtain ⟨Q', a', b', M', P', g1, g2, g3, g4, g5, g6, g7, g8, g9, g10, g11⟩ := ih d' σc (σc 1 i) q lt (i : Int) A M hl1 hn3.1 (by omega) hq (by omega) (fun j hj => ⟨(hne j (hMN j hj)).1, fun h => hiM (by rw [show i = j by omega]; exact hj)⟩) hlt (by omega) (fun h => by rw [f4]; exact h14 h) (fun h => absurd h (by omega)) (by omega)
        have g8' : zRq Q' (zCe (zCut n σc (σc 1 i) q lt (i : Int))) 1 i = b' := by
          unfold zHo at g8
          rw [if_neg (by omega), Int.toNat_natCast] at g8
          exact g8
        generalize hr0 : zCut n σc (σc 1 i) q lt (i : Int) = r at g1 g2 g3 g4 g5 g7 g8 g9 g10 g11 g8' ⊢
        generalize hs3 : zRq Q' (zCe r) = σ3 at g4 g5 g7 g8 g9 g10 g11 g8' ⊢
        have hQ : zRq (i :: Q') (zCe r) = zRef σ3 (i : Int) := by rw [zRq, hs3]
        have hnM : ∀ j ∈ M', j ∈ M := fun j hj => g6.mem_iff.mpr (List.mem_append_left _ hj)
        have hnM' : ∀ j ∈ P', j ∈ M := fun j hj => g6.mem_iff.mpr (List.mem_append_right _ hj)
        have hperm : N.Perm (M' ++ (i :: (P' ++ P))) := by
          refine e2.trans ?_
          refine (((g6.append_right P).cons i)).trans ?_
          rw [List.append_assoc]
          exact List.perm_middle.symm
        have hnd : (M' ++ (i :: (P' ++ P))).Nodup := hperm.nodup_iff.mp hn
        have hnd2 := List.nodup_append.mp hnd
        obtain ⟨k0, k3, k4, k6, k1, k2⟩ := g9.1 i hiM
        have hil : (i : Int) ≠ lt := (hne i hiN).1
        have q0 : σ3 0 i = zSettle σ (i : Int) 0 i := k0.trans (hsc i hiN).1
        have q4 : σ3 4 i = 0 := (k4.trans (hsc i hiN).2.2.2.2.1).trans e4
        have q2 : σ3 2 i = σc 2 i := k2 hil
        have hr3 : Tr σ3 d' (σ3 2 i) B P := by
          rw [q2]
          exact Tr_frame (fun j hj => g9.same (fun h => hMP j h hj) (hne j (hPN j hj)).1 (fun h => hiP (by rw [show i = j by omega]; exact hj))) hr1
        have hnode := Tr_ref (σ := σ3) (i := i) e3.1 (by rw [q0]; exact e3.2.1) q4 (by rw [g8']; exact g5) hr3 hnd2.2.1
        rw [q0] at hnode
        refine ⟨i :: Q', a', (i : Int), M', i :: (P' ++ P), ?_, ?_, ?_, ?_, ?_, hperm, ?_, ?_, ?_, ?_, ?_⟩
        · rw [g1, f5, List.length_cons]
          omega
        · intro j hj
          have h13' : (σc 13 0).toNat = (σ 13 0).toNat + 1 := by omega
          cases j with
          | zero =>
            rw [Nat.add_zero, g3 _ (by omega), f6, if_pos rfl]
            rfl
          | succ j =>
            have := g2 j (by rw [List.length_cons] at hj; omega)
            rw [h13'] at this
            rw [show (σ 13 0).toNat + (j + 1) = (σ 13 0).toNat + 1 + j by omega, this]
            rfl
        · intro j hj
          rw [g3 j (by omega), f6, if_neg (by omega)]
        · rw [hQ, eT, take_low (by omega), e0]
          exact Tr_mono (Tr_frame (fun j hj => zRef_ne _ (fun h => hiM (by rw [← h]; exact hnM j hj))) g4)
        · rw [hQ, eT, drop_low (by omega), e0]
          exact hnode
        · rw [hQ]
          exact zHo_ref ⟨by decide, by decide, by decide⟩ ⟨by decide, by decide, by decide⟩ g7
        · rw [hQ]
          refine zHo_ref ⟨by decide, by decide, by decide⟩ ⟨by decide, by decide, by decide⟩ ?_
          unfold zHo at f2 ⊢
          by_cases hr0 : rt < 0
          · rw [if_pos hr0] at f2 ⊢
            rw [g11 (by omega), f2]
          · rw [if_neg hr0] at f2 ⊢
            have hrtN : rt.toNat ∉ N := fun h => (hne _ h).2 (by omega)
            obtain ⟨-, -, -, -, z1, -⟩ := g9.1 rt.toNat (fun h => hrtN (hMN _ h))
            rw [z1 (fun h => hrtN (by rw [show rt.toNat = i by omega]; exact hiN)), f2]
        · rw [hQ]
          exact zFr_step hiN hMN hset hsetO f1 g9 (fun j hj => zRef_ne _ hj) (fun k j hk => zRef_o _ _ (by omega) (by omega) (by omega) j) (fun j hj h => ⟨by omega, h⟩) (fun j hj h => ⟨h, fun h2 => hj (by rw [show j = i by omega]; exact hiN)⟩)
        · intro hl0
          rw [hQ, zRef_o _ _ (by decide) (by decide) (by decide), g10 hl0, f4]
        · intro hr0
          rw [hQ, zRef_o _ _ (by decide) (by decide) (by decide), g11 (by omega), f3 hr0]
end
section
/-! PURE: cut whole; join -/
theorem Tr_dep {σ : zS} : ∀ {d : Nat} {x : Int} {T : List Int} {N : List Nat}, Tr σ d x T N → Tr σ N.length x T N
  | 0, x, T, N, h => by
    obtain ⟨h1, h2, h3⟩ := h
    subst h1 h2 h3
    exact Tr_nil _ _
  | d + 1, x, T, N, h => by
    rcases h with ⟨h1, h2, h3⟩ | ⟨i, A, B, M, P, e1, e2, e3, e4, e5, e6, e7⟩
    · subst h1 h2 h3
      exact Tr_nil _ _
    · have hl := e2.length_eq
      rw [List.length_cons, List.length_append] at hl
      rw [hl]
      exact Or.inr ⟨i, A, B, M, P, e1, e2, e3, Tr_le (Tr_dep e4) (by omega), Tr_le (Tr_dep e5) (by omega), e6, e7⟩
/-- a whole tree: its nodes are apart -/
def zTree (σ : zS) (x : Int) (T : List Int) (N : List Nat) : Prop := Tr σ 60 x T N ∧ N.Nodup
theorem Tr_60 {σ : zS} {d : Nat} {x : Int} {T : List Int} {N : List Nat} (h : Tr σ d x T N) (hn : N.Nodup) : zTree σ x T N := ⟨Tr_le (Tr_dep h) (nat_pigeon 60 N hn (Tr_lt h)), hn⟩
theorem zTree.len {σ : zS} {x : Int} {T : List Int} {N : List Nat} (h : zTree σ x T N) : T.length = N.length := Tr_len h.1
theorem zTree.le {σ : zS} {x : Int} {T : List Int} {N : List Nat} (h : zTree σ x T N) : T.length ≤ 60 := by rw [h.len]; exact nat_pigeon 60 N h.2 (Tr_lt h.1)
theorem zTree.frame {σ σ' : zS} {x : Int} {T : List Int} {N : List Nat} (h : zTree σ x T N) (hs : ∀ i ∈ N, zSame σ σ' i) : zTree σ' x T N := ⟨Tr_frame hs h.1, h.2⟩
/-- what a method leaves: nodes outside N, and the scalars and arrays that no tree is made of -/
def zKeep (σ σ' : zS) (N : List Nat) : Prop := (∀ j, j ∉ N → zSame σ σ' j) ∧ ∀ k j : Nat, (k = 5 ∨ (8 ≤ k ∧ k ≤ 11) ∨ 16 ≤ k) → σ' k j = σ k j
theorem zRefP_q {τ : zS} {Q : List Nat} (h13 : τ 13 0 = Q.length) (h12 : ∀ j, j < Q.length → τ 12 j = (Q.getD j 0 : Nat)) : zRefP τ = zs_st (zRq Q τ) 13 0 0 := by
  unfold zRefP
  rw [show (τ 13 0).toNat = Q.length by omega, zRp_q Q.length Q τ rfl h12]
theorem same_13 (σ : zS) (v : Int) (i : Nat) : zSame σ (zs_st σ 13 0 v) i := zSame.st ⟨by decide, by decide⟩ (Or.inr (Or.inl (by decide)))
theorem Tr_cutF {σ : zS} {x : Int} {T : List Int} {N : List Nat} (h : zTree σ x T N) {q : Int} (hq : 0 ≤ q) (hq2 : q ≤ T.length) :
    ∃ (M P : List Nat), zTree (zCutF σ x q) (zCutF σ x q 14 0) (T.take q.toNat) M ∧ zTree (zCutF σ x q) (zCutF σ x q 15 0) (T.drop q.toNat) P ∧ N.Perm (M ++ P) ∧ zKeep σ (zCutF σ x q) N := by
  have c0 : ∀ k, k ≠ 13 → k ≠ 14 → k ≠ 15 → ∀ m, zC0 σ k m = σ k m := by
    intro k h1 h2 h3 m
    rw [zC0, zs_ne h1, zs_ne h3, zs_ne h2]
  have cs : ∀ j, zSame σ (zC0 σ) j := fun j => ⟨c0 0 (by decide) (by decide) (by decide) j, c0 1 (by decide) (by decide) (by decide) j, c0 2 (by decide) (by decide) (by decide) j, c0 3 (by decide) (by decide) (by decide) j, c0 4 (by decide) (by decide) (by decide) j, fun k _ _ => ⟨c0 6 (by decide) (by decide) (by decide) _, c0 7 (by decide) (by decide) (by decide) _⟩⟩
  have h13 : zC0 σ 13 0 = 0 := by rw [zC0, zs_eq]
  have h14 : zC0 σ 14 0 = -1 := by rw [zC0, zs_ne (by decide), zs_ne (by decide), zs_eq]
  have h15 : zC0 σ 15 0 = -1 := by rw [zC0, zs_ne (by decide), zs_eq]
  obtain ⟨Q, a, b, M, P, g1, g2, g3, g4, g5, g6, g7, g8, g9, -, -⟩ := cut_spec 60 60 (zC0 σ) x q (-1) (-1) T N (Tr_frame (fun j _ => cs j) h.1) h.2 (by decide) hq hq2 (fun j _ => ⟨by omega, by omega⟩) (by decide) (by decide) (fun _ => h14) (fun _ => h15) (by omega)
  have hnd := List.nodup_append.mp (g6.nodup_iff.mp h.2)
  have ce : ∀ (r : zS × Int × Int) k, k ≠ 1 → k ≠ 2 → ∀ m, zCe r k m = r.1 k m := by
    intro r k h1 h2 m
    unfold zCe zCe2 zCe1
    split <;> split
    · rfl
    · exact zs_ne h2
    · exact zs_ne h1
    · rw [zs_ne h1, zs_ne h2]
  have hF : zCutF σ x q = zs_st (zRq Q (zCe (zCut 60 (zC0 σ) x q (-1) (-1)))) 13 0 0 := by
    unfold zCutF
    refine zRefP_q (by rw [ce _ 13 (by decide) (by decide), g1, h13]; omega) (fun j hj => ?_)
    rw [ce _ 12 (by decide) (by decide)]
    have := g2 j hj
    rw [h13] at this
    rw [← this]
    congr 1
    simp
  generalize zRq Q (zCe (zCut 60 (zC0 σ) x q (-1) (-1))) = σ3 at g4 g5 g7 g8 g9 hF
  have e14 : zCutF σ x q 14 0 = a := by
    rw [hF, zs_ne (by decide)]
    unfold zHo at g7
    rw [if_pos (by decide)] at g7
    exact g7
  have e15 : zCutF σ x q 15 0 = b := by
    rw [hF, zs_ne (by decide)]
    unfold zHo at g8
    rw [if_pos (by decide)] at g8
    exact g8
  rw [e14, e15, hF]
  refine ⟨M, P, ⟨Tr_frame (fun j _ => same_13 _ _ j) g4, hnd.1⟩, ⟨Tr_frame (fun j _ => same_13 _ _ j) g5, hnd.2.1⟩, g6, fun j hj => ?_, fun k j hk => ?_⟩
  · exact ((cs j).tr (g9.same hj (by omega) (by omega))).tr (same_13 _ _ j)
  · rw [zs_ne (by omega), g9.2 k j hk, c0 k (by omega) (by omega) (by omega)]
/-! join -/
def zJl (tl o : Int) : Int := if o = 0 then -1 else tl
def zJq (tl o : Int) : Int := if o = 0 then tl else -1
def zHj (σ : zS) (tl o z : Int) : Prop := tl < 0 ∨ (if o = 0 then σ 1 tl.toNat = z else σ 2 tl.toNat = z)
theorem zJh_f (σ : zS) (tl o z : Int) (htl : -1 ≤ tl) : zFr σ (zJh σ tl o z) [] (zJl tl o) (zJq tl o) ∧ zHj (zJh σ tl o z) tl o z ∧ ∀ k, k ≠ 1 → k ≠ 2 → ∀ m, zJh σ tl o z k m = σ k m := by
  have o' : ∀ k, k ≠ 1 → k ≠ 2 → ∀ m, zJh σ tl o z k m = σ k m := by
    intro k h1 h2 m
    unfold zJh
    split
    · rfl
    · unfold zHang
      split
      · exact zs_ne h1
      · exact zs_ne h2
  refine ⟨⟨fun j _ => ⟨o' 0 (by decide) (by decide) j, o' 3 (by decide) (by decide) j, o' 4 (by decide) (by decide) j, fun k _ _ => ⟨o' 6 (by decide) (by decide) _, o' 7 (by decide) (by decide) _⟩, fun h => ?_, fun h => ?_⟩, fun k j hk => o' k (by omega) (by omega) j⟩, ?_, o'⟩
  · unfold zJh zHang
    unfold zJq at h
    split
    · rfl
    · split
      · rw [if_pos (by assumption)] at h
        exact zs_ni (by omega)
      · exact zs_ne (by decide)
  · unfold zJh zHang
    unfold zJl at h
    split
    · rfl
    · split
      · exact zs_ne (by decide)
      · rw [if_neg (by assumption)] at h
        exact zs_ni (by omega)
  · unfold zHj
    by_cases h : tl < 0
    · exact Or.inl h
    · right
      unfold zJh zHang
      rw [if_neg h]
      by_cases h0 : o = 0
      · rw [if_pos h0, if_pos h0, zs_eq]
      · rw [if_neg h0, if_neg h0, zs_eq]
theorem zJa_f (σ : zS) (x tl o : Int) (htl : -1 ≤ tl) : zFr (zSettle σ x) (zJa σ x tl o) [] (zJl tl o) (zJq tl o) ∧ zHj (zJa σ x tl o) tl o x ∧ zJa σ x tl o 13 0 = σ 13 0 + 1 ∧ ∀ m, zJa σ x tl o 12 m = if m = (σ 13 0).toNat then x else σ 12 m := by
  obtain ⟨h1, h2, h3⟩ := zJh_f (zSettle σ x) tl o x htl
  unfold zJa
  have hs := zPush_same (zJh (zSettle σ x) tl o x) x
  refine ⟨⟨fun j hj => ?_, fun k j hk => ?_⟩, ?_, ?_, fun m => ?_⟩
  · obtain ⟨a0, a3, a4, a6, a1, a2⟩ := h1.1 j hj
    obtain ⟨b0, b1, b2, b3, b4, b6⟩ := hs j
    exact ⟨b0.trans a0, b3.trans a3, b4.trans a4, fun k p q => ⟨(b6 k p q).1.trans (a6 k p q).1, (b6 k p q).2.trans (a6 k p q).2⟩, fun h => b1.trans (a1 h), fun h => b2.trans (a2 h)⟩
  · rw [zPush_o _ _ _ (by omega) (by omega)]
    exact h1.2 k j hk
  · rcases h2 with h | h
    · exact Or.inl h
    · right
      rw [zPush_o _ _ _ (by decide) (by decide), zPush_o _ _ _ (by decide) (by decide)]
      exact h
  · rw [zPush_13, h3 13 (by decide) (by decide), zSettle_o _ _ _ (by decide)]
  · rw [zPush_12, h3 13 (by decide) (by decide), h3 12 (by decide) (by decide), zSettle_o _ _ _ (by decide), zSettle_o _ _ _ (by decide)]
/-- where join's loop has ended: the rest is hung up -/
def zJx (r : zS × Int × Int × Int × Int × Int) : zS := zJh r.1 r.2.2.2.2.1 r.2.2.2.2.2 (zJr r.2.1 r.2.2.1)
def zJz (r : zS × Int × Int × Int × Int × Int) : Int := zJt r.2.2.2.2.1 r.2.2.2.1 (zJr r.2.1 r.2.2.1)
theorem zHj_ref {σ : zS} {x tl o z : Int} (h : zHj σ tl o z) : zHj (zRef σ x) tl o z := by
  rcases h with h | h
  · exact Or.inl h
  · right
    rw [zRef_o _ _ (by decide) (by decide) (by decide), zRef_o _ _ (by decide) (by decide) (by decide)]
    exact h
theorem zHj_fr {σ σ' : zS} {N : List Nat} {i tl o z l2 r2 : Int} (h : zHj σ tl o z) (hf : zFr σ σ' N l2 r2) (htl : ¬ tl < 0 → tl.toNat ∉ N) (hl : ¬ tl < 0 → tl ≠ l2) (hr : ¬ tl < 0 → tl ≠ r2) : zHj σ' tl o z := by
  by_cases h0 : tl < 0
  · exact Or.inl h0
  · rcases h with h | h
    · exact absurd h h0
    · right
      obtain ⟨-, -, -, -, a1, a2⟩ := hf.1 tl.toNat (htl h0)
      have hl := hl h0
      have hr := hr h0
      rw [a1 (by omega), a2 (by omega)]
      exact h
set_option maxHeartbeats 2000000 in
theorem join_spec : ∀ (n : Nat) (σ : zS) (x y tp tl o : Int) (d1 d2 : Nat) (T1 T2 : List Int) (N1 N2 : List Nat), Tr σ d1 x T1 N1 → Tr σ d2 y T2 N2 → (N1 ++ N2).Nodup → N1.length + N2.length ≤ n → (∀ j ∈ N1 ++ N2, (j : Int) ≠ tl) → -1 ≤ tl → 0 ≤ σ 13 0 →
    zJok (zJoin n σ x y tp tl o) ∧ ∃ (Q : List Nat) (z : Int) (d : Nat),
      (zJoin n σ x y tp tl o).1 13 0 = σ 13 0 + Q.length ∧ (∀ j, j < Q.length → (zJoin n σ x y tp tl o).1 12 ((σ 13 0).toNat + j) = (Q.getD j 0 : Nat)) ∧ (∀ j, j < (σ 13 0).toNat → (zJoin n σ x y tp tl o).1 12 j = σ 12 j) ∧
      Tr (zRq Q (zJx (zJoin n σ x y tp tl o))) d z (T1 ++ T2) (N1 ++ N2) ∧ zHj (zRq Q (zJx (zJoin n σ x y tp tl o))) tl o z ∧ zJz (zJoin n σ x y tp tl o) = zJt tl tp z ∧ zFr σ (zRq Q (zJx (zJoin n σ x y tp tl o))) (N1 ++ N2) (zJl tl o) (zJq tl o) := by
  -- one of the two is empty
  have empty : ∀ (n : Nat) (σ : zS) (x y tp tl o : Int) (d1 d2 : Nat) (T1 T2 : List Int) (N1 N2 : List Nat), Tr σ d1 x T1 N1 → Tr σ d2 y T2 N2 → (∀ j ∈ N1 ++ N2, (j : Int) ≠ tl) → -1 ≤ tl → (x < 0 ∨ y < 0) → zJoin n σ x y tp tl o = (σ, x, y, tp, tl, o) →
    zJok (zJoin n σ x y tp tl o) ∧ ∃ (Q : List Nat) (z : Int) (d : Nat),
      (zJoin n σ x y tp tl o).1 13 0 = σ 13 0 + Q.length ∧ (∀ j, j < Q.length → (zJoin n σ x y tp tl o).1 12 ((σ 13 0).toNat + j) = (Q.getD j 0 : Nat)) ∧ (∀ j, j < (σ 13 0).toNat → (zJoin n σ x y tp tl o).1 12 j = σ 12 j) ∧
      Tr (zRq Q (zJx (zJoin n σ x y tp tl o))) d z (T1 ++ T2) (N1 ++ N2) ∧ zHj (zRq Q (zJx (zJoin n σ x y tp tl o))) tl o z ∧ zJz (zJoin n σ x y tp tl o) = zJt tl tp z ∧ zFr σ (zRq Q (zJx (zJoin n σ x y tp tl o))) (N1 ++ N2) (zJl tl o) (zJq tl o) := by
    intro n σ x y tp tl o d1 d2 T1 T2 N1 N2 hx hy hne htl hxy hz
    rw [hz]
    refine ⟨hxy, [], zJr x y, max d1 d2, by simp, fun j hj => absurd hj (by simp), fun _ _ => rfl, ?_⟩
    obtain ⟨f1, f2, f3⟩ := zJh_f σ tl o (zJr x y) htl
    show Tr (zJh σ tl o (zJr x y)) _ _ _ _ ∧ zHj (zJh σ tl o (zJr x y)) _ _ _ ∧ zJt tl tp (zJr x y) = zJt tl tp (zJr x y) ∧ zFr σ (zJh σ tl o (zJr x y)) _ _ _
    refine ⟨?_, f2, rfl, ⟨fun j _ => f1.1 j List.not_mem_nil, f1.2⟩⟩
    have hs : ∀ j ∈ N1 ++ N2, zSame σ (zJh σ tl o (zJr x y)) j := by
      intro j hj
      have := hne j hj
      refine f1.same List.not_mem_nil ?_ ?_
      · unfold zJl
        split <;> omega
      · unfold zJq
        split <;> omega
    by_cases h : x < 0
    · obtain ⟨-, e1, e2⟩ := Tr_neg hx h
      subst e1 e2
      rw [show zJr x y = y by rw [zJr, if_pos h], List.nil_append, List.nil_append] at *
      exact Tr_le (Tr_frame hs hy) (Nat.le_max_right _ _)
    · have h2 : y < 0 := by omega
      obtain ⟨-, e1, e2⟩ := Tr_neg hy h2
      subst e1 e2
      rw [show zJr x y = x by rw [zJr, if_neg h], List.append_nil, List.append_nil] at *
      exact Tr_le (Tr_frame hs hx) (Nat.le_max_left _ _)
  intro n
  induction n with
  | zero =>
    intro σ x y tp tl o d1 d2 T1 T2 N1 N2 hx hy hnd hlen hne htl h13
    refine empty 0 σ x y tp tl o d1 d2 T1 T2 N1 N2 hx hy hne htl ?_ rfl
    by_cases h : x < 0
    · exact Or.inl h
    · have := List.length_pos_of_mem (Tr_mem hx h)
      omega
  | succ n ih =>
    intro σ x y tp tl o d1 d2 T1 T2 N1 N2 hx hy hnd hlen hne htl h13
    by_cases hxy : x < 0 ∨ y < 0
    · exact empty (n + 1) σ x y tp tl o d1 d2 T1 T2 N1 N2 hx hy hne htl hxy (by rw [zJoin, if_pos hxy])
    · have hnd2 := List.nodup_append.mp hnd
      have hdis : ∀ j ∈ N1, j ∉ N2 := fun j h1 h2 => hnd2.2.2 j h1 j h2 rfl
      by_cases hrk : σ 5 x.toNat < σ 5 y.toNat
      · -- the right tree's top goes up
        obtain ⟨-, i, -, -, -, -, -, hyi, -⟩ := Tr_node hy (by omega)
        subst hyi
        have hz : zJoin (n + 1) σ x (i : Int) tp tl o = zJoin n (zJa σ (i : Int) tl o) x (zJa σ (i : Int) tl o 1 i) (zJt tl tp i) (i : Int) 0 := by
          rw [zJoin, if_neg hxy, if_pos hrk, Int.toNat_natCast]
        rw [hz]
        obtain ⟨⟨d', A, B, M, P, e0, e2, e3, e4, el, er, eT, eo⟩, hset⟩ := Tr_settle hy hnd2.2.1
        have hiN : i ∈ N2 := e2.mem_iff.mpr List.mem_cons_self
        have hMN : ∀ j ∈ M, j ∈ N2 := fun j hj => e2.mem_iff.mpr (List.mem_cons_of_mem _ (List.mem_append_left _ hj))
        have hPN : ∀ j ∈ P, j ∈ N2 := fun j hj => e2.mem_iff.mpr (List.mem_cons_of_mem _ (List.mem_append_right _ hj))
        have hn2 := List.nodup_cons.mp (e2.nodup_iff.mp hnd2.2.1)
        have hn3 := List.nodup_append.mp hn2.2
        have hiM : i ∉ M := fun h => hn2.1 (List.mem_append_left _ h)
        have hiP : i ∉ P := fun h => hn2.1 (List.mem_append_right _ h)
        have hi1 : i ∉ N1 := fun h => hdis i h hiN
        have hMP : ∀ j ∈ M, j ∉ P := fun j hj hj2 => hn3.2.2 j hj j hj2 rfl
        obtain ⟨f1, f2, f5, f6⟩ := zJa_f σ (i : Int) tl o htl
        generalize zJa σ (i : Int) tl o = σc at f1 f2 f5 f6 ⊢
        have hlr : ∀ j ∈ N1 ++ N2, (j : Int) ≠ zJl tl o ∧ (j : Int) ≠ zJq tl o := by
          intro j hj
          have := hne j hj
          unfold zJl zJq
          split <;> omega
        have hsc : ∀ j, j ∈ N1 ++ N2 → zSame (zSettle σ (i : Int)) σc j := fun j hj => f1.same List.not_mem_nil (hlr j hj).1 (hlr j hj).2
        have hsc2 : ∀ j, j ∈ N2 → zSame (zSettle σ (i : Int)) σc j := fun j hj => hsc j (List.mem_append_right _ hj)
        have hx1 : Tr σc d1 x T1 N1 := Tr_frame (fun j hj => (hset j (hdis j hj)).tr (hsc j (List.mem_append_left _ hj))) hx
        have hl1 : Tr σc d' (σc 1 i) A M := by
          rw [(hsc2 i hiN).2.1]
          exact Tr_frame (fun j hj => hsc2 j (hMN j hj)) el
        have hr1 : Tr σc d' (σc 2 i) B P := by
          rw [(hsc2 i hiN).2.2.1]
          exact Tr_frame (fun j hj => hsc2 j (hPN j hj)) er
        have hlenN : N2.length = 1 + (M.length + P.length) := by
          have := e2.length_eq
          rw [List.length_cons, List.length_append] at this
          omega
        have hperm : (N1 ++ N2).Perm (i :: ((N1 ++ M) ++ P)) := by
          refine (e2.append_left N1).trans ?_
          rw [List.append_assoc]
          exact List.perm_middle
        have hndI := List.nodup_cons.mp (hperm.nodup_iff.mp hnd)
        have hndL := List.nodup_append.mp hndI.2
        have hiL : i ∉ N1 ++ M := fun h => hndI.1 (List.mem_append_left _ h)
        obtain ⟨hok, Q', z', dz, g1, g2, g3, g4, g5, g6, g7⟩ := ih σc x (σc 1 i) (zJt tl tp i) (i : Int) 0 d1 d' T1 A N1 M hx1 hl1 hndL.1 (by omega) (fun j hj h => hiL (by rw [show i = j by omega]; exact hj)) (by omega) (by omega)
        have g5' : zRq Q' (zJx (zJoin n σc x (σc 1 i) (zJt tl tp i) (i : Int) 0)) 1 i = z' := by
          rcases g5 with h | h
          · omega
          · rw [if_pos rfl, Int.toNat_natCast] at h
            exact h
        refine ⟨hok, ?_⟩
        generalize hr0 : zJoin n σc x (σc 1 i) (zJt tl tp i) (i : Int) 0 = r at g1 g2 g3 g4 g5 g6 g7 g5' ⊢
        generalize hs3 : zRq Q' (zJx r) = σ3 at g4 g5 g7 g5' ⊢
        have hQ : zRq (i :: Q') (zJx r) = zRef σ3 (i : Int) := by rw [zRq, hs3]
        have hl0 : zJl (i : Int) 0 = -1 := rfl
        have hq0 : zJq (i : Int) 0 = i := rfl
        rw [hl0, hq0] at g7
        obtain ⟨k0, k3, k4, k6, k1, k2⟩ := g7.1 i hiL
        have q0 : σ3 0 i = zSettle σ (i : Int) 0 i := k0.trans (hsc2 i hiN).1
        have q4 : σ3 4 i = 0 := (k4.trans (hsc2 i hiN).2.2.2.2.1).trans e4
        have q2 : σ3 2 i = σc 2 i := k2 (by omega)
        have hr3 : Tr σ3 d' (σ3 2 i) B P := by
          rw [q2]
          refine Tr_frame (fun j hj => g7.same (fun h => ?_) (by omega) (fun h => hiP (by rw [show i = j by omega]; exact hj))) hr1
          exact hndL.2.2 j h j hj rfl
        have hnode := Tr_ref (σ := σ3) (i := i) (d := max dz d') e3.1 (by rw [q0]; exact e3.2.1) q4 (by rw [g5']; exact Tr_le g4 (Nat.le_max_left _ _)) (Tr_le hr3 (Nat.le_max_right _ _)) (hperm.nodup_iff.mp hnd)
        rw [q0] at hnode
        refine ⟨i :: Q', (i : Int), max dz d' + 1, ?_, ?_, ?_, ?_, ?_, ?_, ?_⟩
        · rw [g1, f5, List.length_cons]
          omega
        · intro j hj
          have h13' : (σc 13 0).toNat = (σ 13 0).toNat + 1 := by omega
          cases j with
          | zero =>
            rw [Nat.add_zero, g3 _ (by omega), f6, if_pos rfl]
            rfl
          | succ j =>
            have := g2 j (by rw [List.length_cons] at hj; omega)
            rw [h13'] at this
            rw [show (σ 13 0).toNat + (j + 1) = (σ 13 0).toNat + 1 + j by omega, this]
            rfl
        · intro j hj
          rw [g3 j (by omega), f6, if_neg (by omega)]
        · rw [hQ, eT, ← List.append_assoc]
          exact Tr_perm hnode hperm.symm
        · rw [hQ]
          exact zHj_ref (zHj_fr (i := (i : Int)) f2 g7 (fun h h2 => hne _ (hperm.mem_iff.mpr (List.mem_cons_of_mem _ (List.mem_append_left _ h2))) (by omega)) (fun _ => by have := hne i (List.mem_append_right _ hiN); omega) (fun _ => by have := hne i (List.mem_append_right _ hiN); omega))
        · rw [g6]
          unfold zJt
          rw [if_neg (by omega)]
        · rw [hQ]
          exact zFr_step (σa := zSettle σ (i : Int)) (List.mem_append_right _ hiN) (fun j hj => by
            rcases List.mem_append.mp hj with h | h
            · exact List.mem_append_left _ h
            · exact List.mem_append_right _ (hMN j h)) (fun j hj => hset j (fun h => hj (List.mem_append_right _ h))) (fun k j hk => zSettle_o _ _ _ (by omega)) f1 g7 (fun j hj => zRef_ne _ hj) (fun k j hk => zRef_o _ _ (by omega) (by omega) (by omega) j) (fun j hj h => ⟨h, by omega⟩) (fun j hj h => ⟨h, fun h2 => hj (List.mem_append_right _ (by rw [show j = i by omega]; exact hiN))⟩)
      · -- the left tree's top goes up
        obtain ⟨-, i, -, -, -, -, -, hxi, -⟩ := Tr_node hx (by omega)
        subst hxi
        have hz : zJoin (n + 1) σ (i : Int) y tp tl o = zJoin n (zJa σ (i : Int) tl o) (zJa σ (i : Int) tl o 2 i) y (zJt tl tp i) (i : Int) 1 := by
          rw [zJoin, if_neg hxy, if_neg hrk, Int.toNat_natCast]
        rw [hz]
        obtain ⟨⟨d', A, B, M, P, e0, e2, e3, e4, el, er, eT, eo⟩, hset⟩ := Tr_settle hx hnd2.1
        have hiN : i ∈ N1 := e2.mem_iff.mpr List.mem_cons_self
        have hMN : ∀ j ∈ M, j ∈ N1 := fun j hj => e2.mem_iff.mpr (List.mem_cons_of_mem _ (List.mem_append_left _ hj))
        have hPN : ∀ j ∈ P, j ∈ N1 := fun j hj => e2.mem_iff.mpr (List.mem_cons_of_mem _ (List.mem_append_right _ hj))
        have hn2 := List.nodup_cons.mp (e2.nodup_iff.mp hnd2.1)
        have hn3 := List.nodup_append.mp hn2.2
        have hiM : i ∉ M := fun h => hn2.1 (List.mem_append_left _ h)
        have hiP : i ∉ P := fun h => hn2.1 (List.mem_append_right _ h)
        have hi2 : i ∉ N2 := fun h => hdis i hiN h
        have hMP : ∀ j ∈ M, j ∉ P := fun j hj hj2 => hn3.2.2 j hj j hj2 rfl
        obtain ⟨f1, f2, f5, f6⟩ := zJa_f σ (i : Int) tl o htl
        generalize zJa σ (i : Int) tl o = σc at f1 f2 f5 f6 ⊢
        have hlr : ∀ j ∈ N1 ++ N2, (j : Int) ≠ zJl tl o ∧ (j : Int) ≠ zJq tl o := by
          intro j hj
          have := hne j hj
          unfold zJl zJq
          split <;> omega
        have hsc : ∀ j, j ∈ N1 ++ N2 → zSame (zSettle σ (i : Int)) σc j := fun j hj => f1.same List.not_mem_nil (hlr j hj).1 (hlr j hj).2
        have hsc2 : ∀ j, j ∈ N1 → zSame (zSettle σ (i : Int)) σc j := fun j hj => hsc j (List.mem_append_left _ hj)
        have hy1 : Tr σc d2 y T2 N2 := Tr_frame (fun j hj => (hset j (fun h => hdis j h hj)).tr (hsc j (List.mem_append_right _ hj))) hy
        have hl1 : Tr σc d' (σc 1 i) A M := by
          rw [(hsc2 i hiN).2.1]
          exact Tr_frame (fun j hj => hsc2 j (hMN j hj)) el
        have hr1 : Tr σc d' (σc 2 i) B P := by
          rw [(hsc2 i hiN).2.2.1]
          exact Tr_frame (fun j hj => hsc2 j (hPN j hj)) er
        have hlenN : N1.length = 1 + (M.length + P.length) := by
          have := e2.length_eq
          rw [List.length_cons, List.length_append] at this
          omega
        have hperm : (N1 ++ N2).Perm (i :: (M ++ (P ++ N2))) := by
          refine (e2.append_right N2).trans ?_
          rw [List.cons_append, List.append_assoc]
        have hndI := List.nodup_cons.mp (hperm.nodup_iff.mp hnd)
        have hndL := List.nodup_append.mp hndI.2
        have hiL : i ∉ P ++ N2 := fun h => hndI.1 (List.mem_append_right _ h)
        obtain ⟨hok, Q', z', dz, g1, g2, g3, g4, g5, g6, g7⟩ := ih σc (σc 2 i) y (zJt tl tp i) (i : Int) 1 d' d2 B T2 P N2 hr1 hy1 hndL.2.1 (by omega) (fun j hj h => hiL (by rw [show i = j by omega]; exact hj)) (by omega) (by omega)
        have g5' : zRq Q' (zJx (zJoin n σc (σc 2 i) y (zJt tl tp i) (i : Int) 1)) 2 i = z' := by
          rcases g5 with h | h
          · omega
          · rw [if_neg (by decide), Int.toNat_natCast] at h
            exact h
        refine ⟨hok, ?_⟩
        generalize hr0 : zJoin n σc (σc 2 i) y (zJt tl tp i) (i : Int) 1 = r at g1 g2 g3 g4 g5 g6 g7 g5' ⊢
        generalize hs3 : zRq Q' (zJx r) = σ3 at g4 g5 g7 g5' ⊢
        have hQ : zRq (i :: Q') (zJx r) = zRef σ3 (i : Int) := by rw [zRq, hs3]
        have hl0 : zJl (i : Int) 1 = i := rfl
        have hq0 : zJq (i : Int) 1 = -1 := rfl
        rw [hl0, hq0] at g7
        obtain ⟨k0, k3, k4, k6, k1, k2⟩ := g7.1 i hiL
        have q0 : σ3 0 i = zSettle σ (i : Int) 0 i := k0.trans (hsc2 i hiN).1
        have q4 : σ3 4 i = 0 := (k4.trans (hsc2 i hiN).2.2.2.2.1).trans e4
        have q1 : σ3 1 i = σc 1 i := k1 (by omega)
        have hl3 : Tr σ3 d' (σ3 1 i) A M := by
          rw [q1]
          refine Tr_frame (fun j hj => g7.same (fun h => ?_) (fun h => hiM (by rw [show i = j by omega]; exact hj)) (by omega)) hl1
          exact hndL.2.2 j hj j h rfl
        have hnode := Tr_ref (σ := σ3) (i := i) (d := max d' dz) e3.1 (by rw [q0]; exact e3.2.1) q4 (Tr_le hl3 (Nat.le_max_left _ _)) (by rw [g5']; exact Tr_le g4 (Nat.le_max_right _ _)) (hperm.nodup_iff.mp hnd)
        rw [q0] at hnode
        refine ⟨i :: Q', (i : Int), max d' dz + 1, ?_, ?_, ?_, ?_, ?_, ?_, ?_⟩
        · rw [g1, f5, List.length_cons]
          omega
        · intro j hj
          have h13' : (σc 13 0).toNat = (σ 13 0).toNat + 1 := by omega
          cases j with
          | zero =>
            rw [Nat.add_zero, g3 _ (by omega), f6, if_pos rfl]
            rfl
          | succ j =>
            have := g2 j (by rw [List.length_cons] at hj; omega)
            rw [h13'] at this
            rw [show (σ 13 0).toNat + (j + 1) = (σ 13 0).toNat + 1 + j by omega, this]
            rfl
        · intro j hj
          rw [g3 j (by omega), f6, if_neg (by omega)]
        · rw [hQ, eT, List.append_assoc, List.cons_append]
          exact Tr_perm hnode hperm.symm
        · rw [hQ]
          exact zHj_ref (zHj_fr (i := (i : Int)) f2 g7 (fun h h2 => hne _ (hperm.mem_iff.mpr (List.mem_cons_of_mem _ (List.mem_append_right _ h2))) (by omega)) (fun _ => by have := hne i (List.mem_append_left _ hiN); omega) (fun _ => by have := hne i (List.mem_append_left _ hiN); omega))
        · rw [g6]
          unfold zJt
          rw [if_neg (by omega)]
        · rw [hQ]
          exact zFr_step (σa := zSettle σ (i : Int)) (List.mem_append_left _ hiN) (fun j hj => by
            rcases List.mem_append.mp hj with h | h
            · exact List.mem_append_left _ (hPN j h)
            · exact List.mem_append_right _ h) (fun j hj => hset j (fun h => hj (List.mem_append_left _ h))) (fun k j hk => zSettle_o _ _ _ (by omega)) f1 g7 (fun j hj => zRef_ne _ hj) (fun k j hk => zRef_o _ _ (by omega) (by omega) (by omega) j) (fun j hj h => ⟨h, fun h2 => hj (List.mem_append_left _ (by rw [show j = i by omega]; exact hiN))⟩) (fun j hj h => ⟨h, by omega⟩)
theorem Tr_joinF {σ : zS} {a b : Int} {T1 T2 : List Int} {N1 N2 : List Nat} (h1 : zTree σ a T1 N1) (h2 : zTree σ b T2 N2) (hn : (N1 ++ N2).Nodup) :
    zJok (zJ0 σ a b) ∧ zTree (zJoinF σ a b).1 (zJoinF σ a b).2 (T1 ++ T2) (N1 ++ N2) ∧ zKeep σ (zJoinF σ a b).1 (N1 ++ N2) := by
  have hlen := nat_pigeon 60 (N1 ++ N2) hn (fun j hj => by
    rcases List.mem_append.mp hj with h | h
    · exact Tr_lt h1.1 j h
    · exact Tr_lt h2.1 j h)
  rw [List.length_append] at hlen
  have h13 : zs_st σ 13 0 0 13 0 = 0 := zs_eq _ _ _ _
  obtain ⟨hok, Q, z, d, g1, g2, g3, g4, g5, g6, g7⟩ := join_spec 60 (zs_st σ 13 0 0) a b (-1) (-1) 0 60 60 T1 T2 N1 N2 (Tr_frame (fun j _ => same_13 _ _ j) h1.1) (Tr_frame (fun j _ => same_13 _ _ j) h2.1) hn hlen (fun j _ => by omega) (by decide) (by omega)
  refine ⟨hok, ?_⟩
  have e1 : zJoinF σ a b = (zRefP (zJx (zJ0 σ a b)), zJz (zJ0 σ a b)) := rfl
  have e0 : zJ0 σ a b = zJoin 60 (zs_st σ 13 0 0) a b (-1) (-1) 0 := rfl
  rw [← e0] at g1 g2 g3 g4 g5 g6 g7
  have hx : ∀ k, k ≠ 1 → k ≠ 2 → ∀ m, zJx (zJ0 σ a b) k m = (zJ0 σ a b).1 k m := by
    intro k p q m
    unfold zJx zJh
    split
    · rfl
    · unfold zHang
      split
      · exact zs_ne p
      · exact zs_ne q
  have hF : zRefP (zJx (zJ0 σ a b)) = zs_st (zRq Q (zJx (zJ0 σ a b))) 13 0 0 := by
    refine zRefP_q (by rw [hx 13 (by decide) (by decide), g1, h13]; omega) (fun j hj => ?_)
    rw [hx 12 (by decide) (by decide)]
    have := g2 j hj
    rw [h13] at this
    rw [← this]
    congr 1
    simp
  rw [e1, hF, g6]
  dsimp only
  rw [show zJt (-1) (-1) z = z from rfl]
  refine ⟨Tr_60 (Tr_frame (fun j _ => same_13 _ _ j) g4) hn, fun j hj => ?_, fun k j hk => ?_⟩
  · exact ((same_13 σ 0 j).tr (g7.same hj (by unfold zJl; split <;> omega) (by unfold zJq; split <;> omega))).tr (same_13 _ _ j)
  · rw [zs_ne (by omega), g7.2 k j hk, zs_ne (by omega)]
end
section
/-! PURE: the whole object spells a text; newNode, takeApart, putTogether, mirror -/
def zSpare (σ : zS) (S : List Nat) : Prop := σ 11 0 = S.length ∧ ∀ j, j < S.length → σ 10 j = (S.getD j 0 : Nat)
def zAll (L : List Nat) : Prop := L.Nodup ∧ L.length = 60 ∧ ∀ i ∈ L, i < 60
def zRep (σ : zS) (T : List Int) : Prop := ∃ (N S : List Nat), zTree σ (σ 8 0) T N ∧ zSpare σ S ∧ zAll (N ++ S)
def zApart (σ : zS) (A B C : List Int) : Prop := ∃ (N1 N2 N3 S : List Nat), zTree σ (σ 16 0) A N1 ∧ zTree σ (σ 17 0) B N2 ∧ zTree σ (σ 18 0) C N3 ∧ zSpare σ S ∧ zAll ((N1 ++ (N2 ++ N3)) ++ S)
theorem zAll.perm {L L' : List Nat} (h : zAll L) (hp : L.Perm L') : zAll L' := ⟨hp.nodup_iff.mp h.1, by rw [← hp.length_eq]; exact h.2.1, fun i hi => h.2.2 i (hp.mem_iff.mpr hi)⟩
theorem zSpare.keep {σ σ' : zS} {S : List Nat} (h : zSpare σ S) (h1 : σ' 11 0 = σ 11 0) (h2 : ∀ j, σ' 10 j = σ 10 j) : zSpare σ' S := ⟨h1.trans h.1, fun j hj => (h2 j).trans (h.2 j hj)⟩
theorem zRep.len {σ : zS} {T : List Int} (h : zRep σ T) : zLen σ = T.length := by
  obtain ⟨N, S, h1, -⟩ := h
  exact Tr_sz h1.1
theorem zRep.le {σ : zS} {T : List Int} (h : zRep σ T) : T.length ≤ 60 := by
  obtain ⟨N, S, h1, -⟩ := h
  exact h1.le
theorem zRep.cod {σ : zS} {T : List Int} (h : zRep σ T) : bcod T := by
  obtain ⟨N, S, h1, -⟩ := h
  exact Tr_cod h1.1
theorem zKeep.spare {σ σ' : zS} {N S : List Nat} (h : zKeep σ σ' N) (hS : zSpare σ S) : zSpare σ' S := hS.keep (h.2 11 0 (by decide)) (fun j => h.2 10 j (by decide))
theorem zKeep.tree {σ σ' : zS} {N : List Nat} (h : zKeep σ σ' N) {x : Int} {T : List Int} {M : List Nat} (hT : zTree σ x T M) (hd : ∀ j ∈ M, j ∉ N) : zTree σ' x T M := hT.frame (fun j hj => h.1 j (hd j hj))
theorem zTree.perm {σ : zS} {x : Int} {T : List Int} {N N' : List Nat} (h : zTree σ x T N) (hp : N.Perm N') : zTree σ x T N' := ⟨Tr_perm h.1 hp, hp.nodup_iff.mp h.2⟩
theorem zTree.st {σ : zS} {x : Int} {T : List Int} {N : List Nat} (h : zTree σ x T N) {k j : Nat} {v : Int} (hk : 8 ≤ k ∨ k = 5) : zTree (zs_st σ k j v) x T N := h.frame (fun i _ => zSame.st ⟨by omega, by omega⟩ (Or.inr hk))
theorem nd_app3 {A B C : List Nat} (h : (A ++ (B ++ C)).Nodup) : (∀ j ∈ A, j ∉ B ∧ j ∉ C) ∧ (∀ j ∈ B, j ∉ C) ∧ A.Nodup ∧ B.Nodup ∧ C.Nodup := by
  have h1 := List.nodup_append.mp h
  have h2 := List.nodup_append.mp h1.2.1
  exact ⟨fun j hj => ⟨fun e => h1.2.2 j hj j (List.mem_append_left _ e) rfl, fun e => h1.2.2 j hj j (List.mem_append_right _ e) rfl⟩, fun j hj e => h2.2.2 j hj j e rfl, h1.1, h2.1, h2.2.1⟩
/-- takeApart -/
theorem rep_take {σ : zS} {T : List Int} (h : zRep σ T) {f n : Int} (hf : 0 ≤ f) (hn : 0 ≤ n) (hfn : f + n ≤ T.length) : zApart (zTake σ f n) (T.take f.toNat) ((T.drop f.toNat).take n.toNat) ((T.drop f.toNat).drop n.toNat) := by
  obtain ⟨N, S, h1, h2, h3⟩ := h
  obtain ⟨M, P, a1, a2, a3, a4⟩ := Tr_cutF h1 hf (by omega)
  have hS1 := a4.spare h2
  have hall : zAll ((M ++ P) ++ S) := h3.perm (a3.append_right S)
  unfold zTake
  generalize zCutF σ (σ 8 0) f = σ1 at a1 a2 a4 hS1 ⊢
  have hl : (n : Int) ≤ (T.drop f.toNat).length := by rw [List.length_drop]; omega
  have b0 : zTree (zTA1 σ1) (σ1 15 0) (T.drop f.toNat) P := a2.st (Or.inl (by decide))
  have b1 : zTree (zTA1 σ1) (σ1 14 0) (T.take f.toNat) M := a1.st (Or.inl (by decide))
  have hS2 : zSpare (zTA1 σ1) S := hS1.keep (zs_ne (by decide)) (fun j => zs_ne (by decide))
  have b16 : zTA1 σ1 16 0 = σ1 14 0 := zs_eq _ _ _ _
  obtain ⟨M2, P2, c1, c2, c3, c4⟩ := Tr_cutF b0 hn hl
  have hMP : ∀ j ∈ M, j ∉ P := fun j hj e => (List.nodup_append.mp (List.nodup_append.mp hall.1).1).2.2 j hj j e rfl
  have d1 := c4.tree b1 hMP
  have hS3 := c4.spare hS2
  have d16 : zCutF (zTA1 σ1) (σ1 15 0) n 16 0 = σ1 14 0 := (c4.2 16 0 (by decide)).trans b16
  generalize zCutF (zTA1 σ1) (σ1 15 0) n = σ2 at c1 c2 c4 d1 hS3 d16 ⊢
  have o : ∀ k, k ≠ 17 → k ≠ 18 → ∀ j, zTA2 σ2 k j = σ2 k j := by
    intro k p q j
    rw [zTA2, zs_ne q, zs_ne p]
  have t : ∀ {x : Int} {T : List Int} {N : List Nat}, zTree σ2 x T N → zTree (zTA2 σ2) x T N := fun h => (h.st (Or.inl (by decide))).st (Or.inl (by decide))
  refine ⟨M, M2, P2, S, ?_, ?_, ?_, hS3.keep (o 11 (by decide) (by decide) 0) (fun j => o 10 (by decide) (by decide) j), hall.perm ((c3.append_left M).append_right S)⟩
  · rw [o 16 (by decide) (by decide), d16]
    exact t d1
  · rw [zTA2, zs_ne (by decide), zs_eq]
    exact t c1
  · rw [zTA2, zs_eq]
    exact t c2
/-- putTogether -/
theorem apart_put {σ : zS} {A B C : List Int} (h : zApart σ A B C) : zPutOk σ ∧ zRep (zPut σ) (A ++ (B ++ C)) := by
  obtain ⟨N1, N2, N3, S, h1, h2, h3, h4, h5⟩ := h
  have hnd := (List.nodup_append.mp h5.1).1
  obtain ⟨q1, q2, -⟩ := nd_app3 hnd
  have hnd12 : (N1 ++ N2).Nodup := by
    rw [← List.append_assoc] at hnd
    exact (List.nodup_append.mp hnd).1
  obtain ⟨a0, a1, a2⟩ := Tr_joinF h1 h2 hnd12
  have b3 := a2.tree h3 (fun j hj e => by
    rcases List.mem_append.mp e with e | e
    · exact (q1 j e).2 hj
    · exact q2 j e hj)
  have b18 := a2.2 18 0 (by decide)
  have bS := a2.spare h4
  rw [← b18] at b3
  obtain ⟨c0, c1, c2⟩ := Tr_joinF a1 b3 (by rw [List.append_assoc]; exact hnd)
  refine ⟨⟨a0, c0⟩, (N1 ++ N2) ++ N3, S, ?_, ?_, ?_⟩
  · rw [zPut, zs_eq, ← List.append_assoc]
    exact c1.st (Or.inl (by decide))
  · have := c2.spare bS
    exact this.keep (zs_ne (by decide)) (fun j => zs_ne (by decide))
  · rw [List.append_assoc N1 N2 N3]
    exact h5
/-- turn of the middle -/
theorem apart_turn {σ : zS} {A B C : List Int} (h : zApart σ A B C) (hm : ¬ σ 17 0 < 0) : zApart (zTurn σ (σ 17 0)) A (bmir B) C := by
  obtain ⟨N1, N2, N3, S, h1, h2, h3, h4, h5⟩ := h
  obtain ⟨q1, q2, -⟩ := nd_app3 (List.nodup_append.mp h5.1).1
  have e : zTurn σ (σ 17 0) = zTuO σ (σ 17 0) := by rw [zTuO, if_neg hm]
  have o : ∀ k j, 8 ≤ k → zTurn σ (σ 17 0) k j = σ k j := fun k j hk => zTurn_o _ _ _ (by omega)
  refine ⟨N1, N2, N3, S, ?_, ?_, ?_, h4.keep (o 11 0 (by decide)) (fun j => o 10 j (by decide)), h5⟩
  · rw [o 16 0 (by decide), e]
    exact h1.frame (fun j hj => zTuO_ne h2.1 (q1 j hj).1)
  · rw [o 17 0 (by decide), e]
    exact ⟨Tr_tuO h2.1 h2.2, h2.2⟩
  · rw [o 18 0 (by decide), e]
    exact h3.frame (fun j hj => zTuO_ne h2.1 (fun h => q2 j h hj))
theorem apart_mid {σ : zS} {A B C : List Int} (h : zApart σ A B C) : (σ 17 0 < 0 → B = []) ∧ (-1 ≤ σ 17 0 ∧ σ 17 0 ≤ 59) := by
  obtain ⟨N1, N2, N3, S, h1, h2, h3, h4, h5⟩ := h
  exact ⟨fun hx => (Tr_neg h2.1 hx).2.1, Tr_r h2.1⟩
/-- newNode -/
theorem rep_new {σ : zS} {T : List Int} (h : zRep σ T) (hl : T.length < 60) {c : Int} (hc : 0 ≤ c ∧ c ≤ 6) (sd rk : Int) :
    1 ≤ σ 11 0 ∧ ∃ (i : Nat) (N S : List Nat), σ 10 (σ 11 0 - 1).toNat = (i : Int) ∧ zTree (zNew σ c sd rk) (σ 8 0) T N ∧ zTree (zNew σ c sd rk) (i : Int) [c] [i] ∧ zSpare (zNew σ c sd rk) S ∧ zAll ((N ++ [i]) ++ S) ∧ zNew σ c sd rk 8 0 = σ 8 0 := by
  obtain ⟨N, S, h1, h2, h3⟩ := h
  have hlen := h3.2.1
  rw [List.length_append, ← h1.len] at hlen
  have hS0 : S ≠ [] := by
    intro e
    rw [e, List.length_nil] at hlen
    omega
  have h11 := h2.1
  have hS1 : 0 < S.length := List.length_pos_iff.mpr hS0
  have hidx : (σ 11 0 - 1).toNat = S.length - 1 := by omega
  have hx : σ 10 (σ 11 0 - 1).toNat = (S.getLast hS0 : Nat) := by
    rw [hidx, h2.2 _ (by omega), List.getLast_eq_getElem, List.getD_eq_getElem?_getD, List.getElem?_eq_getElem (by omega)]
    rfl
  have hd := List.dropLast_concat_getLast hS0
  generalize hi : S.getLast hS0 = i at hx hd
  have hall : zAll ((N ++ [i]) ++ S.dropLast) := by
    refine h3.perm ?_
    rw [List.append_assoc]
    refine List.Perm.append_left N ?_
    rw [← hd]
    simp only [List.dropLast_concat]
    exact List.perm_append_comm
  have hiN : i ∉ N := fun e => (List.nodup_append.mp (List.nodup_append.mp hall.1).1).2.2 i e i List.mem_cons_self rfl
  have hi60 : i < 60 := hall.2.2 i (List.mem_append_left _ (List.mem_append_right _ List.mem_cons_self))
  refine ⟨by omega, i, N, S.dropLast, hx, ?_⟩
  unfold zNew
  rw [hx, Int.toNat_natCast]
  have s0 : ∀ (τ : zS) (k : Nat) (v : Int), k = 5 ∨ 8 ≤ k → ∀ j, zSame τ (zs_st τ k 0 v) j := fun τ k v hk j => zSame.st ⟨by omega, by omega⟩ (Or.inr (by omega))
  have s1 : ∀ (τ : zS) (k : Nat) (v : Int), k < 6 → ∀ j, j ≠ i → zSame τ (zs_st τ k i v) j := fun τ k v hk j hj => zSame.st ⟨by omega, by omega⟩ (Or.inl (Ne.symm hj))
  generalize hτ : zs_st (zs_st (zs_st (zs_st (zs_st (zs_st (zs_st σ 11 0 (σ 11 0 - 1)) 9 0 sd) 5 i rk) 0 i c) 1 i (-1)) 2 i (-1)) 4 i 0 = τ
  have hs : ∀ j, j ≠ i → zSame σ τ j := by
    intro j hj
    rw [← hτ]
    exact ((((((s0 σ 11 _ (by decide) j).tr (s0 _ 9 _ (by decide) j)).tr (s1 _ 5 _ (by decide) j hj)).tr (s1 _ 0 _ (by decide) j hj)).tr (s1 _ 1 _ (by decide) j hj)).tr (s1 _ 2 _ (by decide) j hj)).tr (s1 _ 4 _ (by decide) j hj)
  have k0 : τ 0 i = c := by rw [← hτ, zs_ne (by decide), zs_ne (by decide), zs_ne (by decide), zs_eq]
  have k1 : τ 1 i = -1 := by rw [← hτ, zs_ne (by decide), zs_ne (by decide), zs_eq]
  have k2 : τ 2 i = -1 := by rw [← hτ, zs_ne (by decide), zs_eq]
  have k4 : τ 4 i = 0 := by rw [← hτ, zs_eq]
  have k8 : τ 8 0 = σ 8 0 := by rw [← hτ, zs_ne (by decide), zs_ne (by decide), zs_ne (by decide), zs_ne (by decide), zs_ne (by decide), zs_ne (by decide), zs_ne (by decide)]
  have k11 : τ 11 0 = σ 11 0 - 1 := by rw [← hτ, zs_ne (by decide), zs_ne (by decide), zs_ne (by decide), zs_ne (by decide), zs_ne (by decide), zs_ne (by decide), zs_eq]
  have k10 : ∀ j, τ 10 j = σ 10 j := by
    intro j
    rw [← hτ, zs_ne (by decide), zs_ne (by decide), zs_ne (by decide), zs_ne (by decide), zs_ne (by decide), zs_ne (by decide), zs_ne (by decide)]
  have hnode := Tr_ref (σ := τ) (i := i) (d := 0) (A := []) (B := []) (M := []) (P := []) hi60 (by rw [k0]; exact hc) k4 (by rw [k1]; exact Tr_nil _ _) (by rw [k2]; exact Tr_nil _ _) (by simp)
  rw [k0] at hnode
  have o : ∀ k j, 8 ≤ k → zRef τ (i : Int) k j = τ k j := fun k j hk => zRef_o _ _ (by omega) (by omega) (by omega) j
  refine ⟨h1.frame (fun j hj => (hs j (fun e => hiN (by rw [← e]; exact hj))).tr (zRef_ne τ (fun e => hiN (by rw [← e]; exact hj)))), Tr_60 hnode (by simp), ⟨?_, fun j hj => ?_⟩, hall, by rw [o 8 0 (by decide), k8]⟩
  · rw [o 11 0 (by decide), k11, List.length_dropLast]
    omega
  · rw [List.length_dropLast] at hj
    rw [o 10 j (by decide), k10 j, h2.2 j (by omega), List.getD_eq_getElem?_getD, List.getD_eq_getElem?_getD, List.getElem?_dropLast, if_pos (by omega)]
/-- insert -/
theorem rep_insert {σ : zS} {T : List Int} (h : zRep σ T) (hl : T.length < 60) {c at_ : Int} (hc : 0 ≤ c ∧ c ≤ 6) (ha : 0 ≤ at_ ∧ at_ ≤ T.length) (sd rk : Int) {σ1 σ2 : zS} {x : Int} (e1 : σ1 = zNew σ c sd rk) (ex : x = σ 10 (σ 11 0 - 1).toNat) (e2 : σ2 = zCutF σ1 (σ1 8 0) at_) :
    zJok (zJ0 σ2 (σ2 14 0) x) ∧ zJok (zJ0 (zJoinF σ2 (σ2 14 0) x).1 (zJoinF σ2 (σ2 14 0) x).2 (σ2 15 0)) ∧ zRep (zs_st (zJoinF (zJoinF σ2 (σ2 14 0) x).1 (zJoinF σ2 (σ2 14 0) x).2 (σ2 15 0)).1 8 0 (zJoinF (zJoinF σ2 (σ2 14 0) x).1 (zJoinF σ2 (σ2 14 0) x).2 (σ2 15 0)).2) (T.take at_.toNat ++ c :: T.drop at_.toNat) := by
  obtain ⟨-, i, N, S, a1, a2, a3, a4, a5, a6⟩ := rep_new h hl hc sd rk
  rw [← e1] at a2 a3 a4 a6
  rw [← ex] at a1
  subst a1
  have hndN := List.nodup_append.mp (List.nodup_append.mp a5.1).1
  have hiN : i ∉ N := fun e => hndN.2.2 i e i List.mem_cons_self rfl
  obtain ⟨M, P, b1, b2, b3, b4⟩ := Tr_cutF (q := at_) a2 ha.1 ha.2
  rw [← a6, ← e2] at b1 b2 b4
  have c3 := b4.tree a3 (fun j hj e => hiN (by rw [← List.mem_singleton.mp hj]; exact e))
  have hS1 := b4.spare a4
  have hnd : ((M ++ P) ++ [i]).Nodup := ((b3.append_right [i]).nodup_iff).mp (List.nodup_append.mp a5.1).1
  have hp1 : ((M ++ P) ++ [i]).Perm ((M ++ [i]) ++ P) := by
    rw [List.append_assoc, List.append_assoc]
    exact (List.perm_append_comm).append_left M
  have hnd2 := hp1.nodup_iff.mp hnd
  obtain ⟨d0, d1, d2⟩ := Tr_joinF b1 c3 (List.nodup_append.mp hnd2).1
  have f3 := d2.tree b2 (fun j hj e => (List.nodup_append.mp hnd2).2.2 j e j hj rfl)
  have hS2 := d2.spare hS1
  obtain ⟨g0, g1, g2⟩ := Tr_joinF d1 f3 hnd2
  have hS3 := g2.spare hS2
  refine ⟨d0, g0, (M ++ [i]) ++ P, S, ?_, hS3.keep (zs_ne (by decide)) (fun j => zs_ne (by decide)), a5.perm (((b3.append_right [i]).trans hp1).append_right S)⟩
  rw [zs_eq]
  have := g1.st (k := 8) (j := 0) (v := (zJoinF (zJoinF σ2 (σ2 14 0) i).1 (zJoinF σ2 (σ2 14 0) i).2 (σ2 15 0)).2) (Or.inl (by decide))
  rw [List.append_assoc] at this
  exact this
end
section
/-! PURE: nodeAt, firstLooseClose, lastLooseOpen; release; erase, move -/
/-- a node again, its children as they came back -/
theorem Tr_mk {σ σ' : zS} {d i : Nat} {A B T : List Int} {M P N : List Nat} (hs : zSame σ σ' i) (h4 : σ 4 i = 0) (hN : N.Perm (i :: (M ++ P))) (hd : zNd σ i) (hl : Tr σ' d (σ 1 i) A M) (hr : Tr σ' d (σ 2 i) B P) (hT : T = A ++ σ 0 i :: B) (ho : zOk σ i T) : Tr σ' (d + 1) (i : Int) T N := by
  refine Or.inr ⟨i, A, B, M, P, rfl, hN, zNd_same hs hd, by rw [hs.2.1]; exact hl, by rw [hs.2.2.1]; exact hr, ?_, zOk_same hs ho⟩
  rw [hs.1, hs.2.2.2.2.1, h4]
  exact hT
/-- what a search leaves: the same tree, all else as it was -/
def zSrch (σ σ' : zS) (x : Int) (d : Nat) (T : List Int) (N : List Nat) : Prop := Tr σ' d x T N ∧ (∀ j, j ∉ N → zSame σ σ' j) ∧ ∀ k j : Nat, (k = 3 ∨ k = 5 ∨ 8 ≤ k) → σ' k j = σ k j
theorem srch_up {σ σa σ' : zS} {d i : Nat} {A B T : List Int} {M P N : List Nat} {y : Int} (hset : ∀ j, j ∉ N → zSame σ σa j) (hsetO : ∀ k j : Nat, (k = 3 ∨ k = 5 ∨ 8 ≤ k) → σa k j = σ k j) (hn : N.Nodup) (h4 : σa 4 i = 0) (hN : N.Perm (i :: (M ++ P))) (hd : zNd σa i) (hl : Tr σa d (σa 1 i) A M) (hr : Tr σa d (σa 2 i) B P) (hT : T = A ++ σa 0 i :: B) (ho : zOk σa i T) (h : (y = σa 1 i ∧ zSrch σa σ' y d A M) ∨ (y = σa 2 i ∧ zSrch σa σ' y d B P)) : zSrch σ σ' (i : Int) (d + 1) T N := by
  have hn2 := List.nodup_cons.mp (hN.nodup_iff.mp hn)
  have hn3 := List.nodup_append.mp hn2.2
  have hiM : i ∉ M := fun h => hn2.1 (List.mem_append_left _ h)
  have hiP : i ∉ P := fun h => hn2.1 (List.mem_append_right _ h)
  have hMP : ∀ j ∈ M, j ∉ P := fun j hj hj2 => hn3.2.2 j hj j hj2 rfl
  have hMN : ∀ j ∈ M, j ∈ N := fun j hj => hN.mem_iff.mpr (List.mem_cons_of_mem _ (List.mem_append_left _ hj))
  have hPN : ∀ j ∈ P, j ∈ N := fun j hj => hN.mem_iff.mpr (List.mem_cons_of_mem _ (List.mem_append_right _ hj))
  rcases h with ⟨e, g1, g2, g3⟩ | ⟨e, g1, g2, g3⟩
  · subst e
    exact ⟨Tr_mk (g2 i hiM) h4 hN hd g1 (Tr_frame (fun j hj => g2 j (fun h => hMP j h hj)) hr) hT ho, fun j hj => (hset j hj).tr (g2 j (fun h => hj (hMN j h))), fun k j hk => (g3 k j hk).trans (hsetO k j hk)⟩
  · subst e
    exact ⟨Tr_mk (g2 i hiP) h4 hN hd (Tr_frame (fun j hj => g2 j (hMP j hj)) hl) g1 hT ho, fun j hj => (hset j hj).tr (g2 j (fun h => hj (hPN j h))), fun k j hk => (g3 k j hk).trans (hsetO k j hk)⟩
theorem srch_here {σ σa : zS} {d i : Nat} {A B T : List Int} {M P N : List Nat} (hset : ∀ j, j ∉ N → zSame σ σa j) (hsetO : ∀ k j : Nat, (k = 3 ∨ k = 5 ∨ 8 ≤ k) → σa k j = σ k j) (h4 : σa 4 i = 0) (hN : N.Perm (i :: (M ++ P))) (hd : zNd σa i) (hl : Tr σa d (σa 1 i) A M) (hr : Tr σa d (σa 2 i) B P) (hT : T = A ++ σa 0 i :: B) (ho : zOk σa i T) : zSrch σ σa (i : Int) (d + 1) T N := ⟨Tr_mk zSame.rf h4 hN hd hl hr hT ho, hset, hsetO⟩
theorem srch_nil (σ : zS) (x : Int) {d : Nat} {T : List Int} {N : List Nat} (h : Tr σ d x T N) : zSrch σ σ x d T N := ⟨h, fun _ _ => zSame.rf, fun _ _ _ => rfl⟩
theorem getD_mid (A : List Int) (c : Int) (B : List Int) : (A ++ c :: B).getD A.length 0 = c := by
  rw [List.getD_eq_getElem?_getD, List.getElem?_append_right (Nat.le_refl _), Nat.sub_self]
  rfl
/-- nodeAt -/
theorem Tr_nodeAt : ∀ (n d : Nat) (σ : zS) (x k : Int) (T : List Int) (N : List Nat), Tr σ d x T N → N.Nodup → d ≤ n → 0 ≤ k → k < T.length →
    ∃ (σ' : zS) (y : Nat), zNa n σ x k = some (σ', (y : Int)) ∧ y < 60 ∧ σ' 0 y = T.getD k.toNat 0 ∧ zSrch σ σ' x d T N := by
  intro n
  induction n with
  | zero =>
    intro d σ x k T N h hn hd hk hk2
    have hd0 : d = 0 := by omega
    subst hd0
    rw [h.2.1, List.length_nil] at hk2
    omega
  | succ n ih =>
    intro d σ x k T N h hn hd hk hk2
    have hx : ¬ x < 0 := by
      intro hx
      rw [(Tr_neg h hx).2.1, List.length_nil] at hk2
      omega
    obtain ⟨-, i, -, -, -, -, -, hxi, -⟩ := Tr_node h hx
    subst hxi
    obtain ⟨⟨d', A, B, M, P, e0, e2, e3, e4, el, er, eT, eo⟩, hset⟩ := Tr_settle h hn
    have hsetO : ∀ k j : Nat, (k = 3 ∨ k = 5 ∨ 8 ≤ k) → zSettle σ (i : Int) k j = σ k j := fun k j hk => zSettle_o _ _ _ hk
    have hw : zNw σ (i : Int) = A.length := by
      unfold zNw
      rw [Int.toNat_natCast]
      exact Tr_sz el
    rw [zNa, if_neg hx, hw, Int.toNat_natCast]
    have hn2 := List.nodup_cons.mp (e2.nodup_iff.mp hn)
    have hn3 := List.nodup_append.mp hn2.2
    subst e0
    by_cases c1 : k = A.length
    · rw [if_pos c1]
      refine ⟨zSettle σ (i : Int), i, rfl, e3.1, ?_, srch_here hset hsetO e4 e2 e3 el er eT eo⟩
      rw [eT, c1, Int.toNat_natCast, getD_mid]
    · rw [if_neg c1]
      by_cases c2 : k < A.length
      · rw [if_pos c2]
        obtain ⟨σ', y, a1, a2, a3, a4⟩ := ih d' (zSettle σ (i : Int)) (zSettle σ (i : Int) 1 i) k A M el hn3.1 (by omega) hk c2
        refine ⟨σ', y, a1, a2, ?_, srch_up hset hsetO hn e4 e2 e3 el er eT eo (Or.inl ⟨rfl, a4⟩)⟩
        rw [a3, eT, List.getD_eq_getElem?_getD, List.getD_eq_getElem?_getD, List.getElem?_append_left (by omega)]
      · rw [if_neg c2]
        have hlT : T.length = A.length + (B.length + 1) := by rw [eT, List.length_append, List.length_cons]
        obtain ⟨σ', y, a1, a2, a3, a4⟩ := ih d' (zSettle σ (i : Int)) (zSettle σ (i : Int) 2 i) (k - ((A.length : Int) + 1)) B P er hn3.2.1 (by omega) (by omega) (by omega)
        refine ⟨σ', y, a1, a2, ?_, srch_up hset hsetO hn e4 e2 e3 el er eT eo (Or.inr ⟨rfl, a4⟩)⟩
        have e : k.toNat = A.length + ((k - ((A.length : Int) + 1)).toNat + 1) := by omega
        rw [a3, eT, List.getD_eq_getElem?_getD, List.getD_eq_getElem?_getD, e, List.getElem?_append_right (by omega), Nat.add_sub_cancel_left, List.getElem?_cons_succ]
/-- the first loose closing bracket, counted from f, when o are waiting -/
def bfd (k c o : Int) : Int := if c = k + 4 then o - 1 else if c = k + 1 then o + 1 else o
def bfl (k : Int) : Int → Int → List Int → Int
  | _, _, [] => -1
  | o, f, c :: t => if c = k + 4 ∧ o = 0 then f else bfl k (bfd k c o) (f + 1) t
theorem boc_cons (k c : Int) (t : List Int) : boc k (c :: t) = bcomb (bst k (0, 0) c) (boc k t) := boc_app k [c] t
theorem b_cons (k c : Int) (t : List Int) : (c = k + 4 ∧ bo k (c :: t) = bo k t ∧ bc k (c :: t) = 1 + bc k t) ∨ (c = k + 1 ∧ ((bc k t = 0 ∧ bo k (c :: t) = bo k t + 1 ∧ bc k (c :: t) = 0) ∨ (0 < bc k t ∧ bo k (c :: t) = bo k t ∧ bc k (c :: t) = bc k t - 1))) ∨ (c ≠ k + 4 ∧ c ≠ k + 1 ∧ bo k (c :: t) = bo k t ∧ bc k (c :: t) = bc k t) := by
  have hc := bc_pos k t
  have hbo : bo k (c :: t) = (bcomb (bst k (0, 0) c) (boc k t)).1 := congrArg Prod.fst (boc_cons k c t)
  have hbc : bc k (c :: t) = (bcomb (bst k (0, 0) c) (boc k t)).2 := congrArg Prod.snd (boc_cons k c t)
  by_cases c4 : c = k + 4
  · have e1 : bst k (0, 0) c = (0, 1) := by unfold bst; rw [if_neg (by omega), if_pos c4, if_neg (by decide)]; rfl
    rw [e1] at hbo hbc
    have m := zMet_c 0 (bc k t)
    have hbo' : bo k (c :: t) = 0 - zMet 0 (bc k t) + bo k t := hbo
    have hbc' : bc k (c :: t) = 1 + bc k t - zMet 0 (bc k t) := hbc
    exact Or.inl ⟨c4, by omega, by omega⟩
  · by_cases c1 : c = k + 1
    · have e1 : bst k (0, 0) c = (1, 0) := by unfold bst; rw [if_pos c1]; rfl
      rw [e1] at hbo hbc
      have m := zMet_c 1 (bc k t)
      have hbo' : bo k (c :: t) = 1 - zMet 1 (bc k t) + bo k t := hbo
      have hbc' : bc k (c :: t) = 0 + bc k t - zMet 1 (bc k t) := hbc
      refine Or.inr (Or.inl ⟨c1, ?_⟩)
      by_cases h0 : bc k t = 0
      · exact Or.inl ⟨h0, by omega, by omega⟩
      · exact Or.inr ⟨by omega, by omega, by omega⟩
    · have e1 : bst k (0, 0) c = (0, 0) := by unfold bst; rw [if_neg c1, if_neg c4]
      rw [e1] at hbo hbc
      have m := zMet_c 0 (bc k t)
      have hbo' : bo k (c :: t) = 0 - zMet 0 (bc k t) + bo k t := hbo
      have hbc' : bc k (c :: t) = 0 + bc k t - zMet 0 (bc k t) := hbc
      exact Or.inr (Or.inr ⟨c4, c1, by omega, by omega⟩)
theorem bfl_c (k c o f : Int) (t : List Int) (h : ¬ (c = k + 4 ∧ o = 0)) : bfl k o f (c :: t) = bfl k (bfd k c o) (f + 1) t := by
  rw [bfl, if_neg h]
theorem bfd_c (k c o : Int) : (c = k + 4 ∧ bfd k c o = o - 1) ∨ (c = k + 1 ∧ bfd k c o = o + 1) ∨ (c ≠ k + 4 ∧ c ≠ k + 1 ∧ bfd k c o = o) := by
  unfold bfd
  by_cases c4 : c = k + 4
  · rw [if_pos c4]
    exact Or.inl ⟨c4, rfl⟩
  · rw [if_neg c4]
    by_cases c1 : c = k + 1
    · rw [if_pos c1]
      exact Or.inr (Or.inl ⟨c1, rfl⟩)
    · rw [if_neg c1]
      exact Or.inr (Or.inr ⟨c4, c1, rfl⟩)
theorem bfl_app (k : Int) (R : List Int) : ∀ (A : List Int) (o f : Int), 0 ≤ o → bfl k o f (A ++ R) = if o < bc k A then bfl k o f A else bfl k (o + (bo k A - bc k A)) (f + A.length) R
  | [], o, f, ho => by
    rw [bc_nil, bo_nil, if_neg (by omega)]
    simp
  | c :: t, o, f, ho => by
    have hc := bc_pos k t
    have hb := b_cons k c t
    have hlen : ((c :: t).length : Int) = t.length + 1 := by rw [List.length_cons]; omega
    by_cases h : c = k + 4 ∧ o = 0
    · have e1 : bfl k o f (c :: t ++ R) = f := by rw [List.cons_append, bfl, if_pos h]
      have e2 : bfl k o f (c :: t) = f := by rw [bfl, if_pos h]
      rw [e1, e2, if_pos (by omega)]
    · have hd := bfd_c k c o
      rw [List.cons_append, bfl_c k c o f (t ++ R) h, bfl_c k c o f t h, hlen, bfl_app k R t (bfd k c o) (f + 1) (by omega)]
      by_cases h1 : bfd k c o < bc k t
      · rw [if_pos h1, if_pos (by omega)]
      · rw [if_neg h1, if_neg (by omega)]
        congr 1 <;> omega
theorem Tr_fl (k : Int) (hk : 0 ≤ k ∧ k ≤ 2) : ∀ (n d : Nat) (σ : zS) (x o f : Int) (T : List Int) (N : List Nat), Tr σ d x T N → N.Nodup → d ≤ n → 0 ≤ o →
    (zFl n σ x k o f).2 = bfl k o f T ∧ zSrch σ (zFl n σ x k o f).1 x d T N := by
  intro n
  induction n with
  | zero =>
    intro d σ x o f T N h hn hd ho
    have hd0 : d = 0 := by omega
    subst hd0
    refine ⟨?_, srch_nil σ x h⟩
    rw [h.2.1]
    rfl
  | succ n ih =>
    intro d σ x o f T N h hn hd ho
    rw [zFl]
    by_cases hx : x < 0
    · rw [if_pos hx]
      refine ⟨?_, srch_nil σ x h⟩
      rw [(Tr_neg h hx).2.1]
      rfl
    · rw [if_neg hx]
      obtain ⟨-, i, -, -, -, -, -, hxi, -⟩ := Tr_node h hx
      subst hxi
      obtain ⟨⟨d', A, B, M, P, e0, e2, e3, e4, el, er, eT, eo⟩, hset⟩ := Tr_settle h hn
      have hsetO : ∀ k j : Nat, (k = 3 ∨ k = 5 ∨ 8 ≤ k) → zSettle σ (i : Int) k j = σ k j := fun k j hk => zSettle_o _ _ _ hk
      have hn2 := List.nodup_cons.mp (e2.nodup_iff.mp hn)
      have hn3 := List.nodup_append.mp hn2.2
      subst e0
      have hT := bfl_app k (zSettle σ (i : Int) 0 i :: B) A o f ho
      rw [← eT] at hT
      rw [Int.toNat_natCast, Tr_cl el hk, hT]
      by_cases c1 : o < bc k A
      · rw [if_pos c1, if_pos c1]
        obtain ⟨a1, a2⟩ := ih d' (zSettle σ (i : Int)) (zSettle σ (i : Int) 1 i) o f A M el hn3.1 (by omega) ho
        exact ⟨a1, srch_up hset hsetO hn e4 e2 e3 el er eT eo (Or.inl ⟨rfl, a2⟩)⟩
      · rw [if_neg c1, if_neg c1, zFo, Tr_op el hk, Tr_cl el hk, Tr_sz el, bfl]
        have hb := bo_pos k A
        by_cases c2 : zSettle σ (i : Int) 0 i = k + 4 ∧ o + (bo k A - bc k A) = 0
        · rw [if_pos c2, if_pos c2]
          exact ⟨rfl, srch_here hset hsetO e4 e2 e3 el er eT eo⟩
        · rw [if_neg c2, if_neg c2]
          have hd : zFd (zSettle σ (i : Int)) (i : Int) k (o + (bo k A - bc k A)) = bfd k (zSettle σ (i : Int) 0 i) (o + (bo k A - bc k A)) := by unfold zFd bfd; rw [Int.toNat_natCast]
          rw [hd]
          obtain ⟨a1, a2⟩ := ih d' (zSettle σ (i : Int)) (zSettle σ (i : Int) 2 i) (bfd k (zSettle σ (i : Int) 0 i) (o + (bo k A - bc k A))) (f + A.length + 1) B P er hn3.2.1 (by omega) (by unfold bfd; split <;> (try split) <;> omega)
          exact ⟨a1, srch_up hset hsetO hn e4 e2 e3 el er eT eo (Or.inr ⟨rfl, a2⟩)⟩
/-- the last loose opening bracket of a text (read from its end), when o closing ones follow; f: where the text ends -/
def bld (k c o : Int) : Int := if c = k + 1 then o - 1 else if c = k + 4 then o + 1 else o
def bll (k : Int) : Int → Int → List Int → Int
  | _, _, [] => -1
  | o, f, c :: t => if c = k + 1 ∧ o = 0 then f - 1 else bll k (bld k c o) (f - 1) t
theorem bll_c (k c o f : Int) (t : List Int) (h : ¬ (c = k + 1 ∧ o = 0)) : bll k o f (c :: t) = bll k (bld k c o) (f - 1) t := by
  rw [bll, if_neg h]
theorem bld_c (k c o : Int) : (c = k + 1 ∧ bld k c o = o - 1) ∨ (c = k + 4 ∧ bld k c o = o + 1) ∨ (c ≠ k + 4 ∧ c ≠ k + 1 ∧ bld k c o = o) := by
  unfold bld
  by_cases c1 : c = k + 1
  · rw [if_pos c1]
    exact Or.inl ⟨c1, rfl⟩
  · rw [if_neg c1]
    by_cases c4 : c = k + 4
    · rw [if_pos c4]
      exact Or.inr (Or.inl ⟨c4, rfl⟩)
    · rw [if_neg c4]
      exact Or.inr (Or.inr ⟨c4, c1, rfl⟩)
theorem b_snoc (k c : Int) (A : List Int) : (c = k + 1 ∧ bo k (A ++ [c]) = bo k A + 1 ∧ bc k (A ++ [c]) = bc k A) ∨ (c = k + 4 ∧ ((bo k A = 0 ∧ bo k (A ++ [c]) = 0 ∧ bc k (A ++ [c]) = bc k A + 1) ∨ (0 < bo k A ∧ bo k (A ++ [c]) = bo k A - 1 ∧ bc k (A ++ [c]) = bc k A))) ∨ (c ≠ k + 4 ∧ c ≠ k + 1 ∧ bo k (A ++ [c]) = bo k A ∧ bc k (A ++ [c]) = bc k A) := by
  have hp := bo_pos k A
  rw [bo_snoc, bc_snoc _ _ _ (Or.inr trivial)]
  by_cases c1 : c = k + 1
  · rw [if_pos c1, if_neg (show ¬ c = k + 4 by omega)]
    exact Or.inl ⟨c1, rfl, rfl⟩
  · rw [if_neg c1]
    by_cases c4 : c = k + 4
    · rw [if_pos c4, if_pos c4]
      by_cases h : 0 < bo k A
      · rw [if_pos h, if_pos h]
        exact Or.inr (Or.inl ⟨c4, Or.inr ⟨h, rfl, rfl⟩⟩)
      · rw [if_neg h, if_neg h]
        exact Or.inr (Or.inl ⟨c4, Or.inl ⟨by omega, by omega, rfl⟩⟩)
    · rw [if_neg c4, if_neg c4]
      exact Or.inr (Or.inr ⟨c4, c1, rfl, rfl⟩)
theorem bll_app (k : Int) (R : List Int) (B : List Int) : ∀ (o f : Int), 0 ≤ o → bll k o f (B.reverse ++ R) = if o < bo k B then bll k o f B.reverse else bll k (o + (bc k B - bo k B)) (f - B.length) R := by
  refine list_snoc (P := fun B => ∀ (o f : Int), 0 ≤ o → bll k o f (B.reverse ++ R) = if o < bo k B then bll k o f B.reverse else bll k (o + (bc k B - bo k B)) (f - B.length) R) ?_ (fun B c ih => ?_) B
  · intro o f ho
    rw [bo_nil, bc_nil, if_neg (by omega)]
    simp
  · intro o f ho
    have hp := bo_pos k B
    have hb := b_snoc k c B
    have hlen : ((B ++ [c]).length : Int) = B.length + 1 := by rw [List.length_append]; simp
    have hrev : (B ++ [c]).reverse = c :: B.reverse := by rw [List.reverse_append]; rfl
    rw [hrev, List.cons_append]
    by_cases h : c = k + 1 ∧ o = 0
    · have e1 : bll k o f (c :: (B.reverse ++ R)) = f - 1 := by rw [bll, if_pos h]
      have e2 : bll k o f (c :: B.reverse) = f - 1 := by rw [bll, if_pos h]
      rw [e1, e2, if_pos (by omega)]
    · have hd := bld_c k c o
      rw [bll_c k c o f _ h, bll_c k c o f _ h, hlen, ih (bld k c o) (f - 1) (by omega)]
      by_cases h1 : bld k c o < bo k B
      · rw [if_pos h1, if_pos (by omega)]
      · rw [if_neg h1, if_neg (by omega)]
        congr 1 <;> omega
theorem Tr_ll (k : Int) (hk : 0 ≤ k ∧ k ≤ 2) : ∀ (n d : Nat) (σ : zS) (x o f : Int) (T : List Int) (N : List Nat), Tr σ d x T N → N.Nodup → d ≤ n → 0 ≤ o →
    (zLl n σ x k o f).2 = bll k o f T.reverse ∧ zSrch σ (zLl n σ x k o f).1 x d T N := by
  intro n
  induction n with
  | zero =>
    intro d σ x o f T N h hn hd ho
    have hd0 : d = 0 := by omega
    subst hd0
    refine ⟨?_, srch_nil σ x h⟩
    rw [h.2.1]
    rfl
  | succ n ih =>
    intro d σ x o f T N h hn hd ho
    rw [zLl]
    by_cases hx : x < 0
    · rw [if_pos hx]
      refine ⟨?_, srch_nil σ x h⟩
      rw [(Tr_neg h hx).2.1]
      rfl
    · rw [if_neg hx]
      obtain ⟨-, i, -, -, -, -, -, hxi, -⟩ := Tr_node h hx
      subst hxi
      obtain ⟨⟨d', A, B, M, P, e0, e2, e3, e4, el, er, eT, eo⟩, hset⟩ := Tr_settle h hn
      have hsetO : ∀ k j : Nat, (k = 3 ∨ k = 5 ∨ 8 ≤ k) → zSettle σ (i : Int) k j = σ k j := fun k j hk => zSettle_o _ _ _ hk
      have hn2 := List.nodup_cons.mp (e2.nodup_iff.mp hn)
      have hn3 := List.nodup_append.mp hn2.2
      subst e0
      have hT := bll_app k (zSettle σ (i : Int) 0 i :: A.reverse) B o f ho
      have hrev : T.reverse = B.reverse ++ zSettle σ (i : Int) 0 i :: A.reverse := by rw [eT, List.reverse_append, List.reverse_cons, List.append_assoc]; rfl
      rw [← hrev] at hT
      rw [Int.toNat_natCast, Tr_op er hk, hT]
      by_cases c1 : o < bo k B
      · rw [if_pos c1, if_pos c1]
        obtain ⟨a1, a2⟩ := ih d' (zSettle σ (i : Int)) (zSettle σ (i : Int) 2 i) o f B P er hn3.2.1 (by omega) ho
        exact ⟨a1, srch_up hset hsetO hn e4 e2 e3 el er eT eo (Or.inr ⟨rfl, a2⟩)⟩
      · rw [if_neg c1, if_neg c1, zLo, Tr_op er hk, Tr_cl er hk, Tr_sz er, bll]
        have hb := bc_pos k B
        by_cases c2 : zSettle σ (i : Int) 0 i = k + 1 ∧ o + (bc k B - bo k B) = 0
        · rw [if_pos c2, if_pos c2]
          exact ⟨rfl, srch_here hset hsetO e4 e2 e3 el er eT eo⟩
        · rw [if_neg c2, if_neg c2]
          have hd : zLd (zSettle σ (i : Int)) (i : Int) k (o + (bc k B - bo k B)) = bld k (zSettle σ (i : Int) 0 i) (o + (bc k B - bo k B)) := by unfold zLd bld; rw [Int.toNat_natCast]
          rw [hd]
          obtain ⟨a1, a2⟩ := ih d' (zSettle σ (i : Int)) (zSettle σ (i : Int) 1 i) (bld k (zSettle σ (i : Int) 0 i) (o + (bc k B - bo k B))) (f - B.length - 1) A M el hn3.1 (by omega) (by unfold bld; split <;> (try split) <;> omega)
          exact ⟨a1, srch_up hset hsetO hn e4 e2 e3 el er eT eo (Or.inl ⟨rfl, a2⟩)⟩
end
section
/-! PURE: release; erase and move -/
def zStk (σ : zS) (xs : List Int) : Prop := σ 13 0 = (xs.length : Int) ∧ ∀ j, j < xs.length → σ 12 j = xs.getD (xs.length - 1 - j) 0
theorem zStk_push {σ : zS} {xs : List Int} (h : zStk σ xs) (x : Int) : zStk (zPush σ x) (x :: xs) := by
  obtain ⟨h1, h2⟩ := h
  have e : (σ 13 0).toNat = xs.length := by omega
  refine ⟨by rw [zPush_13, h1, List.length_cons]; omega, fun j hj => ?_⟩
  rw [List.length_cons] at hj
  rw [zPush_12, e, List.length_cons]
  by_cases c : j = xs.length
  · rw [if_pos c, show xs.length + 1 - 1 - j = 0 by omega]
    rfl
  · rw [if_neg c, h2 j (by omega), show xs.length + 1 - 1 - j = (xs.length - 1 - j) + 1 by omega]
    rfl
theorem zStk_pop {σ : zS} {x : Int} {xs : List Int} (h : zStk σ (x :: xs)) : zRx σ = x ∧ zStk (zRs1 σ) xs := by
  obtain ⟨h1, h2⟩ := h
  rw [List.length_cons] at h1 h2
  refine ⟨?_, by rw [zRs1, zs_eq]; omega, fun j hj => ?_⟩
  · unfold zRx
    rw [show (σ 13 0 - 1).toNat = xs.length by omega, h2 xs.length (by omega), show xs.length + 1 - 1 - xs.length = 0 by omega]
    rfl
  · rw [zRs1, zs_ne (by decide), h2 j (by omega), show xs.length + 1 - 1 - j = (xs.length - 1 - j) + 1 by omega]
    rfl
def zPo (σ : zS) (y : Int) : zS := if y < 0 then σ else zPush σ y
def zPs (y : Int) (xs : List Int) : List Int := if y < 0 then xs else y :: xs
theorem zRs2_eq (σ : zS) (x : Int) : zRs2 σ x = zPo σ (σ 1 x.toNat) := rfl
theorem zRs3_eq (σ : zS) (x : Int) : zRs3 σ x = zPo σ (σ 2 x.toNat) := rfl
theorem zPo_same (σ : zS) (y : Int) (j : Nat) : zSame σ (zPo σ y) j := by
  unfold zPo
  split
  · exact zSame.rf
  · exact zPush_same σ y j
theorem zPo_o (σ : zS) (y : Int) (m : Nat) {k : Nat} (h1 : k ≠ 12) (h2 : k ≠ 13) : zPo σ y k m = σ k m := by
  unfold zPo
  split
  · rfl
  · exact zPush_o σ y m h1 h2
theorem zPo_stk {σ : zS} {xs : List Int} (h : zStk σ xs) (y : Int) : zStk (zPo σ y) (zPs y xs) := by
  unfold zPo zPs
  by_cases hy : y < 0
  · rw [if_pos hy, if_pos hy]
    exact h
  · rw [if_neg hy, if_neg hy]
    exact zStk_push h y
def zFor (σ : zS) : List Int → List Nat → Prop
  | [], N => N = []
  | x :: xs, N => ∃ (d : Nat) (T : List Int) (M P : List Nat), ¬ x < 0 ∧ Tr σ d x T M ∧ N.Perm (M ++ P) ∧ zFor σ xs P
theorem zFor_frame {σ σ' : zS} (hs : ∀ j, zSame σ σ' j) : ∀ {xs : List Int} {N : List Nat}, zFor σ xs N → zFor σ' xs N
  | [], _, h => h
  | _ :: _, _, ⟨d, T, M, P, h1, h2, h3, h4⟩ => ⟨d, T, M, P, h1, Tr_frame (fun j _ => hs j) h2, h3, zFor_frame hs h4⟩
theorem zFor_add {σ : zS} {d : Nat} {y : Int} {T : List Int} {M P : List Nat} {xs : List Int} (h : Tr σ d y T M) (hF : zFor σ xs P) : zFor σ (zPs y xs) (M ++ P) := by
  unfold zPs
  by_cases hy : y < 0
  · rw [if_pos hy, (Tr_neg h hy).2.2]
    exact hF
  · rw [if_neg hy]
    exact ⟨d, T, M, P, hy, h, List.Perm.refl _, hF⟩
theorem zRs4_spare {σ : zS} {S : List Nat} (h : zSpare σ S) (i : Nat) : zSpare (zRs4 σ (i : Int)) (S ++ [i]) := by
  obtain ⟨h1, h2⟩ := h
  have e : (σ 11 0).toNat = S.length := by omega
  refine ⟨by rw [zRs4, zs_eq, List.length_append, List.length_singleton]; omega, fun j hj => ?_⟩
  rw [List.length_append, List.length_singleton] at hj
  rw [zRs4, zs_ne (by decide), e]
  by_cases c : j = S.length
  · rw [c, zs_eq, List.getD_eq_getElem?_getD, List.getElem?_append_right (Nat.le_refl _), Nat.sub_self]
    rfl
  · rw [zs_ni c, h2 j (by omega), List.getD_eq_getElem?_getD, List.getD_eq_getElem?_getD, List.getElem?_append_left (by omega)]
theorem zRs4_same (σ : zS) (x : Int) (j : Nat) : zSame σ (zRs4 σ x) j := (zSame.st (σ := σ) (k := 10) ⟨by decide, by decide⟩ (Or.inr (Or.inl (by decide)))).tr (zSame.st ⟨by decide, by decide⟩ (Or.inr (Or.inl (by decide))))
theorem zRs4_o (σ : zS) (x : Int) (m : Nat) {k : Nat} (h1 : k ≠ 10) (h2 : k ≠ 11) : zRs4 σ x k m = σ k m := by rw [zRs4, zs_ne h2, zs_ne h1]
theorem rel_spec : ∀ (n : Nat) (σ : zS) (xs : List Int) (N S : List Nat), zStk σ xs → zFor σ xs N → zSpare σ S → N.length ≤ n → S.length + N.length ≤ 60 →
    zRok n σ ∧ ∃ S' : List Nat, zSpare (zRl n σ) S' ∧ S'.Perm (S ++ N) ∧ (∀ j, zSame σ (zRl n σ) j) ∧ ∀ k j : Nat, (k = 8 ∨ 14 ≤ k) → zRl n σ k j = σ k j := by
  intro n
  induction n with
  | zero =>
    intro σ xs N S hst hF hS hN hSN
    have hN0 : N = [] := List.length_eq_zero_iff.mp (by omega)
    subst hN0
    refine ⟨trivial, S, hS, ?_, fun j => zSame.rf, fun k j _ => rfl⟩
    rw [List.append_nil]
  | succ n ih =>
    intro σ xs N S hst hF hS hN hSN
    cases xs with
    | nil =>
      have hN0 : N = [] := hF
      subst hN0
      have h13 : σ 13 0 ≤ 0 := by have := hst.1; rw [List.length_nil] at this; omega
      refine ⟨Or.inl h13, S, ?_⟩
      rw [zRl, if_pos h13]
      refine ⟨hS, ?_, fun j => zSame.rf, fun k j _ => rfl⟩
      rw [List.append_nil]
    | cons x xs =>
      obtain ⟨d, T, M, P, hx, hT, hp, hFx⟩ := hF
      obtain ⟨d', i, A, B, M1, M2, e0, e1, e2, e3, el, er, -⟩ := Tr_node hT hx
      subst e1
      obtain ⟨q1, q2⟩ := zStk_pop hst
      have hlen : N.length = 1 + M1.length + M2.length + P.length := by
        have h1 := hp.length_eq
        have h2 := e2.length_eq
        rw [List.length_append] at h1
        rw [List.length_cons, List.length_append] at h2
        omega
      have h13 : ¬ σ 13 0 ≤ 0 := by have := hst.1; rw [List.length_cons] at this; omega
      have h11 : σ 11 0 ≤ 59 := by have := hS.1; omega
      -- the four steps
      have s1 : ∀ j, zSame σ (zRs1 σ) j := fun j => same_13 σ _ j
      have o1 : ∀ k m : Nat, k ≠ 13 → zRs1 σ k m = σ k m := fun k m hk => zs_ne hk
      have l1 : Tr (zRs1 σ) d' (σ 1 i) A M1 := Tr_frame (fun j _ => s1 j) el
      have r1 : Tr (zRs1 σ) d' (σ 2 i) B M2 := Tr_frame (fun j _ => s1 j) er
      have f1 : zFor (zRs1 σ) xs P := zFor_frame s1 hFx
      have k1 : zRs1 σ 1 i = σ 1 i := o1 1 i (by decide)
      have k2 : zRs1 σ 2 i = σ 2 i := o1 2 i (by decide)
      have hrs : zRs σ = zRs4 (zPo (zPo (zRs1 σ) (σ 1 i)) (σ 2 i)) (i : Int) := by
        unfold zRs
        rw [q1, zRs3_eq, zRs2_eq, Int.toNat_natCast, k1, zPo_o _ _ _ (by decide) (by decide), k2]
      generalize hσ1 : zRs1 σ = σ1 at s1 o1 l1 r1 f1 q2 hrs
      have s2 := zPo_same σ1 (σ 1 i)
      have st2 := zPo_stk q2 (σ 1 i)
      have f2 : zFor (zPo σ1 (σ 1 i)) (zPs (σ 1 i) xs) (M1 ++ P) := zFor_frame s2 (zFor_add l1 f1)
      have r2 : Tr (zPo σ1 (σ 1 i)) d' (σ 2 i) B M2 := Tr_frame (fun j _ => s2 j) r1
      have o2 : ∀ k m : Nat, k ≠ 12 → k ≠ 13 → zPo σ1 (σ 1 i) k m = σ1 k m := fun k m h1 h2 => zPo_o _ _ m h1 h2
      generalize hσ2 : zPo σ1 (σ 1 i) = σ2 at s2 st2 f2 r2 o2 hrs
      have s3 := zPo_same σ2 (σ 2 i)
      have st3 := zPo_stk st2 (σ 2 i)
      have f3 : zFor (zPo σ2 (σ 2 i)) (zPs (σ 2 i) (zPs (σ 1 i) xs)) (M2 ++ (M1 ++ P)) := zFor_frame s3 (zFor_add r2 f2)
      have o3 : ∀ k m : Nat, k ≠ 12 → k ≠ 13 → zPo σ2 (σ 2 i) k m = σ2 k m := fun k m h1 h2 => zPo_o _ _ m h1 h2
      generalize hσ3 : zPo σ2 (σ 2 i) = σ3 at s3 st3 f3 o3 hrs
      have oo : ∀ k m : Nat, k ≠ 12 → k ≠ 13 → σ3 k m = σ k m := fun k m h1 h2 => (o3 k m h1 h2).trans ((o2 k m h1 h2).trans (o1 k m h2))
      have hS3 : zSpare σ3 S := hS.keep (oo 11 0 (by decide) (by decide)) (fun j => oo 10 j (by decide) (by decide))
      have hS4 := zRs4_spare hS3 i
      have s4 := zRs4_same σ3 (i : Int)
      have f4 := zFor_frame s4 f3
      have st4 : zStk (zRs4 σ3 (i : Int)) (zPs (σ 2 i) (zPs (σ 1 i) xs)) := by
        refine ⟨?_, fun j hj => ?_⟩
        · rw [zRs4_o _ _ _ (by decide) (by decide)]
          exact st3.1
        · rw [zRs4_o _ _ _ (by decide) (by decide)]
          exact st3.2 j hj
      have o4 : ∀ k m : Nat, (k = 8 ∨ 14 ≤ k) → zRs4 σ3 (i : Int) k m = σ k m := fun k m hk => (zRs4_o _ _ m (by omega) (by omega)).trans (oo k m (by omega) (by omega))
      have s5 : ∀ j, zSame σ (zRs4 σ3 (i : Int)) j := fun j => (s1 j).tr ((s2 j).tr ((s3 j).tr (s4 j)))
      rw [← hrs] at hS4 f4 st4 o4 s5
      obtain ⟨a1, S', a2, a3, a4, a5⟩ := ih (zRs σ) _ _ _ st4 f4 hS4 (by rw [List.length_append, List.length_append]; omega) (by rw [List.length_append, List.length_append, List.length_append, List.length_singleton]; omega)
      refine ⟨Or.inr ⟨h11, a1⟩, S', ?_⟩
      rw [zRl, if_neg h13]
      refine ⟨a2, a3.trans ?_, fun j => (s5 j).tr (a4 j), fun k j hk => (a5 k j hk).trans (o4 k j hk)⟩
      rw [List.append_assoc]
      refine List.Perm.append_left S ?_
      have p1 : N.Perm ((i :: (M1 ++ M2)) ++ P) := hp.trans (e2.append_right P)
      refine List.Perm.trans ?_ p1.symm
      show (i :: (M2 ++ (M1 ++ P))).Perm (i :: ((M1 ++ M2) ++ P))
      refine List.Perm.cons i ?_
      rw [← List.append_assoc]
      exact (List.perm_append_comm).append_right P
/-- release of the middle -/
theorem apart_rel {σ : zS} {A B C : List Int} (h : zApart σ A B C) : zRok 60 (zRel0 σ (σ 17 0)) ∧ ∃ (N1 N3 S : List Nat), zTree (zRel σ (σ 17 0)) (zRel σ (σ 17 0) 16 0) A N1 ∧ zTree (zRel σ (σ 17 0)) (zRel σ (σ 17 0) 18 0) C N3 ∧ zSpare (zRel σ (σ 17 0)) S ∧ zAll ((N1 ++ N3) ++ S) := by
  obtain ⟨N1, N2, N3, S, h1, h2, h3, h4, h5⟩ := h
  have hlen := h5.2.1
  simp only [List.length_append] at hlen
  have e0 : zRel0 σ (σ 17 0) = zPo (zs_st σ 13 0 0) (σ 17 0) := rfl
  have s0 : ∀ j, zSame σ (zs_st σ 13 0 0) j := fun j => same_13 σ 0 j
  have st0 : zStk (zs_st σ 13 0 0) [] := ⟨zs_eq _ _ _ _, fun j hj => absurd hj (Nat.not_lt_zero j)⟩
  have s1 := zPo_same (zs_st σ 13 0 0) (σ 17 0)
  have st1 := zPo_stk st0 (σ 17 0)
  have f0 : zFor (zs_st σ 13 0 0) [] [] := rfl
  have f1 : zFor (zPo (zs_st σ 13 0 0) (σ 17 0)) (zPs (σ 17 0) []) (N2 ++ []) := zFor_frame s1 (zFor_add (Tr_frame (fun j _ => s0 j) h2.1) f0)
  have oo : ∀ k m : Nat, k ≠ 12 → k ≠ 13 → zPo (zs_st σ 13 0 0) (σ 17 0) k m = σ k m := fun k m h1 h2 => (zPo_o _ _ m h1 h2).trans (zs_ne h2)
  have hS1 : zSpare (zPo (zs_st σ 13 0 0) (σ 17 0)) S := h4.keep (oo 11 0 (by decide) (by decide)) (fun j => oo 10 j (by decide) (by decide))
  obtain ⟨a1, S', a2, a3, a4, a5⟩ := rel_spec 60 _ _ _ S st1 f1 hS1 (by rw [List.append_nil]; omega) (by rw [List.append_nil]; omega)
  rw [List.append_nil] at a3
  have e1 : zRel σ (σ 17 0) = zRl 60 (zPo (zs_st σ 13 0 0) (σ 17 0)) := rfl
  rw [e0, e1]
  have ss : ∀ j, zSame σ (zRl 60 (zPo (zs_st σ 13 0 0) (σ 17 0))) j := fun j => (s0 j).tr ((s1 j).tr (a4 j))
  have o : ∀ k m : Nat, (k = 8 ∨ 14 ≤ k) → zRl 60 (zPo (zs_st σ 13 0 0) (σ 17 0)) k m = σ k m := fun k m hk => (a5 k m hk).trans (oo k m (by omega) (by omega))
  refine ⟨a1, N1, N3, S', ?_, ?_, a2, h5.perm ?_⟩
  · rw [o 16 0 (by decide)]
    exact h1.frame (fun j _ => ss j)
  · rw [o 18 0 (by decide)]
    exact h3.frame (fun j _ => ss j)
  · refine List.Perm.trans ?_ (List.Perm.append_left (N1 ++ N3) a3.symm)
    rw [List.append_assoc, List.append_assoc, List.append_assoc]
    refine List.Perm.append_left N1 ?_
    refine List.Perm.trans (List.perm_append_comm) ?_
    rw [List.append_assoc]
/-- erase -/
theorem rep_erase {σ : zS} {A B C : List Int} (h : zApart σ A B C) : zRok 60 (zRel0 σ (σ 17 0)) ∧ ∀ σ1 : zS, σ1 = zRel σ (σ 17 0) → zJok (zJ0 σ1 (σ1 16 0) (σ1 18 0)) ∧ zRep (zs_st (zJoinF σ1 (σ1 16 0) (σ1 18 0)).1 8 0 (zJoinF σ1 (σ1 16 0) (σ1 18 0)).2) (A ++ C) := by
  obtain ⟨a1, N1, N3, S, a2, a3, a4, a5⟩ := apart_rel h
  refine ⟨a1, fun σ1 e => ?_⟩
  rw [← e] at a2 a3 a4
  obtain ⟨d0, d1, d2⟩ := Tr_joinF a2 a3 (List.nodup_append.mp a5.1).1
  refine ⟨d0, N1 ++ N3, S, ?_, (d2.spare a4).keep (zs_ne (by decide)) (fun j => zs_ne (by decide)), a5⟩
  rw [zs_eq]
  exact d1.st (Or.inl (by decide))
/-- a tree hung into another: cut there, join twice -/
theorem rep_ins {σ1 σ2 : zS} {r m t : Int} {R B : List Int} {N N2 S : List Nat} (a2 : zTree σ1 r R N) (a3 : zTree σ1 m B N2) (a4 : zSpare σ1 S) (a5 : zAll ((N ++ N2) ++ S)) (ha : 0 ≤ t ∧ t ≤ R.length) (e2 : σ2 = zCutF σ1 r t) :
    zJok (zJ0 σ2 (σ2 14 0) m) ∧ zJok (zJ0 (zJoinF σ2 (σ2 14 0) m).1 (zJoinF σ2 (σ2 14 0) m).2 (σ2 15 0)) ∧ zRep (zs_st (zJoinF (zJoinF σ2 (σ2 14 0) m).1 (zJoinF σ2 (σ2 14 0) m).2 (σ2 15 0)).1 8 0 (zJoinF (zJoinF σ2 (σ2 14 0) m).1 (zJoinF σ2 (σ2 14 0) m).2 (σ2 15 0)).2) (R.take t.toNat ++ (B ++ R.drop t.toNat)) := by
  have hndN := List.nodup_append.mp (List.nodup_append.mp a5.1).1
  obtain ⟨M, P, b1, b2, b3, b4⟩ := Tr_cutF (q := t) a2 ha.1 ha.2
  rw [← e2] at b1 b2 b4
  have c3 := b4.tree a3 (fun j hj e => hndN.2.2 j e j hj rfl)
  have hS1 := b4.spare a4
  have hnd : ((M ++ P) ++ N2).Nodup := ((b3.append_right N2).nodup_iff).mp (List.nodup_append.mp a5.1).1
  have hp1 : ((M ++ P) ++ N2).Perm ((M ++ N2) ++ P) := by
    rw [List.append_assoc, List.append_assoc]
    exact (List.perm_append_comm).append_left M
  have hnd2 := hp1.nodup_iff.mp hnd
  obtain ⟨d0, d1, d2⟩ := Tr_joinF b1 c3 (List.nodup_append.mp hnd2).1
  have f3 := d2.tree b2 (fun j hj e => (List.nodup_append.mp hnd2).2.2 j e j hj rfl)
  have hS2 := d2.spare hS1
  obtain ⟨g0, g1, g2⟩ := Tr_joinF d1 f3 hnd2
  have hS3 := g2.spare hS2
  refine ⟨d0, g0, (M ++ N2) ++ P, S, ?_, hS3.keep (zs_ne (by decide)) (fun j => zs_ne (by decide)), a5.perm (((b3.append_right N2).trans hp1).append_right S)⟩
  rw [zs_eq]
  have := g1.st (k := 8) (j := 0) (v := (zJoinF (zJoinF σ2 (σ2 14 0) m).1 (zJoinF σ2 (σ2 14 0) m).2 (σ2 15 0)).2) (Or.inl (by decide))
  rw [List.append_assoc] at this
  exact this
/-- move -/
theorem rep_move {σ : zS} {A B C : List Int} (h : zApart σ A B C) : zJok (zJ0 σ (σ 16 0) (σ 18 0)) ∧ ∀ (σ1 σ2 : zS) (r t : Int), (σ1, r) = zJoinF σ (σ 16 0) (σ 18 0) → 0 ≤ t ∧ t ≤ (A ++ C).length → σ2 = zCutF σ1 r t →
    zJok (zJ0 σ2 (σ2 14 0) (σ 17 0)) ∧ zJok (zJ0 (zJoinF σ2 (σ2 14 0) (σ 17 0)).1 (zJoinF σ2 (σ2 14 0) (σ 17 0)).2 (σ2 15 0)) ∧ zRep (zs_st (zJoinF (zJoinF σ2 (σ2 14 0) (σ 17 0)).1 (zJoinF σ2 (σ2 14 0) (σ 17 0)).2 (σ2 15 0)).1 8 0 (zJoinF (zJoinF σ2 (σ2 14 0) (σ 17 0)).1 (zJoinF σ2 (σ2 14 0) (σ 17 0)).2 (σ2 15 0)).2) ((A ++ C).take t.toNat ++ (B ++ (A ++ C).drop t.toNat)) := by
  obtain ⟨N1, N2, N3, S, h1, h2, h3, h4, h5⟩ := h
  have hp : ((N1 ++ (N2 ++ N3)) ++ S).Perm (((N1 ++ N3) ++ N2) ++ S) := by
    refine List.Perm.append_right S ?_
    rw [List.append_assoc]
    exact (List.perm_append_comm).append_left N1
  have a5 := h5.perm hp
  have hnd := List.nodup_append.mp (List.nodup_append.mp a5.1).1
  obtain ⟨d0, d1, d2⟩ := Tr_joinF h1 h3 hnd.1
  refine ⟨d0, fun σ1 σ2 r t e1 ht e2 => ?_⟩
  have e11 : σ1 = (zJoinF σ (σ 16 0) (σ 18 0)).1 := congrArg Prod.fst e1
  have e12 : r = (zJoinF σ (σ 16 0) (σ 18 0)).2 := congrArg Prod.snd e1
  have c3 := d2.tree h2 (fun j hj e => hnd.2.2 j e j hj rfl)
  have hS1 := d2.spare h4
  rw [← e11] at d1 c3 hS1
  rw [← e12] at d1
  exact rep_ins d1 c3 hS1 a5 ht e2
end
section
/-! PURE: the searches on the whole object; what each public method answers, as functions of the text -/
theorem zSrch.tree {σ σ' : zS} {x : Int} {d : Nat} {T : List Int} {N : List Nat} (h : zSrch σ σ' x d T N) {y : Int} {U : List Int} {M : List Nat} (hT : zTree σ y U M) (hd : ∀ j ∈ M, j ∉ N) : zTree σ' y U M := hT.frame (fun j hj => h.2.1 j (hd j hj))
theorem zSrch.spare {σ σ' : zS} {x : Int} {d : Nat} {T : List Int} {N S : List Nat} (h : zSrch σ σ' x d T N) (hS : zSpare σ S) : zSpare σ' S := hS.keep (h.2.2 11 0 (by decide)) (fun j => h.2.2 10 j (by decide))
theorem rep_nodeAt {σ : zS} {T : List Int} (h : zRep σ T) {k : Int} (hk : 0 ≤ k) (hk2 : k < T.length) : ∃ (σ' : zS) (y : Nat), zNa 60 σ (σ 8 0) k = some (σ', (y : Int)) ∧ y < 60 ∧ σ' 0 y = T.getD k.toNat 0 ∧ zRep σ' T := by
  obtain ⟨N, S, h1, h2, h3⟩ := h
  obtain ⟨σ', y, a1, a2, a3, a4⟩ := Tr_nodeAt 60 60 σ (σ 8 0) k T N h1.1 h1.2 (Nat.le_refl _) hk hk2
  refine ⟨σ', y, a1, a2, a3, N, S, ?_, a4.spare h2, h3⟩
  rw [a4.2.2 8 0 (by decide)]
  exact ⟨a4.1, h1.2⟩
theorem apart_fl {σ : zS} {A B C : List Int} (h : zApart σ A B C) {k : Int} (hk : 0 ≤ k ∧ k ≤ 2) : (zFl 60 σ (σ 18 0) k 0 0).2 = bfl k 0 0 C ∧ zApart (zFl 60 σ (σ 18 0) k 0 0).1 A B C := by
  obtain ⟨N1, N2, N3, S, h1, h2, h3, h4, h5⟩ := h
  obtain ⟨q1, q2, -⟩ := nd_app3 (List.nodup_append.mp h5.1).1
  obtain ⟨a1, a2⟩ := Tr_fl k hk 60 60 σ (σ 18 0) 0 0 C N3 h3.1 h3.2 (Nat.le_refl _) (Int.le_refl _)
  refine ⟨a1, N1, N2, N3, S, ?_, ?_, ?_, a2.spare h4, h5⟩
  · rw [a2.2.2 16 0 (by decide)]
    exact a2.tree h1 (fun j hj => (q1 j hj).2)
  · rw [a2.2.2 17 0 (by decide)]
    exact a2.tree h2 (fun j hj => q2 j hj)
  · rw [a2.2.2 18 0 (by decide)]
    exact ⟨a2.1, h3.2⟩
theorem apart_ll {σ : zS} {A B C : List Int} (h : zApart σ A B C) {k d : Int} (hk : 0 ≤ k ∧ k ≤ 2) (hd : 0 ≤ d) : (zLl 60 σ (σ 16 0) k d (zSz σ (σ 16 0))).2 = bll k d A.length A.reverse ∧ zApart (zLl 60 σ (σ 16 0) k d (zSz σ (σ 16 0))).1 A B C := by
  obtain ⟨N1, N2, N3, S, h1, h2, h3, h4, h5⟩ := h
  obtain ⟨q1, q2, -⟩ := nd_app3 (List.nodup_append.mp h5.1).1
  rw [Tr_sz h1.1]
  obtain ⟨a1, a2⟩ := Tr_ll k hk 60 60 σ (σ 16 0) d A.length A N1 h1.1 h1.2 (Nat.le_refl _) hd
  refine ⟨a1, N1, N2, N3, S, ?_, ?_, ?_, a2.spare h4, h5⟩
  · rw [a2.2.2 16 0 (by decide)]
    exact ⟨a2.1, h1.2⟩
  · rw [a2.2.2 17 0 (by decide)]
    exact a2.tree h2 (fun j hj e => (q1 j e).1 hj)
  · rw [a2.2.2 18 0 (by decide)]
    exact a2.tree h3 (fun j hj e => (q1 j e).2 hj)
theorem apart_op {σ : zS} {A B C : List Int} (h : zApart σ A B C) {k : Int} (hk : 0 ≤ k ∧ k ≤ 2) : zOp σ (σ 16 0) k = bo k A ∧ zCl σ (σ 18 0) k = bc k C ∧ zOp σ (σ 17 0) k = bo k B ∧ zCl σ (σ 17 0) k = bc k B := by
  obtain ⟨N1, N2, N3, S, h1, h2, h3, h4, h5⟩ := h
  exact ⟨Tr_op h1.1 hk, Tr_cl h3.1 hk, Tr_op h2.1 hk, Tr_cl h2.1 hk⟩
theorem apart_one {σ : zS} {A C : List Int} {c : Int} (h : zApart σ A [c] C) : 0 ≤ σ 17 0 ∧ σ 0 (σ 17 0).toNat = c := by
  obtain ⟨N1, N2, N3, S, h1, h2, h3, h4, h5⟩ := h
  have hx : ¬ σ 17 0 < 0 := fun hx => by
    have := (Tr_neg h2.1 hx).2.1
    cases this
  obtain ⟨d', i, E, F, M, P, e0, e1, e2, e3, e4, e5, e6, e7⟩ := Tr_node h2.1 hx
  have hl := congrArg List.length e6
  simp only [List.length_append, List.length_cons, List.length_nil, bmm_len] at hl
  have hE : E = [] := List.length_eq_zero_iff.mp (by omega)
  have hF : F = [] := List.length_eq_zero_iff.mp (by omega)
  subst hE hF
  rw [e1, Int.toNat_natCast]
  have hb : ∀ t : Int, bmm t [] = [] := fun t => by
    unfold bmm
    split <;> rfl
  rw [hb] at e6
  exact ⟨by omega, (List.cons.inj e6).1.symm⟩
theorem apart_r {σ : zS} {A B C : List Int} (h : zApart σ A B C) : A.length + B.length + C.length ≤ 60 := by
  obtain ⟨N1, N2, N3, S, h1, h2, h3, h4, h5⟩ := h
  have := h5.2.1
  simp only [List.length_append] at this
  rw [h1.len, h2.len, h3.len]
  omega
theorem take_one {T : List Int} {a : Int} (h0 : 0 ≤ a) (h1 : a < T.length) : (T.drop a.toNat).take (1 : Int).toNat = [T.getD a.toNat 0] := by
  rw [List.drop_eq_getElem_cons (show a.toNat < T.length by omega), List.getD_eq_getElem?_getD, List.getElem?_eq_getElem (show a.toNat < T.length by omega)]
  rfl
/-- what the methods answer -/
abbrev sStr (T : List Int) (f n : Int) : Prop := 0 ≤ f ∧ f ≤ (T.length : Int) ∧ 0 ≤ n ∧ n ≤ (T.length : Int) - f
def sA (T : List Int) (f : Int) : List Int := T.take f.toNat
def sB (T : List Int) (f n : Int) : List Int := (T.drop f.toNat).take n.toNat
def sC (T : List Int) (f n : Int) : List Int := (T.drop f.toNat).drop n.toNat
def sInsert (T : List Int) (a c : Int) : Int × List Int := if 60 ≤ (T.length : Int) then (-2, T) else if a < 0 ∨ (T.length : Int) < a ∨ c < 0 ∨ 6 < c then (-1, T) else ((T.length : Int) + 1, T.take a.toNat ++ c :: T.drop a.toNat)
def sErase (T : List Int) (f n : Int) : Int × List Int := if sStr T f n then ((T.length : Int) - n, sA T f ++ sC T f n) else (-1, T)
def sMoved (R B : List Int) (t : Int) : List Int := R.take t.toNat ++ (B ++ R.drop t.toNat)
def sMove (T : List Int) (f n t : Int) : Int × List Int := if sStr T f n then (if t < 0 ∨ (T.length : Int) - n < t then (-1, T) else ((T.length : Int), sMoved (sA T f ++ sC T f n) (sB T f n) t)) else (-1, T)
def sMirror (T : List Int) (f n : Int) : Int × List Int := if sStr T f n then ((T.length : Int), sA T f ++ (bmir (sB T f n) ++ sC T f n)) else (-1, T)
def sAt (T : List Int) (a : Int) : Int := T.getD a.toNat 0
def sCode (T : List Int) (a : Int) : Int := if a < 0 ∨ (T.length : Int) ≤ a then -1 else sAt T a
def sFound (d v : Int) : Int := if v < 0 then -3 else d + v
def sPartner (T : List Int) (a : Int) : Int := if a < 0 ∨ (T.length : Int) ≤ a then -1 else if sAt T a = 0 then -3 else if sAt T a ≤ 3 then sFound (a + 1) (bfl (sAt T a - 1) 0 0 (sC T a 1)) else sFound 0 (bll (sAt T a - 4) 0 (sA T a).length (sA T a).reverse)
def sPw (k c w : Int) : Int := if c = k + 3 ∧ 0 < w then w - 1 else w
def sPc (k c m : Int) : Int := if c = k ∧ 0 < m then m - 1 else m
def sMin (w m : Int) : Int := if w < m then w else m
def sPairs (T : List Int) (a k : Int) : Int := sMin (sPw k (sAt T a) (bo (k - 1) (sA T a))) (sPc k (sAt T a) (bc (k - 1) (sC T a 1)))
abbrev sBad (T : List Int) (a k : Int) : Prop := a < 0 ∨ (T.length : Int) ≤ a ∨ k < 1 ∨ 3 < k
def sDepth (T : List Int) (a k : Int) : Int := if sBad T a k then -1 else sPairs T a k
def sDd (T : List Int) (a k : Int) : Int := if sAt T a = k + 3 then 1 else 0
def sAround (T : List Int) (a k : Int) : Int := if sBad T a k then -1 else if 0 < sPairs T a k then bll (k - 1) (sDd T a k) (sA T a).length (sA T a).reverse else -3
def sLo (T : List Int) (f n k : Int) : Int := if sStr T f n ∧ 1 ≤ k ∧ k ≤ 3 then bo (k - 1) (sB T f n) else -1
def sLc (T : List Int) (f n k : Int) : Int := if sStr T f n ∧ 1 ≤ k ∧ k ≤ 3 then bc (k - 1) (sB T f n) else -1
theorem sABC (T : List Int) (f n : Int) : sA T f ++ (sB T f n ++ sC T f n) = T := by
  unfold sA sB sC
  rw [List.take_append_drop, List.take_append_drop]
theorem sB_1 {T : List Int} {a : Int} (h0 : 0 ≤ a) (h1 : a < T.length) : sB T a 1 = [sAt T a] := take_one h0 h1
theorem sA_len {T : List Int} {f : Int} (h0 : 0 ≤ f) (h1 : f ≤ T.length) : ((sA T f).length : Int) = f := by
  unfold sA
  rw [List.length_take]
  omega
theorem sC_len {T : List Int} {f n : Int} (h0 : 0 ≤ f) (h1 : 0 ≤ n) (h2 : f + n ≤ T.length) : ((sC T f n).length : Int) = T.length - f - n := by
  unfold sC
  rw [List.length_drop, List.length_drop]
  omega
theorem sB_len {T : List Int} {f n : Int} (h0 : 0 ≤ f) (h1 : 0 ≤ n) (h2 : f + n ≤ T.length) : ((sB T f n).length : Int) = n := by
  unfold sB
  rw [List.length_take, List.length_drop]
  omega
theorem sRest_len {T : List Int} {f n : Int} (h : sStr T f n) : ((sA T f ++ sC T f n).length : Int) = T.length - n := by
  have h1 := sA_len h.1 h.2.1
  have h2 := sC_len (T := T) h.1 h.2.2.1 (by omega)
  rw [List.length_append]
  omega
theorem sMoved_len (R B : List Int) (t : Int) : (sMoved R B t).length = R.length + B.length := by
  unfold sMoved
  have h := congrArg List.length (List.take_append_drop t.toNat R)
  rw [List.length_append] at h
  rw [List.length_append, List.length_append]
  omega
theorem apart_pairs {T : List Int} {σ : zS} {a k : Int} (h : zApart σ (sA T a) (sB T a 1) (sC T a 1)) (h0 : 0 ≤ a) (h1 : a < T.length) (hk : 1 ≤ k ∧ k ≤ 3) : 0 ≤ σ 17 0 ∧ σ 0 (σ 17 0).toNat = sAt T a ∧ zPairs σ k = sPairs T a k := by
  obtain ⟨o1, o2, -⟩ := apart_op h (k := k - 1) (by omega)
  rw [sB_1 h0 h1] at h
  obtain ⟨m1, m2⟩ := apart_one h
  refine ⟨m1, m2, ?_⟩
  unfold zPairs zPw zPc sPairs sMin sPw sPc
  rw [o1, o2, m2]
theorem sMir_len (T : List Int) (f n : Int) : ((sA T f ++ (bmir (sB T f n) ++ sC T f n)).length : Int) = T.length := by
  have h := congrArg List.length (sABC T f n)
  rw [List.length_append, List.length_append] at h
  rw [List.length_append, List.length_append, bmir_len]
  omega
theorem join2 {σ2 σ3 σ4 : zS} {a m b hd tp : Int} (h1 : (σ3, hd) = zJoinF σ2 a m) (h2 : (σ4, tp) = zJoinF σ3 hd b) : zJoinF (zJoinF σ2 a m).1 (zJoinF σ2 a m).2 b = (σ4, tp) := by
  rw [← h1]
  exact h2.symm
theorem zPairs_r {σ : zS} (h : zt_WF σ) (k : Int) : -200 ≤ zPairs σ k ∧ zPairs σ k ≤ 200 := by
  have h1 := zOp_r h (σ 16 0) (k - 1)
  have h2 := zCl_r h (σ 18 0) (k - 1)
  have a1 : -129 ≤ zPw σ k ∧ zPw σ k ≤ 127 := by
    unfold zPw
    split <;> omega
  have a2 : -129 ≤ zPc σ k ∧ zPc σ k ≤ 127 := by
    unfold zPc
    split <;> omega
  unfold zPairs
  split <;> omega
end
section
/-! the tree's public methods: their answers, and the text behind them -/
set_option maxHeartbeats 4000000 in
theorem met_insert (l : Launch) (g : zG) (σ : zS) (T : List Int) (a q : Int) (hR : zRep σ T) (ha : zR a) (hc : zR q) : zt_Mi l yX0_insert cX0_insert 7 (some .int) ({ frames := 4, cells := 0, slots := 0, locals := 102 }) g σ [a, q] (fun r σ' => r = (sInsert T a q).1 ∧ zRep σ' (sInsert T a q).2) := by
  refine zt_ofi (by decide +kernel) rfl (Nat.le_of_ble_eq_true rfl) ?_
  intro p e s m args below meth c ls ⟨S, hr, hlk, hw⟩ hl
  have hl : lv_has ls 7 [(0, .ref (g.2.2 19)), (1, .int (zI a)), (2, .int (zI q))] := hl
  have hwf : zt_WF σ := hw.2.2.2.2.1
  refine zr_aload S hl 0 rfl dX0_insert_0 ?_
  refine zt_calli S hw (met_textLength l g σ) kq_textLength rfl rfl ⟨by decide, by decide⟩ rfl rfl hl.1 (Nat.le_of_ble_eq_true rfl) ⟨Nat.zero_le _, Nat.zero_le _⟩ dX0_insert_1 (fun v3 σ1 H locs p2 hw => ?_)
  obtain ⟨hs_, e4⟩ := p2
  rw [hs_] at hw
  have n6 : v3 = ((T).length : Int) := e4.trans hR.len
  have r5 : 0 ≤ v3 ∧ v3 ≤ 60 := by have := hR.le; omega
  refine zr_istore_n S [(3, .int (zI v3)), (0, .ref (g.2.2 19)), (1, .int (zI a)), (2, .int (zI q))] hl (by decide) rfl dX0_insert_4 (fun ls hl => ?_)
  refine zr_iload_n S hl 0 rfl dX0_insert_5 ?_
  refine zr_bipush S (by decide +kernel) dX0_insert_6 ?_
  refine zr_icmp_lt S 14 (by decide) (by omega) (by omega) dX0_insert_8 (fun h7 => ?_) (fun h7 => ?_)
  · refine zr_iload_n S hl 2 rfl dX0_insert_14 ?_
    refine zr_if_lt S 33 (by decide) (by omega) dX0_insert_15 (fun h8 => ?_) (fun h8 => ?_)
    · refine zr_iconst S dX0_insert_33 ?_
      exact zt_iret S hr hlk hw (by rw [sInsert, if_neg (by omega), if_pos (by omega)]; exact ⟨rfl, hR⟩) dX0_insert_34
    · refine zr_iload_n S hl 2 rfl dX0_insert_18 ?_
      refine zr_iload_n S hl 0 rfl dX0_insert_19 ?_
      refine zr_icmp_gt S 33 (by decide) (by omega) (by omega) dX0_insert_20 (fun h9 => ?_) (fun h9 => ?_)
      · refine zr_iconst S dX0_insert_33 ?_
        exact zt_iret S hr hlk hw (by rw [sInsert, if_neg (by omega), if_pos (by omega)]; exact ⟨rfl, hR⟩) dX0_insert_34
      · refine zr_iload_n S hl 3 rfl dX0_insert_23 ?_
        refine zr_if_lt S 33 (by decide) (by omega) dX0_insert_24 (fun h10 => ?_) (fun h10 => ?_)
        · refine zr_iconst S dX0_insert_33 ?_
          exact zt_iret S hr hlk hw (by rw [sInsert, if_neg (by omega), if_pos (by omega)]; exact ⟨rfl, hR⟩) dX0_insert_34
        · refine zr_iload_n S hl 3 rfl dX0_insert_27 ?_
          refine zr_bipush S (by decide +kernel) dX0_insert_28 ?_
          refine zr_icmp_le S 35 (by decide) (by omega) (by omega) dX0_insert_30 (fun h11 => ?_) (fun h11 => ?_)
          · refine zr_aload S hl 1 rfl dX0_insert_35 ?_
            refine zr_iload_n S hl 3 rfl dX0_insert_36 ?_
            refine zt_calli S hw (met_newNode l g σ q (by omega) (rep_new (c := q) hR (by omega) (by omega) 0 0).1) kq_newNode rfl rfl ⟨by decide, by decide⟩ rfl rfl hl.1 (Nat.le_of_ble_eq_true rfl) ⟨Nat.zero_le _, Nat.zero_le _⟩ dX0_insert_37 (fun v14 σ12 H locs p13 hw => ?_)
            obtain ⟨sd, rk, e1, ex⟩ := p13
            have rx : 0 ≤ v14 ∧ v14 ≤ 59 := by rw [ex]; exact hwf 10 _
            refine zr_istore S [(4, .int (zI v14)), (3, .int (zI v3)), (0, .ref (g.2.2 19)), (1, .int (zI a)), (2, .int (zI q))] hl (by decide) rfl dX0_insert_40 (fun ls hl => ?_)
            refine zr_aload S hl 2 rfl dX0_insert_42 ?_
            refine zr_aload S hl 2 rfl dX0_insert_43 ?_
            refine zt_geti S hw 8 (by decide) rfl dX0_insert_44 (fun v15 e16 r17 => ?_)
            have r17 : (-1) ≤ v15 ∧ v15 ≤ 59 := r17
            refine zr_iload_n S hl 3 rfl dX0_insert_47 ?_
            refine zt_callv S hw (met_cut l g σ12 v15 a (by omega) (by omega)) kq_cut rfl rfl ⟨by decide, by decide⟩ rfl rfl hl.1 (Nat.le_of_ble_eq_true rfl) ⟨Nat.zero_le _, Nat.zero_le _⟩ dX0_insert_48 (fun σ18 H locs p19 hw => ?_)
            have hI := rep_insert (c := q) (at_ := a) hR (by omega) (by omega) (by omega) sd rk e1 ex (show σ18 = zCutF σ12 (σ12 8 0) a by rw [p19, e16])
            refine zr_aload S hl 2 rfl dX0_insert_51 ?_
            refine zt_geti S hw 15 (by decide) rfl dX0_insert_52 (fun v20 e21 r22 => ?_)
            have r22 : (-1) ≤ v20 ∧ v20 ≤ 59 := r22
            refine zr_istore S [(5, .int (zI v20)), (4, .int (zI v14)), (3, .int (zI v3)), (0, .ref (g.2.2 19)), (1, .int (zI a)), (2, .int (zI q))] hl (by decide) rfl dX0_insert_55 (fun ls hl => ?_)
            refine zr_aload S hl 3 rfl dX0_insert_57 ?_
            refine zr_aload S hl 3 rfl dX0_insert_58 ?_
            refine zt_geti S hw 14 (by decide) rfl dX0_insert_59 (fun v23 e24 r25 => ?_)
            have r25 : (-1) ≤ v23 ∧ v23 ≤ 59 := r25
            refine zr_iload S hl 1 rfl dX0_insert_62 ?_
            refine zt_calli S hw (met_join l g σ18 v23 v14 (by omega) (by omega) (by rw [e24]; exact hI.1)) kq_join rfl rfl ⟨by decide, by decide⟩ rfl rfl hl.1 (Nat.le_of_ble_eq_true rfl) ⟨Nat.zero_le _, Nat.zero_le _⟩ dX0_insert_64 (fun v28 σ26 H locs p27 hw => ?_)
            obtain ⟨j29, r30⟩ := p27
            refine zr_istore S [(6, .int (zI v28)), (5, .int (zI v20)), (4, .int (zI v14)), (3, .int (zI v3)), (0, .ref (g.2.2 19)), (1, .int (zI a)), (2, .int (zI q))] hl (by decide) rfl dX0_insert_67 (fun ls hl => ?_)
            refine zr_aload S hl 4 rfl dX0_insert_69 ?_
            refine zr_aload S hl 4 rfl dX0_insert_70 ?_
            refine zr_iload S hl 0 rfl dX0_insert_71 ?_
            refine zr_iload S hl 1 rfl dX0_insert_73 ?_
            refine zt_calli S hw (met_join l g σ26 v28 v20 (by omega) (by omega) (by have h := hI.2.1; rw [← e24, ← e21, ← j29] at h; exact h)) kq_join rfl rfl ⟨by decide, by decide⟩ rfl rfl hl.1 (Nat.le_of_ble_eq_true rfl) ⟨Nat.zero_le _, Nat.zero_le _⟩ dX0_insert_75 (fun v33 σ31 H locs p32 hw => ?_)
            obtain ⟨j34, r35⟩ := p32
            refine zt_put S hw 8 (by decide) (zt_s8 g σ31 v33) rfl (by decide +kernel) (Nat.le_of_ble_eq_true rfl) (show (-1) ≤ (v33 : Int) ∧ (v33 : Int) ≤ 59 by omega) dX0_insert_78 (fun σ36 H locs s37 hw => ?_)
            refine zr_iload_n S hl 3 rfl dX0_insert_81 ?_
            refine zr_iconst S dX0_insert_82 ?_
            refine zr_iadd S dX0_insert_83 (fun v38 e39 => ?_)
            have hR2 : zRep σ36 (T.take a.toNat ++ q :: T.drop a.toNat) := by rw [s37]; have h := hI.2.2; rw [← e24, ← e21, join2 j29 j34] at h; exact h
            exact zt_iret S hr hlk hw (by rw [sInsert, if_neg (by omega), if_neg (by omega)]; exact ⟨by dsimp only; omega, hR2⟩) dX0_insert_84
          · refine zr_iconst S dX0_insert_33 ?_
            exact zt_iret S hr hlk hw (by rw [sInsert, if_neg (by omega), if_pos (by omega)]; exact ⟨rfl, hR⟩) dX0_insert_34
  · refine zr_bipush S (by decide +kernel) dX0_insert_11 ?_
    exact zt_iret S hr hlk hw (by rw [sInsert, if_pos (by omega)]; exact ⟨rfl, hR⟩) dX0_insert_13
set_option maxHeartbeats 4000000 in
theorem met_erase (l : Launch) (g : zG) (σ : zS) (T : List Int) (f n : Int) (hR : zRep σ T) (hf : zR f) (hn : zR n) : zt_Mi l yX0_erase cX0_erase 3 (some .int) ({ frames := 5, cells := 0, slots := 0, locals := 122 }) g σ [f, n] (fun r σ' => r = (sErase T f n).1 ∧ zRep σ' (sErase T f n).2) := by
  refine zt_ofi (by decide +kernel) rfl (Nat.le_of_ble_eq_true rfl) ?_
  intro p e s m args below meth c ls ⟨S, hr, hlk, hw⟩ hl
  have hl : lv_has ls 3 [(0, .ref (g.2.2 19)), (1, .int (zI f)), (2, .int (zI n))] := hl
  refine zr_aload S hl 0 rfl dX0_erase_0 ?_
  refine zr_iload_n S hl 1 rfl dX0_erase_1 ?_
  refine zr_iload_n S hl 2 rfl dX0_erase_2 ?_
  refine zt_calli S hw (met_isStretch l g σ f n (by omega) (by omega)) kq_isStretch rfl rfl ⟨by decide, by decide⟩ rfl rfl hl.1 (Nat.le_of_ble_eq_true rfl) ⟨Nat.zero_le _, Nat.zero_le _⟩ dX0_erase_3 (fun v3 σ1 H locs p2 hw => ?_)
  obtain ⟨hs_, hz⟩ := p2
  rw [hs_] at hw
  have hstr : (v3 = 1 ∧ sStr T f n) ∨ (v3 = 0 ∧ ¬ sStr T f n) := by unfold zStr at hz; rw [hR.len] at hz; exact hz
  have hrr : 0 ≤ v3 ∧ v3 ≤ 1 := by rcases hstr with h | h <;> omega
  refine zr_if_ne S 11 (by decide) (by omega) dX0_erase_6 (fun h4 => ?_) (fun h4 => ?_)
  · refine zr_aload S hl 0 rfl dX0_erase_11 ?_
    refine zr_iload_n S hl 1 rfl dX0_erase_12 ?_
    refine zr_iload_n S hl 2 rfl dX0_erase_13 ?_
    have hS : sStr T f n := by rcases hstr with h | h; exact h.2; exact absurd h.1 (by omega)
    have hS1 : 0 ≤ f := hS.1
    have hS2 : f ≤ (T.length : Int) := hS.2.1
    have hS3 : 0 ≤ n := hS.2.2.1
    have hS4 : n ≤ (T.length : Int) - f := hS.2.2.2
    have hT60 := hR.le
    refine zt_callv S hw (met_takeApart l g σ f n (by omega) (by omega)) kq_takeApart rfl rfl ⟨by decide, by decide⟩ rfl rfl hl.1 (Nat.le_of_ble_eq_true rfl) ⟨Nat.zero_le _, Nat.zero_le _⟩ dX0_erase_14 (fun σ5 H locs p6 hw => ?_)
    have hA : zApart σ5 (sA T f) (sB T f n) (sC T f n) := by rw [p6]; exact rep_take hR (by omega) (by omega) (by omega)
    refine zr_aload S hl 0 rfl dX0_erase_17 ?_
    refine zr_aload S hl 0 rfl dX0_erase_18 ?_
    refine zt_geti S hw 17 (by decide) rfl dX0_erase_19 (fun v7 e8 r9 => ?_)
    have r9 : (-1) ≤ v7 ∧ v7 ≤ 59 := r9
    refine zt_callv S hw (met_release l g σ5 v7 (by omega) (by rw [e8]; exact (rep_erase hA).1)) kq_release rfl rfl ⟨by decide, by decide⟩ rfl rfl hl.1 (Nat.le_of_ble_eq_true rfl) ⟨Nat.zero_le _, Nat.zero_le _⟩ dX0_erase_22 (fun σ10 H locs p11 hw => ?_)
    have hE := (rep_erase hA).2 σ10 (by rw [p11, e8])
    refine zr_aload S hl 0 rfl dX0_erase_25 ?_
    refine zr_aload S hl 0 rfl dX0_erase_26 ?_
    refine zr_aload S hl 0 rfl dX0_erase_27 ?_
    refine zt_geti S hw 16 (by decide) rfl dX0_erase_28 (fun v12 e13 r14 => ?_)
    have r14 : (-1) ≤ v12 ∧ v12 ≤ 59 := r14
    refine zr_aload S hl 0 rfl dX0_erase_31 ?_
    refine zt_geti S hw 18 (by decide) rfl dX0_erase_32 (fun v15 e16 r17 => ?_)
    have r17 : (-1) ≤ v15 ∧ v15 ≤ 59 := r17
    refine zt_calli S hw (met_join l g σ10 v12 v15 (by omega) (by omega) (by rw [e13, e16]; exact hE.1)) kq_join rfl rfl ⟨by decide, by decide⟩ rfl rfl hl.1 (Nat.le_of_ble_eq_true rfl) ⟨Nat.zero_le _, Nat.zero_le _⟩ dX0_erase_35 (fun v20 σ18 H locs p19 hw => ?_)
    obtain ⟨j21, r22⟩ := p19
    refine zt_put S hw 8 (by decide) (zt_s8 g σ18 v20) rfl (by decide +kernel) (Nat.le_of_ble_eq_true rfl) (show (-1) ≤ (v20 : Int) ∧ (v20 : Int) ≤ 59 by omega) dX0_erase_38 (fun σ23 H locs s24 hw => ?_)
    refine zr_aload S hl 0 rfl dX0_erase_41 ?_
    have hR2 : zRep σ23 (sA T f ++ sC T f n) := by rw [s24]; have h := hE.2; rw [← e13, ← e16, ← j21] at h; exact h
    refine zt_calli S hw (met_textLength l g σ23) kq_textLength rfl rfl ⟨by decide, by decide⟩ rfl rfl hl.1 (Nat.le_of_ble_eq_true rfl) ⟨Nat.zero_le _, Nat.zero_le _⟩ dX0_erase_42 (fun v27 σ25 H locs p26 hw => ?_)
    obtain ⟨hs_, e28⟩ := p26
    rw [hs_] at hw
    have n30 : v27 = ((sA T f ++ sC T f n).length : Int) := e28.trans hR2.len
    have r29 : 0 ≤ v27 ∧ v27 ≤ 60 := by have := hR2.le; omega
    have hl2 := sRest_len hS
    exact zt_iret S hr hlk hw (by rw [sErase, if_pos hS]; exact ⟨by dsimp only; omega, hR2⟩) dX0_erase_45
  · refine zr_iconst S dX0_erase_9 ?_
    have hS : ¬ sStr T f n := by rcases hstr with h | h; exact absurd h.1 (by omega); exact h.2
    exact zt_iret S hr hlk hw (by rw [sErase, if_neg hS]; exact ⟨rfl, hR⟩) dX0_erase_10
set_option maxHeartbeats 4000000 in
theorem met_move (l : Launch) (g : zG) (σ : zS) (T : List Int) (f n t : Int) (hR : zRep σ T) (hf : zR f) (hn : zR n) (ht : zR t) : zt_Mi l yX0_move cX0_move 8 (some .int) ({ frames := 5, cells := 0, slots := 0, locals := 122 }) g σ [f, n, t] (fun r σ' => r = (sMove T f n t).1 ∧ zRep σ' (sMove T f n t).2) := by
  refine zt_ofi (by decide +kernel) rfl (Nat.le_of_ble_eq_true rfl) ?_
  intro p e s m args below meth c ls ⟨S, hr, hlk, hw⟩ hl
  have hl : lv_has ls 8 [(0, .ref (g.2.2 19)), (1, .int (zI f)), (2, .int (zI n)), (3, .int (zI t))] := hl
  have hT6 := hR.le
  refine zr_aload S hl 0 rfl dX0_move_0 ?_
  refine zr_iload_n S hl 1 rfl dX0_move_1 ?_
  refine zr_iload_n S hl 2 rfl dX0_move_2 ?_
  refine zt_calli S hw (met_isStretch l g σ f n (by omega) (by omega)) kq_isStretch rfl rfl ⟨by decide, by decide⟩ rfl rfl hl.1 (Nat.le_of_ble_eq_true rfl) ⟨Nat.zero_le _, Nat.zero_le _⟩ dX0_move_3 (fun v3 σ1 H locs p2 hw => ?_)
  obtain ⟨hs_, hz⟩ := p2
  rw [hs_] at hw
  have hstr : (v3 = 1 ∧ sStr T f n) ∨ (v3 = 0 ∧ ¬ sStr T f n) := by unfold zStr at hz; rw [hR.len] at hz; exact hz
  have hrr : 0 ≤ v3 ∧ v3 ≤ 1 := by rcases hstr with h | h <;> omega
  refine zr_if_ne S 11 (by decide) (by omega) dX0_move_6 (fun h4 => ?_) (fun h4 => ?_)
  · refine zr_iload_n S hl 3 rfl dX0_move_11 ?_
    refine zr_if_lt S 25 (by decide) (by omega) dX0_move_12 (fun h5 => ?_) (fun h5 => ?_)
    · refine zr_iconst S dX0_move_25 ?_
      have hS : sStr T f n := by rcases hstr with h | h; exact h.2; exact absurd h.1 (by omega)
      exact zt_iret S hr hlk hw (by rw [sMove, if_pos hS, if_pos (by omega)]; exact ⟨rfl, hR⟩) dX0_move_26
    · refine zr_iload_n S hl 3 rfl dX0_move_15 ?_
      refine zr_aload S hl 0 rfl dX0_move_16 ?_
      refine zt_calli S hw (met_textLength l g σ) kq_textLength rfl rfl ⟨by decide, by decide⟩ rfl rfl hl.1 (Nat.le_of_ble_eq_true rfl) ⟨Nat.zero_le _, Nat.zero_le _⟩ dX0_move_17 (fun v8 σ6 H locs p7 hw => ?_)
      obtain ⟨hs_, e9⟩ := p7
      rw [hs_] at hw
      have n11 : v8 = ((T).length : Int) := e9.trans hR.len
      have r10 : 0 ≤ v8 ∧ v8 ≤ 60 := by have := hR.le; omega
      refine zr_iload_n S hl 2 rfl dX0_move_20 ?_
      refine zr_isub S dX0_move_21 (fun v12 e13 => ?_)
      refine zr_icmp_le S 27 (by decide) (by omega) (by omega) dX0_move_22 (fun h14 => ?_) (fun h14 => ?_)
      · refine zr_aload S hl 0 rfl dX0_move_27 ?_
        refine zr_iload_n S hl 1 rfl dX0_move_28 ?_
        refine zr_iload_n S hl 2 rfl dX0_move_29 ?_
        have hS : sStr T f n := by rcases hstr with h | h; exact h.2; exact absurd h.1 (by omega)
        have hS1 : 0 ≤ f := hS.1
        have hS2 : f ≤ (T.length : Int) := hS.2.1
        have hS3 : 0 ≤ n := hS.2.2.1
        have hS4 : n ≤ (T.length : Int) - f := hS.2.2.2
        have hT60 := hR.le
        refine zt_callv S hw (met_takeApart l g σ f n (by omega) (by omega)) kq_takeApart rfl rfl ⟨by decide, by decide⟩ rfl rfl hl.1 (Nat.le_of_ble_eq_true rfl) ⟨Nat.zero_le _, Nat.zero_le _⟩ dX0_move_30 (fun σ15 H locs p16 hw => ?_)
        have hA : zApart σ15 (sA T f) (sB T f n) (sC T f n) := by rw [p16]; exact rep_take hR (by omega) (by omega) (by omega)
        have hM := rep_move hA
        have hl2 := sRest_len hS
        refine zr_aload S hl 0 rfl dX0_move_33 ?_
        refine zt_geti S hw 17 (by decide) rfl dX0_move_34 (fun v17 e18 r19 => ?_)
        have r19 : (-1) ≤ v17 ∧ v17 ≤ 59 := r19
        refine zr_istore S [(4, .int (zI v17)), (0, .ref (g.2.2 19)), (1, .int (zI f)), (2, .int (zI n)), (3, .int (zI t))] hl (by decide) rfl dX0_move_37 (fun ls hl => ?_)
        refine zr_aload S hl 1 rfl dX0_move_39 ?_
        refine zr_aload S hl 1 rfl dX0_move_40 ?_
        refine zt_geti S hw 16 (by decide) rfl dX0_move_41 (fun v20 e21 r22 => ?_)
        have r22 : (-1) ≤ v20 ∧ v20 ≤ 59 := r22
        refine zr_aload S hl 1 rfl dX0_move_44 ?_
        refine zt_geti S hw 18 (by decide) rfl dX0_move_45 (fun v23 e24 r25 => ?_)
        have r25 : (-1) ≤ v23 ∧ v23 ≤ 59 := r25
        refine zt_calli S hw (met_join l g σ15 v20 v23 (by omega) (by omega) (by rw [e21, e24]; exact hM.1)) kq_join rfl rfl ⟨by decide, by decide⟩ rfl rfl hl.1 (Nat.le_of_ble_eq_true rfl) ⟨Nat.zero_le _, Nat.zero_le _⟩ dX0_move_48 (fun v28 σ26 H locs p27 hw => ?_)
        obtain ⟨j29, r30⟩ := p27
        refine zr_istore S [(5, .int (zI v28)), (4, .int (zI v17)), (0, .ref (g.2.2 19)), (1, .int (zI f)), (2, .int (zI n)), (3, .int (zI t))] hl (by decide) rfl dX0_move_51 (fun ls hl => ?_)
        refine zr_aload S hl 2 rfl dX0_move_53 ?_
        refine zr_iload S hl 0 rfl dX0_move_54 ?_
        refine zr_iload_n S hl 5 rfl dX0_move_56 ?_
        refine zt_callv S hw (met_cut l g σ26 v28 t (by omega) (by omega)) kq_cut rfl rfl ⟨by decide, by decide⟩ rfl rfl hl.1 (Nat.le_of_ble_eq_true rfl) ⟨Nat.zero_le _, Nat.zero_le _⟩ dX0_move_57 (fun σ31 H locs p32 hw => ?_)
        have hM2 := hM.2 σ26 σ31 v28 t (by rw [← e21, ← e24]; exact j29) (by omega) p32
        refine zr_aload S hl 2 rfl dX0_move_60 ?_
        refine zt_geti S hw 15 (by decide) rfl dX0_move_61 (fun v33 e34 r35 => ?_)
        have r35 : (-1) ≤ v33 ∧ v33 ≤ 59 := r35
        refine zr_istore S [(6, .int (zI v33)), (5, .int (zI v28)), (4, .int (zI v17)), (0, .ref (g.2.2 19)), (1, .int (zI f)), (2, .int (zI n)), (3, .int (zI t))] hl (by decide) rfl dX0_move_64 (fun ls hl => ?_)
        refine zr_aload S hl 3 rfl dX0_move_66 ?_
        refine zr_aload S hl 3 rfl dX0_move_67 ?_
        refine zt_geti S hw 14 (by decide) rfl dX0_move_68 (fun v36 e37 r38 => ?_)
        have r38 : (-1) ≤ v36 ∧ v36 ≤ 59 := r38
        refine zr_iload S hl 2 rfl dX0_move_71 ?_
        refine zt_calli S hw (met_join l g σ31 v36 v17 (by omega) (by omega) (by rw [e37, e18]; exact hM2.1)) kq_join rfl rfl ⟨by decide, by decide⟩ rfl rfl hl.1 (Nat.le_of_ble_eq_true rfl) ⟨Nat.zero_le _, Nat.zero_le _⟩ dX0_move_73 (fun v41 σ39 H locs p40 hw => ?_)
        obtain ⟨j42, r43⟩ := p40
        refine zr_istore S [(7, .int (zI v41)), (6, .int (zI v33)), (5, .int (zI v28)), (4, .int (zI v17)), (0, .ref (g.2.2 19)), (1, .int (zI f)), (2, .int (zI n)), (3, .int (zI t))] hl (by decide) rfl dX0_move_76 (fun ls hl => ?_)
        refine zr_aload S hl 4 rfl dX0_move_78 ?_
        refine zr_aload S hl 4 rfl dX0_move_79 ?_
        refine zr_iload S hl 0 rfl dX0_move_80 ?_
        refine zr_iload S hl 1 rfl dX0_move_82 ?_
        refine zt_calli S hw (met_join l g σ39 v41 v33 (by omega) (by omega) (by have h := hM2.2.1; rw [← e37, ← e34, ← e18, ← j42] at h; exact h)) kq_join rfl rfl ⟨by decide, by decide⟩ rfl rfl hl.1 (Nat.le_of_ble_eq_true rfl) ⟨Nat.zero_le _, Nat.zero_le _⟩ dX0_move_84 (fun v46 σ44 H locs p45 hw => ?_)
        obtain ⟨j47, r48⟩ := p45
        refine zt_put S hw 8 (by decide) (zt_s8 g σ44 v46) rfl (by decide +kernel) (Nat.le_of_ble_eq_true rfl) (show (-1) ≤ (v46 : Int) ∧ (v46 : Int) ≤ 59 by omega) dX0_move_87 (fun σ49 H locs s50 hw => ?_)
        refine zr_aload S hl 4 rfl dX0_move_90 ?_
        have hR2 : zRep σ49 (sMoved (sA T f ++ sC T f n) (sB T f n) t) := by rw [s50]; have h := hM2.2.2; rw [← e37, ← e34, ← e18, join2 j42 j47] at h; exact h
        refine zt_calli S hw (met_textLength l g σ49) kq_textLength rfl rfl ⟨by decide, by decide⟩ rfl rfl hl.1 (Nat.le_of_ble_eq_true rfl) ⟨Nat.zero_le _, Nat.zero_le _⟩ dX0_move_91 (fun v53 σ51 H locs p52 hw => ?_)
        obtain ⟨hs_, e54⟩ := p52
        rw [hs_] at hw
        have n56 : v53 = ((sMoved (sA T f ++ sC T f n) (sB T f n) t).length : Int) := e54.trans hR2.len
        have r55 : 0 ≤ v53 ∧ v53 ≤ 60 := by have := hR2.le; omega
        have hl3 := sMoved_len (sA T f ++ sC T f n) (sB T f n) t
        have hl4 := sB_len hS1 hS3 (show f + n ≤ (T.length : Int) by omega)
        exact zt_iret S hr hlk hw (by rw [sMove, if_pos hS, if_neg (by omega)]; exact ⟨by dsimp only; omega, hR2⟩) dX0_move_94
      · refine zr_iconst S dX0_move_25 ?_
        have hS : sStr T f n := by rcases hstr with h | h; exact h.2; exact absurd h.1 (by omega)
        exact zt_iret S hr hlk hw (by rw [sMove, if_pos hS, if_pos (by omega)]; exact ⟨rfl, hR⟩) dX0_move_26
  · refine zr_iconst S dX0_move_9 ?_
    have hS : ¬ sStr T f n := by rcases hstr with h | h; exact absurd h.1 (by omega); exact h.2
    exact zt_iret S hr hlk hw (by rw [sMove, if_neg hS]; exact ⟨rfl, hR⟩) dX0_move_10
set_option maxHeartbeats 4000000 in
theorem met_mirror (l : Launch) (g : zG) (σ : zS) (T : List Int) (f n : Int) (hR : zRep σ T) (hf : zR f) (hn : zR n) : zt_Mi l yX0_mirror cX0_mirror 3 (some .int) ({ frames := 5, cells := 0, slots := 0, locals := 123 }) g σ [f, n] (fun r σ' => r = (sMirror T f n).1 ∧ zRep σ' (sMirror T f n).2) := by
  refine zt_ofi (by decide +kernel) rfl (Nat.le_of_ble_eq_true rfl) ?_
  intro p e s m args below meth c ls ⟨S, hr, hlk, hw⟩ hl
  have hl : lv_has ls 3 [(0, .ref (g.2.2 19)), (1, .int (zI f)), (2, .int (zI n))] := hl
  refine zr_aload S hl 0 rfl dX0_mirror_0 ?_
  refine zr_iload_n S hl 1 rfl dX0_mirror_1 ?_
  refine zr_iload_n S hl 2 rfl dX0_mirror_2 ?_
  refine zt_calli S hw (met_isStretch l g σ f n (by omega) (by omega)) kq_isStretch rfl rfl ⟨by decide, by decide⟩ rfl rfl hl.1 (Nat.le_of_ble_eq_true rfl) ⟨Nat.zero_le _, Nat.zero_le _⟩ dX0_mirror_3 (fun v3 σ1 H locs p2 hw => ?_)
  obtain ⟨hs_, hz⟩ := p2
  rw [hs_] at hw
  have hstr : (v3 = 1 ∧ sStr T f n) ∨ (v3 = 0 ∧ ¬ sStr T f n) := by unfold zStr at hz; rw [hR.len] at hz; exact hz
  have hrr : 0 ≤ v3 ∧ v3 ≤ 1 := by rcases hstr with h | h <;> omega
  refine zr_if_ne S 11 (by decide) (by omega) dX0_mirror_6 (fun h4 => ?_) (fun h4 => ?_)
  · refine zr_aload S hl 0 rfl dX0_mirror_11 ?_
    refine zr_iload_n S hl 1 rfl dX0_mirror_12 ?_
    refine zr_iload_n S hl 2 rfl dX0_mirror_13 ?_
    have hS : sStr T f n := by rcases hstr with h | h; exact h.2; exact absurd h.1 (by omega)
    have hS1 : 0 ≤ f := hS.1
    have hS2 : f ≤ (T.length : Int) := hS.2.1
    have hS3 : 0 ≤ n := hS.2.2.1
    have hS4 : n ≤ (T.length : Int) - f := hS.2.2.2
    have hT60 := hR.le
    refine zt_callv S hw (met_takeApart l g σ f n (by omega) (by omega)) kq_takeApart rfl rfl ⟨by decide, by decide⟩ rfl rfl hl.1 (Nat.le_of_ble_eq_true rfl) ⟨Nat.zero_le _, Nat.zero_le _⟩ dX0_mirror_14 (fun σ5 H locs p6 hw => ?_)
    have hA : zApart σ5 (sA T f) (sB T f n) (sC T f n) := by rw [p6]; exact rep_take hR (by omega) (by omega) (by omega)
    refine zr_aload S hl 0 rfl dX0_mirror_17 ?_
    refine zt_geti S hw 17 (by decide) rfl dX0_mirror_18 (fun v7 e8 r9 => ?_)
    have r9 : (-1) ≤ v7 ∧ v7 ≤ 59 := r9
    refine zr_if_lt S 32 (by decide) (by omega) dX0_mirror_21 (fun h10 => ?_) (fun h10 => ?_)
    · refine zr_aload S hl 0 rfl dX0_mirror_32 ?_
      have hB : sB T f n = [] := (apart_mid hA).1 (by omega)
      have hA : zApart σ5 (sA T f) (bmir (sB T f n)) (sC T f n) := by rw [hB] at hA ⊢; exact hA
      refine zt_callv S hw (met_putTogether l g σ5 (apart_put hA).1) kq_putTogether rfl rfl ⟨by decide, by decide⟩ rfl rfl hl.1 (Nat.le_of_ble_eq_true rfl) ⟨Nat.zero_le _, Nat.zero_le _⟩ dX0_mirror_33 (fun σ11 H locs p12 hw => ?_)
      have hR2 : zRep σ11 (sA T f ++ (bmir (sB T f n) ++ sC T f n)) := by rw [p12]; exact (apart_put hA).2
      refine zr_aload S hl 0 rfl dX0_mirror_36 ?_
      refine zt_calli S hw (met_textLength l g σ11) kq_textLength rfl rfl ⟨by decide, by decide⟩ rfl rfl hl.1 (Nat.le_of_ble_eq_true rfl) ⟨Nat.zero_le _, Nat.zero_le _⟩ dX0_mirror_37 (fun v15 σ13 H locs p14 hw => ?_)
      obtain ⟨hs_, e16⟩ := p14
      rw [hs_] at hw
      have n18 : v15 = ((sA T f ++ (bmir (sB T f n) ++ sC T f n)).length : Int) := e16.trans hR2.len
      have r17 : 0 ≤ v15 ∧ v15 ≤ 60 := by have := hR2.le; omega
      have hl2 := sMir_len T f n
      exact zt_iret S hr hlk hw (by rw [sMirror, if_pos hS]; exact ⟨by dsimp only; omega, hR2⟩) dX0_mirror_40
    · refine zr_aload S hl 0 rfl dX0_mirror_24 ?_
      refine zr_aload S hl 0 rfl dX0_mirror_25 ?_
      refine zt_geti S hw 17 (by decide) rfl dX0_mirror_26 (fun v19 e20 r21 => ?_)
      have r21 : (-1) ≤ v19 ∧ v19 ≤ 59 := r21
      refine zt_callv S hw (met_turn l g σ5 v19 (by omega)) kq_turn rfl rfl ⟨by decide, by decide⟩ rfl rfl hl.1 (Nat.le_of_ble_eq_true rfl) ⟨Nat.zero_le _, Nat.zero_le _⟩ dX0_mirror_29 (fun σ22 H locs p23 hw => ?_)
      have hA : zApart σ22 (sA T f) (bmir (sB T f n)) (sC T f n) := by rw [p23, e20]; exact apart_turn hA (by omega)
      refine zr_aload S hl 0 rfl dX0_mirror_32 ?_
      refine zt_callv S hw (met_putTogether l g σ22 (apart_put hA).1) kq_putTogether rfl rfl ⟨by decide, by decide⟩ rfl rfl hl.1 (Nat.le_of_ble_eq_true rfl) ⟨Nat.zero_le _, Nat.zero_le _⟩ dX0_mirror_33 (fun σ24 H locs p25 hw => ?_)
      have hR2 : zRep σ24 (sA T f ++ (bmir (sB T f n) ++ sC T f n)) := by rw [p25]; exact (apart_put hA).2
      refine zr_aload S hl 0 rfl dX0_mirror_36 ?_
      refine zt_calli S hw (met_textLength l g σ24) kq_textLength rfl rfl ⟨by decide, by decide⟩ rfl rfl hl.1 (Nat.le_of_ble_eq_true rfl) ⟨Nat.zero_le _, Nat.zero_le _⟩ dX0_mirror_37 (fun v28 σ26 H locs p27 hw => ?_)
      obtain ⟨hs_, e29⟩ := p27
      rw [hs_] at hw
      have n31 : v28 = ((sA T f ++ (bmir (sB T f n) ++ sC T f n)).length : Int) := e29.trans hR2.len
      have r30 : 0 ≤ v28 ∧ v28 ≤ 60 := by have := hR2.le; omega
      have hl2 := sMir_len T f n
      exact zt_iret S hr hlk hw (by rw [sMirror, if_pos hS]; exact ⟨by dsimp only; omega, hR2⟩) dX0_mirror_40
  · refine zr_iconst S dX0_mirror_9 ?_
    have hS : ¬ sStr T f n := by rcases hstr with h | h; exact absurd h.1 (by omega); exact h.2
    exact zt_iret S hr hlk hw (by rw [sMirror, if_neg hS]; exact ⟨rfl, hR⟩) dX0_mirror_10
set_option maxHeartbeats 4000000 in
theorem met_codeAt (l : Launch) (g : zG) (σ : zS) (T : List Int) (a : Int) (hR : zRep σ T) (ha : zR a) : zt_Mi l yX0_codeAt cX0_codeAt 3 (some .int) ({ frames := 5, cells := 0, slots := 0, locals := 123 }) g σ [a] (fun r σ' => r = sCode T a ∧ zRep σ' T) := by
  refine zt_ofi (by decide +kernel) rfl (Nat.le_of_ble_eq_true rfl) ?_
  intro p e s m args below meth c ls ⟨S, hr, hlk, hw⟩ hl
  have hl : lv_has ls 3 [(0, .ref (g.2.2 19)), (1, .int (zI a))] := hl
  refine zr_iload_n S hl 1 rfl dX0_codeAt_0 ?_
  refine zr_if_lt S 12 (by decide) (by omega) dX0_codeAt_1 (fun h1 => ?_) (fun h1 => ?_)
  · refine zr_iconst S dX0_codeAt_12 ?_
    exact zt_iret S hr hlk hw (⟨by rw [sCode, if_pos (by omega)], hR⟩) dX0_codeAt_13
  · refine zr_iload_n S hl 1 rfl dX0_codeAt_4 ?_
    refine zr_aload S hl 0 rfl dX0_codeAt_5 ?_
    refine zt_calli S hw (met_textLength l g σ) kq_textLength rfl rfl ⟨by decide, by decide⟩ rfl rfl hl.1 (Nat.le_of_ble_eq_true rfl) ⟨Nat.zero_le _, Nat.zero_le _⟩ dX0_codeAt_6 (fun v4 σ2 H locs p3 hw => ?_)
    obtain ⟨hs_, e5⟩ := p3
    rw [hs_] at hw
    have n7 : v4 = ((T).length : Int) := e5.trans hR.len
    have r6 : 0 ≤ v4 ∧ v4 ≤ 60 := by have := hR.le; omega
    refine zr_icmp_lt S 14 (by decide) (by omega) (by omega) dX0_codeAt_9 (fun h8 => ?_) (fun h8 => ?_)
    · refine zr_aload S hl 0 rfl dX0_codeAt_14 ?_
      refine zr_iload_n S hl 1 rfl dX0_codeAt_15 ?_
      obtain ⟨σn, y, hN1, hN2, hN3, hN4⟩ := rep_nodeAt hR (k := a) (by omega) (by omega)
      refine zt_calli S hw (met_nodeAt l g σ a (y : Int) σn (by omega) hN1) kq_nodeAt rfl rfl ⟨by decide, by decide⟩ rfl rfl hl.1 (Nat.le_of_ble_eq_true rfl) ⟨Nat.zero_le _, Nat.zero_le _⟩ dX0_codeAt_16 (fun v11 σ9 H locs p10 hw => ?_)
      obtain ⟨hs_, hy, hy2⟩ := p10
      have hRn : zRep σ9 T := by rw [hs_]; exact hN4
      refine zr_istore_n S [(2, .int (zI v11)), (0, .ref (g.2.2 19)), (1, .int (zI a))] hl (by decide) rfl dX0_codeAt_19 (fun ls hl => ?_)
      refine zr_aload S hl 1 rfl dX0_codeAt_20 ?_
      refine zt_get S hw 0 (.ref (g.2.2 0)) (by decide) rfl dX0_codeAt_21 ?_
      refine zr_iload_n S hl 0 rfl dX0_codeAt_24 ?_
      refine zt_bald S hw 0 60 1 0 (i := v11) (by omega) (by omega) (by omega) rfl rfl dX0_codeAt_25 (fun v12 e13 r14 => ?_)
      have r14 : 0 ≤ v12 ∧ v12 ≤ 6 := r14
      have hcd : v12 = sAt T a := by rw [e13, hs_, hy, Int.toNat_natCast]; exact hN3
      exact zt_iret S hr hlk hw (⟨by rw [sCode, if_neg (by omega)]; exact hcd, hRn⟩) dX0_codeAt_26
    · refine zr_iconst S dX0_codeAt_12 ?_
      exact zt_iret S hr hlk hw (⟨by rw [sCode, if_pos (by omega)], hR⟩) dX0_codeAt_13
set_option maxHeartbeats 4000000 in
theorem met_partner (l : Launch) (g : zG) (σ : zS) (T : List Int) (a : Int) (hR : zRep σ T) (ha : zR a) : zt_Mi l yX0_partner cX0_partner 6 (some .int) ({ frames := 5, cells := 0, slots := 0, locals := 123 }) g σ [a] (fun r σ' => r = sPartner T a ∧ zRep σ' T) := by
  refine zt_ofi (by decide +kernel) rfl (Nat.le_of_ble_eq_true rfl) ?_
  intro p e s m args below meth c ls ⟨S, hr, hlk, hw⟩ hl
  have hl : lv_has ls 6 [(0, .ref (g.2.2 19)), (1, .int (zI a))] := hl
  refine zr_iload_n S hl 1 rfl dX0_partner_0 ?_
  refine zr_if_lt S 12 (by decide) (by omega) dX0_partner_1 (fun h1 => ?_) (fun h1 => ?_)
  · refine zr_iconst S dX0_partner_12 ?_
    exact zt_iret S hr hlk hw (⟨by rw [sPartner, if_pos (by omega)], hR⟩) dX0_partner_13
  · refine zr_iload_n S hl 1 rfl dX0_partner_4 ?_
    refine zr_aload S hl 0 rfl dX0_partner_5 ?_
    refine zt_calli S hw (met_textLength l g σ) kq_textLength rfl rfl ⟨by decide, by decide⟩ rfl rfl hl.1 (Nat.le_of_ble_eq_true rfl) ⟨Nat.zero_le _, Nat.zero_le _⟩ dX0_partner_6 (fun v4 σ2 H locs p3 hw => ?_)
    obtain ⟨hs_, e5⟩ := p3
    rw [hs_] at hw
    have n7 : v4 = ((T).length : Int) := e5.trans hR.len
    have r6 : 0 ≤ v4 ∧ v4 ≤ 60 := by have := hR.le; omega
    refine zr_icmp_lt S 14 (by decide) (by omega) (by omega) dX0_partner_9 (fun h8 => ?_) (fun h8 => ?_)
    · refine zr_aload S hl 0 rfl dX0_partner_14 ?_
      refine zr_iload_n S hl 1 rfl dX0_partner_15 ?_
      obtain ⟨σn, y, hN1, hN2, hN3, hN4⟩ := rep_nodeAt hR (k := a) (by omega) (by omega)
      refine zt_calli S hw (met_nodeAt l g σ a (y : Int) σn (by omega) hN1) kq_nodeAt rfl rfl ⟨by decide, by decide⟩ rfl rfl hl.1 (Nat.le_of_ble_eq_true rfl) ⟨Nat.zero_le _, Nat.zero_le _⟩ dX0_partner_16 (fun v11 σ9 H locs p10 hw => ?_)
      obtain ⟨hs_, hy, hy2⟩ := p10
      have hRn : zRep σ9 T := by rw [hs_]; exact hN4
      refine zr_istore_n S [(2, .int (zI v11)), (0, .ref (g.2.2 19)), (1, .int (zI a))] hl (by decide) rfl dX0_partner_19 (fun ls hl => ?_)
      refine zr_aload S hl 1 rfl dX0_partner_20 ?_
      refine zt_get S hw 0 (.ref (g.2.2 0)) (by decide) rfl dX0_partner_21 ?_
      refine zr_iload_n S hl 0 rfl dX0_partner_24 ?_
      refine zt_bald S hw 0 60 1 0 (i := v11) (by omega) (by omega) (by omega) rfl rfl dX0_partner_25 (fun v12 e13 r14 => ?_)
      have r14 : 0 ≤ v12 ∧ v12 ≤ 6 := r14
      refine zr_istore_n S [(3, .int (zI v12)), (2, .int (zI v11)), (0, .ref (g.2.2 19)), (1, .int (zI a))] hl (by decide) rfl dX0_partner_26 (fun ls hl => ?_)
      refine zr_iload_n S hl 0 rfl dX0_partner_27 ?_
      refine zr_if_ne S 34 (by decide) (by omega) dX0_partner_28 (fun h15 => ?_) (fun h15 => ?_)
      · refine zr_aload S hl 2 rfl dX0_partner_34 ?_
        refine zr_iload_n S hl 3 rfl dX0_partner_35 ?_
        refine zr_iconst S dX0_partner_36 ?_
        have hcd : v12 = sAt T a := by rw [e13, hs_, hy, Int.toNat_natCast]; exact hN3
        refine zt_callv S hw (met_takeApart l g σ9 a 1 (by omega) (by omega)) kq_takeApart rfl rfl ⟨by decide, by decide⟩ rfl rfl hl.1 (Nat.le_of_ble_eq_true rfl) ⟨Nat.zero_le _, Nat.zero_le _⟩ dX0_partner_37 (fun σ16 H locs p17 hw => ?_)
        have hA : zApart σ16 (sA T a) (sB T a 1) (sC T a 1) := by rw [p17]; exact rep_take hRn (by omega) (by omega) (by omega)
        refine zr_bipush S (by decide +kernel) dX0_partner_40 ?_
        refine zr_istore S [(4, .int (zI (-3))), (3, .int (zI v12)), (2, .int (zI v11)), (0, .ref (g.2.2 19)), (1, .int (zI a))] hl (by decide) rfl dX0_partner_42 (fun ls hl => ?_)
        refine zr_iload_n S hl 1 rfl dX0_partner_44 ?_
        refine zr_iconst S dX0_partner_45 ?_
        refine zr_icmp_gt S 78 (by decide) (by omega) (by omega) dX0_partner_46 (fun h18 => ?_) (fun h18 => ?_)
        · refine zr_aload S hl 3 rfl dX0_partner_78 ?_
          refine zr_aload S hl 3 rfl dX0_partner_79 ?_
          refine zt_geti S hw 16 (by decide) rfl dX0_partner_80 (fun v19 e20 r21 => ?_)
          have r21 : (-1) ≤ v19 ∧ v19 ≤ 59 := r21
          refine zr_iload_n S hl 1 rfl dX0_partner_83 ?_
          refine zr_iconst S dX0_partner_84 ?_
          refine zr_isub S dX0_partner_85 (fun v22 e23 => ?_)
          refine zr_iconst S dX0_partner_86 ?_
          refine zt_calli S hw (met_lastLooseOpen l g σ16 v19 v22 0 (by omega) (by omega) (by omega)) kq_lastLooseOpen rfl rfl ⟨by decide, by decide⟩ rfl rfl hl.1 (Nat.le_of_ble_eq_true rfl) ⟨Nat.zero_le _, Nat.zero_le _⟩ dX0_partner_87 (fun v26 σ24 H locs p25 hw => ?_)
          obtain ⟨ej, er⟩ := p25
          have hF := apart_ll hA (k := sAt T a - 4) (d := 0) (by omega) (by omega)
          have hkk : v22 = sAt T a - 4 := by omega
          rw [← e20, ← hkk, ← ej] at hF
          have hf : v26 = bll (sAt T a - 4) 0 (sA T a).length (sA T a).reverse := by rw [← hkk]; exact hF.1
          have hA : zApart σ24 (sA T a) (sB T a 1) (sC T a 1) := hF.2
          refine zr_istore S [(5, .int (zI v26)), (4, .int (zI (-3))), (3, .int (zI v12)), (2, .int (zI v11)), (0, .ref (g.2.2 19)), (1, .int (zI a))] hl (by decide) rfl dX0_partner_90 (fun ls hl => ?_)
          refine zr_iload S hl 0 rfl dX0_partner_92 ?_
          refine zr_if_lt S 101 (by decide) (by omega) dX0_partner_94 (fun h27 => ?_) (fun h27 => ?_)
          · refine zr_aload S hl 4 rfl dX0_partner_101 ?_
            refine zt_callv S hw (met_putTogether l g σ24 (apart_put hA).1) kq_putTogether rfl rfl ⟨by decide, by decide⟩ rfl rfl hl.1 (Nat.le_of_ble_eq_true rfl) ⟨Nat.zero_le _, Nat.zero_le _⟩ dX0_partner_102 (fun σ28 H locs p29 hw => ?_)
            have hR2 : zRep σ28 T := by rw [p29]; have h := (apart_put hA).2; rw [sABC] at h; exact h
            refine zr_iload S hl 1 rfl dX0_partner_105 ?_
            exact zt_iret S hr hlk hw (⟨by rw [sPartner, if_neg (by omega), if_neg (by omega), if_neg (by omega), sFound, if_pos (by omega)], hR2⟩) dX0_partner_107
          · refine zr_iload S hl 0 rfl dX0_partner_97 ?_
            refine zr_istore S [(4, .int (zI v26)), (5, .int (zI v26)), (3, .int (zI v12)), (2, .int (zI v11)), (0, .ref (g.2.2 19)), (1, .int (zI a))] hl (by decide) rfl dX0_partner_99 (fun ls hl => ?_)
            refine zr_aload S hl 4 rfl dX0_partner_101 ?_
            refine zt_callv S hw (met_putTogether l g σ24 (apart_put hA).1) kq_putTogether rfl rfl ⟨by decide, by decide⟩ rfl rfl hl.1 (Nat.le_of_ble_eq_true rfl) ⟨Nat.zero_le _, Nat.zero_le _⟩ dX0_partner_102 (fun σ30 H locs p31 hw => ?_)
            have hR2 : zRep σ30 T := by rw [p31]; have h := (apart_put hA).2; rw [sABC] at h; exact h
            refine zr_iload S hl 0 rfl dX0_partner_105 ?_
            exact zt_iret S hr hlk hw (⟨by rw [sPartner, if_neg (by omega), if_neg (by omega), if_neg (by omega), sFound, if_neg (by omega)]; omega, hR2⟩) dX0_partner_107
        · refine zr_aload S hl 3 rfl dX0_partner_49 ?_
          refine zr_aload S hl 3 rfl dX0_partner_50 ?_
          refine zt_geti S hw 18 (by decide) rfl dX0_partner_51 (fun v32 e33 r34 => ?_)
          have r34 : (-1) ≤ v32 ∧ v32 ≤ 59 := r34
          refine zr_iload_n S hl 1 rfl dX0_partner_54 ?_
          refine zr_iconst S dX0_partner_55 ?_
          refine zr_isub S dX0_partner_56 (fun v35 e36 => ?_)
          refine zt_calli S hw (met_firstLooseClose l g σ16 v32 v35 (by omega) (by omega)) kq_firstLooseClose rfl rfl ⟨by decide, by decide⟩ rfl rfl hl.1 (Nat.le_of_ble_eq_true rfl) ⟨Nat.zero_le _, Nat.zero_le _⟩ dX0_partner_57 (fun v39 σ37 H locs p38 hw => ?_)
          obtain ⟨ej, er⟩ := p38
          have hF := apart_fl hA (k := sAt T a - 1) (by omega)
          have hkk : v35 = sAt T a - 1 := by omega
          rw [← e33, ← hkk, ← ej] at hF
          have hf : v39 = bfl (sAt T a - 1) 0 0 (sC T a 1) := by rw [← hkk]; exact hF.1
          have hA : zApart σ37 (sA T a) (sB T a 1) (sC T a 1) := hF.2
          refine zr_istore S [(5, .int (zI v39)), (4, .int (zI (-3))), (3, .int (zI v12)), (2, .int (zI v11)), (0, .ref (g.2.2 19)), (1, .int (zI a))] hl (by decide) rfl dX0_partner_60 (fun ls hl => ?_)
          refine zr_iload S hl 0 rfl dX0_partner_62 ?_
          refine zr_if_lt S 75 (by decide) (by omega) dX0_partner_64 (fun h40 => ?_) (fun h40 => ?_)
          · refine zr_goto S 101 (by decide) dX0_partner_75 ?_
            refine zr_aload S hl 4 rfl dX0_partner_101 ?_
            refine zt_callv S hw (met_putTogether l g σ37 (apart_put hA).1) kq_putTogether rfl rfl ⟨by decide, by decide⟩ rfl rfl hl.1 (Nat.le_of_ble_eq_true rfl) ⟨Nat.zero_le _, Nat.zero_le _⟩ dX0_partner_102 (fun σ41 H locs p42 hw => ?_)
            have hR2 : zRep σ41 T := by rw [p42]; have h := (apart_put hA).2; rw [sABC] at h; exact h
            refine zr_iload S hl 1 rfl dX0_partner_105 ?_
            exact zt_iret S hr hlk hw (⟨by rw [sPartner, if_neg (by omega), if_neg (by omega), if_pos (by omega), sFound, if_pos (by omega)], hR2⟩) dX0_partner_107
          · refine zr_iload_n S hl 5 rfl dX0_partner_67 ?_
            refine zr_iconst S dX0_partner_68 ?_
            refine zr_iadd S dX0_partner_69 (fun v43 e44 => ?_)
            refine zr_iload S hl 0 rfl dX0_partner_70 ?_
            refine zr_iadd S dX0_partner_72 (fun v45 e46 => ?_)
            refine zr_istore S [(4, .int (zI v45)), (5, .int (zI v39)), (3, .int (zI v12)), (2, .int (zI v11)), (0, .ref (g.2.2 19)), (1, .int (zI a))] hl (by decide) rfl dX0_partner_73 (fun ls hl => ?_)
            refine zr_goto S 101 (by decide) dX0_partner_75 ?_
            refine zr_aload S hl 4 rfl dX0_partner_101 ?_
            refine zt_callv S hw (met_putTogether l g σ37 (apart_put hA).1) kq_putTogether rfl rfl ⟨by decide, by decide⟩ rfl rfl hl.1 (Nat.le_of_ble_eq_true rfl) ⟨Nat.zero_le _, Nat.zero_le _⟩ dX0_partner_102 (fun σ47 H locs p48 hw => ?_)
            have hR2 : zRep σ47 T := by rw [p48]; have h := (apart_put hA).2; rw [sABC] at h; exact h
            refine zr_iload S hl 0 rfl dX0_partner_105 ?_
            exact zt_iret S hr hlk hw (⟨by rw [sPartner, if_neg (by omega), if_neg (by omega), if_pos (by omega), sFound, if_neg (by omega)]; omega, hR2⟩) dX0_partner_107
      · refine zr_bipush S (by decide +kernel) dX0_partner_31 ?_
        have hcd : v12 = sAt T a := by rw [e13, hs_, hy, Int.toNat_natCast]; exact hN3
        exact zt_iret S hr hlk hw (⟨by rw [sPartner, if_neg (by omega), if_pos (by omega)], hRn⟩) dX0_partner_33
    · refine zr_iconst S dX0_partner_12 ?_
      exact zt_iret S hr hlk hw (⟨by rw [sPartner, if_pos (by omega)], hR⟩) dX0_partner_13
set_option maxHeartbeats 4000000 in
theorem met_around (l : Launch) (g : zG) (σ : zS) (T : List Int) (a k : Int) (hR : zRep σ T) (ha : zR a) (hk : zR k) : zt_Mi l yX0_around cX0_around 4 (some .int) ({ frames := 5, cells := 0, slots := 0, locals := 123 }) g σ [a, k] (fun r σ' => r = sAround T a k ∧ zRep σ' T) := by
  refine zt_ofi (by decide +kernel) rfl (Nat.le_of_ble_eq_true rfl) ?_
  intro p e s m args below meth c ls ⟨S, hr, hlk, hw⟩ hl
  have hl : lv_has ls 4 [(0, .ref (g.2.2 19)), (1, .int (zI a)), (2, .int (zI k))] := hl
  refine zr_iload_n S hl 1 rfl dX0_around_0 ?_
  refine zr_if_lt S 22 (by decide) (by omega) dX0_around_1 (fun h1 => ?_) (fun h1 => ?_)
  · refine zr_iconst S dX0_around_22 ?_
    exact zt_iret S hr hlk hw (⟨by rw [sAround, if_pos (by omega)], hR⟩) dX0_around_23
  · refine zr_iload_n S hl 1 rfl dX0_around_4 ?_
    refine zr_aload S hl 0 rfl dX0_around_5 ?_
    refine zt_calli S hw (met_textLength l g σ) kq_textLength rfl rfl ⟨by decide, by decide⟩ rfl rfl hl.1 (Nat.le_of_ble_eq_true rfl) ⟨Nat.zero_le _, Nat.zero_le _⟩ dX0_around_6 (fun v4 σ2 H locs p3 hw => ?_)
    obtain ⟨hs_, e5⟩ := p3
    rw [hs_] at hw
    have n7 : v4 = ((T).length : Int) := e5.trans hR.len
    have r6 : 0 ≤ v4 ∧ v4 ≤ 60 := by have := hR.le; omega
    refine zr_icmp_ge S 22 (by decide) (by omega) (by omega) dX0_around_9 (fun h8 => ?_) (fun h8 => ?_)
    · refine zr_iconst S dX0_around_22 ?_
      exact zt_iret S hr hlk hw (⟨by rw [sAround, if_pos (by omega)], hR⟩) dX0_around_23
    · refine zr_iload_n S hl 2 rfl dX0_around_12 ?_
      refine zr_iconst S dX0_around_13 ?_
      refine zr_icmp_lt S 22 (by decide) (by omega) (by omega) dX0_around_14 (fun h9 => ?_) (fun h9 => ?_)
      · refine zr_iconst S dX0_around_22 ?_
        exact zt_iret S hr hlk hw (⟨by rw [sAround, if_pos (by omega)], hR⟩) dX0_around_23
      · refine zr_iload_n S hl 2 rfl dX0_around_17 ?_
        refine zr_iconst S dX0_around_18 ?_
        refine zr_icmp_le S 24 (by decide) (by omega) (by omega) dX0_around_19 (fun h10 => ?_) (fun h10 => ?_)
        · refine zr_aload S hl 0 rfl dX0_around_24 ?_
          refine zr_iload_n S hl 1 rfl dX0_around_25 ?_
          refine zr_iconst S dX0_around_26 ?_
          refine zt_callv S hw (met_takeApart l g σ a 1 (by omega) (by omega)) kq_takeApart rfl rfl ⟨by decide, by decide⟩ rfl rfl hl.1 (Nat.le_of_ble_eq_true rfl) ⟨Nat.zero_le _, Nat.zero_le _⟩ dX0_around_27 (fun σ11 H locs p12 hw => ?_)
          have hA : zApart σ11 (sA T a) (sB T a 1) (sC T a 1) := by rw [p12]; exact rep_take hR (by omega) (by omega) (by omega)
          refine zr_bipush S (by decide +kernel) dX0_around_30 ?_
          refine zr_istore_n S [(3, .int (zI (-3))), (0, .ref (g.2.2 19)), (1, .int (zI a)), (2, .int (zI k))] hl (by decide) rfl dX0_around_32 (fun ls hl => ?_)
          refine zr_aload S hl 1 rfl dX0_around_33 ?_
          refine zr_iload_n S hl 3 rfl dX0_around_34 ?_
          obtain ⟨hp1, hp2, hp3⟩ := apart_pairs hA (k := k) (by omega) (by omega) (by omega)
          refine zt_calli S hw (met_pairsAround l g σ11 k (by omega) hp1) kq_pairsAround rfl rfl ⟨by decide, by decide⟩ rfl rfl hl.1 (Nat.le_of_ble_eq_true rfl) ⟨Nat.zero_le _, Nat.zero_le _⟩ dX0_around_35 (fun v15 σ13 H locs p14 hw => ?_)
          obtain ⟨hs_, e16⟩ := p14
          rw [hs_] at hw
          have r17 : -200 ≤ v15 ∧ v15 ≤ 200 := by rw [e16]; exact zPairs_r hw.2.2.2.2.1 _
          have hpr : v15 = sPairs T a k := e16.trans hp3
          refine zr_if_le S 73 (by decide) (by omega) dX0_around_38 (fun h18 => ?_) (fun h18 => ?_)
          · refine zr_aload S hl 1 rfl dX0_around_73 ?_
            refine zt_callv S hw (met_putTogether l g σ11 (apart_put hA).1) kq_putTogether rfl rfl ⟨by decide, by decide⟩ rfl rfl hl.1 (Nat.le_of_ble_eq_true rfl) ⟨Nat.zero_le _, Nat.zero_le _⟩ dX0_around_74 (fun σ19 H locs p20 hw => ?_)
            have hR2 : zRep σ19 T := by rw [p20]; have h := (apart_put hA).2; rw [sABC] at h; exact h
            refine zr_iload_n S hl 0 rfl dX0_around_77 ?_
            exact zt_iret S hr hlk hw (⟨by rw [sAround, if_neg (by omega), if_neg (by omega)], hR2⟩) dX0_around_78
          · refine zr_aload S hl 1 rfl dX0_around_41 ?_
            refine zr_aload S hl 1 rfl dX0_around_42 ?_
            refine zt_geti S hw 16 (by decide) rfl dX0_around_43 (fun v21 e22 r23 => ?_)
            have r23 : (-1) ≤ v21 ∧ v21 ≤ 59 := r23
            refine zr_iload_n S hl 3 rfl dX0_around_46 ?_
            refine zr_iconst S dX0_around_47 ?_
            refine zr_isub S dX0_around_48 (fun v24 e25 => ?_)
            refine zr_aload S hl 1 rfl dX0_around_49 ?_
            refine zt_get S hw 0 (.ref (g.2.2 0)) (by decide) rfl dX0_around_50 ?_
            refine zr_aload S hl 1 rfl dX0_around_53 ?_
            refine zt_geti S hw 17 (by decide) rfl dX0_around_54 (fun v26 e27 r28 => ?_)
            have r28 : (-1) ≤ v26 ∧ v26 ≤ 59 := r28
            refine zt_bald S hw 0 60 1 0 (i := v26) (by omega) (by omega) (by omega) rfl rfl dX0_around_57 (fun v29 e30 r31 => ?_)
            have r31 : 0 ≤ v29 ∧ v29 ≤ 6 := r31
            refine zr_iload_n S hl 3 rfl dX0_around_58 ?_
            refine zr_iconst S dX0_around_59 ?_
            refine zr_iadd S dX0_around_60 (fun v32 e33 => ?_)
            refine zr_icmp_ne S 68 (by decide) (by omega) (by omega) dX0_around_61 (fun h34 => ?_) (fun h34 => ?_)
            · refine zr_iconst S dX0_around_68 ?_
              have hcd : v29 = sAt T a := by rw [e30, e27]; exact hp2
              refine zt_calli S hw (met_lastLooseOpen l g σ11 v21 v24 0 (by omega) (by omega) (by omega)) kq_lastLooseOpen rfl rfl ⟨by decide, by decide⟩ rfl rfl hl.1 (Nat.le_of_ble_eq_true rfl) ⟨Nat.zero_le _, Nat.zero_le _⟩ dX0_around_69 (fun v37 σ35 H locs p36 hw => ?_)
              obtain ⟨ej, er⟩ := p36
              have hF := apart_ll hA (k := k - 1) (d := 0) (by omega) (by omega)
              have hkk : v24 = k - 1 := by omega
              rw [← e22, ← hkk, ← ej] at hF
              have hf : v37 = bll (k - 1) 0 (sA T a).length (sA T a).reverse := by rw [← hkk]; exact hF.1
              have hA : zApart σ35 (sA T a) (sB T a 1) (sC T a 1) := hF.2
              refine zr_istore_n S [(3, .int (zI v37)), (0, .ref (g.2.2 19)), (1, .int (zI a)), (2, .int (zI k))] hl (by decide) rfl dX0_around_72 (fun ls hl => ?_)
              refine zr_aload S hl 1 rfl dX0_around_73 ?_
              refine zt_callv S hw (met_putTogether l g σ35 (apart_put hA).1) kq_putTogether rfl rfl ⟨by decide, by decide⟩ rfl rfl hl.1 (Nat.le_of_ble_eq_true rfl) ⟨Nat.zero_le _, Nat.zero_le _⟩ dX0_around_74 (fun σ38 H locs p39 hw => ?_)
              have hR2 : zRep σ38 T := by rw [p39]; have h := (apart_put hA).2; rw [sABC] at h; exact h
              refine zr_iload_n S hl 0 rfl dX0_around_77 ?_
              exact zt_iret S hr hlk hw (⟨by rw [sAround, if_neg (by omega), if_pos (by omega), sDd, if_neg (by omega)]; exact hf, hR2⟩) dX0_around_78
            · refine zr_iconst S dX0_around_64 ?_
              refine zr_goto S 69 (by decide) dX0_around_65 ?_
              have hcd : v29 = sAt T a := by rw [e30, e27]; exact hp2
              refine zt_calli S hw (met_lastLooseOpen l g σ11 v21 v24 1 (by omega) (by omega) (by omega)) kq_lastLooseOpen rfl rfl ⟨by decide, by decide⟩ rfl rfl hl.1 (Nat.le_of_ble_eq_true rfl) ⟨Nat.zero_le _, Nat.zero_le _⟩ dX0_around_69 (fun v42 σ40 H locs p41 hw => ?_)
              obtain ⟨ej, er⟩ := p41
              have hF := apart_ll hA (k := k - 1) (d := 1) (by omega) (by omega)
              have hkk : v24 = k - 1 := by omega
              rw [← e22, ← hkk, ← ej] at hF
              have hf : v42 = bll (k - 1) 1 (sA T a).length (sA T a).reverse := by rw [← hkk]; exact hF.1
              have hA : zApart σ40 (sA T a) (sB T a 1) (sC T a 1) := hF.2
              refine zr_istore_n S [(3, .int (zI v42)), (0, .ref (g.2.2 19)), (1, .int (zI a)), (2, .int (zI k))] hl (by decide) rfl dX0_around_72 (fun ls hl => ?_)
              refine zr_aload S hl 1 rfl dX0_around_73 ?_
              refine zt_callv S hw (met_putTogether l g σ40 (apart_put hA).1) kq_putTogether rfl rfl ⟨by decide, by decide⟩ rfl rfl hl.1 (Nat.le_of_ble_eq_true rfl) ⟨Nat.zero_le _, Nat.zero_le _⟩ dX0_around_74 (fun σ43 H locs p44 hw => ?_)
              have hR2 : zRep σ43 T := by rw [p44]; have h := (apart_put hA).2; rw [sABC] at h; exact h
              refine zr_iload_n S hl 0 rfl dX0_around_77 ?_
              exact zt_iret S hr hlk hw (⟨by rw [sAround, if_neg (by omega), if_pos (by omega), sDd, if_pos (by omega)]; exact hf, hR2⟩) dX0_around_78
        · refine zr_iconst S dX0_around_22 ?_
          exact zt_iret S hr hlk hw (⟨by rw [sAround, if_pos (by omega)], hR⟩) dX0_around_23
set_option maxHeartbeats 4000000 in
theorem met_depth (l : Launch) (g : zG) (σ : zS) (T : List Int) (a k : Int) (hR : zRep σ T) (ha : zR a) (hk : zR k) : zt_Mi l yX0_depth cX0_depth 4 (some .int) ({ frames := 5, cells := 0, slots := 0, locals := 123 }) g σ [a, k] (fun r σ' => r = sDepth T a k ∧ zRep σ' T) := by
  refine zt_ofi (by decide +kernel) rfl (Nat.le_of_ble_eq_true rfl) ?_
  intro p e s m args below meth c ls ⟨S, hr, hlk, hw⟩ hl
  have hl : lv_has ls 4 [(0, .ref (g.2.2 19)), (1, .int (zI a)), (2, .int (zI k))] := hl
  refine zr_iload_n S hl 1 rfl dX0_depth_0 ?_
  refine zr_if_lt S 22 (by decide) (by omega) dX0_depth_1 (fun h1 => ?_) (fun h1 => ?_)
  · refine zr_iconst S dX0_depth_22 ?_
    exact zt_iret S hr hlk hw (⟨by rw [sDepth, if_pos (by omega)], hR⟩) dX0_depth_23
  · refine zr_iload_n S hl 1 rfl dX0_depth_4 ?_
    refine zr_aload S hl 0 rfl dX0_depth_5 ?_
    refine zt_calli S hw (met_textLength l g σ) kq_textLength rfl rfl ⟨by decide, by decide⟩ rfl rfl hl.1 (Nat.le_of_ble_eq_true rfl) ⟨Nat.zero_le _, Nat.zero_le _⟩ dX0_depth_6 (fun v4 σ2 H locs p3 hw => ?_)
    obtain ⟨hs_, e5⟩ := p3
    rw [hs_] at hw
    have n7 : v4 = ((T).length : Int) := e5.trans hR.len
    have r6 : 0 ≤ v4 ∧ v4 ≤ 60 := by have := hR.le; omega
    refine zr_icmp_ge S 22 (by decide) (by omega) (by omega) dX0_depth_9 (fun h8 => ?_) (fun h8 => ?_)
    · refine zr_iconst S dX0_depth_22 ?_
      exact zt_iret S hr hlk hw (⟨by rw [sDepth, if_pos (by omega)], hR⟩) dX0_depth_23
    · refine zr_iload_n S hl 2 rfl dX0_depth_12 ?_
      refine zr_iconst S dX0_depth_13 ?_
      refine zr_icmp_lt S 22 (by decide) (by omega) (by omega) dX0_depth_14 (fun h9 => ?_) (fun h9 => ?_)
      · refine zr_iconst S dX0_depth_22 ?_
        exact zt_iret S hr hlk hw (⟨by rw [sDepth, if_pos (by omega)], hR⟩) dX0_depth_23
      · refine zr_iload_n S hl 2 rfl dX0_depth_17 ?_
        refine zr_iconst S dX0_depth_18 ?_
        refine zr_icmp_le S 24 (by decide) (by omega) (by omega) dX0_depth_19 (fun h10 => ?_) (fun h10 => ?_)
        · refine zr_aload S hl 0 rfl dX0_depth_24 ?_
          refine zr_iload_n S hl 1 rfl dX0_depth_25 ?_
          refine zr_iconst S dX0_depth_26 ?_
          refine zt_callv S hw (met_takeApart l g σ a 1 (by omega) (by omega)) kq_takeApart rfl rfl ⟨by decide, by decide⟩ rfl rfl hl.1 (Nat.le_of_ble_eq_true rfl) ⟨Nat.zero_le _, Nat.zero_le _⟩ dX0_depth_27 (fun σ11 H locs p12 hw => ?_)
          have hA : zApart σ11 (sA T a) (sB T a 1) (sC T a 1) := by rw [p12]; exact rep_take hR (by omega) (by omega) (by omega)
          refine zr_aload S hl 0 rfl dX0_depth_30 ?_
          refine zr_iload_n S hl 2 rfl dX0_depth_31 ?_
          obtain ⟨hp1, hp2, hp3⟩ := apart_pairs hA (k := k) (by omega) (by omega) (by omega)
          refine zt_calli S hw (met_pairsAround l g σ11 k (by omega) hp1) kq_pairsAround rfl rfl ⟨by decide, by decide⟩ rfl rfl hl.1 (Nat.le_of_ble_eq_true rfl) ⟨Nat.zero_le _, Nat.zero_le _⟩ dX0_depth_32 (fun v15 σ13 H locs p14 hw => ?_)
          obtain ⟨hs_, e16⟩ := p14
          rw [hs_] at hw
          have r17 : -200 ≤ v15 ∧ v15 ≤ 200 := by rw [e16]; exact zPairs_r hw.2.2.2.2.1 _
          have hpr : v15 = sPairs T a k := e16.trans hp3
          refine zr_istore_n S [(3, .int (zI v15)), (0, .ref (g.2.2 19)), (1, .int (zI a)), (2, .int (zI k))] hl (by decide) rfl dX0_depth_35 (fun ls hl => ?_)
          refine zr_aload S hl 1 rfl dX0_depth_36 ?_
          refine zt_callv S hw (met_putTogether l g σ11 (apart_put hA).1) kq_putTogether rfl rfl ⟨by decide, by decide⟩ rfl rfl hl.1 (Nat.le_of_ble_eq_true rfl) ⟨Nat.zero_le _, Nat.zero_le _⟩ dX0_depth_37 (fun σ18 H locs p19 hw => ?_)
          have hR2 : zRep σ18 T := by rw [p19]; have h := (apart_put hA).2; rw [sABC] at h; exact h
          refine zr_iload_n S hl 0 rfl dX0_depth_40 ?_
          exact zt_iret S hr hlk hw (⟨by rw [sDepth, if_neg (by omega)]; exact hpr, hR2⟩) dX0_depth_41
        · refine zr_iconst S dX0_depth_22 ?_
          exact zt_iret S hr hlk hw (⟨by rw [sDepth, if_pos (by omega)], hR⟩) dX0_depth_23
set_option maxHeartbeats 4000000 in
theorem met_looseOpen (l : Launch) (g : zG) (σ : zS) (T : List Int) (f n k : Int) (hR : zRep σ T) (hf : zR f) (hn : zR n) (hk : zR k) : zt_Mi l yX0_looseOpen cX0_looseOpen 5 (some .int) ({ frames := 5, cells := 0, slots := 0, locals := 123 }) g σ [f, n, k] (fun r σ' => r = sLo T f n k ∧ zRep σ' T) := by
  refine zt_ofi (by decide +kernel) rfl (Nat.le_of_ble_eq_true rfl) ?_
  intro p e s m args below meth c ls ⟨S, hr, hlk, hw⟩ hl
  have hl : lv_has ls 5 [(0, .ref (g.2.2 19)), (1, .int (zI f)), (2, .int (zI n)), (3, .int (zI k))] := hl
  refine zr_aload S hl 0 rfl dX0_looseOpen_0 ?_
  refine zr_iload_n S hl 1 rfl dX0_looseOpen_1 ?_
  refine zr_iload_n S hl 2 rfl dX0_looseOpen_2 ?_
  refine zt_calli S hw (met_isStretch l g σ f n (by omega) (by omega)) kq_isStretch rfl rfl ⟨by decide, by decide⟩ rfl rfl hl.1 (Nat.le_of_ble_eq_true rfl) ⟨Nat.zero_le _, Nat.zero_le _⟩ dX0_looseOpen_3 (fun v3 σ1 H locs p2 hw => ?_)
  obtain ⟨hs_, hz⟩ := p2
  rw [hs_] at hw
  have hstr : (v3 = 1 ∧ sStr T f n) ∨ (v3 = 0 ∧ ¬ sStr T f n) := by unfold zStr at hz; rw [hR.len] at hz; exact hz
  have hrr : 0 ≤ v3 ∧ v3 ≤ 1 := by rcases hstr with h | h <;> omega
  refine zr_if_eq S 19 (by decide) (by omega) dX0_looseOpen_6 (fun h4 => ?_) (fun h4 => ?_)
  · refine zr_iconst S dX0_looseOpen_19 ?_
    have hS : ¬ sStr T f n := by rcases hstr with h | h; exact absurd h.1 (by omega); exact h.2
    exact zt_iret S hr hlk hw (⟨by rw [sLo, if_neg (fun h => hS h.1)], hR⟩) dX0_looseOpen_20
  · refine zr_iload_n S hl 3 rfl dX0_looseOpen_9 ?_
    refine zr_iconst S dX0_looseOpen_10 ?_
    refine zr_icmp_lt S 19 (by decide) (by omega) (by omega) dX0_looseOpen_11 (fun h5 => ?_) (fun h5 => ?_)
    · refine zr_iconst S dX0_looseOpen_19 ?_
      exact zt_iret S hr hlk hw (⟨by rw [sLo, if_neg (fun h => by have h1 := h.2.1; have h2 := h.2.2; omega)], hR⟩) dX0_looseOpen_20
    · refine zr_iload_n S hl 3 rfl dX0_looseOpen_14 ?_
      refine zr_iconst S dX0_looseOpen_15 ?_
      refine zr_icmp_le S 21 (by decide) (by omega) (by omega) dX0_looseOpen_16 (fun h6 => ?_) (fun h6 => ?_)
      · refine zr_aload S hl 0 rfl dX0_looseOpen_21 ?_
        refine zr_iload_n S hl 1 rfl dX0_looseOpen_22 ?_
        refine zr_iload_n S hl 2 rfl dX0_looseOpen_23 ?_
        have hS : sStr T f n := by rcases hstr with h | h; exact h.2; exact absurd h.1 (by omega)
        have hS1 : 0 ≤ f := hS.1
        have hS2 : f ≤ (T.length : Int) := hS.2.1
        have hS3 : 0 ≤ n := hS.2.2.1
        have hS4 : n ≤ (T.length : Int) - f := hS.2.2.2
        have hT60 := hR.le
        refine zt_callv S hw (met_takeApart l g σ f n (by omega) (by omega)) kq_takeApart rfl rfl ⟨by decide, by decide⟩ rfl rfl hl.1 (Nat.le_of_ble_eq_true rfl) ⟨Nat.zero_le _, Nat.zero_le _⟩ dX0_looseOpen_24 (fun σ7 H locs p8 hw => ?_)
        have hA : zApart σ7 (sA T f) (sB T f n) (sC T f n) := by rw [p8]; exact rep_take hR (by omega) (by omega) (by omega)
        refine zr_aload S hl 0 rfl dX0_looseOpen_27 ?_
        refine zr_aload S hl 0 rfl dX0_looseOpen_28 ?_
        refine zt_geti S hw 17 (by decide) rfl dX0_looseOpen_29 (fun v9 e10 r11 => ?_)
        have r11 : (-1) ≤ v9 ∧ v9 ≤ 59 := r11
        refine zr_iload_n S hl 3 rfl dX0_looseOpen_32 ?_
        refine zr_iconst S dX0_looseOpen_33 ?_
        refine zr_isub S dX0_looseOpen_34 (fun v12 e13 => ?_)
        refine zt_calli S hw (met_opensOf l g σ7 v9 v12 (by omega) (by omega)) kq_opensOf rfl rfl ⟨by decide, by decide⟩ rfl rfl hl.1 (Nat.le_of_ble_eq_true rfl) ⟨Nat.zero_le _, Nat.zero_le _⟩ dX0_looseOpen_35 (fun v16 σ14 H locs p15 hw => ?_)
        obtain ⟨hs_, e17⟩ := p15
        rw [hs_] at hw
        have r18 : -128 ≤ v16 ∧ v16 ≤ 127 := by rw [e17]; exact zOp_r hw.2.2.2.2.1 _ _
        have hans : v16 = bo (k - 1) (sB T f n) := by rw [e17, e10, e13]; exact (apart_op hA (by omega)).2.2.1
        refine zr_istore S [(4, .int (zI v16)), (0, .ref (g.2.2 19)), (1, .int (zI f)), (2, .int (zI n)), (3, .int (zI k))] hl (by decide) rfl dX0_looseOpen_38 (fun ls hl => ?_)
        refine zr_aload S hl 1 rfl dX0_looseOpen_40 ?_
        refine zt_callv S hw (met_putTogether l g σ7 (apart_put hA).1) kq_putTogether rfl rfl ⟨by decide, by decide⟩ rfl rfl hl.1 (Nat.le_of_ble_eq_true rfl) ⟨Nat.zero_le _, Nat.zero_le _⟩ dX0_looseOpen_41 (fun σ19 H locs p20 hw => ?_)
        have hR2 : zRep σ19 T := by rw [p20]; have h := (apart_put hA).2; rw [sABC] at h; exact h
        refine zr_iload S hl 0 rfl dX0_looseOpen_44 ?_
        exact zt_iret S hr hlk hw (⟨by rw [sLo, if_pos ⟨hS, by omega, by omega⟩]; exact hans, hR2⟩) dX0_looseOpen_46
      · refine zr_iconst S dX0_looseOpen_19 ?_
        exact zt_iret S hr hlk hw (⟨by rw [sLo, if_neg (fun h => by have h1 := h.2.1; have h2 := h.2.2; omega)], hR⟩) dX0_looseOpen_20
set_option maxHeartbeats 4000000 in
theorem met_looseClose (l : Launch) (g : zG) (σ : zS) (T : List Int) (f n k : Int) (hR : zRep σ T) (hf : zR f) (hn : zR n) (hk : zR k) : zt_Mi l yX0_looseClose cX0_looseClose 5 (some .int) ({ frames := 5, cells := 0, slots := 0, locals := 123 }) g σ [f, n, k] (fun r σ' => r = sLc T f n k ∧ zRep σ' T) := by
  refine zt_ofi (by decide +kernel) rfl (Nat.le_of_ble_eq_true rfl) ?_
  intro p e s m args below meth c ls ⟨S, hr, hlk, hw⟩ hl
  have hl : lv_has ls 5 [(0, .ref (g.2.2 19)), (1, .int (zI f)), (2, .int (zI n)), (3, .int (zI k))] := hl
  refine zr_aload S hl 0 rfl dX0_looseClose_0 ?_
  refine zr_iload_n S hl 1 rfl dX0_looseClose_1 ?_
  refine zr_iload_n S hl 2 rfl dX0_looseClose_2 ?_
  refine zt_calli S hw (met_isStretch l g σ f n (by omega) (by omega)) kq_isStretch rfl rfl ⟨by decide, by decide⟩ rfl rfl hl.1 (Nat.le_of_ble_eq_true rfl) ⟨Nat.zero_le _, Nat.zero_le _⟩ dX0_looseClose_3 (fun v3 σ1 H locs p2 hw => ?_)
  obtain ⟨hs_, hz⟩ := p2
  rw [hs_] at hw
  have hstr : (v3 = 1 ∧ sStr T f n) ∨ (v3 = 0 ∧ ¬ sStr T f n) := by unfold zStr at hz; rw [hR.len] at hz; exact hz
  have hrr : 0 ≤ v3 ∧ v3 ≤ 1 := by rcases hstr with h | h <;> omega
  refine zr_if_eq S 19 (by decide) (by omega) dX0_looseClose_6 (fun h4 => ?_) (fun h4 => ?_)
  · refine zr_iconst S dX0_looseClose_19 ?_
    have hS : ¬ sStr T f n := by rcases hstr with h | h; exact absurd h.1 (by omega); exact h.2
    exact zt_iret S hr hlk hw (⟨by rw [sLc, if_neg (fun h => hS h.1)], hR⟩) dX0_looseClose_20
  · refine zr_iload_n S hl 3 rfl dX0_looseClose_9 ?_
    refine zr_iconst S dX0_looseClose_10 ?_
    refine zr_icmp_lt S 19 (by decide) (by omega) (by omega) dX0_looseClose_11 (fun h5 => ?_) (fun h5 => ?_)
    · refine zr_iconst S dX0_looseClose_19 ?_
      exact zt_iret S hr hlk hw (⟨by rw [sLc, if_neg (fun h => by have h1 := h.2.1; have h2 := h.2.2; omega)], hR⟩) dX0_looseClose_20
    · refine zr_iload_n S hl 3 rfl dX0_looseClose_14 ?_
      refine zr_iconst S dX0_looseClose_15 ?_
      refine zr_icmp_le S 21 (by decide) (by omega) (by omega) dX0_looseClose_16 (fun h6 => ?_) (fun h6 => ?_)
      · refine zr_aload S hl 0 rfl dX0_looseClose_21 ?_
        refine zr_iload_n S hl 1 rfl dX0_looseClose_22 ?_
        refine zr_iload_n S hl 2 rfl dX0_looseClose_23 ?_
        have hS : sStr T f n := by rcases hstr with h | h; exact h.2; exact absurd h.1 (by omega)
        have hS1 : 0 ≤ f := hS.1
        have hS2 : f ≤ (T.length : Int) := hS.2.1
        have hS3 : 0 ≤ n := hS.2.2.1
        have hS4 : n ≤ (T.length : Int) - f := hS.2.2.2
        have hT60 := hR.le
        refine zt_callv S hw (met_takeApart l g σ f n (by omega) (by omega)) kq_takeApart rfl rfl ⟨by decide, by decide⟩ rfl rfl hl.1 (Nat.le_of_ble_eq_true rfl) ⟨Nat.zero_le _, Nat.zero_le _⟩ dX0_looseClose_24 (fun σ7 H locs p8 hw => ?_)
        have hA : zApart σ7 (sA T f) (sB T f n) (sC T f n) := by rw [p8]; exact rep_take hR (by omega) (by omega) (by omega)
        refine zr_aload S hl 0 rfl dX0_looseClose_27 ?_
        refine zr_aload S hl 0 rfl dX0_looseClose_28 ?_
        refine zt_geti S hw 17 (by decide) rfl dX0_looseClose_29 (fun v9 e10 r11 => ?_)
        have r11 : (-1) ≤ v9 ∧ v9 ≤ 59 := r11
        refine zr_iload_n S hl 3 rfl dX0_looseClose_32 ?_
        refine zr_iconst S dX0_looseClose_33 ?_
        refine zr_isub S dX0_looseClose_34 (fun v12 e13 => ?_)
        refine zt_calli S hw (met_closesOf l g σ7 v9 v12 (by omega) (by omega)) kq_closesOf rfl rfl ⟨by decide, by decide⟩ rfl rfl hl.1 (Nat.le_of_ble_eq_true rfl) ⟨Nat.zero_le _, Nat.zero_le _⟩ dX0_looseClose_35 (fun v16 σ14 H locs p15 hw => ?_)
        obtain ⟨hs_, e17⟩ := p15
        rw [hs_] at hw
        have r18 : -128 ≤ v16 ∧ v16 ≤ 127 := by rw [e17]; exact zCl_r hw.2.2.2.2.1 _ _
        have hans : v16 = bc (k - 1) (sB T f n) := by rw [e17, e10, e13]; exact (apart_op hA (by omega)).2.2.2
        refine zr_istore S [(4, .int (zI v16)), (0, .ref (g.2.2 19)), (1, .int (zI f)), (2, .int (zI n)), (3, .int (zI k))] hl (by decide) rfl dX0_looseClose_38 (fun ls hl => ?_)
        refine zr_aload S hl 1 rfl dX0_looseClose_40 ?_
        refine zt_callv S hw (met_putTogether l g σ7 (apart_put hA).1) kq_putTogether rfl rfl ⟨by decide, by decide⟩ rfl rfl hl.1 (Nat.le_of_ble_eq_true rfl) ⟨Nat.zero_le _, Nat.zero_le _⟩ dX0_looseClose_41 (fun σ19 H locs p20 hw => ?_)
        have hR2 : zRep σ19 T := by rw [p20]; have h := (apart_put hA).2; rw [sABC] at h; exact h
        refine zr_iload S hl 0 rfl dX0_looseClose_44 ?_
        exact zt_iret S hr hlk hw (⟨by rw [sLc, if_pos ⟨hS, by omega, by omega⟩]; exact hans, hR2⟩) dX0_looseClose_46
      · refine zr_iconst S dX0_looseClose_19 ?_
        exact zt_iret S hr hlk hw (⟨by rw [sLc, if_neg (fun h => by have h1 := h.2.1; have h2 := h.2.2; omega)], hR⟩) dX0_looseClose_20
end
section
/-! PURE: pairs of brackets in a text: what the plain reference counts -/
def sg (T : List Int) (a b : Nat) : List Int := (T.take b).drop a
theorem sg_nil (T : List Int) (a : Nat) : sg T a a = [] := List.drop_eq_nil_of_le (by rw [List.length_take]; omega)
theorem sg_len {T : List Int} {a b : Nat} (hb : b ≤ T.length) : (sg T a b).length = b - a := by
  unfold sg
  rw [List.length_drop, List.length_take]
  omega
theorem getD_get {T : List Int} {a : Nat} (h : a < T.length) : T[a] = T.getD a 0 := by
  rw [List.getD_eq_getElem?_getD, List.getElem?_eq_getElem h]
  rfl
theorem sg_snoc {T : List Int} {a b : Nat} (h : a ≤ b) (hb : b < T.length) : sg T a (b + 1) = sg T a b ++ [T.getD b 0] := by
  unfold sg
  rw [List.take_succ_eq_append_getElem hb, List.drop_append_of_le_length (by rw [List.length_take]; omega), getD_get hb]
theorem sg_cons {T : List Int} {a b : Nat} (h : a < b) (hb : b ≤ T.length) : sg T a b = T.getD a 0 :: sg T (a + 1) b := by
  unfold sg
  have hl : a < (T.take b).length := by rw [List.length_take]; omega
  rw [List.drop_eq_getElem_cons hl, List.getElem_take, getD_get (show a < T.length by omega)]
theorem sg_split {T : List Int} {a b c : Nat} (h : a ≤ b) (h2 : b ≤ c) (hc : c ≤ T.length) : sg T a c = sg T a b ++ sg T b c := by
  unfold sg
  have e := List.take_append_drop b (T.take c)
  rw [List.take_take, show min b c = b by omega] at e
  have e2 : (T.take c).drop a = (T.take b ++ (T.take c).drop b).drop a := by rw [e]
  rw [e2, List.drop_append_of_le_length (by rw [List.length_take]; omega)]
theorem sg_all (T : List Int) (a : Nat) : sg T a T.length = T.drop a := by
  unfold sg
  rw [List.take_length]
theorem sg_0 (T : List Int) (b : Nat) : sg T 0 b = T.take b := rfl
/-- i and j are a pair of the kind k -/
def bPr (T : List Int) (k : Int) (i j : Nat) : Prop := i < j ∧ j < T.length ∧ T.getD i 0 = k + 1 ∧ T.getD j 0 = k + 4 ∧ bo k (sg T (i + 1) j) = 0 ∧ bc k (sg T (i + 1) j) = 0
theorem bc_mono (k : Int) (A B : List Int) : bc k A ≤ bc k (A ++ B) := by
  have h1 := zMet_c (bo k A) (bc k B)
  have h2 := bc_app k A B
  omega
/-- one step of the reference's scan between i and j -/
theorem ip_step {T : List Int} {k : Int} {a q : Nat} (ha : a ≤ q) (hq : q < T.length) {o o2 : Int} (ho : o = bo k (sg T a q)) (hc : bc k (sg T a q) = 0) (h2 : (T.getD q 0 = k + 1 ∧ o2 = o + 1) ∨ (T.getD q 0 = k + 4 ∧ o2 = o - 1) ∨ (T.getD q 0 ≠ k + 1 ∧ T.getD q 0 ≠ k + 4 ∧ o2 = o)) :
    (0 ≤ o2 → o2 = bo k (sg T a (q + 1)) ∧ bc k (sg T a (q + 1)) = 0) ∧ (o2 < 0 → 0 < bc k (sg T a (q + 1))) := by
  have hb := b_snoc k (T.getD q 0) (sg T a q)
  rw [← sg_snoc ha hq] at hb
  have hp := bo_pos k (sg T a q)
  exact ⟨fun h => ⟨by omega, by omega⟩, fun h => by omega⟩
theorem ip_no {T : List Int} {k : Int} {i q j : Nat} (hi : i + 1 ≤ q) (hq : q ≤ j) (hj : j ≤ T.length) (h : 0 < bc k (sg T (i + 1) q)) : ¬ bPr T k i j := by
  intro hp
  have h1 := bc_mono k (sg T (i + 1) q) (sg T q j)
  rw [← sg_split hi hq hj] at h1
  have h2 := hp.2.2.2.2.2
  omega
/-- where the first loose closing bracket lies -/
theorem bfl_iff (k : Int) : ∀ (S : List Int) (o f : Int), 0 ≤ o → (bfl k o f S = -1 ∧ bc k S ≤ o) ∨ ∃ A R : List Int, S = A ++ (k + 4) :: R ∧ bc k A ≤ o ∧ o + (bo k A - bc k A) = 0 ∧ bfl k o f S = f + A.length ∧ o < bc k S
  | [], o, f, ho => Or.inl ⟨rfl, ho⟩
  | c :: t, o, f, ho => by
    have hb := b_cons k c t
    have hct := bc_pos k t
    by_cases h : c = k + 4 ∧ o = 0
    · refine Or.inr ⟨[], t, by rw [h.1]; rfl, by rw [bc_nil]; exact ho, by rw [bo_nil, bc_nil]; omega, by rw [bfl, if_pos h, List.length_nil]; omega, by omega⟩
    · have hd := bfd_c k c o
      rw [bfl_c k c o f t h]
      rcases bfl_iff k t (bfd k c o) (f + 1) (by omega) with ⟨e1, e2⟩ | ⟨A, R, e1, e2, e3, e4, e5⟩
      · exact Or.inl ⟨e1, by omega⟩
      · have hA := b_cons k c A
        have hp := bo_pos k A
        have hp2 := bc_pos k A
        refine Or.inr ⟨c :: A, R, by rw [e1]; rfl, by omega, by omega, by rw [e4, List.length_cons]; omega, by omega⟩
/-- where the last loose opening bracket lies -/
theorem bll_iff (k : Int) (S : List Int) : ∀ (o f : Int), 0 ≤ o → (bll k o f S.reverse = -1 ∧ bo k S ≤ o) ∨ ∃ A B : List Int, S = A ++ (k + 1) :: B ∧ bo k B ≤ o ∧ o + (bc k B - bo k B) = 0 ∧ bll k o f S.reverse = f - B.length - 1 ∧ o < bo k S := by
  refine list_snoc (P := fun S => ∀ (o f : Int), 0 ≤ o → (bll k o f S.reverse = -1 ∧ bo k S ≤ o) ∨ ∃ A B : List Int, S = A ++ (k + 1) :: B ∧ bo k B ≤ o ∧ o + (bc k B - bo k B) = 0 ∧ bll k o f S.reverse = f - B.length - 1 ∧ o < bo k S) ?_ (fun S c ih => ?_) S
  · intro o f ho
    exact Or.inl ⟨rfl, ho⟩
  · intro o f ho
    have hb := b_snoc k c S
    have hp := bo_pos k S
    have hrev : (S ++ [c]).reverse = c :: S.reverse := by rw [List.reverse_append]; rfl
    rw [hrev]
    by_cases h : c = k + 1 ∧ o = 0
    · refine Or.inr ⟨S, [], by rw [h.1], by rw [bo_nil]; exact ho, by rw [bo_nil, bc_nil]; omega, by rw [bll, if_pos h, List.length_nil]; omega, by omega⟩
    · have hd := bld_c k c o
      rw [bll_c k c o f S.reverse h]
      rcases ih (bld k c o) (f - 1) (by omega) with ⟨e1, e2⟩ | ⟨A, B, e1, e2, e3, e4, e5⟩
      · exact Or.inl ⟨e1, by omega⟩
      · have hB := b_snoc k c B
        have hpB := bo_pos k B
        have hcB := bc_pos k B
        refine Or.inr ⟨A, B ++ [c], by rw [e1, List.append_assoc]; rfl, by omega, by omega, by rw [e4, List.length_append, List.length_singleton]; omega, by omega⟩
/-- a pair, by the text cut at its brackets -/
theorem pr_drop {T : List Int} {k : Int} {i j : Nat} (h : bPr T k i j) : T.drop (i + 1) = sg T (i + 1) j ++ (k + 4) :: T.drop (j + 1) := by
  rw [← sg_all T (i + 1), sg_split (show i + 1 ≤ j from h.1) (show j ≤ T.length by have := h.2.1; omega) (Nat.le_refl _), sg_cons h.2.1 (Nat.le_refl _), h.2.2.2.1, sg_all]
theorem pr_fl {T : List Int} {k : Int} {i j : Nat} (h : bPr T k i j) : bfl k 0 0 (T.drop (i + 1)) = (j : Int) - i - 1 := by
  have hl := sg_len (T := T) (a := i + 1) (b := j) (by have := h.2.1; omega)
  have h1 := h.1
  rw [pr_drop h, bfl_app k _ _ 0 0 (Int.le_refl _), if_neg (by rw [h.2.2.2.2.2]; decide), h.2.2.2.2.1, h.2.2.2.2.2, bfl, if_pos ⟨rfl, by decide⟩, hl]
  omega
theorem pr_uniq {T : List Int} {k : Int} {i j j' : Nat} (h : bPr T k i j) (h' : bPr T k i j') : j = j' := by
  have h1 := pr_fl h
  have h2 := pr_fl h'
  omega
theorem sg_mid {T : List Int} {a b : Nat} {A R : List Int} {c : Int} (hb : b ≤ T.length) (hab : a ≤ b) (h : sg T a b = A ++ c :: R) : a + A.length < b ∧ T.getD (a + A.length) 0 = c ∧ sg T a (a + A.length) = A ∧ sg T (a + A.length + 1) b = R := by
  have hl := congrArg List.length h
  rw [sg_len hb, List.length_append, List.length_cons] at hl
  have hlt : a + A.length < b := by omega
  have e := sg_split (T := T) (show a ≤ a + A.length by omega) (show a + A.length ≤ b by omega) hb
  rw [sg_cons hlt hb, h] at e
  have hA : A.length = (sg T a (a + A.length)).length := by rw [sg_len (by omega)]; omega
  have e2 := List.append_inj e hA
  have e3 := List.cons.inj e2.2
  exact ⟨hlt, e3.1.symm, e2.1.symm, e3.2.symm⟩
/-- a closing bracket at a loose place makes a pair -/
theorem mk_pr {T : List Int} {k : Int} {i b : Nat} {A R : List Int} (hb : b ≤ T.length) (hib : i + 1 ≤ b) (hi : T.getD i 0 = k + 1) (h : sg T (i + 1) b = A ++ (k + 4) :: R) (h0 : bo k A = 0) (h1 : bc k A = 0) : bPr T k i (i + 1 + A.length) ∧ i + 1 + A.length < b := by
  obtain ⟨a1, a2, a3, a4⟩ := sg_mid hb hib h
  exact ⟨⟨by omega, by omega, hi, a2, by rw [a3]; exact h0, by rw [a3]; exact h1⟩, a1⟩
theorem mk_pr2 {T : List Int} {k : Int} {j a : Nat} {A R : List Int} (hj : j < T.length) (haj : a ≤ j) (hc : T.getD j 0 = k + 4) (h : sg T a j = A ++ (k + 1) :: R) (h0 : bo k R = 0) (h1 : bc k R = 0) : bPr T k (a + A.length) j ∧ j = a + A.length + 1 + R.length := by
  obtain ⟨a1, a2, a3, a4⟩ := sg_mid (show j ≤ T.length by omega) haj h
  have hl := congrArg List.length a4
  rw [sg_len (by omega)] at hl
  exact ⟨⟨a1, hj, a2, hc, by rw [a4]; exact h0, by rw [a4]; exact h1⟩, by omega⟩
theorem pr_take {T : List Int} {k : Int} {i j a : Nat} (h : bPr T k i j) (ha : a ≤ i) : sg T a j = sg T a i ++ (k + 1) :: sg T (i + 1) j := by
  rw [sg_split ha (show i ≤ j by have := h.1; omega) (show j ≤ T.length by have := h.2.1; omega), sg_cons h.1 (show j ≤ T.length by have := h.2.1; omega), h.2.2.1]
theorem pr_ll {T : List Int} {k : Int} {i j : Nat} (h : bPr T k i j) : bll k 0 j (T.take j).reverse = i := by
  have hl := sg_len (T := T) (a := i + 1) (b := j) (by have := h.2.1; omega)
  have h1 := h.1
  have e : T.take j = sg T 0 i ++ (k + 1) :: sg T (i + 1) j := pr_take h (Nat.zero_le _)
  have e2 : (T.take j).reverse = (sg T (i + 1) j).reverse ++ (k + 1) :: (sg T 0 i).reverse := by rw [e, List.reverse_append, List.reverse_cons, List.append_assoc]; rfl
  rw [e2, bll_app k _ _ 0 j (Int.le_refl _), if_neg (by rw [h.2.2.2.2.1]; decide), h.2.2.2.2.1, h.2.2.2.2.2, bll, if_pos ⟨rfl, by decide⟩, hl]
  omega
/-- what the reference's mate answers -/
def bK (c : Int) : Int := if c ≤ 3 then c - 1 else c - 4
def bMt (T : List Int) (a j : Nat) : Prop := bPr T (bK (T.getD a 0)) a j ∨ bPr T (bK (T.getD a 0)) j a
def mSpec (T : List Int) (a : Nat) (f t r : Int) : Prop := (r = -3 ∧ (T.getD a 0 = 0 ∨ ∀ j : Nat, f ≤ (j : Int) → (j : Int) < t → ¬ bMt T a j)) ∨ (T.getD a 0 ≠ 0 ∧ f ≤ r ∧ r < t ∧ bMt T a r.toNat)
theorem bMt_o {T : List Int} {k : Int} {a j : Nat} (hk : 0 ≤ k ∧ k ≤ 2) (h : T.getD a 0 = k + 1) : bMt T a j ↔ bPr T k a j := by
  unfold bMt
  have e : bK (T.getD a 0) = k := by unfold bK; rw [if_pos (by omega)]; omega
  rw [e]
  constructor
  · intro h2
    rcases h2 with h2 | h2
    · exact h2
    · have := h2.2.2.2.1
      omega
  · intro h2
    exact Or.inl h2
theorem bMt_c {T : List Int} {k : Int} {a j : Nat} (hk : 0 ≤ k ∧ k ≤ 2) (h : T.getD a 0 = k + 4) : bMt T a j ↔ bPr T k j a := by
  unfold bMt
  have e : bK (T.getD a 0) = k := by unfold bK; rw [if_neg (by omega)]; omega
  rw [e]
  constructor
  · intro h2
    rcases h2 with h2 | h2
    · have := h2.2.2.1
      omega
    · exact h2
  · intro h2
    exact Or.inr h2
/-- an opening bracket's mate within [.., t): there is none just if nothing is loose behind it -/
theorem mate_o {T : List Int} {k : Int} {a : Nat} {f t r : Int} (hk : 0 ≤ k ∧ k ≤ 2) (h : T.getD a 0 = k + 1) (hm : mSpec T a f t r) (h0 : 0 ≤ f) (hf : f ≤ (a : Int) + 1) (hat : (a : Int) + 1 ≤ t) (ht : t ≤ T.length) : (r = -3 ↔ bc k (sg T (a + 1) t.toNat) = 0) ∧ (r ≠ -3 → bPr T k a r.toNat ∧ f ≤ r ∧ r < t) := by
  have hp := bc_pos k (sg T (a + 1) t.toNat)
  rcases hm with ⟨h1, h2⟩ | ⟨h1, h2, h3, h4⟩
  · have hno : ∀ j : Nat, f ≤ (j : Int) → (j : Int) < t → ¬ bPr T k a j := by
      rcases h2 with h2 | h2
      · omega
      · exact fun j hj1 hj2 hp => h2 j hj1 hj2 ((bMt_o hk h).mpr hp)
    refine ⟨⟨fun _ => ?_, fun _ => h1⟩, fun hr => absurd h1 hr⟩
    rcases bfl_iff k (sg T (a + 1) t.toNat) 0 0 (Int.le_refl _) with ⟨e1, e2⟩ | ⟨A, R, e1, e2, e3, e4, e5⟩
    · omega
    · have hA := bo_pos k A
      have hA2 := bc_pos k A
      obtain ⟨p1, p2⟩ := mk_pr (k := k) (show t.toNat ≤ T.length by omega) (show a + 1 ≤ t.toNat by omega) h e1 (by omega) (by omega)
      exact absurd p1 (hno _ (by omega) (by omega))
  · have hpr := (bMt_o hk h).mp h4
    have h5 := hpr.1
    have hr : r ≠ -3 := by omega
    refine ⟨⟨fun e => absurd e hr, fun e => ?_⟩, fun _ => ⟨hpr, h2, h3⟩⟩
    have hs : sg T (a + 1) t.toNat = sg T (a + 1) r.toNat ++ sg T r.toNat t.toNat := sg_split (show a + 1 ≤ r.toNat by omega) (show r.toNat ≤ t.toNat by omega) (show t.toNat ≤ T.length by omega)
    rw [sg_cons (show r.toNat < t.toNat by omega) (show t.toNat ≤ T.length by omega), hpr.2.2.2.1] at hs
    rw [hs, bc_app, hpr.2.2.2.2.1, hpr.2.2.2.2.2] at e
    have hb := b_cons k (k + 4) (sg T (r.toNat + 1) t.toNat)
    have hc2 := bc_pos k (sg T (r.toNat + 1) t.toNat)
    have hz := zMet_c 0 (bc k ((k + 4) :: sg T (r.toNat + 1) t.toNat))
    omega
theorem mate_c {T : List Int} {k : Int} {a : Nat} {f t r : Int} (hk : 0 ≤ k ∧ k ≤ 2) (h : T.getD a 0 = k + 4) (hm : mSpec T a f t r) (h0 : 0 ≤ f) (hf : f ≤ (a : Int)) (hat : (a : Int) ≤ t) (ha : a < T.length) : (r = -3 ↔ bo k (sg T f.toNat a) = 0) ∧ (r ≠ -3 → bPr T k r.toNat a ∧ f ≤ r ∧ r < t) := by
  have hp := bo_pos k (sg T f.toNat a)
  rcases hm with ⟨h1, h2⟩ | ⟨h1, h2, h3, h4⟩
  · have hno : ∀ j : Nat, f ≤ (j : Int) → (j : Int) < t → ¬ bPr T k j a := by
      rcases h2 with h2 | h2
      · omega
      · exact fun j hj1 hj2 hp => h2 j hj1 hj2 ((bMt_c hk h).mpr hp)
    refine ⟨⟨fun _ => ?_, fun _ => h1⟩, fun hr => absurd h1 hr⟩
    rcases bll_iff k (sg T f.toNat a) 0 0 (Int.le_refl _) with ⟨e1, e2⟩ | ⟨A, B, e1, e2, e3, e4, e5⟩
    · omega
    · have hB := bo_pos k B
      have hB2 := bc_pos k B
      obtain ⟨p1, p2⟩ := mk_pr2 (k := k) ha (show f.toNat ≤ a by omega) h e1 (by omega) (by omega)
      exact absurd p1 (hno _ (by omega) (by omega))
  · have hpr := (bMt_c hk h).mp h4
    have h5 := hpr.1
    have hr : r ≠ -3 := by omega
    refine ⟨⟨fun e => absurd e hr, fun e => ?_⟩, fun _ => ⟨hpr, h2, h3⟩⟩
    have hs := pr_take hpr (show f.toNat ≤ r.toNat by omega)
    rw [bcons_app] at hs
    rw [hs, bo_app, hpr.2.2.2.2.1, hpr.2.2.2.2.2] at e
    have hb := b_snoc k (k + 1) (sg T f.toNat r.toNat)
    have hc2 := bo_pos k (sg T f.toNat r.toNat)
    have hz := zMet_c (bo k (sg T f.toNat r.toNat ++ [k + 1])) 0
    omega
end
section
/-! PURE: partner, loose, depth, around: both sides answer alike -/
theorem cod_at {T : List Int} (h : bcod T) (i : Nat) : 0 ≤ T.getD i 0 ∧ T.getD i 0 ≤ 6 := by
  by_cases hi : i < T.length
  · rw [← getD_get hi]
    exact h _ (List.getElem_mem hi)
  · rw [List.getD_eq_getElem?_getD, List.getElem?_eq_none (by omega)]
    decide
theorem sC_1 (T : List Int) (a : Int) : sC T a 1 = T.drop (a.toNat + 1) := by
  unfold sC
  rw [List.drop_drop]
  rfl
theorem mate_far {T : List Int} {k : Int} {i : Nat} {f t r : Int} (hk : 0 ≤ k ∧ k ≤ 2) (h : T.getD i 0 = k + 1) (hm : mSpec T i f t r) (h0 : 0 ≤ f) : (r = -3 → ∀ j : Nat, f ≤ (j : Int) → (j : Int) < t → ¬ bPr T k i j) ∧ (r ≠ -3 → bPr T k i r.toNat ∧ f ≤ r ∧ r < t) := by
  rcases hm with ⟨h1, h2⟩ | ⟨h1, h2, h3, h4⟩
  · refine ⟨fun _ j hj1 hj2 hp => ?_, fun e => absurd h1 e⟩
    rcases h2 with h2 | h2
    · omega
    · exact h2 j hj1 hj2 ((bMt_o hk h).mpr hp)
  · exact ⟨fun e => by omega, fun _ => ⟨(bMt_o hk h).mp h4, h2, h3⟩⟩
theorem partner_ok {T : List Int} (hT : bcod T) {a r : Int} (h0 : 0 ≤ a) (h1 : a < T.length) (hm : mSpec T a.toNat 0 T.length r) : r = sPartner T a := by
  have hc := cod_at hT a.toNat
  have e : sAt T a = T.getD a.toNat 0 := rfl
  unfold sPartner
  rw [if_neg (by omega)]
  by_cases c0 : sAt T a = 0
  · rw [if_pos c0]
    rcases hm with ⟨h2, -⟩ | ⟨h2, -⟩
    · exact h2
    · exact absurd (e.symm.trans c0) h2
  · rw [if_neg c0]
    by_cases c3 : sAt T a ≤ 3
    · rw [if_pos c3]
      obtain ⟨m1, m2⟩ := mate_o (k := sAt T a - 1) (by omega) (show T.getD a.toNat 0 = sAt T a - 1 + 1 by omega) hm (by omega) (by omega) (by omega) (by omega)
      rw [Int.toNat_natCast, sg_all] at m1
      rw [sC_1]
      unfold sFound
      have hp := bc_pos (sAt T a - 1) (T.drop (a.toNat + 1))
      rcases bfl_iff (sAt T a - 1) (T.drop (a.toNat + 1)) 0 0 (Int.le_refl _) with ⟨e1, e2⟩ | ⟨A, R, e1, e2, e3, e4, e5⟩
      · rw [if_pos (by omega)]
        exact m1.mpr (by omega)
      · obtain ⟨p1, p2, p3⟩ := m2 (fun h => by have := m1.mp h; omega)
        have p4 := pr_fl p1
        rw [if_neg (by omega)]
        omega
    · rw [if_neg c3]
      obtain ⟨m1, m2⟩ := mate_c (k := sAt T a - 4) (by omega) (show T.getD a.toNat 0 = sAt T a - 4 + 4 by omega) hm (by omega) (by omega) (by omega) (by omega)
      have e0 : sg T (0 : Int).toNat a.toNat = sA T a := rfl
      rw [e0] at m1
      unfold sFound
      have hl := sA_len h0 (show a ≤ (T.length : Int) by omega)
      have hp := bo_pos (sAt T a - 4) (sA T a)
      rcases bll_iff (sAt T a - 4) (sA T a) 0 (sA T a).length (Int.le_refl _) with ⟨e1, e2⟩ | ⟨A, B, e1, e2, e3, e4, e5⟩
      · rw [if_pos (by omega)]
        exact m1.mpr (by omega)
      · obtain ⟨p1, p2, p3⟩ := m2 (fun h => by have := m1.mp h; omega)
        have p4 := pr_ll p1
        have e6 : (T.take a.toNat).reverse = (sA T a).reverse := rfl
        rw [e6, show ((a.toNat : Nat) : Int) = ((sA T a).length : Int) by omega] at p4
        rw [if_neg (by omega)]
        omega
/-- what the reference's loose has counted at i -/
def bLz (T : List Int) (k cd : Int) (f i t : Nat) : Int := if cd = k + 1 then bo k (sg T f t) - bo k (sg T i t) else bc k (sg T f i)
theorem lz_0 (T : List Int) (k cd : Int) (f t : Nat) : bLz T k cd f f t = 0 := by
  unfold bLz
  split
  · omega
  · rw [sg_nil]
    rfl
theorem lz_o (T : List Int) (k : Int) (f t : Nat) : bLz T k (k + 1) f t t = bo k (sg T f t) := by
  unfold bLz
  rw [if_pos rfl, sg_nil, bo_nil]
  omega
theorem lz_c (T : List Int) (k : Int) (f t : Nat) : bLz T k (k + 4) f t t = bc k (sg T f t) := by
  unfold bLz
  rw [if_neg (by omega)]
theorem lz_step {T : List Int} {k cd : Int} {f i t : Nat} (hk : 0 ≤ k ∧ k ≤ 2) (hcd : cd = k + 1 ∨ cd = k + 4) (hfi : f ≤ i) (hit : i < t) (ht : t ≤ T.length) : (T.getD i 0 ≠ cd → bLz T k cd f (i + 1) t = bLz T k cd f i t) ∧ (T.getD i 0 = cd → ∀ r : Int, mSpec T i f t r → (r = -3 → bLz T k cd f (i + 1) t = bLz T k cd f i t + 1) ∧ (r ≠ -3 → bLz T k cd f (i + 1) t = bLz T k cd f i t)) := by
  rcases hcd with h | h
  · subst h
    unfold bLz
    rw [if_pos rfl, if_pos rfl]
    have hb := b_cons k (T.getD i 0) (sg T (i + 1) t)
    rw [← sg_cons hit ht] at hb
    refine ⟨fun hc => by omega, fun hc r hm => ?_⟩
    obtain ⟨m1, -⟩ := mate_o hk hc hm (by omega) (by omega) (by omega) (by omega)
    rw [Int.toNat_natCast] at m1
    exact ⟨fun hr => by have := m1.mp hr; omega, fun hr => by have : ¬ bc k (sg T (i + 1) t) = 0 := fun h => hr (m1.mpr h); omega⟩
  · subst h
    unfold bLz
    rw [if_neg (by omega), if_neg (by omega)]
    have hb := b_snoc k (T.getD i 0) (sg T f i)
    rw [← sg_snoc hfi (by omega)] at hb
    refine ⟨fun hc => by omega, fun hc r hm => ?_⟩
    obtain ⟨m1, -⟩ := mate_c hk hc hm (by omega) (by omega) (by omega) (by omega)
    rw [Int.toNat_natCast] at m1
    exact ⟨fun hr => by have := m1.mp hr; omega, fun hr => by have : ¬ bo k (sg T f i) = 0 := fun h => hr (m1.mpr h); omega⟩
theorem sB_sg {T : List Int} {f n : Int} (h0 : 0 ≤ f) (h1 : 0 ≤ n) : sB T f n = sg T f.toNat (f + n).toNat := by
  unfold sB sg
  rw [List.drop_take, show (f + n).toNat - f.toNat = n.toNat by omega]
/-- depth: how many of r loose openings get a partner behind the place -/
def dM (k c m r : Int) : Int := sMin (sPw (k + 1) c r) (sPc (k + 1) c m)
def dCo (k c m r : Int) : Prop := ¬ (c = k + 4 ∧ r = 0) ∧ bfd k c r < m
theorem sPw_c (k c w : Int) : (c = k + 4 ∧ 0 < w ∧ sPw (k + 1) c w = w - 1) ∨ ((c ≠ k + 4 ∨ w ≤ 0) ∧ sPw (k + 1) c w = w) := by
  unfold sPw
  by_cases h : c = k + 1 + 3 ∧ 0 < w
  · rw [if_pos h]
    exact Or.inl ⟨by omega, h.2, rfl⟩
  · rw [if_neg h]
    exact Or.inr ⟨by omega, rfl⟩
theorem sPc_c (k c m : Int) : (c = k + 1 ∧ 0 < m ∧ sPc (k + 1) c m = m - 1) ∨ ((c ≠ k + 1 ∨ m ≤ 0) ∧ sPc (k + 1) c m = m) := by
  unfold sPc
  by_cases h : c = k + 1 ∧ 0 < m
  · rw [if_pos h]
    exact Or.inl ⟨h.1, h.2, rfl⟩
  · rw [if_neg h]
    exact Or.inr ⟨by omega, rfl⟩
theorem sMin_c (w m : Int) : (w < m ∧ sMin w m = w) ∨ (m ≤ w ∧ sMin w m = m) := by
  unfold sMin
  by_cases h : w < m
  · rw [if_pos h]
    exact Or.inl ⟨h, rfl⟩
  · rw [if_neg h]
    exact Or.inr ⟨by omega, rfl⟩
theorem dM_0 (k c m : Int) (hm : 0 ≤ m) : dM k c m 0 = 0 := by
  unfold dM
  have h1 := sPw_c k c 0
  have h2 := sPc_c k c m
  have h3 := sMin_c (sPw (k + 1) c 0) (sPc (k + 1) c m)
  omega
theorem dM_step (k c m r : Int) (hr : 0 ≤ r) (hm : 0 ≤ m) : (dCo k c m r ∧ dM k c m (r + 1) = dM k c m r + 1) ∨ (¬ dCo k c m r ∧ dM k c m (r + 1) = dM k c m r) := by
  have hd := bfd_c k c r
  unfold dM dCo
  have h1 := sPw_c k c r
  have h1' := sPw_c k c (r + 1)
  have h2 := sPc_c k c m
  have h3 := sMin_c (sPw (k + 1) c r) (sPc (k + 1) c m)
  have h3' := sMin_c (sPw (k + 1) c (r + 1)) (sPc (k + 1) c m)
  by_cases hc : ¬ (c = k + 4 ∧ r = 0) ∧ bfd k c r < m
  · exact Or.inl ⟨hc, by omega⟩
  · exact Or.inr ⟨hc, by omega⟩
theorem drop_at {T : List Int} {i a : Nat} (h : i < a) (ha : a < T.length) : T.drop (i + 1) = sg T (i + 1) a ++ T.getD a 0 :: T.drop (a + 1) := by
  rw [← sg_all T (i + 1), sg_split (show i + 1 ≤ a from h) (show a ≤ T.length by omega) (Nat.le_refl _), sg_cons ha (Nat.le_refl _), sg_all]
def bGood (T : List Int) (k : Int) (a i : Nat) : Prop := ∃ j : Nat, a < j ∧ bPr T k i j
theorem dp_ex {T : List Int} {k : Int} {i a : Nat} (h : i < a) (ha : a < T.length) : bGood T k a i ↔ (T.getD i 0 = k + 1 ∧ bc k (sg T (i + 1) a) = 0 ∧ dCo k (T.getD a 0) (bc k (T.drop (a + 1))) (bo k (sg T (i + 1) a))) := by
  have hl := sg_len (T := T) (a := i + 1) (b := a) (by omega)
  have hS := bc_pos k (sg T (i + 1) a)
  have hSo := bo_pos k (sg T (i + 1) a)
  have hap := bfl_app k (T.getD a 0 :: T.drop (a + 1)) (sg T (i + 1) a) 0 0 (Int.le_refl _)
  rw [← drop_at h ha] at hap
  have hd := bfd_c k (T.getD a 0) (bo k (sg T (i + 1) a))
  constructor
  · intro hg
    obtain ⟨j, hj, hp⟩ := hg
    have hf := pr_fl hp
    refine ⟨hp.2.2.1, ?_⟩
    by_cases c1 : 0 < bc k (sg T (i + 1) a)
    · rw [if_pos c1] at hap
      rcases bfl_iff k (sg T (i + 1) a) 0 0 (Int.le_refl _) with ⟨e1, e2⟩ | ⟨A, R, e1, e2, e3, e4, e5⟩
      · omega
      · have hl2 := congrArg List.length e1
        rw [List.length_append, List.length_cons] at hl2
        omega
    · have c0 : bc k (sg T (i + 1) a) = 0 := by omega
      refine ⟨c0, ?_⟩
      rw [if_neg c1, c0, show (0 : Int) + (bo k (sg T (i + 1) a) - 0) = bo k (sg T (i + 1) a) by omega] at hap
      unfold dCo
      by_cases c4 : T.getD a 0 = k + 4 ∧ bo k (sg T (i + 1) a) = 0
      · rw [bfl, if_pos c4] at hap
        omega
      · refine ⟨c4, ?_⟩
        rw [bfl_c _ _ _ _ _ c4] at hap
        rcases bfl_iff k (T.drop (a + 1)) (bfd k (T.getD a 0) (bo k (sg T (i + 1) a))) (0 + ((sg T (i + 1) a).length : Int) + 1) (by omega) with ⟨e1, e2⟩ | ⟨A, R, e1, e2, e3, e4, e5⟩
        · omega
        · exact e5
  · intro hg
    obtain ⟨g1, g2, g3, g4⟩ := hg
    rw [if_neg (by omega), g2, show (0 : Int) + (bo k (sg T (i + 1) a) - 0) = bo k (sg T (i + 1) a) by omega, bfl_c _ _ _ _ _ g3] at hap
    rcases bfl_iff k (T.drop (a + 1)) (bfd k (T.getD a 0) (bo k (sg T (i + 1) a))) (0 + ((sg T (i + 1) a).length : Int) + 1) (by omega) with ⟨e1, e2⟩ | ⟨A, R, e1, e2, e3, e4, e5⟩
    · omega
    · rcases bfl_iff k (T.drop (i + 1)) 0 0 (Int.le_refl _) with ⟨f1, f2⟩ | ⟨A2, R2, f1, f2, f3, f4, f5⟩
      · omega
      · have hA := bo_pos k A2
        have hA2 := bc_pos k A2
        rw [← sg_all T (i + 1)] at f1
        obtain ⟨p1, p2⟩ := mk_pr (k := k) (Nat.le_refl _) (show i + 1 ≤ T.length by omega) g1 f1 (by omega) (by omega)
        exact ⟨i + 1 + A2.length, by omega, p1⟩
theorem dp_step {T : List Int} {k : Int} {i a : Nat} (h : i < a) (ha : a < T.length) {e : Int} (he : (e = 1 ∧ bGood T k a i) ∨ (e = 0 ∧ ¬ bGood T k a i)) : dM k (T.getD a 0) (bc k (T.drop (a + 1))) (bo k (sg T i a)) = dM k (T.getD a 0) (bc k (T.drop (a + 1))) (bo k (sg T (i + 1) a)) + e := by
  have hS := bo_pos k (sg T (i + 1) a)
  have hm := bc_pos k (T.drop (a + 1))
  have hb := b_cons k (T.getD i 0) (sg T (i + 1) a)
  rw [← sg_cons h (by omega)] at hb
  have hst := dM_step k (T.getD a 0) (bc k (T.drop (a + 1))) (bo k (sg T (i + 1) a)) hS hm
  have hx := dp_ex (k := k) h ha
  by_cases hg : bGood T k a i
  · have he1 : e = 1 := by
      rcases he with ⟨h1, -⟩ | ⟨-, h1⟩
      · exact h1
      · exact absurd hg h1
    obtain ⟨g1, g2, g3⟩ := hx.mp hg
    rw [show bo k (sg T i a) = bo k (sg T (i + 1) a) + 1 by omega]
    rcases hst with ⟨-, h1⟩ | ⟨h1, -⟩
    · omega
    · exact absurd g3 h1
  · have he0 : e = 0 := by
      rcases he with ⟨-, h1⟩ | ⟨h1, -⟩
      · exact absurd h1 hg
      · exact h1
    by_cases hc : T.getD i 0 = k + 1 ∧ bc k (sg T (i + 1) a) = 0
    · rw [show bo k (sg T i a) = bo k (sg T (i + 1) a) + 1 by omega]
      rcases hst with ⟨h1, -⟩ | ⟨-, h1⟩
      · exact absurd (hx.mpr ⟨hc.1, hc.2, h1⟩) hg
      · omega
    · rw [show bo k (sg T i a) = bo k (sg T (i + 1) a) by omega]
      omega
/-- what the inner loop of the reference's depth has seen -/
def dIn (T : List Int) (k : Int) (a i j : Nat) (e : Int) : Prop := (e = 1 ∧ ∃ j' : Nat, a < j' ∧ j' < j ∧ bPr T k i j') ∨ (e = 0 ∧ ∀ j' : Nat, a < j' → j' < j → ¬ bPr T k i j')
theorem dIn_0 (T : List Int) (k : Int) (a i : Nat) : dIn T k a i (a + 1) 0 := Or.inr ⟨rfl, fun j' h1 h2 => by omega⟩
theorem dIn_step {T : List Int} {k : Int} {a i j : Nat} {e : Int} (h : dIn T k a i j e) (hj : a < j) : (bPr T k i j → dIn T k a i (j + 1) (e + 1)) ∧ (¬ bPr T k i j → dIn T k a i (j + 1) e) := by
  rcases h with ⟨h1, j', h2, h3, h4⟩ | ⟨h1, h2⟩
  · refine ⟨fun hp => ?_, fun hp => Or.inl ⟨h1, j', h2, by omega, h4⟩⟩
    have := pr_uniq hp h4
    omega
  · refine ⟨fun hp => Or.inl ⟨by omega, j, hj, by omega, hp⟩, fun hp => Or.inr ⟨h1, fun j' g1 g2 => ?_⟩⟩
    by_cases e1 : j' = j
    · rw [e1]
      exact hp
    · exact h2 j' g1 (by omega)
theorem dIn_end {T : List Int} {k : Int} {a i : Nat} {e : Int} (h : dIn T k a i T.length e) : (e = 1 ∧ bGood T k a i) ∨ (e = 0 ∧ ¬ bGood T k a i) := by
  rcases h with ⟨h1, j', h2, h3, h4⟩ | ⟨h1, h2⟩
  · exact Or.inl ⟨h1, j', h2, h4⟩
  · refine Or.inr ⟨h1, fun hg => ?_⟩
    obtain ⟨j', g1, g2⟩ := hg
    exact h2 j' g1 g2.2.1 g2
def dV (T : List Int) (k : Int) (a i : Nat) : Int := dM k (T.getD a 0) (bc k (T.drop (a + 1))) (bo k (sg T i a))
theorem dV_end (T : List Int) (k : Int) (a : Nat) : dV T k a a = 0 := by
  unfold dV
  rw [sg_nil, bo_nil]
  exact dM_0 _ _ _ (bc_pos _ _)
theorem dV_pairs (T : List Int) (a q : Int) : sPairs T a q = dV T (q - 1) a.toNat 0 := by
  unfold sPairs dV dM
  rw [show q - 1 + 1 = q by omega, sC_1]
  rfl
theorem ar_zero {T : List Int} {k : Int} {a : Nat} (ha : a < T.length) : ∀ (n i : Nat), i + n = a → (∀ i' : Nat, i ≤ i' → i' < a → ¬ bGood T k a i') → dV T k a i = 0
  | 0, i, hn, _ => by
    rw [show i = a by omega]
    exact dV_end T k a
  | n + 1, i, hn, h => by
    have h1 := ar_zero ha n (i + 1) (by omega) (fun i' g1 g2 => h i' (by omega) g2)
    have h2 := dp_step (k := k) (show i < a by omega) ha (e := 0) (Or.inr ⟨rfl, h i (Nat.le_refl _) (by omega)⟩)
    unfold dV at h1 ⊢
    omega
theorem ar_mono {T : List Int} {k : Int} {a : Nat} (ha : a < T.length) : ∀ (i : Nat), i ≤ a → dV T k a i ≤ dV T k a 0
  | 0, _ => Int.le_refl _
  | i + 1, hi => by
    have h1 := ar_mono (k := k) ha i (by omega)
    by_cases hg : bGood T k a i
    · have h2 := dp_step (k := k) (show i < a by omega) ha (e := 1) (Or.inl ⟨rfl, hg⟩)
      unfold dV at h1 ⊢
      omega
    · have h2 := dp_step (k := k) (show i < a by omega) ha (e := 0) (Or.inr ⟨rfl, hg⟩)
      unfold dV at h1 ⊢
      omega
theorem ar_none {T : List Int} {a q : Int} (h0 : 0 ≤ a) (h1 : a < T.length) (hq : 1 ≤ q ∧ q ≤ 3) (h : ∀ i' : Nat, (i' : Int) < a → ¬ bGood T (q - 1) a.toNat i') : sAround T a q = -3 := by
  unfold sAround
  have hz := ar_zero (T := T) (k := q - 1) (show a.toNat < T.length by omega) a.toNat 0 (by omega) (fun i' _ g2 => h i' (by omega))
  rw [if_neg (by omega), dV_pairs, hz, if_neg (by decide)]
theorem ar_some {T : List Int} {a q i : Int} (h0 : 0 ≤ i) (hi : i < a) (h1 : a < T.length) (hq : 1 ≤ q ∧ q ≤ 3) (hg : bGood T (q - 1) a.toNat i.toNat) (h : ∀ i' : Nat, i < (i' : Int) → (i' : Int) < a → ¬ bGood T (q - 1) a.toNat i') : sAround T a q = i := by
  have ha : a.toNat < T.length := by omega
  have hz := ar_zero (T := T) (k := q - 1) ha (a.toNat - i.toNat - 1) (i.toNat + 1) (by omega) (fun i' g1 g2 => h i' (by omega) (by omega))
  have hs := dp_step (k := q - 1) (show i.toNat < a.toNat by omega) ha (e := 1) (Or.inl ⟨rfl, hg⟩)
  have hm := ar_mono (T := T) (k := q - 1) ha i.toNat (by omega)
  obtain ⟨g1, g2, g3, g4⟩ := (dp_ex (show i.toNat < a.toNat by omega) ha).mp hg
  have hpos : 0 < dV T (q - 1) a.toNat 0 := by
    unfold dV at hz hm ⊢
    omega
  unfold sAround
  rw [if_neg (by omega), dV_pairs, if_pos hpos]
  -- the innermost loose opening is at i
  have hl := sg_len (T := T) (a := i.toNat + 1) (b := a.toNat) (by omega)
  have hlA := sA_len (T := T) (show 0 ≤ a by omega) (show a ≤ (T.length : Int) by omega)
  have e : sA T a = sg T 0 i.toNat ++ (q - 1 + 1) :: sg T (i.toNat + 1) a.toNat := by
    show sg T 0 a.toNat = _
    rw [sg_split (Nat.zero_le i.toNat) (show i.toNat ≤ a.toNat by omega) (show a.toNat ≤ T.length by omega), sg_cons (show i.toNat < a.toNat by omega) (show a.toNat ≤ T.length by omega), g1]
  have e2 : (sA T a).reverse = (sg T (i.toNat + 1) a.toNat).reverse ++ (q - 1 + 1) :: (sg T 0 i.toNat).reverse := by rw [e, List.reverse_append, List.reverse_cons, List.append_assoc]; rfl
  have hd : sDd T a q = bo (q - 1) (sg T (i.toNat + 1) a.toNat) := by
    have hc : sAt T a = T.getD a.toNat 0 := rfl
    have hr := bo_pos (q - 1) (sg T (i.toNat + 1) a.toNat)
    have hmp := bc_pos (q - 1) (T.drop (a.toNat + 1))
    have hdd := bfd_c (q - 1) (T.getD a.toNat 0) (bo (q - 1) (sg T (i.toNat + 1) a.toNat))
    have w1 := sPw_c (q - 1) (T.getD a.toNat 0) (bo (q - 1) (sg T (i.toNat + 1) a.toNat))
    have w2 := sPc_c (q - 1) (T.getD a.toNat 0) (bc (q - 1) (T.drop (a.toNat + 1)))
    have w3 := sMin_c (sPw (q - 1 + 1) (T.getD a.toNat 0) (bo (q - 1) (sg T (i.toNat + 1) a.toNat))) (sPc (q - 1 + 1) (T.getD a.toNat 0) (bc (q - 1) (T.drop (a.toNat + 1))))
    unfold dV dM at hz
    unfold sDd
    rw [hc]
    by_cases c4 : T.getD a.toNat 0 = q + 3
    · rw [if_pos c4]
      omega
    · rw [if_neg c4]
      omega
  have hlen2 : ((sA T a).length : Int) = a := hlA
  rw [e2, bll_app _ _ _ _ _ (by rw [hd]; exact bo_pos _ _), hd, if_neg (by omega), g2, show bo (q - 1) (sg T (i.toNat + 1) a.toNat) + (0 - bo (q - 1) (sg T (i.toNat + 1) a.toNat)) = 0 by omega, bll, if_pos ⟨rfl, rfl⟩, hlen2]
  omega
end
section
/-! PURE: the reference's object spells a text; its loops -/
def zmRep (σ : zS) (T : List Int) : Prop := σ 0 0 = (T.length : Int) ∧ ∀ j : Nat, j < T.length → σ 1 j = T.getD j 0
theorem zmRep.le {σ : zS} {T : List Int} (h : zmRep σ T) (hw : zm_WF σ) : T.length ≤ 60 := by
  have h1 : 0 ≤ σ 0 0 ∧ σ 0 0 ≤ 60 := hw 0 0
  have := h.1
  omega
theorem zmRep.cod {σ : zS} {T : List Int} (h : zmRep σ T) (hw : zm_WF σ) : bcod T := by
  intro c hc
  obtain ⟨i, hi, rfl⟩ := List.getElem_of_mem hc
  rw [getD_get hi, ← h.2 i hi]
  exact hw 1 i
theorem ins_get {T : List Int} {a : Nat} (ha : a ≤ T.length) (c : Int) (j : Nat) : (T.take a ++ c :: T.drop a).getD j 0 = if j < a then T.getD j 0 else if j = a then c else T.getD (j - 1) 0 := by
  have hl : (T.take a).length = a := by rw [List.length_take]; omega
  rw [List.getD_eq_getElem?_getD]
  by_cases h1 : j < a
  · rw [if_pos h1, List.getElem?_append_left (by omega), List.getElem?_take_of_lt h1, List.getD_eq_getElem?_getD]
  · rw [if_neg h1, List.getElem?_append_right (by omega), hl]
    by_cases h2 : j = a
    · rw [if_pos h2, h2, Nat.sub_self]
      rfl
    · rw [if_neg h2, show j - a = (j - a - 1) + 1 by omega, List.getElem?_cons_succ, List.getElem?_drop, show a + (j - a - 1) = j - 1 by omega, List.getD_eq_getElem?_getD]
theorem ins_len {T : List Int} {a : Nat} (ha : a ≤ T.length) (c : Int) : (T.take a ++ c :: T.drop a).length = T.length + 1 := by
  rw [List.length_append, List.length_cons, List.length_take, List.length_drop]
  omega
/-- insert's loop, going down to i -/
def mIns (σ σ1 : zS) (i : Int) : Prop := σ1 0 0 = σ 0 0 ∧ (∀ j : Nat, (j : Int) < i → σ1 1 j = σ 1 j) ∧ (∀ j : Nat, i < (j : Int) → (j : Int) ≤ σ 0 0 → σ1 1 j = σ 1 (j - 1)) ∧ ∀ j : Nat, σ1 2 j = σ 2 j
theorem ins_init (σ : zS) : mIns σ σ (σ 0 0) := ⟨rfl, fun _ _ => rfl, fun j h1 h2 => by omega, fun _ => rfl⟩
theorem ins_step {σ σ1 : zS} {i w i' : Int} (h : mIns σ σ1 i) (h1 : 1 ≤ i) (hw : w = i - 1) (hi : i' = i - 1) : mIns σ (zs_st σ1 1 i.toNat (σ1 1 w.toNat)) i' := by
  obtain ⟨a0, a1, a2, a3⟩ := h
  refine ⟨by rw [zs_ne (by decide)]; exact a0, fun j hj => ?_, fun j hj hj2 => ?_, fun j => by rw [zs_ne (by decide)]; exact a3 j⟩
  · rw [zs_ni (by omega)]
    exact a1 j (by omega)
  · by_cases e : j = i.toNat
    · rw [e, zs_eq, a1 w.toNat (by omega), show w.toNat = i.toNat - 1 by omega]
    · rw [zs_ni e]
      exact a2 j (by omega) hj2
theorem ins_exit {σ σ1 : zS} {T : List Int} {a q v : Int} (hM : zmRep σ T) (h : mIns σ σ1 a) (h0 : 0 ≤ a) (h1 : a ≤ T.length) (hv : v = (T.length : Int) + 1) : zmRep (zs_st (zs_st σ1 1 a.toNat q) 0 0 v) (T.take a.toNat ++ q :: T.drop a.toNat) := by
  obtain ⟨a0, a1, a2, a3⟩ := h
  have hl := ins_len (show a.toNat ≤ T.length by omega) q
  have hn := hM.1
  refine ⟨by rw [zs_eq, hl, hv]; omega, fun j hj => ?_⟩
  rw [hl] at hj
  rw [zs_ne (by decide), ins_get (by omega)]
  by_cases c1 : j < a.toNat
  · rw [if_pos c1, zs_ni (by omega), a1 j (by omega)]
    exact hM.2 j (by omega)
  · rw [if_neg c1]
    by_cases c2 : j = a.toNat
    · rw [if_pos c2, c2, zs_eq]
    · rw [if_neg c2, zs_ni c2, a2 j (by omega) (by omega)]
      exact hM.2 (j - 1) (by omega)
theorem er_get {T : List Int} {f : Nat} (hf : f ≤ T.length) (n j : Nat) : (T.take f ++ (T.drop f).drop n).getD j 0 = if j < f then T.getD j 0 else T.getD (j + n) 0 := by
  have hl : (T.take f).length = f := by rw [List.length_take]; omega
  rw [List.getD_eq_getElem?_getD]
  by_cases h1 : j < f
  · rw [if_pos h1, List.getElem?_append_left (by omega), List.getElem?_take_of_lt h1, List.getD_eq_getElem?_getD]
  · rw [if_neg h1, List.getElem?_append_right (by omega), hl, List.getElem?_drop, List.getElem?_drop, show f + (n + (j - f)) = j + n by omega, List.getD_eq_getElem?_getD]
/-- erase's loop, going up to i -/
def mEr (σ σ1 : zS) (f n i : Int) : Prop := σ1 0 0 = σ 0 0 ∧ (∀ j : Nat, (j : Int) < f → σ1 1 j = σ 1 j) ∧ (∀ j : Nat, f ≤ (j : Int) → (j : Int) < i - n → σ1 1 j = σ 1 (j + n.toNat)) ∧ (∀ j : Nat, i - n ≤ (j : Int) → σ1 1 j = σ 1 j) ∧ ∀ j : Nat, σ1 2 j = σ 2 j
theorem er_init (σ : zS) {f n i : Int} (hi : i = f + n) : mEr σ σ f n i := ⟨rfl, fun _ _ => rfl, fun j h1 h2 => by omega, fun _ _ => rfl, fun _ => rfl⟩
theorem er_step {σ σ1 : zS} {f n i w i' : Int} (h : mEr σ σ1 f n i) (h0 : 0 ≤ f) (h1 : 0 ≤ n) (h2 : f + n ≤ i) (hw : w = i - n) (hi : i' = i + 1) : mEr σ (zs_st σ1 1 w.toNat (σ1 1 i.toNat)) f n i' := by
  obtain ⟨a0, a1, a2, a3, a4⟩ := h
  refine ⟨by rw [zs_ne (by decide)]; exact a0, fun j hj => ?_, fun j hj hj2 => ?_, fun j hj => ?_, fun j => by rw [zs_ne (by decide)]; exact a4 j⟩
  · rw [zs_ni (by omega)]
    exact a1 j hj
  · by_cases e : j = w.toNat
    · rw [e, zs_eq, a3 i.toNat (by omega), show w.toNat + n.toNat = i.toNat by omega]
    · rw [zs_ni e]
      exact a2 j hj (by omega)
  · rw [zs_ni (by omega)]
    exact a3 j (by omega)
theorem er_exit {σ σ1 : zS} {T : List Int} {f n i v : Int} (hM : zmRep σ T) (h : mEr σ σ1 f n i) (hs : sStr T f n) (hi : i = T.length) (hv : v = (T.length : Int) - n) : zmRep (zs_st σ1 0 0 v) (sA T f ++ sC T f n) := by
  obtain ⟨a0, a1, a2, a3, a4⟩ := h
  have hl := sRest_len hs
  obtain ⟨s1, s2, s3, s4⟩ := hs
  refine ⟨by rw [zs_eq, hl, hv], fun j hj => ?_⟩
  have e : (sA T f ++ sC T f n).getD j 0 = if j < f.toNat then T.getD j 0 else T.getD (j + n.toNat) 0 := er_get (by omega) n.toNat j
  rw [zs_ne (by decide), e]
  by_cases c1 : j < f.toNat
  · rw [if_pos c1, a1 j (by omega)]
    exact hM.2 j (by omega)
  · rw [if_neg c1, a2 j (by omega) (by omega)]
    exact hM.2 (j + n.toNat) (by omega)
/-- the stretch copied into part, up to i -/
def mPt (σ σ1 : zS) (f i : Int) : Prop := σ1 0 0 = σ 0 0 ∧ (∀ j : Nat, σ1 1 j = σ 1 j) ∧ ∀ j : Nat, (j : Int) < i → σ1 2 j = σ 1 (f.toNat + j)
theorem pt_init (σ : zS) (f : Int) : mPt σ σ f 0 := ⟨rfl, fun _ => rfl, fun j h => by omega⟩
theorem pt_step {σ σ1 : zS} {f i w i' : Int} (h : mPt σ σ1 f i) (h0 : 0 ≤ f) (h1 : 0 ≤ i) (hw : w = f + i) (hi : i' = i + 1) : mPt σ (zs_st σ1 2 i.toNat (σ1 1 w.toNat)) f i' := by
  obtain ⟨a0, a1, a2⟩ := h
  refine ⟨by rw [zs_ne (by decide)]; exact a0, fun j => by rw [zs_ne (by decide)]; exact a1 j, fun j hj => ?_⟩
  by_cases e : j = i.toNat
  · rw [e, zs_eq, a1, show w.toNat = f.toNat + i.toNat by omega]
  · rw [zs_ni e]
    exact a2 j (by omega)
theorem sB_get {T : List Int} {f n : Int} {j : Nat} (hj : (j : Int) < n) : (sB T f n).getD j 0 = T.getD (f.toNat + j) 0 := by
  unfold sB
  rw [List.getD_eq_getElem?_getD, List.getElem?_take_of_lt (by omega), List.getElem?_drop, List.getD_eq_getElem?_getD]
theorem pt_exit {σ σ1 : zS} {T : List Int} {f n : Int} (hM : zmRep σ T) (h : mPt σ σ1 f n) (hs : sStr T f n) : zmRep σ1 T ∧ ∀ j : Nat, (j : Int) < n → σ1 2 j = (sB T f n).getD j 0 := by
  obtain ⟨a0, a1, a2⟩ := h
  obtain ⟨s1, s2, s3, s4⟩ := hs
  refine ⟨⟨a0.trans hM.1, fun j hj => (a1 j).trans (hM.2 j hj)⟩, fun j hj => ?_⟩
  rw [a2 j hj, sB_get hj]
  exact hM.2 _ (by omega)
/-- move: the first i of B are back -/
def mMv (R B : List Int) (t : Int) (i : Nat) : List Int := R.take t.toNat ++ (B.take i ++ R.drop t.toNat)
theorem mv_0 (R B : List Int) (t : Int) : mMv R B t 0 = R := by
  unfold mMv
  rw [List.take_zero, List.nil_append, List.take_append_drop]
theorem mv_end (R B : List Int) (t : Int) {i : Nat} (h : i = B.length) : mMv R B t i = sMoved R B t := by
  unfold mMv sMoved
  rw [h, List.take_length]
theorem mv_len {R B : List Int} {t : Int} {i : Nat} (h0 : 0 ≤ t) (h1 : t ≤ R.length) (hi : i ≤ B.length) : (mMv R B t i).length = R.length + i := by
  unfold mMv
  rw [List.length_append, List.length_append, List.length_take, List.length_take, List.length_drop]
  omega
theorem mv_step {R B : List Int} {t a c : Int} {i : Nat} (h0 : 0 ≤ t) (h1 : t ≤ R.length) (hi : i < B.length) (h60 : R.length + B.length ≤ 60) (ha : a = t + i) (hc : c = B.getD i 0) (hc2 : 0 ≤ c ∧ c ≤ 6) : (sInsert (mMv R B t i) a c).2 = mMv R B t (i + 1) := by
  have hl := mv_len (R := R) (B := B) (t := t) (i := i) h0 h1 (by omega)
  unfold sInsert
  rw [if_neg (by omega), if_neg (by omega)]
  have hlt : (R.take t.toNat).length = t.toNat := by rw [List.length_take]; omega
  have hlb : (B.take i).length = i := by rw [List.length_take]; omega
  have e : mMv R B t i = (R.take t.toNat ++ B.take i) ++ R.drop t.toNat := by unfold mMv; rw [List.append_assoc]
  have hla : (R.take t.toNat ++ B.take i).length = a.toNat := by rw [List.length_append]; omega
  dsimp only
  rw [e, ← hla, List.take_left, List.drop_left]
  unfold mMv
  rw [List.take_succ_eq_append_getElem hi, getD_get hi, ← hc, List.append_assoc, List.append_assoc]
  rfl
/-- mirror's second loop -/
def mMr (σ σ1 : zS) (f n i : Int) : Prop := σ1 0 0 = σ 0 0 ∧ (∀ j : Nat, σ1 2 j = σ 2 j) ∧ ∀ j : Nat, σ1 1 j = if f ≤ (j : Int) ∧ (j : Int) < f + i then bflip (σ 2 (n - 1 - ((j : Int) - f)).toNat) else σ 1 j
theorem mr_init (σ : zS) (f n : Int) : mMr σ σ f n 0 := ⟨rfl, fun _ => rfl, fun j => by rw [if_neg (by omega)]⟩
theorem mr_step {σ σ1 : zS} {f n i w u i' z : Int} (h : mMr σ σ1 f n i) (h0 : 0 ≤ f) (h1 : 0 ≤ i) (hw : w = f + i) (hu : u = n - 1 - i) (hi : i' = i + 1) (hz : z = bflip (σ1 2 u.toNat)) : mMr σ (zs_st σ1 1 w.toNat z) f n i' := by
  obtain ⟨a0, a1, a2⟩ := h
  refine ⟨by rw [zs_ne (by decide)]; exact a0, fun j => by rw [zs_ne (by decide)]; exact a1 j, fun j => ?_⟩
  by_cases e : j = w.toNat
  · rw [e, zs_eq, if_pos (by omega), hz, a1, show (n - 1 - (((w.toNat : Nat) : Int) - f)).toNat = u.toNat by omega]
  · rw [zs_ni e, a2 j]
    by_cases c : f ≤ (j : Int) ∧ (j : Int) < f + i
    · rw [if_pos c, if_pos (by omega)]
    · rw [if_neg c, if_neg (by omega)]
theorem mir_get {B : List Int} {j : Nat} (h : j < B.length) : (bmir B).getD j 0 = bflip (B.getD (B.length - 1 - j) 0) := by
  have hl : j < (B.map bflip).length := by rw [List.length_map]; exact h
  unfold bmir
  rw [List.getD_eq_getElem?_getD, List.getElem?_reverse hl, List.length_map, List.getElem?_map, List.getD_eq_getElem?_getD, List.getElem?_eq_getElem (show B.length - 1 - j < B.length by omega)]
  rfl
theorem mr_exit {σ σ1 : zS} {T : List Int} {f n : Int} (hM : zmRep σ T) (hP : ∀ j : Nat, (j : Int) < n → σ 2 j = (sB T f n).getD j 0) (h : mMr σ σ1 f n n) (hs : sStr T f n) : zmRep σ1 (sA T f ++ (bmir (sB T f n) ++ sC T f n)) := by
  obtain ⟨a0, a1, a2⟩ := h
  have hlen := sMir_len T f n
  obtain ⟨s1, s2, s3, s4⟩ := hs
  have hlA := sA_len (T := T) s1 s2
  have hlB := sB_len (T := T) s1 s3 (by omega)
  have hn := hM.1
  refine ⟨by rw [a0, hlen]; exact hn, fun j hj => ?_⟩
  have hj2 : j < T.length := by omega
  rw [a2 j, List.getD_eq_getElem?_getD]
  by_cases c1 : (j : Int) < f
  · rw [if_neg (by omega), List.getElem?_append_left (by omega), hM.2 j hj2, List.getD_eq_getElem?_getD]
    unfold sA
    rw [List.getElem?_take_of_lt (by omega)]
  · rw [List.getElem?_append_right (by omega)]
    by_cases c2 : (j : Int) < f + n
    · rw [if_pos (by omega), List.getElem?_append_left (by rw [bmir_len]; omega), ← List.getD_eq_getElem?_getD, mir_get (by omega), hP _ (by omega)]
      congr 2
      omega
    · rw [if_neg (by omega), List.getElem?_append_right (by rw [bmir_len]; omega), bmir_len, hM.2 j hj2, List.getD_eq_getElem?_getD]
      unfold sC
      rw [List.getElem?_drop, List.getElem?_drop]
      congr 2
      omega
end
section
/-! the reference's methods -/
set_option maxHeartbeats 4000000 in
theorem metm_isStretch (l : Launch) (g : zG) (σ : zS) (T : List Int) (f n : Int) (hM : zmRep σ T) (hf : zR f) (hn : zR n) : zm_Mi l yX1_isStretch cX1_isStretch 3 (some .boolean) ({ frames := 0, cells := 0, slots := 0, locals := 0 }) g σ [f, n] (fun r σ' => σ' = σ ∧ ((r = 1 ∧ sStr T f n) ∨ (r = 0 ∧ ¬ sStr T f n))) := by
  refine zm_ofi (by decide +kernel) rfl (Nat.le_of_ble_eq_true rfl) ?_
  intro p e s m args below meth c ls ⟨S, hr, hlk, hw⟩ hl
  have hl : lv_has ls 3 [(0, .ref (g.2.2 3)), (1, .int (zI f)), (2, .int (zI n))] := hl
  have hM1 : σ 0 0 = (T.length : Int) := hM.1
  have hM6 : T.length ≤ 60 := hM.le hw.2.2.2.2.1
  refine zr_iload_n S hl 1 rfl dX1_isStretch_0 ?_
  refine zr_if_lt S 30 (by decide) (by omega) dX1_isStretch_1 (fun h1 => ?_) (fun h1 => ?_)
  · refine zr_iconst S dX1_isStretch_30 ?_
    exact zm_zret S hr hlk hw (by omega) (⟨rfl, Or.inr ⟨rfl, by omega⟩⟩) dX1_isStretch_31
  · refine zr_iload_n S hl 2 rfl dX1_isStretch_4 ?_
    refine zr_if_lt S 30 (by decide) (by omega) dX1_isStretch_5 (fun h2 => ?_) (fun h2 => ?_)
    · refine zr_iconst S dX1_isStretch_30 ?_
      exact zm_zret S hr hlk hw (by omega) (⟨rfl, Or.inr ⟨rfl, by omega⟩⟩) dX1_isStretch_31
    · refine zr_iload_n S hl 1 rfl dX1_isStretch_8 ?_
      refine zr_aload S hl 0 rfl dX1_isStretch_9 ?_
      refine zm_geti S hw 0 (by decide) rfl dX1_isStretch_10 (fun v3 e4 r5 => ?_)
      have r5 : 0 ≤ v3 ∧ v3 ≤ 60 := r5
      refine zr_icmp_gt S 30 (by decide) (by omega) (by omega) dX1_isStretch_13 (fun h6 => ?_) (fun h6 => ?_)
      · refine zr_iconst S dX1_isStretch_30 ?_
        exact zm_zret S hr hlk hw (by omega) (⟨rfl, Or.inr ⟨rfl, by omega⟩⟩) dX1_isStretch_31
      · refine zr_iload_n S hl 2 rfl dX1_isStretch_16 ?_
        refine zr_aload S hl 0 rfl dX1_isStretch_17 ?_
        refine zm_geti S hw 0 (by decide) rfl dX1_isStretch_18 (fun v7 e8 r9 => ?_)
        have r9 : 0 ≤ v7 ∧ v7 ≤ 60 := r9
        refine zr_iload_n S hl 1 rfl dX1_isStretch_21 ?_
        refine zr_isub S dX1_isStretch_22 (fun v10 e11 => ?_)
        refine zr_icmp_gt S 30 (by decide) (by omega) (by omega) dX1_isStretch_23 (fun h12 => ?_) (fun h12 => ?_)
        · refine zr_iconst S dX1_isStretch_30 ?_
          exact zm_zret S hr hlk hw (by omega) (⟨rfl, Or.inr ⟨rfl, by omega⟩⟩) dX1_isStretch_31
        · refine zr_iconst S dX1_isStretch_26 ?_
          refine zr_goto S 31 (by decide) dX1_isStretch_27 ?_
          exact zm_zret S hr hlk hw (by omega) (⟨rfl, Or.inl ⟨rfl, by omega⟩⟩) dX1_isStretch_31
set_option maxHeartbeats 4000000 in
theorem metm_isPlace (l : Launch) (g : zG) (σ : zS) (T : List Int) (a : Int) (hM : zmRep σ T) (ha : zR a) : zm_Mi l yX1_isPlace cX1_isPlace 2 (some .boolean) ({ frames := 0, cells := 0, slots := 0, locals := 0 }) g σ [a] (fun r σ' => σ' = σ ∧ ((r = 1 ∧ (0 ≤ a ∧ a < (T.length : Int))) ∨ (r = 0 ∧ ¬ (0 ≤ a ∧ a < (T.length : Int))))) := by
  refine zm_ofi (by decide +kernel) rfl (Nat.le_of_ble_eq_true rfl) ?_
  intro p e s m args below meth c ls ⟨S, hr, hlk, hw⟩ hl
  have hl : lv_has ls 2 [(0, .ref (g.2.2 3)), (1, .int (zI a))] := hl
  have hM1 : σ 0 0 = (T.length : Int) := hM.1
  have hM6 : T.length ≤ 60 := hM.le hw.2.2.2.2.1
  refine zr_iload_n S hl 1 rfl dX1_isPlace_0 ?_
  refine zr_if_lt S 16 (by decide) (by omega) dX1_isPlace_1 (fun h1 => ?_) (fun h1 => ?_)
  · refine zr_iconst S dX1_isPlace_16 ?_
    exact zm_zret S hr hlk hw (by omega) (⟨rfl, Or.inr ⟨rfl, by omega⟩⟩) dX1_isPlace_17
  · refine zr_iload_n S hl 1 rfl dX1_isPlace_4 ?_
    refine zr_aload S hl 0 rfl dX1_isPlace_5 ?_
    refine zm_geti S hw 0 (by decide) rfl dX1_isPlace_6 (fun v2 e3 r4 => ?_)
    have r4 : 0 ≤ v2 ∧ v2 ≤ 60 := r4
    refine zr_icmp_ge S 16 (by decide) (by omega) (by omega) dX1_isPlace_9 (fun h5 => ?_) (fun h5 => ?_)
    · refine zr_iconst S dX1_isPlace_16 ?_
      exact zm_zret S hr hlk hw (by omega) (⟨rfl, Or.inr ⟨rfl, by omega⟩⟩) dX1_isPlace_17
    · refine zr_iconst S dX1_isPlace_12 ?_
      refine zr_goto S 17 (by decide) dX1_isPlace_13 ?_
      exact zm_zret S hr hlk hw (by omega) (⟨rfl, Or.inl ⟨rfl, by omega⟩⟩) dX1_isPlace_17
set_option maxHeartbeats 4000000 in
theorem metm_insert (l : Launch) (g : zG) (σ : zS) (T : List Int) (a q : Int) (hM : zmRep σ T) (ha : zR a) (hq : zR q) : zm_Mi l yX1_insert cX1_insert 4 (some .int) ({ frames := 0, cells := 0, slots := 0, locals := 0 }) g σ [a, q] (fun r σ' => r = (sInsert T a q).1 ∧ zmRep σ' (sInsert T a q).2 ∧ ∀ j : Nat, σ' 2 j = σ 2 j) := by
  refine zm_ofi (by decide +kernel) rfl (Nat.le_of_ble_eq_true rfl) ?_
  intro p e s m args below meth c ls ⟨S, hr, hlk, hw⟩ hl
  have hl : lv_has ls 4 [(0, .ref (g.2.2 3)), (1, .int (zI a)), (2, .int (zI q))] := hl
  have hM1 : σ 0 0 = (T.length : Int) := hM.1
  have hM6 : T.length ≤ 60 := hM.le hw.2.2.2.2.1
  have loop : (0 ≤ a ∧ a ≤ (T.length : Int)) → (0 ≤ q ∧ q ≤ 6) → σ 0 0 < 60 → ∀ (u : Nat) (i : Int) (σ1 : zS) (H : Heap) (locs : List Loc) (ls : Array Slot), i = a + u → i ≤ (T.length : Int) → mIns σ σ1 i → zm_W g (zm_A g s.heap.size) s H locs σ1 → lv_has ls 4 [(0, .ref (g.2.2 3)), (1, .int (zI a)), (2, .int (zI q)), (3, .int (zI i))] → W p l e ({ frames := 0, cells := 0, slots := 0, locals := 0 }) s m args below meth c H locs 0 0 (zm_Ei g (fun r σ' => r = (sInsert T a q).1 ∧ zmRep σ' (sInsert T a q).2 ∧ ∀ j : Nat, σ' 2 j = σ 2 j) below args s) (F0 m 41 ls []) := by
    intro ha2 hq2 h60 u
    induction u with
    | zero =>
      intro i σ1 H locs ls hi hi2 hI hw hl
      have hI0 : σ1 0 0 = σ 0 0 := hI.1
      have hia : i = a := by omega
      refine zr_iload_n S hl 3 rfl dX1_insert_41 ?_
      refine zr_iload_n S hl 1 rfl dX1_insert_42 ?_
      refine zr_icmp_le S 66 (by decide) (by omega) (by omega) dX1_insert_43 (fun ah1 => ?_) (fun ah1 => by omega)
      refine zr_aload S hl 0 rfl dX1_insert_66 ?_
      refine zm_get S hw 1 (.ref (g.2.2 1)) (by decide) rfl dX1_insert_67 ?_
      refine zr_iload_n S hl 1 rfl dX1_insert_70 ?_
      refine zr_iload_n S hl 2 rfl dX1_insert_71 ?_
      refine zm_iast S hw 1 60 1 0 (i := a) (z := q) (by omega) (by omega) (by omega) (show 0 ≤ (q : Int) ∧ (q : Int) ≤ 6 by omega) rfl rfl (zm_s1 g σ1 _ _) dX1_insert_72 (fun aσ2 H locs as3 hw => ?_)
      refine zr_aload S hl 0 rfl dX1_insert_73 ?_
      refine zr_dup S rfl dX1_insert_74 ?_
      refine zm_geti S hw 0 (by decide) rfl dX1_insert_75 (fun av4 ae5 ar6 => ?_)
      have ar6 : 0 ≤ av4 ∧ av4 ≤ 60 := ar6
      have af7 : av4 = σ1 0 0 := by rw [ae5, as3, zs_ne (by decide)]
      refine zr_iconst S dX1_insert_78 ?_
      refine zr_iadd S dX1_insert_79 (fun av8 ae9 => ?_)
      refine zm_put S hw 0 (by decide) (zm_s0 g aσ2 av8) rfl (by decide +kernel) (Nat.le_of_ble_eq_true rfl) (show 0 ≤ (av8 : Int) ∧ (av8 : Int) ≤ 60 by omega) dX1_insert_80 (fun aσ10 H locs as11 hw => ?_)
      refine zr_aload S hl 0 rfl dX1_insert_83 ?_
      refine zm_geti S hw 0 (by decide) rfl dX1_insert_84 (fun av12 ae13 ar14 => ?_)
      have ar14 : 0 ≤ av12 ∧ av12 ≤ 60 := ar14
      have af15 : av12 = av8 := by rw [ae13, as11, zs_eq]
      rw [hia] at hI
      have hrep : zmRep aσ10 (T.take a.toNat ++ q :: T.drop a.toNat) := by rw [as11, as3]; exact ins_exit hM hI ha2.1 ha2.2 (by omega)
      have hpt : ∀ j : Nat, aσ10 2 j = σ 2 j := by intro j; rw [as11, as3, zs_ne (by decide), zs_ne (by decide)]; exact hI.2.2.2 j
      exact zm_iret S hr hlk hw (by rw [sInsert, if_neg (by omega), if_neg (by omega)]; exact ⟨by dsimp only; omega, hrep, hpt⟩) dX1_insert_87
    | succ u ih =>
      intro i σ1 H locs ls hi hi2 hI hw hl
      refine zr_iload_n S hl 3 rfl dX1_insert_41 ?_
      refine zr_iload_n S hl 1 rfl dX1_insert_42 ?_
      refine zr_icmp_le S 66 (by decide) (by omega) (by omega) dX1_insert_43 (fun ch1 => by omega) (fun ch1 => ?_)
      refine zr_aload S hl 0 rfl dX1_insert_46 ?_
      refine zm_get S hw 1 (.ref (g.2.2 1)) (by decide) rfl dX1_insert_47 ?_
      refine zr_iload_n S hl 3 rfl dX1_insert_50 ?_
      refine zr_aload S hl 0 rfl dX1_insert_51 ?_
      refine zm_get S hw 1 (.ref (g.2.2 1)) (by decide) rfl dX1_insert_52 ?_
      refine zr_iload_n S hl 3 rfl dX1_insert_55 ?_
      refine zr_iconst S dX1_insert_56 ?_
      refine zr_isub S dX1_insert_57 (fun cv2 ce3 => ?_)
      refine zm_iald S hw 1 60 1 0 (i := cv2) (by omega) (by omega) (by omega) rfl rfl dX1_insert_58 (fun cv4 ce5 cr6 => ?_)
      have cr6 : 0 ≤ cv4 ∧ cv4 ≤ 6 := cr6
      refine zm_iast S hw 1 60 1 0 (i := i) (z := cv4) (by omega) (by omega) (by omega) (show 0 ≤ (cv4 : Int) ∧ (cv4 : Int) ≤ 6 by omega) rfl rfl (zm_s1 g σ1 _ _) dX1_insert_59 (fun cσ7 H locs cs8 hw => ?_)
      obtain ⟨cv9, ce10⟩ : ∃ v : Int, v = i + (-1) := ⟨_, rfl⟩
      refine zr_iinc S cv9 ce10 [(3, .int (zI cv9)), (0, .ref (g.2.2 3)), (1, .int (zI a)), (2, .int (zI q))] hl 3 rfl (by decide) rfl dX1_insert_60 (fun ls hl => ?_)
      refine zr_goto S 41 (by decide) dX1_insert_63 ?_
      exact ih cv9 cσ7 H locs ls (by omega) (by omega) (by rw [cs8, ce5]; exact ins_step hI (by omega) ce3 (by omega)) hw (lv_sub hl [1, 2, 3, 0] rfl)
  refine zr_aload S hl 0 rfl dX1_insert_0 ?_
  refine zm_geti S hw 0 (by decide) rfl dX1_insert_1 (fun v1 e2 r3 => ?_)
  have r3 : 0 ≤ v1 ∧ v1 ≤ 60 := r3
  refine zr_bipush S (by decide +kernel) dX1_insert_4 ?_
  refine zr_icmp_ne S 12 (by decide) (by omega) (by omega) dX1_insert_6 (fun h4 => ?_) (fun h4 => ?_)
  · refine zr_iload_n S hl 1 rfl dX1_insert_12 ?_
    refine zr_if_lt S 34 (by decide) (by omega) dX1_insert_13 (fun h5 => ?_) (fun h5 => ?_)
    · refine zr_iconst S dX1_insert_34 ?_
      exact zm_iret S hr hlk hw (by rw [sInsert, if_neg (by omega), if_pos (by omega)]; exact ⟨rfl, hM, fun _ => rfl⟩) dX1_insert_35
    · refine zr_iload_n S hl 1 rfl dX1_insert_16 ?_
      refine zr_aload S hl 0 rfl dX1_insert_17 ?_
      refine zm_geti S hw 0 (by decide) rfl dX1_insert_18 (fun v6 e7 r8 => ?_)
      have r8 : 0 ≤ v6 ∧ v6 ≤ 60 := r8
      refine zr_icmp_gt S 34 (by decide) (by omega) (by omega) dX1_insert_21 (fun h9 => ?_) (fun h9 => ?_)
      · refine zr_iconst S dX1_insert_34 ?_
        exact zm_iret S hr hlk hw (by rw [sInsert, if_neg (by omega), if_pos (by omega)]; exact ⟨rfl, hM, fun _ => rfl⟩) dX1_insert_35
      · refine zr_iload_n S hl 2 rfl dX1_insert_24 ?_
        refine zr_if_lt S 34 (by decide) (by omega) dX1_insert_25 (fun h10 => ?_) (fun h10 => ?_)
        · refine zr_iconst S dX1_insert_34 ?_
          exact zm_iret S hr hlk hw (by rw [sInsert, if_neg (by omega), if_pos (by omega)]; exact ⟨rfl, hM, fun _ => rfl⟩) dX1_insert_35
        · refine zr_iload_n S hl 2 rfl dX1_insert_28 ?_
          refine zr_bipush S (by decide +kernel) dX1_insert_29 ?_
          refine zr_icmp_le S 36 (by decide) (by omega) (by omega) dX1_insert_31 (fun h11 => ?_) (fun h11 => ?_)
          · refine zr_aload S hl 0 rfl dX1_insert_36 ?_
            refine zm_geti S hw 0 (by decide) rfl dX1_insert_37 (fun v12 e13 r14 => ?_)
            have r14 : 0 ≤ v12 ∧ v12 ≤ 60 := r14
            refine zr_istore_n S [(3, .int (zI v12)), (0, .ref (g.2.2 3)), (1, .int (zI a)), (2, .int (zI q))] hl (by decide) rfl dX1_insert_40 (fun ls hl => ?_)
            exact loop (by omega) (by omega) (by omega) (v12 - a).toNat v12 σ _ _ ls (by omega) (by omega) (by rw [e13]; exact ins_init σ) hw (lv_sub hl [1, 2, 3, 0] rfl)
          · refine zr_iconst S dX1_insert_34 ?_
            exact zm_iret S hr hlk hw (by rw [sInsert, if_neg (by omega), if_pos (by omega)]; exact ⟨rfl, hM, fun _ => rfl⟩) dX1_insert_35
  · refine zr_bipush S (by decide +kernel) dX1_insert_9 ?_
    exact zm_iret S hr hlk hw (by rw [sInsert, if_pos (by omega)]; exact ⟨rfl, hM, fun _ => rfl⟩) dX1_insert_11
set_option maxHeartbeats 4000000 in
theorem metm_erase (l : Launch) (g : zG) (σ : zS) (T : List Int) (f n : Int) (hM : zmRep σ T) (hf : zR f) (hn : zR n) : zm_Mi l yX1_erase cX1_erase 4 (some .int) ({ frames := 1, cells := 0, slots := 0, locals := 22 }) g σ [f, n] (fun r σ' => r = (sErase T f n).1 ∧ zmRep σ' (sErase T f n).2 ∧ ∀ j : Nat, σ' 2 j = σ 2 j) := by
  refine zm_ofi (by decide +kernel) rfl (Nat.le_of_ble_eq_true rfl) ?_
  intro p e s m args below meth c ls ⟨S, hr, hlk, hw⟩ hl
  have hl : lv_has ls 4 [(0, .ref (g.2.2 3)), (1, .int (zI f)), (2, .int (zI n))] := hl
  have hM1 : σ 0 0 = (T.length : Int) := hM.1
  have hM6 : T.length ≤ 60 := hM.le hw.2.2.2.2.1
  have loop : sStr T f n → ∀ (u : Nat) (i : Int) (σ1 : zS) (H : Heap) (locs : List Loc) (ls : Array Slot), i + u = (T.length : Int) → f + n ≤ i → mEr σ σ1 f n i → zm_W g (zm_A g s.heap.size) s H locs σ1 → lv_has ls 4 [(0, .ref (g.2.2 3)), (1, .int (zI f)), (2, .int (zI n)), (3, .int (zI i))] → W p l e ({ frames := 1, cells := 0, slots := 0, locals := 22 }) s m args below meth c H locs 0 0 (zm_Ei g (fun r σ' => r = (sErase T f n).1 ∧ zmRep σ' (sErase T f n).2 ∧ ∀ j : Nat, σ' 2 j = σ 2 j) below args s) (F0 m 15 ls []) := by
    intro hS u
    have hS1 : 0 ≤ f := hS.1
    have hS2 : f ≤ (T.length : Int) := hS.2.1
    have hS3 : 0 ≤ n := hS.2.2.1
    have hS4 : n ≤ (T.length : Int) - f := hS.2.2.2
    induction u with
    | zero =>
      intro i σ1 H locs ls hi hi2 hI hw hl
      have hI0 : σ1 0 0 = σ 0 0 := hI.1
      refine zr_iload_n S hl 3 rfl dX1_erase_15 ?_
      refine zr_aload S hl 0 rfl dX1_erase_16 ?_
      refine zm_geti S hw 0 (by decide) rfl dX1_erase_17 (fun av1 ae2 ar3 => ?_)
      have ar3 : 0 ≤ av1 ∧ av1 ≤ 60 := ar3
      refine zr_icmp_ge S 43 (by decide) (by omega) (by omega) dX1_erase_20 (fun ah4 => ?_) (fun ah4 => by omega)
      refine zr_aload S hl 0 rfl dX1_erase_43 ?_
      refine zr_dup S rfl dX1_erase_44 ?_
      refine zm_geti S hw 0 (by decide) rfl dX1_erase_45 (fun av5 ae6 ar7 => ?_)
      have ar7 : 0 ≤ av5 ∧ av5 ≤ 60 := ar7
      refine zr_iload_n S hl 2 rfl dX1_erase_48 ?_
      refine zr_isub S dX1_erase_49 (fun av8 ae9 => ?_)
      refine zm_put S hw 0 (by decide) (zm_s0 g σ1 av8) rfl (by decide +kernel) (Nat.le_of_ble_eq_true rfl) (show 0 ≤ (av8 : Int) ∧ (av8 : Int) ≤ 60 by omega) dX1_erase_50 (fun aσ10 H locs as11 hw => ?_)
      refine zr_aload S hl 0 rfl dX1_erase_53 ?_
      refine zm_geti S hw 0 (by decide) rfl dX1_erase_54 (fun av12 ae13 ar14 => ?_)
      have ar14 : 0 ≤ av12 ∧ av12 ≤ 60 := ar14
      have af15 : av12 = av8 := by rw [ae13, as11, zs_eq]
      have hrep : zmRep aσ10 (sA T f ++ sC T f n) := by rw [as11]; exact er_exit hM hI hS (by omega) (by omega)
      have hpt : ∀ j : Nat, aσ10 2 j = σ 2 j := by intro j; rw [as11, zs_ne (by decide)]; exact hI.2.2.2.2 j
      exact zm_iret S hr hlk hw (by rw [sErase, if_pos hS]; exact ⟨by dsimp only; omega, hrep, hpt⟩) dX1_erase_57
    | succ u ih =>
      intro i σ1 H locs ls hi hi2 hI hw hl
      have hI0 : σ1 0 0 = σ 0 0 := hI.1
      refine zr_iload_n S hl 3 rfl dX1_erase_15 ?_
      refine zr_aload S hl 0 rfl dX1_erase_16 ?_
      refine zm_geti S hw 0 (by decide) rfl dX1_erase_17 (fun cv1 ce2 cr3 => ?_)
      have cr3 : 0 ≤ cv1 ∧ cv1 ≤ 60 := cr3
      refine zr_icmp_ge S 43 (by decide) (by omega) (by omega) dX1_erase_20 (fun ch4 => by omega) (fun ch4 => ?_)
      refine zr_aload S hl 0 rfl dX1_erase_23 ?_
      refine zm_get S hw 1 (.ref (g.2.2 1)) (by decide) rfl dX1_erase_24 ?_
      refine zr_iload_n S hl 3 rfl dX1_erase_27 ?_
      refine zr_iload_n S hl 2 rfl dX1_erase_28 ?_
      refine zr_isub S dX1_erase_29 (fun cv5 ce6 => ?_)
      refine zr_aload S hl 0 rfl dX1_erase_30 ?_
      refine zm_get S hw 1 (.ref (g.2.2 1)) (by decide) rfl dX1_erase_31 ?_
      refine zr_iload_n S hl 3 rfl dX1_erase_34 ?_
      refine zm_iald S hw 1 60 1 0 (i := i) (by omega) (by omega) (by omega) rfl rfl dX1_erase_35 (fun cv7 ce8 cr9 => ?_)
      have cr9 : 0 ≤ cv7 ∧ cv7 ≤ 6 := cr9
      refine zm_iast S hw 1 60 1 0 (i := cv5) (z := cv7) (by omega) (by omega) (by omega) (show 0 ≤ (cv7 : Int) ∧ (cv7 : Int) ≤ 6 by omega) rfl rfl (zm_s1 g σ1 _ _) dX1_erase_36 (fun cσ10 H locs cs11 hw => ?_)
      obtain ⟨cv12, ce13⟩ : ∃ v : Int, v = i + 1 := ⟨_, rfl⟩
      refine zr_iinc S cv12 ce13 [(3, .int (zI cv12)), (0, .ref (g.2.2 3)), (1, .int (zI f)), (2, .int (zI n))] hl 3 rfl (by decide) rfl dX1_erase_37 (fun ls hl => ?_)
      refine zr_goto S 15 (by decide) dX1_erase_40 ?_
      exact ih cv12 cσ10 H locs ls (by omega) (by omega) (by rw [cs11, ce8]; exact er_step hI hS1 hS3 hi2 ce6 ce13) hw (lv_sub hl [1, 2, 3, 0] rfl)
  refine zr_aload S hl 0 rfl dX1_erase_0 ?_
  refine zr_iload_n S hl 1 rfl dX1_erase_1 ?_
  refine zr_iload_n S hl 2 rfl dX1_erase_2 ?_
  refine zm_calli S hw (metm_isStretch l g σ T f n hM (by omega) (by omega)) kqm_isStretch rfl rfl ⟨by decide, by decide⟩ rfl rfl hl.1 (Nat.le_of_ble_eq_true rfl) ⟨Nat.zero_le _, Nat.zero_le _⟩ dX1_erase_3 (fun v3 σ1 H locs p2 hw => ?_)
  obtain ⟨hs_, hstr⟩ := p2
  rw [hs_] at hw
  have hrr : 0 ≤ v3 ∧ v3 ≤ 1 := by rcases hstr with h | h <;> omega
  refine zr_if_ne S 11 (by decide) (by omega) dX1_erase_6 (fun h4 => ?_) (fun h4 => ?_)
  · refine zr_iload_n S hl 1 rfl dX1_erase_11 ?_
    refine zr_iload_n S hl 2 rfl dX1_erase_12 ?_
    refine zr_iadd S dX1_erase_13 (fun v5 e6 => ?_)
    refine zr_istore_n S [(3, .int (zI v5)), (0, .ref (g.2.2 3)), (1, .int (zI f)), (2, .int (zI n))] hl (by decide) rfl dX1_erase_14 (fun ls hl => ?_)
    have hS : sStr T f n := by rcases hstr with h | h; exact h.2; exact absurd h.1 (by omega)
    have hS1 : 0 ≤ f := hS.1
    have hS2 : f ≤ (T.length : Int) := hS.2.1
    have hS3 : 0 ≤ n := hS.2.2.1
    have hS4 : n ≤ (T.length : Int) - f := hS.2.2.2
    exact loop hS ((T.length : Int) - v5).toNat v5 σ _ _ ls (by omega) (by omega) (er_init σ e6) hw (lv_sub hl [1, 2, 3, 0] rfl)
  · refine zr_iconst S dX1_erase_9 ?_
    have hS : ¬ sStr T f n := by rcases hstr with h | h; exact absurd h.1 (by omega); exact h.2
    exact zm_iret S hr hlk hw (by rw [sErase, if_neg hS]; exact ⟨rfl, hM, fun _ => rfl⟩) dX1_erase_10
set_option maxHeartbeats 4000000 in
theorem metm_move (l : Launch) (g : zG) (σ : zS) (T : List Int) (f n t : Int) (hM : zmRep σ T) (hf : zR f) (hn : zR n) (ht : zR t) : zm_Mi l yX1_move cX1_move 5 (some .int) ({ frames := 2, cells := 0, slots := 0, locals := 45 }) g σ [f, n, t] (fun r σ' => r = (sMove T f n t).1 ∧ zmRep σ' (sMove T f n t).2) := by
  refine zm_ofi (by decide +kernel) rfl (Nat.le_of_ble_eq_true rfl) ?_
  intro p e s m args below meth c ls ⟨S, hr, hlk, hw⟩ hl
  have hl : lv_has ls 5 [(0, .ref (g.2.2 3)), (1, .int (zI f)), (2, .int (zI n)), (3, .int (zI t))] := hl
  have hM1 : σ 0 0 = (T.length : Int) := hM.1
  have hM6 : T.length ≤ 60 := hM.le hw.2.2.2.2.1
  have hcod : bcod T := hM.cod hw.2.2.2.2.1
  have loop2 : sStr T f n → (0 ≤ t ∧ t ≤ (T.length : Int) - n) → ∀ (u : Nat) (i : Int) (σ1 : zS) (H : Heap) (locs : List Loc) (ls : Array Slot), i + u = n → 0 ≤ i → zmRep σ1 (mMv (sA T f ++ sC T f n) (sB T f n) t i.toNat) → (∀ j : Nat, (j : Int) < n → σ1 2 j = (sB T f n).getD j 0) → zm_W g (zm_A g s.heap.size) s H locs σ1 → lv_has ls 5 [(0, .ref (g.2.2 3)), (2, .int (zI n)), (3, .int (zI t)), (4, .int (zI i))] → W p l e ({ frames := 2, cells := 0, slots := 0, locals := 45 }) s m args below meth c H locs 0 0 (zm_Ei g (fun r σ' => r = (sMove T f n t).1 ∧ zmRep σ' (sMove T f n t).2) below args s) (F0 m 66 ls []) := by
    intro hS ht2 u
    have hS1 : 0 ≤ f := hS.1
    have hS2 : f ≤ (T.length : Int) := hS.2.1
    have hS3 : 0 ≤ n := hS.2.2.1
    have hS4 : n ≤ (T.length : Int) - f := hS.2.2.2
    have hlR := sRest_len hS
    have hlB := sB_len (T := T) hS1 hS3 (by omega)
    induction u with
    | zero =>
      intro i σ1 H locs ls hi hi2 hI hP hw hl
      refine zr_iload S hl 3 rfl dX1_move_66 ?_
      refine zr_iload_n S hl 1 rfl dX1_move_68 ?_
      refine zr_icmp_ge S 94 (by decide) (by omega) (by omega) dX1_move_69 (fun ah1 => ?_) (fun ah1 => by omega)
      refine zr_aload S hl 0 rfl dX1_move_94 ?_
      refine zm_geti S hw 0 (by decide) rfl dX1_move_95 (fun av2 ae3 ar4 => ?_)
      have ar4 : 0 ≤ av2 ∧ av2 ≤ 60 := ar4
      have hI1 := hI.1
      have hlm := mv_len (R := (sA T f ++ sC T f n)) (B := (sB T f n)) (t := t) (i := i.toNat) ht2.1 (by omega) (by omega)
      rw [mv_end (sA T f ++ sC T f n) (sB T f n) t (by omega)] at hI
      exact zm_iret S hr hlk hw (by rw [sMove, if_pos hS, if_neg (by omega)]; exact ⟨by dsimp only; omega, hI⟩) dX1_move_98
    | succ u ih =>
      intro i σ1 H locs ls hi hi2 hI hP hw hl
      refine zr_iload S hl 3 rfl dX1_move_66 ?_
      refine zr_iload_n S hl 1 rfl dX1_move_68 ?_
      refine zr_icmp_ge S 94 (by decide) (by omega) (by omega) dX1_move_69 (fun ch1 => by omega) (fun ch1 => ?_)
      refine zr_aload S hl 0 rfl dX1_move_72 ?_
      refine zr_iload_n S hl 2 rfl dX1_move_73 ?_
      refine zr_iload S hl 3 rfl dX1_move_74 ?_
      refine zr_iadd S dX1_move_76 (fun cv2 ce3 => ?_)
      refine zr_aload S hl 0 rfl dX1_move_77 ?_
      refine zm_get S hw 2 (.ref (g.2.2 2)) (by decide) rfl dX1_move_78 ?_
      refine zr_iload S hl 3 rfl dX1_move_81 ?_
      refine zm_iald S hw 2 60 2 1 (i := i) (by omega) (by omega) (by omega) rfl rfl dX1_move_83 (fun cv4 ce5 cr6 => ?_)
      have cr6 : 0 ≤ cv4 ∧ cv4 ≤ 6 := cr6
      refine zm_calli S hw (metm_insert l g σ1 (mMv (sA T f ++ sC T f n) (sB T f n) t i.toNat) cv2 cv4 hI (by omega) (by omega)) kqm_insert rfl rfl ⟨by decide, by decide⟩ rfl rfl hl.1 (Nat.le_of_ble_eq_true rfl) ⟨Nat.zero_le _, Nat.zero_le _⟩ dX1_move_84 (fun cv9 cσ7 H locs cp8 hw => ?_)
      obtain ⟨hr1, hr2, hr3⟩ := cp8
      rw [mv_step ht2.1 (by omega) (by omega) (by omega) (show cv2 = t + ((i.toNat : Nat) : Int) by omega) (show cv4 = (sB T f n).getD i.toNat 0 by rw [ce5]; exact hP _ (by omega)) (by omega)] at hr2
      refine zr_pop S rfl dX1_move_87 ?_
      obtain ⟨cv10, ce11⟩ : ∃ v : Int, v = i + 1 := ⟨_, rfl⟩
      refine zr_iinc S cv10 ce11 [(4, .int (zI cv10)), (0, .ref (g.2.2 3)), (2, .int (zI n)), (3, .int (zI t))] hl 3 rfl (by decide) rfl dX1_move_88 (fun ls hl => ?_)
      refine zr_goto S 66 (by decide) dX1_move_91 ?_
      exact ih cv10 cσ7 H locs ls (by omega) (by omega) (by rw [show (cv10).toNat = i.toNat + 1 by omega]; exact hr2) (fun j hj => (hr3 j).trans (hP j hj)) hw (lv_sub hl [1, 2, 3, 0] rfl)
  have loop1 : sStr T f n → (0 ≤ t ∧ t ≤ (T.length : Int) - n) → ∀ (u : Nat) (i : Int) (σ1 : zS) (H : Heap) (locs : List Loc) (ls : Array Slot), i + u = n → 0 ≤ i → mPt σ σ1 f i → zm_W g (zm_A g s.heap.size) s H locs σ1 → lv_has ls 5 [(0, .ref (g.2.2 3)), (1, .int (zI f)), (2, .int (zI n)), (3, .int (zI t)), (4, .int (zI i))] → W p l e ({ frames := 2, cells := 0, slots := 0, locals := 45 }) s m args below meth c H locs 0 0 (zm_Ei g (fun r σ' => r = (sMove T f n t).1 ∧ zmRep σ' (sMove T f n t).2) below args s) (F0 m 28 ls []) := by
    intro hS ht2 u
    have hS1 : 0 ≤ f := hS.1
    have hS2 : f ≤ (T.length : Int) := hS.2.1
    have hS3 : 0 ≤ n := hS.2.2.1
    have hS4 : n ≤ (T.length : Int) - f := hS.2.2.2
    have hlB := sB_len (T := T) hS1 hS3 (by omega)
    induction u with
    | zero =>
      intro i σ1 H locs ls hi hi2 hI hw hl
      refine zr_iload S hl 4 rfl dX1_move_28 ?_
      refine zr_iload_n S hl 2 rfl dX1_move_30 ?_
      refine zr_icmp_ge S 56 (by decide) (by omega) (by omega) dX1_move_31 (fun bh1 => ?_) (fun bh1 => by omega)
      refine zr_aload S hl 0 rfl dX1_move_56 ?_
      refine zr_iload_n S hl 1 rfl dX1_move_57 ?_
      refine zr_iload_n S hl 2 rfl dX1_move_58 ?_
      have hin : i = n := by omega
      rw [hin] at hI
      obtain ⟨hx1, hx2⟩ := pt_exit hM hI hS
      refine zm_calli S hw (metm_erase l g σ1 T f n hx1 (by omega) (by omega)) kqm_erase rfl rfl ⟨by decide, by decide⟩ rfl rfl hl.1 (Nat.le_of_ble_eq_true rfl) ⟨Nat.zero_le _, Nat.zero_le _⟩ dX1_move_59 (fun bv4 bσ2 H locs bp3 hw => ?_)
      obtain ⟨hr1, hr2, hr3⟩ := bp3
      rw [sErase, if_pos hS] at hr2
      refine zr_pop S rfl dX1_move_62 ?_
      refine zr_iconst S dX1_move_63 ?_
      refine zr_istore S [(4, .int (zI 0)), (0, .ref (g.2.2 3)), (1, .int (zI f)), (2, .int (zI n)), (3, .int (zI t))] hl (by decide) rfl dX1_move_64 (fun ls hl => ?_)
      exact loop2 hS ht2 n.toNat 0 bσ2 H locs ls (by omega) (by omega) (by rw [show (0 : Int).toNat = 0 from rfl, mv_0]; exact hr2) (fun j hj => (hr3 j).trans (hx2 j hj)) hw (lv_sub hl [1, 3, 4, 0] rfl)
    | succ u ih =>
      intro i σ1 H locs ls hi hi2 hI hw hl
      refine zr_iload S hl 4 rfl dX1_move_28 ?_
      refine zr_iload_n S hl 2 rfl dX1_move_30 ?_
      refine zr_icmp_ge S 56 (by decide) (by omega) (by omega) dX1_move_31 (fun dh1 => by omega) (fun dh1 => ?_)
      refine zr_aload S hl 0 rfl dX1_move_34 ?_
      refine zm_get S hw 2 (.ref (g.2.2 2)) (by decide) rfl dX1_move_35 ?_
      refine zr_iload S hl 4 rfl dX1_move_38 ?_
      refine zr_aload S hl 0 rfl dX1_move_40 ?_
      refine zm_get S hw 1 (.ref (g.2.2 1)) (by decide) rfl dX1_move_41 ?_
      refine zr_iload_n S hl 1 rfl dX1_move_44 ?_
      refine zr_iload S hl 4 rfl dX1_move_45 ?_
      refine zr_iadd S dX1_move_47 (fun dv2 de3 => ?_)
      refine zm_iald S hw 1 60 1 0 (i := dv2) (by omega) (by omega) (by omega) rfl rfl dX1_move_48 (fun dv4 de5 dr6 => ?_)
      have dr6 : 0 ≤ dv4 ∧ dv4 ≤ 6 := dr6
      refine zm_iast S hw 2 60 2 1 (i := i) (z := dv4) (by omega) (by omega) (by omega) (show 0 ≤ (dv4 : Int) ∧ (dv4 : Int) ≤ 6 by omega) rfl rfl (zm_s2 g σ1 _ _) dX1_move_49 (fun dσ7 H locs ds8 hw => ?_)
      obtain ⟨dv9, de10⟩ : ∃ v : Int, v = i + 1 := ⟨_, rfl⟩
      refine zr_iinc S dv9 de10 [(4, .int (zI dv9)), (0, .ref (g.2.2 3)), (1, .int (zI f)), (2, .int (zI n)), (3, .int (zI t))] hl 4 rfl (by decide) rfl dX1_move_50 (fun ls hl => ?_)
      refine zr_goto S 28 (by decide) dX1_move_53 ?_
      exact ih dv9 dσ7 H locs ls (by omega) (by omega) (by rw [ds8, de5]; exact pt_step hI hS1 hi2 de3 de10) hw (lv_sub hl [1, 2, 3, 4, 0] rfl)
  refine zr_aload S hl 0 rfl dX1_move_0 ?_
  refine zr_iload_n S hl 1 rfl dX1_move_1 ?_
  refine zr_iload_n S hl 2 rfl dX1_move_2 ?_
  refine zm_calli S hw (metm_isStretch l g σ T f n hM (by omega) (by omega)) kqm_isStretch rfl rfl ⟨by decide, by decide⟩ rfl rfl hl.1 (Nat.le_of_ble_eq_true rfl) ⟨Nat.zero_le _, Nat.zero_le _⟩ dX1_move_3 (fun v3 σ1 H locs p2 hw => ?_)
  obtain ⟨hs_, hstr⟩ := p2
  rw [hs_] at hw
  have hrr : 0 ≤ v3 ∧ v3 ≤ 1 := by rcases hstr with h | h <;> omega
  refine zr_if_eq S 23 (by decide) (by omega) dX1_move_6 (fun h4 => ?_) (fun h4 => ?_)
  · refine zr_iconst S dX1_move_23 ?_
    have hS : ¬ sStr T f n := by rcases hstr with h | h; exact absurd h.1 (by omega); exact h.2
    exact zm_iret S hr hlk hw (by rw [sMove, if_neg hS]; exact ⟨rfl, hM⟩) dX1_move_24
  · refine zr_iload_n S hl 3 rfl dX1_move_9 ?_
    refine zr_if_lt S 23 (by decide) (by omega) dX1_move_10 (fun h5 => ?_) (fun h5 => ?_)
    · refine zr_iconst S dX1_move_23 ?_
      have hS : sStr T f n := by rcases hstr with h | h; exact h.2; exact absurd h.1 (by omega)
      exact zm_iret S hr hlk hw (by rw [sMove, if_pos hS, if_pos (by omega)]; exact ⟨rfl, hM⟩) dX1_move_24
    · refine zr_iload_n S hl 3 rfl dX1_move_13 ?_
      refine zr_aload S hl 0 rfl dX1_move_14 ?_
      refine zm_geti S hw 0 (by decide) rfl dX1_move_15 (fun v6 e7 r8 => ?_)
      have r8 : 0 ≤ v6 ∧ v6 ≤ 60 := r8
      refine zr_iload_n S hl 2 rfl dX1_move_18 ?_
      refine zr_isub S dX1_move_19 (fun v9 e10 => ?_)
      refine zr_icmp_le S 25 (by decide) (by omega) (by omega) dX1_move_20 (fun h11 => ?_) (fun h11 => ?_)
      · refine zr_iconst S dX1_move_25 ?_
        refine zr_istore S [(4, .int (zI 0)), (0, .ref (g.2.2 3)), (1, .int (zI f)), (2, .int (zI n)), (3, .int (zI t))] hl (by decide) rfl dX1_move_26 (fun ls hl => ?_)
        have hS : sStr T f n := by rcases hstr with h | h; exact h.2; exact absurd h.1 (by omega)
        exact loop1 hS (by omega) n.toNat 0 σ _ _ ls (by have := hS.2.2.1; omega) (by omega) (pt_init σ f) hw (lv_sub hl [1, 2, 3, 4, 0] rfl)
      · refine zr_iconst S dX1_move_23 ?_
        have hS : sStr T f n := by rcases hstr with h | h; exact h.2; exact absurd h.1 (by omega)
        exact zm_iret S hr hlk hw (by rw [sMove, if_pos hS, if_pos (by omega)]; exact ⟨rfl, hM⟩) dX1_move_24
set_option maxHeartbeats 4000000 in
theorem metm_mirror (l : Launch) (g : zG) (σ : zS) (T : List Int) (f n : Int) (hM : zmRep σ T) (hf : zR f) (hn : zR n) : zm_Mi l yX1_mirror cX1_mirror 5 (some .int) ({ frames := 1, cells := 0, slots := 0, locals := 22 }) g σ [f, n] (fun r σ' => r = (sMirror T f n).1 ∧ zmRep σ' (sMirror T f n).2) := by
  refine zm_ofi (by decide +kernel) rfl (Nat.le_of_ble_eq_true rfl) ?_
  intro p e s m args below meth c ls ⟨S, hr, hlk, hw⟩ hl
  have hl : lv_has ls 5 [(0, .ref (g.2.2 3)), (1, .int (zI f)), (2, .int (zI n))] := hl
  have hM1 : σ 0 0 = (T.length : Int) := hM.1
  have hM6 : T.length ≤ 60 := hM.le hw.2.2.2.2.1
  have loop2 : sStr T f n → ∀ σ0 : zS, zmRep σ0 T → (∀ j : Nat, (j : Int) < n → σ0 2 j = (sB T f n).getD j 0) → ∀ (u : Nat) (i : Int) (σ1 : zS) (H : Heap) (locs : List Loc) (ls : Array Slot), i + u = n → 0 ≤ i → mMr σ0 σ1 f n i → zm_W g (zm_A g s.heap.size) s H locs σ1 → lv_has ls 5 [(0, .ref (g.2.2 3)), (1, .int (zI f)), (2, .int (zI n)), (3, .int (zI i))] → W p l e ({ frames := 1, cells := 0, slots := 0, locals := 22 }) s m args below meth c H locs 0 0 (zm_Ei g (fun r σ' => r = (sMirror T f n).1 ∧ zmRep σ' (sMirror T f n).2) below args s) (F0 m 40 ls []) := by
    intro hS σ0 hM0 hP u
    have hS1 : 0 ≤ f := hS.1
    have hS2 : f ≤ (T.length : Int) := hS.2.1
    have hS3 : 0 ≤ n := hS.2.2.1
    have hS4 : n ≤ (T.length : Int) - f := hS.2.2.2
    have hM01 := hM0.1
    induction u with
    | zero =>
      intro i σ1 H locs ls hi hi2 hI hw hl
      have hI0 : σ1 0 0 = σ0 0 0 := hI.1
      refine zr_iload_n S hl 3 rfl dX1_mirror_40 ?_
      refine zr_iload_n S hl 2 rfl dX1_mirror_41 ?_
      refine zr_icmp_ge S 97 (by decide) (by omega) (by omega) dX1_mirror_42 (fun ah1 => ?_) (fun ah1 => by omega)
      refine zr_aload S hl 0 rfl dX1_mirror_97 ?_
      refine zm_geti S hw 0 (by decide) rfl dX1_mirror_98 (fun av2 ae3 ar4 => ?_)
      have ar4 : 0 ≤ av2 ∧ av2 ≤ 60 := ar4
      have hin : i = n := by omega
      rw [hin] at hI
      have hrep := mr_exit hM0 hP hI hS
      exact zm_iret S hr hlk hw (by rw [sMirror, if_pos hS]; exact ⟨by dsimp only; omega, hrep⟩) dX1_mirror_101
    | succ u ih =>
      intro i σ1 H locs ls hi hi2 hI hw hl
      refine zr_iload_n S hl 3 rfl dX1_mirror_40 ?_
      refine zr_iload_n S hl 2 rfl dX1_mirror_41 ?_
      refine zr_icmp_ge S 97 (by decide) (by omega) (by omega) dX1_mirror_42 (fun ch1 => by omega) (fun ch1 => ?_)
      refine zr_aload S hl 0 rfl dX1_mirror_45 ?_
      refine zm_get S hw 2 (.ref (g.2.2 2)) (by decide) rfl dX1_mirror_46 ?_
      refine zr_iload_n S hl 2 rfl dX1_mirror_49 ?_
      refine zr_iconst S dX1_mirror_50 ?_
      refine zr_isub S dX1_mirror_51 (fun cv2 ce3 => ?_)
      refine zr_iload_n S hl 3 rfl dX1_mirror_52 ?_
      refine zr_isub S dX1_mirror_53 (fun cv4 ce5 => ?_)
      refine zm_iald S hw 2 60 2 1 (i := cv4) (by omega) (by omega) (by omega) rfl rfl dX1_mirror_54 (fun cv6 ce7 cr8 => ?_)
      have cr8 : 0 ≤ cv6 ∧ cv6 ≤ 6 := cr8
      refine zr_istore S [(4, .int (zI cv6)), (0, .ref (g.2.2 3)), (1, .int (zI f)), (2, .int (zI n)), (3, .int (zI i))] hl (by decide) rfl dX1_mirror_55 (fun ls hl => ?_)
      refine zr_aload S hl 1 rfl dX1_mirror_57 ?_
      refine zm_get S hw 1 (.ref (g.2.2 1)) (by decide) rfl dX1_mirror_58 ?_
      refine zr_iload_n S hl 2 rfl dX1_mirror_61 ?_
      refine zr_iload_n S hl 4 rfl dX1_mirror_62 ?_
      refine zr_iadd S dX1_mirror_63 (fun cv9 ce10 => ?_)
      refine zr_iload S hl 0 rfl dX1_mirror_64 ?_
      refine zr_if_ne S 73 (by decide) (by omega) dX1_mirror_66 (fun ch11 => ?_) (fun ch11 => ?_)
      · refine zr_iload S hl 0 rfl dX1_mirror_73 ?_
        refine zr_iconst S dX1_mirror_75 ?_
        refine zr_icmp_gt S 86 (by decide) (by omega) (by omega) dX1_mirror_76 (fun ch12 => ?_) (fun ch12 => ?_)
        · refine zr_iload S hl 0 rfl dX1_mirror_86 ?_
          refine zr_iconst S dX1_mirror_88 ?_
          refine zr_isub S dX1_mirror_89 (fun cv13 ce14 => ?_)
          refine zm_iast S hw 1 60 1 0 (i := cv9) (z := cv13) (by omega) (by omega) (by omega) (show 0 ≤ (cv13 : Int) ∧ (cv13 : Int) ≤ 6 by omega) rfl rfl (zm_s1 g σ1 _ _) dX1_mirror_90 (fun cσ15 H locs cs16 hw => ?_)
          obtain ⟨cv17, ce18⟩ : ∃ v : Int, v = i + 1 := ⟨_, rfl⟩
          refine zr_iinc S cv17 ce18 [(3, .int (zI cv17)), (4, .int (zI cv6)), (0, .ref (g.2.2 3)), (1, .int (zI f)), (2, .int (zI n))] hl 4 rfl (by decide) rfl dX1_mirror_91 (fun ls hl => ?_)
          refine zr_goto S 40 (by decide) dX1_mirror_94 ?_
          have hz : cv13 = bflip (σ1 2 (cv4).toNat) := by rw [← ce7, bflip, if_pos (by omega)]; omega
          exact ih cv17 cσ15 H locs ls (by omega) (by omega) (by rw [cs16]; exact mr_step hI hS1 hi2 ce10 (show cv4 = n - 1 - i by omega) ce18 hz) hw (lv_sub hl [2, 3, 4, 0] rfl)
        · refine zr_iload S hl 0 rfl dX1_mirror_79 ?_
          refine zr_iconst S dX1_mirror_81 ?_
          refine zr_iadd S dX1_mirror_82 (fun cv19 ce20 => ?_)
          refine zr_goto S 90 (by decide) dX1_mirror_83 ?_
          refine zm_iast S hw 1 60 1 0 (i := cv9) (z := cv19) (by omega) (by omega) (by omega) (show 0 ≤ (cv19 : Int) ∧ (cv19 : Int) ≤ 6 by omega) rfl rfl (zm_s1 g σ1 _ _) dX1_mirror_90 (fun cσ21 H locs cs22 hw => ?_)
          obtain ⟨cv23, ce24⟩ : ∃ v : Int, v = i + 1 := ⟨_, rfl⟩
          refine zr_iinc S cv23 ce24 [(3, .int (zI cv23)), (4, .int (zI cv6)), (0, .ref (g.2.2 3)), (1, .int (zI f)), (2, .int (zI n))] hl 4 rfl (by decide) rfl dX1_mirror_91 (fun ls hl => ?_)
          refine zr_goto S 40 (by decide) dX1_mirror_94 ?_
          have hz : cv19 = bflip (σ1 2 (cv4).toNat) := by rw [← ce7, bflip, if_neg (by omega), if_pos (by omega)]; omega
          exact ih cv23 cσ21 H locs ls (by omega) (by omega) (by rw [cs22]; exact mr_step hI hS1 hi2 ce10 (show cv4 = n - 1 - i by omega) ce24 hz) hw (lv_sub hl [2, 3, 4, 0] rfl)
      · refine zr_iconst S dX1_mirror_69 ?_
        refine zr_goto S 90 (by decide) dX1_mirror_70 ?_
        refine zm_iast S hw 1 60 1 0 (i := cv9) (z := 0) (by omega) (by omega) (by omega) (show 0 ≤ (0 : Int) ∧ (0 : Int) ≤ 6 by omega) rfl rfl (zm_s1 g σ1 _ _) dX1_mirror_90 (fun cσ25 H locs cs26 hw => ?_)
        obtain ⟨cv27, ce28⟩ : ∃ v : Int, v = i + 1 := ⟨_, rfl⟩
        refine zr_iinc S cv27 ce28 [(3, .int (zI cv27)), (4, .int (zI cv6)), (0, .ref (g.2.2 3)), (1, .int (zI f)), (2, .int (zI n))] hl 4 rfl (by decide) rfl dX1_mirror_91 (fun ls hl => ?_)
        refine zr_goto S 40 (by decide) dX1_mirror_94 ?_
        have hz : 0 = bflip (σ1 2 (cv4).toNat) := by rw [← ce7, bflip, if_neg (by omega), if_neg (by omega)]; omega
        exact ih cv27 cσ25 H locs ls (by omega) (by omega) (by rw [cs26]; exact mr_step hI hS1 hi2 ce10 (show cv4 = n - 1 - i by omega) ce28 hz) hw (lv_sub hl [2, 3, 4, 0] rfl)
  have loop1 : sStr T f n → ∀ (u : Nat) (i : Int) (σ1 : zS) (H : Heap) (locs : List Loc) (ls : Array Slot), i + u = n → 0 ≤ i → mPt σ σ1 f i → zm_W g (zm_A g s.heap.size) s H locs σ1 → lv_has ls 5 [(0, .ref (g.2.2 3)), (1, .int (zI f)), (2, .int (zI n)), (3, .int (zI i))] → W p l e ({ frames := 1, cells := 0, slots := 0, locals := 22 }) s m args below meth c H locs 0 0 (zm_Ei g (fun r σ' => r = (sMirror T f n).1 ∧ zmRep σ' (sMirror T f n).2) below args s) (F0 m 13 ls []) := by
    intro hS u
    have hS1 : 0 ≤ f := hS.1
    have hS2 : f ≤ (T.length : Int) := hS.2.1
    have hS3 : 0 ≤ n := hS.2.2.1
    have hS4 : n ≤ (T.length : Int) - f := hS.2.2.2
    induction u with
    | zero =>
      intro i σ1 H locs ls hi hi2 hI hw hl
      refine zr_iload_n S hl 3 rfl dX1_mirror_13 ?_
      refine zr_iload_n S hl 2 rfl dX1_mirror_14 ?_
      refine zr_icmp_ge S 38 (by decide) (by omega) (by omega) dX1_mirror_15 (fun bh1 => ?_) (fun bh1 => by omega)
      refine zr_iconst S dX1_mirror_38 ?_
      refine zr_istore_n S [(3, .int (zI 0)), (0, .ref (g.2.2 3)), (1, .int (zI f)), (2, .int (zI n))] hl (by decide) rfl dX1_mirror_39 (fun ls hl => ?_)
      have hin : i = n := by omega
      rw [hin] at hI
      obtain ⟨hx1, hx2⟩ := pt_exit hM hI hS
      exact loop2 hS σ1 hx1 hx2 n.toNat 0 σ1 H locs ls (by omega) (by omega) (mr_init σ1 f n) hw (lv_sub hl [1, 2, 3, 0] rfl)
    | succ u ih =>
      intro i σ1 H locs ls hi hi2 hI hw hl
      refine zr_iload_n S hl 3 rfl dX1_mirror_13 ?_
      refine zr_iload_n S hl 2 rfl dX1_mirror_14 ?_
      refine zr_icmp_ge S 38 (by decide) (by omega) (by omega) dX1_mirror_15 (fun dh1 => by omega) (fun dh1 => ?_)
      refine zr_aload S hl 0 rfl dX1_mirror_18 ?_
      refine zm_get S hw 2 (.ref (g.2.2 2)) (by decide) rfl dX1_mirror_19 ?_
      refine zr_iload_n S hl 3 rfl dX1_mirror_22 ?_
      refine zr_aload S hl 0 rfl dX1_mirror_23 ?_
      refine zm_get S hw 1 (.ref (g.2.2 1)) (by decide) rfl dX1_mirror_24 ?_
      refine zr_iload_n S hl 1 rfl dX1_mirror_27 ?_
      refine zr_iload_n S hl 3 rfl dX1_mirror_28 ?_
      refine zr_iadd S dX1_mirror_29 (fun dv2 de3 => ?_)
      refine zm_iald S hw 1 60 1 0 (i := dv2) (by omega) (by omega) (by omega) rfl rfl dX1_mirror_30 (fun dv4 de5 dr6 => ?_)
      have dr6 : 0 ≤ dv4 ∧ dv4 ≤ 6 := dr6
      refine zm_iast S hw 2 60 2 1 (i := i) (z := dv4) (by omega) (by omega) (by omega) (show 0 ≤ (dv4 : Int) ∧ (dv4 : Int) ≤ 6 by omega) rfl rfl (zm_s2 g σ1 _ _) dX1_mirror_31 (fun dσ7 H locs ds8 hw => ?_)
      obtain ⟨dv9, de10⟩ : ∃ v : Int, v = i + 1 := ⟨_, rfl⟩
      refine zr_iinc S dv9 de10 [(3, .int (zI dv9)), (0, .ref (g.2.2 3)), (1, .int (zI f)), (2, .int (zI n))] hl 3 rfl (by decide) rfl dX1_mirror_32 (fun ls hl => ?_)
      refine zr_goto S 13 (by decide) dX1_mirror_35 ?_
      exact ih dv9 dσ7 H locs ls (by omega) (by omega) (by rw [ds8, de5]; exact pt_step hI hS1 hi2 de3 de10) hw (lv_sub hl [1, 2, 3, 0] rfl)
  refine zr_aload S hl 0 rfl dX1_mirror_0 ?_
  refine zr_iload_n S hl 1 rfl dX1_mirror_1 ?_
  refine zr_iload_n S hl 2 rfl dX1_mirror_2 ?_
  refine zm_calli S hw (metm_isStretch l g σ T f n hM (by omega) (by omega)) kqm_isStretch rfl rfl ⟨by decide, by decide⟩ rfl rfl hl.1 (Nat.le_of_ble_eq_true rfl) ⟨Nat.zero_le _, Nat.zero_le _⟩ dX1_mirror_3 (fun v3 σ1 H locs p2 hw => ?_)
  obtain ⟨hs_, hstr⟩ := p2
  rw [hs_] at hw
  have hrr : 0 ≤ v3 ∧ v3 ≤ 1 := by rcases hstr with h | h <;> omega
  refine zr_if_ne S 11 (by decide) (by omega) dX1_mirror_6 (fun h4 => ?_) (fun h4 => ?_)
  · refine zr_iconst S dX1_mirror_11 ?_
    refine zr_istore_n S [(3, .int (zI 0)), (0, .ref (g.2.2 3)), (1, .int (zI f)), (2, .int (zI n))] hl (by decide) rfl dX1_mirror_12 (fun ls hl => ?_)
    have hS : sStr T f n := by rcases hstr with h | h; exact h.2; exact absurd h.1 (by omega)
    exact loop1 hS n.toNat 0 σ _ _ ls (by have := hS.2.2.1; omega) (by omega) (pt_init σ f) hw (lv_sub hl [1, 2, 3, 0] rfl)
  · refine zr_iconst S dX1_mirror_9 ?_
    have hS : ¬ sStr T f n := by rcases hstr with h | h; exact absurd h.1 (by omega); exact h.2
    exact zm_iret S hr hlk hw (by rw [sMirror, if_neg hS]; exact ⟨rfl, hM⟩) dX1_mirror_10
set_option maxHeartbeats 4000000 in
theorem metm_codeAt (l : Launch) (g : zG) (σ : zS) (T : List Int) (a : Int) (hM : zmRep σ T) (ha : zR a) : zm_Mi l yX1_codeAt cX1_codeAt 2 (some .int) ({ frames := 1, cells := 0, slots := 0, locals := 21 }) g σ [a] (fun r σ' => r = sCode T a ∧ zmRep σ' T) := by
  refine zm_ofi (by decide +kernel) rfl (Nat.le_of_ble_eq_true rfl) ?_
  intro p e s m args below meth c ls ⟨S, hr, hlk, hw⟩ hl
  have hl : lv_has ls 2 [(0, .ref (g.2.2 3)), (1, .int (zI a))] := hl
  have hM1 : σ 0 0 = (T.length : Int) := hM.1
  have hM6 : T.length ≤ 60 := hM.le hw.2.2.2.2.1
  refine zr_aload S hl 0 rfl dX1_codeAt_0 ?_
  refine zr_iload_n S hl 1 rfl dX1_codeAt_1 ?_
  refine zm_calli S hw (metm_isPlace l g σ T a hM (by omega)) kqm_isPlace rfl rfl ⟨by decide, by decide⟩ rfl rfl hl.1 (Nat.le_of_ble_eq_true rfl) ⟨Nat.zero_le _, Nat.zero_le _⟩ dX1_codeAt_2 (fun v3 σ1 H locs p2 hw => ?_)
  obtain ⟨hs_, hplc⟩ := p2
  rw [hs_] at hw
  have hrr : 0 ≤ v3 ∧ v3 ≤ 1 := by rcases hplc with h | h <;> omega
  refine zr_if_eq S 17 (by decide) (by omega) dX1_codeAt_5 (fun h4 => ?_) (fun h4 => ?_)
  · refine zr_iconst S dX1_codeAt_17 ?_
    exact zm_iret S hr hlk hw (⟨by rw [sCode, if_pos (by omega)], hM⟩) dX1_codeAt_18
  · refine zr_aload S hl 0 rfl dX1_codeAt_8 ?_
    refine zm_get S hw 1 (.ref (g.2.2 1)) (by decide) rfl dX1_codeAt_9 ?_
    refine zr_iload_n S hl 1 rfl dX1_codeAt_12 ?_
    refine zm_iald S hw 1 60 1 0 (i := a) (by omega) (by omega) (by omega) rfl rfl dX1_codeAt_13 (fun v5 e6 r7 => ?_)
    have r7 : 0 ≤ v5 ∧ v5 ≤ 6 := r7
    refine zr_goto S 18 (by decide) dX1_codeAt_14 ?_
    exact zm_iret S hr hlk hw (⟨by rw [sCode, if_neg (by omega), e6]; exact hM.2 _ (by omega), hM⟩) dX1_codeAt_18
end
section
/-! the reference's methods that count pairs -/
set_option maxHeartbeats 4000000 in
theorem metm_isPair (l : Launch) (g : zG) (σ : zS) (T : List Int) (i j k : Int) (hM : zmRep σ T) (hi : 0 ≤ i ∧ i < (T.length : Int)) (hj : 0 ≤ j ∧ j < (T.length : Int)) (hk : 1 ≤ k ∧ k ≤ 3) : zm_Mi l yX1_isPair cX1_isPair 6 (some .boolean) ({ frames := 0, cells := 0, slots := 0, locals := 0 }) g σ [i, j, k] (fun r σ' => σ' = σ ∧ ((r = 1 ∧ bPr T (k - 1) i.toNat j.toNat) ∨ (r = 0 ∧ ¬ bPr T (k - 1) i.toNat j.toNat))) := by
  refine zm_ofi (by decide +kernel) rfl (Nat.le_of_ble_eq_true rfl) ?_
  intro p e s m args below meth c ls ⟨S, hr, hlk, hw⟩ hl
  have hl : lv_has ls 6 [(0, .ref (g.2.2 3)), (1, .int (zI i)), (2, .int (zI j)), (3, .int (zI k))] := hl
  have hM1 : σ 0 0 = (T.length : Int) := hM.1
  have hM6 : T.length ≤ 60 := hM.le hw.2.2.2.2.1
  have gi := hM.2 i.toNat (by omega)
  have gj := hM.2 j.toNat (by omega)
  have loop : i < j → T.getD i.toNat 0 = k - 1 + 1 → T.getD j.toNat 0 = k - 1 + 4 → ∀ (u : Nat) (q o : Int) (H : Heap) (locs : List Loc) (ls : Array Slot), q + u = j → i + 1 ≤ q → o = bo (k - 1) (sg T (i.toNat + 1) q.toNat) → bc (k - 1) (sg T (i.toNat + 1) q.toNat) = 0 → zm_W g (zm_A g s.heap.size) s H locs σ → lv_has ls 6 [(0, .ref (g.2.2 3)), (2, .int (zI j)), (3, .int (zI k)), (4, .int (zI o)), (5, .int (zI q))] → W p l e ({ frames := 0, cells := 0, slots := 0, locals := 0 }) s m args below meth c H locs 0 0 (zm_Ei g (fun r σ' => σ' = σ ∧ ((r = 1 ∧ bPr T (k - 1) i.toNat j.toNat) ∨ (r = 0 ∧ ¬ bPr T (k - 1) i.toNat j.toNat))) below args s) (F0 m 37 ls []) := by
    intro hij hti htj u
    induction u with
    | zero =>
      intro q o H locs ls hq hq2 ho hc hw hl
      have hb0 := bo_pos (k - 1) (sg T (i.toNat + 1) q.toNat)
      have hb1 := bo_len (k - 1) (sg T (i.toNat + 1) q.toNat)
      rw [sg_len (by omega)] at hb1
      refine zr_iload S hl 4 rfl dX1_isPair_37 ?_
      refine zr_iload_n S hl 1 rfl dX1_isPair_39 ?_
      refine zr_icmp_ge S 86 (by decide) (by omega) (by omega) dX1_isPair_40 (fun ah1 => ?_) (fun ah1 => by omega)
      refine zr_iload S hl 3 rfl dX1_isPair_86 ?_
      refine zr_if_ne S 95 (by decide) (by omega) dX1_isPair_88 (fun ah2 => ?_) (fun ah2 => ?_)
      · refine zr_iconst S dX1_isPair_95 ?_
        have hqj : q = j := by omega
        rw [hqj] at ho hc
        exact zm_zret S hr hlk hw (by omega) (⟨rfl, Or.inr ⟨rfl, fun hp => by have h5 := hp.2.2.2.2.1; omega⟩⟩) dX1_isPair_96
      · refine zr_iconst S dX1_isPair_91 ?_
        refine zr_goto S 96 (by decide) dX1_isPair_92 ?_
        have hqj : q = j := by omega
        rw [hqj] at ho hc
        exact zm_zret S hr hlk hw (by omega) (⟨rfl, Or.inl ⟨rfl, ⟨by omega, by omega, hti, htj, by omega, hc⟩⟩⟩) dX1_isPair_96
    | succ u ih =>
      intro q o H locs ls hq hq2 ho hc hw hl
      have hb0 := bo_pos (k - 1) (sg T (i.toNat + 1) q.toNat)
      have hb1 := bo_len (k - 1) (sg T (i.toNat + 1) q.toNat)
      rw [sg_len (by omega)] at hb1
      have gq := hM.2 q.toNat (by omega)
      refine zr_iload S hl 4 rfl dX1_isPair_37 ?_
      refine zr_iload_n S hl 1 rfl dX1_isPair_39 ?_
      refine zr_icmp_ge S 86 (by decide) (by omega) (by omega) dX1_isPair_40 (fun ch1 => by omega) (fun ch1 => ?_)
      refine zr_aload S hl 0 rfl dX1_isPair_43 ?_
      refine zm_get S hw 1 (.ref (g.2.2 1)) (by decide) rfl dX1_isPair_44 ?_
      refine zr_iload S hl 4 rfl dX1_isPair_47 ?_
      refine zm_iald S hw 1 60 1 0 (i := q) (by omega) (by omega) (by omega) rfl rfl dX1_isPair_49 (fun cv2 ce3 cr4 => ?_)
      have cr4 : 0 ≤ cv2 ∧ cv2 ≤ 6 := cr4
      refine zr_iload_n S hl 2 rfl dX1_isPair_50 ?_
      refine zr_icmp_ne S 57 (by decide) (by omega) (by omega) dX1_isPair_51 (fun ch5 => ?_) (fun ch5 => ?_)
      · refine zr_aload S hl 0 rfl dX1_isPair_57 ?_
        refine zm_get S hw 1 (.ref (g.2.2 1)) (by decide) rfl dX1_isPair_58 ?_
        refine zr_iload S hl 4 rfl dX1_isPair_61 ?_
        refine zm_iald S hw 1 60 1 0 (i := q) (by omega) (by omega) (by omega) rfl rfl dX1_isPair_63 (fun cv6 ce7 cr8 => ?_)
        have cr8 : 0 ≤ cv6 ∧ cv6 ≤ 6 := cr8
        refine zr_iload_n S hl 2 rfl dX1_isPair_64 ?_
        refine zr_iconst S dX1_isPair_65 ?_
        refine zr_iadd S dX1_isPair_66 (fun cv9 ce10 => ?_)
        refine zr_icmp_ne S 73 (by decide) (by omega) (by omega) dX1_isPair_67 (fun ch11 => ?_) (fun ch11 => ?_)
        · refine zr_iload S hl 3 rfl dX1_isPair_73 ?_
          refine zr_if_ge S 80 (by decide) (by omega) dX1_isPair_75 (fun ch12 => ?_) (fun ch12 => ?_)
          · obtain ⟨cv13, ce14⟩ : ∃ v : Int, v = q + 1 := ⟨_, rfl⟩
            refine zr_iinc S cv13 ce14 [(5, .int (zI cv13)), (0, .ref (g.2.2 3)), (2, .int (zI j)), (3, .int (zI k)), (4, .int (zI o))] hl 4 rfl (by decide) rfl dX1_isPair_80 (fun ls hl => ?_)
            refine zr_goto S 37 (by decide) dX1_isPair_83 ?_
            have hs := ip_step (k := k - 1) (a := i.toNat + 1) (q := q.toNat) (o2 := o) (by omega) (by omega) ho hc (by omega)
            have hs1 := hs.1 (by omega)
            exact ih cv13 o H locs ls (by omega) (by omega) (by rw [show (cv13).toNat = q.toNat + 1 by omega]; exact hs1.1) (by rw [show (cv13).toNat = q.toNat + 1 by omega]; exact hs1.2) hw (lv_sub hl [1, 2, 3, 4, 0] rfl)
          · refine zr_iconst S dX1_isPair_78 ?_
            have hs := ip_step (k := k - 1) (a := i.toNat + 1) (q := q.toNat) (o2 := o) (by omega) (by omega) ho hc (by omega)
            have hs2 := hs.2 (by omega)
            exact zm_zret S hr hlk hw (by omega) (⟨rfl, Or.inr ⟨rfl, ip_no (by omega) (by omega) (by omega) hs2⟩⟩) dX1_isPair_79
        · obtain ⟨cv15, ce16⟩ : ∃ v : Int, v = o + (-1) := ⟨_, rfl⟩
          refine zr_iinc S cv15 ce16 [(4, .int (zI cv15)), (0, .ref (g.2.2 3)), (2, .int (zI j)), (3, .int (zI k)), (5, .int (zI q))] hl 3 rfl (by decide) rfl dX1_isPair_70 (fun ls hl => ?_)
          refine zr_iload S hl 0 rfl dX1_isPair_73 ?_
          refine zr_if_ge S 80 (by decide) (by omega) dX1_isPair_75 (fun ch17 => ?_) (fun ch17 => ?_)
          · obtain ⟨cv18, ce19⟩ : ∃ v : Int, v = q + 1 := ⟨_, rfl⟩
            refine zr_iinc S cv18 ce19 [(5, .int (zI cv18)), (4, .int (zI cv15)), (0, .ref (g.2.2 3)), (2, .int (zI j)), (3, .int (zI k))] hl 4 rfl (by decide) rfl dX1_isPair_80 (fun ls hl => ?_)
            refine zr_goto S 37 (by decide) dX1_isPair_83 ?_
            have hs := ip_step (k := k - 1) (a := i.toNat + 1) (q := q.toNat) (o2 := cv15) (by omega) (by omega) ho hc (by omega)
            have hs1 := hs.1 (by omega)
            exact ih cv18 cv15 H locs ls (by omega) (by omega) (by rw [show (cv18).toNat = q.toNat + 1 by omega]; exact hs1.1) (by rw [show (cv18).toNat = q.toNat + 1 by omega]; exact hs1.2) hw (lv_sub hl [2, 3, 4, 1, 0] rfl)
          · refine zr_iconst S dX1_isPair_78 ?_
            have hs := ip_step (k := k - 1) (a := i.toNat + 1) (q := q.toNat) (o2 := cv15) (by omega) (by omega) ho hc (by omega)
            have hs2 := hs.2 (by omega)
            exact zm_zret S hr hlk hw (by omega) (⟨rfl, Or.inr ⟨rfl, ip_no (by omega) (by omega) (by omega) hs2⟩⟩) dX1_isPair_79
      · obtain ⟨cv20, ce21⟩ : ∃ v : Int, v = o + 1 := ⟨_, rfl⟩
        refine zr_iinc S cv20 ce21 [(4, .int (zI cv20)), (0, .ref (g.2.2 3)), (2, .int (zI j)), (3, .int (zI k)), (5, .int (zI q))] hl 3 rfl (by decide) rfl dX1_isPair_54 (fun ls hl => ?_)
        refine zr_aload S hl 1 rfl dX1_isPair_57 ?_
        refine zm_get S hw 1 (.ref (g.2.2 1)) (by decide) rfl dX1_isPair_58 ?_
        refine zr_iload S hl 4 rfl dX1_isPair_61 ?_
        refine zm_iald S hw 1 60 1 0 (i := q) (by omega) (by omega) (by omega) rfl rfl dX1_isPair_63 (fun cv22 ce23 cr24 => ?_)
        have cr24 : 0 ≤ cv22 ∧ cv22 ≤ 6 := cr24
        refine zr_iload_n S hl 3 rfl dX1_isPair_64 ?_
        refine zr_iconst S dX1_isPair_65 ?_
        refine zr_iadd S dX1_isPair_66 (fun cv25 ce26 => ?_)
        refine zr_icmp_ne S 73 (by decide) (by omega) (by omega) dX1_isPair_67 (fun ch27 => ?_) (fun ch27 => ?_)
        · refine zr_iload S hl 0 rfl dX1_isPair_73 ?_
          refine zr_if_ge S 80 (by decide) (by omega) dX1_isPair_75 (fun ch28 => ?_) (fun ch28 => ?_)
          · obtain ⟨cv29, ce30⟩ : ∃ v : Int, v = q + 1 := ⟨_, rfl⟩
            refine zr_iinc S cv29 ce30 [(5, .int (zI cv29)), (4, .int (zI cv20)), (0, .ref (g.2.2 3)), (2, .int (zI j)), (3, .int (zI k))] hl 4 rfl (by decide) rfl dX1_isPair_80 (fun ls hl => ?_)
            refine zr_goto S 37 (by decide) dX1_isPair_83 ?_
            have hs := ip_step (k := k - 1) (a := i.toNat + 1) (q := q.toNat) (o2 := cv20) (by omega) (by omega) ho hc (by omega)
            have hs1 := hs.1 (by omega)
            exact ih cv29 cv20 H locs ls (by omega) (by omega) (by rw [show (cv29).toNat = q.toNat + 1 by omega]; exact hs1.1) (by rw [show (cv29).toNat = q.toNat + 1 by omega]; exact hs1.2) hw (lv_sub hl [2, 3, 4, 1, 0] rfl)
          · refine zr_iconst S dX1_isPair_78 ?_
            have hs := ip_step (k := k - 1) (a := i.toNat + 1) (q := q.toNat) (o2 := cv20) (by omega) (by omega) ho hc (by omega)
            have hs2 := hs.2 (by omega)
            exact zm_zret S hr hlk hw (by omega) (⟨rfl, Or.inr ⟨rfl, ip_no (by omega) (by omega) (by omega) hs2⟩⟩) dX1_isPair_79
        · obtain ⟨cv31, ce32⟩ : ∃ v : Int, v = cv20 + (-1) := ⟨_, rfl⟩
          refine zr_iinc S cv31 ce32 [(4, .int (zI cv31)), (0, .ref (g.2.2 3)), (2, .int (zI j)), (3, .int (zI k)), (5, .int (zI q))] hl 0 rfl (by decide) rfl dX1_isPair_70 (fun ls hl => ?_)
          refine zr_iload S hl 0 rfl dX1_isPair_73 ?_
          refine zr_if_ge S 80 (by decide) (by omega) dX1_isPair_75 (fun ch33 => ?_) (fun ch33 => ?_)
          · obtain ⟨cv34, ce35⟩ : ∃ v : Int, v = q + 1 := ⟨_, rfl⟩
            refine zr_iinc S cv34 ce35 [(5, .int (zI cv34)), (4, .int (zI cv31)), (0, .ref (g.2.2 3)), (2, .int (zI j)), (3, .int (zI k))] hl 4 rfl (by decide) rfl dX1_isPair_80 (fun ls hl => ?_)
            refine zr_goto S 37 (by decide) dX1_isPair_83 ?_
            have hs := ip_step (k := k - 1) (a := i.toNat + 1) (q := q.toNat) (o2 := cv31) (by omega) (by omega) ho hc (by omega)
            have hs1 := hs.1 (by omega)
            exact ih cv34 cv31 H locs ls (by omega) (by omega) (by rw [show (cv34).toNat = q.toNat + 1 by omega]; exact hs1.1) (by rw [show (cv34).toNat = q.toNat + 1 by omega]; exact hs1.2) hw (lv_sub hl [2, 3, 4, 1, 0] rfl)
          · refine zr_iconst S dX1_isPair_78 ?_
            have hs := ip_step (k := k - 1) (a := i.toNat + 1) (q := q.toNat) (o2 := cv31) (by omega) (by omega) ho hc (by omega)
            have hs2 := hs.2 (by omega)
            exact zm_zret S hr hlk hw (by omega) (⟨rfl, Or.inr ⟨rfl, ip_no (by omega) (by omega) (by omega) hs2⟩⟩) dX1_isPair_79
  refine zr_iload_n S hl 1 rfl dX1_isPair_0 ?_
  refine zr_iload_n S hl 2 rfl dX1_isPair_1 ?_
  refine zr_icmp_ge S 27 (by decide) (by omega) (by omega) dX1_isPair_2 (fun h1 => ?_) (fun h1 => ?_)
  · refine zr_iconst S dX1_isPair_27 ?_
    exact zm_zret S hr hlk hw (by omega) (⟨rfl, Or.inr ⟨rfl, fun hp => by have h1 := hp.1; have h2 := hp.2.2.1; have h3 := hp.2.2.2.1; omega⟩⟩) dX1_isPair_28
  · refine zr_aload S hl 0 rfl dX1_isPair_5 ?_
    refine zm_get S hw 1 (.ref (g.2.2 1)) (by decide) rfl dX1_isPair_6 ?_
    refine zr_iload_n S hl 1 rfl dX1_isPair_9 ?_
    refine zm_iald S hw 1 60 1 0 (i := i) (by omega) (by omega) (by omega) rfl rfl dX1_isPair_10 (fun v2 e3 r4 => ?_)
    have r4 : 0 ≤ v2 ∧ v2 ≤ 6 := r4
    refine zr_iload_n S hl 3 rfl dX1_isPair_11 ?_
    refine zr_icmp_ne S 27 (by decide) (by omega) (by omega) dX1_isPair_12 (fun h5 => ?_) (fun h5 => ?_)
    · refine zr_iconst S dX1_isPair_27 ?_
      exact zm_zret S hr hlk hw (by omega) (⟨rfl, Or.inr ⟨rfl, fun hp => by have h1 := hp.1; have h2 := hp.2.2.1; have h3 := hp.2.2.2.1; omega⟩⟩) dX1_isPair_28
    · refine zr_aload S hl 0 rfl dX1_isPair_15 ?_
      refine zm_get S hw 1 (.ref (g.2.2 1)) (by decide) rfl dX1_isPair_16 ?_
      refine zr_iload_n S hl 2 rfl dX1_isPair_19 ?_
      refine zm_iald S hw 1 60 1 0 (i := j) (by omega) (by omega) (by omega) rfl rfl dX1_isPair_20 (fun v6 e7 r8 => ?_)
      have r8 : 0 ≤ v6 ∧ v6 ≤ 6 := r8
      refine zr_iload_n S hl 3 rfl dX1_isPair_21 ?_
      refine zr_iconst S dX1_isPair_22 ?_
      refine zr_iadd S dX1_isPair_23 (fun v9 e10 => ?_)
      refine zr_icmp_eq S 29 (by decide) (by omega) (by omega) dX1_isPair_24 (fun h11 => ?_) (fun h11 => ?_)
      · refine zr_iconst S dX1_isPair_29 ?_
        refine zr_istore S [(4, .int (zI 0)), (0, .ref (g.2.2 3)), (1, .int (zI i)), (2, .int (zI j)), (3, .int (zI k))] hl (by decide) rfl dX1_isPair_30 (fun ls hl => ?_)
        refine zr_iload_n S hl 2 rfl dX1_isPair_32 ?_
        refine zr_iconst S dX1_isPair_33 ?_
        refine zr_iadd S dX1_isPair_34 (fun v12 e13 => ?_)
        refine zr_istore S [(5, .int (zI v12)), (4, .int (zI 0)), (0, .ref (g.2.2 3)), (1, .int (zI i)), (2, .int (zI j)), (3, .int (zI k))] hl (by decide) rfl dX1_isPair_35 (fun ls hl => ?_)
        exact loop (by omega) (by omega) (by omega) (j - v12).toNat v12 0 _ _ ls (by omega) (by omega) (by rw [show (v12).toNat = i.toNat + 1 by omega, sg_nil]; rfl) (by rw [show (v12).toNat = i.toNat + 1 by omega, sg_nil]; rfl) hw (lv_sub hl [2, 4, 5, 1, 0] rfl)
      · refine zr_iconst S dX1_isPair_27 ?_
        exact zm_zret S hr hlk hw (by omega) (⟨rfl, Or.inr ⟨rfl, fun hp => by have h1 := hp.1; have h2 := hp.2.2.1; have h3 := hp.2.2.2.1; omega⟩⟩) dX1_isPair_28
set_option maxHeartbeats 4000000 in
theorem metm_mate (l : Launch) (g : zG) (σ : zS) (T : List Int) (a f t : Int) (hM : zmRep σ T) (ha : 0 ≤ a ∧ a < (T.length : Int)) (hf : 0 ≤ f ∧ f ≤ t) (ht : t ≤ (T.length : Int)) : zm_Mi l yX1_mate cX1_mate 7 (some .int) ({ frames := 1, cells := 0, slots := 0, locals := 25 }) g σ [a, f, t] (fun r σ' => σ' = σ ∧ mSpec T a.toNat f t r) := by
  refine zm_ofi (by decide +kernel) rfl (Nat.le_of_ble_eq_true rfl) ?_
  intro p e s m args below meth c ls ⟨S, hr, hlk, hw⟩ hl
  have hl : lv_has ls 7 [(0, .ref (g.2.2 3)), (1, .int (zI a)), (2, .int (zI f)), (3, .int (zI t))] := hl
  have hM1 : σ 0 0 = (T.length : Int) := hM.1
  have hM6 : T.length ≤ 60 := hM.le hw.2.2.2.2.1
  have ga := hM.2 a.toNat (by omega)
  have loop : ∀ kd : Int, kd - 1 = bK (T.getD a.toNat 0) → 1 ≤ kd ∧ kd ≤ 3 → (T.getD a.toNat 0) ≠ 0 → ∀ (u : Nat) (i : Int) (H : Heap) (locs : List Loc) (ls : Array Slot), i + u = t → f ≤ i → (∀ j : Nat, f ≤ (j : Int) → (j : Int) < i → ¬ bMt T a.toNat j) → zm_W g (zm_A g s.heap.size) s H locs σ → lv_has ls 7 [(0, .ref (g.2.2 3)), (1, .int (zI a)), (3, .int (zI t)), (5, .int (zI kd)), (6, .int (zI i))] → W p l e ({ frames := 1, cells := 0, slots := 0, locals := 25 }) s m args below meth c H locs 0 0 (zm_Ei g (fun r σ' => σ' = σ ∧ mSpec T a.toNat f t r) below args s) (F0 m 36 ls []) := by
    intro kd hkd hkd2 hc0 u
    induction u with
    | zero =>
      intro i H locs ls hi hi2 hN hw hl
      refine zr_iload S hl 4 rfl dX1_mate_36 ?_
      refine zr_iload_n S hl 2 rfl dX1_mate_38 ?_
      refine zr_icmp_ge S 75 (by decide) (by omega) (by omega) dX1_mate_39 (fun ah1 => ?_) (fun ah1 => by omega)
      refine zr_bipush S (by decide +kernel) dX1_mate_75 ?_
      exact zm_iret S hr hlk hw (⟨rfl, Or.inl ⟨rfl, Or.inr (fun j' h1 h2 => hN j' h1 (by omega))⟩⟩) dX1_mate_77
    | succ u ih =>
      intro i H locs ls hi hi2 hN hw hl
      refine zr_iload S hl 4 rfl dX1_mate_36 ?_
      refine zr_iload_n S hl 2 rfl dX1_mate_38 ?_
      refine zr_icmp_ge S 75 (by decide) (by omega) (by omega) dX1_mate_39 (fun ch1 => by omega) (fun ch1 => ?_)
      refine zr_aload S hl 0 rfl dX1_mate_42 ?_
      refine zr_iload_n S hl 1 rfl dX1_mate_43 ?_
      refine zr_iload S hl 4 rfl dX1_mate_44 ?_
      refine zr_iload S hl 3 rfl dX1_mate_46 ?_
      refine zm_calli S hw (metm_isPair l g σ T a i kd hM (by omega) (by omega) (by omega)) kqm_isPair rfl rfl ⟨by decide, by decide⟩ rfl rfl hl.1 (Nat.le_of_ble_eq_true rfl) ⟨Nat.zero_le _, Nat.zero_le _⟩ dX1_mate_48 (fun cv4 cσ2 H locs cp3 hw => ?_)
      obtain ⟨hs_, cpp5⟩ := cp3
      rw [hs_] at hw
      have hrr : 0 ≤ cv4 ∧ cv4 ≤ 1 := by rcases cpp5 with h | h <;> omega
      refine zr_if_ne S 66 (by decide) (by omega) dX1_mate_51 (fun ch6 => ?_) (fun ch6 => ?_)
      · refine zr_iload S hl 4 rfl dX1_mate_66 ?_
        have hb : bPr T (bK (T.getD a.toNat 0)) a.toNat i.toNat := by rw [← hkd]; rcases cpp5 with h | h; exact h.2; exact absurd h.1 (by omega)
        exact zm_iret S hr hlk hw (⟨rfl, Or.inr ⟨hc0, by omega, by omega, Or.inl hb⟩⟩) dX1_mate_68
      · refine zr_aload S hl 0 rfl dX1_mate_54 ?_
        refine zr_iload S hl 4 rfl dX1_mate_55 ?_
        refine zr_iload_n S hl 1 rfl dX1_mate_57 ?_
        refine zr_iload S hl 3 rfl dX1_mate_58 ?_
        refine zm_calli S hw (metm_isPair l g σ T i a kd hM (by omega) (by omega) (by omega)) kqm_isPair rfl rfl ⟨by decide, by decide⟩ rfl rfl hl.1 (Nat.le_of_ble_eq_true rfl) ⟨Nat.zero_le _, Nat.zero_le _⟩ dX1_mate_60 (fun cv9 cσ7 H locs cp8 hw => ?_)
        obtain ⟨hs_, cpp10⟩ := cp8
        rw [hs_] at hw
        have hrr : 0 ≤ cv9 ∧ cv9 ≤ 1 := by rcases cpp10 with h | h <;> omega
        refine zr_if_eq S 69 (by decide) (by omega) dX1_mate_63 (fun ch11 => ?_) (fun ch11 => ?_)
        · obtain ⟨cv12, ce13⟩ : ∃ v : Int, v = i + 1 := ⟨_, rfl⟩
          refine zr_iinc S cv12 ce13 [(6, .int (zI cv12)), (0, .ref (g.2.2 3)), (1, .int (zI a)), (3, .int (zI t)), (5, .int (zI kd))] hl 4 rfl (by decide) rfl dX1_mate_69 (fun ls hl => ?_)
          refine zr_goto S 36 (by decide) dX1_mate_72 ?_
          have cpp5n : ¬ bPr T (bK (T.getD a.toNat 0)) a.toNat i.toNat := by rw [← hkd]; rcases cpp5 with h | h; exact absurd h.1 (by omega); exact h.2
          have cpp10n : ¬ bPr T (bK (T.getD a.toNat 0)) i.toNat a.toNat := by rw [← hkd]; rcases cpp10 with h | h; exact absurd h.1 (by omega); exact h.2
          exact ih cv12 H locs ls (by omega) (by omega) (fun j' h1 h2 => if e : j' = i.toNat then (by rw [e]; exact fun hb => hb.elim cpp5n cpp10n) else hN j' h1 (by omega)) hw (lv_sub hl [1, 2, 3, 4, 0] rfl)
        · refine zr_iload S hl 4 rfl dX1_mate_66 ?_
          have hb : bPr T (bK (T.getD a.toNat 0)) i.toNat a.toNat := by rw [← hkd]; rcases cpp10 with h | h; exact h.2; exact absurd h.1 (by omega)
          exact zm_iret S hr hlk hw (⟨rfl, Or.inr ⟨hc0, by omega, by omega, Or.inr hb⟩⟩) dX1_mate_68
  refine zr_aload S hl 0 rfl dX1_mate_0 ?_
  refine zm_get S hw 1 (.ref (g.2.2 1)) (by decide) rfl dX1_mate_1 ?_
  refine zr_iload_n S hl 1 rfl dX1_mate_4 ?_
  refine zm_iald S hw 1 60 1 0 (i := a) (by omega) (by omega) (by omega) rfl rfl dX1_mate_5 (fun v1 e2 r3 => ?_)
  have r3 : 0 ≤ v1 ∧ v1 ≤ 6 := r3
  refine zr_istore S [(4, .int (zI v1)), (0, .ref (g.2.2 3)), (1, .int (zI a)), (2, .int (zI f)), (3, .int (zI t))] hl (by decide) rfl dX1_mate_6 (fun ls hl => ?_)
  refine zr_iload S hl 0 rfl dX1_mate_8 ?_
  refine zr_iconst S dX1_mate_10 ?_
  refine zr_icmp_gt S 19 (by decide) (by omega) (by omega) dX1_mate_11 (fun h4 => ?_) (fun h4 => ?_)
  · refine zr_iload S hl 0 rfl dX1_mate_19 ?_
    refine zr_iconst S dX1_mate_21 ?_
    refine zr_isub S dX1_mate_22 (fun v5 e6 => ?_)
    refine zr_istore S [(5, .int (zI v5)), (4, .int (zI v1)), (0, .ref (g.2.2 3)), (1, .int (zI a)), (2, .int (zI f)), (3, .int (zI t))] hl (by decide) rfl dX1_mate_23 (fun ls hl => ?_)
    refine zr_iload S hl 1 rfl dX1_mate_25 ?_
    refine zr_if_ne S 33 (by decide) (by omega) dX1_mate_27 (fun h7 => ?_) (fun h7 => ?_)
    · refine zr_iload_n S hl 4 rfl dX1_mate_33 ?_
      refine zr_istore S [(6, .int (zI f)), (5, .int (zI v5)), (4, .int (zI v1)), (0, .ref (g.2.2 3)), (1, .int (zI a)), (2, .int (zI f)), (3, .int (zI t))] hl (by decide) rfl dX1_mate_34 (fun ls hl => ?_)
      have hkd : v5 - 1 = bK (T.getD a.toNat 0) := by unfold bK; rw [if_neg (by omega)]; omega
      exact loop v5 hkd (by omega) (by omega) (t - f).toNat f _ _ ls (by omega) (by omega) (fun j' h1 h2 => by omega) hw (lv_sub hl [3, 4, 6, 1, 0] rfl)
    · refine zr_bipush S (by decide +kernel) dX1_mate_30 ?_
      exact zm_iret S hr hlk hw (⟨rfl, Or.inl ⟨rfl, Or.inl (by omega)⟩⟩) dX1_mate_32
  · refine zr_iload S hl 0 rfl dX1_mate_14 ?_
    refine zr_goto S 23 (by decide) dX1_mate_16 ?_
    refine zr_istore S [(5, .int (zI v1)), (4, .int (zI v1)), (0, .ref (g.2.2 3)), (1, .int (zI a)), (2, .int (zI f)), (3, .int (zI t))] hl (by decide) rfl dX1_mate_23 (fun ls hl => ?_)
    refine zr_iload S hl 1 rfl dX1_mate_25 ?_
    refine zr_if_ne S 33 (by decide) (by omega) dX1_mate_27 (fun h8 => ?_) (fun h8 => ?_)
    · refine zr_iload_n S hl 4 rfl dX1_mate_33 ?_
      refine zr_istore S [(6, .int (zI f)), (5, .int (zI v1)), (4, .int (zI v1)), (0, .ref (g.2.2 3)), (1, .int (zI a)), (2, .int (zI f)), (3, .int (zI t))] hl (by decide) rfl dX1_mate_34 (fun ls hl => ?_)
      have hkd : v1 - 1 = bK (T.getD a.toNat 0) := by unfold bK; rw [if_pos (by omega)]; omega
      exact loop v1 hkd (by omega) (by omega) (t - f).toNat f _ _ ls (by omega) (by omega) (fun j' h1 h2 => by omega) hw (lv_sub hl [3, 4, 6, 1, 0] rfl)
    · refine zr_bipush S (by decide +kernel) dX1_mate_30 ?_
      exact zm_iret S hr hlk hw (⟨rfl, Or.inl ⟨rfl, Or.inl (by omega)⟩⟩) dX1_mate_32
set_option maxHeartbeats 4000000 in
theorem metm_partner (l : Launch) (g : zG) (σ : zS) (T : List Int) (a : Int) (hM : zmRep σ T) (ha : zR a) : zm_Mi l yX1_partner cX1_partner 2 (some .int) ({ frames := 2, cells := 0, slots := 0, locals := 51 }) g σ [a] (fun r σ' => r = sPartner T a ∧ zmRep σ' T) := by
  refine zm_ofi (by decide +kernel) rfl (Nat.le_of_ble_eq_true rfl) ?_
  intro p e s m args below meth c ls ⟨S, hr, hlk, hw⟩ hl
  have hl : lv_has ls 2 [(0, .ref (g.2.2 3)), (1, .int (zI a))] := hl
  have hM1 : σ 0 0 = (T.length : Int) := hM.1
  have hM6 : T.length ≤ 60 := hM.le hw.2.2.2.2.1
  have hcod : bcod T := hM.cod hw.2.2.2.2.1
  refine zr_aload S hl 0 rfl dX1_partner_0 ?_
  refine zr_iload_n S hl 1 rfl dX1_partner_1 ?_
  refine zm_calli S hw (metm_isPlace l g σ T a hM (by omega)) kqm_isPlace rfl rfl ⟨by decide, by decide⟩ rfl rfl hl.1 (Nat.le_of_ble_eq_true rfl) ⟨Nat.zero_le _, Nat.zero_le _⟩ dX1_partner_2 (fun v3 σ1 H locs p2 hw => ?_)
  obtain ⟨hs_, hplc⟩ := p2
  rw [hs_] at hw
  have hrr : 0 ≤ v3 ∧ v3 ≤ 1 := by rcases hplc with h | h <;> omega
  refine zr_if_eq S 21 (by decide) (by omega) dX1_partner_5 (fun h4 => ?_) (fun h4 => ?_)
  · refine zr_iconst S dX1_partner_21 ?_
    exact zm_iret S hr hlk hw (⟨by rw [sPartner, if_pos (by omega)], hM⟩) dX1_partner_22
  · refine zr_aload S hl 0 rfl dX1_partner_8 ?_
    refine zr_iload_n S hl 1 rfl dX1_partner_9 ?_
    refine zr_iconst S dX1_partner_10 ?_
    refine zr_aload S hl 0 rfl dX1_partner_11 ?_
    refine zm_geti S hw 0 (by decide) rfl dX1_partner_12 (fun v5 e6 r7 => ?_)
    have r7 : 0 ≤ v5 ∧ v5 ≤ 60 := r7
    refine zm_calli S hw (metm_mate l g σ T a 0 v5 hM (by omega) (by omega) (by omega)) kqm_mate rfl rfl ⟨by decide, by decide⟩ rfl rfl hl.1 (Nat.le_of_ble_eq_true rfl) ⟨Nat.zero_le _, Nat.zero_le _⟩ dX1_partner_15 (fun v10 σ8 H locs p9 hw => ?_)
    obtain ⟨hs_, hm⟩ := p9
    rw [hs_] at hw
    have hmr : -3 ≤ v10 ∧ v10 ≤ 60 := by rcases hm with ⟨h, -⟩ | ⟨-, h1, h2, -⟩ <;> omega
    refine zr_goto S 22 (by decide) dX1_partner_18 ?_
    rw [show v5 = (T.length : Int) by omega] at hm
    exact zm_iret S hr hlk hw (⟨partner_ok hcod (by omega) (by omega) hm, hM⟩) dX1_partner_22
set_option maxHeartbeats 4000000 in
theorem metm_around (l : Launch) (g : zG) (σ : zS) (T : List Int) (a k : Int) (hM : zmRep σ T) (ha : zR a) (hk : zR k) : zm_Mi l yX1_around cX1_around 5 (some .int) ({ frames := 2, cells := 0, slots := 0, locals := 51 }) g σ [a, k] (fun r σ' => r = sAround T a k ∧ zmRep σ' T) := by
  refine zm_ofi (by decide +kernel) rfl (Nat.le_of_ble_eq_true rfl) ?_
  intro p e s m args below meth c ls ⟨S, hr, hlk, hw⟩ hl
  have hl : lv_has ls 5 [(0, .ref (g.2.2 3)), (1, .int (zI a)), (2, .int (zI k))] := hl
  have hM1 : σ 0 0 = (T.length : Int) := hM.1
  have hM6 : T.length ≤ 60 := hM.le hw.2.2.2.2.1
  have loop : (0 ≤ a ∧ a < (T.length : Int)) → (1 ≤ k ∧ k ≤ 3) → ∀ (u : Nat) (i : Int) (H : Heap) (locs : List Loc) (ls : Array Slot), i + 1 = u → i < a → (∀ i' : Nat, i < (i' : Int) → (i' : Int) < a → ¬ bGood T (k - 1) a.toNat i') → zm_W g (zm_A g s.heap.size) s H locs σ → lv_has ls 5 [(0, .ref (g.2.2 3)), (1, .int (zI a)), (2, .int (zI k)), (3, .int (zI i))] → W p l e ({ frames := 2, cells := 0, slots := 0, locals := 51 }) s m args below meth c H locs 0 0 (zm_Ei g (fun r σ' => r = sAround T a k ∧ zmRep σ' T) below args s) (F0 m 24 ls []) := by
    intro ha2 hk2 u
    induction u with
    | zero =>
      intro i H locs ls hi hi2 hN hw hl
      refine zr_iload_n S hl 3 rfl dX1_around_24 ?_
      refine zr_if_lt S 67 (by decide) (by omega) dX1_around_25 (fun ah1 => ?_) (fun ah1 => by omega)
      refine zr_bipush S (by decide +kernel) dX1_around_67 ?_
      exact zm_iret S hr hlk hw (⟨(ar_none ha2.1 ha2.2 hk2 (fun i' h => hN i' (by omega) h)).symm, hM⟩) dX1_around_69
    | succ u ih =>
      intro i H locs ls hi hi2 hN hw hl
      have gi := hM.2 i.toNat (by omega)
      refine zr_iload_n S hl 3 rfl dX1_around_24 ?_
      refine zr_if_lt S 67 (by decide) (by omega) dX1_around_25 (fun ch1 => by omega) (fun ch1 => ?_)
      refine zr_aload S hl 0 rfl dX1_around_28 ?_
      refine zm_get S hw 1 (.ref (g.2.2 1)) (by decide) rfl dX1_around_29 ?_
      refine zr_iload_n S hl 3 rfl dX1_around_32 ?_
      refine zm_iald S hw 1 60 1 0 (i := i) (by omega) (by omega) (by omega) rfl rfl dX1_around_33 (fun cv2 ce3 cr4 => ?_)
      have cr4 : 0 ≤ cv2 ∧ cv2 ≤ 6 := cr4
      refine zr_iload_n S hl 2 rfl dX1_around_34 ?_
      refine zr_icmp_ne S 61 (by decide) (by omega) (by omega) dX1_around_35 (fun ch5 => ?_) (fun ch5 => ?_)
      · obtain ⟨cv6, ce7⟩ : ∃ v : Int, v = i + (-1) := ⟨_, rfl⟩
        refine zr_iinc S cv6 ce7 [(3, .int (zI cv6)), (0, .ref (g.2.2 3)), (1, .int (zI a)), (2, .int (zI k))] hl 3 rfl (by decide) rfl dX1_around_61 (fun ls hl => ?_)
        refine zr_goto S 24 (by decide) dX1_around_64 ?_
        have hng : ¬ bGood T (k - 1) a.toNat i.toNat := fun hg => hg.elim (fun j hj => by have h1 := hj.2.2.2.1; omega)
        exact ih cv6 H locs ls (by omega) (by omega) (fun i' h1 h2 => if e : i' = i.toNat then (by rw [e]; exact hng) else hN i' (by omega) h2) hw (lv_sub hl [1, 2, 3, 0] rfl)
      · refine zr_aload S hl 0 rfl dX1_around_38 ?_
        refine zr_iload_n S hl 3 rfl dX1_around_39 ?_
        refine zr_iload_n S hl 1 rfl dX1_around_40 ?_
        refine zr_iconst S dX1_around_41 ?_
        refine zr_iadd S dX1_around_42 (fun cv8 ce9 => ?_)
        refine zr_aload S hl 0 rfl dX1_around_43 ?_
        refine zm_geti S hw 0 (by decide) rfl dX1_around_44 (fun cv10 ce11 cr12 => ?_)
        have cr12 : 0 ≤ cv10 ∧ cv10 ≤ 60 := cr12
        refine zm_calli S hw (metm_mate l g σ T i cv8 cv10 hM (by omega) (by omega) (by omega)) kqm_mate rfl rfl ⟨by decide, by decide⟩ rfl rfl hl.1 (Nat.le_of_ble_eq_true rfl) ⟨Nat.zero_le _, Nat.zero_le _⟩ dX1_around_47 (fun cv15 cσ13 H locs cp14 hw => ?_)
        obtain ⟨hs_, hm⟩ := cp14
        rw [hs_] at hw
        have hmr : -3 ≤ cv15 ∧ cv15 ≤ 60 := by rcases hm with ⟨h, -⟩ | ⟨-, h1, h2, -⟩ <;> omega
        refine zr_istore S [(4, .int (zI cv15)), (0, .ref (g.2.2 3)), (1, .int (zI a)), (2, .int (zI k)), (3, .int (zI i))] hl (by decide) rfl dX1_around_50 (fun ls hl => ?_)
        refine zr_iload S hl 0 rfl dX1_around_52 ?_
        refine zr_bipush S (by decide +kernel) dX1_around_54 ?_
        refine zr_icmp_eq S 61 (by decide) (by omega) (by omega) dX1_around_56 (fun ch16 => ?_) (fun ch16 => ?_)
        · obtain ⟨cv17, ce18⟩ : ∃ v : Int, v = i + (-1) := ⟨_, rfl⟩
          refine zr_iinc S cv17 ce18 [(3, .int (zI cv17)), (4, .int (zI cv15)), (0, .ref (g.2.2 3)), (1, .int (zI a)), (2, .int (zI k))] hl 4 rfl (by decide) rfl dX1_around_61 (fun ls hl => ?_)
          refine zr_goto S 24 (by decide) dX1_around_64 ?_
          have hng : ¬ bGood T (k - 1) a.toNat i.toNat := fun hg => hg.elim (fun j hj => (mate_far (k := k - 1) (by omega) (by omega) hm (by omega)).1 (by omega) j (by have h1 := hj.1; omega) (by have h1 := hj.2.2.1; omega) hj.2)
          exact ih cv17 H locs ls (by omega) (by omega) (fun i' h1 h2 => if e : i' = i.toNat then (by rw [e]; exact hng) else hN i' (by omega) h2) hw (lv_sub hl [2, 3, 4, 0] rfl)
        · refine zr_iload_n S hl 4 rfl dX1_around_59 ?_
          have hfar := (mate_far (k := k - 1) (by omega) (by omega) hm (by omega)).2 (by omega)
          exact zm_iret S hr hlk hw (⟨(ar_some (by omega) hi2 ha2.2 hk2 ⟨_, by have h1 := hfar.2.1; omega, hfar.1⟩ hN).symm, hM⟩) dX1_around_60
  refine zr_aload S hl 0 rfl dX1_around_0 ?_
  refine zr_iload_n S hl 1 rfl dX1_around_1 ?_
  refine zm_calli S hw (metm_isPlace l g σ T a hM (by omega)) kqm_isPlace rfl rfl ⟨by decide, by decide⟩ rfl rfl hl.1 (Nat.le_of_ble_eq_true rfl) ⟨Nat.zero_le _, Nat.zero_le _⟩ dX1_around_2 (fun v3 σ1 H locs p2 hw => ?_)
  obtain ⟨hs_, hplc⟩ := p2
  rw [hs_] at hw
  have hrr : 0 ≤ v3 ∧ v3 ≤ 1 := by rcases hplc with h | h <;> omega
  refine zr_if_eq S 18 (by decide) (by omega) dX1_around_5 (fun h4 => ?_) (fun h4 => ?_)
  · refine zr_iconst S dX1_around_18 ?_
    exact zm_iret S hr hlk hw (⟨by rw [sAround, if_pos (by omega)], hM⟩) dX1_around_19
  · refine zr_iload_n S hl 2 rfl dX1_around_8 ?_
    refine zr_iconst S dX1_around_9 ?_
    refine zr_icmp_lt S 18 (by decide) (by omega) (by omega) dX1_around_10 (fun h5 => ?_) (fun h5 => ?_)
    · refine zr_iconst S dX1_around_18 ?_
      exact zm_iret S hr hlk hw (⟨by rw [sAround, if_pos (by omega)], hM⟩) dX1_around_19
    · refine zr_iload_n S hl 2 rfl dX1_around_13 ?_
      refine zr_iconst S dX1_around_14 ?_
      refine zr_icmp_le S 20 (by decide) (by omega) (by omega) dX1_around_15 (fun h6 => ?_) (fun h6 => ?_)
      · refine zr_iload_n S hl 1 rfl dX1_around_20 ?_
        refine zr_iconst S dX1_around_21 ?_
        refine zr_isub S dX1_around_22 (fun v7 e8 => ?_)
        refine zr_istore_n S [(3, .int (zI v7)), (0, .ref (g.2.2 3)), (1, .int (zI a)), (2, .int (zI k))] hl (by decide) rfl dX1_around_23 (fun ls hl => ?_)
        exact loop (by omega) (by omega) a.toNat v7 _ _ ls (by omega) (by omega) (fun i' h1 h2 => by omega) hw (lv_sub hl [1, 2, 3, 0] rfl)
      · refine zr_iconst S dX1_around_18 ?_
        exact zm_iret S hr hlk hw (⟨by rw [sAround, if_pos (by omega)], hM⟩) dX1_around_19
set_option maxHeartbeats 4000000 in
theorem metm_depth (l : Launch) (g : zG) (σ : zS) (T : List Int) (a k : Int) (hM : zmRep σ T) (ha : zR a) (hk : zR k) : zm_Mi l yX1_depth cX1_depth 6 (some .int) ({ frames := 1, cells := 0, slots := 0, locals := 25 }) g σ [a, k] (fun r σ' => r = sDepth T a k ∧ zmRep σ' T) := by
  refine zm_ofi (by decide +kernel) rfl (Nat.le_of_ble_eq_true rfl) ?_
  intro p e s m args below meth c ls ⟨S, hr, hlk, hw⟩ hl
  have hl : lv_has ls 6 [(0, .ref (g.2.2 3)), (1, .int (zI a)), (2, .int (zI k))] := hl
  have hM1 : σ 0 0 = (T.length : Int) := hM.1
  have hM6 : T.length ≤ 60 := hM.le hw.2.2.2.2.1
  have loop : (0 ≤ a ∧ a < (T.length : Int)) → (1 ≤ k ∧ k ≤ 3) → ∀ (u : Nat) (i cn : Int) (H : Heap) (locs : List Loc) (ls : Array Slot), i + u = a → 0 ≤ i → cn + dV T (k - 1) a.toNat i.toNat = sPairs T a k → zm_W g (zm_A g s.heap.size) s H locs σ → lv_has ls 6 [(0, .ref (g.2.2 3)), (1, .int (zI a)), (2, .int (zI k)), (3, .int (zI cn)), (4, .int (zI i))] → W p l e ({ frames := 1, cells := 0, slots := 0, locals := 25 }) s m args below meth c H locs 0 0 (zm_Ei g (fun r σ' => r = sDepth T a k ∧ zmRep σ' T) below args s) (F0 m 25 ls []) := by
    intro ha2 hk2 u
    induction u with
    | zero =>
      intro i cn H locs ls hi hi2 hv hw hl
      refine zr_iload S hl 4 rfl dX1_depth_25 ?_
      refine zr_iload_n S hl 1 rfl dX1_depth_27 ?_
      refine zr_icmp_ge S 72 (by decide) (by omega) (by omega) dX1_depth_28 (fun ah1 => ?_) (fun ah1 => by omega)
      refine zr_iload_n S hl 3 rfl dX1_depth_72 ?_
      rw [show i = a by omega, dV_end] at hv
      exact zm_iret S hr hlk hw (⟨by rw [sDepth, if_neg (by omega)]; omega, hM⟩) dX1_depth_73
    | succ u ih =>
      intro i cn H locs ls hi hi2 hv hw hl
      have inner : ∀ (y : Nat) (j ee w : Int) (H : Heap) (locs : List Loc) (ls : Array Slot), j + y = (T.length : Int) → a < j → w = cn + ee → dIn T (k - 1) a.toNat i.toNat j.toNat ee → zm_W g (zm_A g s.heap.size) s H locs σ → lv_has ls 6 [(0, .ref (g.2.2 3)), (1, .int (zI a)), (2, .int (zI k)), (3, .int (zI w)), (4, .int (zI i)), (5, .int (zI j))] → W p l e ({ frames := 1, cells := 0, slots := 0, locals := 25 }) s m args below meth c H locs 0 0 (zm_Ei g (fun r σ' => r = sDepth T a k ∧ zmRep σ' T) below args s) (F0 m 36 ls []) := by
        intro y
        induction y with
        | zero =>
          intro j ee w H locs ls hj hj2 hwe hD hw hl
          refine zr_iload S hl 5 rfl dX1_depth_36 ?_
          refine zr_aload S hl 0 rfl dX1_depth_38 ?_
          refine zm_geti S hw 0 (by decide) rfl dX1_depth_39 (fun bv1 be2 br3 => ?_)
          have br3 : 0 ≤ bv1 ∧ bv1 ≤ 60 := br3
          refine zr_icmp_ge S 66 (by decide) (by omega) (by omega) dX1_depth_42 (fun bh4 => ?_) (fun bh4 => by omega)
          obtain ⟨bv5, be6⟩ : ∃ v : Int, v = i + 1 := ⟨_, rfl⟩
          refine zr_iinc S bv5 be6 [(4, .int (zI bv5)), (0, .ref (g.2.2 3)), (1, .int (zI a)), (2, .int (zI k)), (3, .int (zI w)), (5, .int (zI j))] hl 4 rfl (by decide) rfl dX1_depth_66 (fun ls hl => ?_)
          refine zr_goto S 25 (by decide) dX1_depth_69 ?_
          rw [show j.toNat = T.length by omega] at hD
          have hst := dp_step (k := k - 1) (show i.toNat < a.toNat by omega) (show a.toNat < T.length by omega) (dIn_end hD)
          exact ih bv5 w H locs ls (by omega) (by omega) (by rw [show (bv5).toNat = i.toNat + 1 by omega]; unfold dV at hv ⊢; omega) hw (lv_sub hl [1, 2, 3, 4, 0] rfl)
        | succ y ihy =>
          intro j ee w H locs ls hj hj2 hwe hD hw hl
          refine zr_iload S hl 5 rfl dX1_depth_36 ?_
          refine zr_aload S hl 0 rfl dX1_depth_38 ?_
          refine zm_geti S hw 0 (by decide) rfl dX1_depth_39 (fun cv1 ce2 cr3 => ?_)
          have cr3 : 0 ≤ cv1 ∧ cv1 ≤ 60 := cr3
          refine zr_icmp_ge S 66 (by decide) (by omega) (by omega) dX1_depth_42 (fun ch4 => by omega) (fun ch4 => ?_)
          refine zr_aload S hl 0 rfl dX1_depth_45 ?_
          refine zr_iload S hl 4 rfl dX1_depth_46 ?_
          refine zr_iload S hl 5 rfl dX1_depth_48 ?_
          refine zr_iload_n S hl 2 rfl dX1_depth_50 ?_
          refine zm_calli S hw (metm_isPair l g σ T i j k hM (by omega) (by omega) (by omega)) kqm_isPair rfl rfl ⟨by decide, by decide⟩ rfl rfl hl.1 (Nat.le_of_ble_eq_true rfl) ⟨Nat.zero_le _, Nat.zero_le _⟩ dX1_depth_51 (fun cv7 cσ5 H locs cp6 hw => ?_)
          obtain ⟨hs_, cpp8⟩ := cp6
          rw [hs_] at hw
          have hrr : 0 ≤ cv7 ∧ cv7 ≤ 1 := by rcases cpp8 with h | h <;> omega
          refine zr_if_eq S 60 (by decide) (by omega) dX1_depth_54 (fun ch9 => ?_) (fun ch9 => ?_)
          · obtain ⟨cv10, ce11⟩ : ∃ v : Int, v = j + 1 := ⟨_, rfl⟩
            refine zr_iinc S cv10 ce11 [(5, .int (zI cv10)), (0, .ref (g.2.2 3)), (1, .int (zI a)), (2, .int (zI k)), (3, .int (zI w)), (4, .int (zI i))] hl 5 rfl (by decide) rfl dX1_depth_60 (fun ls hl => ?_)
            refine zr_goto S 36 (by decide) dX1_depth_63 ?_
            have hnp : ¬ bPr T (k - 1) i.toNat j.toNat := by rcases cpp8 with h | h; exact absurd h.1 (by omega); exact h.2
            exact ihy cv10 ee w H locs ls (by omega) (by omega) (by omega) (by rw [show (cv10).toNat = j.toNat + 1 by omega]; exact (dIn_step hD (by omega)).2 hnp) hw (lv_sub hl [1, 2, 3, 4, 5, 0] rfl)
          · obtain ⟨cv12, ce13⟩ : ∃ v : Int, v = w + 1 := ⟨_, rfl⟩
            refine zr_iinc S cv12 ce13 [(3, .int (zI cv12)), (0, .ref (g.2.2 3)), (1, .int (zI a)), (2, .int (zI k)), (4, .int (zI i)), (5, .int (zI j))] hl 3 rfl (by decide) rfl dX1_depth_57 (fun ls hl => ?_)
            obtain ⟨cv14, ce15⟩ : ∃ v : Int, v = j + 1 := ⟨_, rfl⟩
            refine zr_iinc S cv14 ce15 [(5, .int (zI cv14)), (3, .int (zI cv12)), (0, .ref (g.2.2 3)), (1, .int (zI a)), (2, .int (zI k)), (4, .int (zI i))] hl 5 rfl (by decide) rfl dX1_depth_60 (fun ls hl => ?_)
            refine zr_goto S 36 (by decide) dX1_depth_63 ?_
            have hnp : bPr T (k - 1) i.toNat j.toNat := by rcases cpp8 with h | h; exact h.2; exact absurd h.1 (by omega)
            exact ihy cv14 (ee + 1) cv12 H locs ls (by omega) (by omega) (by omega) (by rw [show (cv14).toNat = j.toNat + 1 by omega]; exact (dIn_step hD (by omega)).1 hnp) hw (lv_sub hl [2, 3, 4, 1, 5, 0] rfl)
      refine zr_iload S hl 4 rfl dX1_depth_25 ?_
      refine zr_iload_n S hl 1 rfl dX1_depth_27 ?_
      refine zr_icmp_ge S 72 (by decide) (by omega) (by omega) dX1_depth_28 (fun dh1 => by omega) (fun dh1 => ?_)
      refine zr_iload_n S hl 1 rfl dX1_depth_31 ?_
      refine zr_iconst S dX1_depth_32 ?_
      refine zr_iadd S dX1_depth_33 (fun dv2 de3 => ?_)
      refine zr_istore S [(5, .int (zI dv2)), (0, .ref (g.2.2 3)), (1, .int (zI a)), (2, .int (zI k)), (3, .int (zI cn)), (4, .int (zI i))] hl (by decide) rfl dX1_depth_34 (fun ls hl => ?_)
      exact inner ((T.length : Int) - dv2).toNat dv2 0 cn H locs ls (by omega) (by omega) (by omega) (by rw [show (dv2).toNat = a.toNat + 1 by omega]; exact dIn_0 _ _ _ _) hw (lv_sub hl [1, 2, 3, 4, 5, 0] rfl)
  refine zr_aload S hl 0 rfl dX1_depth_0 ?_
  refine zr_iload_n S hl 1 rfl dX1_depth_1 ?_
  refine zm_calli S hw (metm_isPlace l g σ T a hM (by omega)) kqm_isPlace rfl rfl ⟨by decide, by decide⟩ rfl rfl hl.1 (Nat.le_of_ble_eq_true rfl) ⟨Nat.zero_le _, Nat.zero_le _⟩ dX1_depth_2 (fun v3 σ1 H locs p2 hw => ?_)
  obtain ⟨hs_, hplc⟩ := p2
  rw [hs_] at hw
  have hrr : 0 ≤ v3 ∧ v3 ≤ 1 := by rcases hplc with h | h <;> omega
  refine zr_if_eq S 18 (by decide) (by omega) dX1_depth_5 (fun h4 => ?_) (fun h4 => ?_)
  · refine zr_iconst S dX1_depth_18 ?_
    exact zm_iret S hr hlk hw (⟨by rw [sDepth, if_pos (by omega)], hM⟩) dX1_depth_19
  · refine zr_iload_n S hl 2 rfl dX1_depth_8 ?_
    refine zr_iconst S dX1_depth_9 ?_
    refine zr_icmp_lt S 18 (by decide) (by omega) (by omega) dX1_depth_10 (fun h5 => ?_) (fun h5 => ?_)
    · refine zr_iconst S dX1_depth_18 ?_
      exact zm_iret S hr hlk hw (⟨by rw [sDepth, if_pos (by omega)], hM⟩) dX1_depth_19
    · refine zr_iload_n S hl 2 rfl dX1_depth_13 ?_
      refine zr_iconst S dX1_depth_14 ?_
      refine zr_icmp_le S 20 (by decide) (by omega) (by omega) dX1_depth_15 (fun h6 => ?_) (fun h6 => ?_)
      · refine zr_iconst S dX1_depth_20 ?_
        refine zr_istore_n S [(3, .int (zI 0)), (0, .ref (g.2.2 3)), (1, .int (zI a)), (2, .int (zI k))] hl (by decide) rfl dX1_depth_21 (fun ls hl => ?_)
        refine zr_iconst S dX1_depth_22 ?_
        refine zr_istore S [(4, .int (zI 0)), (3, .int (zI 0)), (0, .ref (g.2.2 3)), (1, .int (zI a)), (2, .int (zI k))] hl (by decide) rfl dX1_depth_23 (fun ls hl => ?_)
        exact loop (by omega) (by omega) a.toNat 0 0 _ _ ls (by omega) (by omega) (by rw [dV_pairs, show (0 : Int).toNat = 0 from rfl]; omega) hw (lv_sub hl [2, 3, 4, 1, 0] rfl)
      · refine zr_iconst S dX1_depth_18 ?_
        exact zm_iret S hr hlk hw (⟨by rw [sDepth, if_pos (by omega)], hM⟩) dX1_depth_19
set_option maxHeartbeats 4000000 in
theorem metm_loose (l : Launch) (g : zG) (σ : zS) (T : List Int) (f n cd k : Int) (hM : zmRep σ T) (hS : sStr T f n) (hk : 0 ≤ k ∧ k ≤ 2) (hcd : cd = k + 1 ∨ cd = k + 4) : zm_Mi l yX1_loose cX1_loose 7 (some .int) ({ frames := 2, cells := 0, slots := 0, locals := 51 }) g σ [f, n, cd] (fun r σ' => σ' = σ ∧ r = bLz T k cd f.toNat (f + n).toNat (f + n).toNat) := by
  refine zm_ofi (by decide +kernel) rfl (Nat.le_of_ble_eq_true rfl) ?_
  intro p e s m args below meth c ls ⟨S, hr, hlk, hw⟩ hl
  have hl : lv_has ls 7 [(0, .ref (g.2.2 3)), (1, .int (zI f)), (2, .int (zI n)), (3, .int (zI cd))] := hl
  have hM1 : σ 0 0 = (T.length : Int) := hM.1
  have hM6 : T.length ≤ 60 := hM.le hw.2.2.2.2.1
  have hS1 : 0 ≤ f := hS.1
  have hS2 : f ≤ (T.length : Int) := hS.2.1
  have hS3 : 0 ≤ n := hS.2.2.1
  have hS4 : n ≤ (T.length : Int) - f := hS.2.2.2
  have loop : ∀ (u : Nat) (i cn : Int) (H : Heap) (locs : List Loc) (ls : Array Slot), i + u = f + n → f ≤ i → cn = bLz T k cd f.toNat i.toNat (f + n).toNat → zm_W g (zm_A g s.heap.size) s H locs σ → lv_has ls 7 [(0, .ref (g.2.2 3)), (1, .int (zI f)), (2, .int (zI n)), (3, .int (zI cd)), (4, .int (zI cn)), (5, .int (zI i))] → W p l e ({ frames := 2, cells := 0, slots := 0, locals := 51 }) s m args below meth c H locs 0 0 (zm_Ei g (fun r σ' => σ' = σ ∧ r = bLz T k cd f.toNat (f + n).toNat (f + n).toNat) below args s) (F0 m 6 ls []) := by
    intro u
    induction u with
    | zero =>
      intro i cn H locs ls hi hi2 hv hw hl
      refine zr_iload S hl 5 rfl dX1_loose_6 ?_
      refine zr_iload_n S hl 1 rfl dX1_loose_8 ?_
      refine zr_iload_n S hl 2 rfl dX1_loose_9 ?_
      refine zr_iadd S dX1_loose_10 (fun av1 ae2 => ?_)
      refine zr_icmp_ge S 53 (by decide) (by omega) (by omega) dX1_loose_11 (fun ah3 => ?_) (fun ah3 => by omega)
      refine zr_iload S hl 4 rfl dX1_loose_53 ?_
      rw [show i = f + n by omega] at hv
      exact zm_iret S hr hlk hw (⟨rfl, hv⟩) dX1_loose_55
    | succ u ih =>
      intro i cn H locs ls hi hi2 hv hw hl
      have gi := hM.2 i.toNat (by omega)
      have hz := lz_step (T := T) (k := k) (cd := cd) (f := f.toNat) (i := i.toNat) (t := (f + n).toNat) hk hcd (by omega) (by omega) (by omega)
      refine zr_iload S hl 5 rfl dX1_loose_6 ?_
      refine zr_iload_n S hl 1 rfl dX1_loose_8 ?_
      refine zr_iload_n S hl 2 rfl dX1_loose_9 ?_
      refine zr_iadd S dX1_loose_10 (fun cv1 ce2 => ?_)
      refine zr_icmp_ge S 53 (by decide) (by omega) (by omega) dX1_loose_11 (fun ch3 => by omega) (fun ch3 => ?_)
      refine zr_aload S hl 0 rfl dX1_loose_14 ?_
      refine zm_get S hw 1 (.ref (g.2.2 1)) (by decide) rfl dX1_loose_15 ?_
      refine zr_iload S hl 5 rfl dX1_loose_18 ?_
      refine zm_iald S hw 1 60 1 0 (i := i) (by omega) (by omega) (by omega) rfl rfl dX1_loose_20 (fun cv4 ce5 cr6 => ?_)
      have cr6 : 0 ≤ cv4 ∧ cv4 ≤ 6 := cr6
      refine zr_iload_n S hl 3 rfl dX1_loose_21 ?_
      refine zr_icmp_ne S 47 (by decide) (by omega) (by omega) dX1_loose_22 (fun ch7 => ?_) (fun ch7 => ?_)
      · obtain ⟨cv8, ce9⟩ : ∃ v : Int, v = i + 1 := ⟨_, rfl⟩
        refine zr_iinc S cv8 ce9 [(5, .int (zI cv8)), (0, .ref (g.2.2 3)), (1, .int (zI f)), (2, .int (zI n)), (3, .int (zI cd)), (4, .int (zI cn))] hl 5 rfl (by decide) rfl dX1_loose_47 (fun ls hl => ?_)
        refine zr_goto S 6 (by decide) dX1_loose_50 ?_
        exact ih cv8 cn H locs ls (by omega) (by omega) (by rw [show (cv8).toNat = i.toNat + 1 by omega, hz.1 (by omega)]; exact hv) hw (lv_sub hl [1, 2, 3, 4, 5, 0] rfl)
      · refine zr_aload S hl 0 rfl dX1_loose_25 ?_
        refine zr_iload S hl 5 rfl dX1_loose_26 ?_
        refine zr_iload_n S hl 1 rfl dX1_loose_28 ?_
        refine zr_iload_n S hl 1 rfl dX1_loose_29 ?_
        refine zr_iload_n S hl 2 rfl dX1_loose_30 ?_
        refine zr_iadd S dX1_loose_31 (fun cv10 ce11 => ?_)
        refine zm_calli S hw (metm_mate l g σ T i f cv10 hM (by omega) (by omega) (by omega)) kqm_mate rfl rfl ⟨by decide, by decide⟩ rfl rfl hl.1 (Nat.le_of_ble_eq_true rfl) ⟨Nat.zero_le _, Nat.zero_le _⟩ dX1_loose_32 (fun cv14 cσ12 H locs cp13 hw => ?_)
        obtain ⟨hs_, hm⟩ := cp13
        rw [hs_] at hw
        have hmr : -3 ≤ cv14 ∧ cv14 ≤ 60 := by rcases hm with ⟨h, -⟩ | ⟨-, h1, h2, -⟩ <;> omega
        refine zr_istore S [(6, .int (zI cv14)), (0, .ref (g.2.2 3)), (1, .int (zI f)), (2, .int (zI n)), (3, .int (zI cd)), (4, .int (zI cn)), (5, .int (zI i))] hl (by decide) rfl dX1_loose_35 (fun ls hl => ?_)
        refine zr_iload S hl 0 rfl dX1_loose_37 ?_
        refine zr_bipush S (by decide +kernel) dX1_loose_39 ?_
        refine zr_icmp_ne S 47 (by decide) (by omega) (by omega) dX1_loose_41 (fun ch15 => ?_) (fun ch15 => ?_)
        · obtain ⟨cv16, ce17⟩ : ∃ v : Int, v = i + 1 := ⟨_, rfl⟩
          refine zr_iinc S cv16 ce17 [(5, .int (zI cv16)), (6, .int (zI cv14)), (0, .ref (g.2.2 3)), (1, .int (zI f)), (2, .int (zI n)), (3, .int (zI cd)), (4, .int (zI cn))] hl 6 rfl (by decide) rfl dX1_loose_47 (fun ls hl => ?_)
          refine zr_goto S 6 (by decide) dX1_loose_50 ?_
          have hm2 : mSpec T i.toNat ((f.toNat : Nat) : Int) (((f + n).toNat : Nat) : Int) cv14 := by rw [show ((f.toNat : Nat) : Int) = f by omega, show (((f + n).toNat : Nat) : Int) = cv10 by omega]; exact hm
          exact ih cv16 cn H locs ls (by omega) (by omega) (by rw [show (cv16).toNat = i.toNat + 1 by omega, (hz.2 (by omega) _ hm2).2 (by omega)]; exact hv) hw (lv_sub hl [2, 3, 4, 5, 6, 0] rfl)
        · obtain ⟨cv18, ce19⟩ : ∃ v : Int, v = cn + 1 := ⟨_, rfl⟩
          refine zr_iinc S cv18 ce19 [(4, .int (zI cv18)), (6, .int (zI cv14)), (0, .ref (g.2.2 3)), (1, .int (zI f)), (2, .int (zI n)), (3, .int (zI cd)), (5, .int (zI i))] hl 5 rfl (by decide) rfl dX1_loose_44 (fun ls hl => ?_)
          obtain ⟨cv20, ce21⟩ : ∃ v : Int, v = i + 1 := ⟨_, rfl⟩
          refine zr_iinc S cv20 ce21 [(5, .int (zI cv20)), (4, .int (zI cv18)), (6, .int (zI cv14)), (0, .ref (g.2.2 3)), (1, .int (zI f)), (2, .int (zI n)), (3, .int (zI cd))] hl 6 rfl (by decide) rfl dX1_loose_47 (fun ls hl => ?_)
          refine zr_goto S 6 (by decide) dX1_loose_50 ?_
          have hm2 : mSpec T i.toNat ((f.toNat : Nat) : Int) (((f + n).toNat : Nat) : Int) cv14 := by rw [show ((f.toNat : Nat) : Int) = f by omega, show (((f + n).toNat : Nat) : Int) = cv10 by omega]; exact hm
          exact ih cv20 cv18 H locs ls (by omega) (by omega) (by rw [show (cv20).toNat = i.toNat + 1 by omega, (hz.2 (by omega) _ hm2).1 (by omega)]; omega) hw (lv_sub hl [3, 4, 5, 6, 1, 0] rfl)
  refine zr_iconst S dX1_loose_0 ?_
  refine zr_istore S [(4, .int (zI 0)), (0, .ref (g.2.2 3)), (1, .int (zI f)), (2, .int (zI n)), (3, .int (zI cd))] hl (by decide) rfl dX1_loose_1 (fun ls hl => ?_)
  refine zr_iload_n S hl 2 rfl dX1_loose_3 ?_
  refine zr_istore S [(5, .int (zI f)), (4, .int (zI 0)), (0, .ref (g.2.2 3)), (1, .int (zI f)), (2, .int (zI n)), (3, .int (zI cd))] hl (by decide) rfl dX1_loose_4 (fun ls hl => ?_)
  exact loop n.toNat f 0 _ _ ls (by omega) (by omega) (lz_0 _ _ _ _ _).symm hw (lv_sub hl [2, 3, 4, 5, 1, 0] rfl)
set_option maxHeartbeats 4000000 in
theorem metm_looseOpen (l : Launch) (g : zG) (σ : zS) (T : List Int) (f n k : Int) (hM : zmRep σ T) (hf : zR f) (hn : zR n) (hk : zR k) : zm_Mi l yX1_looseOpen cX1_looseOpen 4 (some .int) ({ frames := 3, cells := 0, slots := 0, locals := 77 }) g σ [f, n, k] (fun r σ' => r = sLo T f n k ∧ zmRep σ' T) := by
  refine zm_ofi (by decide +kernel) rfl (Nat.le_of_ble_eq_true rfl) ?_
  intro p e s m args below meth c ls ⟨S, hr, hlk, hw⟩ hl
  have hl : lv_has ls 4 [(0, .ref (g.2.2 3)), (1, .int (zI f)), (2, .int (zI n)), (3, .int (zI k))] := hl
  have hM1 : σ 0 0 = (T.length : Int) := hM.1
  have hM6 : T.length ≤ 60 := hM.le hw.2.2.2.2.1
  refine zr_aload S hl 0 rfl dX1_looseOpen_0 ?_
  refine zr_iload_n S hl 1 rfl dX1_looseOpen_1 ?_
  refine zr_iload_n S hl 2 rfl dX1_looseOpen_2 ?_
  refine zm_calli S hw (metm_isStretch l g σ T f n hM (by omega) (by omega)) kqm_isStretch rfl rfl ⟨by decide, by decide⟩ rfl rfl hl.1 (Nat.le_of_ble_eq_true rfl) ⟨Nat.zero_le _, Nat.zero_le _⟩ dX1_looseOpen_3 (fun v3 σ1 H locs p2 hw => ?_)
  obtain ⟨hs_, hstr⟩ := p2
  rw [hs_] at hw
  have hrr : 0 ≤ v3 ∧ v3 ≤ 1 := by rcases hstr with h | h <;> omega
  refine zr_if_eq S 19 (by decide) (by omega) dX1_looseOpen_6 (fun h4 => ?_) (fun h4 => ?_)
  · refine zr_iconst S dX1_looseOpen_19 ?_
    have hS : ¬ sStr T f n := by rcases hstr with h | h; exact absurd h.1 (by omega); exact h.2
    exact zm_iret S hr hlk hw (⟨by rw [sLo, if_neg (fun h => hS h.1)], hM⟩) dX1_looseOpen_20
  · refine zr_iload_n S hl 3 rfl dX1_looseOpen_9 ?_
    refine zr_iconst S dX1_looseOpen_10 ?_
    refine zr_icmp_lt S 19 (by decide) (by omega) (by omega) dX1_looseOpen_11 (fun h5 => ?_) (fun h5 => ?_)
    · refine zr_iconst S dX1_looseOpen_19 ?_
      exact zm_iret S hr hlk hw (⟨by rw [sLo, if_neg (fun h => by have h1 := h.2.1; have h2 := h.2.2; omega)], hM⟩) dX1_looseOpen_20
    · refine zr_iload_n S hl 3 rfl dX1_looseOpen_14 ?_
      refine zr_iconst S dX1_looseOpen_15 ?_
      refine zr_icmp_le S 21 (by decide) (by omega) (by omega) dX1_looseOpen_16 (fun h6 => ?_) (fun h6 => ?_)
      · refine zr_aload S hl 0 rfl dX1_looseOpen_21 ?_
        refine zr_iload_n S hl 1 rfl dX1_looseOpen_22 ?_
        refine zr_iload_n S hl 2 rfl dX1_looseOpen_23 ?_
        refine zr_iload_n S hl 3 rfl dX1_looseOpen_24 ?_
        have hS : sStr T f n := by rcases hstr with h | h; exact h.2; exact absurd h.1 (by omega)
        refine zm_calli S hw (metm_loose l g σ T f n k (k - 1) hM hS (by omega) (by omega)) kqm_loose rfl rfl ⟨by decide, by decide⟩ rfl rfl hl.1 (Nat.le_of_ble_eq_true rfl) ⟨Nat.zero_le _, Nat.zero_le _⟩ dX1_looseOpen_25 (fun v9 σ7 H locs p8 hw => ?_)
        obtain ⟨hs_, hans⟩ := p8
        rw [hs_] at hw
        have hz := lz_o T (k - 1) f.toNat (f + n).toNat
        rw [show k - 1 + 1 = k by omega, ← sB_sg hS.1 hS.2.2.1] at hz
        exact zm_iret S hr hlk hw (⟨by rw [sLo, if_pos ⟨hS, by omega, by omega⟩, hans]; exact hz, hM⟩) dX1_looseOpen_28
      · refine zr_iconst S dX1_looseOpen_19 ?_
        exact zm_iret S hr hlk hw (⟨by rw [sLo, if_neg (fun h => by have h1 := h.2.1; have h2 := h.2.2; omega)], hM⟩) dX1_looseOpen_20
set_option maxHeartbeats 4000000 in
theorem metm_looseClose (l : Launch) (g : zG) (σ : zS) (T : List Int) (f n k : Int) (hM : zmRep σ T) (hf : zR f) (hn : zR n) (hk : zR k) : zm_Mi l yX1_looseClose cX1_looseClose 4 (some .int) ({ frames := 3, cells := 0, slots := 0, locals := 77 }) g σ [f, n, k] (fun r σ' => r = sLc T f n k ∧ zmRep σ' T) := by
  refine zm_ofi (by decide +kernel) rfl (Nat.le_of_ble_eq_true rfl) ?_
  intro p e s m args below meth c ls ⟨S, hr, hlk, hw⟩ hl
  have hl : lv_has ls 4 [(0, .ref (g.2.2 3)), (1, .int (zI f)), (2, .int (zI n)), (3, .int (zI k))] := hl
  have hM1 : σ 0 0 = (T.length : Int) := hM.1
  have hM6 : T.length ≤ 60 := hM.le hw.2.2.2.2.1
  refine zr_aload S hl 0 rfl dX1_looseClose_0 ?_
  refine zr_iload_n S hl 1 rfl dX1_looseClose_1 ?_
  refine zr_iload_n S hl 2 rfl dX1_looseClose_2 ?_
  refine zm_calli S hw (metm_isStretch l g σ T f n hM (by omega) (by omega)) kqm_isStretch rfl rfl ⟨by decide, by decide⟩ rfl rfl hl.1 (Nat.le_of_ble_eq_true rfl) ⟨Nat.zero_le _, Nat.zero_le _⟩ dX1_looseClose_3 (fun v3 σ1 H locs p2 hw => ?_)
  obtain ⟨hs_, hstr⟩ := p2
  rw [hs_] at hw
  have hrr : 0 ≤ v3 ∧ v3 ≤ 1 := by rcases hstr with h | h <;> omega
  refine zr_if_eq S 19 (by decide) (by omega) dX1_looseClose_6 (fun h4 => ?_) (fun h4 => ?_)
  · refine zr_iconst S dX1_looseClose_19 ?_
    have hS : ¬ sStr T f n := by rcases hstr with h | h; exact absurd h.1 (by omega); exact h.2
    exact zm_iret S hr hlk hw (⟨by rw [sLc, if_neg (fun h => hS h.1)], hM⟩) dX1_looseClose_20
  · refine zr_iload_n S hl 3 rfl dX1_looseClose_9 ?_
    refine zr_iconst S dX1_looseClose_10 ?_
    refine zr_icmp_lt S 19 (by decide) (by omega) (by omega) dX1_looseClose_11 (fun h5 => ?_) (fun h5 => ?_)
    · refine zr_iconst S dX1_looseClose_19 ?_
      exact zm_iret S hr hlk hw (⟨by rw [sLc, if_neg (fun h => by have h1 := h.2.1; have h2 := h.2.2; omega)], hM⟩) dX1_looseClose_20
    · refine zr_iload_n S hl 3 rfl dX1_looseClose_14 ?_
      refine zr_iconst S dX1_looseClose_15 ?_
      refine zr_icmp_le S 21 (by decide) (by omega) (by omega) dX1_looseClose_16 (fun h6 => ?_) (fun h6 => ?_)
      · refine zr_aload S hl 0 rfl dX1_looseClose_21 ?_
        refine zr_iload_n S hl 1 rfl dX1_looseClose_22 ?_
        refine zr_iload_n S hl 2 rfl dX1_looseClose_23 ?_
        refine zr_iload_n S hl 3 rfl dX1_looseClose_24 ?_
        refine zr_iconst S dX1_looseClose_25 ?_
        refine zr_iadd S dX1_looseClose_26 (fun v7 e8 => ?_)
        have hS : sStr T f n := by rcases hstr with h | h; exact h.2; exact absurd h.1 (by omega)
        refine zm_calli S hw (metm_loose l g σ T f n v7 (k - 1) hM hS (by omega) (by omega)) kqm_loose rfl rfl ⟨by decide, by decide⟩ rfl rfl hl.1 (Nat.le_of_ble_eq_true rfl) ⟨Nat.zero_le _, Nat.zero_le _⟩ dX1_looseClose_27 (fun v11 σ9 H locs p10 hw => ?_)
        obtain ⟨hs_, hans⟩ := p10
        rw [hs_] at hw
        have hz := lz_c T (k - 1) f.toNat (f + n).toNat
        rw [show k - 1 + 4 = v7 by omega, ← sB_sg hS.1 hS.2.2.1] at hz
        exact zm_iret S hr hlk hw (⟨by rw [sLc, if_pos ⟨hS, by omega, by omega⟩, hans]; exact hz, hM⟩) dX1_looseClose_30
      · refine zr_iconst S dX1_looseClose_19 ?_
        exact zm_iret S hr hlk hw (⟨by rw [sLc, if_neg (fun h => by have h1 := h.2.1; have h2 := h.2.2; omega)], hM⟩) dX1_looseClose_20
end
section
/-! the two constructors -/
def zt_f0 : List Value := [.null, .null, .null, .null, .null, .null, .null, .null, .int (zI 0), .int (zI 0), .null, .int (zI 0), .null, .int (zI 0), .int (zI 0), .int (zI 0), .int (zI 0), .int (zI 0), .int (zI 0)]
def zm_f0 : List Value := [.int (zI 0), .null, .null]
def zt_I (D : va_G) (h0 : Nat) (A : Nat → Prop) (u : zG × zS) (t : State) : Prop := u.1.1 = D ∧ u.1.2.2 19 = h0 ∧ va_P D vwCl (zt_ce u.1 u.2) t.heap ∧ va_K D vwCl (zt_ty u.1) t ∧ va_D A (zt_ce u.1 u.2) ∧ zt_WF u.2
def zm_I (D : va_G) (h0 : Nat) (A : Nat → Prop) (u : zG × zS) (t : State) : Prop := u.1.1 = D ∧ u.1.2.2 3 = h0 ∧ va_P D vwCl (zm_ce u.1 u.2) t.heap ∧ va_K D vwCl (zm_ty u.1) t ∧ va_D A (zm_ce u.1 u.2) ∧ zm_WF u.2
def cIn (σ : zS) (x : Int) : Prop := σ 8 0 = -1 ∧ σ 11 0 = 59 - x ∧ ∀ j : Nat, (j : Int) < 59 - x → σ 10 j = 59 - j
theorem cIn_step {σ : zS} {x x' v w : Int} (h : cIn σ x) (hx : x ≤ 59) (hv : v = σ 11 0) (hw : w = σ 11 0 + 1) (hx' : x' = x - 1) : cIn (zs_st (zs_st σ 10 v.toNat x) 11 0 w) x' := by
  obtain ⟨h8, h11, h10⟩ := h
  refine ⟨by rw [zs_ne (by decide), zs_ne (by decide)]; exact h8, by rw [zs_eq]; omega, fun j hj => ?_⟩
  rw [zs_ne (by decide)]
  by_cases e : j = v.toNat
  · rw [e, zs_eq]
    omega
  · rw [zs_ni e]
    exact h10 j (by omega)
def cSp : List Nat := (List.range 60).map (fun j => 59 - j)
set_option maxRecDepth 100000 in
theorem cSp_all : zAll ([] ++ cSp) := ⟨by decide +kernel, by decide +kernel, by decide +kernel⟩
set_option maxRecDepth 100000 in
theorem cSp_at : ∀ j, j < 60 → cSp.getD j 0 = 59 - j := by decide +kernel
theorem cIn_end {σ : zS} (h : cIn σ (-1)) : zRep σ [] := by
  obtain ⟨h8, h11, h10⟩ := h
  have hl : cSp.length = 60 := by decide +kernel
  refine ⟨[], cSp, ?_, ⟨by rw [hl]; omega, fun j hj => ?_⟩, cSp_all⟩
  · rw [h8]
    exact ⟨Tr_nil σ 60, List.nodup_nil⟩
  · rw [hl] at hj
    rw [cSp_at j hj, h10 j (by omega)]
    omega
set_option maxHeartbeats 4000000 in
theorem init_loop {p : Program} {l : Launch} {e : Env} {R : Room} {s : State} {m : MethodId} {args : Array Value} {below : List Frame} {meth : Method} {c : Code} {cells slots : Nat} {Q : State → Prop} {g : zG} {A : Nat → Prop} (S : CallFix p m c cX0_init 2 s args lw_all RX0)
    (kk : ∀ (σ1 : zS) (H : Heap) (locs : List Loc) (ls : Array Slot), zRep σ1 [] → zt_W g A s H locs σ1 → W p l e R s m args below meth c H locs cells slots Q (F0 m 132 ls [])) :
    ∀ (u : Nat) (x : Int) (σ1 : zS) (H : Heap) (locs : List Loc) (ls : Array Slot), x + 1 = u → x ≤ 59 → cIn σ1 x → zt_W g A s H locs σ1 → lv_has ls 2 [(0, .ref (g.2.2 19)), (1, .int (zI x))] → W p l e R s m args below meth c H locs cells slots Q (F0 m 101 ls []) := by
  intro u
  induction u with
  | zero =>
    intro x σ1 H locs ls hx hx2 hI hw hl
    refine zr_iload_n S hl 1 rfl dX0_init_101 ?_
    refine zr_if_lt S 132 (by decide) (by omega) dX0_init_102 (fun ah1 => ?_) (fun ah1 => by omega)
    rw [show x = -1 by omega] at hI
    exact kk σ1 H locs ls (cIn_end hI) hw
  | succ u ih =>
    intro x σ1 H locs ls hx hx2 hI hw hl
    have h11 : σ1 11 0 = 59 - x := hI.2.1
    refine zr_iload_n S hl 1 rfl dX0_init_101 ?_
    refine zr_if_lt S 132 (by decide) (by omega) dX0_init_102 (fun ch1 => by omega) (fun ch1 => ?_)
    refine zr_aload S hl 0 rfl dX0_init_105 ?_
    refine zt_get S hw 10 (.ref (g.2.2 10)) (by decide) rfl dX0_init_106 ?_
    refine zr_aload S hl 0 rfl dX0_init_109 ?_
    refine zt_geti S hw 11 (by decide) rfl dX0_init_110 (fun cv2 ce3 cr4 => ?_)
    have cr4 : 0 ≤ cv2 ∧ cv2 ≤ 60 := cr4
    refine zr_iload_n S hl 1 rfl dX0_init_113 ?_
    refine zr_i2b S dX0_init_114 (fun cv5 ce6 => ?_)
    have ce6 : cv5 = x := ce6.trans (zB_id (by omega) (by omega))
    refine zt_bast S hw 10 60 9 8 (i := cv2) (z := cv5) (by omega) (by omega) (by omega) (by omega) (show 0 ≤ (cv5 : Int) ∧ (cv5 : Int) ≤ 59 by omega) rfl rfl (zt_s10 g σ1 _ _) dX0_init_115 (fun cσ7 H locs cs8 hw => ?_)
    refine zr_aload S hl 0 rfl dX0_init_116 ?_
    refine zr_dup S rfl dX0_init_117 ?_
    refine zt_geti S hw 11 (by decide) rfl dX0_init_118 (fun cv9 ce10 cr11 => ?_)
    have cr11 : 0 ≤ cv9 ∧ cv9 ≤ 60 := cr11
    have cf12 : cv9 = σ1 11 0 := by rw [ce10, cs8, zs_ne (by decide)]
    refine zr_iconst S dX0_init_121 ?_
    refine zr_iadd S dX0_init_122 (fun cv13 ce14 => ?_)
    refine zt_put S hw 11 (by decide) (zt_s11 g cσ7 cv13) rfl (by decide +kernel) (Nat.le_of_ble_eq_true rfl) (show 0 ≤ (cv13 : Int) ∧ (cv13 : Int) ≤ 60 by omega) dX0_init_123 (fun cσ15 H locs cs16 hw => ?_)
    obtain ⟨cv17, ce18⟩ : ∃ v : Int, v = x + (-1) := ⟨_, rfl⟩
    refine zr_iinc S cv17 ce18 [(1, .int (zI cv17)), (0, .ref (g.2.2 19))] hl 1 rfl (by decide) rfl dX0_init_126 (fun ls hl => ?_)
    refine zr_goto S 101 (by decide) dX0_init_129 ?_
    exact ih cv17 cσ15 H locs ls (by omega) (by omega) (by rw [cs16, cs8, ce6]; exact cIn_step hI hx2 ce3 (by omega) (by omega)) hw (lv_sub hl [1, 0] rfl)
theorem zt_WF0 (k : Nat) : zt_lo k ≤ 0 ∧ 0 ≤ zt_hi k := by
  match k with
  | 0 => exact ⟨by decide, by decide⟩
  | 1 => exact ⟨by decide, by decide⟩
  | 2 => exact ⟨by decide, by decide⟩
  | 3 => exact ⟨by decide, by decide⟩
  | 4 => exact ⟨by decide, by decide⟩
  | 5 => exact ⟨by decide, by decide⟩
  | 6 => exact ⟨by decide, by decide⟩
  | 7 => exact ⟨by decide, by decide⟩
  | 8 => exact ⟨by decide, by decide⟩
  | 9 => exact ⟨by decide, by decide⟩
  | 10 => exact ⟨by decide, by decide⟩
  | 11 => exact ⟨by decide, by decide⟩
  | 12 => exact ⟨by decide, by decide⟩
  | 13 => exact ⟨by decide, by decide⟩
  | 14 => exact ⟨by decide, by decide⟩
  | 15 => exact ⟨by decide, by decide⟩
  | 16 => exact ⟨by decide, by decide⟩
  | 17 => exact ⟨by decide, by decide⟩
  | 18 => exact ⟨by decide, by decide⟩
  | k + 19 => exact ⟨Int.le_refl 0, Int.le_refl 0⟩
theorem zm_WF0 (k : Nat) : zm_lo k ≤ 0 ∧ 0 ≤ zm_hi k := by
  match k with
  | 0 => exact ⟨by decide, by decide⟩
  | 1 => exact ⟨by decide, by decide⟩
  | 2 => exact ⟨by decide, by decide⟩
  | k + 3 => exact ⟨Int.le_refl 0, Int.le_refl 0⟩
set_option maxHeartbeats 4000000 in
theorem met_init (l : Launch) (D : va_G) (h0 sz : Nat) : Met l yX0_init (ws_ yX0_init cX0_init 2 none) ({ frames := 1, cells := 10, slots := 844, locals := 12 }) (va_Pc [.ref h0] (fun U => U.heap.size = sz ∧ va_P D vwCl [(h0, .inr (0, zt_f0))] U.heap ∧ va_K D vwCl [] U ∧ va_D (fun _ => True) [(h0, .inr (0, zt_f0))])) (va_Qv (fun u : zG × zS => zRep u.2 []) (zt_I D h0 (va_A [(h0, .inr (0, zt_f0))] sz)) (va_A [(h0, .inr (0, zt_f0))] sz)) 10 844 (va_A [(h0, .inr (0, zt_f0))] sz) := by
  refine Met.ofW (cc := cX0_init) (maxL := 2) (ret := none) (by decide +kernel) rfl ?_
  intro p e s m args below meth c s₁ B hml hv
  obtain ⟨rfl, hsz, hP, hK, hD0⟩ := hv
  subst hsz
  have hts := atoms_spec (ws := ws_ yX0_init cX0_init 2 none) B.pre
  have hts : ∀ w ∈ lw_all, w.before _ s = true := fun w h => hts w (List.mem_cons_of_mem _ h)
  have hown : s.vm.findClass RX0 = some m.cls := findClass_of_methodNamed B.named
  have hin : meth.name = "<init>" := (name_of_methodNamed B.named B.method).1
  have hr := B.returns
  have hlk := B.notSynchronized
  have S : CallFix p m c cX0_init 2 s _ lw_all RX0 := ⟨B.exec, B.bytes, hml, hown, hts⟩
  have hD := hD0.self (sz := s.heap.size)
  generalize hAe : va_A [(h0, .inr (0, zt_f0))] s.heap.size = A at hD ⊢
  have hA : ∀ q : Nat, s.heap.size ≤ q → A q := fun q h => by rw [← hAe]; exact Or.inr h
  have hS : va_S A s.heap s.heap [] := va_S.rf
  have hl := lv_entry ([.ref h0]) (n := 2) (Nat.le_of_ble_eq_true rfl)
  rw [lg_entry_eq]
  generalize (lg_sl ([.ref h0]) ++ List.replicate (2 - (lg_sl ([.ref h0])).length) Slot.unset).toArray = ls at hl ⊢
  have hl : lv_has ls 2 [(0, .ref h0)] := hl
  refine zr_aload S hl 0 rfl dX0_init_0 ?_
  refine W.objInit S.1 S.2.1 hown (hts _ q34) (hts _ q35) (hts _ q36) rfl (by rw [hml]; exact hl.1) rfl dX0_init_1 (Nat.le_of_ble_eq_true rfl) (Nat.le_of_ble_eq_true rfl) ?_
  refine W.eq (g2 := F0 m 4 ls []) rfl ?_
  have hP : va_P D vwCl [(h0, .inr (0, [.null, .null, .null, .null, .null, .null, .null, .null, .int (zI 0), .int (zI 0), .null, .int (zI 0), .null, .int (zI 0), .int (zI 0), .int (zI 0), .int (zI 0), .int (zI 0), .int (zI 0)]))] s.heap := hP
  have hD : va_D A [(h0, .inr (0, [.null, .null, .null, .null, .null, .null, .null, .null, .int (zI 0), .int (zI 0), .null, .int (zI 0), .null, .int (zI 0), .int (zI 0), .int (zI 0), .int (zI 0), .int (zI 0), .int (zI 0)]))] := hD
  refine zr_aload S hl 0 rfl dX0_init_4 ?_
  refine zr_bipush S (by decide +kernel) dX0_init_5 ?_
  refine va_newa (atype := .byte) (ty := .byte) (N' := 60) (a0 := (60, .inl (fun _ => zI 0))) S.1 S.2.1 (hts _ q95) rfl hK hP hD hS hA (fun cA => by show arrV cA 60 (fun _ => Value.int (zI 0)) = _; rw [← zI_z]; rfl) (by decide +kernel) (by decide +kernel) (by decide) (Nat.le_of_ble_eq_true rfl) (Nat.le_of_ble_eq_true rfl) dX0_init_7 (fun q0 c0 H hK hP hD hS => ?_)
  have hP : va_P D vwCl [(h0, .inr (0, [.null, .null, .null, .null, .null, .null, .null, .null, .int (zI 0), .int (zI 0), .null, .int (zI 0), .null, .int (zI 0), .int (zI 0), .int (zI 0), .int (zI 0), .int (zI 0), .int (zI 0)])), (q0, .inl (c0, 60, .inl (fun _ => zI 0)))] H := hP
  have hD : va_D A [(h0, .inr (0, [.null, .null, .null, .null, .null, .null, .null, .null, .int (zI 0), .int (zI 0), .null, .int (zI 0), .null, .int (zI 0), .int (zI 0), .int (zI 0), .int (zI 0), .int (zI 0), .int (zI 0)])), (q0, .inl (c0, 60, .inl (fun _ => zI 0)))] := hD
  have hK : va_K D vwCl [(c0, .byte)] s := hK
  refine W.widen (k := 1) (n := 60) (by omega) (by omega) ?_
  refine va_putF (D := D) (ci := 0) (v := .ref q0) (ty := .array .byte) (C := RX0) (T := TX0) (N := 19) S.1 S.2.1 S.2.2.2.2 in_X0 tyX0 tyX0_ok nmX0 S.2.2.2.1 hK hP hD hS 0 rfl rfl 0 (by decide) (S.2.2.2.2 _ (zt_lk 0 (by decide))) (fun _ h9 => h9) rfl hin rfl (by decide +kernel) rfl rfl (Nat.le_of_ble_eq_true rfl) dX0_init_9 (fun H locs hP hD hS => ?_)
  have hP : va_P D vwCl [(h0, .inr (0, [.ref q0, .null, .null, .null, .null, .null, .null, .null, .int (zI 0), .int (zI 0), .null, .int (zI 0), .null, .int (zI 0), .int (zI 0), .int (zI 0), .int (zI 0), .int (zI 0), .int (zI 0)])), (q0, .inl (c0, 60, .inl (fun _ => zI 0)))] H := hP
  have hD : va_D A [(h0, .inr (0, [.ref q0, .null, .null, .null, .null, .null, .null, .null, .int (zI 0), .int (zI 0), .null, .int (zI 0), .null, .int (zI 0), .int (zI 0), .int (zI 0), .int (zI 0), .int (zI 0), .int (zI 0)])), (q0, .inl (c0, 60, .inl (fun _ => zI 0)))] := hD
  refine zr_aload S hl 0 rfl dX0_init_12 ?_
  refine zr_bipush S (by decide +kernel) dX0_init_13 ?_
  refine va_newa (atype := .byte) (ty := .byte) (N' := 60) (a0 := (60, .inl (fun _ => zI 0))) S.1 S.2.1 (hts _ q95) rfl hK hP hD hS hA (fun cA => by show arrV cA 60 (fun _ => Value.int (zI 0)) = _; rw [← zI_z]; rfl) (by decide +kernel) (by decide +kernel) (by decide) (Nat.le_of_ble_eq_true rfl) (Nat.le_of_ble_eq_true rfl) dX0_init_15 (fun q1 c1 H hK hP hD hS => ?_)
  have hP : va_P D vwCl [(h0, .inr (0, [.ref q0, .null, .null, .null, .null, .null, .null, .null, .int (zI 0), .int (zI 0), .null, .int (zI 0), .null, .int (zI 0), .int (zI 0), .int (zI 0), .int (zI 0), .int (zI 0), .int (zI 0)])), (q0, .inl (c0, 60, .inl (fun _ => zI 0))), (q1, .inl (c1, 60, .inl (fun _ => zI 0)))] H := hP
  have hD : va_D A [(h0, .inr (0, [.ref q0, .null, .null, .null, .null, .null, .null, .null, .int (zI 0), .int (zI 0), .null, .int (zI 0), .null, .int (zI 0), .int (zI 0), .int (zI 0), .int (zI 0), .int (zI 0), .int (zI 0)])), (q0, .inl (c0, 60, .inl (fun _ => zI 0))), (q1, .inl (c1, 60, .inl (fun _ => zI 0)))] := hD
  have hK : va_K D vwCl [(c0, .byte), (c1, .byte)] s := hK
  refine W.widen (k := 2) (n := 120) (by omega) (by omega) ?_
  refine va_putF (D := D) (ci := 0) (v := .ref q1) (ty := .array .byte) (C := RX0) (T := TX0) (N := 19) S.1 S.2.1 S.2.2.2.2 in_X0 tyX0 tyX0_ok nmX0 S.2.2.2.1 hK hP hD hS 0 rfl rfl 1 (by decide) (S.2.2.2.2 _ (zt_lk 1 (by decide))) (fun _ h9 => h9) rfl hin rfl (by decide +kernel) rfl rfl (Nat.le_of_ble_eq_true rfl) dX0_init_17 (fun H locs hP hD hS => ?_)
  have hP : va_P D vwCl [(h0, .inr (0, [.ref q0, .ref q1, .null, .null, .null, .null, .null, .null, .int (zI 0), .int (zI 0), .null, .int (zI 0), .null, .int (zI 0), .int (zI 0), .int (zI 0), .int (zI 0), .int (zI 0), .int (zI 0)])), (q0, .inl (c0, 60, .inl (fun _ => zI 0))), (q1, .inl (c1, 60, .inl (fun _ => zI 0)))] H := hP
  have hD : va_D A [(h0, .inr (0, [.ref q0, .ref q1, .null, .null, .null, .null, .null, .null, .int (zI 0), .int (zI 0), .null, .int (zI 0), .null, .int (zI 0), .int (zI 0), .int (zI 0), .int (zI 0), .int (zI 0), .int (zI 0)])), (q0, .inl (c0, 60, .inl (fun _ => zI 0))), (q1, .inl (c1, 60, .inl (fun _ => zI 0)))] := hD
  refine zr_aload S hl 0 rfl dX0_init_20 ?_
  refine zr_bipush S (by decide +kernel) dX0_init_21 ?_
  refine va_newa (atype := .byte) (ty := .byte) (N' := 60) (a0 := (60, .inl (fun _ => zI 0))) S.1 S.2.1 (hts _ q95) rfl hK hP hD hS hA (fun cA => by show arrV cA 60 (fun _ => Value.int (zI 0)) = _; rw [← zI_z]; rfl) (by decide +kernel) (by decide +kernel) (by decide) (Nat.le_of_ble_eq_true rfl) (Nat.le_of_ble_eq_true rfl) dX0_init_23 (fun q2 c2 H hK hP hD hS => ?_)
  have hP : va_P D vwCl [(h0, .inr (0, [.ref q0, .ref q1, .null, .null, .null, .null, .null, .null, .int (zI 0), .int (zI 0), .null, .int (zI 0), .null, .int (zI 0), .int (zI 0), .int (zI 0), .int (zI 0), .int (zI 0), .int (zI 0)])), (q0, .inl (c0, 60, .inl (fun _ => zI 0))), (q1, .inl (c1, 60, .inl (fun _ => zI 0))), (q2, .inl (c2, 60, .inl (fun _ => zI 0)))] H := hP
  have hD : va_D A [(h0, .inr (0, [.ref q0, .ref q1, .null, .null, .null, .null, .null, .null, .int (zI 0), .int (zI 0), .null, .int (zI 0), .null, .int (zI 0), .int (zI 0), .int (zI 0), .int (zI 0), .int (zI 0), .int (zI 0)])), (q0, .inl (c0, 60, .inl (fun _ => zI 0))), (q1, .inl (c1, 60, .inl (fun _ => zI 0))), (q2, .inl (c2, 60, .inl (fun _ => zI 0)))] := hD
  have hK : va_K D vwCl [(c0, .byte), (c1, .byte), (c2, .byte)] s := hK
  refine W.widen (k := 3) (n := 180) (by omega) (by omega) ?_
  refine va_putF (D := D) (ci := 0) (v := .ref q2) (ty := .array .byte) (C := RX0) (T := TX0) (N := 19) S.1 S.2.1 S.2.2.2.2 in_X0 tyX0 tyX0_ok nmX0 S.2.2.2.1 hK hP hD hS 0 rfl rfl 2 (by decide) (S.2.2.2.2 _ (zt_lk 2 (by decide))) (fun _ h9 => h9) rfl hin rfl (by decide +kernel) rfl rfl (Nat.le_of_ble_eq_true rfl) dX0_init_25 (fun H locs hP hD hS => ?_)
  have hP : va_P D vwCl [(h0, .inr (0, [.ref q0, .ref q1, .ref q2, .null, .null, .null, .null, .null, .int (zI 0), .int (zI 0), .null, .int (zI 0), .null, .int (zI 0), .int (zI 0), .int (zI 0), .int (zI 0), .int (zI 0), .int (zI 0)])), (q0, .inl (c0, 60, .inl (fun _ => zI 0))), (q1, .inl (c1, 60, .inl (fun _ => zI 0))), (q2, .inl (c2, 60, .inl (fun _ => zI 0)))] H := hP
  have hD : va_D A [(h0, .inr (0, [.ref q0, .ref q1, .ref q2, .null, .null, .null, .null, .null, .int (zI 0), .int (zI 0), .null, .int (zI 0), .null, .int (zI 0), .int (zI 0), .int (zI 0), .int (zI 0), .int (zI 0), .int (zI 0)])), (q0, .inl (c0, 60, .inl (fun _ => zI 0))), (q1, .inl (c1, 60, .inl (fun _ => zI 0))), (q2, .inl (c2, 60, .inl (fun _ => zI 0)))] := hD
  refine zr_aload S hl 0 rfl dX0_init_28 ?_
  refine zr_bipush S (by decide +kernel) dX0_init_29 ?_
  refine va_newa (atype := .byte) (ty := .byte) (N' := 60) (a0 := (60, .inl (fun _ => zI 0))) S.1 S.2.1 (hts _ q95) rfl hK hP hD hS hA (fun cA => by show arrV cA 60 (fun _ => Value.int (zI 0)) = _; rw [← zI_z]; rfl) (by decide +kernel) (by decide +kernel) (by decide) (Nat.le_of_ble_eq_true rfl) (Nat.le_of_ble_eq_true rfl) dX0_init_31 (fun q3 c3 H hK hP hD hS => ?_)
  have hP : va_P D vwCl [(h0, .inr (0, [.ref q0, .ref q1, .ref q2, .null, .null, .null, .null, .null, .int (zI 0), .int (zI 0), .null, .int (zI 0), .null, .int (zI 0), .int (zI 0), .int (zI 0), .int (zI 0), .int (zI 0), .int (zI 0)])), (q0, .inl (c0, 60, .inl (fun _ => zI 0))), (q1, .inl (c1, 60, .inl (fun _ => zI 0))), (q2, .inl (c2, 60, .inl (fun _ => zI 0))), (q3, .inl (c3, 60, .inl (fun _ => zI 0)))] H := hP
  have hD : va_D A [(h0, .inr (0, [.ref q0, .ref q1, .ref q2, .null, .null, .null, .null, .null, .int (zI 0), .int (zI 0), .null, .int (zI 0), .null, .int (zI 0), .int (zI 0), .int (zI 0), .int (zI 0), .int (zI 0), .int (zI 0)])), (q0, .inl (c0, 60, .inl (fun _ => zI 0))), (q1, .inl (c1, 60, .inl (fun _ => zI 0))), (q2, .inl (c2, 60, .inl (fun _ => zI 0))), (q3, .inl (c3, 60, .inl (fun _ => zI 0)))] := hD
  have hK : va_K D vwCl [(c0, .byte), (c1, .byte), (c2, .byte), (c3, .byte)] s := hK
  refine W.widen (k := 4) (n := 240) (by omega) (by omega) ?_
  refine va_putF (D := D) (ci := 0) (v := .ref q3) (ty := .array .byte) (C := RX0) (T := TX0) (N := 19) S.1 S.2.1 S.2.2.2.2 in_X0 tyX0 tyX0_ok nmX0 S.2.2.2.1 hK hP hD hS 0 rfl rfl 3 (by decide) (S.2.2.2.2 _ (zt_lk 3 (by decide))) (fun _ h9 => h9) rfl hin rfl (by decide +kernel) rfl rfl (Nat.le_of_ble_eq_true rfl) dX0_init_33 (fun H locs hP hD hS => ?_)
  have hP : va_P D vwCl [(h0, .inr (0, [.ref q0, .ref q1, .ref q2, .ref q3, .null, .null, .null, .null, .int (zI 0), .int (zI 0), .null, .int (zI 0), .null, .int (zI 0), .int (zI 0), .int (zI 0), .int (zI 0), .int (zI 0), .int (zI 0)])), (q0, .inl (c0, 60, .inl (fun _ => zI 0))), (q1, .inl (c1, 60, .inl (fun _ => zI 0))), (q2, .inl (c2, 60, .inl (fun _ => zI 0))), (q3, .inl (c3, 60, .inl (fun _ => zI 0)))] H := hP
  have hD : va_D A [(h0, .inr (0, [.ref q0, .ref q1, .ref q2, .ref q3, .null, .null, .null, .null, .int (zI 0), .int (zI 0), .null, .int (zI 0), .null, .int (zI 0), .int (zI 0), .int (zI 0), .int (zI 0), .int (zI 0), .int (zI 0)])), (q0, .inl (c0, 60, .inl (fun _ => zI 0))), (q1, .inl (c1, 60, .inl (fun _ => zI 0))), (q2, .inl (c2, 60, .inl (fun _ => zI 0))), (q3, .inl (c3, 60, .inl (fun _ => zI 0)))] := hD
  refine zr_aload S hl 0 rfl dX0_init_36 ?_
  refine zr_bipush S (by decide +kernel) dX0_init_37 ?_
  refine va_newa (atype := .boolean) (ty := .boolean) (N' := 60) (a0 := (60, .inl (fun _ => zI 0))) S.1 S.2.1 (hts _ q96) rfl hK hP hD hS hA (fun cA => by show arrV cA 60 (fun _ => Value.int (zI 0)) = _; rw [← zI_z]; rfl) (by decide +kernel) (by decide +kernel) (by decide) (Nat.le_of_ble_eq_true rfl) (Nat.le_of_ble_eq_true rfl) dX0_init_39 (fun q4 c4 H hK hP hD hS => ?_)
  have hP : va_P D vwCl [(h0, .inr (0, [.ref q0, .ref q1, .ref q2, .ref q3, .null, .null, .null, .null, .int (zI 0), .int (zI 0), .null, .int (zI 0), .null, .int (zI 0), .int (zI 0), .int (zI 0), .int (zI 0), .int (zI 0), .int (zI 0)])), (q0, .inl (c0, 60, .inl (fun _ => zI 0))), (q1, .inl (c1, 60, .inl (fun _ => zI 0))), (q2, .inl (c2, 60, .inl (fun _ => zI 0))), (q3, .inl (c3, 60, .inl (fun _ => zI 0))), (q4, .inl (c4, 60, .inl (fun _ => zI 0)))] H := hP
  have hD : va_D A [(h0, .inr (0, [.ref q0, .ref q1, .ref q2, .ref q3, .null, .null, .null, .null, .int (zI 0), .int (zI 0), .null, .int (zI 0), .null, .int (zI 0), .int (zI 0), .int (zI 0), .int (zI 0), .int (zI 0), .int (zI 0)])), (q0, .inl (c0, 60, .inl (fun _ => zI 0))), (q1, .inl (c1, 60, .inl (fun _ => zI 0))), (q2, .inl (c2, 60, .inl (fun _ => zI 0))), (q3, .inl (c3, 60, .inl (fun _ => zI 0))), (q4, .inl (c4, 60, .inl (fun _ => zI 0)))] := hD
  have hK : va_K D vwCl [(c0, .byte), (c1, .byte), (c2, .byte), (c3, .byte), (c4, .boolean)] s := hK
  refine W.widen (k := 5) (n := 300) (by omega) (by omega) ?_
  refine va_putF (D := D) (ci := 0) (v := .ref q4) (ty := .array .boolean) (C := RX0) (T := TX0) (N := 19) S.1 S.2.1 S.2.2.2.2 in_X0 tyX0 tyX0_ok nmX0 S.2.2.2.1 hK hP hD hS 0 rfl rfl 4 (by decide) (S.2.2.2.2 _ (zt_lk 4 (by decide))) (fun _ h9 => h9) rfl hin rfl (by decide +kernel) rfl rfl (Nat.le_of_ble_eq_true rfl) dX0_init_41 (fun H locs hP hD hS => ?_)
  have hP : va_P D vwCl [(h0, .inr (0, [.ref q0, .ref q1, .ref q2, .ref q3, .ref q4, .null, .null, .null, .int (zI 0), .int (zI 0), .null, .int (zI 0), .null, .int (zI 0), .int (zI 0), .int (zI 0), .int (zI 0), .int (zI 0), .int (zI 0)])), (q0, .inl (c0, 60, .inl (fun _ => zI 0))), (q1, .inl (c1, 60, .inl (fun _ => zI 0))), (q2, .inl (c2, 60, .inl (fun _ => zI 0))), (q3, .inl (c3, 60, .inl (fun _ => zI 0))), (q4, .inl (c4, 60, .inl (fun _ => zI 0)))] H := hP
  have hD : va_D A [(h0, .inr (0, [.ref q0, .ref q1, .ref q2, .ref q3, .ref q4, .null, .null, .null, .int (zI 0), .int (zI 0), .null, .int (zI 0), .null, .int (zI 0), .int (zI 0), .int (zI 0), .int (zI 0), .int (zI 0), .int (zI 0)])), (q0, .inl (c0, 60, .inl (fun _ => zI 0))), (q1, .inl (c1, 60, .inl (fun _ => zI 0))), (q2, .inl (c2, 60, .inl (fun _ => zI 0))), (q3, .inl (c3, 60, .inl (fun _ => zI 0))), (q4, .inl (c4, 60, .inl (fun _ => zI 0)))] := hD
  refine zr_aload S hl 0 rfl dX0_init_44 ?_
  refine zr_bipush S (by decide +kernel) dX0_init_45 ?_
  refine va_newa (atype := .int) (ty := .int) (N' := 60) (a0 := (60, .inl (fun _ => zI 0))) S.1 S.2.1 (hts _ q97) rfl hK hP hD hS hA (fun cA => by show arrV cA 60 (fun _ => Value.int (zI 0)) = _; rw [← zI_z]; rfl) (by decide +kernel) (by decide +kernel) (by decide) (Nat.le_of_ble_eq_true rfl) (Nat.le_of_ble_eq_true rfl) dX0_init_47 (fun q5 c5 H hK hP hD hS => ?_)
  have hP : va_P D vwCl [(h0, .inr (0, [.ref q0, .ref q1, .ref q2, .ref q3, .ref q4, .null, .null, .null, .int (zI 0), .int (zI 0), .null, .int (zI 0), .null, .int (zI 0), .int (zI 0), .int (zI 0), .int (zI 0), .int (zI 0), .int (zI 0)])), (q0, .inl (c0, 60, .inl (fun _ => zI 0))), (q1, .inl (c1, 60, .inl (fun _ => zI 0))), (q2, .inl (c2, 60, .inl (fun _ => zI 0))), (q3, .inl (c3, 60, .inl (fun _ => zI 0))), (q4, .inl (c4, 60, .inl (fun _ => zI 0))), (q5, .inl (c5, 60, .inl (fun _ => zI 0)))] H := hP
  have hD : va_D A [(h0, .inr (0, [.ref q0, .ref q1, .ref q2, .ref q3, .ref q4, .null, .null, .null, .int (zI 0), .int (zI 0), .null, .int (zI 0), .null, .int (zI 0), .int (zI 0), .int (zI 0), .int (zI 0), .int (zI 0), .int (zI 0)])), (q0, .inl (c0, 60, .inl (fun _ => zI 0))), (q1, .inl (c1, 60, .inl (fun _ => zI 0))), (q2, .inl (c2, 60, .inl (fun _ => zI 0))), (q3, .inl (c3, 60, .inl (fun _ => zI 0))), (q4, .inl (c4, 60, .inl (fun _ => zI 0))), (q5, .inl (c5, 60, .inl (fun _ => zI 0)))] := hD
  have hK : va_K D vwCl [(c0, .byte), (c1, .byte), (c2, .byte), (c3, .byte), (c4, .boolean), (c5, .int)] s := hK
  refine W.widen (k := 6) (n := 360) (by omega) (by omega) ?_
  refine va_putF (D := D) (ci := 0) (v := .ref q5) (ty := .array .int) (C := RX0) (T := TX0) (N := 19) S.1 S.2.1 S.2.2.2.2 in_X0 tyX0 tyX0_ok nmX0 S.2.2.2.1 hK hP hD hS 0 rfl rfl 5 (by decide) (S.2.2.2.2 _ (zt_lk 5 (by decide))) (fun _ h9 => h9) rfl hin rfl (by decide +kernel) rfl rfl (Nat.le_of_ble_eq_true rfl) dX0_init_49 (fun H locs hP hD hS => ?_)
  have hP : va_P D vwCl [(h0, .inr (0, [.ref q0, .ref q1, .ref q2, .ref q3, .ref q4, .ref q5, .null, .null, .int (zI 0), .int (zI 0), .null, .int (zI 0), .null, .int (zI 0), .int (zI 0), .int (zI 0), .int (zI 0), .int (zI 0), .int (zI 0)])), (q0, .inl (c0, 60, .inl (fun _ => zI 0))), (q1, .inl (c1, 60, .inl (fun _ => zI 0))), (q2, .inl (c2, 60, .inl (fun _ => zI 0))), (q3, .inl (c3, 60, .inl (fun _ => zI 0))), (q4, .inl (c4, 60, .inl (fun _ => zI 0))), (q5, .inl (c5, 60, .inl (fun _ => zI 0)))] H := hP
  have hD : va_D A [(h0, .inr (0, [.ref q0, .ref q1, .ref q2, .ref q3, .ref q4, .ref q5, .null, .null, .int (zI 0), .int (zI 0), .null, .int (zI 0), .null, .int (zI 0), .int (zI 0), .int (zI 0), .int (zI 0), .int (zI 0), .int (zI 0)])), (q0, .inl (c0, 60, .inl (fun _ => zI 0))), (q1, .inl (c1, 60, .inl (fun _ => zI 0))), (q2, .inl (c2, 60, .inl (fun _ => zI 0))), (q3, .inl (c3, 60, .inl (fun _ => zI 0))), (q4, .inl (c4, 60, .inl (fun _ => zI 0))), (q5, .inl (c5, 60, .inl (fun _ => zI 0)))] := hD
  refine zr_aload S hl 0 rfl dX0_init_52 ?_
  refine zr_sipush S (by decide +kernel) dX0_init_53 ?_
  refine va_newa (atype := .byte) (ty := .byte) (N' := 180) (a0 := (180, .inl (fun _ => zI 0))) S.1 S.2.1 (hts _ q95) rfl hK hP hD hS hA (fun cA => by show arrV cA 180 (fun _ => Value.int (zI 0)) = _; rw [← zI_z]; rfl) (by decide +kernel) (by decide +kernel) (by decide) (Nat.le_of_ble_eq_true rfl) (Nat.le_of_ble_eq_true rfl) dX0_init_56 (fun q6 c6 H hK hP hD hS => ?_)
  have hP : va_P D vwCl [(h0, .inr (0, [.ref q0, .ref q1, .ref q2, .ref q3, .ref q4, .ref q5, .null, .null, .int (zI 0), .int (zI 0), .null, .int (zI 0), .null, .int (zI 0), .int (zI 0), .int (zI 0), .int (zI 0), .int (zI 0), .int (zI 0)])), (q0, .inl (c0, 60, .inl (fun _ => zI 0))), (q1, .inl (c1, 60, .inl (fun _ => zI 0))), (q2, .inl (c2, 60, .inl (fun _ => zI 0))), (q3, .inl (c3, 60, .inl (fun _ => zI 0))), (q4, .inl (c4, 60, .inl (fun _ => zI 0))), (q5, .inl (c5, 60, .inl (fun _ => zI 0))), (q6, .inl (c6, 180, .inl (fun _ => zI 0)))] H := hP
  have hD : va_D A [(h0, .inr (0, [.ref q0, .ref q1, .ref q2, .ref q3, .ref q4, .ref q5, .null, .null, .int (zI 0), .int (zI 0), .null, .int (zI 0), .null, .int (zI 0), .int (zI 0), .int (zI 0), .int (zI 0), .int (zI 0), .int (zI 0)])), (q0, .inl (c0, 60, .inl (fun _ => zI 0))), (q1, .inl (c1, 60, .inl (fun _ => zI 0))), (q2, .inl (c2, 60, .inl (fun _ => zI 0))), (q3, .inl (c3, 60, .inl (fun _ => zI 0))), (q4, .inl (c4, 60, .inl (fun _ => zI 0))), (q5, .inl (c5, 60, .inl (fun _ => zI 0))), (q6, .inl (c6, 180, .inl (fun _ => zI 0)))] := hD
  have hK : va_K D vwCl [(c0, .byte), (c1, .byte), (c2, .byte), (c3, .byte), (c4, .boolean), (c5, .int), (c6, .byte)] s := hK
  refine W.widen (k := 7) (n := 540) (by omega) (by omega) ?_
  refine va_putF (D := D) (ci := 0) (v := .ref q6) (ty := .array .byte) (C := RX0) (T := TX0) (N := 19) S.1 S.2.1 S.2.2.2.2 in_X0 tyX0 tyX0_ok nmX0 S.2.2.2.1 hK hP hD hS 0 rfl rfl 6 (by decide) (S.2.2.2.2 _ (zt_lk 6 (by decide))) (fun _ h9 => h9) rfl hin rfl (by decide +kernel) rfl rfl (Nat.le_of_ble_eq_true rfl) dX0_init_58 (fun H locs hP hD hS => ?_)
  have hP : va_P D vwCl [(h0, .inr (0, [.ref q0, .ref q1, .ref q2, .ref q3, .ref q4, .ref q5, .ref q6, .null, .int (zI 0), .int (zI 0), .null, .int (zI 0), .null, .int (zI 0), .int (zI 0), .int (zI 0), .int (zI 0), .int (zI 0), .int (zI 0)])), (q0, .inl (c0, 60, .inl (fun _ => zI 0))), (q1, .inl (c1, 60, .inl (fun _ => zI 0))), (q2, .inl (c2, 60, .inl (fun _ => zI 0))), (q3, .inl (c3, 60, .inl (fun _ => zI 0))), (q4, .inl (c4, 60, .inl (fun _ => zI 0))), (q5, .inl (c5, 60, .inl (fun _ => zI 0))), (q6, .inl (c6, 180, .inl (fun _ => zI 0)))] H := hP
  have hD : va_D A [(h0, .inr (0, [.ref q0, .ref q1, .ref q2, .ref q3, .ref q4, .ref q5, .ref q6, .null, .int (zI 0), .int (zI 0), .null, .int (zI 0), .null, .int (zI 0), .int (zI 0), .int (zI 0), .int (zI 0), .int (zI 0), .int (zI 0)])), (q0, .inl (c0, 60, .inl (fun _ => zI 0))), (q1, .inl (c1, 60, .inl (fun _ => zI 0))), (q2, .inl (c2, 60, .inl (fun _ => zI 0))), (q3, .inl (c3, 60, .inl (fun _ => zI 0))), (q4, .inl (c4, 60, .inl (fun _ => zI 0))), (q5, .inl (c5, 60, .inl (fun _ => zI 0))), (q6, .inl (c6, 180, .inl (fun _ => zI 0)))] := hD
  refine zr_aload S hl 0 rfl dX0_init_61 ?_
  refine zr_sipush S (by decide +kernel) dX0_init_62 ?_
  refine va_newa (atype := .byte) (ty := .byte) (N' := 180) (a0 := (180, .inl (fun _ => zI 0))) S.1 S.2.1 (hts _ q95) rfl hK hP hD hS hA (fun cA => by show arrV cA 180 (fun _ => Value.int (zI 0)) = _; rw [← zI_z]; rfl) (by decide +kernel) (by decide +kernel) (by decide) (Nat.le_of_ble_eq_true rfl) (Nat.le_of_ble_eq_true rfl) dX0_init_65 (fun q7 c7 H hK hP hD hS => ?_)
  have hP : va_P D vwCl [(h0, .inr (0, [.ref q0, .ref q1, .ref q2, .ref q3, .ref q4, .ref q5, .ref q6, .null, .int (zI 0), .int (zI 0), .null, .int (zI 0), .null, .int (zI 0), .int (zI 0), .int (zI 0), .int (zI 0), .int (zI 0), .int (zI 0)])), (q0, .inl (c0, 60, .inl (fun _ => zI 0))), (q1, .inl (c1, 60, .inl (fun _ => zI 0))), (q2, .inl (c2, 60, .inl (fun _ => zI 0))), (q3, .inl (c3, 60, .inl (fun _ => zI 0))), (q4, .inl (c4, 60, .inl (fun _ => zI 0))), (q5, .inl (c5, 60, .inl (fun _ => zI 0))), (q6, .inl (c6, 180, .inl (fun _ => zI 0))), (q7, .inl (c7, 180, .inl (fun _ => zI 0)))] H := hP
  have hD : va_D A [(h0, .inr (0, [.ref q0, .ref q1, .ref q2, .ref q3, .ref q4, .ref q5, .ref q6, .null, .int (zI 0), .int (zI 0), .null, .int (zI 0), .null, .int (zI 0), .int (zI 0), .int (zI 0), .int (zI 0), .int (zI 0), .int (zI 0)])), (q0, .inl (c0, 60, .inl (fun _ => zI 0))), (q1, .inl (c1, 60, .inl (fun _ => zI 0))), (q2, .inl (c2, 60, .inl (fun _ => zI 0))), (q3, .inl (c3, 60, .inl (fun _ => zI 0))), (q4, .inl (c4, 60, .inl (fun _ => zI 0))), (q5, .inl (c5, 60, .inl (fun _ => zI 0))), (q6, .inl (c6, 180, .inl (fun _ => zI 0))), (q7, .inl (c7, 180, .inl (fun _ => zI 0)))] := hD
  have hK : va_K D vwCl [(c0, .byte), (c1, .byte), (c2, .byte), (c3, .byte), (c4, .boolean), (c5, .int), (c6, .byte), (c7, .byte)] s := hK
  refine W.widen (k := 8) (n := 720) (by omega) (by omega) ?_
  refine va_putF (D := D) (ci := 0) (v := .ref q7) (ty := .array .byte) (C := RX0) (T := TX0) (N := 19) S.1 S.2.1 S.2.2.2.2 in_X0 tyX0 tyX0_ok nmX0 S.2.2.2.1 hK hP hD hS 0 rfl rfl 7 (by decide) (S.2.2.2.2 _ (zt_lk 7 (by decide))) (fun _ h9 => h9) rfl hin rfl (by decide +kernel) rfl rfl (Nat.le_of_ble_eq_true rfl) dX0_init_67 (fun H locs hP hD hS => ?_)
  have hP : va_P D vwCl [(h0, .inr (0, [.ref q0, .ref q1, .ref q2, .ref q3, .ref q4, .ref q5, .ref q6, .ref q7, .int (zI 0), .int (zI 0), .null, .int (zI 0), .null, .int (zI 0), .int (zI 0), .int (zI 0), .int (zI 0), .int (zI 0), .int (zI 0)])), (q0, .inl (c0, 60, .inl (fun _ => zI 0))), (q1, .inl (c1, 60, .inl (fun _ => zI 0))), (q2, .inl (c2, 60, .inl (fun _ => zI 0))), (q3, .inl (c3, 60, .inl (fun _ => zI 0))), (q4, .inl (c4, 60, .inl (fun _ => zI 0))), (q5, .inl (c5, 60, .inl (fun _ => zI 0))), (q6, .inl (c6, 180, .inl (fun _ => zI 0))), (q7, .inl (c7, 180, .inl (fun _ => zI 0)))] H := hP
  have hD : va_D A [(h0, .inr (0, [.ref q0, .ref q1, .ref q2, .ref q3, .ref q4, .ref q5, .ref q6, .ref q7, .int (zI 0), .int (zI 0), .null, .int (zI 0), .null, .int (zI 0), .int (zI 0), .int (zI 0), .int (zI 0), .int (zI 0), .int (zI 0)])), (q0, .inl (c0, 60, .inl (fun _ => zI 0))), (q1, .inl (c1, 60, .inl (fun _ => zI 0))), (q2, .inl (c2, 60, .inl (fun _ => zI 0))), (q3, .inl (c3, 60, .inl (fun _ => zI 0))), (q4, .inl (c4, 60, .inl (fun _ => zI 0))), (q5, .inl (c5, 60, .inl (fun _ => zI 0))), (q6, .inl (c6, 180, .inl (fun _ => zI 0))), (q7, .inl (c7, 180, .inl (fun _ => zI 0)))] := hD
  refine zr_aload S hl 0 rfl dX0_init_70 ?_
  refine zr_bipush S (by decide +kernel) dX0_init_71 ?_
  refine va_newa (atype := .byte) (ty := .byte) (N' := 60) (a0 := (60, .inl (fun _ => zI 0))) S.1 S.2.1 (hts _ q95) rfl hK hP hD hS hA (fun cA => by show arrV cA 60 (fun _ => Value.int (zI 0)) = _; rw [← zI_z]; rfl) (by decide +kernel) (by decide +kernel) (by decide) (Nat.le_of_ble_eq_true rfl) (Nat.le_of_ble_eq_true rfl) dX0_init_73 (fun q10 c10 H hK hP hD hS => ?_)
  have hP : va_P D vwCl [(h0, .inr (0, [.ref q0, .ref q1, .ref q2, .ref q3, .ref q4, .ref q5, .ref q6, .ref q7, .int (zI 0), .int (zI 0), .null, .int (zI 0), .null, .int (zI 0), .int (zI 0), .int (zI 0), .int (zI 0), .int (zI 0), .int (zI 0)])), (q0, .inl (c0, 60, .inl (fun _ => zI 0))), (q1, .inl (c1, 60, .inl (fun _ => zI 0))), (q2, .inl (c2, 60, .inl (fun _ => zI 0))), (q3, .inl (c3, 60, .inl (fun _ => zI 0))), (q4, .inl (c4, 60, .inl (fun _ => zI 0))), (q5, .inl (c5, 60, .inl (fun _ => zI 0))), (q6, .inl (c6, 180, .inl (fun _ => zI 0))), (q7, .inl (c7, 180, .inl (fun _ => zI 0))), (q10, .inl (c10, 60, .inl (fun _ => zI 0)))] H := hP
  have hD : va_D A [(h0, .inr (0, [.ref q0, .ref q1, .ref q2, .ref q3, .ref q4, .ref q5, .ref q6, .ref q7, .int (zI 0), .int (zI 0), .null, .int (zI 0), .null, .int (zI 0), .int (zI 0), .int (zI 0), .int (zI 0), .int (zI 0), .int (zI 0)])), (q0, .inl (c0, 60, .inl (fun _ => zI 0))), (q1, .inl (c1, 60, .inl (fun _ => zI 0))), (q2, .inl (c2, 60, .inl (fun _ => zI 0))), (q3, .inl (c3, 60, .inl (fun _ => zI 0))), (q4, .inl (c4, 60, .inl (fun _ => zI 0))), (q5, .inl (c5, 60, .inl (fun _ => zI 0))), (q6, .inl (c6, 180, .inl (fun _ => zI 0))), (q7, .inl (c7, 180, .inl (fun _ => zI 0))), (q10, .inl (c10, 60, .inl (fun _ => zI 0)))] := hD
  have hK : va_K D vwCl [(c0, .byte), (c1, .byte), (c2, .byte), (c3, .byte), (c4, .boolean), (c5, .int), (c6, .byte), (c7, .byte), (c10, .byte)] s := hK
  refine W.widen (k := 9) (n := 780) (by omega) (by omega) ?_
  refine va_putF (D := D) (ci := 0) (v := .ref q10) (ty := .array .byte) (C := RX0) (T := TX0) (N := 19) S.1 S.2.1 S.2.2.2.2 in_X0 tyX0 tyX0_ok nmX0 S.2.2.2.1 hK hP hD hS 0 rfl rfl 10 (by decide) (S.2.2.2.2 _ (zt_lk 10 (by decide))) (fun _ h9 => h9) rfl hin rfl (by decide +kernel) rfl rfl (Nat.le_of_ble_eq_true rfl) dX0_init_75 (fun H locs hP hD hS => ?_)
  have hP : va_P D vwCl [(h0, .inr (0, [.ref q0, .ref q1, .ref q2, .ref q3, .ref q4, .ref q5, .ref q6, .ref q7, .int (zI 0), .int (zI 0), .ref q10, .int (zI 0), .null, .int (zI 0), .int (zI 0), .int (zI 0), .int (zI 0), .int (zI 0), .int (zI 0)])), (q0, .inl (c0, 60, .inl (fun _ => zI 0))), (q1, .inl (c1, 60, .inl (fun _ => zI 0))), (q2, .inl (c2, 60, .inl (fun _ => zI 0))), (q3, .inl (c3, 60, .inl (fun _ => zI 0))), (q4, .inl (c4, 60, .inl (fun _ => zI 0))), (q5, .inl (c5, 60, .inl (fun _ => zI 0))), (q6, .inl (c6, 180, .inl (fun _ => zI 0))), (q7, .inl (c7, 180, .inl (fun _ => zI 0))), (q10, .inl (c10, 60, .inl (fun _ => zI 0)))] H := hP
  have hD : va_D A [(h0, .inr (0, [.ref q0, .ref q1, .ref q2, .ref q3, .ref q4, .ref q5, .ref q6, .ref q7, .int (zI 0), .int (zI 0), .ref q10, .int (zI 0), .null, .int (zI 0), .int (zI 0), .int (zI 0), .int (zI 0), .int (zI 0), .int (zI 0)])), (q0, .inl (c0, 60, .inl (fun _ => zI 0))), (q1, .inl (c1, 60, .inl (fun _ => zI 0))), (q2, .inl (c2, 60, .inl (fun _ => zI 0))), (q3, .inl (c3, 60, .inl (fun _ => zI 0))), (q4, .inl (c4, 60, .inl (fun _ => zI 0))), (q5, .inl (c5, 60, .inl (fun _ => zI 0))), (q6, .inl (c6, 180, .inl (fun _ => zI 0))), (q7, .inl (c7, 180, .inl (fun _ => zI 0))), (q10, .inl (c10, 60, .inl (fun _ => zI 0)))] := hD
  refine zr_aload S hl 0 rfl dX0_init_78 ?_
  refine zr_bipush S (by decide +kernel) dX0_init_79 ?_
  refine va_newa (atype := .byte) (ty := .byte) (N' := 64) (a0 := (64, .inl (fun _ => zI 0))) S.1 S.2.1 (hts _ q95) rfl hK hP hD hS hA (fun cA => by show arrV cA 64 (fun _ => Value.int (zI 0)) = _; rw [← zI_z]; rfl) (by decide +kernel) (by decide +kernel) (by decide) (Nat.le_of_ble_eq_true rfl) (Nat.le_of_ble_eq_true rfl) dX0_init_81 (fun q12 c12 H hK hP hD hS => ?_)
  have hP : va_P D vwCl [(h0, .inr (0, [.ref q0, .ref q1, .ref q2, .ref q3, .ref q4, .ref q5, .ref q6, .ref q7, .int (zI 0), .int (zI 0), .ref q10, .int (zI 0), .null, .int (zI 0), .int (zI 0), .int (zI 0), .int (zI 0), .int (zI 0), .int (zI 0)])), (q0, .inl (c0, 60, .inl (fun _ => zI 0))), (q1, .inl (c1, 60, .inl (fun _ => zI 0))), (q2, .inl (c2, 60, .inl (fun _ => zI 0))), (q3, .inl (c3, 60, .inl (fun _ => zI 0))), (q4, .inl (c4, 60, .inl (fun _ => zI 0))), (q5, .inl (c5, 60, .inl (fun _ => zI 0))), (q6, .inl (c6, 180, .inl (fun _ => zI 0))), (q7, .inl (c7, 180, .inl (fun _ => zI 0))), (q10, .inl (c10, 60, .inl (fun _ => zI 0))), (q12, .inl (c12, 64, .inl (fun _ => zI 0)))] H := hP
  have hD : va_D A [(h0, .inr (0, [.ref q0, .ref q1, .ref q2, .ref q3, .ref q4, .ref q5, .ref q6, .ref q7, .int (zI 0), .int (zI 0), .ref q10, .int (zI 0), .null, .int (zI 0), .int (zI 0), .int (zI 0), .int (zI 0), .int (zI 0), .int (zI 0)])), (q0, .inl (c0, 60, .inl (fun _ => zI 0))), (q1, .inl (c1, 60, .inl (fun _ => zI 0))), (q2, .inl (c2, 60, .inl (fun _ => zI 0))), (q3, .inl (c3, 60, .inl (fun _ => zI 0))), (q4, .inl (c4, 60, .inl (fun _ => zI 0))), (q5, .inl (c5, 60, .inl (fun _ => zI 0))), (q6, .inl (c6, 180, .inl (fun _ => zI 0))), (q7, .inl (c7, 180, .inl (fun _ => zI 0))), (q10, .inl (c10, 60, .inl (fun _ => zI 0))), (q12, .inl (c12, 64, .inl (fun _ => zI 0)))] := hD
  have hK : va_K D vwCl [(c0, .byte), (c1, .byte), (c2, .byte), (c3, .byte), (c4, .boolean), (c5, .int), (c6, .byte), (c7, .byte), (c10, .byte), (c12, .byte)] s := hK
  refine W.widen (k := 10) (n := 844) (by omega) (by omega) ?_
  refine va_putF (D := D) (ci := 0) (v := .ref q12) (ty := .array .byte) (C := RX0) (T := TX0) (N := 19) S.1 S.2.1 S.2.2.2.2 in_X0 tyX0 tyX0_ok nmX0 S.2.2.2.1 hK hP hD hS 0 rfl rfl 12 (by decide) (S.2.2.2.2 _ (zt_lk 12 (by decide))) (fun _ h9 => h9) rfl hin rfl (by decide +kernel) rfl rfl (Nat.le_of_ble_eq_true rfl) dX0_init_83 (fun H locs hP hD hS => ?_)
  have hP : va_P D vwCl [(h0, .inr (0, [.ref q0, .ref q1, .ref q2, .ref q3, .ref q4, .ref q5, .ref q6, .ref q7, .int (zI 0), .int (zI 0), .ref q10, .int (zI 0), .ref q12, .int (zI 0), .int (zI 0), .int (zI 0), .int (zI 0), .int (zI 0), .int (zI 0)])), (q0, .inl (c0, 60, .inl (fun _ => zI 0))), (q1, .inl (c1, 60, .inl (fun _ => zI 0))), (q2, .inl (c2, 60, .inl (fun _ => zI 0))), (q3, .inl (c3, 60, .inl (fun _ => zI 0))), (q4, .inl (c4, 60, .inl (fun _ => zI 0))), (q5, .inl (c5, 60, .inl (fun _ => zI 0))), (q6, .inl (c6, 180, .inl (fun _ => zI 0))), (q7, .inl (c7, 180, .inl (fun _ => zI 0))), (q10, .inl (c10, 60, .inl (fun _ => zI 0))), (q12, .inl (c12, 64, .inl (fun _ => zI 0)))] H := hP
  have hD : va_D A [(h0, .inr (0, [.ref q0, .ref q1, .ref q2, .ref q3, .ref q4, .ref q5, .ref q6, .ref q7, .int (zI 0), .int (zI 0), .ref q10, .int (zI 0), .ref q12, .int (zI 0), .int (zI 0), .int (zI 0), .int (zI 0), .int (zI 0), .int (zI 0)])), (q0, .inl (c0, 60, .inl (fun _ => zI 0))), (q1, .inl (c1, 60, .inl (fun _ => zI 0))), (q2, .inl (c2, 60, .inl (fun _ => zI 0))), (q3, .inl (c3, 60, .inl (fun _ => zI 0))), (q4, .inl (c4, 60, .inl (fun _ => zI 0))), (q5, .inl (c5, 60, .inl (fun _ => zI 0))), (q6, .inl (c6, 180, .inl (fun _ => zI 0))), (q7, .inl (c7, 180, .inl (fun _ => zI 0))), (q10, .inl (c10, 60, .inl (fun _ => zI 0))), (q12, .inl (c12, 64, .inl (fun _ => zI 0)))] := hD
  have hw9 : ∃ g : zG, g.1 = D ∧ g.2.2 19 = h0 ∧ zt_W g A s H locs (fun _ _ => 0) := ⟨(D, fun k => match k with | 0 => c0 | 1 => c1 | 2 => c2 | 3 => c3 | 4 => c4 | 5 => c5 | 6 => c6 | 7 => c7 | 10 => c10 | 12 => c12 | _ => c0, fun k => match k with | 0 => q0 | 1 => q1 | 2 => q2 | 3 => q3 | 4 => q4 | 5 => q5 | 6 => q6 | 7 => q7 | 10 => q10 | 12 => q12 | _ => h0), rfl, rfl, hP, hD, hS, hK, fun k i => zt_WF0 k, hA⟩
  have hl9 := hl
  obtain ⟨g, hgD, hg0, hw⟩ := hw9
  subst hgD
  subst hg0
  have hl : lv_has ls 2 [(0, .ref (g.2.2 19))] := hl9
  obtain ⟨σ, hσ⟩ : ∃ σ : zS, σ = fun _ _ => 0 := ⟨_, rfl⟩
  rw [← hσ] at hw
  refine zr_aload S hl 0 rfl dX0_init_86 ?_
  refine zr_iconst S dX0_init_87 ?_
  refine zt_put S hw 8 (by decide) (zt_s8 g σ (-1)) rfl (by decide +kernel) (Nat.le_of_ble_eq_true rfl) (show (-1) ≤ ((-1) : Int) ∧ ((-1) : Int) ≤ 59 by omega) dX0_init_88 (fun σ1 H locs s2 hw => ?_)
  refine zr_aload S hl 0 rfl dX0_init_91 ?_
  refine zr_sipush S (by decide +kernel) dX0_init_92 ?_
  refine zt_put S hw 9 (by decide) (zt_s9 g σ1 20011) rfl (by decide +kernel) (Nat.le_of_ble_eq_true rfl) (show (-2147483648) ≤ (20011 : Int) ∧ (20011 : Int) ≤ 2147483647 by omega) dX0_init_95 (fun σ3 H locs s4 hw => ?_)
  refine zr_bipush S (by decide +kernel) dX0_init_98 ?_
  refine zr_istore_n S [(1, .int (zI 59)), (0, .ref (g.2.2 19))] hl (by decide) rfl dX0_init_100 (fun ls hl => ?_)
  have hI : cIn σ3 59 := ⟨by rw [s4, zs_ne (by decide), s2, zs_eq], by rw [s4, zs_ne (by decide), s2, zs_ne (by decide), hσ]; rfl, fun j hj => by omega⟩
  refine init_loop S (fun σ1 H locs ls hrep hw => ?_) 60 59 σ3 H locs ls (by decide) (by decide) hI hw (lv_sub hl [1, 0] rfl)
  refine W.vret S.1 S.2.1 hr (fun t ht hW => ⟨⟨(g, σ1), rfl, hrep, rfl, rfl, by rw [ht]; exact hw.1, va_K.moved hW.alike hw.2.2.2.1, hw.2.1, hw.2.2.2.2.1⟩, hw.2.2.1.F ht⟩) hw.2.2.1.2.2 dX0_init_132 hlk
set_option maxHeartbeats 4000000 in
theorem metm_init (l : Launch) (D : va_G) (h0 sz : Nat) : Met l yX1_init (ws_ yX1_init cX1_init 1 none) ({ frames := 1, cells := 2, slots := 120, locals := 12 }) (va_Pc [.ref h0] (fun U => U.heap.size = sz ∧ va_P D vwCl [(h0, .inr (1, zm_f0))] U.heap ∧ va_K D vwCl [] U ∧ va_D (fun _ => True) [(h0, .inr (1, zm_f0))])) (va_Qv (fun u : zG × zS => zmRep u.2 []) (zm_I D h0 (va_A [(h0, .inr (1, zm_f0))] sz)) (va_A [(h0, .inr (1, zm_f0))] sz)) 2 120 (va_A [(h0, .inr (1, zm_f0))] sz) := by
  refine Met.ofW (cc := cX1_init) (maxL := 1) (ret := none) (by decide +kernel) rfl ?_
  intro p e s m args below meth c s₁ B hml hv
  obtain ⟨rfl, hsz, hP, hK, hD0⟩ := hv
  subst hsz
  have hts := atoms_spec (ws := ws_ yX1_init cX1_init 1 none) B.pre
  have hts : ∀ w ∈ lw_all, w.before _ s = true := fun w h => hts w (List.mem_cons_of_mem _ h)
  have hown : s.vm.findClass RX1 = some m.cls := findClass_of_methodNamed B.named
  have hin : meth.name = "<init>" := (name_of_methodNamed B.named B.method).1
  have hr := B.returns
  have hlk := B.notSynchronized
  have S : CallFix p m c cX1_init 1 s _ lw_all RX1 := ⟨B.exec, B.bytes, hml, hown, hts⟩
  have hD := hD0.self (sz := s.heap.size)
  generalize hAe : va_A [(h0, .inr (1, zm_f0))] s.heap.size = A at hD ⊢
  have hA : ∀ q : Nat, s.heap.size ≤ q → A q := fun q h => by rw [← hAe]; exact Or.inr h
  have hS : va_S A s.heap s.heap [] := va_S.rf
  have hl := lv_entry ([.ref h0]) (n := 1) (Nat.le_of_ble_eq_true rfl)
  rw [lg_entry_eq]
  generalize (lg_sl ([.ref h0]) ++ List.replicate (1 - (lg_sl ([.ref h0])).length) Slot.unset).toArray = ls at hl ⊢
  have hl : lv_has ls 1 [(0, .ref h0)] := hl
  refine zr_aload S hl 0 rfl dX1_init_0 ?_
  refine W.objInit S.1 S.2.1 hown (hts _ q228) (hts _ q35) (hts _ q36) rfl (by rw [hml]; exact hl.1) rfl dX1_init_1 (Nat.le_of_ble_eq_true rfl) (Nat.le_of_ble_eq_true rfl) ?_
  refine W.eq (g2 := F0 m 4 ls []) rfl ?_
  have hP : va_P D vwCl [(h0, .inr (1, [.int (zI 0), .null, .null]))] s.heap := hP
  have hD : va_D A [(h0, .inr (1, [.int (zI 0), .null, .null]))] := hD
  refine zr_aload S hl 0 rfl dX1_init_4 ?_
  refine zr_iconst S dX1_init_5 ?_
  refine va_put (D := D) (ci := 1) (v := .int (zI 0)) (ty := .int) (C := RX1) (T := TX1) (N := 3) S.1 S.2.1 S.2.2.2.2 in_X1 tyX1 tyX1_ok nmX1 S.2.2.2.1 hK hP hD hS 0 rfl rfl 0 (by decide) (S.2.2.2.2 _ (zm_lk 0 (by decide))) (fun _ h9 => h9) rfl (by decide +kernel) rfl rfl (Nat.le_of_ble_eq_true rfl) dX1_init_6 (fun H locs hP hD hS => ?_)
  have hP : va_P D vwCl [(h0, .inr (1, [.int (zI 0), .null, .null]))] H := hP
  have hD : va_D A [(h0, .inr (1, [.int (zI 0), .null, .null]))] := hD
  refine zr_aload S hl 0 rfl dX1_init_9 ?_
  refine zr_bipush S (by decide +kernel) dX1_init_10 ?_
  refine va_newa (atype := .int) (ty := .int) (N' := 60) (a0 := (60, .inl (fun _ => zI 0))) S.1 S.2.1 (hts _ q97) rfl hK hP hD hS hA (fun cA => by show arrV cA 60 (fun _ => Value.int (zI 0)) = _; rw [← zI_z]; rfl) (by decide +kernel) (by decide +kernel) (by decide) (Nat.le_of_ble_eq_true rfl) (Nat.le_of_ble_eq_true rfl) dX1_init_12 (fun q1 c1 H hK hP hD hS => ?_)
  have hP : va_P D vwCl [(h0, .inr (1, [.int (zI 0), .null, .null])), (q1, .inl (c1, 60, .inl (fun _ => zI 0)))] H := hP
  have hD : va_D A [(h0, .inr (1, [.int (zI 0), .null, .null])), (q1, .inl (c1, 60, .inl (fun _ => zI 0)))] := hD
  have hK : va_K D vwCl [(c1, .int)] s := hK
  refine W.widen (k := 1) (n := 60) (by omega) (by omega) ?_
  refine va_put (D := D) (ci := 1) (v := .ref q1) (ty := .array .int) (C := RX1) (T := TX1) (N := 3) S.1 S.2.1 S.2.2.2.2 in_X1 tyX1 tyX1_ok nmX1 S.2.2.2.1 hK hP hD hS 0 rfl rfl 1 (by decide) (S.2.2.2.2 _ (zm_lk 1 (by decide))) (fun _ h9 => h9) rfl (by decide +kernel) rfl rfl (Nat.le_of_ble_eq_true rfl) dX1_init_14 (fun H locs hP hD hS => ?_)
  have hP : va_P D vwCl [(h0, .inr (1, [.int (zI 0), .ref q1, .null])), (q1, .inl (c1, 60, .inl (fun _ => zI 0)))] H := hP
  have hD : va_D A [(h0, .inr (1, [.int (zI 0), .ref q1, .null])), (q1, .inl (c1, 60, .inl (fun _ => zI 0)))] := hD
  refine zr_aload S hl 0 rfl dX1_init_17 ?_
  refine zr_bipush S (by decide +kernel) dX1_init_18 ?_
  refine va_newa (atype := .int) (ty := .int) (N' := 60) (a0 := (60, .inl (fun _ => zI 0))) S.1 S.2.1 (hts _ q97) rfl hK hP hD hS hA (fun cA => by show arrV cA 60 (fun _ => Value.int (zI 0)) = _; rw [← zI_z]; rfl) (by decide +kernel) (by decide +kernel) (by decide) (Nat.le_of_ble_eq_true rfl) (Nat.le_of_ble_eq_true rfl) dX1_init_20 (fun q2 c2 H hK hP hD hS => ?_)
  have hP : va_P D vwCl [(h0, .inr (1, [.int (zI 0), .ref q1, .null])), (q1, .inl (c1, 60, .inl (fun _ => zI 0))), (q2, .inl (c2, 60, .inl (fun _ => zI 0)))] H := hP
  have hD : va_D A [(h0, .inr (1, [.int (zI 0), .ref q1, .null])), (q1, .inl (c1, 60, .inl (fun _ => zI 0))), (q2, .inl (c2, 60, .inl (fun _ => zI 0)))] := hD
  have hK : va_K D vwCl [(c1, .int), (c2, .int)] s := hK
  refine W.widen (k := 2) (n := 120) (by omega) (by omega) ?_
  refine va_put (D := D) (ci := 1) (v := .ref q2) (ty := .array .int) (C := RX1) (T := TX1) (N := 3) S.1 S.2.1 S.2.2.2.2 in_X1 tyX1 tyX1_ok nmX1 S.2.2.2.1 hK hP hD hS 0 rfl rfl 2 (by decide) (S.2.2.2.2 _ (zm_lk 2 (by decide))) (fun _ h9 => h9) rfl (by decide +kernel) rfl rfl (Nat.le_of_ble_eq_true rfl) dX1_init_22 (fun H locs hP hD hS => ?_)
  have hP : va_P D vwCl [(h0, .inr (1, [.int (zI 0), .ref q1, .ref q2])), (q1, .inl (c1, 60, .inl (fun _ => zI 0))), (q2, .inl (c2, 60, .inl (fun _ => zI 0)))] H := hP
  have hD : va_D A [(h0, .inr (1, [.int (zI 0), .ref q1, .ref q2])), (q1, .inl (c1, 60, .inl (fun _ => zI 0))), (q2, .inl (c2, 60, .inl (fun _ => zI 0)))] := hD
  have hw9 : ∃ g : zG, g.1 = D ∧ g.2.2 3 = h0 ∧ zm_W g A s H locs (fun _ _ => 0) := ⟨(D, fun k => match k with | 1 => c1 | 2 => c2 | _ => c1, fun k => match k with | 1 => q1 | 2 => q2 | _ => h0), rfl, rfl, hP, hD, hS, hK, fun k i => zm_WF0 k, hA⟩
  have hl9 := hl
  obtain ⟨g, hgD, hg0, hw⟩ := hw9
  subst hgD
  subst hg0
  have hl : lv_has ls 1 [(0, .ref (g.2.2 3))] := hl9
  obtain ⟨σ, hσ⟩ : ∃ σ : zS, σ = fun _ _ => 0 := ⟨_, rfl⟩
  rw [← hσ] at hw
  have hrep : zmRep σ [] := ⟨by rw [hσ]; rfl, fun j hj => absurd hj (Nat.not_lt_zero j)⟩
  refine W.vret S.1 S.2.1 hr (fun t ht hW => ⟨⟨(g, σ), rfl, hrep, rfl, rfl, by rw [ht]; exact hw.1, va_K.moved hW.alike hw.2.2.2.1, hw.2.1, hw.2.2.2.2.1⟩, hw.2.2.1.F ht⟩) hw.2.2.1.2.2 dX1_init_25 hlk
end
section
/-! THE CLAIM OUT OF ONE WALK OF THE LAW'S BODY. Your part is whole_start (and what it stands on); all else here is the same for every law, but numbers. -/
def R_law : String := "BracketPairTreeLaw"
def lw_P (b : Addr) (xs : List Int32) (args : Array Value) (s : State) : Prop := args = #[.ref b] ∧ s.IntsAt b xs ∧ xs.length ≤ 256 ∧ (Jvm.Cond.and given_1 narrow_1).before args s = true
def lw_Q (_ : Array Value) (s : State) (o : Outcome) (t : State) : Prop := o = .returned (some (.int 1)) ∧ Framed s o t [] 600000 7290000
def lw_Z (below : List Frame) (a : Array Value) (s : State) : State → Prop := fun t => ∃ o, t.status = .running ∧ Ended t below o ∧ lw_Q a s o t
/-- the law's own end, with 1 on the stack, nothing written that was there before, its room as the claim has it -/
theorem lw_ret {p : Program} {l : Launch} {e : Env} {s : State} {m : MethodId} {below : List Frame} {meth : Method} {c : Code} {b : Nat} (hx : p.tables.exec = Jvm.exec) (hb : c.code = code) (hr : meth.sig.returnType = ret) (hlocks : meth.locks = false) {pc : Nat} {H : Heap} {ls : Array Slot} (hdg : decode code pc = .ok (.ireturn, 1)) : W p l e room_1 s m #[Value.ref b] below meth c H [] 600000 7290000 (lw_Z below #[Value.ref b] s) (F0 m pc ls [.int 1]) := by
  intro T hT X
  obtain ⟨fs, hret, hrun, hended, hW, hframe⟩ := X.leave (v := some (.int 1)) (hlocks := hlocks) (fun h => by rw [hr] at h; cases h)
  have hmeth' : T.vm.method? m = some meth := X.method'
  refine ⟨T.setFrames fs, ?_, .returned (some (.int 1)), hrun, hended, rfl, ⟨_, rfl⟩, hW, hframe⟩
  jvm_step X.here [X.here.top, hx, hb, hdg, hmeth', hr, ret, narrow_b1]
  (try refine ⟨rfl, ?_⟩); (try refine ⟨rfl, ?_⟩)
  first | (intro acts; rw [hret _ acts rfl rfl rfl]) | rw [hret _ _ rfl rfl rfl]
  exact Steps.refl _
/-- what holds at the law's entry: the machine, the code, the tables' words (any of lw_tbl by 'hts w (by decide +kernel)'), the script of L ints xs at the cell b, what the Statement gives of the start (any of its parts by flat_of_before) -/
def lw_At (p : Program) (s : State) (m : MethodId) (meth : Method) (c : Code) (b L : Nat) (xs : Nat → Int32) : Prop :=
  p.tables.exec = Jvm.exec ∧ c.code = code ∧ meth.sig.returnType = ret ∧ c.maxLocals = 4 ∧ s.vm.findClass R_law = some m.cls ∧ (∀ w ∈ lw_tbl, w.before #[Value.ref b] s = true) ∧ va_X b L xs s s.heap ∧ b < s.heap.size ∧ meth.locks = false ∧ (Jvm.Cond.and given_1 narrow_1).before #[Value.ref b] s = true
/-! the law's world: tree and reference, apart, made since the start -/
abbrev lA (s : State) : Nat → Prop := fun q => s.heap.size ≤ q
def LW (g gm : zG) (s : State) (H : Heap) (locs : List Loc) (σ τ : zS) : Prop := zt_W g (lA s) s H locs σ ∧ zm_W gm (lA s) s H locs τ ∧ ∀ q : Nat, q ∈ zt_ad g → q ∉ zm_ad gm
section LC
variable {p : Program} {l : Launch} {e : Env} {R : Room} {s : State} {m : MethodId} {args : Array Value} {below : List Frame} {meth : Method} {c : Code} {H : Heap} {locs : List Loc} {cells slots : Nat} {Q : State → Prop} {cc : ByteArray} {nL : Nat} {own : String} {pc : Nat} {ls : Array Slot} {rest : List Value} {g gm : zG} {σ τ : zS}
theorem lc_tree {y : MethodName} {b : ByteArray} {L : Nat} {ret : Option FieldType} {rm : Room} {as : List Int} {post : Int → zS → Prop} {n idx : Nat} {st0 : List Value} (S : CallFix p m c cc nL s args lw_all own) (hw : LW g gm s H locs σ τ) (hM : zt_Mi l y b L ret rm g σ as post) (hq : zt_Q own idx y b L ret n) (hrc : rm.cells = 0) (hrs : rm.slots = 0) (hR : rm.frames + 1 ≤ R.frames ∧ 8 + (L + 11) + rm.locals ≤ R.locals) (hn : as.length = n) (hst : st0 = (as.map (fun z => Value.int (zI z))).reverse ++ .ref (g.2.2 19) :: rest) (hls : ls.size = nL) (hrm : (rest.map fun v => v.category).sum ≤ 8) (hcs : cells ≤ R.cells ∧ slots ≤ R.slots) (hd : decode cc pc = .ok (.invokevirtual idx, 3)) (kk : ∀ (v : Int) (σ' : zS) (H1 : Heap) (locs1 : List Loc), post v σ' → LW g gm s H1 locs1 σ' τ → W p l e R s m args below meth c H1 locs1 cells slots Q (F0 m (pc + 3) ls (.int (zI v) :: rest))) : W p l e R s m args below meth c H locs cells slots Q (F0 m pc ls st0) := by
  obtain ⟨ht, hm, ha⟩ := hw
  refine va_calli (va_runV (As := as.map (fun z => Value.int (zI z))) (rest := rest) S (hM H.size) (zt_cw S hq hrc hrs hR) (zt_preV ht as) rfl (by rw [List.length_map]; exact hn) hls hst (lv_room hrm) hd hcs) ht.2.2.1 (fun q _ h => zt_fr ht q h) (zt_fr ht) (fun r u t H1 locs1 hth hvm hp hB hz hk hS => ?_)
  obtain ⟨z, rfl, hp⟩ := hp
  obtain ⟨hP1, hK1, hD1, hW1⟩ := hB
  rw [hth] at hP1
  refine kk z u H1 locs1 hp ⟨⟨hP1, hD1.weaken (fun _ _ _ h => zt_fr ht _ h), hS, ht.2.2.2.1, hW1, ht.2.2.2.2.2⟩, ⟨hm.1.kept (fun k q hkq => hk q.1 ((hm.1 k q hkq).lt) (fun h => ?_)), hm.2.1, hS, hm.2.2.2.1, hm.2.2.2.2.1, hm.2.2.2.2.2⟩, ha⟩
  rcases h with h | h
  · exact ha _ h (by rw [← zm_ad_eq gm τ]; exact List.mem_map.mpr ⟨q, List.mem_of_getElem? hkq, rfl⟩)
  · exact absurd ((hm.1 k q hkq).lt) (by omega)
theorem lc_model {y : MethodName} {b : ByteArray} {L : Nat} {ret : Option FieldType} {rm : Room} {as : List Int} {post : Int → zS → Prop} {n idx : Nat} {st0 : List Value} (S : CallFix p m c cc nL s args lw_all own) (hw : LW g gm s H locs σ τ) (hM : zm_Mi l y b L ret rm gm τ as post) (hq : zm_Q own idx y b L ret n) (hrc : rm.cells = 0) (hrs : rm.slots = 0) (hR : rm.frames + 1 ≤ R.frames ∧ 8 + (L + 11) + rm.locals ≤ R.locals) (hn : as.length = n) (hst : st0 = (as.map (fun z => Value.int (zI z))).reverse ++ .ref (gm.2.2 3) :: rest) (hls : ls.size = nL) (hrm : (rest.map fun v => v.category).sum ≤ 8) (hcs : cells ≤ R.cells ∧ slots ≤ R.slots) (hd : decode cc pc = .ok (.invokevirtual idx, 3)) (kk : ∀ (v : Int) (σ' : zS) (H1 : Heap) (locs1 : List Loc), post v σ' → LW g gm s H1 locs1 σ σ' → W p l e R s m args below meth c H1 locs1 cells slots Q (F0 m (pc + 3) ls (.int (zI v) :: rest))) : W p l e R s m args below meth c H locs cells slots Q (F0 m pc ls st0) := by
  obtain ⟨ht, hm, ha⟩ := hw
  refine va_calli (va_runV (As := as.map (fun z => Value.int (zI z))) (rest := rest) S (hM H.size) (zm_cw S hq hrc hrs hR) (zm_preV hm as) rfl (by rw [List.length_map]; exact hn) hls hst (lv_room hrm) hd hcs) hm.2.2.1 (fun q _ h => zm_fr hm q h) (zm_fr hm) (fun r u t H1 locs1 hth hvm hp hB hz hk hS => ?_)
  obtain ⟨z, rfl, hp⟩ := hp
  obtain ⟨hP1, hK1, hD1, hW1⟩ := hB
  rw [hth] at hP1
  refine kk z u H1 locs1 hp ⟨⟨ht.1.kept (fun k q hkq => hk q.1 ((ht.1 k q hkq).lt) (fun h => ?_)), ht.2.1, hS, ht.2.2.2.1, ht.2.2.2.2.1, ht.2.2.2.2.2⟩, ⟨hP1, hD1.weaken (fun _ _ _ h => zm_fr hm _ h), hS, hm.2.2.2.1, hW1, hm.2.2.2.2.2⟩, ha⟩
  rcases h with h | h
  · exact ha _ (by rw [← zt_ad_eq g σ]; exact List.mem_map.mpr ⟨q, List.mem_of_getElem? hkq, rfl⟩) h
  · exact absurd ((ht.1 k q hkq).lt) (by omega)
end LC
end
section
/-! the law's loop -/
set_option maxHeartbeats 8000000 in
theorem law_loop {p : Program} {l : Launch} {e : Env} {s : State} {m : MethodId} {below : List Frame} {meth : Method} {c : Code} {b L : Nat} {xs : Nat → Int32} {g gm : zG} (hL : L ≤ 256) (C0 : lw_At p s m meth c b L xs) :
    ∀ (u : Nat) (i : Int) (T : List Int) (σ τ : zS) (H : Heap) (locs : List Loc) (ls : Array Slot), (L : Int) ≤ i + u → (0 ≤ i ∧ i ≤ 300) → zRep σ T → zmRep τ T → LW g gm s H locs σ τ → lv_has ls 4 [(0, .ref b), (1, .ref (g.2.2 19)), (2, .ref (gm.2.2 3)), (3, .int (zI i))] → W p l e room_1 s m #[Value.ref b] below meth c H locs 14 986 (lw_Z below #[Value.ref b] s) (F0 m 18 ls []) := by
  obtain ⟨hx, hb, hr, hml, hown, hts0, hX, hbl, hlocks, hgv⟩ := C0
  have hts : ∀ w ∈ lw_all, w.before #[Value.ref b] s = true := fun w h => hts0 w (lw_all_tbl h)
  have hbA : ¬ (lA s) b := Nat.not_le.mpr hbl
  have S : CallFix p m c cL_law 4 s #[Value.ref b] lw_all "BracketPairTreeLaw" := ⟨hx, hb, hml, hown, hts⟩
  intro u
  induction u with
  | zero =>
    intro i T σ τ H locs ls hi hi2 hRt hRm hw hl
    refine zr_iload_n S hl 3 rfl dL_law_18 ?_
    refine zr_aload S hl 0 rfl dL_law_19 ?_
    refine va_slen S.1 S.2.1 hX hbl hbA hw.1.2.2.1 dL_law_20 ?_
    rw [show Int32.ofNat L = zI (L : Int) from zI_nI L]
    refine zr_iconst S dL_law_21 ?_
    refine zr_isub S dL_law_22 (fun vl el => ?_)
    refine zr_icmp_gt S 434 (by decide) (by omega) (by omega) dL_law_23 (fun h0 => ?_) (fun h0 => by omega)
    refine lv_iconst (v := 1) S.1 S.2.1 dL_law_434 (by decide +kernel) ?_
    refine va_forget (fun q hq => hw.1.2.2.1.2.2 q hq) ?_
    refine W.widen (k := 600000) (n := 7290000) (by omega) (by omega) ?_
    exact lw_ret hx hb hr hlocks dL_law_435
  | succ u ih =>
    intro i T σ τ H locs ls hi hi2 hRt hRm hw hl
    refine zr_iload_n S hl 3 rfl dL_law_18 ?_
    refine zr_aload S hl 0 rfl dL_law_19 ?_
    refine va_slen S.1 S.2.1 hX hbl hbA hw.1.2.2.1 dL_law_20 ?_
    rw [show Int32.ofNat L = zI (L : Int) from zI_nI L]
    refine zr_iconst S dL_law_21 ?_
    refine zr_isub S dL_law_22 (fun vl el => ?_)
    refine zr_icmp_gt S 434 (by decide) (by omega) (by omega) dL_law_23 (fun h0 => ?_) (fun h0 => ?_)
    · refine lv_iconst (v := 1) S.1 S.2.1 dL_law_434 (by decide +kernel) ?_
      refine va_forget (fun q hq => hw.1.2.2.1.2.2 q hq) ?_
      refine W.widen (k := 600000) (n := 7290000) (by omega) (by omega) ?_
      exact lw_ret hx hb hr hlocks dL_law_435
    · have tail : ∀ (T : List Int) (σ τ : zS) (H : Heap) (locs : List Loc) (ls : Array Slot), zRep σ T → zmRep τ T → LW g gm s H locs σ τ → lv_has ls 4 [(0, .ref b), (1, .ref (g.2.2 19)), (2, .ref (gm.2.2 3)), (3, .int (zI i))] → W p l e room_1 s m #[Value.ref b] below meth c H locs 14 986 (lw_Z below #[Value.ref b] s) (F0 m 428 ls []) := by
        intro T σ τ H locs ls hRt hRm hw hl
        obtain ⟨v4, e4⟩ : ∃ v : Int, v = i + 4 := ⟨_, rfl⟩
        refine zr_iinc S v4 e4 [(3, .int (zI v4)), (0, .ref b), (1, .ref (g.2.2 19)), (2, .ref (gm.2.2 3))] hl 3 rfl (by decide) rfl dL_law_428 (fun ls hl => ?_)
        refine zr_goto S 18 (by decide) dL_law_431 ?_
        exact ih v4 T σ τ H locs ls (by omega) (by omega) hRt hRm hw (lv_sub hl [1, 2, 3, 0] rfl)
      refine zr_aload S hl 0 rfl dL_law_26 ?_
      refine zr_iload_n S hl 3 rfl dL_law_27 ?_
      refine va_sld S.1 S.2.1 hX hbl hbA hw.1.2.2.1 (zI_in (by omega) (by omega) (by omega)) dL_law_28 ?_
      refine zr_bipush S (by decide +kernel) dL_law_29 ?_
      refine lv_iand S.1 S.2.1 dL_law_31 ?_
      refine zr_any (fun y ey ry => ?_)
      rcases (show y = 0 ∨ y = 1 ∨ y = 2 ∨ y = 3 ∨ y = 4 ∨ y = 5 ∨ y = 6 ∨ y = 7 ∨ y = 8 ∨ y = 9 ∨ (y < 0 ∨ 9 < y) by omega) with hy | hy | hy | hy | hy | hy | hy | hy | hy | hy | hy
      · refine lv_tableIn (off := 56) (tgt := 88) S.1 S.2.1 dL_law_32 (by rw [zI_int ry]; omega) (by rw [zI_int ry]; omega) (by rw [zI_int ry, hy]; rfl) (by decide) ?_
        refine zr_aload S hl 1 rfl dL_law_88 ?_
        refine zr_aload S hl 0 rfl dL_law_89 ?_
        refine zr_iload_n S hl 3 rfl dL_law_90 ?_
        refine zr_iconst S dL_law_91 ?_
        refine zr_iadd S dL_law_92 (fun v1 e1 => ?_)
        refine va_sld S.1 S.2.1 hX hbl hbA hw.1.2.2.1 (zI_in (by omega) (by omega) (by omega)) dL_law_93 ?_
        refine zr_any (fun x1 ex1 rx1 => ?_)
        refine zr_aload S hl 0 rfl dL_law_94 ?_
        refine zr_iload_n S hl 3 rfl dL_law_95 ?_
        refine zr_iconst S dL_law_96 ?_
        refine zr_iadd S dL_law_97 (fun v2 e2 => ?_)
        refine va_sld S.1 S.2.1 hX hbl hbA hw.1.2.2.1 (zI_in (by omega) (by omega) (by omega)) dL_law_98 ?_
        refine zr_any (fun x2 ex2 rx2 => ?_)
        refine lc_tree S hw (met_insert l g σ T x1 x2 hRt rx1 rx2) kql0_insert rfl rfl ⟨Nat.le_of_ble_eq_true rfl, Nat.le_of_ble_eq_true rfl⟩ rfl rfl hl.1 (Nat.le_of_ble_eq_true rfl) ⟨Nat.le_of_ble_eq_true rfl, Nat.le_of_ble_eq_true rfl⟩ dL_law_99 (fun r1 σ1 H locs p1 hw => ?_)
        obtain ⟨hr1, hRt1⟩ := p1
        refine zr_aload S hl 2 rfl dL_law_102 ?_
        refine zr_aload S hl 0 rfl dL_law_103 ?_
        refine zr_iload_n S hl 3 rfl dL_law_104 ?_
        refine zr_iconst S dL_law_105 ?_
        refine zr_iadd S dL_law_106 (fun w1 f1 => ?_)
        refine va_sld S.1 S.2.1 hX hbl hbA hw.1.2.2.1 (zI_in (by omega) (by omega) (by omega)) dL_law_107 ?_
        refine zr_any (fun z1 ez1 rz1 => ?_)
        rw [show z1 = x1 from by rw [ez1, ex1, show w1 = v1 by omega]]
        refine zr_aload S hl 0 rfl dL_law_108 ?_
        refine zr_iload_n S hl 3 rfl dL_law_109 ?_
        refine zr_iconst S dL_law_110 ?_
        refine zr_iadd S dL_law_111 (fun w2 f2 => ?_)
        refine va_sld S.1 S.2.1 hX hbl hbA hw.1.2.2.1 (zI_in (by omega) (by omega) (by omega)) dL_law_112 ?_
        refine zr_any (fun z2 ez2 rz2 => ?_)
        rw [show z2 = x2 from by rw [ez2, ex2, show w2 = v2 by omega]]
        refine lc_model S hw (metm_insert l gm τ T x1 x2 hRm rx1 rx2) kql1_insert rfl rfl ⟨Nat.le_of_ble_eq_true rfl, Nat.le_of_ble_eq_true rfl⟩ rfl rfl hl.1 (Nat.le_of_ble_eq_true rfl) ⟨Nat.le_of_ble_eq_true rfl, Nat.le_of_ble_eq_true rfl⟩ dL_law_113 (fun r2 τ1 H locs p2 hw => ?_)
        obtain ⟨hr2, hRm1, -⟩ := p2
        refine lv_icmp_eq (tgt := 428) S.1 S.2.1 dL_law_116 (by decide) (fun _ => ?_) (fun hne => absurd (by rw [hr1, hr2]) hne)
        exact tail _ σ1 τ1 H locs ls hRt1 hRm1 hw hl
      · refine lv_tableIn (off := 89) (tgt := 121) S.1 S.2.1 dL_law_32 (by rw [zI_int ry]; omega) (by rw [zI_int ry]; omega) (by rw [zI_int ry, hy]; rfl) (by decide) ?_
        refine zr_aload S hl 1 rfl dL_law_121 ?_
        refine zr_aload S hl 0 rfl dL_law_122 ?_
        refine zr_iload_n S hl 3 rfl dL_law_123 ?_
        refine zr_iconst S dL_law_124 ?_
        refine zr_iadd S dL_law_125 (fun v1 e1 => ?_)
        refine va_sld S.1 S.2.1 hX hbl hbA hw.1.2.2.1 (zI_in (by omega) (by omega) (by omega)) dL_law_126 ?_
        refine zr_any (fun x1 ex1 rx1 => ?_)
        refine zr_aload S hl 0 rfl dL_law_127 ?_
        refine zr_iload_n S hl 3 rfl dL_law_128 ?_
        refine zr_iconst S dL_law_129 ?_
        refine zr_iadd S dL_law_130 (fun v2 e2 => ?_)
        refine va_sld S.1 S.2.1 hX hbl hbA hw.1.2.2.1 (zI_in (by omega) (by omega) (by omega)) dL_law_131 ?_
        refine zr_any (fun x2 ex2 rx2 => ?_)
        refine lc_tree S hw (met_erase l g σ T x1 x2 hRt rx1 rx2) kql0_erase rfl rfl ⟨Nat.le_of_ble_eq_true rfl, Nat.le_of_ble_eq_true rfl⟩ rfl rfl hl.1 (Nat.le_of_ble_eq_true rfl) ⟨Nat.le_of_ble_eq_true rfl, Nat.le_of_ble_eq_true rfl⟩ dL_law_132 (fun r1 σ1 H locs p1 hw => ?_)
        obtain ⟨hr1, hRt1⟩ := p1
        refine zr_aload S hl 2 rfl dL_law_135 ?_
        refine zr_aload S hl 0 rfl dL_law_136 ?_
        refine zr_iload_n S hl 3 rfl dL_law_137 ?_
        refine zr_iconst S dL_law_138 ?_
        refine zr_iadd S dL_law_139 (fun w1 f1 => ?_)
        refine va_sld S.1 S.2.1 hX hbl hbA hw.1.2.2.1 (zI_in (by omega) (by omega) (by omega)) dL_law_140 ?_
        refine zr_any (fun z1 ez1 rz1 => ?_)
        rw [show z1 = x1 from by rw [ez1, ex1, show w1 = v1 by omega]]
        refine zr_aload S hl 0 rfl dL_law_141 ?_
        refine zr_iload_n S hl 3 rfl dL_law_142 ?_
        refine zr_iconst S dL_law_143 ?_
        refine zr_iadd S dL_law_144 (fun w2 f2 => ?_)
        refine va_sld S.1 S.2.1 hX hbl hbA hw.1.2.2.1 (zI_in (by omega) (by omega) (by omega)) dL_law_145 ?_
        refine zr_any (fun z2 ez2 rz2 => ?_)
        rw [show z2 = x2 from by rw [ez2, ex2, show w2 = v2 by omega]]
        refine lc_model S hw (metm_erase l gm τ T x1 x2 hRm rx1 rx2) kql1_erase rfl rfl ⟨Nat.le_of_ble_eq_true rfl, Nat.le_of_ble_eq_true rfl⟩ rfl rfl hl.1 (Nat.le_of_ble_eq_true rfl) ⟨Nat.le_of_ble_eq_true rfl, Nat.le_of_ble_eq_true rfl⟩ dL_law_146 (fun r2 τ1 H locs p2 hw => ?_)
        obtain ⟨hr2, hRm1, -⟩ := p2
        refine lv_icmp_eq (tgt := 428) S.1 S.2.1 dL_law_149 (by decide) (fun _ => ?_) (fun hne => absurd (by rw [hr1, hr2]) hne)
        exact tail _ σ1 τ1 H locs ls hRt1 hRm1 hw hl
      · refine lv_tableIn (off := 122) (tgt := 154) S.1 S.2.1 dL_law_32 (by rw [zI_int ry]; omega) (by rw [zI_int ry]; omega) (by rw [zI_int ry, hy]; rfl) (by decide) ?_
        refine zr_aload S hl 1 rfl dL_law_154 ?_
        refine zr_aload S hl 0 rfl dL_law_155 ?_
        refine zr_iload_n S hl 3 rfl dL_law_156 ?_
        refine zr_iconst S dL_law_157 ?_
        refine zr_iadd S dL_law_158 (fun v1 e1 => ?_)
        refine va_sld S.1 S.2.1 hX hbl hbA hw.1.2.2.1 (zI_in (by omega) (by omega) (by omega)) dL_law_159 ?_
        refine zr_any (fun x1 ex1 rx1 => ?_)
        refine zr_aload S hl 0 rfl dL_law_160 ?_
        refine zr_iload_n S hl 3 rfl dL_law_161 ?_
        refine zr_iconst S dL_law_162 ?_
        refine zr_iadd S dL_law_163 (fun v2 e2 => ?_)
        refine va_sld S.1 S.2.1 hX hbl hbA hw.1.2.2.1 (zI_in (by omega) (by omega) (by omega)) dL_law_164 ?_
        refine zr_any (fun x2 ex2 rx2 => ?_)
        refine zr_aload S hl 0 rfl dL_law_165 ?_
        refine zr_iload_n S hl 3 rfl dL_law_166 ?_
        refine zr_iconst S dL_law_167 ?_
        refine zr_iadd S dL_law_168 (fun v3 e3 => ?_)
        refine va_sld S.1 S.2.1 hX hbl hbA hw.1.2.2.1 (zI_in (by omega) (by omega) (by omega)) dL_law_169 ?_
        refine zr_any (fun x3 ex3 rx3 => ?_)
        refine lc_tree S hw (met_move l g σ T x1 x2 x3 hRt rx1 rx2 rx3) kql0_move rfl rfl ⟨Nat.le_of_ble_eq_true rfl, Nat.le_of_ble_eq_true rfl⟩ rfl rfl hl.1 (Nat.le_of_ble_eq_true rfl) ⟨Nat.le_of_ble_eq_true rfl, Nat.le_of_ble_eq_true rfl⟩ dL_law_170 (fun r1 σ1 H locs p1 hw => ?_)
        obtain ⟨hr1, hRt1⟩ := p1
        refine zr_aload S hl 2 rfl dL_law_173 ?_
        refine zr_aload S hl 0 rfl dL_law_174 ?_
        refine zr_iload_n S hl 3 rfl dL_law_175 ?_
        refine zr_iconst S dL_law_176 ?_
        refine zr_iadd S dL_law_177 (fun w1 f1 => ?_)
        refine va_sld S.1 S.2.1 hX hbl hbA hw.1.2.2.1 (zI_in (by omega) (by omega) (by omega)) dL_law_178 ?_
        refine zr_any (fun z1 ez1 rz1 => ?_)
        rw [show z1 = x1 from by rw [ez1, ex1, show w1 = v1 by omega]]
        refine zr_aload S hl 0 rfl dL_law_179 ?_
        refine zr_iload_n S hl 3 rfl dL_law_180 ?_
        refine zr_iconst S dL_law_181 ?_
        refine zr_iadd S dL_law_182 (fun w2 f2 => ?_)
        refine va_sld S.1 S.2.1 hX hbl hbA hw.1.2.2.1 (zI_in (by omega) (by omega) (by omega)) dL_law_183 ?_
        refine zr_any (fun z2 ez2 rz2 => ?_)
        rw [show z2 = x2 from by rw [ez2, ex2, show w2 = v2 by omega]]
        refine zr_aload S hl 0 rfl dL_law_184 ?_
        refine zr_iload_n S hl 3 rfl dL_law_185 ?_
        refine zr_iconst S dL_law_186 ?_
        refine zr_iadd S dL_law_187 (fun w3 f3 => ?_)
        refine va_sld S.1 S.2.1 hX hbl hbA hw.1.2.2.1 (zI_in (by omega) (by omega) (by omega)) dL_law_188 ?_
        refine zr_any (fun z3 ez3 rz3 => ?_)
        rw [show z3 = x3 from by rw [ez3, ex3, show w3 = v3 by omega]]
        refine lc_model S hw (metm_move l gm τ T x1 x2 x3 hRm rx1 rx2 rx3) kql1_move rfl rfl ⟨Nat.le_of_ble_eq_true rfl, Nat.le_of_ble_eq_true rfl⟩ rfl rfl hl.1 (Nat.le_of_ble_eq_true rfl) ⟨Nat.le_of_ble_eq_true rfl, Nat.le_of_ble_eq_true rfl⟩ dL_law_189 (fun r2 τ1 H locs p2 hw => ?_)
        obtain ⟨hr2, hRm1⟩ := p2
        refine lv_icmp_eq (tgt := 428) S.1 S.2.1 dL_law_192 (by decide) (fun _ => ?_) (fun hne => absurd (by rw [hr1, hr2]) hne)
        exact tail _ σ1 τ1 H locs ls hRt1 hRm1 hw hl
      · refine lv_tableIn (off := 165) (tgt := 197) S.1 S.2.1 dL_law_32 (by rw [zI_int ry]; omega) (by rw [zI_int ry]; omega) (by rw [zI_int ry, hy]; rfl) (by decide) ?_
        refine zr_aload S hl 1 rfl dL_law_197 ?_
        refine zr_aload S hl 0 rfl dL_law_198 ?_
        refine zr_iload_n S hl 3 rfl dL_law_199 ?_
        refine zr_iconst S dL_law_200 ?_
        refine zr_iadd S dL_law_201 (fun v1 e1 => ?_)
        refine va_sld S.1 S.2.1 hX hbl hbA hw.1.2.2.1 (zI_in (by omega) (by omega) (by omega)) dL_law_202 ?_
        refine zr_any (fun x1 ex1 rx1 => ?_)
        refine zr_aload S hl 0 rfl dL_law_203 ?_
        refine zr_iload_n S hl 3 rfl dL_law_204 ?_
        refine zr_iconst S dL_law_205 ?_
        refine zr_iadd S dL_law_206 (fun v2 e2 => ?_)
        refine va_sld S.1 S.2.1 hX hbl hbA hw.1.2.2.1 (zI_in (by omega) (by omega) (by omega)) dL_law_207 ?_
        refine zr_any (fun x2 ex2 rx2 => ?_)
        refine lc_tree S hw (met_mirror l g σ T x1 x2 hRt rx1 rx2) kql0_mirror rfl rfl ⟨Nat.le_of_ble_eq_true rfl, Nat.le_of_ble_eq_true rfl⟩ rfl rfl hl.1 (Nat.le_of_ble_eq_true rfl) ⟨Nat.le_of_ble_eq_true rfl, Nat.le_of_ble_eq_true rfl⟩ dL_law_208 (fun r1 σ1 H locs p1 hw => ?_)
        obtain ⟨hr1, hRt1⟩ := p1
        refine zr_aload S hl 2 rfl dL_law_211 ?_
        refine zr_aload S hl 0 rfl dL_law_212 ?_
        refine zr_iload_n S hl 3 rfl dL_law_213 ?_
        refine zr_iconst S dL_law_214 ?_
        refine zr_iadd S dL_law_215 (fun w1 f1 => ?_)
        refine va_sld S.1 S.2.1 hX hbl hbA hw.1.2.2.1 (zI_in (by omega) (by omega) (by omega)) dL_law_216 ?_
        refine zr_any (fun z1 ez1 rz1 => ?_)
        rw [show z1 = x1 from by rw [ez1, ex1, show w1 = v1 by omega]]
        refine zr_aload S hl 0 rfl dL_law_217 ?_
        refine zr_iload_n S hl 3 rfl dL_law_218 ?_
        refine zr_iconst S dL_law_219 ?_
        refine zr_iadd S dL_law_220 (fun w2 f2 => ?_)
        refine va_sld S.1 S.2.1 hX hbl hbA hw.1.2.2.1 (zI_in (by omega) (by omega) (by omega)) dL_law_221 ?_
        refine zr_any (fun z2 ez2 rz2 => ?_)
        rw [show z2 = x2 from by rw [ez2, ex2, show w2 = v2 by omega]]
        refine lc_model S hw (metm_mirror l gm τ T x1 x2 hRm rx1 rx2) kql1_mirror rfl rfl ⟨Nat.le_of_ble_eq_true rfl, Nat.le_of_ble_eq_true rfl⟩ rfl rfl hl.1 (Nat.le_of_ble_eq_true rfl) ⟨Nat.le_of_ble_eq_true rfl, Nat.le_of_ble_eq_true rfl⟩ dL_law_222 (fun r2 τ1 H locs p2 hw => ?_)
        obtain ⟨hr2, hRm1⟩ := p2
        refine lv_icmp_eq (tgt := 428) S.1 S.2.1 dL_law_225 (by decide) (fun _ => ?_) (fun hne => absurd (by rw [hr1, hr2]) hne)
        exact tail _ σ1 τ1 H locs ls hRt1 hRm1 hw hl
      · refine lv_tableIn (off := 198) (tgt := 230) S.1 S.2.1 dL_law_32 (by rw [zI_int ry]; omega) (by rw [zI_int ry]; omega) (by rw [zI_int ry, hy]; rfl) (by decide) ?_
        refine zr_aload S hl 1 rfl dL_law_230 ?_
        refine zr_aload S hl 0 rfl dL_law_231 ?_
        refine zr_iload_n S hl 3 rfl dL_law_232 ?_
        refine zr_iconst S dL_law_233 ?_
        refine zr_iadd S dL_law_234 (fun v1 e1 => ?_)
        refine va_sld S.1 S.2.1 hX hbl hbA hw.1.2.2.1 (zI_in (by omega) (by omega) (by omega)) dL_law_235 ?_
        refine zr_any (fun x1 ex1 rx1 => ?_)
        refine lc_tree S hw (met_codeAt l g σ T x1 hRt rx1) kql0_codeAt rfl rfl ⟨Nat.le_of_ble_eq_true rfl, Nat.le_of_ble_eq_true rfl⟩ rfl rfl hl.1 (Nat.le_of_ble_eq_true rfl) ⟨Nat.le_of_ble_eq_true rfl, Nat.le_of_ble_eq_true rfl⟩ dL_law_236 (fun r1 σ1 H locs p1 hw => ?_)
        obtain ⟨hr1, hRt1⟩ := p1
        refine zr_aload S hl 2 rfl dL_law_239 ?_
        refine zr_aload S hl 0 rfl dL_law_240 ?_
        refine zr_iload_n S hl 3 rfl dL_law_241 ?_
        refine zr_iconst S dL_law_242 ?_
        refine zr_iadd S dL_law_243 (fun w1 f1 => ?_)
        refine va_sld S.1 S.2.1 hX hbl hbA hw.1.2.2.1 (zI_in (by omega) (by omega) (by omega)) dL_law_244 ?_
        refine zr_any (fun z1 ez1 rz1 => ?_)
        rw [show z1 = x1 from by rw [ez1, ex1, show w1 = v1 by omega]]
        refine lc_model S hw (metm_codeAt l gm τ T x1 hRm rx1) kql1_codeAt rfl rfl ⟨Nat.le_of_ble_eq_true rfl, Nat.le_of_ble_eq_true rfl⟩ rfl rfl hl.1 (Nat.le_of_ble_eq_true rfl) ⟨Nat.le_of_ble_eq_true rfl, Nat.le_of_ble_eq_true rfl⟩ dL_law_245 (fun r2 τ1 H locs p2 hw => ?_)
        obtain ⟨hr2, hRm1⟩ := p2
        refine lv_icmp_eq (tgt := 428) S.1 S.2.1 dL_law_248 (by decide) (fun _ => ?_) (fun hne => absurd (by rw [hr1, hr2]) hne)
        exact tail _ σ1 τ1 H locs ls hRt1 hRm1 hw hl
      · refine lv_tableIn (off := 221) (tgt := 253) S.1 S.2.1 dL_law_32 (by rw [zI_int ry]; omega) (by rw [zI_int ry]; omega) (by rw [zI_int ry, hy]; rfl) (by decide) ?_
        refine zr_aload S hl 1 rfl dL_law_253 ?_
        refine zr_aload S hl 0 rfl dL_law_254 ?_
        refine zr_iload_n S hl 3 rfl dL_law_255 ?_
        refine zr_iconst S dL_law_256 ?_
        refine zr_iadd S dL_law_257 (fun v1 e1 => ?_)
        refine va_sld S.1 S.2.1 hX hbl hbA hw.1.2.2.1 (zI_in (by omega) (by omega) (by omega)) dL_law_258 ?_
        refine zr_any (fun x1 ex1 rx1 => ?_)
        refine lc_tree S hw (met_partner l g σ T x1 hRt rx1) kql0_partner rfl rfl ⟨Nat.le_of_ble_eq_true rfl, Nat.le_of_ble_eq_true rfl⟩ rfl rfl hl.1 (Nat.le_of_ble_eq_true rfl) ⟨Nat.le_of_ble_eq_true rfl, Nat.le_of_ble_eq_true rfl⟩ dL_law_259 (fun r1 σ1 H locs p1 hw => ?_)
        obtain ⟨hr1, hRt1⟩ := p1
        refine zr_aload S hl 2 rfl dL_law_262 ?_
        refine zr_aload S hl 0 rfl dL_law_263 ?_
        refine zr_iload_n S hl 3 rfl dL_law_264 ?_
        refine zr_iconst S dL_law_265 ?_
        refine zr_iadd S dL_law_266 (fun w1 f1 => ?_)
        refine va_sld S.1 S.2.1 hX hbl hbA hw.1.2.2.1 (zI_in (by omega) (by omega) (by omega)) dL_law_267 ?_
        refine zr_any (fun z1 ez1 rz1 => ?_)
        rw [show z1 = x1 from by rw [ez1, ex1, show w1 = v1 by omega]]
        refine lc_model S hw (metm_partner l gm τ T x1 hRm rx1) kql1_partner rfl rfl ⟨Nat.le_of_ble_eq_true rfl, Nat.le_of_ble_eq_true rfl⟩ rfl rfl hl.1 (Nat.le_of_ble_eq_true rfl) ⟨Nat.le_of_ble_eq_true rfl, Nat.le_of_ble_eq_true rfl⟩ dL_law_268 (fun r2 τ1 H locs p2 hw => ?_)
        obtain ⟨hr2, hRm1⟩ := p2
        refine lv_icmp_eq (tgt := 428) S.1 S.2.1 dL_law_271 (by decide) (fun _ => ?_) (fun hne => absurd (by rw [hr1, hr2]) hne)
        exact tail _ σ1 τ1 H locs ls hRt1 hRm1 hw hl
      · refine lv_tableIn (off := 244) (tgt := 276) S.1 S.2.1 dL_law_32 (by rw [zI_int ry]; omega) (by rw [zI_int ry]; omega) (by rw [zI_int ry, hy]; rfl) (by decide) ?_
        refine zr_aload S hl 1 rfl dL_law_276 ?_
        refine zr_aload S hl 0 rfl dL_law_277 ?_
        refine zr_iload_n S hl 3 rfl dL_law_278 ?_
        refine zr_iconst S dL_law_279 ?_
        refine zr_iadd S dL_law_280 (fun v1 e1 => ?_)
        refine va_sld S.1 S.2.1 hX hbl hbA hw.1.2.2.1 (zI_in (by omega) (by omega) (by omega)) dL_law_281 ?_
        refine zr_any (fun x1 ex1 rx1 => ?_)
        refine zr_aload S hl 0 rfl dL_law_282 ?_
        refine zr_iload_n S hl 3 rfl dL_law_283 ?_
        refine zr_iconst S dL_law_284 ?_
        refine zr_iadd S dL_law_285 (fun v2 e2 => ?_)
        refine va_sld S.1 S.2.1 hX hbl hbA hw.1.2.2.1 (zI_in (by omega) (by omega) (by omega)) dL_law_286 ?_
        refine zr_any (fun x2 ex2 rx2 => ?_)
        refine lc_tree S hw (met_around l g σ T x1 x2 hRt rx1 rx2) kql0_around rfl rfl ⟨Nat.le_of_ble_eq_true rfl, Nat.le_of_ble_eq_true rfl⟩ rfl rfl hl.1 (Nat.le_of_ble_eq_true rfl) ⟨Nat.le_of_ble_eq_true rfl, Nat.le_of_ble_eq_true rfl⟩ dL_law_287 (fun r1 σ1 H locs p1 hw => ?_)
        obtain ⟨hr1, hRt1⟩ := p1
        refine zr_aload S hl 2 rfl dL_law_290 ?_
        refine zr_aload S hl 0 rfl dL_law_291 ?_
        refine zr_iload_n S hl 3 rfl dL_law_292 ?_
        refine zr_iconst S dL_law_293 ?_
        refine zr_iadd S dL_law_294 (fun w1 f1 => ?_)
        refine va_sld S.1 S.2.1 hX hbl hbA hw.1.2.2.1 (zI_in (by omega) (by omega) (by omega)) dL_law_295 ?_
        refine zr_any (fun z1 ez1 rz1 => ?_)
        rw [show z1 = x1 from by rw [ez1, ex1, show w1 = v1 by omega]]
        refine zr_aload S hl 0 rfl dL_law_296 ?_
        refine zr_iload_n S hl 3 rfl dL_law_297 ?_
        refine zr_iconst S dL_law_298 ?_
        refine zr_iadd S dL_law_299 (fun w2 f2 => ?_)
        refine va_sld S.1 S.2.1 hX hbl hbA hw.1.2.2.1 (zI_in (by omega) (by omega) (by omega)) dL_law_300 ?_
        refine zr_any (fun z2 ez2 rz2 => ?_)
        rw [show z2 = x2 from by rw [ez2, ex2, show w2 = v2 by omega]]
        refine lc_model S hw (metm_around l gm τ T x1 x2 hRm rx1 rx2) kql1_around rfl rfl ⟨Nat.le_of_ble_eq_true rfl, Nat.le_of_ble_eq_true rfl⟩ rfl rfl hl.1 (Nat.le_of_ble_eq_true rfl) ⟨Nat.le_of_ble_eq_true rfl, Nat.le_of_ble_eq_true rfl⟩ dL_law_301 (fun r2 τ1 H locs p2 hw => ?_)
        obtain ⟨hr2, hRm1⟩ := p2
        refine lv_icmp_eq (tgt := 428) S.1 S.2.1 dL_law_304 (by decide) (fun _ => ?_) (fun hne => absurd (by rw [hr1, hr2]) hne)
        exact tail _ σ1 τ1 H locs ls hRt1 hRm1 hw hl
      · refine lv_tableIn (off := 277) (tgt := 309) S.1 S.2.1 dL_law_32 (by rw [zI_int ry]; omega) (by rw [zI_int ry]; omega) (by rw [zI_int ry, hy]; rfl) (by decide) ?_
        refine zr_aload S hl 1 rfl dL_law_309 ?_
        refine zr_aload S hl 0 rfl dL_law_310 ?_
        refine zr_iload_n S hl 3 rfl dL_law_311 ?_
        refine zr_iconst S dL_law_312 ?_
        refine zr_iadd S dL_law_313 (fun v1 e1 => ?_)
        refine va_sld S.1 S.2.1 hX hbl hbA hw.1.2.2.1 (zI_in (by omega) (by omega) (by omega)) dL_law_314 ?_
        refine zr_any (fun x1 ex1 rx1 => ?_)
        refine zr_aload S hl 0 rfl dL_law_315 ?_
        refine zr_iload_n S hl 3 rfl dL_law_316 ?_
        refine zr_iconst S dL_law_317 ?_
        refine zr_iadd S dL_law_318 (fun v2 e2 => ?_)
        refine va_sld S.1 S.2.1 hX hbl hbA hw.1.2.2.1 (zI_in (by omega) (by omega) (by omega)) dL_law_319 ?_
        refine zr_any (fun x2 ex2 rx2 => ?_)
        refine lc_tree S hw (met_depth l g σ T x1 x2 hRt rx1 rx2) kql0_depth rfl rfl ⟨Nat.le_of_ble_eq_true rfl, Nat.le_of_ble_eq_true rfl⟩ rfl rfl hl.1 (Nat.le_of_ble_eq_true rfl) ⟨Nat.le_of_ble_eq_true rfl, Nat.le_of_ble_eq_true rfl⟩ dL_law_320 (fun r1 σ1 H locs p1 hw => ?_)
        obtain ⟨hr1, hRt1⟩ := p1
        refine zr_aload S hl 2 rfl dL_law_323 ?_
        refine zr_aload S hl 0 rfl dL_law_324 ?_
        refine zr_iload_n S hl 3 rfl dL_law_325 ?_
        refine zr_iconst S dL_law_326 ?_
        refine zr_iadd S dL_law_327 (fun w1 f1 => ?_)
        refine va_sld S.1 S.2.1 hX hbl hbA hw.1.2.2.1 (zI_in (by omega) (by omega) (by omega)) dL_law_328 ?_
        refine zr_any (fun z1 ez1 rz1 => ?_)
        rw [show z1 = x1 from by rw [ez1, ex1, show w1 = v1 by omega]]
        refine zr_aload S hl 0 rfl dL_law_329 ?_
        refine zr_iload_n S hl 3 rfl dL_law_330 ?_
        refine zr_iconst S dL_law_331 ?_
        refine zr_iadd S dL_law_332 (fun w2 f2 => ?_)
        refine va_sld S.1 S.2.1 hX hbl hbA hw.1.2.2.1 (zI_in (by omega) (by omega) (by omega)) dL_law_333 ?_
        refine zr_any (fun z2 ez2 rz2 => ?_)
        rw [show z2 = x2 from by rw [ez2, ex2, show w2 = v2 by omega]]
        refine lc_model S hw (metm_depth l gm τ T x1 x2 hRm rx1 rx2) kql1_depth rfl rfl ⟨Nat.le_of_ble_eq_true rfl, Nat.le_of_ble_eq_true rfl⟩ rfl rfl hl.1 (Nat.le_of_ble_eq_true rfl) ⟨Nat.le_of_ble_eq_true rfl, Nat.le_of_ble_eq_true rfl⟩ dL_law_334 (fun r2 τ1 H locs p2 hw => ?_)
        obtain ⟨hr2, hRm1⟩ := p2
        refine lv_icmp_eq (tgt := 428) S.1 S.2.1 dL_law_337 (by decide) (fun _ => ?_) (fun hne => absurd (by rw [hr1, hr2]) hne)
        exact tail _ σ1 τ1 H locs ls hRt1 hRm1 hw hl
      · refine lv_tableIn (off := 310) (tgt := 342) S.1 S.2.1 dL_law_32 (by rw [zI_int ry]; omega) (by rw [zI_int ry]; omega) (by rw [zI_int ry, hy]; rfl) (by decide) ?_
        refine zr_aload S hl 1 rfl dL_law_342 ?_
        refine zr_aload S hl 0 rfl dL_law_343 ?_
        refine zr_iload_n S hl 3 rfl dL_law_344 ?_
        refine zr_iconst S dL_law_345 ?_
        refine zr_iadd S dL_law_346 (fun v1 e1 => ?_)
        refine va_sld S.1 S.2.1 hX hbl hbA hw.1.2.2.1 (zI_in (by omega) (by omega) (by omega)) dL_law_347 ?_
        refine zr_any (fun x1 ex1 rx1 => ?_)
        refine zr_aload S hl 0 rfl dL_law_348 ?_
        refine zr_iload_n S hl 3 rfl dL_law_349 ?_
        refine zr_iconst S dL_law_350 ?_
        refine zr_iadd S dL_law_351 (fun v2 e2 => ?_)
        refine va_sld S.1 S.2.1 hX hbl hbA hw.1.2.2.1 (zI_in (by omega) (by omega) (by omega)) dL_law_352 ?_
        refine zr_any (fun x2 ex2 rx2 => ?_)
        refine zr_aload S hl 0 rfl dL_law_353 ?_
        refine zr_iload_n S hl 3 rfl dL_law_354 ?_
        refine zr_iconst S dL_law_355 ?_
        refine zr_iadd S dL_law_356 (fun v3 e3 => ?_)
        refine va_sld S.1 S.2.1 hX hbl hbA hw.1.2.2.1 (zI_in (by omega) (by omega) (by omega)) dL_law_357 ?_
        refine zr_any (fun x3 ex3 rx3 => ?_)
        refine lc_tree S hw (met_looseOpen l g σ T x1 x2 x3 hRt rx1 rx2 rx3) kql0_looseOpen rfl rfl ⟨Nat.le_of_ble_eq_true rfl, Nat.le_of_ble_eq_true rfl⟩ rfl rfl hl.1 (Nat.le_of_ble_eq_true rfl) ⟨Nat.le_of_ble_eq_true rfl, Nat.le_of_ble_eq_true rfl⟩ dL_law_358 (fun r1 σ1 H locs p1 hw => ?_)
        obtain ⟨hr1, hRt1⟩ := p1
        refine zr_aload S hl 2 rfl dL_law_361 ?_
        refine zr_aload S hl 0 rfl dL_law_362 ?_
        refine zr_iload_n S hl 3 rfl dL_law_363 ?_
        refine zr_iconst S dL_law_364 ?_
        refine zr_iadd S dL_law_365 (fun w1 f1 => ?_)
        refine va_sld S.1 S.2.1 hX hbl hbA hw.1.2.2.1 (zI_in (by omega) (by omega) (by omega)) dL_law_366 ?_
        refine zr_any (fun z1 ez1 rz1 => ?_)
        rw [show z1 = x1 from by rw [ez1, ex1, show w1 = v1 by omega]]
        refine zr_aload S hl 0 rfl dL_law_367 ?_
        refine zr_iload_n S hl 3 rfl dL_law_368 ?_
        refine zr_iconst S dL_law_369 ?_
        refine zr_iadd S dL_law_370 (fun w2 f2 => ?_)
        refine va_sld S.1 S.2.1 hX hbl hbA hw.1.2.2.1 (zI_in (by omega) (by omega) (by omega)) dL_law_371 ?_
        refine zr_any (fun z2 ez2 rz2 => ?_)
        rw [show z2 = x2 from by rw [ez2, ex2, show w2 = v2 by omega]]
        refine zr_aload S hl 0 rfl dL_law_372 ?_
        refine zr_iload_n S hl 3 rfl dL_law_373 ?_
        refine zr_iconst S dL_law_374 ?_
        refine zr_iadd S dL_law_375 (fun w3 f3 => ?_)
        refine va_sld S.1 S.2.1 hX hbl hbA hw.1.2.2.1 (zI_in (by omega) (by omega) (by omega)) dL_law_376 ?_
        refine zr_any (fun z3 ez3 rz3 => ?_)
        rw [show z3 = x3 from by rw [ez3, ex3, show w3 = v3 by omega]]
        refine lc_model S hw (metm_looseOpen l gm τ T x1 x2 x3 hRm rx1 rx2 rx3) kql1_looseOpen rfl rfl ⟨Nat.le_of_ble_eq_true rfl, Nat.le_of_ble_eq_true rfl⟩ rfl rfl hl.1 (Nat.le_of_ble_eq_true rfl) ⟨Nat.le_of_ble_eq_true rfl, Nat.le_of_ble_eq_true rfl⟩ dL_law_377 (fun r2 τ1 H locs p2 hw => ?_)
        obtain ⟨hr2, hRm1⟩ := p2
        refine lv_icmp_eq (tgt := 428) S.1 S.2.1 dL_law_380 (by decide) (fun _ => ?_) (fun hne => absurd (by rw [hr1, hr2]) hne)
        exact tail _ σ1 τ1 H locs ls hRt1 hRm1 hw hl
      · refine lv_tableIn (off := 353) (tgt := 385) S.1 S.2.1 dL_law_32 (by rw [zI_int ry]; omega) (by rw [zI_int ry]; omega) (by rw [zI_int ry, hy]; rfl) (by decide) ?_
        refine zr_aload S hl 1 rfl dL_law_385 ?_
        refine zr_aload S hl 0 rfl dL_law_386 ?_
        refine zr_iload_n S hl 3 rfl dL_law_387 ?_
        refine zr_iconst S dL_law_388 ?_
        refine zr_iadd S dL_law_389 (fun v1 e1 => ?_)
        refine va_sld S.1 S.2.1 hX hbl hbA hw.1.2.2.1 (zI_in (by omega) (by omega) (by omega)) dL_law_390 ?_
        refine zr_any (fun x1 ex1 rx1 => ?_)
        refine zr_aload S hl 0 rfl dL_law_391 ?_
        refine zr_iload_n S hl 3 rfl dL_law_392 ?_
        refine zr_iconst S dL_law_393 ?_
        refine zr_iadd S dL_law_394 (fun v2 e2 => ?_)
        refine va_sld S.1 S.2.1 hX hbl hbA hw.1.2.2.1 (zI_in (by omega) (by omega) (by omega)) dL_law_395 ?_
        refine zr_any (fun x2 ex2 rx2 => ?_)
        refine zr_aload S hl 0 rfl dL_law_396 ?_
        refine zr_iload_n S hl 3 rfl dL_law_397 ?_
        refine zr_iconst S dL_law_398 ?_
        refine zr_iadd S dL_law_399 (fun v3 e3 => ?_)
        refine va_sld S.1 S.2.1 hX hbl hbA hw.1.2.2.1 (zI_in (by omega) (by omega) (by omega)) dL_law_400 ?_
        refine zr_any (fun x3 ex3 rx3 => ?_)
        refine lc_tree S hw (met_looseClose l g σ T x1 x2 x3 hRt rx1 rx2 rx3) kql0_looseClose rfl rfl ⟨Nat.le_of_ble_eq_true rfl, Nat.le_of_ble_eq_true rfl⟩ rfl rfl hl.1 (Nat.le_of_ble_eq_true rfl) ⟨Nat.le_of_ble_eq_true rfl, Nat.le_of_ble_eq_true rfl⟩ dL_law_401 (fun r1 σ1 H locs p1 hw => ?_)
        obtain ⟨hr1, hRt1⟩ := p1
        refine zr_aload S hl 2 rfl dL_law_404 ?_
        refine zr_aload S hl 0 rfl dL_law_405 ?_
        refine zr_iload_n S hl 3 rfl dL_law_406 ?_
        refine zr_iconst S dL_law_407 ?_
        refine zr_iadd S dL_law_408 (fun w1 f1 => ?_)
        refine va_sld S.1 S.2.1 hX hbl hbA hw.1.2.2.1 (zI_in (by omega) (by omega) (by omega)) dL_law_409 ?_
        refine zr_any (fun z1 ez1 rz1 => ?_)
        rw [show z1 = x1 from by rw [ez1, ex1, show w1 = v1 by omega]]
        refine zr_aload S hl 0 rfl dL_law_410 ?_
        refine zr_iload_n S hl 3 rfl dL_law_411 ?_
        refine zr_iconst S dL_law_412 ?_
        refine zr_iadd S dL_law_413 (fun w2 f2 => ?_)
        refine va_sld S.1 S.2.1 hX hbl hbA hw.1.2.2.1 (zI_in (by omega) (by omega) (by omega)) dL_law_414 ?_
        refine zr_any (fun z2 ez2 rz2 => ?_)
        rw [show z2 = x2 from by rw [ez2, ex2, show w2 = v2 by omega]]
        refine zr_aload S hl 0 rfl dL_law_415 ?_
        refine zr_iload_n S hl 3 rfl dL_law_416 ?_
        refine zr_iconst S dL_law_417 ?_
        refine zr_iadd S dL_law_418 (fun w3 f3 => ?_)
        refine va_sld S.1 S.2.1 hX hbl hbA hw.1.2.2.1 (zI_in (by omega) (by omega) (by omega)) dL_law_419 ?_
        refine zr_any (fun z3 ez3 rz3 => ?_)
        rw [show z3 = x3 from by rw [ez3, ex3, show w3 = v3 by omega]]
        refine lc_model S hw (metm_looseClose l gm τ T x1 x2 x3 hRm rx1 rx2 rx3) kql1_looseClose rfl rfl ⟨Nat.le_of_ble_eq_true rfl, Nat.le_of_ble_eq_true rfl⟩ rfl rfl hl.1 (Nat.le_of_ble_eq_true rfl) ⟨Nat.le_of_ble_eq_true rfl, Nat.le_of_ble_eq_true rfl⟩ dL_law_420 (fun r2 τ1 H locs p2 hw => ?_)
        obtain ⟨hr2, hRm1⟩ := p2
        refine lv_icmp_eq (tgt := 428) S.1 S.2.1 dL_law_423 (by decide) (fun _ => ?_) (fun hne => absurd (by rw [hr1, hr2]) hne)
        exact tail _ σ1 τ1 H locs ls hRt1 hRm1 hw hl
      · refine lv_tableOut (tgt := 428) S.1 S.2.1 dL_law_32 (by rw [zI_int ry]; omega) (by decide) ?_
        exact tail T σ τ H locs ls hRt hRm hw hl
end
section
theorem zt_f0_ok : ∀ j, j < 19 → defaultValue (tyX0 j) = vp_V zt_f0 j := by
  intro j hj
  have e : zI 0 = 0 := zI_z.symm
  unfold zt_f0
  rw [e]
  match j, hj with
  | 0, _ => rfl
  | 1, _ => rfl
  | 2, _ => rfl
  | 3, _ => rfl
  | 4, _ => rfl
  | 5, _ => rfl
  | 6, _ => rfl
  | 7, _ => rfl
  | 8, _ => rfl
  | 9, _ => rfl
  | 10, _ => rfl
  | 11, _ => rfl
  | 12, _ => rfl
  | 13, _ => rfl
  | 14, _ => rfl
  | 15, _ => rfl
  | 16, _ => rfl
  | 17, _ => rfl
  | 18, _ => rfl
  | k + 19, h => exact absurd h (by omega)
theorem zm_f0_ok : ∀ j, j < 3 → defaultValue (tyX1 j) = vp_V zm_f0 j := by
  intro j hj
  have e : zI 0 = 0 := zI_z.symm
  unfold zm_f0
  rw [e]
  match j, hj with
  | 0, _ => rfl
  | 1, _ => rfl
  | 2, _ => rfl
  | k + 3, h => exact absurd h (by omega)
/-! the law, from its entry -/
theorem lw_apart {A : Nat → Prop} {g gm : zG} {σ τ : zS} (h : va_D A (zt_ce g σ ++ zm_ce gm τ)) : ∀ q : Nat, q ∈ zt_ad g → q ∉ zm_ad gm := by
  intro q h1 h2
  rw [← zt_ad_eq g σ] at h1
  rw [← zm_ad_eq gm τ] at h2
  obtain ⟨x1, hx1, e1⟩ := List.mem_map.mp h1
  obtain ⟨x2, hx2, e2⟩ := List.mem_map.mp h2
  obtain ⟨k1, hk1⟩ := List.getElem?_of_mem hx1
  obtain ⟨k2, hk2⟩ := List.getElem?_of_mem hx2
  have hl : k1 < (zt_ce g σ).length := (List.getElem?_eq_some_iff.mp hk1).1
  have g1 : (zt_ce g σ ++ zm_ce gm τ)[k1]? = some x1 := by rw [List.getElem?_append_left hl]; exact hk1
  have g2 : (zt_ce g σ ++ zm_ce gm τ)[(zt_ce g σ).length + k2]? = some x2 := by rw [List.getElem?_append_right (by omega), Nat.add_sub_cancel_left]; exact hk2
  have := h.1 _ _ _ _ g1 g2 (by rw [e1, e2])
  omega
set_option maxHeartbeats 8000000 in
set_option maxRecDepth 100000 in
theorem whole_start {p : Program} {e : Env} {s : State} {m : MethodId} {below : List Frame} {meth : Method} {c : Code} (l : Launch) {b L : Nat} {xs : Nat → Int32} (hL : L ≤ 256) (C0 : lw_At p s m meth c b L xs) : W p l e room_1 s m #[Value.ref b] below meth c s.heap [] 0 0 (lw_Z below #[Value.ref b] s) (entryFrame m ([Value.ref b] : List Value).toArray 4) := by
  obtain ⟨hx, hb, hr, hml, hown, hts0, hX, hbl, hlocks, hgv⟩ := id C0
  have hts : ∀ w ∈ lw_all, w.before #[Value.ref b] s = true := fun w h => hts0 w (lw_all_tbl h)
  have S : CallFix p m c cL_law 4 s #[Value.ref b] lw_all "BracketPairTreeLaw" := ⟨hx, hb, hml, hown, hts⟩
  have hA : ∀ q : Nat, s.heap.size ≤ q → (lA s) q := fun _ h => h
  obtain ⟨c0, iS0, hKn0⟩ := u_known (C := RX0) (T := TX0) (N := 19) (n := 19) hts in_X0 (hts _ q30)
  obtain ⟨c1, iS1, hKn1⟩ := u_known (C := RX1) (T := TX1) (N := 3) (n := 3) hts in_X1 (hts _ q224)
  obtain ⟨D, hKc⟩ : ∃ D : va_G, ∀ (k : Nat) (q : vw_C), vwCl[k]? = some q → u_Kn s q.1 q.2.1 q.2.2 (D.1 k) (D.2 k) := by
    refine ⟨(fun k => if k = 0 then c0 else c1, fun k => if k = 0 then iS0 else iS1), ?_⟩
    intro k q hq
    match k, hq with
    | 0, hq => cases hq; exact hKn0
    | 1, hq => cases hq; exact hKn1
    | k + 2, hq => simp [vwCl] at hq
  have hS : va_S (lA s) s.heap s.heap [] := va_S.rf
  have hK : va_K D vwCl [] s := ⟨hKc, fun k q h => by simp at h⟩
  have hP : va_P D vwCl [] s.heap := fun k q h => by simp at h
  have hD : va_D (lA s) [] := ⟨fun i j p q h => by simp at h, fun k q h => by simp at h⟩
  have hl := lv_entry ([.ref b]) (n := 4) (Nat.le_of_ble_eq_true rfl)
  rw [lg_entry_eq]
  generalize (lg_sl ([.ref b]) ++ List.replicate (4 - (lg_sl ([.ref b])).length) Slot.unset).toArray = ls at hl ⊢
  have hl : lv_has ls 4 [(0, .ref b)] := hl
  refine va_new (ci := 0) (fs := zt_f0) (C := RX0) (T := TX0) (N := 19) S.1 S.2.1 hts in_X0 tyX0 tyX0_ok S.2.2.2.1 (hts _ q29) (hts _ q30) (hts _ q27) hK hP hD hS hA rfl zt_f0_ok (Nat.le_of_ble_eq_true rfl) (Nat.le_of_ble_eq_true rfl) dL_law_0 (fun qt H hP hD hS => ?_)
  have hP : va_P D vwCl [(qt, .inr (0, zt_f0))] H := hP
  have hD : va_D (lA s) [(qt, .inr (0, zt_f0))] := hD
  refine W.widen (k := 1) (n := 19) (by omega) (by omega) ?_
  refine zr_dup S rfl dL_law_3 ?_
  have hFc := va_free (wc := [(qt, .inr (0, zt_f0))]) hD hS hA [0] rfl
  refine va_callv (va_runI (As := []) (rest := [.ref qt]) S (met_init l D qt H.size) (cwI 0 hts (lw_meth q33) rfl rfl rfl (hts _ q27) (hts _ q31) (hts _ q32) rfl (by decide +kernel) ⟨Nat.le_of_ble_eq_true rfl, Nat.le_of_ble_eq_true rfl⟩) ⟨fun a U g mk q => by obtain ⟨q0, q1, qP, qK, qD⟩ := q; exact ⟨q0, q1, qP, va_K.moved (u := U) (U := U.calling g mk a) (Vm.Alike.refl U.vm) qK, qD⟩, fun U hU hW => ⟨rfl, by rw [hU], by rw [hU]; exact hP, va_K.moved hW.alike hK, hD.weaken (fun _ _ _ _ => trivial)⟩⟩ rfl rfl hl.1 rfl (lv_room (Nat.le_of_ble_eq_true rfl)) dL_law_4 ⟨Nat.le_of_ble_eq_true rfl, Nat.le_of_ble_eq_true rfl⟩) hS (fun q _ h => hFc q h) hFc (fun u t H1 locs ht hvm hrep hB hz1 hk1 hS => ?_)
  obtain ⟨g, σ⟩ := u
  obtain ⟨hgD, hg0, hP1, hK1, hD1, hW1⟩ := hB
  rw [ht] at hP1
  have hKt := va_K.moved hvm.symm hK1
  have hDt := hD1.weaken (fun _ _ _ h => hFc _ h)
  dsimp only at hgD hg0 hP1 hKt hDt hW1 hrep
  clear hP hD hK1 hD1
  refine W.widen (k := 11) (n := 863) (by omega) (by omega) ?_
  refine lv_astore_n (lv' := [(1, .ref qt), (0, .ref b)]) S.1 S.2.1 dL_law_7 rfl hl (by decide) rfl (fun ls hl => ?_)
  refine va_new (ci := 1) (fs := zm_f0) (C := RX1) (T := TX1) (N := 3) S.1 S.2.1 hts in_X1 tyX1 tyX1_ok S.2.2.2.1 (hts _ q223) (hts _ q224) (hts _ q28) hK hP1 hDt hS hA rfl zm_f0_ok (Nat.le_of_ble_eq_true rfl) (Nat.le_of_ble_eq_true rfl) dL_law_8 (fun qm H hP hD hS => ?_)
  refine W.widen (k := 12) (n := 866) (by omega) (by omega) ?_
  refine zr_dup S rfl dL_law_11 ?_
  have hPc := hP.sub (ws' := [(qm, .inr (1, zm_f0))]) [11] rfl
  have hDc := hD.sub (ws' := [(qm, .inr (1, zm_f0))]) [11] (by decide) rfl
  have hFc := va_free (wc := [(qm, .inr (1, zm_f0))]) hD hS hA [11] rfl
  refine va_callv (va_runI (As := []) (rest := [.ref qm]) S (metm_init l D qm H.size) (cwI 0 hts (lw_meth q227) rfl rfl rfl (hts _ q28) (hts _ q225) (hts _ q226) rfl (by decide +kernel) ⟨Nat.le_of_ble_eq_true rfl, Nat.le_of_ble_eq_true rfl⟩) ⟨fun a U g mk q => by obtain ⟨q0, q1, qP, qK, qD⟩ := q; exact ⟨q0, q1, qP, va_K.moved (u := U) (U := U.calling g mk a) (Vm.Alike.refl U.vm) qK, qD⟩, fun U hU hW => ⟨rfl, by rw [hU], by rw [hU]; exact hPc, va_K.moved hW.alike hK, hDc.weaken (fun _ _ _ _ => trivial)⟩⟩ rfl rfl hl.1 rfl (lv_room (Nat.le_of_ble_eq_true rfl)) dL_law_12 ⟨Nat.le_of_ble_eq_true rfl, Nat.le_of_ble_eq_true rfl⟩) hS (fun q _ h => hFc q h) hFc (fun u t H2 locs ht hvm hrepm hB hz1 hk1 hS => ?_)
  obtain ⟨gm, τ⟩ := u
  obtain ⟨hgmD, hgm0, hP2, hK2, hD2, hW2⟩ := hB
  rw [ht] at hP2
  have hKm := va_K.moved hvm.symm hK2
  dsimp only at hgmD hgm0 hP2 hKm hD2 hW2 hrepm
  obtain ⟨hPj, hDj⟩ := va_join (wr := zt_ce g σ) (w1 := zm_ce gm τ) hP hD [11] [0, 1, 2, 3, 4, 5, 6, 7, 8, 9, 10] rfl rfl (by decide) (by decide) hk1 hFc hP2 hD2
  have hap := lw_apart hDj
  have hPa : va_P D vwCl (zt_ce g σ) H2 := hPj.sub [0, 1, 2, 3, 4, 5, 6, 7, 8, 9, 10] rfl
  have hDa : va_D (lA s) (zt_ce g σ) := hDj.sub [0, 1, 2, 3, 4, 5, 6, 7, 8, 9, 10] (by decide) rfl
  have hDb : va_D (lA s) (zm_ce gm τ) := hDj.sub [11, 12, 13] (by decide) rfl
  have hw : LW g gm s H2 locs σ τ := by
    refine ⟨⟨?_, hDa, hS, ?_, hW1, hA⟩, ⟨?_, hDb, hS, ?_, hW2, hA⟩, hap⟩
    · rw [hgD]; exact hPa
    · rw [hgD]; exact hKt
    · rw [hgmD]; exact hP2
    · rw [hgmD]; exact hKm
  refine W.widen (k := 14) (n := 986) (by omega) (by omega) ?_
  refine lv_astore_n (lv' := [(2, .ref qm), (1, .ref qt), (0, .ref b)]) S.1 S.2.1 dL_law_15 rfl hl (by decide) rfl (fun ls hl => ?_)
  refine zr_iconst S dL_law_16 ?_
  refine zr_istore_n S [(3, .int (zI 0)), (2, .ref qm), (1, .ref qt), (0, .ref b)] hl (by decide) rfl dL_law_17 (fun ls hl => ?_)
  rw [← hg0, ← hgm0] at hl
  exact law_loop hL C0 L 0 [] σ τ H2 locs ls (by omega) (by omega) hrep hrepm hw (lv_sub hl [3, 2, 1, 0] rfl)
end
section
set_option maxHeartbeats 4000000 in
theorem lw_walk (l : Launch) (b : Addr) (xs : List Int32) : MetFree l x (headSpec (Jvm.Cond.code x code maxLocals ret :: tables_1) room_1) (lw_P b xs) (fun _ _ _ _ _ => True) lw_Q := by
  refine MetFree.of_bodyS (code := code) (maxLocals := maxLocals) (ret := ret) (by decide) ?_ ?_
  · intro args s m h hn
    obtain ⟨meth, c, h1, h2, h3, h4, h5, h6, -, -⟩ := Cond.code_spec hn (atoms_spec (ws := Jvm.Cond.code x code maxLocals ret :: tables_1) h _ List.mem_cons_self)
    exact ⟨meth, c, h1, h2, h3, h4, h5, h6⟩
  · intro p e s m args below meth c s₁ B hml0 hP _
    obtain ⟨rfl, hx, hbd, hgv⟩ := hP
    obtain ⟨scr, harrAt, hlist, hof, hsmall⟩ := hx
    obtain ⟨hcb, hkn, -, -⟩ := State.arrayAt?_spec harrAt
    have hown : s.vm.findClass R_law = some m.cls := findClass_of_methodNamed B.named
    have hts0 : ∀ c ∈ (Jvm.Cond.code x code maxLocals ret :: tables_1), c.before #[Value.ref b] s = true := atoms_spec (ws := Jvm.Cond.code x code maxLocals ret :: tables_1) B.pre
    have hts : ∀ w ∈ lw_tbl, w.before #[Value.ref b] s = true := k2_hts_sels lw_privs (fun w hw => hts0 w (List.mem_cons_of_mem _ hw)) lw_privs_ok
    have hml : c.maxLocals = 4 := B.maxLocals_eq (hts0 _ List.mem_cons_self)
    have X₀ : Stand p l e room_1 s m #[Value.ref b] below meth c s₁ [] 0 0 := Stand.of_body B
    have hh0 : s₁.heap = s.heap := by rw [B.state]; rfl
    have hsz : scr.slots.size = xs.length := by rw [← Array.length_toList, hlist, List.length_map]
    have hval : ∀ j : Nat, j < xs.length → scr.slots[j]? = some (.int (xs.getD j 0)) := fun j hj => by
      rw [← Array.getElem?_toList, hlist]
      simp [hj]
    have hbl : b < s.heap.size := (Array.getElem?_eq_some_iff.mp hcb).1
    have hX : va_X b xs.length (fun j => xs.getD j 0) s s.heap := ⟨scr, hcb, hof, hkn, hsz, hval⟩
    have K : W p l e room_1 s m #[Value.ref b] below meth c s₁.heap [] 0 0 (lw_Z below #[Value.ref b] s) (entryFrame m ([Value.ref b] : List Value).toArray 4) := by
      rw [hh0]
      exact whole_start l hbd ⟨B.exec, B.bytes, B.returns, hml, hown, hts, hX, hbl, B.notSynchronized, hgv⟩
    obtain ⟨t, a1, o, b1, b2, b3⟩ := K s₁ rfl X₀
    exact ⟨t, o, a1, b1, b2, b3⟩
theorem lw_pre_spec {args : Array Value} {s : State} (h : (Jvm.Cond.and given_1 narrow_1).before args s = true) (hr : rest_1_c.before args s = true) : ∃ (b : Addr) (xs : List Int32), lw_P b xs args s := by
  have hs := flat_of_before _ h
  have hq := flat_of_before _ hr
  have hc : (Cond.count 1).before args s = true := hs _ (by decide +kernel)
  have harr : (Cond.arrayOf (.arg 0) .int).before args s = true := hs _ (by decide +kernel)
  have hle : (Cond.le (.length (.arg 0)) (.int 256)).before args s = true := hs _ (by decide +kernel)
  have hlen : (Cond.isInt (.length (.arg 0))).before args s = true := hq _ (by decide +kernel)
  have hall : (Cond.all (.arg 0) (.isInt (.elem (.arg 0) (.index 0)))).before args s = true := hq _ (by decide +kernel)
  obtain ⟨b, xs, hb, hx⟩ := State.ints_of_pre rfl harr hlen hall
  have hsm : xs.length < 2 ^ 31 := hx.choose_spec.2.2.2
  have hev : (Term.length (.arg 0)).eval args s none [] s = some (.int xs.length.toInt32) := hx.length_eval hb
  have hv := Cond.le_ints hev (show (Term.int 256).eval args s none [] s = some (.int 256) from rfl)
  have hd : xs.length.toInt32 ≤ 256 := by
    simpa [Cond.before, Cond.holds, hv] using hle
  have hN : xs.length ≤ 256 := (Int32.ofNat_le_ofNat hsm (by decide)).mp (show Int32.ofNat xs.length ≤ Int32.ofNat 256 from hd)
  exact ⟨b, xs, Cond.one_arg hc (show args[0]? = some (.ref b) from hb), hx, hN, h⟩
theorem lw_comes (l : Launch) : Comes l x (Jvm.Cond.code x code maxLocals ret :: tables_1) room_1 (fun tb e args s => Calls_1 tb e args s ∧ rest_1 tb e args s ∧ Pre_1 tb e args s)
    (fun _ _ args s o t => lw_Q args s o t) := by
  intro p e ha hc hk s m args below hf hfit hheap happ hpre
  obtain ⟨b, xs, hP⟩ := lw_pre_spec hpre.2.2 hpre.2.1
  obtain ⟨k, o, h1, h2, h3, hQ⟩ := lw_walk l b xs p e ha hc hk s m args below hf ((Spec.applies_iff_loose hf).mp happ).1 hP trivial
  exact ⟨k, o, h1, h2, h3, hQ⟩
theorem lw_frame {s t : State} {o : Outcome} {args : Array Value} (h : Framed s o t [] 600000 7290000) :
    Framed s o t (fieldLocs frame_1_writes args s ++ arrayLocs frame_1_arrays args s ++ staticLocs frame_1_statics s) 600000 7290000 := h
theorem lw_limb (L : Cond) (hL : ∀ (args : Array Value) (s t : State), L.after args s (.returned (some (.int 1))) t = true) :
    ArmFor flags0 classFile x code maxLocals ret World_1 tables_1 room_1 Calls_1 rest_1 Pre_1
      (fun tb e a s o t => postC L tb e a s o t ∧ Framed s o t (fieldLocs frame_1_writes a s ++ arrayLocs frame_1_arrays a s ++ staticLocs frame_1_statics s) 600000 7290000) := by
  intro l _ _ _ p e ha hc hk s m args below hf hfit hheap happ hpre
  obtain ⟨k, o, h1, h2, h3, rfl, hF⟩ := lw_comes l p e ha hc hk s m args below hf hfit hheap happ hpre
  exact ⟨k, _, h1, h2, h3, hL args s _, lw_frame hF⟩
theorem i_vc : Claimed_1_1 ∧ Claimed_1_2 := ⟨lw_limb limb_1_1 (fun args s t => by simp [limb_1_1, Cond.after, Cond.holds, Cond.value]), lw_limb limb_1_2 (fun args s t => Cond.after_iff.mpr (by
  first | (rw [show limb_1_2 = Cond.eq .result (.int 1) from rfl, Cond.eq_ints (x := 1) (y := 1) rfl rfl]; simp; done) | (simp [limb_1_2, Cond.value, Term.eval]; done)))⟩
end
