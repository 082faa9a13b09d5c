section
-- ===== PART A: goes FIRST, ahead of the names: the tables' words, and 'selects' of the private methods out of them =====
/-- a private method of a class that the tables say can be made, by its rows of tables_1 -/
def lw_okq (q : MethodName × Nat) : Prop := (q.1.cls ≠ "java/lang/invoke/MethodHandle" ∧ q.1.cls ≠ "java/lang/invoke/VarHandle") ∧ Cond.instantiable q.1.cls q.2 ∈ tables_1 ∧ Cond.privateMethod q.1 ∈ tables_1 ∧ Cond.instanceMethod q.1 ∈ tables_1
set_option maxRecDepth 100000
theorem lw_t1 {w : Cond} (h : w ∈ tables_1_1) : w ∈ tables_1 := List.mem_append_left _ h
theorem lw_t2 {w : Cond} (h : w ∈ tables_1_2) : w ∈ tables_1 := List.mem_append_right _ h
theorem lw_p0 : lw_okq (⟨"PatternTrees", "node", "(III)I"⟩, 23) := ⟨⟨by decide +kernel, by decide +kernel⟩, lw_t1 (List.mem_of_getElem? (i := 4) rfl), lw_t1 (List.mem_of_getElem? (i := 88) rfl), lw_t1 (List.mem_of_getElem? (i := 89) rfl)⟩
theorem lw_p1 : lw_okq (⟨"PatternTrees", "congruent", "(II)Z"⟩, 23) := ⟨⟨by decide +kernel, by decide +kernel⟩, lw_t1 (List.mem_of_getElem? (i := 4) rfl), lw_t1 (List.mem_of_getElem? (i := 92) rfl), lw_t1 (List.mem_of_getElem? (i := 93) rfl)⟩
theorem lw_p2 : lw_okq (⟨"PatternTrees", "isNode", "(I)Z"⟩, 23) := ⟨⟨by decide +kernel, by decide +kernel⟩, lw_t1 (List.mem_of_getElem? (i := 4) rfl), lw_t1 (List.mem_of_getElem? (i := 100) rfl), lw_t1 (List.mem_of_getElem? (i := 101) rfl)⟩
theorem lw_p3 : lw_okq (⟨"PatternTrees", "push", "(II)V"⟩, 23) := ⟨⟨by decide +kernel, by decide +kernel⟩, lw_t1 (List.mem_of_getElem? (i := 4) rfl), lw_t1 (List.mem_of_getElem? (i := 112) rfl), lw_t1 (List.mem_of_getElem? (i := 113) rfl)⟩
theorem lw_p4 : lw_okq (⟨"PatternTrees", "join", "(II)V"⟩, 23) := ⟨⟨by decide +kernel, by decide +kernel⟩, lw_t1 (List.mem_of_getElem? (i := 4) rfl), lw_t1 (List.mem_of_getElem? (i := 116) rfl), lw_t1 (List.mem_of_getElem? (i := 117) rfl)⟩
theorem lw_p5 : lw_okq (⟨"PatternTrees", "compile", "()V"⟩, 23) := ⟨⟨by decide +kernel, by decide +kernel⟩, lw_t1 (List.mem_of_getElem? (i := 4) rfl), lw_t1 (List.mem_of_getElem? (i := 141) rfl), lw_t1 (List.mem_of_getElem? (i := 142) rfl)⟩
theorem lw_p6 : lw_okq (⟨"PatternTrees", "write", "(III)V"⟩, 23) := ⟨⟨by decide +kernel, by decide +kernel⟩, lw_t1 (List.mem_of_getElem? (i := 4) rfl), lw_t1 (List.mem_of_getElem? (i := 145) rfl), lw_t1 (List.mem_of_getElem? (i := 146) rfl)⟩
theorem lw_p7 : lw_okq (⟨"PatternTrees", "runAll", "()V"⟩, 23) := ⟨⟨by decide +kernel, by decide +kernel⟩, lw_t1 (List.mem_of_getElem? (i := 4) rfl), lw_t1 (List.mem_of_getElem? (i := 149) rfl), lw_t1 (List.mem_of_getElem? (i := 150) rfl)⟩
theorem lw_p8 : lw_okq (⟨"PatternTrees", "clearFound", "()V"⟩, 23) := ⟨⟨by decide +kernel, by decide +kernel⟩, lw_t1 (List.mem_of_getElem? (i := 4) rfl), lw_t1 (List.mem_of_getElem? (i := 153) rfl), lw_t1 (List.mem_of_getElem? (i := 154) rfl)⟩
theorem lw_p9 : lw_okq (⟨"PatternTrees", "run", "(I)V"⟩, 23) := ⟨⟨by decide +kernel, by decide +kernel⟩, lw_t1 (List.mem_of_getElem? (i := 4) rfl), lw_t1 (List.mem_of_getElem? (i := 157) rfl), lw_t1 (List.mem_of_getElem? (i := 158) rfl)⟩
theorem lw_p10 : lw_okq (⟨"PatternTrees", "take", "(I)Z"⟩, 23) := ⟨⟨by decide +kernel, by decide +kernel⟩, lw_t1 (List.mem_of_getElem? (i := 4) rfl), lw_t1 (List.mem_of_getElem? (i := 161) rfl), lw_t1 (List.mem_of_getElem? (i := 162) rfl)⟩
theorem lw_p11 : lw_okq (⟨"PatternTrees", "decide", "(I)Z"⟩, 23) := ⟨⟨by decide +kernel, by decide +kernel⟩, lw_t1 (List.mem_of_getElem? (i := 4) rfl), lw_t1 (List.mem_of_getElem? (i := 165) rfl), lw_t1 (List.mem_of_getElem? (i := 166) rfl)⟩
theorem lw_p12 : lw_okq (⟨"PatternTrees", "note", "()V"⟩, 23) := ⟨⟨by decide +kernel, by decide +kernel⟩, lw_t1 (List.mem_of_getElem? (i := 4) rfl), lw_t1 (List.mem_of_getElem? (i := 169) rfl), lw_t1 (List.mem_of_getElem? (i := 170) rfl)⟩
theorem lw_p13 : lw_okq (⟨"PatternTrees", "classOfConstant", "(I)I"⟩, 23) := ⟨⟨by decide +kernel, by decide +kernel⟩, lw_t1 (List.mem_of_getElem? (i := 4) rfl), lw_t1 (List.mem_of_getElem? (i := 173) rfl), lw_t1 (List.mem_of_getElem? (i := 174) rfl)⟩
theorem lw_p14 : lw_okq (⟨"PatternTrees", "back", "(I)I"⟩, 23) := ⟨⟨by decide +kernel, by decide +kernel⟩, lw_t1 (List.mem_of_getElem? (i := 4) rfl), lw_t1 (List.mem_of_getElem? (i := 177) rfl), lw_t1 (List.mem_of_getElem? (i := 178) rfl)⟩
theorem lw_p15 : lw_okq (⟨"PatternTrees", "foundCount", "()I"⟩, 23) := ⟨⟨by decide +kernel, by decide +kernel⟩, lw_t1 (List.mem_of_getElem? (i := 4) rfl), lw_t1 (List.mem_of_getElem? (i := 181) rfl), lw_t1 (List.mem_of_getElem? (i := 182) rfl)⟩
def lw_privs_1 : List (MethodName × Nat) := [(⟨"PatternTrees", "node", "(III)I"⟩, 23), (⟨"PatternTrees", "congruent", "(II)Z"⟩, 23), (⟨"PatternTrees", "isNode", "(I)Z"⟩, 23), (⟨"PatternTrees", "push", "(II)V"⟩, 23), (⟨"PatternTrees", "join", "(II)V"⟩, 23), (⟨"PatternTrees", "compile", "()V"⟩, 23), (⟨"PatternTrees", "write", "(III)V"⟩, 23), (⟨"PatternTrees", "runAll", "()V"⟩, 23), (⟨"PatternTrees", "clearFound", "()V"⟩, 23), (⟨"PatternTrees", "run", "(I)V"⟩, 23), (⟨"PatternTrees", "take", "(I)Z"⟩, 23), (⟨"PatternTrees", "decide", "(I)Z"⟩, 23), (⟨"PatternTrees", "note", "()V"⟩, 23), (⟨"PatternTrees", "classOfConstant", "(I)I"⟩, 23), (⟨"PatternTrees", "back", "(I)I"⟩, 23), (⟨"PatternTrees", "foundCount", "()I"⟩, 23)]
theorem lw_r1 : ∀ q ∈ lw_privs_1, lw_okq q := List.forall_mem_cons.mpr ⟨lw_p0, List.forall_mem_cons.mpr ⟨lw_p1, List.forall_mem_cons.mpr ⟨lw_p2, List.forall_mem_cons.mpr ⟨lw_p3, List.forall_mem_cons.mpr ⟨lw_p4, List.forall_mem_cons.mpr ⟨lw_p5, List.forall_mem_cons.mpr ⟨lw_p6, List.forall_mem_cons.mpr ⟨lw_p7, List.forall_mem_cons.mpr ⟨lw_p8, List.forall_mem_cons.mpr ⟨lw_p9, List.forall_mem_cons.mpr ⟨lw_p10, List.forall_mem_cons.mpr ⟨lw_p11, List.forall_mem_cons.mpr ⟨lw_p12, List.forall_mem_cons.mpr ⟨lw_p13, List.forall_mem_cons.mpr ⟨lw_p14, List.forall_mem_cons.mpr ⟨lw_p15, fun _ h => absurd h List.not_mem_nil⟩⟩⟩⟩⟩⟩⟩⟩⟩⟩⟩⟩⟩⟩⟩⟩
theorem lw_p16 : lw_okq (⟨"PatternTreesModel", "make", "(III)I"⟩, 13) := ⟨⟨by decide +kernel, by decide +kernel⟩, lw_t1 (List.mem_of_getElem? (i := 197) rfl), lw_t2 (List.mem_of_getElem? (i := 8) rfl), lw_t2 (List.mem_of_getElem? (i := 9) rfl)⟩
theorem lw_p17 : lw_okq (⟨"PatternTreesModel", "follow", "()V"⟩, 13) := ⟨⟨by decide +kernel, by decide +kernel⟩, lw_t1 (List.mem_of_getElem? (i := 197) rfl), lw_t2 (List.mem_of_getElem? (i := 12) rfl), lw_t2 (List.mem_of_getElem? (i := 13) rfl)⟩
theorem lw_p18 : lw_okq (⟨"PatternTreesModel", "alike", "(II)Z"⟩, 13) := ⟨⟨by decide +kernel, by decide +kernel⟩, lw_t1 (List.mem_of_getElem? (i := 197) rfl), lw_t2 (List.mem_of_getElem? (i := 16) rfl), lw_t2 (List.mem_of_getElem? (i := 17) rfl)⟩
theorem lw_p19 : lw_okq (⟨"PatternTreesModel", "join", "(II)Z"⟩, 13) := ⟨⟨by decide +kernel, by decide +kernel⟩, lw_t1 (List.mem_of_getElem? (i := 197) rfl), lw_t2 (List.mem_of_getElem? (i := 20) rfl), lw_t2 (List.mem_of_getElem? (i := 21) rfl)⟩
theorem lw_p20 : lw_okq (⟨"PatternTreesModel", "isNode", "(I)Z"⟩, 13) := ⟨⟨by decide +kernel, by decide +kernel⟩, lw_t1 (List.mem_of_getElem? (i := 197) rfl), lw_t2 (List.mem_of_getElem? (i := 28) rfl), lw_t2 (List.mem_of_getElem? (i := 29) rfl)⟩
theorem lw_p21 : lw_okq (⟨"PatternTreesModel", "whole", "()Z"⟩, 13) := ⟨⟨by decide +kernel, by decide +kernel⟩, lw_t1 (List.mem_of_getElem? (i := 197) rfl), lw_t2 (List.mem_of_getElem? (i := 61) rfl), lw_t2 (List.mem_of_getElem? (i := 62) rfl)⟩
theorem lw_p22 : lw_okq (⟨"PatternTreesModel", "search", "(II)V"⟩, 13) := ⟨⟨by decide +kernel, by decide +kernel⟩, lw_t1 (List.mem_of_getElem? (i := 197) rfl), lw_t2 (List.mem_of_getElem? (i := 65) rfl), lw_t2 (List.mem_of_getElem? (i := 66) rfl)⟩
theorem lw_p23 : lw_okq (⟨"PatternTreesModel", "tried", "(II)Z"⟩, 13) := ⟨⟨by decide +kernel, by decide +kernel⟩, lw_t1 (List.mem_of_getElem? (i := 197) rfl), lw_t2 (List.mem_of_getElem? (i := 69) rfl), lw_t2 (List.mem_of_getElem? (i := 70) rfl)⟩
theorem lw_p24 : lw_okq (⟨"PatternTreesModel", "hasVariable", "(I)Z"⟩, 13) := ⟨⟨by decide +kernel, by decide +kernel⟩, lw_t1 (List.mem_of_getElem? (i := 197) rfl), lw_t2 (List.mem_of_getElem? (i := 73) rfl), lw_t2 (List.mem_of_getElem? (i := 74) rfl)⟩
theorem lw_p25 : lw_okq (⟨"PatternTreesModel", "look", "(I)V"⟩, 13) := ⟨⟨by decide +kernel, by decide +kernel⟩, lw_t1 (List.mem_of_getElem? (i := 197) rfl), lw_t2 (List.mem_of_getElem? (i := 77) rfl), lw_t2 (List.mem_of_getElem? (i := 78) rfl)⟩
theorem lw_p26 : lw_okq (⟨"PatternTreesModel", "value", "()I"⟩, 13) := ⟨⟨by decide +kernel, by decide +kernel⟩, lw_t1 (List.mem_of_getElem? (i := 197) rfl), lw_t2 (List.mem_of_getElem? (i := 81) rfl), lw_t2 (List.mem_of_getElem? (i := 82) rfl)⟩
theorem lw_p27 : lw_okq (⟨"PatternTreesModel", "over", "(III)I"⟩, 13) := ⟨⟨by decide +kernel, by decide +kernel⟩, lw_t1 (List.mem_of_getElem? (i := 197) rfl), lw_t2 (List.mem_of_getElem? (i := 85) rfl), lw_t2 (List.mem_of_getElem? (i := 86) rfl)⟩
def lw_privs_2 : List (MethodName × Nat) := [(⟨"PatternTreesModel", "make", "(III)I"⟩, 13), (⟨"PatternTreesModel", "follow", "()V"⟩, 13), (⟨"PatternTreesModel", "alike", "(II)Z"⟩, 13), (⟨"PatternTreesModel", "join", "(II)Z"⟩, 13), (⟨"PatternTreesModel", "isNode", "(I)Z"⟩, 13), (⟨"PatternTreesModel", "whole", "()Z"⟩, 13), (⟨"PatternTreesModel", "search", "(II)V"⟩, 13), (⟨"PatternTreesModel", "tried", "(II)Z"⟩, 13), (⟨"PatternTreesModel", "hasVariable", "(I)Z"⟩, 13), (⟨"PatternTreesModel", "look", "(I)V"⟩, 13), (⟨"PatternTreesModel", "value", "()I"⟩, 13), (⟨"PatternTreesModel", "over", "(III)I"⟩, 13)]
theorem lw_r2 : ∀ q ∈ lw_privs_2, lw_okq q := List.forall_mem_cons.mpr ⟨lw_p16, List.forall_mem_cons.mpr ⟨lw_p17, List.forall_mem_cons.mpr ⟨lw_p18, List.forall_mem_cons.mpr ⟨lw_p19, List.forall_mem_cons.mpr ⟨lw_p20, List.forall_mem_cons.mpr ⟨lw_p21, List.forall_mem_cons.mpr ⟨lw_p22, List.forall_mem_cons.mpr ⟨lw_p23, List.forall_mem_cons.mpr ⟨lw_p24, List.forall_mem_cons.mpr ⟨lw_p25, List.forall_mem_cons.mpr ⟨lw_p26, List.forall_mem_cons.mpr ⟨lw_p27, fun _ h => absurd h List.not_mem_nil⟩⟩⟩⟩⟩⟩⟩⟩⟩⟩⟩⟩
def lw_privs : List (MethodName × Nat) := lw_privs_1 ++ (lw_privs_2)
def lw_tbl : List Cond := k2_sels lw_privs ++ tables_1
theorem lw_privs_ok : ∀ q ∈ lw_privs, lw_okq q := by
  show ∀ q ∈ lw_privs_1 ++ (lw_privs_2), lw_okq q
  exact List.forall_mem_append.mpr ⟨lw_r1, lw_r2⟩
-- ===== ONE list of words for every method: the tables' words that hold all through a run =====
def lw_all : List Cond := lw_tbl.filter goodWord
/-- a word of the tables by its place: claim/WORDS.tsv -/
theorem lw_w {w : Cond} (i : Nat) (h : lw_tbl[i]? = some w) (g : goodWord w = true) : w ∈ lw_all := List.mem_filter.mpr ⟨List.mem_of_getElem? h, g⟩
theorem lw_all_tbl {w : Cond} (h : w ∈ lw_all) : w ∈ lw_tbl := (List.mem_filter.mp h).1
theorem lw_self : GoodIn lw_all lw_all := fun w h => ⟨h, good_of_word (List.mem_filter.mp h).2⟩
/-- a class's field words, by their places -/
theorem lw_in (ws : List Cond) (ps : List Nat) (hp : ws = ps.filterMap (fun i => lw_tbl[i]?)) (hg : ws.all goodWord = true) : ∀ w ∈ ws, w ∈ lw_all := by
  intro w h
  have h1 := List.all_eq_true.mp hg w h
  rw [hp] at h
  obtain ⟨i, -, hi⟩ := List.mem_filterMap.mp h
  exact lw_w i hi h1
/-- the words of a contract for the method y with code b, L locals, answer r -/
abbrev ws_ (y : MethodName) (b : ByteArray) (L : Nat) (r : Option FieldType) : List Cond := Cond.code y b L r :: lw_all
theorem lw_meth {y : MethodName} {b : ByteArray} {L : Nat} {r : Option FieldType} (h : Cond.code y b L r ∈ lw_all) : GoodIn lw_all (ws_ y b L r) := by
  intro w hw
  rcases List.mem_cons.mp hw with e | e
  · rw [e]
    exact lw_self _ h
  · exact lw_self _ e
theorem lw_app {a c : List Cond} (ha : ∀ w ∈ a, w ∈ lw_all) (hc : GoodIn lw_all c) : GoodIn lw_all (a ++ c) := by
  intro w hw
  rcases List.mem_append.mp hw with e | e
  · exact lw_self w (ha w e)
  · exact hc w e
/-- what a call through an object asks: cwV n hts (lw_V ..) -/
theorem lw_V {own : String} {idx : Nat} {C : String} {y : MethodName} {b : ByteArray} {L : Nat} {r : Option FieldType} (h1 : Cond.methodLink own idx y ∈ lw_all) (h2 : Cond.instanceMethod y ∈ lw_all) (h3 : Cond.selects C y y ∈ lw_all) (h4 : Cond.initialized C ∈ lw_all) (h5 : Cond.code y b L r ∈ lw_all) : GoodIn lw_all (wsV own idx C y (ws_ y b L r)) := by
  refine lw_app ?_ (lw_meth h5)
  intro w hw
  simp only [List.mem_cons, List.not_mem_nil, or_false] at hw
  rcases hw with e | e | e | e
  · rw [e]; exact h1
  · rw [e]; exact h2
  · rw [e]; exact h3
  · rw [e]; exact h4
/-- what a static call asks: va_cwS n hts (lw_S ..) -/
theorem lw_S {own : String} {idx : Nat} {y : MethodName} {b : ByteArray} {L : Nat} {r : Option FieldType} (h1 : Cond.methodLink own idx y ∈ lw_all) (h2 : Cond.static y ∈ lw_all) (h3 : Cond.initialized y.cls ∈ lw_all) (h4 : Cond.code y b L r ∈ lw_all) : GoodIn lw_all (va_wsS own idx y (ws_ y b L r)) := by
  refine lw_app ?_ (lw_meth h4)
  intro w hw
  simp only [List.mem_cons, List.not_mem_nil, or_false] at hw
  rcases hw with e | e | e
  · rw [e]; exact h1
  · rw [e]; exact h2
  · rw [e]; exact h3
/-- the words of a contract for a method WITH HANDLERS (hh: its table) -/
abbrev wsW_ (y : MethodName) (b : ByteArray) (L : Nat) (r : Option FieldType) (hh : List (Nat × Nat × Nat × Nat)) : List Cond := Cond.codeWith y b L r hh :: lw_all
theorem lw_methW {y : MethodName} {b : ByteArray} {L : Nat} {r : Option FieldType} {hh : List (Nat × Nat × Nat × Nat)} (h : Cond.codeWith y b L r hh ∈ lw_all) : GoodIn lw_all (wsW_ y b L r hh) := by
  intro w hw
  rcases List.mem_cons.mp hw with e | e
  · rw [e]
    exact lw_self _ h
  · exact lw_self _ e
/-- any list of words by their places (lw_in), good -/
theorem lw_good {ws : List Cond} (h : ∀ w ∈ ws, w ∈ lw_all) : GoodIn lw_all ws := fun w hw => lw_self w (h w hw)
/-- what a call of a method with handlers asks: vx_cwVW n hts (lw_VW ..), vx_cwSW n hts (lw_SW ..) -/
theorem lw_VW {own : String} {idx : Nat} {C : String} {y : MethodName} {b : ByteArray} {L : Nat} {r : Option FieldType} {hh : List (Nat × Nat × Nat × Nat)} (h1 : Cond.methodLink own idx y ∈ lw_all) (h2 : Cond.instanceMethod y ∈ lw_all) (h3 : Cond.selects C y y ∈ lw_all) (h4 : Cond.initialized C ∈ lw_all) (h5 : Cond.codeWith y b L r hh ∈ lw_all) : GoodIn lw_all (wsV own idx C y (wsW_ y b L r hh)) := by
  refine lw_app ?_ (lw_methW h5)
  intro w hw
  simp only [List.mem_cons, List.not_mem_nil, or_false] at hw
  rcases hw with e | e | e | e
  · rw [e]; exact h1
  · rw [e]; exact h2
  · rw [e]; exact h3
  · rw [e]; exact h4
theorem lw_SW {own : String} {idx : Nat} {y : MethodName} {b : ByteArray} {L : Nat} {r : Option FieldType} {hh : List (Nat × Nat × Nat × Nat)} (h1 : Cond.methodLink own idx y ∈ lw_all) (h2 : Cond.static y ∈ lw_all) (h3 : Cond.initialized y.cls ∈ lw_all) (h4 : Cond.codeWith y b L r hh ∈ lw_all) : GoodIn lw_all (va_wsS own idx y (wsW_ y b L r hh)) := by
  refine lw_app ?_ (lw_methW h4)
  intro w hw
  simp only [List.mem_cons, List.not_mem_nil, or_false] at hw
  rcases hw with e | e | e
  · rw [e]; exact h1
  · rw [e]; exact h2
  · rw [e]; exact h3
/-- a word by its place in its run of the tables -/
theorem lw_at {r : List Cond} (hr : ∀ w ∈ r, w ∈ lw_tbl) {w : Cond} (i : Nat) (h : r[i]? = some w) : w ∈ lw_tbl := hr w (List.mem_of_getElem? h)
theorem lw_g {w : Cond} (h : w ∈ lw_tbl) (g : goodWord w = true) : w ∈ lw_all := List.mem_filter.mpr ⟨h, g⟩
theorem lw_ms : ∀ w ∈ k2_sels lw_privs, w ∈ lw_tbl := fun w h => show w ∈ k2_sels lw_privs ++ tables_1 from List.mem_append_left _ h
theorem lw_m1 : ∀ w ∈ tables_1_1, w ∈ lw_tbl := fun w h => show w ∈ k2_sels lw_privs ++ tables_1 from List.mem_append_right (k2_sels lw_privs) (show w ∈ tables_1 from List.mem_append_left _ h)
theorem lw_m2 : ∀ w ∈ tables_1_2, w ∈ lw_tbl := fun w h => show w ∈ k2_sels lw_privs ++ tables_1 from List.mem_append_right (k2_sels lw_privs) (show w ∈ tables_1 from List.mem_append_right _ h)
theorem qs0 : (Cond.selects "PatternTrees" ⟨"PatternTrees", "node", "(III)I"⟩ ⟨"PatternTrees", "node", "(III)I"⟩) ∈ lw_all := lw_g (lw_at lw_ms 0 rfl) rfl
theorem qs1 : (Cond.selects "PatternTrees" ⟨"PatternTrees", "congruent", "(II)Z"⟩ ⟨"PatternTrees", "congruent", "(II)Z"⟩) ∈ lw_all := lw_g (lw_at lw_ms 1 rfl) rfl
theorem qs2 : (Cond.selects "PatternTrees" ⟨"PatternTrees", "isNode", "(I)Z"⟩ ⟨"PatternTrees", "isNode", "(I)Z"⟩) ∈ lw_all := lw_g (lw_at lw_ms 2 rfl) rfl
theorem qs3 : (Cond.selects "PatternTrees" ⟨"PatternTrees", "push", "(II)V"⟩ ⟨"PatternTrees", "push", "(II)V"⟩) ∈ lw_all := lw_g (lw_at lw_ms 3 rfl) rfl
theorem qs4 : (Cond.selects "PatternTrees" ⟨"PatternTrees", "join", "(II)V"⟩ ⟨"PatternTrees", "join", "(II)V"⟩) ∈ lw_all := lw_g (lw_at lw_ms 4 rfl) rfl
theorem qs5 : (Cond.selects "PatternTrees" ⟨"PatternTrees", "compile", "()V"⟩ ⟨"PatternTrees", "compile", "()V"⟩) ∈ lw_all := lw_g (lw_at lw_ms 5 rfl) rfl
theorem qs6 : (Cond.selects "PatternTrees" ⟨"PatternTrees", "write", "(III)V"⟩ ⟨"PatternTrees", "write", "(III)V"⟩) ∈ lw_all := lw_g (lw_at lw_ms 6 rfl) rfl
theorem qs7 : (Cond.selects "PatternTrees" ⟨"PatternTrees", "runAll", "()V"⟩ ⟨"PatternTrees", "runAll", "()V"⟩) ∈ lw_all := lw_g (lw_at lw_ms 7 rfl) rfl
theorem qs8 : (Cond.selects "PatternTrees" ⟨"PatternTrees", "clearFound", "()V"⟩ ⟨"PatternTrees", "clearFound", "()V"⟩) ∈ lw_all := lw_g (lw_at lw_ms 8 rfl) rfl
theorem qs9 : (Cond.selects "PatternTrees" ⟨"PatternTrees", "run", "(I)V"⟩ ⟨"PatternTrees", "run", "(I)V"⟩) ∈ lw_all := lw_g (lw_at lw_ms 9 rfl) rfl
theorem qs10 : (Cond.selects "PatternTrees" ⟨"PatternTrees", "take", "(I)Z"⟩ ⟨"PatternTrees", "take", "(I)Z"⟩) ∈ lw_all := lw_g (lw_at lw_ms 10 rfl) rfl
theorem qs11 : (Cond.selects "PatternTrees" ⟨"PatternTrees", "decide", "(I)Z"⟩ ⟨"PatternTrees", "decide", "(I)Z"⟩) ∈ lw_all := lw_g (lw_at lw_ms 11 rfl) rfl
theorem qs12 : (Cond.selects "PatternTrees" ⟨"PatternTrees", "note", "()V"⟩ ⟨"PatternTrees", "note", "()V"⟩) ∈ lw_all := lw_g (lw_at lw_ms 12 rfl) rfl
theorem qs13 : (Cond.selects "PatternTrees" ⟨"PatternTrees", "classOfConstant", "(I)I"⟩ ⟨"PatternTrees", "classOfConstant", "(I)I"⟩) ∈ lw_all := lw_g (lw_at lw_ms 13 rfl) rfl
theorem qs14 : (Cond.selects "PatternTrees" ⟨"PatternTrees", "back", "(I)I"⟩ ⟨"PatternTrees", "back", "(I)I"⟩) ∈ lw_all := lw_g (lw_at lw_ms 14 rfl) rfl
theorem qs15 : (Cond.selects "PatternTrees" ⟨"PatternTrees", "foundCount", "()I"⟩ ⟨"PatternTrees", "foundCount", "()I"⟩) ∈ lw_all := lw_g (lw_at lw_ms 15 rfl) rfl
theorem qs16 : (Cond.selects "PatternTreesModel" ⟨"PatternTreesModel", "make", "(III)I"⟩ ⟨"PatternTreesModel", "make", "(III)I"⟩) ∈ lw_all := lw_g (lw_at lw_ms 16 rfl) rfl
theorem qs17 : (Cond.selects "PatternTreesModel" ⟨"PatternTreesModel", "follow", "()V"⟩ ⟨"PatternTreesModel", "follow", "()V"⟩) ∈ lw_all := lw_g (lw_at lw_ms 17 rfl) rfl
theorem qs18 : (Cond.selects "PatternTreesModel" ⟨"PatternTreesModel", "alike", "(II)Z"⟩ ⟨"PatternTreesModel", "alike", "(II)Z"⟩) ∈ lw_all := lw_g (lw_at lw_ms 18 rfl) rfl
theorem qs19 : (Cond.selects "PatternTreesModel" ⟨"PatternTreesModel", "join", "(II)Z"⟩ ⟨"PatternTreesModel", "join", "(II)Z"⟩) ∈ lw_all := lw_g (lw_at lw_ms 19 rfl) rfl
theorem qs20 : (Cond.selects "PatternTreesModel" ⟨"PatternTreesModel", "isNode", "(I)Z"⟩ ⟨"PatternTreesModel", "isNode", "(I)Z"⟩) ∈ lw_all := lw_g (lw_at lw_ms 20 rfl) rfl
theorem qs21 : (Cond.selects "PatternTreesModel" ⟨"PatternTreesModel", "whole", "()Z"⟩ ⟨"PatternTreesModel", "whole", "()Z"⟩) ∈ lw_all := lw_g (lw_at lw_ms 21 rfl) rfl
theorem qs22 : (Cond.selects "PatternTreesModel" ⟨"PatternTreesModel", "search", "(II)V"⟩ ⟨"PatternTreesModel", "search", "(II)V"⟩) ∈ lw_all := lw_g (lw_at lw_ms 22 rfl) rfl
theorem qs23 : (Cond.selects "PatternTreesModel" ⟨"PatternTreesModel", "tried", "(II)Z"⟩ ⟨"PatternTreesModel", "tried", "(II)Z"⟩) ∈ lw_all := lw_g (lw_at lw_ms 23 rfl) rfl
theorem qs24 : (Cond.selects "PatternTreesModel" ⟨"PatternTreesModel", "hasVariable", "(I)Z"⟩ ⟨"PatternTreesModel", "hasVariable", "(I)Z"⟩) ∈ lw_all := lw_g (lw_at lw_ms 24 rfl) rfl
theorem qs25 : (Cond.selects "PatternTreesModel" ⟨"PatternTreesModel", "look", "(I)V"⟩ ⟨"PatternTreesModel", "look", "(I)V"⟩) ∈ lw_all := lw_g (lw_at lw_ms 25 rfl) rfl
theorem qs26 : (Cond.selects "PatternTreesModel" ⟨"PatternTreesModel", "value", "()I"⟩ ⟨"PatternTreesModel", "value", "()I"⟩) ∈ lw_all := lw_g (lw_at lw_ms 26 rfl) rfl
theorem qs27 : (Cond.selects "PatternTreesModel" ⟨"PatternTreesModel", "over", "(III)I"⟩ ⟨"PatternTreesModel", "over", "(III)I"⟩) ∈ lw_all := lw_g (lw_at lw_ms 27 rfl) rfl
end
section
set_option maxRecDepth 100000
/-! PatternTrees -/
def RX0 : String := "PatternTrees"
def TX0 : u_T := fun k => match k with
  | 0 => ("PatternTrees", "nodeCount", "I", false)
  | 1 => ("PatternTrees", "symbol", "[B", true)
  | 2 => ("PatternTrees", "left", "[B", true)
  | 3 => ("PatternTrees", "right", "[B", true)
  | 4 => ("PatternTrees", "leaderOf", "[B", true)
  | 5 => ("PatternTrees", "pendingCount", "I", false)
  | 6 => ("PatternTrees", "pendingA", "[B", true)
  | 7 => ("PatternTrees", "pendingB", "[B", true)
  | 8 => ("PatternTrees", "tokenCount", "I", false)
  | 9 => ("PatternTrees", "tokens", "[B", true)
  | 10 => ("PatternTrees", "compiled", "Z", false)
  | 11 => ("PatternTrees", "isWhole", "Z", false)
  | 12 => ("PatternTrees", "variableSet", "I", false)
  | 13 => ("PatternTrees", "codeEnd", "I", false)
  | 14 => ("PatternTrees", "operation", "[B", true)
  | 15 => ("PatternTrees", "argument", "[B", true)
  | 16 => ("PatternTrees", "register", "[B", true)
  | 17 => ("PatternTrees", "argumentsAt", "[B", true)
  | 18 => ("PatternTrees", "openRegister", "[B", true)
  | 19 => ("PatternTrees", "registers", "[B", true)
  | 20 => ("PatternTrees", "variable", "[B", true)
  | 21 => ("PatternTrees", "tried", "[B", true)
  | _ => ("PatternTrees", "found", "[J", true)
def tyX0 : Nat → FieldType := fun k => match k with
  | 0 => .int
  | 1 => .array .byte
  | 2 => .array .byte
  | 3 => .array .byte
  | 4 => .array .byte
  | 5 => .int
  | 6 => .array .byte
  | 7 => .array .byte
  | 8 => .int
  | 9 => .array .byte
  | 10 => .boolean
  | 11 => .boolean
  | 12 => .int
  | 13 => .int
  | 14 => .array .byte
  | 15 => .array .byte
  | 16 => .array .byte
  | 17 => .array .byte
  | 18 => .array .byte
  | 19 => .array .byte
  | 20 => .array .byte
  | 21 => .array .byte
  | _ => .array .long
abbrev wsX00 : List Cond := u_ws RX0 TX0 23
set_option maxRecDepth 100000 in
theorem nmX0 : ∀ a, a < 23 → ∀ b, b < 23 → a ≠ b → (TX0 a).2.1 ≠ (TX0 b).2.1 := by decide +kernel
set_option maxRecDepth 100000 in
theorem tyX0_ok : ∀ k, k < 23 → parseFieldDescriptor (TX0 k).2.2.1 = some (tyX0 k) := by decide +kernel
abbrev cX0_init : ByteArray := prog_1_method_1_code
def yX0_init : MethodName := ⟨RX0, "<init>", "()V"⟩
theorem dX0_init_0 : decode cX0_init 0 = .ok (.aload_n 0, 1) := by decide +kernel
theorem dX0_init_1 : decode cX0_init 1 = .ok (.invokespecial 1, 3) := by decide +kernel
theorem dX0_init_4 : decode cX0_init 4 = .ok (.aload_n 0, 1) := by decide +kernel
theorem dX0_init_5 : decode cX0_init 5 = .ok (.bipush 20, 2) := by decide +kernel
theorem dX0_init_7 : decode cX0_init 7 = .ok (.newarray .byte, 2) := by decide +kernel
theorem dX0_init_9 : decode cX0_init 9 = .ok (.putfield 7, 3) := by decide +kernel
theorem dX0_init_12 : decode cX0_init 12 = .ok (.aload_n 0, 1) := by decide +kernel
theorem dX0_init_13 : decode cX0_init 13 = .ok (.bipush 20, 2) := by decide +kernel
theorem dX0_init_15 : decode cX0_init 15 = .ok (.newarray .byte, 2) := by decide +kernel
theorem dX0_init_17 : decode cX0_init 17 = .ok (.putfield 13, 3) := by decide +kernel
theorem dX0_init_20 : decode cX0_init 20 = .ok (.aload_n 0, 1) := by decide +kernel
theorem dX0_init_21 : decode cX0_init 21 = .ok (.bipush 20, 2) := by decide +kernel
theorem dX0_init_23 : decode cX0_init 23 = .ok (.newarray .byte, 2) := by decide +kernel
theorem dX0_init_25 : decode cX0_init 25 = .ok (.putfield 16, 3) := by decide +kernel
theorem dX0_init_28 : decode cX0_init 28 = .ok (.aload_n 0, 1) := by decide +kernel
theorem dX0_init_29 : decode cX0_init 29 = .ok (.bipush 20, 2) := by decide +kernel
theorem dX0_init_31 : decode cX0_init 31 = .ok (.newarray .byte, 2) := by decide +kernel
theorem dX0_init_33 : decode cX0_init 33 = .ok (.putfield 19, 3) := by decide +kernel
theorem dX0_init_36 : decode cX0_init 36 = .ok (.aload_n 0, 1) := by decide +kernel
theorem dX0_init_37 : decode cX0_init 37 = .ok (.sipush 190, 3) := by decide +kernel
theorem dX0_init_40 : decode cX0_init 40 = .ok (.newarray .byte, 2) := by decide +kernel
theorem dX0_init_42 : decode cX0_init 42 = .ok (.putfield 22, 3) := by decide +kernel
theorem dX0_init_45 : decode cX0_init 45 = .ok (.aload_n 0, 1) := by decide +kernel
theorem dX0_init_46 : decode cX0_init 46 = .ok (.sipush 190, 3) := by decide +kernel
theorem dX0_init_49 : decode cX0_init 49 = .ok (.newarray .byte, 2) := by decide +kernel
theorem dX0_init_51 : decode cX0_init 51 = .ok (.putfield 25, 3) := by decide +kernel
theorem dX0_init_54 : decode cX0_init 54 = .ok (.aload_n 0, 1) := by decide +kernel
theorem dX0_init_55 : decode cX0_init 55 = .ok (.bipush 7, 2) := by decide +kernel
theorem dX0_init_57 : decode cX0_init 57 = .ok (.newarray .byte, 2) := by decide +kernel
theorem dX0_init_59 : decode cX0_init 59 = .ok (.putfield 28, 3) := by decide +kernel
theorem dX0_init_62 : decode cX0_init 62 = .ok (.aload_n 0, 1) := by decide +kernel
theorem dX0_init_63 : decode cX0_init 63 = .ok (.bipush 10, 2) := by decide +kernel
theorem dX0_init_65 : decode cX0_init 65 = .ok (.newarray .byte, 2) := by decide +kernel
theorem dX0_init_67 : decode cX0_init 67 = .ok (.putfield 31, 3) := by decide +kernel
theorem dX0_init_70 : decode cX0_init 70 = .ok (.aload_n 0, 1) := by decide +kernel
theorem dX0_init_71 : decode cX0_init 71 = .ok (.bipush 10, 2) := by decide +kernel
theorem dX0_init_73 : decode cX0_init 73 = .ok (.newarray .byte, 2) := by decide +kernel
theorem dX0_init_75 : decode cX0_init 75 = .ok (.putfield 34, 3) := by decide +kernel
theorem dX0_init_78 : decode cX0_init 78 = .ok (.aload_n 0, 1) := by decide +kernel
theorem dX0_init_79 : decode cX0_init 79 = .ok (.bipush 10, 2) := by decide +kernel
theorem dX0_init_81 : decode cX0_init 81 = .ok (.newarray .byte, 2) := by decide +kernel
theorem dX0_init_83 : decode cX0_init 83 = .ok (.putfield 37, 3) := by decide +kernel
theorem dX0_init_86 : decode cX0_init 86 = .ok (.aload_n 0, 1) := by decide +kernel
theorem dX0_init_87 : decode cX0_init 87 = .ok (.bipush 8, 2) := by decide +kernel
theorem dX0_init_89 : decode cX0_init 89 = .ok (.newarray .byte, 2) := by decide +kernel
theorem dX0_init_91 : decode cX0_init 91 = .ok (.putfield 40, 3) := by decide +kernel
theorem dX0_init_94 : decode cX0_init 94 = .ok (.aload_n 0, 1) := by decide +kernel
theorem dX0_init_95 : decode cX0_init 95 = .ok (.bipush 8, 2) := by decide +kernel
theorem dX0_init_97 : decode cX0_init 97 = .ok (.newarray .byte, 2) := by decide +kernel
theorem dX0_init_99 : decode cX0_init 99 = .ok (.putfield 43, 3) := by decide +kernel
theorem dX0_init_102 : decode cX0_init 102 = .ok (.aload_n 0, 1) := by decide +kernel
theorem dX0_init_103 : decode cX0_init 103 = .ok (.bipush 16, 2) := by decide +kernel
theorem dX0_init_105 : decode cX0_init 105 = .ok (.newarray .byte, 2) := by decide +kernel
theorem dX0_init_107 : decode cX0_init 107 = .ok (.putfield 46, 3) := by decide +kernel
theorem dX0_init_110 : decode cX0_init 110 = .ok (.aload_n 0, 1) := by decide +kernel
theorem dX0_init_111 : decode cX0_init 111 = .ok (.iconst 3, 1) := by decide +kernel
theorem dX0_init_112 : decode cX0_init 112 = .ok (.newarray .byte, 2) := by decide +kernel
theorem dX0_init_114 : decode cX0_init 114 = .ok (.putfield 49, 3) := by decide +kernel
theorem dX0_init_117 : decode cX0_init 117 = .ok (.aload_n 0, 1) := by decide +kernel
theorem dX0_init_118 : decode cX0_init 118 = .ok (.bipush 10, 2) := by decide +kernel
theorem dX0_init_120 : decode cX0_init 120 = .ok (.newarray .byte, 2) := by decide +kernel
theorem dX0_init_122 : decode cX0_init 122 = .ok (.putfield 52, 3) := by decide +kernel
theorem dX0_init_125 : decode cX0_init 125 = .ok (.aload_n 0, 1) := by decide +kernel
theorem dX0_init_126 : decode cX0_init 126 = .ok (.bipush 125, 2) := by decide +kernel
theorem dX0_init_128 : decode cX0_init 128 = .ok (.newarray .long, 2) := by decide +kernel
theorem dX0_init_130 : decode cX0_init 130 = .ok (.putfield 55, 3) := by decide +kernel
theorem dX0_init_133 : decode cX0_init 133 = .ok (.return_, 1) := by decide +kernel
abbrev cX0_constant : ByteArray := prog_1_method_2_code
def yX0_constant : MethodName := ⟨RX0, "constant", "(I)I"⟩
theorem dX0_constant_0 : decode cX0_constant 0 = .ok (.iload_n 1, 1) := by decide +kernel
theorem dX0_constant_1 : decode cX0_constant 1 = .ok (.ifCond .lt 8, 3) := by decide +kernel
theorem dX0_constant_4 : decode cX0_constant 4 = .ok (.iload_n 1, 1) := by decide +kernel
theorem dX0_constant_5 : decode cX0_constant 5 = .ok (.iconst 5, 1) := by decide +kernel
theorem dX0_constant_6 : decode cX0_constant 6 = .ok (.if_icmp .le 5, 3) := by decide +kernel
theorem dX0_constant_9 : decode cX0_constant 9 = .ok (.iconst (-1), 1) := by decide +kernel
theorem dX0_constant_10 : decode cX0_constant 10 = .ok (.ireturn, 1) := by decide +kernel
theorem dX0_constant_11 : decode cX0_constant 11 = .ok (.aload_n 0, 1) := by decide +kernel
theorem dX0_constant_12 : decode cX0_constant 12 = .ok (.iconst 0, 1) := by decide +kernel
theorem dX0_constant_13 : decode cX0_constant 13 = .ok (.iload_n 1, 1) := by decide +kernel
theorem dX0_constant_14 : decode cX0_constant 14 = .ok (.iconst 0, 1) := by decide +kernel
theorem dX0_constant_15 : decode cX0_constant 15 = .ok (.invokevirtual 59, 3) := by decide +kernel
theorem dX0_constant_18 : decode cX0_constant 18 = .ok (.ireturn, 1) := by decide +kernel
abbrev cX0_node : ByteArray := prog_1_method_6_code
def yX0_node : MethodName := ⟨RX0, "node", "(III)I"⟩
theorem dX0_node_0 : decode cX0_node 0 = .ok (.iconst 0, 1) := by decide +kernel
theorem dX0_node_1 : decode cX0_node 1 = .ok (.istore 4, 2) := by decide +kernel
theorem dX0_node_3 : decode cX0_node 3 = .ok (.iload 4, 2) := by decide +kernel
theorem dX0_node_5 : decode cX0_node 5 = .ok (.aload_n 0, 1) := by decide +kernel
theorem dX0_node_6 : decode cX0_node 6 = .ok (.getfield 67, 3) := by decide +kernel
theorem dX0_node_9 : decode cX0_node 9 = .ok (.if_icmp .ge 45, 3) := by decide +kernel
theorem dX0_node_12 : decode cX0_node 12 = .ok (.aload_n 0, 1) := by decide +kernel
theorem dX0_node_13 : decode cX0_node 13 = .ok (.getfield 7, 3) := by decide +kernel
theorem dX0_node_16 : decode cX0_node 16 = .ok (.iload 4, 2) := by decide +kernel
theorem dX0_node_18 : decode cX0_node 18 = .ok (.baload, 1) := by decide +kernel
theorem dX0_node_19 : decode cX0_node 19 = .ok (.iload_n 1, 1) := by decide +kernel
theorem dX0_node_20 : decode cX0_node 20 = .ok (.if_icmp .ne 28, 3) := by decide +kernel
theorem dX0_node_23 : decode cX0_node 23 = .ok (.aload_n 0, 1) := by decide +kernel
theorem dX0_node_24 : decode cX0_node 24 = .ok (.getfield 13, 3) := by decide +kernel
theorem dX0_node_27 : decode cX0_node 27 = .ok (.iload 4, 2) := by decide +kernel
theorem dX0_node_29 : decode cX0_node 29 = .ok (.baload, 1) := by decide +kernel
theorem dX0_node_30 : decode cX0_node 30 = .ok (.iload_n 2, 1) := by decide +kernel
theorem dX0_node_31 : decode cX0_node 31 = .ok (.if_icmp .ne 17, 3) := by decide +kernel
theorem dX0_node_34 : decode cX0_node 34 = .ok (.aload_n 0, 1) := by decide +kernel
theorem dX0_node_35 : decode cX0_node 35 = .ok (.getfield 16, 3) := by decide +kernel
theorem dX0_node_38 : decode cX0_node 38 = .ok (.iload 4, 2) := by decide +kernel
theorem dX0_node_40 : decode cX0_node 40 = .ok (.baload, 1) := by decide +kernel
theorem dX0_node_41 : decode cX0_node 41 = .ok (.iload_n 3, 1) := by decide +kernel
theorem dX0_node_42 : decode cX0_node 42 = .ok (.if_icmp .ne 6, 3) := by decide +kernel
theorem dX0_node_45 : decode cX0_node 45 = .ok (.iload 4, 2) := by decide +kernel
theorem dX0_node_47 : decode cX0_node 47 = .ok (.ireturn, 1) := by decide +kernel
theorem dX0_node_48 : decode cX0_node 48 = .ok (.iinc 4 1, 3) := by decide +kernel
theorem dX0_node_51 : decode cX0_node 51 = .ok (.goto (-48), 3) := by decide +kernel
theorem dX0_node_54 : decode cX0_node 54 = .ok (.aload_n 0, 1) := by decide +kernel
theorem dX0_node_55 : decode cX0_node 55 = .ok (.getfield 67, 3) := by decide +kernel
theorem dX0_node_58 : decode cX0_node 58 = .ok (.bipush 20, 2) := by decide +kernel
theorem dX0_node_60 : decode cX0_node 60 = .ok (.if_icmp .lt 6, 3) := by decide +kernel
theorem dX0_node_63 : decode cX0_node 63 = .ok (.bipush (-2), 2) := by decide +kernel
theorem dX0_node_65 : decode cX0_node 65 = .ok (.ireturn, 1) := by decide +kernel
theorem dX0_node_66 : decode cX0_node 66 = .ok (.aload_n 0, 1) := by decide +kernel
theorem dX0_node_67 : decode cX0_node 67 = .ok (.getfield 67, 3) := by decide +kernel
theorem dX0_node_70 : decode cX0_node 70 = .ok (.istore 4, 2) := by decide +kernel
theorem dX0_node_72 : decode cX0_node 72 = .ok (.aload_n 0, 1) := by decide +kernel
theorem dX0_node_73 : decode cX0_node 73 = .ok (.dup, 1) := by decide +kernel
theorem dX0_node_74 : decode cX0_node 74 = .ok (.getfield 67, 3) := by decide +kernel
theorem dX0_node_77 : decode cX0_node 77 = .ok (.iconst 1, 1) := by decide +kernel
theorem dX0_node_78 : decode cX0_node 78 = .ok (.iadd, 1) := by decide +kernel
theorem dX0_node_79 : decode cX0_node 79 = .ok (.putfield 67, 3) := by decide +kernel
theorem dX0_node_82 : decode cX0_node 82 = .ok (.aload_n 0, 1) := by decide +kernel
theorem dX0_node_83 : decode cX0_node 83 = .ok (.getfield 7, 3) := by decide +kernel
theorem dX0_node_86 : decode cX0_node 86 = .ok (.iload 4, 2) := by decide +kernel
theorem dX0_node_88 : decode cX0_node 88 = .ok (.iload_n 1, 1) := by decide +kernel
theorem dX0_node_89 : decode cX0_node 89 = .ok (.i2b, 1) := by decide +kernel
theorem dX0_node_90 : decode cX0_node 90 = .ok (.bastore, 1) := by decide +kernel
theorem dX0_node_91 : decode cX0_node 91 = .ok (.aload_n 0, 1) := by decide +kernel
theorem dX0_node_92 : decode cX0_node 92 = .ok (.getfield 13, 3) := by decide +kernel
theorem dX0_node_95 : decode cX0_node 95 = .ok (.iload 4, 2) := by decide +kernel
theorem dX0_node_97 : decode cX0_node 97 = .ok (.iload_n 2, 1) := by decide +kernel
theorem dX0_node_98 : decode cX0_node 98 = .ok (.i2b, 1) := by decide +kernel
theorem dX0_node_99 : decode cX0_node 99 = .ok (.bastore, 1) := by decide +kernel
theorem dX0_node_100 : decode cX0_node 100 = .ok (.aload_n 0, 1) := by decide +kernel
theorem dX0_node_101 : decode cX0_node 101 = .ok (.getfield 16, 3) := by decide +kernel
theorem dX0_node_104 : decode cX0_node 104 = .ok (.iload 4, 2) := by decide +kernel
theorem dX0_node_106 : decode cX0_node 106 = .ok (.iload_n 3, 1) := by decide +kernel
theorem dX0_node_107 : decode cX0_node 107 = .ok (.i2b, 1) := by decide +kernel
theorem dX0_node_108 : decode cX0_node 108 = .ok (.bastore, 1) := by decide +kernel
theorem dX0_node_109 : decode cX0_node 109 = .ok (.aload_n 0, 1) := by decide +kernel
theorem dX0_node_110 : decode cX0_node 110 = .ok (.getfield 19, 3) := by decide +kernel
theorem dX0_node_113 : decode cX0_node 113 = .ok (.iload 4, 2) := by decide +kernel
theorem dX0_node_115 : decode cX0_node 115 = .ok (.iload 4, 2) := by decide +kernel
theorem dX0_node_117 : decode cX0_node 117 = .ok (.i2b, 1) := by decide +kernel
theorem dX0_node_118 : decode cX0_node 118 = .ok (.bastore, 1) := by decide +kernel
theorem dX0_node_119 : decode cX0_node 119 = .ok (.iconst 0, 1) := by decide +kernel
theorem dX0_node_120 : decode cX0_node 120 = .ok (.istore 5, 2) := by decide +kernel
theorem dX0_node_122 : decode cX0_node 122 = .ok (.iload 5, 2) := by decide +kernel
theorem dX0_node_124 : decode cX0_node 124 = .ok (.iload 4, 2) := by decide +kernel
theorem dX0_node_126 : decode cX0_node 126 = .ok (.if_icmp .ge 40, 3) := by decide +kernel
theorem dX0_node_129 : decode cX0_node 129 = .ok (.aload_n 0, 1) := by decide +kernel
theorem dX0_node_130 : decode cX0_node 130 = .ok (.iload 5, 2) := by decide +kernel
theorem dX0_node_132 : decode cX0_node 132 = .ok (.iload 4, 2) := by decide +kernel
theorem dX0_node_134 : decode cX0_node 134 = .ok (.invokevirtual 71, 3) := by decide +kernel
theorem dX0_node_137 : decode cX0_node 137 = .ok (.ifCond .ne 6, 3) := by decide +kernel
theorem dX0_node_140 : decode cX0_node 140 = .ok (.goto 20, 3) := by decide +kernel
theorem dX0_node_143 : decode cX0_node 143 = .ok (.aload_n 0, 1) := by decide +kernel
theorem dX0_node_144 : decode cX0_node 144 = .ok (.getfield 19, 3) := by decide +kernel
theorem dX0_node_147 : decode cX0_node 147 = .ok (.iload 4, 2) := by decide +kernel
theorem dX0_node_149 : decode cX0_node 149 = .ok (.aload_n 0, 1) := by decide +kernel
theorem dX0_node_150 : decode cX0_node 150 = .ok (.getfield 19, 3) := by decide +kernel
theorem dX0_node_153 : decode cX0_node 153 = .ok (.iload 5, 2) := by decide +kernel
theorem dX0_node_155 : decode cX0_node 155 = .ok (.baload, 1) := by decide +kernel
theorem dX0_node_156 : decode cX0_node 156 = .ok (.bastore, 1) := by decide +kernel
theorem dX0_node_157 : decode cX0_node 157 = .ok (.iload 4, 2) := by decide +kernel
theorem dX0_node_159 : decode cX0_node 159 = .ok (.ireturn, 1) := by decide +kernel
theorem dX0_node_160 : decode cX0_node 160 = .ok (.iinc 5 1, 3) := by decide +kernel
theorem dX0_node_163 : decode cX0_node 163 = .ok (.goto (-41), 3) := by decide +kernel
theorem dX0_node_166 : decode cX0_node 166 = .ok (.iload 4, 2) := by decide +kernel
theorem dX0_node_168 : decode cX0_node 168 = .ok (.ireturn, 1) := by decide +kernel
abbrev cX0_congruent : ByteArray := prog_1_method_10_code
def yX0_congruent : MethodName := ⟨RX0, "congruent", "(II)Z"⟩
theorem dX0_congruent_0 : decode cX0_congruent 0 = .ok (.aload_n 0, 1) := by decide +kernel
theorem dX0_congruent_1 : decode cX0_congruent 1 = .ok (.getfield 7, 3) := by decide +kernel
theorem dX0_congruent_4 : decode cX0_congruent 4 = .ok (.iload_n 1, 1) := by decide +kernel
theorem dX0_congruent_5 : decode cX0_congruent 5 = .ok (.baload, 1) := by decide +kernel
theorem dX0_congruent_6 : decode cX0_congruent 6 = .ok (.aload_n 0, 1) := by decide +kernel
theorem dX0_congruent_7 : decode cX0_congruent 7 = .ok (.getfield 7, 3) := by decide +kernel
theorem dX0_congruent_10 : decode cX0_congruent 10 = .ok (.iload_n 2, 1) := by decide +kernel
theorem dX0_congruent_11 : decode cX0_congruent 11 = .ok (.baload, 1) := by decide +kernel
theorem dX0_congruent_12 : decode cX0_congruent 12 = .ok (.if_icmp .ne 12, 3) := by decide +kernel
theorem dX0_congruent_15 : decode cX0_congruent 15 = .ok (.aload_n 0, 1) := by decide +kernel
theorem dX0_congruent_16 : decode cX0_congruent 16 = .ok (.getfield 7, 3) := by decide +kernel
theorem dX0_congruent_19 : decode cX0_congruent 19 = .ok (.iload_n 1, 1) := by decide +kernel
theorem dX0_congruent_20 : decode cX0_congruent 20 = .ok (.baload, 1) := by decide +kernel
theorem dX0_congruent_21 : decode cX0_congruent 21 = .ok (.ifCond .ne 5, 3) := by decide +kernel
theorem dX0_congruent_24 : decode cX0_congruent 24 = .ok (.iconst 0, 1) := by decide +kernel
theorem dX0_congruent_25 : decode cX0_congruent 25 = .ok (.ireturn, 1) := by decide +kernel
theorem dX0_congruent_26 : decode cX0_congruent 26 = .ok (.aload_n 0, 1) := by decide +kernel
theorem dX0_congruent_27 : decode cX0_congruent 27 = .ok (.getfield 19, 3) := by decide +kernel
theorem dX0_congruent_30 : decode cX0_congruent 30 = .ok (.aload_n 0, 1) := by decide +kernel
theorem dX0_congruent_31 : decode cX0_congruent 31 = .ok (.getfield 13, 3) := by decide +kernel
theorem dX0_congruent_34 : decode cX0_congruent 34 = .ok (.iload_n 1, 1) := by decide +kernel
theorem dX0_congruent_35 : decode cX0_congruent 35 = .ok (.baload, 1) := by decide +kernel
theorem dX0_congruent_36 : decode cX0_congruent 36 = .ok (.baload, 1) := by decide +kernel
theorem dX0_congruent_37 : decode cX0_congruent 37 = .ok (.aload_n 0, 1) := by decide +kernel
theorem dX0_congruent_38 : decode cX0_congruent 38 = .ok (.getfield 19, 3) := by decide +kernel
theorem dX0_congruent_41 : decode cX0_congruent 41 = .ok (.aload_n 0, 1) := by decide +kernel
theorem dX0_congruent_42 : decode cX0_congruent 42 = .ok (.getfield 13, 3) := by decide +kernel
theorem dX0_congruent_45 : decode cX0_congruent 45 = .ok (.iload_n 2, 1) := by decide +kernel
theorem dX0_congruent_46 : decode cX0_congruent 46 = .ok (.baload, 1) := by decide +kernel
theorem dX0_congruent_47 : decode cX0_congruent 47 = .ok (.baload, 1) := by decide +kernel
theorem dX0_congruent_48 : decode cX0_congruent 48 = .ok (.if_icmp .eq 5, 3) := by decide +kernel
theorem dX0_congruent_51 : decode cX0_congruent 51 = .ok (.iconst 0, 1) := by decide +kernel
theorem dX0_congruent_52 : decode cX0_congruent 52 = .ok (.ireturn, 1) := by decide +kernel
theorem dX0_congruent_53 : decode cX0_congruent 53 = .ok (.aload_n 0, 1) := by decide +kernel
theorem dX0_congruent_54 : decode cX0_congruent 54 = .ok (.getfield 7, 3) := by decide +kernel
theorem dX0_congruent_57 : decode cX0_congruent 57 = .ok (.iload_n 1, 1) := by decide +kernel
theorem dX0_congruent_58 : decode cX0_congruent 58 = .ok (.baload, 1) := by decide +kernel
theorem dX0_congruent_59 : decode cX0_congruent 59 = .ok (.bipush 20, 2) := by decide +kernel
theorem dX0_congruent_61 : decode cX0_congruent 61 = .ok (.if_icmp .eq 28, 3) := by decide +kernel
theorem dX0_congruent_64 : decode cX0_congruent 64 = .ok (.aload_n 0, 1) := by decide +kernel
theorem dX0_congruent_65 : decode cX0_congruent 65 = .ok (.getfield 19, 3) := by decide +kernel
theorem dX0_congruent_68 : decode cX0_congruent 68 = .ok (.aload_n 0, 1) := by decide +kernel
theorem dX0_congruent_69 : decode cX0_congruent 69 = .ok (.getfield 16, 3) := by decide +kernel
theorem dX0_congruent_72 : decode cX0_congruent 72 = .ok (.iload_n 1, 1) := by decide +kernel
theorem dX0_congruent_73 : decode cX0_congruent 73 = .ok (.baload, 1) := by decide +kernel
theorem dX0_congruent_74 : decode cX0_congruent 74 = .ok (.baload, 1) := by decide +kernel
theorem dX0_congruent_75 : decode cX0_congruent 75 = .ok (.aload_n 0, 1) := by decide +kernel
theorem dX0_congruent_76 : decode cX0_congruent 76 = .ok (.getfield 19, 3) := by decide +kernel
theorem dX0_congruent_79 : decode cX0_congruent 79 = .ok (.aload_n 0, 1) := by decide +kernel
theorem dX0_congruent_80 : decode cX0_congruent 80 = .ok (.getfield 16, 3) := by decide +kernel
theorem dX0_congruent_83 : decode cX0_congruent 83 = .ok (.iload_n 2, 1) := by decide +kernel
theorem dX0_congruent_84 : decode cX0_congruent 84 = .ok (.baload, 1) := by decide +kernel
theorem dX0_congruent_85 : decode cX0_congruent 85 = .ok (.baload, 1) := by decide +kernel
theorem dX0_congruent_86 : decode cX0_congruent 86 = .ok (.if_icmp .ne 7, 3) := by decide +kernel
theorem dX0_congruent_89 : decode cX0_congruent 89 = .ok (.iconst 1, 1) := by decide +kernel
theorem dX0_congruent_90 : decode cX0_congruent 90 = .ok (.goto 4, 3) := by decide +kernel
theorem dX0_congruent_93 : decode cX0_congruent 93 = .ok (.iconst 0, 1) := by decide +kernel
theorem dX0_congruent_94 : decode cX0_congruent 94 = .ok (.ireturn, 1) := by decide +kernel
abbrev cX0_one : ByteArray := prog_1_method_3_code
def yX0_one : MethodName := ⟨RX0, "one", "(I)I"⟩
theorem dX0_one_0 : decode cX0_one 0 = .ok (.aload_n 0, 1) := by decide +kernel
theorem dX0_one_1 : decode cX0_one 1 = .ok (.iload_n 1, 1) := by decide +kernel
theorem dX0_one_2 : decode cX0_one 2 = .ok (.invokevirtual 63, 3) := by decide +kernel
theorem dX0_one_5 : decode cX0_one 5 = .ok (.ifCond .ne 5, 3) := by decide +kernel
theorem dX0_one_8 : decode cX0_one 8 = .ok (.iconst (-1), 1) := by decide +kernel
theorem dX0_one_9 : decode cX0_one 9 = .ok (.ireturn, 1) := by decide +kernel
theorem dX0_one_10 : decode cX0_one 10 = .ok (.aload_n 0, 1) := by decide +kernel
theorem dX0_one_11 : decode cX0_one 11 = .ok (.bipush 20, 2) := by decide +kernel
theorem dX0_one_13 : decode cX0_one 13 = .ok (.iload_n 1, 1) := by decide +kernel
theorem dX0_one_14 : decode cX0_one 14 = .ok (.iconst 0, 1) := by decide +kernel
theorem dX0_one_15 : decode cX0_one 15 = .ok (.invokevirtual 59, 3) := by decide +kernel
theorem dX0_one_18 : decode cX0_one 18 = .ok (.ireturn, 1) := by decide +kernel
abbrev cX0_isNode : ByteArray := prog_1_method_5_code
def yX0_isNode : MethodName := ⟨RX0, "isNode", "(I)Z"⟩
theorem dX0_isNode_0 : decode cX0_isNode 0 = .ok (.iload_n 1, 1) := by decide +kernel
theorem dX0_isNode_1 : decode cX0_isNode 1 = .ok (.ifCond .lt 15, 3) := by decide +kernel
theorem dX0_isNode_4 : decode cX0_isNode 4 = .ok (.iload_n 1, 1) := by decide +kernel
theorem dX0_isNode_5 : decode cX0_isNode 5 = .ok (.aload_n 0, 1) := by decide +kernel
theorem dX0_isNode_6 : decode cX0_isNode 6 = .ok (.getfield 67, 3) := by decide +kernel
theorem dX0_isNode_9 : decode cX0_isNode 9 = .ok (.if_icmp .ge 7, 3) := by decide +kernel
theorem dX0_isNode_12 : decode cX0_isNode 12 = .ok (.iconst 1, 1) := by decide +kernel
theorem dX0_isNode_13 : decode cX0_isNode 13 = .ok (.goto 4, 3) := by decide +kernel
theorem dX0_isNode_16 : decode cX0_isNode 16 = .ok (.iconst 0, 1) := by decide +kernel
theorem dX0_isNode_17 : decode cX0_isNode 17 = .ok (.ireturn, 1) := by decide +kernel
abbrev cX0_two : ByteArray := prog_1_method_4_code
def yX0_two : MethodName := ⟨RX0, "two", "(II)I"⟩
theorem dX0_two_0 : decode cX0_two 0 = .ok (.aload_n 0, 1) := by decide +kernel
theorem dX0_two_1 : decode cX0_two 1 = .ok (.iload_n 1, 1) := by decide +kernel
theorem dX0_two_2 : decode cX0_two 2 = .ok (.invokevirtual 63, 3) := by decide +kernel
theorem dX0_two_5 : decode cX0_two 5 = .ok (.ifCond .eq 11, 3) := by decide +kernel
theorem dX0_two_8 : decode cX0_two 8 = .ok (.aload_n 0, 1) := by decide +kernel
theorem dX0_two_9 : decode cX0_two 9 = .ok (.iload_n 2, 1) := by decide +kernel
theorem dX0_two_10 : decode cX0_two 10 = .ok (.invokevirtual 63, 3) := by decide +kernel
theorem dX0_two_13 : decode cX0_two 13 = .ok (.ifCond .ne 5, 3) := by decide +kernel
theorem dX0_two_16 : decode cX0_two 16 = .ok (.iconst (-1), 1) := by decide +kernel
theorem dX0_two_17 : decode cX0_two 17 = .ok (.ireturn, 1) := by decide +kernel
theorem dX0_two_18 : decode cX0_two 18 = .ok (.aload_n 0, 1) := by decide +kernel
theorem dX0_two_19 : decode cX0_two 19 = .ok (.bipush 21, 2) := by decide +kernel
theorem dX0_two_21 : decode cX0_two 21 = .ok (.iload_n 1, 1) := by decide +kernel
theorem dX0_two_22 : decode cX0_two 22 = .ok (.iload_n 2, 1) := by decide +kernel
theorem dX0_two_23 : decode cX0_two 23 = .ok (.invokevirtual 59, 3) := by decide +kernel
theorem dX0_two_26 : decode cX0_two 26 = .ok (.ireturn, 1) := by decide +kernel
abbrev cX0_equate : ByteArray := prog_1_method_7_code
def yX0_equate : MethodName := ⟨RX0, "equate", "(II)I"⟩
theorem dX0_equate_0 : decode cX0_equate 0 = .ok (.aload_n 0, 1) := by decide +kernel
theorem dX0_equate_1 : decode cX0_equate 1 = .ok (.iload_n 1, 1) := by decide +kernel
theorem dX0_equate_2 : decode cX0_equate 2 = .ok (.invokevirtual 63, 3) := by decide +kernel
theorem dX0_equate_5 : decode cX0_equate 5 = .ok (.ifCond .eq 11, 3) := by decide +kernel
theorem dX0_equate_8 : decode cX0_equate 8 = .ok (.aload_n 0, 1) := by decide +kernel
theorem dX0_equate_9 : decode cX0_equate 9 = .ok (.iload_n 2, 1) := by decide +kernel
theorem dX0_equate_10 : decode cX0_equate 10 = .ok (.invokevirtual 63, 3) := by decide +kernel
theorem dX0_equate_13 : decode cX0_equate 13 = .ok (.ifCond .ne 5, 3) := by decide +kernel
theorem dX0_equate_16 : decode cX0_equate 16 = .ok (.iconst (-1), 1) := by decide +kernel
theorem dX0_equate_17 : decode cX0_equate 17 = .ok (.ireturn, 1) := by decide +kernel
theorem dX0_equate_18 : decode cX0_equate 18 = .ok (.aload_n 0, 1) := by decide +kernel
theorem dX0_equate_19 : decode cX0_equate 19 = .ok (.iconst 0, 1) := by decide +kernel
theorem dX0_equate_20 : decode cX0_equate 20 = .ok (.putfield 75, 3) := by decide +kernel
theorem dX0_equate_23 : decode cX0_equate 23 = .ok (.aload_n 0, 1) := by decide +kernel
theorem dX0_equate_24 : decode cX0_equate 24 = .ok (.iload_n 1, 1) := by decide +kernel
theorem dX0_equate_25 : decode cX0_equate 25 = .ok (.iload_n 2, 1) := by decide +kernel
theorem dX0_equate_26 : decode cX0_equate 26 = .ok (.invokevirtual 78, 3) := by decide +kernel
theorem dX0_equate_29 : decode cX0_equate 29 = .ok (.aload_n 0, 1) := by decide +kernel
theorem dX0_equate_30 : decode cX0_equate 30 = .ok (.getfield 75, 3) := by decide +kernel
theorem dX0_equate_33 : decode cX0_equate 33 = .ok (.ifCond .le 38, 3) := by decide +kernel
theorem dX0_equate_36 : decode cX0_equate 36 = .ok (.aload_n 0, 1) := by decide +kernel
theorem dX0_equate_37 : decode cX0_equate 37 = .ok (.dup, 1) := by decide +kernel
theorem dX0_equate_38 : decode cX0_equate 38 = .ok (.getfield 75, 3) := by decide +kernel
theorem dX0_equate_41 : decode cX0_equate 41 = .ok (.iconst 1, 1) := by decide +kernel
theorem dX0_equate_42 : decode cX0_equate 42 = .ok (.isub, 1) := by decide +kernel
theorem dX0_equate_43 : decode cX0_equate 43 = .ok (.putfield 75, 3) := by decide +kernel
theorem dX0_equate_46 : decode cX0_equate 46 = .ok (.aload_n 0, 1) := by decide +kernel
theorem dX0_equate_47 : decode cX0_equate 47 = .ok (.aload_n 0, 1) := by decide +kernel
theorem dX0_equate_48 : decode cX0_equate 48 = .ok (.getfield 22, 3) := by decide +kernel
theorem dX0_equate_51 : decode cX0_equate 51 = .ok (.aload_n 0, 1) := by decide +kernel
theorem dX0_equate_52 : decode cX0_equate 52 = .ok (.getfield 75, 3) := by decide +kernel
theorem dX0_equate_55 : decode cX0_equate 55 = .ok (.baload, 1) := by decide +kernel
theorem dX0_equate_56 : decode cX0_equate 56 = .ok (.aload_n 0, 1) := by decide +kernel
theorem dX0_equate_57 : decode cX0_equate 57 = .ok (.getfield 25, 3) := by decide +kernel
theorem dX0_equate_60 : decode cX0_equate 60 = .ok (.aload_n 0, 1) := by decide +kernel
theorem dX0_equate_61 : decode cX0_equate 61 = .ok (.getfield 75, 3) := by decide +kernel
theorem dX0_equate_64 : decode cX0_equate 64 = .ok (.baload, 1) := by decide +kernel
theorem dX0_equate_65 : decode cX0_equate 65 = .ok (.invokevirtual 82, 3) := by decide +kernel
theorem dX0_equate_68 : decode cX0_equate 68 = .ok (.goto (-39), 3) := by decide +kernel
theorem dX0_equate_71 : decode cX0_equate 71 = .ok (.aload_n 0, 1) := by decide +kernel
theorem dX0_equate_72 : decode cX0_equate 72 = .ok (.invokevirtual 85, 3) := by decide +kernel
theorem dX0_equate_75 : decode cX0_equate 75 = .ok (.ireturn, 1) := by decide +kernel
abbrev cX0_push : ByteArray := prog_1_method_11_code
def yX0_push : MethodName := ⟨RX0, "push", "(II)V"⟩
theorem dX0_push_0 : decode cX0_push 0 = .ok (.aload_n 0, 1) := by decide +kernel
theorem dX0_push_1 : decode cX0_push 1 = .ok (.getfield 22, 3) := by decide +kernel
theorem dX0_push_4 : decode cX0_push 4 = .ok (.aload_n 0, 1) := by decide +kernel
theorem dX0_push_5 : decode cX0_push 5 = .ok (.getfield 75, 3) := by decide +kernel
theorem dX0_push_8 : decode cX0_push 8 = .ok (.iload_n 1, 1) := by decide +kernel
theorem dX0_push_9 : decode cX0_push 9 = .ok (.i2b, 1) := by decide +kernel
theorem dX0_push_10 : decode cX0_push 10 = .ok (.bastore, 1) := by decide +kernel
theorem dX0_push_11 : decode cX0_push 11 = .ok (.aload_n 0, 1) := by decide +kernel
theorem dX0_push_12 : decode cX0_push 12 = .ok (.getfield 25, 3) := by decide +kernel
theorem dX0_push_15 : decode cX0_push 15 = .ok (.aload_n 0, 1) := by decide +kernel
theorem dX0_push_16 : decode cX0_push 16 = .ok (.getfield 75, 3) := by decide +kernel
theorem dX0_push_19 : decode cX0_push 19 = .ok (.iload_n 2, 1) := by decide +kernel
theorem dX0_push_20 : decode cX0_push 20 = .ok (.i2b, 1) := by decide +kernel
theorem dX0_push_21 : decode cX0_push 21 = .ok (.bastore, 1) := by decide +kernel
theorem dX0_push_22 : decode cX0_push 22 = .ok (.aload_n 0, 1) := by decide +kernel
theorem dX0_push_23 : decode cX0_push 23 = .ok (.dup, 1) := by decide +kernel
theorem dX0_push_24 : decode cX0_push 24 = .ok (.getfield 75, 3) := by decide +kernel
theorem dX0_push_27 : decode cX0_push 27 = .ok (.iconst 1, 1) := by decide +kernel
theorem dX0_push_28 : decode cX0_push 28 = .ok (.iadd, 1) := by decide +kernel
theorem dX0_push_29 : decode cX0_push 29 = .ok (.putfield 75, 3) := by decide +kernel
theorem dX0_push_32 : decode cX0_push 32 = .ok (.return_, 1) := by decide +kernel
abbrev cX0_join : ByteArray := prog_1_method_12_code
def yX0_join : MethodName := ⟨RX0, "join", "(II)V"⟩
theorem dX0_join_0 : decode cX0_join 0 = .ok (.aload_n 0, 1) := by decide +kernel
theorem dX0_join_1 : decode cX0_join 1 = .ok (.getfield 19, 3) := by decide +kernel
theorem dX0_join_4 : decode cX0_join 4 = .ok (.iload_n 1, 1) := by decide +kernel
theorem dX0_join_5 : decode cX0_join 5 = .ok (.baload, 1) := by decide +kernel
theorem dX0_join_6 : decode cX0_join 6 = .ok (.istore_n 3, 1) := by decide +kernel
theorem dX0_join_7 : decode cX0_join 7 = .ok (.aload_n 0, 1) := by decide +kernel
theorem dX0_join_8 : decode cX0_join 8 = .ok (.getfield 19, 3) := by decide +kernel
theorem dX0_join_11 : decode cX0_join 11 = .ok (.iload_n 2, 1) := by decide +kernel
theorem dX0_join_12 : decode cX0_join 12 = .ok (.baload, 1) := by decide +kernel
theorem dX0_join_13 : decode cX0_join 13 = .ok (.istore 4, 2) := by decide +kernel
theorem dX0_join_15 : decode cX0_join 15 = .ok (.iload_n 3, 1) := by decide +kernel
theorem dX0_join_16 : decode cX0_join 16 = .ok (.iload 4, 2) := by decide +kernel
theorem dX0_join_18 : decode cX0_join 18 = .ok (.if_icmp .ne 4, 3) := by decide +kernel
theorem dX0_join_21 : decode cX0_join 21 = .ok (.return_, 1) := by decide +kernel
theorem dX0_join_22 : decode cX0_join 22 = .ok (.iload_n 3, 1) := by decide +kernel
theorem dX0_join_23 : decode cX0_join 23 = .ok (.iload 4, 2) := by decide +kernel
theorem dX0_join_25 : decode cX0_join 25 = .ok (.if_icmp .ge 7, 3) := by decide +kernel
theorem dX0_join_28 : decode cX0_join 28 = .ok (.iload_n 3, 1) := by decide +kernel
theorem dX0_join_29 : decode cX0_join 29 = .ok (.goto 5, 3) := by decide +kernel
theorem dX0_join_32 : decode cX0_join 32 = .ok (.iload 4, 2) := by decide +kernel
theorem dX0_join_34 : decode cX0_join 34 = .ok (.istore 5, 2) := by decide +kernel
theorem dX0_join_36 : decode cX0_join 36 = .ok (.iload_n 3, 1) := by decide +kernel
theorem dX0_join_37 : decode cX0_join 37 = .ok (.iload 4, 2) := by decide +kernel
theorem dX0_join_39 : decode cX0_join 39 = .ok (.if_icmp .ge 8, 3) := by decide +kernel
theorem dX0_join_42 : decode cX0_join 42 = .ok (.iload 4, 2) := by decide +kernel
theorem dX0_join_44 : decode cX0_join 44 = .ok (.goto 4, 3) := by decide +kernel
theorem dX0_join_47 : decode cX0_join 47 = .ok (.iload_n 3, 1) := by decide +kernel
theorem dX0_join_48 : decode cX0_join 48 = .ok (.istore 6, 2) := by decide +kernel
theorem dX0_join_50 : decode cX0_join 50 = .ok (.iconst 0, 1) := by decide +kernel
theorem dX0_join_51 : decode cX0_join 51 = .ok (.istore 7, 2) := by decide +kernel
theorem dX0_join_53 : decode cX0_join 53 = .ok (.iload 7, 2) := by decide +kernel
theorem dX0_join_55 : decode cX0_join 55 = .ok (.aload_n 0, 1) := by decide +kernel
theorem dX0_join_56 : decode cX0_join 56 = .ok (.getfield 67, 3) := by decide +kernel
theorem dX0_join_59 : decode cX0_join 59 = .ok (.if_icmp .ge 31, 3) := by decide +kernel
theorem dX0_join_62 : decode cX0_join 62 = .ok (.aload_n 0, 1) := by decide +kernel
theorem dX0_join_63 : decode cX0_join 63 = .ok (.getfield 19, 3) := by decide +kernel
theorem dX0_join_66 : decode cX0_join 66 = .ok (.iload 7, 2) := by decide +kernel
theorem dX0_join_68 : decode cX0_join 68 = .ok (.baload, 1) := by decide +kernel
theorem dX0_join_69 : decode cX0_join 69 = .ok (.iload 6, 2) := by decide +kernel
theorem dX0_join_71 : decode cX0_join 71 = .ok (.if_icmp .ne 13, 3) := by decide +kernel
theorem dX0_join_74 : decode cX0_join 74 = .ok (.aload_n 0, 1) := by decide +kernel
theorem dX0_join_75 : decode cX0_join 75 = .ok (.getfield 19, 3) := by decide +kernel
theorem dX0_join_78 : decode cX0_join 78 = .ok (.iload 7, 2) := by decide +kernel
theorem dX0_join_80 : decode cX0_join 80 = .ok (.iload 5, 2) := by decide +kernel
theorem dX0_join_82 : decode cX0_join 82 = .ok (.i2b, 1) := by decide +kernel
theorem dX0_join_83 : decode cX0_join 83 = .ok (.bastore, 1) := by decide +kernel
theorem dX0_join_84 : decode cX0_join 84 = .ok (.iinc 7 1, 3) := by decide +kernel
theorem dX0_join_87 : decode cX0_join 87 = .ok (.goto (-34), 3) := by decide +kernel
theorem dX0_join_90 : decode cX0_join 90 = .ok (.aload_n 0, 1) := by decide +kernel
theorem dX0_join_91 : decode cX0_join 91 = .ok (.iconst 0, 1) := by decide +kernel
theorem dX0_join_92 : decode cX0_join 92 = .ok (.putfield 75, 3) := by decide +kernel
theorem dX0_join_95 : decode cX0_join 95 = .ok (.iconst 1, 1) := by decide +kernel
theorem dX0_join_96 : decode cX0_join 96 = .ok (.istore 7, 2) := by decide +kernel
theorem dX0_join_98 : decode cX0_join 98 = .ok (.iload 7, 2) := by decide +kernel
theorem dX0_join_100 : decode cX0_join 100 = .ok (.aload_n 0, 1) := by decide +kernel
theorem dX0_join_101 : decode cX0_join 101 = .ok (.getfield 67, 3) := by decide +kernel
theorem dX0_join_104 : decode cX0_join 104 = .ok (.if_icmp .ge 61, 3) := by decide +kernel
theorem dX0_join_107 : decode cX0_join 107 = .ok (.iconst 0, 1) := by decide +kernel
theorem dX0_join_108 : decode cX0_join 108 = .ok (.istore 8, 2) := by decide +kernel
theorem dX0_join_110 : decode cX0_join 110 = .ok (.iload 8, 2) := by decide +kernel
theorem dX0_join_112 : decode cX0_join 112 = .ok (.iload 7, 2) := by decide +kernel
theorem dX0_join_114 : decode cX0_join 114 = .ok (.if_icmp .ge 45, 3) := by decide +kernel
theorem dX0_join_117 : decode cX0_join 117 = .ok (.aload_n 0, 1) := by decide +kernel
theorem dX0_join_118 : decode cX0_join 118 = .ok (.getfield 19, 3) := by decide +kernel
theorem dX0_join_121 : decode cX0_join 121 = .ok (.iload 8, 2) := by decide +kernel
theorem dX0_join_123 : decode cX0_join 123 = .ok (.baload, 1) := by decide +kernel
theorem dX0_join_124 : decode cX0_join 124 = .ok (.aload_n 0, 1) := by decide +kernel
theorem dX0_join_125 : decode cX0_join 125 = .ok (.getfield 19, 3) := by decide +kernel
theorem dX0_join_128 : decode cX0_join 128 = .ok (.iload 7, 2) := by decide +kernel
theorem dX0_join_130 : decode cX0_join 130 = .ok (.baload, 1) := by decide +kernel
theorem dX0_join_131 : decode cX0_join 131 = .ok (.if_icmp .eq 22, 3) := by decide +kernel
theorem dX0_join_134 : decode cX0_join 134 = .ok (.aload_n 0, 1) := by decide +kernel
theorem dX0_join_135 : decode cX0_join 135 = .ok (.iload 8, 2) := by decide +kernel
theorem dX0_join_137 : decode cX0_join 137 = .ok (.iload 7, 2) := by decide +kernel
end
section
set_option maxRecDepth 100000
theorem dX0_join_139 : decode cX0_join 139 = .ok (.invokevirtual 71, 3) := by decide +kernel
theorem dX0_join_142 : decode cX0_join 142 = .ok (.ifCond .eq 11, 3) := by decide +kernel
theorem dX0_join_145 : decode cX0_join 145 = .ok (.aload_n 0, 1) := by decide +kernel
theorem dX0_join_146 : decode cX0_join 146 = .ok (.iload 8, 2) := by decide +kernel
theorem dX0_join_148 : decode cX0_join 148 = .ok (.iload 7, 2) := by decide +kernel
theorem dX0_join_150 : decode cX0_join 150 = .ok (.invokevirtual 78, 3) := by decide +kernel
theorem dX0_join_153 : decode cX0_join 153 = .ok (.iinc 8 1, 3) := by decide +kernel
theorem dX0_join_156 : decode cX0_join 156 = .ok (.goto (-46), 3) := by decide +kernel
theorem dX0_join_159 : decode cX0_join 159 = .ok (.iinc 7 1, 3) := by decide +kernel
theorem dX0_join_162 : decode cX0_join 162 = .ok (.goto (-64), 3) := by decide +kernel
theorem dX0_join_165 : decode cX0_join 165 = .ok (.return_, 1) := by decide +kernel
abbrev cX0_classes : ByteArray := prog_1_method_9_code
def yX0_classes : MethodName := ⟨RX0, "classes", "()I"⟩
theorem dX0_classes_0 : decode cX0_classes 0 = .ok (.iconst 0, 1) := by decide +kernel
theorem dX0_classes_1 : decode cX0_classes 1 = .ok (.istore_n 1, 1) := by decide +kernel
theorem dX0_classes_2 : decode cX0_classes 2 = .ok (.iconst 0, 1) := by decide +kernel
theorem dX0_classes_3 : decode cX0_classes 3 = .ok (.istore_n 2, 1) := by decide +kernel
theorem dX0_classes_4 : decode cX0_classes 4 = .ok (.iload_n 2, 1) := by decide +kernel
theorem dX0_classes_5 : decode cX0_classes 5 = .ok (.aload_n 0, 1) := by decide +kernel
theorem dX0_classes_6 : decode cX0_classes 6 = .ok (.getfield 67, 3) := by decide +kernel
theorem dX0_classes_9 : decode cX0_classes 9 = .ok (.if_icmp .ge 22, 3) := by decide +kernel
theorem dX0_classes_12 : decode cX0_classes 12 = .ok (.aload_n 0, 1) := by decide +kernel
theorem dX0_classes_13 : decode cX0_classes 13 = .ok (.getfield 19, 3) := by decide +kernel
theorem dX0_classes_16 : decode cX0_classes 16 = .ok (.iload_n 2, 1) := by decide +kernel
theorem dX0_classes_17 : decode cX0_classes 17 = .ok (.baload, 1) := by decide +kernel
theorem dX0_classes_18 : decode cX0_classes 18 = .ok (.iload_n 2, 1) := by decide +kernel
theorem dX0_classes_19 : decode cX0_classes 19 = .ok (.if_icmp .ne 6, 3) := by decide +kernel
theorem dX0_classes_22 : decode cX0_classes 22 = .ok (.iinc 1 1, 3) := by decide +kernel
theorem dX0_classes_25 : decode cX0_classes 25 = .ok (.iinc 2 1, 3) := by decide +kernel
theorem dX0_classes_28 : decode cX0_classes 28 = .ok (.goto (-24), 3) := by decide +kernel
theorem dX0_classes_31 : decode cX0_classes 31 = .ok (.iload_n 1, 1) := by decide +kernel
theorem dX0_classes_32 : decode cX0_classes 32 = .ok (.ireturn, 1) := by decide +kernel
abbrev cX0_leader : ByteArray := prog_1_method_8_code
def yX0_leader : MethodName := ⟨RX0, "leader", "(I)I"⟩
theorem dX0_leader_0 : decode cX0_leader 0 = .ok (.aload_n 0, 1) := by decide +kernel
theorem dX0_leader_1 : decode cX0_leader 1 = .ok (.iload_n 1, 1) := by decide +kernel
theorem dX0_leader_2 : decode cX0_leader 2 = .ok (.invokevirtual 63, 3) := by decide +kernel
theorem dX0_leader_5 : decode cX0_leader 5 = .ok (.ifCond .eq 12, 3) := by decide +kernel
theorem dX0_leader_8 : decode cX0_leader 8 = .ok (.aload_n 0, 1) := by decide +kernel
theorem dX0_leader_9 : decode cX0_leader 9 = .ok (.getfield 19, 3) := by decide +kernel
theorem dX0_leader_12 : decode cX0_leader 12 = .ok (.iload_n 1, 1) := by decide +kernel
theorem dX0_leader_13 : decode cX0_leader 13 = .ok (.baload, 1) := by decide +kernel
theorem dX0_leader_14 : decode cX0_leader 14 = .ok (.goto 4, 3) := by decide +kernel
theorem dX0_leader_17 : decode cX0_leader 17 = .ok (.iconst (-1), 1) := by decide +kernel
theorem dX0_leader_18 : decode cX0_leader 18 = .ok (.ireturn, 1) := by decide +kernel
abbrev cX0_token : ByteArray := prog_1_method_13_code
def yX0_token : MethodName := ⟨RX0, "token", "(I)I"⟩
theorem dX0_token_0 : decode cX0_token 0 = .ok (.aload_n 0, 1) := by decide +kernel
theorem dX0_token_1 : decode cX0_token 1 = .ok (.getfield 89, 3) := by decide +kernel
theorem dX0_token_4 : decode cX0_token 4 = .ok (.bipush 7, 2) := by decide +kernel
theorem dX0_token_6 : decode cX0_token 6 = .ok (.if_icmp .lt 6, 3) := by decide +kernel
theorem dX0_token_9 : decode cX0_token 9 = .ok (.bipush (-2), 2) := by decide +kernel
theorem dX0_token_11 : decode cX0_token 11 = .ok (.ireturn, 1) := by decide +kernel
theorem dX0_token_12 : decode cX0_token 12 = .ok (.iload_n 1, 1) := by decide +kernel
theorem dX0_token_13 : decode cX0_token 13 = .ok (.ifCond .lt 8, 3) := by decide +kernel
theorem dX0_token_16 : decode cX0_token 16 = .ok (.iload_n 1, 1) := by decide +kernel
theorem dX0_token_17 : decode cX0_token 17 = .ok (.iconst 2, 1) := by decide +kernel
theorem dX0_token_18 : decode cX0_token 18 = .ok (.if_icmp .le 27, 3) := by decide +kernel
theorem dX0_token_21 : decode cX0_token 21 = .ok (.iload_n 1, 1) := by decide +kernel
theorem dX0_token_22 : decode cX0_token 22 = .ok (.bipush 10, 2) := by decide +kernel
theorem dX0_token_24 : decode cX0_token 24 = .ok (.if_icmp .lt 9, 3) := by decide +kernel
theorem dX0_token_27 : decode cX0_token 27 = .ok (.iload_n 1, 1) := by decide +kernel
theorem dX0_token_28 : decode cX0_token 28 = .ok (.bipush 15, 2) := by decide +kernel
theorem dX0_token_30 : decode cX0_token 30 = .ok (.if_icmp .le 15, 3) := by decide +kernel
theorem dX0_token_33 : decode cX0_token 33 = .ok (.iload_n 1, 1) := by decide +kernel
theorem dX0_token_34 : decode cX0_token 34 = .ok (.bipush 20, 2) := by decide +kernel
theorem dX0_token_36 : decode cX0_token 36 = .ok (.if_icmp .eq 9, 3) := by decide +kernel
theorem dX0_token_39 : decode cX0_token 39 = .ok (.iload_n 1, 1) := by decide +kernel
theorem dX0_token_40 : decode cX0_token 40 = .ok (.bipush 21, 2) := by decide +kernel
theorem dX0_token_42 : decode cX0_token 42 = .ok (.if_icmp .ne 7, 3) := by decide +kernel
theorem dX0_token_45 : decode cX0_token 45 = .ok (.iconst 1, 1) := by decide +kernel
theorem dX0_token_46 : decode cX0_token 46 = .ok (.goto 4, 3) := by decide +kernel
theorem dX0_token_49 : decode cX0_token 49 = .ok (.iconst 0, 1) := by decide +kernel
theorem dX0_token_50 : decode cX0_token 50 = .ok (.istore_n 2, 1) := by decide +kernel
theorem dX0_token_51 : decode cX0_token 51 = .ok (.iload_n 2, 1) := by decide +kernel
theorem dX0_token_52 : decode cX0_token 52 = .ok (.ifCond .ne 5, 3) := by decide +kernel
theorem dX0_token_55 : decode cX0_token 55 = .ok (.iconst (-1), 1) := by decide +kernel
theorem dX0_token_56 : decode cX0_token 56 = .ok (.ireturn, 1) := by decide +kernel
theorem dX0_token_57 : decode cX0_token 57 = .ok (.aload_n 0, 1) := by decide +kernel
theorem dX0_token_58 : decode cX0_token 58 = .ok (.getfield 28, 3) := by decide +kernel
theorem dX0_token_61 : decode cX0_token 61 = .ok (.aload_n 0, 1) := by decide +kernel
theorem dX0_token_62 : decode cX0_token 62 = .ok (.getfield 89, 3) := by decide +kernel
theorem dX0_token_65 : decode cX0_token 65 = .ok (.iload_n 1, 1) := by decide +kernel
theorem dX0_token_66 : decode cX0_token 66 = .ok (.i2b, 1) := by decide +kernel
theorem dX0_token_67 : decode cX0_token 67 = .ok (.bastore, 1) := by decide +kernel
theorem dX0_token_68 : decode cX0_token 68 = .ok (.aload_n 0, 1) := by decide +kernel
theorem dX0_token_69 : decode cX0_token 69 = .ok (.dup, 1) := by decide +kernel
theorem dX0_token_70 : decode cX0_token 70 = .ok (.getfield 89, 3) := by decide +kernel
theorem dX0_token_73 : decode cX0_token 73 = .ok (.iconst 1, 1) := by decide +kernel
theorem dX0_token_74 : decode cX0_token 74 = .ok (.iadd, 1) := by decide +kernel
theorem dX0_token_75 : decode cX0_token 75 = .ok (.putfield 89, 3) := by decide +kernel
theorem dX0_token_78 : decode cX0_token 78 = .ok (.aload_n 0, 1) := by decide +kernel
theorem dX0_token_79 : decode cX0_token 79 = .ok (.iconst 0, 1) := by decide +kernel
theorem dX0_token_80 : decode cX0_token 80 = .ok (.putfield 92, 3) := by decide +kernel
theorem dX0_token_83 : decode cX0_token 83 = .ok (.aload_n 0, 1) := by decide +kernel
theorem dX0_token_84 : decode cX0_token 84 = .ok (.getfield 89, 3) := by decide +kernel
theorem dX0_token_87 : decode cX0_token 87 = .ok (.ireturn, 1) := by decide +kernel
abbrev cX0_wipe : ByteArray := prog_1_method_14_code
def yX0_wipe : MethodName := ⟨RX0, "wipe", "()I"⟩
theorem dX0_wipe_0 : decode cX0_wipe 0 = .ok (.aload_n 0, 1) := by decide +kernel
theorem dX0_wipe_1 : decode cX0_wipe 1 = .ok (.getfield 89, 3) := by decide +kernel
theorem dX0_wipe_4 : decode cX0_wipe 4 = .ok (.istore_n 1, 1) := by decide +kernel
theorem dX0_wipe_5 : decode cX0_wipe 5 = .ok (.aload_n 0, 1) := by decide +kernel
theorem dX0_wipe_6 : decode cX0_wipe 6 = .ok (.iconst 0, 1) := by decide +kernel
theorem dX0_wipe_7 : decode cX0_wipe 7 = .ok (.putfield 89, 3) := by decide +kernel
theorem dX0_wipe_10 : decode cX0_wipe 10 = .ok (.aload_n 0, 1) := by decide +kernel
theorem dX0_wipe_11 : decode cX0_wipe 11 = .ok (.iconst 0, 1) := by decide +kernel
theorem dX0_wipe_12 : decode cX0_wipe 12 = .ok (.putfield 92, 3) := by decide +kernel
theorem dX0_wipe_15 : decode cX0_wipe 15 = .ok (.iload_n 1, 1) := by decide +kernel
theorem dX0_wipe_16 : decode cX0_wipe 16 = .ok (.ireturn, 1) := by decide +kernel
abbrev cX0_matches : ByteArray := prog_1_method_26_code
def yX0_matches : MethodName := ⟨RX0, "matches", "()I"⟩
theorem dX0_matches_0 : decode cX0_matches 0 = .ok (.aload_n 0, 1) := by decide +kernel
theorem dX0_matches_1 : decode cX0_matches 1 = .ok (.invokevirtual 132, 3) := by decide +kernel
theorem dX0_matches_4 : decode cX0_matches 4 = .ok (.aload_n 0, 1) := by decide +kernel
theorem dX0_matches_5 : decode cX0_matches 5 = .ok (.getfield 99, 3) := by decide +kernel
theorem dX0_matches_8 : decode cX0_matches 8 = .ok (.ifCond .ne 6, 3) := by decide +kernel
theorem dX0_matches_11 : decode cX0_matches 11 = .ok (.bipush (-3), 2) := by decide +kernel
theorem dX0_matches_13 : decode cX0_matches 13 = .ok (.ireturn, 1) := by decide +kernel
theorem dX0_matches_14 : decode cX0_matches 14 = .ok (.aload_n 0, 1) := by decide +kernel
theorem dX0_matches_15 : decode cX0_matches 15 = .ok (.invokevirtual 135, 3) := by decide +kernel
theorem dX0_matches_18 : decode cX0_matches 18 = .ok (.aload_n 0, 1) := by decide +kernel
theorem dX0_matches_19 : decode cX0_matches 19 = .ok (.invokevirtual 138, 3) := by decide +kernel
theorem dX0_matches_22 : decode cX0_matches 22 = .ok (.ireturn, 1) := by decide +kernel
abbrev cX0_compile : ByteArray := prog_1_method_16_code
def yX0_compile : MethodName := ⟨RX0, "compile", "()V"⟩
theorem dX0_compile_0 : decode cX0_compile 0 = .ok (.aload_n 0, 1) := by decide +kernel
theorem dX0_compile_1 : decode cX0_compile 1 = .ok (.getfield 92, 3) := by decide +kernel
theorem dX0_compile_4 : decode cX0_compile 4 = .ok (.ifCond .eq 4, 3) := by decide +kernel
theorem dX0_compile_7 : decode cX0_compile 7 = .ok (.return_, 1) := by decide +kernel
theorem dX0_compile_8 : decode cX0_compile 8 = .ok (.aload_n 0, 1) := by decide +kernel
theorem dX0_compile_9 : decode cX0_compile 9 = .ok (.iconst 1, 1) := by decide +kernel
theorem dX0_compile_10 : decode cX0_compile 10 = .ok (.putfield 92, 3) := by decide +kernel
theorem dX0_compile_13 : decode cX0_compile 13 = .ok (.aload_n 0, 1) := by decide +kernel
theorem dX0_compile_14 : decode cX0_compile 14 = .ok (.iconst 0, 1) := by decide +kernel
theorem dX0_compile_15 : decode cX0_compile 15 = .ok (.putfield 99, 3) := by decide +kernel
theorem dX0_compile_18 : decode cX0_compile 18 = .ok (.aload_n 0, 1) := by decide +kernel
theorem dX0_compile_19 : decode cX0_compile 19 = .ok (.iconst 0, 1) := by decide +kernel
theorem dX0_compile_20 : decode cX0_compile 20 = .ok (.putfield 102, 3) := by decide +kernel
theorem dX0_compile_23 : decode cX0_compile 23 = .ok (.aload_n 0, 1) := by decide +kernel
theorem dX0_compile_24 : decode cX0_compile 24 = .ok (.iconst 0, 1) := by decide +kernel
theorem dX0_compile_25 : decode cX0_compile 25 = .ok (.putfield 96, 3) := by decide +kernel
theorem dX0_compile_28 : decode cX0_compile 28 = .ok (.iconst 1, 1) := by decide +kernel
theorem dX0_compile_29 : decode cX0_compile 29 = .ok (.istore_n 1, 1) := by decide +kernel
theorem dX0_compile_30 : decode cX0_compile 30 = .ok (.iconst 1, 1) := by decide +kernel
theorem dX0_compile_31 : decode cX0_compile 31 = .ok (.istore_n 2, 1) := by decide +kernel
theorem dX0_compile_32 : decode cX0_compile 32 = .ok (.aload_n 0, 1) := by decide +kernel
theorem dX0_compile_33 : decode cX0_compile 33 = .ok (.getfield 43, 3) := by decide +kernel
theorem dX0_compile_36 : decode cX0_compile 36 = .ok (.iconst 0, 1) := by decide +kernel
theorem dX0_compile_37 : decode cX0_compile 37 = .ok (.iconst 0, 1) := by decide +kernel
theorem dX0_compile_38 : decode cX0_compile 38 = .ok (.bastore, 1) := by decide +kernel
theorem dX0_compile_39 : decode cX0_compile 39 = .ok (.iconst 0, 1) := by decide +kernel
theorem dX0_compile_40 : decode cX0_compile 40 = .ok (.istore_n 3, 1) := by decide +kernel
theorem dX0_compile_41 : decode cX0_compile 41 = .ok (.iload_n 3, 1) := by decide +kernel
theorem dX0_compile_42 : decode cX0_compile 42 = .ok (.aload_n 0, 1) := by decide +kernel
theorem dX0_compile_43 : decode cX0_compile 43 = .ok (.getfield 89, 3) := by decide +kernel
theorem dX0_compile_46 : decode cX0_compile 46 = .ok (.if_icmp .ge 169, 3) := by decide +kernel
theorem dX0_compile_49 : decode cX0_compile 49 = .ok (.iload_n 1, 1) := by decide +kernel
theorem dX0_compile_50 : decode cX0_compile 50 = .ok (.ifCond .le 165, 3) := by decide +kernel
theorem dX0_compile_53 : decode cX0_compile 53 = .ok (.aload_n 0, 1) := by decide +kernel
theorem dX0_compile_54 : decode cX0_compile 54 = .ok (.getfield 28, 3) := by decide +kernel
theorem dX0_compile_57 : decode cX0_compile 57 = .ok (.iload_n 3, 1) := by decide +kernel
theorem dX0_compile_58 : decode cX0_compile 58 = .ok (.baload, 1) := by decide +kernel
theorem dX0_compile_59 : decode cX0_compile 59 = .ok (.istore 4, 2) := by decide +kernel
theorem dX0_compile_61 : decode cX0_compile 61 = .ok (.iinc 3 1, 3) := by decide +kernel
theorem dX0_compile_64 : decode cX0_compile 64 = .ok (.iinc 1 (-1), 3) := by decide +kernel
theorem dX0_compile_67 : decode cX0_compile 67 = .ok (.aload_n 0, 1) := by decide +kernel
theorem dX0_compile_68 : decode cX0_compile 68 = .ok (.getfield 43, 3) := by decide +kernel
theorem dX0_compile_71 : decode cX0_compile 71 = .ok (.iload_n 1, 1) := by decide +kernel
theorem dX0_compile_72 : decode cX0_compile 72 = .ok (.baload, 1) := by decide +kernel
theorem dX0_compile_73 : decode cX0_compile 73 = .ok (.istore 5, 2) := by decide +kernel
theorem dX0_compile_75 : decode cX0_compile 75 = .ok (.iload 4, 2) := by decide +kernel
theorem dX0_compile_77 : decode cX0_compile 77 = .ok (.iconst 2, 1) := by decide +kernel
theorem dX0_compile_78 : decode cX0_compile 78 = .ok (.if_icmp .gt 44, 3) := by decide +kernel
theorem dX0_compile_81 : decode cX0_compile 81 = .ok (.aload_n 0, 1) := by decide +kernel
theorem dX0_compile_82 : decode cX0_compile 82 = .ok (.aload_n 0, 1) := by decide +kernel
theorem dX0_compile_83 : decode cX0_compile 83 = .ok (.getfield 102, 3) := by decide +kernel
theorem dX0_compile_86 : decode cX0_compile 86 = .ok (.iload 4, 2) := by decide +kernel
theorem dX0_compile_88 : decode cX0_compile 88 = .ok (.ishr, 1) := by decide +kernel
theorem dX0_compile_89 : decode cX0_compile 89 = .ok (.iconst 1, 1) := by decide +kernel
theorem dX0_compile_90 : decode cX0_compile 90 = .ok (.iand, 1) := by decide +kernel
theorem dX0_compile_91 : decode cX0_compile 91 = .ok (.ifCond .ne 7, 3) := by decide +kernel
theorem dX0_compile_94 : decode cX0_compile 94 = .ok (.iconst 1, 1) := by decide +kernel
theorem dX0_compile_95 : decode cX0_compile 95 = .ok (.goto 4, 3) := by decide +kernel
theorem dX0_compile_98 : decode cX0_compile 98 = .ok (.iconst 2, 1) := by decide +kernel
theorem dX0_compile_99 : decode cX0_compile 99 = .ok (.iload 4, 2) := by decide +kernel
theorem dX0_compile_101 : decode cX0_compile 101 = .ok (.iload 5, 2) := by decide +kernel
theorem dX0_compile_103 : decode cX0_compile 103 = .ok (.invokevirtual 105, 3) := by decide +kernel
theorem dX0_compile_106 : decode cX0_compile 106 = .ok (.aload_n 0, 1) := by decide +kernel
theorem dX0_compile_107 : decode cX0_compile 107 = .ok (.dup, 1) := by decide +kernel
theorem dX0_compile_108 : decode cX0_compile 108 = .ok (.getfield 102, 3) := by decide +kernel
theorem dX0_compile_111 : decode cX0_compile 111 = .ok (.iconst 1, 1) := by decide +kernel
theorem dX0_compile_112 : decode cX0_compile 112 = .ok (.iload 4, 2) := by decide +kernel
theorem dX0_compile_114 : decode cX0_compile 114 = .ok (.ishl, 1) := by decide +kernel
theorem dX0_compile_115 : decode cX0_compile 115 = .ok (.ior, 1) := by decide +kernel
theorem dX0_compile_116 : decode cX0_compile 116 = .ok (.putfield 102, 3) := by decide +kernel
theorem dX0_compile_119 : decode cX0_compile 119 = .ok (.goto 93, 3) := by decide +kernel
theorem dX0_compile_122 : decode cX0_compile 122 = .ok (.iload 4, 2) := by decide +kernel
theorem dX0_compile_124 : decode cX0_compile 124 = .ok (.bipush 15, 2) := by decide +kernel
theorem dX0_compile_126 : decode cX0_compile 126 = .ok (.if_icmp .gt 18, 3) := by decide +kernel
theorem dX0_compile_129 : decode cX0_compile 129 = .ok (.aload_n 0, 1) := by decide +kernel
theorem dX0_compile_130 : decode cX0_compile 130 = .ok (.iconst 3, 1) := by decide +kernel
theorem dX0_compile_131 : decode cX0_compile 131 = .ok (.iload 4, 2) := by decide +kernel
theorem dX0_compile_133 : decode cX0_compile 133 = .ok (.bipush 10, 2) := by decide +kernel
theorem dX0_compile_135 : decode cX0_compile 135 = .ok (.isub, 1) := by decide +kernel
theorem dX0_compile_136 : decode cX0_compile 136 = .ok (.iload 5, 2) := by decide +kernel
theorem dX0_compile_138 : decode cX0_compile 138 = .ok (.invokevirtual 105, 3) := by decide +kernel
theorem dX0_compile_141 : decode cX0_compile 141 = .ok (.goto 71, 3) := by decide +kernel
theorem dX0_compile_144 : decode cX0_compile 144 = .ok (.aload_n 0, 1) := by decide +kernel
theorem dX0_compile_145 : decode cX0_compile 145 = .ok (.iconst 0, 1) := by decide +kernel
theorem dX0_compile_146 : decode cX0_compile 146 = .ok (.iload 4, 2) := by decide +kernel
theorem dX0_compile_148 : decode cX0_compile 148 = .ok (.iload 5, 2) := by decide +kernel
theorem dX0_compile_150 : decode cX0_compile 150 = .ok (.invokevirtual 105, 3) := by decide +kernel
theorem dX0_compile_153 : decode cX0_compile 153 = .ok (.iload 4, 2) := by decide +kernel
theorem dX0_compile_155 : decode cX0_compile 155 = .ok (.bipush 21, 2) := by decide +kernel
theorem dX0_compile_157 : decode cX0_compile 157 = .ok (.if_icmp .ne 16, 3) := by decide +kernel
theorem dX0_compile_160 : decode cX0_compile 160 = .ok (.aload_n 0, 1) := by decide +kernel
theorem dX0_compile_161 : decode cX0_compile 161 = .ok (.getfield 43, 3) := by decide +kernel
theorem dX0_compile_164 : decode cX0_compile 164 = .ok (.iload_n 1, 1) := by decide +kernel
theorem dX0_compile_165 : decode cX0_compile 165 = .ok (.iload_n 2, 1) := by decide +kernel
theorem dX0_compile_166 : decode cX0_compile 166 = .ok (.iconst 1, 1) := by decide +kernel
theorem dX0_compile_167 : decode cX0_compile 167 = .ok (.iadd, 1) := by decide +kernel
theorem dX0_compile_168 : decode cX0_compile 168 = .ok (.i2b, 1) := by decide +kernel
theorem dX0_compile_169 : decode cX0_compile 169 = .ok (.bastore, 1) := by decide +kernel
theorem dX0_compile_170 : decode cX0_compile 170 = .ok (.iinc 1 1, 3) := by decide +kernel
theorem dX0_compile_173 : decode cX0_compile 173 = .ok (.aload_n 0, 1) := by decide +kernel
theorem dX0_compile_174 : decode cX0_compile 174 = .ok (.getfield 43, 3) := by decide +kernel
theorem dX0_compile_177 : decode cX0_compile 177 = .ok (.iload_n 1, 1) := by decide +kernel
theorem dX0_compile_178 : decode cX0_compile 178 = .ok (.iload_n 2, 1) := by decide +kernel
theorem dX0_compile_179 : decode cX0_compile 179 = .ok (.i2b, 1) := by decide +kernel
theorem dX0_compile_180 : decode cX0_compile 180 = .ok (.bastore, 1) := by decide +kernel
theorem dX0_compile_181 : decode cX0_compile 181 = .ok (.iinc 1 1, 3) := by decide +kernel
theorem dX0_compile_184 : decode cX0_compile 184 = .ok (.aload_n 0, 1) := by decide +kernel
theorem dX0_compile_185 : decode cX0_compile 185 = .ok (.getfield 40, 3) := by decide +kernel
theorem dX0_compile_188 : decode cX0_compile 188 = .ok (.aload_n 0, 1) := by decide +kernel
theorem dX0_compile_189 : decode cX0_compile 189 = .ok (.getfield 96, 3) := by decide +kernel
theorem dX0_compile_192 : decode cX0_compile 192 = .ok (.iconst 1, 1) := by decide +kernel
theorem dX0_compile_193 : decode cX0_compile 193 = .ok (.isub, 1) := by decide +kernel
theorem dX0_compile_194 : decode cX0_compile 194 = .ok (.iload_n 2, 1) := by decide +kernel
theorem dX0_compile_195 : decode cX0_compile 195 = .ok (.i2b, 1) := by decide +kernel
theorem dX0_compile_196 : decode cX0_compile 196 = .ok (.bastore, 1) := by decide +kernel
theorem dX0_compile_197 : decode cX0_compile 197 = .ok (.iload_n 2, 1) := by decide +kernel
theorem dX0_compile_198 : decode cX0_compile 198 = .ok (.iload 4, 2) := by decide +kernel
theorem dX0_compile_200 : decode cX0_compile 200 = .ok (.bipush 21, 2) := by decide +kernel
theorem dX0_compile_202 : decode cX0_compile 202 = .ok (.if_icmp .ne 7, 3) := by decide +kernel
theorem dX0_compile_205 : decode cX0_compile 205 = .ok (.iconst 2, 1) := by decide +kernel
theorem dX0_compile_206 : decode cX0_compile 206 = .ok (.goto 4, 3) := by decide +kernel
theorem dX0_compile_209 : decode cX0_compile 209 = .ok (.iconst 1, 1) := by decide +kernel
theorem dX0_compile_210 : decode cX0_compile 210 = .ok (.iadd, 1) := by decide +kernel
theorem dX0_compile_211 : decode cX0_compile 211 = .ok (.istore_n 2, 1) := by decide +kernel
theorem dX0_compile_212 : decode cX0_compile 212 = .ok (.goto (-171), 3) := by decide +kernel
theorem dX0_compile_215 : decode cX0_compile 215 = .ok (.aload_n 0, 1) := by decide +kernel
theorem dX0_compile_216 : decode cX0_compile 216 = .ok (.iload_n 1, 1) := by decide +kernel
theorem dX0_compile_217 : decode cX0_compile 217 = .ok (.ifCond .ne 15, 3) := by decide +kernel
theorem dX0_compile_220 : decode cX0_compile 220 = .ok (.iload_n 3, 1) := by decide +kernel
theorem dX0_compile_221 : decode cX0_compile 221 = .ok (.aload_n 0, 1) := by decide +kernel
theorem dX0_compile_222 : decode cX0_compile 222 = .ok (.getfield 89, 3) := by decide +kernel
theorem dX0_compile_225 : decode cX0_compile 225 = .ok (.if_icmp .ne 7, 3) := by decide +kernel
theorem dX0_compile_228 : decode cX0_compile 228 = .ok (.iconst 1, 1) := by decide +kernel
theorem dX0_compile_229 : decode cX0_compile 229 = .ok (.goto 4, 3) := by decide +kernel
theorem dX0_compile_232 : decode cX0_compile 232 = .ok (.iconst 0, 1) := by decide +kernel
theorem dX0_compile_233 : decode cX0_compile 233 = .ok (.putfield 99, 3) := by decide +kernel
theorem dX0_compile_236 : decode cX0_compile 236 = .ok (.aload_n 0, 1) := by decide +kernel
theorem dX0_compile_237 : decode cX0_compile 237 = .ok (.iconst 4, 1) := by decide +kernel
theorem dX0_compile_238 : decode cX0_compile 238 = .ok (.iconst 0, 1) := by decide +kernel
theorem dX0_compile_239 : decode cX0_compile 239 = .ok (.iconst 0, 1) := by decide +kernel
theorem dX0_compile_240 : decode cX0_compile 240 = .ok (.invokevirtual 105, 3) := by decide +kernel
theorem dX0_compile_243 : decode cX0_compile 243 = .ok (.return_, 1) := by decide +kernel
abbrev cX0_write : ByteArray := prog_1_method_15_code
def yX0_write : MethodName := ⟨RX0, "write", "(III)V"⟩
theorem dX0_write_0 : decode cX0_write 0 = .ok (.aload_n 0, 1) := by decide +kernel
theorem dX0_write_1 : decode cX0_write 1 = .ok (.getfield 31, 3) := by decide +kernel
theorem dX0_write_4 : decode cX0_write 4 = .ok (.aload_n 0, 1) := by decide +kernel
theorem dX0_write_5 : decode cX0_write 5 = .ok (.getfield 96, 3) := by decide +kernel
theorem dX0_write_8 : decode cX0_write 8 = .ok (.iload_n 1, 1) := by decide +kernel
theorem dX0_write_9 : decode cX0_write 9 = .ok (.i2b, 1) := by decide +kernel
theorem dX0_write_10 : decode cX0_write 10 = .ok (.bastore, 1) := by decide +kernel
theorem dX0_write_11 : decode cX0_write 11 = .ok (.aload_n 0, 1) := by decide +kernel
theorem dX0_write_12 : decode cX0_write 12 = .ok (.getfield 34, 3) := by decide +kernel
theorem dX0_write_15 : decode cX0_write 15 = .ok (.aload_n 0, 1) := by decide +kernel
theorem dX0_write_16 : decode cX0_write 16 = .ok (.getfield 96, 3) := by decide +kernel
theorem dX0_write_19 : decode cX0_write 19 = .ok (.iload_n 2, 1) := by decide +kernel
theorem dX0_write_20 : decode cX0_write 20 = .ok (.i2b, 1) := by decide +kernel
theorem dX0_write_21 : decode cX0_write 21 = .ok (.bastore, 1) := by decide +kernel
theorem dX0_write_22 : decode cX0_write 22 = .ok (.aload_n 0, 1) := by decide +kernel
theorem dX0_write_23 : decode cX0_write 23 = .ok (.getfield 37, 3) := by decide +kernel
theorem dX0_write_26 : decode cX0_write 26 = .ok (.aload_n 0, 1) := by decide +kernel
theorem dX0_write_27 : decode cX0_write 27 = .ok (.getfield 96, 3) := by decide +kernel
theorem dX0_write_30 : decode cX0_write 30 = .ok (.iload_n 3, 1) := by decide +kernel
theorem dX0_write_31 : decode cX0_write 31 = .ok (.i2b, 1) := by decide +kernel
theorem dX0_write_32 : decode cX0_write 32 = .ok (.bastore, 1) := by decide +kernel
theorem dX0_write_33 : decode cX0_write 33 = .ok (.aload_n 0, 1) := by decide +kernel
theorem dX0_write_34 : decode cX0_write 34 = .ok (.dup, 1) := by decide +kernel
theorem dX0_write_35 : decode cX0_write 35 = .ok (.getfield 96, 3) := by decide +kernel
theorem dX0_write_38 : decode cX0_write 38 = .ok (.iconst 1, 1) := by decide +kernel
theorem dX0_write_39 : decode cX0_write 39 = .ok (.iadd, 1) := by decide +kernel
theorem dX0_write_40 : decode cX0_write 40 = .ok (.putfield 96, 3) := by decide +kernel
theorem dX0_write_43 : decode cX0_write 43 = .ok (.return_, 1) := by decide +kernel
abbrev cX0_runAll : ByteArray := prog_1_method_25_code
def yX0_runAll : MethodName := ⟨RX0, "runAll", "()V"⟩
theorem dX0_runAll_0 : decode cX0_runAll 0 = .ok (.aload_n 0, 1) := by decide +kernel
theorem dX0_runAll_1 : decode cX0_runAll 1 = .ok (.invokevirtual 125, 3) := by decide +kernel
theorem dX0_runAll_4 : decode cX0_runAll 4 = .ok (.iconst 0, 1) := by decide +kernel
theorem dX0_runAll_5 : decode cX0_runAll 5 = .ok (.istore_n 1, 1) := by decide +kernel
theorem dX0_runAll_6 : decode cX0_runAll 6 = .ok (.iload_n 1, 1) := by decide +kernel
theorem dX0_runAll_7 : decode cX0_runAll 7 = .ok (.aload_n 0, 1) := by decide +kernel
theorem dX0_runAll_8 : decode cX0_runAll 8 = .ok (.getfield 67, 3) := by decide +kernel
theorem dX0_runAll_11 : decode cX0_runAll 11 = .ok (.if_icmp .ge 24, 3) := by decide +kernel
theorem dX0_runAll_14 : decode cX0_runAll 14 = .ok (.aload_n 0, 1) := by decide +kernel
theorem dX0_runAll_15 : decode cX0_runAll 15 = .ok (.getfield 19, 3) := by decide +kernel
theorem dX0_runAll_18 : decode cX0_runAll 18 = .ok (.iload_n 1, 1) := by decide +kernel
theorem dX0_runAll_19 : decode cX0_runAll 19 = .ok (.baload, 1) := by decide +kernel
theorem dX0_runAll_20 : decode cX0_runAll 20 = .ok (.iload_n 1, 1) := by decide +kernel
theorem dX0_runAll_21 : decode cX0_runAll 21 = .ok (.if_icmp .ne 8, 3) := by decide +kernel
theorem dX0_runAll_24 : decode cX0_runAll 24 = .ok (.aload_n 0, 1) := by decide +kernel
theorem dX0_runAll_25 : decode cX0_runAll 25 = .ok (.iload_n 1, 1) := by decide +kernel
theorem dX0_runAll_26 : decode cX0_runAll 26 = .ok (.invokevirtual 128, 3) := by decide +kernel
theorem dX0_runAll_29 : decode cX0_runAll 29 = .ok (.iinc 1 1, 3) := by decide +kernel
theorem dX0_runAll_32 : decode cX0_runAll 32 = .ok (.goto (-26), 3) := by decide +kernel
theorem dX0_runAll_35 : decode cX0_runAll 35 = .ok (.return_, 1) := by decide +kernel
abbrev cX0_clearFound : ByteArray := prog_1_method_23_code
def yX0_clearFound : MethodName := ⟨RX0, "clearFound", "()V"⟩
theorem dX0_clearFound_0 : decode cX0_clearFound 0 = .ok (.iconst 0, 1) := by decide +kernel
theorem dX0_clearFound_1 : decode cX0_clearFound 1 = .ok (.istore_n 1, 1) := by decide +kernel
theorem dX0_clearFound_2 : decode cX0_clearFound 2 = .ok (.iload_n 1, 1) := by decide +kernel
theorem dX0_clearFound_3 : decode cX0_clearFound 3 = .ok (.bipush 125, 2) := by decide +kernel
theorem dX0_clearFound_5 : decode cX0_clearFound 5 = .ok (.if_icmp .ge 16, 3) := by decide +kernel
theorem dX0_clearFound_8 : decode cX0_clearFound 8 = .ok (.aload_n 0, 1) := by decide +kernel
theorem dX0_clearFound_9 : decode cX0_clearFound 9 = .ok (.getfield 55, 3) := by decide +kernel
theorem dX0_clearFound_12 : decode cX0_clearFound 12 = .ok (.iload_n 1, 1) := by decide +kernel
theorem dX0_clearFound_13 : decode cX0_clearFound 13 = .ok (.lconst 0, 1) := by decide +kernel
theorem dX0_clearFound_14 : decode cX0_clearFound 14 = .ok (.lastore, 1) := by decide +kernel
theorem dX0_clearFound_15 : decode cX0_clearFound 15 = .ok (.iinc 1 1, 3) := by decide +kernel
theorem dX0_clearFound_18 : decode cX0_clearFound 18 = .ok (.goto (-16), 3) := by decide +kernel
theorem dX0_clearFound_21 : decode cX0_clearFound 21 = .ok (.return_, 1) := by decide +kernel
abbrev cX0_run : ByteArray := prog_1_method_17_code
def yX0_run : MethodName := ⟨RX0, "run", "(I)V"⟩
theorem dX0_run_0 : decode cX0_run 0 = .ok (.aload_n 0, 1) := by decide +kernel
theorem dX0_run_1 : decode cX0_run 1 = .ok (.getfield 46, 3) := by decide +kernel
theorem dX0_run_4 : decode cX0_run 4 = .ok (.iconst 0, 1) := by decide +kernel
theorem dX0_run_5 : decode cX0_run 5 = .ok (.iload_n 1, 1) := by decide +kernel
theorem dX0_run_6 : decode cX0_run 6 = .ok (.i2b, 1) := by decide +kernel
theorem dX0_run_7 : decode cX0_run 7 = .ok (.bastore, 1) := by decide +kernel
theorem dX0_run_8 : decode cX0_run 8 = .ok (.iconst 0, 1) := by decide +kernel
theorem dX0_run_9 : decode cX0_run 9 = .ok (.istore_n 2, 1) := by decide +kernel
theorem dX0_run_10 : decode cX0_run 10 = .ok (.iload_n 2, 1) := by decide +kernel
theorem dX0_run_11 : decode cX0_run 11 = .ok (.iconst 3, 1) := by decide +kernel
theorem dX0_run_12 : decode cX0_run 12 = .ok (.if_icmp .ge 16, 3) := by decide +kernel
theorem dX0_run_15 : decode cX0_run 15 = .ok (.aload_n 0, 1) := by decide +kernel
theorem dX0_run_16 : decode cX0_run 16 = .ok (.getfield 49, 3) := by decide +kernel
theorem dX0_run_19 : decode cX0_run 19 = .ok (.iload_n 2, 1) := by decide +kernel
theorem dX0_run_20 : decode cX0_run 20 = .ok (.iconst (-1), 1) := by decide +kernel
theorem dX0_run_21 : decode cX0_run 21 = .ok (.bastore, 1) := by decide +kernel
theorem dX0_run_22 : decode cX0_run 22 = .ok (.iinc 2 1, 3) := by decide +kernel
theorem dX0_run_25 : decode cX0_run 25 = .ok (.goto (-15), 3) := by decide +kernel
theorem dX0_run_28 : decode cX0_run 28 = .ok (.iconst 0, 1) := by decide +kernel
theorem dX0_run_29 : decode cX0_run 29 = .ok (.istore_n 2, 1) := by decide +kernel
theorem dX0_run_30 : decode cX0_run 30 = .ok (.aload_n 0, 1) := by decide +kernel
theorem dX0_run_31 : decode cX0_run 31 = .ok (.getfield 52, 3) := by decide +kernel
theorem dX0_run_34 : decode cX0_run 34 = .ok (.iconst 0, 1) := by decide +kernel
theorem dX0_run_35 : decode cX0_run 35 = .ok (.iconst (-1), 1) := by decide +kernel
theorem dX0_run_36 : decode cX0_run 36 = .ok (.bastore, 1) := by decide +kernel
theorem dX0_run_37 : decode cX0_run 37 = .ok (.iload_n 2, 1) := by decide +kernel
theorem dX0_run_38 : decode cX0_run 38 = .ok (.ifCond .lt 52, 3) := by decide +kernel
theorem dX0_run_41 : decode cX0_run 41 = .ok (.aload_n 0, 1) := by decide +kernel
theorem dX0_run_42 : decode cX0_run 42 = .ok (.getfield 31, 3) := by decide +kernel
theorem dX0_run_45 : decode cX0_run 45 = .ok (.iload_n 2, 1) := by decide +kernel
theorem dX0_run_46 : decode cX0_run 46 = .ok (.baload, 1) := by decide +kernel
theorem dX0_run_47 : decode cX0_run 47 = .ok (.ifCond .ne 11, 3) := by decide +kernel
theorem dX0_run_50 : decode cX0_run 50 = .ok (.aload_n 0, 1) := by decide +kernel
theorem dX0_run_51 : decode cX0_run 51 = .ok (.iload_n 2, 1) := by decide +kernel
theorem dX0_run_52 : decode cX0_run 52 = .ok (.invokevirtual 109, 3) := by decide +kernel
theorem dX0_run_55 : decode cX0_run 55 = .ok (.goto 8, 3) := by decide +kernel
theorem dX0_run_58 : decode cX0_run 58 = .ok (.aload_n 0, 1) := by decide +kernel
theorem dX0_run_59 : decode cX0_run 59 = .ok (.iload_n 2, 1) := by decide +kernel
theorem dX0_run_60 : decode cX0_run 60 = .ok (.invokevirtual 112, 3) := by decide +kernel
theorem dX0_run_63 : decode cX0_run 63 = .ok (.istore_n 3, 1) := by decide +kernel
theorem dX0_run_64 : decode cX0_run 64 = .ok (.iload_n 3, 1) := by decide +kernel
theorem dX0_run_65 : decode cX0_run 65 = .ok (.ifCond .eq 16, 3) := by decide +kernel
theorem dX0_run_68 : decode cX0_run 68 = .ok (.iinc 2 1, 3) := by decide +kernel
theorem dX0_run_71 : decode cX0_run 71 = .ok (.aload_n 0, 1) := by decide +kernel
theorem dX0_run_72 : decode cX0_run 72 = .ok (.getfield 52, 3) := by decide +kernel
theorem dX0_run_75 : decode cX0_run 75 = .ok (.iload_n 2, 1) := by decide +kernel
theorem dX0_run_76 : decode cX0_run 76 = .ok (.iconst (-1), 1) := by decide +kernel
theorem dX0_run_77 : decode cX0_run 77 = .ok (.bastore, 1) := by decide +kernel
theorem dX0_run_78 : decode cX0_run 78 = .ok (.goto 9, 3) := by decide +kernel
theorem dX0_run_81 : decode cX0_run 81 = .ok (.aload_n 0, 1) := by decide +kernel
theorem dX0_run_82 : decode cX0_run 82 = .ok (.iload_n 2, 1) := by decide +kernel
theorem dX0_run_83 : decode cX0_run 83 = .ok (.invokevirtual 115, 3) := by decide +kernel
theorem dX0_run_86 : decode cX0_run 86 = .ok (.istore_n 2, 1) := by decide +kernel
theorem dX0_run_87 : decode cX0_run 87 = .ok (.goto (-50), 3) := by decide +kernel
theorem dX0_run_90 : decode cX0_run 90 = .ok (.return_, 1) := by decide +kernel
abbrev cX0_take : ByteArray := prog_1_method_19_code
def yX0_take : MethodName := ⟨RX0, "take", "(I)Z"⟩
theorem dX0_take_0 : decode cX0_take 0 = .ok (.aload_n 0, 1) := by decide +kernel
theorem dX0_take_1 : decode cX0_take 1 = .ok (.getfield 52, 3) := by decide +kernel
theorem dX0_take_4 : decode cX0_take 4 = .ok (.iload_n 1, 1) := by decide +kernel
theorem dX0_take_5 : decode cX0_take 5 = .ok (.baload, 1) := by decide +kernel
theorem dX0_take_6 : decode cX0_take 6 = .ok (.iconst 1, 1) := by decide +kernel
theorem dX0_take_7 : decode cX0_take 7 = .ok (.iadd, 1) := by decide +kernel
theorem dX0_take_8 : decode cX0_take 8 = .ok (.istore_n 2, 1) := by decide +kernel
theorem dX0_take_9 : decode cX0_take 9 = .ok (.iload_n 2, 1) := by decide +kernel
theorem dX0_take_10 : decode cX0_take 10 = .ok (.aload_n 0, 1) := by decide +kernel
theorem dX0_take_11 : decode cX0_take 11 = .ok (.getfield 67, 3) := by decide +kernel
theorem dX0_take_14 : decode cX0_take 14 = .ok (.if_icmp .ge 44, 3) := by decide +kernel
theorem dX0_take_17 : decode cX0_take 17 = .ok (.aload_n 0, 1) := by decide +kernel
theorem dX0_take_18 : decode cX0_take 18 = .ok (.getfield 19, 3) := by decide +kernel
theorem dX0_take_21 : decode cX0_take 21 = .ok (.iload_n 2, 1) := by decide +kernel
theorem dX0_take_22 : decode cX0_take 22 = .ok (.baload, 1) := by decide +kernel
theorem dX0_take_23 : decode cX0_take 23 = .ok (.aload_n 0, 1) := by decide +kernel
theorem dX0_take_24 : decode cX0_take 24 = .ok (.getfield 46, 3) := by decide +kernel
theorem dX0_take_27 : decode cX0_take 27 = .ok (.aload_n 0, 1) := by decide +kernel
theorem dX0_take_28 : decode cX0_take 28 = .ok (.getfield 37, 3) := by decide +kernel
theorem dX0_take_31 : decode cX0_take 31 = .ok (.iload_n 1, 1) := by decide +kernel
theorem dX0_take_32 : decode cX0_take 32 = .ok (.baload, 1) := by decide +kernel
theorem dX0_take_33 : decode cX0_take 33 = .ok (.baload, 1) := by decide +kernel
theorem dX0_take_34 : decode cX0_take 34 = .ok (.if_icmp .ne 18, 3) := by decide +kernel
theorem dX0_take_37 : decode cX0_take 37 = .ok (.aload_n 0, 1) := by decide +kernel
theorem dX0_take_38 : decode cX0_take 38 = .ok (.getfield 7, 3) := by decide +kernel
theorem dX0_take_41 : decode cX0_take 41 = .ok (.iload_n 2, 1) := by decide +kernel
theorem dX0_take_42 : decode cX0_take 42 = .ok (.baload, 1) := by decide +kernel
theorem dX0_take_43 : decode cX0_take 43 = .ok (.aload_n 0, 1) := by decide +kernel
theorem dX0_take_44 : decode cX0_take 44 = .ok (.getfield 34, 3) := by decide +kernel
theorem dX0_take_47 : decode cX0_take 47 = .ok (.iload_n 1, 1) := by decide +kernel
theorem dX0_take_48 : decode cX0_take 48 = .ok (.baload, 1) := by decide +kernel
theorem dX0_take_49 : decode cX0_take 49 = .ok (.if_icmp .eq 9, 3) := by decide +kernel
theorem dX0_take_52 : decode cX0_take 52 = .ok (.iinc 2 1, 3) := by decide +kernel
theorem dX0_take_55 : decode cX0_take 55 = .ok (.goto (-46), 3) := by decide +kernel
theorem dX0_take_58 : decode cX0_take 58 = .ok (.iload_n 2, 1) := by decide +kernel
theorem dX0_take_59 : decode cX0_take 59 = .ok (.aload_n 0, 1) := by decide +kernel
theorem dX0_take_60 : decode cX0_take 60 = .ok (.getfield 67, 3) := by decide +kernel
theorem dX0_take_63 : decode cX0_take 63 = .ok (.if_icmp .lt 5, 3) := by decide +kernel
theorem dX0_take_66 : decode cX0_take 66 = .ok (.iconst 0, 1) := by decide +kernel
theorem dX0_take_67 : decode cX0_take 67 = .ok (.ireturn, 1) := by decide +kernel
theorem dX0_take_68 : decode cX0_take 68 = .ok (.aload_n 0, 1) := by decide +kernel
theorem dX0_take_69 : decode cX0_take 69 = .ok (.getfield 52, 3) := by decide +kernel
theorem dX0_take_72 : decode cX0_take 72 = .ok (.iload_n 1, 1) := by decide +kernel
theorem dX0_take_73 : decode cX0_take 73 = .ok (.iload_n 2, 1) := by decide +kernel
theorem dX0_take_74 : decode cX0_take 74 = .ok (.i2b, 1) := by decide +kernel
theorem dX0_take_75 : decode cX0_take 75 = .ok (.bastore, 1) := by decide +kernel
theorem dX0_take_76 : decode cX0_take 76 = .ok (.aload_n 0, 1) := by decide +kernel
theorem dX0_take_77 : decode cX0_take 77 = .ok (.getfield 40, 3) := by decide +kernel
theorem dX0_take_80 : decode cX0_take 80 = .ok (.iload_n 1, 1) := by decide +kernel
theorem dX0_take_81 : decode cX0_take 81 = .ok (.baload, 1) := by decide +kernel
theorem dX0_take_82 : decode cX0_take 82 = .ok (.istore_n 3, 1) := by decide +kernel
theorem dX0_take_83 : decode cX0_take 83 = .ok (.aload_n 0, 1) := by decide +kernel
theorem dX0_take_84 : decode cX0_take 84 = .ok (.getfield 46, 3) := by decide +kernel
theorem dX0_take_87 : decode cX0_take 87 = .ok (.iload_n 3, 1) := by decide +kernel
theorem dX0_take_88 : decode cX0_take 88 = .ok (.aload_n 0, 1) := by decide +kernel
theorem dX0_take_89 : decode cX0_take 89 = .ok (.getfield 19, 3) := by decide +kernel
theorem dX0_take_92 : decode cX0_take 92 = .ok (.aload_n 0, 1) := by decide +kernel
theorem dX0_take_93 : decode cX0_take 93 = .ok (.getfield 13, 3) := by decide +kernel
theorem dX0_take_96 : decode cX0_take 96 = .ok (.iload_n 2, 1) := by decide +kernel
theorem dX0_take_97 : decode cX0_take 97 = .ok (.baload, 1) := by decide +kernel
theorem dX0_take_98 : decode cX0_take 98 = .ok (.baload, 1) := by decide +kernel
theorem dX0_take_99 : decode cX0_take 99 = .ok (.bastore, 1) := by decide +kernel
theorem dX0_take_100 : decode cX0_take 100 = .ok (.aload_n 0, 1) := by decide +kernel
theorem dX0_take_101 : decode cX0_take 101 = .ok (.getfield 7, 3) := by decide +kernel
theorem dX0_take_104 : decode cX0_take 104 = .ok (.iload_n 2, 1) := by decide +kernel
theorem dX0_take_105 : decode cX0_take 105 = .ok (.baload, 1) := by decide +kernel
theorem dX0_take_106 : decode cX0_take 106 = .ok (.bipush 21, 2) := by decide +kernel
theorem dX0_take_108 : decode cX0_take 108 = .ok (.if_icmp .ne 22, 3) := by decide +kernel
theorem dX0_take_111 : decode cX0_take 111 = .ok (.aload_n 0, 1) := by decide +kernel
theorem dX0_take_112 : decode cX0_take 112 = .ok (.getfield 46, 3) := by decide +kernel
theorem dX0_take_115 : decode cX0_take 115 = .ok (.iload_n 3, 1) := by decide +kernel
theorem dX0_take_116 : decode cX0_take 116 = .ok (.iconst 1, 1) := by decide +kernel
theorem dX0_take_117 : decode cX0_take 117 = .ok (.iadd, 1) := by decide +kernel
theorem dX0_take_118 : decode cX0_take 118 = .ok (.aload_n 0, 1) := by decide +kernel
theorem dX0_take_119 : decode cX0_take 119 = .ok (.getfield 19, 3) := by decide +kernel
theorem dX0_take_122 : decode cX0_take 122 = .ok (.aload_n 0, 1) := by decide +kernel
theorem dX0_take_123 : decode cX0_take 123 = .ok (.getfield 16, 3) := by decide +kernel
theorem dX0_take_126 : decode cX0_take 126 = .ok (.iload_n 2, 1) := by decide +kernel
theorem dX0_take_127 : decode cX0_take 127 = .ok (.baload, 1) := by decide +kernel
theorem dX0_take_128 : decode cX0_take 128 = .ok (.baload, 1) := by decide +kernel
theorem dX0_take_129 : decode cX0_take 129 = .ok (.bastore, 1) := by decide +kernel
theorem dX0_take_130 : decode cX0_take 130 = .ok (.iconst 1, 1) := by decide +kernel
theorem dX0_take_131 : decode cX0_take 131 = .ok (.ireturn, 1) := by decide +kernel
abbrev cX0_decide : ByteArray := prog_1_method_20_code
def yX0_decide : MethodName := ⟨RX0, "decide", "(I)Z"⟩
theorem dX0_decide_0 : decode cX0_decide 0 = .ok (.aload_n 0, 1) := by decide +kernel
end
section
set_option maxRecDepth 100000
theorem dX0_decide_1 : decode cX0_decide 1 = .ok (.getfield 31, 3) := by decide +kernel
theorem dX0_decide_4 : decode cX0_decide 4 = .ok (.iload_n 1, 1) := by decide +kernel
theorem dX0_decide_5 : decode cX0_decide 5 = .ok (.baload, 1) := by decide +kernel
theorem dX0_decide_6 : decode cX0_decide 6 = .ok (.istore_n 2, 1) := by decide +kernel
theorem dX0_decide_7 : decode cX0_decide 7 = .ok (.iload_n 2, 1) := by decide +kernel
theorem dX0_decide_8 : decode cX0_decide 8 = .ok (.iconst 4, 1) := by decide +kernel
theorem dX0_decide_9 : decode cX0_decide 9 = .ok (.if_icmp .ne 9, 3) := by decide +kernel
theorem dX0_decide_12 : decode cX0_decide 12 = .ok (.aload_n 0, 1) := by decide +kernel
theorem dX0_decide_13 : decode cX0_decide 13 = .ok (.invokevirtual 119, 3) := by decide +kernel
theorem dX0_decide_16 : decode cX0_decide 16 = .ok (.iconst 0, 1) := by decide +kernel
theorem dX0_decide_17 : decode cX0_decide 17 = .ok (.ireturn, 1) := by decide +kernel
theorem dX0_decide_18 : decode cX0_decide 18 = .ok (.aload_n 0, 1) := by decide +kernel
theorem dX0_decide_19 : decode cX0_decide 19 = .ok (.getfield 46, 3) := by decide +kernel
theorem dX0_decide_22 : decode cX0_decide 22 = .ok (.aload_n 0, 1) := by decide +kernel
theorem dX0_decide_23 : decode cX0_decide 23 = .ok (.getfield 37, 3) := by decide +kernel
theorem dX0_decide_26 : decode cX0_decide 26 = .ok (.iload_n 1, 1) := by decide +kernel
theorem dX0_decide_27 : decode cX0_decide 27 = .ok (.baload, 1) := by decide +kernel
theorem dX0_decide_28 : decode cX0_decide 28 = .ok (.baload, 1) := by decide +kernel
theorem dX0_decide_29 : decode cX0_decide 29 = .ok (.istore_n 3, 1) := by decide +kernel
theorem dX0_decide_30 : decode cX0_decide 30 = .ok (.aload_n 0, 1) := by decide +kernel
theorem dX0_decide_31 : decode cX0_decide 31 = .ok (.getfield 34, 3) := by decide +kernel
theorem dX0_decide_34 : decode cX0_decide 34 = .ok (.iload_n 1, 1) := by decide +kernel
theorem dX0_decide_35 : decode cX0_decide 35 = .ok (.baload, 1) := by decide +kernel
theorem dX0_decide_36 : decode cX0_decide 36 = .ok (.istore 4, 2) := by decide +kernel
theorem dX0_decide_38 : decode cX0_decide 38 = .ok (.iload_n 2, 1) := by decide +kernel
theorem dX0_decide_39 : decode cX0_decide 39 = .ok (.iconst 2, 1) := by decide +kernel
theorem dX0_decide_40 : decode cX0_decide 40 = .ok (.if_icmp .ne 20, 3) := by decide +kernel
theorem dX0_decide_43 : decode cX0_decide 43 = .ok (.aload_n 0, 1) := by decide +kernel
theorem dX0_decide_44 : decode cX0_decide 44 = .ok (.getfield 49, 3) := by decide +kernel
theorem dX0_decide_47 : decode cX0_decide 47 = .ok (.iload 4, 2) := by decide +kernel
theorem dX0_decide_49 : decode cX0_decide 49 = .ok (.baload, 1) := by decide +kernel
theorem dX0_decide_50 : decode cX0_decide 50 = .ok (.iload_n 3, 1) := by decide +kernel
theorem dX0_decide_51 : decode cX0_decide 51 = .ok (.if_icmp .ne 7, 3) := by decide +kernel
theorem dX0_decide_54 : decode cX0_decide 54 = .ok (.iconst 1, 1) := by decide +kernel
theorem dX0_decide_55 : decode cX0_decide 55 = .ok (.goto 4, 3) := by decide +kernel
theorem dX0_decide_58 : decode cX0_decide 58 = .ok (.iconst 0, 1) := by decide +kernel
theorem dX0_decide_59 : decode cX0_decide 59 = .ok (.ireturn, 1) := by decide +kernel
theorem dX0_decide_60 : decode cX0_decide 60 = .ok (.iload_n 2, 1) := by decide +kernel
theorem dX0_decide_61 : decode cX0_decide 61 = .ok (.iconst 3, 1) := by decide +kernel
theorem dX0_decide_62 : decode cX0_decide 62 = .ok (.if_icmp .ne 19, 3) := by decide +kernel
theorem dX0_decide_65 : decode cX0_decide 65 = .ok (.aload_n 0, 1) := by decide +kernel
theorem dX0_decide_66 : decode cX0_decide 66 = .ok (.iload 4, 2) := by decide +kernel
theorem dX0_decide_68 : decode cX0_decide 68 = .ok (.invokevirtual 122, 3) := by decide +kernel
theorem dX0_decide_71 : decode cX0_decide 71 = .ok (.iload_n 3, 1) := by decide +kernel
theorem dX0_decide_72 : decode cX0_decide 72 = .ok (.if_icmp .ne 7, 3) := by decide +kernel
theorem dX0_decide_75 : decode cX0_decide 75 = .ok (.iconst 1, 1) := by decide +kernel
theorem dX0_decide_76 : decode cX0_decide 76 = .ok (.goto 4, 3) := by decide +kernel
theorem dX0_decide_79 : decode cX0_decide 79 = .ok (.iconst 0, 1) := by decide +kernel
theorem dX0_decide_80 : decode cX0_decide 80 = .ok (.ireturn, 1) := by decide +kernel
theorem dX0_decide_81 : decode cX0_decide 81 = .ok (.aload_n 0, 1) := by decide +kernel
theorem dX0_decide_82 : decode cX0_decide 82 = .ok (.getfield 49, 3) := by decide +kernel
theorem dX0_decide_85 : decode cX0_decide 85 = .ok (.iload 4, 2) := by decide +kernel
theorem dX0_decide_87 : decode cX0_decide 87 = .ok (.iload_n 3, 1) := by decide +kernel
theorem dX0_decide_88 : decode cX0_decide 88 = .ok (.i2b, 1) := by decide +kernel
theorem dX0_decide_89 : decode cX0_decide 89 = .ok (.bastore, 1) := by decide +kernel
theorem dX0_decide_90 : decode cX0_decide 90 = .ok (.iconst 1, 1) := by decide +kernel
theorem dX0_decide_91 : decode cX0_decide 91 = .ok (.ireturn, 1) := by decide +kernel
abbrev cX0_note : ByteArray := prog_1_method_22_code
def yX0_note : MethodName := ⟨RX0, "note", "()V"⟩
theorem dX0_note_0 : decode cX0_note 0 = .ok (.iconst 0, 1) := by decide +kernel
theorem dX0_note_1 : decode cX0_note 1 = .ok (.istore_n 1, 1) := by decide +kernel
theorem dX0_note_2 : decode cX0_note 2 = .ok (.iconst 0, 1) := by decide +kernel
theorem dX0_note_3 : decode cX0_note 3 = .ok (.istore_n 2, 1) := by decide +kernel
theorem dX0_note_4 : decode cX0_note 4 = .ok (.iload_n 2, 1) := by decide +kernel
theorem dX0_note_5 : decode cX0_note 5 = .ok (.iconst 3, 1) := by decide +kernel
theorem dX0_note_6 : decode cX0_note 6 = .ok (.if_icmp .ge 34, 3) := by decide +kernel
theorem dX0_note_9 : decode cX0_note 9 = .ok (.bipush 20, 2) := by decide +kernel
theorem dX0_note_11 : decode cX0_note 11 = .ok (.iload_n 1, 1) := by decide +kernel
theorem dX0_note_12 : decode cX0_note 12 = .ok (.imul, 1) := by decide +kernel
theorem dX0_note_13 : decode cX0_note 13 = .ok (.aload_n 0, 1) := by decide +kernel
theorem dX0_note_14 : decode cX0_note 14 = .ok (.getfield 49, 3) := by decide +kernel
theorem dX0_note_17 : decode cX0_note 17 = .ok (.iload_n 2, 1) := by decide +kernel
theorem dX0_note_18 : decode cX0_note 18 = .ok (.baload, 1) := by decide +kernel
theorem dX0_note_19 : decode cX0_note 19 = .ok (.ifCond .ge 7, 3) := by decide +kernel
theorem dX0_note_22 : decode cX0_note 22 = .ok (.iconst 0, 1) := by decide +kernel
theorem dX0_note_23 : decode cX0_note 23 = .ok (.goto 9, 3) := by decide +kernel
theorem dX0_note_26 : decode cX0_note 26 = .ok (.aload_n 0, 1) := by decide +kernel
theorem dX0_note_27 : decode cX0_note 27 = .ok (.getfield 49, 3) := by decide +kernel
theorem dX0_note_30 : decode cX0_note 30 = .ok (.iload_n 2, 1) := by decide +kernel
theorem dX0_note_31 : decode cX0_note 31 = .ok (.baload, 1) := by decide +kernel
theorem dX0_note_32 : decode cX0_note 32 = .ok (.iadd, 1) := by decide +kernel
theorem dX0_note_33 : decode cX0_note 33 = .ok (.istore_n 1, 1) := by decide +kernel
theorem dX0_note_34 : decode cX0_note 34 = .ok (.iinc 2 1, 3) := by decide +kernel
theorem dX0_note_37 : decode cX0_note 37 = .ok (.goto (-33), 3) := by decide +kernel
theorem dX0_note_40 : decode cX0_note 40 = .ok (.aload_n 0, 1) := by decide +kernel
theorem dX0_note_41 : decode cX0_note 41 = .ok (.getfield 55, 3) := by decide +kernel
theorem dX0_note_44 : decode cX0_note 44 = .ok (.iload_n 1, 1) := by decide +kernel
theorem dX0_note_45 : decode cX0_note 45 = .ok (.bipush 6, 2) := by decide +kernel
theorem dX0_note_47 : decode cX0_note 47 = .ok (.ishr, 1) := by decide +kernel
theorem dX0_note_48 : decode cX0_note 48 = .ok (.dup2, 1) := by decide +kernel
theorem dX0_note_49 : decode cX0_note 49 = .ok (.laload, 1) := by decide +kernel
theorem dX0_note_50 : decode cX0_note 50 = .ok (.lconst 1, 1) := by decide +kernel
theorem dX0_note_51 : decode cX0_note 51 = .ok (.iload_n 1, 1) := by decide +kernel
theorem dX0_note_52 : decode cX0_note 52 = .ok (.bipush 63, 2) := by decide +kernel
theorem dX0_note_54 : decode cX0_note 54 = .ok (.iand, 1) := by decide +kernel
theorem dX0_note_55 : decode cX0_note 55 = .ok (.lshl, 1) := by decide +kernel
theorem dX0_note_56 : decode cX0_note 56 = .ok (.lor, 1) := by decide +kernel
theorem dX0_note_57 : decode cX0_note 57 = .ok (.lastore, 1) := by decide +kernel
theorem dX0_note_58 : decode cX0_note 58 = .ok (.return_, 1) := by decide +kernel
abbrev cX0_classOfConstant : ByteArray := prog_1_method_21_code
def yX0_classOfConstant : MethodName := ⟨RX0, "classOfConstant", "(I)I"⟩
theorem dX0_classOfConstant_0 : decode cX0_classOfConstant 0 = .ok (.iconst 0, 1) := by decide +kernel
theorem dX0_classOfConstant_1 : decode cX0_classOfConstant 1 = .ok (.istore_n 2, 1) := by decide +kernel
theorem dX0_classOfConstant_2 : decode cX0_classOfConstant 2 = .ok (.iload_n 2, 1) := by decide +kernel
theorem dX0_classOfConstant_3 : decode cX0_classOfConstant 3 = .ok (.aload_n 0, 1) := by decide +kernel
theorem dX0_classOfConstant_4 : decode cX0_classOfConstant 4 = .ok (.getfield 67, 3) := by decide +kernel
theorem dX0_classOfConstant_7 : decode cX0_classOfConstant 7 = .ok (.if_icmp .ge 35, 3) := by decide +kernel
theorem dX0_classOfConstant_10 : decode cX0_classOfConstant 10 = .ok (.aload_n 0, 1) := by decide +kernel
theorem dX0_classOfConstant_11 : decode cX0_classOfConstant 11 = .ok (.getfield 7, 3) := by decide +kernel
theorem dX0_classOfConstant_14 : decode cX0_classOfConstant 14 = .ok (.iload_n 2, 1) := by decide +kernel
theorem dX0_classOfConstant_15 : decode cX0_classOfConstant 15 = .ok (.baload, 1) := by decide +kernel
theorem dX0_classOfConstant_16 : decode cX0_classOfConstant 16 = .ok (.ifCond .ne 20, 3) := by decide +kernel
theorem dX0_classOfConstant_19 : decode cX0_classOfConstant 19 = .ok (.aload_n 0, 1) := by decide +kernel
theorem dX0_classOfConstant_20 : decode cX0_classOfConstant 20 = .ok (.getfield 13, 3) := by decide +kernel
theorem dX0_classOfConstant_23 : decode cX0_classOfConstant 23 = .ok (.iload_n 2, 1) := by decide +kernel
theorem dX0_classOfConstant_24 : decode cX0_classOfConstant 24 = .ok (.baload, 1) := by decide +kernel
theorem dX0_classOfConstant_25 : decode cX0_classOfConstant 25 = .ok (.iload_n 1, 1) := by decide +kernel
theorem dX0_classOfConstant_26 : decode cX0_classOfConstant 26 = .ok (.if_icmp .ne 10, 3) := by decide +kernel
theorem dX0_classOfConstant_29 : decode cX0_classOfConstant 29 = .ok (.aload_n 0, 1) := by decide +kernel
theorem dX0_classOfConstant_30 : decode cX0_classOfConstant 30 = .ok (.getfield 19, 3) := by decide +kernel
theorem dX0_classOfConstant_33 : decode cX0_classOfConstant 33 = .ok (.iload_n 2, 1) := by decide +kernel
theorem dX0_classOfConstant_34 : decode cX0_classOfConstant 34 = .ok (.baload, 1) := by decide +kernel
theorem dX0_classOfConstant_35 : decode cX0_classOfConstant 35 = .ok (.ireturn, 1) := by decide +kernel
theorem dX0_classOfConstant_36 : decode cX0_classOfConstant 36 = .ok (.iinc 2 1, 3) := by decide +kernel
theorem dX0_classOfConstant_39 : decode cX0_classOfConstant 39 = .ok (.goto (-37), 3) := by decide +kernel
theorem dX0_classOfConstant_42 : decode cX0_classOfConstant 42 = .ok (.iconst (-1), 1) := by decide +kernel
theorem dX0_classOfConstant_43 : decode cX0_classOfConstant 43 = .ok (.ireturn, 1) := by decide +kernel
abbrev cX0_back : ByteArray := prog_1_method_18_code
def yX0_back : MethodName := ⟨RX0, "back", "(I)I"⟩
theorem dX0_back_0 : decode cX0_back 0 = .ok (.iload_n 1, 1) := by decide +kernel
theorem dX0_back_1 : decode cX0_back 1 = .ok (.iconst 1, 1) := by decide +kernel
theorem dX0_back_2 : decode cX0_back 2 = .ok (.isub, 1) := by decide +kernel
theorem dX0_back_3 : decode cX0_back 3 = .ok (.istore_n 2, 1) := by decide +kernel
theorem dX0_back_4 : decode cX0_back 4 = .ok (.iload_n 2, 1) := by decide +kernel
theorem dX0_back_5 : decode cX0_back 5 = .ok (.ifCond .lt 40, 3) := by decide +kernel
theorem dX0_back_8 : decode cX0_back 8 = .ok (.aload_n 0, 1) := by decide +kernel
theorem dX0_back_9 : decode cX0_back 9 = .ok (.getfield 31, 3) := by decide +kernel
theorem dX0_back_12 : decode cX0_back 12 = .ok (.iload_n 2, 1) := by decide +kernel
theorem dX0_back_13 : decode cX0_back 13 = .ok (.baload, 1) := by decide +kernel
theorem dX0_back_14 : decode cX0_back 14 = .ok (.ifCond .eq 31, 3) := by decide +kernel
theorem dX0_back_17 : decode cX0_back 17 = .ok (.aload_n 0, 1) := by decide +kernel
theorem dX0_back_18 : decode cX0_back 18 = .ok (.getfield 31, 3) := by decide +kernel
theorem dX0_back_21 : decode cX0_back 21 = .ok (.iload_n 2, 1) := by decide +kernel
theorem dX0_back_22 : decode cX0_back 22 = .ok (.baload, 1) := by decide +kernel
theorem dX0_back_23 : decode cX0_back 23 = .ok (.iconst 1, 1) := by decide +kernel
theorem dX0_back_24 : decode cX0_back 24 = .ok (.if_icmp .ne 15, 3) := by decide +kernel
theorem dX0_back_27 : decode cX0_back 27 = .ok (.aload_n 0, 1) := by decide +kernel
theorem dX0_back_28 : decode cX0_back 28 = .ok (.getfield 49, 3) := by decide +kernel
theorem dX0_back_31 : decode cX0_back 31 = .ok (.aload_n 0, 1) := by decide +kernel
theorem dX0_back_32 : decode cX0_back 32 = .ok (.getfield 34, 3) := by decide +kernel
theorem dX0_back_35 : decode cX0_back 35 = .ok (.iload_n 2, 1) := by decide +kernel
theorem dX0_back_36 : decode cX0_back 36 = .ok (.baload, 1) := by decide +kernel
theorem dX0_back_37 : decode cX0_back 37 = .ok (.iconst (-1), 1) := by decide +kernel
theorem dX0_back_38 : decode cX0_back 38 = .ok (.bastore, 1) := by decide +kernel
theorem dX0_back_39 : decode cX0_back 39 = .ok (.iinc 2 (-1), 3) := by decide +kernel
theorem dX0_back_42 : decode cX0_back 42 = .ok (.goto (-38), 3) := by decide +kernel
theorem dX0_back_45 : decode cX0_back 45 = .ok (.iload_n 2, 1) := by decide +kernel
theorem dX0_back_46 : decode cX0_back 46 = .ok (.ireturn, 1) := by decide +kernel
abbrev cX0_foundCount : ByteArray := prog_1_method_24_code
def yX0_foundCount : MethodName := ⟨RX0, "foundCount", "()I"⟩
theorem dX0_foundCount_0 : decode cX0_foundCount 0 = .ok (.iconst 0, 1) := by decide +kernel
theorem dX0_foundCount_1 : decode cX0_foundCount 1 = .ok (.istore_n 1, 1) := by decide +kernel
theorem dX0_foundCount_2 : decode cX0_foundCount 2 = .ok (.iconst 0, 1) := by decide +kernel
theorem dX0_foundCount_3 : decode cX0_foundCount 3 = .ok (.istore_n 2, 1) := by decide +kernel
theorem dX0_foundCount_4 : decode cX0_foundCount 4 = .ok (.iload_n 2, 1) := by decide +kernel
theorem dX0_foundCount_5 : decode cX0_foundCount 5 = .ok (.sipush 8000, 3) := by decide +kernel
theorem dX0_foundCount_8 : decode cX0_foundCount 8 = .ok (.if_icmp .ge 29, 3) := by decide +kernel
theorem dX0_foundCount_11 : decode cX0_foundCount 11 = .ok (.iload_n 1, 1) := by decide +kernel
theorem dX0_foundCount_12 : decode cX0_foundCount 12 = .ok (.aload_n 0, 1) := by decide +kernel
theorem dX0_foundCount_13 : decode cX0_foundCount 13 = .ok (.getfield 55, 3) := by decide +kernel
theorem dX0_foundCount_16 : decode cX0_foundCount 16 = .ok (.iload_n 2, 1) := by decide +kernel
theorem dX0_foundCount_17 : decode cX0_foundCount 17 = .ok (.bipush 6, 2) := by decide +kernel
theorem dX0_foundCount_19 : decode cX0_foundCount 19 = .ok (.ishr, 1) := by decide +kernel
theorem dX0_foundCount_20 : decode cX0_foundCount 20 = .ok (.laload, 1) := by decide +kernel
theorem dX0_foundCount_21 : decode cX0_foundCount 21 = .ok (.iload_n 2, 1) := by decide +kernel
theorem dX0_foundCount_22 : decode cX0_foundCount 22 = .ok (.bipush 63, 2) := by decide +kernel
theorem dX0_foundCount_24 : decode cX0_foundCount 24 = .ok (.iand, 1) := by decide +kernel
theorem dX0_foundCount_25 : decode cX0_foundCount 25 = .ok (.lushr, 1) := by decide +kernel
theorem dX0_foundCount_26 : decode cX0_foundCount 26 = .ok (.lconst 1, 1) := by decide +kernel
theorem dX0_foundCount_27 : decode cX0_foundCount 27 = .ok (.land, 1) := by decide +kernel
theorem dX0_foundCount_28 : decode cX0_foundCount 28 = .ok (.l2i, 1) := by decide +kernel
theorem dX0_foundCount_29 : decode cX0_foundCount 29 = .ok (.iadd, 1) := by decide +kernel
theorem dX0_foundCount_30 : decode cX0_foundCount 30 = .ok (.istore_n 1, 1) := by decide +kernel
theorem dX0_foundCount_31 : decode cX0_foundCount 31 = .ok (.iinc 2 1, 3) := by decide +kernel
theorem dX0_foundCount_34 : decode cX0_foundCount 34 = .ok (.goto (-30), 3) := by decide +kernel
theorem dX0_foundCount_37 : decode cX0_foundCount 37 = .ok (.iload_n 1, 1) := by decide +kernel
theorem dX0_foundCount_38 : decode cX0_foundCount 38 = .ok (.ireturn, 1) := by decide +kernel
abbrev cX0_matchesAt : ByteArray := prog_1_method_27_code
def yX0_matchesAt : MethodName := ⟨RX0, "matchesAt", "(I)I"⟩
theorem dX0_matchesAt_0 : decode cX0_matchesAt 0 = .ok (.aload_n 0, 1) := by decide +kernel
theorem dX0_matchesAt_1 : decode cX0_matchesAt 1 = .ok (.iload_n 1, 1) := by decide +kernel
theorem dX0_matchesAt_2 : decode cX0_matchesAt 2 = .ok (.invokevirtual 63, 3) := by decide +kernel
theorem dX0_matchesAt_5 : decode cX0_matchesAt 5 = .ok (.ifCond .ne 5, 3) := by decide +kernel
theorem dX0_matchesAt_8 : decode cX0_matchesAt 8 = .ok (.iconst (-1), 1) := by decide +kernel
theorem dX0_matchesAt_9 : decode cX0_matchesAt 9 = .ok (.ireturn, 1) := by decide +kernel
theorem dX0_matchesAt_10 : decode cX0_matchesAt 10 = .ok (.aload_n 0, 1) := by decide +kernel
theorem dX0_matchesAt_11 : decode cX0_matchesAt 11 = .ok (.invokevirtual 132, 3) := by decide +kernel
theorem dX0_matchesAt_14 : decode cX0_matchesAt 14 = .ok (.aload_n 0, 1) := by decide +kernel
theorem dX0_matchesAt_15 : decode cX0_matchesAt 15 = .ok (.getfield 99, 3) := by decide +kernel
theorem dX0_matchesAt_18 : decode cX0_matchesAt 18 = .ok (.ifCond .ne 6, 3) := by decide +kernel
theorem dX0_matchesAt_21 : decode cX0_matchesAt 21 = .ok (.bipush (-3), 2) := by decide +kernel
theorem dX0_matchesAt_23 : decode cX0_matchesAt 23 = .ok (.ireturn, 1) := by decide +kernel
theorem dX0_matchesAt_24 : decode cX0_matchesAt 24 = .ok (.aload_n 0, 1) := by decide +kernel
theorem dX0_matchesAt_25 : decode cX0_matchesAt 25 = .ok (.invokevirtual 125, 3) := by decide +kernel
theorem dX0_matchesAt_28 : decode cX0_matchesAt 28 = .ok (.aload_n 0, 1) := by decide +kernel
theorem dX0_matchesAt_29 : decode cX0_matchesAt 29 = .ok (.aload_n 0, 1) := by decide +kernel
theorem dX0_matchesAt_30 : decode cX0_matchesAt 30 = .ok (.getfield 19, 3) := by decide +kernel
theorem dX0_matchesAt_33 : decode cX0_matchesAt 33 = .ok (.iload_n 1, 1) := by decide +kernel
theorem dX0_matchesAt_34 : decode cX0_matchesAt 34 = .ok (.baload, 1) := by decide +kernel
theorem dX0_matchesAt_35 : decode cX0_matchesAt 35 = .ok (.invokevirtual 128, 3) := by decide +kernel
theorem dX0_matchesAt_38 : decode cX0_matchesAt 38 = .ok (.aload_n 0, 1) := by decide +kernel
theorem dX0_matchesAt_39 : decode cX0_matchesAt 39 = .ok (.invokevirtual 138, 3) := by decide +kernel
theorem dX0_matchesAt_42 : decode cX0_matchesAt 42 = .ok (.ireturn, 1) := by decide +kernel
abbrev cX0_binding : ByteArray := prog_1_method_28_code
def yX0_binding : MethodName := ⟨RX0, "binding", "(II)I"⟩
theorem dX0_binding_0 : decode cX0_binding 0 = .ok (.iload_n 2, 1) := by decide +kernel
theorem dX0_binding_1 : decode cX0_binding 1 = .ok (.ifCond .lt 8, 3) := by decide +kernel
theorem dX0_binding_4 : decode cX0_binding 4 = .ok (.iload_n 2, 1) := by decide +kernel
theorem dX0_binding_5 : decode cX0_binding 5 = .ok (.iconst 2, 1) := by decide +kernel
theorem dX0_binding_6 : decode cX0_binding 6 = .ok (.if_icmp .le 5, 3) := by decide +kernel
theorem dX0_binding_9 : decode cX0_binding 9 = .ok (.iconst (-1), 1) := by decide +kernel
theorem dX0_binding_10 : decode cX0_binding 10 = .ok (.ireturn, 1) := by decide +kernel
theorem dX0_binding_11 : decode cX0_binding 11 = .ok (.aload_n 0, 1) := by decide +kernel
theorem dX0_binding_12 : decode cX0_binding 12 = .ok (.invokevirtual 132, 3) := by decide +kernel
theorem dX0_binding_15 : decode cX0_binding 15 = .ok (.aload_n 0, 1) := by decide +kernel
theorem dX0_binding_16 : decode cX0_binding 16 = .ok (.getfield 99, 3) := by decide +kernel
theorem dX0_binding_19 : decode cX0_binding 19 = .ok (.ifCond .eq 18, 3) := by decide +kernel
theorem dX0_binding_22 : decode cX0_binding 22 = .ok (.iload_n 1, 1) := by decide +kernel
theorem dX0_binding_23 : decode cX0_binding 23 = .ok (.ifCond .lt 14, 3) := by decide +kernel
theorem dX0_binding_26 : decode cX0_binding 26 = .ok (.aload_n 0, 1) := by decide +kernel
theorem dX0_binding_27 : decode cX0_binding 27 = .ok (.getfield 102, 3) := by decide +kernel
theorem dX0_binding_30 : decode cX0_binding 30 = .ok (.iload_n 2, 1) := by decide +kernel
theorem dX0_binding_31 : decode cX0_binding 31 = .ok (.ishr, 1) := by decide +kernel
theorem dX0_binding_32 : decode cX0_binding 32 = .ok (.iconst 1, 1) := by decide +kernel
theorem dX0_binding_33 : decode cX0_binding 33 = .ok (.iand, 1) := by decide +kernel
theorem dX0_binding_34 : decode cX0_binding 34 = .ok (.ifCond .ne 6, 3) := by decide +kernel
theorem dX0_binding_37 : decode cX0_binding 37 = .ok (.bipush (-3), 2) := by decide +kernel
theorem dX0_binding_39 : decode cX0_binding 39 = .ok (.ireturn, 1) := by decide +kernel
theorem dX0_binding_40 : decode cX0_binding 40 = .ok (.aload_n 0, 1) := by decide +kernel
theorem dX0_binding_41 : decode cX0_binding 41 = .ok (.invokevirtual 135, 3) := by decide +kernel
theorem dX0_binding_44 : decode cX0_binding 44 = .ok (.iload_n 1, 1) := by decide +kernel
theorem dX0_binding_45 : decode cX0_binding 45 = .ok (.istore_n 3, 1) := by decide +kernel
theorem dX0_binding_46 : decode cX0_binding 46 = .ok (.iconst 0, 1) := by decide +kernel
theorem dX0_binding_47 : decode cX0_binding 47 = .ok (.istore 4, 2) := by decide +kernel
theorem dX0_binding_49 : decode cX0_binding 49 = .ok (.iload 4, 2) := by decide +kernel
theorem dX0_binding_51 : decode cX0_binding 51 = .ok (.sipush 8000, 3) := by decide +kernel
theorem dX0_binding_54 : decode cX0_binding 54 = .ok (.if_icmp .ge 77, 3) := by decide +kernel
theorem dX0_binding_57 : decode cX0_binding 57 = .ok (.aload_n 0, 1) := by decide +kernel
theorem dX0_binding_58 : decode cX0_binding 58 = .ok (.getfield 55, 3) := by decide +kernel
theorem dX0_binding_61 : decode cX0_binding 61 = .ok (.iload 4, 2) := by decide +kernel
theorem dX0_binding_63 : decode cX0_binding 63 = .ok (.bipush 6, 2) := by decide +kernel
theorem dX0_binding_65 : decode cX0_binding 65 = .ok (.ishr, 1) := by decide +kernel
theorem dX0_binding_66 : decode cX0_binding 66 = .ok (.laload, 1) := by decide +kernel
theorem dX0_binding_67 : decode cX0_binding 67 = .ok (.iload 4, 2) := by decide +kernel
theorem dX0_binding_69 : decode cX0_binding 69 = .ok (.bipush 63, 2) := by decide +kernel
theorem dX0_binding_71 : decode cX0_binding 71 = .ok (.iand, 1) := by decide +kernel
theorem dX0_binding_72 : decode cX0_binding 72 = .ok (.lushr, 1) := by decide +kernel
theorem dX0_binding_73 : decode cX0_binding 73 = .ok (.lconst 1, 1) := by decide +kernel
theorem dX0_binding_74 : decode cX0_binding 74 = .ok (.land, 1) := by decide +kernel
theorem dX0_binding_75 : decode cX0_binding 75 = .ok (.lconst 0, 1) := by decide +kernel
theorem dX0_binding_76 : decode cX0_binding 76 = .ok (.lcmp, 1) := by decide +kernel
theorem dX0_binding_77 : decode cX0_binding 77 = .ok (.ifCond .ne 6, 3) := by decide +kernel
theorem dX0_binding_80 : decode cX0_binding 80 = .ok (.goto 45, 3) := by decide +kernel
theorem dX0_binding_83 : decode cX0_binding 83 = .ok (.iload_n 3, 1) := by decide +kernel
theorem dX0_binding_84 : decode cX0_binding 84 = .ok (.ifCond .ne 38, 3) := by decide +kernel
theorem dX0_binding_87 : decode cX0_binding 87 = .ok (.iload_n 2, 1) := by decide +kernel
theorem dX0_binding_88 : decode cX0_binding 88 = .ok (.ifCond .ne 12, 3) := by decide +kernel
theorem dX0_binding_91 : decode cX0_binding 91 = .ok (.iload 4, 2) := by decide +kernel
theorem dX0_binding_93 : decode cX0_binding 93 = .ok (.sipush 400, 3) := by decide +kernel
theorem dX0_binding_96 : decode cX0_binding 96 = .ok (.idiv, 1) := by decide +kernel
theorem dX0_binding_97 : decode cX0_binding 97 = .ok (.goto 24, 3) := by decide +kernel
theorem dX0_binding_100 : decode cX0_binding 100 = .ok (.iload_n 2, 1) := by decide +kernel
theorem dX0_binding_101 : decode cX0_binding 101 = .ok (.iconst 1, 1) := by decide +kernel
theorem dX0_binding_102 : decode cX0_binding 102 = .ok (.if_icmp .ne 14, 3) := by decide +kernel
theorem dX0_binding_105 : decode cX0_binding 105 = .ok (.iload 4, 2) := by decide +kernel
theorem dX0_binding_107 : decode cX0_binding 107 = .ok (.bipush 20, 2) := by decide +kernel
theorem dX0_binding_109 : decode cX0_binding 109 = .ok (.idiv, 1) := by decide +kernel
theorem dX0_binding_110 : decode cX0_binding 110 = .ok (.bipush 20, 2) := by decide +kernel
theorem dX0_binding_112 : decode cX0_binding 112 = .ok (.irem, 1) := by decide +kernel
theorem dX0_binding_113 : decode cX0_binding 113 = .ok (.goto 8, 3) := by decide +kernel
theorem dX0_binding_116 : decode cX0_binding 116 = .ok (.iload 4, 2) := by decide +kernel
theorem dX0_binding_118 : decode cX0_binding 118 = .ok (.bipush 20, 2) := by decide +kernel
theorem dX0_binding_120 : decode cX0_binding 120 = .ok (.irem, 1) := by decide +kernel
theorem dX0_binding_121 : decode cX0_binding 121 = .ok (.ireturn, 1) := by decide +kernel
theorem dX0_binding_122 : decode cX0_binding 122 = .ok (.iinc 3 (-1), 3) := by decide +kernel
theorem dX0_binding_125 : decode cX0_binding 125 = .ok (.iinc 4 1, 3) := by decide +kernel
theorem dX0_binding_128 : decode cX0_binding 128 = .ok (.goto (-79), 3) := by decide +kernel
theorem dX0_binding_131 : decode cX0_binding 131 = .ok (.bipush (-3), 2) := by decide +kernel
theorem dX0_binding_133 : decode cX0_binding 133 = .ok (.ireturn, 1) := by decide +kernel
abbrev cX0_clear : ByteArray := prog_1_method_29_code
def yX0_clear : MethodName := ⟨RX0, "clear", "()I"⟩
theorem dX0_clear_0 : decode cX0_clear 0 = .ok (.aload_n 0, 1) := by decide +kernel
theorem dX0_clear_1 : decode cX0_clear 1 = .ok (.getfield 67, 3) := by decide +kernel
theorem dX0_clear_4 : decode cX0_clear 4 = .ok (.istore_n 1, 1) := by decide +kernel
theorem dX0_clear_5 : decode cX0_clear 5 = .ok (.aload_n 0, 1) := by decide +kernel
theorem dX0_clear_6 : decode cX0_clear 6 = .ok (.iconst 0, 1) := by decide +kernel
theorem dX0_clear_7 : decode cX0_clear 7 = .ok (.putfield 67, 3) := by decide +kernel
theorem dX0_clear_10 : decode cX0_clear 10 = .ok (.iload_n 1, 1) := by decide +kernel
theorem dX0_clear_11 : decode cX0_clear 11 = .ok (.ireturn, 1) := by decide +kernel
theorem q29 : (Jvm.Cond.initialized "PatternTrees") ∈ lw_all := lw_g (lw_at lw_m1 1 rfl) rfl
theorem q32 : (Jvm.Cond.instantiable "PatternTrees" (23 : Nat)) ∈ lw_all := lw_g (lw_at lw_m1 4 rfl) rfl
theorem q34 : (Jvm.Cond.instanceMethod ({ cls := "PatternTrees", name := "<init>", desc := "()V" } : Jvm.MethodName)) ∈ lw_all := lw_g (lw_at lw_m1 6 rfl) rfl
theorem q35 : (Jvm.Cond.code ({ cls := "PatternTrees", name := "<init>", desc := "()V" } : Jvm.MethodName) prog_1_method_1_code (1 : Nat) (Option.none : Option Jvm.ClassFile.FieldType)) ∈ lw_all := lw_g (lw_at lw_m1 7 rfl) rfl
theorem q36 : (Jvm.Cond.methodLink "PatternTrees" (1 : Nat) ({ cls := "java/lang/Object", name := "<init>", desc := "()V" } : Jvm.MethodName)) ∈ lw_all := lw_g (lw_at lw_m1 8 rfl) rfl
theorem q39 : (Jvm.Cond.fieldLink "PatternTrees" (67 : Nat) "PatternTrees" "nodeCount" "I") ∈ lw_all := lw_g (lw_at lw_m1 11 rfl) rfl
theorem q40 : (Jvm.Cond.fieldLink "PatternTrees" (7 : Nat) "PatternTrees" "symbol" "[B") ∈ lw_all := lw_g (lw_at lw_m1 12 rfl) rfl
theorem q41 : (Jvm.Cond.fieldLink "PatternTrees" (13 : Nat) "PatternTrees" "left" "[B") ∈ lw_all := lw_g (lw_at lw_m1 13 rfl) rfl
theorem q42 : (Jvm.Cond.fieldLink "PatternTrees" (16 : Nat) "PatternTrees" "right" "[B") ∈ lw_all := lw_g (lw_at lw_m1 14 rfl) rfl
theorem q43 : (Jvm.Cond.fieldLink "PatternTrees" (19 : Nat) "PatternTrees" "leaderOf" "[B") ∈ lw_all := lw_g (lw_at lw_m1 15 rfl) rfl
theorem q44 : (Jvm.Cond.fieldLink "PatternTrees" (75 : Nat) "PatternTrees" "pendingCount" "I") ∈ lw_all := lw_g (lw_at lw_m1 16 rfl) rfl
theorem q45 : (Jvm.Cond.fieldLink "PatternTrees" (22 : Nat) "PatternTrees" "pendingA" "[B") ∈ lw_all := lw_g (lw_at lw_m1 17 rfl) rfl
theorem q46 : (Jvm.Cond.fieldLink "PatternTrees" (25 : Nat) "PatternTrees" "pendingB" "[B") ∈ lw_all := lw_g (lw_at lw_m1 18 rfl) rfl
theorem q47 : (Jvm.Cond.fieldLink "PatternTrees" (89 : Nat) "PatternTrees" "tokenCount" "I") ∈ lw_all := lw_g (lw_at lw_m1 19 rfl) rfl
theorem q48 : (Jvm.Cond.fieldLink "PatternTrees" (28 : Nat) "PatternTrees" "tokens" "[B") ∈ lw_all := lw_g (lw_at lw_m1 20 rfl) rfl
theorem q49 : (Jvm.Cond.fieldLink "PatternTrees" (92 : Nat) "PatternTrees" "compiled" "Z") ∈ lw_all := lw_g (lw_at lw_m1 21 rfl) rfl
theorem q50 : (Jvm.Cond.fieldLink "PatternTrees" (99 : Nat) "PatternTrees" "isWhole" "Z") ∈ lw_all := lw_g (lw_at lw_m1 22 rfl) rfl
theorem q51 : (Jvm.Cond.fieldLink "PatternTrees" (102 : Nat) "PatternTrees" "variableSet" "I") ∈ lw_all := lw_g (lw_at lw_m1 23 rfl) rfl
theorem q52 : (Jvm.Cond.fieldLink "PatternTrees" (96 : Nat) "PatternTrees" "codeEnd" "I") ∈ lw_all := lw_g (lw_at lw_m1 24 rfl) rfl
theorem q53 : (Jvm.Cond.fieldLink "PatternTrees" (31 : Nat) "PatternTrees" "operation" "[B") ∈ lw_all := lw_g (lw_at lw_m1 25 rfl) rfl
theorem q54 : (Jvm.Cond.fieldLink "PatternTrees" (34 : Nat) "PatternTrees" "argument" "[B") ∈ lw_all := lw_g (lw_at lw_m1 26 rfl) rfl
theorem q55 : (Jvm.Cond.fieldLink "PatternTrees" (37 : Nat) "PatternTrees" "register" "[B") ∈ lw_all := lw_g (lw_at lw_m1 27 rfl) rfl
theorem q56 : (Jvm.Cond.fieldLink "PatternTrees" (40 : Nat) "PatternTrees" "argumentsAt" "[B") ∈ lw_all := lw_g (lw_at lw_m1 28 rfl) rfl
theorem q57 : (Jvm.Cond.fieldLink "PatternTrees" (43 : Nat) "PatternTrees" "openRegister" "[B") ∈ lw_all := lw_g (lw_at lw_m1 29 rfl) rfl
theorem q58 : (Jvm.Cond.fieldLink "PatternTrees" (46 : Nat) "PatternTrees" "registers" "[B") ∈ lw_all := lw_g (lw_at lw_m1 30 rfl) rfl
theorem q59 : (Jvm.Cond.fieldLink "PatternTrees" (49 : Nat) "PatternTrees" "variable" "[B") ∈ lw_all := lw_g (lw_at lw_m1 31 rfl) rfl
theorem q60 : (Jvm.Cond.fieldLink "PatternTrees" (52 : Nat) "PatternTrees" "tried" "[B") ∈ lw_all := lw_g (lw_at lw_m1 32 rfl) rfl
theorem q61 : (Jvm.Cond.fieldLink "PatternTrees" (55 : Nat) "PatternTrees" "found" "[J") ∈ lw_all := lw_g (lw_at lw_m1 33 rfl) rfl
theorem q62 : (Jvm.Cond.lays "PatternTrees" "PatternTrees" "nodeCount" "I") ∈ lw_all := lw_g (lw_at lw_m1 34 rfl) rfl
theorem q63 : (Jvm.Cond.soleField "PatternTrees" "nodeCount") ∈ lw_all := lw_g (lw_at lw_m1 35 rfl) rfl
theorem q64 : (Jvm.Cond.laysFinal "PatternTrees" "PatternTrees" "symbol" "[B") ∈ lw_all := lw_g (lw_at lw_m1 36 rfl) rfl
theorem q65 : (Jvm.Cond.soleField "PatternTrees" "symbol") ∈ lw_all := lw_g (lw_at lw_m1 37 rfl) rfl
theorem q66 : (Jvm.Cond.laysFinal "PatternTrees" "PatternTrees" "left" "[B") ∈ lw_all := lw_g (lw_at lw_m1 38 rfl) rfl
theorem q67 : (Jvm.Cond.soleField "PatternTrees" "left") ∈ lw_all := lw_g (lw_at lw_m1 39 rfl) rfl
theorem q68 : (Jvm.Cond.laysFinal "PatternTrees" "PatternTrees" "right" "[B") ∈ lw_all := lw_g (lw_at lw_m1 40 rfl) rfl
theorem q69 : (Jvm.Cond.soleField "PatternTrees" "right") ∈ lw_all := lw_g (lw_at lw_m1 41 rfl) rfl
theorem q70 : (Jvm.Cond.laysFinal "PatternTrees" "PatternTrees" "leaderOf" "[B") ∈ lw_all := lw_g (lw_at lw_m1 42 rfl) rfl
theorem q71 : (Jvm.Cond.soleField "PatternTrees" "leaderOf") ∈ lw_all := lw_g (lw_at lw_m1 43 rfl) rfl
theorem q72 : (Jvm.Cond.lays "PatternTrees" "PatternTrees" "pendingCount" "I") ∈ lw_all := lw_g (lw_at lw_m1 44 rfl) rfl
theorem q73 : (Jvm.Cond.soleField "PatternTrees" "pendingCount") ∈ lw_all := lw_g (lw_at lw_m1 45 rfl) rfl
theorem q74 : (Jvm.Cond.laysFinal "PatternTrees" "PatternTrees" "pendingA" "[B") ∈ lw_all := lw_g (lw_at lw_m1 46 rfl) rfl
theorem q75 : (Jvm.Cond.soleField "PatternTrees" "pendingA") ∈ lw_all := lw_g (lw_at lw_m1 47 rfl) rfl
theorem q76 : (Jvm.Cond.laysFinal "PatternTrees" "PatternTrees" "pendingB" "[B") ∈ lw_all := lw_g (lw_at lw_m1 48 rfl) rfl
theorem q77 : (Jvm.Cond.soleField "PatternTrees" "pendingB") ∈ lw_all := lw_g (lw_at lw_m1 49 rfl) rfl
theorem q78 : (Jvm.Cond.lays "PatternTrees" "PatternTrees" "tokenCount" "I") ∈ lw_all := lw_g (lw_at lw_m1 50 rfl) rfl
theorem q79 : (Jvm.Cond.soleField "PatternTrees" "tokenCount") ∈ lw_all := lw_g (lw_at lw_m1 51 rfl) rfl
theorem q80 : (Jvm.Cond.laysFinal "PatternTrees" "PatternTrees" "tokens" "[B") ∈ lw_all := lw_g (lw_at lw_m1 52 rfl) rfl
theorem q81 : (Jvm.Cond.soleField "PatternTrees" "tokens") ∈ lw_all := lw_g (lw_at lw_m1 53 rfl) rfl
theorem q82 : (Jvm.Cond.lays "PatternTrees" "PatternTrees" "compiled" "Z") ∈ lw_all := lw_g (lw_at lw_m1 54 rfl) rfl
theorem q83 : (Jvm.Cond.soleField "PatternTrees" "compiled") ∈ lw_all := lw_g (lw_at lw_m1 55 rfl) rfl
theorem q84 : (Jvm.Cond.lays "PatternTrees" "PatternTrees" "isWhole" "Z") ∈ lw_all := lw_g (lw_at lw_m1 56 rfl) rfl
theorem q85 : (Jvm.Cond.soleField "PatternTrees" "isWhole") ∈ lw_all := lw_g (lw_at lw_m1 57 rfl) rfl
theorem q86 : (Jvm.Cond.lays "PatternTrees" "PatternTrees" "variableSet" "I") ∈ lw_all := lw_g (lw_at lw_m1 58 rfl) rfl
theorem q87 : (Jvm.Cond.soleField "PatternTrees" "variableSet") ∈ lw_all := lw_g (lw_at lw_m1 59 rfl) rfl
theorem q88 : (Jvm.Cond.lays "PatternTrees" "PatternTrees" "codeEnd" "I") ∈ lw_all := lw_g (lw_at lw_m1 60 rfl) rfl
theorem q89 : (Jvm.Cond.soleField "PatternTrees" "codeEnd") ∈ lw_all := lw_g (lw_at lw_m1 61 rfl) rfl
theorem q90 : (Jvm.Cond.laysFinal "PatternTrees" "PatternTrees" "operation" "[B") ∈ lw_all := lw_g (lw_at lw_m1 62 rfl) rfl
theorem q91 : (Jvm.Cond.soleField "PatternTrees" "operation") ∈ lw_all := lw_g (lw_at lw_m1 63 rfl) rfl
theorem q92 : (Jvm.Cond.laysFinal "PatternTrees" "PatternTrees" "argument" "[B") ∈ lw_all := lw_g (lw_at lw_m1 64 rfl) rfl
theorem q93 : (Jvm.Cond.soleField "PatternTrees" "argument") ∈ lw_all := lw_g (lw_at lw_m1 65 rfl) rfl
theorem q94 : (Jvm.Cond.laysFinal "PatternTrees" "PatternTrees" "register" "[B") ∈ lw_all := lw_g (lw_at lw_m1 66 rfl) rfl
theorem q95 : (Jvm.Cond.soleField "PatternTrees" "register") ∈ lw_all := lw_g (lw_at lw_m1 67 rfl) rfl
theorem q96 : (Jvm.Cond.laysFinal "PatternTrees" "PatternTrees" "argumentsAt" "[B") ∈ lw_all := lw_g (lw_at lw_m1 68 rfl) rfl
theorem q97 : (Jvm.Cond.soleField "PatternTrees" "argumentsAt") ∈ lw_all := lw_g (lw_at lw_m1 69 rfl) rfl
theorem q98 : (Jvm.Cond.laysFinal "PatternTrees" "PatternTrees" "openRegister" "[B") ∈ lw_all := lw_g (lw_at lw_m1 70 rfl) rfl
theorem q99 : (Jvm.Cond.soleField "PatternTrees" "openRegister") ∈ lw_all := lw_g (lw_at lw_m1 71 rfl) rfl
theorem q100 : (Jvm.Cond.laysFinal "PatternTrees" "PatternTrees" "registers" "[B") ∈ lw_all := lw_g (lw_at lw_m1 72 rfl) rfl
theorem q101 : (Jvm.Cond.soleField "PatternTrees" "registers") ∈ lw_all := lw_g (lw_at lw_m1 73 rfl) rfl
theorem q102 : (Jvm.Cond.laysFinal "PatternTrees" "PatternTrees" "variable" "[B") ∈ lw_all := lw_g (lw_at lw_m1 74 rfl) rfl
theorem q103 : (Jvm.Cond.soleField "PatternTrees" "variable") ∈ lw_all := lw_g (lw_at lw_m1 75 rfl) rfl
theorem q104 : (Jvm.Cond.laysFinal "PatternTrees" "PatternTrees" "tried" "[B") ∈ lw_all := lw_g (lw_at lw_m1 76 rfl) rfl
theorem q105 : (Jvm.Cond.soleField "PatternTrees" "tried") ∈ lw_all := lw_g (lw_at lw_m1 77 rfl) rfl
theorem q106 : (Jvm.Cond.laysFinal "PatternTrees" "PatternTrees" "found" "[J") ∈ lw_all := lw_g (lw_at lw_m1 78 rfl) rfl
theorem q107 : (Jvm.Cond.soleField "PatternTrees" "found") ∈ lw_all := lw_g (lw_at lw_m1 79 rfl) rfl
theorem q108 : (Jvm.Cond.superclass "PatternTrees" "java/lang/Object") ∈ lw_all := lw_g (lw_at lw_m1 80 rfl) rfl
theorem q112 : (Jvm.Cond.instanceMethod ({ cls := "PatternTrees", name := "constant", desc := "(I)I" } : Jvm.MethodName)) ∈ lw_all := lw_g (lw_at lw_m1 84 rfl) rfl
theorem q113 : (Jvm.Cond.selects "PatternTrees" ({ cls := "PatternTrees", name := "constant", desc := "(I)I" } : Jvm.MethodName) ({ cls := "PatternTrees", name := "constant", desc := "(I)I" } : Jvm.MethodName)) ∈ lw_all := lw_g (lw_at lw_m1 85 rfl) rfl
theorem q114 : (Jvm.Cond.code ({ cls := "PatternTrees", name := "constant", desc := "(I)I" } : Jvm.MethodName) prog_1_method_2_code (2 : Nat) (Option.some Jvm.ClassFile.FieldType.int)) ∈ lw_all := lw_g (lw_at lw_m1 86 rfl) rfl
theorem q115 : (Jvm.Cond.methodLink "PatternTrees" (59 : Nat) ({ cls := "PatternTrees", name := "node", desc := "(III)I" } : Jvm.MethodName)) ∈ lw_all := lw_g (lw_at lw_m1 87 rfl) rfl
theorem q116 : (Jvm.Cond.privateMethod ({ cls := "PatternTrees", name := "node", desc := "(III)I" } : Jvm.MethodName)) ∈ lw_tbl := lw_at lw_m1 88 rfl
theorem q117 : (Jvm.Cond.instanceMethod ({ cls := "PatternTrees", name := "node", desc := "(III)I" } : Jvm.MethodName)) ∈ lw_all := lw_g (lw_at lw_m1 89 rfl) rfl
theorem q118 : (Jvm.Cond.code ({ cls := "PatternTrees", name := "node", desc := "(III)I" } : Jvm.MethodName) prog_1_method_6_code (6 : Nat) (Option.some Jvm.ClassFile.FieldType.int)) ∈ lw_all := lw_g (lw_at lw_m1 90 rfl) rfl
theorem q119 : (Jvm.Cond.methodLink "PatternTrees" (71 : Nat) ({ cls := "PatternTrees", name := "congruent", desc := "(II)Z" } : Jvm.MethodName)) ∈ lw_all := lw_g (lw_at lw_m1 91 rfl) rfl
theorem q120 : (Jvm.Cond.privateMethod ({ cls := "PatternTrees", name := "congruent", desc := "(II)Z" } : Jvm.MethodName)) ∈ lw_tbl := lw_at lw_m1 92 rfl
theorem q121 : (Jvm.Cond.instanceMethod ({ cls := "PatternTrees", name := "congruent", desc := "(II)Z" } : Jvm.MethodName)) ∈ lw_all := lw_g (lw_at lw_m1 93 rfl) rfl
theorem q122 : (Jvm.Cond.code ({ cls := "PatternTrees", name := "congruent", desc := "(II)Z" } : Jvm.MethodName) prog_1_method_10_code (3 : Nat) (Option.some Jvm.ClassFile.FieldType.boolean)) ∈ lw_all := lw_g (lw_at lw_m1 94 rfl) rfl
theorem q124 : (Jvm.Cond.instanceMethod ({ cls := "PatternTrees", name := "one", desc := "(I)I" } : Jvm.MethodName)) ∈ lw_all := lw_g (lw_at lw_m1 96 rfl) rfl
theorem q125 : (Jvm.Cond.selects "PatternTrees" ({ cls := "PatternTrees", name := "one", desc := "(I)I" } : Jvm.MethodName) ({ cls := "PatternTrees", name := "one", desc := "(I)I" } : Jvm.MethodName)) ∈ lw_all := lw_g (lw_at lw_m1 97 rfl) rfl
theorem q126 : (Jvm.Cond.code ({ cls := "PatternTrees", name := "one", desc := "(I)I" } : Jvm.MethodName) prog_1_method_3_code (2 : Nat) (Option.some Jvm.ClassFile.FieldType.int)) ∈ lw_all := lw_g (lw_at lw_m1 98 rfl) rfl
theorem q127 : (Jvm.Cond.methodLink "PatternTrees" (63 : Nat) ({ cls := "PatternTrees", name := "isNode", desc := "(I)Z" } : Jvm.MethodName)) ∈ lw_all := lw_g (lw_at lw_m1 99 rfl) rfl
theorem q128 : (Jvm.Cond.privateMethod ({ cls := "PatternTrees", name := "isNode", desc := "(I)Z" } : Jvm.MethodName)) ∈ lw_tbl := lw_at lw_m1 100 rfl
theorem q129 : (Jvm.Cond.instanceMethod ({ cls := "PatternTrees", name := "isNode", desc := "(I)Z" } : Jvm.MethodName)) ∈ lw_all := lw_g (lw_at lw_m1 101 rfl) rfl
theorem q130 : (Jvm.Cond.code ({ cls := "PatternTrees", name := "isNode", desc := "(I)Z" } : Jvm.MethodName) prog_1_method_5_code (2 : Nat) (Option.some Jvm.ClassFile.FieldType.boolean)) ∈ lw_all := lw_g (lw_at lw_m1 102 rfl) rfl
theorem q132 : (Jvm.Cond.instanceMethod ({ cls := "PatternTrees", name := "two", desc := "(II)I" } : Jvm.MethodName)) ∈ lw_all := lw_g (lw_at lw_m1 104 rfl) rfl
theorem q133 : (Jvm.Cond.selects "PatternTrees" ({ cls := "PatternTrees", name := "two", desc := "(II)I" } : Jvm.MethodName) ({ cls := "PatternTrees", name := "two", desc := "(II)I" } : Jvm.MethodName)) ∈ lw_all := lw_g (lw_at lw_m1 105 rfl) rfl
theorem q134 : (Jvm.Cond.code ({ cls := "PatternTrees", name := "two", desc := "(II)I" } : Jvm.MethodName) prog_1_method_4_code (3 : Nat) (Option.some Jvm.ClassFile.FieldType.int)) ∈ lw_all := lw_g (lw_at lw_m1 106 rfl) rfl
theorem q136 : (Jvm.Cond.instanceMethod ({ cls := "PatternTrees", name := "equate", desc := "(II)I" } : Jvm.MethodName)) ∈ lw_all := lw_g (lw_at lw_m1 108 rfl) rfl
theorem q137 : (Jvm.Cond.selects "PatternTrees" ({ cls := "PatternTrees", name := "equate", desc := "(II)I" } : Jvm.MethodName) ({ cls := "PatternTrees", name := "equate", desc := "(II)I" } : Jvm.MethodName)) ∈ lw_all := lw_g (lw_at lw_m1 109 rfl) rfl
theorem q138 : (Jvm.Cond.code ({ cls := "PatternTrees", name := "equate", desc := "(II)I" } : Jvm.MethodName) prog_1_method_7_code (3 : Nat) (Option.some Jvm.ClassFile.FieldType.int)) ∈ lw_all := lw_g (lw_at lw_m1 110 rfl) rfl
theorem q139 : (Jvm.Cond.methodLink "PatternTrees" (78 : Nat) ({ cls := "PatternTrees", name := "push", desc := "(II)V" } : Jvm.MethodName)) ∈ lw_all := lw_g (lw_at lw_m1 111 rfl) rfl
theorem q140 : (Jvm.Cond.privateMethod ({ cls := "PatternTrees", name := "push", desc := "(II)V" } : Jvm.MethodName)) ∈ lw_tbl := lw_at lw_m1 112 rfl
theorem q141 : (Jvm.Cond.instanceMethod ({ cls := "PatternTrees", name := "push", desc := "(II)V" } : Jvm.MethodName)) ∈ lw_all := lw_g (lw_at lw_m1 113 rfl) rfl
theorem q142 : (Jvm.Cond.code ({ cls := "PatternTrees", name := "push", desc := "(II)V" } : Jvm.MethodName) prog_1_method_11_code (3 : Nat) (Option.none : Option Jvm.ClassFile.FieldType)) ∈ lw_all := lw_g (lw_at lw_m1 114 rfl) rfl
theorem q143 : (Jvm.Cond.methodLink "PatternTrees" (82 : Nat) ({ cls := "PatternTrees", name := "join", desc := "(II)V" } : Jvm.MethodName)) ∈ lw_all := lw_g (lw_at lw_m1 115 rfl) rfl
theorem q144 : (Jvm.Cond.privateMethod ({ cls := "PatternTrees", name := "join", desc := "(II)V" } : Jvm.MethodName)) ∈ lw_tbl := lw_at lw_m1 116 rfl
theorem q145 : (Jvm.Cond.instanceMethod ({ cls := "PatternTrees", name := "join", desc := "(II)V" } : Jvm.MethodName)) ∈ lw_all := lw_g (lw_at lw_m1 117 rfl) rfl
theorem q146 : (Jvm.Cond.code ({ cls := "PatternTrees", name := "join", desc := "(II)V" } : Jvm.MethodName) prog_1_method_12_code (9 : Nat) (Option.none : Option Jvm.ClassFile.FieldType)) ∈ lw_all := lw_g (lw_at lw_m1 118 rfl) rfl
theorem q147 : (Jvm.Cond.methodLink "PatternTrees" (85 : Nat) ({ cls := "PatternTrees", name := "classes", desc := "()I" } : Jvm.MethodName)) ∈ lw_all := lw_g (lw_at lw_m1 119 rfl) rfl
theorem q148 : (Jvm.Cond.instanceMethod ({ cls := "PatternTrees", name := "classes", desc := "()I" } : Jvm.MethodName)) ∈ lw_all := lw_g (lw_at lw_m1 120 rfl) rfl
theorem q149 : (Jvm.Cond.selects "PatternTrees" ({ cls := "PatternTrees", name := "classes", desc := "()I" } : Jvm.MethodName) ({ cls := "PatternTrees", name := "classes", desc := "()I" } : Jvm.MethodName)) ∈ lw_all := lw_g (lw_at lw_m1 121 rfl) rfl
theorem q150 : (Jvm.Cond.code ({ cls := "PatternTrees", name := "classes", desc := "()I" } : Jvm.MethodName) prog_1_method_9_code (3 : Nat) (Option.some Jvm.ClassFile.FieldType.int)) ∈ lw_all := lw_g (lw_at lw_m1 122 rfl) rfl
theorem q152 : (Jvm.Cond.instanceMethod ({ cls := "PatternTrees", name := "leader", desc := "(I)I" } : Jvm.MethodName)) ∈ lw_all := lw_g (lw_at lw_m1 124 rfl) rfl
theorem q153 : (Jvm.Cond.selects "PatternTrees" ({ cls := "PatternTrees", name := "leader", desc := "(I)I" } : Jvm.MethodName) ({ cls := "PatternTrees", name := "leader", desc := "(I)I" } : Jvm.MethodName)) ∈ lw_all := lw_g (lw_at lw_m1 125 rfl) rfl
theorem q154 : (Jvm.Cond.code ({ cls := "PatternTrees", name := "leader", desc := "(I)I" } : Jvm.MethodName) prog_1_method_8_code (2 : Nat) (Option.some Jvm.ClassFile.FieldType.int)) ∈ lw_all := lw_g (lw_at lw_m1 126 rfl) rfl
theorem q157 : (Jvm.Cond.instanceMethod ({ cls := "PatternTrees", name := "token", desc := "(I)I" } : Jvm.MethodName)) ∈ lw_all := lw_g (lw_at lw_m1 129 rfl) rfl
theorem q158 : (Jvm.Cond.selects "PatternTrees" ({ cls := "PatternTrees", name := "token", desc := "(I)I" } : Jvm.MethodName) ({ cls := "PatternTrees", name := "token", desc := "(I)I" } : Jvm.MethodName)) ∈ lw_all := lw_g (lw_at lw_m1 130 rfl) rfl
theorem q159 : (Jvm.Cond.code ({ cls := "PatternTrees", name := "token", desc := "(I)I" } : Jvm.MethodName) prog_1_method_13_code (3 : Nat) (Option.some Jvm.ClassFile.FieldType.int)) ∈ lw_all := lw_g (lw_at lw_m1 131 rfl) rfl
theorem q161 : (Jvm.Cond.instanceMethod ({ cls := "PatternTrees", name := "wipe", desc := "()I" } : Jvm.MethodName)) ∈ lw_all := lw_g (lw_at lw_m1 133 rfl) rfl
theorem q162 : (Jvm.Cond.selects "PatternTrees" ({ cls := "PatternTrees", name := "wipe", desc := "()I" } : Jvm.MethodName) ({ cls := "PatternTrees", name := "wipe", desc := "()I" } : Jvm.MethodName)) ∈ lw_all := lw_g (lw_at lw_m1 134 rfl) rfl
theorem q163 : (Jvm.Cond.code ({ cls := "PatternTrees", name := "wipe", desc := "()I" } : Jvm.MethodName) prog_1_method_14_code (2 : Nat) (Option.some Jvm.ClassFile.FieldType.int)) ∈ lw_all := lw_g (lw_at lw_m1 135 rfl) rfl
theorem q165 : (Jvm.Cond.instanceMethod ({ cls := "PatternTrees", name := "matches", desc := "()I" } : Jvm.MethodName)) ∈ lw_all := lw_g (lw_at lw_m1 137 rfl) rfl
theorem q166 : (Jvm.Cond.selects "PatternTrees" ({ cls := "PatternTrees", name := "matches", desc := "()I" } : Jvm.MethodName) ({ cls := "PatternTrees", name := "matches", desc := "()I" } : Jvm.MethodName)) ∈ lw_all := lw_g (lw_at lw_m1 138 rfl) rfl
theorem q167 : (Jvm.Cond.code ({ cls := "PatternTrees", name := "matches", desc := "()I" } : Jvm.MethodName) prog_1_method_26_code (1 : Nat) (Option.some Jvm.ClassFile.FieldType.int)) ∈ lw_all := lw_g (lw_at lw_m1 139 rfl) rfl
theorem q168 : (Jvm.Cond.methodLink "PatternTrees" (132 : Nat) ({ cls := "PatternTrees", name := "compile", desc := "()V" } : Jvm.MethodName)) ∈ lw_all := lw_g (lw_at lw_m1 140 rfl) rfl
theorem q169 : (Jvm.Cond.privateMethod ({ cls := "PatternTrees", name := "compile", desc := "()V" } : Jvm.MethodName)) ∈ lw_tbl := lw_at lw_m1 141 rfl
theorem q170 : (Jvm.Cond.instanceMethod ({ cls := "PatternTrees", name := "compile", desc := "()V" } : Jvm.MethodName)) ∈ lw_all := lw_g (lw_at lw_m1 142 rfl) rfl
theorem q171 : (Jvm.Cond.code ({ cls := "PatternTrees", name := "compile", desc := "()V" } : Jvm.MethodName) prog_1_method_16_code (6 : Nat) (Option.none : Option Jvm.ClassFile.FieldType)) ∈ lw_all := lw_g (lw_at lw_m1 143 rfl) rfl
theorem q172 : (Jvm.Cond.methodLink "PatternTrees" (105 : Nat) ({ cls := "PatternTrees", name := "write", desc := "(III)V" } : Jvm.MethodName)) ∈ lw_all := lw_g (lw_at lw_m1 144 rfl) rfl
theorem q173 : (Jvm.Cond.privateMethod ({ cls := "PatternTrees", name := "write", desc := "(III)V" } : Jvm.MethodName)) ∈ lw_tbl := lw_at lw_m1 145 rfl
theorem q174 : (Jvm.Cond.instanceMethod ({ cls := "PatternTrees", name := "write", desc := "(III)V" } : Jvm.MethodName)) ∈ lw_all := lw_g (lw_at lw_m1 146 rfl) rfl
theorem q175 : (Jvm.Cond.code ({ cls := "PatternTrees", name := "write", desc := "(III)V" } : Jvm.MethodName) prog_1_method_15_code (4 : Nat) (Option.none : Option Jvm.ClassFile.FieldType)) ∈ lw_all := lw_g (lw_at lw_m1 147 rfl) rfl
theorem q176 : (Jvm.Cond.methodLink "PatternTrees" (135 : Nat) ({ cls := "PatternTrees", name := "runAll", desc := "()V" } : Jvm.MethodName)) ∈ lw_all := lw_g (lw_at lw_m1 148 rfl) rfl
theorem q177 : (Jvm.Cond.privateMethod ({ cls := "PatternTrees", name := "runAll", desc := "()V" } : Jvm.MethodName)) ∈ lw_tbl := lw_at lw_m1 149 rfl
theorem q178 : (Jvm.Cond.instanceMethod ({ cls := "PatternTrees", name := "runAll", desc := "()V" } : Jvm.MethodName)) ∈ lw_all := lw_g (lw_at lw_m1 150 rfl) rfl
theorem q179 : (Jvm.Cond.code ({ cls := "PatternTrees", name := "runAll", desc := "()V" } : Jvm.MethodName) prog_1_method_25_code (2 : Nat) (Option.none : Option Jvm.ClassFile.FieldType)) ∈ lw_all := lw_g (lw_at lw_m1 151 rfl) rfl
theorem q180 : (Jvm.Cond.methodLink "PatternTrees" (125 : Nat) ({ cls := "PatternTrees", name := "clearFound", desc := "()V" } : Jvm.MethodName)) ∈ lw_all := lw_g (lw_at lw_m1 152 rfl) rfl
theorem q181 : (Jvm.Cond.privateMethod ({ cls := "PatternTrees", name := "clearFound", desc := "()V" } : Jvm.MethodName)) ∈ lw_tbl := lw_at lw_m1 153 rfl
theorem q182 : (Jvm.Cond.instanceMethod ({ cls := "PatternTrees", name := "clearFound", desc := "()V" } : Jvm.MethodName)) ∈ lw_all := lw_g (lw_at lw_m1 154 rfl) rfl
theorem q183 : (Jvm.Cond.code ({ cls := "PatternTrees", name := "clearFound", desc := "()V" } : Jvm.MethodName) prog_1_method_23_code (2 : Nat) (Option.none : Option Jvm.ClassFile.FieldType)) ∈ lw_all := lw_g (lw_at lw_m1 155 rfl) rfl
theorem q184 : (Jvm.Cond.methodLink "PatternTrees" (128 : Nat) ({ cls := "PatternTrees", name := "run", desc := "(I)V" } : Jvm.MethodName)) ∈ lw_all := lw_g (lw_at lw_m1 156 rfl) rfl
theorem q185 : (Jvm.Cond.privateMethod ({ cls := "PatternTrees", name := "run", desc := "(I)V" } : Jvm.MethodName)) ∈ lw_tbl := lw_at lw_m1 157 rfl
theorem q186 : (Jvm.Cond.instanceMethod ({ cls := "PatternTrees", name := "run", desc := "(I)V" } : Jvm.MethodName)) ∈ lw_all := lw_g (lw_at lw_m1 158 rfl) rfl
theorem q187 : (Jvm.Cond.code ({ cls := "PatternTrees", name := "run", desc := "(I)V" } : Jvm.MethodName) prog_1_method_17_code (4 : Nat) (Option.none : Option Jvm.ClassFile.FieldType)) ∈ lw_all := lw_g (lw_at lw_m1 159 rfl) rfl
theorem q188 : (Jvm.Cond.methodLink "PatternTrees" (109 : Nat) ({ cls := "PatternTrees", name := "take", desc := "(I)Z" } : Jvm.MethodName)) ∈ lw_all := lw_g (lw_at lw_m1 160 rfl) rfl
theorem q189 : (Jvm.Cond.privateMethod ({ cls := "PatternTrees", name := "take", desc := "(I)Z" } : Jvm.MethodName)) ∈ lw_tbl := lw_at lw_m1 161 rfl
theorem q190 : (Jvm.Cond.instanceMethod ({ cls := "PatternTrees", name := "take", desc := "(I)Z" } : Jvm.MethodName)) ∈ lw_all := lw_g (lw_at lw_m1 162 rfl) rfl
theorem q191 : (Jvm.Cond.code ({ cls := "PatternTrees", name := "take", desc := "(I)Z" } : Jvm.MethodName) prog_1_method_19_code (4 : Nat) (Option.some Jvm.ClassFile.FieldType.boolean)) ∈ lw_all := lw_g (lw_at lw_m1 163 rfl) rfl
theorem q192 : (Jvm.Cond.methodLink "PatternTrees" (112 : Nat) ({ cls := "PatternTrees", name := "decide", desc := "(I)Z" } : Jvm.MethodName)) ∈ lw_all := lw_g (lw_at lw_m1 164 rfl) rfl
theorem q193 : (Jvm.Cond.privateMethod ({ cls := "PatternTrees", name := "decide", desc := "(I)Z" } : Jvm.MethodName)) ∈ lw_tbl := lw_at lw_m1 165 rfl
theorem q194 : (Jvm.Cond.instanceMethod ({ cls := "PatternTrees", name := "decide", desc := "(I)Z" } : Jvm.MethodName)) ∈ lw_all := lw_g (lw_at lw_m1 166 rfl) rfl
theorem q195 : (Jvm.Cond.code ({ cls := "PatternTrees", name := "decide", desc := "(I)Z" } : Jvm.MethodName) prog_1_method_20_code (5 : Nat) (Option.some Jvm.ClassFile.FieldType.boolean)) ∈ lw_all := lw_g (lw_at lw_m1 167 rfl) rfl
theorem q196 : (Jvm.Cond.methodLink "PatternTrees" (119 : Nat) ({ cls := "PatternTrees", name := "note", desc := "()V" } : Jvm.MethodName)) ∈ lw_all := lw_g (lw_at lw_m1 168 rfl) rfl
theorem q197 : (Jvm.Cond.privateMethod ({ cls := "PatternTrees", name := "note", desc := "()V" } : Jvm.MethodName)) ∈ lw_tbl := lw_at lw_m1 169 rfl
theorem q198 : (Jvm.Cond.instanceMethod ({ cls := "PatternTrees", name := "note", desc := "()V" } : Jvm.MethodName)) ∈ lw_all := lw_g (lw_at lw_m1 170 rfl) rfl
theorem q199 : (Jvm.Cond.code ({ cls := "PatternTrees", name := "note", desc := "()V" } : Jvm.MethodName) prog_1_method_22_code (3 : Nat) (Option.none : Option Jvm.ClassFile.FieldType)) ∈ lw_all := lw_g (lw_at lw_m1 171 rfl) rfl
theorem q200 : (Jvm.Cond.methodLink "PatternTrees" (122 : Nat) ({ cls := "PatternTrees", name := "classOfConstant", desc := "(I)I" } : Jvm.MethodName)) ∈ lw_all := lw_g (lw_at lw_m1 172 rfl) rfl
theorem q201 : (Jvm.Cond.privateMethod ({ cls := "PatternTrees", name := "classOfConstant", desc := "(I)I" } : Jvm.MethodName)) ∈ lw_tbl := lw_at lw_m1 173 rfl
theorem q202 : (Jvm.Cond.instanceMethod ({ cls := "PatternTrees", name := "classOfConstant", desc := "(I)I" } : Jvm.MethodName)) ∈ lw_all := lw_g (lw_at lw_m1 174 rfl) rfl
theorem q203 : (Jvm.Cond.code ({ cls := "PatternTrees", name := "classOfConstant", desc := "(I)I" } : Jvm.MethodName) prog_1_method_21_code (3 : Nat) (Option.some Jvm.ClassFile.FieldType.int)) ∈ lw_all := lw_g (lw_at lw_m1 175 rfl) rfl
theorem q204 : (Jvm.Cond.methodLink "PatternTrees" (115 : Nat) ({ cls := "PatternTrees", name := "back", desc := "(I)I" } : Jvm.MethodName)) ∈ lw_all := lw_g (lw_at lw_m1 176 rfl) rfl
theorem q205 : (Jvm.Cond.privateMethod ({ cls := "PatternTrees", name := "back", desc := "(I)I" } : Jvm.MethodName)) ∈ lw_tbl := lw_at lw_m1 177 rfl
theorem q206 : (Jvm.Cond.instanceMethod ({ cls := "PatternTrees", name := "back", desc := "(I)I" } : Jvm.MethodName)) ∈ lw_all := lw_g (lw_at lw_m1 178 rfl) rfl
theorem q207 : (Jvm.Cond.code ({ cls := "PatternTrees", name := "back", desc := "(I)I" } : Jvm.MethodName) prog_1_method_18_code (3 : Nat) (Option.some Jvm.ClassFile.FieldType.int)) ∈ lw_all := lw_g (lw_at lw_m1 179 rfl) rfl
theorem q208 : (Jvm.Cond.methodLink "PatternTrees" (138 : Nat) ({ cls := "PatternTrees", name := "foundCount", desc := "()I" } : Jvm.MethodName)) ∈ lw_all := lw_g (lw_at lw_m1 180 rfl) rfl
theorem q209 : (Jvm.Cond.privateMethod ({ cls := "PatternTrees", name := "foundCount", desc := "()I" } : Jvm.MethodName)) ∈ lw_tbl := lw_at lw_m1 181 rfl
theorem q210 : (Jvm.Cond.instanceMethod ({ cls := "PatternTrees", name := "foundCount", desc := "()I" } : Jvm.MethodName)) ∈ lw_all := lw_g (lw_at lw_m1 182 rfl) rfl
theorem q211 : (Jvm.Cond.code ({ cls := "PatternTrees", name := "foundCount", desc := "()I" } : Jvm.MethodName) prog_1_method_24_code (3 : Nat) (Option.some Jvm.ClassFile.FieldType.int)) ∈ lw_all := lw_g (lw_at lw_m1 183 rfl) rfl
theorem q213 : (Jvm.Cond.instanceMethod ({ cls := "PatternTrees", name := "matchesAt", desc := "(I)I" } : Jvm.MethodName)) ∈ lw_all := lw_g (lw_at lw_m1 185 rfl) rfl
theorem q214 : (Jvm.Cond.selects "PatternTrees" ({ cls := "PatternTrees", name := "matchesAt", desc := "(I)I" } : Jvm.MethodName) ({ cls := "PatternTrees", name := "matchesAt", desc := "(I)I" } : Jvm.MethodName)) ∈ lw_all := lw_g (lw_at lw_m1 186 rfl) rfl
theorem q215 : (Jvm.Cond.code ({ cls := "PatternTrees", name := "matchesAt", desc := "(I)I" } : Jvm.MethodName) prog_1_method_27_code (2 : Nat) (Option.some Jvm.ClassFile.FieldType.int)) ∈ lw_all := lw_g (lw_at lw_m1 187 rfl) rfl
theorem q217 : (Jvm.Cond.instanceMethod ({ cls := "PatternTrees", name := "binding", desc := "(II)I" } : Jvm.MethodName)) ∈ lw_all := lw_g (lw_at lw_m1 189 rfl) rfl
theorem q218 : (Jvm.Cond.selects "PatternTrees" ({ cls := "PatternTrees", name := "binding", desc := "(II)I" } : Jvm.MethodName) ({ cls := "PatternTrees", name := "binding", desc := "(II)I" } : Jvm.MethodName)) ∈ lw_all := lw_g (lw_at lw_m1 190 rfl) rfl
theorem q219 : (Jvm.Cond.code ({ cls := "PatternTrees", name := "binding", desc := "(II)I" } : Jvm.MethodName) prog_1_method_28_code (5 : Nat) (Option.some Jvm.ClassFile.FieldType.int)) ∈ lw_all := lw_g (lw_at lw_m1 191 rfl) rfl
theorem q221 : (Jvm.Cond.instanceMethod ({ cls := "PatternTrees", name := "clear", desc := "()I" } : Jvm.MethodName)) ∈ lw_all := lw_g (lw_at lw_m1 193 rfl) rfl
theorem q222 : (Jvm.Cond.selects "PatternTrees" ({ cls := "PatternTrees", name := "clear", desc := "()I" } : Jvm.MethodName) ({ cls := "PatternTrees", name := "clear", desc := "()I" } : Jvm.MethodName)) ∈ lw_all := lw_g (lw_at lw_m1 194 rfl) rfl
theorem q223 : (Jvm.Cond.code ({ cls := "PatternTrees", name := "clear", desc := "()I" } : Jvm.MethodName) prog_1_method_29_code (2 : Nat) (Option.some Jvm.ClassFile.FieldType.int)) ∈ lw_all := lw_g (lw_at lw_m1 195 rfl) rfl
theorem in_X0 : ∀ w ∈ wsX00, w ∈ lw_all := lw_in wsX00 [62, 64, 66, 68, 70, 72, 74, 76, 78, 80, 82, 84, 86, 88, 90, 92, 94, 96, 98, 100, 102, 104, 106] (by decide +kernel) (by decide +kernel)
end
section
set_option maxRecDepth 100000
/-! PatternTreesModel -/
def RX1 : String := "PatternTreesModel"
def TX1 : u_T := fun k => match k with
  | 0 => ("PatternTreesModel", "n", "I", false)
  | 1 => ("PatternTreesModel", "kind", "[I", false)
  | 2 => ("PatternTreesModel", "a", "[I", false)
  | 3 => ("PatternTreesModel", "b", "[I", false)
  | 4 => ("PatternTreesModel", "least", "[I", false)
  | 5 => ("PatternTreesModel", "tokens", "I", false)
  | 6 => ("PatternTreesModel", "pattern", "[I", false)
  | 7 => ("PatternTreesModel", "bound", "[I", false)
  | 8 => ("PatternTreesModel", "kept", "[I", false)
  | 9 => ("PatternTreesModel", "stack", "[I", false)
  | 10 => ("PatternTreesModel", "wanted", "I", false)
  | 11 => ("PatternTreesModel", "counted", "I", false)
  | _ => ("PatternTreesModel", "found", "I", false)
def tyX1 : Nat → FieldType := fun k => match k with
  | 0 => .int
  | 1 => .array .int
  | 2 => .array .int
  | 3 => .array .int
  | 4 => .array .int
  | 5 => .int
  | 6 => .array .int
  | 7 => .array .int
  | 8 => .array .int
  | 9 => .array .int
  | 10 => .int
  | 11 => .int
  | _ => .int
abbrev wsX10 : List Cond := u_ws RX1 TX1 13
set_option maxRecDepth 100000 in
theorem nmX1 : ∀ a, a < 13 → ∀ b, b < 13 → a ≠ b → (TX1 a).2.1 ≠ (TX1 b).2.1 := by decide +kernel
set_option maxRecDepth 100000 in
theorem tyX1_ok : ∀ k, k < 13 → parseFieldDescriptor (TX1 k).2.2.1 = some (tyX1 k) := by decide +kernel
abbrev cX1_init : ByteArray := prog_3_method_1_code
def yX1_init : MethodName := ⟨RX1, "<init>", "()V"⟩
theorem dX1_init_0 : decode cX1_init 0 = .ok (.aload_n 0, 1) := by decide +kernel
theorem dX1_init_1 : decode cX1_init 1 = .ok (.invokespecial 1, 3) := by decide +kernel
theorem dX1_init_4 : decode cX1_init 4 = .ok (.aload_n 0, 1) := by decide +kernel
theorem dX1_init_5 : decode cX1_init 5 = .ok (.iconst 0, 1) := by decide +kernel
theorem dX1_init_6 : decode cX1_init 6 = .ok (.putfield 7, 3) := by decide +kernel
theorem dX1_init_9 : decode cX1_init 9 = .ok (.aload_n 0, 1) := by decide +kernel
theorem dX1_init_10 : decode cX1_init 10 = .ok (.bipush 20, 2) := by decide +kernel
theorem dX1_init_12 : decode cX1_init 12 = .ok (.newarray .int, 2) := by decide +kernel
theorem dX1_init_14 : decode cX1_init 14 = .ok (.putfield 13, 3) := by decide +kernel
theorem dX1_init_17 : decode cX1_init 17 = .ok (.aload_n 0, 1) := by decide +kernel
theorem dX1_init_18 : decode cX1_init 18 = .ok (.bipush 20, 2) := by decide +kernel
theorem dX1_init_20 : decode cX1_init 20 = .ok (.newarray .int, 2) := by decide +kernel
theorem dX1_init_22 : decode cX1_init 22 = .ok (.putfield 17, 3) := by decide +kernel
theorem dX1_init_25 : decode cX1_init 25 = .ok (.aload_n 0, 1) := by decide +kernel
theorem dX1_init_26 : decode cX1_init 26 = .ok (.bipush 20, 2) := by decide +kernel
theorem dX1_init_28 : decode cX1_init 28 = .ok (.newarray .int, 2) := by decide +kernel
theorem dX1_init_30 : decode cX1_init 30 = .ok (.putfield 20, 3) := by decide +kernel
theorem dX1_init_33 : decode cX1_init 33 = .ok (.aload_n 0, 1) := by decide +kernel
theorem dX1_init_34 : decode cX1_init 34 = .ok (.bipush 20, 2) := by decide +kernel
theorem dX1_init_36 : decode cX1_init 36 = .ok (.newarray .int, 2) := by decide +kernel
theorem dX1_init_38 : decode cX1_init 38 = .ok (.putfield 23, 3) := by decide +kernel
theorem dX1_init_41 : decode cX1_init 41 = .ok (.aload_n 0, 1) := by decide +kernel
theorem dX1_init_42 : decode cX1_init 42 = .ok (.iconst 0, 1) := by decide +kernel
theorem dX1_init_43 : decode cX1_init 43 = .ok (.putfield 26, 3) := by decide +kernel
theorem dX1_init_46 : decode cX1_init 46 = .ok (.aload_n 0, 1) := by decide +kernel
theorem dX1_init_47 : decode cX1_init 47 = .ok (.bipush 7, 2) := by decide +kernel
theorem dX1_init_49 : decode cX1_init 49 = .ok (.newarray .int, 2) := by decide +kernel
theorem dX1_init_51 : decode cX1_init 51 = .ok (.putfield 29, 3) := by decide +kernel
theorem dX1_init_54 : decode cX1_init 54 = .ok (.aload_n 0, 1) := by decide +kernel
theorem dX1_init_55 : decode cX1_init 55 = .ok (.iconst 3, 1) := by decide +kernel
theorem dX1_init_56 : decode cX1_init 56 = .ok (.newarray .int, 2) := by decide +kernel
theorem dX1_init_58 : decode cX1_init 58 = .ok (.putfield 32, 3) := by decide +kernel
theorem dX1_init_61 : decode cX1_init 61 = .ok (.aload_n 0, 1) := by decide +kernel
theorem dX1_init_62 : decode cX1_init 62 = .ok (.iconst 3, 1) := by decide +kernel
theorem dX1_init_63 : decode cX1_init 63 = .ok (.newarray .int, 2) := by decide +kernel
theorem dX1_init_65 : decode cX1_init 65 = .ok (.putfield 35, 3) := by decide +kernel
theorem dX1_init_68 : decode cX1_init 68 = .ok (.aload_n 0, 1) := by decide +kernel
theorem dX1_init_69 : decode cX1_init 69 = .ok (.bipush 8, 2) := by decide +kernel
theorem dX1_init_71 : decode cX1_init 71 = .ok (.newarray .int, 2) := by decide +kernel
theorem dX1_init_73 : decode cX1_init 73 = .ok (.putfield 38, 3) := by decide +kernel
theorem dX1_init_76 : decode cX1_init 76 = .ok (.return_, 1) := by decide +kernel
abbrev cX1_constant : ByteArray := prog_3_method_4_code
def yX1_constant : MethodName := ⟨RX1, "constant", "(I)I"⟩
theorem dX1_constant_0 : decode cX1_constant 0 = .ok (.iload_n 1, 1) := by decide +kernel
theorem dX1_constant_1 : decode cX1_constant 1 = .ok (.ifCond .lt 8, 3) := by decide +kernel
theorem dX1_constant_4 : decode cX1_constant 4 = .ok (.iload_n 1, 1) := by decide +kernel
theorem dX1_constant_5 : decode cX1_constant 5 = .ok (.iconst 5, 1) := by decide +kernel
theorem dX1_constant_6 : decode cX1_constant 6 = .ok (.if_icmp .le 7, 3) := by decide +kernel
theorem dX1_constant_9 : decode cX1_constant 9 = .ok (.iconst (-1), 1) := by decide +kernel
theorem dX1_constant_10 : decode cX1_constant 10 = .ok (.goto 10, 3) := by decide +kernel
theorem dX1_constant_13 : decode cX1_constant 13 = .ok (.aload_n 0, 1) := by decide +kernel
theorem dX1_constant_14 : decode cX1_constant 14 = .ok (.iconst 0, 1) := by decide +kernel
theorem dX1_constant_15 : decode cX1_constant 15 = .ok (.iload_n 1, 1) := by decide +kernel
theorem dX1_constant_16 : decode cX1_constant 16 = .ok (.iconst 0, 1) := by decide +kernel
theorem dX1_constant_17 : decode cX1_constant 17 = .ok (.invokevirtual 44, 3) := by decide +kernel
theorem dX1_constant_20 : decode cX1_constant 20 = .ok (.ireturn, 1) := by decide +kernel
abbrev cX1_make : ByteArray := prog_3_method_3_code
def yX1_make : MethodName := ⟨RX1, "make", "(III)I"⟩
theorem dX1_make_0 : decode cX1_make 0 = .ok (.iconst 0, 1) := by decide +kernel
theorem dX1_make_1 : decode cX1_make 1 = .ok (.istore 4, 2) := by decide +kernel
theorem dX1_make_3 : decode cX1_make 3 = .ok (.iload 4, 2) := by decide +kernel
theorem dX1_make_5 : decode cX1_make 5 = .ok (.aload_n 0, 1) := by decide +kernel
theorem dX1_make_6 : decode cX1_make 6 = .ok (.getfield 7, 3) := by decide +kernel
theorem dX1_make_9 : decode cX1_make 9 = .ok (.if_icmp .ge 45, 3) := by decide +kernel
theorem dX1_make_12 : decode cX1_make 12 = .ok (.aload_n 0, 1) := by decide +kernel
theorem dX1_make_13 : decode cX1_make 13 = .ok (.getfield 13, 3) := by decide +kernel
theorem dX1_make_16 : decode cX1_make 16 = .ok (.iload 4, 2) := by decide +kernel
theorem dX1_make_18 : decode cX1_make 18 = .ok (.iaload, 1) := by decide +kernel
theorem dX1_make_19 : decode cX1_make 19 = .ok (.iload_n 1, 1) := by decide +kernel
theorem dX1_make_20 : decode cX1_make 20 = .ok (.if_icmp .ne 28, 3) := by decide +kernel
theorem dX1_make_23 : decode cX1_make 23 = .ok (.aload_n 0, 1) := by decide +kernel
theorem dX1_make_24 : decode cX1_make 24 = .ok (.getfield 17, 3) := by decide +kernel
theorem dX1_make_27 : decode cX1_make 27 = .ok (.iload 4, 2) := by decide +kernel
theorem dX1_make_29 : decode cX1_make 29 = .ok (.iaload, 1) := by decide +kernel
theorem dX1_make_30 : decode cX1_make 30 = .ok (.iload_n 2, 1) := by decide +kernel
theorem dX1_make_31 : decode cX1_make 31 = .ok (.if_icmp .ne 17, 3) := by decide +kernel
theorem dX1_make_34 : decode cX1_make 34 = .ok (.aload_n 0, 1) := by decide +kernel
theorem dX1_make_35 : decode cX1_make 35 = .ok (.getfield 20, 3) := by decide +kernel
theorem dX1_make_38 : decode cX1_make 38 = .ok (.iload 4, 2) := by decide +kernel
theorem dX1_make_40 : decode cX1_make 40 = .ok (.iaload, 1) := by decide +kernel
theorem dX1_make_41 : decode cX1_make 41 = .ok (.iload_n 3, 1) := by decide +kernel
theorem dX1_make_42 : decode cX1_make 42 = .ok (.if_icmp .ne 6, 3) := by decide +kernel
theorem dX1_make_45 : decode cX1_make 45 = .ok (.iload 4, 2) := by decide +kernel
theorem dX1_make_47 : decode cX1_make 47 = .ok (.ireturn, 1) := by decide +kernel
theorem dX1_make_48 : decode cX1_make 48 = .ok (.iinc 4 1, 3) := by decide +kernel
theorem dX1_make_51 : decode cX1_make 51 = .ok (.goto (-48), 3) := by decide +kernel
theorem dX1_make_54 : decode cX1_make 54 = .ok (.aload_n 0, 1) := by decide +kernel
theorem dX1_make_55 : decode cX1_make 55 = .ok (.getfield 7, 3) := by decide +kernel
theorem dX1_make_58 : decode cX1_make 58 = .ok (.bipush 20, 2) := by decide +kernel
theorem dX1_make_60 : decode cX1_make 60 = .ok (.if_icmp .ne 6, 3) := by decide +kernel
theorem dX1_make_63 : decode cX1_make 63 = .ok (.bipush (-2), 2) := by decide +kernel
theorem dX1_make_65 : decode cX1_make 65 = .ok (.ireturn, 1) := by decide +kernel
theorem dX1_make_66 : decode cX1_make 66 = .ok (.aload_n 0, 1) := by decide +kernel
theorem dX1_make_67 : decode cX1_make 67 = .ok (.getfield 13, 3) := by decide +kernel
theorem dX1_make_70 : decode cX1_make 70 = .ok (.aload_n 0, 1) := by decide +kernel
theorem dX1_make_71 : decode cX1_make 71 = .ok (.getfield 7, 3) := by decide +kernel
theorem dX1_make_74 : decode cX1_make 74 = .ok (.iload_n 1, 1) := by decide +kernel
theorem dX1_make_75 : decode cX1_make 75 = .ok (.iastore, 1) := by decide +kernel
theorem dX1_make_76 : decode cX1_make 76 = .ok (.aload_n 0, 1) := by decide +kernel
theorem dX1_make_77 : decode cX1_make 77 = .ok (.getfield 17, 3) := by decide +kernel
theorem dX1_make_80 : decode cX1_make 80 = .ok (.aload_n 0, 1) := by decide +kernel
theorem dX1_make_81 : decode cX1_make 81 = .ok (.getfield 7, 3) := by decide +kernel
theorem dX1_make_84 : decode cX1_make 84 = .ok (.iload_n 2, 1) := by decide +kernel
theorem dX1_make_85 : decode cX1_make 85 = .ok (.iastore, 1) := by decide +kernel
theorem dX1_make_86 : decode cX1_make 86 = .ok (.aload_n 0, 1) := by decide +kernel
theorem dX1_make_87 : decode cX1_make 87 = .ok (.getfield 20, 3) := by decide +kernel
theorem dX1_make_90 : decode cX1_make 90 = .ok (.aload_n 0, 1) := by decide +kernel
theorem dX1_make_91 : decode cX1_make 91 = .ok (.getfield 7, 3) := by decide +kernel
theorem dX1_make_94 : decode cX1_make 94 = .ok (.iload_n 3, 1) := by decide +kernel
theorem dX1_make_95 : decode cX1_make 95 = .ok (.iastore, 1) := by decide +kernel
theorem dX1_make_96 : decode cX1_make 96 = .ok (.aload_n 0, 1) := by decide +kernel
theorem dX1_make_97 : decode cX1_make 97 = .ok (.getfield 23, 3) := by decide +kernel
theorem dX1_make_100 : decode cX1_make 100 = .ok (.aload_n 0, 1) := by decide +kernel
theorem dX1_make_101 : decode cX1_make 101 = .ok (.getfield 7, 3) := by decide +kernel
theorem dX1_make_104 : decode cX1_make 104 = .ok (.aload_n 0, 1) := by decide +kernel
theorem dX1_make_105 : decode cX1_make 105 = .ok (.getfield 7, 3) := by decide +kernel
theorem dX1_make_108 : decode cX1_make 108 = .ok (.iastore, 1) := by decide +kernel
theorem dX1_make_109 : decode cX1_make 109 = .ok (.aload_n 0, 1) := by decide +kernel
theorem dX1_make_110 : decode cX1_make 110 = .ok (.dup, 1) := by decide +kernel
theorem dX1_make_111 : decode cX1_make 111 = .ok (.getfield 7, 3) := by decide +kernel
theorem dX1_make_114 : decode cX1_make 114 = .ok (.iconst 1, 1) := by decide +kernel
theorem dX1_make_115 : decode cX1_make 115 = .ok (.iadd, 1) := by decide +kernel
theorem dX1_make_116 : decode cX1_make 116 = .ok (.putfield 7, 3) := by decide +kernel
theorem dX1_make_119 : decode cX1_make 119 = .ok (.aload_n 0, 1) := by decide +kernel
theorem dX1_make_120 : decode cX1_make 120 = .ok (.invokevirtual 41, 3) := by decide +kernel
theorem dX1_make_123 : decode cX1_make 123 = .ok (.aload_n 0, 1) := by decide +kernel
theorem dX1_make_124 : decode cX1_make 124 = .ok (.getfield 7, 3) := by decide +kernel
theorem dX1_make_127 : decode cX1_make 127 = .ok (.iconst 1, 1) := by decide +kernel
theorem dX1_make_128 : decode cX1_make 128 = .ok (.isub, 1) := by decide +kernel
theorem dX1_make_129 : decode cX1_make 129 = .ok (.ireturn, 1) := by decide +kernel
abbrev cX1_follow : ByteArray := prog_3_method_9_code
def yX1_follow : MethodName := ⟨RX1, "follow", "()V"⟩
theorem dX1_follow_0 : decode cX1_follow 0 = .ok (.iconst 1, 1) := by decide +kernel
theorem dX1_follow_1 : decode cX1_follow 1 = .ok (.istore_n 1, 1) := by decide +kernel
theorem dX1_follow_2 : decode cX1_follow 2 = .ok (.iconst 0, 1) := by decide +kernel
theorem dX1_follow_3 : decode cX1_follow 3 = .ok (.istore_n 2, 1) := by decide +kernel
theorem dX1_follow_4 : decode cX1_follow 4 = .ok (.iload_n 2, 1) := by decide +kernel
theorem dX1_follow_5 : decode cX1_follow 5 = .ok (.bipush 20, 2) := by decide +kernel
theorem dX1_follow_7 : decode cX1_follow 7 = .ok (.if_icmp .ge 76, 3) := by decide +kernel
theorem dX1_follow_10 : decode cX1_follow 10 = .ok (.iload_n 1, 1) := by decide +kernel
theorem dX1_follow_11 : decode cX1_follow 11 = .ok (.ifCond .eq 72, 3) := by decide +kernel
theorem dX1_follow_14 : decode cX1_follow 14 = .ok (.iconst 0, 1) := by decide +kernel
theorem dX1_follow_15 : decode cX1_follow 15 = .ok (.istore_n 1, 1) := by decide +kernel
theorem dX1_follow_16 : decode cX1_follow 16 = .ok (.iconst 0, 1) := by decide +kernel
theorem dX1_follow_17 : decode cX1_follow 17 = .ok (.istore_n 3, 1) := by decide +kernel
theorem dX1_follow_18 : decode cX1_follow 18 = .ok (.iload_n 3, 1) := by decide +kernel
theorem dX1_follow_19 : decode cX1_follow 19 = .ok (.aload_n 0, 1) := by decide +kernel
theorem dX1_follow_20 : decode cX1_follow 20 = .ok (.getfield 7, 3) := by decide +kernel
theorem dX1_follow_23 : decode cX1_follow 23 = .ok (.aload_n 0, 1) := by decide +kernel
theorem dX1_follow_24 : decode cX1_follow 24 = .ok (.getfield 7, 3) := by decide +kernel
theorem dX1_follow_27 : decode cX1_follow 27 = .ok (.imul, 1) := by decide +kernel
theorem dX1_follow_28 : decode cX1_follow 28 = .ok (.if_icmp .ge 49, 3) := by decide +kernel
theorem dX1_follow_31 : decode cX1_follow 31 = .ok (.aload_n 0, 1) := by decide +kernel
theorem dX1_follow_32 : decode cX1_follow 32 = .ok (.iload_n 3, 1) := by decide +kernel
theorem dX1_follow_33 : decode cX1_follow 33 = .ok (.aload_n 0, 1) := by decide +kernel
theorem dX1_follow_34 : decode cX1_follow 34 = .ok (.getfield 7, 3) := by decide +kernel
theorem dX1_follow_37 : decode cX1_follow 37 = .ok (.idiv, 1) := by decide +kernel
theorem dX1_follow_38 : decode cX1_follow 38 = .ok (.iload_n 3, 1) := by decide +kernel
theorem dX1_follow_39 : decode cX1_follow 39 = .ok (.aload_n 0, 1) := by decide +kernel
theorem dX1_follow_40 : decode cX1_follow 40 = .ok (.getfield 7, 3) := by decide +kernel
theorem dX1_follow_43 : decode cX1_follow 43 = .ok (.irem, 1) := by decide +kernel
theorem dX1_follow_44 : decode cX1_follow 44 = .ok (.invokevirtual 52, 3) := by decide +kernel
theorem dX1_follow_47 : decode cX1_follow 47 = .ok (.ifCond .eq 24, 3) := by decide +kernel
theorem dX1_follow_50 : decode cX1_follow 50 = .ok (.aload_n 0, 1) := by decide +kernel
theorem dX1_follow_51 : decode cX1_follow 51 = .ok (.iload_n 3, 1) := by decide +kernel
theorem dX1_follow_52 : decode cX1_follow 52 = .ok (.aload_n 0, 1) := by decide +kernel
theorem dX1_follow_53 : decode cX1_follow 53 = .ok (.getfield 7, 3) := by decide +kernel
theorem dX1_follow_56 : decode cX1_follow 56 = .ok (.idiv, 1) := by decide +kernel
theorem dX1_follow_57 : decode cX1_follow 57 = .ok (.iload_n 3, 1) := by decide +kernel
theorem dX1_follow_58 : decode cX1_follow 58 = .ok (.aload_n 0, 1) := by decide +kernel
theorem dX1_follow_59 : decode cX1_follow 59 = .ok (.getfield 7, 3) := by decide +kernel
theorem dX1_follow_62 : decode cX1_follow 62 = .ok (.irem, 1) := by decide +kernel
theorem dX1_follow_63 : decode cX1_follow 63 = .ok (.invokevirtual 56, 3) := by decide +kernel
theorem dX1_follow_66 : decode cX1_follow 66 = .ok (.ifCond .eq 5, 3) := by decide +kernel
theorem dX1_follow_69 : decode cX1_follow 69 = .ok (.iconst 1, 1) := by decide +kernel
theorem dX1_follow_70 : decode cX1_follow 70 = .ok (.istore_n 1, 1) := by decide +kernel
theorem dX1_follow_71 : decode cX1_follow 71 = .ok (.iinc 3 1, 3) := by decide +kernel
theorem dX1_follow_74 : decode cX1_follow 74 = .ok (.goto (-56), 3) := by decide +kernel
theorem dX1_follow_77 : decode cX1_follow 77 = .ok (.iinc 2 1, 3) := by decide +kernel
theorem dX1_follow_80 : decode cX1_follow 80 = .ok (.goto (-76), 3) := by decide +kernel
theorem dX1_follow_83 : decode cX1_follow 83 = .ok (.return_, 1) := by decide +kernel
abbrev cX1_alike : ByteArray := prog_3_method_8_code
def yX1_alike : MethodName := ⟨RX1, "alike", "(II)Z"⟩
theorem dX1_alike_0 : decode cX1_alike 0 = .ok (.aload_n 0, 1) := by decide +kernel
theorem dX1_alike_1 : decode cX1_alike 1 = .ok (.getfield 13, 3) := by decide +kernel
theorem dX1_alike_4 : decode cX1_alike 4 = .ok (.iload_n 1, 1) := by decide +kernel
theorem dX1_alike_5 : decode cX1_alike 5 = .ok (.iaload, 1) := by decide +kernel
theorem dX1_alike_6 : decode cX1_alike 6 = .ok (.aload_n 0, 1) := by decide +kernel
theorem dX1_alike_7 : decode cX1_alike 7 = .ok (.getfield 13, 3) := by decide +kernel
theorem dX1_alike_10 : decode cX1_alike 10 = .ok (.iload_n 2, 1) := by decide +kernel
theorem dX1_alike_11 : decode cX1_alike 11 = .ok (.iaload, 1) := by decide +kernel
theorem dX1_alike_12 : decode cX1_alike 12 = .ok (.if_icmp .ne 12, 3) := by decide +kernel
theorem dX1_alike_15 : decode cX1_alike 15 = .ok (.aload_n 0, 1) := by decide +kernel
theorem dX1_alike_16 : decode cX1_alike 16 = .ok (.getfield 13, 3) := by decide +kernel
theorem dX1_alike_19 : decode cX1_alike 19 = .ok (.iload_n 1, 1) := by decide +kernel
theorem dX1_alike_20 : decode cX1_alike 20 = .ok (.iaload, 1) := by decide +kernel
theorem dX1_alike_21 : decode cX1_alike 21 = .ok (.ifCond .ne 5, 3) := by decide +kernel
theorem dX1_alike_24 : decode cX1_alike 24 = .ok (.iconst 0, 1) := by decide +kernel
theorem dX1_alike_25 : decode cX1_alike 25 = .ok (.ireturn, 1) := by decide +kernel
theorem dX1_alike_26 : decode cX1_alike 26 = .ok (.aload_n 0, 1) := by decide +kernel
theorem dX1_alike_27 : decode cX1_alike 27 = .ok (.getfield 23, 3) := by decide +kernel
theorem dX1_alike_30 : decode cX1_alike 30 = .ok (.aload_n 0, 1) := by decide +kernel
theorem dX1_alike_31 : decode cX1_alike 31 = .ok (.getfield 17, 3) := by decide +kernel
theorem dX1_alike_34 : decode cX1_alike 34 = .ok (.iload_n 1, 1) := by decide +kernel
theorem dX1_alike_35 : decode cX1_alike 35 = .ok (.iaload, 1) := by decide +kernel
theorem dX1_alike_36 : decode cX1_alike 36 = .ok (.iaload, 1) := by decide +kernel
theorem dX1_alike_37 : decode cX1_alike 37 = .ok (.aload_n 0, 1) := by decide +kernel
theorem dX1_alike_38 : decode cX1_alike 38 = .ok (.getfield 23, 3) := by decide +kernel
theorem dX1_alike_41 : decode cX1_alike 41 = .ok (.aload_n 0, 1) := by decide +kernel
theorem dX1_alike_42 : decode cX1_alike 42 = .ok (.getfield 17, 3) := by decide +kernel
theorem dX1_alike_45 : decode cX1_alike 45 = .ok (.iload_n 2, 1) := by decide +kernel
theorem dX1_alike_46 : decode cX1_alike 46 = .ok (.iaload, 1) := by decide +kernel
theorem dX1_alike_47 : decode cX1_alike 47 = .ok (.iaload, 1) := by decide +kernel
theorem dX1_alike_48 : decode cX1_alike 48 = .ok (.if_icmp .ne 42, 3) := by decide +kernel
theorem dX1_alike_51 : decode cX1_alike 51 = .ok (.aload_n 0, 1) := by decide +kernel
theorem dX1_alike_52 : decode cX1_alike 52 = .ok (.getfield 13, 3) := by decide +kernel
theorem dX1_alike_55 : decode cX1_alike 55 = .ok (.iload_n 1, 1) := by decide +kernel
theorem dX1_alike_56 : decode cX1_alike 56 = .ok (.iaload, 1) := by decide +kernel
theorem dX1_alike_57 : decode cX1_alike 57 = .ok (.iconst 1, 1) := by decide +kernel
theorem dX1_alike_58 : decode cX1_alike 58 = .ok (.if_icmp .eq 28, 3) := by decide +kernel
theorem dX1_alike_61 : decode cX1_alike 61 = .ok (.aload_n 0, 1) := by decide +kernel
theorem dX1_alike_62 : decode cX1_alike 62 = .ok (.getfield 23, 3) := by decide +kernel
theorem dX1_alike_65 : decode cX1_alike 65 = .ok (.aload_n 0, 1) := by decide +kernel
theorem dX1_alike_66 : decode cX1_alike 66 = .ok (.getfield 20, 3) := by decide +kernel
theorem dX1_alike_69 : decode cX1_alike 69 = .ok (.iload_n 1, 1) := by decide +kernel
theorem dX1_alike_70 : decode cX1_alike 70 = .ok (.iaload, 1) := by decide +kernel
theorem dX1_alike_71 : decode cX1_alike 71 = .ok (.iaload, 1) := by decide +kernel
theorem dX1_alike_72 : decode cX1_alike 72 = .ok (.aload_n 0, 1) := by decide +kernel
theorem dX1_alike_73 : decode cX1_alike 73 = .ok (.getfield 23, 3) := by decide +kernel
theorem dX1_alike_76 : decode cX1_alike 76 = .ok (.aload_n 0, 1) := by decide +kernel
theorem dX1_alike_77 : decode cX1_alike 77 = .ok (.getfield 20, 3) := by decide +kernel
theorem dX1_alike_80 : decode cX1_alike 80 = .ok (.iload_n 2, 1) := by decide +kernel
theorem dX1_alike_81 : decode cX1_alike 81 = .ok (.iaload, 1) := by decide +kernel
theorem dX1_alike_82 : decode cX1_alike 82 = .ok (.iaload, 1) := by decide +kernel
theorem dX1_alike_83 : decode cX1_alike 83 = .ok (.if_icmp .ne 7, 3) := by decide +kernel
theorem dX1_alike_86 : decode cX1_alike 86 = .ok (.iconst 1, 1) := by decide +kernel
theorem dX1_alike_87 : decode cX1_alike 87 = .ok (.goto 4, 3) := by decide +kernel
theorem dX1_alike_90 : decode cX1_alike 90 = .ok (.iconst 0, 1) := by decide +kernel
theorem dX1_alike_91 : decode cX1_alike 91 = .ok (.ireturn, 1) := by decide +kernel
abbrev cX1_join : ByteArray := prog_3_method_7_code
def yX1_join : MethodName := ⟨RX1, "join", "(II)Z"⟩
theorem dX1_join_0 : decode cX1_join 0 = .ok (.aload_n 0, 1) := by decide +kernel
theorem dX1_join_1 : decode cX1_join 1 = .ok (.getfield 23, 3) := by decide +kernel
theorem dX1_join_4 : decode cX1_join 4 = .ok (.iload_n 1, 1) := by decide +kernel
theorem dX1_join_5 : decode cX1_join 5 = .ok (.iaload, 1) := by decide +kernel
theorem dX1_join_6 : decode cX1_join 6 = .ok (.aload_n 0, 1) := by decide +kernel
theorem dX1_join_7 : decode cX1_join 7 = .ok (.getfield 23, 3) := by decide +kernel
theorem dX1_join_10 : decode cX1_join 10 = .ok (.iload_n 2, 1) := by decide +kernel
theorem dX1_join_11 : decode cX1_join 11 = .ok (.iaload, 1) := by decide +kernel
theorem dX1_join_12 : decode cX1_join 12 = .ok (.if_icmp .ge 12, 3) := by decide +kernel
theorem dX1_join_15 : decode cX1_join 15 = .ok (.aload_n 0, 1) := by decide +kernel
theorem dX1_join_16 : decode cX1_join 16 = .ok (.getfield 23, 3) := by decide +kernel
theorem dX1_join_19 : decode cX1_join 19 = .ok (.iload_n 1, 1) := by decide +kernel
theorem dX1_join_20 : decode cX1_join 20 = .ok (.iaload, 1) := by decide +kernel
theorem dX1_join_21 : decode cX1_join 21 = .ok (.goto 9, 3) := by decide +kernel
theorem dX1_join_24 : decode cX1_join 24 = .ok (.aload_n 0, 1) := by decide +kernel
theorem dX1_join_25 : decode cX1_join 25 = .ok (.getfield 23, 3) := by decide +kernel
theorem dX1_join_28 : decode cX1_join 28 = .ok (.iload_n 2, 1) := by decide +kernel
theorem dX1_join_29 : decode cX1_join 29 = .ok (.iaload, 1) := by decide +kernel
theorem dX1_join_30 : decode cX1_join 30 = .ok (.istore_n 3, 1) := by decide +kernel
theorem dX1_join_31 : decode cX1_join 31 = .ok (.aload_n 0, 1) := by decide +kernel
theorem dX1_join_32 : decode cX1_join 32 = .ok (.getfield 23, 3) := by decide +kernel
theorem dX1_join_35 : decode cX1_join 35 = .ok (.iload_n 1, 1) := by decide +kernel
theorem dX1_join_36 : decode cX1_join 36 = .ok (.iaload, 1) := by decide +kernel
theorem dX1_join_37 : decode cX1_join 37 = .ok (.aload_n 0, 1) := by decide +kernel
theorem dX1_join_38 : decode cX1_join 38 = .ok (.getfield 23, 3) := by decide +kernel
theorem dX1_join_41 : decode cX1_join 41 = .ok (.iload_n 2, 1) := by decide +kernel
theorem dX1_join_42 : decode cX1_join 42 = .ok (.iaload, 1) := by decide +kernel
theorem dX1_join_43 : decode cX1_join 43 = .ok (.if_icmp .ge 12, 3) := by decide +kernel
theorem dX1_join_46 : decode cX1_join 46 = .ok (.aload_n 0, 1) := by decide +kernel
theorem dX1_join_47 : decode cX1_join 47 = .ok (.getfield 23, 3) := by decide +kernel
theorem dX1_join_50 : decode cX1_join 50 = .ok (.iload_n 2, 1) := by decide +kernel
theorem dX1_join_51 : decode cX1_join 51 = .ok (.iaload, 1) := by decide +kernel
theorem dX1_join_52 : decode cX1_join 52 = .ok (.goto 9, 3) := by decide +kernel
theorem dX1_join_55 : decode cX1_join 55 = .ok (.aload_n 0, 1) := by decide +kernel
theorem dX1_join_56 : decode cX1_join 56 = .ok (.getfield 23, 3) := by decide +kernel
theorem dX1_join_59 : decode cX1_join 59 = .ok (.iload_n 1, 1) := by decide +kernel
theorem dX1_join_60 : decode cX1_join 60 = .ok (.iaload, 1) := by decide +kernel
theorem dX1_join_61 : decode cX1_join 61 = .ok (.istore 4, 2) := by decide +kernel
theorem dX1_join_63 : decode cX1_join 63 = .ok (.iconst 0, 1) := by decide +kernel
theorem dX1_join_64 : decode cX1_join 64 = .ok (.istore 5, 2) := by decide +kernel
theorem dX1_join_66 : decode cX1_join 66 = .ok (.iload 5, 2) := by decide +kernel
theorem dX1_join_68 : decode cX1_join 68 = .ok (.aload_n 0, 1) := by decide +kernel
theorem dX1_join_69 : decode cX1_join 69 = .ok (.getfield 7, 3) := by decide +kernel
theorem dX1_join_72 : decode cX1_join 72 = .ok (.if_icmp .ge 29, 3) := by decide +kernel
theorem dX1_join_75 : decode cX1_join 75 = .ok (.aload_n 0, 1) := by decide +kernel
theorem dX1_join_76 : decode cX1_join 76 = .ok (.getfield 23, 3) := by decide +kernel
theorem dX1_join_79 : decode cX1_join 79 = .ok (.iload 5, 2) := by decide +kernel
theorem dX1_join_81 : decode cX1_join 81 = .ok (.iaload, 1) := by decide +kernel
theorem dX1_join_82 : decode cX1_join 82 = .ok (.iload 4, 2) := by decide +kernel
theorem dX1_join_84 : decode cX1_join 84 = .ok (.if_icmp .ne 11, 3) := by decide +kernel
theorem dX1_join_87 : decode cX1_join 87 = .ok (.aload_n 0, 1) := by decide +kernel
theorem dX1_join_88 : decode cX1_join 88 = .ok (.getfield 23, 3) := by decide +kernel
theorem dX1_join_91 : decode cX1_join 91 = .ok (.iload 5, 2) := by decide +kernel
theorem dX1_join_93 : decode cX1_join 93 = .ok (.iload_n 3, 1) := by decide +kernel
theorem dX1_join_94 : decode cX1_join 94 = .ok (.iastore, 1) := by decide +kernel
theorem dX1_join_95 : decode cX1_join 95 = .ok (.iinc 5 1, 3) := by decide +kernel
theorem dX1_join_98 : decode cX1_join 98 = .ok (.goto (-32), 3) := by decide +kernel
theorem dX1_join_101 : decode cX1_join 101 = .ok (.iload_n 3, 1) := by decide +kernel
theorem dX1_join_102 : decode cX1_join 102 = .ok (.iload 4, 2) := by decide +kernel
theorem dX1_join_104 : decode cX1_join 104 = .ok (.if_icmp .eq 7, 3) := by decide +kernel
theorem dX1_join_107 : decode cX1_join 107 = .ok (.iconst 1, 1) := by decide +kernel
theorem dX1_join_108 : decode cX1_join 108 = .ok (.goto 4, 3) := by decide +kernel
theorem dX1_join_111 : decode cX1_join 111 = .ok (.iconst 0, 1) := by decide +kernel
theorem dX1_join_112 : decode cX1_join 112 = .ok (.ireturn, 1) := by decide +kernel
abbrev cX1_one : ByteArray := prog_3_method_5_code
def yX1_one : MethodName := ⟨RX1, "one", "(I)I"⟩
theorem dX1_one_0 : decode cX1_one 0 = .ok (.aload_n 0, 1) := by decide +kernel
theorem dX1_one_1 : decode cX1_one 1 = .ok (.iload_n 1, 1) := by decide +kernel
theorem dX1_one_2 : decode cX1_one 2 = .ok (.invokevirtual 48, 3) := by decide +kernel
theorem dX1_one_5 : decode cX1_one 5 = .ok (.ifCond .eq 13, 3) := by decide +kernel
theorem dX1_one_8 : decode cX1_one 8 = .ok (.aload_n 0, 1) := by decide +kernel
theorem dX1_one_9 : decode cX1_one 9 = .ok (.iconst 1, 1) := by decide +kernel
theorem dX1_one_10 : decode cX1_one 10 = .ok (.iload_n 1, 1) := by decide +kernel
theorem dX1_one_11 : decode cX1_one 11 = .ok (.iconst 0, 1) := by decide +kernel
theorem dX1_one_12 : decode cX1_one 12 = .ok (.invokevirtual 44, 3) := by decide +kernel
theorem dX1_one_15 : decode cX1_one 15 = .ok (.goto 4, 3) := by decide +kernel
theorem dX1_one_18 : decode cX1_one 18 = .ok (.iconst (-1), 1) := by decide +kernel
theorem dX1_one_19 : decode cX1_one 19 = .ok (.ireturn, 1) := by decide +kernel
abbrev cX1_isNode : ByteArray := prog_3_method_2_code
def yX1_isNode : MethodName := ⟨RX1, "isNode", "(I)Z"⟩
theorem dX1_isNode_0 : decode cX1_isNode 0 = .ok (.iload_n 1, 1) := by decide +kernel
theorem dX1_isNode_1 : decode cX1_isNode 1 = .ok (.ifCond .lt 15, 3) := by decide +kernel
theorem dX1_isNode_4 : decode cX1_isNode 4 = .ok (.iload_n 1, 1) := by decide +kernel
theorem dX1_isNode_5 : decode cX1_isNode 5 = .ok (.aload_n 0, 1) := by decide +kernel
theorem dX1_isNode_6 : decode cX1_isNode 6 = .ok (.getfield 7, 3) := by decide +kernel
theorem dX1_isNode_9 : decode cX1_isNode 9 = .ok (.if_icmp .ge 7, 3) := by decide +kernel
theorem dX1_isNode_12 : decode cX1_isNode 12 = .ok (.iconst 1, 1) := by decide +kernel
theorem dX1_isNode_13 : decode cX1_isNode 13 = .ok (.goto 4, 3) := by decide +kernel
theorem dX1_isNode_16 : decode cX1_isNode 16 = .ok (.iconst 0, 1) := by decide +kernel
theorem dX1_isNode_17 : decode cX1_isNode 17 = .ok (.ireturn, 1) := by decide +kernel
abbrev cX1_two : ByteArray := prog_3_method_6_code
def yX1_two : MethodName := ⟨RX1, "two", "(II)I"⟩
theorem dX1_two_0 : decode cX1_two 0 = .ok (.aload_n 0, 1) := by decide +kernel
theorem dX1_two_1 : decode cX1_two 1 = .ok (.iload_n 1, 1) := by decide +kernel
theorem dX1_two_2 : decode cX1_two 2 = .ok (.invokevirtual 48, 3) := by decide +kernel
theorem dX1_two_5 : decode cX1_two 5 = .ok (.ifCond .eq 21, 3) := by decide +kernel
theorem dX1_two_8 : decode cX1_two 8 = .ok (.aload_n 0, 1) := by decide +kernel
theorem dX1_two_9 : decode cX1_two 9 = .ok (.iload_n 2, 1) := by decide +kernel
theorem dX1_two_10 : decode cX1_two 10 = .ok (.invokevirtual 48, 3) := by decide +kernel
theorem dX1_two_13 : decode cX1_two 13 = .ok (.ifCond .eq 13, 3) := by decide +kernel
theorem dX1_two_16 : decode cX1_two 16 = .ok (.aload_n 0, 1) := by decide +kernel
theorem dX1_two_17 : decode cX1_two 17 = .ok (.iconst 2, 1) := by decide +kernel
theorem dX1_two_18 : decode cX1_two 18 = .ok (.iload_n 1, 1) := by decide +kernel
theorem dX1_two_19 : decode cX1_two 19 = .ok (.iload_n 2, 1) := by decide +kernel
theorem dX1_two_20 : decode cX1_two 20 = .ok (.invokevirtual 44, 3) := by decide +kernel
theorem dX1_two_23 : decode cX1_two 23 = .ok (.goto 4, 3) := by decide +kernel
theorem dX1_two_26 : decode cX1_two 26 = .ok (.iconst (-1), 1) := by decide +kernel
theorem dX1_two_27 : decode cX1_two 27 = .ok (.ireturn, 1) := by decide +kernel
abbrev cX1_equate : ByteArray := prog_3_method_10_code
def yX1_equate : MethodName := ⟨RX1, "equate", "(II)I"⟩
theorem dX1_equate_0 : decode cX1_equate 0 = .ok (.aload_n 0, 1) := by decide +kernel
theorem dX1_equate_1 : decode cX1_equate 1 = .ok (.iload_n 1, 1) := by decide +kernel
theorem dX1_equate_2 : decode cX1_equate 2 = .ok (.invokevirtual 48, 3) := by decide +kernel
theorem dX1_equate_5 : decode cX1_equate 5 = .ok (.ifCond .eq 11, 3) := by decide +kernel
theorem dX1_equate_8 : decode cX1_equate 8 = .ok (.aload_n 0, 1) := by decide +kernel
theorem dX1_equate_9 : decode cX1_equate 9 = .ok (.iload_n 2, 1) := by decide +kernel
theorem dX1_equate_10 : decode cX1_equate 10 = .ok (.invokevirtual 48, 3) := by decide +kernel
theorem dX1_equate_13 : decode cX1_equate 13 = .ok (.ifCond .ne 5, 3) := by decide +kernel
theorem dX1_equate_16 : decode cX1_equate 16 = .ok (.iconst (-1), 1) := by decide +kernel
theorem dX1_equate_17 : decode cX1_equate 17 = .ok (.ireturn, 1) := by decide +kernel
theorem dX1_equate_18 : decode cX1_equate 18 = .ok (.aload_n 0, 1) := by decide +kernel
theorem dX1_equate_19 : decode cX1_equate 19 = .ok (.iload_n 1, 1) := by decide +kernel
theorem dX1_equate_20 : decode cX1_equate 20 = .ok (.iload_n 2, 1) := by decide +kernel
theorem dX1_equate_21 : decode cX1_equate 21 = .ok (.invokevirtual 56, 3) := by decide +kernel
theorem dX1_equate_24 : decode cX1_equate 24 = .ok (.pop, 1) := by decide +kernel
theorem dX1_equate_25 : decode cX1_equate 25 = .ok (.aload_n 0, 1) := by decide +kernel
theorem dX1_equate_26 : decode cX1_equate 26 = .ok (.invokevirtual 41, 3) := by decide +kernel
theorem dX1_equate_29 : decode cX1_equate 29 = .ok (.aload_n 0, 1) := by decide +kernel
theorem dX1_equate_30 : decode cX1_equate 30 = .ok (.invokevirtual 59, 3) := by decide +kernel
theorem dX1_equate_33 : decode cX1_equate 33 = .ok (.ireturn, 1) := by decide +kernel
abbrev cX1_classes : ByteArray := prog_3_method_12_code
def yX1_classes : MethodName := ⟨RX1, "classes", "()I"⟩
theorem dX1_classes_0 : decode cX1_classes 0 = .ok (.iconst 0, 1) := by decide +kernel
theorem dX1_classes_1 : decode cX1_classes 1 = .ok (.istore_n 1, 1) := by decide +kernel
theorem dX1_classes_2 : decode cX1_classes 2 = .ok (.iconst 0, 1) := by decide +kernel
theorem dX1_classes_3 : decode cX1_classes 3 = .ok (.istore_n 2, 1) := by decide +kernel
theorem dX1_classes_4 : decode cX1_classes 4 = .ok (.iload_n 2, 1) := by decide +kernel
theorem dX1_classes_5 : decode cX1_classes 5 = .ok (.aload_n 0, 1) := by decide +kernel
theorem dX1_classes_6 : decode cX1_classes 6 = .ok (.getfield 7, 3) := by decide +kernel
theorem dX1_classes_9 : decode cX1_classes 9 = .ok (.if_icmp .ge 22, 3) := by decide +kernel
theorem dX1_classes_12 : decode cX1_classes 12 = .ok (.aload_n 0, 1) := by decide +kernel
theorem dX1_classes_13 : decode cX1_classes 13 = .ok (.getfield 23, 3) := by decide +kernel
theorem dX1_classes_16 : decode cX1_classes 16 = .ok (.iload_n 2, 1) := by decide +kernel
theorem dX1_classes_17 : decode cX1_classes 17 = .ok (.iaload, 1) := by decide +kernel
theorem dX1_classes_18 : decode cX1_classes 18 = .ok (.iload_n 2, 1) := by decide +kernel
theorem dX1_classes_19 : decode cX1_classes 19 = .ok (.if_icmp .ne 6, 3) := by decide +kernel
theorem dX1_classes_22 : decode cX1_classes 22 = .ok (.iinc 1 1, 3) := by decide +kernel
theorem dX1_classes_25 : decode cX1_classes 25 = .ok (.iinc 2 1, 3) := by decide +kernel
theorem dX1_classes_28 : decode cX1_classes 28 = .ok (.goto (-24), 3) := by decide +kernel
theorem dX1_classes_31 : decode cX1_classes 31 = .ok (.iload_n 1, 1) := by decide +kernel
theorem dX1_classes_32 : decode cX1_classes 32 = .ok (.ireturn, 1) := by decide +kernel
abbrev cX1_leader : ByteArray := prog_3_method_11_code
def yX1_leader : MethodName := ⟨RX1, "leader", "(I)I"⟩
theorem dX1_leader_0 : decode cX1_leader 0 = .ok (.aload_n 0, 1) := by decide +kernel
theorem dX1_leader_1 : decode cX1_leader 1 = .ok (.iload_n 1, 1) := by decide +kernel
theorem dX1_leader_2 : decode cX1_leader 2 = .ok (.invokevirtual 48, 3) := by decide +kernel
theorem dX1_leader_5 : decode cX1_leader 5 = .ok (.ifCond .eq 12, 3) := by decide +kernel
theorem dX1_leader_8 : decode cX1_leader 8 = .ok (.aload_n 0, 1) := by decide +kernel
theorem dX1_leader_9 : decode cX1_leader 9 = .ok (.getfield 23, 3) := by decide +kernel
theorem dX1_leader_12 : decode cX1_leader 12 = .ok (.iload_n 1, 1) := by decide +kernel
theorem dX1_leader_13 : decode cX1_leader 13 = .ok (.iaload, 1) := by decide +kernel
theorem dX1_leader_14 : decode cX1_leader 14 = .ok (.goto 4, 3) := by decide +kernel
theorem dX1_leader_17 : decode cX1_leader 17 = .ok (.iconst (-1), 1) := by decide +kernel
theorem dX1_leader_18 : decode cX1_leader 18 = .ok (.ireturn, 1) := by decide +kernel
abbrev cX1_token : ByteArray := prog_3_method_13_code
def yX1_token : MethodName := ⟨RX1, "token", "(I)I"⟩
theorem dX1_token_0 : decode cX1_token 0 = .ok (.aload_n 0, 1) := by decide +kernel
theorem dX1_token_1 : decode cX1_token 1 = .ok (.getfield 26, 3) := by decide +kernel
theorem dX1_token_4 : decode cX1_token 4 = .ok (.bipush 7, 2) := by decide +kernel
theorem dX1_token_6 : decode cX1_token 6 = .ok (.if_icmp .ne 6, 3) := by decide +kernel
theorem dX1_token_9 : decode cX1_token 9 = .ok (.bipush (-2), 2) := by decide +kernel
theorem dX1_token_11 : decode cX1_token 11 = .ok (.ireturn, 1) := by decide +kernel
theorem dX1_token_12 : decode cX1_token 12 = .ok (.iload_n 1, 1) := by decide +kernel
theorem dX1_token_13 : decode cX1_token 13 = .ok (.ifCond .lt 32, 3) := by decide +kernel
theorem dX1_token_16 : decode cX1_token 16 = .ok (.iload_n 1, 1) := by decide +kernel
theorem dX1_token_17 : decode cX1_token 17 = .ok (.bipush 21, 2) := by decide +kernel
theorem dX1_token_19 : decode cX1_token 19 = .ok (.if_icmp .gt 26, 3) := by decide +kernel
theorem dX1_token_22 : decode cX1_token 22 = .ok (.iload_n 1, 1) := by decide +kernel
theorem dX1_token_23 : decode cX1_token 23 = .ok (.iconst 2, 1) := by decide +kernel
theorem dX1_token_24 : decode cX1_token 24 = .ok (.if_icmp .le 9, 3) := by decide +kernel
theorem dX1_token_27 : decode cX1_token 27 = .ok (.iload_n 1, 1) := by decide +kernel
theorem dX1_token_28 : decode cX1_token 28 = .ok (.bipush 10, 2) := by decide +kernel
theorem dX1_token_30 : decode cX1_token 30 = .ok (.if_icmp .lt 15, 3) := by decide +kernel
theorem dX1_token_33 : decode cX1_token 33 = .ok (.iload_n 1, 1) := by decide +kernel
theorem dX1_token_34 : decode cX1_token 34 = .ok (.bipush 15, 2) := by decide +kernel
theorem dX1_token_36 : decode cX1_token 36 = .ok (.if_icmp .le 11, 3) := by decide +kernel
theorem dX1_token_39 : decode cX1_token 39 = .ok (.iload_n 1, 1) := by decide +kernel
theorem dX1_token_40 : decode cX1_token 40 = .ok (.bipush 20, 2) := by decide +kernel
theorem dX1_token_42 : decode cX1_token 42 = .ok (.if_icmp .ge 5, 3) := by decide +kernel
theorem dX1_token_45 : decode cX1_token 45 = .ok (.iconst (-1), 1) := by decide +kernel
theorem dX1_token_46 : decode cX1_token 46 = .ok (.ireturn, 1) := by decide +kernel
theorem dX1_token_47 : decode cX1_token 47 = .ok (.aload_n 0, 1) := by decide +kernel
theorem dX1_token_48 : decode cX1_token 48 = .ok (.getfield 29, 3) := by decide +kernel
theorem dX1_token_51 : decode cX1_token 51 = .ok (.aload_n 0, 1) := by decide +kernel
theorem dX1_token_52 : decode cX1_token 52 = .ok (.getfield 26, 3) := by decide +kernel
theorem dX1_token_55 : decode cX1_token 55 = .ok (.iload_n 1, 1) := by decide +kernel
theorem dX1_token_56 : decode cX1_token 56 = .ok (.iastore, 1) := by decide +kernel
theorem dX1_token_57 : decode cX1_token 57 = .ok (.aload_n 0, 1) := by decide +kernel
theorem dX1_token_58 : decode cX1_token 58 = .ok (.dup, 1) := by decide +kernel
theorem dX1_token_59 : decode cX1_token 59 = .ok (.getfield 26, 3) := by decide +kernel
theorem dX1_token_62 : decode cX1_token 62 = .ok (.iconst 1, 1) := by decide +kernel
theorem dX1_token_63 : decode cX1_token 63 = .ok (.iadd, 1) := by decide +kernel
end
section
set_option maxRecDepth 100000
theorem dX1_token_64 : decode cX1_token 64 = .ok (.putfield 26, 3) := by decide +kernel
theorem dX1_token_67 : decode cX1_token 67 = .ok (.aload_n 0, 1) := by decide +kernel
theorem dX1_token_68 : decode cX1_token 68 = .ok (.getfield 26, 3) := by decide +kernel
theorem dX1_token_71 : decode cX1_token 71 = .ok (.ireturn, 1) := by decide +kernel
abbrev cX1_wipe : ByteArray := prog_3_method_14_code
def yX1_wipe : MethodName := ⟨RX1, "wipe", "()I"⟩
theorem dX1_wipe_0 : decode cX1_wipe 0 = .ok (.aload_n 0, 1) := by decide +kernel
theorem dX1_wipe_1 : decode cX1_wipe 1 = .ok (.getfield 26, 3) := by decide +kernel
theorem dX1_wipe_4 : decode cX1_wipe 4 = .ok (.istore_n 1, 1) := by decide +kernel
theorem dX1_wipe_5 : decode cX1_wipe 5 = .ok (.aload_n 0, 1) := by decide +kernel
theorem dX1_wipe_6 : decode cX1_wipe 6 = .ok (.iconst 0, 1) := by decide +kernel
theorem dX1_wipe_7 : decode cX1_wipe 7 = .ok (.putfield 26, 3) := by decide +kernel
theorem dX1_wipe_10 : decode cX1_wipe 10 = .ok (.iload_n 1, 1) := by decide +kernel
theorem dX1_wipe_11 : decode cX1_wipe 11 = .ok (.ireturn, 1) := by decide +kernel
abbrev cX1_matches : ByteArray := prog_3_method_22_code
def yX1_matches : MethodName := ⟨RX1, "matches", "()I"⟩
theorem dX1_matches_0 : decode cX1_matches 0 = .ok (.aload_n 0, 1) := by decide +kernel
theorem dX1_matches_1 : decode cX1_matches 1 = .ok (.invokevirtual 88, 3) := by decide +kernel
theorem dX1_matches_4 : decode cX1_matches 4 = .ok (.ifCond .ne 6, 3) := by decide +kernel
theorem dX1_matches_7 : decode cX1_matches 7 = .ok (.bipush (-3), 2) := by decide +kernel
theorem dX1_matches_9 : decode cX1_matches 9 = .ok (.ireturn, 1) := by decide +kernel
theorem dX1_matches_10 : decode cX1_matches 10 = .ok (.aload_n 0, 1) := by decide +kernel
theorem dX1_matches_11 : decode cX1_matches 11 = .ok (.iconst (-1), 1) := by decide +kernel
theorem dX1_matches_12 : decode cX1_matches 12 = .ok (.iconst (-1), 1) := by decide +kernel
theorem dX1_matches_13 : decode cX1_matches 13 = .ok (.invokevirtual 92, 3) := by decide +kernel
theorem dX1_matches_16 : decode cX1_matches 16 = .ok (.aload_n 0, 1) := by decide +kernel
theorem dX1_matches_17 : decode cX1_matches 17 = .ok (.getfield 72, 3) := by decide +kernel
theorem dX1_matches_20 : decode cX1_matches 20 = .ok (.ireturn, 1) := by decide +kernel
abbrev cX1_whole : ByteArray := prog_3_method_15_code
def yX1_whole : MethodName := ⟨RX1, "whole", "()Z"⟩
theorem dX1_whole_0 : decode cX1_whole 0 = .ok (.iconst 0, 1) := by decide +kernel
theorem dX1_whole_1 : decode cX1_whole 1 = .ok (.istore_n 1, 1) := by decide +kernel
theorem dX1_whole_2 : decode cX1_whole 2 = .ok (.aload_n 0, 1) := by decide +kernel
theorem dX1_whole_3 : decode cX1_whole 3 = .ok (.getfield 26, 3) := by decide +kernel
theorem dX1_whole_6 : decode cX1_whole 6 = .ok (.iconst 1, 1) := by decide +kernel
theorem dX1_whole_7 : decode cX1_whole 7 = .ok (.isub, 1) := by decide +kernel
theorem dX1_whole_8 : decode cX1_whole 8 = .ok (.istore_n 2, 1) := by decide +kernel
theorem dX1_whole_9 : decode cX1_whole 9 = .ok (.iload_n 2, 1) := by decide +kernel
theorem dX1_whole_10 : decode cX1_whole 10 = .ok (.ifCond .lt 71, 3) := by decide +kernel
theorem dX1_whole_13 : decode cX1_whole 13 = .ok (.aload_n 0, 1) := by decide +kernel
theorem dX1_whole_14 : decode cX1_whole 14 = .ok (.getfield 29, 3) := by decide +kernel
theorem dX1_whole_17 : decode cX1_whole 17 = .ok (.iload_n 2, 1) := by decide +kernel
theorem dX1_whole_18 : decode cX1_whole 18 = .ok (.iaload, 1) := by decide +kernel
theorem dX1_whole_19 : decode cX1_whole 19 = .ok (.bipush 20, 2) := by decide +kernel
theorem dX1_whole_21 : decode cX1_whole 21 = .ok (.if_icmp .ne 8, 3) := by decide +kernel
theorem dX1_whole_24 : decode cX1_whole 24 = .ok (.iload_n 1, 1) := by decide +kernel
theorem dX1_whole_25 : decode cX1_whole 25 = .ok (.iconst 1, 1) := by decide +kernel
theorem dX1_whole_26 : decode cX1_whole 26 = .ok (.if_icmp .lt 19, 3) := by decide +kernel
theorem dX1_whole_29 : decode cX1_whole 29 = .ok (.aload_n 0, 1) := by decide +kernel
theorem dX1_whole_30 : decode cX1_whole 30 = .ok (.getfield 29, 3) := by decide +kernel
theorem dX1_whole_33 : decode cX1_whole 33 = .ok (.iload_n 2, 1) := by decide +kernel
theorem dX1_whole_34 : decode cX1_whole 34 = .ok (.iaload, 1) := by decide +kernel
theorem dX1_whole_35 : decode cX1_whole 35 = .ok (.bipush 21, 2) := by decide +kernel
theorem dX1_whole_37 : decode cX1_whole 37 = .ok (.if_icmp .ne 10, 3) := by decide +kernel
theorem dX1_whole_40 : decode cX1_whole 40 = .ok (.iload_n 1, 1) := by decide +kernel
theorem dX1_whole_41 : decode cX1_whole 41 = .ok (.iconst 2, 1) := by decide +kernel
theorem dX1_whole_42 : decode cX1_whole 42 = .ok (.if_icmp .ge 5, 3) := by decide +kernel
theorem dX1_whole_45 : decode cX1_whole 45 = .ok (.iconst 0, 1) := by decide +kernel
theorem dX1_whole_46 : decode cX1_whole 46 = .ok (.ireturn, 1) := by decide +kernel
theorem dX1_whole_47 : decode cX1_whole 47 = .ok (.aload_n 0, 1) := by decide +kernel
theorem dX1_whole_48 : decode cX1_whole 48 = .ok (.getfield 29, 3) := by decide +kernel
theorem dX1_whole_51 : decode cX1_whole 51 = .ok (.iload_n 2, 1) := by decide +kernel
theorem dX1_whole_52 : decode cX1_whole 52 = .ok (.iaload, 1) := by decide +kernel
theorem dX1_whole_53 : decode cX1_whole 53 = .ok (.bipush 20, 2) := by decide +kernel
theorem dX1_whole_55 : decode cX1_whole 55 = .ok (.if_icmp .ge 6, 3) := by decide +kernel
theorem dX1_whole_58 : decode cX1_whole 58 = .ok (.iinc 1 1, 3) := by decide +kernel
theorem dX1_whole_61 : decode cX1_whole 61 = .ok (.aload_n 0, 1) := by decide +kernel
theorem dX1_whole_62 : decode cX1_whole 62 = .ok (.getfield 29, 3) := by decide +kernel
theorem dX1_whole_65 : decode cX1_whole 65 = .ok (.iload_n 2, 1) := by decide +kernel
theorem dX1_whole_66 : decode cX1_whole 66 = .ok (.iaload, 1) := by decide +kernel
theorem dX1_whole_67 : decode cX1_whole 67 = .ok (.bipush 21, 2) := by decide +kernel
theorem dX1_whole_69 : decode cX1_whole 69 = .ok (.if_icmp .ne 6, 3) := by decide +kernel
theorem dX1_whole_72 : decode cX1_whole 72 = .ok (.iinc 1 (-1), 3) := by decide +kernel
theorem dX1_whole_75 : decode cX1_whole 75 = .ok (.iinc 2 (-1), 3) := by decide +kernel
theorem dX1_whole_78 : decode cX1_whole 78 = .ok (.goto (-69), 3) := by decide +kernel
theorem dX1_whole_81 : decode cX1_whole 81 = .ok (.iload_n 1, 1) := by decide +kernel
theorem dX1_whole_82 : decode cX1_whole 82 = .ok (.iconst 1, 1) := by decide +kernel
theorem dX1_whole_83 : decode cX1_whole 83 = .ok (.if_icmp .ne 7, 3) := by decide +kernel
theorem dX1_whole_86 : decode cX1_whole 86 = .ok (.iconst 1, 1) := by decide +kernel
theorem dX1_whole_87 : decode cX1_whole 87 = .ok (.goto 4, 3) := by decide +kernel
theorem dX1_whole_90 : decode cX1_whole 90 = .ok (.iconst 0, 1) := by decide +kernel
theorem dX1_whole_91 : decode cX1_whole 91 = .ok (.ireturn, 1) := by decide +kernel
abbrev cX1_search : ByteArray := prog_3_method_21_code
def yX1_search : MethodName := ⟨RX1, "search", "(II)V"⟩
theorem dX1_search_0 : decode cX1_search 0 = .ok (.aload_n 0, 1) := by decide +kernel
theorem dX1_search_1 : decode cX1_search 1 = .ok (.iload_n 2, 1) := by decide +kernel
theorem dX1_search_2 : decode cX1_search 2 = .ok (.putfield 78, 3) := by decide +kernel
theorem dX1_search_5 : decode cX1_search 5 = .ok (.aload_n 0, 1) := by decide +kernel
theorem dX1_search_6 : decode cX1_search 6 = .ok (.iconst 0, 1) := by decide +kernel
theorem dX1_search_7 : decode cX1_search 7 = .ok (.putfield 72, 3) := by decide +kernel
theorem dX1_search_10 : decode cX1_search 10 = .ok (.aload_n 0, 1) := by decide +kernel
theorem dX1_search_11 : decode cX1_search 11 = .ok (.iconst 0, 1) := by decide +kernel
theorem dX1_search_12 : decode cX1_search 12 = .ok (.putfield 75, 3) := by decide +kernel
theorem dX1_search_15 : decode cX1_search 15 = .ok (.iconst 0, 1) := by decide +kernel
theorem dX1_search_16 : decode cX1_search 16 = .ok (.istore_n 3, 1) := by decide +kernel
theorem dX1_search_17 : decode cX1_search 17 = .ok (.iload_n 3, 1) := by decide +kernel
theorem dX1_search_18 : decode cX1_search 18 = .ok (.sipush 400, 3) := by decide +kernel
theorem dX1_search_21 : decode cX1_search 21 = .ok (.if_icmp .ge 92, 3) := by decide +kernel
theorem dX1_search_24 : decode cX1_search 24 = .ok (.iconst 0, 1) := by decide +kernel
theorem dX1_search_25 : decode cX1_search 25 = .ok (.istore 4, 2) := by decide +kernel
theorem dX1_search_27 : decode cX1_search 27 = .ok (.iload 4, 2) := by decide +kernel
theorem dX1_search_29 : decode cX1_search 29 = .ok (.bipush 20, 2) := by decide +kernel
theorem dX1_search_31 : decode cX1_search 31 = .ok (.if_icmp .ge 76, 3) := by decide +kernel
theorem dX1_search_34 : decode cX1_search 34 = .ok (.aload_n 0, 1) := by decide +kernel
theorem dX1_search_35 : decode cX1_search 35 = .ok (.iconst 0, 1) := by decide +kernel
theorem dX1_search_36 : decode cX1_search 36 = .ok (.iload_n 3, 1) := by decide +kernel
theorem dX1_search_37 : decode cX1_search 37 = .ok (.bipush 20, 2) := by decide +kernel
theorem dX1_search_39 : decode cX1_search 39 = .ok (.idiv, 1) := by decide +kernel
theorem dX1_search_40 : decode cX1_search 40 = .ok (.invokevirtual 81, 3) := by decide +kernel
theorem dX1_search_43 : decode cX1_search 43 = .ok (.ifCond .eq 58, 3) := by decide +kernel
theorem dX1_search_46 : decode cX1_search 46 = .ok (.aload_n 0, 1) := by decide +kernel
theorem dX1_search_47 : decode cX1_search 47 = .ok (.iconst 1, 1) := by decide +kernel
theorem dX1_search_48 : decode cX1_search 48 = .ok (.iload_n 3, 1) := by decide +kernel
theorem dX1_search_49 : decode cX1_search 49 = .ok (.bipush 20, 2) := by decide +kernel
theorem dX1_search_51 : decode cX1_search 51 = .ok (.irem, 1) := by decide +kernel
theorem dX1_search_52 : decode cX1_search 52 = .ok (.invokevirtual 81, 3) := by decide +kernel
theorem dX1_search_55 : decode cX1_search 55 = .ok (.ifCond .eq 46, 3) := by decide +kernel
theorem dX1_search_58 : decode cX1_search 58 = .ok (.aload_n 0, 1) := by decide +kernel
theorem dX1_search_59 : decode cX1_search 59 = .ok (.iconst 2, 1) := by decide +kernel
theorem dX1_search_60 : decode cX1_search 60 = .ok (.iload 4, 2) := by decide +kernel
theorem dX1_search_62 : decode cX1_search 62 = .ok (.invokevirtual 81, 3) := by decide +kernel
theorem dX1_search_65 : decode cX1_search 65 = .ok (.ifCond .eq 36, 3) := by decide +kernel
theorem dX1_search_68 : decode cX1_search 68 = .ok (.aload_n 0, 1) := by decide +kernel
theorem dX1_search_69 : decode cX1_search 69 = .ok (.getfield 32, 3) := by decide +kernel
theorem dX1_search_72 : decode cX1_search 72 = .ok (.iconst 0, 1) := by decide +kernel
theorem dX1_search_73 : decode cX1_search 73 = .ok (.iload_n 3, 1) := by decide +kernel
theorem dX1_search_74 : decode cX1_search 74 = .ok (.bipush 20, 2) := by decide +kernel
theorem dX1_search_76 : decode cX1_search 76 = .ok (.idiv, 1) := by decide +kernel
theorem dX1_search_77 : decode cX1_search 77 = .ok (.iastore, 1) := by decide +kernel
theorem dX1_search_78 : decode cX1_search 78 = .ok (.aload_n 0, 1) := by decide +kernel
theorem dX1_search_79 : decode cX1_search 79 = .ok (.getfield 32, 3) := by decide +kernel
theorem dX1_search_82 : decode cX1_search 82 = .ok (.iconst 1, 1) := by decide +kernel
theorem dX1_search_83 : decode cX1_search 83 = .ok (.iload_n 3, 1) := by decide +kernel
theorem dX1_search_84 : decode cX1_search 84 = .ok (.bipush 20, 2) := by decide +kernel
theorem dX1_search_86 : decode cX1_search 86 = .ok (.irem, 1) := by decide +kernel
theorem dX1_search_87 : decode cX1_search 87 = .ok (.iastore, 1) := by decide +kernel
theorem dX1_search_88 : decode cX1_search 88 = .ok (.aload_n 0, 1) := by decide +kernel
theorem dX1_search_89 : decode cX1_search 89 = .ok (.getfield 32, 3) := by decide +kernel
theorem dX1_search_92 : decode cX1_search 92 = .ok (.iconst 2, 1) := by decide +kernel
theorem dX1_search_93 : decode cX1_search 93 = .ok (.iload 4, 2) := by decide +kernel
theorem dX1_search_95 : decode cX1_search 95 = .ok (.iastore, 1) := by decide +kernel
theorem dX1_search_96 : decode cX1_search 96 = .ok (.aload_n 0, 1) := by decide +kernel
theorem dX1_search_97 : decode cX1_search 97 = .ok (.iload_n 1, 1) := by decide +kernel
theorem dX1_search_98 : decode cX1_search 98 = .ok (.invokevirtual 84, 3) := by decide +kernel
theorem dX1_search_101 : decode cX1_search 101 = .ok (.iinc 4 1, 3) := by decide +kernel
theorem dX1_search_104 : decode cX1_search 104 = .ok (.goto (-77), 3) := by decide +kernel
theorem dX1_search_107 : decode cX1_search 107 = .ok (.iinc 3 1, 3) := by decide +kernel
theorem dX1_search_110 : decode cX1_search 110 = .ok (.goto (-93), 3) := by decide +kernel
theorem dX1_search_113 : decode cX1_search 113 = .ok (.return_, 1) := by decide +kernel
abbrev cX1_tried : ByteArray := prog_3_method_19_code
def yX1_tried : MethodName := ⟨RX1, "tried", "(II)Z"⟩
theorem dX1_tried_0 : decode cX1_tried 0 = .ok (.aload_n 0, 1) := by decide +kernel
theorem dX1_tried_1 : decode cX1_tried 1 = .ok (.iload_n 1, 1) := by decide +kernel
theorem dX1_tried_2 : decode cX1_tried 2 = .ok (.invokevirtual 66, 3) := by decide +kernel
theorem dX1_tried_5 : decode cX1_tried 5 = .ok (.ifCond .eq 29, 3) := by decide +kernel
theorem dX1_tried_8 : decode cX1_tried 8 = .ok (.iload_n 2, 1) := by decide +kernel
theorem dX1_tried_9 : decode cX1_tried 9 = .ok (.aload_n 0, 1) := by decide +kernel
theorem dX1_tried_10 : decode cX1_tried 10 = .ok (.getfield 7, 3) := by decide +kernel
theorem dX1_tried_13 : decode cX1_tried 13 = .ok (.if_icmp .ge 17, 3) := by decide +kernel
theorem dX1_tried_16 : decode cX1_tried 16 = .ok (.aload_n 0, 1) := by decide +kernel
theorem dX1_tried_17 : decode cX1_tried 17 = .ok (.getfield 23, 3) := by decide +kernel
theorem dX1_tried_20 : decode cX1_tried 20 = .ok (.iload_n 2, 1) := by decide +kernel
theorem dX1_tried_21 : decode cX1_tried 21 = .ok (.iaload, 1) := by decide +kernel
theorem dX1_tried_22 : decode cX1_tried 22 = .ok (.iload_n 2, 1) := by decide +kernel
theorem dX1_tried_23 : decode cX1_tried 23 = .ok (.if_icmp .ne 7, 3) := by decide +kernel
theorem dX1_tried_26 : decode cX1_tried 26 = .ok (.iconst 1, 1) := by decide +kernel
theorem dX1_tried_27 : decode cX1_tried 27 = .ok (.goto 16, 3) := by decide +kernel
theorem dX1_tried_30 : decode cX1_tried 30 = .ok (.iconst 0, 1) := by decide +kernel
theorem dX1_tried_31 : decode cX1_tried 31 = .ok (.goto 12, 3) := by decide +kernel
theorem dX1_tried_34 : decode cX1_tried 34 = .ok (.iload_n 2, 1) := by decide +kernel
theorem dX1_tried_35 : decode cX1_tried 35 = .ok (.ifCond .ne 7, 3) := by decide +kernel
theorem dX1_tried_38 : decode cX1_tried 38 = .ok (.iconst 1, 1) := by decide +kernel
theorem dX1_tried_39 : decode cX1_tried 39 = .ok (.goto 4, 3) := by decide +kernel
theorem dX1_tried_42 : decode cX1_tried 42 = .ok (.iconst 0, 1) := by decide +kernel
theorem dX1_tried_43 : decode cX1_tried 43 = .ok (.ireturn, 1) := by decide +kernel
abbrev cX1_hasVariable : ByteArray := prog_3_method_16_code
def yX1_hasVariable : MethodName := ⟨RX1, "hasVariable", "(I)Z"⟩
theorem dX1_hasVariable_0 : decode cX1_hasVariable 0 = .ok (.iconst 0, 1) := by decide +kernel
theorem dX1_hasVariable_1 : decode cX1_hasVariable 1 = .ok (.istore_n 2, 1) := by decide +kernel
theorem dX1_hasVariable_2 : decode cX1_hasVariable 2 = .ok (.iload_n 2, 1) := by decide +kernel
theorem dX1_hasVariable_3 : decode cX1_hasVariable 3 = .ok (.aload_n 0, 1) := by decide +kernel
theorem dX1_hasVariable_4 : decode cX1_hasVariable 4 = .ok (.getfield 26, 3) := by decide +kernel
theorem dX1_hasVariable_7 : decode cX1_hasVariable 7 = .ok (.if_icmp .ge 21, 3) := by decide +kernel
theorem dX1_hasVariable_10 : decode cX1_hasVariable 10 = .ok (.aload_n 0, 1) := by decide +kernel
theorem dX1_hasVariable_11 : decode cX1_hasVariable 11 = .ok (.getfield 29, 3) := by decide +kernel
theorem dX1_hasVariable_14 : decode cX1_hasVariable 14 = .ok (.iload_n 2, 1) := by decide +kernel
theorem dX1_hasVariable_15 : decode cX1_hasVariable 15 = .ok (.iaload, 1) := by decide +kernel
theorem dX1_hasVariable_16 : decode cX1_hasVariable 16 = .ok (.iload_n 1, 1) := by decide +kernel
theorem dX1_hasVariable_17 : decode cX1_hasVariable 17 = .ok (.if_icmp .ne 5, 3) := by decide +kernel
theorem dX1_hasVariable_20 : decode cX1_hasVariable 20 = .ok (.iconst 1, 1) := by decide +kernel
theorem dX1_hasVariable_21 : decode cX1_hasVariable 21 = .ok (.ireturn, 1) := by decide +kernel
theorem dX1_hasVariable_22 : decode cX1_hasVariable 22 = .ok (.iinc 2 1, 3) := by decide +kernel
theorem dX1_hasVariable_25 : decode cX1_hasVariable 25 = .ok (.goto (-23), 3) := by decide +kernel
theorem dX1_hasVariable_28 : decode cX1_hasVariable 28 = .ok (.iconst 0, 1) := by decide +kernel
theorem dX1_hasVariable_29 : decode cX1_hasVariable 29 = .ok (.ireturn, 1) := by decide +kernel
abbrev cX1_look : ByteArray := prog_3_method_20_code
def yX1_look : MethodName := ⟨RX1, "look", "(I)V"⟩
theorem dX1_look_0 : decode cX1_look 0 = .ok (.aload_n 0, 1) := by decide +kernel
theorem dX1_look_1 : decode cX1_look 1 = .ok (.invokevirtual 69, 3) := by decide +kernel
theorem dX1_look_4 : decode cX1_look 4 = .ok (.istore_n 2, 1) := by decide +kernel
theorem dX1_look_5 : decode cX1_look 5 = .ok (.iload_n 2, 1) := by decide +kernel
theorem dX1_look_6 : decode cX1_look 6 = .ok (.ifCond .ge 4, 3) := by decide +kernel
theorem dX1_look_9 : decode cX1_look 9 = .ok (.return_, 1) := by decide +kernel
theorem dX1_look_10 : decode cX1_look 10 = .ok (.iload_n 1, 1) := by decide +kernel
theorem dX1_look_11 : decode cX1_look 11 = .ok (.ifCond .lt 8, 3) := by decide +kernel
theorem dX1_look_14 : decode cX1_look 14 = .ok (.iload_n 2, 1) := by decide +kernel
theorem dX1_look_15 : decode cX1_look 15 = .ok (.iload_n 1, 1) := by decide +kernel
theorem dX1_look_16 : decode cX1_look 16 = .ok (.if_icmp .ne 13, 3) := by decide +kernel
theorem dX1_look_19 : decode cX1_look 19 = .ok (.aload_n 0, 1) := by decide +kernel
theorem dX1_look_20 : decode cX1_look 20 = .ok (.dup, 1) := by decide +kernel
theorem dX1_look_21 : decode cX1_look 21 = .ok (.getfield 72, 3) := by decide +kernel
theorem dX1_look_24 : decode cX1_look 24 = .ok (.iconst 1, 1) := by decide +kernel
theorem dX1_look_25 : decode cX1_look 25 = .ok (.iadd, 1) := by decide +kernel
theorem dX1_look_26 : decode cX1_look 26 = .ok (.putfield 72, 3) := by decide +kernel
theorem dX1_look_29 : decode cX1_look 29 = .ok (.aload_n 0, 1) := by decide +kernel
theorem dX1_look_30 : decode cX1_look 30 = .ok (.getfield 75, 3) := by decide +kernel
theorem dX1_look_33 : decode cX1_look 33 = .ok (.aload_n 0, 1) := by decide +kernel
theorem dX1_look_34 : decode cX1_look 34 = .ok (.getfield 78, 3) := by decide +kernel
theorem dX1_look_37 : decode cX1_look 37 = .ok (.if_icmp .ne 28, 3) := by decide +kernel
theorem dX1_look_40 : decode cX1_look 40 = .ok (.iconst 0, 1) := by decide +kernel
theorem dX1_look_41 : decode cX1_look 41 = .ok (.istore_n 3, 1) := by decide +kernel
theorem dX1_look_42 : decode cX1_look 42 = .ok (.iload_n 3, 1) := by decide +kernel
theorem dX1_look_43 : decode cX1_look 43 = .ok (.iconst 3, 1) := by decide +kernel
theorem dX1_look_44 : decode cX1_look 44 = .ok (.if_icmp .ge 21, 3) := by decide +kernel
theorem dX1_look_47 : decode cX1_look 47 = .ok (.aload_n 0, 1) := by decide +kernel
theorem dX1_look_48 : decode cX1_look 48 = .ok (.getfield 35, 3) := by decide +kernel
theorem dX1_look_51 : decode cX1_look 51 = .ok (.iload_n 3, 1) := by decide +kernel
theorem dX1_look_52 : decode cX1_look 52 = .ok (.aload_n 0, 1) := by decide +kernel
theorem dX1_look_53 : decode cX1_look 53 = .ok (.getfield 32, 3) := by decide +kernel
theorem dX1_look_56 : decode cX1_look 56 = .ok (.iload_n 3, 1) := by decide +kernel
theorem dX1_look_57 : decode cX1_look 57 = .ok (.iaload, 1) := by decide +kernel
theorem dX1_look_58 : decode cX1_look 58 = .ok (.iastore, 1) := by decide +kernel
theorem dX1_look_59 : decode cX1_look 59 = .ok (.iinc 3 1, 3) := by decide +kernel
theorem dX1_look_62 : decode cX1_look 62 = .ok (.goto (-20), 3) := by decide +kernel
theorem dX1_look_65 : decode cX1_look 65 = .ok (.aload_n 0, 1) := by decide +kernel
theorem dX1_look_66 : decode cX1_look 66 = .ok (.dup, 1) := by decide +kernel
theorem dX1_look_67 : decode cX1_look 67 = .ok (.getfield 75, 3) := by decide +kernel
theorem dX1_look_70 : decode cX1_look 70 = .ok (.iconst 1, 1) := by decide +kernel
theorem dX1_look_71 : decode cX1_look 71 = .ok (.iadd, 1) := by decide +kernel
theorem dX1_look_72 : decode cX1_look 72 = .ok (.putfield 75, 3) := by decide +kernel
theorem dX1_look_75 : decode cX1_look 75 = .ok (.return_, 1) := by decide +kernel
abbrev cX1_value : ByteArray := prog_3_method_18_code
def yX1_value : MethodName := ⟨RX1, "value", "()I"⟩
theorem dX1_value_0 : decode cX1_value 0 = .ok (.iconst 0, 1) := by decide +kernel
theorem dX1_value_1 : decode cX1_value 1 = .ok (.istore_n 1, 1) := by decide +kernel
theorem dX1_value_2 : decode cX1_value 2 = .ok (.aload_n 0, 1) := by decide +kernel
theorem dX1_value_3 : decode cX1_value 3 = .ok (.getfield 26, 3) := by decide +kernel
theorem dX1_value_6 : decode cX1_value 6 = .ok (.iconst 1, 1) := by decide +kernel
theorem dX1_value_7 : decode cX1_value 7 = .ok (.isub, 1) := by decide +kernel
theorem dX1_value_8 : decode cX1_value 8 = .ok (.istore_n 2, 1) := by decide +kernel
theorem dX1_value_9 : decode cX1_value 9 = .ok (.iload_n 2, 1) := by decide +kernel
theorem dX1_value_10 : decode cX1_value 10 = .ok (.ifCond .lt 163, 3) := by decide +kernel
theorem dX1_value_13 : decode cX1_value 13 = .ok (.aload_n 0, 1) := by decide +kernel
theorem dX1_value_14 : decode cX1_value 14 = .ok (.getfield 29, 3) := by decide +kernel
theorem dX1_value_17 : decode cX1_value 17 = .ok (.iload_n 2, 1) := by decide +kernel
theorem dX1_value_18 : decode cX1_value 18 = .ok (.iaload, 1) := by decide +kernel
theorem dX1_value_19 : decode cX1_value 19 = .ok (.istore_n 3, 1) := by decide +kernel
theorem dX1_value_20 : decode cX1_value 20 = .ok (.iload_n 1, 1) := by decide +kernel
theorem dX1_value_21 : decode cX1_value 21 = .ok (.ifCond .le 14, 3) := by decide +kernel
theorem dX1_value_24 : decode cX1_value 24 = .ok (.aload_n 0, 1) := by decide +kernel
theorem dX1_value_25 : decode cX1_value 25 = .ok (.getfield 38, 3) := by decide +kernel
theorem dX1_value_28 : decode cX1_value 28 = .ok (.iload_n 1, 1) := by decide +kernel
theorem dX1_value_29 : decode cX1_value 29 = .ok (.iconst 1, 1) := by decide +kernel
theorem dX1_value_30 : decode cX1_value 30 = .ok (.isub, 1) := by decide +kernel
theorem dX1_value_31 : decode cX1_value 31 = .ok (.iaload, 1) := by decide +kernel
theorem dX1_value_32 : decode cX1_value 32 = .ok (.goto 4, 3) := by decide +kernel
theorem dX1_value_35 : decode cX1_value 35 = .ok (.iconst (-1), 1) := by decide +kernel
theorem dX1_value_36 : decode cX1_value 36 = .ok (.istore 4, 2) := by decide +kernel
theorem dX1_value_38 : decode cX1_value 38 = .ok (.iload_n 3, 1) := by decide +kernel
theorem dX1_value_39 : decode cX1_value 39 = .ok (.bipush 20, 2) := by decide +kernel
theorem dX1_value_41 : decode cX1_value 41 = .ok (.if_icmp .ge 39, 3) := by decide +kernel
theorem dX1_value_44 : decode cX1_value 44 = .ok (.aload_n 0, 1) := by decide +kernel
theorem dX1_value_45 : decode cX1_value 45 = .ok (.getfield 38, 3) := by decide +kernel
theorem dX1_value_48 : decode cX1_value 48 = .ok (.iload_n 1, 1) := by decide +kernel
theorem dX1_value_49 : decode cX1_value 49 = .ok (.iload_n 3, 1) := by decide +kernel
theorem dX1_value_50 : decode cX1_value 50 = .ok (.iconst 3, 1) := by decide +kernel
theorem dX1_value_51 : decode cX1_value 51 = .ok (.if_icmp .ge 12, 3) := by decide +kernel
theorem dX1_value_54 : decode cX1_value 54 = .ok (.aload_n 0, 1) := by decide +kernel
theorem dX1_value_55 : decode cX1_value 55 = .ok (.getfield 32, 3) := by decide +kernel
theorem dX1_value_58 : decode cX1_value 58 = .ok (.iload_n 3, 1) := by decide +kernel
theorem dX1_value_59 : decode cX1_value 59 = .ok (.iaload, 1) := by decide +kernel
theorem dX1_value_60 : decode cX1_value 60 = .ok (.goto 13, 3) := by decide +kernel
theorem dX1_value_63 : decode cX1_value 63 = .ok (.aload_n 0, 1) := by decide +kernel
theorem dX1_value_64 : decode cX1_value 64 = .ok (.iconst 0, 1) := by decide +kernel
theorem dX1_value_65 : decode cX1_value 65 = .ok (.iload_n 3, 1) := by decide +kernel
theorem dX1_value_66 : decode cX1_value 66 = .ok (.bipush 10, 2) := by decide +kernel
theorem dX1_value_68 : decode cX1_value 68 = .ok (.isub, 1) := by decide +kernel
theorem dX1_value_69 : decode cX1_value 69 = .ok (.iconst 0, 1) := by decide +kernel
theorem dX1_value_70 : decode cX1_value 70 = .ok (.invokevirtual 63, 3) := by decide +kernel
theorem dX1_value_73 : decode cX1_value 73 = .ok (.iastore, 1) := by decide +kernel
theorem dX1_value_74 : decode cX1_value 74 = .ok (.iinc 1 1, 3) := by decide +kernel
theorem dX1_value_77 : decode cX1_value 77 = .ok (.goto 90, 3) := by decide +kernel
theorem dX1_value_80 : decode cX1_value 80 = .ok (.iload_n 3, 1) := by decide +kernel
theorem dX1_value_81 : decode cX1_value 81 = .ok (.bipush 20, 2) := by decide +kernel
theorem dX1_value_83 : decode cX1_value 83 = .ok (.if_icmp .ne 35, 3) := by decide +kernel
theorem dX1_value_86 : decode cX1_value 86 = .ok (.iload_n 1, 1) := by decide +kernel
theorem dX1_value_87 : decode cX1_value 87 = .ok (.ifCond .le 31, 3) := by decide +kernel
theorem dX1_value_90 : decode cX1_value 90 = .ok (.aload_n 0, 1) := by decide +kernel
theorem dX1_value_91 : decode cX1_value 91 = .ok (.getfield 38, 3) := by decide +kernel
theorem dX1_value_94 : decode cX1_value 94 = .ok (.iload_n 1, 1) := by decide +kernel
theorem dX1_value_95 : decode cX1_value 95 = .ok (.iconst 1, 1) := by decide +kernel
theorem dX1_value_96 : decode cX1_value 96 = .ok (.isub, 1) := by decide +kernel
theorem dX1_value_97 : decode cX1_value 97 = .ok (.iload 4, 2) := by decide +kernel
theorem dX1_value_99 : decode cX1_value 99 = .ok (.ifCond .ge 7, 3) := by decide +kernel
theorem dX1_value_102 : decode cX1_value 102 = .ok (.iconst (-1), 1) := by decide +kernel
theorem dX1_value_103 : decode cX1_value 103 = .ok (.goto 11, 3) := by decide +kernel
theorem dX1_value_106 : decode cX1_value 106 = .ok (.aload_n 0, 1) := by decide +kernel
theorem dX1_value_107 : decode cX1_value 107 = .ok (.iconst 1, 1) := by decide +kernel
theorem dX1_value_108 : decode cX1_value 108 = .ok (.iload 4, 2) := by decide +kernel
theorem dX1_value_110 : decode cX1_value 110 = .ok (.iconst 0, 1) := by decide +kernel
theorem dX1_value_111 : decode cX1_value 111 = .ok (.invokevirtual 63, 3) := by decide +kernel
theorem dX1_value_114 : decode cX1_value 114 = .ok (.iastore, 1) := by decide +kernel
theorem dX1_value_115 : decode cX1_value 115 = .ok (.goto 52, 3) := by decide +kernel
theorem dX1_value_118 : decode cX1_value 118 = .ok (.iload_n 1, 1) := by decide +kernel
theorem dX1_value_119 : decode cX1_value 119 = .ok (.iconst 1, 1) := by decide +kernel
theorem dX1_value_120 : decode cX1_value 120 = .ok (.if_icmp .le 47, 3) := by decide +kernel
theorem dX1_value_123 : decode cX1_value 123 = .ok (.aload_n 0, 1) := by decide +kernel
theorem dX1_value_124 : decode cX1_value 124 = .ok (.getfield 38, 3) := by decide +kernel
theorem dX1_value_127 : decode cX1_value 127 = .ok (.iload_n 1, 1) := by decide +kernel
theorem dX1_value_128 : decode cX1_value 128 = .ok (.iconst 2, 1) := by decide +kernel
theorem dX1_value_129 : decode cX1_value 129 = .ok (.isub, 1) := by decide +kernel
theorem dX1_value_130 : decode cX1_value 130 = .ok (.iaload, 1) := by decide +kernel
theorem dX1_value_131 : decode cX1_value 131 = .ok (.istore 5, 2) := by decide +kernel
theorem dX1_value_133 : decode cX1_value 133 = .ok (.aload_n 0, 1) := by decide +kernel
theorem dX1_value_134 : decode cX1_value 134 = .ok (.getfield 38, 3) := by decide +kernel
theorem dX1_value_137 : decode cX1_value 137 = .ok (.iload_n 1, 1) := by decide +kernel
theorem dX1_value_138 : decode cX1_value 138 = .ok (.iconst 2, 1) := by decide +kernel
theorem dX1_value_139 : decode cX1_value 139 = .ok (.isub, 1) := by decide +kernel
theorem dX1_value_140 : decode cX1_value 140 = .ok (.iload 4, 2) := by decide +kernel
theorem dX1_value_142 : decode cX1_value 142 = .ok (.ifCond .lt 8, 3) := by decide +kernel
theorem dX1_value_145 : decode cX1_value 145 = .ok (.iload 5, 2) := by decide +kernel
theorem dX1_value_147 : decode cX1_value 147 = .ok (.ifCond .ge 7, 3) := by decide +kernel
theorem dX1_value_150 : decode cX1_value 150 = .ok (.iconst (-1), 1) := by decide +kernel
theorem dX1_value_151 : decode cX1_value 151 = .ok (.goto 12, 3) := by decide +kernel
theorem dX1_value_154 : decode cX1_value 154 = .ok (.aload_n 0, 1) := by decide +kernel
theorem dX1_value_155 : decode cX1_value 155 = .ok (.iconst 2, 1) := by decide +kernel
theorem dX1_value_156 : decode cX1_value 156 = .ok (.iload 4, 2) := by decide +kernel
theorem dX1_value_158 : decode cX1_value 158 = .ok (.iload 5, 2) := by decide +kernel
theorem dX1_value_160 : decode cX1_value 160 = .ok (.invokevirtual 63, 3) := by decide +kernel
theorem dX1_value_163 : decode cX1_value 163 = .ok (.iastore, 1) := by decide +kernel
theorem dX1_value_164 : decode cX1_value 164 = .ok (.iinc 1 (-1), 3) := by decide +kernel
theorem dX1_value_167 : decode cX1_value 167 = .ok (.iinc 2 (-1), 3) := by decide +kernel
theorem dX1_value_170 : decode cX1_value 170 = .ok (.goto (-161), 3) := by decide +kernel
theorem dX1_value_173 : decode cX1_value 173 = .ok (.iload_n 1, 1) := by decide +kernel
theorem dX1_value_174 : decode cX1_value 174 = .ok (.ifCond .le 12, 3) := by decide +kernel
theorem dX1_value_177 : decode cX1_value 177 = .ok (.aload_n 0, 1) := by decide +kernel
theorem dX1_value_178 : decode cX1_value 178 = .ok (.getfield 38, 3) := by decide +kernel
theorem dX1_value_181 : decode cX1_value 181 = .ok (.iconst 0, 1) := by decide +kernel
theorem dX1_value_182 : decode cX1_value 182 = .ok (.iaload, 1) := by decide +kernel
theorem dX1_value_183 : decode cX1_value 183 = .ok (.goto 4, 3) := by decide +kernel
theorem dX1_value_186 : decode cX1_value 186 = .ok (.iconst (-1), 1) := by decide +kernel
theorem dX1_value_187 : decode cX1_value 187 = .ok (.ireturn, 1) := by decide +kernel
abbrev cX1_over : ByteArray := prog_3_method_17_code
def yX1_over : MethodName := ⟨RX1, "over", "(III)I"⟩
theorem dX1_over_0 : decode cX1_over 0 = .ok (.iconst 0, 1) := by decide +kernel
theorem dX1_over_1 : decode cX1_over 1 = .ok (.istore 4, 2) := by decide +kernel
theorem dX1_over_3 : decode cX1_over 3 = .ok (.iload 4, 2) := by decide +kernel
theorem dX1_over_5 : decode cX1_over 5 = .ok (.aload_n 0, 1) := by decide +kernel
theorem dX1_over_6 : decode cX1_over 6 = .ok (.getfield 7, 3) := by decide +kernel
theorem dX1_over_9 : decode cX1_over 9 = .ok (.if_icmp .ge 95, 3) := by decide +kernel
theorem dX1_over_12 : decode cX1_over 12 = .ok (.aload_n 0, 1) := by decide +kernel
theorem dX1_over_13 : decode cX1_over 13 = .ok (.getfield 13, 3) := by decide +kernel
theorem dX1_over_16 : decode cX1_over 16 = .ok (.iload 4, 2) := by decide +kernel
theorem dX1_over_18 : decode cX1_over 18 = .ok (.iaload, 1) := by decide +kernel
theorem dX1_over_19 : decode cX1_over 19 = .ok (.iload_n 1, 1) := by decide +kernel
theorem dX1_over_20 : decode cX1_over 20 = .ok (.if_icmp .ne 62, 3) := by decide +kernel
theorem dX1_over_23 : decode cX1_over 23 = .ok (.iload_n 1, 1) := by decide +kernel
theorem dX1_over_24 : decode cX1_over 24 = .ok (.ifCond .ne 17, 3) := by decide +kernel
theorem dX1_over_27 : decode cX1_over 27 = .ok (.aload_n 0, 1) := by decide +kernel
theorem dX1_over_28 : decode cX1_over 28 = .ok (.getfield 17, 3) := by decide +kernel
theorem dX1_over_31 : decode cX1_over 31 = .ok (.iload 4, 2) := by decide +kernel
theorem dX1_over_33 : decode cX1_over 33 = .ok (.iaload, 1) := by decide +kernel
theorem dX1_over_34 : decode cX1_over 34 = .ok (.iload_n 2, 1) := by decide +kernel
theorem dX1_over_35 : decode cX1_over 35 = .ok (.if_icmp .ne 47, 3) := by decide +kernel
theorem dX1_over_38 : decode cX1_over 38 = .ok (.goto 40, 3) := by decide +kernel
theorem dX1_over_41 : decode cX1_over 41 = .ok (.aload_n 0, 1) := by decide +kernel
theorem dX1_over_42 : decode cX1_over 42 = .ok (.getfield 23, 3) := by decide +kernel
theorem dX1_over_45 : decode cX1_over 45 = .ok (.aload_n 0, 1) := by decide +kernel
theorem dX1_over_46 : decode cX1_over 46 = .ok (.getfield 17, 3) := by decide +kernel
theorem dX1_over_49 : decode cX1_over 49 = .ok (.iload 4, 2) := by decide +kernel
theorem dX1_over_51 : decode cX1_over 51 = .ok (.iaload, 1) := by decide +kernel
theorem dX1_over_52 : decode cX1_over 52 = .ok (.iaload, 1) := by decide +kernel
theorem dX1_over_53 : decode cX1_over 53 = .ok (.iload_n 2, 1) := by decide +kernel
theorem dX1_over_54 : decode cX1_over 54 = .ok (.if_icmp .ne 28, 3) := by decide +kernel
theorem dX1_over_57 : decode cX1_over 57 = .ok (.iload_n 1, 1) := by decide +kernel
theorem dX1_over_58 : decode cX1_over 58 = .ok (.iconst 1, 1) := by decide +kernel
theorem dX1_over_59 : decode cX1_over 59 = .ok (.if_icmp .eq 19, 3) := by decide +kernel
theorem dX1_over_62 : decode cX1_over 62 = .ok (.aload_n 0, 1) := by decide +kernel
theorem dX1_over_63 : decode cX1_over 63 = .ok (.getfield 23, 3) := by decide +kernel
theorem dX1_over_66 : decode cX1_over 66 = .ok (.aload_n 0, 1) := by decide +kernel
theorem dX1_over_67 : decode cX1_over 67 = .ok (.getfield 20, 3) := by decide +kernel
theorem dX1_over_70 : decode cX1_over 70 = .ok (.iload 4, 2) := by decide +kernel
theorem dX1_over_72 : decode cX1_over 72 = .ok (.iaload, 1) := by decide +kernel
theorem dX1_over_73 : decode cX1_over 73 = .ok (.iaload, 1) := by decide +kernel
theorem dX1_over_74 : decode cX1_over 74 = .ok (.iload_n 3, 1) := by decide +kernel
theorem dX1_over_75 : decode cX1_over 75 = .ok (.if_icmp .ne 7, 3) := by decide +kernel
theorem dX1_over_78 : decode cX1_over 78 = .ok (.iconst 1, 1) := by decide +kernel
theorem dX1_over_79 : decode cX1_over 79 = .ok (.goto 4, 3) := by decide +kernel
theorem dX1_over_82 : decode cX1_over 82 = .ok (.iconst 0, 1) := by decide +kernel
theorem dX1_over_83 : decode cX1_over 83 = .ok (.istore 5, 2) := by decide +kernel
theorem dX1_over_85 : decode cX1_over 85 = .ok (.iload 5, 2) := by decide +kernel
theorem dX1_over_87 : decode cX1_over 87 = .ok (.ifCond .eq 11, 3) := by decide +kernel
theorem dX1_over_90 : decode cX1_over 90 = .ok (.aload_n 0, 1) := by decide +kernel
theorem dX1_over_91 : decode cX1_over 91 = .ok (.getfield 23, 3) := by decide +kernel
theorem dX1_over_94 : decode cX1_over 94 = .ok (.iload 4, 2) := by decide +kernel
theorem dX1_over_96 : decode cX1_over 96 = .ok (.iaload, 1) := by decide +kernel
theorem dX1_over_97 : decode cX1_over 97 = .ok (.ireturn, 1) := by decide +kernel
theorem dX1_over_98 : decode cX1_over 98 = .ok (.iinc 4 1, 3) := by decide +kernel
theorem dX1_over_101 : decode cX1_over 101 = .ok (.goto (-98), 3) := by decide +kernel
theorem dX1_over_104 : decode cX1_over 104 = .ok (.iconst (-1), 1) := by decide +kernel
theorem dX1_over_105 : decode cX1_over 105 = .ok (.ireturn, 1) := by decide +kernel
abbrev cX1_matchesAt : ByteArray := prog_3_method_23_code
def yX1_matchesAt : MethodName := ⟨RX1, "matchesAt", "(I)I"⟩
theorem dX1_matchesAt_0 : decode cX1_matchesAt 0 = .ok (.aload_n 0, 1) := by decide +kernel
theorem dX1_matchesAt_1 : decode cX1_matchesAt 1 = .ok (.iload_n 1, 1) := by decide +kernel
theorem dX1_matchesAt_2 : decode cX1_matchesAt 2 = .ok (.invokevirtual 48, 3) := by decide +kernel
theorem dX1_matchesAt_5 : decode cX1_matchesAt 5 = .ok (.ifCond .ne 5, 3) := by decide +kernel
theorem dX1_matchesAt_8 : decode cX1_matchesAt 8 = .ok (.iconst (-1), 1) := by decide +kernel
theorem dX1_matchesAt_9 : decode cX1_matchesAt 9 = .ok (.ireturn, 1) := by decide +kernel
theorem dX1_matchesAt_10 : decode cX1_matchesAt 10 = .ok (.aload_n 0, 1) := by decide +kernel
theorem dX1_matchesAt_11 : decode cX1_matchesAt 11 = .ok (.invokevirtual 88, 3) := by decide +kernel
theorem dX1_matchesAt_14 : decode cX1_matchesAt 14 = .ok (.ifCond .ne 6, 3) := by decide +kernel
theorem dX1_matchesAt_17 : decode cX1_matchesAt 17 = .ok (.bipush (-3), 2) := by decide +kernel
theorem dX1_matchesAt_19 : decode cX1_matchesAt 19 = .ok (.ireturn, 1) := by decide +kernel
theorem dX1_matchesAt_20 : decode cX1_matchesAt 20 = .ok (.aload_n 0, 1) := by decide +kernel
theorem dX1_matchesAt_21 : decode cX1_matchesAt 21 = .ok (.aload_n 0, 1) := by decide +kernel
theorem dX1_matchesAt_22 : decode cX1_matchesAt 22 = .ok (.getfield 23, 3) := by decide +kernel
theorem dX1_matchesAt_25 : decode cX1_matchesAt 25 = .ok (.iload_n 1, 1) := by decide +kernel
theorem dX1_matchesAt_26 : decode cX1_matchesAt 26 = .ok (.iaload, 1) := by decide +kernel
theorem dX1_matchesAt_27 : decode cX1_matchesAt 27 = .ok (.iconst (-1), 1) := by decide +kernel
theorem dX1_matchesAt_28 : decode cX1_matchesAt 28 = .ok (.invokevirtual 92, 3) := by decide +kernel
theorem dX1_matchesAt_31 : decode cX1_matchesAt 31 = .ok (.aload_n 0, 1) := by decide +kernel
theorem dX1_matchesAt_32 : decode cX1_matchesAt 32 = .ok (.getfield 72, 3) := by decide +kernel
theorem dX1_matchesAt_35 : decode cX1_matchesAt 35 = .ok (.ireturn, 1) := by decide +kernel
abbrev cX1_binding : ByteArray := prog_3_method_24_code
def yX1_binding : MethodName := ⟨RX1, "binding", "(II)I"⟩
theorem dX1_binding_0 : decode cX1_binding 0 = .ok (.iload_n 2, 1) := by decide +kernel
theorem dX1_binding_1 : decode cX1_binding 1 = .ok (.ifCond .lt 8, 3) := by decide +kernel
theorem dX1_binding_4 : decode cX1_binding 4 = .ok (.iload_n 2, 1) := by decide +kernel
theorem dX1_binding_5 : decode cX1_binding 5 = .ok (.iconst 2, 1) := by decide +kernel
theorem dX1_binding_6 : decode cX1_binding 6 = .ok (.if_icmp .le 5, 3) := by decide +kernel
theorem dX1_binding_9 : decode cX1_binding 9 = .ok (.iconst (-1), 1) := by decide +kernel
theorem dX1_binding_10 : decode cX1_binding 10 = .ok (.ireturn, 1) := by decide +kernel
theorem dX1_binding_11 : decode cX1_binding 11 = .ok (.aload_n 0, 1) := by decide +kernel
theorem dX1_binding_12 : decode cX1_binding 12 = .ok (.invokevirtual 88, 3) := by decide +kernel
theorem dX1_binding_15 : decode cX1_binding 15 = .ok (.ifCond .eq 15, 3) := by decide +kernel
theorem dX1_binding_18 : decode cX1_binding 18 = .ok (.aload_n 0, 1) := by decide +kernel
theorem dX1_binding_19 : decode cX1_binding 19 = .ok (.iload_n 2, 1) := by decide +kernel
theorem dX1_binding_20 : decode cX1_binding 20 = .ok (.invokevirtual 66, 3) := by decide +kernel
theorem dX1_binding_23 : decode cX1_binding 23 = .ok (.ifCond .eq 7, 3) := by decide +kernel
theorem dX1_binding_26 : decode cX1_binding 26 = .ok (.iload_n 1, 1) := by decide +kernel
theorem dX1_binding_27 : decode cX1_binding 27 = .ok (.ifCond .ge 6, 3) := by decide +kernel
theorem dX1_binding_30 : decode cX1_binding 30 = .ok (.bipush (-3), 2) := by decide +kernel
theorem dX1_binding_32 : decode cX1_binding 32 = .ok (.ireturn, 1) := by decide +kernel
theorem dX1_binding_33 : decode cX1_binding 33 = .ok (.aload_n 0, 1) := by decide +kernel
theorem dX1_binding_34 : decode cX1_binding 34 = .ok (.iconst (-1), 1) := by decide +kernel
theorem dX1_binding_35 : decode cX1_binding 35 = .ok (.iload_n 1, 1) := by decide +kernel
theorem dX1_binding_36 : decode cX1_binding 36 = .ok (.invokevirtual 92, 3) := by decide +kernel
theorem dX1_binding_39 : decode cX1_binding 39 = .ok (.aload_n 0, 1) := by decide +kernel
theorem dX1_binding_40 : decode cX1_binding 40 = .ok (.getfield 75, 3) := by decide +kernel
theorem dX1_binding_43 : decode cX1_binding 43 = .ok (.iload_n 1, 1) := by decide +kernel
theorem dX1_binding_44 : decode cX1_binding 44 = .ok (.if_icmp .le 12, 3) := by decide +kernel
theorem dX1_binding_47 : decode cX1_binding 47 = .ok (.aload_n 0, 1) := by decide +kernel
theorem dX1_binding_48 : decode cX1_binding 48 = .ok (.getfield 35, 3) := by decide +kernel
theorem dX1_binding_51 : decode cX1_binding 51 = .ok (.iload_n 2, 1) := by decide +kernel
theorem dX1_binding_52 : decode cX1_binding 52 = .ok (.iaload, 1) := by decide +kernel
theorem dX1_binding_53 : decode cX1_binding 53 = .ok (.goto 5, 3) := by decide +kernel
theorem dX1_binding_56 : decode cX1_binding 56 = .ok (.bipush (-3), 2) := by decide +kernel
theorem dX1_binding_58 : decode cX1_binding 58 = .ok (.ireturn, 1) := by decide +kernel
abbrev cX1_clear : ByteArray := prog_3_method_25_code
def yX1_clear : MethodName := ⟨RX1, "clear", "()I"⟩
theorem dX1_clear_0 : decode cX1_clear 0 = .ok (.aload_n 0, 1) := by decide +kernel
theorem dX1_clear_1 : decode cX1_clear 1 = .ok (.getfield 7, 3) := by decide +kernel
theorem dX1_clear_4 : decode cX1_clear 4 = .ok (.istore_n 1, 1) := by decide +kernel
theorem dX1_clear_5 : decode cX1_clear 5 = .ok (.aload_n 0, 1) := by decide +kernel
theorem dX1_clear_6 : decode cX1_clear 6 = .ok (.iconst 0, 1) := by decide +kernel
theorem dX1_clear_7 : decode cX1_clear 7 = .ok (.putfield 7, 3) := by decide +kernel
theorem dX1_clear_10 : decode cX1_clear 10 = .ok (.iload_n 1, 1) := by decide +kernel
theorem dX1_clear_11 : decode cX1_clear 11 = .ok (.ireturn, 1) := by decide +kernel
theorem q30 : (Jvm.Cond.initialized "PatternTreesModel") ∈ lw_all := lw_g (lw_at lw_m1 2 rfl) rfl
end
section
set_option maxRecDepth 100000
theorem q225 : (Jvm.Cond.instantiable "PatternTreesModel" (13 : Nat)) ∈ lw_all := lw_g (lw_at lw_m1 197 rfl) rfl
theorem q227 : (Jvm.Cond.instanceMethod ({ cls := "PatternTreesModel", name := "<init>", desc := "()V" } : Jvm.MethodName)) ∈ lw_all := lw_g (lw_at lw_m1 199 rfl) rfl
theorem q228 : (Jvm.Cond.code ({ cls := "PatternTreesModel", name := "<init>", desc := "()V" } : Jvm.MethodName) prog_3_method_1_code (1 : Nat) (Option.none : Option Jvm.ClassFile.FieldType)) ∈ lw_all := lw_g (lw_at lw_m1 200 rfl) rfl
theorem q229 : (Jvm.Cond.methodLink "PatternTreesModel" (1 : Nat) ({ cls := "java/lang/Object", name := "<init>", desc := "()V" } : Jvm.MethodName)) ∈ lw_all := lw_g (lw_at lw_m1 201 rfl) rfl
theorem q230 : (Jvm.Cond.fieldLink "PatternTreesModel" (7 : Nat) "PatternTreesModel" "n" "I") ∈ lw_all := lw_g (lw_at lw_m1 202 rfl) rfl
theorem q231 : (Jvm.Cond.fieldLink "PatternTreesModel" (13 : Nat) "PatternTreesModel" "kind" "[I") ∈ lw_all := lw_g (lw_at lw_m1 203 rfl) rfl
theorem q232 : (Jvm.Cond.fieldLink "PatternTreesModel" (17 : Nat) "PatternTreesModel" "a" "[I") ∈ lw_all := lw_g (lw_at lw_m1 204 rfl) rfl
theorem q233 : (Jvm.Cond.fieldLink "PatternTreesModel" (20 : Nat) "PatternTreesModel" "b" "[I") ∈ lw_all := lw_g (lw_at lw_m1 205 rfl) rfl
theorem q234 : (Jvm.Cond.fieldLink "PatternTreesModel" (23 : Nat) "PatternTreesModel" "least" "[I") ∈ lw_all := lw_g (lw_at lw_m1 206 rfl) rfl
theorem q235 : (Jvm.Cond.fieldLink "PatternTreesModel" (26 : Nat) "PatternTreesModel" "tokens" "I") ∈ lw_all := lw_g (lw_at lw_m1 207 rfl) rfl
theorem q236 : (Jvm.Cond.fieldLink "PatternTreesModel" (29 : Nat) "PatternTreesModel" "pattern" "[I") ∈ lw_all := lw_g (lw_at lw_m1 208 rfl) rfl
theorem q237 : (Jvm.Cond.fieldLink "PatternTreesModel" (32 : Nat) "PatternTreesModel" "bound" "[I") ∈ lw_all := lw_g (lw_at lw_m1 209 rfl) rfl
theorem q238 : (Jvm.Cond.fieldLink "PatternTreesModel" (35 : Nat) "PatternTreesModel" "kept" "[I") ∈ lw_all := lw_g (lw_at lw_m1 210 rfl) rfl
theorem q239 : (Jvm.Cond.fieldLink "PatternTreesModel" (38 : Nat) "PatternTreesModel" "stack" "[I") ∈ lw_all := lw_g (lw_at lw_m1 211 rfl) rfl
theorem q240 : (Jvm.Cond.fieldLink "PatternTreesModel" (78 : Nat) "PatternTreesModel" "wanted" "I") ∈ lw_all := lw_g (lw_at lw_m1 212 rfl) rfl
theorem q241 : (Jvm.Cond.fieldLink "PatternTreesModel" (72 : Nat) "PatternTreesModel" "counted" "I") ∈ lw_all := lw_g (lw_at lw_m1 213 rfl) rfl
theorem q242 : (Jvm.Cond.fieldLink "PatternTreesModel" (75 : Nat) "PatternTreesModel" "found" "I") ∈ lw_all := lw_g (lw_at lw_m1 214 rfl) rfl
theorem q243 : (Jvm.Cond.lays "PatternTreesModel" "PatternTreesModel" "n" "I") ∈ lw_all := lw_g (lw_at lw_m1 215 rfl) rfl
theorem q244 : (Jvm.Cond.soleField "PatternTreesModel" "n") ∈ lw_all := lw_g (lw_at lw_m1 216 rfl) rfl
theorem q245 : (Jvm.Cond.lays "PatternTreesModel" "PatternTreesModel" "kind" "[I") ∈ lw_all := lw_g (lw_at lw_m1 217 rfl) rfl
theorem q246 : (Jvm.Cond.soleField "PatternTreesModel" "kind") ∈ lw_all := lw_g (lw_at lw_m1 218 rfl) rfl
theorem q247 : (Jvm.Cond.lays "PatternTreesModel" "PatternTreesModel" "a" "[I") ∈ lw_all := lw_g (lw_at lw_m1 219 rfl) rfl
theorem q248 : (Jvm.Cond.soleField "PatternTreesModel" "a") ∈ lw_all := lw_g (lw_at lw_m1 220 rfl) rfl
theorem q249 : (Jvm.Cond.lays "PatternTreesModel" "PatternTreesModel" "b" "[I") ∈ lw_all := lw_g (lw_at lw_m1 221 rfl) rfl
theorem q250 : (Jvm.Cond.soleField "PatternTreesModel" "b") ∈ lw_all := lw_g (lw_at lw_m1 222 rfl) rfl
theorem q251 : (Jvm.Cond.lays "PatternTreesModel" "PatternTreesModel" "least" "[I") ∈ lw_all := lw_g (lw_at lw_m1 223 rfl) rfl
theorem q252 : (Jvm.Cond.soleField "PatternTreesModel" "least") ∈ lw_all := lw_g (lw_at lw_m1 224 rfl) rfl
theorem q253 : (Jvm.Cond.lays "PatternTreesModel" "PatternTreesModel" "tokens" "I") ∈ lw_all := lw_g (lw_at lw_m1 225 rfl) rfl
theorem q254 : (Jvm.Cond.soleField "PatternTreesModel" "tokens") ∈ lw_all := lw_g (lw_at lw_m1 226 rfl) rfl
theorem q255 : (Jvm.Cond.lays "PatternTreesModel" "PatternTreesModel" "pattern" "[I") ∈ lw_all := lw_g (lw_at lw_m1 227 rfl) rfl
theorem q256 : (Jvm.Cond.soleField "PatternTreesModel" "pattern") ∈ lw_all := lw_g (lw_at lw_m1 228 rfl) rfl
theorem q257 : (Jvm.Cond.lays "PatternTreesModel" "PatternTreesModel" "bound" "[I") ∈ lw_all := lw_g (lw_at lw_m1 229 rfl) rfl
theorem q258 : (Jvm.Cond.soleField "PatternTreesModel" "bound") ∈ lw_all := lw_g (lw_at lw_m1 230 rfl) rfl
theorem q259 : (Jvm.Cond.lays "PatternTreesModel" "PatternTreesModel" "kept" "[I") ∈ lw_all := lw_g (lw_at lw_m1 231 rfl) rfl
theorem q260 : (Jvm.Cond.soleField "PatternTreesModel" "kept") ∈ lw_all := lw_g (lw_at lw_m1 232 rfl) rfl
theorem q261 : (Jvm.Cond.lays "PatternTreesModel" "PatternTreesModel" "stack" "[I") ∈ lw_all := lw_g (lw_at lw_m1 233 rfl) rfl
theorem q262 : (Jvm.Cond.soleField "PatternTreesModel" "stack") ∈ lw_all := lw_g (lw_at lw_m1 234 rfl) rfl
theorem q263 : (Jvm.Cond.lays "PatternTreesModel" "PatternTreesModel" "wanted" "I") ∈ lw_all := lw_g (lw_at lw_m1 235 rfl) rfl
theorem q264 : (Jvm.Cond.soleField "PatternTreesModel" "wanted") ∈ lw_all := lw_g (lw_at lw_m1 236 rfl) rfl
theorem q265 : (Jvm.Cond.lays "PatternTreesModel" "PatternTreesModel" "counted" "I") ∈ lw_all := lw_g (lw_at lw_m1 237 rfl) rfl
theorem q266 : (Jvm.Cond.soleField "PatternTreesModel" "counted") ∈ lw_all := lw_g (lw_at lw_m1 238 rfl) rfl
theorem q267 : (Jvm.Cond.lays "PatternTreesModel" "PatternTreesModel" "found" "I") ∈ lw_all := lw_g (lw_at lw_m1 239 rfl) rfl
theorem q268 : (Jvm.Cond.soleField "PatternTreesModel" "found") ∈ lw_all := lw_g (lw_at lw_m2 0 rfl) rfl
theorem q269 : (Jvm.Cond.superclass "PatternTreesModel" "java/lang/Object") ∈ lw_all := lw_g (lw_at lw_m2 1 rfl) rfl
theorem q272 : (Jvm.Cond.instanceMethod ({ cls := "PatternTreesModel", name := "constant", desc := "(I)I" } : Jvm.MethodName)) ∈ lw_all := lw_g (lw_at lw_m2 4 rfl) rfl
theorem q273 : (Jvm.Cond.selects "PatternTreesModel" ({ cls := "PatternTreesModel", name := "constant", desc := "(I)I" } : Jvm.MethodName) ({ cls := "PatternTreesModel", name := "constant", desc := "(I)I" } : Jvm.MethodName)) ∈ lw_all := lw_g (lw_at lw_m2 5 rfl) rfl
theorem q274 : (Jvm.Cond.code ({ cls := "PatternTreesModel", name := "constant", desc := "(I)I" } : Jvm.MethodName) prog_3_method_4_code (2 : Nat) (Option.some Jvm.ClassFile.FieldType.int)) ∈ lw_all := lw_g (lw_at lw_m2 6 rfl) rfl
theorem q275 : (Jvm.Cond.methodLink "PatternTreesModel" (44 : Nat) ({ cls := "PatternTreesModel", name := "make", desc := "(III)I" } : Jvm.MethodName)) ∈ lw_all := lw_g (lw_at lw_m2 7 rfl) rfl
theorem q276 : (Jvm.Cond.privateMethod ({ cls := "PatternTreesModel", name := "make", desc := "(III)I" } : Jvm.MethodName)) ∈ lw_tbl := lw_at lw_m2 8 rfl
theorem q277 : (Jvm.Cond.instanceMethod ({ cls := "PatternTreesModel", name := "make", desc := "(III)I" } : Jvm.MethodName)) ∈ lw_all := lw_g (lw_at lw_m2 9 rfl) rfl
theorem q278 : (Jvm.Cond.code ({ cls := "PatternTreesModel", name := "make", desc := "(III)I" } : Jvm.MethodName) prog_3_method_3_code (5 : Nat) (Option.some Jvm.ClassFile.FieldType.int)) ∈ lw_all := lw_g (lw_at lw_m2 10 rfl) rfl
theorem q279 : (Jvm.Cond.methodLink "PatternTreesModel" (41 : Nat) ({ cls := "PatternTreesModel", name := "follow", desc := "()V" } : Jvm.MethodName)) ∈ lw_all := lw_g (lw_at lw_m2 11 rfl) rfl
theorem q280 : (Jvm.Cond.privateMethod ({ cls := "PatternTreesModel", name := "follow", desc := "()V" } : Jvm.MethodName)) ∈ lw_tbl := lw_at lw_m2 12 rfl
theorem q281 : (Jvm.Cond.instanceMethod ({ cls := "PatternTreesModel", name := "follow", desc := "()V" } : Jvm.MethodName)) ∈ lw_all := lw_g (lw_at lw_m2 13 rfl) rfl
theorem q282 : (Jvm.Cond.code ({ cls := "PatternTreesModel", name := "follow", desc := "()V" } : Jvm.MethodName) prog_3_method_9_code (4 : Nat) (Option.none : Option Jvm.ClassFile.FieldType)) ∈ lw_all := lw_g (lw_at lw_m2 14 rfl) rfl
theorem q283 : (Jvm.Cond.methodLink "PatternTreesModel" (52 : Nat) ({ cls := "PatternTreesModel", name := "alike", desc := "(II)Z" } : Jvm.MethodName)) ∈ lw_all := lw_g (lw_at lw_m2 15 rfl) rfl
theorem q284 : (Jvm.Cond.privateMethod ({ cls := "PatternTreesModel", name := "alike", desc := "(II)Z" } : Jvm.MethodName)) ∈ lw_tbl := lw_at lw_m2 16 rfl
theorem q285 : (Jvm.Cond.instanceMethod ({ cls := "PatternTreesModel", name := "alike", desc := "(II)Z" } : Jvm.MethodName)) ∈ lw_all := lw_g (lw_at lw_m2 17 rfl) rfl
theorem q286 : (Jvm.Cond.code ({ cls := "PatternTreesModel", name := "alike", desc := "(II)Z" } : Jvm.MethodName) prog_3_method_8_code (3 : Nat) (Option.some Jvm.ClassFile.FieldType.boolean)) ∈ lw_all := lw_g (lw_at lw_m2 18 rfl) rfl
theorem q287 : (Jvm.Cond.methodLink "PatternTreesModel" (56 : Nat) ({ cls := "PatternTreesModel", name := "join", desc := "(II)Z" } : Jvm.MethodName)) ∈ lw_all := lw_g (lw_at lw_m2 19 rfl) rfl
theorem q288 : (Jvm.Cond.privateMethod ({ cls := "PatternTreesModel", name := "join", desc := "(II)Z" } : Jvm.MethodName)) ∈ lw_tbl := lw_at lw_m2 20 rfl
theorem q289 : (Jvm.Cond.instanceMethod ({ cls := "PatternTreesModel", name := "join", desc := "(II)Z" } : Jvm.MethodName)) ∈ lw_all := lw_g (lw_at lw_m2 21 rfl) rfl
theorem q290 : (Jvm.Cond.code ({ cls := "PatternTreesModel", name := "join", desc := "(II)Z" } : Jvm.MethodName) prog_3_method_7_code (6 : Nat) (Option.some Jvm.ClassFile.FieldType.boolean)) ∈ lw_all := lw_g (lw_at lw_m2 22 rfl) rfl
theorem q292 : (Jvm.Cond.instanceMethod ({ cls := "PatternTreesModel", name := "one", desc := "(I)I" } : Jvm.MethodName)) ∈ lw_all := lw_g (lw_at lw_m2 24 rfl) rfl
theorem q293 : (Jvm.Cond.selects "PatternTreesModel" ({ cls := "PatternTreesModel", name := "one", desc := "(I)I" } : Jvm.MethodName) ({ cls := "PatternTreesModel", name := "one", desc := "(I)I" } : Jvm.MethodName)) ∈ lw_all := lw_g (lw_at lw_m2 25 rfl) rfl
theorem q294 : (Jvm.Cond.code ({ cls := "PatternTreesModel", name := "one", desc := "(I)I" } : Jvm.MethodName) prog_3_method_5_code (2 : Nat) (Option.some Jvm.ClassFile.FieldType.int)) ∈ lw_all := lw_g (lw_at lw_m2 26 rfl) rfl
theorem q295 : (Jvm.Cond.methodLink "PatternTreesModel" (48 : Nat) ({ cls := "PatternTreesModel", name := "isNode", desc := "(I)Z" } : Jvm.MethodName)) ∈ lw_all := lw_g (lw_at lw_m2 27 rfl) rfl
theorem q296 : (Jvm.Cond.privateMethod ({ cls := "PatternTreesModel", name := "isNode", desc := "(I)Z" } : Jvm.MethodName)) ∈ lw_tbl := lw_at lw_m2 28 rfl
theorem q297 : (Jvm.Cond.instanceMethod ({ cls := "PatternTreesModel", name := "isNode", desc := "(I)Z" } : Jvm.MethodName)) ∈ lw_all := lw_g (lw_at lw_m2 29 rfl) rfl
theorem q298 : (Jvm.Cond.code ({ cls := "PatternTreesModel", name := "isNode", desc := "(I)Z" } : Jvm.MethodName) prog_3_method_2_code (2 : Nat) (Option.some Jvm.ClassFile.FieldType.boolean)) ∈ lw_all := lw_g (lw_at lw_m2 30 rfl) rfl
theorem q300 : (Jvm.Cond.instanceMethod ({ cls := "PatternTreesModel", name := "two", desc := "(II)I" } : Jvm.MethodName)) ∈ lw_all := lw_g (lw_at lw_m2 32 rfl) rfl
theorem q301 : (Jvm.Cond.selects "PatternTreesModel" ({ cls := "PatternTreesModel", name := "two", desc := "(II)I" } : Jvm.MethodName) ({ cls := "PatternTreesModel", name := "two", desc := "(II)I" } : Jvm.MethodName)) ∈ lw_all := lw_g (lw_at lw_m2 33 rfl) rfl
theorem q302 : (Jvm.Cond.code ({ cls := "PatternTreesModel", name := "two", desc := "(II)I" } : Jvm.MethodName) prog_3_method_6_code (3 : Nat) (Option.some Jvm.ClassFile.FieldType.int)) ∈ lw_all := lw_g (lw_at lw_m2 34 rfl) rfl
theorem q304 : (Jvm.Cond.instanceMethod ({ cls := "PatternTreesModel", name := "equate", desc := "(II)I" } : Jvm.MethodName)) ∈ lw_all := lw_g (lw_at lw_m2 36 rfl) rfl
theorem q305 : (Jvm.Cond.selects "PatternTreesModel" ({ cls := "PatternTreesModel", name := "equate", desc := "(II)I" } : Jvm.MethodName) ({ cls := "PatternTreesModel", name := "equate", desc := "(II)I" } : Jvm.MethodName)) ∈ lw_all := lw_g (lw_at lw_m2 37 rfl) rfl
theorem q306 : (Jvm.Cond.code ({ cls := "PatternTreesModel", name := "equate", desc := "(II)I" } : Jvm.MethodName) prog_3_method_10_code (3 : Nat) (Option.some Jvm.ClassFile.FieldType.int)) ∈ lw_all := lw_g (lw_at lw_m2 38 rfl) rfl
theorem q307 : (Jvm.Cond.methodLink "PatternTreesModel" (59 : Nat) ({ cls := "PatternTreesModel", name := "classes", desc := "()I" } : Jvm.MethodName)) ∈ lw_all := lw_g (lw_at lw_m2 39 rfl) rfl
theorem q308 : (Jvm.Cond.instanceMethod ({ cls := "PatternTreesModel", name := "classes", desc := "()I" } : Jvm.MethodName)) ∈ lw_all := lw_g (lw_at lw_m2 40 rfl) rfl
theorem q309 : (Jvm.Cond.selects "PatternTreesModel" ({ cls := "PatternTreesModel", name := "classes", desc := "()I" } : Jvm.MethodName) ({ cls := "PatternTreesModel", name := "classes", desc := "()I" } : Jvm.MethodName)) ∈ lw_all := lw_g (lw_at lw_m2 41 rfl) rfl
theorem q310 : (Jvm.Cond.code ({ cls := "PatternTreesModel", name := "classes", desc := "()I" } : Jvm.MethodName) prog_3_method_12_code (3 : Nat) (Option.some Jvm.ClassFile.FieldType.int)) ∈ lw_all := lw_g (lw_at lw_m2 42 rfl) rfl
theorem q312 : (Jvm.Cond.instanceMethod ({ cls := "PatternTreesModel", name := "leader", desc := "(I)I" } : Jvm.MethodName)) ∈ lw_all := lw_g (lw_at lw_m2 44 rfl) rfl
theorem q313 : (Jvm.Cond.selects "PatternTreesModel" ({ cls := "PatternTreesModel", name := "leader", desc := "(I)I" } : Jvm.MethodName) ({ cls := "PatternTreesModel", name := "leader", desc := "(I)I" } : Jvm.MethodName)) ∈ lw_all := lw_g (lw_at lw_m2 45 rfl) rfl
theorem q314 : (Jvm.Cond.code ({ cls := "PatternTreesModel", name := "leader", desc := "(I)I" } : Jvm.MethodName) prog_3_method_11_code (2 : Nat) (Option.some Jvm.ClassFile.FieldType.int)) ∈ lw_all := lw_g (lw_at lw_m2 46 rfl) rfl
theorem q317 : (Jvm.Cond.instanceMethod ({ cls := "PatternTreesModel", name := "token", desc := "(I)I" } : Jvm.MethodName)) ∈ lw_all := lw_g (lw_at lw_m2 49 rfl) rfl
theorem q318 : (Jvm.Cond.selects "PatternTreesModel" ({ cls := "PatternTreesModel", name := "token", desc := "(I)I" } : Jvm.MethodName) ({ cls := "PatternTreesModel", name := "token", desc := "(I)I" } : Jvm.MethodName)) ∈ lw_all := lw_g (lw_at lw_m2 50 rfl) rfl
theorem q319 : (Jvm.Cond.code ({ cls := "PatternTreesModel", name := "token", desc := "(I)I" } : Jvm.MethodName) prog_3_method_13_code (2 : Nat) (Option.some Jvm.ClassFile.FieldType.int)) ∈ lw_all := lw_g (lw_at lw_m2 51 rfl) rfl
theorem q321 : (Jvm.Cond.instanceMethod ({ cls := "PatternTreesModel", name := "wipe", desc := "()I" } : Jvm.MethodName)) ∈ lw_all := lw_g (lw_at lw_m2 53 rfl) rfl
theorem q322 : (Jvm.Cond.selects "PatternTreesModel" ({ cls := "PatternTreesModel", name := "wipe", desc := "()I" } : Jvm.MethodName) ({ cls := "PatternTreesModel", name := "wipe", desc := "()I" } : Jvm.MethodName)) ∈ lw_all := lw_g (lw_at lw_m2 54 rfl) rfl
theorem q323 : (Jvm.Cond.code ({ cls := "PatternTreesModel", name := "wipe", desc := "()I" } : Jvm.MethodName) prog_3_method_14_code (2 : Nat) (Option.some Jvm.ClassFile.FieldType.int)) ∈ lw_all := lw_g (lw_at lw_m2 55 rfl) rfl
theorem q325 : (Jvm.Cond.instanceMethod ({ cls := "PatternTreesModel", name := "matches", desc := "()I" } : Jvm.MethodName)) ∈ lw_all := lw_g (lw_at lw_m2 57 rfl) rfl
theorem q326 : (Jvm.Cond.selects "PatternTreesModel" ({ cls := "PatternTreesModel", name := "matches", desc := "()I" } : Jvm.MethodName) ({ cls := "PatternTreesModel", name := "matches", desc := "()I" } : Jvm.MethodName)) ∈ lw_all := lw_g (lw_at lw_m2 58 rfl) rfl
theorem q327 : (Jvm.Cond.code ({ cls := "PatternTreesModel", name := "matches", desc := "()I" } : Jvm.MethodName) prog_3_method_22_code (1 : Nat) (Option.some Jvm.ClassFile.FieldType.int)) ∈ lw_all := lw_g (lw_at lw_m2 59 rfl) rfl
theorem q328 : (Jvm.Cond.methodLink "PatternTreesModel" (88 : Nat) ({ cls := "PatternTreesModel", name := "whole", desc := "()Z" } : Jvm.MethodName)) ∈ lw_all := lw_g (lw_at lw_m2 60 rfl) rfl
theorem q329 : (Jvm.Cond.privateMethod ({ cls := "PatternTreesModel", name := "whole", desc := "()Z" } : Jvm.MethodName)) ∈ lw_tbl := lw_at lw_m2 61 rfl
theorem q330 : (Jvm.Cond.instanceMethod ({ cls := "PatternTreesModel", name := "whole", desc := "()Z" } : Jvm.MethodName)) ∈ lw_all := lw_g (lw_at lw_m2 62 rfl) rfl
theorem q331 : (Jvm.Cond.code ({ cls := "PatternTreesModel", name := "whole", desc := "()Z" } : Jvm.MethodName) prog_3_method_15_code (3 : Nat) (Option.some Jvm.ClassFile.FieldType.boolean)) ∈ lw_all := lw_g (lw_at lw_m2 63 rfl) rfl
theorem q332 : (Jvm.Cond.methodLink "PatternTreesModel" (92 : Nat) ({ cls := "PatternTreesModel", name := "search", desc := "(II)V" } : Jvm.MethodName)) ∈ lw_all := lw_g (lw_at lw_m2 64 rfl) rfl
theorem q333 : (Jvm.Cond.privateMethod ({ cls := "PatternTreesModel", name := "search", desc := "(II)V" } : Jvm.MethodName)) ∈ lw_tbl := lw_at lw_m2 65 rfl
theorem q334 : (Jvm.Cond.instanceMethod ({ cls := "PatternTreesModel", name := "search", desc := "(II)V" } : Jvm.MethodName)) ∈ lw_all := lw_g (lw_at lw_m2 66 rfl) rfl
theorem q335 : (Jvm.Cond.code ({ cls := "PatternTreesModel", name := "search", desc := "(II)V" } : Jvm.MethodName) prog_3_method_21_code (5 : Nat) (Option.none : Option Jvm.ClassFile.FieldType)) ∈ lw_all := lw_g (lw_at lw_m2 67 rfl) rfl
theorem q336 : (Jvm.Cond.methodLink "PatternTreesModel" (81 : Nat) ({ cls := "PatternTreesModel", name := "tried", desc := "(II)Z" } : Jvm.MethodName)) ∈ lw_all := lw_g (lw_at lw_m2 68 rfl) rfl
theorem q337 : (Jvm.Cond.privateMethod ({ cls := "PatternTreesModel", name := "tried", desc := "(II)Z" } : Jvm.MethodName)) ∈ lw_tbl := lw_at lw_m2 69 rfl
theorem q338 : (Jvm.Cond.instanceMethod ({ cls := "PatternTreesModel", name := "tried", desc := "(II)Z" } : Jvm.MethodName)) ∈ lw_all := lw_g (lw_at lw_m2 70 rfl) rfl
theorem q339 : (Jvm.Cond.code ({ cls := "PatternTreesModel", name := "tried", desc := "(II)Z" } : Jvm.MethodName) prog_3_method_19_code (3 : Nat) (Option.some Jvm.ClassFile.FieldType.boolean)) ∈ lw_all := lw_g (lw_at lw_m2 71 rfl) rfl
theorem q340 : (Jvm.Cond.methodLink "PatternTreesModel" (66 : Nat) ({ cls := "PatternTreesModel", name := "hasVariable", desc := "(I)Z" } : Jvm.MethodName)) ∈ lw_all := lw_g (lw_at lw_m2 72 rfl) rfl
theorem q341 : (Jvm.Cond.privateMethod ({ cls := "PatternTreesModel", name := "hasVariable", desc := "(I)Z" } : Jvm.MethodName)) ∈ lw_tbl := lw_at lw_m2 73 rfl
theorem q342 : (Jvm.Cond.instanceMethod ({ cls := "PatternTreesModel", name := "hasVariable", desc := "(I)Z" } : Jvm.MethodName)) ∈ lw_all := lw_g (lw_at lw_m2 74 rfl) rfl
theorem q343 : (Jvm.Cond.code ({ cls := "PatternTreesModel", name := "hasVariable", desc := "(I)Z" } : Jvm.MethodName) prog_3_method_16_code (3 : Nat) (Option.some Jvm.ClassFile.FieldType.boolean)) ∈ lw_all := lw_g (lw_at lw_m2 75 rfl) rfl
theorem q344 : (Jvm.Cond.methodLink "PatternTreesModel" (84 : Nat) ({ cls := "PatternTreesModel", name := "look", desc := "(I)V" } : Jvm.MethodName)) ∈ lw_all := lw_g (lw_at lw_m2 76 rfl) rfl
theorem q345 : (Jvm.Cond.privateMethod ({ cls := "PatternTreesModel", name := "look", desc := "(I)V" } : Jvm.MethodName)) ∈ lw_tbl := lw_at lw_m2 77 rfl
theorem q346 : (Jvm.Cond.instanceMethod ({ cls := "PatternTreesModel", name := "look", desc := "(I)V" } : Jvm.MethodName)) ∈ lw_all := lw_g (lw_at lw_m2 78 rfl) rfl
theorem q347 : (Jvm.Cond.code ({ cls := "PatternTreesModel", name := "look", desc := "(I)V" } : Jvm.MethodName) prog_3_method_20_code (4 : Nat) (Option.none : Option Jvm.ClassFile.FieldType)) ∈ lw_all := lw_g (lw_at lw_m2 79 rfl) rfl
theorem q348 : (Jvm.Cond.methodLink "PatternTreesModel" (69 : Nat) ({ cls := "PatternTreesModel", name := "value", desc := "()I" } : Jvm.MethodName)) ∈ lw_all := lw_g (lw_at lw_m2 80 rfl) rfl
theorem q349 : (Jvm.Cond.privateMethod ({ cls := "PatternTreesModel", name := "value", desc := "()I" } : Jvm.MethodName)) ∈ lw_tbl := lw_at lw_m2 81 rfl
theorem q350 : (Jvm.Cond.instanceMethod ({ cls := "PatternTreesModel", name := "value", desc := "()I" } : Jvm.MethodName)) ∈ lw_all := lw_g (lw_at lw_m2 82 rfl) rfl
theorem q351 : (Jvm.Cond.code ({ cls := "PatternTreesModel", name := "value", desc := "()I" } : Jvm.MethodName) prog_3_method_18_code (6 : Nat) (Option.some Jvm.ClassFile.FieldType.int)) ∈ lw_all := lw_g (lw_at lw_m2 83 rfl) rfl
theorem q352 : (Jvm.Cond.methodLink "PatternTreesModel" (63 : Nat) ({ cls := "PatternTreesModel", name := "over", desc := "(III)I" } : Jvm.MethodName)) ∈ lw_all := lw_g (lw_at lw_m2 84 rfl) rfl
theorem q353 : (Jvm.Cond.privateMethod ({ cls := "PatternTreesModel", name := "over", desc := "(III)I" } : Jvm.MethodName)) ∈ lw_tbl := lw_at lw_m2 85 rfl
theorem q354 : (Jvm.Cond.instanceMethod ({ cls := "PatternTreesModel", name := "over", desc := "(III)I" } : Jvm.MethodName)) ∈ lw_all := lw_g (lw_at lw_m2 86 rfl) rfl
theorem q355 : (Jvm.Cond.code ({ cls := "PatternTreesModel", name := "over", desc := "(III)I" } : Jvm.MethodName) prog_3_method_17_code (6 : Nat) (Option.some Jvm.ClassFile.FieldType.int)) ∈ lw_all := lw_g (lw_at lw_m2 87 rfl) rfl
theorem q357 : (Jvm.Cond.instanceMethod ({ cls := "PatternTreesModel", name := "matchesAt", desc := "(I)I" } : Jvm.MethodName)) ∈ lw_all := lw_g (lw_at lw_m2 89 rfl) rfl
theorem q358 : (Jvm.Cond.selects "PatternTreesModel" ({ cls := "PatternTreesModel", name := "matchesAt", desc := "(I)I" } : Jvm.MethodName) ({ cls := "PatternTreesModel", name := "matchesAt", desc := "(I)I" } : Jvm.MethodName)) ∈ lw_all := lw_g (lw_at lw_m2 90 rfl) rfl
theorem q359 : (Jvm.Cond.code ({ cls := "PatternTreesModel", name := "matchesAt", desc := "(I)I" } : Jvm.MethodName) prog_3_method_23_code (2 : Nat) (Option.some Jvm.ClassFile.FieldType.int)) ∈ lw_all := lw_g (lw_at lw_m2 91 rfl) rfl
theorem q361 : (Jvm.Cond.instanceMethod ({ cls := "PatternTreesModel", name := "binding", desc := "(II)I" } : Jvm.MethodName)) ∈ lw_all := lw_g (lw_at lw_m2 93 rfl) rfl
theorem q362 : (Jvm.Cond.selects "PatternTreesModel" ({ cls := "PatternTreesModel", name := "binding", desc := "(II)I" } : Jvm.MethodName) ({ cls := "PatternTreesModel", name := "binding", desc := "(II)I" } : Jvm.MethodName)) ∈ lw_all := lw_g (lw_at lw_m2 94 rfl) rfl
theorem q363 : (Jvm.Cond.code ({ cls := "PatternTreesModel", name := "binding", desc := "(II)I" } : Jvm.MethodName) prog_3_method_24_code (3 : Nat) (Option.some Jvm.ClassFile.FieldType.int)) ∈ lw_all := lw_g (lw_at lw_m2 95 rfl) rfl
theorem q365 : (Jvm.Cond.instanceMethod ({ cls := "PatternTreesModel", name := "clear", desc := "()I" } : Jvm.MethodName)) ∈ lw_all := lw_g (lw_at lw_m2 97 rfl) rfl
theorem q366 : (Jvm.Cond.selects "PatternTreesModel" ({ cls := "PatternTreesModel", name := "clear", desc := "()I" } : Jvm.MethodName) ({ cls := "PatternTreesModel", name := "clear", desc := "()I" } : Jvm.MethodName)) ∈ lw_all := lw_g (lw_at lw_m2 98 rfl) rfl
theorem q367 : (Jvm.Cond.code ({ cls := "PatternTreesModel", name := "clear", desc := "()I" } : Jvm.MethodName) prog_3_method_25_code (2 : Nat) (Option.some Jvm.ClassFile.FieldType.int)) ∈ lw_all := lw_g (lw_at lw_m2 99 rfl) rfl
theorem in_X1 : ∀ w ∈ wsX10, w ∈ lw_all := lw_in wsX10 [243, 245, 247, 249, 251, 253, 255, 257, 259, 261, 263, 265, 267] (by decide +kernel) (by decide +kernel)
end
section
set_option maxRecDepth 100000
/-! the law's own entry -/
abbrev cL_law : ByteArray := code
theorem dL_law_0 : decode cL_law 0 = .ok (.new 7, 3) := by decide +kernel
theorem dL_law_3 : decode cL_law 3 = .ok (.dup, 1) := by decide +kernel
theorem dL_law_4 : decode cL_law 4 = .ok (.invokespecial 9, 3) := by decide +kernel
theorem dL_law_7 : decode cL_law 7 = .ok (.astore_n 1, 1) := by decide +kernel
theorem dL_law_8 : decode cL_law 8 = .ok (.new 10, 3) := by decide +kernel
theorem dL_law_11 : decode cL_law 11 = .ok (.dup, 1) := by decide +kernel
theorem dL_law_12 : decode cL_law 12 = .ok (.invokespecial 12, 3) := by decide +kernel
theorem dL_law_15 : decode cL_law 15 = .ok (.astore_n 2, 1) := by decide +kernel
theorem dL_law_16 : decode cL_law 16 = .ok (.iconst 0, 1) := by decide +kernel
theorem dL_law_17 : decode cL_law 17 = .ok (.istore_n 3, 1) := by decide +kernel
theorem dL_law_18 : decode cL_law 18 = .ok (.iload_n 3, 1) := by decide +kernel
theorem dL_law_19 : decode cL_law 19 = .ok (.aload_n 0, 1) := by decide +kernel
theorem dL_law_20 : decode cL_law 20 = .ok (.arraylength, 1) := by decide +kernel
theorem dL_law_21 : decode cL_law 21 = .ok (.iconst 3, 1) := by decide +kernel
theorem dL_law_22 : decode cL_law 22 = .ok (.isub, 1) := by decide +kernel
theorem dL_law_23 : decode cL_law 23 = .ok (.if_icmp .gt 345, 3) := by decide +kernel
theorem dL_law_26 : decode cL_law 26 = .ok (.aload_n 0, 1) := by decide +kernel
theorem dL_law_27 : decode cL_law 27 = .ok (.iload_n 3, 1) := by decide +kernel
theorem dL_law_28 : decode cL_law 28 = .ok (.iaload, 1) := by decide +kernel
theorem dL_law_29 : decode cL_law 29 = .ok (.bipush 15, 2) := by decide +kernel
theorem dL_law_31 : decode cL_law 31 = .ok (.iand, 1) := by decide +kernel
theorem dL_law_32 : decode cL_law 32 = .ok (.tableswitch 330 0 11 #[64, 87, 110, 143, 176, 199, 212, 235, 248, 261, 284, 317], 64) := by decide +kernel
theorem dL_law_96 : decode cL_law 96 = .ok (.aload_n 1, 1) := by decide +kernel
theorem dL_law_97 : decode cL_law 97 = .ok (.aload_n 0, 1) := by decide +kernel
theorem dL_law_98 : decode cL_law 98 = .ok (.iload_n 3, 1) := by decide +kernel
theorem dL_law_99 : decode cL_law 99 = .ok (.iconst 1, 1) := by decide +kernel
theorem dL_law_100 : decode cL_law 100 = .ok (.iadd, 1) := by decide +kernel
theorem dL_law_101 : decode cL_law 101 = .ok (.iaload, 1) := by decide +kernel
theorem dL_law_102 : decode cL_law 102 = .ok (.invokevirtual 13, 3) := by decide +kernel
theorem dL_law_105 : decode cL_law 105 = .ok (.aload_n 2, 1) := by decide +kernel
theorem dL_law_106 : decode cL_law 106 = .ok (.aload_n 0, 1) := by decide +kernel
theorem dL_law_107 : decode cL_law 107 = .ok (.iload_n 3, 1) := by decide +kernel
theorem dL_law_108 : decode cL_law 108 = .ok (.iconst 1, 1) := by decide +kernel
theorem dL_law_109 : decode cL_law 109 = .ok (.iadd, 1) := by decide +kernel
theorem dL_law_110 : decode cL_law 110 = .ok (.iaload, 1) := by decide +kernel
theorem dL_law_111 : decode cL_law 111 = .ok (.invokevirtual 17, 3) := by decide +kernel
theorem dL_law_114 : decode cL_law 114 = .ok (.if_icmp .eq 248, 3) := by decide +kernel
theorem dL_law_117 : decode cL_law 117 = .ok (.iconst 0, 1) := by decide +kernel
theorem dL_law_118 : decode cL_law 118 = .ok (.ireturn, 1) := by decide +kernel
theorem dL_law_119 : decode cL_law 119 = .ok (.aload_n 1, 1) := by decide +kernel
theorem dL_law_120 : decode cL_law 120 = .ok (.aload_n 0, 1) := by decide +kernel
theorem dL_law_121 : decode cL_law 121 = .ok (.iload_n 3, 1) := by decide +kernel
theorem dL_law_122 : decode cL_law 122 = .ok (.iconst 1, 1) := by decide +kernel
theorem dL_law_123 : decode cL_law 123 = .ok (.iadd, 1) := by decide +kernel
theorem dL_law_124 : decode cL_law 124 = .ok (.iaload, 1) := by decide +kernel
theorem dL_law_125 : decode cL_law 125 = .ok (.invokevirtual 18, 3) := by decide +kernel
theorem dL_law_128 : decode cL_law 128 = .ok (.aload_n 2, 1) := by decide +kernel
theorem dL_law_129 : decode cL_law 129 = .ok (.aload_n 0, 1) := by decide +kernel
theorem dL_law_130 : decode cL_law 130 = .ok (.iload_n 3, 1) := by decide +kernel
theorem dL_law_131 : decode cL_law 131 = .ok (.iconst 1, 1) := by decide +kernel
theorem dL_law_132 : decode cL_law 132 = .ok (.iadd, 1) := by decide +kernel
theorem dL_law_133 : decode cL_law 133 = .ok (.iaload, 1) := by decide +kernel
theorem dL_law_134 : decode cL_law 134 = .ok (.invokevirtual 21, 3) := by decide +kernel
theorem dL_law_137 : decode cL_law 137 = .ok (.if_icmp .eq 225, 3) := by decide +kernel
theorem dL_law_140 : decode cL_law 140 = .ok (.iconst 0, 1) := by decide +kernel
theorem dL_law_141 : decode cL_law 141 = .ok (.ireturn, 1) := by decide +kernel
theorem dL_law_142 : decode cL_law 142 = .ok (.aload_n 1, 1) := by decide +kernel
theorem dL_law_143 : decode cL_law 143 = .ok (.aload_n 0, 1) := by decide +kernel
theorem dL_law_144 : decode cL_law 144 = .ok (.iload_n 3, 1) := by decide +kernel
theorem dL_law_145 : decode cL_law 145 = .ok (.iconst 1, 1) := by decide +kernel
theorem dL_law_146 : decode cL_law 146 = .ok (.iadd, 1) := by decide +kernel
theorem dL_law_147 : decode cL_law 147 = .ok (.iaload, 1) := by decide +kernel
theorem dL_law_148 : decode cL_law 148 = .ok (.aload_n 0, 1) := by decide +kernel
theorem dL_law_149 : decode cL_law 149 = .ok (.iload_n 3, 1) := by decide +kernel
theorem dL_law_150 : decode cL_law 150 = .ok (.iconst 2, 1) := by decide +kernel
theorem dL_law_151 : decode cL_law 151 = .ok (.iadd, 1) := by decide +kernel
theorem dL_law_152 : decode cL_law 152 = .ok (.iaload, 1) := by decide +kernel
theorem dL_law_153 : decode cL_law 153 = .ok (.invokevirtual 22, 3) := by decide +kernel
theorem dL_law_156 : decode cL_law 156 = .ok (.aload_n 2, 1) := by decide +kernel
theorem dL_law_157 : decode cL_law 157 = .ok (.aload_n 0, 1) := by decide +kernel
theorem dL_law_158 : decode cL_law 158 = .ok (.iload_n 3, 1) := by decide +kernel
theorem dL_law_159 : decode cL_law 159 = .ok (.iconst 1, 1) := by decide +kernel
theorem dL_law_160 : decode cL_law 160 = .ok (.iadd, 1) := by decide +kernel
theorem dL_law_161 : decode cL_law 161 = .ok (.iaload, 1) := by decide +kernel
theorem dL_law_162 : decode cL_law 162 = .ok (.aload_n 0, 1) := by decide +kernel
theorem dL_law_163 : decode cL_law 163 = .ok (.iload_n 3, 1) := by decide +kernel
theorem dL_law_164 : decode cL_law 164 = .ok (.iconst 2, 1) := by decide +kernel
theorem dL_law_165 : decode cL_law 165 = .ok (.iadd, 1) := by decide +kernel
theorem dL_law_166 : decode cL_law 166 = .ok (.iaload, 1) := by decide +kernel
theorem dL_law_167 : decode cL_law 167 = .ok (.invokevirtual 26, 3) := by decide +kernel
theorem dL_law_170 : decode cL_law 170 = .ok (.if_icmp .eq 192, 3) := by decide +kernel
theorem dL_law_173 : decode cL_law 173 = .ok (.iconst 0, 1) := by decide +kernel
theorem dL_law_174 : decode cL_law 174 = .ok (.ireturn, 1) := by decide +kernel
theorem dL_law_175 : decode cL_law 175 = .ok (.aload_n 1, 1) := by decide +kernel
theorem dL_law_176 : decode cL_law 176 = .ok (.aload_n 0, 1) := by decide +kernel
theorem dL_law_177 : decode cL_law 177 = .ok (.iload_n 3, 1) := by decide +kernel
theorem dL_law_178 : decode cL_law 178 = .ok (.iconst 1, 1) := by decide +kernel
theorem dL_law_179 : decode cL_law 179 = .ok (.iadd, 1) := by decide +kernel
theorem dL_law_180 : decode cL_law 180 = .ok (.iaload, 1) := by decide +kernel
theorem dL_law_181 : decode cL_law 181 = .ok (.aload_n 0, 1) := by decide +kernel
theorem dL_law_182 : decode cL_law 182 = .ok (.iload_n 3, 1) := by decide +kernel
theorem dL_law_183 : decode cL_law 183 = .ok (.iconst 2, 1) := by decide +kernel
theorem dL_law_184 : decode cL_law 184 = .ok (.iadd, 1) := by decide +kernel
theorem dL_law_185 : decode cL_law 185 = .ok (.iaload, 1) := by decide +kernel
theorem dL_law_186 : decode cL_law 186 = .ok (.invokevirtual 27, 3) := by decide +kernel
theorem dL_law_189 : decode cL_law 189 = .ok (.aload_n 2, 1) := by decide +kernel
theorem dL_law_190 : decode cL_law 190 = .ok (.aload_n 0, 1) := by decide +kernel
theorem dL_law_191 : decode cL_law 191 = .ok (.iload_n 3, 1) := by decide +kernel
theorem dL_law_192 : decode cL_law 192 = .ok (.iconst 1, 1) := by decide +kernel
theorem dL_law_193 : decode cL_law 193 = .ok (.iadd, 1) := by decide +kernel
theorem dL_law_194 : decode cL_law 194 = .ok (.iaload, 1) := by decide +kernel
theorem dL_law_195 : decode cL_law 195 = .ok (.aload_n 0, 1) := by decide +kernel
theorem dL_law_196 : decode cL_law 196 = .ok (.iload_n 3, 1) := by decide +kernel
theorem dL_law_197 : decode cL_law 197 = .ok (.iconst 2, 1) := by decide +kernel
theorem dL_law_198 : decode cL_law 198 = .ok (.iadd, 1) := by decide +kernel
theorem dL_law_199 : decode cL_law 199 = .ok (.iaload, 1) := by decide +kernel
theorem dL_law_200 : decode cL_law 200 = .ok (.invokevirtual 30, 3) := by decide +kernel
theorem dL_law_203 : decode cL_law 203 = .ok (.if_icmp .eq 159, 3) := by decide +kernel
theorem dL_law_206 : decode cL_law 206 = .ok (.iconst 0, 1) := by decide +kernel
theorem dL_law_207 : decode cL_law 207 = .ok (.ireturn, 1) := by decide +kernel
theorem dL_law_208 : decode cL_law 208 = .ok (.aload_n 1, 1) := by decide +kernel
theorem dL_law_209 : decode cL_law 209 = .ok (.aload_n 0, 1) := by decide +kernel
theorem dL_law_210 : decode cL_law 210 = .ok (.iload_n 3, 1) := by decide +kernel
theorem dL_law_211 : decode cL_law 211 = .ok (.iconst 1, 1) := by decide +kernel
theorem dL_law_212 : decode cL_law 212 = .ok (.iadd, 1) := by decide +kernel
theorem dL_law_213 : decode cL_law 213 = .ok (.iaload, 1) := by decide +kernel
theorem dL_law_214 : decode cL_law 214 = .ok (.invokevirtual 31, 3) := by decide +kernel
theorem dL_law_217 : decode cL_law 217 = .ok (.aload_n 2, 1) := by decide +kernel
theorem dL_law_218 : decode cL_law 218 = .ok (.aload_n 0, 1) := by decide +kernel
theorem dL_law_219 : decode cL_law 219 = .ok (.iload_n 3, 1) := by decide +kernel
theorem dL_law_220 : decode cL_law 220 = .ok (.iconst 1, 1) := by decide +kernel
theorem dL_law_221 : decode cL_law 221 = .ok (.iadd, 1) := by decide +kernel
theorem dL_law_222 : decode cL_law 222 = .ok (.iaload, 1) := by decide +kernel
theorem dL_law_223 : decode cL_law 223 = .ok (.invokevirtual 34, 3) := by decide +kernel
theorem dL_law_226 : decode cL_law 226 = .ok (.if_icmp .eq 136, 3) := by decide +kernel
theorem dL_law_229 : decode cL_law 229 = .ok (.iconst 0, 1) := by decide +kernel
theorem dL_law_230 : decode cL_law 230 = .ok (.ireturn, 1) := by decide +kernel
theorem dL_law_231 : decode cL_law 231 = .ok (.aload_n 1, 1) := by decide +kernel
theorem dL_law_232 : decode cL_law 232 = .ok (.invokevirtual 35, 3) := by decide +kernel
theorem dL_law_235 : decode cL_law 235 = .ok (.aload_n 2, 1) := by decide +kernel
theorem dL_law_236 : decode cL_law 236 = .ok (.invokevirtual 39, 3) := by decide +kernel
theorem dL_law_239 : decode cL_law 239 = .ok (.if_icmp .eq 123, 3) := by decide +kernel
theorem dL_law_242 : decode cL_law 242 = .ok (.iconst 0, 1) := by decide +kernel
theorem dL_law_243 : decode cL_law 243 = .ok (.ireturn, 1) := by decide +kernel
theorem dL_law_244 : decode cL_law 244 = .ok (.aload_n 1, 1) := by decide +kernel
theorem dL_law_245 : decode cL_law 245 = .ok (.aload_n 0, 1) := by decide +kernel
theorem dL_law_246 : decode cL_law 246 = .ok (.iload_n 3, 1) := by decide +kernel
theorem dL_law_247 : decode cL_law 247 = .ok (.iconst 1, 1) := by decide +kernel
theorem dL_law_248 : decode cL_law 248 = .ok (.iadd, 1) := by decide +kernel
theorem dL_law_249 : decode cL_law 249 = .ok (.iaload, 1) := by decide +kernel
theorem dL_law_250 : decode cL_law 250 = .ok (.invokevirtual 40, 3) := by decide +kernel
theorem dL_law_253 : decode cL_law 253 = .ok (.aload_n 2, 1) := by decide +kernel
theorem dL_law_254 : decode cL_law 254 = .ok (.aload_n 0, 1) := by decide +kernel
theorem dL_law_255 : decode cL_law 255 = .ok (.iload_n 3, 1) := by decide +kernel
theorem dL_law_256 : decode cL_law 256 = .ok (.iconst 1, 1) := by decide +kernel
theorem dL_law_257 : decode cL_law 257 = .ok (.iadd, 1) := by decide +kernel
theorem dL_law_258 : decode cL_law 258 = .ok (.iaload, 1) := by decide +kernel
theorem dL_law_259 : decode cL_law 259 = .ok (.invokevirtual 43, 3) := by decide +kernel
theorem dL_law_262 : decode cL_law 262 = .ok (.if_icmp .eq 100, 3) := by decide +kernel
theorem dL_law_265 : decode cL_law 265 = .ok (.iconst 0, 1) := by decide +kernel
theorem dL_law_266 : decode cL_law 266 = .ok (.ireturn, 1) := by decide +kernel
theorem dL_law_267 : decode cL_law 267 = .ok (.aload_n 1, 1) := by decide +kernel
theorem dL_law_268 : decode cL_law 268 = .ok (.invokevirtual 44, 3) := by decide +kernel
theorem dL_law_271 : decode cL_law 271 = .ok (.aload_n 2, 1) := by decide +kernel
theorem dL_law_272 : decode cL_law 272 = .ok (.invokevirtual 47, 3) := by decide +kernel
theorem dL_law_275 : decode cL_law 275 = .ok (.if_icmp .eq 87, 3) := by decide +kernel
theorem dL_law_278 : decode cL_law 278 = .ok (.iconst 0, 1) := by decide +kernel
theorem dL_law_279 : decode cL_law 279 = .ok (.ireturn, 1) := by decide +kernel
theorem dL_law_280 : decode cL_law 280 = .ok (.aload_n 1, 1) := by decide +kernel
theorem dL_law_281 : decode cL_law 281 = .ok (.invokevirtual 48, 3) := by decide +kernel
theorem dL_law_284 : decode cL_law 284 = .ok (.aload_n 2, 1) := by decide +kernel
theorem dL_law_285 : decode cL_law 285 = .ok (.invokevirtual 51, 3) := by decide +kernel
theorem dL_law_288 : decode cL_law 288 = .ok (.if_icmp .eq 74, 3) := by decide +kernel
theorem dL_law_291 : decode cL_law 291 = .ok (.iconst 0, 1) := by decide +kernel
theorem dL_law_292 : decode cL_law 292 = .ok (.ireturn, 1) := by decide +kernel
theorem dL_law_293 : decode cL_law 293 = .ok (.aload_n 1, 1) := by decide +kernel
theorem dL_law_294 : decode cL_law 294 = .ok (.aload_n 0, 1) := by decide +kernel
theorem dL_law_295 : decode cL_law 295 = .ok (.iload_n 3, 1) := by decide +kernel
theorem dL_law_296 : decode cL_law 296 = .ok (.iconst 1, 1) := by decide +kernel
theorem dL_law_297 : decode cL_law 297 = .ok (.iadd, 1) := by decide +kernel
theorem dL_law_298 : decode cL_law 298 = .ok (.iaload, 1) := by decide +kernel
theorem dL_law_299 : decode cL_law 299 = .ok (.invokevirtual 52, 3) := by decide +kernel
theorem dL_law_302 : decode cL_law 302 = .ok (.aload_n 2, 1) := by decide +kernel
theorem dL_law_303 : decode cL_law 303 = .ok (.aload_n 0, 1) := by decide +kernel
theorem dL_law_304 : decode cL_law 304 = .ok (.iload_n 3, 1) := by decide +kernel
theorem dL_law_305 : decode cL_law 305 = .ok (.iconst 1, 1) := by decide +kernel
theorem dL_law_306 : decode cL_law 306 = .ok (.iadd, 1) := by decide +kernel
theorem dL_law_307 : decode cL_law 307 = .ok (.iaload, 1) := by decide +kernel
theorem dL_law_308 : decode cL_law 308 = .ok (.invokevirtual 55, 3) := by decide +kernel
theorem dL_law_311 : decode cL_law 311 = .ok (.if_icmp .eq 51, 3) := by decide +kernel
theorem dL_law_314 : decode cL_law 314 = .ok (.iconst 0, 1) := by decide +kernel
theorem dL_law_315 : decode cL_law 315 = .ok (.ireturn, 1) := by decide +kernel
theorem dL_law_316 : decode cL_law 316 = .ok (.aload_n 1, 1) := by decide +kernel
theorem dL_law_317 : decode cL_law 317 = .ok (.aload_n 0, 1) := by decide +kernel
theorem dL_law_318 : decode cL_law 318 = .ok (.iload_n 3, 1) := by decide +kernel
theorem dL_law_319 : decode cL_law 319 = .ok (.iconst 1, 1) := by decide +kernel
theorem dL_law_320 : decode cL_law 320 = .ok (.iadd, 1) := by decide +kernel
theorem dL_law_321 : decode cL_law 321 = .ok (.iaload, 1) := by decide +kernel
theorem dL_law_322 : decode cL_law 322 = .ok (.aload_n 0, 1) := by decide +kernel
theorem dL_law_323 : decode cL_law 323 = .ok (.iload_n 3, 1) := by decide +kernel
theorem dL_law_324 : decode cL_law 324 = .ok (.iconst 2, 1) := by decide +kernel
theorem dL_law_325 : decode cL_law 325 = .ok (.iadd, 1) := by decide +kernel
theorem dL_law_326 : decode cL_law 326 = .ok (.iaload, 1) := by decide +kernel
theorem dL_law_327 : decode cL_law 327 = .ok (.invokevirtual 56, 3) := by decide +kernel
theorem dL_law_330 : decode cL_law 330 = .ok (.aload_n 2, 1) := by decide +kernel
theorem dL_law_331 : decode cL_law 331 = .ok (.aload_n 0, 1) := by decide +kernel
theorem dL_law_332 : decode cL_law 332 = .ok (.iload_n 3, 1) := by decide +kernel
theorem dL_law_333 : decode cL_law 333 = .ok (.iconst 1, 1) := by decide +kernel
theorem dL_law_334 : decode cL_law 334 = .ok (.iadd, 1) := by decide +kernel
theorem dL_law_335 : decode cL_law 335 = .ok (.iaload, 1) := by decide +kernel
theorem dL_law_336 : decode cL_law 336 = .ok (.aload_n 0, 1) := by decide +kernel
theorem dL_law_337 : decode cL_law 337 = .ok (.iload_n 3, 1) := by decide +kernel
theorem dL_law_338 : decode cL_law 338 = .ok (.iconst 2, 1) := by decide +kernel
theorem dL_law_339 : decode cL_law 339 = .ok (.iadd, 1) := by decide +kernel
theorem dL_law_340 : decode cL_law 340 = .ok (.iaload, 1) := by decide +kernel
theorem dL_law_341 : decode cL_law 341 = .ok (.invokevirtual 59, 3) := by decide +kernel
theorem dL_law_344 : decode cL_law 344 = .ok (.if_icmp .eq 18, 3) := by decide +kernel
theorem dL_law_347 : decode cL_law 347 = .ok (.iconst 0, 1) := by decide +kernel
theorem dL_law_348 : decode cL_law 348 = .ok (.ireturn, 1) := by decide +kernel
theorem dL_law_349 : decode cL_law 349 = .ok (.aload_n 1, 1) := by decide +kernel
theorem dL_law_350 : decode cL_law 350 = .ok (.invokevirtual 60, 3) := by decide +kernel
theorem dL_law_353 : decode cL_law 353 = .ok (.aload_n 2, 1) := by decide +kernel
theorem dL_law_354 : decode cL_law 354 = .ok (.invokevirtual 63, 3) := by decide +kernel
theorem dL_law_357 : decode cL_law 357 = .ok (.if_icmp .eq 5, 3) := by decide +kernel
theorem dL_law_360 : decode cL_law 360 = .ok (.iconst 0, 1) := by decide +kernel
theorem dL_law_361 : decode cL_law 361 = .ok (.ireturn, 1) := by decide +kernel
theorem dL_law_362 : decode cL_law 362 = .ok (.iinc 3 3, 3) := by decide +kernel
theorem dL_law_365 : decode cL_law 365 = .ok (.goto (-347), 3) := by decide +kernel
theorem dL_law_368 : decode cL_law 368 = .ok (.iconst 1, 1) := by decide +kernel
theorem dL_law_369 : decode cL_law 369 = .ok (.ireturn, 1) := by decide +kernel
end
section
set_option maxRecDepth 100000
theorem q109 : (Jvm.Cond.arrayClass Jvm.ClassFile.FieldType.byte) ∈ lw_all := lw_g (lw_at lw_m1 81 rfl) rfl
theorem q110 : (Jvm.Cond.arrayClass Jvm.ClassFile.FieldType.long) ∈ lw_all := lw_g (lw_at lw_m1 82 rfl) rfl
theorem q270 : (Jvm.Cond.arrayClass Jvm.ClassFile.FieldType.int) ∈ lw_all := lw_g (lw_at lw_m2 2 rfl) rfl
/-! java/lang/Object -/
def RJ0 : String := "java/lang/Object"
abbrev cJ0_init : ByteArray := object_method_1_code
def yJ0_init : MethodName := ⟨RJ0, "<init>", "()V"⟩
theorem dJ0_init_0 : decode cJ0_init 0 = .ok (.return_, 1) := by decide +kernel
theorem q37 : (Jvm.Cond.instanceMethod ({ cls := "java/lang/Object", name := "<init>", desc := "()V" } : Jvm.MethodName)) ∈ lw_all := lw_g (lw_at lw_m1 9 rfl) rfl
theorem q38 : (Jvm.Cond.code ({ cls := "java/lang/Object", name := "<init>", desc := "()V" } : Jvm.MethodName) object_method_1_code (1 : Nat) (Option.none : Option Jvm.ClassFile.FieldType)) ∈ lw_all := lw_g (lw_at lw_m1 10 rfl) rfl
theorem q28 : (Jvm.Cond.initialized "PatternTreesLaw") ∈ lw_all := lw_g (lw_at lw_m1 0 rfl) rfl
theorem q31 : (Jvm.Cond.classLink "PatternTreesLaw" (7 : Nat) "PatternTrees") ∈ lw_all := lw_g (lw_at lw_m1 3 rfl) rfl
theorem q33 : (Jvm.Cond.methodLink "PatternTreesLaw" (9 : Nat) ({ cls := "PatternTrees", name := "<init>", desc := "()V" } : Jvm.MethodName)) ∈ lw_all := lw_g (lw_at lw_m1 5 rfl) rfl
theorem q111 : (Jvm.Cond.methodLink "PatternTreesLaw" (13 : Nat) ({ cls := "PatternTrees", name := "constant", desc := "(I)I" } : Jvm.MethodName)) ∈ lw_all := lw_g (lw_at lw_m1 83 rfl) rfl
theorem q123 : (Jvm.Cond.methodLink "PatternTreesLaw" (18 : Nat) ({ cls := "PatternTrees", name := "one", desc := "(I)I" } : Jvm.MethodName)) ∈ lw_all := lw_g (lw_at lw_m1 95 rfl) rfl
theorem q131 : (Jvm.Cond.methodLink "PatternTreesLaw" (22 : Nat) ({ cls := "PatternTrees", name := "two", desc := "(II)I" } : Jvm.MethodName)) ∈ lw_all := lw_g (lw_at lw_m1 103 rfl) rfl
theorem q135 : (Jvm.Cond.methodLink "PatternTreesLaw" (27 : Nat) ({ cls := "PatternTrees", name := "equate", desc := "(II)I" } : Jvm.MethodName)) ∈ lw_all := lw_g (lw_at lw_m1 107 rfl) rfl
theorem q151 : (Jvm.Cond.methodLink "PatternTreesLaw" (31 : Nat) ({ cls := "PatternTrees", name := "leader", desc := "(I)I" } : Jvm.MethodName)) ∈ lw_all := lw_g (lw_at lw_m1 123 rfl) rfl
theorem q155 : (Jvm.Cond.methodLink "PatternTreesLaw" (35 : Nat) ({ cls := "PatternTrees", name := "classes", desc := "()I" } : Jvm.MethodName)) ∈ lw_all := lw_g (lw_at lw_m1 127 rfl) rfl
theorem q156 : (Jvm.Cond.methodLink "PatternTreesLaw" (40 : Nat) ({ cls := "PatternTrees", name := "token", desc := "(I)I" } : Jvm.MethodName)) ∈ lw_all := lw_g (lw_at lw_m1 128 rfl) rfl
theorem q160 : (Jvm.Cond.methodLink "PatternTreesLaw" (44 : Nat) ({ cls := "PatternTrees", name := "wipe", desc := "()I" } : Jvm.MethodName)) ∈ lw_all := lw_g (lw_at lw_m1 132 rfl) rfl
theorem q164 : (Jvm.Cond.methodLink "PatternTreesLaw" (48 : Nat) ({ cls := "PatternTrees", name := "matches", desc := "()I" } : Jvm.MethodName)) ∈ lw_all := lw_g (lw_at lw_m1 136 rfl) rfl
theorem q212 : (Jvm.Cond.methodLink "PatternTreesLaw" (52 : Nat) ({ cls := "PatternTrees", name := "matchesAt", desc := "(I)I" } : Jvm.MethodName)) ∈ lw_all := lw_g (lw_at lw_m1 184 rfl) rfl
theorem q216 : (Jvm.Cond.methodLink "PatternTreesLaw" (56 : Nat) ({ cls := "PatternTrees", name := "binding", desc := "(II)I" } : Jvm.MethodName)) ∈ lw_all := lw_g (lw_at lw_m1 188 rfl) rfl
theorem q220 : (Jvm.Cond.methodLink "PatternTreesLaw" (60 : Nat) ({ cls := "PatternTrees", name := "clear", desc := "()I" } : Jvm.MethodName)) ∈ lw_all := lw_g (lw_at lw_m1 192 rfl) rfl
theorem q224 : (Jvm.Cond.classLink "PatternTreesLaw" (10 : Nat) "PatternTreesModel") ∈ lw_all := lw_g (lw_at lw_m1 196 rfl) rfl
theorem q226 : (Jvm.Cond.methodLink "PatternTreesLaw" (12 : Nat) ({ cls := "PatternTreesModel", name := "<init>", desc := "()V" } : Jvm.MethodName)) ∈ lw_all := lw_g (lw_at lw_m1 198 rfl) rfl
theorem q271 : (Jvm.Cond.methodLink "PatternTreesLaw" (17 : Nat) ({ cls := "PatternTreesModel", name := "constant", desc := "(I)I" } : Jvm.MethodName)) ∈ lw_all := lw_g (lw_at lw_m2 3 rfl) rfl
theorem q291 : (Jvm.Cond.methodLink "PatternTreesLaw" (21 : Nat) ({ cls := "PatternTreesModel", name := "one", desc := "(I)I" } : Jvm.MethodName)) ∈ lw_all := lw_g (lw_at lw_m2 23 rfl) rfl
theorem q299 : (Jvm.Cond.methodLink "PatternTreesLaw" (26 : Nat) ({ cls := "PatternTreesModel", name := "two", desc := "(II)I" } : Jvm.MethodName)) ∈ lw_all := lw_g (lw_at lw_m2 31 rfl) rfl
theorem q303 : (Jvm.Cond.methodLink "PatternTreesLaw" (30 : Nat) ({ cls := "PatternTreesModel", name := "equate", desc := "(II)I" } : Jvm.MethodName)) ∈ lw_all := lw_g (lw_at lw_m2 35 rfl) rfl
theorem q311 : (Jvm.Cond.methodLink "PatternTreesLaw" (34 : Nat) ({ cls := "PatternTreesModel", name := "leader", desc := "(I)I" } : Jvm.MethodName)) ∈ lw_all := lw_g (lw_at lw_m2 43 rfl) rfl
theorem q315 : (Jvm.Cond.methodLink "PatternTreesLaw" (39 : Nat) ({ cls := "PatternTreesModel", name := "classes", desc := "()I" } : Jvm.MethodName)) ∈ lw_all := lw_g (lw_at lw_m2 47 rfl) rfl
theorem q316 : (Jvm.Cond.methodLink "PatternTreesLaw" (43 : Nat) ({ cls := "PatternTreesModel", name := "token", desc := "(I)I" } : Jvm.MethodName)) ∈ lw_all := lw_g (lw_at lw_m2 48 rfl) rfl
theorem q320 : (Jvm.Cond.methodLink "PatternTreesLaw" (47 : Nat) ({ cls := "PatternTreesModel", name := "wipe", desc := "()I" } : Jvm.MethodName)) ∈ lw_all := lw_g (lw_at lw_m2 52 rfl) rfl
theorem q324 : (Jvm.Cond.methodLink "PatternTreesLaw" (51 : Nat) ({ cls := "PatternTreesModel", name := "matches", desc := "()I" } : Jvm.MethodName)) ∈ lw_all := lw_g (lw_at lw_m2 56 rfl) rfl
theorem q356 : (Jvm.Cond.methodLink "PatternTreesLaw" (55 : Nat) ({ cls := "PatternTreesModel", name := "matchesAt", desc := "(I)I" } : Jvm.MethodName)) ∈ lw_all := lw_g (lw_at lw_m2 88 rfl) rfl
theorem q360 : (Jvm.Cond.methodLink "PatternTreesLaw" (59 : Nat) ({ cls := "PatternTreesModel", name := "binding", desc := "(II)I" } : Jvm.MethodName)) ∈ lw_all := lw_g (lw_at lw_m2 92 rfl) rfl
theorem q364 : (Jvm.Cond.methodLink "PatternTreesLaw" (63 : Nat) ({ cls := "PatternTreesModel", name := "clear", desc := "()I" } : Jvm.MethodName)) ∈ lw_all := lw_g (lw_at lw_m2 96 rfl) rfl
end
section
set_option maxRecDepth 100000
/-! ints by their value; the world of one object and its arrays as one function (field or array, place) to its value -/
abbrev vwCl : List vw_C := [(RX0, TX0, 23), (RX1, TX1, 13)]
abbrev Sg : Type := Nat → Int → Int
abbrev AV : Type := Int ⊕ (Nat ⊕ Int)
def iI (x : Int) : Int32 := Int32.ofInt x
def lI (x : Int) : Int64 := Int64.ofInt x
theorem iI_toInt {x : Int} (h : -2147483648 ≤ x ∧ x ≤ 2147483647) : (iI x).toInt = x := Int32.toInt_ofInt_of_le (by omega) (by omega)
theorem iI_lt {x y : Int} (hx : -2147483648 ≤ x ∧ x ≤ 2147483647) (hy : -2147483648 ≤ y ∧ y ≤ 2147483647) : iI x < iI y ↔ x < y := by
  rw [Int32.lt_iff_toInt_lt, iI_toInt hx, iI_toInt hy]
theorem iI_le {x y : Int} (hx : -2147483648 ≤ x ∧ x ≤ 2147483647) (hy : -2147483648 ≤ y ∧ y ≤ 2147483647) : iI x ≤ iI y ↔ x ≤ y := by
  rw [Int32.le_iff_toInt_le, iI_toInt hx, iI_toInt hy]
theorem iI_eq {x y : Int} (hx : -2147483648 ≤ x ∧ x ≤ 2147483647) (hy : -2147483648 ≤ y ∧ y ≤ 2147483647) : iI x = iI y ↔ x = y := by
  rw [← Int32.toInt_inj, iI_toInt hx, iI_toInt hy]
theorem iI_0 : iI 0 = 0 := rfl
theorem iI_nat (n : Nat) : iI (n : Int) = nI n := Int32.ofInt_eq_ofNat
theorem iI_nn {x : Int} (h : 0 ≤ x) : iI x = nI x.toNat := by
  rw [← iI_nat, Int.toNat_of_nonneg h]
theorem lI_nat (n : Nat) : lI (n : Int) = lN n := Int64.ofInt_eq_ofNat
theorem lI_nn {x : Int} (h : 0 ≤ x) : lI x = lN x.toNat := by
  rw [← lI_nat, Int.toNat_of_nonneg h]
theorem iI_in {x : Int} {n : Nat} (h : 0 ≤ x ∧ x < (n : Int)) (hn : n < 2147483648) : vp_in (iI x) n := by
  rw [iI_nn h.1]
  exact vp_in_nI (by omega) (by omega)
theorem iI_cl {x : Int} (h : 0 ≤ x ∧ x ≤ 2147483647) : (iI x).toNatClampNeg = x.toNat := by
  rw [iI_nn h.1]
  exact nI_clamp (by omega)
theorem iI_b {x : Int} (h : -128 ≤ x ∧ x ≤ 127) : (iI x).toInt8.toInt32 = iI x := by
  unfold iI
  rw [Int32.toInt8_ofInt]
  exact Int8.toInt32_ofInt (by show (-128 : Int) ≤ x; omega) (by show x ≤ (127 : Int); omega)
theorem iI_div {x y : Int} (hx : 0 ≤ x ∧ x ≤ 2147483647) (hy : 0 < y ∧ y ≤ 2147483647) : iI x / iI y = iI (x / y) := by
  rw [iI_nn hx.1, iI_nn (x := y) (by omega), pk_div (by omega) (by omega) (by omega), ← iI_nat]
  congr 1
  rw [Int.natCast_ediv, Int.toNat_of_nonneg hx.1, Int.toNat_of_nonneg (by omega)]
theorem iI_rem {x y : Int} (hx : 0 ≤ x ∧ x ≤ 2147483647) (hy : 0 < y ∧ y ≤ 2147483647) : iI x - iI x / iI y * iI y = iI (x % y) := by
  rw [iI_nn hx.1, iI_nn (x := y) (by omega), pk_rem (by omega) (by omega) (by omega), ← iI_nat]
  congr 1
  rw [Int.natCast_emod, Int.toNat_of_nonneg hx.1, Int.toNat_of_nonneg (by omega)]
def up (σ : Sg) (k : Nat) (j v : Int) : Sg := fun k' => if k' = k then (fun j' => if j' = j then v else σ k' j') else σ k'
theorem up_s (σ : Sg) (k : Nat) (j v : Int) : up σ k j v k j = v := by simp [up]
theorem up_a (σ : Sg) (k : Nat) (j v i : Int) : up σ k j v k i = if i = j then v else σ k i := by simp [up]
theorem up_o (σ : Sg) {k k' : Nat} (j v : Int) (h : k' ≠ k) : up σ k j v k' = σ k' := by simp [up, h]
def tv (x : AV) : Value := match x with
  | .inl x => .int (iI x)
  | .inr (.inl a) => .ref a
  | .inr (.inr x) => .long (lI x)
def wv (x : AV) : Prop := match x with
  | .inl x => -2147483648 ≤ x ∧ x ≤ 2147483647
  | .inr (.inl _) => True
  | .inr (.inr x) => 0 ≤ x ∧ x < 18446744073709551616
/-- number of the class, the class, lengths of the arrays (0: an int field), the arrays, their kinds (0 byte, 1 int, 2 long) -/
abbrev WS : Type := Nat × vw_C × (Nat → Nat) × List Nat × (Nat → Nat)
def fsOf (w : WS) (ad : Nat → Nat) (σ : Sg) : List Value := (List.range w.2.1.2.2).map (fun k => if w.2.2.1 k = 0 then .int (iI (σ k 0)) else .ref (ad k))
def ctOf (w : WS) (σ : Sg) (k : Nat) : (Nat → Int32) ⊕ (Nat → Int64) ⊕ (Nat → UInt32) ⊕ (Nat → UInt64) ⊕ (Nat → Option Nat) := if w.2.2.2.2 k = 2 then .inr (.inl (fun j => lI (σ k j))) else .inl (fun j => iI (σ k j))
def ceOf (w : WS) (ad : Nat → Nat) (cT : Nat → ClassId) (σ : Sg) (k : Nat) : Nat × va_E := (ad k, .inl (cT (w.2.2.2.2 k), w.2.2.1 k, ctOf w σ k))
def pw (w : WS) (h : Nat) (ad : Nat → Nat) (cT : Nat → ClassId) (σ : Sg) : va_W := (h, .inr (w.1, fsOf w ad σ)) :: w.2.2.2.1.map (ceOf w ad cT σ)
def tysOf (cT : Nat → ClassId) : List (ClassId × FieldType) := [(cT 0, .byte), (cT 1, .int), (cT 2, .long)]
def WSok (w : WS) : Prop := vwCl[w.1]? = some w.2.1 ∧ (∀ x ∈ u_ws w.2.1.1 w.2.1.2.1 w.2.1.2.2, x ∈ lw_all) ∧ (∀ k, k < w.2.1.2.2 → (w.2.1.2.1 k).1 = w.2.1.1) ∧ (∃ ty0 : Nat → FieldType, ∀ k, k < w.2.1.2.2 → parseFieldDescriptor (w.2.1.2.1 k).2.2.1 = some (ty0 k)) ∧ (∀ a, a < w.2.1.2.2 → ∀ b, b < w.2.1.2.2 → a ≠ b → (w.2.1.2.1 a).2.1 ≠ (w.2.1.2.1 b).2.1) ∧ (∀ k ∈ w.2.2.2.1, k < w.2.1.2.2 ∧ w.2.2.1 k ≠ 0 ∧ w.2.2.1 k < 2147483648) ∧ w.2.2.2.1.Nodup
theorem map_set_nd {α β : Type} (f g : α → β) : ∀ (l : List α) (j : Nat) (a : α), l.Nodup → l[j]? = some a → (∀ b ∈ l, b ≠ a → g b = f b) → (l.map f).set j (g a) = l.map g := by
  intro l
  induction l with
  | nil => intro j a _ h _; simp at h
  | cons b t ih =>
    intro j a hn h hc
    rw [List.nodup_cons] at hn
    cases j with
    | zero =>
      simp at h
      subst h
      simp only [List.map_cons, List.set_cons_zero]
      congr 1
      refine List.map_congr_left (fun c hc' => (hc c (List.mem_cons_of_mem _ hc') (fun e => hn.1 (e ▸ hc'))).symm)
    | succ j =>
      simp at h
      simp only [List.map_cons, List.set_cons_succ]
      rw [ih j a hn.2 h (fun c h1 h2 => hc c (List.mem_cons_of_mem _ h1) h2), hc b List.mem_cons_self (fun e => hn.1 (e ▸ List.mem_of_getElem? h))]
theorem pw_arr {w : WS} {h : Nat} {ad : Nat → Nat} {cT : Nat → ClassId} {σ : Sg} {k : Nat} (hk : k ∈ w.2.2.2.1) : ∃ j, w.2.2.2.1[j]? = some k ∧ (pw w h ad cT σ)[j + 1]? = some (ceOf w ad cT σ k) := by
  obtain ⟨j, hj⟩ := List.getElem?_of_mem hk
  refine ⟨j, hj, ?_⟩
  show (List.map _ _)[j]? = _
  rw [List.getElem?_map, hj]
  rfl
theorem fs_arr {w : WS} {ad : Nat → Nat} {σ : Sg} {k : Nat} {x v : Int} (hl : w.2.2.1 k ≠ 0) : fsOf w ad (up σ k x v) = fsOf w ad σ := by
  refine List.map_congr_left (fun k' _ => ?_)
  by_cases hk : k' = k
  · subst hk; simp [hl]
  · simp only [up_o σ x v hk]
theorem pw_set {w : WS} {h : Nat} {ad : Nat → Nat} {cT : Nat → ClassId} {σ : Sg} {k j : Nat} {x v : Int} (hn : w.2.2.2.1.Nodup) (hj : w.2.2.2.1[j]? = some k) (hl : w.2.2.1 k ≠ 0) : (pw w h ad cT σ).set (j + 1) (ceOf w ad cT (up σ k x v) k) = pw w h ad cT (up σ k x v) := by
  unfold pw
  rw [List.set_cons_succ, fs_arr hl]
  congr 1
  refine map_set_nd _ _ _ _ _ hn hj (fun b _ hb => ?_)
  unfold ceOf ctOf
  rw [up_o σ x v hb]
theorem pw_put {w : WS} {h : Nat} {ad : Nat → Nat} {cT : Nat → ClassId} {σ : Sg} {k : Nat} {v : Int} (hw : WSok w) (hk : k < w.2.1.2.2) (hl : w.2.2.1 k = 0) : (pw w h ad cT σ).set 0 (h, .inr (w.1, (fsOf w ad σ).set k (.int (iI v)))) = pw w h ad cT (up σ k 0 v) := by
  unfold pw
  rw [List.set_cons_zero]
  congr 1
  · have e := map_set_nd (fun k => if w.2.2.1 k = 0 then Value.int (iI (σ k 0)) else .ref (ad k)) (fun k' => if w.2.2.1 k' = 0 then Value.int (iI (up σ k 0 v k' 0)) else .ref (ad k')) (List.range w.2.1.2.2) k k List.nodup_range (by simp [hk]) (fun b _ hb => by simp only [up_o σ 0 v hb])
    simp only [hl, if_true, up_s] at e
    have e2 : (fsOf w ad σ).set k (.int (iI v)) = fsOf w ad (up σ k 0 v) := e
    rw [e2]
  · refine List.map_congr_left (fun k' hk' => ?_)
    have : k' ≠ k := fun e => (hw.2.2.2.2.2.1 k' hk').2.1 (e ▸ hl)
    unfold ceOf ctOf
    rw [up_o σ 0 v this]
def Rg (w : WS) (σ : Sg) : Prop := ∀ k j, (w.2.2.2.2 k = 2 → 0 ≤ σ k j ∧ σ k j < 18446744073709551616) ∧ (w.2.2.2.2 k ≠ 2 → -2147483648 ≤ σ k j ∧ σ k j ≤ 2147483647)
theorem Rg.up {w : WS} {σ : Sg} {k : Nat} {j v : Int} (h : Rg w σ) (h1 : w.2.2.2.2 k = 2 → 0 ≤ v ∧ v < 18446744073709551616) (h2 : w.2.2.2.2 k ≠ 2 → -2147483648 ≤ v ∧ v ≤ 2147483647) : Rg w (up σ k j v) := by
  intro k' j'
  by_cases hk : k' = k
  · subst hk
    rw [up_a]
    by_cases hj : j' = j
    · rw [if_pos hj]; exact ⟨h1, h2⟩
    · rw [if_neg hj]; exact h k' j'
  · rw [up_o σ j v hk]; exact h k' j'
abbrev KX : Type := (Program × Launch × Env × State × MethodId × Array Value) × (List Frame × Method × Code × (State → Prop) × (Nat → Prop)) × va_G × Nat × (Nat → Nat) × (Nat → ClassId)
def rH (κ : KX) : AV := .inr (.inl κ.2.2.2.1)
def rA (κ : KX) (k : Nat) : AV := .inr (.inl (κ.2.2.2.2.1 k))
abbrev LV : Type := List (Nat × AV)
def lvm (lv : LV) : List (Nat × Value) := lv.map (fun q => (q.1, tv q.2))
/-- the machine's goal, over the object's world -/
def V (w : WS) (κ : KX) (R : Room) (cc : ByteArray) (nL : Nat) (σ : Sg) (lv : LV) (pc : Nat) (st : List AV) : Prop := match κ with
  | ((p, l, e, s, m, args), (below, meth, c, Q, A), D, h, ad, cT) => (p.tables.exec = Jvm.exec ∧ c.code = cc ∧ c.maxLocals = nL ∧ s.vm.findClass w.2.1.1 = some m.cls ∧ (∀ x ∈ lw_all, x.before args s = true) ∧ va_K D vwCl (tysOf cT) s ∧ (∀ q, s.heap.size ≤ q → A q)) → va_D A (pw w h ad cT σ) → Rg w σ → (∀ q ∈ lv, wv q.2) → (∀ x ∈ st, wv x) → ∀ (H : Heap) (locs : List Loc) (ls : Array Slot), va_P D vwCl (pw w h ad cT σ) H → va_S A s.heap H locs → lv_has ls nL (lvm lv) → W p l e R s m args below meth c H locs 0 0 Q (F0 m pc ls (st.map tv))
theorem lv_get {lv : LV} {i : Nat} {v : AV} (h : lv.lookup i = some v) : (i, v) ∈ lv := by
  induction lv with
  | nil => simp at h
  | cons q t ih =>
    obtain ⟨a, b⟩ := q
    rw [List.lookup_cons] at h
    by_cases e : (i == a) = true
    · rw [e] at h
      have e' : i = a := by simpa using e
      have hb : b = v := by simpa using h
      rw [e', hb]; exact List.mem_cons_self
    · have e2 : (i == a) = false := by simpa using e
      rw [e2] at h
      exact List.mem_cons_of_mem _ (ih h)
theorem lv_slot {ls : Array Slot} {nL : Nat} {lv : LV} {i : Nat} {v : AV} (hv : lv_has ls nL (lvm lv)) (h : lv.lookup i = some v) : ls[i]? = some (.val (tv v)) := hv.2.2 (i, tv v) (List.mem_map.mpr ⟨(i, v), lv_get h, rfl⟩)
def lvS : LV → Nat → AV → LV
  | [], i, v => [(i, v)]
  | q :: t, i, v => if q.1 = i then (i, v) :: t.filter (fun r => decide (r.1 ≠ i)) else q :: lvS t i v
theorem lvS_mem {lv : LV} {i : Nat} {v : AV} {q : Nat × AV} (h : q ∈ lvS lv i v) : q = (i, v) ∨ (q ∈ lv ∧ q.1 ≠ i) := by
  induction lv with
  | nil => left; simpa [lvS] using h
  | cons r t ih =>
    unfold lvS at h
    by_cases e : r.1 = i
    · rw [if_pos e] at h
      rcases List.mem_cons.mp h with h | h
      · exact Or.inl h
      · have := List.mem_filter.mp h
        exact Or.inr ⟨List.mem_cons_of_mem _ this.1, by simpa using this.2⟩
    · rw [if_neg e] at h
      rcases List.mem_cons.mp h with h | h
      · exact Or.inr ⟨h ▸ List.mem_cons_self, h ▸ e⟩
      · rcases ih h with h | h
        · exact Or.inl h
        · exact Or.inr ⟨List.mem_cons_of_mem _ h.1, h.2⟩
theorem lv_after {ls : Array Slot} {nL : Nat} {lv : LV} {i : Nat} {x : Int} (hnl : ∀ q ∈ lv, ∀ z, q.2 ≠ .inr (.inr z)) (hv : lv_has ls nL ((i, Value.int (iI x)) :: (lvm lv).filter (fun q => !(q.1 == i) && !(q.1 + 1 == i && q.2.category == 2)))) : lv_has ls nL (lvm (lvS lv i (.inl x))) := by
  refine ⟨hv.1, hv.2.1, fun q hq => ?_⟩
  obtain ⟨r, hr, rfl⟩ := List.mem_map.mp hq
  rcases lvS_mem hr with e | ⟨e1, e2⟩
  · subst e
    exact hv.2.2 (i, Value.int (iI x)) List.mem_cons_self
  · refine hv.2.2 (r.1, tv r.2) (List.mem_cons_of_mem _ (List.mem_filter.mpr ⟨List.mem_map.mpr ⟨r, e1, rfl⟩, ?_⟩))
    obtain ⟨r1, r2⟩ := r
    have h3 := hnl _ e1
    rcases r2 with y | y | y
    · simp [tv, Value.category]; exact e2
    · simp [tv, Value.category]; exact e2
    · exact absurd rfl (h3 y)
theorem wf_c {x : AV} {st : List AV} (h : ∀ y ∈ x :: st, wv y) : wv x ∧ ∀ y ∈ st, wv y := ⟨h x List.mem_cons_self, fun y hy => h y (List.mem_cons_of_mem _ hy)⟩
theorem wf_k {x : AV} {st : List AV} (hx : wv x) (h : ∀ y ∈ st, wv y) : ∀ y ∈ x :: st, wv y := fun y hy => by
  rcases List.mem_cons.mp hy with e | e
  · exact e ▸ hx
  · exact h y e
theorem v_iconst {w : WS} {κ : KX} {R : Room} {cc : ByteArray} {nL : Nat} {σ : Sg} {lv : LV} {pc : Nat} {rest : List AV} {n : Int} (x : Int) (hd : decode cc pc = .ok (.iconst n, 1)) (hx : Int32.ofInt n = iI x) (hr : -2147483648 ≤ x ∧ x ≤ 2147483647) (k : V w κ R cc nL σ lv (pc + 1) (.inl x :: rest)) : V w κ R cc nL σ lv pc rest := by
  obtain ⟨⟨p, l, e, s, m, args⟩, ⟨below, meth, c, Q, A⟩, D, h, ad, cT⟩ := κ
  intro hO hD hg hl hs H locs ls hP hS hv
  exact lv_iconst (v := iI x) hO.1 hO.2.1 hd hx (k hO hD hg hl (wf_k hr hs) H locs ls hP hS hv)
theorem v_bipush {w : WS} {κ : KX} {R : Room} {cc : ByteArray} {nL : Nat} {σ : Sg} {lv : LV} {pc : Nat} {rest : List AV} {n : Int} (x : Int) (hd : decode cc pc = .ok (.bipush n, 2)) (hx : (Int8.ofInt n).toInt32 = iI x) (hr : -2147483648 ≤ x ∧ x ≤ 2147483647) (k : V w κ R cc nL σ lv (pc + 2) (.inl x :: rest)) : V w κ R cc nL σ lv pc rest := by
  obtain ⟨⟨p, l, e, s, m, args⟩, ⟨below, meth, c, Q, A⟩, D, h, ad, cT⟩ := κ
  intro hO hD hg hl hs H locs ls hP hS hv
  exact lv_bipush (v := iI x) hO.1 hO.2.1 hd hx (k hO hD hg hl (wf_k hr hs) H locs ls hP hS hv)
theorem v_sipush {w : WS} {κ : KX} {R : Room} {cc : ByteArray} {nL : Nat} {σ : Sg} {lv : LV} {pc : Nat} {rest : List AV} {n : Int} (x : Int) (hd : decode cc pc = .ok (.sipush n, 3)) (hx : (Int16.ofInt n).toInt32 = iI x) (hr : -2147483648 ≤ x ∧ x ≤ 2147483647) (k : V w κ R cc nL σ lv (pc + 3) (.inl x :: rest)) : V w κ R cc nL σ lv pc rest := by
  obtain ⟨⟨p, l, e, s, m, args⟩, ⟨below, meth, c, Q, A⟩, D, h, ad, cT⟩ := κ
  intro hO hD hg hl hs H locs ls hP hS hv
  exact lv_sipush (v := iI x) hO.1 hO.2.1 hd hx (k hO hD hg hl (wf_k hr hs) H locs ls hP hS hv)
theorem v_lconst {w : WS} {κ : KX} {R : Room} {cc : ByteArray} {nL : Nat} {σ : Sg} {lv : LV} {pc : Nat} {rest : List AV} {n : Fin 2} (x : Int) (hd : decode cc pc = .ok (.lconst n, 1)) (hx : Int64.ofNat (n : Nat) = lI x) (hr : 0 ≤ x ∧ x < 18446744073709551616) (k : V w κ R cc nL σ lv (pc + 1) (.inr (.inr x) :: rest)) : V w κ R cc nL σ lv pc rest := by
  obtain ⟨⟨p, l, e, s, m, args⟩, ⟨below, meth, c, Q, A⟩, D, h, ad, cT⟩ := κ
  intro hO hD hg hl hs H locs ls hP hS hv
  exact lv_lconst (v := lI x) hO.1 hO.2.1 hd hx (k hO hD hg hl (wf_k hr hs) H locs ls hP hS hv)
theorem v_iload_n {w : WS} {κ : KX} {R : Room} {cc : ByteArray} {nL : Nat} {σ : Sg} {lv : LV} {pc : Nat} {rest : List AV} {i : Fin 4} {x : Int} (hd : decode cc pc = .ok (.iload_n i, 1)) (hx : lv.lookup (i : Nat) = some (.inl x)) (k : V w κ R cc nL σ lv (pc + 1) (.inl x :: rest)) : V w κ R cc nL σ lv pc rest := by
  obtain ⟨⟨p, l, e, s, m, args⟩, ⟨below, meth, c, Q, A⟩, D, h, ad, cT⟩ := κ
  intro hO hD hg hl hs H locs ls hP hS hv
  exact lv_iload_n hO.1 hO.2.1 hd rfl (lv_slot hv hx) (k hO hD hg hl (wf_k (hl _ (lv_get hx)) hs) H locs ls hP hS hv)
theorem v_iload {w : WS} {κ : KX} {R : Room} {cc : ByteArray} {nL : Nat} {σ : Sg} {lv : LV} {pc : Nat} {rest : List AV} {i : Nat} {x : Int} (hd : decode cc pc = .ok (.iload i, 2)) (hx : lv.lookup i = some (.inl x)) (k : V w κ R cc nL σ lv (pc + 2) (.inl x :: rest)) : V w κ R cc nL σ lv pc rest := by
  obtain ⟨⟨p, l, e, s, m, args⟩, ⟨below, meth, c, Q, A⟩, D, h, ad, cT⟩ := κ
  intro hO hD hg hl hs H locs ls hP hS hv
  exact lv_iload hO.1 hO.2.1 hd (lv_slot hv hx) (k hO hD hg hl (wf_k (hl _ (lv_get hx)) hs) H locs ls hP hS hv)
theorem v_aload_n {w : WS} {κ : KX} {R : Room} {cc : ByteArray} {nL : Nat} {σ : Sg} {lv : LV} {pc : Nat} {rest : List AV} {i : Fin 4} (hd : decode cc pc = .ok (.aload_n i, 1)) (hx : lv.lookup (i : Nat) = some (rH κ)) (k : V w κ R cc nL σ lv (pc + 1) (rH κ :: rest)) : V w κ R cc nL σ lv pc rest := by
  obtain ⟨⟨p, l, e, s, m, args⟩, ⟨below, meth, c, Q, A⟩, D, h, ad, cT⟩ := κ
  intro hO hD hg hl hs H locs ls hP hS hv
  exact lv_aload_n (x := h) hO.1 hO.2.1 hd rfl (lv_slot hv hx) (k hO hD hg hl (wf_k trivial hs) H locs ls hP hS hv)
/-- no long lies in the locals -/
def noL (lv : LV) : Prop := ∀ q ∈ lv, ∀ z, q.2 ≠ .inr (.inr z)
theorem noL_of {lv : LV} (h : lv.all (fun q => match q.2 with | .inr (.inr _) => false | _ => true) = true) : noL lv := by
  intro q hq z e
  have := List.all_eq_true.mp h q hq
  rw [e] at this
  cases this
theorem wl_S {lv : LV} {i : Nat} {x : AV} (hx : wv x) (hl : ∀ q ∈ lv, wv q.2) : ∀ q ∈ lvS lv i x, wv q.2 := fun q hq => by
  rcases lvS_mem hq with e | e
  · rw [e]; exact hx
  · exact hl q e.1
theorem v_istore_n {w : WS} {κ : KX} {R : Room} {cc : ByteArray} {nL : Nat} {σ : Sg} {lv : LV} {pc : Nat} {rest : List AV} {i : Fin 4} {x : Int} {lv1 : LV} (hd : decode cc pc = .ok (.istore_n i, 1)) (hn : noL lv) (hi : (i : Nat) < nL) (h1 : lvS lv (i : Nat) (.inl x) = lv1) (k : V w κ R cc nL σ lv1 (pc + 1) rest) : V w κ R cc nL σ lv pc (.inl x :: rest) := by
  obtain ⟨⟨p, l, e, s, m, args⟩, ⟨below, meth, c, Q, A⟩, D, h, ad, cT⟩ := κ
  intro hO hD hg hl hs H locs ls hP hS hv
  subst h1
  exact lv_istore_n hO.1 hO.2.1 hd rfl hv hi rfl (fun ls1 hv1 => k hO hD hg (wl_S (wf_c hs).1 hl) (wf_c hs).2 H locs ls1 hP hS (lv_after hn hv1))
theorem v_istore {w : WS} {κ : KX} {R : Room} {cc : ByteArray} {nL : Nat} {σ : Sg} {lv : LV} {pc : Nat} {rest : List AV} {i : Nat} {x : Int} {lv1 : LV} (hd : decode cc pc = .ok (.istore i, 2)) (hn : noL lv) (hi : i < nL) (h1 : lvS lv i (.inl x) = lv1) (k : V w κ R cc nL σ lv1 (pc + 2) rest) : V w κ R cc nL σ lv pc (.inl x :: rest) := by
  obtain ⟨⟨p, l, e, s, m, args⟩, ⟨below, meth, c, Q, A⟩, D, h, ad, cT⟩ := κ
  intro hO hD hg hl hs H locs ls hP hS hv
  subst h1
  exact lv_istore hO.1 hO.2.1 hd hv hi rfl (fun ls1 hv1 => k hO hD hg (wl_S (wf_c hs).1 hl) (wf_c hs).2 H locs ls1 hP hS (lv_after hn hv1))
theorem v_iinc {w : WS} {κ : KX} {R : Room} {cc : ByteArray} {nL : Nat} {σ : Sg} {lv : LV} {pc : Nat} {rest : List AV} {i : Nat} {n x : Int} {lv1 : LV} (hd : decode cc pc = .ok (.iinc i n, 3)) (hx : lv.lookup i = some (.inl x)) (hr : wv (.inl x) → -2147483648 ≤ x + n ∧ x + n ≤ 2147483647) (hn : noL lv) (hi : i < nL) (h1 : lvS lv i (.inl (x + n)) = lv1) (k : V w κ R cc nL σ lv1 (pc + 3) rest) : V w κ R cc nL σ lv pc rest := by
  obtain ⟨⟨p, l, e, s, m, args⟩, ⟨below, meth, c, Q, A⟩, D, h, ad, cT⟩ := κ
  intro hO hD hg hl hs H locs ls hP hS hv
  subst h1
  obtain ⟨j, hj⟩ := List.getElem?_of_mem (List.mem_map.mpr ⟨(i, Sum.inl x), lv_get hx, rfl⟩ : (i, tv (.inl x)) ∈ lvm lv)
  exact lv_iinc (v := iI (x + n)) hO.1 hO.2.1 hd hv hj (Int32.ofInt_add x n).symm hi rfl (fun ls1 hv1 => k hO hD hg (wl_S (hr (hl _ (lv_get hx))) hl) hs H locs ls1 hP hS (lv_after hn hv1))
theorem v_pick {w : WS} {κ : KX} {R : Room} {cc : ByteArray} {nL : Nat} {σ : Sg} {lv : LV} {pc : Nat} {rest : List AV} {lv1 : LV} (ks : List Nat) (h1 : ks.filterMap (fun k => lv[k]?) = lv1) (k : V w κ R cc nL σ lv1 pc rest) : V w κ R cc nL σ lv pc rest := by
  obtain ⟨⟨p, l, e, s, m, args⟩, ⟨below, meth, c, Q, A⟩, D, h, ad, cT⟩ := κ
  intro hO hD hg hl hs H locs ls hP hS hv
  have hsub : ∀ q ∈ lv1, q ∈ lv := fun q hq => by
    rw [← h1] at hq
    obtain ⟨i, -, hi⟩ := List.mem_filterMap.mp hq
    exact List.mem_of_getElem? hi
  exact k hO hD hg (fun q hq => hl q (hsub q hq)) hs H locs ls hP hS ⟨hv.1, hv.2.1, fun q hq => by
    obtain ⟨r, hr, rfl⟩ := List.mem_map.mp hq
    exact hv.2.2 _ (List.mem_map.mpr ⟨r, hsub r hr, rfl⟩)⟩
theorem v_rg {w : WS} {κ : KX} {R : Room} {cc : ByteArray} {nL : Nat} {σ : Sg} {lv : LV} {pc : Nat} {rest : List AV} (k : Rg w σ → V w κ R cc nL σ lv pc rest) : V w κ R cc nL σ lv pc rest := by
  obtain ⟨⟨p, l, e, s, m, args⟩, ⟨below, meth, c, Q, A⟩, D, h, ad, cT⟩ := κ
  intro hO hD hg hl hs H locs ls hP hS hv
  exact k hg hO hD hg hl hs H locs ls hP hS hv
theorem v_lw {w : WS} {κ : KX} {R : Room} {cc : ByteArray} {nL : Nat} {σ : Sg} {lv : LV} {pc : Nat} {rest : List AV} (k : (∀ q ∈ lv, wv q.2) → V w κ R cc nL σ lv pc rest) : V w κ R cc nL σ lv pc rest := by
  obtain ⟨⟨p, l, e, s, m, args⟩, ⟨below, meth, c, Q, A⟩, D, h, ad, cT⟩ := κ
  intro hO hD hg hl hs H locs ls hP hS hv
  exact k hl hO hD hg hl hs H locs ls hP hS hv
theorem v_st {w : WS} {κ : KX} {R : Room} {cc : ByteArray} {nL : Nat} {σ : Sg} {lv : LV} {pc : Nat} {rest : List AV} (k : (∀ x ∈ rest, wv x) → V w κ R cc nL σ lv pc rest) : V w κ R cc nL σ lv pc rest := by
  obtain ⟨⟨p, l, e, s, m, args⟩, ⟨below, meth, c, Q, A⟩, D, h, ad, cT⟩ := κ
  intro hO hD hg hl hs H locs ls hP hS hv
  exact k hs hO hD hg hl hs H locs ls hP hS hv
theorem v_iadd {w : WS} {κ : KX} {R : Room} {cc : ByteArray} {nL : Nat} {σ : Sg} {lv : LV} {pc : Nat} {rest : List AV} {x y : Int} (hd : decode cc pc = .ok (.iadd, 1)) (hr : wv (.inl x) → wv (.inl y) → -2147483648 ≤ x + y ∧ x + y ≤ 2147483647) (k : V w κ R cc nL σ lv (pc + 1) (.inl (x + y) :: rest)) : V w κ R cc nL σ lv pc (.inl y :: .inl x :: rest) := by
  obtain ⟨⟨p, l, e, s, m, args⟩, ⟨below, meth, c, Q, A⟩, D, h, ad, cT⟩ := κ
  intro hO hD hg hl hs H locs ls hP hS hv
  have h2 := (wf_c hs).2
  refine lv_iadd hO.1 hO.2.1 hd ?_
  have e9 : iI x + iI y = iI (x + y) := (Int32.ofInt_add x y).symm
  show W p l e R s m args below meth c H locs 0 0 Q (F0 m (pc + 1) ls (.int (iI x + iI y) :: rest.map tv))
  rw [e9]
  exact k hO hD hg hl (wf_k (hr (wf_c h2).1 (wf_c hs).1) (wf_c h2).2) H locs ls hP hS hv
theorem v_isub {w : WS} {κ : KX} {R : Room} {cc : ByteArray} {nL : Nat} {σ : Sg} {lv : LV} {pc : Nat} {rest : List AV} {x y : Int} (hd : decode cc pc = .ok (.isub, 1)) (hr : wv (.inl x) → wv (.inl y) → -2147483648 ≤ x - y ∧ x - y ≤ 2147483647) (k : V w κ R cc nL σ lv (pc + 1) (.inl (x - y) :: rest)) : V w κ R cc nL σ lv pc (.inl y :: .inl x :: rest) := by
  obtain ⟨⟨p, l, e, s, m, args⟩, ⟨below, meth, c, Q, A⟩, D, h, ad, cT⟩ := κ
  intro hO hD hg hl hs H locs ls hP hS hv
  have h2 := (wf_c hs).2
  refine lv_isub hO.1 hO.2.1 hd ?_
  have e9 : iI x - iI y = iI (x - y) := (Int32.ofInt_sub x y).symm
  show W p l e R s m args below meth c H locs 0 0 Q (F0 m (pc + 1) ls (.int (iI x - iI y) :: rest.map tv))
  rw [e9]
  exact k hO hD hg hl (wf_k (hr (wf_c h2).1 (wf_c hs).1) (wf_c h2).2) H locs ls hP hS hv
theorem v_imul {w : WS} {κ : KX} {R : Room} {cc : ByteArray} {nL : Nat} {σ : Sg} {lv : LV} {pc : Nat} {rest : List AV} {x y : Int} (hd : decode cc pc = .ok (.imul, 1)) (hr : wv (.inl x) → wv (.inl y) → -2147483648 ≤ x * y ∧ x * y ≤ 2147483647) (k : V w κ R cc nL σ lv (pc + 1) (.inl (x * y) :: rest)) : V w κ R cc nL σ lv pc (.inl y :: .inl x :: rest) := by
  obtain ⟨⟨p, l, e, s, m, args⟩, ⟨below, meth, c, Q, A⟩, D, h, ad, cT⟩ := κ
  intro hO hD hg hl hs H locs ls hP hS hv
  have h2 := (wf_c hs).2
  refine lv_imul hO.1 hO.2.1 hd ?_
  have e9 : iI x * iI y = iI (x * y) := (Int32.ofInt_mul x y).symm
  show W p l e R s m args below meth c H locs 0 0 Q (F0 m (pc + 1) ls (.int (iI x * iI y) :: rest.map tv))
  rw [e9]
  exact k hO hD hg hl (wf_k (hr (wf_c h2).1 (wf_c hs).1) (wf_c h2).2) H locs ls hP hS hv
theorem v_idiv {w : WS} {κ : KX} {R : Room} {cc : ByteArray} {nL : Nat} {σ : Sg} {lv : LV} {pc : Nat} {rest : List AV} {x y : Int} (hd : decode cc pc = .ok (.idiv, 1)) (hx : 0 ≤ x) (hy : 0 < y) (k : V w κ R cc nL σ lv (pc + 1) (.inl (x / y) :: rest)) : V w κ R cc nL σ lv pc (.inl y :: .inl x :: rest) := by
  obtain ⟨⟨p, l, e, s, m, args⟩, ⟨below, meth, c, Q, A⟩, D, h, ad, cT⟩ := κ
  intro hO hD hg hl hs H locs ls hP hS hv
  have h2 := (wf_c hs).2
  have rx : -2147483648 ≤ x ∧ x ≤ 2147483647 := (wf_c h2).1
  have ry : -2147483648 ≤ y ∧ y ≤ 2147483647 := (wf_c hs).1
  refine lv_idiv hO.1 hO.2.1 hd (fun e0 => by have := (iI_eq ry (by omega)).mp (e0.trans iI_0.symm); omega) ?_
  have e1 : iI x / iI y = iI (x / y) := iI_div ⟨hx, rx.2⟩ ⟨hy, ry.2⟩
  show W p l e R s m args below meth c H locs 0 0 Q (F0 m (pc + 1) ls (.int (iI x / iI y) :: rest.map tv))
  rw [e1]
  have r1 : 0 ≤ x / y ∧ x / y ≤ 2147483647 := ⟨Int.ediv_nonneg hx (by omega), Int.le_trans (Int.ediv_le_self y hx) rx.2⟩
  exact k hO hD hg hl (wf_k (show -2147483648 ≤ x / y ∧ x / y ≤ 2147483647 by omega) (wf_c h2).2) H locs ls hP hS hv
theorem v_irem {w : WS} {κ : KX} {R : Room} {cc : ByteArray} {nL : Nat} {σ : Sg} {lv : LV} {pc : Nat} {rest : List AV} {x y : Int} (hd : decode cc pc = .ok (.irem, 1)) (hx : 0 ≤ x) (hy : 0 < y) (k : V w κ R cc nL σ lv (pc + 1) (.inl (x % y) :: rest)) : V w κ R cc nL σ lv pc (.inl y :: .inl x :: rest) := by
  obtain ⟨⟨p, l, e, s, m, args⟩, ⟨below, meth, c, Q, A⟩, D, h, ad, cT⟩ := κ
  intro hO hD hg hl hs H locs ls hP hS hv
  have h2 := (wf_c hs).2
  have rx : -2147483648 ≤ x ∧ x ≤ 2147483647 := (wf_c h2).1
  have ry : -2147483648 ≤ y ∧ y ≤ 2147483647 := (wf_c hs).1
  refine lv_irem hO.1 hO.2.1 hd (fun e0 => by have := (iI_eq ry (by omega)).mp (e0.trans iI_0.symm); omega) ?_
  have e1 : iI x - iI x / iI y * iI y = iI (x % y) := iI_rem ⟨hx, rx.2⟩ ⟨hy, ry.2⟩
  show W p l e R s m args below meth c H locs 0 0 Q (F0 m (pc + 1) ls (.int (iI x - iI x / iI y * iI y) :: rest.map tv))
  rw [e1]
  have r1 : 0 ≤ x % y ∧ x % y ≤ 2147483647 := ⟨Int.emod_nonneg x (by omega), by have := Int.emod_lt_of_pos x hy; omega⟩
  exact k hO hD hg hl (wf_k (show -2147483648 ≤ x % y ∧ x % y ≤ 2147483647 by omega) (wf_c h2).2) H locs ls hP hS hv
theorem v_i2b {w : WS} {κ : KX} {R : Room} {cc : ByteArray} {nL : Nat} {σ : Sg} {lv : LV} {pc : Nat} {rest : List AV} {x : Int} (hd : decode cc pc = .ok (.i2b, 1)) (hx : -128 ≤ x ∧ x ≤ 127) (k : V w κ R cc nL σ lv (pc + 1) (.inl x :: rest)) : V w κ R cc nL σ lv pc (.inl x :: rest) := by
  obtain ⟨⟨p, l, e, s, m, args⟩, ⟨below, meth, c, Q, A⟩, D, h, ad, cT⟩ := κ
  intro hO hD hg hl hs H locs ls hP hS hv
  exact lv_i2b (v := iI x) hO.1 hO.2.1 hd (iI_b hx) (k hO hD hg hl hs H locs ls hP hS hv)
theorem v_iand {w : WS} {κ : KX} {R : Room} {cc : ByteArray} {nL : Nat} {σ : Sg} {lv : LV} {pc : Nat} {rest : List AV} {x y : Int} (z : Int) (hd : decode cc pc = .ok (.iand, 1)) (hz : iI x &&& iI y = iI z) (hr : -2147483648 ≤ z ∧ z ≤ 2147483647) (k : V w κ R cc nL σ lv (pc + 1) (.inl z :: rest)) : V w κ R cc nL σ lv pc (.inl y :: .inl x :: rest) := by
  obtain ⟨⟨p, l, e, s, m, args⟩, ⟨below, meth, c, Q, A⟩, D, h, ad, cT⟩ := κ
  intro hO hD hg hl hs H locs ls hP hS hv
  refine lv_iand hO.1 hO.2.1 hd ?_
  show W p l e R s m args below meth c H locs 0 0 Q (F0 m (pc + 1) ls (.int (iI x &&& iI y) :: rest.map tv))
  rw [hz]
  exact k hO hD hg hl (wf_k hr (wf_c (wf_c hs).2).2) H locs ls hP hS hv
theorem v_ior {w : WS} {κ : KX} {R : Room} {cc : ByteArray} {nL : Nat} {σ : Sg} {lv : LV} {pc : Nat} {rest : List AV} {x y : Int} (z : Int) (hd : decode cc pc = .ok (.ior, 1)) (hz : iI x ||| iI y = iI z) (hr : -2147483648 ≤ z ∧ z ≤ 2147483647) (k : V w κ R cc nL σ lv (pc + 1) (.inl z :: rest)) : V w κ R cc nL σ lv pc (.inl y :: .inl x :: rest) := by
  obtain ⟨⟨p, l, e, s, m, args⟩, ⟨below, meth, c, Q, A⟩, D, h, ad, cT⟩ := κ
  intro hO hD hg hl hs H locs ls hP hS hv
  refine lv_ior hO.1 hO.2.1 hd ?_
  show W p l e R s m args below meth c H locs 0 0 Q (F0 m (pc + 1) ls (.int (iI x ||| iI y) :: rest.map tv))
  rw [hz]
  exact k hO hD hg hl (wf_k hr (wf_c (wf_c hs).2).2) H locs ls hP hS hv
theorem v_ishl {w : WS} {κ : KX} {R : Room} {cc : ByteArray} {nL : Nat} {σ : Sg} {lv : LV} {pc : Nat} {rest : List AV} {x y : Int} (z : Int) (hd : decode cc pc = .ok (.ishl, 1)) (hz : iI x <<< (iI y &&& 31) = iI z) (hr : -2147483648 ≤ z ∧ z ≤ 2147483647) (k : V w κ R cc nL σ lv (pc + 1) (.inl z :: rest)) : V w κ R cc nL σ lv pc (.inl y :: .inl x :: rest) := by
  obtain ⟨⟨p, l, e, s, m, args⟩, ⟨below, meth, c, Q, A⟩, D, h, ad, cT⟩ := κ
  intro hO hD hg hl hs H locs ls hP hS hv
  refine lv_ishl hO.1 hO.2.1 hd ?_
  show W p l e R s m args below meth c H locs 0 0 Q (F0 m (pc + 1) ls (.int (iI x <<< (iI y &&& 31)) :: rest.map tv))
  rw [hz]
  exact k hO hD hg hl (wf_k hr (wf_c (wf_c hs).2).2) H locs ls hP hS hv
theorem v_ishr {w : WS} {κ : KX} {R : Room} {cc : ByteArray} {nL : Nat} {σ : Sg} {lv : LV} {pc : Nat} {rest : List AV} {x y : Int} (z : Int) (hd : decode cc pc = .ok (.ishr, 1)) (hz : iI x >>> (iI y &&& 31) = iI z) (hr : -2147483648 ≤ z ∧ z ≤ 2147483647) (k : V w κ R cc nL σ lv (pc + 1) (.inl z :: rest)) : V w κ R cc nL σ lv pc (.inl y :: .inl x :: rest) := by
  obtain ⟨⟨p, l, e, s, m, args⟩, ⟨below, meth, c, Q, A⟩, D, h, ad, cT⟩ := κ
  intro hO hD hg hl hs H locs ls hP hS hv
  refine lv_ishr hO.1 hO.2.1 hd ?_
  show W p l e R s m args below meth c H locs 0 0 Q (F0 m (pc + 1) ls (.int (iI x >>> (iI y &&& 31)) :: rest.map tv))
  rw [hz]
  exact k hO hD hg hl (wf_k hr (wf_c (wf_c hs).2).2) H locs ls hP hS hv
theorem v_dup {w : WS} {κ : KX} {R : Room} {cc : ByteArray} {nL : Nat} {σ : Sg} {lv : LV} {pc : Nat} {rest : List AV} {x : AV} (hd : decode cc pc = .ok (.dup, 1)) (hc : (tv x).category = 1) (k : V w κ R cc nL σ lv (pc + 1) (x :: x :: rest)) : V w κ R cc nL σ lv pc (x :: rest) := by
  obtain ⟨⟨p, l, e, s, m, args⟩, ⟨below, meth, c, Q, A⟩, D, h, ad, cT⟩ := κ
  intro hO hD hg hl hs H locs ls hP hS hv
  exact lv_dup hO.1 hO.2.1 hd hc (k hO hD hg hl (wf_k (wf_c hs).1 hs) H locs ls hP hS hv)
theorem v_pop {w : WS} {κ : KX} {R : Room} {cc : ByteArray} {nL : Nat} {σ : Sg} {lv : LV} {pc : Nat} {rest : List AV} {x : AV} (hd : decode cc pc = .ok (.pop, 1)) (hc : (tv x).category = 1) (k : V w κ R cc nL σ lv (pc + 1) rest) : V w κ R cc nL σ lv pc (x :: rest) := by
  obtain ⟨⟨p, l, e, s, m, args⟩, ⟨below, meth, c, Q, A⟩, D, h, ad, cT⟩ := κ
  intro hO hD hg hl hs H locs ls hP hS hv
  exact lv_pop hO.1 hO.2.1 hd hc (k hO hD hg hl (wf_c hs).2 H locs ls hP hS hv)
theorem v_dup2 {w : WS} {κ : KX} {R : Room} {cc : ByteArray} {nL : Nat} {σ : Sg} {lv : LV} {pc : Nat} {rest : List AV} {x y : AV} (hd : decode cc pc = .ok (.dup2, 1)) (hc : (tv x).category = 1) (hc2 : (tv y).category = 1) (k : V w κ R cc nL σ lv (pc + 1) (x :: y :: x :: y :: rest)) : V w κ R cc nL σ lv pc (x :: y :: rest) := by
  obtain ⟨⟨p, l, e, s, m, args⟩, ⟨below, meth, c, Q, A⟩, D, h, ad, cT⟩ := κ
  intro hO hD hg hl hs H locs ls hP hS hv
  exact lv_dup2_11 hO.1 hO.2.1 hd hc hc2 (k hO hD hg hl (wf_k (wf_c hs).1 (wf_k (wf_c (wf_c hs).2).1 hs)) H locs ls hP hS hv)
theorem v_icmp_eq {w : WS} {κ : KX} {R : Room} {cc : ByteArray} {nL : Nat} {σ : Sg} {lv : LV} {pc : Nat} {rest : List AV} {x y : Int} {off : Int} {tgt : Nat} (hd : decode cc pc = .ok (.if_icmp .eq off, 3)) (ht : (pc : Int) + off = (tgt : Int)) (kt : x = y → V w κ R cc nL σ lv tgt rest) (kf : ¬ x = y → V w κ R cc nL σ lv (pc + 3) rest) : V w κ R cc nL σ lv pc (.inl y :: .inl x :: rest) := by
  obtain ⟨⟨p, l, e, s, m, args⟩, ⟨below, meth, c, Q, A⟩, D, h, ad, cT⟩ := κ
  intro hO hD hg hl hs H locs ls hP hS hv
  have h2 := (wf_c hs).2
  have rx : -2147483648 ≤ x ∧ x ≤ 2147483647 := (wf_c h2).1
  have ry : -2147483648 ≤ y ∧ y ≤ 2147483647 := (wf_c hs).1
  exact lv_icmp_eq hO.1 hO.2.1 hd ht (fun hc => kt ((iI_eq rx ry).mp hc) hO hD hg hl (wf_c h2).2 H locs ls hP hS hv) (fun hc => kf (fun e1 => hc ((iI_eq rx ry).mpr e1)) hO hD hg hl (wf_c h2).2 H locs ls hP hS hv)
theorem v_if_eq {w : WS} {κ : KX} {R : Room} {cc : ByteArray} {nL : Nat} {σ : Sg} {lv : LV} {pc : Nat} {rest : List AV} {x : Int} {off : Int} {tgt : Nat} (hd : decode cc pc = .ok (.ifCond .eq off, 3)) (ht : (pc : Int) + off = (tgt : Int)) (kt : x = 0 → V w κ R cc nL σ lv tgt rest) (kf : ¬ x = 0 → V w κ R cc nL σ lv (pc + 3) rest) : V w κ R cc nL σ lv pc (.inl x :: rest) := by
  obtain ⟨⟨p, l, e, s, m, args⟩, ⟨below, meth, c, Q, A⟩, D, h, ad, cT⟩ := κ
  intro hO hD hg hl hs H locs ls hP hS hv
  have rx : -2147483648 ≤ x ∧ x ≤ 2147483647 := (wf_c hs).1
  have ry : -2147483648 ≤ (0 : Int) ∧ (0 : Int) ≤ 2147483647 := by omega
  exact lv_if_eq hO.1 hO.2.1 hd ht (fun hc => kt ((iI_eq rx ry).mp hc) hO hD hg hl (wf_c hs).2 H locs ls hP hS hv) (fun hc => kf (fun e1 => hc ((iI_eq rx ry).mpr e1)) hO hD hg hl (wf_c hs).2 H locs ls hP hS hv)
theorem v_icmp_ne {w : WS} {κ : KX} {R : Room} {cc : ByteArray} {nL : Nat} {σ : Sg} {lv : LV} {pc : Nat} {rest : List AV} {x y : Int} {off : Int} {tgt : Nat} (hd : decode cc pc = .ok (.if_icmp .ne off, 3)) (ht : (pc : Int) + off = (tgt : Int)) (kt : x ≠ y → V w κ R cc nL σ lv tgt rest) (kf : x = y → V w κ R cc nL σ lv (pc + 3) rest) : V w κ R cc nL σ lv pc (.inl y :: .inl x :: rest) := by
  obtain ⟨⟨p, l, e, s, m, args⟩, ⟨below, meth, c, Q, A⟩, D, h, ad, cT⟩ := κ
  intro hO hD hg hl hs H locs ls hP hS hv
  have h2 := (wf_c hs).2
  have rx : -2147483648 ≤ x ∧ x ≤ 2147483647 := (wf_c h2).1
  have ry : -2147483648 ≤ y ∧ y ≤ 2147483647 := (wf_c hs).1
  exact lv_icmp_ne hO.1 hO.2.1 hd ht (fun hc => kt (fun e1 => hc ((iI_eq rx ry).mpr e1)) hO hD hg hl (wf_c h2).2 H locs ls hP hS hv) (fun hc => kf ((iI_eq rx ry).mp hc) hO hD hg hl (wf_c h2).2 H locs ls hP hS hv)
theorem v_if_ne {w : WS} {κ : KX} {R : Room} {cc : ByteArray} {nL : Nat} {σ : Sg} {lv : LV} {pc : Nat} {rest : List AV} {x : Int} {off : Int} {tgt : Nat} (hd : decode cc pc = .ok (.ifCond .ne off, 3)) (ht : (pc : Int) + off = (tgt : Int)) (kt : x ≠ 0 → V w κ R cc nL σ lv tgt rest) (kf : x = 0 → V w κ R cc nL σ lv (pc + 3) rest) : V w κ R cc nL σ lv pc (.inl x :: rest) := by
  obtain ⟨⟨p, l, e, s, m, args⟩, ⟨below, meth, c, Q, A⟩, D, h, ad, cT⟩ := κ
  intro hO hD hg hl hs H locs ls hP hS hv
  have rx : -2147483648 ≤ x ∧ x ≤ 2147483647 := (wf_c hs).1
  have ry : -2147483648 ≤ (0 : Int) ∧ (0 : Int) ≤ 2147483647 := by omega
  exact lv_if_ne hO.1 hO.2.1 hd ht (fun hc => kt (fun e1 => hc ((iI_eq rx ry).mpr e1)) hO hD hg hl (wf_c hs).2 H locs ls hP hS hv) (fun hc => kf ((iI_eq rx ry).mp hc) hO hD hg hl (wf_c hs).2 H locs ls hP hS hv)
theorem v_icmp_lt {w : WS} {κ : KX} {R : Room} {cc : ByteArray} {nL : Nat} {σ : Sg} {lv : LV} {pc : Nat} {rest : List AV} {x y : Int} {off : Int} {tgt : Nat} (hd : decode cc pc = .ok (.if_icmp .lt off, 3)) (ht : (pc : Int) + off = (tgt : Int)) (kt : x < y → V w κ R cc nL σ lv tgt rest) (kf : y ≤ x → V w κ R cc nL σ lv (pc + 3) rest) : V w κ R cc nL σ lv pc (.inl y :: .inl x :: rest) := by
  obtain ⟨⟨p, l, e, s, m, args⟩, ⟨below, meth, c, Q, A⟩, D, h, ad, cT⟩ := κ
  intro hO hD hg hl hs H locs ls hP hS hv
  have h2 := (wf_c hs).2
  have rx : -2147483648 ≤ x ∧ x ≤ 2147483647 := (wf_c h2).1
  have ry : -2147483648 ≤ y ∧ y ≤ 2147483647 := (wf_c hs).1
  exact lv_icmp_lt hO.1 hO.2.1 hd ht (fun hc => kt ((iI_lt rx ry).mp hc) hO hD hg hl (wf_c h2).2 H locs ls hP hS hv) (fun hc => kf (by have := mt (iI_lt rx ry).mpr hc; omega) hO hD hg hl (wf_c h2).2 H locs ls hP hS hv)
theorem v_if_lt {w : WS} {κ : KX} {R : Room} {cc : ByteArray} {nL : Nat} {σ : Sg} {lv : LV} {pc : Nat} {rest : List AV} {x : Int} {off : Int} {tgt : Nat} (hd : decode cc pc = .ok (.ifCond .lt off, 3)) (ht : (pc : Int) + off = (tgt : Int)) (kt : x < 0 → V w κ R cc nL σ lv tgt rest) (kf : 0 ≤ x → V w κ R cc nL σ lv (pc + 3) rest) : V w κ R cc nL σ lv pc (.inl x :: rest) := by
  obtain ⟨⟨p, l, e, s, m, args⟩, ⟨below, meth, c, Q, A⟩, D, h, ad, cT⟩ := κ
  intro hO hD hg hl hs H locs ls hP hS hv
  have rx : -2147483648 ≤ x ∧ x ≤ 2147483647 := (wf_c hs).1
  have ry : -2147483648 ≤ (0 : Int) ∧ (0 : Int) ≤ 2147483647 := by omega
  exact lv_if_lt hO.1 hO.2.1 hd ht (fun hc => kt ((iI_lt rx ry).mp hc) hO hD hg hl (wf_c hs).2 H locs ls hP hS hv) (fun hc => kf (by have := mt (iI_lt rx ry).mpr hc; omega) hO hD hg hl (wf_c hs).2 H locs ls hP hS hv)
theorem v_icmp_ge {w : WS} {κ : KX} {R : Room} {cc : ByteArray} {nL : Nat} {σ : Sg} {lv : LV} {pc : Nat} {rest : List AV} {x y : Int} {off : Int} {tgt : Nat} (hd : decode cc pc = .ok (.if_icmp .ge off, 3)) (ht : (pc : Int) + off = (tgt : Int)) (kt : y ≤ x → V w κ R cc nL σ lv tgt rest) (kf : x < y → V w κ R cc nL σ lv (pc + 3) rest) : V w κ R cc nL σ lv pc (.inl y :: .inl x :: rest) := by
  obtain ⟨⟨p, l, e, s, m, args⟩, ⟨below, meth, c, Q, A⟩, D, h, ad, cT⟩ := κ
  intro hO hD hg hl hs H locs ls hP hS hv
  have h2 := (wf_c hs).2
  have rx : -2147483648 ≤ x ∧ x ≤ 2147483647 := (wf_c h2).1
  have ry : -2147483648 ≤ y ∧ y ≤ 2147483647 := (wf_c hs).1
  exact lv_icmp_ge hO.1 hO.2.1 hd ht (fun hc => kt ((iI_le ry rx).mp hc) hO hD hg hl (wf_c h2).2 H locs ls hP hS hv) (fun hc => kf (by have := mt (iI_le ry rx).mpr hc; omega) hO hD hg hl (wf_c h2).2 H locs ls hP hS hv)
theorem v_if_ge {w : WS} {κ : KX} {R : Room} {cc : ByteArray} {nL : Nat} {σ : Sg} {lv : LV} {pc : Nat} {rest : List AV} {x : Int} {off : Int} {tgt : Nat} (hd : decode cc pc = .ok (.ifCond .ge off, 3)) (ht : (pc : Int) + off = (tgt : Int)) (kt : 0 ≤ x → V w κ R cc nL σ lv tgt rest) (kf : x < 0 → V w κ R cc nL σ lv (pc + 3) rest) : V w κ R cc nL σ lv pc (.inl x :: rest) := by
  obtain ⟨⟨p, l, e, s, m, args⟩, ⟨below, meth, c, Q, A⟩, D, h, ad, cT⟩ := κ
  intro hO hD hg hl hs H locs ls hP hS hv
  have rx : -2147483648 ≤ x ∧ x ≤ 2147483647 := (wf_c hs).1
  have ry : -2147483648 ≤ (0 : Int) ∧ (0 : Int) ≤ 2147483647 := by omega
  exact lv_if_ge hO.1 hO.2.1 hd ht (fun hc => kt ((iI_le ry rx).mp hc) hO hD hg hl (wf_c hs).2 H locs ls hP hS hv) (fun hc => kf (by have := mt (iI_le ry rx).mpr hc; omega) hO hD hg hl (wf_c hs).2 H locs ls hP hS hv)
theorem v_icmp_gt {w : WS} {κ : KX} {R : Room} {cc : ByteArray} {nL : Nat} {σ : Sg} {lv : LV} {pc : Nat} {rest : List AV} {x y : Int} {off : Int} {tgt : Nat} (hd : decode cc pc = .ok (.if_icmp .gt off, 3)) (ht : (pc : Int) + off = (tgt : Int)) (kt : y < x → V w κ R cc nL σ lv tgt rest) (kf : x ≤ y → V w κ R cc nL σ lv (pc + 3) rest) : V w κ R cc nL σ lv pc (.inl y :: .inl x :: rest) := by
  obtain ⟨⟨p, l, e, s, m, args⟩, ⟨below, meth, c, Q, A⟩, D, h, ad, cT⟩ := κ
  intro hO hD hg hl hs H locs ls hP hS hv
  have h2 := (wf_c hs).2
  have rx : -2147483648 ≤ x ∧ x ≤ 2147483647 := (wf_c h2).1
  have ry : -2147483648 ≤ y ∧ y ≤ 2147483647 := (wf_c hs).1
  exact lv_icmp_gt hO.1 hO.2.1 hd ht (fun hc => kt ((iI_lt ry rx).mp hc) hO hD hg hl (wf_c h2).2 H locs ls hP hS hv) (fun hc => kf (by have := mt (iI_lt ry rx).mpr hc; omega) hO hD hg hl (wf_c h2).2 H locs ls hP hS hv)
theorem v_if_gt {w : WS} {κ : KX} {R : Room} {cc : ByteArray} {nL : Nat} {σ : Sg} {lv : LV} {pc : Nat} {rest : List AV} {x : Int} {off : Int} {tgt : Nat} (hd : decode cc pc = .ok (.ifCond .gt off, 3)) (ht : (pc : Int) + off = (tgt : Int)) (kt : 0 < x → V w κ R cc nL σ lv tgt rest) (kf : x ≤ 0 → V w κ R cc nL σ lv (pc + 3) rest) : V w κ R cc nL σ lv pc (.inl x :: rest) := by
  obtain ⟨⟨p, l, e, s, m, args⟩, ⟨below, meth, c, Q, A⟩, D, h, ad, cT⟩ := κ
  intro hO hD hg hl hs H locs ls hP hS hv
  have rx : -2147483648 ≤ x ∧ x ≤ 2147483647 := (wf_c hs).1
  have ry : -2147483648 ≤ (0 : Int) ∧ (0 : Int) ≤ 2147483647 := by omega
  exact lv_if_gt hO.1 hO.2.1 hd ht (fun hc => kt ((iI_lt ry rx).mp hc) hO hD hg hl (wf_c hs).2 H locs ls hP hS hv) (fun hc => kf (by have := mt (iI_lt ry rx).mpr hc; omega) hO hD hg hl (wf_c hs).2 H locs ls hP hS hv)
theorem v_icmp_le {w : WS} {κ : KX} {R : Room} {cc : ByteArray} {nL : Nat} {σ : Sg} {lv : LV} {pc : Nat} {rest : List AV} {x y : Int} {off : Int} {tgt : Nat} (hd : decode cc pc = .ok (.if_icmp .le off, 3)) (ht : (pc : Int) + off = (tgt : Int)) (kt : x ≤ y → V w κ R cc nL σ lv tgt rest) (kf : y < x → V w κ R cc nL σ lv (pc + 3) rest) : V w κ R cc nL σ lv pc (.inl y :: .inl x :: rest) := by
  obtain ⟨⟨p, l, e, s, m, args⟩, ⟨below, meth, c, Q, A⟩, D, h, ad, cT⟩ := κ
  intro hO hD hg hl hs H locs ls hP hS hv
  have h2 := (wf_c hs).2
  have rx : -2147483648 ≤ x ∧ x ≤ 2147483647 := (wf_c h2).1
  have ry : -2147483648 ≤ y ∧ y ≤ 2147483647 := (wf_c hs).1
  exact lv_icmp_le hO.1 hO.2.1 hd ht (fun hc => kt ((iI_le rx ry).mp hc) hO hD hg hl (wf_c h2).2 H locs ls hP hS hv) (fun hc => kf (by have := mt (iI_le rx ry).mpr hc; omega) hO hD hg hl (wf_c h2).2 H locs ls hP hS hv)
theorem v_if_le {w : WS} {κ : KX} {R : Room} {cc : ByteArray} {nL : Nat} {σ : Sg} {lv : LV} {pc : Nat} {rest : List AV} {x : Int} {off : Int} {tgt : Nat} (hd : decode cc pc = .ok (.ifCond .le off, 3)) (ht : (pc : Int) + off = (tgt : Int)) (kt : x ≤ 0 → V w κ R cc nL σ lv tgt rest) (kf : 0 < x → V w κ R cc nL σ lv (pc + 3) rest) : V w κ R cc nL σ lv pc (.inl x :: rest) := by
  obtain ⟨⟨p, l, e, s, m, args⟩, ⟨below, meth, c, Q, A⟩, D, h, ad, cT⟩ := κ
  intro hO hD hg hl hs H locs ls hP hS hv
  have rx : -2147483648 ≤ x ∧ x ≤ 2147483647 := (wf_c hs).1
  have ry : -2147483648 ≤ (0 : Int) ∧ (0 : Int) ≤ 2147483647 := by omega
  exact lv_if_le hO.1 hO.2.1 hd ht (fun hc => kt ((iI_le rx ry).mp hc) hO hD hg hl (wf_c hs).2 H locs ls hP hS hv) (fun hc => kf (by have := mt (iI_le rx ry).mpr hc; omega) hO hD hg hl (wf_c hs).2 H locs ls hP hS hv)
theorem v_goto {w : WS} {κ : KX} {R : Room} {cc : ByteArray} {nL : Nat} {σ : Sg} {lv : LV} {pc : Nat} {rest : List AV} {off : Int} {tgt : Nat} (hd : decode cc pc = .ok (.goto off, 3)) (ht : (pc : Int) + off = (tgt : Int)) (k : V w κ R cc nL σ lv tgt rest) : V w κ R cc nL σ lv pc rest := by
  obtain ⟨⟨p, l, e, s, m, args⟩, ⟨below, meth, c, Q, A⟩, D, h, ad, cT⟩ := κ
  intro hO hD hg hl hs H locs ls hP hS hv
  exact lv_goto hO.1 hO.2.1 hd ht (k hO hD hg hl hs H locs ls hP hS hv)
theorem v_getI {w : WS} {κ : KX} {R : Room} {cc : ByteArray} {nL : Nat} {σ : Sg} {lv : LV} {pc : Nat} {rest : List AV} (hw : WSok w) (k : Nat) {idx : Nat} (hk : k < w.2.1.2.2) (hz : w.2.2.1 k = 0) (hlink : Cond.fieldLink w.2.1.1 idx w.2.1.1 (w.2.1.2.1 k).2.1 (w.2.1.2.1 k).2.2.1 ∈ lw_all) (hd : decode cc pc = .ok (.getfield idx, 3)) (kk : V w κ R cc nL σ lv (pc + 3) (.inl (σ k 0) :: rest)) (he : w.2.2.2.2 k ≠ 2) : V w κ R cc nL σ lv pc (rH κ :: rest) := by
  obtain ⟨⟨p, l, e, s, m, args⟩, ⟨below, meth, c, Q, A⟩, D, h, ad, cT⟩ := κ
  intro hO hD hg hl hs H locs ls hP hS hv
  exact va_get (q0 := 0) (v := .int (iI (σ k 0))) hO.1 hO.2.1 hO.2.2.2.2.1 hw.2.1 hO.2.2.2.1 hO.2.2.2.2.2.1 hP rfl hw.1 k hk (hO.2.2.2.2.1 _ hlink) (fun x hx => by rw [hw.2.2.1 k hk] at hx; exact hx) (by unfold fsOf; rw [List.getElem?_map, List.getElem?_range hk]; simp [hz]) hd (kk hO hD hg hl (wf_k ((hg k 0).2 he) (wf_c hs).2) H locs ls hP hS hv)
theorem v_getA {w : WS} {κ : KX} {R : Room} {cc : ByteArray} {nL : Nat} {σ : Sg} {lv : LV} {pc : Nat} {rest : List AV} (hw : WSok w) (k : Nat) {idx : Nat} (hk : k < w.2.1.2.2) (hz : w.2.2.1 k ≠ 0) (hlink : Cond.fieldLink w.2.1.1 idx w.2.1.1 (w.2.1.2.1 k).2.1 (w.2.1.2.1 k).2.2.1 ∈ lw_all) (hd : decode cc pc = .ok (.getfield idx, 3)) (kk : V w κ R cc nL σ lv (pc + 3) (rA κ k :: rest)) : V w κ R cc nL σ lv pc (rH κ :: rest) := by
  obtain ⟨⟨p, l, e, s, m, args⟩, ⟨below, meth, c, Q, A⟩, D, h, ad, cT⟩ := κ
  intro hO hD hg hl hs H locs ls hP hS hv
  exact va_get (q0 := 0) (v := .ref (ad k)) hO.1 hO.2.1 hO.2.2.2.2.1 hw.2.1 hO.2.2.2.1 hO.2.2.2.2.2.1 hP rfl hw.1 k hk (hO.2.2.2.2.1 _ hlink) (fun x hx => by rw [hw.2.2.1 k hk] at hx; exact hx) (by unfold fsOf; rw [List.getElem?_map, List.getElem?_range hk]; simp [hz]) hd (kk hO hD hg hl (wf_k trivial (wf_c hs).2) H locs ls hP hS hv)
theorem v_putI {w : WS} {κ : KX} {R : Room} {cc : ByteArray} {nL : Nat} {σ : Sg} {lv : LV} {pc : Nat} {rest : List AV} {x : Int} (hw : WSok w) (k : Nat) {idx : Nat} (hk : k < w.2.1.2.2) (hz : w.2.2.1 k = 0) (hlink : Cond.fieldLink w.2.1.1 idx w.2.1.1 (w.2.1.2.1 k).2.1 (w.2.1.2.1 k).2.2.1 ∈ lw_all) (hf : (w.2.1.2.1 k).2.2.2 = false) (hpd : parseFieldDescriptor (w.2.1.2.1 k).2.2.1 = some .int) (he : w.2.2.2.2 k ≠ 2) (hd : decode cc pc = .ok (.putfield idx, 3)) (kk : V w κ R cc nL (up σ k 0 x) lv (pc + 3) rest) : V w κ R cc nL σ lv pc (.inl x :: rH κ :: rest) := by
  obtain ⟨⟨p, l, e, s, m, args⟩, ⟨below, meth, c, Q, A⟩, D, h, ad, cT⟩ := κ
  intro hO hD hg hl hs H locs ls hP hS hv
  obtain ⟨ty0, hty⟩ := hw.2.2.2.1
  refine va_put (q0 := 0) (v := .int (iI x)) (ty := .int) hO.1 hO.2.1 hO.2.2.2.2.1 hw.2.1 ty0 hty hw.2.2.2.2.1 hO.2.2.2.1 hO.2.2.2.2.2.1 hP hD hS rfl hw.1 k hk (hO.2.2.2.2.1 _ hlink) (fun x hx => by rw [hw.2.2.1 k hk] at hx; exact hx) hf hpd rfl rfl (by unfold fsOf; rw [List.length_map, List.length_range]; exact hk) hd (fun H1 locs1 hP1 hD1 hS1 => ?_)
  have hP1 : va_P D vwCl ((pw w h ad cT σ).set 0 (h, .inr (w.1, (fsOf w ad σ).set k (.int (iI x))))) H1 := hP1
  have hD1 : va_D A ((pw w h ad cT σ).set 0 (h, .inr (w.1, (fsOf w ad σ).set k (.int (iI x))))) := hD1
  rw [pw_put hw hk hz] at hP1 hD1
  exact kk hO hD1 (hg.up (fun e => absurd e he) (fun _ => (wf_c hs).1)) hl (wf_c (wf_c hs).2).2 H1 locs1 ls hP1 hS1 hv
theorem v_putZ {w : WS} {κ : KX} {R : Room} {cc : ByteArray} {nL : Nat} {σ : Sg} {lv : LV} {pc : Nat} {rest : List AV} {x : Int} (hw : WSok w) (k : Nat) {idx : Nat} (hk : k < w.2.1.2.2) (hz : w.2.2.1 k = 0) (hlink : Cond.fieldLink w.2.1.1 idx w.2.1.1 (w.2.1.2.1 k).2.1 (w.2.1.2.1 k).2.2.1 ∈ lw_all) (hf : (w.2.1.2.1 k).2.2.2 = false) (hpd : parseFieldDescriptor (w.2.1.2.1 k).2.2.1 = some .boolean) (he : w.2.2.2.2 k ≠ 2) (hx : x = 0 ∨ x = 1) (hd : decode cc pc = .ok (.putfield idx, 3)) (kk : V w κ R cc nL (up σ k 0 x) lv (pc + 3) rest) : V w κ R cc nL σ lv pc (.inl x :: rH κ :: rest) := by
  obtain ⟨⟨p, l, e, s, m, args⟩, ⟨below, meth, c, Q, A⟩, D, h, ad, cT⟩ := κ
  intro hO hD hg hl hs H locs ls hP hS hv
  obtain ⟨ty0, hty⟩ := hw.2.2.2.1
  refine va_put (q0 := 0) (v := .int (iI x)) (ty := .boolean) hO.1 hO.2.1 hO.2.2.2.2.1 hw.2.1 ty0 hty hw.2.2.2.2.1 hO.2.2.2.1 hO.2.2.2.2.2.1 hP hD hS rfl hw.1 k hk (hO.2.2.2.2.1 _ hlink) (fun x hx => by rw [hw.2.2.1 k hk] at hx; exact hx) hf hpd (by rcases hx with e | e <;> subst e <;> rfl) (by rcases hx with e | e <;> subst e <;> rfl) (by unfold fsOf; rw [List.length_map, List.length_range]; exact hk) hd (fun H1 locs1 hP1 hD1 hS1 => ?_)
  have hP1 : va_P D vwCl ((pw w h ad cT σ).set 0 (h, .inr (w.1, (fsOf w ad σ).set k (.int (iI x))))) H1 := hP1
  have hD1 : va_D A ((pw w h ad cT σ).set 0 (h, .inr (w.1, (fsOf w ad σ).set k (.int (iI x))))) := hD1
  rw [pw_put hw hk hz] at hP1 hD1
  exact kk hO hD1 (hg.up (fun e => absurd e he) (fun _ => (wf_c hs).1)) hl (wf_c (wf_c hs).2).2 H1 locs1 ls hP1 hS1 hv
theorem v_bald {w : WS} {κ : KX} {R : Room} {cc : ByteArray} {nL : Nat} {σ : Sg} {lv : LV} {pc : Nat} {rest : List AV} {k : Nat} {x : Int} {n : Nat} (hw : WSok w) (hk : k ∈ w.2.2.2.1) (hn : w.2.2.1 k = n) (he : w.2.2.2.2 k = 0) (hd : decode cc pc = .ok (.baload, 1)) (hin : 0 ≤ x ∧ x < (n : Int)) (kk : V w κ R cc nL σ lv (pc + 1) ((.inl (σ k x)) :: rest)) : V w κ R cc nL σ lv pc (.inl x :: rA κ k :: rest) := by
  obtain ⟨⟨p, l, e, s, m, args⟩, ⟨below, meth, c, Q, A⟩, D, h, ad, cT⟩ := κ
  intro hO hD hg hl hs H locs ls hP hS hv
  obtain ⟨j, hj, hj2⟩ := pw_arr (h := h) (ad := ad) (cT := cT) (σ := σ) hk
  have hlen := (hw.2.2.2.2.2.1 k hk).2.2
  rw [hn] at hlen
  have e0 : ceOf w ad cT σ k = (ad k, .inl (cT 0, n, .inl (fun j => iI (σ k j)))) := by
    unfold ceOf ctOf
    rw [he, hn]
    rfl
  rw [e0] at hj2
  have h2 := (wf_c hs).2
  have hi : (iI x).toNatClampNeg = x.toNat := iI_cl (by omega)
  have k1 := kk hO hD hg hl (wf_k ((hg k x).2 (by rw [he]; decide)) (wf_c h2).2) H locs ls hP hS hv
  refine va_bald (q0 := j + 1) (t0 := 0) hO.1 hO.2.1 hO.2.2.2.2.2.1 hP hj2 rfl (iI_in hin hlen) hd ?_
  show W p l e R s m args below meth c H locs 0 0 Q (F0 m (pc + 1) ls (.int (iI (σ k ((iI x).toNatClampNeg : Nat))) :: rest.map tv))
  rw [hi, Int.toNat_of_nonneg hin.1]
  exact k1
theorem v_iald {w : WS} {κ : KX} {R : Room} {cc : ByteArray} {nL : Nat} {σ : Sg} {lv : LV} {pc : Nat} {rest : List AV} {k : Nat} {x : Int} {n : Nat} (hw : WSok w) (hk : k ∈ w.2.2.2.1) (hn : w.2.2.1 k = n) (he : w.2.2.2.2 k = 1) (hd : decode cc pc = .ok (.iaload, 1)) (hin : 0 ≤ x ∧ x < (n : Int)) (kk : V w κ R cc nL σ lv (pc + 1) ((.inl (σ k x)) :: rest)) : V w κ R cc nL σ lv pc (.inl x :: rA κ k :: rest) := by
  obtain ⟨⟨p, l, e, s, m, args⟩, ⟨below, meth, c, Q, A⟩, D, h, ad, cT⟩ := κ
  intro hO hD hg hl hs H locs ls hP hS hv
  obtain ⟨j, hj, hj2⟩ := pw_arr (h := h) (ad := ad) (cT := cT) (σ := σ) hk
  have hlen := (hw.2.2.2.2.2.1 k hk).2.2
  rw [hn] at hlen
  have e0 : ceOf w ad cT σ k = (ad k, .inl (cT 1, n, .inl (fun j => iI (σ k j)))) := by
    unfold ceOf ctOf
    rw [he, hn]
    rfl
  rw [e0] at hj2
  have h2 := (wf_c hs).2
  have hi : (iI x).toNatClampNeg = x.toNat := iI_cl (by omega)
  have k1 := kk hO hD hg hl (wf_k ((hg k x).2 (by rw [he]; decide)) (wf_c h2).2) H locs ls hP hS hv
  refine va_iald (q0 := j + 1) (t0 := 1) hO.1 hO.2.1 hO.2.2.2.2.2.1 hP hj2 rfl (iI_in hin hlen) hd ?_
  show W p l e R s m args below meth c H locs 0 0 Q (F0 m (pc + 1) ls (.int (iI (σ k ((iI x).toNatClampNeg : Nat))) :: rest.map tv))
  rw [hi, Int.toNat_of_nonneg hin.1]
  exact k1
theorem v_lald {w : WS} {κ : KX} {R : Room} {cc : ByteArray} {nL : Nat} {σ : Sg} {lv : LV} {pc : Nat} {rest : List AV} {k : Nat} {x : Int} {n : Nat} (hw : WSok w) (hk : k ∈ w.2.2.2.1) (hn : w.2.2.1 k = n) (he : w.2.2.2.2 k = 2) (hd : decode cc pc = .ok (.laload, 1)) (hin : 0 ≤ x ∧ x < (n : Int)) (kk : V w κ R cc nL σ lv (pc + 1) ((.inr (.inr (σ k x))) :: rest)) : V w κ R cc nL σ lv pc (.inl x :: rA κ k :: rest) := by
  obtain ⟨⟨p, l, e, s, m, args⟩, ⟨below, meth, c, Q, A⟩, D, h, ad, cT⟩ := κ
  intro hO hD hg hl hs H locs ls hP hS hv
  obtain ⟨j, hj, hj2⟩ := pw_arr (h := h) (ad := ad) (cT := cT) (σ := σ) hk
  have hlen := (hw.2.2.2.2.2.1 k hk).2.2
  rw [hn] at hlen
  have e0 : ceOf w ad cT σ k = (ad k, .inl (cT 2, n, .inr (.inl (fun j => lI (σ k j))))) := by
    unfold ceOf ctOf
    rw [he, hn]
    rfl
  rw [e0] at hj2
  have h2 := (wf_c hs).2
  have hi : (iI x).toNatClampNeg = x.toNat := iI_cl (by omega)
  have k1 := kk hO hD hg hl (wf_k ((hg k x).1 he) (wf_c h2).2) H locs ls hP hS hv
  refine va_lald (q0 := j + 1) (t0 := 2) hO.1 hO.2.1 hO.2.2.2.2.2.1 hP hj2 rfl (iI_in hin hlen) hd ?_
  show W p l e R s m args below meth c H locs 0 0 Q (F0 m (pc + 1) ls (.long (lI (σ k ((iI x).toNatClampNeg : Nat))) :: rest.map tv))
  rw [hi, Int.toNat_of_nonneg hin.1]
  exact k1
theorem v_bast {w : WS} {κ : KX} {R : Room} {cc : ByteArray} {nL : Nat} {σ : Sg} {lv : LV} {pc : Nat} {rest : List AV} {y : Int} {k : Nat} {x : Int} {n : Nat} (hw : WSok w) (hk : k ∈ w.2.2.2.1) (hn : w.2.2.1 k = n) (he : w.2.2.2.2 k = 0) (hd : decode cc pc = .ok (.bastore, 1)) (hin : 0 ≤ x ∧ x < (n : Int)) (hy : -128 ≤ y ∧ y ≤ 127) (kk : V w κ R cc nL (up σ k x y) lv (pc + 1) rest) : V w κ R cc nL σ lv pc (.inl y :: .inl x :: rA κ k :: rest) := by
  obtain ⟨⟨p, l, e, s, m, args⟩, ⟨below, meth, c, Q, A⟩, D, h, ad, cT⟩ := κ
  intro hO hD hg hl hs H locs ls hP hS hv
  obtain ⟨j, hj, hj2⟩ := pw_arr (h := h) (ad := ad) (cT := cT) (σ := σ) hk
  have hl0 := (hw.2.2.2.2.2.1 k hk).2.1
  have hlen := (hw.2.2.2.2.2.1 k hk).2.2
  rw [hn] at hlen
  have e0 : ceOf w ad cT σ k = (ad k, .inl (cT 0, n, .inl (fun j => iI (σ k j)))) := by
    unfold ceOf ctOf
    rw [he, hn]
    rfl
  rw [e0] at hj2
  have h2 := (wf_c hs).2
  have hi : (iI x).toNatClampNeg = x.toNat := iI_cl (by omega)
  refine va_bast (q0 := j + 1) (t0 := 0) hO.1 hO.2.1 hO.2.2.2.2.2.1 hP hD hS hj2 rfl (iI_in hin hlen) hd (fun H1 locs1 hP1 hD1 hS1 => ?_)
  have e1 : ceOf w ad cT (up σ k x y) k = (ad k, .inl (cT 0, n, .inl (upd (fun j => iI (σ k j)) (iI x).toNatClampNeg (vp_nar .byte (iI y))))) := by
    unfold ceOf ctOf
    rw [he, hn, hi]
    rw [vp_nar_byte, iI_b hy]
    have e2 : (fun j : Nat => iI (up σ k x y k j)) = upd (fun j => iI (σ k j)) x.toNat (iI y) := by
      funext i
      unfold upd
      rw [up_a]
      by_cases hix : i = x.toNat
      · rw [if_pos hix, if_pos (by omega)]
      · rw [if_neg hix, if_neg (by omega)]
    simp only [e2]
    rfl
  rw [← e1, pw_set hw.2.2.2.2.2.2 hj hl0] at hP1 hD1
  exact kk hO hD1 (hg.up (fun e => absurd (he.symm.trans e) (by decide)) (fun _ => (wf_c hs).1)) hl (wf_c (wf_c h2).2).2 H1 locs1 ls hP1 hS1 hv
theorem v_iast {w : WS} {κ : KX} {R : Room} {cc : ByteArray} {nL : Nat} {σ : Sg} {lv : LV} {pc : Nat} {rest : List AV} {y : Int} {k : Nat} {x : Int} {n : Nat} (hw : WSok w) (hk : k ∈ w.2.2.2.1) (hn : w.2.2.1 k = n) (he : w.2.2.2.2 k = 1) (hd : decode cc pc = .ok (.iastore, 1)) (hin : 0 ≤ x ∧ x < (n : Int))  (kk : V w κ R cc nL (up σ k x y) lv (pc + 1) rest) : V w κ R cc nL σ lv pc (.inl y :: .inl x :: rA κ k :: rest) := by
  obtain ⟨⟨p, l, e, s, m, args⟩, ⟨below, meth, c, Q, A⟩, D, h, ad, cT⟩ := κ
  intro hO hD hg hl hs H locs ls hP hS hv
  obtain ⟨j, hj, hj2⟩ := pw_arr (h := h) (ad := ad) (cT := cT) (σ := σ) hk
  have hl0 := (hw.2.2.2.2.2.1 k hk).2.1
  have hlen := (hw.2.2.2.2.2.1 k hk).2.2
  rw [hn] at hlen
  have e0 : ceOf w ad cT σ k = (ad k, .inl (cT 1, n, .inl (fun j => iI (σ k j)))) := by
    unfold ceOf ctOf
    rw [he, hn]
    rfl
  rw [e0] at hj2
  have h2 := (wf_c hs).2
  have hi : (iI x).toNatClampNeg = x.toNat := iI_cl (by omega)
  refine va_iast (q0 := j + 1) (t0 := 1) hO.1 hO.2.1 hO.2.2.2.2.2.1 hP hD hS hj2 rfl (iI_in hin hlen) hd (fun H1 locs1 hP1 hD1 hS1 => ?_)
  have e1 : ceOf w ad cT (up σ k x y) k = (ad k, .inl (cT 1, n, .inl (upd (fun j => iI (σ k j)) (iI x).toNatClampNeg (iI y)))) := by
    unfold ceOf ctOf
    rw [he, hn, hi]
    skip
    have e2 : (fun j : Nat => iI (up σ k x y k j)) = upd (fun j => iI (σ k j)) x.toNat (iI y) := by
      funext i
      unfold upd
      rw [up_a]
      by_cases hix : i = x.toNat
      · rw [if_pos hix, if_pos (by omega)]
      · rw [if_neg hix, if_neg (by omega)]
    simp only [e2]
    rfl
  rw [← e1, pw_set hw.2.2.2.2.2.2 hj hl0] at hP1 hD1
  exact kk hO hD1 (hg.up (fun e => absurd (he.symm.trans e) (by decide)) (fun _ => (wf_c hs).1)) hl (wf_c (wf_c h2).2).2 H1 locs1 ls hP1 hS1 hv
theorem v_last {w : WS} {κ : KX} {R : Room} {cc : ByteArray} {nL : Nat} {σ : Sg} {lv : LV} {pc : Nat} {rest : List AV} {y : Int} {k : Nat} {x : Int} {n : Nat} (hw : WSok w) (hk : k ∈ w.2.2.2.1) (hn : w.2.2.1 k = n) (he : w.2.2.2.2 k = 2) (hd : decode cc pc = .ok (.lastore, 1)) (hin : 0 ≤ x ∧ x < (n : Int))  (kk : V w κ R cc nL (up σ k x y) lv (pc + 1) rest) : V w κ R cc nL σ lv pc (.inr (.inr y) :: .inl x :: rA κ k :: rest) := by
  obtain ⟨⟨p, l, e, s, m, args⟩, ⟨below, meth, c, Q, A⟩, D, h, ad, cT⟩ := κ
  intro hO hD hg hl hs H locs ls hP hS hv
  obtain ⟨j, hj, hj2⟩ := pw_arr (h := h) (ad := ad) (cT := cT) (σ := σ) hk
  have hl0 := (hw.2.2.2.2.2.1 k hk).2.1
  have hlen := (hw.2.2.2.2.2.1 k hk).2.2
  rw [hn] at hlen
  have e0 : ceOf w ad cT σ k = (ad k, .inl (cT 2, n, .inr (.inl (fun j => lI (σ k j))))) := by
    unfold ceOf ctOf
    rw [he, hn]
    rfl
  rw [e0] at hj2
  have h2 := (wf_c hs).2
  have hi : (iI x).toNatClampNeg = x.toNat := iI_cl (by omega)
  refine va_last (q0 := j + 1) (t0 := 2) hO.1 hO.2.1 hO.2.2.2.2.2.1 hP hD hS hj2 rfl (iI_in hin hlen) hd (fun H1 locs1 hP1 hD1 hS1 => ?_)
  have e1 : ceOf w ad cT (up σ k x y) k = (ad k, .inl (cT 2, n, .inr (.inl (vp_updL (fun j => lI (σ k j)) (iI x).toNatClampNeg (lI y))))) := by
    unfold ceOf ctOf
    rw [he, hn, hi]
    skip
    have e2 : (fun j : Nat => lI (up σ k x y k j)) = vp_updL (fun j => lI (σ k j)) x.toNat (lI y) := by
      funext i
      unfold vp_updL
      rw [up_a]
      by_cases hix : i = x.toNat
      · rw [if_pos hix, if_pos (by omega)]
      · rw [if_neg hix, if_neg (by omega)]
    simp only [e2]
    rfl
  rw [← e1, pw_set hw.2.2.2.2.2.2 hj hl0] at hP1 hD1
  exact kk hO hD1 (hg.up (fun _ => (wf_c hs).1) (fun e => absurd he e)) hl (wf_c (wf_c h2).2).2 H1 locs1 ls hP1 hS1 hv
theorem v_lor {w : WS} {κ : KX} {R : Room} {cc : ByteArray} {nL : Nat} {σ : Sg} {lv : LV} {pc : Nat} {rest : List AV} {x y : Int} (z : Int) (hd : decode cc pc = .ok (.lor, 1)) (hz : lI x ||| lI y = lI z) (hr : 0 ≤ z ∧ z < 18446744073709551616) (k : V w κ R cc nL σ lv (pc + 1) (.inr (.inr z) :: rest)) : V w κ R cc nL σ lv pc (.inr (.inr y) :: .inr (.inr x) :: rest) := by
  obtain ⟨⟨p, l, e, s, m, args⟩, ⟨below, meth, c, Q, A⟩, D, h, ad, cT⟩ := κ
  intro hO hD hg hl hs H locs ls hP hS hv
  refine lv_lor hO.1 hO.2.1 hd ?_
  show W p l e R s m args below meth c H locs 0 0 Q (F0 m (pc + 1) ls (.long (lI x ||| lI y) :: rest.map tv))
  rw [hz]
  exact k hO hD hg hl (wf_k hr (wf_c (wf_c hs).2).2) H locs ls hP hS hv
theorem v_land {w : WS} {κ : KX} {R : Room} {cc : ByteArray} {nL : Nat} {σ : Sg} {lv : LV} {pc : Nat} {rest : List AV} {x y : Int} (z : Int) (hd : decode cc pc = .ok (.land, 1)) (hz : lI x &&& lI y = lI z) (hr : 0 ≤ z ∧ z < 18446744073709551616) (k : V w κ R cc nL σ lv (pc + 1) (.inr (.inr z) :: rest)) : V w κ R cc nL σ lv pc (.inr (.inr y) :: .inr (.inr x) :: rest) := by
  obtain ⟨⟨p, l, e, s, m, args⟩, ⟨below, meth, c, Q, A⟩, D, h, ad, cT⟩ := κ
  intro hO hD hg hl hs H locs ls hP hS hv
  refine lv_land hO.1 hO.2.1 hd ?_
  show W p l e R s m args below meth c H locs 0 0 Q (F0 m (pc + 1) ls (.long (lI x &&& lI y) :: rest.map tv))
  rw [hz]
  exact k hO hD hg hl (wf_k hr (wf_c (wf_c hs).2).2) H locs ls hP hS hv
theorem v_lshl {w : WS} {κ : KX} {R : Room} {cc : ByteArray} {nL : Nat} {σ : Sg} {lv : LV} {pc : Nat} {rest : List AV} {x y : Int} (z : Int) (hd : decode cc pc = .ok (.lshl, 1)) (hz : lI x <<< ((iI y).toInt64 &&& 63) = lI z) (hr : 0 ≤ z ∧ z < 18446744073709551616) (k : V w κ R cc nL σ lv (pc + 1) (.inr (.inr z) :: rest)) : V w κ R cc nL σ lv pc (.inl y :: .inr (.inr x) :: rest) := by
  obtain ⟨⟨p, l, e, s, m, args⟩, ⟨below, meth, c, Q, A⟩, D, h, ad, cT⟩ := κ
  intro hO hD hg hl hs H locs ls hP hS hv
  exact lv_lshl (v := lI z) hO.1 hO.2.1 hd hz (k hO hD hg hl (wf_k hr (wf_c (wf_c hs).2).2) H locs ls hP hS hv)
theorem v_lushr {w : WS} {κ : KX} {R : Room} {cc : ByteArray} {nL : Nat} {σ : Sg} {lv : LV} {pc : Nat} {rest : List AV} {x y : Int} (z : Int) (hd : decode cc pc = .ok (.lushr, 1)) (hz : ((lI x).toUInt64 >>> ((iI y).toInt64.toUInt64 &&& Int64.toUInt64 63)).toInt64 = lI z) (hr : 0 ≤ z ∧ z < 18446744073709551616) (k : V w κ R cc nL σ lv (pc + 1) (.inr (.inr z) :: rest)) : V w κ R cc nL σ lv pc (.inl y :: .inr (.inr x) :: rest) := by
  obtain ⟨⟨p, l, e, s, m, args⟩, ⟨below, meth, c, Q, A⟩, D, h, ad, cT⟩ := κ
  intro hO hD hg hl hs H locs ls hP hS hv
  exact lv_lushr (v := lI z) hO.1 hO.2.1 hd hz (k hO hD hg hl (wf_k hr (wf_c (wf_c hs).2).2) H locs ls hP hS hv)
theorem v_l2i {w : WS} {κ : KX} {R : Room} {cc : ByteArray} {nL : Nat} {σ : Sg} {lv : LV} {pc : Nat} {rest : List AV} {x : Int} (z : Int) (hd : decode cc pc = .ok (.l2i, 1)) (hz : (lI x).toInt32 = iI z) (hr : -2147483648 ≤ z ∧ z ≤ 2147483647) (k : V w κ R cc nL σ lv (pc + 1) (.inl z :: rest)) : V w κ R cc nL σ lv pc (.inr (.inr x) :: rest) := by
  obtain ⟨⟨p, l, e, s, m, args⟩, ⟨below, meth, c, Q, A⟩, D, h, ad, cT⟩ := κ
  intro hO hD hg hl hs H locs ls hP hS hv
  exact lv_l2i (v := iI z) hO.1 hO.2.1 hd hz (k hO hD hg hl (wf_k hr (wf_c hs).2) H locs ls hP hS hv)
theorem v_lcmp {w : WS} {κ : KX} {R : Room} {cc : ByteArray} {nL : Nat} {σ : Sg} {lv : LV} {pc : Nat} {rest : List AV} {x y : Int} (z : Int) (hd : decode cc pc = .ok (.lcmp, 1)) (hz : lg_cmp (lI x) (lI y) = iI z) (hr : -2147483648 ≤ z ∧ z ≤ 2147483647) (k : V w κ R cc nL σ lv (pc + 1) (.inl z :: rest)) : V w κ R cc nL σ lv pc (.inr (.inr y) :: .inr (.inr x) :: rest) := by
  obtain ⟨⟨p, l, e, s, m, args⟩, ⟨below, meth, c, Q, A⟩, D, h, ad, cT⟩ := κ
  intro hO hD hg hl hs H locs ls hP hS hv
  refine W.lcmp hO.1 hO.2.1 hd ?_
  show W p l e R s m args below meth c H locs 0 0 Q (F0 m (pc + 1) ls (.int (lg_cmp (lI x) (lI y)) :: rest.map tv))
  rw [hz]
  exact k hO hD hg hl (wf_k hr (wf_c (wf_c hs).2).2) H locs ls hP hS hv
end
section
set_option maxRecDepth 100000
def len0 : Nat → Nat := fun k => match k with
  | 1 => 20
  | 2 => 20
  | 3 => 20
  | 4 => 20
  | 6 => 190
  | 7 => 190
  | 9 => 7
  | 14 => 10
  | 15 => 10
  | 16 => 10
  | 17 => 8
  | 18 => 8
  | 19 => 16
  | 20 => 3
  | 21 => 10
  | 22 => 125
  | _ => 0
def ety0 : Nat → Nat := fun k => match k with
  | 22 => 2
  | _ => 0
def len1 : Nat → Nat := fun k => match k with
  | 1 => 20
  | 2 => 20
  | 3 => 20
  | 4 => 20
  | 6 => 7
  | 7 => 3
  | 8 => 3
  | 9 => 8
  | _ => 0
def ety1 : Nat → Nat := fun _ => 1
def w0 : WS := (0, (RX0, TX0, 23), len0, [1, 2, 3, 4, 6, 7, 9, 14, 15, 16, 17, 18, 19, 20, 21, 22], ety0)
def w1 : WS := (1, (RX1, TX1, 13), len1, [1, 2, 3, 4, 6, 7, 8, 9], ety1)
theorem w0ok : WSok w0 := ⟨rfl, in_X0, by decide +kernel, ⟨tyX0, tyX0_ok⟩, nmX0, by decide +kernel, by decide +kernel⟩
theorem w1ok : WSok w1 := ⟨rfl, in_X1, by decide +kernel, ⟨tyX1, tyX1_ok⟩, nmX1, by decide +kernel, by decide +kernel⟩
theorem g0_nodeCount {κ : KX} {R : Room} {cc : ByteArray} {nL : Nat} {σ : Sg} {lv : LV} {pc : Nat} {rest : List AV} (hd : decode cc pc = .ok (.getfield 67, 3)) (z : Int) (hz : σ 0 0 = z) (kk : V w0 κ R cc nL σ lv (pc + 3) (.inl z :: rest)) : V w0 κ R cc nL σ lv pc (rH κ :: rest) := by subst hz; exact v_getI w0ok 0 (by decide) rfl q39 hd kk (by decide)
theorem p0_nodeCount {κ : KX} {R : Room} {cc : ByteArray} {nL : Nat} {σ : Sg} {lv : LV} {pc : Nat} {rest : List AV} {x : Int} (hd : decode cc pc = .ok (.putfield 67, 3)) (kk : V w0 κ R cc nL (up σ 0 0 x) lv (pc + 3) rest) : V w0 κ R cc nL σ lv pc (.inl x :: rH κ :: rest) := v_putI w0ok 0 (by decide) rfl q39 rfl (by decide +kernel) (by decide) hd kk
theorem g0_symbol {κ : KX} {R : Room} {cc : ByteArray} {nL : Nat} {σ : Sg} {lv : LV} {pc : Nat} {rest : List AV} (hd : decode cc pc = .ok (.getfield 7, 3)) (kk : V w0 κ R cc nL σ lv (pc + 3) (rA κ 1 :: rest)) : V w0 κ R cc nL σ lv pc (rH κ :: rest) := v_getA w0ok 1 (by decide) (by decide) q40 hd kk
theorem l0_symbol {κ : KX} {R : Room} {cc : ByteArray} {nL : Nat} {σ : Sg} {lv : LV} {pc : Nat} {rest : List AV} {x : Int} (hd : decode cc pc = .ok (.baload, 1)) (hin : 0 ≤ x ∧ x < 20) (z : Int) (hz : σ 1 x = z) (kk : V w0 κ R cc nL σ lv (pc + 1) (.inl z :: rest)) : V w0 κ R cc nL σ lv pc (.inl x :: rA κ 1 :: rest) := by subst hz; exact v_bald (n := 20) w0ok (by decide) rfl rfl hd ⟨hin.1, by have := hin.2; omega⟩ kk
theorem s0_symbol {κ : KX} {R : Room} {cc : ByteArray} {nL : Nat} {σ : Sg} {lv : LV} {pc : Nat} {rest : List AV} {x y : Int} (hd : decode cc pc = .ok (.bastore, 1)) (hin : 0 ≤ x ∧ x < 20) (hy : -128 ≤ y ∧ y ≤ 127) (kk : V w0 κ R cc nL (up σ 1 x y) lv (pc + 1) rest) : V w0 κ R cc nL σ lv pc (.inl y :: .inl x :: rA κ 1 :: rest) := v_bast (n := 20) w0ok (by decide) rfl rfl hd ⟨hin.1, by have := hin.2; omega⟩ hy kk
theorem g0_left {κ : KX} {R : Room} {cc : ByteArray} {nL : Nat} {σ : Sg} {lv : LV} {pc : Nat} {rest : List AV} (hd : decode cc pc = .ok (.getfield 13, 3)) (kk : V w0 κ R cc nL σ lv (pc + 3) (rA κ 2 :: rest)) : V w0 κ R cc nL σ lv pc (rH κ :: rest) := v_getA w0ok 2 (by decide) (by decide) q41 hd kk
theorem l0_left {κ : KX} {R : Room} {cc : ByteArray} {nL : Nat} {σ : Sg} {lv : LV} {pc : Nat} {rest : List AV} {x : Int} (hd : decode cc pc = .ok (.baload, 1)) (hin : 0 ≤ x ∧ x < 20) (z : Int) (hz : σ 2 x = z) (kk : V w0 κ R cc nL σ lv (pc + 1) (.inl z :: rest)) : V w0 κ R cc nL σ lv pc (.inl x :: rA κ 2 :: rest) := by subst hz; exact v_bald (n := 20) w0ok (by decide) rfl rfl hd ⟨hin.1, by have := hin.2; omega⟩ kk
theorem s0_left {κ : KX} {R : Room} {cc : ByteArray} {nL : Nat} {σ : Sg} {lv : LV} {pc : Nat} {rest : List AV} {x y : Int} (hd : decode cc pc = .ok (.bastore, 1)) (hin : 0 ≤ x ∧ x < 20) (hy : -128 ≤ y ∧ y ≤ 127) (kk : V w0 κ R cc nL (up σ 2 x y) lv (pc + 1) rest) : V w0 κ R cc nL σ lv pc (.inl y :: .inl x :: rA κ 2 :: rest) := v_bast (n := 20) w0ok (by decide) rfl rfl hd ⟨hin.1, by have := hin.2; omega⟩ hy kk
theorem g0_right {κ : KX} {R : Room} {cc : ByteArray} {nL : Nat} {σ : Sg} {lv : LV} {pc : Nat} {rest : List AV} (hd : decode cc pc = .ok (.getfield 16, 3)) (kk : V w0 κ R cc nL σ lv (pc + 3) (rA κ 3 :: rest)) : V w0 κ R cc nL σ lv pc (rH κ :: rest) := v_getA w0ok 3 (by decide) (by decide) q42 hd kk
theorem l0_right {κ : KX} {R : Room} {cc : ByteArray} {nL : Nat} {σ : Sg} {lv : LV} {pc : Nat} {rest : List AV} {x : Int} (hd : decode cc pc = .ok (.baload, 1)) (hin : 0 ≤ x ∧ x < 20) (z : Int) (hz : σ 3 x = z) (kk : V w0 κ R cc nL σ lv (pc + 1) (.inl z :: rest)) : V w0 κ R cc nL σ lv pc (.inl x :: rA κ 3 :: rest) := by subst hz; exact v_bald (n := 20) w0ok (by decide) rfl rfl hd ⟨hin.1, by have := hin.2; omega⟩ kk
theorem s0_right {κ : KX} {R : Room} {cc : ByteArray} {nL : Nat} {σ : Sg} {lv : LV} {pc : Nat} {rest : List AV} {x y : Int} (hd : decode cc pc = .ok (.bastore, 1)) (hin : 0 ≤ x ∧ x < 20) (hy : -128 ≤ y ∧ y ≤ 127) (kk : V w0 κ R cc nL (up σ 3 x y) lv (pc + 1) rest) : V w0 κ R cc nL σ lv pc (.inl y :: .inl x :: rA κ 3 :: rest) := v_bast (n := 20) w0ok (by decide) rfl rfl hd ⟨hin.1, by have := hin.2; omega⟩ hy kk
theorem g0_leaderOf {κ : KX} {R : Room} {cc : ByteArray} {nL : Nat} {σ : Sg} {lv : LV} {pc : Nat} {rest : List AV} (hd : decode cc pc = .ok (.getfield 19, 3)) (kk : V w0 κ R cc nL σ lv (pc + 3) (rA κ 4 :: rest)) : V w0 κ R cc nL σ lv pc (rH κ :: rest) := v_getA w0ok 4 (by decide) (by decide) q43 hd kk
theorem l0_leaderOf {κ : KX} {R : Room} {cc : ByteArray} {nL : Nat} {σ : Sg} {lv : LV} {pc : Nat} {rest : List AV} {x : Int} (hd : decode cc pc = .ok (.baload, 1)) (hin : 0 ≤ x ∧ x < 20) (z : Int) (hz : σ 4 x = z) (kk : V w0 κ R cc nL σ lv (pc + 1) (.inl z :: rest)) : V w0 κ R cc nL σ lv pc (.inl x :: rA κ 4 :: rest) := by subst hz; exact v_bald (n := 20) w0ok (by decide) rfl rfl hd ⟨hin.1, by have := hin.2; omega⟩ kk
theorem s0_leaderOf {κ : KX} {R : Room} {cc : ByteArray} {nL : Nat} {σ : Sg} {lv : LV} {pc : Nat} {rest : List AV} {x y : Int} (hd : decode cc pc = .ok (.bastore, 1)) (hin : 0 ≤ x ∧ x < 20) (hy : -128 ≤ y ∧ y ≤ 127) (kk : V w0 κ R cc nL (up σ 4 x y) lv (pc + 1) rest) : V w0 κ R cc nL σ lv pc (.inl y :: .inl x :: rA κ 4 :: rest) := v_bast (n := 20) w0ok (by decide) rfl rfl hd ⟨hin.1, by have := hin.2; omega⟩ hy kk
theorem g0_pendingCount {κ : KX} {R : Room} {cc : ByteArray} {nL : Nat} {σ : Sg} {lv : LV} {pc : Nat} {rest : List AV} (hd : decode cc pc = .ok (.getfield 75, 3)) (z : Int) (hz : σ 5 0 = z) (kk : V w0 κ R cc nL σ lv (pc + 3) (.inl z :: rest)) : V w0 κ R cc nL σ lv pc (rH κ :: rest) := by subst hz; exact v_getI w0ok 5 (by decide) rfl q44 hd kk (by decide)
theorem p0_pendingCount {κ : KX} {R : Room} {cc : ByteArray} {nL : Nat} {σ : Sg} {lv : LV} {pc : Nat} {rest : List AV} {x : Int} (hd : decode cc pc = .ok (.putfield 75, 3)) (kk : V w0 κ R cc nL (up σ 5 0 x) lv (pc + 3) rest) : V w0 κ R cc nL σ lv pc (.inl x :: rH κ :: rest) := v_putI w0ok 5 (by decide) rfl q44 rfl (by decide +kernel) (by decide) hd kk
theorem g0_pendingA {κ : KX} {R : Room} {cc : ByteArray} {nL : Nat} {σ : Sg} {lv : LV} {pc : Nat} {rest : List AV} (hd : decode cc pc = .ok (.getfield 22, 3)) (kk : V w0 κ R cc nL σ lv (pc + 3) (rA κ 6 :: rest)) : V w0 κ R cc nL σ lv pc (rH κ :: rest) := v_getA w0ok 6 (by decide) (by decide) q45 hd kk
theorem l0_pendingA {κ : KX} {R : Room} {cc : ByteArray} {nL : Nat} {σ : Sg} {lv : LV} {pc : Nat} {rest : List AV} {x : Int} (hd : decode cc pc = .ok (.baload, 1)) (hin : 0 ≤ x ∧ x < 190) (z : Int) (hz : σ 6 x = z) (kk : V w0 κ R cc nL σ lv (pc + 1) (.inl z :: rest)) : V w0 κ R cc nL σ lv pc (.inl x :: rA κ 6 :: rest) := by subst hz; exact v_bald (n := 190) w0ok (by decide) rfl rfl hd ⟨hin.1, by have := hin.2; omega⟩ kk
theorem s0_pendingA {κ : KX} {R : Room} {cc : ByteArray} {nL : Nat} {σ : Sg} {lv : LV} {pc : Nat} {rest : List AV} {x y : Int} (hd : decode cc pc = .ok (.bastore, 1)) (hin : 0 ≤ x ∧ x < 190) (hy : -128 ≤ y ∧ y ≤ 127) (kk : V w0 κ R cc nL (up σ 6 x y) lv (pc + 1) rest) : V w0 κ R cc nL σ lv pc (.inl y :: .inl x :: rA κ 6 :: rest) := v_bast (n := 190) w0ok (by decide) rfl rfl hd ⟨hin.1, by have := hin.2; omega⟩ hy kk
theorem g0_pendingB {κ : KX} {R : Room} {cc : ByteArray} {nL : Nat} {σ : Sg} {lv : LV} {pc : Nat} {rest : List AV} (hd : decode cc pc = .ok (.getfield 25, 3)) (kk : V w0 κ R cc nL σ lv (pc + 3) (rA κ 7 :: rest)) : V w0 κ R cc nL σ lv pc (rH κ :: rest) := v_getA w0ok 7 (by decide) (by decide) q46 hd kk
theorem l0_pendingB {κ : KX} {R : Room} {cc : ByteArray} {nL : Nat} {σ : Sg} {lv : LV} {pc : Nat} {rest : List AV} {x : Int} (hd : decode cc pc = .ok (.baload, 1)) (hin : 0 ≤ x ∧ x < 190) (z : Int) (hz : σ 7 x = z) (kk : V w0 κ R cc nL σ lv (pc + 1) (.inl z :: rest)) : V w0 κ R cc nL σ lv pc (.inl x :: rA κ 7 :: rest) := by subst hz; exact v_bald (n := 190) w0ok (by decide) rfl rfl hd ⟨hin.1, by have := hin.2; omega⟩ kk
theorem s0_pendingB {κ : KX} {R : Room} {cc : ByteArray} {nL : Nat} {σ : Sg} {lv : LV} {pc : Nat} {rest : List AV} {x y : Int} (hd : decode cc pc = .ok (.bastore, 1)) (hin : 0 ≤ x ∧ x < 190) (hy : -128 ≤ y ∧ y ≤ 127) (kk : V w0 κ R cc nL (up σ 7 x y) lv (pc + 1) rest) : V w0 κ R cc nL σ lv pc (.inl y :: .inl x :: rA κ 7 :: rest) := v_bast (n := 190) w0ok (by decide) rfl rfl hd ⟨hin.1, by have := hin.2; omega⟩ hy kk
theorem g0_tokenCount {κ : KX} {R : Room} {cc : ByteArray} {nL : Nat} {σ : Sg} {lv : LV} {pc : Nat} {rest : List AV} (hd : decode cc pc = .ok (.getfield 89, 3)) (z : Int) (hz : σ 8 0 = z) (kk : V w0 κ R cc nL σ lv (pc + 3) (.inl z :: rest)) : V w0 κ R cc nL σ lv pc (rH κ :: rest) := by subst hz; exact v_getI w0ok 8 (by decide) rfl q47 hd kk (by decide)
theorem p0_tokenCount {κ : KX} {R : Room} {cc : ByteArray} {nL : Nat} {σ : Sg} {lv : LV} {pc : Nat} {rest : List AV} {x : Int} (hd : decode cc pc = .ok (.putfield 89, 3)) (kk : V w0 κ R cc nL (up σ 8 0 x) lv (pc + 3) rest) : V w0 κ R cc nL σ lv pc (.inl x :: rH κ :: rest) := v_putI w0ok 8 (by decide) rfl q47 rfl (by decide +kernel) (by decide) hd kk
theorem g0_tokens {κ : KX} {R : Room} {cc : ByteArray} {nL : Nat} {σ : Sg} {lv : LV} {pc : Nat} {rest : List AV} (hd : decode cc pc = .ok (.getfield 28, 3)) (kk : V w0 κ R cc nL σ lv (pc + 3) (rA κ 9 :: rest)) : V w0 κ R cc nL σ lv pc (rH κ :: rest) := v_getA w0ok 9 (by decide) (by decide) q48 hd kk
theorem l0_tokens {κ : KX} {R : Room} {cc : ByteArray} {nL : Nat} {σ : Sg} {lv : LV} {pc : Nat} {rest : List AV} {x : Int} (hd : decode cc pc = .ok (.baload, 1)) (hin : 0 ≤ x ∧ x < 7) (z : Int) (hz : σ 9 x = z) (kk : V w0 κ R cc nL σ lv (pc + 1) (.inl z :: rest)) : V w0 κ R cc nL σ lv pc (.inl x :: rA κ 9 :: rest) := by subst hz; exact v_bald (n := 7) w0ok (by decide) rfl rfl hd ⟨hin.1, by have := hin.2; omega⟩ kk
theorem s0_tokens {κ : KX} {R : Room} {cc : ByteArray} {nL : Nat} {σ : Sg} {lv : LV} {pc : Nat} {rest : List AV} {x y : Int} (hd : decode cc pc = .ok (.bastore, 1)) (hin : 0 ≤ x ∧ x < 7) (hy : -128 ≤ y ∧ y ≤ 127) (kk : V w0 κ R cc nL (up σ 9 x y) lv (pc + 1) rest) : V w0 κ R cc nL σ lv pc (.inl y :: .inl x :: rA κ 9 :: rest) := v_bast (n := 7) w0ok (by decide) rfl rfl hd ⟨hin.1, by have := hin.2; omega⟩ hy kk
theorem g0_compiled {κ : KX} {R : Room} {cc : ByteArray} {nL : Nat} {σ : Sg} {lv : LV} {pc : Nat} {rest : List AV} (hd : decode cc pc = .ok (.getfield 92, 3)) (z : Int) (hz : σ 10 0 = z) (kk : V w0 κ R cc nL σ lv (pc + 3) (.inl z :: rest)) : V w0 κ R cc nL σ lv pc (rH κ :: rest) := by subst hz; exact v_getI w0ok 10 (by decide) rfl q49 hd kk (by decide)
theorem p0_compiled {κ : KX} {R : Room} {cc : ByteArray} {nL : Nat} {σ : Sg} {lv : LV} {pc : Nat} {rest : List AV} {x : Int} (hd : decode cc pc = .ok (.putfield 92, 3)) (hx : x = 0 ∨ x = 1) (kk : V w0 κ R cc nL (up σ 10 0 x) lv (pc + 3) rest) : V w0 κ R cc nL σ lv pc (.inl x :: rH κ :: rest) := v_putZ w0ok 10 (by decide) rfl q49 rfl (by decide +kernel) (by decide) hx hd kk
theorem g0_isWhole {κ : KX} {R : Room} {cc : ByteArray} {nL : Nat} {σ : Sg} {lv : LV} {pc : Nat} {rest : List AV} (hd : decode cc pc = .ok (.getfield 99, 3)) (z : Int) (hz : σ 11 0 = z) (kk : V w0 κ R cc nL σ lv (pc + 3) (.inl z :: rest)) : V w0 κ R cc nL σ lv pc (rH κ :: rest) := by subst hz; exact v_getI w0ok 11 (by decide) rfl q50 hd kk (by decide)
theorem p0_isWhole {κ : KX} {R : Room} {cc : ByteArray} {nL : Nat} {σ : Sg} {lv : LV} {pc : Nat} {rest : List AV} {x : Int} (hd : decode cc pc = .ok (.putfield 99, 3)) (hx : x = 0 ∨ x = 1) (kk : V w0 κ R cc nL (up σ 11 0 x) lv (pc + 3) rest) : V w0 κ R cc nL σ lv pc (.inl x :: rH κ :: rest) := v_putZ w0ok 11 (by decide) rfl q50 rfl (by decide +kernel) (by decide) hx hd kk
theorem g0_variableSet {κ : KX} {R : Room} {cc : ByteArray} {nL : Nat} {σ : Sg} {lv : LV} {pc : Nat} {rest : List AV} (hd : decode cc pc = .ok (.getfield 102, 3)) (z : Int) (hz : σ 12 0 = z) (kk : V w0 κ R cc nL σ lv (pc + 3) (.inl z :: rest)) : V w0 κ R cc nL σ lv pc (rH κ :: rest) := by subst hz; exact v_getI w0ok 12 (by decide) rfl q51 hd kk (by decide)
theorem p0_variableSet {κ : KX} {R : Room} {cc : ByteArray} {nL : Nat} {σ : Sg} {lv : LV} {pc : Nat} {rest : List AV} {x : Int} (hd : decode cc pc = .ok (.putfield 102, 3)) (kk : V w0 κ R cc nL (up σ 12 0 x) lv (pc + 3) rest) : V w0 κ R cc nL σ lv pc (.inl x :: rH κ :: rest) := v_putI w0ok 12 (by decide) rfl q51 rfl (by decide +kernel) (by decide) hd kk
theorem g0_codeEnd {κ : KX} {R : Room} {cc : ByteArray} {nL : Nat} {σ : Sg} {lv : LV} {pc : Nat} {rest : List AV} (hd : decode cc pc = .ok (.getfield 96, 3)) (z : Int) (hz : σ 13 0 = z) (kk : V w0 κ R cc nL σ lv (pc + 3) (.inl z :: rest)) : V w0 κ R cc nL σ lv pc (rH κ :: rest) := by subst hz; exact v_getI w0ok 13 (by decide) rfl q52 hd kk (by decide)
theorem p0_codeEnd {κ : KX} {R : Room} {cc : ByteArray} {nL : Nat} {σ : Sg} {lv : LV} {pc : Nat} {rest : List AV} {x : Int} (hd : decode cc pc = .ok (.putfield 96, 3)) (kk : V w0 κ R cc nL (up σ 13 0 x) lv (pc + 3) rest) : V w0 κ R cc nL σ lv pc (.inl x :: rH κ :: rest) := v_putI w0ok 13 (by decide) rfl q52 rfl (by decide +kernel) (by decide) hd kk
theorem g0_operation {κ : KX} {R : Room} {cc : ByteArray} {nL : Nat} {σ : Sg} {lv : LV} {pc : Nat} {rest : List AV} (hd : decode cc pc = .ok (.getfield 31, 3)) (kk : V w0 κ R cc nL σ lv (pc + 3) (rA κ 14 :: rest)) : V w0 κ R cc nL σ lv pc (rH κ :: rest) := v_getA w0ok 14 (by decide) (by decide) q53 hd kk
theorem l0_operation {κ : KX} {R : Room} {cc : ByteArray} {nL : Nat} {σ : Sg} {lv : LV} {pc : Nat} {rest : List AV} {x : Int} (hd : decode cc pc = .ok (.baload, 1)) (hin : 0 ≤ x ∧ x < 10) (z : Int) (hz : σ 14 x = z) (kk : V w0 κ R cc nL σ lv (pc + 1) (.inl z :: rest)) : V w0 κ R cc nL σ lv pc (.inl x :: rA κ 14 :: rest) := by subst hz; exact v_bald (n := 10) w0ok (by decide) rfl rfl hd ⟨hin.1, by have := hin.2; omega⟩ kk
theorem s0_operation {κ : KX} {R : Room} {cc : ByteArray} {nL : Nat} {σ : Sg} {lv : LV} {pc : Nat} {rest : List AV} {x y : Int} (hd : decode cc pc = .ok (.bastore, 1)) (hin : 0 ≤ x ∧ x < 10) (hy : -128 ≤ y ∧ y ≤ 127) (kk : V w0 κ R cc nL (up σ 14 x y) lv (pc + 1) rest) : V w0 κ R cc nL σ lv pc (.inl y :: .inl x :: rA κ 14 :: rest) := v_bast (n := 10) w0ok (by decide) rfl rfl hd ⟨hin.1, by have := hin.2; omega⟩ hy kk
theorem g0_argument {κ : KX} {R : Room} {cc : ByteArray} {nL : Nat} {σ : Sg} {lv : LV} {pc : Nat} {rest : List AV} (hd : decode cc pc = .ok (.getfield 34, 3)) (kk : V w0 κ R cc nL σ lv (pc + 3) (rA κ 15 :: rest)) : V w0 κ R cc nL σ lv pc (rH κ :: rest) := v_getA w0ok 15 (by decide) (by decide) q54 hd kk
theorem l0_argument {κ : KX} {R : Room} {cc : ByteArray} {nL : Nat} {σ : Sg} {lv : LV} {pc : Nat} {rest : List AV} {x : Int} (hd : decode cc pc = .ok (.baload, 1)) (hin : 0 ≤ x ∧ x < 10) (z : Int) (hz : σ 15 x = z) (kk : V w0 κ R cc nL σ lv (pc + 1) (.inl z :: rest)) : V w0 κ R cc nL σ lv pc (.inl x :: rA κ 15 :: rest) := by subst hz; exact v_bald (n := 10) w0ok (by decide) rfl rfl hd ⟨hin.1, by have := hin.2; omega⟩ kk
theorem s0_argument {κ : KX} {R : Room} {cc : ByteArray} {nL : Nat} {σ : Sg} {lv : LV} {pc : Nat} {rest : List AV} {x y : Int} (hd : decode cc pc = .ok (.bastore, 1)) (hin : 0 ≤ x ∧ x < 10) (hy : -128 ≤ y ∧ y ≤ 127) (kk : V w0 κ R cc nL (up σ 15 x y) lv (pc + 1) rest) : V w0 κ R cc nL σ lv pc (.inl y :: .inl x :: rA κ 15 :: rest) := v_bast (n := 10) w0ok (by decide) rfl rfl hd ⟨hin.1, by have := hin.2; omega⟩ hy kk
theorem g0_register {κ : KX} {R : Room} {cc : ByteArray} {nL : Nat} {σ : Sg} {lv : LV} {pc : Nat} {rest : List AV} (hd : decode cc pc = .ok (.getfield 37, 3)) (kk : V w0 κ R cc nL σ lv (pc + 3) (rA κ 16 :: rest)) : V w0 κ R cc nL σ lv pc (rH κ :: rest) := v_getA w0ok 16 (by decide) (by decide) q55 hd kk
theorem l0_register {κ : KX} {R : Room} {cc : ByteArray} {nL : Nat} {σ : Sg} {lv : LV} {pc : Nat} {rest : List AV} {x : Int} (hd : decode cc pc = .ok (.baload, 1)) (hin : 0 ≤ x ∧ x < 10) (z : Int) (hz : σ 16 x = z) (kk : V w0 κ R cc nL σ lv (pc + 1) (.inl z :: rest)) : V w0 κ R cc nL σ lv pc (.inl x :: rA κ 16 :: rest) := by subst hz; exact v_bald (n := 10) w0ok (by decide) rfl rfl hd ⟨hin.1, by have := hin.2; omega⟩ kk
theorem s0_register {κ : KX} {R : Room} {cc : ByteArray} {nL : Nat} {σ : Sg} {lv : LV} {pc : Nat} {rest : List AV} {x y : Int} (hd : decode cc pc = .ok (.bastore, 1)) (hin : 0 ≤ x ∧ x < 10) (hy : -128 ≤ y ∧ y ≤ 127) (kk : V w0 κ R cc nL (up σ 16 x y) lv (pc + 1) rest) : V w0 κ R cc nL σ lv pc (.inl y :: .inl x :: rA κ 16 :: rest) := v_bast (n := 10) w0ok (by decide) rfl rfl hd ⟨hin.1, by have := hin.2; omega⟩ hy kk
theorem g0_argumentsAt {κ : KX} {R : Room} {cc : ByteArray} {nL : Nat} {σ : Sg} {lv : LV} {pc : Nat} {rest : List AV} (hd : decode cc pc = .ok (.getfield 40, 3)) (kk : V w0 κ R cc nL σ lv (pc + 3) (rA κ 17 :: rest)) : V w0 κ R cc nL σ lv pc (rH κ :: rest) := v_getA w0ok 17 (by decide) (by decide) q56 hd kk
theorem l0_argumentsAt {κ : KX} {R : Room} {cc : ByteArray} {nL : Nat} {σ : Sg} {lv : LV} {pc : Nat} {rest : List AV} {x : Int} (hd : decode cc pc = .ok (.baload, 1)) (hin : 0 ≤ x ∧ x < 8) (z : Int) (hz : σ 17 x = z) (kk : V w0 κ R cc nL σ lv (pc + 1) (.inl z :: rest)) : V w0 κ R cc nL σ lv pc (.inl x :: rA κ 17 :: rest) := by subst hz; exact v_bald (n := 8) w0ok (by decide) rfl rfl hd ⟨hin.1, by have := hin.2; omega⟩ kk
theorem s0_argumentsAt {κ : KX} {R : Room} {cc : ByteArray} {nL : Nat} {σ : Sg} {lv : LV} {pc : Nat} {rest : List AV} {x y : Int} (hd : decode cc pc = .ok (.bastore, 1)) (hin : 0 ≤ x ∧ x < 8) (hy : -128 ≤ y ∧ y ≤ 127) (kk : V w0 κ R cc nL (up σ 17 x y) lv (pc + 1) rest) : V w0 κ R cc nL σ lv pc (.inl y :: .inl x :: rA κ 17 :: rest) := v_bast (n := 8) w0ok (by decide) rfl rfl hd ⟨hin.1, by have := hin.2; omega⟩ hy kk
theorem g0_openRegister {κ : KX} {R : Room} {cc : ByteArray} {nL : Nat} {σ : Sg} {lv : LV} {pc : Nat} {rest : List AV} (hd : decode cc pc = .ok (.getfield 43, 3)) (kk : V w0 κ R cc nL σ lv (pc + 3) (rA κ 18 :: rest)) : V w0 κ R cc nL σ lv pc (rH κ :: rest) := v_getA w0ok 18 (by decide) (by decide) q57 hd kk
theorem l0_openRegister {κ : KX} {R : Room} {cc : ByteArray} {nL : Nat} {σ : Sg} {lv : LV} {pc : Nat} {rest : List AV} {x : Int} (hd : decode cc pc = .ok (.baload, 1)) (hin : 0 ≤ x ∧ x < 8) (z : Int) (hz : σ 18 x = z) (kk : V w0 κ R cc nL σ lv (pc + 1) (.inl z :: rest)) : V w0 κ R cc nL σ lv pc (.inl x :: rA κ 18 :: rest) := by subst hz; exact v_bald (n := 8) w0ok (by decide) rfl rfl hd ⟨hin.1, by have := hin.2; omega⟩ kk
theorem s0_openRegister {κ : KX} {R : Room} {cc : ByteArray} {nL : Nat} {σ : Sg} {lv : LV} {pc : Nat} {rest : List AV} {x y : Int} (hd : decode cc pc = .ok (.bastore, 1)) (hin : 0 ≤ x ∧ x < 8) (hy : -128 ≤ y ∧ y ≤ 127) (kk : V w0 κ R cc nL (up σ 18 x y) lv (pc + 1) rest) : V w0 κ R cc nL σ lv pc (.inl y :: .inl x :: rA κ 18 :: rest) := v_bast (n := 8) w0ok (by decide) rfl rfl hd ⟨hin.1, by have := hin.2; omega⟩ hy kk
theorem g0_registers {κ : KX} {R : Room} {cc : ByteArray} {nL : Nat} {σ : Sg} {lv : LV} {pc : Nat} {rest : List AV} (hd : decode cc pc = .ok (.getfield 46, 3)) (kk : V w0 κ R cc nL σ lv (pc + 3) (rA κ 19 :: rest)) : V w0 κ R cc nL σ lv pc (rH κ :: rest) := v_getA w0ok 19 (by decide) (by decide) q58 hd kk
theorem l0_registers {κ : KX} {R : Room} {cc : ByteArray} {nL : Nat} {σ : Sg} {lv : LV} {pc : Nat} {rest : List AV} {x : Int} (hd : decode cc pc = .ok (.baload, 1)) (hin : 0 ≤ x ∧ x < 16) (z : Int) (hz : σ 19 x = z) (kk : V w0 κ R cc nL σ lv (pc + 1) (.inl z :: rest)) : V w0 κ R cc nL σ lv pc (.inl x :: rA κ 19 :: rest) := by subst hz; exact v_bald (n := 16) w0ok (by decide) rfl rfl hd ⟨hin.1, by have := hin.2; omega⟩ kk
theorem s0_registers {κ : KX} {R : Room} {cc : ByteArray} {nL : Nat} {σ : Sg} {lv : LV} {pc : Nat} {rest : List AV} {x y : Int} (hd : decode cc pc = .ok (.bastore, 1)) (hin : 0 ≤ x ∧ x < 16) (hy : -128 ≤ y ∧ y ≤ 127) (kk : V w0 κ R cc nL (up σ 19 x y) lv (pc + 1) rest) : V w0 κ R cc nL σ lv pc (.inl y :: .inl x :: rA κ 19 :: rest) := v_bast (n := 16) w0ok (by decide) rfl rfl hd ⟨hin.1, by have := hin.2; omega⟩ hy kk
theorem g0_variable {κ : KX} {R : Room} {cc : ByteArray} {nL : Nat} {σ : Sg} {lv : LV} {pc : Nat} {rest : List AV} (hd : decode cc pc = .ok (.getfield 49, 3)) (kk : V w0 κ R cc nL σ lv (pc + 3) (rA κ 20 :: rest)) : V w0 κ R cc nL σ lv pc (rH κ :: rest) := v_getA w0ok 20 (by decide) (by decide) q59 hd kk
theorem l0_variable {κ : KX} {R : Room} {cc : ByteArray} {nL : Nat} {σ : Sg} {lv : LV} {pc : Nat} {rest : List AV} {x : Int} (hd : decode cc pc = .ok (.baload, 1)) (hin : 0 ≤ x ∧ x < 3) (z : Int) (hz : σ 20 x = z) (kk : V w0 κ R cc nL σ lv (pc + 1) (.inl z :: rest)) : V w0 κ R cc nL σ lv pc (.inl x :: rA κ 20 :: rest) := by subst hz; exact v_bald (n := 3) w0ok (by decide) rfl rfl hd ⟨hin.1, by have := hin.2; omega⟩ kk
theorem s0_variable {κ : KX} {R : Room} {cc : ByteArray} {nL : Nat} {σ : Sg} {lv : LV} {pc : Nat} {rest : List AV} {x y : Int} (hd : decode cc pc = .ok (.bastore, 1)) (hin : 0 ≤ x ∧ x < 3) (hy : -128 ≤ y ∧ y ≤ 127) (kk : V w0 κ R cc nL (up σ 20 x y) lv (pc + 1) rest) : V w0 κ R cc nL σ lv pc (.inl y :: .inl x :: rA κ 20 :: rest) := v_bast (n := 3) w0ok (by decide) rfl rfl hd ⟨hin.1, by have := hin.2; omega⟩ hy kk
theorem g0_tried {κ : KX} {R : Room} {cc : ByteArray} {nL : Nat} {σ : Sg} {lv : LV} {pc : Nat} {rest : List AV} (hd : decode cc pc = .ok (.getfield 52, 3)) (kk : V w0 κ R cc nL σ lv (pc + 3) (rA κ 21 :: rest)) : V w0 κ R cc nL σ lv pc (rH κ :: rest) := v_getA w0ok 21 (by decide) (by decide) q60 hd kk
theorem l0_tried {κ : KX} {R : Room} {cc : ByteArray} {nL : Nat} {σ : Sg} {lv : LV} {pc : Nat} {rest : List AV} {x : Int} (hd : decode cc pc = .ok (.baload, 1)) (hin : 0 ≤ x ∧ x < 10) (z : Int) (hz : σ 21 x = z) (kk : V w0 κ R cc nL σ lv (pc + 1) (.inl z :: rest)) : V w0 κ R cc nL σ lv pc (.inl x :: rA κ 21 :: rest) := by subst hz; exact v_bald (n := 10) w0ok (by decide) rfl rfl hd ⟨hin.1, by have := hin.2; omega⟩ kk
theorem s0_tried {κ : KX} {R : Room} {cc : ByteArray} {nL : Nat} {σ : Sg} {lv : LV} {pc : Nat} {rest : List AV} {x y : Int} (hd : decode cc pc = .ok (.bastore, 1)) (hin : 0 ≤ x ∧ x < 10) (hy : -128 ≤ y ∧ y ≤ 127) (kk : V w0 κ R cc nL (up σ 21 x y) lv (pc + 1) rest) : V w0 κ R cc nL σ lv pc (.inl y :: .inl x :: rA κ 21 :: rest) := v_bast (n := 10) w0ok (by decide) rfl rfl hd ⟨hin.1, by have := hin.2; omega⟩ hy kk
theorem g0_found {κ : KX} {R : Room} {cc : ByteArray} {nL : Nat} {σ : Sg} {lv : LV} {pc : Nat} {rest : List AV} (hd : decode cc pc = .ok (.getfield 55, 3)) (kk : V w0 κ R cc nL σ lv (pc + 3) (rA κ 22 :: rest)) : V w0 κ R cc nL σ lv pc (rH κ :: rest) := v_getA w0ok 22 (by decide) (by decide) q61 hd kk
theorem l0_found {κ : KX} {R : Room} {cc : ByteArray} {nL : Nat} {σ : Sg} {lv : LV} {pc : Nat} {rest : List AV} {x : Int} (hd : decode cc pc = .ok (.laload, 1)) (hin : 0 ≤ x ∧ x < 125) (z : Int) (hz : σ 22 x = z) (kk : V w0 κ R cc nL σ lv (pc + 1) (.inr (.inr z) :: rest)) : V w0 κ R cc nL σ lv pc (.inl x :: rA κ 22 :: rest) := by subst hz; exact v_lald (n := 125) w0ok (by decide) rfl rfl hd ⟨hin.1, by have := hin.2; omega⟩ kk
theorem s0_found {κ : KX} {R : Room} {cc : ByteArray} {nL : Nat} {σ : Sg} {lv : LV} {pc : Nat} {rest : List AV} {x y : Int} (hd : decode cc pc = .ok (.lastore, 1)) (hin : 0 ≤ x ∧ x < 125) (kk : V w0 κ R cc nL (up σ 22 x y) lv (pc + 1) rest) : V w0 κ R cc nL σ lv pc (.inr (.inr y) :: .inl x :: rA κ 22 :: rest) := v_last (n := 125) w0ok (by decide) rfl rfl hd ⟨hin.1, by have := hin.2; omega⟩ kk
theorem g1_n {κ : KX} {R : Room} {cc : ByteArray} {nL : Nat} {σ : Sg} {lv : LV} {pc : Nat} {rest : List AV} (hd : decode cc pc = .ok (.getfield 7, 3)) (z : Int) (hz : σ 0 0 = z) (kk : V w1 κ R cc nL σ lv (pc + 3) (.inl z :: rest)) : V w1 κ R cc nL σ lv pc (rH κ :: rest) := by subst hz; exact v_getI w1ok 0 (by decide) rfl q230 hd kk (by decide)
theorem p1_n {κ : KX} {R : Room} {cc : ByteArray} {nL : Nat} {σ : Sg} {lv : LV} {pc : Nat} {rest : List AV} {x : Int} (hd : decode cc pc = .ok (.putfield 7, 3)) (kk : V w1 κ R cc nL (up σ 0 0 x) lv (pc + 3) rest) : V w1 κ R cc nL σ lv pc (.inl x :: rH κ :: rest) := v_putI w1ok 0 (by decide) rfl q230 rfl (by decide +kernel) (by decide) hd kk
theorem g1_kind {κ : KX} {R : Room} {cc : ByteArray} {nL : Nat} {σ : Sg} {lv : LV} {pc : Nat} {rest : List AV} (hd : decode cc pc = .ok (.getfield 13, 3)) (kk : V w1 κ R cc nL σ lv (pc + 3) (rA κ 1 :: rest)) : V w1 κ R cc nL σ lv pc (rH κ :: rest) := v_getA w1ok 1 (by decide) (by decide) q231 hd kk
theorem l1_kind {κ : KX} {R : Room} {cc : ByteArray} {nL : Nat} {σ : Sg} {lv : LV} {pc : Nat} {rest : List AV} {x : Int} (hd : decode cc pc = .ok (.iaload, 1)) (hin : 0 ≤ x ∧ x < 20) (z : Int) (hz : σ 1 x = z) (kk : V w1 κ R cc nL σ lv (pc + 1) (.inl z :: rest)) : V w1 κ R cc nL σ lv pc (.inl x :: rA κ 1 :: rest) := by subst hz; exact v_iald (n := 20) w1ok (by decide) rfl rfl hd ⟨hin.1, by have := hin.2; omega⟩ kk
theorem s1_kind {κ : KX} {R : Room} {cc : ByteArray} {nL : Nat} {σ : Sg} {lv : LV} {pc : Nat} {rest : List AV} {x y : Int} (hd : decode cc pc = .ok (.iastore, 1)) (hin : 0 ≤ x ∧ x < 20) (kk : V w1 κ R cc nL (up σ 1 x y) lv (pc + 1) rest) : V w1 κ R cc nL σ lv pc (.inl y :: .inl x :: rA κ 1 :: rest) := v_iast (n := 20) w1ok (by decide) rfl rfl hd ⟨hin.1, by have := hin.2; omega⟩ kk
theorem g1_a {κ : KX} {R : Room} {cc : ByteArray} {nL : Nat} {σ : Sg} {lv : LV} {pc : Nat} {rest : List AV} (hd : decode cc pc = .ok (.getfield 17, 3)) (kk : V w1 κ R cc nL σ lv (pc + 3) (rA κ 2 :: rest)) : V w1 κ R cc nL σ lv pc (rH κ :: rest) := v_getA w1ok 2 (by decide) (by decide) q232 hd kk
theorem l1_a {κ : KX} {R : Room} {cc : ByteArray} {nL : Nat} {σ : Sg} {lv : LV} {pc : Nat} {rest : List AV} {x : Int} (hd : decode cc pc = .ok (.iaload, 1)) (hin : 0 ≤ x ∧ x < 20) (z : Int) (hz : σ 2 x = z) (kk : V w1 κ R cc nL σ lv (pc + 1) (.inl z :: rest)) : V w1 κ R cc nL σ lv pc (.inl x :: rA κ 2 :: rest) := by subst hz; exact v_iald (n := 20) w1ok (by decide) rfl rfl hd ⟨hin.1, by have := hin.2; omega⟩ kk
theorem s1_a {κ : KX} {R : Room} {cc : ByteArray} {nL : Nat} {σ : Sg} {lv : LV} {pc : Nat} {rest : List AV} {x y : Int} (hd : decode cc pc = .ok (.iastore, 1)) (hin : 0 ≤ x ∧ x < 20) (kk : V w1 κ R cc nL (up σ 2 x y) lv (pc + 1) rest) : V w1 κ R cc nL σ lv pc (.inl y :: .inl x :: rA κ 2 :: rest) := v_iast (n := 20) w1ok (by decide) rfl rfl hd ⟨hin.1, by have := hin.2; omega⟩ kk
theorem g1_b {κ : KX} {R : Room} {cc : ByteArray} {nL : Nat} {σ : Sg} {lv : LV} {pc : Nat} {rest : List AV} (hd : decode cc pc = .ok (.getfield 20, 3)) (kk : V w1 κ R cc nL σ lv (pc + 3) (rA κ 3 :: rest)) : V w1 κ R cc nL σ lv pc (rH κ :: rest) := v_getA w1ok 3 (by decide) (by decide) q233 hd kk
theorem l1_b {κ : KX} {R : Room} {cc : ByteArray} {nL : Nat} {σ : Sg} {lv : LV} {pc : Nat} {rest : List AV} {x : Int} (hd : decode cc pc = .ok (.iaload, 1)) (hin : 0 ≤ x ∧ x < 20) (z : Int) (hz : σ 3 x = z) (kk : V w1 κ R cc nL σ lv (pc + 1) (.inl z :: rest)) : V w1 κ R cc nL σ lv pc (.inl x :: rA κ 3 :: rest) := by subst hz; exact v_iald (n := 20) w1ok (by decide) rfl rfl hd ⟨hin.1, by have := hin.2; omega⟩ kk
theorem s1_b {κ : KX} {R : Room} {cc : ByteArray} {nL : Nat} {σ : Sg} {lv : LV} {pc : Nat} {rest : List AV} {x y : Int} (hd : decode cc pc = .ok (.iastore, 1)) (hin : 0 ≤ x ∧ x < 20) (kk : V w1 κ R cc nL (up σ 3 x y) lv (pc + 1) rest) : V w1 κ R cc nL σ lv pc (.inl y :: .inl x :: rA κ 3 :: rest) := v_iast (n := 20) w1ok (by decide) rfl rfl hd ⟨hin.1, by have := hin.2; omega⟩ kk
theorem g1_least {κ : KX} {R : Room} {cc : ByteArray} {nL : Nat} {σ : Sg} {lv : LV} {pc : Nat} {rest : List AV} (hd : decode cc pc = .ok (.getfield 23, 3)) (kk : V w1 κ R cc nL σ lv (pc + 3) (rA κ 4 :: rest)) : V w1 κ R cc nL σ lv pc (rH κ :: rest) := v_getA w1ok 4 (by decide) (by decide) q234 hd kk
theorem l1_least {κ : KX} {R : Room} {cc : ByteArray} {nL : Nat} {σ : Sg} {lv : LV} {pc : Nat} {rest : List AV} {x : Int} (hd : decode cc pc = .ok (.iaload, 1)) (hin : 0 ≤ x ∧ x < 20) (z : Int) (hz : σ 4 x = z) (kk : V w1 κ R cc nL σ lv (pc + 1) (.inl z :: rest)) : V w1 κ R cc nL σ lv pc (.inl x :: rA κ 4 :: rest) := by subst hz; exact v_iald (n := 20) w1ok (by decide) rfl rfl hd ⟨hin.1, by have := hin.2; omega⟩ kk
theorem s1_least {κ : KX} {R : Room} {cc : ByteArray} {nL : Nat} {σ : Sg} {lv : LV} {pc : Nat} {rest : List AV} {x y : Int} (hd : decode cc pc = .ok (.iastore, 1)) (hin : 0 ≤ x ∧ x < 20) (kk : V w1 κ R cc nL (up σ 4 x y) lv (pc + 1) rest) : V w1 κ R cc nL σ lv pc (.inl y :: .inl x :: rA κ 4 :: rest) := v_iast (n := 20) w1ok (by decide) rfl rfl hd ⟨hin.1, by have := hin.2; omega⟩ kk
theorem g1_tokens {κ : KX} {R : Room} {cc : ByteArray} {nL : Nat} {σ : Sg} {lv : LV} {pc : Nat} {rest : List AV} (hd : decode cc pc = .ok (.getfield 26, 3)) (z : Int) (hz : σ 5 0 = z) (kk : V w1 κ R cc nL σ lv (pc + 3) (.inl z :: rest)) : V w1 κ R cc nL σ lv pc (rH κ :: rest) := by subst hz; exact v_getI w1ok 5 (by decide) rfl q235 hd kk (by decide)
theorem p1_tokens {κ : KX} {R : Room} {cc : ByteArray} {nL : Nat} {σ : Sg} {lv : LV} {pc : Nat} {rest : List AV} {x : Int} (hd : decode cc pc = .ok (.putfield 26, 3)) (kk : V w1 κ R cc nL (up σ 5 0 x) lv (pc + 3) rest) : V w1 κ R cc nL σ lv pc (.inl x :: rH κ :: rest) := v_putI w1ok 5 (by decide) rfl q235 rfl (by decide +kernel) (by decide) hd kk
theorem g1_pattern {κ : KX} {R : Room} {cc : ByteArray} {nL : Nat} {σ : Sg} {lv : LV} {pc : Nat} {rest : List AV} (hd : decode cc pc = .ok (.getfield 29, 3)) (kk : V w1 κ R cc nL σ lv (pc + 3) (rA κ 6 :: rest)) : V w1 κ R cc nL σ lv pc (rH κ :: rest) := v_getA w1ok 6 (by decide) (by decide) q236 hd kk
theorem l1_pattern {κ : KX} {R : Room} {cc : ByteArray} {nL : Nat} {σ : Sg} {lv : LV} {pc : Nat} {rest : List AV} {x : Int} (hd : decode cc pc = .ok (.iaload, 1)) (hin : 0 ≤ x ∧ x < 7) (z : Int) (hz : σ 6 x = z) (kk : V w1 κ R cc nL σ lv (pc + 1) (.inl z :: rest)) : V w1 κ R cc nL σ lv pc (.inl x :: rA κ 6 :: rest) := by subst hz; exact v_iald (n := 7) w1ok (by decide) rfl rfl hd ⟨hin.1, by have := hin.2; omega⟩ kk
theorem s1_pattern {κ : KX} {R : Room} {cc : ByteArray} {nL : Nat} {σ : Sg} {lv : LV} {pc : Nat} {rest : List AV} {x y : Int} (hd : decode cc pc = .ok (.iastore, 1)) (hin : 0 ≤ x ∧ x < 7) (kk : V w1 κ R cc nL (up σ 6 x y) lv (pc + 1) rest) : V w1 κ R cc nL σ lv pc (.inl y :: .inl x :: rA κ 6 :: rest) := v_iast (n := 7) w1ok (by decide) rfl rfl hd ⟨hin.1, by have := hin.2; omega⟩ kk
theorem g1_bound {κ : KX} {R : Room} {cc : ByteArray} {nL : Nat} {σ : Sg} {lv : LV} {pc : Nat} {rest : List AV} (hd : decode cc pc = .ok (.getfield 32, 3)) (kk : V w1 κ R cc nL σ lv (pc + 3) (rA κ 7 :: rest)) : V w1 κ R cc nL σ lv pc (rH κ :: rest) := v_getA w1ok 7 (by decide) (by decide) q237 hd kk
theorem l1_bound {κ : KX} {R : Room} {cc : ByteArray} {nL : Nat} {σ : Sg} {lv : LV} {pc : Nat} {rest : List AV} {x : Int} (hd : decode cc pc = .ok (.iaload, 1)) (hin : 0 ≤ x ∧ x < 3) (z : Int) (hz : σ 7 x = z) (kk : V w1 κ R cc nL σ lv (pc + 1) (.inl z :: rest)) : V w1 κ R cc nL σ lv pc (.inl x :: rA κ 7 :: rest) := by subst hz; exact v_iald (n := 3) w1ok (by decide) rfl rfl hd ⟨hin.1, by have := hin.2; omega⟩ kk
theorem s1_bound {κ : KX} {R : Room} {cc : ByteArray} {nL : Nat} {σ : Sg} {lv : LV} {pc : Nat} {rest : List AV} {x y : Int} (hd : decode cc pc = .ok (.iastore, 1)) (hin : 0 ≤ x ∧ x < 3) (kk : V w1 κ R cc nL (up σ 7 x y) lv (pc + 1) rest) : V w1 κ R cc nL σ lv pc (.inl y :: .inl x :: rA κ 7 :: rest) := v_iast (n := 3) w1ok (by decide) rfl rfl hd ⟨hin.1, by have := hin.2; omega⟩ kk
theorem g1_kept {κ : KX} {R : Room} {cc : ByteArray} {nL : Nat} {σ : Sg} {lv : LV} {pc : Nat} {rest : List AV} (hd : decode cc pc = .ok (.getfield 35, 3)) (kk : V w1 κ R cc nL σ lv (pc + 3) (rA κ 8 :: rest)) : V w1 κ R cc nL σ lv pc (rH κ :: rest) := v_getA w1ok 8 (by decide) (by decide) q238 hd kk
theorem l1_kept {κ : KX} {R : Room} {cc : ByteArray} {nL : Nat} {σ : Sg} {lv : LV} {pc : Nat} {rest : List AV} {x : Int} (hd : decode cc pc = .ok (.iaload, 1)) (hin : 0 ≤ x ∧ x < 3) (z : Int) (hz : σ 8 x = z) (kk : V w1 κ R cc nL σ lv (pc + 1) (.inl z :: rest)) : V w1 κ R cc nL σ lv pc (.inl x :: rA κ 8 :: rest) := by subst hz; exact v_iald (n := 3) w1ok (by decide) rfl rfl hd ⟨hin.1, by have := hin.2; omega⟩ kk
theorem s1_kept {κ : KX} {R : Room} {cc : ByteArray} {nL : Nat} {σ : Sg} {lv : LV} {pc : Nat} {rest : List AV} {x y : Int} (hd : decode cc pc = .ok (.iastore, 1)) (hin : 0 ≤ x ∧ x < 3) (kk : V w1 κ R cc nL (up σ 8 x y) lv (pc + 1) rest) : V w1 κ R cc nL σ lv pc (.inl y :: .inl x :: rA κ 8 :: rest) := v_iast (n := 3) w1ok (by decide) rfl rfl hd ⟨hin.1, by have := hin.2; omega⟩ kk
theorem g1_stack {κ : KX} {R : Room} {cc : ByteArray} {nL : Nat} {σ : Sg} {lv : LV} {pc : Nat} {rest : List AV} (hd : decode cc pc = .ok (.getfield 38, 3)) (kk : V w1 κ R cc nL σ lv (pc + 3) (rA κ 9 :: rest)) : V w1 κ R cc nL σ lv pc (rH κ :: rest) := v_getA w1ok 9 (by decide) (by decide) q239 hd kk
theorem l1_stack {κ : KX} {R : Room} {cc : ByteArray} {nL : Nat} {σ : Sg} {lv : LV} {pc : Nat} {rest : List AV} {x : Int} (hd : decode cc pc = .ok (.iaload, 1)) (hin : 0 ≤ x ∧ x < 8) (z : Int) (hz : σ 9 x = z) (kk : V w1 κ R cc nL σ lv (pc + 1) (.inl z :: rest)) : V w1 κ R cc nL σ lv pc (.inl x :: rA κ 9 :: rest) := by subst hz; exact v_iald (n := 8) w1ok (by decide) rfl rfl hd ⟨hin.1, by have := hin.2; omega⟩ kk
theorem s1_stack {κ : KX} {R : Room} {cc : ByteArray} {nL : Nat} {σ : Sg} {lv : LV} {pc : Nat} {rest : List AV} {x y : Int} (hd : decode cc pc = .ok (.iastore, 1)) (hin : 0 ≤ x ∧ x < 8) (kk : V w1 κ R cc nL (up σ 9 x y) lv (pc + 1) rest) : V w1 κ R cc nL σ lv pc (.inl y :: .inl x :: rA κ 9 :: rest) := v_iast (n := 8) w1ok (by decide) rfl rfl hd ⟨hin.1, by have := hin.2; omega⟩ kk
theorem g1_wanted {κ : KX} {R : Room} {cc : ByteArray} {nL : Nat} {σ : Sg} {lv : LV} {pc : Nat} {rest : List AV} (hd : decode cc pc = .ok (.getfield 78, 3)) (z : Int) (hz : σ 10 0 = z) (kk : V w1 κ R cc nL σ lv (pc + 3) (.inl z :: rest)) : V w1 κ R cc nL σ lv pc (rH κ :: rest) := by subst hz; exact v_getI w1ok 10 (by decide) rfl q240 hd kk (by decide)
theorem p1_wanted {κ : KX} {R : Room} {cc : ByteArray} {nL : Nat} {σ : Sg} {lv : LV} {pc : Nat} {rest : List AV} {x : Int} (hd : decode cc pc = .ok (.putfield 78, 3)) (kk : V w1 κ R cc nL (up σ 10 0 x) lv (pc + 3) rest) : V w1 κ R cc nL σ lv pc (.inl x :: rH κ :: rest) := v_putI w1ok 10 (by decide) rfl q240 rfl (by decide +kernel) (by decide) hd kk
theorem g1_counted {κ : KX} {R : Room} {cc : ByteArray} {nL : Nat} {σ : Sg} {lv : LV} {pc : Nat} {rest : List AV} (hd : decode cc pc = .ok (.getfield 72, 3)) (z : Int) (hz : σ 11 0 = z) (kk : V w1 κ R cc nL σ lv (pc + 3) (.inl z :: rest)) : V w1 κ R cc nL σ lv pc (rH κ :: rest) := by subst hz; exact v_getI w1ok 11 (by decide) rfl q241 hd kk (by decide)
theorem p1_counted {κ : KX} {R : Room} {cc : ByteArray} {nL : Nat} {σ : Sg} {lv : LV} {pc : Nat} {rest : List AV} {x : Int} (hd : decode cc pc = .ok (.putfield 72, 3)) (kk : V w1 κ R cc nL (up σ 11 0 x) lv (pc + 3) rest) : V w1 κ R cc nL σ lv pc (.inl x :: rH κ :: rest) := v_putI w1ok 11 (by decide) rfl q241 rfl (by decide +kernel) (by decide) hd kk
theorem g1_found {κ : KX} {R : Room} {cc : ByteArray} {nL : Nat} {σ : Sg} {lv : LV} {pc : Nat} {rest : List AV} (hd : decode cc pc = .ok (.getfield 75, 3)) (z : Int) (hz : σ 12 0 = z) (kk : V w1 κ R cc nL σ lv (pc + 3) (.inl z :: rest)) : V w1 κ R cc nL σ lv pc (rH κ :: rest) := by subst hz; exact v_getI w1ok 12 (by decide) rfl q242 hd kk (by decide)
theorem p1_found {κ : KX} {R : Room} {cc : ByteArray} {nL : Nat} {σ : Sg} {lv : LV} {pc : Nat} {rest : List AV} {x : Int} (hd : decode cc pc = .ok (.putfield 75, 3)) (kk : V w1 κ R cc nL (up σ 12 0 x) lv (pc + 3) rest) : V w1 κ R cc nL σ lv pc (.inl x :: rH κ :: rest) := v_putI w1ok 12 (by decide) rfl q242 rfl (by decide +kernel) (by decide) hd kk
/-- a method's start: the object's world -/
def preP (w : WS) (h : Nat) (ad : Nat → Nat) (cT : Nat → ClassId) (D : va_G) (σ : Sg) (sz : Nat) : State → Prop := fun U => U.heap.size = sz ∧ va_P D vwCl (pw w h ad cT σ) U.heap ∧ va_K D vwCl (tysOf cT) U ∧ va_D (fun _ => True) (pw w h ad cT σ)
def posP (w : WS) (h : Nat) (ad : Nat → Nat) (cT : Nat → ClassId) (D : va_G) (σ : Sg) (sz : Nat) (σ1 : Sg) : State → Prop := fun t => va_P D vwCl (pw w h ad cT σ1) t.heap ∧ va_K D vwCl (tysOf cT) t ∧ va_D (va_A (pw w h ad cT σ) sz) (pw w h ad cT σ1)
abbrev rmO (fr lo : Nat) : Room := { frames := fr, cells := 0, slots := 0, locals := lo }
def vI (as : List Int) : List Value := as.map (fun x => .int (iI x))
/-- contract of a method that answers an int -/
def Ct (w : WS) (y : MethodName) (cc : ByteArray) (nL : Nat) (ret : Option FieldType) (fr lo : Nat) (as : List Int) (σ : Sg) (post : Int → Sg → Prop) : Prop := Rg w σ → (∀ a ∈ as, wv (.inl a)) → ∀ (l : Launch) (D : va_G) (h : Nat) (ad : Nat → Nat) (cT : Nat → ClassId) (sz : Nat), Met l y (ws_ y cc nL ret) (rmO fr lo) (va_Pc (.ref h :: vI as) (preP w h ad cT D σ sz)) (va_Qi (fun (r : Int32) (u : Int × Sg) => r = iI u.1 ∧ wv (.inl u.1) ∧ Rg w u.2 ∧ post u.1 u.2) (fun u => posP w h ad cT D σ sz u.2) (va_A (pw w h ad cT σ) sz)) 0 0 (va_A (pw w h ad cT σ) sz)
/-- contract of a method that answers nothing -/
def CtV (w : WS) (y : MethodName) (cc : ByteArray) (nL : Nat) (fr lo : Nat) (as : List Int) (σ : Sg) (post : Sg → Prop) : Prop := Rg w σ → (∀ a ∈ as, wv (.inl a)) → ∀ (l : Launch) (D : va_G) (h : Nat) (ad : Nat → Nat) (cT : Nat → ClassId) (sz : Nat), Met l y (ws_ y cc nL none) (rmO fr lo) (va_Pc (.ref h :: vI as) (preP w h ad cT D σ sz)) (va_Qv (fun (u : Sg) => Rg w u ∧ post u) (fun u => posP w h ad cT D σ sz u) (va_A (pw w h ad cT σ) sz)) 0 0 (va_A (pw w h ad cT σ) sz)
def lvA : Nat → List Int → LV
  | _, [] => []
  | i, a :: t => (i, .inl a) :: lvA (i + 1) t
theorem lvA_args : ∀ (as : List Int) (i : Nat), lv_args i (vI as) = lvm (lvA i as) := by
  intro as
  induction as with
  | nil => intro i; rfl
  | cons a t ih =>
    intro i
    show (i, Value.int (iI a)) :: lv_args (i + 1) (vI t) = (i, Value.int (iI a)) :: lvm (lvA (i + 1) t)
    rw [ih]
theorem lg_len : ∀ (as : List Int), (lg_sl (vI as)).length = as.length := by
  intro as
  induction as with
  | nil => rfl
  | cons a t ih =>
    show (lg_sl (Value.int (iI a) :: vI t)).length = t.length + 1
    rw [← ih]
    simp [lg_sl, Value.category]
theorem lvA_wf : ∀ (as : List Int) (i : Nat), (∀ a ∈ as, wv (.inl a)) → ∀ q ∈ lvA i as, wv q.2 := by
  intro as
  induction as with
  | nil => intro i _ q hq; cases hq
  | cons a t ih =>
    intro i h q hq
    rcases List.mem_cons.mp hq with e | e
    · rw [e]; exact h a List.mem_cons_self
    · exact ih (i + 1) (fun b hb => h b (List.mem_cons_of_mem _ hb)) q e
set_option maxHeartbeats 4000000 in
theorem ct_start {w : WS} {y : MethodName} {cc : ByteArray} {nL : Nat} {ret : Option FieldType} {fr lo : Nat} {as : List Int} {σ : Sg} {Qc : State → Array Value → State → Outcome → State → Prop} (hp : plainName y.cls = true) (hC : y.cls = w.2.1.1) (hL : as.length + 1 ≤ nL) (hg : Rg w σ) (ha : ∀ a ∈ as, wv (.inl a)) (l : Launch) (D : va_G) (h : Nat) (ad : Nat → Nat) (cT : Nat → ClassId) (sz : Nat) {Q2 : Array Value → State → Outcome → State → Prop}
    (body : ∀ (κ : KX) (p : Program) (e : Env) (s : State) (m : MethodId) (below : List Frame) (meth : Method) (c : Code) (s₁ : State), s.heap.size = sz → BodyLoose p l y (headSpec (ws_ y cc nL ret) (rmO fr lo)) cc nL ret e s m (.ref h :: vI as : List Value).toArray below meth c s₁ → κ = ((p, l, e, s, m, (.ref h :: vI as : List Value).toArray), (below, meth, c, MQ below Q2 (.ref h :: vI as : List Value).toArray s 0 0 (va_A (pw w h ad cT σ) sz), va_A (pw w h ad cT σ) sz), D, h, ad, cT) → V w κ (rmO fr lo) cc nL σ ((0, rH κ) :: lvA 1 as) 0 []) : Met l y (ws_ y cc nL ret) (rmO fr lo) (va_Pc (.ref h :: vI as) (preP w h ad cT D σ sz)) Q2 0 0 (va_A (pw w h ad cT σ) sz) := by
  refine Met.ofW (cc := cc) (maxL := nL) (ret := ret) hp rfl ?_
  intro p e s m args below meth c s₁ B hml hv
  obtain ⟨rfl, hsz, hP, hK, hD0⟩ := hv
  have hx := B.exec
  have hb := B.bytes
  have hts := atoms_spec (ws := ws_ y cc nL ret) B.pre
  have hts : ∀ w ∈ lw_all, w.before _ s = true := fun w h => hts w (List.mem_cons_of_mem _ h)
  have hown : s.vm.findClass w.2.1.1 = some m.cls := by rw [← hC]; exact findClass_of_methodNamed B.named
  have hD := hD0.self (sz := sz)
  have hA : ∀ q : Nat, s.heap.size ≤ q → va_A (pw w h ad cT σ) sz q := fun q hq => Or.inr (hsz ▸ hq)
  have hl := lv_entry (Value.ref h :: vI as) (n := nL) (by
    show (Slot.val (.ref h) :: lg_sl (vI as)).length ≤ nL
    rw [List.length_cons, lg_len]
    omega)
  rw [lg_entry_eq]
  generalize (lg_sl (Value.ref h :: vI as) ++ List.replicate (nL - (lg_sl (Value.ref h :: vI as)).length) Slot.unset).toArray = ls at hl ⊢
  have e2 : lv_args 0 (Value.ref h :: vI as) = (0, Value.ref h) :: lvm (lvA 1 as) := by
    rw [← lvA_args]; rfl
  rw [e2] at hl
  refine body _ p e s m below meth c s₁ hsz B rfl ⟨hx, hb, hml, hown, hts, hK, hA⟩ hD hg (fun q hq => ?_) (fun x hx => by cases hx) s.heap [] ls hP va_S.rf hl
  rcases List.mem_cons.mp hq with e | e
  · rw [e]; exact trivial
  · exact lvA_wf as 1 ha q e
theorem ct_int {w : WS} {y : MethodName} {cc : ByteArray} {nL fr lo : Nat} {as : List Int} {σ : Sg} {post : Int → Sg → Prop} (hp : plainName y.cls = true) (hC : y.cls = w.2.1.1) (hL : as.length + 1 ≤ nL)
    (body : ∀ κ : KX, (∀ (σ1 : Sg) (lv : LV) (pc : Nat) (x : Int), decode cc pc = .ok (.ireturn, 1) → post x σ1 → V w κ (rmO fr lo) cc nL σ1 lv pc [.inl x]) → V w κ (rmO fr lo) cc nL σ ((0, rH κ) :: lvA 1 as) 0 []) : Ct w y cc nL (some .int) fr lo as σ post := by
  intro hg ha l D h ad cT sz
  refine ct_start (Qc := fun _ _ _ _ _ => True) hp hC hL hg ha l D h ad cT sz (fun κ p e s m below meth c s₁ hsz B hκ => ?_)
  refine body κ (fun σ1 lv pc x hd hpost => ?_)
  subst hκ
  intro hO hD hg hl hs H locs ls hP hS hv
  exact W.iret (v := iI x) hO.1 hO.2.1 B.returns (fun t ht hW => ⟨⟨iI x, (x, σ1), rfl, ⟨rfl, (wf_c hs).1, hg, hpost⟩, by rw [ht]; exact hP, va_K.moved hW.alike hO.2.2.2.2.2.1, hD⟩, hS.F ht⟩) hS.2.2 hd
theorem ct_bool {w : WS} {y : MethodName} {cc : ByteArray} {nL fr lo : Nat} {as : List Int} {σ : Sg} {post : Int → Sg → Prop} (hp : plainName y.cls = true) (hC : y.cls = w.2.1.1) (hL : as.length + 1 ≤ nL)
    (body : ∀ κ : KX, (∀ (σ1 : Sg) (lv : LV) (pc : Nat) (x : Int), decode cc pc = .ok (.ireturn, 1) → (x = 0 ∨ x = 1) → post x σ1 → V w κ (rmO fr lo) cc nL σ1 lv pc [.inl x]) → V w κ (rmO fr lo) cc nL σ ((0, rH κ) :: lvA 1 as) 0 []) : Ct w y cc nL (some .boolean) fr lo as σ post := by
  intro hg ha l D h ad cT sz
  refine ct_start (Qc := fun _ _ _ _ _ => True) hp hC hL hg ha l D h ad cT sz (fun κ p e s m below meth c s₁ hsz B hκ => ?_)
  refine body κ (fun σ1 lv pc x hd hx hpost => ?_)
  subst hκ
  intro hO hD hg hl hs H locs ls hP hS hv
  exact W.zret (v := iI x) hO.1 hO.2.1 B.returns (by rcases hx with e | e <;> subst e <;> rfl) (fun t ht hW => ⟨⟨iI x, (x, σ1), rfl, ⟨rfl, (wf_c hs).1, hg, hpost⟩, by rw [ht]; exact hP, va_K.moved hW.alike hO.2.2.2.2.2.1, hD⟩, hS.F ht⟩) hS.2.2 hd
theorem ct_void {w : WS} {y : MethodName} {cc : ByteArray} {nL fr lo : Nat} {as : List Int} {σ : Sg} {post : Sg → Prop} (hp : plainName y.cls = true) (hC : y.cls = w.2.1.1) (hL : as.length + 1 ≤ nL)
    (body : ∀ κ : KX, (∀ (σ1 : Sg) (lv : LV) (pc : Nat), decode cc pc = .ok (.return_, 1) → post σ1 → V w κ (rmO fr lo) cc nL σ1 lv pc []) → V w κ (rmO fr lo) cc nL σ ((0, rH κ) :: lvA 1 as) 0 []) : CtV w y cc nL fr lo as σ post := by
  intro hg ha l D h ad cT sz
  refine ct_start (Qc := fun _ _ _ _ _ => True) hp hC hL hg ha l D h ad cT sz (fun κ p e s m below meth c s₁ hsz B hκ => ?_)
  refine body κ (fun σ1 lv pc hd hpost => ?_)
  subst hκ
  intro hO hD hg hl hs H locs ls hP hS hv
  exact W.vret hO.1 hO.2.1 B.returns (fun t ht hW => ⟨⟨σ1, rfl, ⟨hg, hpost⟩, by rw [ht]; exact hP, va_K.moved hW.alike hO.2.2.2.2.2.1, hD⟩, hS.F ht⟩) hS.2.2 hd
theorem free_of {A : Nat → Prop} {ws : va_W} {H0 H : Heap} {locs : List Loc} (hD : va_D A ws) (hS : va_S A H0 H locs) (hA : ∀ q, H0.size ≤ q → A q) : ∀ q, va_A ws H.size q → A q := by
  intro q h
  rcases h with ⟨k, e, h⟩ | h
  · exact hD.2 k (q, e) h
  · exact hA q (Nat.le_trans hS.1 h)
theorem vI_rev (as : List Int) : (as.reverse.map (fun x => (Sum.inl x : AV))).map tv = (vI as).reverse := by
  unfold vI
  rw [← List.map_reverse, List.map_map]
  rfl
theorem preP_blind {w : WS} {h : Nat} {ad : Nat → Nat} {cT : Nat → ClassId} {D : va_G} {σ : Sg} {sz : Nat} {av : List Value} : FrameBlind (va_Pc av (preP w h ad cT D σ sz)) := fun a U g mk q => by
  obtain ⟨q0, q1, qP, qK, qD⟩ := q
  exact ⟨q0, q1, qP, va_K.moved (u := U) (U := U.calling g mk a) (Vm.Alike.refl U.vm) qK, qD⟩
set_option maxHeartbeats 4000000 in
theorem v_call {w : WS} {κ : KX} {R : Room} {cc : ByteArray} {nL : Nat} {σ : Sg} {lv : LV} {pc : Nat} {rest : List AV} {y : MethodName} {cc1 : ByteArray} {nL1 : Nat} {ret1 : Option FieldType} {fr lo idx : Nat} {as : List Int} {post : Int → Sg → Prop} {st : List AV} (hw : WSok w) (M : Ct w y cc1 nL1 ret1 fr lo as σ post) (hG : GoodIn lw_all (wsV w.2.1.1 idx w.2.1.1 y (ws_ y cc1 nL1 ret1))) (hd0 : y.cls = w.2.1.1 ∧ y.cls ≠ "java/lang/invoke/MethodHandle" ∧ y.cls ≠ "java/lang/invoke/VarHandle" ∧ (parseMethodDescriptor y.desc).map (fun d => d.parameters.length) = some as.length) (hR : fr + 1 ≤ R.frames ∧ 8 + (nL1 + 11) + lo ≤ R.locals) (hst : st = as.reverse.map (fun x => (Sum.inl x : AV)) ++ rH κ :: rest) (hroom : ((rest.map tv).map fun v => v.category).sum ≤ 8) (hd : decode cc pc = .ok (.invokevirtual idx, 3)) (kk : ∀ (x : Int) (σ1 : Sg), post x σ1 → V w κ R cc nL σ1 lv (pc + 3) (.inl x :: rest)) : V w κ R cc nL σ lv pc st := by
  subst hst
  obtain ⟨⟨p, l, e, s, m, args⟩, ⟨below, meth, c, Q, A⟩, D, h, ad, cT⟩ := κ
  intro hO hD hg hl hs H locs ls hP hS hv
  have hFc := free_of hD hS hO.2.2.2.2.2.2
  have ha : ∀ a ∈ as, wv (.inl a) := fun a ha => hs _ (List.mem_append_left _ (List.mem_map.mpr ⟨a, List.mem_reverse.mpr ha, rfl⟩))
  have hrest : ∀ x ∈ rest, wv x := fun x hx => hs x (List.mem_append_right _ (List.mem_cons_of_mem _ hx))
  have hK := hO.2.2.2.2.2.1
  have est : (as.reverse.map (fun x => (Sum.inl x : AV)) ++ rH ((p, l, e, s, m, args), (below, meth, c, Q, A), D, h, ad, cT) :: rest).map tv = (vI as).reverse ++ .ref h :: rest.map tv := by
    rw [List.map_append, vI_rev]; rfl
  rw [est]
  refine va_calli (va_runV (As := vI as) (rest := rest.map tv) ⟨hO.1, hO.2.1, hO.2.2.1, hO.2.2.2.1, hO.2.2.2.2.1⟩ (M hg ha l D h ad cT H.size) (cwV as.length hO.2.2.2.2.1 hG rfl rfl rfl hd0 hR) ⟨preP_blind, va_recv hK hP (ci := w.1) (q0 := 0) hw.1 rfl, fun U hU hW => ⟨rfl, by rw [hU], by rw [hU]; exact hP, va_K.moved hW.alike hK, hD.weaken (fun _ _ _ _ => trivial)⟩⟩ rfl (by unfold vI; rw [List.length_map]) hv.1 rfl (lv_room hroom) hd ⟨by simp, by simp⟩) hS (fun q _ h => hFc q h) hFc (fun r u t H1 locs1 ht hvm hpost hB hz1 hk1 hS1 => ?_)
  obtain ⟨hP1, hK1, hD1⟩ := hB
  rw [ht] at hP1
  obtain ⟨x, σ1⟩ := u
  obtain ⟨rfl, hwv, hg1, hp⟩ := hpost
  exact kk x σ1 hp hO (hD1.weaken (fun k q _ h => hFc q.1 h)) hg1 hl (wf_k hwv hrest) H1 locs1 ls hP1 hS1 hv
set_option maxHeartbeats 4000000 in
theorem v_callV {w : WS} {κ : KX} {R : Room} {cc : ByteArray} {nL : Nat} {σ : Sg} {lv : LV} {pc : Nat} {rest : List AV} {y : MethodName} {cc1 : ByteArray} {nL1 : Nat}  {fr lo idx : Nat} {as : List Int} {post : Sg → Prop} {st : List AV} (hw : WSok w) (M : CtV w y cc1 nL1 fr lo as σ post) (hG : GoodIn lw_all (wsV w.2.1.1 idx w.2.1.1 y (ws_ y cc1 nL1 none))) (hd0 : y.cls = w.2.1.1 ∧ y.cls ≠ "java/lang/invoke/MethodHandle" ∧ y.cls ≠ "java/lang/invoke/VarHandle" ∧ (parseMethodDescriptor y.desc).map (fun d => d.parameters.length) = some as.length) (hR : fr + 1 ≤ R.frames ∧ 8 + (nL1 + 11) + lo ≤ R.locals) (hst : st = as.reverse.map (fun x => (Sum.inl x : AV)) ++ rH κ :: rest) (hroom : ((rest.map tv).map fun v => v.category).sum ≤ 8) (hd : decode cc pc = .ok (.invokevirtual idx, 3)) (kk : ∀ (σ1 : Sg), post σ1 → V w κ R cc nL σ1 lv (pc + 3) rest) : V w κ R cc nL σ lv pc st := by
  subst hst
  obtain ⟨⟨p, l, e, s, m, args⟩, ⟨below, meth, c, Q, A⟩, D, h, ad, cT⟩ := κ
  intro hO hD hg hl hs H locs ls hP hS hv
  have hFc := free_of hD hS hO.2.2.2.2.2.2
  have ha : ∀ a ∈ as, wv (.inl a) := fun a ha => hs _ (List.mem_append_left _ (List.mem_map.mpr ⟨a, List.mem_reverse.mpr ha, rfl⟩))
  have hrest : ∀ x ∈ rest, wv x := fun x hx => hs x (List.mem_append_right _ (List.mem_cons_of_mem _ hx))
  have hK := hO.2.2.2.2.2.1
  have est : (as.reverse.map (fun x => (Sum.inl x : AV)) ++ rH ((p, l, e, s, m, args), (below, meth, c, Q, A), D, h, ad, cT) :: rest).map tv = (vI as).reverse ++ .ref h :: rest.map tv := by
    rw [List.map_append, vI_rev]; rfl
  rw [est]
  refine va_callv (va_runV (As := vI as) (rest := rest.map tv) ⟨hO.1, hO.2.1, hO.2.2.1, hO.2.2.2.1, hO.2.2.2.2.1⟩ (M hg ha l D h ad cT H.size) (cwV as.length hO.2.2.2.2.1 hG rfl rfl rfl hd0 hR) ⟨preP_blind, va_recv hK hP (ci := w.1) (q0 := 0) hw.1 rfl, fun U hU hW => ⟨rfl, by rw [hU], by rw [hU]; exact hP, va_K.moved hW.alike hK, hD.weaken (fun _ _ _ _ => trivial)⟩⟩ rfl (by unfold vI; rw [List.length_map]) hv.1 rfl (lv_room hroom) hd ⟨by simp, by simp⟩) hS (fun q _ h => hFc q h) hFc (fun u t H1 locs1 ht hvm hpost hB hz1 hk1 hS1 => ?_)
  obtain ⟨hP1, hK1, hD1⟩ := hB
  rw [ht] at hP1
  exact kk u hpost.2 hO (hD1.weaken (fun k q _ h => hFc q.1 h)) hpost.1 hl hrest H1 locs1 ls hP1 hS1 hv
theorem c0_node {κ : KX} {R : Room} {cc : ByteArray} {nL : Nat} {σ : Sg} {lv : LV} {pc : Nat} {rest : List AV} {fr lo : Nat} {as : List Int} {post : Int → Sg → Prop} {st : List AV} (hd : decode cc pc = .ok (.invokevirtual 59, 3)) (M : Ct w0 yX0_node cX0_node 6 (some .int) fr lo as σ post) (hn : as.length = 3) (hR : fr + 1 ≤ R.frames ∧ 25 + lo ≤ R.locals) (hst : st = as.reverse.map (fun x => (Sum.inl x : AV)) ++ rH κ :: rest) (hroom : ((rest.map tv).map fun v => v.category).sum ≤ 8) (kk : ∀ (x : Int) (σ1 : Sg), post x σ1 → V w0 κ R cc nL σ1 lv (pc + 3) (.inl x :: rest)) : V w0 κ R cc nL σ lv pc st := v_call w0ok M (lw_V q115 q117 qs0 q29 q118) (by rw [hn]; decide +kernel) hR hst hroom hd kk
theorem c0_congruent {κ : KX} {R : Room} {cc : ByteArray} {nL : Nat} {σ : Sg} {lv : LV} {pc : Nat} {rest : List AV} {fr lo : Nat} {as : List Int} {post : Int → Sg → Prop} {st : List AV} (hd : decode cc pc = .ok (.invokevirtual 71, 3)) (M : Ct w0 yX0_congruent cX0_congruent 3 (some .boolean) fr lo as σ post) (hn : as.length = 2) (hR : fr + 1 ≤ R.frames ∧ 22 + lo ≤ R.locals) (hst : st = as.reverse.map (fun x => (Sum.inl x : AV)) ++ rH κ :: rest) (hroom : ((rest.map tv).map fun v => v.category).sum ≤ 8) (kk : ∀ (x : Int) (σ1 : Sg), post x σ1 → V w0 κ R cc nL σ1 lv (pc + 3) (.inl x :: rest)) : V w0 κ R cc nL σ lv pc st := v_call w0ok M (lw_V q119 q121 qs1 q29 q122) (by rw [hn]; decide +kernel) hR hst hroom hd kk
theorem c0_isNode {κ : KX} {R : Room} {cc : ByteArray} {nL : Nat} {σ : Sg} {lv : LV} {pc : Nat} {rest : List AV} {fr lo : Nat} {as : List Int} {post : Int → Sg → Prop} {st : List AV} (hd : decode cc pc = .ok (.invokevirtual 63, 3)) (M : Ct w0 yX0_isNode cX0_isNode 2 (some .boolean) fr lo as σ post) (hn : as.length = 1) (hR : fr + 1 ≤ R.frames ∧ 21 + lo ≤ R.locals) (hst : st = as.reverse.map (fun x => (Sum.inl x : AV)) ++ rH κ :: rest) (hroom : ((rest.map tv).map fun v => v.category).sum ≤ 8) (kk : ∀ (x : Int) (σ1 : Sg), post x σ1 → V w0 κ R cc nL σ1 lv (pc + 3) (.inl x :: rest)) : V w0 κ R cc nL σ lv pc st := v_call w0ok M (lw_V q127 q129 qs2 q29 q130) (by rw [hn]; decide +kernel) hR hst hroom hd kk
theorem c0_push {κ : KX} {R : Room} {cc : ByteArray} {nL : Nat} {σ : Sg} {lv : LV} {pc : Nat} {rest : List AV} {fr lo : Nat} {as : List Int} {post : Sg → Prop} {st : List AV} (hd : decode cc pc = .ok (.invokevirtual 78, 3)) (M : CtV w0 yX0_push cX0_push 3 fr lo as σ post) (hn : as.length = 2) (hR : fr + 1 ≤ R.frames ∧ 22 + lo ≤ R.locals) (hst : st = as.reverse.map (fun x => (Sum.inl x : AV)) ++ rH κ :: rest) (hroom : ((rest.map tv).map fun v => v.category).sum ≤ 8) (kk : ∀ (σ1 : Sg), post σ1 → V w0 κ R cc nL σ1 lv (pc + 3) rest) : V w0 κ R cc nL σ lv pc st := v_callV w0ok M (lw_V q139 q141 qs3 q29 q142) (by rw [hn]; decide +kernel) hR hst hroom hd kk
theorem c0_join {κ : KX} {R : Room} {cc : ByteArray} {nL : Nat} {σ : Sg} {lv : LV} {pc : Nat} {rest : List AV} {fr lo : Nat} {as : List Int} {post : Sg → Prop} {st : List AV} (hd : decode cc pc = .ok (.invokevirtual 82, 3)) (M : CtV w0 yX0_join cX0_join 9 fr lo as σ post) (hn : as.length = 2) (hR : fr + 1 ≤ R.frames ∧ 28 + lo ≤ R.locals) (hst : st = as.reverse.map (fun x => (Sum.inl x : AV)) ++ rH κ :: rest) (hroom : ((rest.map tv).map fun v => v.category).sum ≤ 8) (kk : ∀ (σ1 : Sg), post σ1 → V w0 κ R cc nL σ1 lv (pc + 3) rest) : V w0 κ R cc nL σ lv pc st := v_callV w0ok M (lw_V q143 q145 qs4 q29 q146) (by rw [hn]; decide +kernel) hR hst hroom hd kk
theorem c0_classes {κ : KX} {R : Room} {cc : ByteArray} {nL : Nat} {σ : Sg} {lv : LV} {pc : Nat} {rest : List AV} {fr lo : Nat} {as : List Int} {post : Int → Sg → Prop} {st : List AV} (hd : decode cc pc = .ok (.invokevirtual 85, 3)) (M : Ct w0 yX0_classes cX0_classes 3 (some .int) fr lo as σ post) (hn : as.length = 0) (hR : fr + 1 ≤ R.frames ∧ 22 + lo ≤ R.locals) (hst : st = as.reverse.map (fun x => (Sum.inl x : AV)) ++ rH κ :: rest) (hroom : ((rest.map tv).map fun v => v.category).sum ≤ 8) (kk : ∀ (x : Int) (σ1 : Sg), post x σ1 → V w0 κ R cc nL σ1 lv (pc + 3) (.inl x :: rest)) : V w0 κ R cc nL σ lv pc st := v_call w0ok M (lw_V q147 q148 q149 q29 q150) (by rw [hn]; decide +kernel) hR hst hroom hd kk
theorem c0_compile {κ : KX} {R : Room} {cc : ByteArray} {nL : Nat} {σ : Sg} {lv : LV} {pc : Nat} {rest : List AV} {fr lo : Nat} {as : List Int} {post : Sg → Prop} {st : List AV} (hd : decode cc pc = .ok (.invokevirtual 132, 3)) (M : CtV w0 yX0_compile cX0_compile 6 fr lo as σ post) (hn : as.length = 0) (hR : fr + 1 ≤ R.frames ∧ 25 + lo ≤ R.locals) (hst : st = as.reverse.map (fun x => (Sum.inl x : AV)) ++ rH κ :: rest) (hroom : ((rest.map tv).map fun v => v.category).sum ≤ 8) (kk : ∀ (σ1 : Sg), post σ1 → V w0 κ R cc nL σ1 lv (pc + 3) rest) : V w0 κ R cc nL σ lv pc st := v_callV w0ok M (lw_V q168 q170 qs5 q29 q171) (by rw [hn]; decide +kernel) hR hst hroom hd kk
theorem c0_write {κ : KX} {R : Room} {cc : ByteArray} {nL : Nat} {σ : Sg} {lv : LV} {pc : Nat} {rest : List AV} {fr lo : Nat} {as : List Int} {post : Sg → Prop} {st : List AV} (hd : decode cc pc = .ok (.invokevirtual 105, 3)) (M : CtV w0 yX0_write cX0_write 4 fr lo as σ post) (hn : as.length = 3) (hR : fr + 1 ≤ R.frames ∧ 23 + lo ≤ R.locals) (hst : st = as.reverse.map (fun x => (Sum.inl x : AV)) ++ rH κ :: rest) (hroom : ((rest.map tv).map fun v => v.category).sum ≤ 8) (kk : ∀ (σ1 : Sg), post σ1 → V w0 κ R cc nL σ1 lv (pc + 3) rest) : V w0 κ R cc nL σ lv pc st := v_callV w0ok M (lw_V q172 q174 qs6 q29 q175) (by rw [hn]; decide +kernel) hR hst hroom hd kk
theorem c0_runAll {κ : KX} {R : Room} {cc : ByteArray} {nL : Nat} {σ : Sg} {lv : LV} {pc : Nat} {rest : List AV} {fr lo : Nat} {as : List Int} {post : Sg → Prop} {st : List AV} (hd : decode cc pc = .ok (.invokevirtual 135, 3)) (M : CtV w0 yX0_runAll cX0_runAll 2 fr lo as σ post) (hn : as.length = 0) (hR : fr + 1 ≤ R.frames ∧ 21 + lo ≤ R.locals) (hst : st = as.reverse.map (fun x => (Sum.inl x : AV)) ++ rH κ :: rest) (hroom : ((rest.map tv).map fun v => v.category).sum ≤ 8) (kk : ∀ (σ1 : Sg), post σ1 → V w0 κ R cc nL σ1 lv (pc + 3) rest) : V w0 κ R cc nL σ lv pc st := v_callV w0ok M (lw_V q176 q178 qs7 q29 q179) (by rw [hn]; decide +kernel) hR hst hroom hd kk
theorem c0_clearFound {κ : KX} {R : Room} {cc : ByteArray} {nL : Nat} {σ : Sg} {lv : LV} {pc : Nat} {rest : List AV} {fr lo : Nat} {as : List Int} {post : Sg → Prop} {st : List AV} (hd : decode cc pc = .ok (.invokevirtual 125, 3)) (M : CtV w0 yX0_clearFound cX0_clearFound 2 fr lo as σ post) (hn : as.length = 0) (hR : fr + 1 ≤ R.frames ∧ 21 + lo ≤ R.locals) (hst : st = as.reverse.map (fun x => (Sum.inl x : AV)) ++ rH κ :: rest) (hroom : ((rest.map tv).map fun v => v.category).sum ≤ 8) (kk : ∀ (σ1 : Sg), post σ1 → V w0 κ R cc nL σ1 lv (pc + 3) rest) : V w0 κ R cc nL σ lv pc st := v_callV w0ok M (lw_V q180 q182 qs8 q29 q183) (by rw [hn]; decide +kernel) hR hst hroom hd kk
theorem c0_run {κ : KX} {R : Room} {cc : ByteArray} {nL : Nat} {σ : Sg} {lv : LV} {pc : Nat} {rest : List AV} {fr lo : Nat} {as : List Int} {post : Sg → Prop} {st : List AV} (hd : decode cc pc = .ok (.invokevirtual 128, 3)) (M : CtV w0 yX0_run cX0_run 4 fr lo as σ post) (hn : as.length = 1) (hR : fr + 1 ≤ R.frames ∧ 23 + lo ≤ R.locals) (hst : st = as.reverse.map (fun x => (Sum.inl x : AV)) ++ rH κ :: rest) (hroom : ((rest.map tv).map fun v => v.category).sum ≤ 8) (kk : ∀ (σ1 : Sg), post σ1 → V w0 κ R cc nL σ1 lv (pc + 3) rest) : V w0 κ R cc nL σ lv pc st := v_callV w0ok M (lw_V q184 q186 qs9 q29 q187) (by rw [hn]; decide +kernel) hR hst hroom hd kk
theorem c0_take {κ : KX} {R : Room} {cc : ByteArray} {nL : Nat} {σ : Sg} {lv : LV} {pc : Nat} {rest : List AV} {fr lo : Nat} {as : List Int} {post : Int → Sg → Prop} {st : List AV} (hd : decode cc pc = .ok (.invokevirtual 109, 3)) (M : Ct w0 yX0_take cX0_take 4 (some .boolean) fr lo as σ post) (hn : as.length = 1) (hR : fr + 1 ≤ R.frames ∧ 23 + lo ≤ R.locals) (hst : st = as.reverse.map (fun x => (Sum.inl x : AV)) ++ rH κ :: rest) (hroom : ((rest.map tv).map fun v => v.category).sum ≤ 8) (kk : ∀ (x : Int) (σ1 : Sg), post x σ1 → V w0 κ R cc nL σ1 lv (pc + 3) (.inl x :: rest)) : V w0 κ R cc nL σ lv pc st := v_call w0ok M (lw_V q188 q190 qs10 q29 q191) (by rw [hn]; decide +kernel) hR hst hroom hd kk
theorem c0_decide {κ : KX} {R : Room} {cc : ByteArray} {nL : Nat} {σ : Sg} {lv : LV} {pc : Nat} {rest : List AV} {fr lo : Nat} {as : List Int} {post : Int → Sg → Prop} {st : List AV} (hd : decode cc pc = .ok (.invokevirtual 112, 3)) (M : Ct w0 yX0_decide cX0_decide 5 (some .boolean) fr lo as σ post) (hn : as.length = 1) (hR : fr + 1 ≤ R.frames ∧ 24 + lo ≤ R.locals) (hst : st = as.reverse.map (fun x => (Sum.inl x : AV)) ++ rH κ :: rest) (hroom : ((rest.map tv).map fun v => v.category).sum ≤ 8) (kk : ∀ (x : Int) (σ1 : Sg), post x σ1 → V w0 κ R cc nL σ1 lv (pc + 3) (.inl x :: rest)) : V w0 κ R cc nL σ lv pc st := v_call w0ok M (lw_V q192 q194 qs11 q29 q195) (by rw [hn]; decide +kernel) hR hst hroom hd kk
theorem c0_note {κ : KX} {R : Room} {cc : ByteArray} {nL : Nat} {σ : Sg} {lv : LV} {pc : Nat} {rest : List AV} {fr lo : Nat} {as : List Int} {post : Sg → Prop} {st : List AV} (hd : decode cc pc = .ok (.invokevirtual 119, 3)) (M : CtV w0 yX0_note cX0_note 3 fr lo as σ post) (hn : as.length = 0) (hR : fr + 1 ≤ R.frames ∧ 22 + lo ≤ R.locals) (hst : st = as.reverse.map (fun x => (Sum.inl x : AV)) ++ rH κ :: rest) (hroom : ((rest.map tv).map fun v => v.category).sum ≤ 8) (kk : ∀ (σ1 : Sg), post σ1 → V w0 κ R cc nL σ1 lv (pc + 3) rest) : V w0 κ R cc nL σ lv pc st := v_callV w0ok M (lw_V q196 q198 qs12 q29 q199) (by rw [hn]; decide +kernel) hR hst hroom hd kk
theorem c0_classOfConstant {κ : KX} {R : Room} {cc : ByteArray} {nL : Nat} {σ : Sg} {lv : LV} {pc : Nat} {rest : List AV} {fr lo : Nat} {as : List Int} {post : Int → Sg → Prop} {st : List AV} (hd : decode cc pc = .ok (.invokevirtual 122, 3)) (M : Ct w0 yX0_classOfConstant cX0_classOfConstant 3 (some .int) fr lo as σ post) (hn : as.length = 1) (hR : fr + 1 ≤ R.frames ∧ 22 + lo ≤ R.locals) (hst : st = as.reverse.map (fun x => (Sum.inl x : AV)) ++ rH κ :: rest) (hroom : ((rest.map tv).map fun v => v.category).sum ≤ 8) (kk : ∀ (x : Int) (σ1 : Sg), post x σ1 → V w0 κ R cc nL σ1 lv (pc + 3) (.inl x :: rest)) : V w0 κ R cc nL σ lv pc st := v_call w0ok M (lw_V q200 q202 qs13 q29 q203) (by rw [hn]; decide +kernel) hR hst hroom hd kk
theorem c0_back {κ : KX} {R : Room} {cc : ByteArray} {nL : Nat} {σ : Sg} {lv : LV} {pc : Nat} {rest : List AV} {fr lo : Nat} {as : List Int} {post : Int → Sg → Prop} {st : List AV} (hd : decode cc pc = .ok (.invokevirtual 115, 3)) (M : Ct w0 yX0_back cX0_back 3 (some .int) fr lo as σ post) (hn : as.length = 1) (hR : fr + 1 ≤ R.frames ∧ 22 + lo ≤ R.locals) (hst : st = as.reverse.map (fun x => (Sum.inl x : AV)) ++ rH κ :: rest) (hroom : ((rest.map tv).map fun v => v.category).sum ≤ 8) (kk : ∀ (x : Int) (σ1 : Sg), post x σ1 → V w0 κ R cc nL σ1 lv (pc + 3) (.inl x :: rest)) : V w0 κ R cc nL σ lv pc st := v_call w0ok M (lw_V q204 q206 qs14 q29 q207) (by rw [hn]; decide +kernel) hR hst hroom hd kk
theorem c0_foundCount {κ : KX} {R : Room} {cc : ByteArray} {nL : Nat} {σ : Sg} {lv : LV} {pc : Nat} {rest : List AV} {fr lo : Nat} {as : List Int} {post : Int → Sg → Prop} {st : List AV} (hd : decode cc pc = .ok (.invokevirtual 138, 3)) (M : Ct w0 yX0_foundCount cX0_foundCount 3 (some .int) fr lo as σ post) (hn : as.length = 0) (hR : fr + 1 ≤ R.frames ∧ 22 + lo ≤ R.locals) (hst : st = as.reverse.map (fun x => (Sum.inl x : AV)) ++ rH κ :: rest) (hroom : ((rest.map tv).map fun v => v.category).sum ≤ 8) (kk : ∀ (x : Int) (σ1 : Sg), post x σ1 → V w0 κ R cc nL σ1 lv (pc + 3) (.inl x :: rest)) : V w0 κ R cc nL σ lv pc st := v_call w0ok M (lw_V q208 q210 qs15 q29 q211) (by rw [hn]; decide +kernel) hR hst hroom hd kk
theorem c1_make {κ : KX} {R : Room} {cc : ByteArray} {nL : Nat} {σ : Sg} {lv : LV} {pc : Nat} {rest : List AV} {fr lo : Nat} {as : List Int} {post : Int → Sg → Prop} {st : List AV} (hd : decode cc pc = .ok (.invokevirtual 44, 3)) (M : Ct w1 yX1_make cX1_make 5 (some .int) fr lo as σ post) (hn : as.length = 3) (hR : fr + 1 ≤ R.frames ∧ 24 + lo ≤ R.locals) (hst : st = as.reverse.map (fun x => (Sum.inl x : AV)) ++ rH κ :: rest) (hroom : ((rest.map tv).map fun v => v.category).sum ≤ 8) (kk : ∀ (x : Int) (σ1 : Sg), post x σ1 → V w1 κ R cc nL σ1 lv (pc + 3) (.inl x :: rest)) : V w1 κ R cc nL σ lv pc st := v_call w1ok M (lw_V q275 q277 qs16 q30 q278) (by rw [hn]; decide +kernel) hR hst hroom hd kk
theorem c1_follow {κ : KX} {R : Room} {cc : ByteArray} {nL : Nat} {σ : Sg} {lv : LV} {pc : Nat} {rest : List AV} {fr lo : Nat} {as : List Int} {post : Sg → Prop} {st : List AV} (hd : decode cc pc = .ok (.invokevirtual 41, 3)) (M : CtV w1 yX1_follow cX1_follow 4 fr lo as σ post) (hn : as.length = 0) (hR : fr + 1 ≤ R.frames ∧ 23 + lo ≤ R.locals) (hst : st = as.reverse.map (fun x => (Sum.inl x : AV)) ++ rH κ :: rest) (hroom : ((rest.map tv).map fun v => v.category).sum ≤ 8) (kk : ∀ (σ1 : Sg), post σ1 → V w1 κ R cc nL σ1 lv (pc + 3) rest) : V w1 κ R cc nL σ lv pc st := v_callV w1ok M (lw_V q279 q281 qs17 q30 q282) (by rw [hn]; decide +kernel) hR hst hroom hd kk
theorem c1_alike {κ : KX} {R : Room} {cc : ByteArray} {nL : Nat} {σ : Sg} {lv : LV} {pc : Nat} {rest : List AV} {fr lo : Nat} {as : List Int} {post : Int → Sg → Prop} {st : List AV} (hd : decode cc pc = .ok (.invokevirtual 52, 3)) (M : Ct w1 yX1_alike cX1_alike 3 (some .boolean) fr lo as σ post) (hn : as.length = 2) (hR : fr + 1 ≤ R.frames ∧ 22 + lo ≤ R.locals) (hst : st = as.reverse.map (fun x => (Sum.inl x : AV)) ++ rH κ :: rest) (hroom : ((rest.map tv).map fun v => v.category).sum ≤ 8) (kk : ∀ (x : Int) (σ1 : Sg), post x σ1 → V w1 κ R cc nL σ1 lv (pc + 3) (.inl x :: rest)) : V w1 κ R cc nL σ lv pc st := v_call w1ok M (lw_V q283 q285 qs18 q30 q286) (by rw [hn]; decide +kernel) hR hst hroom hd kk
theorem c1_join {κ : KX} {R : Room} {cc : ByteArray} {nL : Nat} {σ : Sg} {lv : LV} {pc : Nat} {rest : List AV} {fr lo : Nat} {as : List Int} {post : Int → Sg → Prop} {st : List AV} (hd : decode cc pc = .ok (.invokevirtual 56, 3)) (M : Ct w1 yX1_join cX1_join 6 (some .boolean) fr lo as σ post) (hn : as.length = 2) (hR : fr + 1 ≤ R.frames ∧ 25 + lo ≤ R.locals) (hst : st = as.reverse.map (fun x => (Sum.inl x : AV)) ++ rH κ :: rest) (hroom : ((rest.map tv).map fun v => v.category).sum ≤ 8) (kk : ∀ (x : Int) (σ1 : Sg), post x σ1 → V w1 κ R cc nL σ1 lv (pc + 3) (.inl x :: rest)) : V w1 κ R cc nL σ lv pc st := v_call w1ok M (lw_V q287 q289 qs19 q30 q290) (by rw [hn]; decide +kernel) hR hst hroom hd kk
theorem c1_isNode {κ : KX} {R : Room} {cc : ByteArray} {nL : Nat} {σ : Sg} {lv : LV} {pc : Nat} {rest : List AV} {fr lo : Nat} {as : List Int} {post : Int → Sg → Prop} {st : List AV} (hd : decode cc pc = .ok (.invokevirtual 48, 3)) (M : Ct w1 yX1_isNode cX1_isNode 2 (some .boolean) fr lo as σ post) (hn : as.length = 1) (hR : fr + 1 ≤ R.frames ∧ 21 + lo ≤ R.locals) (hst : st = as.reverse.map (fun x => (Sum.inl x : AV)) ++ rH κ :: rest) (hroom : ((rest.map tv).map fun v => v.category).sum ≤ 8) (kk : ∀ (x : Int) (σ1 : Sg), post x σ1 → V w1 κ R cc nL σ1 lv (pc + 3) (.inl x :: rest)) : V w1 κ R cc nL σ lv pc st := v_call w1ok M (lw_V q295 q297 qs20 q30 q298) (by rw [hn]; decide +kernel) hR hst hroom hd kk
theorem c1_classes {κ : KX} {R : Room} {cc : ByteArray} {nL : Nat} {σ : Sg} {lv : LV} {pc : Nat} {rest : List AV} {fr lo : Nat} {as : List Int} {post : Int → Sg → Prop} {st : List AV} (hd : decode cc pc = .ok (.invokevirtual 59, 3)) (M : Ct w1 yX1_classes cX1_classes 3 (some .int) fr lo as σ post) (hn : as.length = 0) (hR : fr + 1 ≤ R.frames ∧ 22 + lo ≤ R.locals) (hst : st = as.reverse.map (fun x => (Sum.inl x : AV)) ++ rH κ :: rest) (hroom : ((rest.map tv).map fun v => v.category).sum ≤ 8) (kk : ∀ (x : Int) (σ1 : Sg), post x σ1 → V w1 κ R cc nL σ1 lv (pc + 3) (.inl x :: rest)) : V w1 κ R cc nL σ lv pc st := v_call w1ok M (lw_V q307 q308 q309 q30 q310) (by rw [hn]; decide +kernel) hR hst hroom hd kk
theorem c1_whole {κ : KX} {R : Room} {cc : ByteArray} {nL : Nat} {σ : Sg} {lv : LV} {pc : Nat} {rest : List AV} {fr lo : Nat} {as : List Int} {post : Int → Sg → Prop} {st : List AV} (hd : decode cc pc = .ok (.invokevirtual 88, 3)) (M : Ct w1 yX1_whole cX1_whole 3 (some .boolean) fr lo as σ post) (hn : as.length = 0) (hR : fr + 1 ≤ R.frames ∧ 22 + lo ≤ R.locals) (hst : st = as.reverse.map (fun x => (Sum.inl x : AV)) ++ rH κ :: rest) (hroom : ((rest.map tv).map fun v => v.category).sum ≤ 8) (kk : ∀ (x : Int) (σ1 : Sg), post x σ1 → V w1 κ R cc nL σ1 lv (pc + 3) (.inl x :: rest)) : V w1 κ R cc nL σ lv pc st := v_call w1ok M (lw_V q328 q330 qs21 q30 q331) (by rw [hn]; decide +kernel) hR hst hroom hd kk
theorem c1_search {κ : KX} {R : Room} {cc : ByteArray} {nL : Nat} {σ : Sg} {lv : LV} {pc : Nat} {rest : List AV} {fr lo : Nat} {as : List Int} {post : Sg → Prop} {st : List AV} (hd : decode cc pc = .ok (.invokevirtual 92, 3)) (M : CtV w1 yX1_search cX1_search 5 fr lo as σ post) (hn : as.length = 2) (hR : fr + 1 ≤ R.frames ∧ 24 + lo ≤ R.locals) (hst : st = as.reverse.map (fun x => (Sum.inl x : AV)) ++ rH κ :: rest) (hroom : ((rest.map tv).map fun v => v.category).sum ≤ 8) (kk : ∀ (σ1 : Sg), post σ1 → V w1 κ R cc nL σ1 lv (pc + 3) rest) : V w1 κ R cc nL σ lv pc st := v_callV w1ok M (lw_V q332 q334 qs22 q30 q335) (by rw [hn]; decide +kernel) hR hst hroom hd kk
theorem c1_tried {κ : KX} {R : Room} {cc : ByteArray} {nL : Nat} {σ : Sg} {lv : LV} {pc : Nat} {rest : List AV} {fr lo : Nat} {as : List Int} {post : Int → Sg → Prop} {st : List AV} (hd : decode cc pc = .ok (.invokevirtual 81, 3)) (M : Ct w1 yX1_tried cX1_tried 3 (some .boolean) fr lo as σ post) (hn : as.length = 2) (hR : fr + 1 ≤ R.frames ∧ 22 + lo ≤ R.locals) (hst : st = as.reverse.map (fun x => (Sum.inl x : AV)) ++ rH κ :: rest) (hroom : ((rest.map tv).map fun v => v.category).sum ≤ 8) (kk : ∀ (x : Int) (σ1 : Sg), post x σ1 → V w1 κ R cc nL σ1 lv (pc + 3) (.inl x :: rest)) : V w1 κ R cc nL σ lv pc st := v_call w1ok M (lw_V q336 q338 qs23 q30 q339) (by rw [hn]; decide +kernel) hR hst hroom hd kk
theorem c1_hasVariable {κ : KX} {R : Room} {cc : ByteArray} {nL : Nat} {σ : Sg} {lv : LV} {pc : Nat} {rest : List AV} {fr lo : Nat} {as : List Int} {post : Int → Sg → Prop} {st : List AV} (hd : decode cc pc = .ok (.invokevirtual 66, 3)) (M : Ct w1 yX1_hasVariable cX1_hasVariable 3 (some .boolean) fr lo as σ post) (hn : as.length = 1) (hR : fr + 1 ≤ R.frames ∧ 22 + lo ≤ R.locals) (hst : st = as.reverse.map (fun x => (Sum.inl x : AV)) ++ rH κ :: rest) (hroom : ((rest.map tv).map fun v => v.category).sum ≤ 8) (kk : ∀ (x : Int) (σ1 : Sg), post x σ1 → V w1 κ R cc nL σ1 lv (pc + 3) (.inl x :: rest)) : V w1 κ R cc nL σ lv pc st := v_call w1ok M (lw_V q340 q342 qs24 q30 q343) (by rw [hn]; decide +kernel) hR hst hroom hd kk
theorem c1_look {κ : KX} {R : Room} {cc : ByteArray} {nL : Nat} {σ : Sg} {lv : LV} {pc : Nat} {rest : List AV} {fr lo : Nat} {as : List Int} {post : Sg → Prop} {st : List AV} (hd : decode cc pc = .ok (.invokevirtual 84, 3)) (M : CtV w1 yX1_look cX1_look 4 fr lo as σ post) (hn : as.length = 1) (hR : fr + 1 ≤ R.frames ∧ 23 + lo ≤ R.locals) (hst : st = as.reverse.map (fun x => (Sum.inl x : AV)) ++ rH κ :: rest) (hroom : ((rest.map tv).map fun v => v.category).sum ≤ 8) (kk : ∀ (σ1 : Sg), post σ1 → V w1 κ R cc nL σ1 lv (pc + 3) rest) : V w1 κ R cc nL σ lv pc st := v_callV w1ok M (lw_V q344 q346 qs25 q30 q347) (by rw [hn]; decide +kernel) hR hst hroom hd kk
theorem c1_value {κ : KX} {R : Room} {cc : ByteArray} {nL : Nat} {σ : Sg} {lv : LV} {pc : Nat} {rest : List AV} {fr lo : Nat} {as : List Int} {post : Int → Sg → Prop} {st : List AV} (hd : decode cc pc = .ok (.invokevirtual 69, 3)) (M : Ct w1 yX1_value cX1_value 6 (some .int) fr lo as σ post) (hn : as.length = 0) (hR : fr + 1 ≤ R.frames ∧ 25 + lo ≤ R.locals) (hst : st = as.reverse.map (fun x => (Sum.inl x : AV)) ++ rH κ :: rest) (hroom : ((rest.map tv).map fun v => v.category).sum ≤ 8) (kk : ∀ (x : Int) (σ1 : Sg), post x σ1 → V w1 κ R cc nL σ1 lv (pc + 3) (.inl x :: rest)) : V w1 κ R cc nL σ lv pc st := v_call w1ok M (lw_V q348 q350 qs26 q30 q351) (by rw [hn]; decide +kernel) hR hst hroom hd kk
theorem c1_over {κ : KX} {R : Room} {cc : ByteArray} {nL : Nat} {σ : Sg} {lv : LV} {pc : Nat} {rest : List AV} {fr lo : Nat} {as : List Int} {post : Int → Sg → Prop} {st : List AV} (hd : decode cc pc = .ok (.invokevirtual 63, 3)) (M : Ct w1 yX1_over cX1_over 6 (some .int) fr lo as σ post) (hn : as.length = 3) (hR : fr + 1 ≤ R.frames ∧ 25 + lo ≤ R.locals) (hst : st = as.reverse.map (fun x => (Sum.inl x : AV)) ++ rH κ :: rest) (hroom : ((rest.map tv).map fun v => v.category).sum ≤ 8) (kk : ∀ (x : Int) (σ1 : Sg), post x σ1 → V w1 κ R cc nL σ1 lv (pc + 3) (.inl x :: rest)) : V w1 κ R cc nL σ lv pc st := v_call w1ok M (lw_V q352 q354 qs27 q30 q355) (by rw [hn]; decide +kernel) hR hst hroom hd kk
end
section
/-! pure words: kinds of nodes, congruence, leaders, counting -/
def kd (x : Int) : Int := if x = 0 then 0 else if x = 20 then 1 else if x = 21 then 2 else -1
def cgr (K L R ld : Int → Int) (i j : Int) : Prop := K i = K j ∧ K i ≠ 0 ∧ ld (L i) = ld (L j) ∧ (K i = 1 ∨ ld (R i) = ld (R j))
def GOK (n : Int) (K L R : Int → Int) : Prop := 0 ≤ n ∧ n ≤ 20 ∧ ∀ j, 0 ≤ j → j < n → (K j = 0 ∧ 0 ≤ L j ∧ L j ≤ 5 ∧ R j = 0) ∨ (K j = 1 ∧ 0 ≤ L j ∧ L j < j ∧ R j = 0) ∨ (K j = 2 ∧ 0 ≤ L j ∧ L j < j ∧ 0 ≤ R j ∧ R j < j)
def LOK (n : Int) (ld : Int → Int) : Prop := ∀ j, 0 ≤ j → j < n → 0 ≤ ld j ∧ ld j ≤ j ∧ ld (ld j) = ld j
def CLO (n : Int) (K L R ld : Int → Int) : Prop := ∀ i j, 0 ≤ i → i < n → 0 ≤ j → j < n → cgr K L R ld i j → ld i = ld j
def KV (σ : Sg) (j : Int) : Int := kd (σ 1 j)
theorem kd_0 {x : Int} : kd x = 0 ↔ x = 0 := by unfold kd; split <;> (try split) <;> (try split) <;> omega
theorem kd_1 {x : Int} : kd x = 1 ↔ x = 20 := by unfold kd; split <;> (try split) <;> (try split) <;> omega
theorem kd_2 {x : Int} : kd x = 2 ↔ x = 21 := by unfold kd; split <;> (try split) <;> (try split) <;> omega
def cnt (f : Int → Bool) : Nat → Int
  | 0 => 0
  | n + 1 => cnt f n + (if f (n : Int) = true then 1 else 0)
def cntI (f : Int → Bool) (i : Int) : Int := cnt f i.toNat
theorem cntI_0 (f : Int → Bool) : cntI f 0 = 0 := rfl
theorem cntI_s (f : Int → Bool) {i : Int} (h : 0 ≤ i) : cntI f (i + 1) = cntI f i + (if f i = true then 1 else 0) := by
  unfold cntI
  have e : (i + 1).toNat = i.toNat + 1 := by omega
  rw [e]
  show cnt f i.toNat + _ = _
  rw [Int.toNat_of_nonneg h]
theorem cnt_b (f : Int → Bool) (n : Nat) : 0 ≤ cnt f n ∧ cnt f n ≤ n := by
  induction n with
  | zero => exact ⟨Int.le_refl _, Int.le_refl _⟩
  | succ n ih =>
    unfold cnt
    split <;> omega
theorem cntI_b (f : Int → Bool) {i : Int} (h : 0 ≤ i) : 0 ≤ cntI f i ∧ cntI f i ≤ i := by
  have := cnt_b f i.toNat
  unfold cntI
  omega
theorem cnt_congr {f g : Int → Bool} (n : Nat) (h : ∀ j : Int, 0 ≤ j → j < n → f j = g j) : cnt f n = cnt g n := by
  induction n with
  | zero => rfl
  | succ n ih =>
    unfold cnt
    rw [ih (fun j h1 h2 => h j h1 (by omega)), h n (by omega) (by omega)]
theorem cntI_congr {f g : Int → Bool} {i : Int} (h : ∀ j : Int, 0 ≤ j → j < i → f j = g j) : cntI f i = cntI g i := cnt_congr _ (fun j h1 h2 => h j h1 (by omega))
theorem cnt_le {f g : Int → Bool} (n : Nat) (h : ∀ j : Int, 0 ≤ j → j < n → f j = true → g j = true) : cnt f n ≤ cnt g n := by
  induction n with
  | zero => exact Int.le_refl _
  | succ n ih =>
    have h1 := ih (fun j h1 h2 => h j h1 (by omega))
    have h2 := h n (by omega) (by omega)
    unfold cnt
    by_cases hf : f (n : Int) = true
    · rw [if_pos hf, if_pos (h2 hf)]; omega
    · rw [if_neg hf]; split <;> omega
theorem cnt_lt {f g : Int → Bool} (n : Nat) (h : ∀ j : Int, 0 ≤ j → j < n → f j = true → g j = true) (a : Int) (h0 : 0 ≤ a) (h1 : a < n) (hf : f a = false) (hg : g a = true) : cnt f n < cnt g n := by
  induction n with
  | zero => omega
  | succ n ih =>
    have hn := h n (by omega) (by omega)
    unfold cnt
    by_cases ha : a = (n : Int)
    · subst ha
      have := cnt_le n (fun j h1 h2 => h j h1 (by omega))
      rw [hf, hg]
      simp
      omega
    · have := ih (fun j h1 h2 => h j h1 (by omega)) (by omega)
      by_cases hf : f (n : Int) = true
      · rw [if_pos hf, if_pos (hn hf)]; omega
      · rw [if_neg hf]; split <;> omega
theorem cntI_lt {f g : Int → Bool} {i : Int} (h : ∀ j : Int, 0 ≤ j → j < i → f j = true → g j = true) (a : Int) (h0 : 0 ≤ a) (h1 : a < i) (hf : f a = false) (hg : g a = true) : cntI f i < cntI g i := cnt_lt _ (fun j h1 h2 => h j h1 (by omega)) a h0 (by omega) hf hg
def FirstAt (P : Int → Prop) (n j : Int) : Prop := 0 ≤ j ∧ j < n ∧ P j ∧ ∀ i, 0 ≤ i → i < j → ¬ P i
def NoneIn (P : Int → Prop) (n : Int) : Prop := ∀ i, 0 ≤ i → i < n → ¬ P i
theorem none_0 (P : Int → Prop) : NoneIn P 0 := fun i h1 h2 => by omega
theorem none_s {P : Int → Prop} {n : Int} (h : NoneIn P n) (hn : ¬ P n) : NoneIn P (n + 1) := fun i h1 h2 => by
  by_cases e : i = n
  · rw [e]; exact hn
  · exact h i h1 (by omega)
def tokOk (t : Int) : Prop := (0 ≤ t ∧ t ≤ 2) ∨ (10 ≤ t ∧ t ≤ 15) ∨ t = 20 ∨ t = 21
theorem cgr_raw {σ : Sg} {m n : Int} (hm : KV σ m = 0 ∨ KV σ m = 1 ∨ KV σ m = 2) (hn : KV σ n = 0 ∨ KV σ n = 1 ∨ KV σ n = 2) : cgr (KV σ) (σ 2) (σ 3) (σ 4) m n ↔ (σ 1 m = σ 1 n ∧ σ 1 m ≠ 0 ∧ σ 4 (σ 2 m) = σ 4 (σ 2 n) ∧ (σ 1 m = 20 ∨ σ 4 (σ 3 m) = σ 4 (σ 3 n))) := by
  unfold cgr
  have a0 := kd_0 (x := σ 1 m); have a1 := kd_1 (x := σ 1 m); have a2 := kd_2 (x := σ 1 m)
  have b0 := kd_0 (x := σ 1 n); have b1 := kd_1 (x := σ 1 n); have b2 := kd_2 (x := σ 1 n)
  have hm : kd (σ 1 m) = 0 ∨ kd (σ 1 m) = 1 ∨ kd (σ 1 m) = 2 := hm
  have hn : kd (σ 1 n) = 0 ∨ kd (σ 1 n) = 1 ∨ kd (σ 1 n) = 2 := hn
  show (kd (σ 1 m) = kd (σ 1 n) ∧ kd (σ 1 m) ≠ 0 ∧ σ 4 (σ 2 m) = σ 4 (σ 2 n) ∧ (kd (σ 1 m) = 1 ∨ σ 4 (σ 3 m) = σ 4 (σ 3 n))) ↔ _
  omega
def ovP (K L R ld : Int → Int) (q x y j : Int) : Prop := K j = q ∧ ((q = 0 ∧ L j = x) ∨ (q ≠ 0 ∧ ld (L j) = x ∧ (q = 1 ∨ ld (R j) = y)))
def hasV (tk : Int → Int) (tc v : Int) : Prop := ∃ i, 0 ≤ i ∧ i < tc ∧ tk i = v
def trP (n : Int) (ld tk : Int → Int) (tc v k : Int) : Prop := (hasV tk tc v → k < n ∧ ld k = k) ∧ (¬ hasV tk tc v → k = 0)
theorem trP_y {n : Int} {ld tk : Int → Int} {tc v k : Int} (h : hasV tk tc v) : trP n ld tk tc v k ↔ (k < n ∧ ld k = k) := ⟨fun q => q.1 h, fun q => ⟨fun _ => q, fun e => absurd h e⟩⟩
theorem trP_n {n : Int} {ld tk : Int → Int} {tc v k : Int} (h : ¬ hasV tk tc v) : trP n ld tk tc v k ↔ k = 0 := ⟨fun q => q.2 h, fun q => ⟨fun e => absurd e h, fun _ => q⟩⟩
def upA (σ : Sg) (k : Nat) (f : Int → Int) : Sg := fun k' => if k' = k then f else σ k'
theorem upA_s (σ : Sg) (k : Nat) (f : Int → Int) : upA σ k f k = f := by simp [upA]
theorem upA_o (σ : Sg) {k k' : Nat} (f : Int → Int) (h : k' ≠ k) : upA σ k f k' = σ k' := by simp [upA, h]
theorem upA_id (σ : Sg) (k : Nat) : upA σ k (σ k) = σ := by
  funext k'
  by_cases h : k' = k
  · subst h; rw [upA_s]
  · rw [upA_o _ _ h]
theorem up_upA (σ : Sg) (k : Nat) (f : Int → Int) (j v : Int) : up (upA σ k f) k j v = upA σ k (fun i => if i = j then v else f i) := by
  funext k'
  by_cases h : k' = k
  · subst h; funext i; rw [up_a, upA_s, upA_s]
  · rw [up_o _ _ _ h, upA_o _ _ h, upA_o _ _ h]
def mrg (n p q : Int) (ld : Int → Int) : Int → Int := fun i => if 0 ≤ i ∧ i < n ∧ ld i = q then p else ld i
theorem mrg_0 (p q : Int) (ld : Int → Int) : mrg 0 p q ld = ld := by
  funext i; unfold mrg; rw [if_neg (by omega)]
theorem mrg_y {n p q : Int} {ld : Int → Int} (h0 : 0 ≤ n) (h : ld n = q) : (fun i => if i = n then p else mrg n p q ld i) = mrg (n + 1) p q ld := by
  funext i
  unfold mrg
  by_cases e : i = n
  · subst e; rw [if_pos rfl, if_pos (by omega)]
  · rw [if_neg e]
    by_cases h2 : 0 ≤ i ∧ i < n ∧ ld i = q
    · rw [if_pos h2, if_pos (by omega)]
    · rw [if_neg h2, if_neg (by omega)]
theorem mrg_n {n p q : Int} {ld : Int → Int} (h : ¬ ld n = q) : mrg n p q ld = mrg (n + 1) p q ld := by
  funext i
  unfold mrg
  by_cases h2 : 0 ≤ i ∧ i < n ∧ ld i = q
  · rw [if_pos h2, if_pos (by omega)]
  · rw [if_neg h2, if_neg (fun h3 => h2 ⟨h3.1, by
      have : i ≠ n := fun e => h (e ▸ h3.2.2)
      omega, h3.2.2⟩)]
theorem mrg_at (n p q : Int) (ld : Int → Int) : mrg n p q ld n = ld n := by
  unfold mrg; rw [if_neg (by omega)]
def lo2 (a b : Int) : Int := if a < b then a else b
def hi2 (a b : Int) : Int := if a < b then b else a
end
section
/-! the least congruence: sound, closed, canonical; unique -/
def EQV (E : Int → Int → Prop) : Prop := (∀ i, E i i) ∧ (∀ i j, E i j → E j i) ∧ (∀ i j k, E i j → E j k → E i k)
def ECL (n : Int) (K L R : Int → Int) (E : Int → Int → Prop) : Prop := ∀ i j, 0 ≤ i → i < n → 0 ≤ j → j < n → K i = K j → K i ≠ 0 → E (L i) (L j) → (K i = 1 ∨ E (R i) (R j)) → E i j
def BIN (n : Int) (B E : Int → Int → Prop) : Prop := ∀ i j, 0 ≤ i → i < n → 0 ≤ j → j < n → B i j → E i j
def SND (n : Int) (K L R : Int → Int) (B : Int → Int → Prop) (ld : Int → Int) : Prop := ∀ E, EQV E → ECL n K L R E → BIN n B E → BIN n (fun i j => ld i = ld j) E
def Clos (n : Int) (K L R : Int → Int) (B : Int → Int → Prop) (ld : Int → Int) : Prop := LOK n ld ∧ BIN n B (fun i j => ld i = ld j) ∧ CLO n K L R ld ∧ SND n K L R B ld
theorem clos_le {n : Int} {K L R : Int → Int} {B : Int → Int → Prop} {l1 l2 : Int → Int} (h1 : Clos n K L R B l1) (h2 : Clos n K L R B l2) : BIN n (fun i j => l1 i = l1 j) (fun i j => l2 i = l2 j) := by
  intro i j a b c d e
  have := h1.2.2.2 (fun i j => i = j ∨ (0 ≤ i ∧ i < n ∧ 0 ≤ j ∧ j < n ∧ l2 i = l2 j)) ⟨fun i => Or.inl rfl, fun i j h => by
      rcases h with h | ⟨p, q, r, s, t⟩
      · exact Or.inl h.symm
      · exact Or.inr ⟨r, s, p, q, t.symm⟩, fun i j k h1 h2 => by
      rcases h1 with h1 | ⟨p, q, r, s, t⟩
      · subst h1; exact h2
      · rcases h2 with h2 | ⟨p2, q2, r2, s2, t2⟩
        · subst h2; exact Or.inr ⟨p, q, r, s, t⟩
        · exact Or.inr ⟨p, q, r2, s2, t.trans t2⟩⟩ (fun i j a b c d k1 k2 e1 e2 => Or.inr ⟨a, b, c, d, h2.2.2.1 i j a b c d ⟨k1, k2, by
      rcases e1 with e1 | e1
      · rw [e1]
      · exact e1.2.2.2.2, by
      rcases e2 with e2 | e2 | e2
      · exact Or.inl e2
      · exact Or.inr (by rw [e2])
      · exact Or.inr e2.2.2.2.2⟩⟩) (fun i j a b c d e => Or.inr ⟨a, b, c, d, h2.2.1 i j a b c d e⟩) i j a b c d e
  rcases this with h | h
  · show l2 i = l2 j
    rw [h]
  · exact h.2.2.2.2
theorem clos_uniq {n : Int} {K L R : Int → Int} {B : Int → Int → Prop} {l1 l2 : Int → Int} (h1 : Clos n K L R B l1) (h2 : Clos n K L R B l2) : ∀ j, 0 ≤ j → j < n → l1 j = l2 j := by
  intro j a b
  have p := h1.1 j a b
  have q := h2.1 j a b
  have e1 : l2 (l1 j) = l2 j := clos_le h1 h2 (l1 j) j p.1 (by omega) a b p.2.2
  have e2 : l1 (l2 j) = l1 j := clos_le h2 h1 (l2 j) j q.1 (by omega) a b q.2.2
  have p2 := h2.1 (l1 j) p.1 (by omega)
  have q2 := h1.1 (l2 j) q.1 (by omega)
  omega
theorem mrg_in {n p q : Int} {ld : Int → Int} {i : Int} (h0 : 0 ≤ i) (h1 : i < n) : mrg n p q ld i = if ld i = q then p else ld i := by
  unfold mrg
  by_cases e : ld i = q
  · rw [if_pos e, if_pos ⟨h0, h1, e⟩]
  · rw [if_neg e, if_neg (fun h => e h.2.2)]
/-- the join of the classes of x and y -/
def jn (n x y : Int) (ld : Int → Int) : Int → Int := mrg n (lo2 (ld x) (ld y)) (hi2 (ld x) (ld y)) ld
theorem jn_in {n x y : Int} {ld : Int → Int} {i : Int} (h0 : 0 ≤ i) (h1 : i < n) : jn n x y ld i = if ld i = hi2 (ld x) (ld y) then lo2 (ld x) (ld y) else ld i := mrg_in h0 h1
theorem lohi (a b : Int) : (lo2 a b = a ∧ hi2 a b = b ∧ a ≤ b) ∨ (lo2 a b = b ∧ hi2 a b = a ∧ b ≤ a) := by
  unfold lo2 hi2
  by_cases h : a < b
  · rw [if_pos h, if_pos h]; omega
  · rw [if_neg h, if_neg h]; omega
theorem jn_LOK {n x y : Int} {ld : Int → Int} (h : LOK n ld) (hx : 0 ≤ x ∧ x < n) (hy : 0 ≤ y ∧ y < n) : LOK n (jn n x y ld) := by
  intro j a b
  have hj := h j a b
  have px := h x hx.1 hx.2
  have py := h y hy.1 hy.2
  rw [jn_in a b]
  rcases lohi (ld x) (ld y) with ⟨e1, e2, e3⟩ | ⟨e1, e2, e3⟩
  · rw [e1, e2]
    by_cases e : ld j = ld y
    · rw [if_pos e, jn_in px.1 (by omega), e1, e2, px.2.2]
      refine ⟨px.1, by omega, ?_⟩
      split <;> rfl
    · rw [if_neg e, jn_in hj.1 (by omega), e1, e2, hj.2.2, if_neg e]
      exact ⟨hj.1, hj.2.1, rfl⟩
  · rw [e1, e2]
    by_cases e : ld j = ld x
    · rw [if_pos e, jn_in py.1 (by omega), e1, e2, py.2.2]
      refine ⟨py.1, by omega, ?_⟩
      split <;> rfl
    · rw [if_neg e, jn_in hj.1 (by omega), e1, e2, hj.2.2, if_neg e]
      exact ⟨hj.1, hj.2.1, rfl⟩
theorem jn_co {n x y : Int} {ld : Int → Int} {i j : Int} (hi : 0 ≤ i ∧ i < n) (hj : 0 ≤ j ∧ j < n) (e : ld i = ld j) : jn n x y ld i = jn n x y ld j := by
  rw [jn_in hi.1 hi.2, jn_in hj.1 hj.2, e]
theorem jn_xy {n x y : Int} {ld : Int → Int} (hx : 0 ≤ x ∧ x < n) (hy : 0 ≤ y ∧ y < n) : jn n x y ld x = jn n x y ld y := by
  rw [jn_in hx.1 hx.2, jn_in hy.1 hy.2]
  rcases lohi (ld x) (ld y) with ⟨e1, e2, e3⟩ | ⟨e1, e2, e3⟩
  · rw [e1, e2, if_pos rfl]; split <;> rfl
  · rw [e1, e2, if_pos rfl]; split <;> rfl
theorem jn_E {n x y : Int} {ld : Int → Int} {E : Int → Int → Prop} (hE : EQV E) (hx : 0 ≤ x ∧ x < n) (hy : 0 ≤ y ∧ y < n) (hl : BIN n (fun i j => ld i = ld j) E) (hxy : E x y) : BIN n (fun i j => jn n x y ld i = jn n x y ld j) E := by
  intro i j a b c d e
  have e : jn n x y ld i = jn n x y ld j := e
  rw [jn_in a b, jn_in c d] at e
  have key : ∀ u v, 0 ≤ u → u < n → 0 ≤ v → v < n → ld u = ld x → ld v = ld y → E u v := fun u v h1 h2 h3 h4 h5 h6 =>
    hE.2.2 _ _ _ (hl u x h1 h2 hx.1 hx.2 h5) (hE.2.2 _ _ _ hxy (hE.2.1 _ _ (hl v y h3 h4 hy.1 hy.2 h6)))
  rcases lohi (ld x) (ld y) with ⟨e1, e2, e3⟩ | ⟨e1, e2, e3⟩
  · rw [e1, e2] at e
    by_cases ei : ld i = ld y
    · by_cases ej : ld j = ld y
      · exact hl i j a b c d (ei.trans ej.symm)
      · rw [if_pos ei, if_neg ej] at e
        exact hE.2.1 _ _ (key j i c d a b e.symm ei)
    · by_cases ej : ld j = ld y
      · rw [if_neg ei, if_pos ej] at e
        exact key i j a b c d e ej
      · rw [if_neg ei, if_neg ej] at e
        exact hl i j a b c d e
  · rw [e1, e2] at e
    by_cases ei : ld i = ld x
    · by_cases ej : ld j = ld x
      · exact hl i j a b c d (ei.trans ej.symm)
      · rw [if_pos ei, if_neg ej] at e
        exact key i j a b c d ei e.symm
    · by_cases ej : ld j = ld x
      · rw [if_neg ei, if_pos ej] at e
        exact hE.2.1 _ _ (key j i c d a b ej e)
      · rw [if_neg ei, if_neg ej] at e
        exact hl i j a b c d e
theorem GOK.arg {n : Int} {K L R : Int → Int} (h : GOK n K L R) {i : Int} (h0 : 0 ≤ i) (h1 : i < n) (hk : K i ≠ 0) : 0 ≤ L i ∧ L i < i ∧ 0 ≤ R i ∧ R i ≤ i ∧ (K i ≠ 1 → R i < i) := by
  have := h.2.2 i h0 h1
  omega
theorem cgr_E {n : Int} {K L R ld : Int → Int} {E : Int → Int → Prop} (hG : GOK n K L R) (hc : ECL n K L R E) (hl : BIN n (fun i j => ld i = ld j) E) {i j : Int} (hi : 0 ≤ i ∧ i < n) (hj : 0 ≤ j ∧ j < n) (h : cgr K L R ld i j) : E i j := by
  have pi := hG.arg hi.1 hi.2 h.2.1
  have pj := hG.arg hj.1 hj.2 (h.1 ▸ h.2.1)
  refine hc i j hi.1 hi.2 hj.1 hj.2 h.1 h.2.1 (hl _ _ pi.1 (by omega) pj.1 (by omega) h.2.2.1) ?_
  rcases h.2.2.2 with e | e
  · exact Or.inl e
  · exact Or.inr (hl _ _ pi.2.2.1 (by omega) pj.2.2.1 (by omega) e)
theorem jn_SND {n x y : Int} {K L R ld : Int → Int} {B : Int → Int → Prop} (hx : 0 ≤ x ∧ x < n) (hy : 0 ≤ y ∧ y < n) (h : SND n K L R B ld) (hxy : ∀ E, EQV E → ECL n K L R E → BIN n B E → E x y) : SND n K L R B (jn n x y ld) :=
  fun E h1 h2 h3 => jn_E h1 hx hy (h E h1 h2 h3) (hxy E h1 h2 h3)
def lds (ld : Int → Int) : Int → Bool := fun j => decide (ld j = j)
theorem jn_cnt {n x y : Int} {ld : Int → Int} (h : LOK n ld) (hx : 0 ≤ x ∧ x < n) (hy : 0 ≤ y ∧ y < n) (hne : ld x ≠ ld y) : cntI (lds (jn n x y ld)) n < cntI (lds ld) n := by
  have px := h x hx.1 hx.2
  have py := h y hy.1 hy.2
  rcases lohi (ld x) (ld y) with ⟨e1, e2, e3⟩ | ⟨e1, e2, e3⟩
  · refine cntI_lt (fun j a b e => ?_) (ld y) py.1 (by omega) ?_ ?_
    · unfold lds at e ⊢
      have hj := h j a b
      rw [decide_eq_true_iff, jn_in a b, e1, e2] at e
      rw [decide_eq_true_iff]
      by_cases ej : ld j = ld y
      · rw [if_pos ej] at e
        have : ld j = ld x := by rw [← e]; exact px.2.2
        omega
      · rw [if_neg ej] at e; exact e
    · unfold lds
      rw [decide_eq_false_iff_not, jn_in py.1 (by omega), e1, e2, py.2.2, if_pos rfl]
      exact hne
    · unfold lds
      rw [decide_eq_true_iff]; exact py.2.2
  · refine cntI_lt (fun j a b e => ?_) (ld x) px.1 (by omega) ?_ ?_
    · unfold lds at e ⊢
      have hj := h j a b
      rw [decide_eq_true_iff, jn_in a b, e1, e2] at e
      rw [decide_eq_true_iff]
      by_cases ej : ld j = ld x
      · rw [if_pos ej] at e
        have : ld j = ld y := by rw [← e]; exact py.2.2
        omega
      · rw [if_neg ej] at e; exact e
    · unfold lds
      rw [decide_eq_false_iff_not, jn_in px.1 (by omega), e1, e2, px.2.2, if_pos rfl]
      exact fun e => hne e.symm
    · unfold lds
      rw [decide_eq_true_iff]; exact px.2.2
/-- a leader is there: node 0 -/
theorem cnt_pos {n : Int} {ld : Int → Int} (h : LOK n ld) (hn : 1 ≤ n) : 1 ≤ cntI (lds ld) n := by
  have p := h 0 (by omega) (by omega)
  have := cntI_lt (f := fun _ => false) (g := lds ld) (i := n) (fun j _ _ e => by cases e) 0 (by omega) (by omega) rfl (by unfold lds; rw [decide_eq_true_iff]; omega)
  have b := cntI_b (fun _ => false) (i := n) (by omega)
  omega
/-- what a new node, or an old one, does to the picture -/
def same4 (n : Int) (K L R ld K' L' R' ld' : Int → Int) : Prop := ∀ i, 0 ≤ i → i < n → K' i = K i ∧ L' i = L i ∧ R' i = R i ∧ ld' i = ld i
def cgN (K L R ld : Int → Int) (s a b m : Int) : Prop := K m = s ∧ s ≠ 0 ∧ ld (L m) = ld a ∧ (s = 1 ∨ ld (R m) = ld b)
def isN (K L R : Int → Int) (s a b : Int) (i : Int) : Prop := K i = s ∧ L i = a ∧ R i = b
def NodeP (s a b r n : Int) (K L R ld : Int → Int) (n' : Int) (K' L' R' ld' : Int → Int) : Prop :=
  (∃ j, FirstAt (isN K L R s a b) n j ∧ r = j ∧ n' = n ∧ same4 n K L R ld K' L' R' ld') ∨ (NoneIn (isN K L R s a b) n ∧ n = 20 ∧ r = -2 ∧ n' = n ∧ same4 n K L R ld K' L' R' ld') ∨ (NoneIn (isN K L R s a b) n ∧ n < 20 ∧ r = n ∧ n' = n + 1 ∧ same4 n K L R ld K' L' R' ld' ∧ K' n = s ∧ L' n = a ∧ R' n = b ∧ ((∃ m, 0 ≤ m ∧ m < n ∧ cgN K L R ld s a b m ∧ ld' n = ld m) ∨ (NoneIn (cgN K L R ld s a b) n ∧ ld' n = n)))
def argOk (s a b n : Int) : Prop := (s = 0 ∧ 0 ≤ a ∧ a ≤ 5 ∧ b = 0) ∨ (s = 1 ∧ 0 ≤ a ∧ a < n ∧ b = 0) ∨ (s = 2 ∧ 0 ≤ a ∧ a < n ∧ 0 ≤ b ∧ b < n)
end
section
/-! a new node: the picture stays good; two machines do the same -/
theorem node_GOK {s a b n : Int} {K L R K' L' R' ld ld' : Int → Int} (hG : GOK n K L R) (ha : argOk s a b n) (hn : n < 20) (hs : same4 n K L R ld K' L' R' ld') (h1 : K' n = s) (h2 : L' n = a) (h3 : R' n = b) : GOK (n + 1) K' L' R' := by
  refine ⟨by have := hG.1; omega, by omega, fun j h0 hj => ?_⟩
  by_cases e : j = n
  · subst e
    rw [h1, h2, h3]
    unfold argOk at ha
    omega
  · have p := hG.2.2 j h0 (by omega)
    have q := hs j h0 (by omega)
    rw [q.1, q.2.1, q.2.2.1]
    exact p
/-- the new node's leader -/
def newL (n : Int) (K L R ld : Int → Int) (s a b x : Int) : Prop := (∃ m, 0 ≤ m ∧ m < n ∧ cgN K L R ld s a b m ∧ x = ld m) ∨ (NoneIn (cgN K L R ld s a b) n ∧ x = n)
theorem newL_b {n : Int} {K L R ld : Int → Int} {s a b x : Int} (hL : LOK n ld) (hn : 0 ≤ n) (h : newL n K L R ld s a b x) : 0 ≤ x ∧ x ≤ n ∧ (x = n ∨ (x < n ∧ ld x = x)) := by
  rcases h with ⟨m, h1, h2, -, h4⟩ | ⟨-, h⟩
  · have := hL m h1 h2
    rw [h4]
    exact ⟨this.1, by omega, Or.inr ⟨by omega, this.2.2⟩⟩
  · omega
theorem node_LOK {n : Int} {K L R ld ld' : Int → Int} {s a b : Int} (hL : LOK n ld) (hn : 0 ≤ n) (hs : ∀ i, 0 ≤ i → i < n → ld' i = ld i) (h : newL n K L R ld s a b (ld' n)) : LOK (n + 1) ld' := by
  intro j h0 hj
  by_cases e : j = n
  · subst e
    have p := newL_b hL hn h
    refine ⟨p.1, p.2.1, ?_⟩
    rcases p.2.2 with q | q
    · rw [q]; exact q
    · rw [hs _ p.1 q.1]; exact q.2
  · have p := hL j h0 (by omega)
    rw [hs j h0 (by omega), hs _ p.1 (by omega)]
    exact p
theorem cgr_old {n : Int} {K L R ld K' L' R' ld' : Int → Int} (hG : GOK n K L R) (hs : same4 n K L R ld K' L' R' ld') {i j : Int} (hi : 0 ≤ i ∧ i < n) (hj : 0 ≤ j ∧ j < n) : cgr K' L' R' ld' i j ↔ cgr K L R ld i j := by
  have p := hs i hi.1 hi.2
  have q := hs j hj.1 hj.2
  unfold cgr
  rw [p.1, q.1, p.2.1, q.2.1, p.2.2.1, q.2.2.1]
  by_cases hk : K i ≠ 0
  · by_cases hk2 : K i = K j
    · have gi := hG.arg hi.1 hi.2 hk
      have gj := hG.arg hj.1 hj.2 (hk2 ▸ hk)
      rw [(hs (L i) gi.1 (by omega)).2.2.2, (hs (L j) gj.1 (by omega)).2.2.2, (hs (R i) gi.2.2.1 (by omega)).2.2.2, (hs (R j) gj.2.2.1 (by omega)).2.2.2]
    · exact ⟨fun h => absurd h.1 hk2, fun h => absurd h.1 hk2⟩
  · exact ⟨fun h => absurd h.2.1 hk, fun h => absurd h.2.1 hk⟩
theorem cgr_new {n : Int} {K L R ld K' L' R' ld' : Int → Int} {s a b : Int} (hG : GOK n K L R) (ha : argOk s a b n) (hs : same4 n K L R ld K' L' R' ld') (h1 : K' n = s) (h2 : L' n = a) (h3 : R' n = b) {m : Int} (hm : 0 ≤ m ∧ m < n) : cgr K' L' R' ld' m n ↔ cgN K L R ld s a b m := by
  have p := hs m hm.1 hm.2
  unfold cgr cgN
  rw [p.1, p.2.1, p.2.2.1, h1, h2, h3]
  by_cases hk : K m = s
  · by_cases hk2 : s ≠ 0
    · have gm := hG.arg hm.1 hm.2 (hk ▸ hk2)
      have ra : 0 ≤ a ∧ a < n ∧ 0 ≤ b ∧ (s = 1 ∨ b < n) := by unfold argOk at ha; omega
      rw [(hs (L m) gm.1 (by omega)).2.2.2, (hs (R m) gm.2.2.1 (by omega)).2.2.2, (hs a ra.1 ra.2.1).2.2.2, hk]
      rcases ra.2.2.2 with e | e
      · simp [e]
      · rw [(hs b ra.2.2.1 e).2.2.2]
    · rw [hk]
      exact ⟨fun h => absurd h.2.1 hk2, fun h => absurd h.2.1 hk2⟩
  · exact ⟨fun h => absurd h.1 hk, fun h => absurd h.1 hk⟩
theorem cgr_symm {K L R ld : Int → Int} {i j : Int} (h : cgr K L R ld i j) : cgr K L R ld j i := ⟨h.1.symm, h.1 ▸ h.2.1, h.2.2.1.symm, by rw [← h.1]; exact h.2.2.2.imp id Eq.symm⟩
theorem cgN_eq {n : Int} {K L R ld : Int → Int} {s a b : Int} (hC : CLO n K L R ld) {m m' : Int} (hm : 0 ≤ m ∧ m < n) (hm' : 0 ≤ m' ∧ m' < n) (h : cgN K L R ld s a b m) (h' : cgN K L R ld s a b m') : ld m = ld m' := by
  refine hC m m' hm.1 hm.2 hm'.1 hm'.2 ⟨h.1.trans h'.1.symm, h.1 ▸ h.2.1, h.2.2.1.trans h'.2.2.1.symm, ?_⟩
  rw [h.1]
  rcases h.2.2.2 with e | e
  · exact Or.inl e
  · exact h'.2.2.2.imp id (fun e2 => e.trans e2.symm)
theorem node_CLO {n : Int} {K L R ld K' L' R' ld' : Int → Int} {s a b : Int} (hG : GOK n K L R) (hC : CLO n K L R ld) (ha : argOk s a b n) (hs : same4 n K L R ld K' L' R' ld') (h1 : K' n = s) (h2 : L' n = a) (h3 : R' n = b) (h : newL n K L R ld s a b (ld' n)) : CLO (n + 1) K' L' R' ld' := by
  have key : ∀ m, 0 ≤ m ∧ m < n → cgr K' L' R' ld' m n → ld' m = ld' n := fun m hm hc => by
    have c1 := (cgr_new hG ha hs h1 h2 h3 hm).mp hc
    rw [(hs m hm.1 hm.2).2.2.2]
    rcases h with ⟨m', a1, a2, a3, a4⟩ | ⟨a1, a2⟩
    · rw [a4]; exact cgN_eq hC hm ⟨a1, a2⟩ c1 a3
    · exact absurd c1 (a1 m hm.1 hm.2)
  intro i j i0 i1 j0 j1 hc
  by_cases ei : i = n
  · by_cases ej : j = n
    · rw [ei, ej]
    · rw [ei] at hc ⊢
      exact (key j ⟨j0, by omega⟩ (cgr_symm hc)).symm
  · by_cases ej : j = n
    · rw [ej] at hc ⊢
      exact key i ⟨i0, by omega⟩ hc
    · have c1 := (cgr_old hG hs ⟨i0, by omega⟩ ⟨j0, by omega⟩).mp hc
      rw [(hs i i0 (by omega)).2.2.2, (hs j j0 (by omega)).2.2.2]
      exact hC i j i0 (by omega) j0 (by omega) c1
/-- the picture is good -/
def PIC (n : Int) (K L R ld : Int → Int) : Prop := GOK n K L R ∧ LOK n ld ∧ CLO n K L R ld
theorem pic_same {n : Int} {K L R ld K' L' R' ld' : Int → Int} (h : PIC n K L R ld) (hs : same4 n K L R ld K' L' R' ld') : PIC n K' L' R' ld' := by
  refine ⟨⟨h.1.1, h.1.2.1, fun j h0 hj => ?_⟩, fun j h0 hj => ?_, fun i j i0 i1 j0 j1 hc => ?_⟩
  · have q := hs j h0 hj
    rw [q.1, q.2.1, q.2.2.1]
    exact h.1.2.2 j h0 hj
  · have p := h.2.1 j h0 hj
    rw [(hs j h0 hj).2.2.2, (hs _ p.1 (by omega)).2.2.2]
    exact p
  · rw [(hs i i0 i1).2.2.2, (hs j j0 j1).2.2.2]
    exact h.2.2 i j i0 i1 j0 j1 ((cgr_old h.1 hs ⟨i0, i1⟩ ⟨j0, j1⟩).mp hc)
theorem node_PIC {s a b r n n' : Int} {K L R ld K' L' R' ld' : Int → Int} (h : PIC n K L R ld) (ha : argOk s a b n) (hN : NodeP s a b r n K L R ld n' K' L' R' ld') : PIC n' K' L' R' ld' := by
  rcases hN with ⟨j, -, -, e, hs⟩ | ⟨-, -, -, e, hs⟩ | ⟨-, h20, -, e, hs, h1, h2, h3, h4⟩
  · rw [e]; exact pic_same h hs
  · rw [e]; exact pic_same h hs
  · rw [e]
    exact ⟨node_GOK h.1 ha h20 hs h1 h2 h3, node_LOK h.2.1 h.1.1 (fun i a b => (hs i a b).2.2.2) h4, node_CLO h.1 h.2.2 ha hs h1 h2 h3 h4⟩
theorem same4_symm {n : Int} {K L R ld K' L' R' ld' : Int → Int} (h : same4 n K L R ld K' L' R' ld') : same4 n K' L' R' ld' K L R ld := fun i a b => by
  have := h i a b
  exact ⟨this.1.symm, this.2.1.symm, this.2.2.1.symm, this.2.2.2.symm⟩
theorem same4_trans {n : Int} {K L R ld K' L' R' ld' K2 L2 R2 ld2 : Int → Int} (h : same4 n K L R ld K' L' R' ld') (h2 : same4 n K' L' R' ld' K2 L2 R2 ld2) : same4 n K L R ld K2 L2 R2 ld2 := fun i a b => by
  have p := h i a b
  have q := h2 i a b
  exact ⟨q.1.trans p.1, q.2.1.trans p.2.1, q.2.2.1.trans p.2.2.1, q.2.2.2.trans p.2.2.2⟩
theorem same4_refl {n : Int} {K L R ld : Int → Int} : same4 n K L R ld K L R ld := fun _ _ _ => ⟨rfl, rfl, rfl, rfl⟩
theorem cgN_same {n : Int} {K L R ld K2 L2 R2 ld2 : Int → Int} {s a b : Int} (hG : GOK n K L R) (ha : argOk s a b n) (hs : same4 n K L R ld K2 L2 R2 ld2) {m : Int} (hm : 0 ≤ m ∧ m < n) : cgN K2 L2 R2 ld2 s a b m ↔ cgN K L R ld s a b m := by
  have p := hs m hm.1 hm.2
  unfold cgN
  rw [p.1, p.2.1, p.2.2.1]
  by_cases hk : K m = s
  · by_cases hk2 : s ≠ 0
    · have gm := hG.arg hm.1 hm.2 (hk ▸ hk2)
      have ra : 0 ≤ a ∧ a < n ∧ 0 ≤ b ∧ (s = 1 ∨ b < n) := by unfold argOk at ha; omega
      rw [(hs (L m) gm.1 (by omega)).2.2.2, (hs (R m) gm.2.2.1 (by omega)).2.2.2, (hs a ra.1 ra.2.1).2.2.2]
      rcases ra.2.2.2 with e | e
      · simp [e]
      · rw [(hs b ra.2.2.1 e).2.2.2]
    · exact ⟨fun h => absurd h.2.1 hk2, fun h => absurd h.2.1 hk2⟩
  · exact ⟨fun h => absurd h.1 hk, fun h => absurd h.1 hk⟩
theorem first_uniq {P Q : Int → Prop} {n j k : Int} (h : FirstAt P n j) (h2 : FirstAt Q n k) (hPQ : ∀ i, 0 ≤ i → i < n → (P i ↔ Q i)) : j = k := by
  rcases Int.lt_trichotomy j k with e | e | e
  · exact absurd ((hPQ j h.1 h.2.1).mp h.2.2.1) (h2.2.2.2 j h.1 e)
  · exact e
  · exact absurd ((hPQ k h2.1 h2.2.1).mpr h2.2.2.1) (h.2.2.2 k h2.1 e)
theorem first_none {P Q : Int → Prop} {n j : Int} (h : FirstAt P n j) (h2 : NoneIn Q n) (hPQ : ∀ i, 0 ≤ i → i < n → (P i ↔ Q i)) : False := h2 j h.1 h.2.1 ((hPQ j h.1 h.2.1).mp h.2.2.1)
theorem node_det {s a b r r2 n n' n2 : Int} {K L R ld K' L' R' ld' Km Lm Rm ldm K2 L2 R2 ld2 : Int → Int} (h : PIC n K L R ld) (ha : argOk s a b n) (hm : same4 n K L R ld Km Lm Rm ldm) (hN : NodeP s a b r n K L R ld n' K' L' R' ld') (hM : NodeP s a b r2 n Km Lm Rm ldm n2 K2 L2 R2 ld2) : r = r2 ∧ n' = n2 ∧ same4 n' K' L' R' ld' K2 L2 R2 ld2 := by
  have hP : ∀ i, 0 ≤ i → i < n → (isN K L R s a b i ↔ isN Km Lm Rm s a b i) := fun i i0 i1 => by
    have q := hm i i0 i1
    unfold isN
    rw [q.1, q.2.1, q.2.2.1]
  rcases hN with ⟨j, f1, e1, e2, hs⟩ | ⟨f1, e0, e1, e2, hs⟩ | ⟨f1, e0, e1, e2, hs, k1, k2, k3, k4⟩ <;> rcases hM with ⟨j', f1', e1', e2', hs'⟩ | ⟨f1', e0', e1', e2', hs'⟩ | ⟨f1', e0', e1', e2', hs', k1', k2', k3', k4'⟩
  · have := first_uniq f1 f1' hP
    exact ⟨by omega, by omega, by rw [e2]; exact same4_trans (same4_symm hs) (same4_trans hm hs')⟩
  · exact absurd (first_none f1 f1' hP) id
  · exact absurd (first_none f1 f1' hP) id
  · exact absurd (first_none f1' f1 (fun i a b => (hP i a b).symm)) id
  · exact ⟨by omega, by omega, by rw [e2]; exact same4_trans (same4_symm hs) (same4_trans hm hs')⟩
  · omega
  · exact absurd (first_none f1' f1 (fun i a b => (hP i a b).symm)) id
  · omega
  · refine ⟨by omega, by omega, fun i i0 i1 => ?_⟩
    rw [e2] at i1
    by_cases e : i = n
    · subst e
      refine ⟨by rw [k1, k1'], by rw [k2, k2'], by rw [k3, k3'], ?_⟩
      rcases k4 with ⟨m, m0, m1, m2, m3⟩ | ⟨m2, m3⟩ <;> rcases k4' with ⟨m', m0', m1', m2', m3'⟩ | ⟨m2', m3'⟩
      · rw [m3, m3', (hm m' m0' m1').2.2.2]
        exact cgN_eq h.2.2 ⟨m0', m1'⟩ ⟨m0, m1⟩ ((cgN_same h.1 ha hm ⟨m0', m1'⟩).mp m2') m2
      · exact absurd ((cgN_same h.1 ha hm ⟨m0, m1⟩).mpr m2) (m2' m m0 m1)
      · exact absurd ((cgN_same h.1 ha hm ⟨m0', m1'⟩).mp m2') (m2 m' m0' m1')
      · rw [m3, m3']
    · have p := hs i i0 (by omega)
      have q := hm i i0 (by omega)
      have q' := hs' i i0 (by omega)
      exact ⟨by rw [q'.1, q.1, p.1], by rw [q'.2.1, q.2.1, p.2.1], by rw [q'.2.2.1, q.2.2.1, p.2.2.1], by rw [q'.2.2.2, q.2.2.2, p.2.2.2]⟩
/-- the model's new node: the least congruence over the new picture -/
theorem make_clos {n s a b : Int} {K L R ld K' L' R' ld1 ld2 : Int → Int} (h : PIC n K L R ld) (ha : argOk s a b n) (hn : n < 20) (hs : same4 n K L R ld K' L' R' ld1) (h1 : K' n = s) (h2 : L' n = a) (h3 : R' n = b) (h4 : ld1 n = n) (hC : Clos (n + 1) K' L' R' (fun i j => ld1 i = ld1 j) ld2) : (∀ i, 0 ≤ i → i < n → ld2 i = ld i) ∧ newL n K L R ld s a b (ld2 n) := by
  have hex : ∃ x, newL n K L R ld s a b x := by
    by_cases hm : ∃ m, 0 ≤ m ∧ m < n ∧ cgN K L R ld s a b m
    · obtain ⟨m, m0, m1, m2⟩ := hm
      exact ⟨ld m, Or.inl ⟨m, m0, m1, m2, rfl⟩⟩
    · exact ⟨n, Or.inr ⟨fun i i0 i1 i2 => hm ⟨i, i0, i1, i2⟩, rfl⟩⟩
  obtain ⟨x, hx⟩ := hex
  let cd : Int → Int := fun i => if i = n then x else ld i
  have cdn : cd n = x := by show (if n = n then x else ld n) = x; rw [if_pos rfl]
  have cdo : ∀ i, 0 ≤ i → i < n → cd i = ld i := fun i _ i1 => by show (if i = n then x else ld i) = ld i; rw [if_neg (by omega)]
  have hs2 : same4 n K L R ld K' L' R' cd := fun i i0 i1 => ⟨(hs i i0 i1).1, (hs i i0 i1).2.1, (hs i i0 i1).2.2.1, cdo i i0 i1⟩
  have hx' : newL n K L R ld s a b (cd n) := by rw [cdn]; exact hx
  have hxb := newL_b h.2.1 h.1.1 hx
  have hcl : Clos (n + 1) K' L' R' (fun i j => ld1 i = ld1 j) cd := by
    refine ⟨node_LOK h.2.1 h.1.1 cdo hx', fun i j i0 i1 j0 j1 e => ?_, node_CLO h.1 h.2.2 ha hs2 h1 h2 h3 hx', fun E hE hc hB i j i0 i1 j0 j1 e => ?_⟩
    · show cd i = cd j
      have e : ld1 i = ld1 j := e
      by_cases ei : i = n
      · by_cases ej : j = n
        · rw [ei, ej]
        · rw [ei, h4, (hs j j0 (by omega)).2.2.2] at e
          have := h.2.1 j j0 (by omega)
          omega
      · by_cases ej : j = n
        · rw [ej, h4, (hs i i0 (by omega)).2.2.2] at e
          have := h.2.1 i i0 (by omega)
          omega
        · rw [cdo i i0 (by omega), cdo j j0 (by omega), ← (hs i i0 (by omega)).2.2.2, ← (hs j j0 (by omega)).2.2.2]
          exact e
    · have e : cd i = cd j := e
      have hB' : ∀ u v, 0 ≤ u → u < n → 0 ≤ v → v < n → ld u = ld v → E u v := fun u v u0 u1 v0 v1 e => hB u v u0 (by omega) v0 (by omega) (by
        show ld1 u = ld1 v
        rw [(hs u u0 u1).2.2.2, (hs v v0 v1).2.2.2]
        exact e)
      have key : ∀ v, 0 ≤ v → v < n → x = ld v → E n v := fun v v0 v1 ev => by
        rcases hx with ⟨m, m0, m1, m2, m3⟩ | ⟨-, m3⟩
        · have hmn : E m n := by
            have gm := h.1.arg m0 m1 (m2.1 ▸ m2.2.1)
            have ra : 0 ≤ a ∧ a < n ∧ 0 ≤ b ∧ (s = 1 ∨ b < n) := by unfold argOk at ha; have := m2.2.1; omega
            refine hc m n m0 (by omega) (by omega) (by omega) (by rw [(hs m m0 m1).1, h1]; exact m2.1) (by rw [(hs m m0 m1).1, m2.1]; exact m2.2.1) ?_ ?_
            · rw [(hs m m0 m1).2.1, h2]
              exact hB' _ _ gm.1 (by omega) ra.1 ra.2.1 m2.2.2.1
            · rw [(hs m m0 m1).1, m2.1, (hs m m0 m1).2.2.1, h3]
              rcases m2.2.2.2 with e1 | e1
              · exact Or.inl e1
              · rcases ra.2.2.2 with e2 | e2
                · exact Or.inl e2
                · exact Or.inr (hB' _ _ gm.2.2.1 (by omega) ra.2.2.1 e2 e1)
          exact hE.2.2 _ _ _ (hE.2.1 _ _ hmn) (hB' m v m0 m1 v0 v1 (m3.symm.trans ev))
        · have := h.2.1 v v0 v1
          omega
      by_cases ei : i = n
      · by_cases ej : j = n
        · rw [ei, ej]; exact hE.1 n
        · rw [ei, cdn, cdo j j0 (by omega)] at e
          rw [ei]
          exact key j j0 (by omega) e
      · by_cases ej : j = n
        · rw [ej, cdn, cdo i i0 (by omega)] at e
          rw [ej]
          exact hE.2.1 _ _ (key i i0 (by omega) e.symm)
        · rw [cdo i i0 (by omega), cdo j j0 (by omega)] at e
          exact hB' i j i0 (by omega) j0 (by omega) e
  have hu := clos_uniq hC hcl
  refine ⟨fun i i0 i1 => (hu i i0 (by omega)).trans (cdo i i0 i1), ?_⟩
  rw [hu n h.1.1 (by omega), cdn]
  exact hx
end
section
theorem kd_inj {x s : Int} (hs : s = 0 ∨ s = 20 ∨ s = 21) : kd x = kd s ↔ x = s := by
  have a0 := kd_0 (x := x); have a1 := kd_1 (x := x); have a2 := kd_2 (x := x)
  have b0 := kd_0 (x := s); have b1 := kd_1 (x := s); have b2 := kd_2 (x := s)
  constructor
  · intro h; rw [h] at a0 a1 a2; omega
  · intro h; rw [h]
/-- the component's state behind a new node -/
def nodeSt (σ : Sg) (s a b : Int) : Sg := up (up (up (up (up σ 0 0 (σ 0 0 + 1)) 1 (σ 0 0) s) 2 (σ 0 0) a) 3 (σ 0 0) b) 4 (σ 0 0) (σ 0 0)
def nodeStM (σ : Sg) (s a b : Int) : Sg := up (up (up (up (up σ 1 (σ 0 0) s) 2 (σ 0 0) a) 3 (σ 0 0) b) 4 (σ 0 0) (σ 0 0)) 0 0 (σ 0 0 + 1)
theorem nodeSt_1 (σ : Sg) (s a b i : Int) : nodeSt σ s a b 1 i = if i = σ 0 0 then s else σ 1 i := rfl
theorem nodeSt_2 (σ : Sg) (s a b i : Int) : nodeSt σ s a b 2 i = if i = σ 0 0 then a else σ 2 i := rfl
theorem nodeSt_3 (σ : Sg) (s a b i : Int) : nodeSt σ s a b 3 i = if i = σ 0 0 then b else σ 3 i := rfl
theorem nodeSt_4 (σ : Sg) (s a b i : Int) : nodeSt σ s a b 4 i = if i = σ 0 0 then σ 0 0 else σ 4 i := rfl
theorem nodeSt_0 (σ : Sg) (s a b : Int) : nodeSt σ s a b 0 0 = σ 0 0 + 1 := rfl
theorem nodeSt_k (σ : Sg) (s a b : Int) {k : Nat} (h : 5 ≤ k) : nodeSt σ s a b k = σ k := by
  unfold nodeSt
  rw [up_o _ _ _ (by omega), up_o _ _ _ (by omega), up_o _ _ _ (by omega), up_o _ _ _ (by omega), up_o _ _ _ (by omega)]
theorem nodeStM_1 (σ : Sg) (s a b i : Int) : nodeStM σ s a b 1 i = if i = σ 0 0 then s else σ 1 i := rfl
theorem nodeStM_2 (σ : Sg) (s a b i : Int) : nodeStM σ s a b 2 i = if i = σ 0 0 then a else σ 2 i := rfl
theorem nodeStM_3 (σ : Sg) (s a b i : Int) : nodeStM σ s a b 3 i = if i = σ 0 0 then b else σ 3 i := rfl
theorem nodeStM_4 (σ : Sg) (s a b i : Int) : nodeStM σ s a b 4 i = if i = σ 0 0 then σ 0 0 else σ 4 i := rfl
theorem nodeStM_0 (σ : Sg) (s a b : Int) : nodeStM σ s a b 0 0 = σ 0 0 + 1 := rfl
theorem nodeStM_k (σ : Sg) (s a b : Int) {k : Nat} (h : 5 ≤ k) : nodeStM σ s a b k = σ k := by
  unfold nodeStM
  rw [up_o _ _ _ (by omega), up_o _ _ _ (by omega), up_o _ _ _ (by omega), up_o _ _ _ (by omega), up_o _ _ _ (by omega)]
theorem nodeSt_same (σ : Sg) (s a b : Int) : same4 (σ 0 0) (KV σ) (σ 2) (σ 3) (σ 4) (KV (nodeSt σ s a b)) (nodeSt σ s a b 2) (nodeSt σ s a b 3) (nodeSt σ s a b 4) := fun i h0 h1 => by
  unfold KV
  rw [nodeSt_1, nodeSt_2, nodeSt_3, nodeSt_4, if_neg (by omega), if_neg (by omega), if_neg (by omega), if_neg (by omega)]
  exact ⟨rfl, rfl, rfl, rfl⟩
theorem nodeStM_same (σ : Sg) (s a b : Int) : same4 (σ 0 0) (σ 1) (σ 2) (σ 3) (σ 4) (nodeStM σ s a b 1) (nodeStM σ s a b 2) (nodeStM σ s a b 3) (nodeStM σ s a b 4) := fun i h0 h1 => by
  rw [nodeStM_1, nodeStM_2, nodeStM_3, nodeStM_4, if_neg (by omega), if_neg (by omega), if_neg (by omega), if_neg (by omega)]
  exact ⟨rfl, rfl, rfl, rfl⟩
theorem nodeSt_GOK {σ : Sg} {s a b : Int} (hP : PIC (σ 0 0) (KV σ) (σ 2) (σ 3) (σ 4)) (ha : argOk (kd s) a b (σ 0 0)) (hn : σ 0 0 < 20) : GOK (σ 0 0 + 1) (KV (nodeSt σ s a b)) (nodeSt σ s a b 2) (nodeSt σ s a b 3) :=
  node_GOK hP.1 ha hn (nodeSt_same σ s a b) (by unfold KV; rw [nodeSt_1, if_pos rfl]) (by rw [nodeSt_2, if_pos rfl]) (by rw [nodeSt_3, if_pos rfl])
theorem nodeSt_cgr {σ : Sg} {s a b m : Int} (hP : PIC (σ 0 0) (KV σ) (σ 2) (σ 3) (σ 4)) (ha : argOk (kd s) a b (σ 0 0)) (hm : 0 ≤ m ∧ m < σ 0 0) : cgr (KV (nodeSt σ s a b)) (nodeSt σ s a b 2) (nodeSt σ s a b 3) (nodeSt σ s a b 4) m (σ 0 0) ↔ cgN (KV σ) (σ 2) (σ 3) (σ 4) (kd s) a b m :=
  cgr_new hP.1 ha (nodeSt_same σ s a b) (by unfold KV; rw [nodeSt_1, if_pos rfl]) (by rw [nodeSt_2, if_pos rfl]) (by rw [nodeSt_3, if_pos rfl]) hm
theorem nodeSt_fin1 {σ : Sg} {s a b m : Int} (hno : NoneIn (isN (KV σ) (σ 2) (σ 3) (kd s) a b) (σ 0 0)) (hn : σ 0 0 < 20) (hm : 0 ≤ m ∧ m < σ 0 0) (hc : cgN (KV σ) (σ 2) (σ 3) (σ 4) (kd s) a b m) {τ : Sg} (hτ : τ = up (nodeSt σ s a b) 4 (σ 0 0) (σ 4 m)) : NodeP (kd s) a b (σ 0 0) (σ 0 0) (KV σ) (σ 2) (σ 3) (σ 4) (τ 0 0) (KV τ) (τ 2) (τ 3) (τ 4) ∧ ∀ k, 5 ≤ k → τ k = σ k := by
  subst hτ
  have e1 : up (nodeSt σ s a b) 4 (σ 0 0) (σ 4 m) 1 = nodeSt σ s a b 1 := rfl
  have e2 : up (nodeSt σ s a b) 4 (σ 0 0) (σ 4 m) 2 = nodeSt σ s a b 2 := rfl
  have e3 : up (nodeSt σ s a b) 4 (σ 0 0) (σ 4 m) 3 = nodeSt σ s a b 3 := rfl
  refine ⟨Or.inr (Or.inr ⟨hno, hn, rfl, rfl, fun i h0 h1 => ?_, ?_, ?_, ?_, Or.inl ⟨m, hm.1, hm.2, hc, up_s _ _ _ _⟩⟩), fun k hk => by rw [up_o _ _ _ (by omega), nodeSt_k σ s a b hk]⟩
  · have := nodeSt_same σ s a b i h0 h1
    refine ⟨this.1, this.2.1, this.2.2.1, ?_⟩
    rw [up_a, if_neg (by omega)]
    exact this.2.2.2
  · unfold KV; rw [e1, nodeSt_1, if_pos rfl]
  · rw [e2, nodeSt_2, if_pos rfl]
  · rw [e3, nodeSt_3, if_pos rfl]
theorem nodeSt_fin2 {σ : Sg} {s a b : Int} (hno : NoneIn (isN (KV σ) (σ 2) (σ 3) (kd s) a b) (σ 0 0)) (hn : σ 0 0 < 20) (hc : NoneIn (cgN (KV σ) (σ 2) (σ 3) (σ 4) (kd s) a b) (σ 0 0)) : NodeP (kd s) a b (σ 0 0) (σ 0 0) (KV σ) (σ 2) (σ 3) (σ 4) (nodeSt σ s a b 0 0) (KV (nodeSt σ s a b)) (nodeSt σ s a b 2) (nodeSt σ s a b 3) (nodeSt σ s a b 4) ∧ ∀ k, 5 ≤ k → nodeSt σ s a b k = σ k :=
  ⟨Or.inr (Or.inr ⟨hno, hn, rfl, rfl, nodeSt_same σ s a b, by unfold KV; rw [nodeSt_1, if_pos rfl], by rw [nodeSt_2, if_pos rfl], by rw [nodeSt_3, if_pos rfl], Or.inr ⟨hc, by rw [nodeSt_4, if_pos rfl]⟩⟩), fun k hk => nodeSt_k σ s a b hk⟩
/-- the model's new node, its leaders followed -/
theorem nodeStM_fin {σ : Sg} {s a b : Int} {l2 : Int → Int} (hP : PIC (σ 0 0) (σ 1) (σ 2) (σ 3) (σ 4)) (ha : argOk s a b (σ 0 0)) (hno : NoneIn (isN (σ 1) (σ 2) (σ 3) s a b) (σ 0 0)) (hn : σ 0 0 < 20) (hC : Clos (σ 0 0 + 1) (nodeStM σ s a b 1) (nodeStM σ s a b 2) (nodeStM σ s a b 3) (fun i j => nodeStM σ s a b 4 i = nodeStM σ s a b 4 j) l2) {τ : Sg} (hτ : τ = upA (nodeStM σ s a b) 4 l2) : NodeP s a b (σ 0 0) (σ 0 0) (σ 1) (σ 2) (σ 3) (σ 4) (τ 0 0) (τ 1) (τ 2) (τ 3) (τ 4) ∧ ∀ k, 5 ≤ k → τ k = σ k := by
  subst hτ
  have h1 : nodeStM σ s a b 1 (σ 0 0) = s := by rw [nodeStM_1, if_pos rfl]
  have h2 : nodeStM σ s a b 2 (σ 0 0) = a := by rw [nodeStM_2, if_pos rfl]
  have h3 : nodeStM σ s a b 3 (σ 0 0) = b := by rw [nodeStM_3, if_pos rfl]
  have h4 : nodeStM σ s a b 4 (σ 0 0) = σ 0 0 := by rw [nodeStM_4, if_pos rfl]
  have hm := make_clos hP ha hn (nodeStM_same σ s a b) h1 h2 h3 h4 hC
  refine ⟨Or.inr (Or.inr ⟨hno, hn, rfl, rfl, fun i h0 h1 => ?_, h1, h2, h3, hm.2⟩), fun k hk => by rw [upA_o _ _ (by omega), nodeStM_k σ s a b hk]⟩
  have := nodeStM_same σ s a b i h0 h1
  exact ⟨this.1, this.2.1, this.2.2.1, hm.1 i h0 h1⟩
end
section
theorem upA_upA (σ : Sg) (k : Nat) (f g : Int → Int) : upA (upA σ k f) k g = upA σ k g := by
  funext k'
  by_cases h : k' = k
  · subst h; rw [upA_s, upA_s]
  · rw [upA_o _ _ h, upA_o _ _ h, upA_o _ _ h]
theorem jn_same {n x y : Int} {l : Int → Int} (e : l x = l y) : jn n x y l = l := by
  unfold jn lo2 hi2
  rw [e]
  simp only [ite_self]
  funext i
  unfold mrg
  split
  · rename_i h; exact h.2.2.symm
  · rfl
theorem pairs_CLO {n : Int} {K L R l : Int → Int} (hn : 0 < n) (h : ∀ t, 0 ≤ t → t < n * n → cgr K L R l (t / n) (t % n) → l (t / n) = l (t % n)) : CLO n K L R l := by
  intro i j i0 i1 j0 j1 hc
  have e1 : (j + i * n) / n = i := by rw [Int.add_mul_ediv_right _ _ (by omega), Int.ediv_eq_zero_of_lt j0 j1]; omega
  have e2 : (j + i * n) % n = j := by rw [Int.add_mul_emod_self_right, Int.emod_eq_of_lt j0 j1]
  have a1 : 0 ≤ i * n := Int.mul_nonneg i0 (by omega)
  have a2 : (i + 1) * n ≤ n * n := Int.mul_le_mul_of_nonneg_right (by omega) (by omega)
  rw [Int.add_mul, Int.one_mul] at a2
  have := h (j + i * n) (by omega) (by omega)
  rw [e1, e2] at this
  exact this hc
theorem divmod_in {n t : Int} (hn : 0 < n) (h0 : 0 ≤ t) (h1 : t < n * n) : (0 ≤ t / n ∧ t / n < n) ∧ (0 ≤ t % n ∧ t % n < n) :=
  ⟨⟨Int.ediv_nonneg h0 (by omega), Int.ediv_lt_of_lt_mul hn h1⟩, Int.emod_nonneg t (by omega), Int.emod_lt_of_pos t hn⟩
theorem sq_b {n : Int} (h0 : 0 ≤ n) (h1 : n ≤ 20) : 0 ≤ n * n ∧ n * n ≤ 400 := by
  have a := Int.mul_le_mul_of_nonneg_right h1 h0
  have b := Int.mul_nonneg h0 h0
  omega
theorem snd_self {n : Int} {K L R l : Int → Int} : SND n K L R (fun i j => l i = l j) l := fun _ _ _ h => h
theorem clos_jn {n a b : Int} {K L R ld l2 : Int → Int} (ha : 0 ≤ a ∧ a < n) (hb : 0 ≤ b ∧ b < n) (h : Clos n K L R (fun i j => jn n a b ld i = jn n a b ld j) l2) : Clos n K L R (fun i j => ld i = ld j ∨ (i = a ∧ j = b)) l2 := by
  refine ⟨h.1, fun i j i0 i1 j0 j1 e => ?_, h.2.2.1, fun E hE hc hB => h.2.2.2 E hE hc (jn_E hE ha hb (fun i j i0 i1 j0 j1 e => hB i j i0 i1 j0 j1 (Or.inl e)) (hB a b ha.1 ha.2 hb.1 hb.2 (Or.inr ⟨rfl, rfl⟩)))⟩
  refine h.2.1 i j i0 i1 j0 j1 ?_
  show jn n a b ld i = jn n a b ld j
  rcases e with e | ⟨e1, e2⟩
  · exact jn_co ⟨i0, i1⟩ ⟨j0, j1⟩ e
  · rw [e1, e2]; exact jn_xy ha hb
/-- couples still to be made equal -/
def PEND (n : Int) (K L R l : Int → Int) (pc : Int) (pa pb : Int → Int) : Prop := ∀ t, 0 ≤ t → t < pc → 0 ≤ pa t ∧ pa t < n ∧ 0 ≤ pb t ∧ pb t < n ∧ l (pa t) ≠ l (pb t) ∧ cgr K L R l (pa t) (pb t)
theorem pend_push {n : Int} {K L R l : Int → Int} {pc u v : Int} {pa pb : Int → Int} (h : PEND n K L R l pc pa pb) (hu : 0 ≤ u ∧ u < n) (hv : 0 ≤ v ∧ v < n) (hne : l u ≠ l v) (hc : cgr K L R l u v) : PEND n K L R l (pc + 1) (fun t => if t = pc then u else pa t) (fun t => if t = pc then v else pb t) := by
  intro t t0 t1
  by_cases e : t = pc
  · simp only [e, if_true]
    exact ⟨hu.1, hu.2, hv.1, hv.2, hne, hc⟩
  · simp only [e, if_false]
    exact h t t0 (by omega)
def tri : Nat → Nat
  | 0 => 0
  | k + 1 => tri k + k
def triI (n : Int) : Int := (tri n.toNat : Nat)
theorem tri_s {n : Int} (h : 0 ≤ n) : triI (n + 1) = triI n + n := by
  unfold triI
  have e : (n + 1).toNat = n.toNat + 1 := by omega
  rw [e]
  show ((tri n.toNat + n.toNat : Nat) : Int) = _
  omega
theorem tri_le : ∀ k : Nat, k ≤ 20 → tri k ≤ 190 := by decide
theorem tri_20 {n : Int} (h1 : n ≤ 20) : 0 ≤ triI n ∧ triI n ≤ 190 := by
  have := tri_le n.toNat (by omega)
  unfold triI
  omega
def EqP (a b r n : Int) (K L R ld ld' : Int → Int) : Prop := Clos n K L R (fun i j => ld i = ld j ∨ (i = a ∧ j = b)) ld' ∧ r = cntI (lds ld') n
theorem half_CLO {n : Int} {K L R l : Int → Int} (h : ∀ u v, 0 ≤ u → u < v → v < n → cgr K L R l u v → l u = l v) : CLO n K L R l := by
  intro i j i0 i1 j0 j1 hc
  rcases Int.lt_trichotomy i j with e | e | e
  · exact h i j i0 e j1 hc
  · rw [e]
  · exact (h j i j0 e i1 (cgr_symm hc)).symm
theorem KV_of {ρ σ : Sg} (h : ρ 1 = σ 1) : KV ρ = KV σ := by
  funext i; unfold KV; rw [h]
end
section
/-! ===== lN n to 2^64: shifts, and, or, masks, one bit ===== -/
theorem wb_tb (n : Nat) : (lN n).toBitVec = BitVec.ofNat 64 n := rfl
theorem wb_inj {a b : Int64} (h : a.toBitVec = b.toBitVec) : a = b := Int64.toBitVec_inj.mp h
theorem wb_tn {n : Nat} (h : n < 2 ^ 64) : (lN n).toBitVec.toNat = n := by rw [wb_tb, BitVec.toNat_ofNat, Nat.mod_eq_of_lt h]
theorem wb_of (x : Int64) : ∃ n, n < 2 ^ 64 ∧ x = lN n := ⟨x.toBitVec.toNat, x.toBitVec.isLt, wb_inj (by rw [wb_tb]; simp)⟩
theorem wb_of32 (x : Int32) : ∃ n, n < 2 ^ 32 ∧ x = nI n := ⟨x.toBitVec.toNat, x.toBitVec.isLt, Int32.toBitVec_inj.mp (by show _ = BitVec.ofNat 32 _; simp)⟩
theorem wb_c : ∀ k, k < 64 → ((nI k).toInt64 &&& 63) = lN k := by decide +kernel
theorem wb_cu : ∀ k, k < 64 → ((nI k).toInt64.toUInt64 &&& Int64.toUInt64 63) = UInt64.ofNat k := by decide +kernel
theorem wb_sm : ∀ k, k < 64 → (BitVec.ofNat 64 k).smod 64 = BitVec.ofNat 64 k := by decide +kernel
theorem wb_pw {a b : Nat} (h : a ≤ b) : 2 ^ b = 2 ^ a * 2 ^ (b - a) := by rw [← Nat.pow_add]; congr 1; omega
theorem wb_lt2 {a b : Nat} (h : a < b) : 2 ^ a < 2 ^ b := Nat.pow_lt_pow_right (by decide) h
theorem wb_mod (n : Nat) : lN n = lN (n % 2 ^ 64) := wb_inj (by rw [wb_tb, wb_tb]; apply BitVec.eq_of_toNat_eq; rw [BitVec.toNat_ofNat, BitVec.toNat_ofNat, Nat.mod_mod])
theorem wb_shr {n k : Nat} (hn : n < 2 ^ 64) (hk : k < 64) : ((lN n).toUInt64 >>> ((nI k).toInt64.toUInt64 &&& Int64.toUInt64 63)).toInt64 = lN (n / 2 ^ k) := by
  rw [wb_cu k hk]
  apply wb_inj
  apply BitVec.eq_of_toNat_eq
  show ((lN n).toUInt64 >>> UInt64.ofNat k).toNat = (BitVec.ofNat 64 _).toNat
  have h1 : (UInt64.ofNat k).toNat = k := by
    show (BitVec.ofNat 64 k).toNat = k
    rw [BitVec.toNat_ofNat, Nat.mod_eq_of_lt (by omega)]
  have h2 : (lN n).toUInt64.toNat = n := wb_tn hn
  rw [UInt64.toNat_shiftRight, h1, h2, Nat.mod_eq_of_lt hk, Nat.shiftRight_eq_div_pow, BitVec.toNat_ofNat, Nat.mod_eq_of_lt (Nat.lt_of_le_of_lt (Nat.div_le_self _ _) hn)]
theorem wb_shl (n : Nat) {k : Nat} (hk : k < 64) : lN n <<< ((nI k).toInt64 &&& 63) = lN (n * 2 ^ k) := by
  rw [wb_c k hk]
  apply wb_inj
  rw [Int64.toBitVec_shiftLeft, wb_tb, wb_tb, wb_tb, wb_sm k hk]
  apply BitVec.eq_of_toNat_eq
  rw [BitVec.shiftLeft_eq', BitVec.toNat_shiftLeft, BitVec.toNat_ofNat, BitVec.toNat_ofNat, BitVec.toNat_ofNat, Nat.mod_eq_of_lt (show k < 2 ^ 64 by omega), Nat.shiftLeft_eq, Nat.mul_mod, Nat.mod_mod, ← Nat.mul_mod]
theorem wb_and {a b : Nat} (ha : a < 2 ^ 64) (hb : b < 2 ^ 64) : lN a &&& lN b = lN (a &&& b) := by
  apply wb_inj
  rw [Int64.toBitVec_and, wb_tb, wb_tb, wb_tb]
  apply BitVec.eq_of_toNat_eq
  rw [BitVec.toNat_and, BitVec.toNat_ofNat, BitVec.toNat_ofNat, BitVec.toNat_ofNat, Nat.mod_eq_of_lt ha, Nat.mod_eq_of_lt hb, Nat.mod_eq_of_lt (Nat.and_lt_two_pow _ hb)]
theorem wb_or {a b : Nat} (ha : a < 2 ^ 64) (hb : b < 2 ^ 64) : lN a ||| lN b = lN (a ||| b) := by
  apply wb_inj
  rw [Int64.toBitVec_or, wb_tb, wb_tb, wb_tb]
  apply BitVec.eq_of_toNat_eq
  rw [BitVec.toNat_or, BitVec.toNat_ofNat, BitVec.toNat_ofNat, BitVec.toNat_ofNat, Nat.mod_eq_of_lt ha, Nat.mod_eq_of_lt hb, Nat.mod_eq_of_lt (Nat.or_lt_two_pow ha hb)]
theorem wb_mask {n k : Nat} (hn : n < 2 ^ 64) (hk : k < 64) : lN n &&& lN (2 ^ k - 1) = lN (n % 2 ^ k) := by
  rw [wb_and hn (by have := wb_lt2 hk; omega), Nat.and_two_pow_sub_one_eq_mod]
theorem wb_a1 {n : Nat} (hn : n < 2 ^ 64) : lN n &&& 1 = lN (n % 2) := wb_mask (k := 1) hn (by decide)
theorem wb_bit {n k : Nat} (hn : n < 2 ^ 64) (hk : k < 64) : ((lN n).toUInt64 >>> ((nI k).toInt64.toUInt64 &&& Int64.toUInt64 63)).toInt64 &&& 1 = lN (n / 2 ^ k % 2) := by
  rw [wb_shr hn hk, wb_a1 (Nat.lt_of_le_of_lt (Nat.div_le_self _ _) hn)]
/-! the same by Int -/
theorem iI_shr6 {x : Int} (h : 0 ≤ x ∧ x ≤ 2147483647) : iI x >>> (iI 6 &&& 31) = iI (x / 64) := by
  rw [iI_nn h.1, show (iI 6 &&& 31 : Int32) = 6 by decide, pk_shrN (by omega) 6 6 (by decide), ← iI_nat]
  congr 1
  rw [Int.natCast_ediv, Int.toNat_of_nonneg h.1]
  rfl
theorem iI_and63 {x : Int} (h : 0 ≤ x ∧ x ≤ 2147483647) : iI x &&& iI 63 = iI (x % 64) := by
  rw [iI_nn h.1, pk_andN (by omega) 6 (by decide), ← iI_nat]
  congr 1
  rw [Int.natCast_emod, Int.toNat_of_nonneg h.1]
  rfl
theorem lI_shl1 {s : Int} (h : 0 ≤ s ∧ s < 64) : lI 1 <<< ((iI s).toInt64 &&& 63) = lI ((2 ^ s.toNat : Nat) : Int) := by
  rw [iI_nn h.1, show lI 1 = lN 1 from rfl, wb_shl 1 (by omega), Nat.one_mul, ← lI_nat]
theorem lI_or {a b : Int} (ha : 0 ≤ a ∧ a < 18446744073709551616) (hb : 0 ≤ b ∧ b < 18446744073709551616) : lI a ||| lI b = lI ((a.toNat ||| b.toNat : Nat) : Int) := by
  rw [lI_nn ha.1, lI_nn hb.1, wb_or (by omega) (by omega), ← lI_nat]
theorem lI_shr {a s : Int} (ha : 0 ≤ a ∧ a < 18446744073709551616) (h : 0 ≤ s ∧ s < 64) : ((lI a).toUInt64 >>> ((iI s).toInt64.toUInt64 &&& Int64.toUInt64 63)).toInt64 = lI ((a.toNat / 2 ^ s.toNat : Nat) : Int) := by
  rw [lI_nn ha.1, iI_nn h.1, wb_shr (by omega) (by omega), ← lI_nat]
theorem lI_and1 {a : Nat} (ha : a < 18446744073709551616) : lI (a : Int) &&& lI 1 = lI ((a % 2 : Nat) : Int) := by
  rw [lI_nat, show lI 1 = 1 from rfl, wb_a1 (by omega), ← lI_nat]
theorem lI_2i (a : Nat) : (lI (a : Int)).toInt32 = iI (a : Int) := by
  rw [lI_nat, lN_i, iI_nat]
theorem lI_cmp {a : Nat} (h : a = 0 ∨ a = 1) : lg_cmp (lI (a : Int)) (lI 0) = iI (a : Int) := by
  rcases h with h | h <;> subst h <;> decide +kernel
/-- the bit X of the long array F -/
def fbB (F : Int → Int) (X : Int) : Bool := (F (X / 64)).toNat.testBit (X % 64).toNat
theorem fbB_v (F : Int → Int) (X : Int) : (((F (X / 64)).toNat / 2 ^ (X % 64).toNat % 2 : Nat) : Int) = if fbB F X = true then 1 else 0 := by
  unfold fbB
  rw [Nat.testBit_eq_decide_div_mod_eq]
  by_cases h : (F (X / 64)).toNat / 2 ^ (X % 64).toNat % 2 = 1
  · rw [decide_eq_true h, if_pos rfl, h]; rfl
  · rw [decide_eq_false h, if_neg (by decide)]; omega
/-- a word with one more bit -/
def orL (a s : Int) : Int := ((a.toNat ||| 2 ^ s.toNat : Nat) : Int)
theorem orL_b {a s : Int} (ha : 0 ≤ a ∧ a < 18446744073709551616) (h : 0 ≤ s ∧ s < 64) : 0 ≤ orL a s ∧ orL a s < 18446744073709551616 := by
  unfold orL
  have h1 : 2 ^ s.toNat < 2 ^ 64 := wb_lt2 (by omega)
  have h2 : a.toNat ||| 2 ^ s.toNat < 2 ^ 64 := Nat.or_lt_two_pow (by omega) h1
  omega
theorem fbB_note {F : Int → Int} {X Y : Int} (hX : 0 ≤ X) (hY : 0 ≤ Y) : fbB (fun i => if i = X / 64 then orL (F (X / 64)) (X % 64) else F i) Y = true ↔ (fbB F Y = true ∨ Y = X) := by
  unfold fbB
  by_cases e : Y / 64 = X / 64
  · simp only [e, if_true]
    have e1 : (orL (F (X / 64)) (X % 64)).toNat = (F (X / 64)).toNat ||| 2 ^ (X % 64).toNat := by unfold orL; omega
    rw [e1, Nat.testBit_or, Nat.testBit_two_pow, Bool.or_eq_true, decide_eq_true_iff]
    constructor
    · intro h
      rcases h with h | h
      · exact Or.inl h
      · right; omega
    · intro h
      rcases h with h | h
      · exact Or.inl h
      · right; rw [h]
  · simp only [e, if_false]
    constructor
    · exact Or.inl
    · intro h
      rcases h with h | h
      · exact h
      · exact absurd (by rw [h]) e
end
section
/-! the pattern: values, solutions, their agreement -/
theorem first_or_none (P : Int → Prop) (n : Int) : (∃ j, FirstAt P n j) ∨ NoneIn P n := by
  have key : ∀ m : Nat, (∃ j, FirstAt P (m : Int) j) ∨ NoneIn P (m : Int) := by
    intro m
    induction m with
    | zero => exact Or.inr (fun i a b => by omega)
    | succ m ih =>
      rcases ih with ⟨j, h⟩ | h
      · exact Or.inl ⟨j, h.1, by have := h.2.1; omega, h.2.2⟩
      · by_cases hp : P (m : Int)
        · exact Or.inl ⟨m, by omega, by omega, hp, h⟩
        · refine Or.inr (fun i a b => ?_)
          by_cases e : i = (m : Int)
          · rw [e]; exact hp
          · exact h i a (by omega)
  rcases key n.toNat with ⟨j, h⟩ | h
  · exact Or.inl ⟨j, h.1, by have := h.2.1; have := h.1; omega, h.2.2⟩
  · exact Or.inr (fun i a b => h i a (by omega))
noncomputable def ovF (n : Int) (K L R ld : Int → Int) (q x y : Int) : Int := @dite _ (∃ j, FirstAt (ovP K L R ld q x y) n j) (Classical.propDecidable _) (fun h => ld h.choose) (fun _ => -1)
theorem ovF_some {n : Int} {K L R ld : Int → Int} {q x y j : Int} (h : FirstAt (ovP K L R ld q x y) n j) : ovF n K L R ld q x y = ld j := by
  unfold ovF
  rw [dif_pos ⟨j, h⟩]
  congr 1
  exact first_uniq (Exists.choose_spec (⟨j, h⟩ : ∃ j, FirstAt (ovP K L R ld q x y) n j)) h (fun _ _ _ => Iff.rfl)
theorem ovF_none {n : Int} {K L R ld : Int → Int} {q x y : Int} (h : NoneIn (ovP K L R ld q x y) n) : ovF n K L R ld q x y = -1 := by
  unfold ovF
  rw [dif_neg (fun ⟨j, hj⟩ => h j hj.1 hj.2.1 hj.2.2.1)]
theorem ovF_cases (n : Int) (K L R ld : Int → Int) (q x y : Int) : (∃ j, FirstAt (ovP K L R ld q x y) n j ∧ ovF n K L R ld q x y = ld j) ∨ (NoneIn (ovP K L R ld q x y) n ∧ ovF n K L R ld q x y = -1) := by
  rcases first_or_none (ovP K L R ld q x y) n with ⟨j, h⟩ | h
  · exact Or.inl ⟨j, h, ovF_some h⟩
  · exact Or.inr ⟨h, ovF_none h⟩
theorem ovF_same {n : Int} {K L R ld K2 L2 R2 ld2 : Int → Int} (hG : GOK n K L R) (hs : same4 n K L R ld K2 L2 R2 ld2) (q x y : Int) : ovF n K2 L2 R2 ld2 q x y = ovF n K L R ld q x y := by
  have key : ∀ i, 0 ≤ i → i < n → (ovP K L R ld q x y i ↔ ovP K2 L2 R2 ld2 q x y i) := fun i i0 i1 => by
    have p := hs i i0 i1
    unfold ovP
    rw [p.1, p.2.1, p.2.2.1]
    by_cases hk : K i = q
    · by_cases hq : q ≠ 0
      · have g := hG.arg i0 i1 (hk ▸ hq)
        rw [(hs (L i) g.1 (by omega)).2.2.2, (hs (R i) g.2.2.1 (by omega)).2.2.2]
      · have hq : q = 0 := by omega
        simp [hq]
    · exact ⟨fun h => absurd h.1 hk, fun h => absurd h.1 hk⟩
  rcases ovF_cases n K L R ld q x y with ⟨j, h, e⟩ | ⟨h, e⟩
  · rw [e]
    have h2 : FirstAt (ovP K2 L2 R2 ld2 q x y) n j := ⟨h.1, h.2.1, (key j h.1 h.2.1).mp h.2.2.1, fun i i0 i1 hp => h.2.2.2 i i0 i1 ((key i i0 (by have := h.2.1; omega)).mpr hp)⟩
    rw [ovF_some h2]
    exact (hs j h.1 h.2.1).2.2.2
  · rw [e]
    exact ovF_none (fun i i0 i1 hp => h i i0 i1 ((key i i0 i1).mpr hp))
/-- a leader -/
def LD (n : Int) (ld : Int → Int) (x : Int) : Prop := 0 ≤ x ∧ x < n ∧ ld x = x
theorem LD_of {n : Int} {ld : Int → Int} (h : LOK n ld) {j : Int} (h0 : 0 ≤ j) (h1 : j < n) : LD n ld (ld j) := by
  have := h j h0 h1
  exact ⟨this.1, by omega, this.2.2⟩
theorem ovF_LD {n : Int} {K L R ld : Int → Int} (h : LOK n ld) (q x y : Int) : ovF n K L R ld q x y = -1 ∨ LD n ld (ovF n K L R ld q x y) := by
  rcases ovF_cases n K L R ld q x y with ⟨j, h1, e⟩ | ⟨-, e⟩
  · right; rw [e]; exact LD_of h h1.1 h1.2.1
  · exact Or.inl e
def ev1 (o1 : Int → Int) (s : List Int) : List Int := match s with
  | x :: s' => (if x < 0 then -1 else o1 x) :: s'
  | [] => []
def ev2 (o2 : Int → Int → Int) (s : List Int) : List Int := match s with
  | x :: y :: s' => (if x < 0 ∨ y < 0 then -1 else o2 x y) :: s'
  | s => s
def evT (o0 o1 : Int → Int) (o2 : Int → Int → Int) (f : Int → Int) (t : Int) (s : List Int) : List Int := if t < 3 then f t :: s else if t < 20 then o0 (t - 10) :: s else if t = 20 then ev1 o1 s else ev2 o2 s
def evs (o0 o1 : Int → Int) (o2 : Int → Int → Int) (f : Int → Int) : List Int → List Int
  | [] => []
  | t :: ts => evT o0 o1 o2 f t (evs o0 o1 o2 f ts)
/-- the need of terms, forward; the terms, from the back -/
def fw : List Int → Int → Prop
  | [], m => m = 0
  | t :: ts, m => 0 < m ∧ fw ts (m - 1 + (if t = 20 then 1 else if t = 21 then 2 else 0))
def tm : List Int → Option Int
  | [] => some 0
  | t :: ts => match tm ts with
    | none => none
    | some k => if (t = 20 ∧ k < 1) ∨ (t = 21 ∧ k < 2) then none else some (k + (if t < 20 then 1 else 0) - (if t = 21 then 1 else 0))
theorem fw_tm : ∀ (ts : List Int) (m : Int), (∀ t ∈ ts, tokOk t) → 0 ≤ m → (fw ts m ↔ tm ts = some m) := by
  intro ts
  induction ts with
  | nil => intro m _ _; unfold fw tm; constructor
           · intro h; rw [h]
           · intro h; exact (Option.some.inj h).symm
  | cons t ts ih =>
    intro m ht hm
    have h0 : tokOk t := ht t List.mem_cons_self
    have ih := fun m h => ih m (fun x hx => ht x (List.mem_cons_of_mem _ hx)) h
    unfold fw tm
    unfold tokOk at h0
    by_cases h1 : t = 20
    · subst h1
      simp
      constructor
      · intro ⟨a, b⟩
        have := (ih m (by omega)).mp b
        rw [this]
        simp
        omega
      · intro h
        cases hk : tm ts with
        | none => rw [hk] at h; simp at h
        | some k =>
          rw [hk] at h
          simp at h
          refine ⟨by omega, (ih _ (by omega)).mpr ?_⟩
          rw [hk]; congr 1; omega
    · by_cases h2 : t = 21
      · subst h2
        simp
        constructor
        · intro ⟨a, b⟩
          have := (ih (m - 1 + 2) (by omega)).mp b
          rw [this]
          simp
          omega
        · intro h
          cases hk : tm ts with
          | none => rw [hk] at h; simp at h
          | some k =>
            rw [hk] at h
            simp at h
            refine ⟨by omega, (ih _ (by omega)).mpr ?_⟩
            rw [hk]; congr 1; omega
      · have h3 : t < 20 := by omega
        simp [h1, h2, h3]
        constructor
        · intro ⟨a, b⟩
          have := (ih (m - 1) (by omega)).mp b
          rw [this]
          simp
        · intro h
          cases hk : tm ts with
          | none => rw [hk] at h; simp at h
          | some k =>
            rw [hk] at h
            simp at h
            have hk0 : 0 ≤ k := by
              have gen : ∀ (ts : List Int) (k : Int), tm ts = some k → 0 ≤ k := by
                intro ts
                induction ts with
                | nil => intro k h; unfold tm at h; have := Option.some.inj h; omega
                | cons t ts ih2 =>
                  intro k h
                  unfold tm at h
                  cases hk : tm ts with
                  | none => rw [hk] at h; cases h
                  | some k' =>
                    have := ih2 k' hk
                    rw [hk] at h
                    simp only at h
                    split at h
                    · cases h
                    · have e := Option.some.inj h
                      split at e <;> split at e <;> omega
              exact gen ts k hk
            refine ⟨by omega, (ih _ (by omega)).mpr ?_⟩
            rw [hk]; congr 1; omega
theorem tm_len (o0 o1 : Int → Int) (o2 : Int → Int → Int) (f : Int → Int) : ∀ (ts : List Int) (k : Int), (∀ t ∈ ts, tokOk t) → tm ts = some k → ((evs o0 o1 o2 f ts).length : Int) = k := by
  intro ts
  induction ts with
  | nil => intro k _ h; unfold tm at h; have := Option.some.inj h; show ((0 : Nat) : Int) = k; omega
  | cons t ts ih =>
    intro k ht h
    have h0 : tokOk t := ht t List.mem_cons_self
    unfold tokOk at h0
    unfold tm at h
    cases hk : tm ts with
    | none => rw [hk] at h; cases h
    | some k' =>
      have hi := ih k' (fun x hx => ht x (List.mem_cons_of_mem _ hx)) hk
      rw [hk] at h
      simp only at h
      split at h
      · cases h
      · rename_i hc
        have e := Option.some.inj h
        show ((evT o0 o1 o2 f t (evs o0 o1 o2 f ts)).length : Int) = k
        unfold evT
        by_cases h3 : t < 3
        · rw [if_pos h3, List.length_cons]; rw [if_pos (by omega), if_neg (by omega)] at e; omega
        · rw [if_neg h3]
          by_cases h4 : t < 20
          · rw [if_pos h4, List.length_cons]; rw [if_pos (by omega), if_neg (by omega)] at e; omega
          · rw [if_neg h4]
            by_cases h5 : t = 20
            · rw [if_pos h5]
              rw [if_neg h4, if_neg (by omega)] at e
              cases hs : evs o0 o1 o2 f ts with
              | nil => rw [hs] at hi; simp at hi; omega
              | cons x s => rw [hs] at hi; show (((if x < 0 then -1 else o1 x) :: s).length : Int) = k; simp at hi ⊢; omega
            · rw [if_neg h5]
              rw [if_neg h4, if_pos (by omega)] at e
              cases hs : evs o0 o1 o2 f ts with
              | nil => rw [hs] at hi; simp at hi; omega
              | cons x s =>
                cases s with
                | nil => rw [hs] at hi; simp at hi; omega
                | cons y s => rw [hs] at hi; show (((if x < 0 ∨ y < 0 then -1 else o2 x y) :: s).length : Int) = k; simp at hi ⊢; omega
/-- the number of a binding -/
def pos (x : Int) : Int := if x < 0 then 0 else x
def num (w : Int → Int) : Int := 400 * pos (w 0) + 20 * pos (w 1) + pos (w 2)
def fa (f : Int → Int) (j v : Int) : Int → Int := fun i => if i = j then v else f i
/-- the bindings that a run finds: tokens, classes that are still open, variables -/
def Sol (n : Int) (K L R ld : Int → Int) : List Int → List Int → (Int → Int) → Int → Prop
  | [], cs, w, X => cs = [] ∧ X = num w
  | _ :: _, [], _, _ => False
  | t :: ts, c :: cs, w, X => if t ≤ 2 then (if w t < 0 then Sol n K L R ld ts cs (fa w t c) X else (w t = c ∧ Sol n K L R ld ts cs w X)) else if t ≤ 15 then (ovF n K L R ld 0 (t - 10) 0 = c ∧ Sol n K L R ld ts cs w X) else if t = 20 then (∃ m, 0 ≤ m ∧ m < n ∧ ld m = c ∧ K m = 1 ∧ Sol n K L R ld ts (ld (L m) :: cs) w X) else (∃ m, 0 ≤ m ∧ m < n ∧ ld m = c ∧ K m = 2 ∧ Sol n K L R ld ts (ld (L m) :: ld (R m) :: cs) w X)
/-- f is a whole binding over w for the tokens ts -/
def Ext (ts : List Int) (w f : Int → Int) : Prop := ∀ v, 0 ≤ v → v ≤ 2 → (0 ≤ w v → f v = w v) ∧ (0 ≤ f v ↔ (0 ≤ w v ∨ v ∈ ts)) ∧ (0 ≤ f v ∨ f v = -1)
theorem ov1_iff {n : Int} {K L R ld : Int → Int} (hP : PIC n K L R ld) {x c : Int} (hc : 0 ≤ c) : ovF n K L R ld 1 x 0 = c ↔ ∃ m, 0 ≤ m ∧ m < n ∧ ld m = c ∧ K m = 1 ∧ ld (L m) = x := by
  constructor
  · intro h
    rcases ovF_cases n K L R ld 1 x 0 with ⟨j, h1, e⟩ | ⟨-, e⟩
    · have p := h1.2.2.1
      unfold ovP at p
      exact ⟨j, h1.1, h1.2.1, e.symm.trans h, p.1, by omega⟩
    · omega
  · intro ⟨m, m0, m1, m2, m3, m4⟩
    rcases ovF_cases n K L R ld 1 x 0 with ⟨j, h1, e⟩ | ⟨h1, -⟩
    · rw [e, ← m2]
      have p := h1.2.2.1
      unfold ovP at p
      refine hP.2.2 j m h1.1 h1.2.1 m0 m1 ⟨by omega, by omega, ?_, Or.inl p.1⟩
      rw [m4]; omega
    · exact absurd (show ovP K L R ld 1 x 0 m from ⟨m3, Or.inr ⟨by omega, m4, Or.inl rfl⟩⟩) (h1 m m0 m1)
theorem ov2_iff {n : Int} {K L R ld : Int → Int} (hP : PIC n K L R ld) {x y c : Int} (hc : 0 ≤ c) : ovF n K L R ld 2 x y = c ↔ ∃ m, 0 ≤ m ∧ m < n ∧ ld m = c ∧ K m = 2 ∧ ld (L m) = x ∧ ld (R m) = y := by
  constructor
  · intro h
    rcases ovF_cases n K L R ld 2 x y with ⟨j, h1, e⟩ | ⟨-, e⟩
    · have p := h1.2.2.1
      unfold ovP at p
      exact ⟨j, h1.1, h1.2.1, e.symm.trans h, p.1, by omega, by omega⟩
    · omega
  · intro ⟨m, m0, m1, m2, m3, m4, m5⟩
    rcases ovF_cases n K L R ld 2 x y with ⟨j, h1, e⟩ | ⟨h1, -⟩
    · rw [e, ← m2]
      have p := h1.2.2.1
      unfold ovP at p
      refine hP.2.2 j m h1.1 h1.2.1 m0 m1 ⟨by omega, by omega, ?_, Or.inr ?_⟩
      · rw [m4]; omega
      · rw [m5]; omega
    · exact absurd (show ovP K L R ld 2 x y m from ⟨m3, Or.inr ⟨by omega, m4, Or.inr m5⟩⟩) (h1 m m0 m1)
theorem num_ext {w f : Int → Int} (h : Ext [] w f) (hw : ∀ v, 0 ≤ v → v ≤ 2 → 0 ≤ w v ∨ w v = -1) : num f = num w := by
  have key : ∀ v, 0 ≤ v → v ≤ 2 → f v = w v := fun v a b => by
    have p := h v a b
    have q := hw v a b
    by_cases e : 0 ≤ w v
    · exact p.1 e
    · have : ¬ 0 ≤ f v := fun hf => by
        rcases p.2.1.mp hf with g | g
        · exact e g
        · cases g
      omega
  unfold num
  rw [key 0 (by omega) (by omega), key 1 (by omega) (by omega), key 2 (by omega) (by omega)]
theorem fw_len {o0 o1 : Int → Int} {o2 : Int → Int → Int} {f : Int → Int} {ts : List Int} {m : Int} (ht : ∀ t ∈ ts, tokOk t) (hm : 0 ≤ m) (h : fw ts m) : ((evs o0 o1 o2 f ts).length : Int) = m := tm_len o0 o1 o2 f ts m ht ((fw_tm ts m ht hm).mp h)
theorem ext_var {t : Int} {ts : List Int} {w f : Int → Int} {c : Int} (h0 : 0 ≤ t) (h2 : t ≤ 2) (hw : ¬ 0 ≤ w t) (hc : 0 ≤ c) : Ext ts (fa w t c) f ↔ (Ext (t :: ts) w f ∧ f t = c) := by
  have e1 : fa w t c t = c := by unfold fa; rw [if_pos rfl]
  have e2 : ∀ v, v ≠ t → fa w t c v = w v := fun v h => by unfold fa; rw [if_neg h]
  constructor
  · intro h
    have ht := h t h0 h2
    rw [e1] at ht
    refine ⟨fun v v0 v2 => ?_, ht.1 hc⟩
    have hv := h v v0 v2
    by_cases e : v = t
    · subst e
      rw [e1] at hv
      refine ⟨fun q => absurd q hw, ⟨fun _ => Or.inr List.mem_cons_self, fun _ => by rw [ht.1 hc]; exact hc⟩, hv.2.2⟩
    · rw [e2 v e] at hv
      refine ⟨hv.1, ⟨fun q => (hv.2.1.mp q).imp id (List.mem_cons_of_mem _), fun q => hv.2.1.mpr (q.imp id (fun g => ?_))⟩, hv.2.2⟩
      rcases List.mem_cons.mp g with g | g
      · exact absurd g e
      · exact g
  · intro ⟨h, hft⟩ v v0 v2
    have hv := h v v0 v2
    by_cases e : v = t
    · subst e
      rw [e1]
      exact ⟨fun _ => hft, ⟨fun _ => Or.inl hc, fun _ => by rw [hft]; exact hc⟩, hv.2.2⟩
    · rw [e2 v e]
      refine ⟨hv.1, ⟨fun q => (hv.2.1.mp q).imp id (fun g => ?_), fun q => hv.2.1.mpr (q.imp id (List.mem_cons_of_mem _))⟩, hv.2.2⟩
      rcases List.mem_cons.mp g with g | g
      · exact absurd g e
      · exact g
theorem ext_skip {t : Int} {ts : List Int} {w f : Int → Int} (h : ¬ (0 ≤ t ∧ t ≤ 2) ∨ 0 ≤ w t) : Ext ts w f ↔ Ext (t :: ts) w f := by
  constructor
  · intro q v v0 v2
    have hv := q v v0 v2
    refine ⟨hv.1, ⟨fun g => (hv.2.1.mp g).imp id (List.mem_cons_of_mem _), fun g => hv.2.1.mpr ?_⟩, hv.2.2⟩
    rcases g with g | g
    · exact Or.inl g
    · rcases List.mem_cons.mp g with g | g
      · subst g
        rcases h with h | h
        · exact absurd ⟨v0, v2⟩ h
        · exact Or.inl h
      · exact Or.inr g
  · intro q v v0 v2
    have hv := q v v0 v2
    refine ⟨hv.1, ⟨fun g => ?_, fun g => hv.2.1.mpr (g.imp id (List.mem_cons_of_mem _))⟩, hv.2.2⟩
    rcases hv.2.1.mp g with g | g
    · exact Or.inl g
    · rcases List.mem_cons.mp g with g | g
      · subst g
        rcases h with h | h
        · exact absurd ⟨v0, v2⟩ h
        · exact Or.inl h
      · exact Or.inr g
/-- the pattern's values over the picture -/
noncomputable def evG (n : Int) (K L R ld : Int → Int) (f : Int → Int) (ts : List Int) : List Int := evs (fun k => ovF n K L R ld 0 k 0) (fun x => ovF n K L R ld 1 x 0) (ovF n K L R ld 2) f ts
theorem sol_iff {n : Int} {K L R ld : Int → Int} (hP : PIC n K L R ld) : ∀ (ts : List Int) (cs : List Int) (w : Int → Int) (X : Int), (∀ t ∈ ts, tokOk t) → fw ts (cs.length : Int) → (∀ c ∈ cs, 0 ≤ c) → (∀ v, 0 ≤ v → v ≤ 2 → 0 ≤ w v ∨ w v = -1) → (Sol n K L R ld ts cs w X ↔ ∃ f, X = num f ∧ Ext ts w f ∧ evG n K L R ld f ts = cs) := by
  intro ts
  induction ts with
  | nil =>
    intro cs w X _ _ hcs hw
    show (cs = [] ∧ X = num w) ↔ _
    constructor
    · intro ⟨a, b⟩
      exact ⟨w, b, fun v v0 v1 => ⟨fun _ => rfl, by simp, hw v v0 v1⟩, a.symm⟩
    · intro ⟨f, a, b, c⟩
      exact ⟨c.symm, by rw [a]; exact num_ext b hw⟩
  | cons t ts ih =>
    intro cs w X ht hfw hcs hw
    have h0 : tokOk t := ht t List.mem_cons_self
    have ht' : ∀ t ∈ ts, tokOk t := fun x hx => ht x (List.mem_cons_of_mem _ hx)
    unfold tokOk at h0
    have hfw2 : 0 < (cs.length : Int) ∧ fw ts ((cs.length : Int) - 1 + (if t = 20 then 1 else if t = 21 then 2 else 0)) := hfw
    cases cs with
    | nil => exact absurd hfw2.1 (by simp)
    | cons c cs =>
      have hc : 0 ≤ c := hcs c List.mem_cons_self
      have hcs' : ∀ c ∈ cs, 0 ≤ c := fun x hx => hcs x (List.mem_cons_of_mem _ hx)
      have hl : ((c :: cs).length : Int) = cs.length + 1 := by simp
      rw [hl] at hfw2
      have hE : ∀ f, evG n K L R ld f (t :: ts) = evT (fun k => ovF n K L R ld 0 k 0) (fun x => ovF n K L R ld 1 x 0) (ovF n K L R ld 2) f t (evG n K L R ld f ts) := fun f => rfl
      by_cases h2 : t ≤ 2
      · have hT : ∀ f, evG n K L R ld f (t :: ts) = f t :: evG n K L R ld f ts := fun f => by rw [hE]; unfold evT; rw [if_pos (by omega)]
        have hfw3 : fw ts (cs.length : Int) := by
          have := hfw2.2
          rw [if_neg (by omega), if_neg (by omega)] at this
          rw [show (cs.length : Int) = cs.length + 1 - 1 + 0 by omega]; exact this
        by_cases hwt : w t < 0
        · have hS : Sol n K L R ld (t :: ts) (c :: cs) w X ↔ Sol n K L R ld ts cs (fa w t c) X := by
            show (if t ≤ 2 then _ else _) ↔ _
            rw [if_pos h2, if_pos hwt]
          rw [hS, ih cs (fa w t c) X ht' hfw3 hcs' (fun v v0 v2 => by
            unfold fa
            by_cases e : v = t
            · rw [if_pos e]; exact Or.inl hc
            · rw [if_neg e]; exact hw v v0 v2)]
          constructor
          · intro ⟨f, a, b, d⟩
            have q := (ext_var (by omega) h2 (by omega) hc).mp b
            exact ⟨f, a, q.1, by rw [hT, q.2, d]⟩
          · intro ⟨f, a, b, d⟩
            rw [hT] at d
            have d1 := (List.cons.inj d).1
            have d2 := (List.cons.inj d).2
            exact ⟨f, a, (ext_var (by omega) h2 (by omega) hc).mpr ⟨b, d1⟩, d2⟩
        · have hS : Sol n K L R ld (t :: ts) (c :: cs) w X ↔ (w t = c ∧ Sol n K L R ld ts cs w X) := by
            show (if t ≤ 2 then _ else _) ↔ _
            rw [if_pos h2, if_neg hwt]
          rw [hS, ih cs w X ht' hfw3 hcs' hw]
          constructor
          · intro ⟨e, f, a, b, d⟩
            refine ⟨f, a, (ext_skip (Or.inr (by omega))).mp b, ?_⟩
            rw [hT, d, (b t (by omega) h2).1 (by omega), e]
          · intro ⟨f, a, b, d⟩
            rw [hT] at d
            have d1 := (List.cons.inj d).1
            have d2 := (List.cons.inj d).2
            refine ⟨?_, f, a, (ext_skip (Or.inr (by omega))).mpr b, d2⟩
            rw [← d1, (b t (by omega) h2).1 (by omega)]
      · by_cases h15 : t ≤ 15
        · have hT : ∀ f, evG n K L R ld f (t :: ts) = ovF n K L R ld 0 (t - 10) 0 :: evG n K L R ld f ts := fun f => by rw [hE]; unfold evT; rw [if_neg (by omega), if_pos (by omega)]
          have hfw3 : fw ts (cs.length : Int) := by
            have := hfw2.2
            rw [if_neg (by omega), if_neg (by omega)] at this
            rw [show (cs.length : Int) = cs.length + 1 - 1 + 0 by omega]; exact this
          have hS : Sol n K L R ld (t :: ts) (c :: cs) w X ↔ (ovF n K L R ld 0 (t - 10) 0 = c ∧ Sol n K L R ld ts cs w X) := by
            show (if t ≤ 2 then _ else _) ↔ _
            rw [if_neg h2, if_pos h15]
          rw [hS, ih cs w X ht' hfw3 hcs' hw]
          constructor
          · intro ⟨e, f, a, b, d⟩
            exact ⟨f, a, (ext_skip (Or.inl (by omega))).mp b, by rw [hT, d, e]⟩
          · intro ⟨f, a, b, d⟩
            rw [hT] at d
            exact ⟨(List.cons.inj d).1, f, a, (ext_skip (Or.inl (by omega))).mpr b, (List.cons.inj d).2⟩
        · by_cases h20 : t = 20
          · subst h20
            have hT : ∀ f, evG n K L R ld f (20 :: ts) = ev1 (fun x => ovF n K L R ld 1 x 0) (evG n K L R ld f ts) := fun f => by rw [hE]; unfold evT; rw [if_neg (by omega), if_neg (by omega), if_pos rfl]
            have hfw3 : ∀ x : Int, fw ts ((x :: cs).length : Int) := fun x => by
              have := hfw2.2
              rw [if_pos rfl] at this
              rw [show ((x :: cs).length : Int) = cs.length + 1 - 1 + 1 by simp]; exact this
            have hS : Sol n K L R ld (20 :: ts) (c :: cs) w X ↔ (∃ m, 0 ≤ m ∧ m < n ∧ ld m = c ∧ K m = 1 ∧ Sol n K L R ld ts (ld (L m) :: cs) w X) := by
              show (if (20 : Int) ≤ 2 then _ else _) ↔ _
              rw [if_neg (by omega), if_neg (by omega), if_pos rfl]
            rw [hS]
            constructor
            · intro ⟨m, m0, m1, m2, m3, hs⟩
              have g := hP.1.arg m0 m1 (by omega)
              have gl := hP.2.1 (L m) g.1 (by omega)
              obtain ⟨f, a, b, d⟩ := (ih _ w X ht' (hfw3 _) (fun x hx => by
                rcases List.mem_cons.mp hx with e | e
                · rw [e]; exact gl.1
                · exact hcs' x e) hw).mp hs
              refine ⟨f, a, (ext_skip (Or.inl (by omega))).mp b, ?_⟩
              rw [hT, d]
              show (if ld (L m) < 0 then -1 else ovF n K L R ld 1 (ld (L m)) 0) :: cs = c :: cs
              rw [if_neg (by omega), (ov1_iff hP hc).mpr ⟨m, m0, m1, m2, m3, rfl⟩]
            · intro ⟨f, a, b, d⟩
              rw [hT] at d
              cases hs : evG n K L R ld f ts with
              | nil => rw [hs] at d; cases d
              | cons x s =>
                rw [hs] at d
                have d : (if x < 0 then -1 else ovF n K L R ld 1 x 0) :: s = c :: cs := d
                have d1 := (List.cons.inj d).1
                have d2 := (List.cons.inj d).2
                by_cases hx : x < 0
                · rw [if_pos hx] at d1; omega
                · rw [if_neg hx] at d1
                  obtain ⟨m, m0, m1, m2, m3, m4⟩ := (ov1_iff hP hc).mp d1
                  refine ⟨m, m0, m1, m2, m3, (ih _ w X ht' (hfw3 _) (fun y hy => by
                    rcases List.mem_cons.mp hy with e | e
                    · rw [e, m4]; omega
                    · exact hcs' y e) hw).mpr ⟨f, a, (ext_skip (Or.inl (by omega))).mpr b, ?_⟩⟩
                  rw [hs, m4, d2]
          · have h21 : t = 21 := by omega
            subst h21
            have hT : ∀ f, evG n K L R ld f (21 :: ts) = ev2 (ovF n K L R ld 2) (evG n K L R ld f ts) := fun f => by rw [hE]; unfold evT; rw [if_neg (by omega), if_neg (by omega), if_neg (by omega)]
            have hfw3 : ∀ x y : Int, fw ts ((x :: y :: cs).length : Int) := fun x y => by
              have := hfw2.2
              rw [if_neg (by omega), if_pos rfl] at this
              rw [show ((x :: y :: cs).length : Int) = cs.length + 1 - 1 + 2 by simp; omega]; exact this
            have hS : Sol n K L R ld (21 :: ts) (c :: cs) w X ↔ (∃ m, 0 ≤ m ∧ m < n ∧ ld m = c ∧ K m = 2 ∧ Sol n K L R ld ts (ld (L m) :: ld (R m) :: cs) w X) := by
              show (if (21 : Int) ≤ 2 then _ else _) ↔ _
              rw [if_neg (by omega), if_neg (by omega), if_neg (by omega)]
            rw [hS]
            constructor
            · intro ⟨m, m0, m1, m2, m3, hs⟩
              have g := hP.1.arg m0 m1 (by omega)
              have gl := hP.2.1 (L m) g.1 (by omega)
              have gr := hP.2.1 (R m) g.2.2.1 (by omega)
              obtain ⟨f, a, b, d⟩ := (ih _ w X ht' (hfw3 _ _) (fun x hx => by
                rcases List.mem_cons.mp hx with e | e
                · rw [e]; exact gl.1
                · rcases List.mem_cons.mp e with e | e
                  · rw [e]; exact gr.1
                  · exact hcs' x e) hw).mp hs
              refine ⟨f, a, (ext_skip (Or.inl (by omega))).mp b, ?_⟩
              rw [hT, d]
              show (if ld (L m) < 0 ∨ ld (R m) < 0 then -1 else ovF n K L R ld 2 (ld (L m)) (ld (R m))) :: cs = c :: cs
              rw [if_neg (by omega), (ov2_iff hP hc).mpr ⟨m, m0, m1, m2, m3, rfl, rfl⟩]
            · intro ⟨f, a, b, d⟩
              rw [hT] at d
              have hlen := fw_len (o0 := fun k => ovF n K L R ld 0 k 0) (o1 := fun x => ovF n K L R ld 1 x 0) (o2 := ovF n K L R ld 2) (f := f) ht' (by omega) (hfw3 0 0)
              have hlen : ((evG n K L R ld f ts).length : Int) = ((0 : Int) :: 0 :: cs).length := hlen
              cases hs : evG n K L R ld f ts with
              | nil => rw [hs] at hlen; simp at hlen; omega
              | cons x s =>
                cases s with
                | nil => rw [hs] at hlen; simp at hlen; omega
                | cons y s =>
                  rw [hs] at d
                  have d : (if x < 0 ∨ y < 0 then -1 else ovF n K L R ld 2 x y) :: s = c :: cs := d
                  have d1 := (List.cons.inj d).1
                  have d2 := (List.cons.inj d).2
                  by_cases hx : x < 0 ∨ y < 0
                  · rw [if_pos hx] at d1; omega
                  · rw [if_neg hx] at d1
                    obtain ⟨m, m0, m1, m2, m3, m4, m5⟩ := (ov2_iff hP hc).mp d1
                    refine ⟨m, m0, m1, m2, m3, (ih _ w X ht' (hfw3 _ _) (fun z hz => by
                      rcases List.mem_cons.mp hz with e | e
                      · rw [e, m4]; omega
                      · rcases List.mem_cons.mp e with e | e
                        · rw [e, m5]; omega
                        · exact hcs' z e) hw).mpr ⟨f, a, (ext_skip (Or.inl (by omega))).mpr b, ?_⟩⟩
                    rw [hs, m4, m5, d2]
end
section
/-! a run's findings are the model's matches -/
theorem evs_congr {o0 o1 : Int → Int} {o2 : Int → Int → Int} {f g : Int → Int} : ∀ (ts : List Int), (∀ v ∈ ts, v < 3 → f v = g v) → evs o0 o1 o2 f ts = evs o0 o1 o2 g ts := by
  intro ts
  induction ts with
  | nil => intro _; rfl
  | cons t ts ih =>
    intro h
    show evT o0 o1 o2 f t (evs o0 o1 o2 f ts) = evT o0 o1 o2 g t (evs o0 o1 o2 g ts)
    rw [ih (fun v hv => h v (List.mem_cons_of_mem _ hv))]
    unfold evT
    by_cases h3 : t < 3
    · rw [if_pos h3, if_pos h3, h t List.mem_cons_self h3]
    · rw [if_neg h3, if_neg h3]
theorem evG_same {n : Int} {K L R ld K2 L2 R2 ld2 : Int → Int} (hG : GOK n K L R) (hs : same4 n K L R ld K2 L2 R2 ld2) (f : Int → Int) (ts : List Int) : evG n K2 L2 R2 ld2 f ts = evG n K L R ld f ts := by
  unfold evG
  have e0 : (fun k => ovF n K2 L2 R2 ld2 0 k 0) = (fun k => ovF n K L R ld 0 k 0) := funext fun k => ovF_same hG hs 0 k 0
  have e1 : (fun k => ovF n K2 L2 R2 ld2 1 k 0) = (fun k => ovF n K L R ld 1 k 0) := funext fun k => ovF_same hG hs 1 k 0
  have e2 : ovF n K2 L2 R2 ld2 2 = ovF n K L R ld 2 := funext fun x => funext fun y => ovF_same hG hs 2 x y
  rw [e0, e1, e2]
theorem evG_vars {n : Int} {K L R ld : Int → Int} (hP : PIC n K L R ld) : ∀ (ts cs : List Int) (f : Int → Int), (∀ t ∈ ts, tokOk t) → fw ts (cs.length : Int) → (∀ c ∈ cs, LD n ld c) → evG n K L R ld f ts = cs → ∀ v ∈ ts, v ≤ 2 → LD n ld (f v) := by
  intro ts
  induction ts with
  | nil => intro cs f _ _ _ _ v hv; cases hv
  | cons t ts ih =>
    intro cs f ht hfw hcs he v hv v2
    have h0 : tokOk t := ht t List.mem_cons_self
    have ht' : ∀ t ∈ ts, tokOk t := fun x hx => ht x (List.mem_cons_of_mem _ hx)
    unfold tokOk at h0
    have hfw2 : 0 < (cs.length : Int) ∧ fw ts ((cs.length : Int) - 1 + (if t = 20 then 1 else if t = 21 then 2 else 0)) := hfw
    have he : evT (fun k => ovF n K L R ld 0 k 0) (fun x => ovF n K L R ld 1 x 0) (ovF n K L R ld 2) f t (evG n K L R ld f ts) = cs := he
    cases cs with
    | nil => exact absurd hfw2.1 (by simp)
    | cons c cs =>
      have hc : LD n ld c := hcs c List.mem_cons_self
      have hcs' : ∀ c ∈ cs, LD n ld c := fun x hx => hcs x (List.mem_cons_of_mem _ hx)
      have hl : ((c :: cs).length : Int) = cs.length + 1 := by simp
      rw [hl] at hfw2
      unfold evT at he
      by_cases h3 : t < 3
      · rw [if_pos h3] at he
        have d1 := (List.cons.inj he).1
        have d2 := (List.cons.inj he).2
        rcases List.mem_cons.mp hv with e | e
        · rw [e, d1]; exact hc
        · refine ih cs f ht' ?_ hcs' d2 v e v2
          have := hfw2.2
          rw [if_neg (by omega), if_neg (by omega)] at this
          rw [show (cs.length : Int) = cs.length + 1 - 1 + 0 by omega]; exact this
      · rw [if_neg h3] at he
        have hv : v ∈ ts := by
          rcases List.mem_cons.mp hv with e | e
          · omega
          · exact e
        by_cases h4 : t < 20
        · rw [if_pos h4] at he
          refine ih cs f ht' ?_ hcs' (List.cons.inj he).2 v hv v2
          have := hfw2.2
          rw [if_neg (by omega), if_neg (by omega)] at this
          rw [show (cs.length : Int) = cs.length + 1 - 1 + 0 by omega]; exact this
        · rw [if_neg h4] at he
          by_cases h5 : t = 20
          · rw [if_pos h5] at he
            cases hs : evG n K L R ld f ts with
            | nil => rw [hs] at he; cases he
            | cons x s =>
              rw [hs] at he
              have d : (if x < 0 then -1 else ovF n K L R ld 1 x 0) :: s = c :: cs := he
              have d1 := (List.cons.inj d).1
              have d2 := (List.cons.inj d).2
              have hc0 := hc.1
              by_cases hx : x < 0
              · rw [if_pos hx] at d1; omega
              · rw [if_neg hx] at d1
                obtain ⟨m, m0, m1, m2, m3, m4⟩ := (ov1_iff hP hc.1).mp d1
                have g := hP.1.arg m0 m1 (by omega)
                refine ih (x :: s) f ht' ?_ (fun y hy => ?_) hs v hv v2
                · have := hfw2.2
                  rw [if_pos h5] at this
                  rw [d2, show ((x :: cs).length : Int) = cs.length + 1 - 1 + 1 by simp]; exact this
                · rcases List.mem_cons.mp hy with e | e
                  · rw [e, ← m4]; exact LD_of hP.2.1 g.1 (by omega)
                  · exact hcs' y (d2 ▸ e)
          · rw [if_neg h5] at he
            have h21 : t = 21 := by omega
            have hfw3 : fw ts ((cs.length : Int) + 2) := by
              have := hfw2.2
              rw [if_neg h5, if_pos h21] at this
              rw [show (cs.length : Int) + 2 = cs.length + 1 - 1 + 2 by omega]; exact this
            have hlen := fw_len (o0 := fun k => ovF n K L R ld 0 k 0) (o1 := fun x => ovF n K L R ld 1 x 0) (o2 := ovF n K L R ld 2) (f := f) ht' (by omega) hfw3
            have hlen : ((evG n K L R ld f ts).length : Int) = cs.length + 2 := hlen
            cases hs : evG n K L R ld f ts with
            | nil => rw [hs] at hlen; simp at hlen; omega
            | cons x s =>
              cases s with
              | nil => rw [hs] at hlen; simp at hlen; omega
              | cons y s =>
                rw [hs] at he
                have d : (if x < 0 ∨ y < 0 then -1 else ovF n K L R ld 2 x y) :: s = c :: cs := he
                have d1 := (List.cons.inj d).1
                have d2 := (List.cons.inj d).2
                have hc0 := hc.1
                by_cases hx : x < 0 ∨ y < 0
                · rw [if_pos hx] at d1; omega
                · rw [if_neg hx] at d1
                  obtain ⟨m, m0, m1, m2, m3, m4, m5⟩ := (ov2_iff hP hc.1).mp d1
                  have g := hP.1.arg m0 m1 (by omega)
                  refine ih (x :: y :: s) f ht' ?_ (fun z hz => ?_) hs v hv v2
                  · rw [d2, show ((x :: y :: cs).length : Int) = cs.length + 2 by simp; omega]; exact hfw3
                  · rcases List.mem_cons.mp hz with e | e
                    · rw [e, ← m4]; exact LD_of hP.2.1 g.1 (by omega)
                    · rcases List.mem_cons.mp e with e | e
                      · rw [e, ← m5]; exact LD_of hP.2.1 g.2.2.1 (by omega)
                      · exact hcs' z (d2 ▸ e)
theorem evG_LD {n : Int} {K L R ld : Int → Int} (hP : PIC n K L R ld) (f : Int → Int) : ∀ (ts : List Int), (∀ v ∈ ts, v < 3 → LD n ld (f v)) → ∀ x ∈ evG n K L R ld f ts, x = -1 ∨ LD n ld x := by
  intro ts
  induction ts with
  | nil => intro _ x hx; cases hx
  | cons t ts ih =>
    intro h x hx
    have ih := ih (fun v hv => h v (List.mem_cons_of_mem _ hv))
    have hx : x ∈ evT (fun k => ovF n K L R ld 0 k 0) (fun x => ovF n K L R ld 1 x 0) (ovF n K L R ld 2) f t (evG n K L R ld f ts) := hx
    unfold evT at hx
    by_cases h3 : t < 3
    · rw [if_pos h3] at hx
      rcases List.mem_cons.mp hx with e | e
      · rw [e]; exact Or.inr (h t List.mem_cons_self h3)
      · exact ih x e
    · rw [if_neg h3] at hx
      by_cases h4 : t < 20
      · rw [if_pos h4] at hx
        rcases List.mem_cons.mp hx with e | e
        · rw [e]; exact ovF_LD hP.2.1 _ _ _
        · exact ih x e
      · rw [if_neg h4] at hx
        by_cases h5 : t = 20
        · rw [if_pos h5] at hx
          cases hs : evG n K L R ld f ts with
          | nil => rw [hs] at hx; cases hx
          | cons y s =>
            rw [hs] at hx ih
            have hx : x ∈ (if y < 0 then -1 else ovF n K L R ld 1 y 0) :: s := hx
            rcases List.mem_cons.mp hx with e | e
            · rw [e]
              split
              · exact Or.inl rfl
              · exact ovF_LD hP.2.1 _ _ _
            · exact ih x (List.mem_cons_of_mem _ e)
        · rw [if_neg h5] at hx
          cases hs : evG n K L R ld f ts with
          | nil => rw [hs] at hx; cases hx
          | cons y s =>
            cases s with
            | nil => rw [hs] at hx ih; exact ih x hx
            | cons z s =>
              rw [hs] at hx ih
              have hx : x ∈ (if y < 0 ∨ z < 0 then -1 else ovF n K L R ld 2 y z) :: s := hx
              rcases List.mem_cons.mp hx with e | e
              · rw [e]
                split
                · exact Or.inl rfl
                · exact ovF_LD hP.2.1 _ _ _
              · exact ih x (List.mem_cons_of_mem _ (List.mem_cons_of_mem _ e))
def dec (v X : Int) : Int := if v = 0 then X / 400 else if v = 1 then X / 20 % 20 else X % 20
/-- a class is tried for v -/
def trL (n : Int) (ld : Int → Int) (ts : List Int) (v k : Int) : Prop := (v ∈ ts → k < n ∧ ld k = k) ∧ (v ∉ ts → k = 0)
def trX (n : Int) (ld : Int → Int) (ts : List Int) (X : Int) : Prop := trL n ld ts 0 (dec 0 X) ∧ trL n ld ts 1 (dec 1 X) ∧ trL n ld ts 2 (dec 2 X)
theorem trX_v {n : Int} {ld : Int → Int} {ts : List Int} {X : Int} (h : trX n ld ts X) {v : Int} (v0 : 0 ≤ v) (v2 : v ≤ 2) : trL n ld ts v (dec v X) := by
  rcases (show v = 0 ∨ v = 1 ∨ v = 2 by omega) with e | e | e
  · rw [e]; exact h.1
  · rw [e]; exact h.2.1
  · rw [e]; exact h.2.2
theorem dec_b {X : Int} (h0 : 0 ≤ X) (h1 : X < 8000) (v : Int) : 0 ≤ dec v X ∧ dec v X < 20 := by
  unfold dec
  split
  · omega
  · split <;> omega
theorem dec_num {f : Int → Int} (h : ∀ v, 0 ≤ v → v ≤ 2 → f v < 20) {v : Int} (v0 : 0 ≤ v) (v2 : v ≤ 2) : dec v (num f) = pos (f v) := by
  have p0 := h 0 (by omega) (by omega)
  have p1 := h 1 (by omega) (by omega)
  have p2 := h 2 (by omega) (by omega)
  have q : ∀ x : Int, x < 20 → 0 ≤ pos x ∧ pos x < 20 := fun x hx => by unfold pos; split <;> omega
  have q0 := q _ p0
  have q1 := q _ p1
  have q2 := q _ p2
  unfold dec num
  rcases (show v = 0 ∨ v = 1 ∨ v = 2 by omega) with e | e | e
  · rw [if_pos e, e]; omega
  · rw [if_neg (by omega), if_pos e, e]; omega
  · rw [if_neg (by omega), if_neg (by omega), e]; omega
theorem sol_dec {n : Int} {K L R ld : Int → Int} (hP : PIC n K L R ld) {ts : List Int} (ht : ∀ t ∈ ts, tokOk t) (hfw : fw ts 1) {c X : Int} (hc : LD n ld c) (h0 : 0 ≤ X) (h1 : X < 8000) : Sol n K L R ld ts [c] (fun _ => -1) X ↔ (trX n ld ts X ∧ evG n K L R ld (fun v => dec v X) ts = [c]) := by
  have n20 := hP.1.2.1
  rw [sol_iff hP ts [c] (fun _ => -1) X ht hfw (fun x hx => by
    rcases List.mem_cons.mp hx with e | e
    · rw [e]; exact hc.1
    · cases e) (fun v _ _ => Or.inr rfl)]
  constructor
  · intro ⟨f, a, b, d⟩
    have hv := evG_vars hP ts [c] f ht hfw (fun x hx => by
      rcases List.mem_cons.mp hx with e | e
      · rw [e]; exact hc
      · cases e) d
    have hf : ∀ v, 0 ≤ v → v ≤ 2 → (v ∈ ts → LD n ld (f v)) ∧ (v ∉ ts → f v = -1) := fun v v0 v2 => by
      have q := b v v0 v2
      refine ⟨fun g => hv v g v2, fun g => ?_⟩
      have : ¬ 0 ≤ f v := fun hf => by
        rcases q.2.1.mp hf with g2 | g2
        · exact absurd (show (0 : Int) ≤ -1 from g2) (by omega)
        · exact g g2
      omega
    have h20 : ∀ v, 0 ≤ v → v ≤ 2 → f v < 20 := fun v v0 v2 => by
      by_cases g : v ∈ ts
      · have := ((hf v v0 v2).1 g).2.1; omega
      · have := (hf v v0 v2).2 g; omega
    have hd : ∀ v, 0 ≤ v → v ≤ 2 → dec v X = pos (f v) := fun v v0 v2 => by rw [a]; exact dec_num h20 v0 v2
    have htr : ∀ v, 0 ≤ v → v ≤ 2 → trL n ld ts v (dec v X) := fun v v0 v2 => by
      rw [hd v v0 v2]
      refine ⟨fun g => ?_, fun g => ?_⟩
      · have l := (hf v v0 v2).1 g
        have : pos (f v) = f v := by unfold pos; rw [if_neg (by have := l.1; omega)]
        rw [this]; exact l.2
      · rw [(hf v v0 v2).2 g]; rfl
    refine ⟨⟨htr 0 (by omega) (by omega), htr 1 (by omega) (by omega), htr 2 (by omega) (by omega)⟩, ?_⟩
    rw [← d]
    refine evs_congr ts (fun v g g3 => ?_)
    have g0 : 0 ≤ v := by have := ht v g; unfold tokOk at this; omega
    have l := (hf v g0 (by omega)).1 g
    show dec v X = f v
    rw [hd v g0 (by omega)]
    unfold pos
    rw [if_neg (by have := l.1; omega)]
  · intro ⟨htr, he⟩
    let f : Int → Int := fun v => if v ∈ ts then dec v X else -1
    have f1 : ∀ v, v ∈ ts → f v = dec v X := fun v g => by show (if v ∈ ts then _ else _) = _; rw [if_pos g]
    have f2 : ∀ v, v ∉ ts → f v = -1 := fun v g => by show (if v ∈ ts then _ else _) = _; rw [if_neg g]
    have hp : ∀ v, 0 ≤ v → v ≤ 2 → pos (f v) = dec v X := fun v v0 v2 => by
      have db := dec_b h0 h1 v
      by_cases g : v ∈ ts
      · rw [f1 v g]; unfold pos; rw [if_neg (by omega)]
      · rw [f2 v g, (trX_v htr v0 v2).2 g]; rfl
    refine ⟨f, ?_, fun v v0 v2 => ?_, ?_⟩
    · unfold num
      rw [hp 0 (by omega) (by omega), hp 1 (by omega) (by omega), hp 2 (by omega) (by omega)]
      show X = 400 * (X / 400) + 20 * (X / 20 % 20) + X % 20
      omega
    · have db := dec_b h0 h1 v
      by_cases g : v ∈ ts
      · rw [f1 v g]
        exact ⟨fun q => absurd q (by show ¬ (0 : Int) ≤ -1; omega), ⟨fun _ => Or.inr g, fun _ => db.1⟩, Or.inl db.1⟩
      · rw [f2 v g]
        exact ⟨fun q => absurd q (by show ¬ (0 : Int) ≤ -1; omega), ⟨fun q => absurd q (by omega), fun q => q.elim (fun q => q) (fun q => absurd q g)⟩, Or.inr rfl⟩
    · rw [← he]
      exact evs_congr ts (fun v g _ => f1 v g)
/-- the pattern's value -/
noncomputable def valX (n : Int) (K L R ld : Int → Int) (ts : List Int) (X : Int) : Int := (evG n K L R ld (fun v => dec v X) ts).getLastD (-1)
theorem ev_one {n : Int} {K L R ld : Int → Int} {ts : List Int} (ht : ∀ t ∈ ts, tokOk t) (hfw : fw ts 1) (X : Int) : evG n K L R ld (fun v => dec v X) ts = [valX n K L R ld ts X] := by
  have hlen := fw_len (o0 := fun k => ovF n K L R ld 0 k 0) (o1 := fun x => ovF n K L R ld 1 x 0) (o2 := ovF n K L R ld 2) (f := fun v => dec v X) ht (by omega) hfw
  have hlen : ((evG n K L R ld (fun v => dec v X) ts).length : Int) = 1 := hlen
  unfold valX
  cases hs : evG n K L R ld (fun v => dec v X) ts with
  | nil => rw [hs] at hlen; simp at hlen
  | cons x s =>
    cases s with
    | nil => rfl
    | cons y s => rw [hs] at hlen; simp at hlen; omega
theorem sol_at {n : Int} {K L R ld : Int → Int} (hP : PIC n K L R ld) {ts : List Int} (ht : ∀ t ∈ ts, tokOk t) (hfw : fw ts 1) {c X : Int} (hc : LD n ld c) (h0 : 0 ≤ X) (h1 : X < 8000) : Sol n K L R ld ts [c] (fun _ => -1) X ↔ (trX n ld ts X ∧ valX n K L R ld ts X = c) := by
  rw [sol_dec hP ht hfw hc h0 h1, ev_one ht hfw X]
  constructor
  · intro ⟨a, b⟩; exact ⟨a, (List.cons.inj b).1⟩
  · intro ⟨a, b⟩; exact ⟨a, by rw [b]⟩
theorem sol_any {n : Int} {K L R ld : Int → Int} (hP : PIC n K L R ld) {ts : List Int} (ht : ∀ t ∈ ts, tokOk t) (hfw : fw ts 1) {X : Int} (h0 : 0 ≤ X) (h1 : X < 8000) : (∃ c, 0 ≤ c ∧ c < n ∧ ld c = c ∧ Sol n K L R ld ts [c] (fun _ => -1) X) ↔ (trX n ld ts X ∧ 0 ≤ valX n K L R ld ts X) := by
  constructor
  · intro ⟨c, c0, c1, c2, hs⟩
    have := (sol_at hP ht hfw ⟨c0, c1, c2⟩ h0 h1).mp hs
    exact ⟨this.1, by rw [this.2]; exact c0⟩
  · intro ⟨a, b⟩
    have hv : ∀ v ∈ ts, v < 3 → LD n ld (dec v X) := fun v g g3 => by
      have g0 : 0 ≤ v := by have := ht v g; unfold tokOk at this; omega
      have := (trX_v a g0 (by omega)).1 g
      exact ⟨(dec_b h0 h1 v).1, this.1, this.2⟩
    have hl := evG_LD hP (fun v => dec v X) ts hv (valX n K L R ld ts X) (by rw [ev_one ht hfw X]; exact List.mem_cons_self)
    rcases hl with hl | hl
    · omega
    · exact ⟨_, hl.1, hl.2.1, hl.2.2, (sol_at hP ht hfw hl h0 h1).mpr ⟨a, rfl⟩⟩
end
section
/-! the matching machine: its code, its going back, what a run finds -/
def sfx (tk : Int → Int) : Nat → Int → List Int
  | 0, _ => []
  | m + 1, p => tk p :: sfx tk m (p + 1)
def toks (tk : Int → Int) (tc : Int) : List Int := sfx tk tc.toNat 0
theorem sfx_mem {tk : Int → Int} {v : Int} : ∀ (m : Nat) (p : Int), v ∈ sfx tk m p ↔ ∃ i, p ≤ i ∧ i < p + m ∧ tk i = v := by
  intro m
  induction m with
  | zero =>
    intro p
    constructor
    · intro h; cases h
    · intro ⟨i, a, b, _⟩; omega
  | succ m ih =>
    intro p
    show v ∈ tk p :: sfx tk m (p + 1) ↔ _
    rw [List.mem_cons, ih (p + 1)]
    constructor
    · intro h
      rcases h with h | ⟨i, a, b, c⟩
      · exact ⟨p, by omega, by omega, h.symm⟩
      · exact ⟨i, by omega, by omega, c⟩
    · intro ⟨i, a, b, c⟩
      by_cases e : i = p
      · left; rw [← c, e]
      · right; exact ⟨i, by omega, by omega, c⟩
theorem toks_mem {tk : Int → Int} {tc v : Int} : v ∈ toks tk tc ↔ hasV tk tc v := by
  unfold toks hasV
  rw [sfx_mem]
  constructor
  · intro ⟨i, a, b, c⟩; exact ⟨i, a, by omega, c⟩
  · intro ⟨i, a, b, c⟩; exact ⟨i, a, by omega, c⟩
theorem sfx_congr {tk tk2 : Int → Int} : ∀ (m : Nat) (p : Int), (∀ i, p ≤ i → i < p + m → tk i = tk2 i) → sfx tk m p = sfx tk2 m p := by
  intro m
  induction m with
  | zero => intro p _; rfl
  | succ m ih =>
    intro p h
    show tk p :: sfx tk m (p + 1) = tk2 p :: sfx tk2 m (p + 1)
    rw [h p (by omega) (by omega), ih (p + 1) (fun i a b => h i (by omega) (by omega))]
theorem sfx_len {tk : Int → Int} : ∀ (m : Nat) (p : Int), (sfx tk m p).length = m := by
  intro m
  induction m with
  | zero => intro p; rfl
  | succ m ih => intro p; show (sfx tk m (p + 1)).length + 1 = m + 1; rw [ih]
def vbit (vs t : Int) : Int := (if t = 0 then vs else if t = 1 then vs / 2 else vs / 4) % 2
def orb (vs t : Int) : Int := if vbit vs t = 1 then vs else vs + (if t = 0 then 1 else if t = 1 then 2 else 4)
theorem orb_all : ∀ (x : Fin 8) (t v : Fin 3), (vbit (orb x.val t.val) v.val = 1 ↔ (vbit x.val v.val = 1 ∨ (v.val : Int) = t.val)) ∧ 0 ≤ orb x.val t.val ∧ orb x.val t.val < 8 ∧ (vbit x.val v.val = 0 ∨ vbit x.val v.val = 1) := by decide
theorem orb_spec {x t v : Int} (hx : 0 ≤ x ∧ x < 8) (ht : 0 ≤ t ∧ t ≤ 2) (hv : 0 ≤ v ∧ v ≤ 2) : (vbit (orb x t) v = 1 ↔ (vbit x v = 1 ∨ v = t)) ∧ (0 ≤ orb x t ∧ orb x t < 8) ∧ (vbit x v = 0 ∨ vbit x v = 1) := by
  have := orb_all ⟨x.toNat, by omega⟩ ⟨t.toNat, by omega⟩ ⟨v.toNat, by omega⟩
  simp only [Int.toNat_of_nonneg hx.1, Int.toNat_of_nonneg ht.1, Int.toNat_of_nonneg hv.1] at this
  exact ⟨this.1, ⟨this.2.1, this.2.2.1⟩, this.2.2.2⟩
/-- the code that stands for the tokens: place, open registers, next register, variables seen -/
def CodeR (op arg reg aat : Int → Int) : List Int → Int → List Int → Int → Int → Prop
  | [], p, s, _, _ => s = [] ∧ op p = 4
  | _ :: _, _, [], _, _ => False
  | t :: ts, p, r :: s, nr, vs => reg p = r ∧ (if t ≤ 2 then (op p = (if vbit vs t = 1 then 2 else 1) ∧ arg p = t ∧ CodeR op arg reg aat ts (p + 1) s nr (orb vs t)) else if t ≤ 15 then (op p = 3 ∧ arg p = t - 10 ∧ CodeR op arg reg aat ts (p + 1) s nr vs) else if t = 20 then (op p = 0 ∧ arg p = 20 ∧ aat p = nr ∧ CodeR op arg reg aat ts (p + 1) (nr :: s) (nr + 1) vs) else (op p = 0 ∧ arg p = 21 ∧ aat p = nr ∧ CodeR op arg reg aat ts (p + 1) (nr :: (nr + 1) :: s) (nr + 2) vs))
def BackP (op arg w w' : Int → Int) (p q : Int) : Prop := -1 ≤ q ∧ q < p ∧ (0 ≤ q → op q = 0) ∧ (∀ i, q < i → i < p → op i ≠ 0) ∧ ∀ v, ((∃ i, q < i ∧ i < p ∧ op i = 1 ∧ arg i = v) → w' v = -1) ∧ ((¬ ∃ i, q < i ∧ i < p ∧ op i = 1 ∧ arg i = v) → w' v = w v)
theorem back_skip {op arg w w' : Int → Int} {p q : Int} (hp : 0 ≤ p) (h0 : op p ≠ 0) (h1 : op p ≠ 1) (h : BackP op arg w w' (p + 1) q) : BackP op arg w w' p q := by
  have hq : q < p := by
    have := h.2.1
    by_cases e : q = p
    · exact absurd (h.2.2.1 (by omega)) (e ▸ h0)
    · omega
  refine ⟨h.1, hq, h.2.2.1, fun i a b => h.2.2.2.1 i a (by omega), fun v => ?_⟩
  have hv := h.2.2.2.2 v
  refine ⟨fun ⟨i, a, b, c, d⟩ => hv.1 ⟨i, a, by omega, c, d⟩, fun hn => hv.2 (fun ⟨i, a, b, c, d⟩ => ?_)⟩
  by_cases e : i = p
  · exact h1 (e ▸ c)
  · exact hn ⟨i, a, by omega, c, d⟩
theorem back_bind {op arg w w' : Int → Int} {p q x : Int} (hp : 0 ≤ p) (h1 : op p = 1) (hw : w (arg p) = -1) (h : BackP op arg (fa w (arg p) x) w' (p + 1) q) : BackP op arg w w' p q := by
  have hq : q < p := by
    have := h.2.1
    by_cases e : q = p
    · have := h.2.2.1 (by omega); rw [e] at this; omega
    · omega
  refine ⟨h.1, hq, h.2.2.1, fun i a b => h.2.2.2.1 i a (by omega), fun v => ?_⟩
  have hv := h.2.2.2.2 v
  refine ⟨fun ⟨i, a, b, c, d⟩ => hv.1 ⟨i, a, by omega, c, d⟩, fun hn => ?_⟩
  by_cases e : v = arg p
  · rw [hv.1 ⟨p, hq, by omega, h1, e.symm⟩, e, hw]
  · rw [hv.2 (fun ⟨i, a, b, c, d⟩ => by
      by_cases e2 : i = p
      · exact e (by rw [← d, e2])
      · exact hn ⟨i, a, by omega, c, d⟩)]
    unfold fa
    rw [if_neg e]
theorem back_take {op arg w w' : Int → Int} {p q : Int} (h0 : op p = 0) (h : BackP op arg w w' (p + 1) q) : q = p ∧ w' = w := by
  have hq : q = p := by
    have := h.2.1
    by_cases e : q = p
    · exact e
    · exact absurd h0 (h.2.2.2.1 p (by omega) (by omega))
  refine ⟨hq, funext fun v => (h.2.2.2.2 v).2 (fun ⟨i, a, b, _, _⟩ => by omega)⟩
def noteF (F w : Int → Int) : Int → Int := fun i => if i = num w / 64 then orL (F (num w / 64)) (num w % 64) else F i
theorem num_nn (w : Int → Int) : 0 ≤ num w := by
  have q : ∀ x : Int, 0 ≤ pos x := fun x => by unfold pos; split <;> omega
  have := q (w 0); have := q (w 1); have := q (w 2)
  unfold num; omega
/-- what taking node m puts into the registers -/
def takeG (K L R ld aat : Int → Int) (g : Int → Int) (p m : Int) : Int → Int := if K m = 2 then fa (fa g (aat p) (ld (L m))) (aat p + 1) (ld (R m)) else fa g (aat p) (ld (L m))
abbrev PhiT : Type := (Int → Int) → (Int → Int) → (Int → Int) → (Int → Int) → Int → Prop
def mtc (K ld g reg arg : Int → Int) (p m : Int) : Prop := ld m = g (reg p) ∧ K m = kd (arg p)
/-- the machine's steps, as they bear on a goal Φ -/
def Steps5 (n : Int) (K L R ld op arg reg aat : Int → Int) (tc : Int) (Φ : PhiT) : Prop :=
  (∀ g w tr F p, 0 ≤ p → p ≤ tc → op p = 1 → (0 ≤ g (reg p) ∧ g (reg p) < 20) → Φ g (fa w (arg p) (g (reg p))) (fa tr (p + 1) (-1)) F (p + 1) → Φ g w tr F p) ∧
  (∀ g w tr F p, 0 ≤ p → p ≤ tc → op p = 2 → (w (arg p) = g (reg p) → Φ g w (fa tr (p + 1) (-1)) F (p + 1)) → (w (arg p) ≠ g (reg p) → ∀ w' q, BackP op arg w w' p q → Φ g w' tr F q) → Φ g w tr F p) ∧
  (∀ g w tr F p, 0 ≤ p → p ≤ tc → op p = 3 → (ovF n K L R ld 0 (arg p) 0 = g (reg p) → Φ g w (fa tr (p + 1) (-1)) F (p + 1)) → (ovF n K L R ld 0 (arg p) 0 ≠ g (reg p) → ∀ w' q, BackP op arg w w' p q → Φ g w' tr F q) → Φ g w tr F p) ∧
  (∀ g w tr F p, 0 ≤ p → p ≤ tc → op p = 4 → (∀ v, 0 ≤ v → v ≤ 2 → w v < 20) → (∀ w' q, BackP op arg w w' p q → Φ g w' tr (noteF F w) q) → Φ g w tr F p) ∧
  (∀ g w tr F p, 0 ≤ p → p ≤ tc → op p = 0 → -1 ≤ tr p → tr p < n ∨ tr p = -1 → (∀ m, tr p < m → m < n → mtc K ld g reg arg p m → (∀ m', tr p < m' → m' < m → ¬ mtc K ld g reg arg p m') → Φ (takeG K L R ld aat g p m) w (fa (fa tr p m) (p + 1) (-1)) F (p + 1)) → ((∀ m', tr p < m' → m' < n → ¬ mtc K ld g reg arg p m') → ∀ w' q, BackP op arg w w' p q → Φ g w' tr F q) → Φ g w tr F p)
theorem take_loop {n : Int} {K L R ld op arg reg aat : Int → Int} {tc : Int} {Φ : PhiT} (hS : Steps5 n K L R ld op arg reg aat tc Φ) {p nr : Int} (hp : 0 ≤ p ∧ p ≤ tc) (h0 : op p = 0) (hr : reg p < nr) (w g0 tr0 : Int → Int) (S : Int → Int → Prop)
    (Hsub : ∀ m g tr F, 0 ≤ m → m < n → ld m = g0 (reg p) → K m = kd (arg p) → (∀ x, x < nr → g x = g0 x) → (∀ i, i < p → tr i = tr0 i) → (∀ g' tr' F', (∀ x, x < nr → g' x = g0 x) → (∀ i, i < p → tr' i = tr0 i) → tr' p = m → (∀ X, 0 ≤ X → X < 8000 → (fbB F' X = true ↔ (fbB F X = true ∨ S m X))) → Φ g' w tr' F' p) → Φ (takeG K L R ld aat g p m) w (fa (fa tr p m) (p + 1) (-1)) F (p + 1)) :
    ∀ (d : Nat) (u : Int) (g tr F : Int → Int), (n - u).toNat < d → -1 ≤ u → (u < n ∨ u = -1) → (∀ x, x < nr → g x = g0 x) → (∀ i, i < p → tr i = tr0 i) → tr p = u → (∀ g' tr' F', (∀ x, x < nr → g' x = g0 x) → (∀ i, i < p → tr' i = tr0 i) → (∀ X, 0 ≤ X → X < 8000 → (fbB F' X = true ↔ (fbB F X = true ∨ ∃ m, u < m ∧ m < n ∧ ld m = g0 (reg p) ∧ K m = kd (arg p) ∧ S m X))) → ∀ w' q, BackP op arg w w' p q → Φ g' w' tr' F' q) → Φ g w tr F p := by
  intro d
  induction d with
  | zero => intro u g tr F h; omega
  | succ d ih =>
    intro u g tr F hd hu hun hg htr htp Kont
    refine hS.2.2.2.2 g w tr F p hp.1 hp.2 h0 (by omega) (by rw [htp]; exact hun) (fun m m0 m1 hm hno => ?_) (fun hno w' q hb => ?_)
    · rw [htp] at m0
      unfold mtc at hm hno
      rw [hg _ hr] at hm
      refine Hsub m g tr F (by omega) m1 hm.1 hm.2 hg htr (fun g' tr' F' a1 a2 a3 a4 => ?_)
      refine ih m g' tr' F' (by omega) (by omega) (Or.inl m1) a1 a2 a3 (fun g2 tr2 F2 b1 b2 b3 w' q hb => ?_)
      refine Kont g2 tr2 F2 b1 b2 (fun X x0 x1 => ?_) w' q hb
      rw [b3 X x0 x1, a4 X x0 x1]
      constructor
      · intro h
        rcases h with (h | h) | ⟨m', h1, h2, h3⟩
        · exact Or.inl h
        · exact Or.inr ⟨m, m0, m1, hm.1, hm.2, h⟩
        · exact Or.inr ⟨m', by omega, h2, h3⟩
      · intro h
        rcases h with h | ⟨m', h1, h2, h3, h4, h5⟩
        · exact Or.inl (Or.inl h)
        · rcases Int.lt_trichotomy m' m with e | e | e
          · exact absurd ⟨by rw [hg _ hr]; exact h3, h4⟩ (hno m' (by rw [htp]; exact h1) e)
          · rw [e] at h5; exact Or.inl (Or.inr h5)
          · exact Or.inr ⟨m', e, h2, h3, h4, h5⟩
    · refine Kont g tr F hg htr (fun X x0 x1 => ?_) w' q hb
      constructor
      · exact Or.inl
      · intro h
        rcases h with h | ⟨m', h1, h2, h3, h4, h5⟩
        · exact h
        · exact absurd (show mtc K ld g reg arg p m' from ⟨by rw [hg _ hr]; exact h3, h4⟩) (hno m' (by rw [htp]; exact h1) h2)
/-- the variables as the seen bits say -/
def WV (vs : Int) (w : Int → Int) : Prop := ∀ v, 0 ≤ v → v ≤ 2 → (vbit vs v = 1 → 0 ≤ w v) ∧ (vbit vs v = 0 → w v = -1) ∧ w v < 20
theorem map_eq {g g2 : Int → Int} {s : List Int} {nr : Int} (hs : ∀ r ∈ s, 0 ≤ r ∧ r < nr) (h : ∀ x, x < nr → g2 x = g x) : s.map g2 = s.map g := List.map_congr_left (fun r hr => h r (hs r hr).2)
theorem fa_s (f : Int → Int) (j v : Int) : fa f j v j = v := by unfold fa; rw [if_pos rfl]
theorem fa_o (f : Int → Int) {j i : Int} (v : Int) (h : i ≠ j) : fa f j v i = f i := by unfold fa; rw [if_neg h]
theorem run_pure {n : Int} {K L R ld op arg reg aat : Int → Int} {tc : Int} {Φ : PhiT} (hP : PIC n K L R ld) (hS : Steps5 n K L R ld op arg reg aat tc Φ) : ∀ (ts : List Int) (p : Int) (s : List Int) (nr vs : Int) (g w tr F : Int → Int), (∀ t ∈ ts, tokOk t) → CodeR op arg reg aat ts p s nr vs → 0 ≤ p → p + (ts.length : Int) = tc → (0 ≤ vs ∧ vs < 8) → (∀ r ∈ s, 0 ≤ r ∧ r < nr) → (∀ r ∈ s, 0 ≤ g r ∧ g r < 20) → WV vs w → tr p = -1 → (∀ g' tr' F', (∀ x, x < nr → g' x = g x) → (∀ i, i < p → tr' i = tr i) → (∀ X, 0 ≤ X → X < 8000 → (fbB F' X = true ↔ (fbB F X = true ∨ Sol n K L R ld ts (s.map g) w X))) → ∀ w' q, BackP op arg w w' p q → Φ g' w' tr' F' q) → Φ g w tr F p := by
  intro ts
  induction ts with
  | nil =>
    intro p s nr vs g w tr F _ hC hp hpt hvs hs hgs hw htp Kont
    have hC : s = [] ∧ op p = 4 := hC
    have hl : ((([] : List Int).length : Nat) : Int) = 0 := rfl
    refine hS.2.2.2.1 g w tr F p hp (by omega) hC.2 (fun v v0 v2 => (hw v v0 v2).2.2) (fun w' q hb => ?_)
    refine Kont g tr (noteF F w) (fun _ _ => rfl) (fun _ _ => rfl) (fun X x0 x1 => ?_) w' q hb
    rw [hC.1]
    show fbB (noteF F w) X = true ↔ (fbB F X = true ∨ ([] = ([] : List Int) ∧ X = num w))
    have := fbB_note (F := F) (num_nn w) x0
    unfold noteF
    rw [this]
    simp
  | cons t ts ih =>
    intro p s nr vs g w tr F ht hC hp hpt hvs hs hgs hw htp Kont
    have h0 : tokOk t := ht t List.mem_cons_self
    have ht' : ∀ t ∈ ts, tokOk t := fun x hx => ht x (List.mem_cons_of_mem _ hx)
    unfold tokOk at h0
    have hlen : (((t :: ts).length : Nat) : Int) = ts.length + 1 := by simp
    rw [hlen] at hpt
    have n20 := hP.1.2.1
    cases s with
    | nil => exact absurd hC id
    | cons r s =>
      have hr := hs r List.mem_cons_self
      have hgr := hgs r List.mem_cons_self
      have hs' : ∀ r ∈ s, 0 ≤ r ∧ r < nr := fun x hx => hs x (List.mem_cons_of_mem _ hx)
      have hgs' : ∀ r ∈ s, 0 ≤ g r ∧ g r < 20 := fun x hx => hgs x (List.mem_cons_of_mem _ hx)
      obtain ⟨hreg, hC⟩ := hC
      by_cases h2 : t ≤ 2
      · rw [if_pos h2] at hC
        obtain ⟨hop, harg, hC⟩ := hC
        have hvb := orb_spec hvs (t := t) (v := t) ⟨by omega, h2⟩ ⟨by omega, h2⟩
        have hwt := hw t (by omega) h2
        have hSol : ∀ X, Sol n K L R ld (t :: ts) ((r :: s).map g) w X ↔ (if w t < 0 then Sol n K L R ld ts (s.map g) (fa w t (g r)) X else (w t = g r ∧ Sol n K L R ld ts (s.map g) w X)) := fun X => by
          show (if t ≤ 2 then _ else _) ↔ _
          rw [if_pos h2]
        by_cases hb : vbit vs t = 1
        · rw [if_pos hb] at hop
          have hw0 := hwt.1 hb
          have horb : orb vs t = vs := by unfold orb; rw [if_pos hb]
          rw [horb] at hC
          refine hS.2.1 g w tr F p hp (by omega) hop (fun e => ?_) (fun e w' q hbk => ?_)
          · rw [harg, hreg] at e
            refine ih (p + 1) s nr vs g w (fa tr (p + 1) (-1)) F ht' hC (by omega) (by omega) hvs hs' hgs' hw (fa_s _ _ _) (fun g' tr' F' a1 a2 a3 w' q hbk => ?_)
            refine Kont g' tr' F' a1 (fun i hi => by rw [a2 i (by omega), fa_o _ _ (by omega)]) (fun X x0 x1 => ?_) w' q (back_skip hp (by omega) (by omega) hbk)
            rw [a3 X x0 x1, hSol, if_neg (by omega)]
            simp [e]
          · rw [harg, hreg] at e
            refine Kont g tr F (fun _ _ => rfl) (fun _ _ => rfl) (fun X x0 x1 => ?_) w' q hbk
            rw [hSol, if_neg (by omega)]
            simp [e]
        · rw [if_neg hb] at hop
          have hw1 : w t = -1 := hwt.2.1 (by omega)
          refine hS.1 g w tr F p hp (by omega) hop (by rw [hreg]; exact hgr) ?_
          rw [harg, hreg]
          refine ih (p + 1) s nr (orb vs t) g (fa w t (g r)) (fa tr (p + 1) (-1)) F ht' hC (by omega) (by omega) hvb.2.1 hs' hgs' (fun v v0 v2 => ?_) (fa_s _ _ _) (fun g' tr' F' a1 a2 a3 w' q hbk => ?_)
          · have hv2 := orb_spec hvs (t := t) (v := v) ⟨by omega, h2⟩ ⟨v0, v2⟩
            have hwv := hw v v0 v2
            by_cases e : v = t
            · rw [e, fa_s]
              have : vbit (orb vs t) t = 1 := hvb.1.mpr (Or.inr rfl)
              exact ⟨fun _ => hgr.1, fun h => by omega, hgr.2⟩
            · rw [fa_o _ _ e]
              refine ⟨fun h => hwv.1 ((hv2.1.mp h).elim id (fun e2 => absurd e2 e)), fun h => hwv.2.1 ?_, hwv.2.2⟩
              rcases hv2.2.2 with q | q
              · exact q
              · have := hv2.1.mpr (Or.inl q); omega
          · refine Kont g' tr' F' a1 (fun i hi => by rw [a2 i (by omega), fa_o _ _ (by omega)]) (fun X x0 x1 => ?_) w' q (back_bind (x := g r) hp hop (by rw [harg]; exact hw1) (by rw [harg]; exact hbk))
            rw [a3 X x0 x1, hSol, if_pos (by omega)]
      · rw [if_neg h2] at hC
        by_cases h15 : t ≤ 15
        · rw [if_pos h15] at hC
          obtain ⟨hop, harg, hC⟩ := hC
          have hSol : ∀ X, Sol n K L R ld (t :: ts) ((r :: s).map g) w X ↔ (ovF n K L R ld 0 (t - 10) 0 = g r ∧ Sol n K L R ld ts (s.map g) w X) := fun X => by
            show (if t ≤ 2 then _ else _) ↔ _
            rw [if_neg h2, if_pos h15]
          refine hS.2.2.1 g w tr F p hp (by omega) hop (fun e => ?_) (fun e w' q hbk => ?_)
          · rw [harg, hreg] at e
            refine ih (p + 1) s nr vs g w (fa tr (p + 1) (-1)) F ht' hC (by omega) (by omega) hvs hs' hgs' hw (fa_s _ _ _) (fun g' tr' F' a1 a2 a3 w' q hbk => ?_)
            refine Kont g' tr' F' a1 (fun i hi => by rw [a2 i (by omega), fa_o _ _ (by omega)]) (fun X x0 x1 => ?_) w' q (back_skip hp (by omega) (by omega) hbk)
            rw [a3 X x0 x1, hSol]
            simp [e]
          · rw [harg, hreg] at e
            refine Kont g tr F (fun _ _ => rfl) (fun _ _ => rfl) (fun X x0 x1 => ?_) w' q hbk
            rw [hSol]
            simp [e]
        · rw [if_neg h15] at hC
          by_cases h20 : t = 20
          · rw [if_pos h20] at hC
            obtain ⟨hop, harg, haat, hC⟩ := hC
            have hk : kd (arg p) = 1 := by rw [harg]; rfl
            refine take_loop hS ⟨hp, by omega⟩ hop (by rw [hreg]; exact hr.2) w g tr (fun m X => Sol n K L R ld ts (ld (L m) :: s.map g) w X) (fun m g1 tr1 F1 m0 m1 m2 m3 b1 b2 Ko => ?_) ((n - (-1)).toNat + 1) (-1) g tr F (by omega) (by omega) (Or.inr rfl) (fun _ _ => rfl) (fun _ _ => rfl) htp (fun g' tr' F' a1 a2 a3 w' q hbk => ?_)
            · have gm := hP.1.arg m0 m1 (by omega)
              have gl := hP.2.1 (L m) gm.1 (by omega)
              have hT : takeG K L R ld aat g1 p m = fa g1 nr (ld (L m)) := by unfold takeG; rw [if_neg (by omega), haat]
              rw [hT]
              have hm : (nr :: s).map (fa g1 nr (ld (L m))) = ld (L m) :: s.map g := by
                rw [List.map_cons, fa_s]
                congr 1
                exact map_eq hs' (fun x hx => by rw [fa_o _ _ (by omega)]; exact b1 x hx)
              refine ih (p + 1) (nr :: s) (nr + 1) vs (fa g1 nr (ld (L m))) w _ F1 ht' hC (by omega) (by omega) hvs (fun x hx => ?_) (fun x hx => ?_) hw (fa_s _ _ _) (fun g' tr' F' a1 a2 a3 w' q hbk => ?_)
              · rcases List.mem_cons.mp hx with e | e
                · omega
                · have := hs' x e; omega
              · rcases List.mem_cons.mp hx with e | e
                · rw [e, fa_s]; omega
                · have q := hs' x e
                  rw [fa_o _ _ (by omega), b1 x q.2]
                  exact hgs' x e
              · obtain ⟨eq, ew⟩ := back_take hop hbk
                rw [eq, ew]
                refine Ko g' tr' F' (fun x hx => by rw [a1 x (by omega), fa_o _ _ (by omega)]; exact b1 x hx) (fun i hi => by rw [a2 i (by omega), fa_o _ _ (by omega), fa_o _ _ (by omega)]; exact b2 i hi) (by rw [a2 p (by omega), fa_o _ _ (by omega), fa_s]) (fun X x0 x1 => ?_)
                rw [a3 X x0 x1, hm]
            · refine Kont g' tr' F' a1 a2 (fun X x0 x1 => ?_) w' q hbk
              rw [a3 X x0 x1]
              have hSol : Sol n K L R ld (t :: ts) ((r :: s).map g) w X ↔ (∃ m, 0 ≤ m ∧ m < n ∧ ld m = g r ∧ K m = 1 ∧ Sol n K L R ld ts (ld (L m) :: s.map g) w X) := by
                show (if t ≤ 2 then _ else _) ↔ _
                rw [if_neg h2, if_neg h15, if_pos h20]
              rw [hSol, hreg, hk]
              constructor
              · intro h
                rcases h with h | ⟨m, c1, c2, c3, c4, c5⟩
                · exact Or.inl h
                · exact Or.inr ⟨m, by omega, c2, c3, c4, c5⟩
              · intro h
                rcases h with h | ⟨m, c1, c2, c3, c4, c5⟩
                · exact Or.inl h
                · exact Or.inr ⟨m, by omega, c2, c3, c4, c5⟩
          · rw [if_neg h20] at hC
            obtain ⟨hop, harg, haat, hC⟩ := hC
            have hk : kd (arg p) = 2 := by rw [harg]; rfl
            refine take_loop hS ⟨hp, by omega⟩ hop (by rw [hreg]; exact hr.2) w g tr (fun m X => Sol n K L R ld ts (ld (L m) :: ld (R m) :: s.map g) w X) (fun m g1 tr1 F1 m0 m1 m2 m3 b1 b2 Ko => ?_) ((n - (-1)).toNat + 1) (-1) g tr F (by omega) (by omega) (Or.inr rfl) (fun _ _ => rfl) (fun _ _ => rfl) htp (fun g' tr' F' a1 a2 a3 w' q hbk => ?_)
            · have gm := hP.1.arg m0 m1 (by omega)
              have gl := hP.2.1 (L m) gm.1 (by omega)
              have gr := hP.2.1 (R m) gm.2.2.1 (by omega)
              have hT : takeG K L R ld aat g1 p m = fa (fa g1 nr (ld (L m))) (nr + 1) (ld (R m)) := by unfold takeG; rw [if_pos (by omega), haat]
              rw [hT]
              have hm : (nr :: (nr + 1) :: s).map (fa (fa g1 nr (ld (L m))) (nr + 1) (ld (R m))) = ld (L m) :: ld (R m) :: s.map g := by
                rw [List.map_cons, List.map_cons, fa_s, fa_o _ _ (by omega), fa_s]
                congr 2
                exact map_eq hs' (fun x hx => by rw [fa_o _ _ (by omega), fa_o _ _ (by omega)]; exact b1 x hx)
              refine ih (p + 1) (nr :: (nr + 1) :: s) (nr + 2) vs _ w _ F1 ht' hC (by omega) (by omega) hvs (fun x hx => ?_) (fun x hx => ?_) hw (fa_s _ _ _) (fun g' tr' F' a1 a2 a3 w' q hbk => ?_)
              · rcases List.mem_cons.mp hx with e | e
                · omega
                · rcases List.mem_cons.mp e with e | e
                  · omega
                  · have := hs' x e; omega
              · rcases List.mem_cons.mp hx with e | e
                · rw [e, fa_o _ _ (by omega), fa_s]; omega
                · rcases List.mem_cons.mp e with e | e
                  · rw [e, fa_s]; omega
                  · have q := hs' x e
                    rw [fa_o _ _ (by omega), fa_o _ _ (by omega), b1 x q.2]
                    exact hgs' x e
              · obtain ⟨eq, ew⟩ := back_take hop hbk
                rw [eq, ew]
                refine Ko g' tr' F' (fun x hx => by rw [a1 x (by omega), fa_o _ _ (by omega), fa_o _ _ (by omega)]; exact b1 x hx) (fun i hi => by rw [a2 i (by omega), fa_o _ _ (by omega), fa_o _ _ (by omega)]; exact b2 i hi) (by rw [a2 p (by omega), fa_o _ _ (by omega), fa_s]) (fun X x0 x1 => ?_)
                rw [a3 X x0 x1, hm]
            · refine Kont g' tr' F' a1 a2 (fun X x0 x1 => ?_) w' q hbk
              rw [a3 X x0 x1]
              have hSol : Sol n K L R ld (t :: ts) ((r :: s).map g) w X ↔ (∃ m, 0 ≤ m ∧ m < n ∧ ld m = g r ∧ K m = 2 ∧ Sol n K L R ld ts (ld (L m) :: ld (R m) :: s.map g) w X) := by
                show (if t ≤ 2 then _ else _) ↔ _
                rw [if_neg h2, if_neg h15, if_neg h20]
              rw [hSol, hreg, hk]
              constructor
              · intro h
                rcases h with h | ⟨m, c1, c2, c3, c4, c5⟩
                · exact Or.inl h
                · exact Or.inr ⟨m, by omega, c2, c3, c4, c5⟩
              · intro h
                rcases h with h | ⟨m, c1, c2, c3, c4, c5⟩
                · exact Or.inl h
                · exact Or.inr ⟨m, by omega, c2, c3, c4, c5⟩
end
section
/-! states of the matcher -/
theorem up_as (σ : Sg) (k : Nat) (j v : Int) : up σ k j v = upA σ k (fa (σ k) j v) := by
  funext k'
  by_cases h : k' = k
  · subst h; rw [upA_s]; funext i; rw [up_a]; rfl
  · rw [up_o _ _ _ h, upA_o _ _ h]
def st4 (σ : Sg) (g w tr F : Int → Int) : Sg := fun k => if k = 19 then g else if k = 20 then w else if k = 21 then tr else if k = 22 then F else σ k
theorem st4_id (σ : Sg) : st4 σ (σ 19) (σ 20) (σ 21) (σ 22) = σ := by
  funext k
  unfold st4
  split
  · rename_i h; rw [h]
  · split
    · rename_i h; rw [h]
    · split
      · rename_i h; rw [h]
      · split
        · rename_i h; rw [h]
        · rfl
theorem st4_A19 (σ : Sg) (g w tr F g2 : Int → Int) : upA (st4 σ g w tr F) 19 g2 = st4 σ g2 w tr F := by
  funext k; unfold upA st4; by_cases h : k = 19 <;> simp [h]
theorem st4_A20 (σ : Sg) (g w tr F w2 : Int → Int) : upA (st4 σ g w tr F) 20 w2 = st4 σ g w2 tr F := by
  funext k; unfold upA st4; by_cases h : k = 20 <;> simp [h]
theorem st4_A21 (σ : Sg) (g w tr F t2 : Int → Int) : upA (st4 σ g w tr F) 21 t2 = st4 σ g w t2 F := by
  funext k; unfold upA st4; by_cases h : k = 21 <;> simp [h]
theorem st4_A22 (σ : Sg) (g w tr F F2 : Int → Int) : upA (st4 σ g w tr F) 22 F2 = st4 σ g w tr F2 := by
  funext k; unfold upA st4; by_cases h : k = 22 <;> simp [h]
theorem st4_19 (σ : Sg) (g w tr F : Int → Int) (j v : Int) : up (st4 σ g w tr F) 19 j v = st4 σ (fa g j v) w tr F := (up_as _ _ _ _).trans (st4_A19 _ _ _ _ _ _)
theorem st4_20 (σ : Sg) (g w tr F : Int → Int) (j v : Int) : up (st4 σ g w tr F) 20 j v = st4 σ g (fa w j v) tr F := (up_as _ _ _ _).trans (st4_A20 _ _ _ _ _ _)
theorem st4_21 (σ : Sg) (g w tr F : Int → Int) (j v : Int) : up (st4 σ g w tr F) 21 j v = st4 σ g w (fa tr j v) F := (up_as _ _ _ _).trans (st4_A21 _ _ _ _ _ _)
theorem st4_22 (σ : Sg) (g w tr F : Int → Int) (j v : Int) : up (st4 σ g w tr F) 22 j v = st4 σ g w tr (fa F j v) := (up_as _ _ _ _).trans (st4_A22 _ _ _ _ _ _)
def numI (w : Int → Int) (i : Int) : Int := if i = 0 then 0 else if i = 1 then pos (w 0) else if i = 2 then 20 * pos (w 0) + pos (w 1) else num w
theorem numI_s {w : Int → Int} {i : Int} (h0 : 0 ≤ i) (h2 : i < 3) : numI w (i + 1) = 20 * numI w i + pos (w i) := by
  rcases (show i = 0 ∨ i = 1 ∨ i = 2 by omega) with e | e | e
  · subst e; show pos (w 0) = 20 * 0 + pos (w 0); omega
  · subst e; show 20 * pos (w 0) + pos (w 1) = 20 * pos (w 0) + pos (w 1); rfl
  · subst e; show num w = 20 * (20 * pos (w 0) + pos (w 1)) + pos (w 2); unfold num; omega
theorem numI_b {w : Int → Int} (hw : ∀ v, 0 ≤ v → v ≤ 2 → w v < 20) (i : Int) : 0 ≤ numI w i ∧ numI w i < 8000 ∧ (i = 0 → numI w i = 0) ∧ (i = 1 → numI w i < 20) ∧ (i = 2 → numI w i < 400) := by
  have q : ∀ v, 0 ≤ v → v ≤ 2 → 0 ≤ pos (w v) ∧ pos (w v) < 20 := fun v a b => by have := hw v a b; unfold pos; split <;> omega
  have q0 := q 0 (by omega) (by omega)
  have q1 := q 1 (by omega) (by omega)
  have q2 := q 2 (by omega) (by omega)
  unfold numI
  split
  · omega
  · split
    · omega
    · split
      · omega
      · unfold num; omega
theorem cc_ov {σ : Sg} {k r : Int} (h : (∃ j, FirstAt (fun j => σ 1 j = 0 ∧ σ 2 j = k) (σ 0 0) j ∧ r = σ 4 j) ∨ (NoneIn (fun j => σ 1 j = 0 ∧ σ 2 j = k) (σ 0 0) ∧ r = -1)) : r = ovF (σ 0 0) (KV σ) (σ 2) (σ 3) (σ 4) 0 k 0 := by
  have key : ∀ j, ovP (KV σ) (σ 2) (σ 3) (σ 4) 0 k 0 j ↔ (σ 1 j = 0 ∧ σ 2 j = k) := fun j => by
    unfold ovP
    have := kd_0 (x := σ 1 j)
    show (kd (σ 1 j) = 0 ∧ _) ↔ _
    rw [this]
    simp
  rcases h with ⟨j, h, e⟩ | ⟨h, e⟩
  · rw [e, ovF_some (j := j) ⟨h.1, h.2.1, (key j).mpr h.2.2.1, fun i a b c => h.2.2.2 i a b ((key i).mp c)⟩]
  · rw [e, ovF_none (fun i a b c => h i a b ((key i).mp c))]
theorem ov_q {n : Int} {K L R ld : Int → Int} {q x y r : Int} (h : (∃ j, FirstAt (ovP K L R ld q x y) n j ∧ r = ld j) ∨ (NoneIn (ovP K L R ld q x y) n ∧ r = -1)) : r = ovF n K L R ld q x y := by
  rcases h with ⟨j, h, e⟩ | ⟨h, e⟩
  · rw [e, ovF_some h]
  · rw [e, ovF_none h]
/-- the code's places, in range -/
def CodeB (op arg reg aat : Int → Int) (tc : Int) : Prop := (∀ p, 0 ≤ p → p < tc → (0 ≤ reg p ∧ reg p < 16) ∧ (0 ≤ op p ∧ op p ≤ 3) ∧ (op p = 1 ∨ op p = 2 → 0 ≤ arg p ∧ arg p ≤ 2) ∧ (op p = 0 → (arg p = 20 ∨ arg p = 21) ∧ 0 ≤ aat p ∧ aat p < 15)) ∧ op tc = 4
theorem codeB_of {op arg reg aat : Int → Int} {tc : Int} (htc : tc ≤ 7) : ∀ (ts : List Int) (p : Int) (s : List Int) (nr vs : Int), (∀ t ∈ ts, tokOk t) → CodeR op arg reg aat ts p s nr vs → 0 ≤ p → p + (ts.length : Int) = tc → (∀ r ∈ s, 0 ≤ r ∧ r < nr) → 1 ≤ nr → nr ≤ 1 + 2 * p → (∀ q, p ≤ q → q < tc → (0 ≤ reg q ∧ reg q < 16) ∧ (0 ≤ op q ∧ op q ≤ 3) ∧ (op q = 1 ∨ op q = 2 → 0 ≤ arg q ∧ arg q ≤ 2) ∧ (op q = 0 → (arg q = 20 ∨ arg q = 21) ∧ 0 ≤ aat q ∧ aat q < 15)) ∧ op tc = 4 := by
  intro ts
  induction ts with
  | nil =>
    intro p s nr vs _ hC hp hl _ _ _
    have e : p = tc := by have : ((([] : List Int).length : Nat) : Int) = 0 := rfl; omega
    have hC : s = [] ∧ op p = 4 := hC
    exact ⟨fun q a b => by omega, e ▸ hC.2⟩
  | cons t ts ih =>
    intro p s nr vs ht hC hp hl hs hn1 hn2
    have h0 : tokOk t := ht t List.mem_cons_self
    have ht' : ∀ t ∈ ts, tokOk t := fun x hx => ht x (List.mem_cons_of_mem _ hx)
    unfold tokOk at h0
    have hlen : (((t :: ts).length : Nat) : Int) = ts.length + 1 := by simp
    rw [hlen] at hl
    cases s with
    | nil => exact absurd hC id
    | cons r s =>
      obtain ⟨hreg, hC⟩ := hC
      have hr := hs r List.mem_cons_self
      have hs' : ∀ r ∈ s, 0 ≤ r ∧ r < nr := fun x hx => hs x (List.mem_cons_of_mem _ hx)
      have fin : ((∀ q, p + 1 ≤ q → q < tc → (0 ≤ reg q ∧ reg q < 16) ∧ (0 ≤ op q ∧ op q ≤ 3) ∧ (op q = 1 ∨ op q = 2 → 0 ≤ arg q ∧ arg q ≤ 2) ∧ (op q = 0 → (arg q = 20 ∨ arg q = 21) ∧ 0 ≤ aat q ∧ aat q < 15)) ∧ op tc = 4) → ((0 ≤ op p ∧ op p ≤ 3) ∧ (op p = 1 ∨ op p = 2 → 0 ≤ arg p ∧ arg p ≤ 2) ∧ (op p = 0 → (arg p = 20 ∨ arg p = 21) ∧ 0 ≤ aat p ∧ aat p < 15)) → ((∀ q, p ≤ q → q < tc → (0 ≤ reg q ∧ reg q < 16) ∧ (0 ≤ op q ∧ op q ≤ 3) ∧ (op q = 1 ∨ op q = 2 → 0 ≤ arg q ∧ arg q ≤ 2) ∧ (op q = 0 → (arg q = 20 ∨ arg q = 21) ∧ 0 ≤ aat q ∧ aat q < 15)) ∧ op tc = 4) := by
        intro h1 h2
        refine ⟨fun q a b => ?_, h1.2⟩
        by_cases e : q = p
        · rw [e]; exact ⟨by rw [hreg]; omega, h2⟩
        · exact h1.1 q (by omega) b
      by_cases h2 : t ≤ 2
      · rw [if_pos h2] at hC
        refine fin (ih (p + 1) s nr _ ht' hC.2.2 (by omega) (by omega) hs' hn1 (by omega)) ?_
        have := hC.1
        have := hC.2.1
        split at * <;> omega
      · rw [if_neg h2] at hC
        by_cases h15 : t ≤ 15
        · rw [if_pos h15] at hC
          refine fin (ih (p + 1) s nr _ ht' hC.2.2 (by omega) (by omega) hs' hn1 (by omega)) ?_
          have := hC.1
          omega
        · rw [if_neg h15] at hC
          by_cases h20 : t = 20
          · rw [if_pos h20] at hC
            refine fin (ih (p + 1) (nr :: s) (nr + 1) _ ht' hC.2.2.2 (by omega) (by omega) (fun x hx => ?_) (by omega) (by omega)) ?_
            · rcases List.mem_cons.mp hx with e | e
              · omega
              · have := hs' x e; omega
            · have := hC.1; have := hC.2.1; have := hC.2.2.1; omega
          · rw [if_neg h20] at hC
            refine fin (ih (p + 1) (nr :: (nr + 1) :: s) (nr + 2) _ ht' hC.2.2.2 (by omega) (by omega) (fun x hx => ?_) (by omega) (by omega)) ?_
            · rcases List.mem_cons.mp hx with e | e
              · omega
              · rcases List.mem_cons.mp e with e | e
                · omega
                · have := hs' x e; omega
            · have := hC.1; have := hC.2.1; have := hC.2.2.1; omega
end
section
set_option maxRecDepth 100000
theorem ct0_isNode (a : Int) (σ : Sg) : Ct w0 yX0_isNode cX0_isNode 2 (some .boolean) 0 0 [a] σ (fun r σ1 => σ1 = σ ∧ r = if 0 ≤ a ∧ a < σ 0 0 then 1 else 0) := by
  refine ct_bool (by decide +kernel) rfl (Nat.le_of_ble_eq_true rfl) (fun κ hret => ?_)
  refine v_iload_n dX0_isNode_0 rfl ?_
  refine v_if_lt (tgt := 16) dX0_isNode_1 (by decide) (fun c1 => ?_) (fun c1 => ?_)
  · refine v_iconst 0 dX0_isNode_16 (by decide) (by decide) ?_
    exact hret _ _ _ _ dX0_isNode_17 (by decide) ⟨rfl, by rw [if_neg (by omega)]⟩
  · refine v_iload_n dX0_isNode_4 rfl ?_
    refine v_aload_n dX0_isNode_5 rfl ?_
    refine g0_nodeCount dX0_isNode_6 (σ 0 0) rfl ?_
    refine v_icmp_ge (tgt := 16) dX0_isNode_9 (by decide) (fun c9 => ?_) (fun c9 => ?_)
    · refine v_iconst 0 dX0_isNode_16 (by decide) (by decide) ?_
      exact hret _ _ _ _ dX0_isNode_17 (by decide) ⟨rfl, by rw [if_neg (by omega)]⟩
    · refine v_iconst 1 dX0_isNode_12 (by decide) (by decide) ?_
      refine v_goto (tgt := 17) dX0_isNode_13 (by decide) ?_
      exact hret _ _ _ _ dX0_isNode_17 (by decide) ⟨rfl, by rw [if_pos (by omega)]⟩
theorem ct1_isNode (a : Int) (σ : Sg) : Ct w1 yX1_isNode cX1_isNode 2 (some .boolean) 0 0 [a] σ (fun r σ1 => σ1 = σ ∧ r = if 0 ≤ a ∧ a < σ 0 0 then 1 else 0) := by
  refine ct_bool (by decide +kernel) rfl (Nat.le_of_ble_eq_true rfl) (fun κ hret => ?_)
  refine v_iload_n dX1_isNode_0 rfl ?_
  refine v_if_lt (tgt := 16) dX1_isNode_1 (by decide) (fun c1 => ?_) (fun c1 => ?_)
  · refine v_iconst 0 dX1_isNode_16 (by decide) (by decide) ?_
    exact hret _ _ _ _ dX1_isNode_17 (by decide) ⟨rfl, by rw [if_neg (by omega)]⟩
  · refine v_iload_n dX1_isNode_4 rfl ?_
    refine v_aload_n dX1_isNode_5 rfl ?_
    refine g1_n dX1_isNode_6 (σ 0 0) rfl ?_
    refine v_icmp_ge (tgt := 16) dX1_isNode_9 (by decide) (fun c9 => ?_) (fun c9 => ?_)
    · refine v_iconst 0 dX1_isNode_16 (by decide) (by decide) ?_
      exact hret _ _ _ _ dX1_isNode_17 (by decide) ⟨rfl, by rw [if_neg (by omega)]⟩
    · refine v_iconst 1 dX1_isNode_12 (by decide) (by decide) ?_
      refine v_goto (tgt := 17) dX1_isNode_13 (by decide) ?_
      exact hret _ _ _ _ dX1_isNode_17 (by decide) ⟨rfl, by rw [if_pos (by omega)]⟩
theorem ct0_leader (a : Int) (σ : Sg) (hn20 : σ 0 0 ≤ 20) : Ct w0 yX0_leader cX0_leader 2 (some .int) 1 21 [a] σ (fun r σ1 => σ1 = σ ∧ r = if 0 ≤ a ∧ a < σ 0 0 then σ 4 a else -1) := by
  refine ct_int (by decide +kernel) rfl (Nat.le_of_ble_eq_true rfl) (fun κ hret => ?_)
  refine v_aload_n dX0_leader_0 rfl ?_
  refine v_iload_n dX0_leader_1 rfl ?_
  refine c0_isNode (rest := []) dX0_leader_2 (ct0_isNode a σ) rfl (by decide) rfl (by decide) (fun r2 s2 h2 => ?_)
  obtain ⟨e1, e2⟩ := h2
  subst e1
  refine v_if_eq (tgt := 17) dX0_leader_5 (by decide) (fun c5 => ?_) (fun c5 => ?_)
  · have c5_ : ¬ (0 ≤ a ∧ a < s2 0 0) := fun hn => by rw [if_pos hn] at e2; omega
    refine v_iconst (-1) dX0_leader_17 (by decide) (by decide) ?_
    exact hret _ _ _ _ dX0_leader_18 ⟨rfl, by rw [if_neg (fun hn => c5_ hn)]⟩
  · have hn : 0 ≤ a ∧ a < s2 0 0 := Classical.byContradiction fun hn => by rw [if_neg hn] at e2; omega
    refine v_aload_n dX0_leader_8 rfl ?_
    refine g0_leaderOf dX0_leader_9 ?_
    refine v_iload_n dX0_leader_12 rfl ?_
    refine l0_leaderOf dX0_leader_13 (by omega) (s2 4 a) rfl ?_
    refine v_goto (tgt := 18) dX0_leader_14 (by decide) ?_
    exact hret _ _ _ _ dX0_leader_18 ⟨rfl, by rw [if_pos hn]⟩
theorem ct1_leader (a : Int) (σ : Sg) (hn20 : σ 0 0 ≤ 20) : Ct w1 yX1_leader cX1_leader 2 (some .int) 1 21 [a] σ (fun r σ1 => σ1 = σ ∧ r = if 0 ≤ a ∧ a < σ 0 0 then σ 4 a else -1) := by
  refine ct_int (by decide +kernel) rfl (Nat.le_of_ble_eq_true rfl) (fun κ hret => ?_)
  refine v_aload_n dX1_leader_0 rfl ?_
  refine v_iload_n dX1_leader_1 rfl ?_
  refine c1_isNode (rest := []) dX1_leader_2 (ct1_isNode a σ) rfl (by decide) rfl (by decide) (fun r2 s2 h2 => ?_)
  obtain ⟨e1, e2⟩ := h2
  subst e1
  refine v_if_eq (tgt := 17) dX1_leader_5 (by decide) (fun c5 => ?_) (fun c5 => ?_)
  · have c5_ : ¬ (0 ≤ a ∧ a < s2 0 0) := fun hn => by rw [if_pos hn] at e2; omega
    refine v_iconst (-1) dX1_leader_17 (by decide) (by decide) ?_
    exact hret _ _ _ _ dX1_leader_18 ⟨rfl, by rw [if_neg (fun hn => c5_ hn)]⟩
  · have hn : 0 ≤ a ∧ a < s2 0 0 := Classical.byContradiction fun hn => by rw [if_neg hn] at e2; omega
    refine v_aload_n dX1_leader_8 rfl ?_
    refine g1_least dX1_leader_9 ?_
    refine v_iload_n dX1_leader_12 rfl ?_
    refine l1_least dX1_leader_13 (by omega) (s2 4 a) rfl ?_
    refine v_goto (tgt := 18) dX1_leader_14 (by decide) ?_
    exact hret _ _ _ _ dX1_leader_18 ⟨rfl, by rw [if_pos hn]⟩
theorem ct0_classes (σ : Sg) (h0 : 0 ≤ σ 0 0) (hn20 : σ 0 0 ≤ 20) : Ct w0 yX0_classes cX0_classes 3 (some .int) 0 0 [] σ (fun r σ1 => σ1 = σ ∧ r = cntI (fun j => decide (σ 4 j = j)) (σ 0 0)) := by
  refine ct_int (by decide +kernel) rfl (Nat.le_of_ble_eq_true rfl) (fun κ hret => ?_)
  have loop : ∀ (d : Nat) (i k : Int), 0 ≤ i → i ≤ σ 0 0 → k = cntI (fun j => decide (σ 4 j = j)) i → (σ 0 0 - i).toNat < d → V w0 κ (rmO 0 0) cX0_classes 3 σ [(0, rH κ), (1, .inl k), (2, .inl i)] 4 [] := by
    intro d
    induction d with
    | zero => intro i k h1 h2 h3 h4; omega
    | succ d ih =>
      intro i k hi0 hin ek hd
      have hkb := cntI_b (fun j => decide (σ 4 j = j)) hi0
      refine v_iload_n dX0_classes_4 rfl ?_
      refine v_aload_n dX0_classes_5 rfl ?_
      refine g0_nodeCount dX0_classes_6 (σ 0 0) rfl ?_
      refine v_icmp_ge (tgt := 31) dX0_classes_9 (by decide) (fun c9 => ?_) (fun c9 => ?_)
      · refine v_iload_n dX0_classes_31 rfl ?_
        exact hret _ _ _ _ dX0_classes_32 ⟨rfl, by rw [ek]; congr 1; omega⟩
      · refine v_aload_n dX0_classes_12 rfl ?_
        refine g0_leaderOf dX0_classes_13 ?_
        refine v_iload_n dX0_classes_16 rfl ?_
        refine l0_leaderOf dX0_classes_17 (by omega) (σ 4 i) rfl ?_
        refine v_iload_n dX0_classes_18 rfl ?_
        refine v_icmp_ne (tgt := 25) dX0_classes_19 (by decide) (fun c19 => ?_) (fun c19 => ?_)
        · refine v_iinc (lv1 := [(0, rH κ), (1, .inl k), (2, .inl (i + 1))]) dX0_classes_25 rfl (fun _ => (by omega)) (noL_of rfl) (by decide) rfl ?_
          refine v_goto (tgt := 4) dX0_classes_28 (by decide) ?_
          exact ih _ _ (by omega) (by omega) (by rw [cntI_s _ hi0, ek]; simp [c19]) (by omega)
        · refine v_iinc (lv1 := [(0, rH κ), (1, .inl (k + 1)), (2, .inl i)]) dX0_classes_22 rfl (fun _ => (by omega)) (noL_of rfl) (by decide) rfl ?_
          refine v_iinc (lv1 := [(0, rH κ), (1, .inl (k + 1)), (2, .inl (i + 1))]) dX0_classes_25 rfl (fun _ => (by omega)) (noL_of rfl) (by decide) rfl ?_
          refine v_goto (tgt := 4) dX0_classes_28 (by decide) ?_
          exact ih _ _ (by omega) (by omega) (by rw [cntI_s _ hi0, ek]; simp [c19]) (by omega)
  refine v_iconst 0 dX0_classes_0 (by decide) (by decide) ?_
  refine v_istore_n (lv1 := [(0, rH κ), (1, .inl 0)]) dX0_classes_1 (noL_of rfl) (by decide) rfl ?_
  refine v_iconst 0 dX0_classes_2 (by decide) (by decide) ?_
  refine v_istore_n (lv1 := [(0, rH κ), (1, .inl 0), (2, .inl 0)]) dX0_classes_3 (noL_of rfl) (by decide) rfl ?_
  exact loop 21 0 0 (by omega) (by omega) (cntI_0 _).symm (by omega)
theorem ct1_classes (σ : Sg) (h0 : 0 ≤ σ 0 0) (hn20 : σ 0 0 ≤ 20) : Ct w1 yX1_classes cX1_classes 3 (some .int) 0 0 [] σ (fun r σ1 => σ1 = σ ∧ r = cntI (fun j => decide (σ 4 j = j)) (σ 0 0)) := by
  refine ct_int (by decide +kernel) rfl (Nat.le_of_ble_eq_true rfl) (fun κ hret => ?_)
  have loop : ∀ (d : Nat) (i k : Int), 0 ≤ i → i ≤ σ 0 0 → k = cntI (fun j => decide (σ 4 j = j)) i → (σ 0 0 - i).toNat < d → V w1 κ (rmO 0 0) cX1_classes 3 σ [(0, rH κ), (1, .inl k), (2, .inl i)] 4 [] := by
    intro d
    induction d with
    | zero => intro i k h1 h2 h3 h4; omega
    | succ d ih =>
      intro i k hi0 hin ek hd
      have hkb := cntI_b (fun j => decide (σ 4 j = j)) hi0
      refine v_iload_n dX1_classes_4 rfl ?_
      refine v_aload_n dX1_classes_5 rfl ?_
      refine g1_n dX1_classes_6 (σ 0 0) rfl ?_
      refine v_icmp_ge (tgt := 31) dX1_classes_9 (by decide) (fun c9 => ?_) (fun c9 => ?_)
      · refine v_iload_n dX1_classes_31 rfl ?_
        exact hret _ _ _ _ dX1_classes_32 ⟨rfl, by rw [ek]; congr 1; omega⟩
      · refine v_aload_n dX1_classes_12 rfl ?_
        refine g1_least dX1_classes_13 ?_
        refine v_iload_n dX1_classes_16 rfl ?_
        refine l1_least dX1_classes_17 (by omega) (σ 4 i) rfl ?_
        refine v_iload_n dX1_classes_18 rfl ?_
        refine v_icmp_ne (tgt := 25) dX1_classes_19 (by decide) (fun c19 => ?_) (fun c19 => ?_)
        · refine v_iinc (lv1 := [(0, rH κ), (1, .inl k), (2, .inl (i + 1))]) dX1_classes_25 rfl (fun _ => (by omega)) (noL_of rfl) (by decide) rfl ?_
          refine v_goto (tgt := 4) dX1_classes_28 (by decide) ?_
          exact ih _ _ (by omega) (by omega) (by rw [cntI_s _ hi0, ek]; simp [c19]) (by omega)
        · refine v_iinc (lv1 := [(0, rH κ), (1, .inl (k + 1)), (2, .inl i)]) dX1_classes_22 rfl (fun _ => (by omega)) (noL_of rfl) (by decide) rfl ?_
          refine v_iinc (lv1 := [(0, rH κ), (1, .inl (k + 1)), (2, .inl (i + 1))]) dX1_classes_25 rfl (fun _ => (by omega)) (noL_of rfl) (by decide) rfl ?_
          refine v_goto (tgt := 4) dX1_classes_28 (by decide) ?_
          exact ih _ _ (by omega) (by omega) (by rw [cntI_s _ hi0, ek]; simp [c19]) (by omega)
  refine v_iconst 0 dX1_classes_0 (by decide) (by decide) ?_
  refine v_istore_n (lv1 := [(0, rH κ), (1, .inl 0)]) dX1_classes_1 (noL_of rfl) (by decide) rfl ?_
  refine v_iconst 0 dX1_classes_2 (by decide) (by decide) ?_
  refine v_istore_n (lv1 := [(0, rH κ), (1, .inl 0), (2, .inl 0)]) dX1_classes_3 (noL_of rfl) (by decide) rfl ?_
  exact loop 21 0 0 (by omega) (by omega) (cntI_0 _).symm (by omega)
theorem ct0_clear (σ : Sg) : Ct w0 yX0_clear cX0_clear 2 (some .int) 0 0 [] σ (fun r σ1 => σ1 = up σ 0 0 0 ∧ r = σ 0 0) := by
  refine ct_int (by decide +kernel) rfl (Nat.le_of_ble_eq_true rfl) (fun κ hret => ?_)
  refine v_aload_n dX0_clear_0 rfl ?_
  refine g0_nodeCount dX0_clear_1 (σ 0 0) rfl ?_
  refine v_istore_n (lv1 := [(0, rH κ), (1, .inl (σ 0 0))]) dX0_clear_4 (noL_of rfl) (by decide) rfl ?_
  refine v_aload_n dX0_clear_5 rfl ?_
  refine v_iconst 0 dX0_clear_6 (by decide) (by decide) ?_
  refine p0_nodeCount dX0_clear_7 ?_
  refine v_iload_n dX0_clear_10 rfl ?_
  exact hret _ _ _ _ dX0_clear_11 ⟨rfl, rfl⟩
theorem ct0_wipe (σ : Sg) : Ct w0 yX0_wipe cX0_wipe 2 (some .int) 0 0 [] σ (fun r σ1 => σ1 = up (up σ 8 0 0) 10 0 0 ∧ r = σ 8 0) := by
  refine ct_int (by decide +kernel) rfl (Nat.le_of_ble_eq_true rfl) (fun κ hret => ?_)
  refine v_aload_n dX0_wipe_0 rfl ?_
  refine g0_tokenCount dX0_wipe_1 (σ 8 0) rfl ?_
  refine v_istore_n (lv1 := [(0, rH κ), (1, .inl (σ 8 0))]) dX0_wipe_4 (noL_of rfl) (by decide) rfl ?_
  refine v_aload_n dX0_wipe_5 rfl ?_
  refine v_iconst 0 dX0_wipe_6 (by decide) (by decide) ?_
  refine p0_tokenCount dX0_wipe_7 ?_
  refine v_aload_n dX0_wipe_10 rfl ?_
  refine v_iconst 0 dX0_wipe_11 (by decide) (by decide) ?_
  refine p0_compiled dX0_wipe_12 (by decide) ?_
  refine v_iload_n dX0_wipe_15 rfl ?_
  exact hret _ _ _ _ dX0_wipe_16 ⟨rfl, rfl⟩
theorem ct1_clear (σ : Sg) : Ct w1 yX1_clear cX1_clear 2 (some .int) 0 0 [] σ (fun r σ1 => σ1 = up σ 0 0 0 ∧ r = σ 0 0) := by
  refine ct_int (by decide +kernel) rfl (Nat.le_of_ble_eq_true rfl) (fun κ hret => ?_)
  refine v_aload_n dX1_clear_0 rfl ?_
  refine g1_n dX1_clear_1 (σ 0 0) rfl ?_
  refine v_istore_n (lv1 := [(0, rH κ), (1, .inl (σ 0 0))]) dX1_clear_4 (noL_of rfl) (by decide) rfl ?_
  refine v_aload_n dX1_clear_5 rfl ?_
  refine v_iconst 0 dX1_clear_6 (by decide) (by decide) ?_
  refine p1_n dX1_clear_7 ?_
  refine v_iload_n dX1_clear_10 rfl ?_
  exact hret _ _ _ _ dX1_clear_11 ⟨rfl, rfl⟩
theorem ct1_wipe (σ : Sg) : Ct w1 yX1_wipe cX1_wipe 2 (some .int) 0 0 [] σ (fun r σ1 => σ1 = up σ 5 0 0 ∧ r = σ 5 0) := by
  refine ct_int (by decide +kernel) rfl (Nat.le_of_ble_eq_true rfl) (fun κ hret => ?_)
  refine v_aload_n dX1_wipe_0 rfl ?_
  refine g1_tokens dX1_wipe_1 (σ 5 0) rfl ?_
  refine v_istore_n (lv1 := [(0, rH κ), (1, .inl (σ 5 0))]) dX1_wipe_4 (noL_of rfl) (by decide) rfl ?_
  refine v_aload_n dX1_wipe_5 rfl ?_
  refine v_iconst 0 dX1_wipe_6 (by decide) (by decide) ?_
  refine p1_tokens dX1_wipe_7 ?_
  refine v_iload_n dX1_wipe_10 rfl ?_
  exact hret _ _ _ _ dX1_wipe_11 ⟨rfl, rfl⟩
theorem ct0_token (t : Int) (σ : Sg) (h0 : 0 ≤ σ 8 0) (h7 : σ 8 0 ≤ 7) : Ct w0 yX0_token cX0_token 3 (some .int) 0 0 [t] σ (fun r σ1 => (σ 8 0 = 7 ∧ σ1 = σ ∧ r = -2) ∨ (σ 8 0 < 7 ∧ ¬ tokOk t ∧ σ1 = σ ∧ r = -1) ∨ (σ 8 0 < 7 ∧ tokOk t ∧ σ1 = up (up (up σ 9 (σ 8 0) t) 8 0 (σ 8 0 + 1)) 10 0 0 ∧ r = σ 8 0 + 1)) := by
  refine ct_int (by decide +kernel) rfl (Nat.le_of_ble_eq_true rfl) (fun κ hret => ?_)
  refine v_aload_n dX0_token_0 rfl ?_
  refine g0_tokenCount dX0_token_1 (σ 8 0) rfl ?_
  refine v_bipush 7 dX0_token_4 (by decide) (by decide) ?_
  refine v_icmp_lt (tgt := 12) dX0_token_6 (by decide) (fun c6 => ?_) (fun c6 => ?_)
  · refine v_iload_n dX0_token_12 rfl ?_
    refine v_if_lt (tgt := 21) dX0_token_13 (by decide) (fun c13 => ?_) (fun c13 => ?_)
    · refine v_iload_n dX0_token_21 rfl ?_
      refine v_bipush 10 dX0_token_22 (by decide) (by decide) ?_
      refine v_icmp_lt (tgt := 33) dX0_token_24 (by decide) (fun c24 => ?_) (fun c24 => ?_)
      · refine v_iload_n dX0_token_33 rfl ?_
        refine v_bipush 20 dX0_token_34 (by decide) (by decide) ?_
        refine v_icmp_eq (tgt := 45) dX0_token_36 (by decide) (fun c36 => ?_) (fun c36 => ?_)
        · refine v_iconst 1 dX0_token_45 (by decide) (by decide) ?_
          refine v_goto (tgt := 50) dX0_token_46 (by decide) ?_
          refine v_istore_n (lv1 := [(0, rH κ), (1, .inl t), (2, .inl 1)]) dX0_token_50 (noL_of rfl) (by decide) rfl ?_
          refine v_iload_n dX0_token_51 rfl ?_
          refine v_if_ne (tgt := 57) dX0_token_52 (by decide) (fun c52 => ?_) (fun c52 => ?_)
          · refine v_aload_n dX0_token_57 rfl ?_
            refine g0_tokens dX0_token_58 ?_
            refine v_aload_n dX0_token_61 rfl ?_
            refine g0_tokenCount dX0_token_62 (σ 8 0) rfl ?_
            refine v_iload_n dX0_token_65 rfl ?_
            refine v_i2b dX0_token_66 (by omega) ?_
            refine s0_tokens dX0_token_67 (by omega) (by omega) ?_
            refine v_aload_n dX0_token_68 rfl ?_
            refine v_dup dX0_token_69 rfl ?_
            refine g0_tokenCount dX0_token_70 (σ 8 0) rfl ?_
            refine v_iconst 1 dX0_token_73 (by decide) (by decide) ?_
            refine v_iadd dX0_token_74 (fun _ _ => (by omega)) ?_
            refine p0_tokenCount dX0_token_75 ?_
            refine v_aload_n dX0_token_78 rfl ?_
            refine v_iconst 0 dX0_token_79 (by decide) (by decide) ?_
            refine p0_compiled dX0_token_80 (by decide) ?_
            refine v_aload_n dX0_token_83 rfl ?_
            refine g0_tokenCount dX0_token_84 ((σ 8 0) + 1) rfl ?_
            exact hret _ _ _ _ dX0_token_87 (Or.inr (Or.inr ⟨by omega, by unfold tokOk; omega, rfl, rfl⟩))
          · omega
        · refine v_iload_n dX0_token_39 rfl ?_
          refine v_bipush 21 dX0_token_40 (by decide) (by decide) ?_
          refine v_icmp_ne (tgt := 49) dX0_token_42 (by decide) (fun c42 => ?_) (fun c42 => ?_)
          · refine v_iconst 0 dX0_token_49 (by decide) (by decide) ?_
            refine v_istore_n (lv1 := [(0, rH κ), (1, .inl t), (2, .inl 0)]) dX0_token_50 (noL_of rfl) (by decide) rfl ?_
            refine v_iload_n dX0_token_51 rfl ?_
            refine v_if_ne (tgt := 57) dX0_token_52 (by decide) (fun c52 => ?_) (fun c52 => ?_)
            · omega
            · refine v_iconst (-1) dX0_token_55 (by decide) (by decide) ?_
              exact hret _ _ _ _ dX0_token_56 (Or.inr (Or.inl ⟨by omega, by unfold tokOk; omega, rfl, rfl⟩))
          · refine v_iconst 1 dX0_token_45 (by decide) (by decide) ?_
            refine v_goto (tgt := 50) dX0_token_46 (by decide) ?_
            refine v_istore_n (lv1 := [(0, rH κ), (1, .inl t), (2, .inl 1)]) dX0_token_50 (noL_of rfl) (by decide) rfl ?_
            refine v_iload_n dX0_token_51 rfl ?_
            refine v_if_ne (tgt := 57) dX0_token_52 (by decide) (fun c52 => ?_) (fun c52 => ?_)
            · refine v_aload_n dX0_token_57 rfl ?_
              refine g0_tokens dX0_token_58 ?_
              refine v_aload_n dX0_token_61 rfl ?_
              refine g0_tokenCount dX0_token_62 (σ 8 0) rfl ?_
              refine v_iload_n dX0_token_65 rfl ?_
              refine v_i2b dX0_token_66 (by omega) ?_
              refine s0_tokens dX0_token_67 (by omega) (by omega) ?_
              refine v_aload_n dX0_token_68 rfl ?_
              refine v_dup dX0_token_69 rfl ?_
              refine g0_tokenCount dX0_token_70 (σ 8 0) rfl ?_
              refine v_iconst 1 dX0_token_73 (by decide) (by decide) ?_
              refine v_iadd dX0_token_74 (fun _ _ => (by omega)) ?_
              refine p0_tokenCount dX0_token_75 ?_
              refine v_aload_n dX0_token_78 rfl ?_
              refine v_iconst 0 dX0_token_79 (by decide) (by decide) ?_
              refine p0_compiled dX0_token_80 (by decide) ?_
              refine v_aload_n dX0_token_83 rfl ?_
              refine g0_tokenCount dX0_token_84 ((σ 8 0) + 1) rfl ?_
              exact hret _ _ _ _ dX0_token_87 (Or.inr (Or.inr ⟨by omega, by unfold tokOk; omega, rfl, rfl⟩))
            · omega
      · refine v_iload_n dX0_token_27 rfl ?_
        refine v_bipush 15 dX0_token_28 (by decide) (by decide) ?_
        refine v_icmp_le (tgt := 45) dX0_token_30 (by decide) (fun c30 => ?_) (fun c30 => ?_)
        · refine v_iconst 1 dX0_token_45 (by decide) (by decide) ?_
          refine v_goto (tgt := 50) dX0_token_46 (by decide) ?_
          refine v_istore_n (lv1 := [(0, rH κ), (1, .inl t), (2, .inl 1)]) dX0_token_50 (noL_of rfl) (by decide) rfl ?_
          refine v_iload_n dX0_token_51 rfl ?_
          refine v_if_ne (tgt := 57) dX0_token_52 (by decide) (fun c52 => ?_) (fun c52 => ?_)
          · refine v_aload_n dX0_token_57 rfl ?_
            refine g0_tokens dX0_token_58 ?_
            refine v_aload_n dX0_token_61 rfl ?_
            refine g0_tokenCount dX0_token_62 (σ 8 0) rfl ?_
            refine v_iload_n dX0_token_65 rfl ?_
            refine v_i2b dX0_token_66 (by omega) ?_
            refine s0_tokens dX0_token_67 (by omega) (by omega) ?_
            refine v_aload_n dX0_token_68 rfl ?_
            refine v_dup dX0_token_69 rfl ?_
            refine g0_tokenCount dX0_token_70 (σ 8 0) rfl ?_
            refine v_iconst 1 dX0_token_73 (by decide) (by decide) ?_
            refine v_iadd dX0_token_74 (fun _ _ => (by omega)) ?_
            refine p0_tokenCount dX0_token_75 ?_
            refine v_aload_n dX0_token_78 rfl ?_
            refine v_iconst 0 dX0_token_79 (by decide) (by decide) ?_
            refine p0_compiled dX0_token_80 (by decide) ?_
            refine v_aload_n dX0_token_83 rfl ?_
            refine g0_tokenCount dX0_token_84 ((σ 8 0) + 1) rfl ?_
            exact hret _ _ _ _ dX0_token_87 (Or.inr (Or.inr ⟨by omega, by unfold tokOk; omega, rfl, rfl⟩))
          · omega
        · refine v_iload_n dX0_token_33 rfl ?_
          refine v_bipush 20 dX0_token_34 (by decide) (by decide) ?_
          refine v_icmp_eq (tgt := 45) dX0_token_36 (by decide) (fun c36 => ?_) (fun c36 => ?_)
          · refine v_iconst 1 dX0_token_45 (by decide) (by decide) ?_
            refine v_goto (tgt := 50) dX0_token_46 (by decide) ?_
            refine v_istore_n (lv1 := [(0, rH κ), (1, .inl t), (2, .inl 1)]) dX0_token_50 (noL_of rfl) (by decide) rfl ?_
            refine v_iload_n dX0_token_51 rfl ?_
            refine v_if_ne (tgt := 57) dX0_token_52 (by decide) (fun c52 => ?_) (fun c52 => ?_)
            · refine v_aload_n dX0_token_57 rfl ?_
              refine g0_tokens dX0_token_58 ?_
              refine v_aload_n dX0_token_61 rfl ?_
              refine g0_tokenCount dX0_token_62 (σ 8 0) rfl ?_
              refine v_iload_n dX0_token_65 rfl ?_
              refine v_i2b dX0_token_66 (by omega) ?_
              refine s0_tokens dX0_token_67 (by omega) (by omega) ?_
              refine v_aload_n dX0_token_68 rfl ?_
              refine v_dup dX0_token_69 rfl ?_
              refine g0_tokenCount dX0_token_70 (σ 8 0) rfl ?_
              refine v_iconst 1 dX0_token_73 (by decide) (by decide) ?_
              refine v_iadd dX0_token_74 (fun _ _ => (by omega)) ?_
              refine p0_tokenCount dX0_token_75 ?_
              refine v_aload_n dX0_token_78 rfl ?_
              refine v_iconst 0 dX0_token_79 (by decide) (by decide) ?_
              refine p0_compiled dX0_token_80 (by decide) ?_
              refine v_aload_n dX0_token_83 rfl ?_
              refine g0_tokenCount dX0_token_84 ((σ 8 0) + 1) rfl ?_
              exact hret _ _ _ _ dX0_token_87 (Or.inr (Or.inr ⟨by omega, by unfold tokOk; omega, rfl, rfl⟩))
            · omega
          · refine v_iload_n dX0_token_39 rfl ?_
            refine v_bipush 21 dX0_token_40 (by decide) (by decide) ?_
            refine v_icmp_ne (tgt := 49) dX0_token_42 (by decide) (fun c42 => ?_) (fun c42 => ?_)
            · refine v_iconst 0 dX0_token_49 (by decide) (by decide) ?_
              refine v_istore_n (lv1 := [(0, rH κ), (1, .inl t), (2, .inl 0)]) dX0_token_50 (noL_of rfl) (by decide) rfl ?_
              refine v_iload_n dX0_token_51 rfl ?_
              refine v_if_ne (tgt := 57) dX0_token_52 (by decide) (fun c52 => ?_) (fun c52 => ?_)
              · omega
              · refine v_iconst (-1) dX0_token_55 (by decide) (by decide) ?_
                exact hret _ _ _ _ dX0_token_56 (Or.inr (Or.inl ⟨by omega, by unfold tokOk; omega, rfl, rfl⟩))
            · refine v_iconst 1 dX0_token_45 (by decide) (by decide) ?_
              refine v_goto (tgt := 50) dX0_token_46 (by decide) ?_
              refine v_istore_n (lv1 := [(0, rH κ), (1, .inl t), (2, .inl 1)]) dX0_token_50 (noL_of rfl) (by decide) rfl ?_
              refine v_iload_n dX0_token_51 rfl ?_
              refine v_if_ne (tgt := 57) dX0_token_52 (by decide) (fun c52 => ?_) (fun c52 => ?_)
              · refine v_aload_n dX0_token_57 rfl ?_
                refine g0_tokens dX0_token_58 ?_
                refine v_aload_n dX0_token_61 rfl ?_
                refine g0_tokenCount dX0_token_62 (σ 8 0) rfl ?_
                refine v_iload_n dX0_token_65 rfl ?_
                refine v_i2b dX0_token_66 (by omega) ?_
                refine s0_tokens dX0_token_67 (by omega) (by omega) ?_
                refine v_aload_n dX0_token_68 rfl ?_
                refine v_dup dX0_token_69 rfl ?_
                refine g0_tokenCount dX0_token_70 (σ 8 0) rfl ?_
                refine v_iconst 1 dX0_token_73 (by decide) (by decide) ?_
                refine v_iadd dX0_token_74 (fun _ _ => (by omega)) ?_
                refine p0_tokenCount dX0_token_75 ?_
                refine v_aload_n dX0_token_78 rfl ?_
                refine v_iconst 0 dX0_token_79 (by decide) (by decide) ?_
                refine p0_compiled dX0_token_80 (by decide) ?_
                refine v_aload_n dX0_token_83 rfl ?_
                refine g0_tokenCount dX0_token_84 ((σ 8 0) + 1) rfl ?_
                exact hret _ _ _ _ dX0_token_87 (Or.inr (Or.inr ⟨by omega, by unfold tokOk; omega, rfl, rfl⟩))
              · omega
    · refine v_iload_n dX0_token_16 rfl ?_
      refine v_iconst 2 dX0_token_17 (by decide) (by decide) ?_
      refine v_icmp_le (tgt := 45) dX0_token_18 (by decide) (fun c18 => ?_) (fun c18 => ?_)
      · refine v_iconst 1 dX0_token_45 (by decide) (by decide) ?_
        refine v_goto (tgt := 50) dX0_token_46 (by decide) ?_
        refine v_istore_n (lv1 := [(0, rH κ), (1, .inl t), (2, .inl 1)]) dX0_token_50 (noL_of rfl) (by decide) rfl ?_
        refine v_iload_n dX0_token_51 rfl ?_
        refine v_if_ne (tgt := 57) dX0_token_52 (by decide) (fun c52 => ?_) (fun c52 => ?_)
        · refine v_aload_n dX0_token_57 rfl ?_
          refine g0_tokens dX0_token_58 ?_
          refine v_aload_n dX0_token_61 rfl ?_
          refine g0_tokenCount dX0_token_62 (σ 8 0) rfl ?_
          refine v_iload_n dX0_token_65 rfl ?_
          refine v_i2b dX0_token_66 (by omega) ?_
          refine s0_tokens dX0_token_67 (by omega) (by omega) ?_
          refine v_aload_n dX0_token_68 rfl ?_
          refine v_dup dX0_token_69 rfl ?_
          refine g0_tokenCount dX0_token_70 (σ 8 0) rfl ?_
          refine v_iconst 1 dX0_token_73 (by decide) (by decide) ?_
          refine v_iadd dX0_token_74 (fun _ _ => (by omega)) ?_
          refine p0_tokenCount dX0_token_75 ?_
          refine v_aload_n dX0_token_78 rfl ?_
          refine v_iconst 0 dX0_token_79 (by decide) (by decide) ?_
          refine p0_compiled dX0_token_80 (by decide) ?_
          refine v_aload_n dX0_token_83 rfl ?_
          refine g0_tokenCount dX0_token_84 ((σ 8 0) + 1) rfl ?_
          exact hret _ _ _ _ dX0_token_87 (Or.inr (Or.inr ⟨by omega, by unfold tokOk; omega, rfl, rfl⟩))
        · omega
      · refine v_iload_n dX0_token_21 rfl ?_
        refine v_bipush 10 dX0_token_22 (by decide) (by decide) ?_
        refine v_icmp_lt (tgt := 33) dX0_token_24 (by decide) (fun c24 => ?_) (fun c24 => ?_)
        · refine v_iload_n dX0_token_33 rfl ?_
          refine v_bipush 20 dX0_token_34 (by decide) (by decide) ?_
          refine v_icmp_eq (tgt := 45) dX0_token_36 (by decide) (fun c36 => ?_) (fun c36 => ?_)
          · refine v_iconst 1 dX0_token_45 (by decide) (by decide) ?_
            refine v_goto (tgt := 50) dX0_token_46 (by decide) ?_
            refine v_istore_n (lv1 := [(0, rH κ), (1, .inl t), (2, .inl 1)]) dX0_token_50 (noL_of rfl) (by decide) rfl ?_
            refine v_iload_n dX0_token_51 rfl ?_
            refine v_if_ne (tgt := 57) dX0_token_52 (by decide) (fun c52 => ?_) (fun c52 => ?_)
            · refine v_aload_n dX0_token_57 rfl ?_
              refine g0_tokens dX0_token_58 ?_
              refine v_aload_n dX0_token_61 rfl ?_
              refine g0_tokenCount dX0_token_62 (σ 8 0) rfl ?_
              refine v_iload_n dX0_token_65 rfl ?_
              refine v_i2b dX0_token_66 (by omega) ?_
              refine s0_tokens dX0_token_67 (by omega) (by omega) ?_
              refine v_aload_n dX0_token_68 rfl ?_
              refine v_dup dX0_token_69 rfl ?_
              refine g0_tokenCount dX0_token_70 (σ 8 0) rfl ?_
              refine v_iconst 1 dX0_token_73 (by decide) (by decide) ?_
              refine v_iadd dX0_token_74 (fun _ _ => (by omega)) ?_
              refine p0_tokenCount dX0_token_75 ?_
              refine v_aload_n dX0_token_78 rfl ?_
              refine v_iconst 0 dX0_token_79 (by decide) (by decide) ?_
              refine p0_compiled dX0_token_80 (by decide) ?_
              refine v_aload_n dX0_token_83 rfl ?_
              refine g0_tokenCount dX0_token_84 ((σ 8 0) + 1) rfl ?_
              exact hret _ _ _ _ dX0_token_87 (Or.inr (Or.inr ⟨by omega, by unfold tokOk; omega, rfl, rfl⟩))
            · omega
          · refine v_iload_n dX0_token_39 rfl ?_
            refine v_bipush 21 dX0_token_40 (by decide) (by decide) ?_
            refine v_icmp_ne (tgt := 49) dX0_token_42 (by decide) (fun c42 => ?_) (fun c42 => ?_)
            · refine v_iconst 0 dX0_token_49 (by decide) (by decide) ?_
              refine v_istore_n (lv1 := [(0, rH κ), (1, .inl t), (2, .inl 0)]) dX0_token_50 (noL_of rfl) (by decide) rfl ?_
              refine v_iload_n dX0_token_51 rfl ?_
              refine v_if_ne (tgt := 57) dX0_token_52 (by decide) (fun c52 => ?_) (fun c52 => ?_)
              · omega
              · refine v_iconst (-1) dX0_token_55 (by decide) (by decide) ?_
                exact hret _ _ _ _ dX0_token_56 (Or.inr (Or.inl ⟨by omega, by unfold tokOk; omega, rfl, rfl⟩))
            · refine v_iconst 1 dX0_token_45 (by decide) (by decide) ?_
              refine v_goto (tgt := 50) dX0_token_46 (by decide) ?_
              refine v_istore_n (lv1 := [(0, rH κ), (1, .inl t), (2, .inl 1)]) dX0_token_50 (noL_of rfl) (by decide) rfl ?_
              refine v_iload_n dX0_token_51 rfl ?_
              refine v_if_ne (tgt := 57) dX0_token_52 (by decide) (fun c52 => ?_) (fun c52 => ?_)
              · refine v_aload_n dX0_token_57 rfl ?_
                refine g0_tokens dX0_token_58 ?_
                refine v_aload_n dX0_token_61 rfl ?_
                refine g0_tokenCount dX0_token_62 (σ 8 0) rfl ?_
                refine v_iload_n dX0_token_65 rfl ?_
                refine v_i2b dX0_token_66 (by omega) ?_
                refine s0_tokens dX0_token_67 (by omega) (by omega) ?_
                refine v_aload_n dX0_token_68 rfl ?_
                refine v_dup dX0_token_69 rfl ?_
                refine g0_tokenCount dX0_token_70 (σ 8 0) rfl ?_
                refine v_iconst 1 dX0_token_73 (by decide) (by decide) ?_
                refine v_iadd dX0_token_74 (fun _ _ => (by omega)) ?_
                refine p0_tokenCount dX0_token_75 ?_
                refine v_aload_n dX0_token_78 rfl ?_
                refine v_iconst 0 dX0_token_79 (by decide) (by decide) ?_
                refine p0_compiled dX0_token_80 (by decide) ?_
                refine v_aload_n dX0_token_83 rfl ?_
                refine g0_tokenCount dX0_token_84 ((σ 8 0) + 1) rfl ?_
                exact hret _ _ _ _ dX0_token_87 (Or.inr (Or.inr ⟨by omega, by unfold tokOk; omega, rfl, rfl⟩))
              · omega
        · refine v_iload_n dX0_token_27 rfl ?_
          refine v_bipush 15 dX0_token_28 (by decide) (by decide) ?_
          refine v_icmp_le (tgt := 45) dX0_token_30 (by decide) (fun c30 => ?_) (fun c30 => ?_)
          · refine v_iconst 1 dX0_token_45 (by decide) (by decide) ?_
            refine v_goto (tgt := 50) dX0_token_46 (by decide) ?_
            refine v_istore_n (lv1 := [(0, rH κ), (1, .inl t), (2, .inl 1)]) dX0_token_50 (noL_of rfl) (by decide) rfl ?_
            refine v_iload_n dX0_token_51 rfl ?_
            refine v_if_ne (tgt := 57) dX0_token_52 (by decide) (fun c52 => ?_) (fun c52 => ?_)
            · refine v_aload_n dX0_token_57 rfl ?_
              refine g0_tokens dX0_token_58 ?_
              refine v_aload_n dX0_token_61 rfl ?_
              refine g0_tokenCount dX0_token_62 (σ 8 0) rfl ?_
              refine v_iload_n dX0_token_65 rfl ?_
              refine v_i2b dX0_token_66 (by omega) ?_
              refine s0_tokens dX0_token_67 (by omega) (by omega) ?_
              refine v_aload_n dX0_token_68 rfl ?_
              refine v_dup dX0_token_69 rfl ?_
              refine g0_tokenCount dX0_token_70 (σ 8 0) rfl ?_
              refine v_iconst 1 dX0_token_73 (by decide) (by decide) ?_
              refine v_iadd dX0_token_74 (fun _ _ => (by omega)) ?_
              refine p0_tokenCount dX0_token_75 ?_
              refine v_aload_n dX0_token_78 rfl ?_
              refine v_iconst 0 dX0_token_79 (by decide) (by decide) ?_
              refine p0_compiled dX0_token_80 (by decide) ?_
              refine v_aload_n dX0_token_83 rfl ?_
              refine g0_tokenCount dX0_token_84 ((σ 8 0) + 1) rfl ?_
              exact hret _ _ _ _ dX0_token_87 (Or.inr (Or.inr ⟨by omega, by unfold tokOk; omega, rfl, rfl⟩))
            · omega
          · refine v_iload_n dX0_token_33 rfl ?_
            refine v_bipush 20 dX0_token_34 (by decide) (by decide) ?_
            refine v_icmp_eq (tgt := 45) dX0_token_36 (by decide) (fun c36 => ?_) (fun c36 => ?_)
            · refine v_iconst 1 dX0_token_45 (by decide) (by decide) ?_
              refine v_goto (tgt := 50) dX0_token_46 (by decide) ?_
              refine v_istore_n (lv1 := [(0, rH κ), (1, .inl t), (2, .inl 1)]) dX0_token_50 (noL_of rfl) (by decide) rfl ?_
              refine v_iload_n dX0_token_51 rfl ?_
              refine v_if_ne (tgt := 57) dX0_token_52 (by decide) (fun c52 => ?_) (fun c52 => ?_)
              · refine v_aload_n dX0_token_57 rfl ?_
                refine g0_tokens dX0_token_58 ?_
                refine v_aload_n dX0_token_61 rfl ?_
                refine g0_tokenCount dX0_token_62 (σ 8 0) rfl ?_
                refine v_iload_n dX0_token_65 rfl ?_
                refine v_i2b dX0_token_66 (by omega) ?_
                refine s0_tokens dX0_token_67 (by omega) (by omega) ?_
                refine v_aload_n dX0_token_68 rfl ?_
                refine v_dup dX0_token_69 rfl ?_
                refine g0_tokenCount dX0_token_70 (σ 8 0) rfl ?_
                refine v_iconst 1 dX0_token_73 (by decide) (by decide) ?_
                refine v_iadd dX0_token_74 (fun _ _ => (by omega)) ?_
                refine p0_tokenCount dX0_token_75 ?_
                refine v_aload_n dX0_token_78 rfl ?_
                refine v_iconst 0 dX0_token_79 (by decide) (by decide) ?_
                refine p0_compiled dX0_token_80 (by decide) ?_
                refine v_aload_n dX0_token_83 rfl ?_
                refine g0_tokenCount dX0_token_84 ((σ 8 0) + 1) rfl ?_
                exact hret _ _ _ _ dX0_token_87 (Or.inr (Or.inr ⟨by omega, by unfold tokOk; omega, rfl, rfl⟩))
              · omega
            · refine v_iload_n dX0_token_39 rfl ?_
              refine v_bipush 21 dX0_token_40 (by decide) (by decide) ?_
              refine v_icmp_ne (tgt := 49) dX0_token_42 (by decide) (fun c42 => ?_) (fun c42 => ?_)
              · refine v_iconst 0 dX0_token_49 (by decide) (by decide) ?_
                refine v_istore_n (lv1 := [(0, rH κ), (1, .inl t), (2, .inl 0)]) dX0_token_50 (noL_of rfl) (by decide) rfl ?_
                refine v_iload_n dX0_token_51 rfl ?_
                refine v_if_ne (tgt := 57) dX0_token_52 (by decide) (fun c52 => ?_) (fun c52 => ?_)
                · omega
                · refine v_iconst (-1) dX0_token_55 (by decide) (by decide) ?_
                  exact hret _ _ _ _ dX0_token_56 (Or.inr (Or.inl ⟨by omega, by unfold tokOk; omega, rfl, rfl⟩))
              · refine v_iconst 1 dX0_token_45 (by decide) (by decide) ?_
                refine v_goto (tgt := 50) dX0_token_46 (by decide) ?_
                refine v_istore_n (lv1 := [(0, rH κ), (1, .inl t), (2, .inl 1)]) dX0_token_50 (noL_of rfl) (by decide) rfl ?_
                refine v_iload_n dX0_token_51 rfl ?_
                refine v_if_ne (tgt := 57) dX0_token_52 (by decide) (fun c52 => ?_) (fun c52 => ?_)
                · refine v_aload_n dX0_token_57 rfl ?_
                  refine g0_tokens dX0_token_58 ?_
                  refine v_aload_n dX0_token_61 rfl ?_
                  refine g0_tokenCount dX0_token_62 (σ 8 0) rfl ?_
                  refine v_iload_n dX0_token_65 rfl ?_
                  refine v_i2b dX0_token_66 (by omega) ?_
                  refine s0_tokens dX0_token_67 (by omega) (by omega) ?_
                  refine v_aload_n dX0_token_68 rfl ?_
                  refine v_dup dX0_token_69 rfl ?_
                  refine g0_tokenCount dX0_token_70 (σ 8 0) rfl ?_
                  refine v_iconst 1 dX0_token_73 (by decide) (by decide) ?_
                  refine v_iadd dX0_token_74 (fun _ _ => (by omega)) ?_
                  refine p0_tokenCount dX0_token_75 ?_
                  refine v_aload_n dX0_token_78 rfl ?_
                  refine v_iconst 0 dX0_token_79 (by decide) (by decide) ?_
                  refine p0_compiled dX0_token_80 (by decide) ?_
                  refine v_aload_n dX0_token_83 rfl ?_
                  refine g0_tokenCount dX0_token_84 ((σ 8 0) + 1) rfl ?_
                  exact hret _ _ _ _ dX0_token_87 (Or.inr (Or.inr ⟨by omega, by unfold tokOk; omega, rfl, rfl⟩))
                · omega
  · refine v_bipush (-2) dX0_token_9 (by decide) (by decide) ?_
    exact hret _ _ _ _ dX0_token_11 (Or.inl ⟨by omega, rfl, rfl⟩)
theorem ct1_token (t : Int) (σ : Sg) (h0 : 0 ≤ σ 5 0) (h7 : σ 5 0 ≤ 7) : Ct w1 yX1_token cX1_token 2 (some .int) 0 0 [t] σ (fun r σ1 => (σ 5 0 = 7 ∧ σ1 = σ ∧ r = -2) ∨ (σ 5 0 < 7 ∧ ¬ tokOk t ∧ σ1 = σ ∧ r = -1) ∨ (σ 5 0 < 7 ∧ tokOk t ∧ σ1 = up (up σ 6 (σ 5 0) t) 5 0 (σ 5 0 + 1) ∧ r = σ 5 0 + 1)) := by
  refine ct_int (by decide +kernel) rfl (Nat.le_of_ble_eq_true rfl) (fun κ hret => ?_)
  refine v_aload_n dX1_token_0 rfl ?_
  refine g1_tokens dX1_token_1 (σ 5 0) rfl ?_
  refine v_bipush 7 dX1_token_4 (by decide) (by decide) ?_
  refine v_icmp_ne (tgt := 12) dX1_token_6 (by decide) (fun c6 => ?_) (fun c6 => ?_)
  · refine v_iload_n dX1_token_12 rfl ?_
    refine v_if_lt (tgt := 45) dX1_token_13 (by decide) (fun c13 => ?_) (fun c13 => ?_)
    · refine v_iconst (-1) dX1_token_45 (by decide) (by decide) ?_
      exact hret _ _ _ _ dX1_token_46 (Or.inr (Or.inl ⟨by omega, by unfold tokOk; omega, rfl, rfl⟩))
    · refine v_iload_n dX1_token_16 rfl ?_
      refine v_bipush 21 dX1_token_17 (by decide) (by decide) ?_
      refine v_icmp_gt (tgt := 45) dX1_token_19 (by decide) (fun c19 => ?_) (fun c19 => ?_)
      · refine v_iconst (-1) dX1_token_45 (by decide) (by decide) ?_
        exact hret _ _ _ _ dX1_token_46 (Or.inr (Or.inl ⟨by omega, by unfold tokOk; omega, rfl, rfl⟩))
      · refine v_iload_n dX1_token_22 rfl ?_
        refine v_iconst 2 dX1_token_23 (by decide) (by decide) ?_
        refine v_icmp_le (tgt := 33) dX1_token_24 (by decide) (fun c24 => ?_) (fun c24 => ?_)
        · refine v_iload_n dX1_token_33 rfl ?_
          refine v_bipush 15 dX1_token_34 (by decide) (by decide) ?_
          refine v_icmp_le (tgt := 47) dX1_token_36 (by decide) (fun c36 => ?_) (fun c36 => ?_)
          · refine v_aload_n dX1_token_47 rfl ?_
            refine g1_pattern dX1_token_48 ?_
            refine v_aload_n dX1_token_51 rfl ?_
            refine g1_tokens dX1_token_52 (σ 5 0) rfl ?_
            refine v_iload_n dX1_token_55 rfl ?_
            refine s1_pattern dX1_token_56 (by omega) ?_
            refine v_aload_n dX1_token_57 rfl ?_
            refine v_dup dX1_token_58 rfl ?_
            refine g1_tokens dX1_token_59 (σ 5 0) rfl ?_
            refine v_iconst 1 dX1_token_62 (by decide) (by decide) ?_
            refine v_iadd dX1_token_63 (fun _ _ => (by omega)) ?_
            refine p1_tokens dX1_token_64 ?_
            refine v_aload_n dX1_token_67 rfl ?_
            refine g1_tokens dX1_token_68 ((σ 5 0) + 1) rfl ?_
            exact hret _ _ _ _ dX1_token_71 (Or.inr (Or.inr ⟨by omega, by unfold tokOk; omega, rfl, rfl⟩))
          · refine v_iload_n dX1_token_39 rfl ?_
            refine v_bipush 20 dX1_token_40 (by decide) (by decide) ?_
            refine v_icmp_ge (tgt := 47) dX1_token_42 (by decide) (fun c42 => ?_) (fun c42 => ?_)
            · refine v_aload_n dX1_token_47 rfl ?_
              refine g1_pattern dX1_token_48 ?_
              refine v_aload_n dX1_token_51 rfl ?_
              refine g1_tokens dX1_token_52 (σ 5 0) rfl ?_
              refine v_iload_n dX1_token_55 rfl ?_
              refine s1_pattern dX1_token_56 (by omega) ?_
              refine v_aload_n dX1_token_57 rfl ?_
              refine v_dup dX1_token_58 rfl ?_
              refine g1_tokens dX1_token_59 (σ 5 0) rfl ?_
              refine v_iconst 1 dX1_token_62 (by decide) (by decide) ?_
              refine v_iadd dX1_token_63 (fun _ _ => (by omega)) ?_
              refine p1_tokens dX1_token_64 ?_
              refine v_aload_n dX1_token_67 rfl ?_
              refine g1_tokens dX1_token_68 ((σ 5 0) + 1) rfl ?_
              exact hret _ _ _ _ dX1_token_71 (Or.inr (Or.inr ⟨by omega, by unfold tokOk; omega, rfl, rfl⟩))
            · refine v_iconst (-1) dX1_token_45 (by decide) (by decide) ?_
              exact hret _ _ _ _ dX1_token_46 (Or.inr (Or.inl ⟨by omega, by unfold tokOk; omega, rfl, rfl⟩))
        · refine v_iload_n dX1_token_27 rfl ?_
          refine v_bipush 10 dX1_token_28 (by decide) (by decide) ?_
          refine v_icmp_lt (tgt := 45) dX1_token_30 (by decide) (fun c30 => ?_) (fun c30 => ?_)
          · refine v_iconst (-1) dX1_token_45 (by decide) (by decide) ?_
            exact hret _ _ _ _ dX1_token_46 (Or.inr (Or.inl ⟨by omega, by unfold tokOk; omega, rfl, rfl⟩))
          · refine v_iload_n dX1_token_33 rfl ?_
            refine v_bipush 15 dX1_token_34 (by decide) (by decide) ?_
            refine v_icmp_le (tgt := 47) dX1_token_36 (by decide) (fun c36 => ?_) (fun c36 => ?_)
            · refine v_aload_n dX1_token_47 rfl ?_
              refine g1_pattern dX1_token_48 ?_
              refine v_aload_n dX1_token_51 rfl ?_
              refine g1_tokens dX1_token_52 (σ 5 0) rfl ?_
              refine v_iload_n dX1_token_55 rfl ?_
              refine s1_pattern dX1_token_56 (by omega) ?_
              refine v_aload_n dX1_token_57 rfl ?_
              refine v_dup dX1_token_58 rfl ?_
              refine g1_tokens dX1_token_59 (σ 5 0) rfl ?_
              refine v_iconst 1 dX1_token_62 (by decide) (by decide) ?_
              refine v_iadd dX1_token_63 (fun _ _ => (by omega)) ?_
              refine p1_tokens dX1_token_64 ?_
              refine v_aload_n dX1_token_67 rfl ?_
              refine g1_tokens dX1_token_68 ((σ 5 0) + 1) rfl ?_
              exact hret _ _ _ _ dX1_token_71 (Or.inr (Or.inr ⟨by omega, by unfold tokOk; omega, rfl, rfl⟩))
            · refine v_iload_n dX1_token_39 rfl ?_
              refine v_bipush 20 dX1_token_40 (by decide) (by decide) ?_
              refine v_icmp_ge (tgt := 47) dX1_token_42 (by decide) (fun c42 => ?_) (fun c42 => ?_)
              · refine v_aload_n dX1_token_47 rfl ?_
                refine g1_pattern dX1_token_48 ?_
                refine v_aload_n dX1_token_51 rfl ?_
                refine g1_tokens dX1_token_52 (σ 5 0) rfl ?_
                refine v_iload_n dX1_token_55 rfl ?_
                refine s1_pattern dX1_token_56 (by omega) ?_
                refine v_aload_n dX1_token_57 rfl ?_
                refine v_dup dX1_token_58 rfl ?_
                refine g1_tokens dX1_token_59 (σ 5 0) rfl ?_
                refine v_iconst 1 dX1_token_62 (by decide) (by decide) ?_
                refine v_iadd dX1_token_63 (fun _ _ => (by omega)) ?_
                refine p1_tokens dX1_token_64 ?_
                refine v_aload_n dX1_token_67 rfl ?_
                refine g1_tokens dX1_token_68 ((σ 5 0) + 1) rfl ?_
                exact hret _ _ _ _ dX1_token_71 (Or.inr (Or.inr ⟨by omega, by unfold tokOk; omega, rfl, rfl⟩))
              · refine v_iconst (-1) dX1_token_45 (by decide) (by decide) ?_
                exact hret _ _ _ _ dX1_token_46 (Or.inr (Or.inl ⟨by omega, by unfold tokOk; omega, rfl, rfl⟩))
  · refine v_bipush (-2) dX1_token_9 (by decide) (by decide) ?_
    exact hret _ _ _ _ dX1_token_11 (Or.inl ⟨by omega, rfl, rfl⟩)
theorem ct0_push (a b : Int) (σ : Sg) (h0 : 0 ≤ σ 5 0) (h1 : σ 5 0 < 190) (ha : 0 ≤ a ∧ a < 20) (hb : 0 ≤ b ∧ b < 20) : CtV w0 yX0_push cX0_push 3 0 0 [a, b] σ (fun σ1 => σ1 = up (up (up σ 6 (σ 5 0) a) 7 (σ 5 0) b) 5 0 (σ 5 0 + 1)) := by
  refine ct_void (by decide +kernel) rfl (Nat.le_of_ble_eq_true rfl) (fun κ hret => ?_)
  refine v_aload_n dX0_push_0 rfl ?_
  refine g0_pendingA dX0_push_1 ?_
  refine v_aload_n dX0_push_4 rfl ?_
  refine g0_pendingCount dX0_push_5 (σ 5 0) rfl ?_
  refine v_iload_n dX0_push_8 rfl ?_
  refine v_i2b dX0_push_9 (by omega) ?_
  refine s0_pendingA dX0_push_10 (by omega) (by omega) ?_
  refine v_aload_n dX0_push_11 rfl ?_
  refine g0_pendingB dX0_push_12 ?_
  refine v_aload_n dX0_push_15 rfl ?_
  refine g0_pendingCount dX0_push_16 (σ 5 0) rfl ?_
  refine v_iload_n dX0_push_19 rfl ?_
  refine v_i2b dX0_push_20 (by omega) ?_
  refine s0_pendingB dX0_push_21 (by omega) (by omega) ?_
  refine v_aload_n dX0_push_22 rfl ?_
  refine v_dup dX0_push_23 rfl ?_
  refine g0_pendingCount dX0_push_24 (σ 5 0) rfl ?_
  refine v_iconst 1 dX0_push_27 (by decide) (by decide) ?_
  refine v_iadd dX0_push_28 (fun _ _ => (by omega)) ?_
  refine p0_pendingCount dX0_push_29 ?_
  exact hret _ _ _ dX0_push_32 rfl
theorem ct0_write (a b d : Int) (σ : Sg) (h0 : 0 ≤ σ 13 0) (h1 : σ 13 0 < 10) (ha : 0 ≤ a ∧ a < 100) (hb : 0 ≤ b ∧ b < 100) (hd : 0 ≤ d ∧ d < 100) : CtV w0 yX0_write cX0_write 4 0 0 [a, b, d] σ (fun σ1 => σ1 = up (up (up (up σ 14 (σ 13 0) a) 15 (σ 13 0) b) 16 (σ 13 0) d) 13 0 (σ 13 0 + 1)) := by
  refine ct_void (by decide +kernel) rfl (Nat.le_of_ble_eq_true rfl) (fun κ hret => ?_)
  refine v_aload_n dX0_write_0 rfl ?_
  refine g0_operation dX0_write_1 ?_
  refine v_aload_n dX0_write_4 rfl ?_
  refine g0_codeEnd dX0_write_5 (σ 13 0) rfl ?_
  refine v_iload_n dX0_write_8 rfl ?_
  refine v_i2b dX0_write_9 (by omega) ?_
  refine s0_operation dX0_write_10 (by omega) (by omega) ?_
  refine v_aload_n dX0_write_11 rfl ?_
  refine g0_argument dX0_write_12 ?_
  refine v_aload_n dX0_write_15 rfl ?_
  refine g0_codeEnd dX0_write_16 (σ 13 0) rfl ?_
  refine v_iload_n dX0_write_19 rfl ?_
  refine v_i2b dX0_write_20 (by omega) ?_
  refine s0_argument dX0_write_21 (by omega) (by omega) ?_
  refine v_aload_n dX0_write_22 rfl ?_
  refine g0_register dX0_write_23 ?_
  refine v_aload_n dX0_write_26 rfl ?_
  refine g0_codeEnd dX0_write_27 (σ 13 0) rfl ?_
  refine v_iload_n dX0_write_30 rfl ?_
  refine v_i2b dX0_write_31 (by omega) ?_
  refine s0_register dX0_write_32 (by omega) (by omega) ?_
  refine v_aload_n dX0_write_33 rfl ?_
  refine v_dup dX0_write_34 rfl ?_
  refine g0_codeEnd dX0_write_35 (σ 13 0) rfl ?_
  refine v_iconst 1 dX0_write_38 (by decide) (by decide) ?_
  refine v_iadd dX0_write_39 (fun _ _ => (by omega)) ?_
  refine p0_codeEnd dX0_write_40 ?_
  exact hret _ _ _ dX0_write_43 rfl
end
section
set_option maxRecDepth 100000
theorem ct0_congruent (m n : Int) (σ : Sg) (hG : GOK (σ 0 0) (KV σ) (σ 2) (σ 3)) (hm : 0 ≤ m ∧ m < σ 0 0) (hn : 0 ≤ n ∧ n < σ 0 0) : Ct w0 yX0_congruent cX0_congruent 3 (some .boolean) 0 0 [m, n] σ (fun r σ1 => σ1 = σ ∧ ((r = 1 ∧ cgr (KV σ) (σ 2) (σ 3) (σ 4) m n) ∨ (r = 0 ∧ ¬ cgr (KV σ) (σ 2) (σ 3) (σ 4) m n))) := by
  refine ct_bool (by decide +kernel) rfl (Nat.le_of_ble_eq_true rfl) (fun κ hret => ?_)
  have g1 := hG.2.2 m hm.1 hm.2
  have g2 := hG.2.2 n hn.1 hn.2
  have g0 := hG.2.1
  have lm : 0 ≤ σ 2 m ∧ σ 2 m < 20 := by omega
  have ln : 0 ≤ σ 2 n ∧ σ 2 n < 20 := by omega
  have rm : 0 ≤ σ 3 m ∧ σ 3 m < 20 := by omega
  have rn : 0 ≤ σ 3 n ∧ σ 3 n < 20 := by omega
  have ee := cgr_raw (σ := σ) (m := m) (n := n) (by omega) (by omega)
  refine v_aload_n dX0_congruent_0 rfl ?_
  refine g0_symbol dX0_congruent_1 ?_
  refine v_iload_n dX0_congruent_4 rfl ?_
  refine l0_symbol dX0_congruent_5 (by omega) (σ 1 m) rfl ?_
  refine v_aload_n dX0_congruent_6 rfl ?_
  refine g0_symbol dX0_congruent_7 ?_
  refine v_iload_n dX0_congruent_10 rfl ?_
  refine l0_symbol dX0_congruent_11 (by omega) (σ 1 n) rfl ?_
  refine v_icmp_ne (tgt := 24) dX0_congruent_12 (by decide) (fun c12 => ?_) (fun c12 => ?_)
  · refine v_iconst 0 dX0_congruent_24 (by decide) (by decide) ?_
    exact hret _ _ _ _ dX0_congruent_25 (by decide) ⟨rfl, Or.inr ⟨rfl, fun h => by have := ee.mp h; omega⟩⟩
  · refine v_aload_n dX0_congruent_15 rfl ?_
    refine g0_symbol dX0_congruent_16 ?_
    refine v_iload_n dX0_congruent_19 rfl ?_
    refine l0_symbol dX0_congruent_20 (by omega) (σ 1 m) rfl ?_
    refine v_if_ne (tgt := 26) dX0_congruent_21 (by decide) (fun c21 => ?_) (fun c21 => ?_)
    · refine v_aload_n dX0_congruent_26 rfl ?_
      refine g0_leaderOf dX0_congruent_27 ?_
      refine v_aload_n dX0_congruent_30 rfl ?_
      refine g0_left dX0_congruent_31 ?_
      refine v_iload_n dX0_congruent_34 rfl ?_
      refine l0_left dX0_congruent_35 (by omega) (σ 2 m) rfl ?_
      refine l0_leaderOf dX0_congruent_36 (by omega) (σ 4 (σ 2 m)) rfl ?_
      refine v_aload_n dX0_congruent_37 rfl ?_
      refine g0_leaderOf dX0_congruent_38 ?_
      refine v_aload_n dX0_congruent_41 rfl ?_
      refine g0_left dX0_congruent_42 ?_
      refine v_iload_n dX0_congruent_45 rfl ?_
      refine l0_left dX0_congruent_46 (by omega) (σ 2 n) rfl ?_
      refine l0_leaderOf dX0_congruent_47 (by omega) (σ 4 (σ 2 n)) rfl ?_
      refine v_icmp_eq (tgt := 53) dX0_congruent_48 (by decide) (fun c48 => ?_) (fun c48 => ?_)
      · refine v_aload_n dX0_congruent_53 rfl ?_
        refine g0_symbol dX0_congruent_54 ?_
        refine v_iload_n dX0_congruent_57 rfl ?_
        refine l0_symbol dX0_congruent_58 (by omega) (σ 1 m) rfl ?_
        refine v_bipush 20 dX0_congruent_59 (by decide) (by decide) ?_
        refine v_icmp_eq (tgt := 89) dX0_congruent_61 (by decide) (fun c61 => ?_) (fun c61 => ?_)
        · refine v_iconst 1 dX0_congruent_89 (by decide) (by decide) ?_
          refine v_goto (tgt := 94) dX0_congruent_90 (by decide) ?_
          exact hret _ _ _ _ dX0_congruent_94 (by decide) ⟨rfl, Or.inl ⟨rfl, ee.mpr (by omega)⟩⟩
        · refine v_aload_n dX0_congruent_64 rfl ?_
          refine g0_leaderOf dX0_congruent_65 ?_
          refine v_aload_n dX0_congruent_68 rfl ?_
          refine g0_right dX0_congruent_69 ?_
          refine v_iload_n dX0_congruent_72 rfl ?_
          refine l0_right dX0_congruent_73 (by omega) (σ 3 m) rfl ?_
          refine l0_leaderOf dX0_congruent_74 (by omega) (σ 4 (σ 3 m)) rfl ?_
          refine v_aload_n dX0_congruent_75 rfl ?_
          refine g0_leaderOf dX0_congruent_76 ?_
          refine v_aload_n dX0_congruent_79 rfl ?_
          refine g0_right dX0_congruent_80 ?_
          refine v_iload_n dX0_congruent_83 rfl ?_
          refine l0_right dX0_congruent_84 (by omega) (σ 3 n) rfl ?_
          refine l0_leaderOf dX0_congruent_85 (by omega) (σ 4 (σ 3 n)) rfl ?_
          refine v_icmp_ne (tgt := 93) dX0_congruent_86 (by decide) (fun c86 => ?_) (fun c86 => ?_)
          · refine v_iconst 0 dX0_congruent_93 (by decide) (by decide) ?_
            exact hret _ _ _ _ dX0_congruent_94 (by decide) ⟨rfl, Or.inr ⟨rfl, fun h => by have := ee.mp h; omega⟩⟩
          · refine v_iconst 1 dX0_congruent_89 (by decide) (by decide) ?_
            refine v_goto (tgt := 94) dX0_congruent_90 (by decide) ?_
            exact hret _ _ _ _ dX0_congruent_94 (by decide) ⟨rfl, Or.inl ⟨rfl, ee.mpr (by omega)⟩⟩
      · refine v_iconst 0 dX0_congruent_51 (by decide) (by decide) ?_
        exact hret _ _ _ _ dX0_congruent_52 (by decide) ⟨rfl, Or.inr ⟨rfl, fun h => by have := ee.mp h; omega⟩⟩
    · refine v_iconst 0 dX0_congruent_24 (by decide) (by decide) ?_
      exact hret _ _ _ _ dX0_congruent_25 (by decide) ⟨rfl, Or.inr ⟨rfl, fun h => by have := ee.mp h; omega⟩⟩
theorem ct1_alike (m n : Int) (σ : Sg) (hG : GOK (σ 0 0) (σ 1) (σ 2) (σ 3)) (hm : 0 ≤ m ∧ m < σ 0 0) (hn : 0 ≤ n ∧ n < σ 0 0) : Ct w1 yX1_alike cX1_alike 3 (some .boolean) 0 0 [m, n] σ (fun r σ1 => σ1 = σ ∧ ((r = 1 ∧ cgr (σ 1) (σ 2) (σ 3) (σ 4) m n) ∨ (r = 0 ∧ ¬ cgr (σ 1) (σ 2) (σ 3) (σ 4) m n))) := by
  refine ct_bool (by decide +kernel) rfl (Nat.le_of_ble_eq_true rfl) (fun κ hret => ?_)
  have g1 := hG.2.2 m hm.1 hm.2
  have g2 := hG.2.2 n hn.1 hn.2
  have g0 := hG.2.1
  have lm : 0 ≤ σ 2 m ∧ σ 2 m < 20 := by omega
  have ln : 0 ≤ σ 2 n ∧ σ 2 n < 20 := by omega
  have rm : 0 ≤ σ 3 m ∧ σ 3 m < 20 := by omega
  have rn : 0 ≤ σ 3 n ∧ σ 3 n < 20 := by omega
  have ee : cgr (σ 1) (σ 2) (σ 3) (σ 4) m n ↔ (σ 1 m = σ 1 n ∧ σ 1 m ≠ 0 ∧ σ 4 (σ 2 m) = σ 4 (σ 2 n) ∧ (σ 1 m = 1 ∨ σ 4 (σ 3 m) = σ 4 (σ 3 n))) := Iff.rfl
  refine v_aload_n dX1_alike_0 rfl ?_
  refine g1_kind dX1_alike_1 ?_
  refine v_iload_n dX1_alike_4 rfl ?_
  refine l1_kind dX1_alike_5 (by omega) (σ 1 m) rfl ?_
  refine v_aload_n dX1_alike_6 rfl ?_
  refine g1_kind dX1_alike_7 ?_
  refine v_iload_n dX1_alike_10 rfl ?_
  refine l1_kind dX1_alike_11 (by omega) (σ 1 n) rfl ?_
  refine v_icmp_ne (tgt := 24) dX1_alike_12 (by decide) (fun c12 => ?_) (fun c12 => ?_)
  · refine v_iconst 0 dX1_alike_24 (by decide) (by decide) ?_
    exact hret _ _ _ _ dX1_alike_25 (by decide) ⟨rfl, Or.inr ⟨rfl, fun h => by have := ee.mp h; omega⟩⟩
  · refine v_aload_n dX1_alike_15 rfl ?_
    refine g1_kind dX1_alike_16 ?_
    refine v_iload_n dX1_alike_19 rfl ?_
    refine l1_kind dX1_alike_20 (by omega) (σ 1 m) rfl ?_
    refine v_if_ne (tgt := 26) dX1_alike_21 (by decide) (fun c21 => ?_) (fun c21 => ?_)
    · refine v_aload_n dX1_alike_26 rfl ?_
      refine g1_least dX1_alike_27 ?_
      refine v_aload_n dX1_alike_30 rfl ?_
      refine g1_a dX1_alike_31 ?_
      refine v_iload_n dX1_alike_34 rfl ?_
      refine l1_a dX1_alike_35 (by omega) (σ 2 m) rfl ?_
      refine l1_least dX1_alike_36 (by omega) (σ 4 (σ 2 m)) rfl ?_
      refine v_aload_n dX1_alike_37 rfl ?_
      refine g1_least dX1_alike_38 ?_
      refine v_aload_n dX1_alike_41 rfl ?_
      refine g1_a dX1_alike_42 ?_
      refine v_iload_n dX1_alike_45 rfl ?_
      refine l1_a dX1_alike_46 (by omega) (σ 2 n) rfl ?_
      refine l1_least dX1_alike_47 (by omega) (σ 4 (σ 2 n)) rfl ?_
      refine v_icmp_ne (tgt := 90) dX1_alike_48 (by decide) (fun c48 => ?_) (fun c48 => ?_)
      · refine v_iconst 0 dX1_alike_90 (by decide) (by decide) ?_
        exact hret _ _ _ _ dX1_alike_91 (by decide) ⟨rfl, Or.inr ⟨rfl, fun h => by have := ee.mp h; omega⟩⟩
      · refine v_aload_n dX1_alike_51 rfl ?_
        refine g1_kind dX1_alike_52 ?_
        refine v_iload_n dX1_alike_55 rfl ?_
        refine l1_kind dX1_alike_56 (by omega) (σ 1 m) rfl ?_
        refine v_iconst 1 dX1_alike_57 (by decide) (by decide) ?_
        refine v_icmp_eq (tgt := 86) dX1_alike_58 (by decide) (fun c58 => ?_) (fun c58 => ?_)
        · refine v_iconst 1 dX1_alike_86 (by decide) (by decide) ?_
          refine v_goto (tgt := 91) dX1_alike_87 (by decide) ?_
          exact hret _ _ _ _ dX1_alike_91 (by decide) ⟨rfl, Or.inl ⟨rfl, ee.mpr (by omega)⟩⟩
        · refine v_aload_n dX1_alike_61 rfl ?_
          refine g1_least dX1_alike_62 ?_
          refine v_aload_n dX1_alike_65 rfl ?_
          refine g1_b dX1_alike_66 ?_
          refine v_iload_n dX1_alike_69 rfl ?_
          refine l1_b dX1_alike_70 (by omega) (σ 3 m) rfl ?_
          refine l1_least dX1_alike_71 (by omega) (σ 4 (σ 3 m)) rfl ?_
          refine v_aload_n dX1_alike_72 rfl ?_
          refine g1_least dX1_alike_73 ?_
          refine v_aload_n dX1_alike_76 rfl ?_
          refine g1_b dX1_alike_77 ?_
          refine v_iload_n dX1_alike_80 rfl ?_
          refine l1_b dX1_alike_81 (by omega) (σ 3 n) rfl ?_
          refine l1_least dX1_alike_82 (by omega) (σ 4 (σ 3 n)) rfl ?_
          refine v_icmp_ne (tgt := 90) dX1_alike_83 (by decide) (fun c83 => ?_) (fun c83 => ?_)
          · refine v_iconst 0 dX1_alike_90 (by decide) (by decide) ?_
            exact hret _ _ _ _ dX1_alike_91 (by decide) ⟨rfl, Or.inr ⟨rfl, fun h => by have := ee.mp h; omega⟩⟩
          · refine v_iconst 1 dX1_alike_86 (by decide) (by decide) ?_
            refine v_goto (tgt := 91) dX1_alike_87 (by decide) ?_
            exact hret _ _ _ _ dX1_alike_91 (by decide) ⟨rfl, Or.inl ⟨rfl, ee.mpr (by omega)⟩⟩
    · refine v_iconst 0 dX1_alike_24 (by decide) (by decide) ?_
      exact hret _ _ _ _ dX1_alike_25 (by decide) ⟨rfl, Or.inr ⟨rfl, fun h => by have := ee.mp h; omega⟩⟩
theorem ct0_classOfConstant (k : Int) (σ : Sg) (h0 : 0 ≤ σ 0 0) (hn20 : σ 0 0 ≤ 20) : Ct w0 yX0_classOfConstant cX0_classOfConstant 3 (some .int) 0 0 [k] σ (fun r σ1 => σ1 = σ ∧ ((∃ j, FirstAt (fun j => σ 1 j = 0 ∧ σ 2 j = k) (σ 0 0) j ∧ r = σ 4 j) ∨ (NoneIn (fun j => σ 1 j = 0 ∧ σ 2 j = k) (σ 0 0) ∧ r = -1))) := by
  refine ct_int (by decide +kernel) rfl (Nat.le_of_ble_eq_true rfl) (fun κ hret => ?_)
  have loop : ∀ (d : Nat) (i : Int), 0 ≤ i → i ≤ σ 0 0 → NoneIn (fun j => σ 1 j = 0 ∧ σ 2 j = k) i → (σ 0 0 - i).toNat < d → V w0 κ (rmO 0 0) cX0_classOfConstant 3 σ [(0, rH κ), (1, .inl k), (2, .inl i)] 2 [] := by
    intro d
    induction d with
    | zero => intros; omega
    | succ d ih =>
      intro i hi0 hin hno hd
      refine v_iload_n dX0_classOfConstant_2 rfl ?_
      refine v_aload_n dX0_classOfConstant_3 rfl ?_
      refine g0_nodeCount dX0_classOfConstant_4 (σ 0 0) rfl ?_
      refine v_icmp_ge (tgt := 42) dX0_classOfConstant_7 (by decide) (fun c7 => ?_) (fun c7 => ?_)
      · refine v_iconst (-1) dX0_classOfConstant_42 (by decide) (by decide) ?_
        exact hret _ _ _ _ dX0_classOfConstant_43 ⟨rfl, Or.inr ⟨fun j h1 h2 => hno j h1 (by omega), rfl⟩⟩
      · refine v_aload_n dX0_classOfConstant_10 rfl ?_
        refine g0_symbol dX0_classOfConstant_11 ?_
        refine v_iload_n dX0_classOfConstant_14 rfl ?_
        refine l0_symbol dX0_classOfConstant_15 (by omega) (σ 1 i) rfl ?_
        refine v_if_ne (tgt := 36) dX0_classOfConstant_16 (by decide) (fun c16 => ?_) (fun c16 => ?_)
        · refine v_iinc (lv1 := [(0, rH κ), (1, .inl k), (2, .inl (i + 1))]) dX0_classOfConstant_36 rfl (fun _ => (by omega)) (noL_of rfl) (by decide) rfl ?_
          refine v_goto (tgt := 2) dX0_classOfConstant_39 (by decide) ?_
          exact ih _ (by omega) (by omega) (none_s hno (by omega)) (by omega)
        · refine v_aload_n dX0_classOfConstant_19 rfl ?_
          refine g0_left dX0_classOfConstant_20 ?_
          refine v_iload_n dX0_classOfConstant_23 rfl ?_
          refine l0_left dX0_classOfConstant_24 (by omega) (σ 2 i) rfl ?_
          refine v_iload_n dX0_classOfConstant_25 rfl ?_
          refine v_icmp_ne (tgt := 36) dX0_classOfConstant_26 (by decide) (fun c26 => ?_) (fun c26 => ?_)
          · refine v_iinc (lv1 := [(0, rH κ), (1, .inl k), (2, .inl (i + 1))]) dX0_classOfConstant_36 rfl (fun _ => (by omega)) (noL_of rfl) (by decide) rfl ?_
            refine v_goto (tgt := 2) dX0_classOfConstant_39 (by decide) ?_
            exact ih _ (by omega) (by omega) (none_s hno (by omega)) (by omega)
          · refine v_aload_n dX0_classOfConstant_29 rfl ?_
            refine g0_leaderOf dX0_classOfConstant_30 ?_
            refine v_iload_n dX0_classOfConstant_33 rfl ?_
            refine l0_leaderOf dX0_classOfConstant_34 (by omega) (σ 4 i) rfl ?_
            exact hret _ _ _ _ dX0_classOfConstant_35 ⟨rfl, Or.inl ⟨i, ⟨hi0, by omega, by omega, hno⟩, rfl⟩⟩
  refine v_iconst 0 dX0_classOfConstant_0 (by decide) (by decide) ?_
  refine v_istore_n (lv1 := [(0, rH κ), (1, .inl k), (2, .inl 0)]) dX0_classOfConstant_1 (noL_of rfl) (by decide) rfl ?_
  exact loop 21 0 (by omega) (by omega) (none_0 _) (by omega)
theorem ct1_over (q x y : Int) (σ : Sg) (hG : GOK (σ 0 0) (σ 1) (σ 2) (σ 3)) : Ct w1 yX1_over cX1_over 6 (some .int) 0 0 [q, x, y] σ (fun r σ1 => σ1 = σ ∧ ((∃ j, FirstAt (ovP (σ 1) (σ 2) (σ 3) (σ 4) q x y) (σ 0 0) j ∧ r = σ 4 j) ∨ (NoneIn (ovP (σ 1) (σ 2) (σ 3) (σ 4) q x y) (σ 0 0) ∧ r = -1))) := by
  refine ct_int (by decide +kernel) rfl (Nat.le_of_ble_eq_true rfl) (fun κ hret => ?_)
  have g0 := hG.1
  have g20 := hG.2.1
  have loop : ∀ (d : Nat) (i : Int), 0 ≤ i → i ≤ σ 0 0 → NoneIn (ovP (σ 1) (σ 2) (σ 3) (σ 4) q x y) i → (σ 0 0 - i).toNat < d → V w1 κ (rmO 0 0) cX1_over 6 σ [(0, rH κ), (1, .inl q), (2, .inl x), (3, .inl y), (4, .inl i)] 3 [] := by
    intro d
    induction d with
    | zero => intros; omega
    | succ d ih =>
      intro i hi0 hin hno hd
      refine v_iload dX1_over_3 rfl ?_
      refine v_aload_n dX1_over_5 rfl ?_
      refine g1_n dX1_over_6 (σ 0 0) rfl ?_
      refine v_icmp_ge (tgt := 104) dX1_over_9 (by decide) (fun c9 => ?_) (fun c9 => ?_)
      · refine v_iconst (-1) dX1_over_104 (by decide) (by decide) ?_
        exact hret _ _ _ _ dX1_over_105 ⟨rfl, Or.inr ⟨fun j h1 h2 => hno j h1 (by omega), rfl⟩⟩
      · have g1 := hG.2.2 i hi0 (by omega)
        have li : 0 ≤ σ 2 i ∧ σ 2 i < 20 := by omega
        have ri : 0 ≤ σ 3 i ∧ σ 3 i < 20 := by omega
        refine v_aload_n dX1_over_12 rfl ?_
        refine g1_kind dX1_over_13 ?_
        refine v_iload dX1_over_16 rfl ?_
        refine l1_kind dX1_over_18 (by omega) (σ 1 i) rfl ?_
        refine v_iload_n dX1_over_19 rfl ?_
        refine v_icmp_ne (tgt := 82) dX1_over_20 (by decide) (fun c20 => ?_) (fun c20 => ?_)
        · refine v_iconst 0 dX1_over_82 (by decide) (by decide) ?_
          refine v_istore (lv1 := [(0, rH κ), (1, .inl q), (2, .inl x), (3, .inl y), (4, .inl i), (5, .inl 0)]) dX1_over_83 (noL_of rfl) (by decide) rfl ?_
          refine v_iload dX1_over_85 rfl ?_
          refine v_if_eq (tgt := 98) dX1_over_87 (by decide) (fun c87 => ?_) (fun c87 => ?_)
          · refine v_iinc (lv1 := [(0, rH κ), (1, .inl q), (2, .inl x), (3, .inl y), (4, .inl (i + 1)), (5, .inl 0)]) dX1_over_98 rfl (fun _ => (by omega)) (noL_of rfl) (by decide) rfl ?_
            refine v_goto (tgt := 3) dX1_over_101 (by decide) ?_
            refine v_pick [0, 1, 2, 3, 4] rfl ?_
            exact ih _ (by omega) (by omega) (none_s hno (by unfold ovP; omega)) (by omega)
          · omega
        · refine v_iload_n dX1_over_23 rfl ?_
          refine v_if_ne (tgt := 41) dX1_over_24 (by decide) (fun c24 => ?_) (fun c24 => ?_)
          · refine v_aload_n dX1_over_41 rfl ?_
            refine g1_least dX1_over_42 ?_
            refine v_aload_n dX1_over_45 rfl ?_
            refine g1_a dX1_over_46 ?_
            refine v_iload dX1_over_49 rfl ?_
            refine l1_a dX1_over_51 (by omega) (σ 2 i) rfl ?_
            refine l1_least dX1_over_52 (by omega) (σ 4 (σ 2 i)) rfl ?_
            refine v_iload_n dX1_over_53 rfl ?_
            refine v_icmp_ne (tgt := 82) dX1_over_54 (by decide) (fun c54 => ?_) (fun c54 => ?_)
            · refine v_iconst 0 dX1_over_82 (by decide) (by decide) ?_
              refine v_istore (lv1 := [(0, rH κ), (1, .inl q), (2, .inl x), (3, .inl y), (4, .inl i), (5, .inl 0)]) dX1_over_83 (noL_of rfl) (by decide) rfl ?_
              refine v_iload dX1_over_85 rfl ?_
              refine v_if_eq (tgt := 98) dX1_over_87 (by decide) (fun c87 => ?_) (fun c87 => ?_)
              · refine v_iinc (lv1 := [(0, rH κ), (1, .inl q), (2, .inl x), (3, .inl y), (4, .inl (i + 1)), (5, .inl 0)]) dX1_over_98 rfl (fun _ => (by omega)) (noL_of rfl) (by decide) rfl ?_
                refine v_goto (tgt := 3) dX1_over_101 (by decide) ?_
                refine v_pick [0, 1, 2, 3, 4] rfl ?_
                exact ih _ (by omega) (by omega) (none_s hno (by unfold ovP; omega)) (by omega)
              · omega
            · refine v_iload_n dX1_over_57 rfl ?_
              refine v_iconst 1 dX1_over_58 (by decide) (by decide) ?_
              refine v_icmp_eq (tgt := 78) dX1_over_59 (by decide) (fun c59 => ?_) (fun c59 => ?_)
              · refine v_iconst 1 dX1_over_78 (by decide) (by decide) ?_
                refine v_goto (tgt := 83) dX1_over_79 (by decide) ?_
                refine v_istore (lv1 := [(0, rH κ), (1, .inl q), (2, .inl x), (3, .inl y), (4, .inl i), (5, .inl 1)]) dX1_over_83 (noL_of rfl) (by decide) rfl ?_
                refine v_iload dX1_over_85 rfl ?_
                refine v_if_eq (tgt := 98) dX1_over_87 (by decide) (fun c87 => ?_) (fun c87 => ?_)
                · omega
                · refine v_aload_n dX1_over_90 rfl ?_
                  refine g1_least dX1_over_91 ?_
                  refine v_iload dX1_over_94 rfl ?_
                  refine l1_least dX1_over_96 (by omega) (σ 4 i) rfl ?_
                  exact hret _ _ _ _ dX1_over_97 ⟨rfl, Or.inl ⟨i, ⟨hi0, by omega, by unfold ovP; omega, hno⟩, rfl⟩⟩
              · refine v_aload_n dX1_over_62 rfl ?_
                refine g1_least dX1_over_63 ?_
                refine v_aload_n dX1_over_66 rfl ?_
                refine g1_b dX1_over_67 ?_
                refine v_iload dX1_over_70 rfl ?_
                refine l1_b dX1_over_72 (by omega) (σ 3 i) rfl ?_
                refine l1_least dX1_over_73 (by omega) (σ 4 (σ 3 i)) rfl ?_
                refine v_iload_n dX1_over_74 rfl ?_
                refine v_icmp_ne (tgt := 82) dX1_over_75 (by decide) (fun c75 => ?_) (fun c75 => ?_)
                · refine v_iconst 0 dX1_over_82 (by decide) (by decide) ?_
                  refine v_istore (lv1 := [(0, rH κ), (1, .inl q), (2, .inl x), (3, .inl y), (4, .inl i), (5, .inl 0)]) dX1_over_83 (noL_of rfl) (by decide) rfl ?_
                  refine v_iload dX1_over_85 rfl ?_
                  refine v_if_eq (tgt := 98) dX1_over_87 (by decide) (fun c87 => ?_) (fun c87 => ?_)
                  · refine v_iinc (lv1 := [(0, rH κ), (1, .inl q), (2, .inl x), (3, .inl y), (4, .inl (i + 1)), (5, .inl 0)]) dX1_over_98 rfl (fun _ => (by omega)) (noL_of rfl) (by decide) rfl ?_
                    refine v_goto (tgt := 3) dX1_over_101 (by decide) ?_
                    refine v_pick [0, 1, 2, 3, 4] rfl ?_
                    exact ih _ (by omega) (by omega) (none_s hno (by unfold ovP; omega)) (by omega)
                  · omega
                · refine v_iconst 1 dX1_over_78 (by decide) (by decide) ?_
                  refine v_goto (tgt := 83) dX1_over_79 (by decide) ?_
                  refine v_istore (lv1 := [(0, rH κ), (1, .inl q), (2, .inl x), (3, .inl y), (4, .inl i), (5, .inl 1)]) dX1_over_83 (noL_of rfl) (by decide) rfl ?_
                  refine v_iload dX1_over_85 rfl ?_
                  refine v_if_eq (tgt := 98) dX1_over_87 (by decide) (fun c87 => ?_) (fun c87 => ?_)
                  · omega
                  · refine v_aload_n dX1_over_90 rfl ?_
                    refine g1_least dX1_over_91 ?_
                    refine v_iload dX1_over_94 rfl ?_
                    refine l1_least dX1_over_96 (by omega) (σ 4 i) rfl ?_
                    exact hret _ _ _ _ dX1_over_97 ⟨rfl, Or.inl ⟨i, ⟨hi0, by omega, by unfold ovP; omega, hno⟩, rfl⟩⟩
          · refine v_aload_n dX1_over_27 rfl ?_
            refine g1_a dX1_over_28 ?_
            refine v_iload dX1_over_31 rfl ?_
            refine l1_a dX1_over_33 (by omega) (σ 2 i) rfl ?_
            refine v_iload_n dX1_over_34 rfl ?_
            refine v_icmp_ne (tgt := 82) dX1_over_35 (by decide) (fun c35 => ?_) (fun c35 => ?_)
            · refine v_iconst 0 dX1_over_82 (by decide) (by decide) ?_
              refine v_istore (lv1 := [(0, rH κ), (1, .inl q), (2, .inl x), (3, .inl y), (4, .inl i), (5, .inl 0)]) dX1_over_83 (noL_of rfl) (by decide) rfl ?_
              refine v_iload dX1_over_85 rfl ?_
              refine v_if_eq (tgt := 98) dX1_over_87 (by decide) (fun c87 => ?_) (fun c87 => ?_)
              · refine v_iinc (lv1 := [(0, rH κ), (1, .inl q), (2, .inl x), (3, .inl y), (4, .inl (i + 1)), (5, .inl 0)]) dX1_over_98 rfl (fun _ => (by omega)) (noL_of rfl) (by decide) rfl ?_
                refine v_goto (tgt := 3) dX1_over_101 (by decide) ?_
                refine v_pick [0, 1, 2, 3, 4] rfl ?_
                exact ih _ (by omega) (by omega) (none_s hno (by unfold ovP; omega)) (by omega)
              · omega
            · refine v_goto (tgt := 78) dX1_over_38 (by decide) ?_
              refine v_iconst 1 dX1_over_78 (by decide) (by decide) ?_
              refine v_goto (tgt := 83) dX1_over_79 (by decide) ?_
              refine v_istore (lv1 := [(0, rH κ), (1, .inl q), (2, .inl x), (3, .inl y), (4, .inl i), (5, .inl 1)]) dX1_over_83 (noL_of rfl) (by decide) rfl ?_
              refine v_iload dX1_over_85 rfl ?_
              refine v_if_eq (tgt := 98) dX1_over_87 (by decide) (fun c87 => ?_) (fun c87 => ?_)
              · omega
              · refine v_aload_n dX1_over_90 rfl ?_
                refine g1_least dX1_over_91 ?_
                refine v_iload dX1_over_94 rfl ?_
                refine l1_least dX1_over_96 (by omega) (σ 4 i) rfl ?_
                exact hret _ _ _ _ dX1_over_97 ⟨rfl, Or.inl ⟨i, ⟨hi0, by omega, by unfold ovP; omega, hno⟩, rfl⟩⟩
  refine v_iconst 0 dX1_over_0 (by decide) (by decide) ?_
  refine v_istore (lv1 := [(0, rH κ), (1, .inl q), (2, .inl x), (3, .inl y), (4, .inl 0)]) dX1_over_1 (noL_of rfl) (by decide) rfl ?_
  exact loop 21 0 (by omega) (by omega) (none_0 _) (by omega)
theorem ct1_hasVariable (v : Int) (σ : Sg) (h0 : 0 ≤ σ 5 0) (h7 : σ 5 0 ≤ 7) : Ct w1 yX1_hasVariable cX1_hasVariable 3 (some .boolean) 0 0 [v] σ (fun r σ1 => σ1 = σ ∧ ((r = 1 ∧ hasV (σ 6) (σ 5 0) v) ∨ (r = 0 ∧ ¬ hasV (σ 6) (σ 5 0) v))) := by
  refine ct_bool (by decide +kernel) rfl (Nat.le_of_ble_eq_true rfl) (fun κ hret => ?_)
  have loop : ∀ (d : Nat) (i : Int), 0 ≤ i → i ≤ σ 5 0 → NoneIn (fun j => σ 6 j = v) i → (σ 5 0 - i).toNat < d → V w1 κ (rmO 0 0) cX1_hasVariable 3 σ [(0, rH κ), (1, .inl v), (2, .inl i)] 2 [] := by
    intro d
    induction d with
    | zero => intros; omega
    | succ d ih =>
      intro i hi0 hin hno hd
      refine v_iload_n dX1_hasVariable_2 rfl ?_
      refine v_aload_n dX1_hasVariable_3 rfl ?_
      refine g1_tokens dX1_hasVariable_4 (σ 5 0) rfl ?_
      refine v_icmp_ge (tgt := 28) dX1_hasVariable_7 (by decide) (fun c7 => ?_) (fun c7 => ?_)
      · refine v_iconst 0 dX1_hasVariable_28 (by decide) (by decide) ?_
        exact hret _ _ _ _ dX1_hasVariable_29 (by decide) ⟨rfl, Or.inr ⟨rfl, fun ⟨j, h1, h2, h3⟩ => hno j h1 (by omega) h3⟩⟩
      · refine v_aload_n dX1_hasVariable_10 rfl ?_
        refine g1_pattern dX1_hasVariable_11 ?_
        refine v_iload_n dX1_hasVariable_14 rfl ?_
        refine l1_pattern dX1_hasVariable_15 (by omega) (σ 6 i) rfl ?_
        refine v_iload_n dX1_hasVariable_16 rfl ?_
        refine v_icmp_ne (tgt := 22) dX1_hasVariable_17 (by decide) (fun c17 => ?_) (fun c17 => ?_)
        · refine v_iinc (lv1 := [(0, rH κ), (1, .inl v), (2, .inl (i + 1))]) dX1_hasVariable_22 rfl (fun _ => (by omega)) (noL_of rfl) (by decide) rfl ?_
          refine v_goto (tgt := 2) dX1_hasVariable_25 (by decide) ?_
          exact ih _ (by omega) (by omega) (none_s hno (by omega)) (by omega)
        · refine v_iconst 1 dX1_hasVariable_20 (by decide) (by decide) ?_
          exact hret _ _ _ _ dX1_hasVariable_21 (by decide) ⟨rfl, Or.inl ⟨rfl, i, hi0, by omega, by omega⟩⟩
  refine v_iconst 0 dX1_hasVariable_0 (by decide) (by decide) ?_
  refine v_istore_n (lv1 := [(0, rH κ), (1, .inl v), (2, .inl 0)]) dX1_hasVariable_1 (noL_of rfl) (by decide) rfl ?_
  exact loop 21 0 (by omega) (by omega) (none_0 _) (by omega)
theorem ct1_tried (v k : Int) (σ : Sg) (h0 : 0 ≤ σ 5 0) (h7 : σ 5 0 ≤ 7) (hn20 : σ 0 0 ≤ 20) (hk : 0 ≤ k ∧ k < 20) : Ct w1 yX1_tried cX1_tried 3 (some .boolean) 1 22 [v, k] σ (fun r σ1 => σ1 = σ ∧ ((r = 1 ∧ trP (σ 0 0) (σ 4) (σ 6) (σ 5 0) v k) ∨ (r = 0 ∧ ¬ trP (σ 0 0) (σ 4) (σ 6) (σ 5 0) v k))) := by
  refine ct_bool (by decide +kernel) rfl (Nat.le_of_ble_eq_true rfl) (fun κ hret => ?_)
  refine v_aload_n dX1_tried_0 rfl ?_
  refine v_iload_n dX1_tried_1 rfl ?_
  refine c1_hasVariable (rest := []) dX1_tried_2 (ct1_hasVariable v σ h0 h7) rfl (by decide) rfl (by decide) (fun r2 s2 h2 => ?_)
  obtain ⟨e1, e2⟩ := h2
  subst e1
  refine v_if_eq (tgt := 34) dX1_tried_5 (by decide) (fun c5 => ?_) (fun c5 => ?_)
  · have e3 : ¬ hasV (s2 6) (s2 5 0) v := e2.elim (fun e => absurd (e.1.symm.trans c5) (by decide)) (fun e => e.2)
    have e4 := trP_n (n := s2 0 0) (ld := s2 4) (k := k) e3
    refine v_iload_n dX1_tried_34 rfl ?_
    refine v_if_ne (tgt := 42) dX1_tried_35 (by decide) (fun c35 => ?_) (fun c35 => ?_)
    · refine v_iconst 0 dX1_tried_42 (by decide) (by decide) ?_
      exact hret _ _ _ _ dX1_tried_43 (by decide) ⟨rfl, Or.inr ⟨rfl, fun h => by have := e4.mp h; omega⟩⟩
    · refine v_iconst 1 dX1_tried_38 (by decide) (by decide) ?_
      refine v_goto (tgt := 43) dX1_tried_39 (by decide) ?_
      exact hret _ _ _ _ dX1_tried_43 (by decide) ⟨rfl, Or.inl ⟨rfl, e4.mpr (by omega)⟩⟩
  · have e3 : hasV (s2 6) (s2 5 0) v := e2.elim (fun e => e.2) (fun e => absurd e.1 c5)
    have e4 := trP_y (n := s2 0 0) (ld := s2 4) (k := k) e3
    refine v_iload_n dX1_tried_8 rfl ?_
    refine v_aload_n dX1_tried_9 rfl ?_
    refine g1_n dX1_tried_10 (s2 0 0) rfl ?_
    refine v_icmp_ge (tgt := 30) dX1_tried_13 (by decide) (fun c13 => ?_) (fun c13 => ?_)
    · refine v_iconst 0 dX1_tried_30 (by decide) (by decide) ?_
      refine v_goto (tgt := 43) dX1_tried_31 (by decide) ?_
      exact hret _ _ _ _ dX1_tried_43 (by decide) ⟨rfl, Or.inr ⟨rfl, fun h => by have := e4.mp h; omega⟩⟩
    · refine v_aload_n dX1_tried_16 rfl ?_
      refine g1_least dX1_tried_17 ?_
      refine v_iload_n dX1_tried_20 rfl ?_
      refine l1_least dX1_tried_21 (by omega) (s2 4 k) rfl ?_
      refine v_iload_n dX1_tried_22 rfl ?_
      refine v_icmp_ne (tgt := 30) dX1_tried_23 (by decide) (fun c23 => ?_) (fun c23 => ?_)
      · refine v_iconst 0 dX1_tried_30 (by decide) (by decide) ?_
        refine v_goto (tgt := 43) dX1_tried_31 (by decide) ?_
        exact hret _ _ _ _ dX1_tried_43 (by decide) ⟨rfl, Or.inr ⟨rfl, fun h => by have := e4.mp h; omega⟩⟩
      · refine v_iconst 1 dX1_tried_26 (by decide) (by decide) ?_
        refine v_goto (tgt := 43) dX1_tried_27 (by decide) ?_
        exact hret _ _ _ _ dX1_tried_43 (by decide) ⟨rfl, Or.inl ⟨rfl, e4.mpr (by omega)⟩⟩
theorem ct1_join (x y : Int) (σ : Sg) (h0 : 0 ≤ σ 0 0) (hn20 : σ 0 0 ≤ 20) (hx : 0 ≤ x ∧ x < σ 0 0) (hy : 0 ≤ y ∧ y < σ 0 0) : Ct w1 yX1_join cX1_join 6 (some .boolean) 0 0 [x, y] σ (fun r σ1 => σ1 = upA σ 4 (mrg (σ 0 0) (lo2 (σ 4 x) (σ 4 y)) (hi2 (σ 4 x) (σ 4 y)) (σ 4)) ∧ ((r = 1 ∧ σ 4 x ≠ σ 4 y) ∨ (r = 0 ∧ σ 4 x = σ 4 y))) := by
  refine ct_bool (by decide +kernel) rfl (Nat.le_of_ble_eq_true rfl) (fun κ hret => ?_)
  have loop : ∀ (p q : Int), p = lo2 (σ 4 x) (σ 4 y) → q = hi2 (σ 4 x) (σ 4 y) → ∀ (d : Nat) (i : Int), 0 ≤ i → i ≤ σ 0 0 → (σ 0 0 - i).toNat < d → V w1 κ (rmO 0 0) cX1_join 6 (upA σ 4 (mrg i p q (σ 4))) [(0, rH κ), (1, .inl x), (2, .inl y), (3, .inl p), (4, .inl q), (5, .inl i)] 66 [] := by
    intro p q ep eq d
    induction d with
    | zero => intros; omega
    | succ d ih =>
      intro i hi0 hin hd
      refine v_iload dX1_join_66 rfl ?_
      refine v_aload_n dX1_join_68 rfl ?_
      refine g1_n dX1_join_69 (σ 0 0) rfl ?_
      refine v_icmp_ge (tgt := 101) dX1_join_72 (by decide) (fun c72 => ?_) (fun c72 => ?_)
      · refine v_iload_n dX1_join_101 rfl ?_
        refine v_iload dX1_join_102 rfl ?_
        refine v_icmp_eq (tgt := 111) dX1_join_104 (by decide) (fun c104 => ?_) (fun c104 => ?_)
        · refine v_iconst 0 dX1_join_111 (by decide) (by decide) ?_
          exact hret _ _ _ _ dX1_join_112 (by decide) ⟨by subst ep; subst eq; rw [show i = σ 0 0 by omega], Or.inr ⟨rfl, by subst ep; subst eq; unfold lo2 hi2 at c104; split at c104 <;> omega⟩⟩
        · refine v_iconst 1 dX1_join_107 (by decide) (by decide) ?_
          refine v_goto (tgt := 112) dX1_join_108 (by decide) ?_
          exact hret _ _ _ _ dX1_join_112 (by decide) ⟨by subst ep; subst eq; rw [show i = σ 0 0 by omega], Or.inl ⟨rfl, fun e => c104 (by subst ep; subst eq; unfold lo2 hi2; rw [e])⟩⟩
      · refine v_aload_n dX1_join_75 rfl ?_
        refine g1_least dX1_join_76 ?_
        refine v_iload dX1_join_79 rfl ?_
        refine l1_least dX1_join_81 (by omega) (σ 4 i) (mrg_at i p q (σ 4)) ?_
        refine v_iload dX1_join_82 rfl ?_
        refine v_icmp_ne (tgt := 95) dX1_join_84 (by decide) (fun c84 => ?_) (fun c84 => ?_)
        · refine v_iinc (lv1 := [(0, rH κ), (1, .inl x), (2, .inl y), (3, .inl p), (4, .inl q), (5, .inl (i + 1))]) dX1_join_95 rfl (fun _ => (by omega)) (noL_of rfl) (by decide) rfl ?_
          refine v_goto (tgt := 66) dX1_join_98 (by decide) ?_
          rw [mrg_n c84]
          exact ih _ (by omega) (by omega) (by omega)
        · refine v_aload_n dX1_join_87 rfl ?_
          refine g1_least dX1_join_88 ?_
          refine v_iload dX1_join_91 rfl ?_
          refine v_iload_n dX1_join_93 rfl ?_
          refine s1_least dX1_join_94 (by omega) ?_
          refine v_iinc (lv1 := [(0, rH κ), (1, .inl x), (2, .inl y), (3, .inl p), (4, .inl q), (5, .inl (i + 1))]) dX1_join_95 rfl (fun _ => (by omega)) (noL_of rfl) (by decide) rfl ?_
          refine v_goto (tgt := 66) dX1_join_98 (by decide) ?_
          rw [up_upA, mrg_y hi0 c84]
          exact ih _ (by omega) (by omega) (by omega)
  refine v_aload_n dX1_join_0 rfl ?_
  refine g1_least dX1_join_1 ?_
  refine v_iload_n dX1_join_4 rfl ?_
  refine l1_least dX1_join_5 (by omega) (σ 4 x) rfl ?_
  refine v_aload_n dX1_join_6 rfl ?_
  refine g1_least dX1_join_7 ?_
  refine v_iload_n dX1_join_10 rfl ?_
  refine l1_least dX1_join_11 (by omega) (σ 4 y) rfl ?_
  refine v_icmp_ge (tgt := 24) dX1_join_12 (by decide) (fun c12 => ?_) (fun c12 => ?_)
  · refine v_aload_n dX1_join_24 rfl ?_
    refine g1_least dX1_join_25 ?_
    refine v_iload_n dX1_join_28 rfl ?_
    refine l1_least dX1_join_29 (by omega) (σ 4 y) rfl ?_
    refine v_istore_n (lv1 := [(0, rH κ), (1, .inl x), (2, .inl y), (3, .inl (σ 4 y))]) dX1_join_30 (noL_of rfl) (by decide) rfl ?_
    refine v_aload_n dX1_join_31 rfl ?_
    refine g1_least dX1_join_32 ?_
    refine v_iload_n dX1_join_35 rfl ?_
    refine l1_least dX1_join_36 (by omega) (σ 4 x) rfl ?_
    refine v_aload_n dX1_join_37 rfl ?_
    refine g1_least dX1_join_38 ?_
    refine v_iload_n dX1_join_41 rfl ?_
    refine l1_least dX1_join_42 (by omega) (σ 4 y) rfl ?_
    refine v_icmp_ge (tgt := 55) dX1_join_43 (by decide) (fun c43 => ?_) (fun c43 => ?_)
    · refine v_aload_n dX1_join_55 rfl ?_
      refine g1_least dX1_join_56 ?_
      refine v_iload_n dX1_join_59 rfl ?_
      refine l1_least dX1_join_60 (by omega) (σ 4 x) rfl ?_
      refine v_istore (lv1 := [(0, rH κ), (1, .inl x), (2, .inl y), (3, .inl (σ 4 y)), (4, .inl (σ 4 x))]) dX1_join_61 (noL_of rfl) (by decide) rfl ?_
      refine v_iconst 0 dX1_join_63 (by decide) (by decide) ?_
      refine v_istore (lv1 := [(0, rH κ), (1, .inl x), (2, .inl y), (3, .inl (σ 4 y)), (4, .inl (σ 4 x)), (5, .inl 0)]) dX1_join_64 (noL_of rfl) (by decide) rfl ?_
      have := loop (σ 4 y) (σ 4 x) (by unfold lo2; split <;> omega) (by unfold hi2; split <;> omega) 21 0 (by omega) (by omega) (by omega)
      rw [mrg_0, upA_id] at this
      exact this
    · omega
  · refine v_aload_n dX1_join_15 rfl ?_
    refine g1_least dX1_join_16 ?_
    refine v_iload_n dX1_join_19 rfl ?_
    refine l1_least dX1_join_20 (by omega) (σ 4 x) rfl ?_
    refine v_goto (tgt := 30) dX1_join_21 (by decide) ?_
    refine v_istore_n (lv1 := [(0, rH κ), (1, .inl x), (2, .inl y), (3, .inl (σ 4 x))]) dX1_join_30 (noL_of rfl) (by decide) rfl ?_
    refine v_aload_n dX1_join_31 rfl ?_
    refine g1_least dX1_join_32 ?_
    refine v_iload_n dX1_join_35 rfl ?_
    refine l1_least dX1_join_36 (by omega) (σ 4 x) rfl ?_
    refine v_aload_n dX1_join_37 rfl ?_
    refine g1_least dX1_join_38 ?_
    refine v_iload_n dX1_join_41 rfl ?_
    refine l1_least dX1_join_42 (by omega) (σ 4 y) rfl ?_
    refine v_icmp_ge (tgt := 55) dX1_join_43 (by decide) (fun c43 => ?_) (fun c43 => ?_)
    · omega
    · refine v_aload_n dX1_join_46 rfl ?_
      refine g1_least dX1_join_47 ?_
      refine v_iload_n dX1_join_50 rfl ?_
      refine l1_least dX1_join_51 (by omega) (σ 4 y) rfl ?_
      refine v_goto (tgt := 61) dX1_join_52 (by decide) ?_
      refine v_istore (lv1 := [(0, rH κ), (1, .inl x), (2, .inl y), (3, .inl (σ 4 x)), (4, .inl (σ 4 y))]) dX1_join_61 (noL_of rfl) (by decide) rfl ?_
      refine v_iconst 0 dX1_join_63 (by decide) (by decide) ?_
      refine v_istore (lv1 := [(0, rH κ), (1, .inl x), (2, .inl y), (3, .inl (σ 4 x)), (4, .inl (σ 4 y)), (5, .inl 0)]) dX1_join_64 (noL_of rfl) (by decide) rfl ?_
      have := loop (σ 4 x) (σ 4 y) (by unfold lo2; split <;> omega) (by unfold hi2; split <;> omega) 21 0 (by omega) (by omega) (by omega)
      rw [mrg_0, upA_id] at this
      exact this
end
section
set_option maxRecDepth 100000
theorem ct0_node (s a b : Int) (σ : Sg) (hP : PIC (σ 0 0) (KV σ) (σ 2) (σ 3) (σ 4)) (ha : argOk (kd s) a b (σ 0 0)) (hs : s = 0 ∨ s = 20 ∨ s = 21) : Ct w0 yX0_node cX0_node 6 (some .int) 1 22 [s, a, b] σ (fun r σ1 => NodeP (kd s) a b r (σ 0 0) (KV σ) (σ 2) (σ 3) (σ 4) (σ1 0 0) (KV σ1) (σ1 2) (σ1 3) (σ1 4) ∧ ∀ k, 5 ≤ k → σ1 k = σ k) := by
  refine ct_int (by decide +kernel) rfl (Nat.le_of_ble_eq_true rfl) (fun κ hret => ?_)
  have g0 := hP.1.1
  have g20 := hP.1.2.1
  have loop2 : NoneIn (isN (KV σ) (σ 2) (σ 3) (kd s) a b) (σ 0 0) → σ 0 0 < 20 → ∀ (d : Nat) (m : Int), 0 ≤ m → m ≤ σ 0 0 → NoneIn (cgN (KV σ) (σ 2) (σ 3) (σ 4) (kd s) a b) m → (σ 0 0 - m).toNat < d → V w0 κ (rmO 1 22) cX0_node 6 (nodeSt σ s a b) [(0, rH κ), (1, .inl s), (2, .inl a), (3, .inl b), (4, .inl (σ 0 0)), (5, .inl m)] 122 [] := by
    intro hno hlt d
    induction d with
    | zero => intros; omega
    | succ d ih =>
      intro m hm0 hmn hno2 hd
      refine v_iload dX0_node_122 rfl ?_
      refine v_iload dX0_node_124 rfl ?_
      refine v_icmp_ge (tgt := 166) dX0_node_126 (by decide) (fun c126 => ?_) (fun c126 => ?_)
      · refine v_iload dX0_node_166 rfl ?_
        exact hret _ _ _ _ dX0_node_168 (nodeSt_fin2 hno hlt (by rw [← show m = σ 0 0 by omega]; exact hno2))
      · refine v_aload_n dX0_node_129 rfl ?_
        refine v_iload dX0_node_130 rfl ?_
        refine v_iload dX0_node_132 rfl ?_
        refine c0_congruent (rest := []) dX0_node_134 (ct0_congruent m (σ 0 0) (nodeSt σ s a b) (nodeSt_GOK hP ha hlt) ⟨hm0, by rw [nodeSt_0]; omega⟩ ⟨by omega, by rw [nodeSt_0]; omega⟩) rfl (by decide) rfl (by decide) (fun r9 τ h9 => ?_)
        obtain ⟨e1, e2⟩ := h9
        subst e1
        rw [nodeSt_cgr hP ha ⟨hm0, by omega⟩] at e2
        refine v_if_ne (tgt := 143) dX0_node_137 (by decide) (fun c137 => ?_) (fun c137 => ?_)
        · have e3 : cgN (KV σ) (σ 2) (σ 3) (σ 4) (kd s) a b m := e2.elim (fun e => e.2) (fun e => absurd e.1 c137)
          have e4 := hP.2.1 m hm0 (by omega)
          refine v_aload_n dX0_node_143 rfl ?_
          refine g0_leaderOf dX0_node_144 ?_
          refine v_iload dX0_node_147 rfl ?_
          refine v_aload_n dX0_node_149 rfl ?_
          refine g0_leaderOf dX0_node_150 ?_
          refine v_iload dX0_node_153 rfl ?_
          refine l0_leaderOf dX0_node_155 (by omega) (σ 4 m) (by rw [nodeSt_4, if_neg (by omega)]) ?_
          refine s0_leaderOf dX0_node_156 (by omega) (by omega) ?_
          refine v_iload dX0_node_157 rfl ?_
          exact hret _ _ _ _ dX0_node_159 (nodeSt_fin1 hno hlt ⟨hm0, by omega⟩ e3 rfl)
        · have e3 : ¬ cgN (KV σ) (σ 2) (σ 3) (σ 4) (kd s) a b m := e2.elim (fun e => absurd (e.1.symm.trans c137) (by decide)) (fun e => e.2)
          refine v_goto (tgt := 160) dX0_node_140 (by decide) ?_
          refine v_iinc (lv1 := [(0, rH κ), (1, .inl s), (2, .inl a), (3, .inl b), (4, .inl (σ 0 0)), (5, .inl (m + 1))]) dX0_node_160 rfl (fun _ => (by omega)) (noL_of rfl) (by decide) rfl ?_
          refine v_goto (tgt := 122) dX0_node_163 (by decide) ?_
          exact ih _ (by omega) (by omega) (none_s hno2 e3) (by omega)
  have hexit : ∀ i : Int, NoneIn (isN (KV σ) (σ 2) (σ 3) (kd s) a b) (σ 0 0) → V w0 κ (rmO 1 22) cX0_node 6 σ [(0, rH κ), (1, .inl s), (2, .inl a), (3, .inl b), (4, .inl i)] 54 [] := by
    intro i hno
    refine v_aload_n dX0_node_54 rfl ?_
    refine g0_nodeCount dX0_node_55 (σ 0 0) rfl ?_
    refine v_bipush 20 dX0_node_58 (by decide) (by decide) ?_
    refine v_icmp_lt (tgt := 66) dX0_node_60 (by decide) (fun c60 => ?_) (fun c60 => ?_)
    · have hab : 0 ≤ a ∧ a < 20 ∧ 0 ≤ b ∧ b < 20 := by unfold argOk at ha; omega
      refine v_aload_n dX0_node_66 rfl ?_
      refine g0_nodeCount dX0_node_67 (σ 0 0) rfl ?_
      refine v_istore (lv1 := [(0, rH κ), (1, .inl s), (2, .inl a), (3, .inl b), (4, .inl (σ 0 0))]) dX0_node_70 (noL_of rfl) (by decide) rfl ?_
      refine v_aload_n dX0_node_72 rfl ?_
      refine v_dup dX0_node_73 rfl ?_
      refine g0_nodeCount dX0_node_74 (σ 0 0) rfl ?_
      refine v_iconst 1 dX0_node_77 (by decide) (by decide) ?_
      refine v_iadd dX0_node_78 (fun _ _ => (by omega)) ?_
      refine p0_nodeCount dX0_node_79 ?_
      refine v_aload_n dX0_node_82 rfl ?_
      refine g0_symbol dX0_node_83 ?_
      refine v_iload dX0_node_86 rfl ?_
      refine v_iload_n dX0_node_88 rfl ?_
      refine v_i2b dX0_node_89 (by omega) ?_
      refine s0_symbol dX0_node_90 (by omega) (by omega) ?_
      refine v_aload_n dX0_node_91 rfl ?_
      refine g0_left dX0_node_92 ?_
      refine v_iload dX0_node_95 rfl ?_
      refine v_iload_n dX0_node_97 rfl ?_
      refine v_i2b dX0_node_98 (by omega) ?_
      refine s0_left dX0_node_99 (by omega) (by omega) ?_
      refine v_aload_n dX0_node_100 rfl ?_
      refine g0_right dX0_node_101 ?_
      refine v_iload dX0_node_104 rfl ?_
      refine v_iload_n dX0_node_106 rfl ?_
      refine v_i2b dX0_node_107 (by omega) ?_
      refine s0_right dX0_node_108 (by omega) (by omega) ?_
      refine v_aload_n dX0_node_109 rfl ?_
      refine g0_leaderOf dX0_node_110 ?_
      refine v_iload dX0_node_113 rfl ?_
      refine v_iload dX0_node_115 rfl ?_
      refine v_i2b dX0_node_117 (by omega) ?_
      refine s0_leaderOf dX0_node_118 (by omega) (by omega) ?_
      refine v_iconst 0 dX0_node_119 (by decide) (by decide) ?_
      refine v_istore (lv1 := [(0, rH κ), (1, .inl s), (2, .inl a), (3, .inl b), (4, .inl (σ 0 0)), (5, .inl 0)]) dX0_node_120 (noL_of rfl) (by decide) rfl ?_
      exact loop2 hno (by omega) 21 0 (by omega) (by omega) (none_0 _) (by omega)
    · refine v_bipush (-2) dX0_node_63 (by decide) (by decide) ?_
      exact hret _ _ _ _ dX0_node_65 ⟨Or.inr (Or.inl ⟨hno, by omega, rfl, rfl, same4_refl⟩), fun _ _ => rfl⟩
  have loop1 : ∀ (d : Nat) (i : Int), 0 ≤ i → i ≤ σ 0 0 → NoneIn (isN (KV σ) (σ 2) (σ 3) (kd s) a b) i → (σ 0 0 - i).toNat < d → V w0 κ (rmO 1 22) cX0_node 6 σ [(0, rH κ), (1, .inl s), (2, .inl a), (3, .inl b), (4, .inl i)] 3 [] := by
    intro d
    induction d with
    | zero => intros; omega
    | succ d ih =>
      intro i hi0 hin hno hd
      refine v_iload dX0_node_3 rfl ?_
      refine v_aload_n dX0_node_5 rfl ?_
      refine g0_nodeCount dX0_node_6 (σ 0 0) rfl ?_
      refine v_icmp_ge (tgt := 54) dX0_node_9 (by decide) (fun c9 => ?_) (fun c9 => ?_)
      · exact hexit i (by rw [← show i = σ 0 0 by omega]; exact hno)
      · refine v_aload_n dX0_node_12 rfl ?_
        refine g0_symbol dX0_node_13 ?_
        refine v_iload dX0_node_16 rfl ?_
        refine l0_symbol dX0_node_18 (by omega) (σ 1 i) rfl ?_
        refine v_iload_n dX0_node_19 rfl ?_
        refine v_icmp_ne (tgt := 48) dX0_node_20 (by decide) (fun c20 => ?_) (fun c20 => ?_)
        · refine v_iinc (lv1 := [(0, rH κ), (1, .inl s), (2, .inl a), (3, .inl b), (4, .inl (i + 1))]) dX0_node_48 rfl (fun _ => (by omega)) (noL_of rfl) (by decide) rfl ?_
          refine v_goto (tgt := 3) dX0_node_51 (by decide) ?_
          exact ih _ (by omega) (by omega) (none_s hno (fun h => by have h1 := (kd_inj hs).mp h.1; have h2 := h.2; omega)) (by omega)
        · refine v_aload_n dX0_node_23 rfl ?_
          refine g0_left dX0_node_24 ?_
          refine v_iload dX0_node_27 rfl ?_
          refine l0_left dX0_node_29 (by omega) (σ 2 i) rfl ?_
          refine v_iload_n dX0_node_30 rfl ?_
          refine v_icmp_ne (tgt := 48) dX0_node_31 (by decide) (fun c31 => ?_) (fun c31 => ?_)
          · refine v_iinc (lv1 := [(0, rH κ), (1, .inl s), (2, .inl a), (3, .inl b), (4, .inl (i + 1))]) dX0_node_48 rfl (fun _ => (by omega)) (noL_of rfl) (by decide) rfl ?_
            refine v_goto (tgt := 3) dX0_node_51 (by decide) ?_
            exact ih _ (by omega) (by omega) (none_s hno (fun h => by have h1 := (kd_inj hs).mp h.1; have h2 := h.2; omega)) (by omega)
          · refine v_aload_n dX0_node_34 rfl ?_
            refine g0_right dX0_node_35 ?_
            refine v_iload dX0_node_38 rfl ?_
            refine l0_right dX0_node_40 (by omega) (σ 3 i) rfl ?_
            refine v_iload_n dX0_node_41 rfl ?_
            refine v_icmp_ne (tgt := 48) dX0_node_42 (by decide) (fun c42 => ?_) (fun c42 => ?_)
            · refine v_iinc (lv1 := [(0, rH κ), (1, .inl s), (2, .inl a), (3, .inl b), (4, .inl (i + 1))]) dX0_node_48 rfl (fun _ => (by omega)) (noL_of rfl) (by decide) rfl ?_
              refine v_goto (tgt := 3) dX0_node_51 (by decide) ?_
              exact ih _ (by omega) (by omega) (none_s hno (fun h => by have h1 := (kd_inj hs).mp h.1; have h2 := h.2; omega)) (by omega)
            · refine v_iload dX0_node_45 rfl ?_
              exact hret _ _ _ _ dX0_node_47 ⟨Or.inl ⟨i, ⟨hi0, by omega, ⟨(kd_inj hs).mpr (by omega), by omega, by omega⟩, hno⟩, rfl, rfl, same4_refl⟩, fun _ _ => rfl⟩
  refine v_iconst 0 dX0_node_0 (by decide) (by decide) ?_
  refine v_istore (lv1 := [(0, rH κ), (1, .inl s), (2, .inl a), (3, .inl b), (4, .inl 0)]) dX0_node_1 (noL_of rfl) (by decide) rfl ?_
  exact loop1 21 0 (by omega) (by omega) (none_0 _) (by omega)
theorem ct0_constant (k : Int) (σ : Sg) (hP : PIC (σ 0 0) (KV σ) (σ 2) (σ 3) (σ 4)) : Ct w0 yX0_constant cX0_constant 2 (some .int) 2 47 [k] σ (fun r σ1 => (r = -1 ∧ σ1 = σ ∧ ¬ (0 ≤ k ∧ k ≤ 5)) ∨ ((0 ≤ k ∧ k ≤ 5) ∧ NodeP 0 k 0 r (σ 0 0) (KV σ) (σ 2) (σ 3) (σ 4) (σ1 0 0) (KV σ1) (σ1 2) (σ1 3) (σ1 4) ∧ ∀ k, 5 ≤ k → σ1 k = σ k)) := by
  refine ct_int (by decide +kernel) rfl (Nat.le_of_ble_eq_true rfl) (fun κ hret => ?_)
  refine v_iload_n dX0_constant_0 rfl ?_
  refine v_if_lt (tgt := 9) dX0_constant_1 (by decide) (fun c1 => ?_) (fun c1 => ?_)
  · refine v_iconst (-1) dX0_constant_9 (by decide) (by decide) ?_
    exact hret _ _ _ _ dX0_constant_10 (Or.inl ⟨rfl, rfl, by omega⟩)
  · refine v_iload_n dX0_constant_4 rfl ?_
    refine v_iconst 5 dX0_constant_5 (by decide) (by decide) ?_
    refine v_icmp_le (tgt := 11) dX0_constant_6 (by decide) (fun c6 => ?_) (fun c6 => ?_)
    · refine v_aload_n dX0_constant_11 rfl ?_
      refine v_iconst 0 dX0_constant_12 (by decide) (by decide) ?_
      refine v_iload_n dX0_constant_13 rfl ?_
      refine v_iconst 0 dX0_constant_14 (by decide) (by decide) ?_
      refine c0_node (rest := []) dX0_constant_15 (ct0_node 0 k 0 σ hP (Or.inl ⟨rfl, by omega, by omega, rfl⟩) (by decide)) rfl (by decide) rfl (by decide) (fun r9 τ h9 => ?_)
      exact hret _ _ _ _ dX0_constant_18 (Or.inr ⟨by omega, h9⟩)
    · refine v_iconst (-1) dX0_constant_9 (by decide) (by decide) ?_
      exact hret _ _ _ _ dX0_constant_10 (Or.inl ⟨rfl, rfl, by omega⟩)
theorem ct0_one (a : Int) (σ : Sg) (hP : PIC (σ 0 0) (KV σ) (σ 2) (σ 3) (σ 4)) : Ct w0 yX0_one cX0_one 2 (some .int) 2 47 [a] σ (fun r σ1 => (r = -1 ∧ σ1 = σ ∧ ¬ (0 ≤ a ∧ a < σ 0 0)) ∨ ((0 ≤ a ∧ a < σ 0 0) ∧ NodeP 1 a 0 r (σ 0 0) (KV σ) (σ 2) (σ 3) (σ 4) (σ1 0 0) (KV σ1) (σ1 2) (σ1 3) (σ1 4) ∧ ∀ k, 5 ≤ k → σ1 k = σ k)) := by
  refine ct_int (by decide +kernel) rfl (Nat.le_of_ble_eq_true rfl) (fun κ hret => ?_)
  refine v_aload_n dX0_one_0 rfl ?_
  refine v_iload_n dX0_one_1 rfl ?_
  refine c0_isNode (rest := []) dX0_one_2 (ct0_isNode a σ) rfl (by decide) rfl (by decide) (fun r2 s2 h2 => ?_)
  obtain ⟨u2, e2⟩ := h2
  subst u2
  refine v_if_ne (tgt := 10) dX0_one_5 (by decide) (fun c5 => ?_) (fun c5 => ?_)
  · have n2 : 0 ≤ a ∧ a < s2 0 0 := Classical.byContradiction fun hn => by rw [if_neg hn] at e2; omega
    refine v_aload_n dX0_one_10 rfl ?_
    refine v_bipush 20 dX0_one_11 (by decide) (by decide) ?_
    refine v_iload_n dX0_one_13 rfl ?_
    refine v_iconst 0 dX0_one_14 (by decide) (by decide) ?_
    refine c0_node (rest := []) dX0_one_15 (ct0_node 20 a 0 s2 hP (Or.inr (Or.inl ⟨rfl, by omega, by omega, rfl⟩)) (by decide)) rfl (by decide) rfl (by decide) (fun r9 τ h9 => ?_)
    exact hret _ _ _ _ dX0_one_18 (Or.inr ⟨by omega, h9⟩)
  · have n2 : ¬ (0 ≤ a ∧ a < s2 0 0) := fun hn => by rw [if_pos hn] at e2; omega
    refine v_iconst (-1) dX0_one_8 (by decide) (by decide) ?_
    exact hret _ _ _ _ dX0_one_9 (Or.inl ⟨rfl, rfl, by omega⟩)
theorem ct0_two (a b : Int) (σ : Sg) (hP : PIC (σ 0 0) (KV σ) (σ 2) (σ 3) (σ 4)) : Ct w0 yX0_two cX0_two 3 (some .int) 2 47 [a, b] σ (fun r σ1 => (r = -1 ∧ σ1 = σ ∧ ¬ ((0 ≤ a ∧ a < σ 0 0) ∧ 0 ≤ b ∧ b < σ 0 0)) ∨ (((0 ≤ a ∧ a < σ 0 0) ∧ 0 ≤ b ∧ b < σ 0 0) ∧ NodeP 2 a b r (σ 0 0) (KV σ) (σ 2) (σ 3) (σ 4) (σ1 0 0) (KV σ1) (σ1 2) (σ1 3) (σ1 4) ∧ ∀ k, 5 ≤ k → σ1 k = σ k)) := by
  refine ct_int (by decide +kernel) rfl (Nat.le_of_ble_eq_true rfl) (fun κ hret => ?_)
  refine v_aload_n dX0_two_0 rfl ?_
  refine v_iload_n dX0_two_1 rfl ?_
  refine c0_isNode (rest := []) dX0_two_2 (ct0_isNode a σ) rfl (by decide) rfl (by decide) (fun r2 s2 h2 => ?_)
  obtain ⟨u2, e2⟩ := h2
  subst u2
  refine v_if_eq (tgt := 16) dX0_two_5 (by decide) (fun c5 => ?_) (fun c5 => ?_)
  · have n2 : ¬ (0 ≤ a ∧ a < s2 0 0) := fun hn => by rw [if_pos hn] at e2; omega
    refine v_iconst (-1) dX0_two_16 (by decide) (by decide) ?_
    exact hret _ _ _ _ dX0_two_17 (Or.inl ⟨rfl, rfl, by omega⟩)
  · have n2 : 0 ≤ a ∧ a < s2 0 0 := Classical.byContradiction fun hn => by rw [if_neg hn] at e2; omega
    refine v_aload_n dX0_two_8 rfl ?_
    refine v_iload_n dX0_two_9 rfl ?_
    refine c0_isNode (rest := []) dX0_two_10 (ct0_isNode b s2) rfl (by decide) rfl (by decide) (fun r3 s3 h3 => ?_)
    obtain ⟨u3, e3⟩ := h3
    subst u3
    refine v_if_ne (tgt := 18) dX0_two_13 (by decide) (fun c13 => ?_) (fun c13 => ?_)
    · have n3 : 0 ≤ b ∧ b < s3 0 0 := Classical.byContradiction fun hn => by rw [if_neg hn] at e3; omega
      refine v_aload_n dX0_two_18 rfl ?_
      refine v_bipush 21 dX0_two_19 (by decide) (by decide) ?_
      refine v_iload_n dX0_two_21 rfl ?_
      refine v_iload_n dX0_two_22 rfl ?_
      refine c0_node (rest := []) dX0_two_23 (ct0_node 21 a b s3 hP (Or.inr (Or.inr ⟨rfl, by omega, by omega, by omega, by omega⟩)) (by decide)) rfl (by decide) rfl (by decide) (fun r9 τ h9 => ?_)
      exact hret _ _ _ _ dX0_two_26 (Or.inr ⟨by omega, h9⟩)
    · have n3 : ¬ (0 ≤ b ∧ b < s3 0 0) := fun hn => by rw [if_pos hn] at e3; omega
      refine v_iconst (-1) dX0_two_16 (by decide) (by decide) ?_
      exact hret _ _ _ _ dX0_two_17 (Or.inl ⟨rfl, rfl, by omega⟩)
end
section
set_option maxRecDepth 100000
theorem ct1_follow (σ : Sg) (hG : GOK (σ 0 0) (σ 1) (σ 2) (σ 3)) (hLd : LOK (σ 0 0) (σ 4)) (hn1 : 1 ≤ σ 0 0) : CtV w1 yX1_follow cX1_follow 4 1 25 [] σ (fun σ1 => ∃ l, σ1 = upA σ 4 l ∧ Clos (σ 0 0) (σ 1) (σ 2) (σ 3) (fun i j => σ 4 i = σ 4 j) l) := by
  refine ct_void (by decide +kernel) rfl (Nat.le_of_ble_eq_true rfl) (fun κ hret => ?_)
  have g20 := hG.2.1
  have nn := sq_b (n := σ 0 0) (by omega) g20
  have outer : ∀ (d : Nat) (round more : Int) (l : Int → Int), 0 ≤ round → round ≤ 20 → (more = 0 ∨ more = 1) → LOK (σ 0 0) l → BIN (σ 0 0) (fun i j => σ 4 i = σ 4 j) (fun i j => l i = l j) → SND (σ 0 0) (σ 1) (σ 2) (σ 3) (fun i j => σ 4 i = σ 4 j) l → (more = 1 → cntI (lds l) (σ 0 0) + round ≤ 20) → (more = 0 → CLO (σ 0 0) (σ 1) (σ 2) (σ 3) l) → (20 - round).toNat < d → V w1 κ (rmO 1 25) cX1_follow 4 (upA σ 4 l) [(0, rH κ), (1, .inl more), (2, .inl round)] 4 [] := by
    intro d
    induction d with
    | zero => intros; omega
    | succ d ih =>
      intro round more l hr0 hr1 hmo hL hB hS h1 h0 hd
      have hpos := cnt_pos hL hn1
      by_cases hmore : more = 1 ∧ round < 20
      · have hc0 := h1 hmore.1
        have hout : ∀ (xy : Int) (m1 : Int) (l1 : Int → Int), LOK (σ 0 0) l1 → BIN (σ 0 0) (fun i j => σ 4 i = σ 4 j) (fun i j => l1 i = l1 j) → SND (σ 0 0) (σ 1) (σ 2) (σ 3) (fun i j => σ 4 i = σ 4 j) l1 → (((m1 = 0 ∧ l1 = l ∧ ∀ t, 0 ≤ t → t < xy → cgr (σ 1) (σ 2) (σ 3) l1 (t / σ 0 0) (t % σ 0 0) → l1 (t / σ 0 0) = l1 (t % σ 0 0)) ∨ (m1 = 1 ∧ cntI (lds l1) (σ 0 0) < cntI (lds l) (σ 0 0)))) → σ 0 0 * σ 0 0 ≤ xy → V w1 κ (rmO 1 25) cX1_follow 4 (upA σ 4 l1) [(0, rH κ), (1, .inl m1), (2, .inl round), (3, .inl xy)] 77 [] := by
          intro xy m1 l1 hL1 hB1 hS1 hM1 hxy
          refine v_iinc (lv1 := [(0, rH κ), (1, .inl m1), (2, .inl (round + 1)), (3, .inl xy)]) dX1_follow_77 rfl (fun _ => (by omega)) (noL_of rfl) (by decide) rfl ?_
          refine v_goto (tgt := 4) dX1_follow_80 (by decide) ?_
          refine v_pick [0, 1, 2] rfl ?_
          refine ih _ _ _ (by omega) (by omega) (hM1.elim (fun h => Or.inl h.1) (fun h => Or.inr h.1)) hL1 hB1 hS1 (fun e => hM1.elim (fun h => by omega) (fun h => by omega)) (fun e => hM1.elim (fun h => ?_) (fun h => by omega)) (by omega)
          refine pairs_CLO (by omega) (fun t t0 t1 hc => h.2.2 t t0 (by omega) hc)
        have inner : ∀ (L0 : Int → Int), L0 = l → ∀ (d2 : Nat) (xy more : Int) (l : Int → Int), 0 ≤ xy → xy ≤ σ 0 0 * σ 0 0 → LOK (σ 0 0) l → BIN (σ 0 0) (fun i j => σ 4 i = σ 4 j) (fun i j => l i = l j) → SND (σ 0 0) (σ 1) (σ 2) (σ 3) (fun i j => σ 4 i = σ 4 j) l → ((more = 0 ∧ l = L0 ∧ ∀ t, 0 ≤ t → t < xy → cgr (σ 1) (σ 2) (σ 3) l (t / σ 0 0) (t % σ 0 0) → l (t / σ 0 0) = l (t % σ 0 0)) ∨ (more = 1 ∧ cntI (lds l) (σ 0 0) < cntI (lds L0) (σ 0 0))) → (σ 0 0 * σ 0 0 - xy).toNat < d2 → V w1 κ (rmO 1 25) cX1_follow 4 (upA σ 4 l) [(0, rH κ), (1, .inl more), (2, .inl round), (3, .inl xy)] 18 [] := by
          intro L0 eL0 d2
          subst eL0
          induction d2 with
          | zero => intros; omega
          | succ d2 ih2 =>
            intro xy more l hx0 hx1 hL hB hS hM hd2
            refine v_iload_n dX1_follow_18 rfl ?_
            refine v_aload_n dX1_follow_19 rfl ?_
            refine g1_n dX1_follow_20 (σ 0 0) rfl ?_
            refine v_aload_n dX1_follow_23 rfl ?_
            refine g1_n dX1_follow_24 (σ 0 0) rfl ?_
            refine v_imul dX1_follow_27 (fun _ _ => (by omega)) ?_
            refine v_icmp_ge (tgt := 77) dX1_follow_28 (by decide) (fun c28 => ?_) (fun c28 => ?_)
            · exact hout xy more l hL hB hS hM (by omega)
            · have dm := divmod_in (n := σ 0 0) (by omega) hx0 c28
              refine v_aload_n dX1_follow_31 rfl ?_
              refine v_iload_n dX1_follow_32 rfl ?_
              refine v_aload_n dX1_follow_33 rfl ?_
              refine g1_n dX1_follow_34 (σ 0 0) rfl ?_
              refine v_idiv dX1_follow_37 (by omega) (by omega) ?_
              refine v_iload_n dX1_follow_38 rfl ?_
              refine v_aload_n dX1_follow_39 rfl ?_
              refine g1_n dX1_follow_40 (σ 0 0) rfl ?_
              refine v_irem dX1_follow_43 (by omega) (by omega) ?_
              refine c1_alike (rest := []) dX1_follow_44 (ct1_alike (xy / σ 0 0) (xy % σ 0 0) (upA σ 4 l) hG dm.1 dm.2) rfl (by decide) rfl (by decide) (fun r4 τ h4 => ?_)
              obtain ⟨u4, e4⟩ := h4
              subst u4
              refine v_if_eq (tgt := 71) dX1_follow_47 (by decide) (fun c47 => ?_) (fun c47 => ?_)
              · refine v_iinc (lv1 := [(0, rH κ), (1, .inl more), (2, .inl round), (3, .inl (xy + 1))]) dX1_follow_71 rfl (fun _ => (by omega)) (noL_of rfl) (by decide) rfl ?_
                refine v_goto (tgt := 18) dX1_follow_74 (by decide) ?_
                refine ih2 _ _ _ (by omega) (by omega) hL hB hS (hM.imp (fun h => ⟨h.1, h.2.1, fun t t0 t1 hc => ?_⟩) id) (by omega)
                have hncg : ¬ cgr (σ 1) (σ 2) (σ 3) l (xy / σ 0 0) (xy % σ 0 0) := e4.elim (fun e => absurd (e.1.symm.trans c47) (by decide)) (fun e => e.2)
                by_cases et : t = xy
                · rw [et] at hc; exact absurd hc hncg
                · exact h.2.2 t t0 (by omega) hc
              · have hcg : cgr (σ 1) (σ 2) (σ 3) l (xy / σ 0 0) (xy % σ 0 0) := e4.elim (fun e => e.2) (fun e => absurd e.1 c47)
                refine v_aload_n dX1_follow_50 rfl ?_
                refine v_iload_n dX1_follow_51 rfl ?_
                refine v_aload_n dX1_follow_52 rfl ?_
                refine g1_n dX1_follow_53 (σ 0 0) rfl ?_
                refine v_idiv dX1_follow_56 (by omega) (by omega) ?_
                refine v_iload_n dX1_follow_57 rfl ?_
                refine v_aload_n dX1_follow_58 rfl ?_
                refine g1_n dX1_follow_59 (σ 0 0) rfl ?_
                refine v_irem dX1_follow_62 (by omega) (by omega) ?_
                refine c1_join (rest := []) dX1_follow_63 (ct1_join (xy / σ 0 0) (xy % σ 0 0) (upA σ 4 l) (show 0 ≤ σ 0 0 by omega) (show σ 0 0 ≤ 20 from g20) dm.1 dm.2) rfl (by decide) rfl (by decide) (fun r6 τ h6 => ?_)
                obtain ⟨u6, e6⟩ := h6
                have u6 : τ = upA σ 4 (jn (σ 0 0) (xy / σ 0 0) (xy % σ 0 0) l) := u6.trans (upA_upA σ 4 l _)
                subst u6
                refine v_if_eq (tgt := 71) dX1_follow_66 (by decide) (fun c66 => ?_) (fun c66 => ?_)
                · refine v_iinc (lv1 := [(0, rH κ), (1, .inl more), (2, .inl round), (3, .inl (xy + 1))]) dX1_follow_71 rfl (fun _ => (by omega)) (noL_of rfl) (by decide) rfl ?_
                  refine v_goto (tgt := 18) dX1_follow_74 (by decide) ?_
                  have heq : l (xy / σ 0 0) = l (xy % σ 0 0) := e6.elim (fun e => absurd (e.1.symm.trans c66) (by decide)) (fun e => e.2)
                  rw [jn_same heq]
                  refine ih2 _ _ _ (by omega) (by omega) hL hB hS (hM.imp (fun h => ⟨h.1, h.2.1, fun t t0 t1 hc => ?_⟩) id) (by omega)
                  by_cases et : t = xy
                  · rw [et]; exact heq
                  · exact h.2.2 t t0 (by omega) hc
                · refine v_iconst 1 dX1_follow_69 (by decide) (by decide) ?_
                  refine v_istore_n (lv1 := [(0, rH κ), (1, .inl 1), (2, .inl round), (3, .inl xy)]) dX1_follow_70 (noL_of rfl) (by decide) rfl ?_
                  refine v_iinc (lv1 := [(0, rH κ), (1, .inl 1), (2, .inl round), (3, .inl (xy + 1))]) dX1_follow_71 rfl (fun _ => (by omega)) (noL_of rfl) (by decide) rfl ?_
                  refine v_goto (tgt := 18) dX1_follow_74 (by decide) ?_
                  have hne : l (xy / σ 0 0) ≠ l (xy % σ 0 0) := e6.elim (fun e => e.2) (fun e => absurd e.1 c66)
                  have hcnt := jn_cnt hL dm.1 dm.2 hne
                  exact ih2 _ _ _ (by omega) (by omega) (jn_LOK hL dm.1 dm.2) (fun i j i0 i1 j0 j1 e => jn_co ⟨i0, i1⟩ ⟨j0, j1⟩ (hB i j i0 i1 j0 j1 e)) (jn_SND dm.1 dm.2 hS (fun E h1 h2 h3 => cgr_E hG h2 (hS E h1 h2 h3) dm.1 dm.2 hcg)) (Or.inr ⟨rfl, hM.elim (fun h => by rw [← h.2.1]; exact hcnt) (fun h => by omega)⟩) (by omega)
        refine v_iload_n dX1_follow_4 rfl ?_
        refine v_bipush 20 dX1_follow_5 (by decide) (by decide) ?_
        refine v_icmp_ge (tgt := 83) dX1_follow_7 (by decide) (fun c7 => ?_) (fun c7 => ?_)
        · omega
        · refine v_iload_n dX1_follow_10 rfl ?_
          refine v_if_eq (tgt := 83) dX1_follow_11 (by decide) (fun c11 => ?_) (fun c11 => ?_)
          · omega
          · refine v_iconst 0 dX1_follow_14 (by decide) (by decide) ?_
            refine v_istore_n (lv1 := [(0, rH κ), (1, .inl 0), (2, .inl round)]) dX1_follow_15 (noL_of rfl) (by decide) rfl ?_
            refine v_iconst 0 dX1_follow_16 (by decide) (by decide) ?_
            refine v_istore_n (lv1 := [(0, rH κ), (1, .inl 0), (2, .inl round), (3, .inl 0)]) dX1_follow_17 (noL_of rfl) (by decide) rfl ?_
            exact inner l rfl _ 0 0 l (by omega) nn.1 hL hB hS (Or.inl ⟨rfl, rfl, fun t t0 t1 => by omega⟩) (Nat.lt_succ_self _)
      · refine v_iload_n dX1_follow_4 rfl ?_
        refine v_bipush 20 dX1_follow_5 (by decide) (by decide) ?_
        refine v_icmp_ge (tgt := 83) dX1_follow_7 (by decide) (fun c7 => ?_) (fun c7 => ?_)
        · have hcl : CLO (σ 0 0) (σ 1) (σ 2) (σ 3) l := h0 (hmo.elim id (fun h => by have := h1 h; omega))
          exact hret _ _ _ dX1_follow_83 ⟨l, rfl, hL, hB, hcl, hS⟩
        · refine v_iload_n dX1_follow_10 rfl ?_
          refine v_if_eq (tgt := 83) dX1_follow_11 (by decide) (fun c11 => ?_) (fun c11 => ?_)
          · have hcl : CLO (σ 0 0) (σ 1) (σ 2) (σ 3) l := h0 (hmo.elim id (fun h => by have := h1 h; omega))
            exact hret _ _ _ dX1_follow_83 ⟨l, rfl, hL, hB, hcl, hS⟩
          · exact absurd (show more = 1 by omega) (fun h => hmore ⟨h, c7⟩)
  refine v_iconst 1 dX1_follow_0 (by decide) (by decide) ?_
  refine v_istore_n (lv1 := [(0, rH κ), (1, .inl 1)]) dX1_follow_1 (noL_of rfl) (by decide) rfl ?_
  refine v_iconst 0 dX1_follow_2 (by decide) (by decide) ?_
  refine v_istore_n (lv1 := [(0, rH κ), (1, .inl 1), (2, .inl 0)]) dX1_follow_3 (noL_of rfl) (by decide) rfl ?_
  have hcb := cntI_b (lds (σ 4)) (i := σ 0 0) (by omega)
  have := outer 21 0 1 (σ 4) (by omega) (by omega) (Or.inr rfl) hLd (fun _ _ _ _ _ _ e => e) snd_self (fun _ => by omega) (fun e => by omega) (by omega)
  rw [upA_id] at this
  exact this
end
section
set_option maxRecDepth 100000
theorem ct1_make (s a b : Int) (σ : Sg) (hP : PIC (σ 0 0) (σ 1) (σ 2) (σ 3) (σ 4)) (ha : argOk s a b (σ 0 0)) : Ct w1 yX1_make cX1_make 5 (some .int) 2 48 [s, a, b] σ (fun r σ1 => NodeP s a b r (σ 0 0) (σ 1) (σ 2) (σ 3) (σ 4) (σ1 0 0) (σ1 1) (σ1 2) (σ1 3) (σ1 4) ∧ ∀ k, 5 ≤ k → σ1 k = σ k) := by
  refine ct_int (by decide +kernel) rfl (Nat.le_of_ble_eq_true rfl) (fun κ hret => ?_)
  have g0 := hP.1.1
  have g20 := hP.1.2.1
  have hexit : ∀ i : Int, NoneIn (isN (σ 1) (σ 2) (σ 3) s a b) (σ 0 0) → V w1 κ (rmO 2 48) cX1_make 5 σ [(0, rH κ), (1, .inl s), (2, .inl a), (3, .inl b), (4, .inl i)] 54 [] := by
    intro i hno
    refine v_aload_n dX1_make_54 rfl ?_
    refine g1_n dX1_make_55 (σ 0 0) rfl ?_
    refine v_bipush 20 dX1_make_58 (by decide) (by decide) ?_
    refine v_icmp_ne (tgt := 66) dX1_make_60 (by decide) (fun c60 => ?_) (fun c60 => ?_)
    · have hlt : σ 0 0 < 20 := by omega
      have hGs : GOK (σ 0 0 + 1) (nodeStM σ s a b 1) (nodeStM σ s a b 2) (nodeStM σ s a b 3) := node_GOK hP.1 ha hlt (nodeStM_same σ s a b) (by rw [nodeStM_1, if_pos rfl]) (by rw [nodeStM_2, if_pos rfl]) (by rw [nodeStM_3, if_pos rfl])
      have hLs : LOK (σ 0 0 + 1) (nodeStM σ s a b 4) := fun j j0 j1 => by
        by_cases e : j = σ 0 0
        · subst e; rw [nodeStM_4, if_pos rfl, nodeStM_4, if_pos rfl]; omega
        · have p := hP.2.1 j j0 (by omega)
          rw [nodeStM_4, if_neg e, nodeStM_4, if_neg (by omega)]; exact p
      refine v_aload_n dX1_make_66 rfl ?_
      refine g1_kind dX1_make_67 ?_
      refine v_aload_n dX1_make_70 rfl ?_
      refine g1_n dX1_make_71 (σ 0 0) rfl ?_
      refine v_iload_n dX1_make_74 rfl ?_
      refine s1_kind dX1_make_75 (by omega) ?_
      refine v_aload_n dX1_make_76 rfl ?_
      refine g1_a dX1_make_77 ?_
      refine v_aload_n dX1_make_80 rfl ?_
      refine g1_n dX1_make_81 (σ 0 0) rfl ?_
      refine v_iload_n dX1_make_84 rfl ?_
      refine s1_a dX1_make_85 (by omega) ?_
      refine v_aload_n dX1_make_86 rfl ?_
      refine g1_b dX1_make_87 ?_
      refine v_aload_n dX1_make_90 rfl ?_
      refine g1_n dX1_make_91 (σ 0 0) rfl ?_
      refine v_iload_n dX1_make_94 rfl ?_
      refine s1_b dX1_make_95 (by omega) ?_
      refine v_aload_n dX1_make_96 rfl ?_
      refine g1_least dX1_make_97 ?_
      refine v_aload_n dX1_make_100 rfl ?_
      refine g1_n dX1_make_101 (σ 0 0) rfl ?_
      refine v_aload_n dX1_make_104 rfl ?_
      refine g1_n dX1_make_105 (σ 0 0) rfl ?_
      refine s1_least dX1_make_108 (by omega) ?_
      refine v_aload_n dX1_make_109 rfl ?_
      refine v_dup dX1_make_110 rfl ?_
      refine g1_n dX1_make_111 (σ 0 0) rfl ?_
      refine v_iconst 1 dX1_make_114 (by decide) (by decide) ?_
      refine v_iadd dX1_make_115 (fun _ _ => (by omega)) ?_
      refine p1_n dX1_make_116 ?_
      refine v_aload_n dX1_make_119 rfl ?_
      refine c1_follow (rest := []) dX1_make_120 (ct1_follow (nodeStM σ s a b) hGs hLs (by rw [nodeStM_0]; omega)) rfl (by decide) rfl (by decide) (fun τ h9 => ?_)
      obtain ⟨l2, u9, hC⟩ := h9
      subst u9
      refine v_aload_n dX1_make_123 rfl ?_
      refine g1_n dX1_make_124 (σ 0 0 + 1) rfl ?_
      refine v_iconst 1 dX1_make_127 (by decide) (by decide) ?_
      refine v_isub dX1_make_128 (fun _ _ => (by omega)) ?_
      exact hret _ _ _ _ dX1_make_129 (show NodeP s a b (σ 0 0 + 1 - 1) _ _ _ _ _ _ _ _ _ _ ∧ _ from by rw [show σ 0 0 + 1 - 1 = σ 0 0 by omega]; exact nodeStM_fin hP ha hno (by omega) hC rfl)
    · refine v_bipush (-2) dX1_make_63 (by decide) (by decide) ?_
      exact hret _ _ _ _ dX1_make_65 ⟨Or.inr (Or.inl ⟨hno, by omega, rfl, rfl, same4_refl⟩), fun _ _ => rfl⟩
  have loop1 : ∀ (d : Nat) (i : Int), 0 ≤ i → i ≤ σ 0 0 → NoneIn (isN (σ 1) (σ 2) (σ 3) s a b) i → (σ 0 0 - i).toNat < d → V w1 κ (rmO 2 48) cX1_make 5 σ [(0, rH κ), (1, .inl s), (2, .inl a), (3, .inl b), (4, .inl i)] 3 [] := by
    intro d
    induction d with
    | zero => intros; omega
    | succ d ih =>
      intro i hi0 hin hno hd
      refine v_iload dX1_make_3 rfl ?_
      refine v_aload_n dX1_make_5 rfl ?_
      refine g1_n dX1_make_6 (σ 0 0) rfl ?_
      refine v_icmp_ge (tgt := 54) dX1_make_9 (by decide) (fun c9 => ?_) (fun c9 => ?_)
      · exact hexit i (by rw [← show i = σ 0 0 by omega]; exact hno)
      · refine v_aload_n dX1_make_12 rfl ?_
        refine g1_kind dX1_make_13 ?_
        refine v_iload dX1_make_16 rfl ?_
        refine l1_kind dX1_make_18 (by omega) (σ 1 i) rfl ?_
        refine v_iload_n dX1_make_19 rfl ?_
        refine v_icmp_ne (tgt := 48) dX1_make_20 (by decide) (fun c20 => ?_) (fun c20 => ?_)
        · refine v_iinc (lv1 := [(0, rH κ), (1, .inl s), (2, .inl a), (3, .inl b), (4, .inl (i + 1))]) dX1_make_48 rfl (fun _ => (by omega)) (noL_of rfl) (by decide) rfl ?_
          refine v_goto (tgt := 3) dX1_make_51 (by decide) ?_
          exact ih _ (by omega) (by omega) (none_s hno (fun h => by have h1 := h.1; have h2 := h.2; omega)) (by omega)
        · refine v_aload_n dX1_make_23 rfl ?_
          refine g1_a dX1_make_24 ?_
          refine v_iload dX1_make_27 rfl ?_
          refine l1_a dX1_make_29 (by omega) (σ 2 i) rfl ?_
          refine v_iload_n dX1_make_30 rfl ?_
          refine v_icmp_ne (tgt := 48) dX1_make_31 (by decide) (fun c31 => ?_) (fun c31 => ?_)
          · refine v_iinc (lv1 := [(0, rH κ), (1, .inl s), (2, .inl a), (3, .inl b), (4, .inl (i + 1))]) dX1_make_48 rfl (fun _ => (by omega)) (noL_of rfl) (by decide) rfl ?_
            refine v_goto (tgt := 3) dX1_make_51 (by decide) ?_
            exact ih _ (by omega) (by omega) (none_s hno (fun h => by have h1 := h.1; have h2 := h.2; omega)) (by omega)
          · refine v_aload_n dX1_make_34 rfl ?_
            refine g1_b dX1_make_35 ?_
            refine v_iload dX1_make_38 rfl ?_
            refine l1_b dX1_make_40 (by omega) (σ 3 i) rfl ?_
            refine v_iload_n dX1_make_41 rfl ?_
            refine v_icmp_ne (tgt := 48) dX1_make_42 (by decide) (fun c42 => ?_) (fun c42 => ?_)
            · refine v_iinc (lv1 := [(0, rH κ), (1, .inl s), (2, .inl a), (3, .inl b), (4, .inl (i + 1))]) dX1_make_48 rfl (fun _ => (by omega)) (noL_of rfl) (by decide) rfl ?_
              refine v_goto (tgt := 3) dX1_make_51 (by decide) ?_
              exact ih _ (by omega) (by omega) (none_s hno (fun h => by have h1 := h.1; have h2 := h.2; omega)) (by omega)
            · refine v_iload dX1_make_45 rfl ?_
              exact hret _ _ _ _ dX1_make_47 ⟨Or.inl ⟨i, ⟨hi0, by omega, ⟨by omega, by omega, by omega⟩, hno⟩, rfl, rfl, same4_refl⟩, fun _ _ => rfl⟩
  refine v_iconst 0 dX1_make_0 (by decide) (by decide) ?_
  refine v_istore (lv1 := [(0, rH κ), (1, .inl s), (2, .inl a), (3, .inl b), (4, .inl 0)]) dX1_make_1 (noL_of rfl) (by decide) rfl ?_
  exact loop1 21 0 (by omega) (by omega) (none_0 _) (by omega)
theorem ct1_constant (k : Int) (σ : Sg) (hP : PIC (σ 0 0) (σ 1) (σ 2) (σ 3) (σ 4)) : Ct w1 yX1_constant cX1_constant 2 (some .int) 3 72 [k] σ (fun r σ1 => (r = -1 ∧ σ1 = σ ∧ ¬ (0 ≤ k ∧ k ≤ 5)) ∨ ((0 ≤ k ∧ k ≤ 5) ∧ NodeP 0 k 0 r (σ 0 0) (σ 1) (σ 2) (σ 3) (σ 4) (σ1 0 0) (σ1 1) (σ1 2) (σ1 3) (σ1 4) ∧ ∀ k, 5 ≤ k → σ1 k = σ k)) := by
  refine ct_int (by decide +kernel) rfl (Nat.le_of_ble_eq_true rfl) (fun κ hret => ?_)
  refine v_iload_n dX1_constant_0 rfl ?_
  refine v_if_lt (tgt := 9) dX1_constant_1 (by decide) (fun c1 => ?_) (fun c1 => ?_)
  · refine v_iconst (-1) dX1_constant_9 (by decide) (by decide) ?_
    refine v_goto (tgt := 20) dX1_constant_10 (by decide) ?_
    exact hret _ _ _ _ dX1_constant_20 (Or.inl ⟨rfl, rfl, by omega⟩)
  · refine v_iload_n dX1_constant_4 rfl ?_
    refine v_iconst 5 dX1_constant_5 (by decide) (by decide) ?_
    refine v_icmp_le (tgt := 13) dX1_constant_6 (by decide) (fun c6 => ?_) (fun c6 => ?_)
    · refine v_aload_n dX1_constant_13 rfl ?_
      refine v_iconst 0 dX1_constant_14 (by decide) (by decide) ?_
      refine v_iload_n dX1_constant_15 rfl ?_
      refine v_iconst 0 dX1_constant_16 (by decide) (by decide) ?_
      refine c1_make (rest := []) dX1_constant_17 (ct1_make 0 k 0 σ hP (Or.inl ⟨rfl, by omega, by omega, rfl⟩)) rfl (by decide) rfl (by decide) (fun r9 τ h9 => ?_)
      exact hret _ _ _ _ dX1_constant_20 (Or.inr ⟨by omega, h9⟩)
    · refine v_iconst (-1) dX1_constant_9 (by decide) (by decide) ?_
      refine v_goto (tgt := 20) dX1_constant_10 (by decide) ?_
      exact hret _ _ _ _ dX1_constant_20 (Or.inl ⟨rfl, rfl, by omega⟩)
theorem ct1_one (a : Int) (σ : Sg) (hP : PIC (σ 0 0) (σ 1) (σ 2) (σ 3) (σ 4)) : Ct w1 yX1_one cX1_one 2 (some .int) 3 72 [a] σ (fun r σ1 => (r = -1 ∧ σ1 = σ ∧ ¬ (0 ≤ a ∧ a < σ 0 0)) ∨ ((0 ≤ a ∧ a < σ 0 0) ∧ NodeP 1 a 0 r (σ 0 0) (σ 1) (σ 2) (σ 3) (σ 4) (σ1 0 0) (σ1 1) (σ1 2) (σ1 3) (σ1 4) ∧ ∀ k, 5 ≤ k → σ1 k = σ k)) := by
  refine ct_int (by decide +kernel) rfl (Nat.le_of_ble_eq_true rfl) (fun κ hret => ?_)
  refine v_aload_n dX1_one_0 rfl ?_
  refine v_iload_n dX1_one_1 rfl ?_
  refine c1_isNode (rest := []) dX1_one_2 (ct1_isNode a σ) rfl (by decide) rfl (by decide) (fun r2 s2 h2 => ?_)
  obtain ⟨u2, e2⟩ := h2
  subst u2
  refine v_if_eq (tgt := 18) dX1_one_5 (by decide) (fun c5 => ?_) (fun c5 => ?_)
  · have n2 : ¬ (0 ≤ a ∧ a < s2 0 0) := fun hn => by rw [if_pos hn] at e2; omega
    refine v_iconst (-1) dX1_one_18 (by decide) (by decide) ?_
    exact hret _ _ _ _ dX1_one_19 (Or.inl ⟨rfl, rfl, by omega⟩)
  · have n2 : 0 ≤ a ∧ a < s2 0 0 := Classical.byContradiction fun hn => by rw [if_neg hn] at e2; omega
    refine v_aload_n dX1_one_8 rfl ?_
    refine v_iconst 1 dX1_one_9 (by decide) (by decide) ?_
    refine v_iload_n dX1_one_10 rfl ?_
    refine v_iconst 0 dX1_one_11 (by decide) (by decide) ?_
    refine c1_make (rest := []) dX1_one_12 (ct1_make 1 a 0 s2 hP (Or.inr (Or.inl ⟨rfl, by omega, by omega, rfl⟩))) rfl (by decide) rfl (by decide) (fun r9 τ h9 => ?_)
    refine v_goto (tgt := 19) dX1_one_15 (by decide) ?_
    exact hret _ _ _ _ dX1_one_19 (Or.inr ⟨by omega, h9⟩)
theorem ct1_two (a b : Int) (σ : Sg) (hP : PIC (σ 0 0) (σ 1) (σ 2) (σ 3) (σ 4)) : Ct w1 yX1_two cX1_two 3 (some .int) 3 72 [a, b] σ (fun r σ1 => (r = -1 ∧ σ1 = σ ∧ ¬ ((0 ≤ a ∧ a < σ 0 0) ∧ 0 ≤ b ∧ b < σ 0 0)) ∨ (((0 ≤ a ∧ a < σ 0 0) ∧ 0 ≤ b ∧ b < σ 0 0) ∧ NodeP 2 a b r (σ 0 0) (σ 1) (σ 2) (σ 3) (σ 4) (σ1 0 0) (σ1 1) (σ1 2) (σ1 3) (σ1 4) ∧ ∀ k, 5 ≤ k → σ1 k = σ k)) := by
  refine ct_int (by decide +kernel) rfl (Nat.le_of_ble_eq_true rfl) (fun κ hret => ?_)
  refine v_aload_n dX1_two_0 rfl ?_
  refine v_iload_n dX1_two_1 rfl ?_
  refine c1_isNode (rest := []) dX1_two_2 (ct1_isNode a σ) rfl (by decide) rfl (by decide) (fun r2 s2 h2 => ?_)
  obtain ⟨u2, e2⟩ := h2
  subst u2
  refine v_if_eq (tgt := 26) dX1_two_5 (by decide) (fun c5 => ?_) (fun c5 => ?_)
  · have n2 : ¬ (0 ≤ a ∧ a < s2 0 0) := fun hn => by rw [if_pos hn] at e2; omega
    refine v_iconst (-1) dX1_two_26 (by decide) (by decide) ?_
    exact hret _ _ _ _ dX1_two_27 (Or.inl ⟨rfl, rfl, by omega⟩)
  · have n2 : 0 ≤ a ∧ a < s2 0 0 := Classical.byContradiction fun hn => by rw [if_neg hn] at e2; omega
    refine v_aload_n dX1_two_8 rfl ?_
    refine v_iload_n dX1_two_9 rfl ?_
    refine c1_isNode (rest := []) dX1_two_10 (ct1_isNode b s2) rfl (by decide) rfl (by decide) (fun r3 s3 h3 => ?_)
    obtain ⟨u3, e3⟩ := h3
    subst u3
    refine v_if_eq (tgt := 26) dX1_two_13 (by decide) (fun c13 => ?_) (fun c13 => ?_)
    · have n3 : ¬ (0 ≤ b ∧ b < s3 0 0) := fun hn => by rw [if_pos hn] at e3; omega
      refine v_iconst (-1) dX1_two_26 (by decide) (by decide) ?_
      exact hret _ _ _ _ dX1_two_27 (Or.inl ⟨rfl, rfl, by omega⟩)
    · have n3 : 0 ≤ b ∧ b < s3 0 0 := Classical.byContradiction fun hn => by rw [if_neg hn] at e3; omega
      refine v_aload_n dX1_two_16 rfl ?_
      refine v_iconst 2 dX1_two_17 (by decide) (by decide) ?_
      refine v_iload_n dX1_two_18 rfl ?_
      refine v_iload_n dX1_two_19 rfl ?_
      refine c1_make (rest := []) dX1_two_20 (ct1_make 2 a b s3 hP (Or.inr (Or.inr ⟨rfl, by omega, by omega, by omega, by omega⟩))) rfl (by decide) rfl (by decide) (fun r9 τ h9 => ?_)
      refine v_goto (tgt := 27) dX1_two_23 (by decide) ?_
      exact hret _ _ _ _ dX1_two_27 (Or.inr ⟨by omega, h9⟩)
theorem ct1_equate (a b : Int) (σ : Sg) (hP : PIC (σ 0 0) (σ 1) (σ 2) (σ 3) (σ 4)) : Ct w1 yX1_equate cX1_equate 3 (some .int) 2 48 [a, b] σ (fun r σ1 => (r = -1 ∧ σ1 = σ ∧ ¬ ((0 ≤ a ∧ a < σ 0 0) ∧ 0 ≤ b ∧ b < σ 0 0)) ∨ (((0 ≤ a ∧ a < σ 0 0) ∧ 0 ≤ b ∧ b < σ 0 0) ∧ ∃ l, σ1 = upA σ 4 l ∧ EqP a b r (σ 0 0) (σ 1) (σ 2) (σ 3) (σ 4) l)) := by
  refine ct_int (by decide +kernel) rfl (Nat.le_of_ble_eq_true rfl) (fun κ hret => ?_)
  refine v_aload_n dX1_equate_0 rfl ?_
  refine v_iload_n dX1_equate_1 rfl ?_
  refine c1_isNode (rest := []) dX1_equate_2 (ct1_isNode a σ) rfl (by decide) rfl (by decide) (fun r2 s2 h2 => ?_)
  obtain ⟨u2, e2⟩ := h2
  subst u2
  refine v_if_eq (tgt := 16) dX1_equate_5 (by decide) (fun c5 => ?_) (fun c5 => ?_)
  · have n2 : ¬ (0 ≤ a ∧ a < s2 0 0) := fun hn => by rw [if_pos hn] at e2; omega
    refine v_iconst (-1) dX1_equate_16 (by decide) (by decide) ?_
    exact hret _ _ _ _ dX1_equate_17 (Or.inl ⟨rfl, rfl, by omega⟩)
  · have n2 : 0 ≤ a ∧ a < s2 0 0 := Classical.byContradiction fun hn => by rw [if_neg hn] at e2; omega
    refine v_aload_n dX1_equate_8 rfl ?_
    refine v_iload_n dX1_equate_9 rfl ?_
    refine c1_isNode (rest := []) dX1_equate_10 (ct1_isNode b s2) rfl (by decide) rfl (by decide) (fun r3 s3 h3 => ?_)
    obtain ⟨u3, e3⟩ := h3
    subst u3
    refine v_if_ne (tgt := 18) dX1_equate_13 (by decide) (fun c13 => ?_) (fun c13 => ?_)
    · have n3 : 0 ≤ b ∧ b < s3 0 0 := Classical.byContradiction fun hn => by rw [if_neg hn] at e3; omega
      refine v_aload_n dX1_equate_18 rfl ?_
      refine v_iload_n dX1_equate_19 rfl ?_
      refine v_iload_n dX1_equate_20 rfl ?_
      refine c1_join (rest := []) dX1_equate_21 (ct1_join a b s3 hP.1.1 hP.1.2.1 n2 n3) rfl (by decide) rfl (by decide) (fun r4 τ h4 => ?_)
      obtain ⟨u4, -⟩ := h4
      have u4 : τ = upA s3 4 (jn (s3 0 0) a b (s3 4)) := u4
      subst u4
      refine v_pop dX1_equate_24 rfl ?_
      refine v_aload_n dX1_equate_25 rfl ?_
      refine c1_follow (rest := []) dX1_equate_26 (ct1_follow (upA s3 4 (jn (s3 0 0) a b (s3 4))) hP.1 (jn_LOK hP.2.1 n2 n3) (show 1 ≤ s3 0 0 by omega)) rfl (by decide) rfl (by decide) (fun τ h5 => ?_)
      obtain ⟨l, u5, hC⟩ := h5
      have u5 : τ = upA s3 4 l := u5.trans (upA_upA s3 4 _ _)
      subst u5
      have hC := clos_jn n2 n3 hC
      refine v_aload_n dX1_equate_29 rfl ?_
      refine c1_classes (rest := []) dX1_equate_30 (ct1_classes (upA s3 4 l) hP.1.1 hP.1.2.1) rfl (by decide) rfl (by decide) (fun r6 τ h6 => ?_)
      obtain ⟨u6, e6⟩ := h6
      subst u6
      exact hret _ _ _ _ dX1_equate_33 (Or.inr ⟨by omega, l, rfl, hC, e6⟩)
    · have n3 : ¬ (0 ≤ b ∧ b < s3 0 0) := fun hn => by rw [if_pos hn] at e3; omega
      refine v_iconst (-1) dX1_equate_16 (by decide) (by decide) ?_
      exact hret _ _ _ _ dX1_equate_17 (Or.inl ⟨rfl, rfl, by omega⟩)
end
section
set_option maxRecDepth 100000
theorem ct0_join (a b : Int) (σ : Sg) (hG : GOK (σ 0 0) (KV σ) (σ 2) (σ 3)) (hL : LOK (σ 0 0) (σ 4)) (ha : 0 ≤ a ∧ a < σ 0 0) (hb : 0 ≤ b ∧ b < σ 0 0) : CtV w0 yX0_join cX0_join 9 1 22 [a, b] σ (fun σ1 => (σ 4 a = σ 4 b ∧ σ1 = σ) ∨ (σ 4 a ≠ σ 4 b ∧ σ1 4 = jn (σ 0 0) a b (σ 4) ∧ σ1 0 = σ 0 ∧ σ1 1 = σ 1 ∧ σ1 2 = σ 2 ∧ σ1 3 = σ 3 ∧ (∀ k, 8 ≤ k → σ1 k = σ k) ∧ 0 ≤ σ1 5 0 ∧ σ1 5 0 ≤ 190 ∧ PEND (σ 0 0) (KV σ) (σ 2) (σ 3) (jn (σ 0 0) a b (σ 4)) (σ1 5 0) (σ1 6) (σ1 7) ∧ (σ1 5 0 = 0 → CLO (σ 0 0) (KV σ) (σ 2) (σ 3) (jn (σ 0 0) a b (σ 4))))) := by
  refine ct_void (by decide +kernel) rfl (Nat.le_of_ble_eq_true rfl) (fun κ hret => ?_)
  have g0 := hG.1
  have g20 := hG.2.1
  have pa := hL a ha.1 ha.2
  have pb := hL b hb.1 hb.2
  by_cases hne : σ 4 a ≠ σ 4 b
  case neg =>
    refine v_aload_n dX0_join_0 rfl ?_
    refine g0_leaderOf dX0_join_1 ?_
    refine v_iload_n dX0_join_4 rfl ?_
    refine l0_leaderOf dX0_join_5 (by omega) (σ 4 a) rfl ?_
    refine v_istore_n (lv1 := [(0, rH κ), (1, .inl a), (2, .inl b), (3, .inl (σ 4 a))]) dX0_join_6 (noL_of rfl) (by decide) rfl ?_
    refine v_aload_n dX0_join_7 rfl ?_
    refine g0_leaderOf dX0_join_8 ?_
    refine v_iload_n dX0_join_11 rfl ?_
    refine l0_leaderOf dX0_join_12 (by omega) (σ 4 b) rfl ?_
    refine v_istore (lv1 := [(0, rH κ), (1, .inl a), (2, .inl b), (3, .inl (σ 4 a)), (4, .inl (σ 4 b))]) dX0_join_13 (noL_of rfl) (by decide) rfl ?_
    refine v_iload_n dX0_join_15 rfl ?_
    refine v_iload dX0_join_16 rfl ?_
    refine v_icmp_ne (tgt := 22) dX0_join_18 (by decide) (fun c18 => ?_) (fun c18 => ?_)
    · exact absurd c18 hne
    · exact hret _ _ _ dX0_join_21 (Or.inl ⟨by omega, rfl⟩)
  obtain ⟨l, el⟩ : ∃ l, l = jn (σ 0 0) a b (σ 4) := ⟨_, rfl⟩
  rw [← el] at hret
  have scan : ∀ (x y p q : Int) (d : Nat) (v : Int) (ρ : Sg), 1 ≤ v → v ≤ σ 0 0 → ρ 0 = σ 0 → ρ 1 = σ 1 → ρ 2 = σ 2 → ρ 3 = σ 3 → ρ 4 = l → (∀ k, 8 ≤ k → ρ k = σ k) → 0 ≤ ρ 5 0 → ρ 5 0 ≤ triI v → PEND (σ 0 0) (KV σ) (σ 2) (σ 3) l (ρ 5 0) (ρ 6) (ρ 7) → (ρ 5 0 = 0 → ∀ u1 v1, 0 ≤ u1 → u1 < v1 → v1 < v → cgr (KV σ) (σ 2) (σ 3) l u1 v1 → l u1 = l v1) → (σ 0 0 - v).toNat < d → V w0 κ (rmO 1 22) cX0_join 9 ρ [(0, rH κ), (1, .inl a), (2, .inl b), (3, .inl x), (4, .inl y), (5, .inl p), (6, .inl q), (7, .inl v)] 98 [] := by
    intro x y p q d
    induction d with
    | zero => intros; omega
    | succ d ih =>
      intro v ρ hv1 hvn e0 e1 e2 e3 e4 e8 h50 h51 hpe hvis hd
      by_cases hlt : v < σ 0 0
      · have hnext : ∀ (ρ1 : Sg) (u : Int), ρ1 0 = σ 0 → ρ1 1 = σ 1 → ρ1 2 = σ 2 → ρ1 3 = σ 3 → ρ1 4 = l → (∀ k, 8 ≤ k → ρ1 k = σ k) → 0 ≤ ρ1 5 0 → ρ1 5 0 ≤ triI v + v → PEND (σ 0 0) (KV σ) (σ 2) (σ 3) l (ρ1 5 0) (ρ1 6) (ρ1 7) → (ρ1 5 0 = 0 → ρ 5 0 = 0) → (ρ1 5 0 = 0 → NoneIn (fun u1 => cgr (KV σ) (σ 2) (σ 3) l u1 v ∧ l u1 ≠ l v) v) → V w0 κ (rmO 1 22) cX0_join 9 ρ1 [(0, rH κ), (1, .inl a), (2, .inl b), (3, .inl x), (4, .inl y), (5, .inl p), (6, .inl q), (7, .inl v), (8, .inl u)] 159 [] := by
          intro ρ1 u e0 e1 e2 e3 e4 e8 h50 h51 hpe hz hvs
          refine v_iinc (lv1 := [(0, rH κ), (1, .inl a), (2, .inl b), (3, .inl x), (4, .inl y), (5, .inl p), (6, .inl q), (7, .inl (v + 1)), (8, .inl u)]) dX0_join_159 rfl (fun _ => (by omega)) (noL_of rfl) (by decide) rfl ?_
          refine v_goto (tgt := 98) dX0_join_162 (by decide) ?_
          refine v_pick [0, 1, 2, 3, 4, 5, 6, 7] rfl ?_
          exact ih _ ρ1 (by omega) (by omega) e0 e1 e2 e3 e4 e8 h50 (by rw [tri_s (by omega)]; exact h51) hpe (fun e u1 v1 h0 h1 h2 hc => by
            by_cases ev : v1 = v
            · subst ev; exact Classical.byContradiction fun hq => hvs e u1 h0 h1 ⟨hc, hq⟩
            · exact hvis (hz e) u1 v1 h0 h1 (by omega) hc) (by omega)
        have inner : ∀ (ρ0 : Sg), ρ0 = ρ → ∀ (d2 : Nat) (u : Int) (ρ : Sg), 0 ≤ u → u ≤ v → ρ 0 = σ 0 → ρ 1 = σ 1 → ρ 2 = σ 2 → ρ 3 = σ 3 → ρ 4 = l → (∀ k, 8 ≤ k → ρ k = σ k) → 0 ≤ ρ 5 0 → ρ 5 0 ≤ triI v + u → PEND (σ 0 0) (KV σ) (σ 2) (σ 3) l (ρ 5 0) (ρ 6) (ρ 7) → (ρ 5 0 = 0 → ρ0 5 0 = 0) → (ρ 5 0 = 0 → NoneIn (fun u1 => cgr (KV σ) (σ 2) (σ 3) l u1 v ∧ l u1 ≠ l v) u) → (v - u).toNat < d2 → V w0 κ (rmO 1 22) cX0_join 9 ρ [(0, rH κ), (1, .inl a), (2, .inl b), (3, .inl x), (4, .inl y), (5, .inl p), (6, .inl q), (7, .inl v), (8, .inl u)] 110 [] := by
          intro ρ0 eρ d2
          subst eρ
          induction d2 with
          | zero => intros; omega
          | succ d2 ih2 =>
            intro u ρ hu0 huv e0 e1 e2 e3 e4 e8 h50 h51 hpe hz hvis
            intro hd2
            have t20 := tri_20 (n := v + 1) (by omega)
            have ts := tri_s (n := v) (by omega)
            refine v_iload dX0_join_110 rfl ?_
            refine v_iload dX0_join_112 rfl ?_
            refine v_icmp_ge (tgt := 159) dX0_join_114 (by decide) (fun c114 => ?_) (fun c114 => ?_)
            · exact hnext ρ u e0 e1 e2 e3 e4 e8 h50 (by omega) hpe hz (fun e => by have h9 := hvis e; rw [show u = v by omega] at h9; exact h9)
            · refine v_aload_n dX0_join_117 rfl ?_
              refine g0_leaderOf dX0_join_118 ?_
              refine v_iload dX0_join_121 rfl ?_
              refine l0_leaderOf dX0_join_123 (by omega) (l u) (by rw [e4]) ?_
              refine v_aload_n dX0_join_124 rfl ?_
              refine g0_leaderOf dX0_join_125 ?_
              refine v_iload dX0_join_128 rfl ?_
              refine l0_leaderOf dX0_join_130 (by omega) (l v) (by rw [e4]) ?_
              refine v_icmp_eq (tgt := 153) dX0_join_131 (by decide) (fun c131 => ?_) (fun c131 => ?_)
              · refine v_iinc (lv1 := [(0, rH κ), (1, .inl a), (2, .inl b), (3, .inl x), (4, .inl y), (5, .inl p), (6, .inl q), (7, .inl v), (8, .inl (u + 1))]) dX0_join_153 rfl (fun _ => (by omega)) (noL_of rfl) (by decide) rfl ?_
                refine v_goto (tgt := 110) dX0_join_156 (by decide) ?_
                exact ih2 _ _ (by omega) (by omega) e0 e1 e2 e3 e4 e8 h50 (by omega) hpe hz (fun e => none_s (hvis e) (fun h => h.2 c131)) (by omega)
              · refine v_aload_n dX0_join_134 rfl ?_
                refine v_iload dX0_join_135 rfl ?_
                refine v_iload dX0_join_137 rfl ?_
                refine c0_congruent (rest := []) dX0_join_139 (ct0_congruent u v ρ (by rw [e0, KV_of e1, e2, e3]; exact hG) ⟨hu0, by rw [e0]; omega⟩ ⟨by omega, by rw [e0]; omega⟩) rfl (by decide) rfl (by decide) (fun r9 τ h9 => ?_)
                obtain ⟨u9, e9⟩ := h9
                subst u9
                rw [KV_of e1, e2, e3, e4] at e9
                refine v_if_eq (tgt := 153) dX0_join_142 (by decide) (fun c142 => ?_) (fun c142 => ?_)
                · refine v_iinc (lv1 := [(0, rH κ), (1, .inl a), (2, .inl b), (3, .inl x), (4, .inl y), (5, .inl p), (6, .inl q), (7, .inl v), (8, .inl (u + 1))]) dX0_join_153 rfl (fun _ => (by omega)) (noL_of rfl) (by decide) rfl ?_
                  refine v_goto (tgt := 110) dX0_join_156 (by decide) ?_
                  have hncg : ¬ cgr (KV σ) (σ 2) (σ 3) l u v := e9.elim (fun e => absurd (e.1.symm.trans c142) (by decide)) (fun e => e.2)
                  exact ih2 _ _ (by omega) (by omega) e0 e1 e2 e3 e4 e8 h50 (by omega) hpe hz (fun e => none_s (hvis e) (fun h => hncg h.1)) (by omega)
                · have hcg : cgr (KV σ) (σ 2) (σ 3) l u v := e9.elim (fun e => e.2) (fun e => absurd e.1 c142)
                  refine v_aload_n dX0_join_145 rfl ?_
                  refine v_iload dX0_join_146 rfl ?_
                  refine v_iload dX0_join_148 rfl ?_
                  refine c0_push (rest := []) dX0_join_150 (ct0_push u v τ h50 (by omega) ⟨hu0, by omega⟩ ⟨by omega, by omega⟩) rfl (by decide) rfl (by decide) (fun τ2 h10 => ?_)
                  subst h10
                  refine v_iinc (lv1 := [(0, rH κ), (1, .inl a), (2, .inl b), (3, .inl x), (4, .inl y), (5, .inl p), (6, .inl q), (7, .inl v), (8, .inl (u + 1))]) dX0_join_153 rfl (fun _ => (by omega)) (noL_of rfl) (by decide) rfl ?_
                  refine v_goto (tgt := 110) dX0_join_156 (by decide) ?_
                  exact ih2 _ _ (by omega) (by omega) e0 e1 e2 e3 e4 (fun k hk => (up_o _ _ _ (by omega)).trans ((up_o _ _ _ (by omega)).trans ((up_o _ _ _ (by omega)).trans (e8 k hk)))) (show 0 ≤ τ 5 0 + 1 by omega) (show τ 5 0 + 1 ≤ triI v + (u + 1) by omega) (pend_push hpe ⟨hu0, by omega⟩ ⟨by omega, by omega⟩ c131 hcg) (fun e => absurd (show τ 5 0 + 1 = 0 from e) (by omega)) (fun e => absurd (show τ 5 0 + 1 = 0 from e) (by omega)) (by omega)
        refine v_iload dX0_join_98 rfl ?_
        refine v_aload_n dX0_join_100 rfl ?_
        refine g0_nodeCount dX0_join_101 (σ 0 0) (by rw [e0]) ?_
        refine v_icmp_ge (tgt := 165) dX0_join_104 (by decide) (fun c104 => ?_) (fun c104 => ?_)
        · omega
        · refine v_iconst 0 dX0_join_107 (by decide) (by decide) ?_
          refine v_istore (lv1 := [(0, rH κ), (1, .inl a), (2, .inl b), (3, .inl x), (4, .inl y), (5, .inl p), (6, .inl q), (7, .inl v), (8, .inl 0)]) dX0_join_108 (noL_of rfl) (by decide) rfl ?_
          exact inner ρ rfl _ 0 ρ (by omega) (by omega) e0 e1 e2 e3 e4 e8 h50 (by omega) hpe id (fun _ => none_0 _) (Nat.lt_succ_self _)
      · refine v_iload dX0_join_98 rfl ?_
        refine v_aload_n dX0_join_100 rfl ?_
        refine g0_nodeCount dX0_join_101 (σ 0 0) (by rw [e0]) ?_
        refine v_icmp_ge (tgt := 165) dX0_join_104 (by decide) (fun c104 => ?_) (fun c104 => ?_)
        · exact hret _ _ _ dX0_join_165 (Or.inr ⟨hne, e4, e0, e1, e2, e3, e8, h50, by have := tri_20 (n := v) (by omega); omega, hpe, fun e => half_CLO (fun u1 v1 h0 h1 h2 hc => hvis e u1 v1 h0 h1 (by omega) hc)⟩)
        · omega
  have loop1 : ∀ (x y p q : Int), p = lo2 (σ 4 a) (σ 4 b) → q = hi2 (σ 4 a) (σ 4 b) → 0 ≤ p → p < 20 → ¬ σ 4 a = σ 4 b → ∀ (d : Nat) (i : Int), 0 ≤ i → i ≤ σ 0 0 → (σ 0 0 - i).toNat < d → V w0 κ (rmO 1 22) cX0_join 9 (upA σ 4 (mrg i p q (σ 4))) [(0, rH κ), (1, .inl a), (2, .inl b), (3, .inl x), (4, .inl y), (5, .inl p), (6, .inl q), (7, .inl i)] 53 [] := by
    intro x y p q ep eq hp0 hp20 hn0 d
    induction d with
    | zero => intros; omega
    | succ d ih =>
      intro i hi0 hin hd
      refine v_iload dX0_join_53 rfl ?_
      refine v_aload_n dX0_join_55 rfl ?_
      refine g0_nodeCount dX0_join_56 (σ 0 0) rfl ?_
      refine v_icmp_ge (tgt := 90) dX0_join_59 (by decide) (fun c59 => ?_) (fun c59 => ?_)
      · refine v_aload_n dX0_join_90 rfl ?_
        refine v_iconst 0 dX0_join_91 (by decide) (by decide) ?_
        refine p0_pendingCount dX0_join_92 ?_
        refine v_iconst 1 dX0_join_95 (by decide) (by decide) ?_
        refine v_istore (lv1 := [(0, rH κ), (1, .inl a), (2, .inl b), (3, .inl x), (4, .inl y), (5, .inl p), (6, .inl q), (7, .inl 1)]) dX0_join_96 (noL_of rfl) (by decide) rfl ?_
        have ei : i = σ 0 0 := by omega
        exact scan x y p q 21 1 _ (by omega) (by omega) rfl rfl rfl rfl (show mrg i p q (σ 4) = l by rw [el, ep, eq, ei]; rfl) (fun k hk => (up_o _ _ _ (by omega)).trans (upA_o _ _ (by omega))) (Int.le_refl 0) (by show 0 ≤ triI 1; exact (tri_20 (by omega)).1) (fun t t0 t1 => absurd (show t < 0 from t1) (by omega)) (fun _ u1 v1 h0 h1 h2 => by omega) (by omega)
      · refine v_aload_n dX0_join_62 rfl ?_
        refine g0_leaderOf dX0_join_63 ?_
        refine v_iload dX0_join_66 rfl ?_
        refine l0_leaderOf dX0_join_68 (by omega) (σ 4 i) (mrg_at i p q (σ 4)) ?_
        refine v_iload dX0_join_69 rfl ?_
        refine v_icmp_ne (tgt := 84) dX0_join_71 (by decide) (fun c71 => ?_) (fun c71 => ?_)
        · refine v_iinc (lv1 := [(0, rH κ), (1, .inl a), (2, .inl b), (3, .inl x), (4, .inl y), (5, .inl p), (6, .inl q), (7, .inl (i + 1))]) dX0_join_84 rfl (fun _ => (by omega)) (noL_of rfl) (by decide) rfl ?_
          refine v_goto (tgt := 53) dX0_join_87 (by decide) ?_
          rw [mrg_n c71]
          exact ih _ (by omega) (by omega) (by omega)
        · refine v_aload_n dX0_join_74 rfl ?_
          refine g0_leaderOf dX0_join_75 ?_
          refine v_iload dX0_join_78 rfl ?_
          refine v_iload dX0_join_80 rfl ?_
          refine v_i2b dX0_join_82 (by omega) ?_
          refine s0_leaderOf dX0_join_83 (by omega) (by omega) ?_
          refine v_iinc (lv1 := [(0, rH κ), (1, .inl a), (2, .inl b), (3, .inl x), (4, .inl y), (5, .inl p), (6, .inl q), (7, .inl (i + 1))]) dX0_join_84 rfl (fun _ => (by omega)) (noL_of rfl) (by decide) rfl ?_
          refine v_goto (tgt := 53) dX0_join_87 (by decide) ?_
          rw [up_upA, mrg_y hi0 c71]
          exact ih _ (by omega) (by omega) (by omega)
  refine v_aload_n dX0_join_0 rfl ?_
  refine g0_leaderOf dX0_join_1 ?_
  refine v_iload_n dX0_join_4 rfl ?_
  refine l0_leaderOf dX0_join_5 (by omega) (σ 4 a) rfl ?_
  refine v_istore_n (lv1 := [(0, rH κ), (1, .inl a), (2, .inl b), (3, .inl (σ 4 a))]) dX0_join_6 (noL_of rfl) (by decide) rfl ?_
  refine v_aload_n dX0_join_7 rfl ?_
  refine g0_leaderOf dX0_join_8 ?_
  refine v_iload_n dX0_join_11 rfl ?_
  refine l0_leaderOf dX0_join_12 (by omega) (σ 4 b) rfl ?_
  refine v_istore (lv1 := [(0, rH κ), (1, .inl a), (2, .inl b), (3, .inl (σ 4 a)), (4, .inl (σ 4 b))]) dX0_join_13 (noL_of rfl) (by decide) rfl ?_
  refine v_iload_n dX0_join_15 rfl ?_
  refine v_iload dX0_join_16 rfl ?_
  refine v_icmp_ne (tgt := 22) dX0_join_18 (by decide) (fun c18 => ?_) (fun c18 => ?_)
  · refine v_iload_n dX0_join_22 rfl ?_
    refine v_iload dX0_join_23 rfl ?_
    refine v_icmp_ge (tgt := 32) dX0_join_25 (by decide) (fun c25 => ?_) (fun c25 => ?_)
    · refine v_iload dX0_join_32 rfl ?_
      refine v_istore (lv1 := [(0, rH κ), (1, .inl a), (2, .inl b), (3, .inl (σ 4 a)), (4, .inl (σ 4 b)), (5, .inl (σ 4 b))]) dX0_join_34 (noL_of rfl) (by decide) rfl ?_
      refine v_iload_n dX0_join_36 rfl ?_
      refine v_iload dX0_join_37 rfl ?_
      refine v_icmp_ge (tgt := 47) dX0_join_39 (by decide) (fun c39 => ?_) (fun c39 => ?_)
      · refine v_iload_n dX0_join_47 rfl ?_
        refine v_istore (lv1 := [(0, rH κ), (1, .inl a), (2, .inl b), (3, .inl (σ 4 a)), (4, .inl (σ 4 b)), (5, .inl (σ 4 b)), (6, .inl (σ 4 a))]) dX0_join_48 (noL_of rfl) (by decide) rfl ?_
        refine v_iconst 0 dX0_join_50 (by decide) (by decide) ?_
        refine v_istore (lv1 := [(0, rH κ), (1, .inl a), (2, .inl b), (3, .inl (σ 4 a)), (4, .inl (σ 4 b)), (5, .inl (σ 4 b)), (6, .inl (σ 4 a)), (7, .inl 0)]) dX0_join_51 (noL_of rfl) (by decide) rfl ?_
        have := loop1 (σ 4 a) (σ 4 b) (σ 4 b) (σ 4 a) (by unfold lo2; split <;> omega) (by unfold hi2; split <;> omega) (by omega) (by omega) hne 21 0 (by omega) (by omega) (by omega)
        rw [mrg_0, upA_id] at this
        exact this
      · omega
    · refine v_iload_n dX0_join_28 rfl ?_
      refine v_goto (tgt := 34) dX0_join_29 (by decide) ?_
      refine v_istore (lv1 := [(0, rH κ), (1, .inl a), (2, .inl b), (3, .inl (σ 4 a)), (4, .inl (σ 4 b)), (5, .inl (σ 4 a))]) dX0_join_34 (noL_of rfl) (by decide) rfl ?_
      refine v_iload_n dX0_join_36 rfl ?_
      refine v_iload dX0_join_37 rfl ?_
      refine v_icmp_ge (tgt := 47) dX0_join_39 (by decide) (fun c39 => ?_) (fun c39 => ?_)
      · omega
      · refine v_iload dX0_join_42 rfl ?_
        refine v_goto (tgt := 48) dX0_join_44 (by decide) ?_
        refine v_istore (lv1 := [(0, rH κ), (1, .inl a), (2, .inl b), (3, .inl (σ 4 a)), (4, .inl (σ 4 b)), (5, .inl (σ 4 a)), (6, .inl (σ 4 b))]) dX0_join_48 (noL_of rfl) (by decide) rfl ?_
        refine v_iconst 0 dX0_join_50 (by decide) (by decide) ?_
        refine v_istore (lv1 := [(0, rH κ), (1, .inl a), (2, .inl b), (3, .inl (σ 4 a)), (4, .inl (σ 4 b)), (5, .inl (σ 4 a)), (6, .inl (σ 4 b)), (7, .inl 0)]) dX0_join_51 (noL_of rfl) (by decide) rfl ?_
        have := loop1 (σ 4 a) (σ 4 b) (σ 4 a) (σ 4 b) (by unfold lo2; split <;> omega) (by unfold hi2; split <;> omega) (by omega) (by omega) hne 21 0 (by omega) (by omega) (by omega)
        rw [mrg_0, upA_id] at this
        exact this
  · exact absurd c18 hne
theorem ct0_equate (a b : Int) (σ : Sg) (hP : PIC (σ 0 0) (KV σ) (σ 2) (σ 3) (σ 4)) : Ct w0 yX0_equate cX0_equate 3 (some .int) 2 50 [a, b] σ (fun r σ1 => (r = -1 ∧ σ1 = σ ∧ ¬ ((0 ≤ a ∧ a < σ 0 0) ∧ 0 ≤ b ∧ b < σ 0 0)) ∨ (((0 ≤ a ∧ a < σ 0 0) ∧ 0 ≤ b ∧ b < σ 0 0) ∧ EqP a b r (σ 0 0) (KV σ) (σ 2) (σ 3) (σ 4) (σ1 4) ∧ σ1 0 = σ 0 ∧ σ1 1 = σ 1 ∧ σ1 2 = σ 2 ∧ σ1 3 = σ 3 ∧ ∀ k, 8 ≤ k → σ1 k = σ k)) := by
  refine ct_int (by decide +kernel) rfl (Nat.le_of_ble_eq_true rfl) (fun κ hret => ?_)
  have g0 := hP.1.1
  have g20 := hP.1.2.1
  have loop : (0 ≤ a ∧ a < σ 0 0) → (0 ≤ b ∧ b < σ 0 0) → ∀ (d : Nat) (ρ : Sg), ρ 0 = σ 0 → ρ 1 = σ 1 → ρ 2 = σ 2 → ρ 3 = σ 3 → (∀ k, 8 ≤ k → ρ k = σ k) → LOK (σ 0 0) (ρ 4) → BIN (σ 0 0) (fun i j => σ 4 i = σ 4 j) (fun i j => ρ 4 i = ρ 4 j) → SND (σ 0 0) (KV σ) (σ 2) (σ 3) (fun i j => σ 4 i = σ 4 j ∨ (i = a ∧ j = b)) (ρ 4) → 0 ≤ ρ 5 0 → ρ 5 0 ≤ 190 → ((ρ 5 0 = 1 ∧ ρ 6 0 = a ∧ ρ 7 0 = b ∧ ρ 4 = σ 4 ∧ cntI (lds (ρ 4)) (σ 0 0) + 1 < d) ∨ (ρ 4 a = ρ 4 b ∧ PEND (σ 0 0) (KV σ) (σ 2) (σ 3) (ρ 4) (ρ 5 0) (ρ 6) (ρ 7) ∧ (ρ 5 0 = 0 → CLO (σ 0 0) (KV σ) (σ 2) (σ 3) (ρ 4)) ∧ cntI (lds (ρ 4)) (σ 0 0) < d)) → V w0 κ (rmO 2 50) cX0_equate 3 ρ [(0, rH κ), (1, .inl a), (2, .inl b)] 29 [] := by
    intro ha hb d
    induction d with
    | zero =>
      intro ρ e0 e1 e2 e3 e8 hL hB hS h50 h51 hph
      have := cntI_b (lds (ρ 4)) (i := σ 0 0) (by omega)
      omega
    | succ d ih =>
      intro ρ e0 e1 e2 e3 e8 hL hB hS h50 h51 hph
      refine v_aload_n dX0_equate_29 rfl ?_
      refine g0_pendingCount dX0_equate_30 (ρ 5 0) rfl ?_
      refine v_if_le (tgt := 71) dX0_equate_33 (by decide) (fun c33 => ?_) (fun c33 => ?_)
      · have h00 : ρ 5 0 = 0 := by omega
        have hfin : ρ 4 a = ρ 4 b ∧ CLO (σ 0 0) (KV σ) (σ 2) (σ 3) (ρ 4) := by
          rcases hph with ⟨p1, -⟩ | ⟨p1, -, p3, -⟩
          · omega
          · exact ⟨p1, p3 h00⟩
        refine v_aload_n dX0_equate_71 rfl ?_
        refine c0_classes (rest := []) dX0_equate_72 (ct0_classes ρ (by rw [e0]; omega) (by rw [e0]; omega)) rfl (by decide) rfl (by decide) (fun r8 τ h8 => ?_)
        obtain ⟨u8, e9⟩ := h8
        subst u8
        exact hret _ _ _ _ dX0_equate_75 (Or.inr ⟨⟨ha, hb⟩, ⟨⟨hL, fun i j i0 i1 j0 j1 e => by
          rcases e with e | ⟨e1, e2⟩
          · exact hB i j i0 i1 j0 j1 e
          · show τ 4 i = τ 4 j; rw [e1, e2]; exact hfin.1, hfin.2, hS⟩, by rw [e9, e0]; rfl⟩, e0, e1, e2, e3, e8⟩)
      · have hxy : (0 ≤ ρ 6 (ρ 5 0 - 1) ∧ ρ 6 (ρ 5 0 - 1) < σ 0 0) ∧ (0 ≤ ρ 7 (ρ 5 0 - 1) ∧ ρ 7 (ρ 5 0 - 1) < σ 0 0) := by
          rcases hph with ⟨p1, p2, p3, -, -⟩ | ⟨-, p2, -, -⟩
          · rw [p1, show (1 : Int) - 1 = 0 from rfl, p2, p3]; exact ⟨ha, hb⟩
          · have := p2 (ρ 5 0 - 1) (by omega) (by omega); omega
        have hxr : 0 ≤ ρ 6 (ρ 5 0 - 1) ∧ ρ 6 (ρ 5 0 - 1) < (up ρ 5 0 (ρ 5 0 - 1)) 0 0 := by show 0 ≤ ρ 6 (ρ 5 0 - 1) ∧ ρ 6 (ρ 5 0 - 1) < ρ 0 0; rw [e0]; exact hxy.1
        have hyr : 0 ≤ ρ 7 (ρ 5 0 - 1) ∧ ρ 7 (ρ 5 0 - 1) < (up ρ 5 0 (ρ 5 0 - 1)) 0 0 := by show 0 ≤ ρ 7 (ρ 5 0 - 1) ∧ ρ 7 (ρ 5 0 - 1) < ρ 0 0; rw [e0]; exact hxy.2
        refine v_aload_n dX0_equate_36 rfl ?_
        refine v_dup dX0_equate_37 rfl ?_
        refine g0_pendingCount dX0_equate_38 (ρ 5 0) rfl ?_
        refine v_iconst 1 dX0_equate_41 (by decide) (by decide) ?_
        refine v_isub dX0_equate_42 (fun _ _ => (by omega)) ?_
        refine p0_pendingCount dX0_equate_43 ?_
        refine v_aload_n dX0_equate_46 rfl ?_
        refine v_aload_n dX0_equate_47 rfl ?_
        refine g0_pendingA dX0_equate_48 ?_
        refine v_aload_n dX0_equate_51 rfl ?_
        refine g0_pendingCount dX0_equate_52 ((ρ 5 0) - 1) rfl ?_
        refine l0_pendingA dX0_equate_55 (by omega) (ρ 6 ((ρ 5 0) - 1)) rfl ?_
        refine v_aload_n dX0_equate_56 rfl ?_
        refine g0_pendingB dX0_equate_57 ?_
        refine v_aload_n dX0_equate_60 rfl ?_
        refine g0_pendingCount dX0_equate_61 ((ρ 5 0) - 1) rfl ?_
        refine l0_pendingB dX0_equate_64 (by omega) (ρ 7 ((ρ 5 0) - 1)) rfl ?_
        refine c0_join (rest := []) dX0_equate_65 (ct0_join (ρ 6 (ρ 5 0 - 1)) (ρ 7 (ρ 5 0 - 1)) (up ρ 5 0 (ρ 5 0 - 1)) (show GOK (ρ 0 0) (KV ρ) (ρ 2) (ρ 3) by rw [e0, KV_of e1, e2, e3]; exact hP.1) (show LOK (ρ 0 0) (ρ 4) by rw [e0]; exact hL) hxr hyr) rfl (by decide) rfl (by decide) (fun τ h9 => ?_)
        refine v_goto (tgt := 29) dX0_equate_68 (by decide) ?_
        have hJ : (τ = up ρ 5 0 (ρ 5 0 - 1) ∧ ρ 4 (ρ 6 (ρ 5 0 - 1)) = ρ 4 (ρ 7 (ρ 5 0 - 1))) ∨ (ρ 4 (ρ 6 (ρ 5 0 - 1)) ≠ ρ 4 (ρ 7 (ρ 5 0 - 1)) ∧ τ 4 = jn (σ 0 0) (ρ 6 (ρ 5 0 - 1)) (ρ 7 (ρ 5 0 - 1)) (ρ 4) ∧ τ 0 = σ 0 ∧ τ 1 = σ 1 ∧ τ 2 = σ 2 ∧ τ 3 = σ 3 ∧ (∀ k, 8 ≤ k → τ k = σ k) ∧ 0 ≤ τ 5 0 ∧ τ 5 0 ≤ 190 ∧ PEND (σ 0 0) (KV σ) (σ 2) (σ 3) (τ 4) (τ 5 0) (τ 6) (τ 7) ∧ (τ 5 0 = 0 → CLO (σ 0 0) (KV σ) (σ 2) (σ 3) (τ 4))) := by
          rcases h9 with ⟨q1, q2⟩ | ⟨q1, q2, q3, q4, q5, q6, q7, q8, q9, q10, q11⟩
          · exact Or.inl ⟨q2, q1⟩
          · rw [← q2] at q10 q11
            have q2 : τ 4 = jn (ρ 0 0) (ρ 6 (ρ 5 0 - 1)) (ρ 7 (ρ 5 0 - 1)) (ρ 4) := q2
            have q3 : τ 0 = ρ 0 := q3
            have q4 : τ 1 = ρ 1 := q4
            have q5 : τ 2 = ρ 2 := q5
            have q6 : τ 3 = ρ 3 := q6
            have q10 : PEND (ρ 0 0) (KV ρ) (ρ 2) (ρ 3) (τ 4) (τ 5 0) (τ 6) (τ 7) := q10
            have q11 : τ 5 0 = 0 → CLO (ρ 0 0) (KV ρ) (ρ 2) (ρ 3) (τ 4) := q11
            rw [e0, KV_of e1, e2, e3] at q10 q11
            rw [e0] at q2
            exact Or.inr ⟨q1, q2, q3.trans e0, q4.trans e1, q5.trans e2, q6.trans e3, fun k hk => (q7 k hk).trans ((up_o _ _ _ (by omega)).trans (e8 k hk)), q8, q9, q10, q11⟩
        have hbr : ∀ (x y : Int), 0 ≤ x ∧ x < σ 0 0 → 0 ≤ y ∧ y < σ 0 0 → (∀ E, EQV E → ECL (σ 0 0) (KV σ) (σ 2) (σ 3) E → BIN (σ 0 0) (fun i j => σ 4 i = σ 4 j ∨ (i = a ∧ j = b)) E → E x y) → τ 4 = jn (σ 0 0) x y (ρ 4) → LOK (σ 0 0) (τ 4) ∧ BIN (σ 0 0) (fun i j => σ 4 i = σ 4 j) (fun i j => τ 4 i = τ 4 j) ∧ SND (σ 0 0) (KV σ) (σ 2) (σ 3) (fun i j => σ 4 i = σ 4 j ∨ (i = a ∧ j = b)) (τ 4) := by
          intro x y hx hy hE q2
          rw [q2]
          exact ⟨jn_LOK hL hx hy, fun i j i0 i1 j0 j1 e => jn_co ⟨i0, i1⟩ ⟨j0, j1⟩ (hB i j i0 i1 j0 j1 e), jn_SND hx hy hS hE⟩
        rcases hph with ⟨p1, p2, p3, p4, p5⟩ | ⟨p1, p2, p3, p4⟩
        · rw [p1, show (1 : Int) - 1 = 0 from rfl, p2, p3] at hJ
          rcases hJ with ⟨q1, q2⟩ | ⟨q1, q2, q3, q4, q5, q6, q7, q8, q9, q10, q11⟩
          · have t5 : τ 5 0 = 0 := by rw [q1]; rfl
            have t4 : τ 4 = ρ 4 := by rw [q1]; rfl
            refine ih τ (by rw [q1]; exact e0) (by rw [q1]; exact e1) (by rw [q1]; exact e2) (by rw [q1]; exact e3) (fun k hk => by rw [q1, up_o _ _ _ (by omega)]; exact e8 k hk) (by rw [t4]; exact hL) (by rw [t4]; exact hB) (by rw [t4]; exact hS) (by omega) (by omega) (Or.inr ?_)
            rw [t4]
            exact ⟨q2, fun t t0 t1 => by omega, fun _ => by rw [p4]; exact hP.2.2, by omega⟩
          · have hb3 := hbr a b ha hb (fun E h1 h2 h3 => h3 a b ha.1 ha.2 hb.1 hb.2 (Or.inr ⟨rfl, rfl⟩)) q2
            have hc := jn_cnt hL ha hb q1
            rw [← q2] at hc
            exact ih τ q3 q4 q5 q6 q7 hb3.1 hb3.2.1 hb3.2.2 q8 q9 (Or.inr ⟨by rw [q2]; exact jn_xy ha hb, q10, q11, by omega⟩)
        · have pt := p2 (ρ 5 0 - 1) (by omega) (by omega)
          rcases hJ with ⟨q1, q2⟩ | ⟨q1, q2, q3, q4, q5, q6, q7, q8, q9, q10, q11⟩
          · exact absurd q2 pt.2.2.2.2.1
          · have hb3 := hbr _ _ hxy.1 hxy.2 (fun E h1 h2 h3 => cgr_E hP.1 h2 (hS E h1 h2 h3) hxy.1 hxy.2 pt.2.2.2.2.2) q2
            have hc := jn_cnt hL hxy.1 hxy.2 q1
            rw [← q2] at hc
            exact ih τ q3 q4 q5 q6 q7 hb3.1 hb3.2.1 hb3.2.2 q8 q9 (Or.inr ⟨by rw [q2]; exact jn_co ha hb p1, q10, q11, by omega⟩)
  refine v_aload_n dX0_equate_0 rfl ?_
  refine v_iload_n dX0_equate_1 rfl ?_
  refine c0_isNode (rest := []) dX0_equate_2 (ct0_isNode a σ) rfl (by decide) rfl (by decide) (fun r2 s2 h2 => ?_)
  obtain ⟨u2, e2⟩ := h2
  subst u2
  refine v_if_eq (tgt := 16) dX0_equate_5 (by decide) (fun c5 => ?_) (fun c5 => ?_)
  · have n2 : ¬ (0 ≤ a ∧ a < s2 0 0) := fun hn => by rw [if_pos hn] at e2; omega
    refine v_iconst (-1) dX0_equate_16 (by decide) (by decide) ?_
    exact hret _ _ _ _ dX0_equate_17 (Or.inl ⟨rfl, rfl, by omega⟩)
  · have n2 : 0 ≤ a ∧ a < s2 0 0 := Classical.byContradiction fun hn => by rw [if_neg hn] at e2; omega
    refine v_aload_n dX0_equate_8 rfl ?_
    refine v_iload_n dX0_equate_9 rfl ?_
    refine c0_isNode (rest := []) dX0_equate_10 (ct0_isNode b s2) rfl (by decide) rfl (by decide) (fun r3 s3 h3 => ?_)
    obtain ⟨u3, e3⟩ := h3
    subst u3
    refine v_if_ne (tgt := 18) dX0_equate_13 (by decide) (fun c13 => ?_) (fun c13 => ?_)
    · have n3 : 0 ≤ b ∧ b < s3 0 0 := Classical.byContradiction fun hn => by rw [if_neg hn] at e3; omega
      refine v_aload_n dX0_equate_18 rfl ?_
      refine v_iconst 0 dX0_equate_19 (by decide) (by decide) ?_
      refine p0_pendingCount dX0_equate_20 ?_
      refine v_aload_n dX0_equate_23 rfl ?_
      refine v_iload_n dX0_equate_24 rfl ?_
      refine v_iload_n dX0_equate_25 rfl ?_
      refine c0_push (rest := []) dX0_equate_26 (ct0_push a b (up s3 5 0 0) (Int.le_refl 0) (show (0 : Int) < 190 by omega) ⟨by omega, by omega⟩ ⟨by omega, by omega⟩) rfl (by decide) rfl (by decide) (fun τ h4 => ?_)
      subst h4
      have hcb := cntI_b (lds (s3 4)) (i := s3 0 0) (by omega)
      exact loop n2 n3 23 _ rfl rfl rfl rfl (fun k hk => (up_o _ _ _ (by omega)).trans ((up_o _ _ _ (by omega)).trans ((up_o _ _ _ (by omega)).trans (up_o _ _ _ (by omega))))) hP.2.1 (fun _ _ _ _ _ _ e => e) (fun E h1 h2 h3 i j i0 i1 j0 j1 e => h3 i j i0 i1 j0 j1 (Or.inl e)) (show (0 : Int) ≤ 0 + 1 by omega) (show (0 : Int) + 1 ≤ 190 by omega) (Or.inl ⟨rfl, rfl, rfl, rfl, show cntI (lds (s3 4)) (s3 0 0) + 1 < ((23 : Nat) : Int) by omega⟩)
    · have n3 : ¬ (0 ≤ b ∧ b < s3 0 0) := fun hn => by rw [if_pos hn] at e3; omega
      refine v_iconst (-1) dX0_equate_16 (by decide) (by decide) ?_
      exact hret _ _ _ _ dX0_equate_17 (Or.inl ⟨rfl, rfl, by omega⟩)
end
section
set_option maxRecDepth 100000
theorem p64_b {s : Int} (h0 : 0 ≤ s) (h : s < 64) : 0 ≤ ((2 ^ s.toNat : Nat) : Int) ∧ ((2 ^ s.toNat : Nat) : Int) < 18446744073709551616 := by
  have h1 : 2 ^ s.toNat < 2 ^ 64 := wb_lt2 (by omega)
  generalize 2 ^ s.toNat = q at *
  omega
theorem dv_b {a k : Nat} (h : a < 18446744073709551616) : 0 ≤ ((a / 2 ^ k : Nat) : Int) ∧ ((a / 2 ^ k : Nat) : Int) < 18446744073709551616 := by
  have := Nat.div_le_self a (2 ^ k)
  generalize a / 2 ^ k = q at *
  omega
theorem bt_b (a : Nat) : 0 ≤ ((a % 2 : Nat) : Int) ∧ ((a % 2 : Nat) : Int) ≤ 1 := by omega
theorem ct0_note (σ : Sg) (hw : ∀ v, 0 ≤ v → v ≤ 2 → σ 20 v < 20) : CtV w0 yX0_note cX0_note 3 0 0 [] σ (fun σ1 => σ1 = up σ 22 (num (σ 20) / 64) (orL (σ 22 (num (σ 20) / 64)) (num (σ 20) % 64))) := by
  refine ct_void (by decide +kernel) rfl (Nat.le_of_ble_eq_true rfl) (fun κ hret => ?_)
  have loop : ∀ (d : Nat) (i x : Int), 0 ≤ i → i ≤ 3 → x = numI (σ 20) i → (3 - i).toNat < d → V w0 κ (rmO 0 0) cX0_note 3 σ [(0, rH κ), (1, .inl x), (2, .inl i)] 4 [] := by
    intro d
    induction d with
    | zero => intros; omega
    | succ d ih =>
      intro i x hi0 hi3 ex hd
      refine v_iload_n dX0_note_4 rfl ?_
      refine v_iconst 3 dX0_note_5 (by decide) (by decide) ?_
      refine v_icmp_ge (tgt := 40) dX0_note_6 (by decide) (fun c6 => ?_) (fun c6 => ?_)
      · have ei : i = 3 := by omega
        have ex : x = num (σ 20) := by rw [ex, ei]; rfl
        have hb := numI_b hw 3
        have hb : 0 ≤ num (σ 20) ∧ num (σ 20) < 8000 ∧ _ := hb
        refine v_rg (fun hg => ?_)
        have hF := (hg 22 (x / 64)).1 rfl
        refine v_aload_n dX0_note_40 rfl ?_
        refine g0_found dX0_note_41 ?_
        refine v_iload_n dX0_note_44 rfl ?_
        refine v_bipush 6 dX0_note_45 (by decide) (by decide) ?_
        refine v_ishr (x / 64) dX0_note_47 (iI_shr6 ⟨by omega, by omega⟩) (by omega) ?_
        refine v_dup2 dX0_note_48 rfl rfl ?_
        refine l0_found dX0_note_49 (by omega) (σ 22 (x / 64)) rfl ?_
        refine v_lconst 1 dX0_note_50 (by decide) (by decide) ?_
        refine v_iload_n dX0_note_51 rfl ?_
        refine v_bipush 63 dX0_note_52 (by decide) (by decide) ?_
        refine v_iand (x % 64) dX0_note_54 (iI_and63 ⟨by omega, by omega⟩) (by omega) ?_
        refine v_lshl ((2 ^ (x % 64).toNat : Nat) : Int) dX0_note_55 (lI_shl1 (by omega)) (p64_b (by omega) (by omega)) ?_
        refine v_lor (orL (σ 22 (x / 64)) (x % 64)) dX0_note_56 (by rw [lI_or hF (p64_b (by omega) (by omega))]; unfold orL; rw [Int.toNat_natCast]) (orL_b hF (by omega)) ?_
        refine s0_found dX0_note_57 (by omega) ?_
        exact hret _ _ _ dX0_note_58 (by rw [ex])
      · have hb := numI_b hw i
        have hw1 := hw i hi0 (by omega)
        have es := numI_s (w := σ 20) hi0 c6
        refine v_bipush 20 dX0_note_9 (by decide) (by decide) ?_
        refine v_iload_n dX0_note_11 rfl ?_
        refine v_imul dX0_note_12 (fun _ _ => (by omega)) ?_
        refine v_aload_n dX0_note_13 rfl ?_
        refine g0_variable dX0_note_14 ?_
        refine v_iload_n dX0_note_17 rfl ?_
        refine l0_variable dX0_note_18 (by omega) (σ 20 i) rfl ?_
        refine v_if_ge (tgt := 26) dX0_note_19 (by decide) (fun c19 => ?_) (fun c19 => ?_)
        · refine v_aload_n dX0_note_26 rfl ?_
          refine g0_variable dX0_note_27 ?_
          refine v_iload_n dX0_note_30 rfl ?_
          refine l0_variable dX0_note_31 (by omega) (σ 20 i) rfl ?_
          refine v_iadd dX0_note_32 (fun _ _ => (by omega)) ?_
          refine v_istore_n (lv1 := [(0, rH κ), (1, .inl ((20 * x) + (σ 20 i))), (2, .inl i)]) dX0_note_33 (noL_of rfl) (by decide) rfl ?_
          refine v_iinc (lv1 := [(0, rH κ), (1, .inl ((20 * x) + (σ 20 i))), (2, .inl (i + 1))]) dX0_note_34 rfl (fun _ => (by omega)) (noL_of rfl) (by decide) rfl ?_
          refine v_goto (tgt := 4) dX0_note_37 (by decide) ?_
          exact ih _ _ (by omega) (by omega) (by rw [es, ← ex]; unfold pos; split <;> omega) (by omega)
        · refine v_iconst 0 dX0_note_22 (by decide) (by decide) ?_
          refine v_goto (tgt := 32) dX0_note_23 (by decide) ?_
          refine v_iadd dX0_note_32 (fun _ _ => (by omega)) ?_
          refine v_istore_n (lv1 := [(0, rH κ), (1, .inl ((20 * x) + 0)), (2, .inl i)]) dX0_note_33 (noL_of rfl) (by decide) rfl ?_
          refine v_iinc (lv1 := [(0, rH κ), (1, .inl ((20 * x) + 0)), (2, .inl (i + 1))]) dX0_note_34 rfl (fun _ => (by omega)) (noL_of rfl) (by decide) rfl ?_
          refine v_goto (tgt := 4) dX0_note_37 (by decide) ?_
          exact ih _ _ (by omega) (by omega) (by rw [es, ← ex]; unfold pos; split <;> omega) (by omega)
  refine v_iconst 0 dX0_note_0 (by decide) (by decide) ?_
  refine v_istore_n (lv1 := [(0, rH κ), (1, .inl 0)]) dX0_note_1 (noL_of rfl) (by decide) rfl ?_
  refine v_iconst 0 dX0_note_2 (by decide) (by decide) ?_
  refine v_istore_n (lv1 := [(0, rH κ), (1, .inl 0), (2, .inl 0)]) dX0_note_3 (noL_of rfl) (by decide) rfl ?_
  exact loop 4 0 0 (by omega) (by omega) rfl (by omega)
theorem ct0_clearFound (σ : Sg) : CtV w0 yX0_clearFound cX0_clearFound 2 0 0 [] σ (fun σ1 => ∃ F, σ1 = upA σ 22 F ∧ ∀ j, 0 ≤ j → j < 125 → F j = 0) := by
  refine ct_void (by decide +kernel) rfl (Nat.le_of_ble_eq_true rfl) (fun κ hret => ?_)
  have loop : ∀ (d : Nat) (i : Int) (F : Int → Int), 0 ≤ i → i ≤ 125 → (∀ j, 0 ≤ j → j < i → F j = 0) → (125 - i).toNat < d → V w0 κ (rmO 0 0) cX0_clearFound 2 (upA σ 22 F) [(0, rH κ), (1, .inl i)] 2 [] := by
    intro d
    induction d with
    | zero => intros; omega
    | succ d ih =>
      intro i F hi0 hi1 hF hd
      refine v_iload_n dX0_clearFound_2 rfl ?_
      refine v_bipush 125 dX0_clearFound_3 (by decide) (by decide) ?_
      refine v_icmp_ge (tgt := 21) dX0_clearFound_5 (by decide) (fun c5 => ?_) (fun c5 => ?_)
      · exact hret _ _ _ dX0_clearFound_21 ⟨F, rfl, fun j j0 j1 => hF j j0 (by omega)⟩
      · refine v_aload_n dX0_clearFound_8 rfl ?_
        refine g0_found dX0_clearFound_9 ?_
        refine v_iload_n dX0_clearFound_12 rfl ?_
        refine v_lconst 0 dX0_clearFound_13 (by decide) (by decide) ?_
        refine s0_found dX0_clearFound_14 (by omega) ?_
        refine v_iinc (lv1 := [(0, rH κ), (1, .inl (i + 1))]) dX0_clearFound_15 rfl (fun _ => (by omega)) (noL_of rfl) (by decide) rfl ?_
        refine v_goto (tgt := 2) dX0_clearFound_18 (by decide) ?_
        rw [up_upA]
        exact ih _ _ (by omega) (by omega) (fun j j0 j1 => by
          by_cases e : j = i
          · rw [if_pos e]
          · rw [if_neg e]; exact hF j j0 (by omega)) (by omega)
  refine v_iconst 0 dX0_clearFound_0 (by decide) (by decide) ?_
  refine v_istore_n (lv1 := [(0, rH κ), (1, .inl 0)]) dX0_clearFound_1 (noL_of rfl) (by decide) rfl ?_
  have := loop 126 0 (σ 22) (by omega) (by omega) (fun j j0 j1 => by omega) (by omega)
  rw [upA_id] at this
  exact this
theorem ct0_foundCount (σ : Sg) : Ct w0 yX0_foundCount cX0_foundCount 3 (some .int) 0 0 [] σ (fun r σ1 => σ1 = σ ∧ r = cntI (fbB (σ 22)) 8000) := by
  refine ct_int (by decide +kernel) rfl (Nat.le_of_ble_eq_true rfl) (fun κ hret => ?_)
  have loop : ∀ (d : Nat) (i k : Int), 0 ≤ i → i ≤ 8000 → k = cntI (fbB (σ 22)) i → (8000 - i).toNat < d → V w0 κ (rmO 0 0) cX0_foundCount 3 σ [(0, rH κ), (1, .inl k), (2, .inl i)] 4 [] := by
    intro d
    induction d with
    | zero => intros; omega
    | succ d ih =>
      intro i k hi0 hi1 ek hd
      refine v_iload_n dX0_foundCount_4 rfl ?_
      refine v_sipush 8000 dX0_foundCount_5 (by decide) (by decide) ?_
      refine v_icmp_ge (tgt := 37) dX0_foundCount_8 (by decide) (fun c8 => ?_) (fun c8 => ?_)
      · refine v_iload_n dX0_foundCount_37 rfl ?_
        exact hret _ _ _ _ dX0_foundCount_38 ⟨rfl, by rw [ek]; congr 1; omega⟩
      · refine v_rg (fun hg => ?_)
        have hF := (hg 22 (i / 64)).1 rfl
        have hdv : (σ 22 (i / 64)).toNat / 2 ^ (i % 64).toNat ≤ (σ 22 (i / 64)).toNat := Nat.div_le_self _ _
        have hbv := fbB_v (σ 22) i
        have hkb := cntI_b (fbB (σ 22)) hi0
        refine v_iload_n dX0_foundCount_11 rfl ?_
        refine v_aload_n dX0_foundCount_12 rfl ?_
        refine g0_found dX0_foundCount_13 ?_
        refine v_iload_n dX0_foundCount_16 rfl ?_
        refine v_bipush 6 dX0_foundCount_17 (by decide) (by decide) ?_
        refine v_ishr (i / 64) dX0_foundCount_19 (iI_shr6 ⟨by omega, by omega⟩) (by omega) ?_
        refine l0_found dX0_foundCount_20 (by omega) (σ 22 (i / 64)) rfl ?_
        refine v_iload_n dX0_foundCount_21 rfl ?_
        refine v_bipush 63 dX0_foundCount_22 (by decide) (by decide) ?_
        refine v_iand (i % 64) dX0_foundCount_24 (iI_and63 ⟨by omega, by omega⟩) (by omega) ?_
        refine v_lushr (((σ 22 (i / 64)).toNat / 2 ^ (i % 64).toNat : Nat) : Int) dX0_foundCount_25 (lI_shr hF (by omega)) (dv_b (by omega)) ?_
        refine v_lconst 1 dX0_foundCount_26 (by decide) (by decide) ?_
        refine v_land (((σ 22 (i / 64)).toNat / 2 ^ (i % 64).toNat % 2 : Nat) : Int) dX0_foundCount_27 (lI_and1 (by omega)) (by omega) ?_
        refine v_l2i (((σ 22 (i / 64)).toNat / 2 ^ (i % 64).toNat % 2 : Nat) : Int) dX0_foundCount_28 (lI_2i _) (by omega) ?_
        refine v_iadd dX0_foundCount_29 (fun _ _ => (by omega)) ?_
        refine v_istore_n (lv1 := [(0, rH κ), (1, .inl (k + (((σ 22 (i / 64)).toNat / 2 ^ (i % 64).toNat % 2 : Nat) : Int))), (2, .inl i)]) dX0_foundCount_30 (noL_of rfl) (by decide) rfl ?_
        refine v_iinc (lv1 := [(0, rH κ), (1, .inl (k + (((σ 22 (i / 64)).toNat / 2 ^ (i % 64).toNat % 2 : Nat) : Int))), (2, .inl (i + 1))]) dX0_foundCount_31 rfl (fun _ => (by omega)) (noL_of rfl) (by decide) rfl ?_
        refine v_goto (tgt := 4) dX0_foundCount_34 (by decide) ?_
        exact ih _ _ (by omega) (by omega) (by rw [cntI_s _ hi0, hbv, ek]) (by omega)
  refine v_iconst 0 dX0_foundCount_0 (by decide) (by decide) ?_
  refine v_istore_n (lv1 := [(0, rH κ), (1, .inl 0)]) dX0_foundCount_1 (noL_of rfl) (by decide) rfl ?_
  refine v_iconst 0 dX0_foundCount_2 (by decide) (by decide) ?_
  refine v_istore_n (lv1 := [(0, rH κ), (1, .inl 0), (2, .inl 0)]) dX0_foundCount_3 (noL_of rfl) (by decide) rfl ?_
  exact loop 8001 0 0 (by omega) (by omega) (cntI_0 _).symm (by omega)
theorem ct0_back (p : Int) (σ : Sg) (hp : 0 ≤ p ∧ p ≤ 9) (harg : ∀ i, 0 ≤ i → i < p → σ 14 i = 1 → 0 ≤ σ 15 i ∧ σ 15 i ≤ 2) : Ct w0 yX0_back cX0_back 3 (some .int) 0 0 [p] σ (fun r σ1 => ∃ w, σ1 = upA σ 20 w ∧ BackP (σ 14) (σ 15) (σ 20) w p r) := by
  refine ct_int (by decide +kernel) rfl (Nat.le_of_ble_eq_true rfl) (fun κ hret => ?_)
  have loop : ∀ (d : Nat) (q : Int) (w : Int → Int), -1 ≤ q → q < p → (∀ i, q < i → i < p → σ 14 i ≠ 0) → (∀ v, ((∃ i, q < i ∧ i < p ∧ σ 14 i = 1 ∧ σ 15 i = v) → w v = -1) ∧ ((¬ ∃ i, q < i ∧ i < p ∧ σ 14 i = 1 ∧ σ 15 i = v) → w v = σ 20 v)) → (q + 1).toNat < d → V w0 κ (rmO 0 0) cX0_back 3 (upA σ 20 w) [(0, rH κ), (1, .inl p), (2, .inl q)] 4 [] := by
    intro d
    induction d with
    | zero => intros; omega
    | succ d ih =>
      intro q w hq1 hqp hno hw hd
      refine v_iload_n dX0_back_4 rfl ?_
      refine v_if_lt (tgt := 45) dX0_back_5 (by decide) (fun c5 => ?_) (fun c5 => ?_)
      · refine v_iload_n dX0_back_45 rfl ?_
        exact hret _ _ _ _ dX0_back_46 ⟨w, rfl, hq1, by omega, fun h0 => by omega, hno, hw⟩
      · refine v_aload_n dX0_back_8 rfl ?_
        refine g0_operation dX0_back_9 ?_
        refine v_iload_n dX0_back_12 rfl ?_
        refine l0_operation dX0_back_13 (by omega) (σ 14 q) rfl ?_
        refine v_if_eq (tgt := 45) dX0_back_14 (by decide) (fun c14 => ?_) (fun c14 => ?_)
        · refine v_iload_n dX0_back_45 rfl ?_
          exact hret _ _ _ _ dX0_back_46 ⟨w, rfl, hq1, by omega, fun h0 => by omega, hno, hw⟩
        · refine v_aload_n dX0_back_17 rfl ?_
          refine g0_operation dX0_back_18 ?_
          refine v_iload_n dX0_back_21 rfl ?_
          refine l0_operation dX0_back_22 (by omega) (σ 14 q) rfl ?_
          refine v_iconst 1 dX0_back_23 (by decide) (by decide) ?_
          refine v_icmp_ne (tgt := 39) dX0_back_24 (by decide) (fun c24 => ?_) (fun c24 => ?_)
          · refine v_iinc (lv1 := [(0, rH κ), (1, .inl p), (2, .inl (q + (-1)))]) dX0_back_39 rfl (fun _ => (by omega)) (noL_of rfl) (by decide) rfl ?_
            refine v_goto (tgt := 4) dX0_back_42 (by decide) ?_
            refine ih _ _ (by omega) (by omega) (fun i a b => ?_) (fun v => ⟨fun ⟨i, a, b, c, d2⟩ => ?_, fun hn => ?_⟩) (by omega)
            · by_cases e : i = q
              · rw [e]; exact c14
              · exact hno i (by omega) b
            · by_cases e : i = q
              · rw [e] at c; exact absurd c c24
              · exact (hw v).1 ⟨i, by omega, b, c, d2⟩
            · exact (hw v).2 (fun ⟨i, a, b, c, d2⟩ => hn ⟨i, by omega, b, c, d2⟩)
          · have ha := harg q (by omega) (by omega) c24
            refine v_aload_n dX0_back_27 rfl ?_
            refine g0_variable dX0_back_28 ?_
            refine v_aload_n dX0_back_31 rfl ?_
            refine g0_argument dX0_back_32 ?_
            refine v_iload_n dX0_back_35 rfl ?_
            refine l0_argument dX0_back_36 (by omega) (σ 15 q) rfl ?_
            refine v_iconst (-1) dX0_back_37 (by decide) (by decide) ?_
            refine s0_variable dX0_back_38 (by omega) (by omega) ?_
            refine v_iinc (lv1 := [(0, rH κ), (1, .inl p), (2, .inl (q + (-1)))]) dX0_back_39 rfl (fun _ => (by omega)) (noL_of rfl) (by decide) rfl ?_
            refine v_goto (tgt := 4) dX0_back_42 (by decide) ?_
            rw [up_upA]
            refine ih _ _ (by omega) (by omega) (fun i a b => ?_) (fun v => ⟨fun ⟨i, a, b, c, d2⟩ => ?_, fun hn => ?_⟩) (by omega)
            · by_cases e : i = q
              · rw [e]; exact c14
              · exact hno i (by omega) b
            · by_cases e : i = q
              · rw [if_pos (by rw [← d2, e])]
              · by_cases e2 : v = σ 15 q
                · rw [if_pos e2]
                · rw [if_neg e2]; exact (hw v).1 ⟨i, by omega, b, c, d2⟩
            · have e2 : v ≠ σ 15 q := fun e2 => hn ⟨q, by omega, by omega, c24, e2.symm⟩
              rw [if_neg e2]; exact (hw v).2 (fun ⟨i, a, b, c, d2⟩ => hn ⟨i, by omega, b, c, d2⟩)
  refine v_iload_n dX0_back_0 rfl ?_
  refine v_iconst 1 dX0_back_1 (by decide) (by decide) ?_
  refine v_isub dX0_back_2 (fun _ _ => (by omega)) ?_
  refine v_istore_n (lv1 := [(0, rH κ), (1, .inl p), (2, .inl (p - 1))]) dX0_back_3 (noL_of rfl) (by decide) rfl ?_
  have := loop 11 (p - 1) (σ 20) (by omega) (by omega) (fun i a b => by omega) (fun v => ⟨fun ⟨i, a, b, _, _⟩ => by omega, fun _ => rfl⟩) (by omega)
  rw [upA_id] at this
  exact this
theorem ct0_take (p : Int) (σ : Sg) (hP : PIC (σ 0 0) (KV σ) (σ 2) (σ 3) (σ 4)) (hp : 0 ≤ p ∧ p < 8) (ht1 : -1 ≤ σ 21 p) (ht2 : σ 21 p < σ 0 0 ∨ σ 21 p = -1) (hr : 0 ≤ σ 16 p ∧ σ 16 p < 16) (ha : σ 15 p = 20 ∨ σ 15 p = 21) (haa : 0 ≤ σ 17 p ∧ σ 17 p < 15) : Ct w0 yX0_take cX0_take 4 (some .boolean) 0 0 [p] σ (fun r σ1 => (r = 0 ∧ σ1 = σ ∧ ∀ m1, σ 21 p < m1 → m1 < σ 0 0 → ¬ mtc (KV σ) (σ 4) (σ 19) (σ 16) (σ 15) p m1) ∨ (r = 1 ∧ ∃ m, σ 21 p < m ∧ m < σ 0 0 ∧ mtc (KV σ) (σ 4) (σ 19) (σ 16) (σ 15) p m ∧ (∀ m1, σ 21 p < m1 → m1 < m → ¬ mtc (KV σ) (σ 4) (σ 19) (σ 16) (σ 15) p m1) ∧ σ1 = upA (up σ 21 p m) 19 (takeG (KV σ) (σ 2) (σ 3) (σ 4) (σ 17) (σ 19) p m))) := by
  refine ct_bool (by decide +kernel) rfl (Nat.le_of_ble_eq_true rfl) (fun κ hret => ?_)
  have g0 := hP.1.1
  have g20 := hP.1.2.1
  have hexit : ∀ m : Int, σ 21 p < m → m ≤ σ 0 0 → (∀ m1, σ 21 p < m1 → m1 < m → ¬ mtc (KV σ) (σ 4) (σ 19) (σ 16) (σ 15) p m1) → (m < σ 0 0 → mtc (KV σ) (σ 4) (σ 19) (σ 16) (σ 15) p m) → V w0 κ (rmO 0 0) cX0_take 4 σ [(0, rH κ), (1, .inl p), (2, .inl m)] 58 [] := by
    intro m hm0 hm1 hno hmt
    refine v_iload_n dX0_take_58 rfl ?_
    refine v_aload_n dX0_take_59 rfl ?_
    refine g0_nodeCount dX0_take_60 (σ 0 0) rfl ?_
    refine v_icmp_lt (tgt := 68) dX0_take_63 (by decide) (fun c63 => ?_) (fun c63 => ?_)
    · have hm := hmt c63
      have hk2 : KV σ m = kd (σ 15 p) := hm.2
      have ka : kd (σ 15 p) = 1 ∨ kd (σ 15 p) = 2 := by
        rcases ha with e | e
        · left; rw [e]; rfl
        · right; rw [e]; rfl
      have g := hP.1.arg (i := m) (by omega) c63 (by omega)
      have g1 := hP.2.1 (σ 2 m) g.1 (by omega)
      have g2 := hP.2.1 (σ 3 m) g.2.2.1 (by omega)
      refine v_aload_n dX0_take_68 rfl ?_
      refine g0_tried dX0_take_69 ?_
      refine v_iload_n dX0_take_72 rfl ?_
      refine v_iload_n dX0_take_73 rfl ?_
      refine v_i2b dX0_take_74 (by omega) ?_
      refine s0_tried dX0_take_75 (by omega) (by omega) ?_
      refine v_aload_n dX0_take_76 rfl ?_
      refine g0_argumentsAt dX0_take_77 ?_
      refine v_iload_n dX0_take_80 rfl ?_
      refine l0_argumentsAt dX0_take_81 (by omega) (σ 17 p) rfl ?_
      refine v_istore_n (lv1 := [(0, rH κ), (1, .inl p), (2, .inl m), (3, .inl (σ 17 p))]) dX0_take_82 (noL_of rfl) (by decide) rfl ?_
      refine v_aload_n dX0_take_83 rfl ?_
      refine g0_registers dX0_take_84 ?_
      refine v_iload_n dX0_take_87 rfl ?_
      refine v_aload_n dX0_take_88 rfl ?_
      refine g0_leaderOf dX0_take_89 ?_
      refine v_aload_n dX0_take_92 rfl ?_
      refine g0_left dX0_take_93 ?_
      refine v_iload_n dX0_take_96 rfl ?_
      refine l0_left dX0_take_97 (by omega) (σ 2 m) rfl ?_
      refine l0_leaderOf dX0_take_98 (by omega) (σ 4 (σ 2 m)) rfl ?_
      refine s0_registers dX0_take_99 (by omega) (by omega) ?_
      refine v_aload_n dX0_take_100 rfl ?_
      refine g0_symbol dX0_take_101 ?_
      refine v_iload_n dX0_take_104 rfl ?_
      refine l0_symbol dX0_take_105 (by omega) (σ 1 m) rfl ?_
      refine v_bipush 21 dX0_take_106 (by decide) (by decide) ?_
      refine v_icmp_ne (tgt := 130) dX0_take_108 (by decide) (fun c108 => ?_) (fun c108 => ?_)
      · refine v_iconst 1 dX0_take_130 (by decide) (by decide) ?_
        exact hret _ _ _ _ dX0_take_131 (by decide) (Or.inr ⟨rfl, m, by omega, c63, hm, hno, by unfold takeG; rw [if_neg (show ¬ KV σ m = 2 from fun e => c108 (kd_2.mp e))]; rw [up_as _ 19]; rfl⟩)
      · refine v_aload_n dX0_take_111 rfl ?_
        refine g0_registers dX0_take_112 ?_
        refine v_iload_n dX0_take_115 rfl ?_
        refine v_iconst 1 dX0_take_116 (by decide) (by decide) ?_
        refine v_iadd dX0_take_117 (fun _ _ => (by omega)) ?_
        refine v_aload_n dX0_take_118 rfl ?_
        refine g0_leaderOf dX0_take_119 ?_
        refine v_aload_n dX0_take_122 rfl ?_
        refine g0_right dX0_take_123 ?_
        refine v_iload_n dX0_take_126 rfl ?_
        refine l0_right dX0_take_127 (by omega) (σ 3 m) rfl ?_
        refine l0_leaderOf dX0_take_128 (by omega) (σ 4 (σ 3 m)) rfl ?_
        refine s0_registers dX0_take_129 (by omega) (by omega) ?_
        refine v_iconst 1 dX0_take_130 (by decide) (by decide) ?_
        exact hret _ _ _ _ dX0_take_131 (by decide) (Or.inr ⟨rfl, m, by omega, c63, hm, hno, by unfold takeG; rw [if_pos (show KV σ m = 2 from kd_2.mpr c108)]; rw [up_as _ 19, up_as _ 19, upA_upA]; rfl⟩)
    · refine v_iconst 0 dX0_take_66 (by decide) (by decide) ?_
      exact hret _ _ _ _ dX0_take_67 (by decide) (Or.inl ⟨rfl, rfl, fun m1 a b => hno m1 a (by omega)⟩)
  have loop : ∀ (d : Nat) (m : Int), σ 21 p < m → m ≤ σ 0 0 → (∀ m1, σ 21 p < m1 → m1 < m → ¬ mtc (KV σ) (σ 4) (σ 19) (σ 16) (σ 15) p m1) → (σ 0 0 - m).toNat < d → V w0 κ (rmO 0 0) cX0_take 4 σ [(0, rH κ), (1, .inl p), (2, .inl m)] 9 [] := by
    intro d
    induction d with
    | zero => intros; omega
    | succ d ih =>
      intro m hm0 hm1 hno hd
      refine v_iload_n dX0_take_9 rfl ?_
      refine v_aload_n dX0_take_10 rfl ?_
      refine g0_nodeCount dX0_take_11 (σ 0 0) rfl ?_
      refine v_icmp_ge (tgt := 58) dX0_take_14 (by decide) (fun c14 => ?_) (fun c14 => ?_)
      · exact hexit m (by omega) (by omega) hno (fun h => by omega)
      · refine v_aload_n dX0_take_17 rfl ?_
        refine g0_leaderOf dX0_take_18 ?_
        refine v_iload_n dX0_take_21 rfl ?_
        refine l0_leaderOf dX0_take_22 (by omega) (σ 4 m) rfl ?_
        refine v_aload_n dX0_take_23 rfl ?_
        refine g0_registers dX0_take_24 ?_
        refine v_aload_n dX0_take_27 rfl ?_
        refine g0_register dX0_take_28 ?_
        refine v_iload_n dX0_take_31 rfl ?_
        refine l0_register dX0_take_32 (by omega) (σ 16 p) rfl ?_
        refine l0_registers dX0_take_33 (by omega) (σ 19 (σ 16 p)) rfl ?_
        refine v_icmp_ne (tgt := 52) dX0_take_34 (by decide) (fun c34 => ?_) (fun c34 => ?_)
        · have hmt : ¬ mtc (KV σ) (σ 4) (σ 19) (σ 16) (σ 15) p m := fun hq => by
            have h1 := hq.1
            have h2 := (kd_inj (by omega)).mp (show kd (σ 1 m) = kd (σ 15 p) from hq.2)
            omega
          refine v_iinc (lv1 := [(0, rH κ), (1, .inl p), (2, .inl (m + 1))]) dX0_take_52 rfl (fun _ => (by omega)) (noL_of rfl) (by decide) rfl ?_
          refine v_goto (tgt := 9) dX0_take_55 (by decide) ?_
          refine ih _ (by omega) (by omega) (fun m1 a b hq => ?_) (by omega)
          by_cases e : m1 = m
          · rw [e] at hq; exact hmt hq
          · exact hno m1 a (by omega) hq
        · refine v_aload_n dX0_take_37 rfl ?_
          refine g0_symbol dX0_take_38 ?_
          refine v_iload_n dX0_take_41 rfl ?_
          refine l0_symbol dX0_take_42 (by omega) (σ 1 m) rfl ?_
          refine v_aload_n dX0_take_43 rfl ?_
          refine g0_argument dX0_take_44 ?_
          refine v_iload_n dX0_take_47 rfl ?_
          refine l0_argument dX0_take_48 (by omega) (σ 15 p) rfl ?_
          refine v_icmp_eq (tgt := 58) dX0_take_49 (by decide) (fun c49 => ?_) (fun c49 => ?_)
          · exact hexit m (by omega) (by omega) hno (fun _ => ⟨by omega, (kd_inj (by omega)).mpr (by omega)⟩)
          · have hmt : ¬ mtc (KV σ) (σ 4) (σ 19) (σ 16) (σ 15) p m := fun hq => by
              have h1 := hq.1
              have h2 := (kd_inj (by omega)).mp (show kd (σ 1 m) = kd (σ 15 p) from hq.2)
              omega
            refine v_iinc (lv1 := [(0, rH κ), (1, .inl p), (2, .inl (m + 1))]) dX0_take_52 rfl (fun _ => (by omega)) (noL_of rfl) (by decide) rfl ?_
            refine v_goto (tgt := 9) dX0_take_55 (by decide) ?_
            refine ih _ (by omega) (by omega) (fun m1 a b hq => ?_) (by omega)
            by_cases e : m1 = m
            · rw [e] at hq; exact hmt hq
            · exact hno m1 a (by omega) hq
  refine v_aload_n dX0_take_0 rfl ?_
  refine g0_tried dX0_take_1 ?_
  refine v_iload_n dX0_take_4 rfl ?_
  refine l0_tried dX0_take_5 (by omega) (σ 21 p) rfl ?_
  refine v_iconst 1 dX0_take_6 (by decide) (by decide) ?_
  refine v_iadd dX0_take_7 (fun _ _ => (by omega)) ?_
  refine v_istore_n (lv1 := [(0, rH κ), (1, .inl p), (2, .inl ((σ 21 p) + 1))]) dX0_take_8 (noL_of rfl) (by decide) rfl ?_
  exact loop 22 _ (by omega) (by omega) (fun m1 a b => by omega) (by omega)
end
section
set_option maxRecDepth 100000
theorem ct0_decide (p : Int) (σ : Sg) (hn0 : 0 ≤ σ 0 0) (hn20 : σ 0 0 ≤ 20) (hp : 0 ≤ p ∧ p < 10) (hop : 1 ≤ σ 14 p ∧ σ 14 p ≤ 4) (hreg : σ 14 p ≠ 4 → 0 ≤ σ 16 p ∧ σ 16 p < 16) (harg : σ 14 p = 1 ∨ σ 14 p = 2 → 0 ≤ σ 15 p ∧ σ 15 p ≤ 2) (hg : σ 14 p = 1 → 0 ≤ σ 19 (σ 16 p) ∧ σ 19 (σ 16 p) < 20) (hw : σ 14 p = 4 → ∀ v, 0 ≤ v → v ≤ 2 → σ 20 v < 20) : Ct w0 yX0_decide cX0_decide 5 (some .boolean) 1 22 [p] σ (fun r σ1 => (σ 14 p = 4 ∧ r = 0 ∧ σ1 = up σ 22 (num (σ 20) / 64) (orL (σ 22 (num (σ 20) / 64)) (num (σ 20) % 64))) ∨ (σ 14 p = 2 ∧ σ1 = σ ∧ ((r = 1 ∧ σ 20 (σ 15 p) = σ 19 (σ 16 p)) ∨ (r = 0 ∧ σ 20 (σ 15 p) ≠ σ 19 (σ 16 p)))) ∨ (σ 14 p = 3 ∧ σ1 = σ ∧ ((r = 1 ∧ ovF (σ 0 0) (KV σ) (σ 2) (σ 3) (σ 4) 0 (σ 15 p) 0 = σ 19 (σ 16 p)) ∨ (r = 0 ∧ ovF (σ 0 0) (KV σ) (σ 2) (σ 3) (σ 4) 0 (σ 15 p) 0 ≠ σ 19 (σ 16 p)))) ∨ (σ 14 p = 1 ∧ r = 1 ∧ σ1 = up σ 20 (σ 15 p) (σ 19 (σ 16 p)))) := by
  refine ct_bool (by decide +kernel) rfl (Nat.le_of_ble_eq_true rfl) (fun κ hret => ?_)
  refine v_aload_n dX0_decide_0 rfl ?_
  refine g0_operation dX0_decide_1 ?_
  refine v_iload_n dX0_decide_4 rfl ?_
  refine l0_operation dX0_decide_5 (by omega) (σ 14 p) rfl ?_
  refine v_istore_n (lv1 := [(0, rH κ), (1, .inl p), (2, .inl (σ 14 p))]) dX0_decide_6 (noL_of rfl) (by decide) rfl ?_
  refine v_iload_n dX0_decide_7 rfl ?_
  refine v_iconst 4 dX0_decide_8 (by decide) (by decide) ?_
  refine v_icmp_ne (tgt := 18) dX0_decide_9 (by decide) (fun c9 => ?_) (fun c9 => ?_)
  · have hr := hreg c9
    refine v_aload_n dX0_decide_18 rfl ?_
    refine g0_registers dX0_decide_19 ?_
    refine v_aload_n dX0_decide_22 rfl ?_
    refine g0_register dX0_decide_23 ?_
    refine v_iload_n dX0_decide_26 rfl ?_
    refine l0_register dX0_decide_27 (by omega) (σ 16 p) rfl ?_
    refine l0_registers dX0_decide_28 (by omega) (σ 19 (σ 16 p)) rfl ?_
    refine v_istore_n (lv1 := [(0, rH κ), (1, .inl p), (2, .inl (σ 14 p)), (3, .inl (σ 19 (σ 16 p)))]) dX0_decide_29 (noL_of rfl) (by decide) rfl ?_
    refine v_aload_n dX0_decide_30 rfl ?_
    refine g0_argument dX0_decide_31 ?_
    refine v_iload_n dX0_decide_34 rfl ?_
    refine l0_argument dX0_decide_35 (by omega) (σ 15 p) rfl ?_
    refine v_istore (lv1 := [(0, rH κ), (1, .inl p), (2, .inl (σ 14 p)), (3, .inl (σ 19 (σ 16 p))), (4, .inl (σ 15 p))]) dX0_decide_36 (noL_of rfl) (by decide) rfl ?_
    refine v_iload_n dX0_decide_38 rfl ?_
    refine v_iconst 2 dX0_decide_39 (by decide) (by decide) ?_
    refine v_icmp_ne (tgt := 60) dX0_decide_40 (by decide) (fun c40 => ?_) (fun c40 => ?_)
    · refine v_iload_n dX0_decide_60 rfl ?_
      refine v_iconst 3 dX0_decide_61 (by decide) (by decide) ?_
      refine v_icmp_ne (tgt := 81) dX0_decide_62 (by decide) (fun c62 => ?_) (fun c62 => ?_)
      · have hop1 : σ 14 p = 1 := by omega
        have ha := harg (Or.inl hop1)
        have hg1 := hg hop1
        refine v_aload_n dX0_decide_81 rfl ?_
        refine g0_variable dX0_decide_82 ?_
        refine v_iload dX0_decide_85 rfl ?_
        refine v_iload_n dX0_decide_87 rfl ?_
        refine v_i2b dX0_decide_88 (by omega) ?_
        refine s0_variable dX0_decide_89 (by omega) (by omega) ?_
        refine v_iconst 1 dX0_decide_90 (by decide) (by decide) ?_
        exact hret _ _ _ _ dX0_decide_91 (by decide) (Or.inr (Or.inr (Or.inr ⟨hop1, rfl, rfl⟩)))
      · refine v_aload_n dX0_decide_65 rfl ?_
        refine v_iload dX0_decide_66 rfl ?_
        refine c0_classOfConstant (rest := []) dX0_decide_68 (ct0_classOfConstant (σ 15 p) σ hn0 hn20) rfl (by decide) rfl (by decide) (fun r5 τ h5 => ?_)
        obtain ⟨u5, e5⟩ := h5
        subst u5
        have e5 := cc_ov e5
        refine v_iload_n dX0_decide_71 rfl ?_
        refine v_icmp_ne (tgt := 79) dX0_decide_72 (by decide) (fun c72 => ?_) (fun c72 => ?_)
        · refine v_iconst 0 dX0_decide_79 (by decide) (by decide) ?_
          exact hret _ _ _ _ dX0_decide_80 (by decide) (Or.inr (Or.inr (Or.inl ⟨c62, rfl, Or.inr ⟨rfl, fun h => c72 (e5.trans h)⟩⟩)))
        · refine v_iconst 1 dX0_decide_75 (by decide) (by decide) ?_
          refine v_goto (tgt := 80) dX0_decide_76 (by decide) ?_
          exact hret _ _ _ _ dX0_decide_80 (by decide) (Or.inr (Or.inr (Or.inl ⟨c62, rfl, Or.inl ⟨rfl, e5.symm.trans c72⟩⟩)))
    · have ha := harg (Or.inr c40)
      refine v_aload_n dX0_decide_43 rfl ?_
      refine g0_variable dX0_decide_44 ?_
      refine v_iload dX0_decide_47 rfl ?_
      refine l0_variable dX0_decide_49 (by omega) (σ 20 (σ 15 p)) rfl ?_
      refine v_iload_n dX0_decide_50 rfl ?_
      refine v_icmp_ne (tgt := 58) dX0_decide_51 (by decide) (fun c51 => ?_) (fun c51 => ?_)
      · refine v_iconst 0 dX0_decide_58 (by decide) (by decide) ?_
        exact hret _ _ _ _ dX0_decide_59 (by decide) (Or.inr (Or.inl ⟨c40, rfl, Or.inr ⟨rfl, c51⟩⟩))
      · refine v_iconst 1 dX0_decide_54 (by decide) (by decide) ?_
        refine v_goto (tgt := 59) dX0_decide_55 (by decide) ?_
        exact hret _ _ _ _ dX0_decide_59 (by decide) (Or.inr (Or.inl ⟨c40, rfl, Or.inl ⟨rfl, c51⟩⟩))
  · refine v_aload_n dX0_decide_12 rfl ?_
    refine c0_note (rest := []) dX0_decide_13 (ct0_note σ (hw c9)) rfl (by decide) rfl (by decide) (fun τ h9 => ?_)
    subst h9
    refine v_iconst 0 dX0_decide_16 (by decide) (by decide) ?_
    exact hret _ _ _ _ dX0_decide_17 (by decide) (Or.inl ⟨c9, rfl, rfl⟩)
end
section
set_option maxRecDepth 100000
theorem Sol_w {n : Int} {K L R ld : Int → Int} : ∀ (ts cs : List Int) (w w' : Int → Int) (X : Int), (∀ t ∈ ts, tokOk t) → (∀ v, 0 ≤ v → v ≤ 2 → w v = w' v) → (Sol n K L R ld ts cs w X ↔ Sol n K L R ld ts cs w' X) := by
  intro ts
  induction ts with
  | nil =>
    intro cs w w' X _ h
    show (cs = [] ∧ X = num w) ↔ (cs = [] ∧ X = num w')
    unfold num
    rw [h 0 (by omega) (by omega), h 1 (by omega) (by omega), h 2 (by omega) (by omega)]
  | cons t ts ih =>
    intro cs w w' X ht h
    have h0 : tokOk t := ht t List.mem_cons_self
    have ht' : ∀ t ∈ ts, tokOk t := fun x hx => ht x (List.mem_cons_of_mem _ hx)
    unfold tokOk at h0
    cases cs with
    | nil => exact Iff.rfl
    | cons c cs =>
      show (if t ≤ 2 then (if w t < 0 then Sol n K L R ld ts cs (fa w t c) X else (w t = c ∧ Sol n K L R ld ts cs w X)) else if t ≤ 15 then (ovF n K L R ld 0 (t - 10) 0 = c ∧ Sol n K L R ld ts cs w X) else if t = 20 then (∃ m, 0 ≤ m ∧ m < n ∧ ld m = c ∧ K m = 1 ∧ Sol n K L R ld ts (ld (L m) :: cs) w X) else (∃ m, 0 ≤ m ∧ m < n ∧ ld m = c ∧ K m = 2 ∧ Sol n K L R ld ts (ld (L m) :: ld (R m) :: cs) w X)) ↔ (if t ≤ 2 then (if w' t < 0 then Sol n K L R ld ts cs (fa w' t c) X else (w' t = c ∧ Sol n K L R ld ts cs w' X)) else if t ≤ 15 then (ovF n K L R ld 0 (t - 10) 0 = c ∧ Sol n K L R ld ts cs w' X) else if t = 20 then (∃ m, 0 ≤ m ∧ m < n ∧ ld m = c ∧ K m = 1 ∧ Sol n K L R ld ts (ld (L m) :: cs) w' X) else (∃ m, 0 ≤ m ∧ m < n ∧ ld m = c ∧ K m = 2 ∧ Sol n K L R ld ts (ld (L m) :: ld (R m) :: cs) w' X))
      by_cases h2 : t ≤ 2
      · rw [if_pos h2, if_pos h2, h t (by omega) h2]
        by_cases h3 : w' t < 0
        · rw [if_pos h3, if_pos h3]
          refine ih _ _ _ _ ht' (fun v a b => ?_)
          unfold fa
          rw [h v a b]
        · rw [if_neg h3, if_neg h3, ih cs w w' X ht' h]
      · rw [if_neg h2, if_neg h2]
        by_cases h15 : t ≤ 15
        · rw [if_pos h15, if_pos h15, ih cs w w' X ht' h]
        · rw [if_neg h15, if_neg h15]
          by_cases h20 : t = 20
          · rw [if_pos h20, if_pos h20]
            constructor
            · intro ⟨m, a, b, c1, d, e⟩; exact ⟨m, a, b, c1, d, (ih _ w w' X ht' h).mp e⟩
            · intro ⟨m, a, b, c1, d, e⟩; exact ⟨m, a, b, c1, d, (ih _ w w' X ht' h).mpr e⟩
          · rw [if_neg h20, if_neg h20]
            constructor
            · intro ⟨m, a, b, c1, d, e⟩; exact ⟨m, a, b, c1, d, (ih _ w w' X ht' h).mp e⟩
            · intro ⟨m, a, b, c1, d, e⟩; exact ⟨m, a, b, c1, d, (ih _ w w' X ht' h).mpr e⟩
theorem st4_st4 (σ : Sg) (g w tr F g2 w2 t2 F2 : Int → Int) : st4 (st4 σ g w tr F) g2 w2 t2 F2 = st4 σ g2 w2 t2 F2 := by
  funext k
  unfold st4
  by_cases h1 : k = 19
  · simp [h1]
  · by_cases h2 : k = 20
    · simp [h2]
    · by_cases h3 : k = 21
      · simp [h3]
      · by_cases h4 : k = 22
        · simp [h4]
        · simp [h1, h2, h3, h4]
theorem run_st (σ : Sg) (c : Int) : up (up (up (up (up σ 19 0 c) 20 0 (-1)) 20 (0 + 1) (-1)) 20 (0 + 1 + 1) (-1)) 21 0 (-1) = st4 σ (fa (σ 19) 0 c) (fa (fa (fa (σ 20) 0 (-1)) 1 (-1)) 2 (-1)) (fa (σ 21) 0 (-1)) (σ 22) := by
  have h : ∀ τ, τ = st4 σ (σ 19) (σ 20) (σ 21) (σ 22) → up (up (up (up (up τ 19 0 c) 20 0 (-1)) 20 (0 + 1) (-1)) 20 (0 + 1 + 1) (-1)) 21 0 (-1) = st4 σ (fa (σ 19) 0 c) (fa (fa (fa (σ 20) 0 (-1)) 1 (-1)) 2 (-1)) (fa (σ 21) 0 (-1)) (σ 22) := by
    intro τ h
    rw [h, st4_19, st4_20, st4_20, st4_20, st4_21]
    rfl
  exact h σ (st4_id σ).symm
/-- the pattern of the component, and its code -/
abbrev tk0 (σ : Sg) : List Int := toks (σ 9) (σ 8 0)
def TokI (σ : Sg) : Prop := 0 ≤ σ 8 0 ∧ σ 8 0 ≤ 7 ∧ ∀ t ∈ tk0 σ, tokOk t
def RunOk (σ : Sg) : Prop := PIC (σ 0 0) (KV σ) (σ 2) (σ 3) (σ 4) ∧ TokI σ ∧ CodeR (σ 14) (σ 15) (σ 16) (σ 17) (tk0 σ) 0 [0] 1 0
abbrev Sol0 (σ : Sg) (c X : Int) : Prop := Sol (σ 0 0) (KV σ) (σ 2) (σ 3) (σ 4) (tk0 σ) [c] (fun _ => -1) X
theorem toks_len {tk : Int → Int} {tc : Int} (h : 0 ≤ tc) : ((toks tk tc).length : Int) = tc := by
  unfold toks
  rw [sfx_len]
  omega
theorem RunOk.codeB {σ : Sg} (h : RunOk σ) : CodeB (σ 14) (σ 15) (σ 16) (σ 17) (σ 8 0) := by
  have := codeB_of h.2.1.2.1 (tk0 σ) 0 [0] 1 0 h.2.1.2.2 h.2.2 (by omega) (by rw [toks_len h.2.1.1]; omega) (fun r hr => by
    rcases List.mem_cons.mp hr with e | e
    · omega
    · cases e) (by omega) (by omega)
  exact this
theorem ct0_run (c : Int) (σ : Sg) (hR : RunOk σ) (hc : 0 ≤ c ∧ c < 20) : CtV w0 yX0_run cX0_run 4 2 46 [c] σ (fun σ1 => ∃ g w tr F, σ1 = st4 σ g w tr F ∧ ∀ X, 0 ≤ X → X < 8000 → (fbB F X = true ↔ (fbB (σ 22) X = true ∨ Sol0 σ c X))) := by
  refine ct_void (by decide +kernel) rfl (Nat.le_of_ble_eq_true rfl) (fun κ hret => ?_)
  have hP := hR.1
  have hB := hR.codeB
  have n0 : 0 ≤ σ 0 0 := hP.1.1
  have n20 : σ 0 0 ≤ 20 := hP.1.2.1
  have t0 : 0 ≤ σ 8 0 := hR.2.1.1
  have t7 : σ 8 0 ≤ 7 := hR.2.1.2.1
  have hop4 : σ 14 (σ 8 0) = 4 := hB.2
  have hlt : ∀ p, p ≤ σ 8 0 → σ 14 p ≠ 4 → p < σ 8 0 := fun p a b => by
    by_cases e : p = σ 8 0
    · exact absurd (e ▸ hop4) b
    · omega
  have hS : Steps5 (σ 0 0) (KV σ) (σ 2) (σ 3) (σ 4) (σ 14) (σ 15) (σ 16) (σ 17) (σ 8 0) (fun g w tr F p => V w0 κ (rmO 2 46) cX0_run 4 (st4 σ g w tr F) [(0, rH κ), (2, .inl p)] 37 []) := by
    refine ⟨fun g w tr F p p0 p1 hop hg hK => ?_, fun g w tr F p p0 p1 hop hf hb => ?_, fun g w tr F p p0 p1 hop hf hb => ?_, fun g w tr F p p0 p1 hop hw hb => ?_, fun g w tr F p p0 p1 hop ht1 ht2 hf hb => ?_⟩
    · show V w0 κ (rmO 2 46) cX0_run 4 (st4 σ g w tr F) [(0, rH κ), (2, .inl p)] 37 []
      have hcb := hB.1 p p0 (hlt p p1 (by omega))
      refine v_iload_n dX0_run_37 rfl ?_
      refine v_if_lt (tgt := 90) dX0_run_38 (by decide) (fun c38 => ?_) (fun c38 => ?_)
      · omega
      · refine v_aload_n dX0_run_41 rfl ?_
        refine g0_operation dX0_run_42 ?_
        refine v_iload_n dX0_run_45 rfl ?_
        refine l0_operation dX0_run_46 (by omega) (σ 14 p) rfl ?_
        refine v_if_ne (tgt := 58) dX0_run_47 (by decide) (fun c47 => ?_) (fun c47 => ?_)
        · refine v_aload_n dX0_run_58 rfl ?_
          refine v_iload_n dX0_run_59 rfl ?_
          refine c0_decide (rest := []) dX0_run_60 (ct0_decide p (st4 σ g w tr F) (show 0 ≤ σ 0 0 from n0) (show σ 0 0 ≤ 20 from n20) ⟨by omega, by omega⟩ (show 1 ≤ σ 14 p ∧ σ 14 p ≤ 4 from ⟨by omega, by omega⟩) (show σ 14 p ≠ 4 → 0 ≤ σ 16 p ∧ σ 16 p < 16 from fun _ => hcb.1) (show σ 14 p = 1 ∨ σ 14 p = 2 → 0 ≤ σ 15 p ∧ σ 15 p ≤ 2 from fun _ => hcb.2.2.1 (Or.inl hop)) (show σ 14 p = 1 → 0 ≤ g (σ 16 p) ∧ g (σ 16 p) < 20 from fun _ => hg) (show σ 14 p = 4 → ∀ v, 0 ≤ v → v ≤ 2 → w v < 20 from fun e => absurd e (by omega))) rfl (by decide) rfl (by decide) (fun r6 τ h6 => ?_)
          have h7 : r6 = 1 ∧ τ = st4 σ g (fa w (σ 15 p) (g (σ 16 p))) tr F := by
            rcases h6 with ⟨q, -⟩ | ⟨q, -⟩ | ⟨q, -⟩ | ⟨q, q1, q2⟩
            · exact absurd (show σ 14 p = 4 from q) (by omega)
            · exact absurd (show σ 14 p = 2 from q) (by omega)
            · exact absurd (show σ 14 p = 3 from q) (by omega)
            · rw [st4_20] at q2; exact ⟨q1, q2⟩
          obtain ⟨u6, u7⟩ := h7
          subst u6 u7
          refine v_istore_n (lv1 := [(0, rH κ), (2, .inl p), (3, .inl 1)]) dX0_run_63 (noL_of rfl) (by decide) rfl ?_
          refine v_iload_n dX0_run_64 rfl ?_
          refine v_if_eq (tgt := 81) dX0_run_65 (by decide) (fun c65 => ?_) (fun c65 => ?_)
          · exact absurd c65 (by decide)
          · refine v_iinc (lv1 := [(0, rH κ), (2, .inl (p + 1)), (3, .inl 1)]) dX0_run_68 rfl (fun _ => (by omega)) (noL_of rfl) (by decide) rfl ?_
            refine v_aload_n dX0_run_71 rfl ?_
            refine g0_tried dX0_run_72 ?_
            refine v_iload_n dX0_run_75 rfl ?_
            refine v_iconst (-1) dX0_run_76 (by decide) (by decide) ?_
            refine s0_tried dX0_run_77 (by omega) (by omega) ?_
            refine v_goto (tgt := 87) dX0_run_78 (by decide) ?_
            refine v_goto (tgt := 37) dX0_run_87 (by decide) ?_
            refine v_pick [0, 1] rfl ?_
            rw [st4_21]
            exact hK
        · omega
    · show V w0 κ (rmO 2 46) cX0_run 4 (st4 σ g w tr F) [(0, rH κ), (2, .inl p)] 37 []
      have hcb := hB.1 p p0 (hlt p p1 (by omega))
      refine v_iload_n dX0_run_37 rfl ?_
      refine v_if_lt (tgt := 90) dX0_run_38 (by decide) (fun c38 => ?_) (fun c38 => ?_)
      · omega
      · refine v_aload_n dX0_run_41 rfl ?_
        refine g0_operation dX0_run_42 ?_
        refine v_iload_n dX0_run_45 rfl ?_
        refine l0_operation dX0_run_46 (by omega) (σ 14 p) rfl ?_
        refine v_if_ne (tgt := 58) dX0_run_47 (by decide) (fun c47 => ?_) (fun c47 => ?_)
        · refine v_aload_n dX0_run_58 rfl ?_
          refine v_iload_n dX0_run_59 rfl ?_
          refine c0_decide (rest := []) dX0_run_60 (ct0_decide p (st4 σ g w tr F) (show 0 ≤ σ 0 0 from n0) (show σ 0 0 ≤ 20 from n20) ⟨by omega, by omega⟩ (show 1 ≤ σ 14 p ∧ σ 14 p ≤ 4 from ⟨by omega, by omega⟩) (show σ 14 p ≠ 4 → 0 ≤ σ 16 p ∧ σ 16 p < 16 from fun _ => hcb.1) (show σ 14 p = 1 ∨ σ 14 p = 2 → 0 ≤ σ 15 p ∧ σ 15 p ≤ 2 from fun e => hcb.2.2.1 e) (show σ 14 p = 1 → 0 ≤ g (σ 16 p) ∧ g (σ 16 p) < 20 from fun e => absurd e (by omega)) (show σ 14 p = 4 → ∀ v, 0 ≤ v → v ≤ 2 → w v < 20 from fun e => absurd e (by omega))) rfl (by decide) rfl (by decide) (fun r6 τ h6 => ?_)
          have h7 : τ = st4 σ g w tr F ∧ ((r6 = 1 ∧ w (σ 15 p) = g (σ 16 p)) ∨ (r6 = 0 ∧ w (σ 15 p) ≠ g (σ 16 p))) := by
            rcases h6 with ⟨q, -⟩ | ⟨q, q1⟩ | ⟨q, q1⟩ | ⟨q, -⟩
            · exact absurd (show σ 14 p = 4 from q) (by omega)
            · exact q1
            · exact absurd (show σ 14 p = 3 from q) (by omega)
            · exact absurd (show σ 14 p = 1 from q) (by omega)
          obtain ⟨u7, h7⟩ := h7
          subst u7
          refine v_istore_n (lv1 := [(0, rH κ), (2, .inl p), (3, .inl r6)]) dX0_run_63 (noL_of rfl) (by decide) rfl ?_
          refine v_iload_n dX0_run_64 rfl ?_
          refine v_if_eq (tgt := 81) dX0_run_65 (by decide) (fun c65 => ?_) (fun c65 => ?_)
          · refine v_aload_n dX0_run_81 rfl ?_
            refine v_iload_n dX0_run_82 rfl ?_
            refine c0_back (rest := []) dX0_run_83 (ct0_back p (st4 σ g w tr F) ⟨by omega, by omega⟩ (show ∀ i, 0 ≤ i → i < p → σ 14 i = 1 → 0 ≤ σ 15 i ∧ σ 15 i ≤ 2 from fun i a b c => ((hB.1 i a (by omega)).2.2.1 (Or.inl c)))) rfl (by decide) rfl (by decide) (fun r8 τ8 h8 => ?_)
            obtain ⟨w1, u8, e8⟩ := h8
            rw [st4_A20] at u8
            subst u8
            refine v_istore_n (lv1 := [(0, rH κ), (2, .inl r8), (3, .inl r6)]) dX0_run_86 (noL_of rfl) (by decide) rfl ?_
            refine v_goto (tgt := 37) dX0_run_87 (by decide) ?_
            refine v_pick [0, 1] rfl ?_
            exact hb (by rcases h7 with q | q; exact absurd (q.1.symm.trans c65) (by decide); exact q.2) w1 r8 e8
          · refine v_iinc (lv1 := [(0, rH κ), (2, .inl (p + 1)), (3, .inl r6)]) dX0_run_68 rfl (fun _ => (by omega)) (noL_of rfl) (by decide) rfl ?_
            refine v_aload_n dX0_run_71 rfl ?_
            refine g0_tried dX0_run_72 ?_
            refine v_iload_n dX0_run_75 rfl ?_
            refine v_iconst (-1) dX0_run_76 (by decide) (by decide) ?_
            refine s0_tried dX0_run_77 (by omega) (by omega) ?_
            refine v_goto (tgt := 87) dX0_run_78 (by decide) ?_
            refine v_goto (tgt := 37) dX0_run_87 (by decide) ?_
            refine v_pick [0, 1] rfl ?_
            rw [st4_21]
            exact hf (by rcases h7 with q | q; exact q.2; exact absurd q.1 c65)
        · omega
    · show V w0 κ (rmO 2 46) cX0_run 4 (st4 σ g w tr F) [(0, rH κ), (2, .inl p)] 37 []
      have hcb := hB.1 p p0 (hlt p p1 (by omega))
      refine v_iload_n dX0_run_37 rfl ?_
      refine v_if_lt (tgt := 90) dX0_run_38 (by decide) (fun c38 => ?_) (fun c38 => ?_)
      · omega
      · refine v_aload_n dX0_run_41 rfl ?_
        refine g0_operation dX0_run_42 ?_
        refine v_iload_n dX0_run_45 rfl ?_
        refine l0_operation dX0_run_46 (by omega) (σ 14 p) rfl ?_
        refine v_if_ne (tgt := 58) dX0_run_47 (by decide) (fun c47 => ?_) (fun c47 => ?_)
        · refine v_aload_n dX0_run_58 rfl ?_
          refine v_iload_n dX0_run_59 rfl ?_
          refine c0_decide (rest := []) dX0_run_60 (ct0_decide p (st4 σ g w tr F) (show 0 ≤ σ 0 0 from n0) (show σ 0 0 ≤ 20 from n20) ⟨by omega, by omega⟩ (show 1 ≤ σ 14 p ∧ σ 14 p ≤ 4 from ⟨by omega, by omega⟩) (show σ 14 p ≠ 4 → 0 ≤ σ 16 p ∧ σ 16 p < 16 from fun _ => hcb.1) (show σ 14 p = 1 ∨ σ 14 p = 2 → 0 ≤ σ 15 p ∧ σ 15 p ≤ 2 from fun e => hcb.2.2.1 e) (show σ 14 p = 1 → 0 ≤ g (σ 16 p) ∧ g (σ 16 p) < 20 from fun e => absurd e (by omega)) (show σ 14 p = 4 → ∀ v, 0 ≤ v → v ≤ 2 → w v < 20 from fun e => absurd e (by omega))) rfl (by decide) rfl (by decide) (fun r6 τ h6 => ?_)
          have h7 : τ = st4 σ g w tr F ∧ ((r6 = 1 ∧ ovF (σ 0 0) (KV σ) (σ 2) (σ 3) (σ 4) 0 (σ 15 p) 0 = g (σ 16 p)) ∨ (r6 = 0 ∧ ovF (σ 0 0) (KV σ) (σ 2) (σ 3) (σ 4) 0 (σ 15 p) 0 ≠ g (σ 16 p))) := by
            rcases h6 with ⟨q, -⟩ | ⟨q, q1⟩ | ⟨q, q1⟩ | ⟨q, -⟩
            · exact absurd (show σ 14 p = 4 from q) (by omega)
            · exact absurd (show σ 14 p = 2 from q) (by omega)
            · exact q1
            · exact absurd (show σ 14 p = 1 from q) (by omega)
          obtain ⟨u7, h7⟩ := h7
          subst u7
          refine v_istore_n (lv1 := [(0, rH κ), (2, .inl p), (3, .inl r6)]) dX0_run_63 (noL_of rfl) (by decide) rfl ?_
          refine v_iload_n dX0_run_64 rfl ?_
          refine v_if_eq (tgt := 81) dX0_run_65 (by decide) (fun c65 => ?_) (fun c65 => ?_)
          · refine v_aload_n dX0_run_81 rfl ?_
            refine v_iload_n dX0_run_82 rfl ?_
            refine c0_back (rest := []) dX0_run_83 (ct0_back p (st4 σ g w tr F) ⟨by omega, by omega⟩ (show ∀ i, 0 ≤ i → i < p → σ 14 i = 1 → 0 ≤ σ 15 i ∧ σ 15 i ≤ 2 from fun i a b c => ((hB.1 i a (by omega)).2.2.1 (Or.inl c)))) rfl (by decide) rfl (by decide) (fun r8 τ8 h8 => ?_)
            obtain ⟨w1, u8, e8⟩ := h8
            rw [st4_A20] at u8
            subst u8
            refine v_istore_n (lv1 := [(0, rH κ), (2, .inl r8), (3, .inl r6)]) dX0_run_86 (noL_of rfl) (by decide) rfl ?_
            refine v_goto (tgt := 37) dX0_run_87 (by decide) ?_
            refine v_pick [0, 1] rfl ?_
            exact hb (by rcases h7 with q | q; exact absurd (q.1.symm.trans c65) (by decide); exact q.2) w1 r8 e8
          · refine v_iinc (lv1 := [(0, rH κ), (2, .inl (p + 1)), (3, .inl r6)]) dX0_run_68 rfl (fun _ => (by omega)) (noL_of rfl) (by decide) rfl ?_
            refine v_aload_n dX0_run_71 rfl ?_
            refine g0_tried dX0_run_72 ?_
            refine v_iload_n dX0_run_75 rfl ?_
            refine v_iconst (-1) dX0_run_76 (by decide) (by decide) ?_
            refine s0_tried dX0_run_77 (by omega) (by omega) ?_
            refine v_goto (tgt := 87) dX0_run_78 (by decide) ?_
            refine v_goto (tgt := 37) dX0_run_87 (by decide) ?_
            refine v_pick [0, 1] rfl ?_
            rw [st4_21]
            exact hf (by rcases h7 with q | q; exact q.2; exact absurd q.1 c65)
        · omega
    · show V w0 κ (rmO 2 46) cX0_run 4 (st4 σ g w tr F) [(0, rH κ), (2, .inl p)] 37 []
      refine v_iload_n dX0_run_37 rfl ?_
      refine v_if_lt (tgt := 90) dX0_run_38 (by decide) (fun c38 => ?_) (fun c38 => ?_)
      · omega
      · refine v_aload_n dX0_run_41 rfl ?_
        refine g0_operation dX0_run_42 ?_
        refine v_iload_n dX0_run_45 rfl ?_
        refine l0_operation dX0_run_46 (by omega) (σ 14 p) rfl ?_
        refine v_if_ne (tgt := 58) dX0_run_47 (by decide) (fun c47 => ?_) (fun c47 => ?_)
        · refine v_aload_n dX0_run_58 rfl ?_
          refine v_iload_n dX0_run_59 rfl ?_
          refine c0_decide (rest := []) dX0_run_60 (ct0_decide p (st4 σ g w tr F) (show 0 ≤ σ 0 0 from n0) (show σ 0 0 ≤ 20 from n20) ⟨by omega, by omega⟩ (show 1 ≤ σ 14 p ∧ σ 14 p ≤ 4 from ⟨by omega, by omega⟩) (show σ 14 p ≠ 4 → 0 ≤ σ 16 p ∧ σ 16 p < 16 from fun e => absurd hop e) (show σ 14 p = 1 ∨ σ 14 p = 2 → 0 ≤ σ 15 p ∧ σ 15 p ≤ 2 from fun e => absurd e (by omega)) (show σ 14 p = 1 → 0 ≤ g (σ 16 p) ∧ g (σ 16 p) < 20 from fun e => absurd e (by omega)) (show σ 14 p = 4 → ∀ v, 0 ≤ v → v ≤ 2 → w v < 20 from fun _ => hw)) rfl (by decide) rfl (by decide) (fun r6 τ h6 => ?_)
          have h7 : r6 = 0 ∧ τ = st4 σ g w tr (noteF F w) := by
            rcases h6 with ⟨q, q1, q2⟩ | ⟨q, -⟩ | ⟨q, -⟩ | ⟨q, -⟩
            · rw [st4_22] at q2; exact ⟨q1, q2⟩
            · exact absurd (show σ 14 p = 2 from q) (by omega)
            · exact absurd (show σ 14 p = 3 from q) (by omega)
            · exact absurd (show σ 14 p = 1 from q) (by omega)
          obtain ⟨u6, u7⟩ := h7
          subst u6 u7
          refine v_istore_n (lv1 := [(0, rH κ), (2, .inl p), (3, .inl 0)]) dX0_run_63 (noL_of rfl) (by decide) rfl ?_
          refine v_iload_n dX0_run_64 rfl ?_
          refine v_if_eq (tgt := 81) dX0_run_65 (by decide) (fun c65 => ?_) (fun c65 => ?_)
          · refine v_aload_n dX0_run_81 rfl ?_
            refine v_iload_n dX0_run_82 rfl ?_
            refine c0_back (rest := []) dX0_run_83 (ct0_back p (st4 σ g w tr (noteF F w)) ⟨by omega, by omega⟩ (show ∀ i, 0 ≤ i → i < p → σ 14 i = 1 → 0 ≤ σ 15 i ∧ σ 15 i ≤ 2 from fun i a b c => ((hB.1 i a (by omega)).2.2.1 (Or.inl c)))) rfl (by decide) rfl (by decide) (fun r8 τ8 h8 => ?_)
            obtain ⟨w1, u8, e8⟩ := h8
            rw [st4_A20] at u8
            subst u8
            refine v_istore_n (lv1 := [(0, rH κ), (2, .inl r8), (3, .inl 0)]) dX0_run_86 (noL_of rfl) (by decide) rfl ?_
            refine v_goto (tgt := 37) dX0_run_87 (by decide) ?_
            refine v_pick [0, 1] rfl ?_
            exact hb w1 r8 e8
          · exact absurd rfl c65
        · omega
    · show V w0 κ (rmO 2 46) cX0_run 4 (st4 σ g w tr F) [(0, rH κ), (2, .inl p)] 37 []
      have hcb := hB.1 p p0 (hlt p p1 (by omega))
      refine v_iload_n dX0_run_37 rfl ?_
      refine v_if_lt (tgt := 90) dX0_run_38 (by decide) (fun c38 => ?_) (fun c38 => ?_)
      · omega
      · refine v_aload_n dX0_run_41 rfl ?_
        refine g0_operation dX0_run_42 ?_
        refine v_iload_n dX0_run_45 rfl ?_
        refine l0_operation dX0_run_46 (by omega) (σ 14 p) rfl ?_
        refine v_if_ne (tgt := 58) dX0_run_47 (by decide) (fun c47 => ?_) (fun c47 => ?_)
        · omega
        · refine v_aload_n dX0_run_50 rfl ?_
          refine v_iload_n dX0_run_51 rfl ?_
          refine c0_take (rest := []) dX0_run_52 (ct0_take p (st4 σ g w tr F) hP ⟨by omega, by omega⟩ (show -1 ≤ tr p from ht1) (show tr p < σ 0 0 ∨ tr p = -1 from ht2) (show 0 ≤ σ 16 p ∧ σ 16 p < 16 from hcb.1) (show σ 15 p = 20 ∨ σ 15 p = 21 from (hcb.2.2.2 hop).1) (show 0 ≤ σ 17 p ∧ σ 17 p < 15 from (hcb.2.2.2 hop).2)) rfl (by decide) rfl (by decide) (fun r6 τ h6 => ?_)
          refine v_goto (tgt := 63) dX0_run_55 (by decide) ?_
          refine v_istore_n (lv1 := [(0, rH κ), (2, .inl p), (3, .inl r6)]) dX0_run_63 (noL_of rfl) (by decide) rfl ?_
          refine v_iload_n dX0_run_64 rfl ?_
          refine v_if_eq (tgt := 81) dX0_run_65 (by decide) (fun c65 => ?_) (fun c65 => ?_)
          · have h7 : τ = st4 σ g w tr F ∧ ∀ m1, tr p < m1 → m1 < σ 0 0 → ¬ mtc (KV σ) (σ 4) g (σ 16) (σ 15) p m1 := by
              rcases h6 with ⟨q, q1, q2⟩ | ⟨q, -⟩
              · exact ⟨q1, q2⟩
              · exact absurd (q.symm.trans c65) (by decide)
            obtain ⟨u7, q2⟩ := h7
            subst u7
            refine v_aload_n dX0_run_81 rfl ?_
            refine v_iload_n dX0_run_82 rfl ?_
            refine c0_back (rest := []) dX0_run_83 (ct0_back p (st4 σ g w tr F) ⟨by omega, by omega⟩ (show ∀ i, 0 ≤ i → i < p → σ 14 i = 1 → 0 ≤ σ 15 i ∧ σ 15 i ≤ 2 from fun i a b c => ((hB.1 i a (by omega)).2.2.1 (Or.inl c)))) rfl (by decide) rfl (by decide) (fun r8 τ8 h8 => ?_)
            obtain ⟨w1, u8, e8⟩ := h8
            rw [st4_A20] at u8
            subst u8
            refine v_istore_n (lv1 := [(0, rH κ), (2, .inl r8), (3, .inl r6)]) dX0_run_86 (noL_of rfl) (by decide) rfl ?_
            refine v_goto (tgt := 37) dX0_run_87 (by decide) ?_
            refine v_pick [0, 1] rfl ?_
            exact hb q2 w1 r8 e8
          · have h7 : ∃ m, tr p < m ∧ m < σ 0 0 ∧ mtc (KV σ) (σ 4) g (σ 16) (σ 15) p m ∧ (∀ m1, tr p < m1 → m1 < m → ¬ mtc (KV σ) (σ 4) g (σ 16) (σ 15) p m1) ∧ τ = st4 σ (takeG (KV σ) (σ 2) (σ 3) (σ 4) (σ 17) g p m) w (fa tr p m) F := by
              rcases h6 with ⟨q, -⟩ | ⟨-, m, q1, q2, q3, q4, q5⟩
              · exact absurd q c65
              · rw [st4_21, st4_A19] at q5; exact ⟨m, q1, q2, q3, q4, q5⟩
            obtain ⟨m, q1, q2, q3, q4, q5⟩ := h7
            subst q5
            refine v_iinc (lv1 := [(0, rH κ), (2, .inl (p + 1)), (3, .inl r6)]) dX0_run_68 rfl (fun _ => (by omega)) (noL_of rfl) (by decide) rfl ?_
            refine v_aload_n dX0_run_71 rfl ?_
            refine g0_tried dX0_run_72 ?_
            refine v_iload_n dX0_run_75 rfl ?_
            refine v_iconst (-1) dX0_run_76 (by decide) (by decide) ?_
            refine s0_tried dX0_run_77 (by omega) (by omega) ?_
            refine v_goto (tgt := 87) dX0_run_78 (by decide) ?_
            refine v_goto (tgt := 37) dX0_run_87 (by decide) ?_
            refine v_pick [0, 1] rfl ?_
            rw [st4_21]
            exact hf m q1 q2 q3 q4
  have main : V w0 κ (rmO 2 46) cX0_run 4 (st4 σ (fa (σ 19) 0 c) (fa (fa (fa (σ 20) 0 (-1)) 1 (-1)) 2 (-1)) (fa (σ 21) 0 (-1)) (σ 22)) [(0, rH κ), (2, .inl 0)] 37 [] := by
    have hwv : ∀ v, 0 ≤ v → v ≤ 2 → fa (fa (fa (σ 20) 0 (-1)) 1 (-1)) 2 (-1) v = (fun _ => (-1 : Int)) v := fun v v0 v2 => by
      show fa (fa (fa (σ 20) 0 (-1)) 1 (-1)) 2 (-1) v = -1
      unfold fa
      split
      · rfl
      · split
        · rfl
        · split
          · rfl
          · omega
    have hvb : ∀ v : Int, vbit 0 v = 0 := fun v => by
      unfold vbit
      split
      · rfl
      · split <;> rfl
    refine run_pure (Φ := fun g w tr F p => V w0 κ (rmO 2 46) cX0_run 4 (st4 σ g w tr F) [(0, rH κ), (2, .inl p)] 37 []) hP hS (tk0 σ) 0 [0] 1 0 _ _ _ _ hR.2.1.2.2 hR.2.2 (by omega) (by rw [toks_len t0]; omega) (by omega) (fun r hr => ?_) (fun r hr => ?_) (fun v v0 v2 => ?_) (fa_s _ _ _) (fun g2 tr2 F2 b1 b2 b3 w2 q hbk => ?_)
    · rcases List.mem_cons.mp hr with e | e
      · omega
      · cases e
    · rcases List.mem_cons.mp hr with e | e
      · rw [e, fa_s]; exact hc
      · cases e
    · have e := hwv v v0 v2
      have e : fa (fa (fa (σ 20) 0 (-1)) 1 (-1)) 2 (-1) v = -1 := e
      rw [hvb v, e]
      exact ⟨fun h => absurd h (by decide), fun _ => rfl, by omega⟩
    · have hq1 := hbk.1
      have hq2 := hbk.2.1
      have b3 : ∀ X, 0 ≤ X → X < 8000 → (fbB F2 X = true ↔ (fbB (σ 22) X = true ∨ Sol (σ 0 0) (KV σ) (σ 2) (σ 3) (σ 4) (tk0 σ) [c] (fa (fa (fa (σ 20) 0 (-1)) 1 (-1)) 2 (-1)) X)) := fun X x0 x1 => by
        have := b3 X x0 x1
        rw [List.map_cons, List.map_nil, fa_s] at this
        exact this
      refine v_iload_n dX0_run_37 rfl ?_
      refine v_if_lt (tgt := 90) dX0_run_38 (by decide) (fun c38 => ?_) (fun c38 => ?_)
      · exact hret _ _ _ dX0_run_90 ⟨g2, w2, tr2, F2, rfl, fun X x0 x1 => (b3 X x0 x1).trans (or_congr Iff.rfl (Sol_w (tk0 σ) [c] _ _ X hR.2.1.2.2 hwv))⟩
      · omega
  refine v_aload_n dX0_run_0 rfl ?_
  refine g0_registers dX0_run_1 ?_
  refine v_iconst 0 dX0_run_4 (by decide) (by decide) ?_
  refine v_iload_n dX0_run_5 rfl ?_
  refine v_i2b dX0_run_6 (by omega) ?_
  refine s0_registers dX0_run_7 (by omega) (by omega) ?_
  refine v_iconst 0 dX0_run_8 (by decide) (by decide) ?_
  refine v_istore_n (lv1 := [(0, rH κ), (1, .inl c), (2, .inl 0)]) dX0_run_9 (noL_of rfl) (by decide) rfl ?_
  refine v_iload_n dX0_run_10 rfl ?_
  refine v_iconst 3 dX0_run_11 (by decide) (by decide) ?_
  refine v_icmp_ge (tgt := 28) dX0_run_12 (by decide) (fun c12 => ?_) (fun c12 => ?_)
  · omega
  · refine v_aload_n dX0_run_15 rfl ?_
    refine g0_variable dX0_run_16 ?_
    refine v_iload_n dX0_run_19 rfl ?_
    refine v_iconst (-1) dX0_run_20 (by decide) (by decide) ?_
    refine s0_variable dX0_run_21 (by omega) (by omega) ?_
    refine v_iinc (lv1 := [(0, rH κ), (1, .inl c), (2, .inl (0 + 1))]) dX0_run_22 rfl (fun _ => (by omega)) (noL_of rfl) (by decide) rfl ?_
    refine v_goto (tgt := 10) dX0_run_25 (by decide) ?_
    refine v_iload_n dX0_run_10 rfl ?_
    refine v_iconst 3 dX0_run_11 (by decide) (by decide) ?_
    refine v_icmp_ge (tgt := 28) dX0_run_12 (by decide) (fun c12 => ?_) (fun c12 => ?_)
    · omega
    · refine v_aload_n dX0_run_15 rfl ?_
      refine g0_variable dX0_run_16 ?_
      refine v_iload_n dX0_run_19 rfl ?_
      refine v_iconst (-1) dX0_run_20 (by decide) (by decide) ?_
      refine s0_variable dX0_run_21 (by omega) (by omega) ?_
      refine v_iinc (lv1 := [(0, rH κ), (1, .inl c), (2, .inl (0 + 1 + 1))]) dX0_run_22 rfl (fun _ => (by omega)) (noL_of rfl) (by decide) rfl ?_
      refine v_goto (tgt := 10) dX0_run_25 (by decide) ?_
      refine v_iload_n dX0_run_10 rfl ?_
      refine v_iconst 3 dX0_run_11 (by decide) (by decide) ?_
      refine v_icmp_ge (tgt := 28) dX0_run_12 (by decide) (fun c12 => ?_) (fun c12 => ?_)
      · omega
      · refine v_aload_n dX0_run_15 rfl ?_
        refine g0_variable dX0_run_16 ?_
        refine v_iload_n dX0_run_19 rfl ?_
        refine v_iconst (-1) dX0_run_20 (by decide) (by decide) ?_
        refine s0_variable dX0_run_21 (by omega) (by omega) ?_
        refine v_iinc (lv1 := [(0, rH κ), (1, .inl c), (2, .inl (0 + 1 + 1 + 1))]) dX0_run_22 rfl (fun _ => (by omega)) (noL_of rfl) (by decide) rfl ?_
        refine v_goto (tgt := 10) dX0_run_25 (by decide) ?_
        refine v_iload_n dX0_run_10 rfl ?_
        refine v_iconst 3 dX0_run_11 (by decide) (by decide) ?_
        refine v_icmp_ge (tgt := 28) dX0_run_12 (by decide) (fun c12 => ?_) (fun c12 => ?_)
        · refine v_iconst 0 dX0_run_28 (by decide) (by decide) ?_
          refine v_istore_n (lv1 := [(0, rH κ), (1, .inl c), (2, .inl 0)]) dX0_run_29 (noL_of rfl) (by decide) rfl ?_
          refine v_aload_n dX0_run_30 rfl ?_
          refine g0_tried dX0_run_31 ?_
          refine v_iconst 0 dX0_run_34 (by decide) (by decide) ?_
          refine v_iconst (-1) dX0_run_35 (by decide) (by decide) ?_
          refine s0_tried dX0_run_36 (by omega) (by omega) ?_
          rw [run_st]
          refine v_pick [0, 2] rfl ?_
          exact main
        · omega
theorem all_s {P : Int → Prop} {i : Int} (h0 : 0 ≤ i) : (∃ c, 0 ≤ c ∧ c < i + 1 ∧ P c) ↔ ((∃ c, 0 ≤ c ∧ c < i ∧ P c) ∨ P i) := by
  constructor
  · intro ⟨c, a, b, d⟩
    by_cases e : c = i
    · exact Or.inr (e ▸ d)
    · exact Or.inl ⟨c, a, by omega, d⟩
  · intro h
    rcases h with ⟨c, a, b, d⟩ | h
    · exact ⟨c, a, by omega, d⟩
    · exact ⟨i, h0, by omega, h⟩
theorem st4_F (σ : Sg) (F : Int → Int) : upA σ 22 F = st4 σ (σ 19) (σ 20) (σ 21) F := by
  have h : ∀ τ, τ = st4 σ (σ 19) (σ 20) (σ 21) (σ 22) → upA τ 22 F = st4 σ (σ 19) (σ 20) (σ 21) F := by
    intro τ h
    rw [h, st4_A22]
  exact h σ (st4_id σ).symm
theorem RunOk_st4 {σ : Sg} {g w tr F : Int → Int} (h : RunOk σ) : RunOk (st4 σ g w tr F) := h
theorem Sol0_st4 {σ : Sg} {g w tr F : Int → Int} {c X : Int} : Sol0 (st4 σ g w tr F) c X ↔ Sol0 σ c X := Iff.rfl
theorem fbB_0 {F : Int → Int} (h : ∀ j, 0 ≤ j → j < 125 → F j = 0) {X : Int} (x0 : 0 ≤ X) (x1 : X < 8000) : ¬ fbB F X = true := by
  unfold fbB
  rw [h (X / 64) (by omega) (by omega)]
  simp
theorem ct0_runAll (σ : Sg) (hR : RunOk σ) : CtV w0 yX0_runAll cX0_runAll 2 3 69 [] σ (fun σ1 => ∃ g w tr F, σ1 = st4 σ g w tr F ∧ ∀ X, 0 ≤ X → X < 8000 → (fbB F X = true ↔ ∃ c, 0 ≤ c ∧ c < σ 0 0 ∧ (σ 4 c = c ∧ Sol0 σ c X))) := by
  refine ct_void (by decide +kernel) rfl (Nat.le_of_ble_eq_true rfl) (fun κ hret => ?_)
  have n0 : 0 ≤ σ 0 0 := hR.1.1.1
  have n20 : σ 0 0 ≤ 20 := hR.1.1.2.1
  have loop : ∀ (d : Nat) (i : Int) (g w tr F : Int → Int), 0 ≤ i → i ≤ σ 0 0 → (∀ X, 0 ≤ X → X < 8000 → (fbB F X = true ↔ ∃ c, 0 ≤ c ∧ c < i ∧ (σ 4 c = c ∧ Sol0 σ c X))) → (σ 0 0 - i).toNat < d → V w0 κ (rmO 3 69) cX0_runAll 2 (st4 σ g w tr F) [(0, rH κ), (1, .inl i)] 6 [] := by
    intro d
    induction d with
    | zero => intros; omega
    | succ d ih =>
      intro i g w tr F hi0 hin hI hd
      refine v_iload_n dX0_runAll_6 rfl ?_
      refine v_aload_n dX0_runAll_7 rfl ?_
      refine g0_nodeCount dX0_runAll_8 (σ 0 0) rfl ?_
      refine v_icmp_ge (tgt := 35) dX0_runAll_11 (by decide) (fun c11 => ?_) (fun c11 => ?_)
      · exact hret _ _ _ dX0_runAll_35 ⟨g, w, tr, F, rfl, by rw [show σ 0 0 = i by omega]; exact hI⟩
      · refine v_aload_n dX0_runAll_14 rfl ?_
        refine g0_leaderOf dX0_runAll_15 ?_
        refine v_iload_n dX0_runAll_18 rfl ?_
        refine l0_leaderOf dX0_runAll_19 (by omega) (σ 4 i) rfl ?_
        refine v_iload_n dX0_runAll_20 rfl ?_
        refine v_icmp_ne (tgt := 29) dX0_runAll_21 (by decide) (fun c21 => ?_) (fun c21 => ?_)
        · refine v_iinc (lv1 := [(0, rH κ), (1, .inl (i + 1))]) dX0_runAll_29 rfl (fun _ => (by omega)) (noL_of rfl) (by decide) rfl ?_
          refine v_goto (tgt := 6) dX0_runAll_32 (by decide) ?_
          refine ih _ g w tr F (by omega) (by omega) (fun X x0 x1 => ?_) (by omega)
          rw [all_s hi0, hI X x0 x1]
          simp [c21]
        · refine v_aload_n dX0_runAll_24 rfl ?_
          refine v_iload_n dX0_runAll_25 rfl ?_
          refine c0_run (rest := []) dX0_runAll_26 (ct0_run i (st4 σ g w tr F) (RunOk_st4 hR) ⟨by omega, by omega⟩) rfl (by decide) rfl (by decide) (fun τ h6 => ?_)
          obtain ⟨g2, w2, tr2, F2, u6, e6⟩ := h6
          rw [st4_st4] at u6
          subst u6
          refine v_iinc (lv1 := [(0, rH κ), (1, .inl (i + 1))]) dX0_runAll_29 rfl (fun _ => (by omega)) (noL_of rfl) (by decide) rfl ?_
          refine v_goto (tgt := 6) dX0_runAll_32 (by decide) ?_
          refine ih _ g2 w2 tr2 F2 (by omega) (by omega) (fun X x0 x1 => ?_) (by omega)
          rw [e6 X x0 x1, all_s hi0]
          show (fbB F X = true ∨ Sol0 σ i X) ↔ _
          rw [hI X x0 x1]
          simp [c21]
  refine v_aload_n dX0_runAll_0 rfl ?_
  refine c0_clearFound (rest := []) dX0_runAll_1 (ct0_clearFound σ) rfl (by decide) rfl (by decide) (fun τ h2 => ?_)
  obtain ⟨F, u2, e2⟩ := h2
  rw [st4_F] at u2
  subst u2
  refine v_iconst 0 dX0_runAll_4 (by decide) (by decide) ?_
  refine v_istore_n (lv1 := [(0, rH κ), (1, .inl 0)]) dX0_runAll_5 (noL_of rfl) (by decide) rfl ?_
  refine loop 21 0 _ _ _ F (by omega) (by omega) (fun X x0 x1 => ?_) (by omega)
  constructor
  · intro h; exact absurd h (fbB_0 e2 x0 x1)
  · intro ⟨c, a, b, _⟩; omega
end
section
set_option maxRecDepth 100000
def shr3 (x t : Int) : Int := if t = 0 then x else if t = 1 then x / 2 else x / 4
def one3 (t : Int) : Int := if t = 0 then 1 else if t = 1 then 2 else 4
theorem sh_all : ∀ (x : Fin 8) (t : Fin 3), iI x.val >>> (iI t.val &&& 31) = iI (shr3 x.val t.val) ∧ iI (shr3 x.val t.val) &&& iI 1 = iI (vbit x.val t.val) ∧ iI 1 <<< (iI t.val &&& 31) = iI (one3 t.val) ∧ iI x.val ||| iI (one3 t.val) = iI (orb x.val t.val) ∧ (0 ≤ shr3 x.val t.val ∧ shr3 x.val t.val < 8) ∧ (vbit x.val t.val = 0 ∨ vbit x.val t.val = 1) ∧ (0 ≤ one3 t.val ∧ one3 t.val ≤ 4) ∧ (0 ≤ orb x.val t.val ∧ orb x.val t.val < 8) := by decide +kernel
theorem sh_spec {x t : Int} (hx : 0 ≤ x ∧ x < 8) (ht : 0 ≤ t ∧ t ≤ 2) : iI x >>> (iI t &&& 31) = iI (shr3 x t) ∧ iI (shr3 x t) &&& iI 1 = iI (vbit x t) ∧ iI 1 <<< (iI t &&& 31) = iI (one3 t) ∧ iI x ||| iI (one3 t) = iI (orb x t) ∧ (0 ≤ shr3 x t ∧ shr3 x t < 8) ∧ (vbit x t = 0 ∨ vbit x t = 1) ∧ (0 ≤ one3 t ∧ one3 t ≤ 4) ∧ (0 ≤ orb x t ∧ orb x t < 8) := by
  have := sh_all ⟨x.toNat, by omega⟩ ⟨t.toNat, by omega⟩
  simp only [Int.toNat_of_nonneg hx.1, Int.toNat_of_nonneg ht.1] at this
  exact this
/-- the open registers, the latest first -/
def Opn (f : Int → Int) : List Int → Prop
  | [] => True
  | r :: s => f (s.length : Int) = r ∧ Opn f s
theorem opn_up {f : Int → Int} {j v : Int} : ∀ (s : List Int), Opn f s → (s.length : Int) ≤ j → Opn (fun i => if i = j then v else f i) s := by
  intro s
  induction s with
  | nil => intro _ _; trivial
  | cons r s ih =>
    intro h hj
    have hl : (((r :: s).length : Nat) : Int) = s.length + 1 := by simp
    refine ⟨?_, ih h.2 (by omega)⟩
    show (if (s.length : Int) = j then v else f s.length) = r
    rw [if_neg (by omega)]
    exact h.1
def Ag (σ ρ : Sg) : Prop := ∀ k, (k < 10 ∨ 18 < k) → ρ k = σ k
theorem Ag.up {σ ρ : Sg} (h : Ag σ ρ) {k : Nat} {j v : Int} (hk : 10 ≤ k ∧ k ≤ 18) : Ag σ (up ρ k j v) := fun k' h' => (up_o _ _ _ (by omega)).trans (h k' h')
def wr (ρ : Sg) (p a b d : Int) : Sg := up (up (up (up ρ 14 p a) 15 p b) 16 p d) 13 0 (p + 1)
theorem wr_14 (ρ : Sg) (p a b d i : Int) : wr ρ p a b d 14 i = if i = p then a else ρ 14 i := rfl
theorem wr_15 (ρ : Sg) (p a b d i : Int) : wr ρ p a b d 15 i = if i = p then b else ρ 15 i := rfl
theorem wr_16 (ρ : Sg) (p a b d i : Int) : wr ρ p a b d 16 i = if i = p then d else ρ 16 i := rfl
theorem Ag.wr {σ ρ : Sg} (h : Ag σ ρ) {p a b d : Int} : Ag σ (wr ρ p a b d) := (((h.up (by decide)).up (by decide)).up (by decide)).up (by decide)
def VB (tk : Int → Int) (p vs : Int) : Prop := (0 ≤ vs ∧ vs < 8) ∧ ∀ v, 0 ≤ v → v ≤ 2 → (vbit vs v = 1 ↔ ∃ i, 0 ≤ i ∧ i < p ∧ tk i = v)
theorem VB_0 (tk : Int → Int) : VB tk 0 0 := by
  refine ⟨by omega, fun v v0 v2 => ⟨fun h => ?_, fun ⟨i, a, b, _⟩ => by omega⟩⟩
  have hvb : vbit 0 v = 0 := by
    unfold vbit
    split
    · rfl
    · split <;> rfl
  omega
theorem VB_var {tk : Int → Int} {p vs t : Int} (h : VB tk p vs) (hp : 0 ≤ p) (et : tk p = t) (ht : 0 ≤ t ∧ t ≤ 2) : VB tk (p + 1) (orb vs t) := by
  refine ⟨(orb_spec h.1 ht ht).2.1, fun v v0 v2 => ?_⟩
  rw [(orb_spec h.1 ht ⟨v0, v2⟩).1, h.2 v v0 v2]
  constructor
  · intro q
    rcases q with ⟨i, a, b, c⟩ | q
    · exact ⟨i, a, by omega, c⟩
    · exact ⟨p, hp, by omega, by rw [et, q]⟩
  · intro ⟨i, a, b, c⟩
    by_cases e : i = p
    · right; rw [← c, e, et]
    · left; exact ⟨i, a, by omega, c⟩
theorem VB_skip {tk : Int → Int} {p vs t : Int} (h : VB tk p vs) (hp : 0 ≤ p) (et : tk p = t) (ht : 2 < t) : VB tk (p + 1) vs := by
  refine ⟨h.1, fun v v0 v2 => ?_⟩
  rw [h.2 v v0 v2]
  constructor
  · intro ⟨i, a, b, c⟩
    exact ⟨i, a, by omega, c⟩
  · intro ⟨i, a, b, c⟩
    by_cases e : i = p
    · rw [e] at c; omega
    · exact ⟨i, a, by omega, c⟩
/-- what the rest of the compiling brings -/
def KC (σ : Sg) (ts : List Int) (p : Int) (s : List Int) (nr vs : Int) (ρ σ1 : Sg) : Prop := Ag σ σ1 ∧ σ1 10 0 = 1 ∧ (∀ i, i < p → σ1 14 i = ρ 14 i ∧ σ1 15 i = ρ 15 i ∧ σ1 16 i = ρ 16 i ∧ σ1 17 i = ρ 17 i) ∧ ((σ1 11 0 = 0 ∧ ¬ fw ts (s.length : Int)) ∨ (σ1 11 0 = 1 ∧ fw ts (s.length : Int) ∧ CodeR (σ1 14) (σ1 15) (σ1 16) (σ1 17) ts p s nr vs ∧ VB (σ 9) (σ 8 0) (σ1 12 0)))
theorem fw_c {t r : Int} {ts s s' : List Int} (h : (s'.length : Int) = s.length + (if t = 20 then 1 else if t = 21 then 2 else 0)) : fw (t :: ts) ((r :: s).length : Int) ↔ fw ts (s'.length : Int) := by
  have hl : (((r :: s).length : Nat) : Int) = s.length + 1 := by simp
  show (0 < (((r :: s).length : Nat) : Int) ∧ fw ts ((((r :: s).length : Nat) : Int) - 1 + (if t = 20 then 1 else if t = 21 then 2 else 0))) ↔ _
  rw [hl, h, show (s.length : Int) + 1 - 1 = s.length by omega]
  constructor
  · exact fun q => q.2
  · exact fun q => ⟨by omega, q⟩
theorem KC_step {σ ρ ρ' σ1 : Sg} {t p r nr vs nr' vs' a b : Int} {ts s s' : List Int} (h : KC σ ts (p + 1) s' nr' vs' ρ' σ1) (h14 : ∀ i, ρ' 14 i = if i = p then a else ρ 14 i) (h15 : ∀ i, ρ' 15 i = if i = p then b else ρ 15 i) (h16 : ∀ i, ρ' 16 i = if i = p then r else ρ 16 i) (h17 : ∀ i, i < p → ρ' 17 i = ρ 17 i) (hf : (s'.length : Int) = s.length + (if t = 20 then 1 else if t = 21 then 2 else 0)) (hc : ∀ op arg reg aat : Int → Int, op p = a → arg p = b → reg p = r → aat p = ρ' 17 p → CodeR op arg reg aat ts (p + 1) s' nr' vs' → CodeR op arg reg aat (t :: ts) p (r :: s) nr vs) : KC σ (t :: ts) p (r :: s) nr vs ρ σ1 := by
  obtain ⟨k1, k2, k3, k4⟩ := h
  refine ⟨k1, k2, fun i hi => ?_, ?_⟩
  · have := k3 i (by omega)
    rw [h14, h15, h16, h17 i hi, if_neg (by omega), if_neg (by omega), if_neg (by omega)] at this
    exact this
  · rw [fw_c hf]
    rcases k4 with k4 | ⟨k4, k5, k6, k7⟩
    · exact Or.inl k4
    · have := k3 p (by omega)
      rw [h14, h15, h16, if_pos rfl, if_pos rfl, if_pos rfl] at this
      exact Or.inr ⟨k4, k5, hc _ _ _ _ this.1 this.2.1 this.2.2.1 this.2.2.2 k6, k7⟩
/-- the code is that of the tokens -/
def Cmp (ρ : Sg) : Prop := (ρ 11 0 = 0 ∧ ¬ fw (tk0 ρ) 1) ∨ (ρ 11 0 = 1 ∧ fw (tk0 ρ) 1 ∧ CodeR (ρ 14) (ρ 15) (ρ 16) (ρ 17) (tk0 ρ) 0 [0] 1 0 ∧ VB (ρ 9) (ρ 8 0) (ρ 12 0))
def CmpI (ρ : Sg) : Prop := ρ 10 0 ≠ 0 → Cmp ρ
theorem tokI_at {σ : Sg} (h : TokI σ) {p : Int} (h0 : 0 ≤ p) (h1 : p < σ 8 0) : tokOk (σ 9 p) := h.2.2 _ (toks_mem.mpr ⟨p, h0, h1, rfl⟩)
theorem cmp_of {σ ρ σ1 : Sg} (h : KC σ (sfx (σ 9) (σ 8 0).toNat 0) 0 [0] 1 0 ρ σ1) : Ag σ σ1 ∧ σ1 10 0 ≠ 0 ∧ Cmp σ1 := by
  obtain ⟨k1, k2, -, k4⟩ := h
  refine ⟨k1, by omega, ?_⟩
  unfold Cmp tk0
  rw [k1 9 (by decide), k1 8 (by decide)]
  exact k4
theorem ct0_compile (σ : Sg) (hT : TokI σ) (hI : CmpI σ) : CtV w0 yX0_compile cX0_compile 6 1 23 [] σ (fun σ1 => Ag σ σ1 ∧ σ1 10 0 ≠ 0 ∧ Cmp σ1) := by
  refine ct_void (by decide +kernel) rfl (Nat.le_of_ble_eq_true rfl) (fun κ hret => ?_)
  have t0 : 0 ≤ σ 8 0 := hT.1
  have t7 : σ 8 0 ≤ 7 := hT.2.1
  have loop : ∀ (m : Nat) (p oc nr vs : Int) (s : List Int) (ρ : Sg), Ag σ ρ → ρ 10 0 = 1 → 0 ≤ p → p + (m : Int) = σ 8 0 → ρ 13 0 = p → ρ 12 0 = vs → VB (σ 9) p vs → Opn (ρ 18) s → oc = (s.length : Int) → (s.length : Int) ≤ p + 1 → 1 ≤ nr → nr ≤ 1 + 2 * p → (∀ r ∈ s, 0 ≤ r ∧ r < nr) → (∀ σ1, KC σ (sfx (σ 9) m p) p s nr vs ρ σ1 → Ag σ σ1 ∧ σ1 10 0 ≠ 0 ∧ Cmp σ1) → V w0 κ (rmO 1 23) cX0_compile 6 ρ [(0, rH κ), (1, .inl oc), (2, .inl nr), (3, .inl p)] 41 [] := by
    intro m
    induction m with
    | zero =>
      intro p oc nr vs s ρ hA e10 hp0 hpm e13 e12 hvb hO hoc hlen hn1 hn2 hrs hK
      have e8 : ρ 8 0 = σ 8 0 := by rw [hA 8 (by decide)]
      have hs0 : oc = 0 → s = [] := fun e => List.eq_nil_of_length_eq_zero (by omega)
      have hcast : ((0 : Nat) : Int) = 0 := rfl
      refine v_iload_n dX0_compile_41 rfl ?_
      refine v_aload_n dX0_compile_42 rfl ?_
      refine g0_tokenCount dX0_compile_43 (σ 8 0) e8 ?_
      refine v_icmp_ge (tgt := 215) dX0_compile_46 (by decide) (fun c46 => ?_) (fun c46 => ?_)
      · refine v_aload_n dX0_compile_215 rfl ?_
        refine v_iload_n dX0_compile_216 rfl ?_
        refine v_if_ne (tgt := 232) dX0_compile_217 (by decide) (fun c217 => ?_) (fun c217 => ?_)
        · refine v_iconst 0 dX0_compile_232 (by decide) (by decide) ?_
          refine p0_isWhole dX0_compile_233 (by decide) ?_
          refine v_aload_n dX0_compile_236 rfl ?_
          refine v_iconst 4 dX0_compile_237 (by decide) (by decide) ?_
          refine v_iconst 0 dX0_compile_238 (by decide) (by decide) ?_
          refine v_iconst 0 dX0_compile_239 (by decide) (by decide) ?_
          refine c0_write (rest := []) dX0_compile_240 (ct0_write 4 0 0 (up ρ 11 0 0) (show 0 ≤ ρ 13 0 by omega) (show ρ 13 0 < 10 by omega) ⟨by omega, by omega⟩ ⟨by omega, by omega⟩ ⟨by omega, by omega⟩) rfl (by decide) rfl (by decide) (fun τ h9 => ?_)
          have h9 : τ = up (up (up (up (up ρ 11 0 0) 14 (ρ 13 0) 4) 15 (ρ 13 0) 0) 16 (ρ 13 0) 0) 13 0 (ρ 13 0 + 1) := h9
          rw [e13] at h9
          have h9 : τ = wr (up ρ 11 0 0) p 4 0 0 := h9
          subst h9
          exact hret _ _ _ dX0_compile_243 (hK _ ⟨(hA.up (by decide)).wr, e10, fun i hi => ⟨(wr_14 _ _ _ _ _ i).trans (if_neg (by omega)), (wr_15 _ _ _ _ _ i).trans (if_neg (by omega)), (wr_16 _ _ _ _ _ i).trans (if_neg (by omega)), rfl⟩, Or.inl ⟨rfl, fun hf => c217 (by have hf : (s.length : Int) = 0 := hf; omega)⟩⟩)
        · refine v_iload_n dX0_compile_220 rfl ?_
          refine v_aload_n dX0_compile_221 rfl ?_
          refine g0_tokenCount dX0_compile_222 (σ 8 0) e8 ?_
          refine v_icmp_ne (tgt := 232) dX0_compile_225 (by decide) (fun c225 => ?_) (fun c225 => ?_)
          · omega
          · refine v_iconst 1 dX0_compile_228 (by decide) (by decide) ?_
            refine v_goto (tgt := 233) dX0_compile_229 (by decide) ?_
            refine p0_isWhole dX0_compile_233 (by decide) ?_
            refine v_aload_n dX0_compile_236 rfl ?_
            refine v_iconst 4 dX0_compile_237 (by decide) (by decide) ?_
            refine v_iconst 0 dX0_compile_238 (by decide) (by decide) ?_
            refine v_iconst 0 dX0_compile_239 (by decide) (by decide) ?_
            refine c0_write (rest := []) dX0_compile_240 (ct0_write 4 0 0 (up ρ 11 0 1) (show 0 ≤ ρ 13 0 by omega) (show ρ 13 0 < 10 by omega) ⟨by omega, by omega⟩ ⟨by omega, by omega⟩ ⟨by omega, by omega⟩) rfl (by decide) rfl (by decide) (fun τ h9 => ?_)
            have h9 : τ = up (up (up (up (up ρ 11 0 1) 14 (ρ 13 0) 4) 15 (ρ 13 0) 0) 16 (ρ 13 0) 0) 13 0 (ρ 13 0 + 1) := h9
            rw [e13] at h9
            have h9 : τ = wr (up ρ 11 0 1) p 4 0 0 := h9
            subst h9
            exact hret _ _ _ dX0_compile_243 (hK _ ⟨(hA.up (by decide)).wr, e10, fun i hi => ⟨(wr_14 _ _ _ _ _ i).trans (if_neg (by omega)), (wr_15 _ _ _ _ _ i).trans (if_neg (by omega)), (wr_16 _ _ _ _ _ i).trans (if_neg (by omega)), rfl⟩, Or.inr ⟨rfl, show (s.length : Int) = 0 by omega, ⟨hs0 (by omega), (wr_14 _ _ _ _ _ _).trans (if_pos rfl)⟩, show VB (σ 9) (σ 8 0) (ρ 12 0) by rw [e12, show σ 8 0 = p by omega]; exact hvb⟩⟩)
      · omega
    | succ m ih =>
      intro p oc nr vs s ρ hA e10 hp0 hpm e13 e12 hvb hO hoc hlen hn1 hn2 hrs hK
      have e8 : ρ 8 0 = σ 8 0 := by rw [hA 8 (by decide)]
      cases s with
      | nil =>
        have hoc : oc = 0 := hoc
        refine v_iload_n dX0_compile_41 rfl ?_
        refine v_aload_n dX0_compile_42 rfl ?_
        refine g0_tokenCount dX0_compile_43 (σ 8 0) e8 ?_
        refine v_icmp_ge (tgt := 215) dX0_compile_46 (by decide) (fun c46 => ?_) (fun c46 => ?_)
        · omega
        · refine v_iload_n dX0_compile_49 rfl ?_
          refine v_if_le (tgt := 215) dX0_compile_50 (by decide) (fun c50 => ?_) (fun c50 => ?_)
          · refine v_aload_n dX0_compile_215 rfl ?_
            refine v_iload_n dX0_compile_216 rfl ?_
            refine v_if_ne (tgt := 232) dX0_compile_217 (by decide) (fun c217 => ?_) (fun c217 => ?_)
            · omega
            · refine v_iload_n dX0_compile_220 rfl ?_
              refine v_aload_n dX0_compile_221 rfl ?_
              refine g0_tokenCount dX0_compile_222 (σ 8 0) e8 ?_
              refine v_icmp_ne (tgt := 232) dX0_compile_225 (by decide) (fun c225 => ?_) (fun c225 => ?_)
              · refine v_iconst 0 dX0_compile_232 (by decide) (by decide) ?_
                refine p0_isWhole dX0_compile_233 (by decide) ?_
                refine v_aload_n dX0_compile_236 rfl ?_
                refine v_iconst 4 dX0_compile_237 (by decide) (by decide) ?_
                refine v_iconst 0 dX0_compile_238 (by decide) (by decide) ?_
                refine v_iconst 0 dX0_compile_239 (by decide) (by decide) ?_
                refine c0_write (rest := []) dX0_compile_240 (ct0_write 4 0 0 (up ρ 11 0 0) (show 0 ≤ ρ 13 0 by omega) (show ρ 13 0 < 10 by omega) ⟨by omega, by omega⟩ ⟨by omega, by omega⟩ ⟨by omega, by omega⟩) rfl (by decide) rfl (by decide) (fun τ h9 => ?_)
                have h9 : τ = up (up (up (up (up ρ 11 0 0) 14 (ρ 13 0) 4) 15 (ρ 13 0) 0) 16 (ρ 13 0) 0) 13 0 (ρ 13 0 + 1) := h9
                rw [e13] at h9
                have h9 : τ = wr (up ρ 11 0 0) p 4 0 0 := h9
                subst h9
                exact hret _ _ _ dX0_compile_243 (hK _ ⟨(hA.up (by decide)).wr, e10, fun i hi => ⟨(wr_14 _ _ _ _ _ i).trans (if_neg (by omega)), (wr_15 _ _ _ _ _ i).trans (if_neg (by omega)), (wr_16 _ _ _ _ _ i).trans (if_neg (by omega)), rfl⟩, Or.inl ⟨rfl, fun hf => absurd hf.1 (by simp)⟩⟩)
              · omega
          · omega
      | cons r s =>
        have hl : (((r :: s).length : Nat) : Int) = s.length + 1 := by simp
        rw [hl] at hoc hlen
        obtain ⟨t, et⟩ : ∃ t, σ 9 p = t := ⟨_, rfl⟩
        have e9 : ρ 9 p = t := by rw [hA 9 (by decide), et]
        have htk := tokI_at hT (p := p) (by omega) (by omega)
        rw [et] at htk
        unfold tokOk at htk
        have hsf : sfx (σ 9) (m + 1) p = t :: sfx (σ 9) m (p + 1) := by rw [← et]; rfl
        rw [hsf] at hK
        have e18 : ρ 18 (oc + (-1)) = r := by rw [show oc + (-1) = (s.length : Int) by omega]; exact hO.1
        have hr := hrs r List.mem_cons_self
        have hrs : ∀ r ∈ s, 0 ≤ r ∧ r < nr := fun x hx => hrs x (List.mem_cons_of_mem _ hx)
        refine v_iload_n dX0_compile_41 rfl ?_
        refine v_aload_n dX0_compile_42 rfl ?_
        refine g0_tokenCount dX0_compile_43 (σ 8 0) e8 ?_
        refine v_icmp_ge (tgt := 215) dX0_compile_46 (by decide) (fun c46 => ?_) (fun c46 => ?_)
        · omega
        · refine v_iload_n dX0_compile_49 rfl ?_
          refine v_if_le (tgt := 215) dX0_compile_50 (by decide) (fun c50 => ?_) (fun c50 => ?_)
          · omega
          · refine v_aload_n dX0_compile_53 rfl ?_
            refine g0_tokens dX0_compile_54 ?_
            refine v_iload_n dX0_compile_57 rfl ?_
            refine l0_tokens dX0_compile_58 (by omega) t e9 ?_
            refine v_istore (lv1 := [(0, rH κ), (1, .inl oc), (2, .inl nr), (3, .inl p), (4, .inl t)]) dX0_compile_59 (noL_of rfl) (by decide) rfl ?_
            refine v_iinc (lv1 := [(0, rH κ), (1, .inl oc), (2, .inl nr), (3, .inl (p + 1)), (4, .inl t)]) dX0_compile_61 rfl (fun _ => (by omega)) (noL_of rfl) (by decide) rfl ?_
            refine v_iinc (lv1 := [(0, rH κ), (1, .inl (oc + (-1))), (2, .inl nr), (3, .inl (p + 1)), (4, .inl t)]) dX0_compile_64 rfl (fun _ => (by omega)) (noL_of rfl) (by decide) rfl ?_
            refine v_aload_n dX0_compile_67 rfl ?_
            refine g0_openRegister dX0_compile_68 ?_
            refine v_iload_n dX0_compile_71 rfl ?_
            refine l0_openRegister dX0_compile_72 (by omega) r e18 ?_
            refine v_istore (lv1 := [(0, rH κ), (1, .inl (oc + (-1))), (2, .inl nr), (3, .inl (p + 1)), (4, .inl t), (5, .inl r)]) dX0_compile_73 (noL_of rfl) (by decide) rfl ?_
            refine v_iload dX0_compile_75 rfl ?_
            refine v_iconst 2 dX0_compile_77 (by decide) (by decide) ?_
            refine v_icmp_gt (tgt := 122) dX0_compile_78 (by decide) (fun c78 => ?_) (fun c78 => ?_)
            · refine v_iload dX0_compile_122 rfl ?_
              refine v_bipush 15 dX0_compile_124 (by decide) (by decide) ?_
              refine v_icmp_gt (tgt := 144) dX0_compile_126 (by decide) (fun c126 => ?_) (fun c126 => ?_)
              · refine v_aload_n dX0_compile_144 rfl ?_
                refine v_iconst 0 dX0_compile_145 (by decide) (by decide) ?_
                refine v_iload dX0_compile_146 rfl ?_
                refine v_iload dX0_compile_148 rfl ?_
                refine c0_write (rest := []) dX0_compile_150 (ct0_write 0 t r ρ (show 0 ≤ ρ 13 0 by omega) (show ρ 13 0 < 10 by omega) ⟨by omega, by omega⟩ ⟨by omega, by omega⟩ ⟨by omega, by omega⟩) rfl (by decide) rfl (by decide) (fun τ h9 => ?_)
                have h9 : τ = up (up (up (up ρ 14 (ρ 13 0) 0) 15 (ρ 13 0) t) 16 (ρ 13 0) r) 13 0 (ρ 13 0 + 1) := h9
                rw [e13] at h9
                have h9 : τ = wr ρ p 0 t r := h9
                subst h9
                refine v_iload dX0_compile_153 rfl ?_
                refine v_bipush 21 dX0_compile_155 (by decide) (by decide) ?_
                refine v_icmp_ne (tgt := 173) dX0_compile_157 (by decide) (fun c157 => ?_) (fun c157 => ?_)
                · refine v_aload_n dX0_compile_173 rfl ?_
                  refine g0_openRegister dX0_compile_174 ?_
                  refine v_iload_n dX0_compile_177 rfl ?_
                  refine v_iload_n dX0_compile_178 rfl ?_
                  refine v_i2b dX0_compile_179 (by omega) ?_
                  refine s0_openRegister dX0_compile_180 (by omega) (by omega) ?_
                  refine v_iinc (lv1 := [(0, rH κ), (1, .inl (oc + (-1) + 1)), (2, .inl nr), (3, .inl (p + 1)), (4, .inl t), (5, .inl r)]) dX0_compile_181 rfl (fun _ => (by omega)) (noL_of rfl) (by decide) rfl ?_
                  refine v_aload_n dX0_compile_184 rfl ?_
                  refine g0_argumentsAt dX0_compile_185 ?_
                  refine v_aload_n dX0_compile_188 rfl ?_
                  refine g0_codeEnd dX0_compile_189 (p + 1) rfl ?_
                  refine v_iconst 1 dX0_compile_192 (by decide) (by decide) ?_
                  refine v_isub dX0_compile_193 (fun _ _ => (by omega)) ?_
                  refine v_iload_n dX0_compile_194 rfl ?_
                  refine v_i2b dX0_compile_195 (by omega) ?_
                  refine s0_argumentsAt dX0_compile_196 (by omega) (by omega) ?_
                  refine v_iload_n dX0_compile_197 rfl ?_
                  refine v_iload dX0_compile_198 rfl ?_
                  refine v_bipush 21 dX0_compile_200 (by decide) (by decide) ?_
                  refine v_icmp_ne (tgt := 209) dX0_compile_202 (by decide) (fun c202 => ?_) (fun c202 => ?_)
                  · refine v_iconst 1 dX0_compile_209 (by decide) (by decide) ?_
                    refine v_iadd dX0_compile_210 (fun _ _ => (by omega)) ?_
                    refine v_istore_n (lv1 := [(0, rH κ), (1, .inl (oc + (-1) + 1)), (2, .inl (nr + 1)), (3, .inl (p + 1)), (4, .inl t), (5, .inl r)]) dX0_compile_211 (noL_of rfl) (by decide) rfl ?_
                    refine v_goto (tgt := 41) dX0_compile_212 (by decide) ?_
                    have hO2 : Opn (fun i => if i = oc + (-1) then nr else ρ 18 i) (nr :: s) := ⟨if_pos (by omega), opn_up s hO.2 (by omega)⟩
                    refine v_pick [0, 1, 2, 3] rfl ?_
                    refine ih (p + 1) _ (nr + 1) vs (nr :: s) _ (Ag.up (Ag.up hA.wr (by decide)) (by decide)) e10 (by omega) (by omega) rfl e12 (VB_skip hvb hp0 et (by omega)) hO2 (by rw [List.length_cons]; omega) (by rw [List.length_cons]; omega) (by omega) (by omega) (fun x hx => by
                      rcases List.mem_cons.mp hx with e | e
                      · omega
                      · have := hrs x e; omega) (fun σ1 hσ => hK σ1 (KC_step hσ (fun i => rfl) (fun i => rfl) (fun i => rfl) (fun i hi => (up_a _ _ _ _ i).trans (if_neg (by omega))) (by rw [if_pos (by omega), List.length_cons]; omega) (fun op arg reg aat a1 a2 a3 a4 hC => ⟨a3, by rw [if_neg (by omega), if_neg (by omega), if_pos (by omega)]; exact ⟨a1, by rw [a2]; omega, by rw [a4]; exact (up_a _ _ _ _ _).trans (if_pos (by omega)), hC⟩⟩)))
                  · omega
                · refine v_aload_n dX0_compile_160 rfl ?_
                  refine g0_openRegister dX0_compile_161 ?_
                  refine v_iload_n dX0_compile_164 rfl ?_
                  refine v_iload_n dX0_compile_165 rfl ?_
                  refine v_iconst 1 dX0_compile_166 (by decide) (by decide) ?_
                  refine v_iadd dX0_compile_167 (fun _ _ => (by omega)) ?_
                  refine v_i2b dX0_compile_168 (by omega) ?_
                  refine s0_openRegister dX0_compile_169 (by omega) (by omega) ?_
                  refine v_iinc (lv1 := [(0, rH κ), (1, .inl (oc + (-1) + 1)), (2, .inl nr), (3, .inl (p + 1)), (4, .inl t), (5, .inl r)]) dX0_compile_170 rfl (fun _ => (by omega)) (noL_of rfl) (by decide) rfl ?_
                  refine v_aload_n dX0_compile_173 rfl ?_
                  refine g0_openRegister dX0_compile_174 ?_
                  refine v_iload_n dX0_compile_177 rfl ?_
                  refine v_iload_n dX0_compile_178 rfl ?_
                  refine v_i2b dX0_compile_179 (by omega) ?_
                  refine s0_openRegister dX0_compile_180 (by omega) (by omega) ?_
                  refine v_iinc (lv1 := [(0, rH κ), (1, .inl (oc + (-1) + 1 + 1)), (2, .inl nr), (3, .inl (p + 1)), (4, .inl t), (5, .inl r)]) dX0_compile_181 rfl (fun _ => (by omega)) (noL_of rfl) (by decide) rfl ?_
                  refine v_aload_n dX0_compile_184 rfl ?_
                  refine g0_argumentsAt dX0_compile_185 ?_
                  refine v_aload_n dX0_compile_188 rfl ?_
                  refine g0_codeEnd dX0_compile_189 (p + 1) rfl ?_
                  refine v_iconst 1 dX0_compile_192 (by decide) (by decide) ?_
                  refine v_isub dX0_compile_193 (fun _ _ => (by omega)) ?_
                  refine v_iload_n dX0_compile_194 rfl ?_
                  refine v_i2b dX0_compile_195 (by omega) ?_
                  refine s0_argumentsAt dX0_compile_196 (by omega) (by omega) ?_
                  refine v_iload_n dX0_compile_197 rfl ?_
                  refine v_iload dX0_compile_198 rfl ?_
                  refine v_bipush 21 dX0_compile_200 (by decide) (by decide) ?_
                  refine v_icmp_ne (tgt := 209) dX0_compile_202 (by decide) (fun c202 => ?_) (fun c202 => ?_)
                  · omega
                  · refine v_iconst 2 dX0_compile_205 (by decide) (by decide) ?_
                    refine v_goto (tgt := 210) dX0_compile_206 (by decide) ?_
                    refine v_iadd dX0_compile_210 (fun _ _ => (by omega)) ?_
                    refine v_istore_n (lv1 := [(0, rH κ), (1, .inl (oc + (-1) + 1 + 1)), (2, .inl (nr + 2)), (3, .inl (p + 1)), (4, .inl t), (5, .inl r)]) dX0_compile_211 (noL_of rfl) (by decide) rfl ?_
                    refine v_goto (tgt := 41) dX0_compile_212 (by decide) ?_
                    have hO2 : Opn (fun i => if i = oc + (-1) + 1 then nr else (if i = oc + (-1) then nr + 1 else ρ 18 i)) (nr :: (nr + 1) :: s) := ⟨if_pos (by rw [List.length_cons]; omega), (if_neg (by omega)).trans (if_pos (by omega)), opn_up s (opn_up s hO.2 (by omega)) (by omega)⟩
                    refine v_pick [0, 1, 2, 3] rfl ?_
                    refine ih (p + 1) _ (nr + 2) vs (nr :: (nr + 1) :: s) _ (Ag.up (Ag.up (Ag.up hA.wr (by decide)) (by decide)) (by decide)) e10 (by omega) (by omega) rfl e12 (VB_skip hvb hp0 et (by omega)) hO2 (by rw [List.length_cons, List.length_cons]; omega) (by rw [List.length_cons, List.length_cons]; omega) (by omega) (by omega) (fun x hx => by
                      rcases List.mem_cons.mp hx with e | e
                      · omega
                      · rcases List.mem_cons.mp e with e | e
                        · omega
                        · have := hrs x e; omega) (fun σ1 hσ => hK σ1 (KC_step hσ (fun i => rfl) (fun i => rfl) (fun i => rfl) (fun i hi => (up_a _ _ _ _ i).trans (if_neg (by omega))) (by rw [if_neg (by omega), if_pos (by omega), List.length_cons, List.length_cons]; omega) (fun op arg reg aat a1 a2 a3 a4 hC => ⟨a3, by rw [if_neg (by omega), if_neg (by omega), if_neg (by omega)]; exact ⟨a1, by rw [a2]; omega, by rw [a4]; exact (up_a _ _ _ _ _).trans (if_pos (by omega)), hC⟩⟩)))
              · refine v_aload_n dX0_compile_129 rfl ?_
                refine v_iconst 3 dX0_compile_130 (by decide) (by decide) ?_
                refine v_iload dX0_compile_131 rfl ?_
                refine v_bipush 10 dX0_compile_133 (by decide) (by decide) ?_
                refine v_isub dX0_compile_135 (fun _ _ => (by omega)) ?_
                refine v_iload dX0_compile_136 rfl ?_
                refine c0_write (rest := []) dX0_compile_138 (ct0_write 3 (t - 10) r ρ (show 0 ≤ ρ 13 0 by omega) (show ρ 13 0 < 10 by omega) ⟨by omega, by omega⟩ ⟨by omega, by omega⟩ ⟨by omega, by omega⟩) rfl (by decide) rfl (by decide) (fun τ h9 => ?_)
                have h9 : τ = up (up (up (up ρ 14 (ρ 13 0) 3) 15 (ρ 13 0) (t - 10)) 16 (ρ 13 0) r) 13 0 (ρ 13 0 + 1) := h9
                rw [e13] at h9
                have h9 : τ = wr ρ p 3 (t - 10) r := h9
                subst h9
                refine v_goto (tgt := 212) dX0_compile_141 (by decide) ?_
                refine v_goto (tgt := 41) dX0_compile_212 (by decide) ?_
                refine v_pick [0, 1, 2, 3] rfl ?_
                refine ih (p + 1) _ nr vs s _ hA.wr e10 (by omega) (by omega) rfl e12 (VB_skip hvb hp0 et (by omega)) hO.2 (by omega) (by omega) (by omega) (by omega) hrs (fun σ1 hσ => hK σ1 (KC_step hσ (fun i => rfl) (fun i => rfl) (fun i => rfl) (fun i _ => rfl) (by rw [if_neg (by omega), if_neg (by omega)]; omega) (fun op arg reg aat a1 a2 a3 a4 hC => ⟨a3, by rw [if_neg (by omega), if_pos (by omega)]; exact ⟨a1, a2, hC⟩⟩)))
            · have ht2 : 0 ≤ t ∧ t ≤ 2 := by omega
              have sh := sh_spec hvb.1 ht2
              refine v_aload_n dX0_compile_81 rfl ?_
              refine v_aload_n dX0_compile_82 rfl ?_
              refine g0_variableSet dX0_compile_83 vs e12 ?_
              refine v_iload dX0_compile_86 rfl ?_
              refine v_ishr (shr3 vs t) dX0_compile_88 sh.1 (by omega) ?_
              refine v_iconst 1 dX0_compile_89 (by decide) (by decide) ?_
              refine v_iand (vbit vs t) dX0_compile_90 sh.2.1 (by omega) ?_
              refine v_if_ne (tgt := 98) dX0_compile_91 (by decide) (fun c91 => ?_) (fun c91 => ?_)
              · refine v_iconst 2 dX0_compile_98 (by decide) (by decide) ?_
                refine v_iload dX0_compile_99 rfl ?_
                refine v_iload dX0_compile_101 rfl ?_
                refine c0_write (rest := []) dX0_compile_103 (ct0_write 2 t r ρ (show 0 ≤ ρ 13 0 by omega) (show ρ 13 0 < 10 by omega) ⟨by omega, by omega⟩ ⟨by omega, by omega⟩ ⟨by omega, by omega⟩) rfl (by decide) rfl (by decide) (fun τ h9 => ?_)
                have h9 : τ = up (up (up (up ρ 14 (ρ 13 0) 2) 15 (ρ 13 0) t) 16 (ρ 13 0) r) 13 0 (ρ 13 0 + 1) := h9
                rw [e13] at h9
                have h9 : τ = wr ρ p 2 t r := h9
                subst h9
                refine v_aload_n dX0_compile_106 rfl ?_
                refine v_dup dX0_compile_107 rfl ?_
                refine g0_variableSet dX0_compile_108 vs e12 ?_
                refine v_iconst 1 dX0_compile_111 (by decide) (by decide) ?_
                refine v_iload dX0_compile_112 rfl ?_
                refine v_ishl (one3 t) dX0_compile_114 sh.2.2.1 (by omega) ?_
                refine v_ior (orb vs t) dX0_compile_115 sh.2.2.2.1 (by omega) ?_
                refine p0_variableSet dX0_compile_116 ?_
                refine v_goto (tgt := 212) dX0_compile_119 (by decide) ?_
                refine v_goto (tgt := 41) dX0_compile_212 (by decide) ?_
                refine v_pick [0, 1, 2, 3] rfl ?_
                refine ih (p + 1) _ nr (orb vs t) s _ (hA.wr.up (by decide)) e10 (by omega) (by omega) rfl rfl (VB_var hvb hp0 et ht2) hO.2 (by omega) (by omega) (by omega) (by omega) hrs (fun σ1 hσ => hK σ1 (KC_step hσ (fun i => rfl) (fun i => rfl) (fun i => rfl) (fun i _ => rfl) (by rw [if_neg (by omega), if_neg (by omega)]; omega) (fun op arg reg aat a1 a2 a3 a4 hC => ⟨a3, by rw [if_pos ht2.2]; exact ⟨by rw [if_pos (by omega)]; exact a1, a2, hC⟩⟩)))
              · refine v_iconst 1 dX0_compile_94 (by decide) (by decide) ?_
                refine v_goto (tgt := 99) dX0_compile_95 (by decide) ?_
                refine v_iload dX0_compile_99 rfl ?_
                refine v_iload dX0_compile_101 rfl ?_
                refine c0_write (rest := []) dX0_compile_103 (ct0_write 1 t r ρ (show 0 ≤ ρ 13 0 by omega) (show ρ 13 0 < 10 by omega) ⟨by omega, by omega⟩ ⟨by omega, by omega⟩ ⟨by omega, by omega⟩) rfl (by decide) rfl (by decide) (fun τ h9 => ?_)
                have h9 : τ = up (up (up (up ρ 14 (ρ 13 0) 1) 15 (ρ 13 0) t) 16 (ρ 13 0) r) 13 0 (ρ 13 0 + 1) := h9
                rw [e13] at h9
                have h9 : τ = wr ρ p 1 t r := h9
                subst h9
                refine v_aload_n dX0_compile_106 rfl ?_
                refine v_dup dX0_compile_107 rfl ?_
                refine g0_variableSet dX0_compile_108 vs e12 ?_
                refine v_iconst 1 dX0_compile_111 (by decide) (by decide) ?_
                refine v_iload dX0_compile_112 rfl ?_
                refine v_ishl (one3 t) dX0_compile_114 sh.2.2.1 (by omega) ?_
                refine v_ior (orb vs t) dX0_compile_115 sh.2.2.2.1 (by omega) ?_
                refine p0_variableSet dX0_compile_116 ?_
                refine v_goto (tgt := 212) dX0_compile_119 (by decide) ?_
                refine v_goto (tgt := 41) dX0_compile_212 (by decide) ?_
                refine v_pick [0, 1, 2, 3] rfl ?_
                refine ih (p + 1) _ nr (orb vs t) s _ (hA.wr.up (by decide)) e10 (by omega) (by omega) rfl rfl (VB_var hvb hp0 et ht2) hO.2 (by omega) (by omega) (by omega) (by omega) hrs (fun σ1 hσ => hK σ1 (KC_step hσ (fun i => rfl) (fun i => rfl) (fun i => rfl) (fun i _ => rfl) (by rw [if_neg (by omega), if_neg (by omega)]; omega) (fun op arg reg aat a1 a2 a3 a4 hC => ⟨a3, by rw [if_pos ht2.2]; exact ⟨by rw [if_neg (by omega)]; exact a1, a2, hC⟩⟩)))
  refine v_aload_n dX0_compile_0 rfl ?_
  refine g0_compiled dX0_compile_1 (σ 10 0) rfl ?_
  refine v_if_eq (tgt := 8) dX0_compile_4 (by decide) (fun c4 => ?_) (fun c4 => ?_)
  · refine v_aload_n dX0_compile_8 rfl ?_
    refine v_iconst 1 dX0_compile_9 (by decide) (by decide) ?_
    refine p0_compiled dX0_compile_10 (by decide) ?_
    refine v_aload_n dX0_compile_13 rfl ?_
    refine v_iconst 0 dX0_compile_14 (by decide) (by decide) ?_
    refine p0_isWhole dX0_compile_15 (by decide) ?_
    refine v_aload_n dX0_compile_18 rfl ?_
    refine v_iconst 0 dX0_compile_19 (by decide) (by decide) ?_
    refine p0_variableSet dX0_compile_20 ?_
    refine v_aload_n dX0_compile_23 rfl ?_
    refine v_iconst 0 dX0_compile_24 (by decide) (by decide) ?_
    refine p0_codeEnd dX0_compile_25 ?_
    refine v_iconst 1 dX0_compile_28 (by decide) (by decide) ?_
    refine v_istore_n (lv1 := [(0, rH κ), (1, .inl 1)]) dX0_compile_29 (noL_of rfl) (by decide) rfl ?_
    refine v_iconst 1 dX0_compile_30 (by decide) (by decide) ?_
    refine v_istore_n (lv1 := [(0, rH κ), (1, .inl 1), (2, .inl 1)]) dX0_compile_31 (noL_of rfl) (by decide) rfl ?_
    refine v_aload_n dX0_compile_32 rfl ?_
    refine g0_openRegister dX0_compile_33 ?_
    refine v_iconst 0 dX0_compile_36 (by decide) (by decide) ?_
    refine v_iconst 0 dX0_compile_37 (by decide) (by decide) ?_
    refine s0_openRegister dX0_compile_38 (by omega) (by omega) ?_
    refine v_iconst 0 dX0_compile_39 (by decide) (by decide) ?_
    refine v_istore_n (lv1 := [(0, rH κ), (1, .inl 1), (2, .inl 1), (3, .inl 0)]) dX0_compile_40 (noL_of rfl) (by decide) rfl ?_
    exact loop (σ 8 0).toNat 0 1 1 0 [0] _ (Ag.up (Ag.up (Ag.up (Ag.up (Ag.up (fun _ _ => rfl) (by decide)) (by decide)) (by decide)) (by decide)) (by decide)) rfl (by omega) (by omega) rfl rfl (VB_0 _) ⟨rfl, trivial⟩ rfl (by simp) (by omega) (by omega) (fun r hr => by
      rcases List.mem_cons.mp hr with e | e
      · omega
      · cases e) (fun σ1 h => cmp_of h)
  · exact hret _ _ _ dX0_compile_7 ⟨fun _ _ => rfl, c4, hI c4⟩
end
section
/-! the matches as the model counts them -/
noncomputable def hB (P : Int → Prop) : Int → Bool := fun X => @decide (P X) (Classical.propDecidable _)
theorem hB_t {P : Int → Prop} {X : Int} : hB P X = true ↔ P X := by
  unfold hB
  exact @decide_eq_true_iff (P X) (Classical.propDecidable _)
theorem bool_iff {a b : Bool} (h : a = true ↔ b = true) : a = b := by
  cases a <;> cases b <;> simp_all
theorem cnt_hB {B : Int → Bool} {P : Int → Prop} {n : Int} (h : ∀ X, 0 ≤ X → X < n → (B X = true ↔ P X)) : cntI B n = cntI (hB P) n := cntI_congr (fun X x0 x1 => bool_iff ((h X x0 x1).trans hB_t.symm))
theorem cnt_hh {P Q : Int → Prop} {n : Int} (h : ∀ X, 0 ≤ X → X < n → (P X ↔ Q X)) : cntI (hB P) n = cntI (hB Q) n := cnt_hB (fun X x0 x1 => hB_t.trans (h X x0 x1))
theorem cntI_mono (B : Int → Bool) {X : Int} (h0 : 0 ≤ X) : ∀ (d : Nat), cntI B X ≤ cntI B (X + d) := by
  intro d
  induction d with
  | zero => rw [show X + ((0 : Nat) : Int) = X by omega]; exact Int.le_refl _
  | succ d ih =>
    rw [show X + ((d + 1 : Nat) : Int) = X + d + 1 by omega, cntI_s B (by omega)]
    split <;> omega
theorem cntI_hit {B : Int → Bool} {X Y : Int} (h0 : 0 ≤ X) (h : X < Y) (hB : B X = true) : cntI B X < cntI B Y := by
  have h1 := cntI_mono B (X := X + 1) (by omega) (Y - (X + 1)).toNat
  rw [show X + 1 + ((Y - (X + 1)).toNat : Int) = Y by omega, cntI_s B h0, if_pos hB] at h1
  omega
theorem cntI_inj {B : Int → Bool} {X Y : Int} (x0 : 0 ≤ X) (y0 : 0 ≤ Y) (hX : B X = true) (hY : B Y = true) (h : cntI B X = cntI B Y) : X = Y := by
  rcases Int.lt_trichotomy X Y with e | e | e
  · have := cntI_hit x0 e hX; omega
  · exact e
  · have := cntI_hit y0 e hY; omega
def HA (n : Int) (K L R ld : Int → Int) (ts : List Int) (t X : Int) : Prop := trX n ld ts X ∧ 0 ≤ valX n K L R ld ts X ∧ (t < 0 ∨ valX n K L R ld ts X = t)
noncomputable def MatchN (n : Int) (K L R ld : Int → Int) (ts : List Int) (t : Int) : Int := cntI (hB (HA n K L R ld ts t)) 8000
def BindP (n : Int) (K L R ld : Int → Int) (ts : List Int) (k v r : Int) : Prop := (∃ X, 0 ≤ X ∧ X < 8000 ∧ HA n K L R ld ts (-1) X ∧ cntI (hB (HA n K L R ld ts (-1))) X = k ∧ r = dec v X) ∨ (MatchN n K L R ld ts (-1) ≤ k ∧ r = -3)
theorem HA_same {n : Int} {K L R ld K2 L2 R2 ld2 : Int → Int} (hG : GOK n K L R) (hs : same4 n K L R ld K2 L2 R2 ld2) (ts : List Int) (t : Int) {X : Int} (x0 : 0 ≤ X) (x1 : X < 8000) : HA n K2 L2 R2 ld2 ts t X ↔ HA n K L R ld ts t X := by
  have e : valX n K2 L2 R2 ld2 ts X = valX n K L R ld ts X := by unfold valX; rw [evG_same hG hs]
  have htr : ∀ v, trL n ld2 ts v (dec v X) ↔ trL n ld ts v (dec v X) := fun v => by
    have db := dec_b x0 x1 v
    unfold trL
    refine and_congr (imp_congr Iff.rfl ?_) Iff.rfl
    constructor
    · intro ⟨a, b⟩; exact ⟨a, by rw [← (hs _ db.1 a).2.2.2]; exact b⟩
    · intro ⟨a, b⟩; exact ⟨a, by rw [(hs _ db.1 a).2.2.2]; exact b⟩
  unfold HA trX
  rw [e, htr 0, htr 1, htr 2]
theorem MatchN_same {n : Int} {K L R ld K2 L2 R2 ld2 : Int → Int} (hG : GOK n K L R) (hs : same4 n K L R ld K2 L2 R2 ld2) (ts : List Int) (t : Int) : MatchN n K2 L2 R2 ld2 ts t = MatchN n K L R ld ts t := cnt_hh (fun _ x0 x1 => HA_same hG hs ts t x0 x1)
theorem BindP_same {n : Int} {K L R ld K2 L2 R2 ld2 : Int → Int} (hG : GOK n K L R) (hs : same4 n K L R ld K2 L2 R2 ld2) {ts : List Int} {k v r : Int} (h : BindP n K2 L2 R2 ld2 ts k v r) : BindP n K L R ld ts k v r := by
  rcases h with ⟨X, x0, x1, h, hc, e⟩ | ⟨h, e⟩
  · refine Or.inl ⟨X, x0, x1, (HA_same hG hs ts (-1) x0 x1).mp h, ?_, e⟩
    rw [← hc]
    exact cnt_hh (fun Y y0 y1 => (HA_same hG hs ts (-1) y0 (by omega)).symm)
  · refine Or.inr ⟨?_, e⟩
    rw [← MatchN_same hG hs]
    exact h
theorem BindP_det {n : Int} {K L R ld : Int → Int} {ts : List Int} {k v r r2 : Int} (h : BindP n K L R ld ts k v r) (h2 : BindP n K L R ld ts k v r2) : r = r2 := by
  rcases h with ⟨X, x0, x1, h, hc, e⟩ | ⟨h, e⟩ <;> rcases h2 with ⟨Y, y0, y1, h2, hc2, e2⟩ | ⟨h2, e2⟩
  · have := cntI_inj x0 y0 (hB_t.mpr h) (hB_t.mpr h2) (hc.trans hc2.symm)
    rw [e, e2, this]
  · have := cntI_hit x0 x1 (hB_t.mpr h)
    have h2 : cntI (hB (HA n K L R ld ts (-1))) 8000 ≤ k := h2
    omega
  · have := cntI_hit y0 y1 (hB_t.mpr h2)
    have h : cntI (hB (HA n K L R ld ts (-1))) 8000 ≤ k := h
    omega
  · rw [e, e2]
/-- of the component's state -/
abbrev HA0 (σ : Sg) (t X : Int) : Prop := HA (σ 0 0) (KV σ) (σ 2) (σ 3) (σ 4) (tk0 σ) t X
noncomputable abbrev MN0 (σ : Sg) (t : Int) : Int := MatchN (σ 0 0) (KV σ) (σ 2) (σ 3) (σ 4) (tk0 σ) t
abbrev BP0 (σ : Sg) (k v r : Int) : Prop := BindP (σ 0 0) (KV σ) (σ 2) (σ 3) (σ 4) (tk0 σ) k v r
def Kp (σ τ : Sg) : Prop := (∀ k, k < 10 → τ k = σ k) ∧ CmpI τ
theorem Ag.lo {σ τ : Sg} (h : Ag σ τ) : ∀ k, k < 10 → τ k = σ k := fun k hk => h k (Or.inl hk)
theorem lo_tk {σ τ : Sg} (h : ∀ k, k < 10 → τ k = σ k) : tk0 τ = tk0 σ := by unfold tk0; rw [h 8 (by decide), h 9 (by decide)]
theorem lo_tokI {σ τ : Sg} (h : ∀ k, k < 10 → τ k = σ k) (hT : TokI σ) : TokI τ := by
  unfold TokI
  rw [lo_tk h, h 8 (by decide)]
  exact hT
theorem lo_pic {σ τ : Sg} (h : ∀ k, k < 10 → τ k = σ k) (hP : PIC (σ 0 0) (KV σ) (σ 2) (σ 3) (σ 4)) : PIC (τ 0 0) (KV τ) (τ 2) (τ 3) (τ 4) := by
  rw [h 0 (by decide), KV_of (h 1 (by decide)), h 2 (by decide), h 3 (by decide), h 4 (by decide)]
  exact hP
theorem lo_HA {σ τ : Sg} (h : ∀ k, k < 10 → τ k = σ k) (t X : Int) : HA0 τ t X = HA0 σ t X := by
  unfold HA0
  rw [lo_tk h, h 0 (by decide), KV_of (h 1 (by decide)), h 2 (by decide), h 3 (by decide), h 4 (by decide)]
theorem run_of {σ τ : Sg} (hA : Ag σ τ) (hP : PIC (σ 0 0) (KV σ) (σ 2) (σ 3) (σ 4)) (hT : TokI σ) (hC : Cmp τ) (h : τ 11 0 ≠ 0) : RunOk τ ∧ fw (tk0 τ) 1 ∧ VB (τ 9) (τ 8 0) (τ 12 0) := by
  rcases hC with ⟨a, -⟩ | ⟨-, a, b, c⟩
  · exact absurd a h
  · exact ⟨⟨lo_pic hA.lo hP, lo_tokI hA.lo hT, b⟩, a, c⟩
theorem nfw_of {σ τ : Sg} (hA : Ag σ τ) (hC : Cmp τ) (h : τ 11 0 = 0) : ¬ fw (tk0 σ) 1 := by
  rcases hC with ⟨-, a⟩ | ⟨a, -⟩
  · rw [lo_tk hA.lo] at a; exact a
  · omega
theorem kp_st4 {σ τ : Sg} {g w tr F : Int → Int} (hA : Ag σ τ) (hC : Cmp τ) : Kp σ (st4 τ g w tr F) := by
  refine ⟨fun k hk => ?_, fun _ => hC⟩
  rw [← hA.lo k hk]
  unfold st4
  rw [if_neg (by omega), if_neg (by omega), if_neg (by omega), if_neg (by omega)]
theorem hits_all {σ : Sg} (hR : RunOk σ) (hf : fw (tk0 σ) 1) {F : Int → Int} (h : ∀ X, 0 ≤ X → X < 8000 → (fbB F X = true ↔ ∃ c, 0 ≤ c ∧ c < σ 0 0 ∧ (σ 4 c = c ∧ Sol0 σ c X))) : ∀ X, 0 ≤ X → X < 8000 → (fbB F X = true ↔ HA0 σ (-1) X) := fun X x0 x1 => by
  rw [h X x0 x1, sol_any hR.1 hR.2.1.2.2 hf x0 x1]
  constructor
  · intro ⟨a, b⟩; exact ⟨a, b, Or.inl (by omega)⟩
  · intro ⟨a, b, _⟩; exact ⟨a, b⟩
theorem hits_at {σ : Sg} (hR : RunOk σ) (hf : fw (tk0 σ) 1) {c : Int} (hc : LD (σ 0 0) (σ 4) c) {F F0 : Int → Int} (h0 : ∀ j, 0 ≤ j → j < 125 → F0 j = 0) (h : ∀ X, 0 ≤ X → X < 8000 → (fbB F X = true ↔ (fbB F0 X = true ∨ Sol0 σ c X))) : ∀ X, 0 ≤ X → X < 8000 → (fbB F X = true ↔ HA0 σ c X) := fun X x0 x1 => by
  have hs : Sol0 σ c X ↔ _ := sol_at hR.1 hR.2.1.2.2 hf hc x0 x1
  rw [h X x0 x1, hs]
  have hn := fbB_0 h0 x0 x1
  have hc0 := hc.1
  constructor
  · intro q
    rcases q with q | ⟨a, b⟩
    · exact absurd q hn
    · exact ⟨a, by omega, Or.inr b⟩
  · intro ⟨a, b, c⟩; exact Or.inr ⟨a, by omega⟩
end
section
set_option maxRecDepth 100000
theorem ct0_matches (σ : Sg) (hP : PIC (σ 0 0) (KV σ) (σ 2) (σ 3) (σ 4)) (hT : TokI σ) (hI : CmpI σ) : Ct w0 yX0_matches cX0_matches 1 (some .int) 4 90 [] σ (fun r σ1 => Kp σ σ1 ∧ ((r = -3 ∧ ¬ fw (tk0 σ) 1) ∨ (fw (tk0 σ) 1 ∧ r = MN0 σ (-1)))) := by
  refine ct_int (by decide +kernel) rfl (Nat.le_of_ble_eq_true rfl) (fun κ hret => ?_)
  refine v_aload_n dX0_matches_0 rfl ?_
  refine c0_compile (rest := []) dX0_matches_1 (ct0_compile σ hT hI) rfl (by decide) rfl (by decide) (fun τ h1 => ?_)
  obtain ⟨hA, h10, hC⟩ := h1
  refine v_aload_n dX0_matches_4 rfl ?_
  refine g0_isWhole dX0_matches_5 (τ 11 0) rfl ?_
  refine v_if_ne (tgt := 14) dX0_matches_8 (by decide) (fun c8 => ?_) (fun c8 => ?_)
  · obtain ⟨hR, hf, hvb⟩ := run_of hA hP hT hC c8
    refine v_aload_n dX0_matches_14 rfl ?_
    refine c0_runAll (rest := []) dX0_matches_15 (ct0_runAll τ hR) rfl (by decide) rfl (by decide) (fun τ2 h2 => ?_)
    obtain ⟨g, w, tr, F, u2, e2⟩ := h2
    subst u2
    have e2 := hits_all hR hf e2
    refine v_aload_n dX0_matches_18 rfl ?_
    refine c0_foundCount (rest := []) dX0_matches_19 (ct0_foundCount (st4 τ g w tr F)) rfl (by decide) rfl (by decide) (fun r3 τ3 h3 => ?_)
    obtain ⟨u3, e3⟩ := h3
    subst u3
    have e3 : r3 = cntI (fbB F) 8000 := e3
    rw [cnt_hB e2] at e3
    exact hret _ _ _ _ dX0_matches_22 ⟨kp_st4 hA hC, Or.inr ⟨by rw [← lo_tk hA.lo]; exact hf, by rw [e3]; unfold MN0 MatchN; congr 2; funext X; exact lo_HA hA.lo (-1) X⟩⟩
  · refine v_bipush (-3) dX0_matches_11 (by decide) (by decide) ?_
    exact hret _ _ _ _ dX0_matches_13 ⟨⟨hA.lo, fun _ => hC⟩, Or.inl ⟨rfl, nfw_of hA hC c8⟩⟩
theorem ct0_matchesAt (a : Int) (σ : Sg) (hP : PIC (σ 0 0) (KV σ) (σ 2) (σ 3) (σ 4)) (hT : TokI σ) (hI : CmpI σ) : Ct w0 yX0_matchesAt cX0_matchesAt 2 (some .int) 4 90 [a] σ (fun r σ1 => Kp σ σ1 ∧ ((r = -1 ∧ ¬ (0 ≤ a ∧ a < σ 0 0)) ∨ ((0 ≤ a ∧ a < σ 0 0) ∧ r = -3 ∧ ¬ fw (tk0 σ) 1) ∨ ((0 ≤ a ∧ a < σ 0 0) ∧ fw (tk0 σ) 1 ∧ r = MN0 σ (σ 4 a)))) := by
  refine ct_int (by decide +kernel) rfl (Nat.le_of_ble_eq_true rfl) (fun κ hret => ?_)
  refine v_aload_n dX0_matchesAt_0 rfl ?_
  refine v_iload_n dX0_matchesAt_1 rfl ?_
  refine c0_isNode (rest := []) dX0_matchesAt_2 (ct0_isNode a σ) rfl (by decide) rfl (by decide) (fun r2 s2 h2 => ?_)
  obtain ⟨u2, e2⟩ := h2
  subst u2
  refine v_if_ne (tgt := 10) dX0_matchesAt_5 (by decide) (fun c5 => ?_) (fun c5 => ?_)
  · have n2 : 0 ≤ a ∧ a < s2 0 0 := Classical.byContradiction fun hn => by rw [if_neg hn] at e2; omega
    refine v_aload_n dX0_matchesAt_10 rfl ?_
    refine c0_compile (rest := []) dX0_matchesAt_11 (ct0_compile s2 hT hI) rfl (by decide) rfl (by decide) (fun τ h1 => ?_)
    obtain ⟨hA, h10, hC⟩ := h1
    refine v_aload_n dX0_matchesAt_14 rfl ?_
    refine g0_isWhole dX0_matchesAt_15 (τ 11 0) rfl ?_
    refine v_if_ne (tgt := 24) dX0_matchesAt_18 (by decide) (fun c18 => ?_) (fun c18 => ?_)
    · obtain ⟨hR, hf, hvb⟩ := run_of hA hP hT hC c18
      have hn0 : τ 0 0 = s2 0 0 := by rw [hA.lo 0 (by decide)]
      have hld : LD (τ 0 0) (τ 4) (τ 4 a) := LD_of hR.1.2.1 n2.1 (by omega)
      have n20 : τ 0 0 ≤ 20 := hR.1.1.2.1
      have h4 : s2 4 a = τ 4 a := by rw [hA.lo 4 (by decide)]
      refine v_aload_n dX0_matchesAt_24 rfl ?_
      refine c0_clearFound (rest := []) dX0_matchesAt_25 (ct0_clearFound τ) rfl (by decide) rfl (by decide) (fun τ1 h5 => ?_)
      obtain ⟨F0, u5, e5⟩ := h5
      rw [st4_F] at u5
      subst u5
      refine v_aload_n dX0_matchesAt_28 rfl ?_
      refine v_aload_n dX0_matchesAt_29 rfl ?_
      refine g0_leaderOf dX0_matchesAt_30 ?_
      refine v_iload_n dX0_matchesAt_33 rfl ?_
      refine l0_leaderOf dX0_matchesAt_34 (by omega) (τ 4 a) rfl ?_
      refine c0_run (rest := []) dX0_matchesAt_35 (ct0_run (τ 4 a) (st4 τ (τ 19) (τ 20) (τ 21) F0) (RunOk_st4 hR) ⟨hld.1, by have := hld.2.1; omega⟩) rfl (by decide) rfl (by decide) (fun τ2 h6 => ?_)
      obtain ⟨g, w, tr, F, u6, e6⟩ := h6
      rw [st4_st4] at u6
      subst u6
      have e2 : ∀ X, 0 ≤ X → X < 8000 → (fbB F X = true ↔ HA0 τ (τ 4 a) X) := hits_at hR hf hld e5 e6
      refine v_aload_n dX0_matchesAt_38 rfl ?_
      refine c0_foundCount (rest := []) dX0_matchesAt_39 (ct0_foundCount (st4 τ g w tr F)) rfl (by decide) rfl (by decide) (fun r3 τ3 h3 => ?_)
      obtain ⟨u3, e3⟩ := h3
      subst u3
      have e3 : r3 = cntI (fbB F) 8000 := e3
      rw [cnt_hB e2] at e3
      exact hret _ _ _ _ dX0_matchesAt_42 ⟨kp_st4 hA hC, Or.inr (Or.inr ⟨n2, by rw [← lo_tk hA.lo]; exact hf, by rw [e3]; unfold MN0 MatchN; congr 2; funext X; rw [h4]; exact lo_HA hA.lo (τ 4 a) X⟩)⟩
    · refine v_bipush (-3) dX0_matchesAt_21 (by decide) (by decide) ?_
      exact hret _ _ _ _ dX0_matchesAt_23 ⟨⟨hA.lo, fun _ => hC⟩, Or.inr (Or.inl ⟨n2, rfl, nfw_of hA hC c18⟩)⟩
  · have n2 : ¬ (0 ≤ a ∧ a < s2 0 0) := fun hn => by rw [if_pos hn] at e2; omega
    refine v_iconst (-1) dX0_matchesAt_8 (by decide) (by decide) ?_
    exact hret _ _ _ _ dX0_matchesAt_9 ⟨⟨fun _ _ => rfl, hI⟩, Or.inl ⟨rfl, n2⟩⟩
theorem ct0_binding (k v : Int) (σ : Sg) (hP : PIC (σ 0 0) (KV σ) (σ 2) (σ 3) (σ 4)) (hT : TokI σ) (hI : CmpI σ) : Ct w0 yX0_binding cX0_binding 5 (some .int) 4 90 [k, v] σ (fun r σ1 => Kp σ σ1 ∧ ((r = -1 ∧ ¬ (0 ≤ v ∧ v ≤ 2)) ∨ ((0 ≤ v ∧ v ≤ 2) ∧ r = -3 ∧ ¬ (fw (tk0 σ) 1 ∧ 0 ≤ k ∧ v ∈ tk0 σ)) ∨ ((0 ≤ v ∧ v ≤ 2) ∧ (fw (tk0 σ) 1 ∧ 0 ≤ k ∧ v ∈ tk0 σ) ∧ BP0 σ k v r))) := by
  refine ct_int (by decide +kernel) rfl (Nat.le_of_ble_eq_true rfl) (fun κ hret => ?_)
  refine v_iload_n dX0_binding_0 rfl ?_
  refine v_if_lt (tgt := 9) dX0_binding_1 (by decide) (fun c1 => ?_) (fun c1 => ?_)
  · refine v_iconst (-1) dX0_binding_9 (by decide) (by decide) ?_
    exact hret _ _ _ _ dX0_binding_10 ⟨⟨fun _ _ => rfl, hI⟩, Or.inl ⟨rfl, by omega⟩⟩
  · refine v_iload_n dX0_binding_4 rfl ?_
    refine v_iconst 2 dX0_binding_5 (by decide) (by decide) ?_
    refine v_icmp_le (tgt := 11) dX0_binding_6 (by decide) (fun c6 => ?_) (fun c6 => ?_)
    · have hv : 0 ≤ v ∧ v ≤ 2 := by omega
      refine v_aload_n dX0_binding_11 rfl ?_
      refine c0_compile (rest := []) dX0_binding_12 (ct0_compile σ hT hI) rfl (by decide) rfl (by decide) (fun τ h1 => ?_)
      obtain ⟨hA, h10, hC⟩ := h1
      refine v_aload_n dX0_binding_15 rfl ?_
      refine g0_isWhole dX0_binding_16 (τ 11 0) rfl ?_
      refine v_if_eq (tgt := 37) dX0_binding_19 (by decide) (fun c19 => ?_) (fun c19 => ?_)
      · refine v_bipush (-3) dX0_binding_37 (by decide) (by decide) ?_
        exact hret _ _ _ _ dX0_binding_39 ⟨⟨hA.lo, fun _ => hC⟩, Or.inr (Or.inl ⟨hv, rfl, fun h => nfw_of hA hC c19 h.1⟩)⟩
      · obtain ⟨hR, hf, hvb⟩ := run_of hA hP hT hC c19
        refine v_iload_n dX0_binding_22 rfl ?_
        refine v_if_lt (tgt := 37) dX0_binding_23 (by decide) (fun c23 => ?_) (fun c23 => ?_)
        · refine v_bipush (-3) dX0_binding_37 (by decide) (by decide) ?_
          exact hret _ _ _ _ dX0_binding_39 ⟨⟨hA.lo, fun _ => hC⟩, Or.inr (Or.inl ⟨hv, rfl, fun h => by omega⟩)⟩
        · have sh := sh_spec hvb.1 hv
          refine v_aload_n dX0_binding_26 rfl ?_
          refine g0_variableSet dX0_binding_27 (τ 12 0) rfl ?_
          refine v_iload_n dX0_binding_30 rfl ?_
          refine v_ishr (shr3 (τ 12 0) v) dX0_binding_31 sh.1 (by omega) ?_
          refine v_iconst 1 dX0_binding_32 (by decide) (by decide) ?_
          refine v_iand (vbit (τ 12 0) v) dX0_binding_33 sh.2.1 (by omega) ?_
          refine v_if_ne (tgt := 40) dX0_binding_34 (by decide) (fun c34 => ?_) (fun c34 => ?_)
          · have hvm : v ∈ tk0 σ := by
              rw [← lo_tk hA.lo]
              exact toks_mem.mpr ((hvb.2 v hv.1 hv.2).mp (by omega))
            have hok : fw (tk0 σ) 1 ∧ 0 ≤ k ∧ v ∈ tk0 σ := ⟨by rw [← lo_tk hA.lo]; exact hf, by omega, hvm⟩
            refine v_aload_n dX0_binding_40 rfl ?_
            refine c0_runAll (rest := []) dX0_binding_41 (ct0_runAll τ hR) rfl (by decide) rfl (by decide) (fun τ2 h2 => ?_)
            obtain ⟨g, w, tr, F, u2, e2⟩ := h2
            subst u2
            have e2 := hits_all hR hf e2
            refine v_iload_n dX0_binding_44 rfl ?_
            refine v_istore_n (lv1 := [(0, rH κ), (1, .inl k), (2, .inl v), (3, .inl k)]) dX0_binding_45 (noL_of rfl) (by decide) rfl ?_
            refine v_iconst 0 dX0_binding_46 (by decide) (by decide) ?_
            refine v_istore (lv1 := [(0, rH κ), (1, .inl k), (2, .inl v), (3, .inl k), (4, .inl 0)]) dX0_binding_47 (noL_of rfl) (by decide) rfl ?_
            have hbp : ∀ r, BP0 τ k v r → BP0 σ k v r := fun r h => by
              unfold BP0 at h ⊢
              rw [lo_tk hA.lo, hA.lo 0 (by decide), KV_of (hA.lo 1 (by decide)), hA.lo 2 (by decide), hA.lo 3 (by decide), hA.lo 4 (by decide)] at h
              exact h
            have loop : ∀ (d : Nat) (i q : Int), 0 ≤ i → i ≤ 8000 → 0 ≤ q → q = k - cntI (fbB F) i → (8000 - i).toNat < d → V w0 κ (rmO 4 90) cX0_binding 5 (st4 τ g w tr F) [(0, rH κ), (1, .inl k), (2, .inl v), (3, .inl q), (4, .inl i)] 49 [] := by
              intro d
              induction d with
              | zero => intros; omega
              | succ d ih =>
                intro i q hi0 hi1 hq0 eq hd
                refine v_iload dX0_binding_49 rfl ?_
                refine v_sipush 8000 dX0_binding_51 (by decide) (by decide) ?_
                refine v_icmp_ge (tgt := 131) dX0_binding_54 (by decide) (fun c54 => ?_) (fun c54 => ?_)
                · refine v_bipush (-3) dX0_binding_131 (by decide) (by decide) ?_
                  exact hret _ _ _ _ dX0_binding_133 ⟨kp_st4 hA hC, Or.inr (Or.inr ⟨hv, hok, hbp _ (Or.inr ⟨by unfold MatchN; rw [← cnt_hB e2, ← show i = 8000 by omega]; omega, rfl⟩)⟩)⟩
                · refine v_rg (fun hg => ?_)
                  have hF : 0 ≤ F (i / 64) ∧ F (i / 64) < 18446744073709551616 := (hg 22 (i / 64)).1 rfl
                  have hdv := dv_b (a := (F (i / 64)).toNat) (k := (i % 64).toNat) (by omega)
                  have hbt := bt_b ((F (i / 64)).toNat / 2 ^ (i % 64).toNat)
                  have hbv := fbB_v F i
                  have hkb := cntI_b (fbB F) hi0
                  have hcs := cntI_s (fbB F) hi0
                  refine v_aload_n dX0_binding_57 rfl ?_
                  refine g0_found dX0_binding_58 ?_
                  refine v_iload dX0_binding_61 rfl ?_
                  refine v_bipush 6 dX0_binding_63 (by decide) (by decide) ?_
                  refine v_ishr (i / 64) dX0_binding_65 (iI_shr6 ⟨by omega, by omega⟩) (by omega) ?_
                  refine l0_found dX0_binding_66 (by omega) (F (i / 64)) rfl ?_
                  refine v_iload dX0_binding_67 rfl ?_
                  refine v_bipush 63 dX0_binding_69 (by decide) (by decide) ?_
                  refine v_iand (i % 64) dX0_binding_71 (iI_and63 ⟨by omega, by omega⟩) (by omega) ?_
                  refine v_lushr (((F (i / 64)).toNat / 2 ^ (i % 64).toNat : Nat) : Int) dX0_binding_72 (lI_shr hF (by omega)) hdv ?_
                  refine v_lconst 1 dX0_binding_73 (by decide) (by decide) ?_
                  refine v_land (((F (i / 64)).toNat / 2 ^ (i % 64).toNat % 2 : Nat) : Int) dX0_binding_74 (lI_and1 (by omega)) (by omega) ?_
                  refine v_lconst 0 dX0_binding_75 (by decide) (by decide) ?_
                  refine v_lcmp (((F (i / 64)).toNat / 2 ^ (i % 64).toNat % 2 : Nat) : Int) dX0_binding_76 (lI_cmp (by omega)) (by omega) ?_
                  refine v_if_ne (tgt := 83) dX0_binding_77 (by decide) (fun c77 => ?_) (fun c77 => ?_)
                  · have hb : fbB F i = true := Classical.byContradiction fun h => by rw [if_neg h] at hbv; omega
                    rw [if_pos hb] at hcs
                    refine v_iload_n dX0_binding_83 rfl ?_
                    refine v_if_ne (tgt := 122) dX0_binding_84 (by decide) (fun c84 => ?_) (fun c84 => ?_)
                    · refine v_iinc (lv1 := [(0, rH κ), (1, .inl k), (2, .inl v), (3, .inl (q + (-1))), (4, .inl i)]) dX0_binding_122 rfl (fun hw9 => (by have h8 : -2147483648 ≤ q ∧ q ≤ 2147483647 := hw9; omega)) (noL_of rfl) (by decide) rfl ?_
                      refine v_iinc (lv1 := [(0, rH κ), (1, .inl k), (2, .inl v), (3, .inl (q + (-1))), (4, .inl (i + 1))]) dX0_binding_125 rfl (fun hw9 => (by omega)) (noL_of rfl) (by decide) rfl ?_
                      refine v_goto (tgt := 49) dX0_binding_128 (by decide) ?_
                      exact ih _ _ (by omega) (by omega) (by omega) (by omega) (by omega)
                    · refine v_iload_n dX0_binding_87 rfl ?_
                      refine v_if_ne (tgt := 100) dX0_binding_88 (by decide) (fun c88 => ?_) (fun c88 => ?_)
                      · refine v_iload_n dX0_binding_100 rfl ?_
                        refine v_iconst 1 dX0_binding_101 (by decide) (by decide) ?_
                        refine v_icmp_ne (tgt := 116) dX0_binding_102 (by decide) (fun c102 => ?_) (fun c102 => ?_)
                        · refine v_iload dX0_binding_116 rfl ?_
                          refine v_bipush 20 dX0_binding_118 (by decide) (by decide) ?_
                          refine v_irem dX0_binding_120 (by omega) (by omega) ?_
                          exact hret _ _ _ _ dX0_binding_121 ⟨kp_st4 hA hC, Or.inr (Or.inr ⟨hv, hok, hbp _ (Or.inl ⟨i, hi0, by omega, (e2 i hi0 (by omega)).mp hb, by rw [← cnt_hB (fun X x0 x1 => e2 X x0 (by omega))]; omega, by show _ = (if v = 0 then i / 400 else if v = 1 then i / 20 % 20 else i % 20); rw [if_neg c88, if_neg c102]⟩)⟩)⟩
                        · refine v_iload dX0_binding_105 rfl ?_
                          refine v_bipush 20 dX0_binding_107 (by decide) (by decide) ?_
                          refine v_idiv dX0_binding_109 (by omega) (by omega) ?_
                          refine v_bipush 20 dX0_binding_110 (by decide) (by decide) ?_
                          refine v_irem dX0_binding_112 (by omega) (by omega) ?_
                          refine v_goto (tgt := 121) dX0_binding_113 (by decide) ?_
                          exact hret _ _ _ _ dX0_binding_121 ⟨kp_st4 hA hC, Or.inr (Or.inr ⟨hv, hok, hbp _ (Or.inl ⟨i, hi0, by omega, (e2 i hi0 (by omega)).mp hb, by rw [← cnt_hB (fun X x0 x1 => e2 X x0 (by omega))]; omega, by show _ = (if v = 0 then i / 400 else if v = 1 then i / 20 % 20 else i % 20); rw [if_neg c88, if_pos c102]⟩)⟩)⟩
                      · refine v_iload dX0_binding_91 rfl ?_
                        refine v_sipush 400 dX0_binding_93 (by decide) (by decide) ?_
                        refine v_idiv dX0_binding_96 (by omega) (by omega) ?_
                        refine v_goto (tgt := 121) dX0_binding_97 (by decide) ?_
                        exact hret _ _ _ _ dX0_binding_121 ⟨kp_st4 hA hC, Or.inr (Or.inr ⟨hv, hok, hbp _ (Or.inl ⟨i, hi0, by omega, (e2 i hi0 (by omega)).mp hb, by rw [← cnt_hB (fun X x0 x1 => e2 X x0 (by omega))]; omega, by show _ = (if v = 0 then i / 400 else if v = 1 then i / 20 % 20 else i % 20); rw [if_pos c88]⟩)⟩)⟩
                  · have hb : ¬ fbB F i = true := fun h => by rw [if_pos h] at hbv; omega
                    rw [if_neg hb] at hcs
                    refine v_goto (tgt := 125) dX0_binding_80 (by decide) ?_
                    refine v_iinc (lv1 := [(0, rH κ), (1, .inl k), (2, .inl v), (3, .inl q), (4, .inl (i + 1))]) dX0_binding_125 rfl (fun hw9 => (by omega)) (noL_of rfl) (by decide) rfl ?_
                    refine v_goto (tgt := 49) dX0_binding_128 (by decide) ?_
                    exact ih _ _ (by omega) (by omega) (by omega) (by omega) (by omega)
            exact loop 8001 0 k (by omega) (by omega) (by omega) (by rw [cntI_0]; omega) (by omega)
          · refine v_bipush (-3) dX0_binding_37 (by decide) (by decide) ?_
            exact hret _ _ _ _ dX0_binding_39 ⟨⟨hA.lo, fun _ => hC⟩, Or.inr (Or.inl ⟨hv, rfl, fun h => by have := (hvb.2 v hv.1 hv.2).mpr ((toks_mem (tk := τ 9) (tc := τ 8 0)).mp (show v ∈ tk0 τ by rw [lo_tk hA.lo]; exact h.2.2)); omega⟩)⟩
    · refine v_iconst (-1) dX0_binding_9 (by decide) (by decide) ?_
      exact hret _ _ _ _ dX0_binding_10 ⟨⟨fun _ _ => rfl, hI⟩, Or.inl ⟨rfl, by omega⟩⟩
end
section
/-! the pattern read from the back -/
abbrev tk1 (σ : Sg) : List Int := toks (σ 6) (σ 5 0)
def SF (tk : Int → Int) (tc i : Int) : List Int := sfx tk (tc - i).toNat i
theorem SF_s {tk : Int → Int} {tc i : Int} (h : i < tc) : SF tk tc i = tk i :: SF tk tc (i + 1) := by
  unfold SF
  rw [show (tc - i).toNat = (tc - (i + 1)).toNat + 1 by omega]
  rfl
theorem SF_e {tk : Int → Int} {tc i : Int} (h : tc ≤ i) : SF tk tc i = [] := by
  unfold SF
  rw [show (tc - i).toNat = 0 by omega]
  rfl
theorem SF_0 (tk : Int → Int) (tc : Int) : SF tk tc 0 = toks tk tc := by
  unfold SF toks
  rw [show tc - 0 = tc by omega]
theorem tk1_SF (σ : Sg) : tk1 σ = SF (σ 6) (σ 5 0) 0 := (SF_0 _ _).symm
theorem tm_c {t k : Int} {ts : List Int} (h : tm ts = some k) : tm (t :: ts) = if (t = 20 ∧ k < 1) ∨ (t = 21 ∧ k < 2) then none else some (k + (if t < 20 then 1 else 0) - (if t = 21 then 1 else 0)) := by
  show (match tm ts with
    | none => none
    | some k => if (t = 20 ∧ k < 1) ∨ (t = 21 ∧ k < 2) then none else some (k + (if t < 20 then 1 else 0) - (if t = 21 then 1 else 0))) = _
  rw [h]
theorem tm_n {t : Int} {ts : List Int} (h : tm ts = none) : tm (t :: ts) = none := by
  show (match tm ts with
    | none => none
    | some k => if (t = 20 ∧ k < 1) ∨ (t = 21 ∧ k < 2) then none else some (k + (if t < 20 then 1 else 0) - (if t = 21 then 1 else 0))) = _
  rw [h]
theorem tm_none {tk : Int → Int} {tc : Int} : ∀ (d : Nat) (i : Int), i = d → i ≤ tc → tm (SF tk tc i) = none → tm (toks tk tc) = none := by
  intro d
  induction d with
  | zero => intro i hi _ h; rw [← SF_0, ← show i = 0 by omega]; exact h
  | succ d ih =>
    intro i hi hc h
    refine ih (i - 1) (by omega) (by omega) ?_
    rw [SF_s (by omega), show i - 1 + 1 = i by omega]
    exact tm_n h
theorem opn_last {S : Int → Int} : ∀ (E : List Int), Opn S E → E ≠ [] → S 0 = E.getLastD (-1) := by
  intro E
  induction E with
  | nil => intro _ h; exact absurd rfl h
  | cons r s ih =>
    intro h _
    cases s with
    | nil => exact h.1
    | cons q s => rw [List.getLastD_cons, ih h.2 (by simp), List.getLastD_cons, List.getLastD_cons]
/-- the model's value under its bound classes -/
noncomputable def ev1G (σ : Sg) (ts : List Int) : List Int := evG (σ 0 0) (σ 1) (σ 2) (σ 3) (σ 4) (σ 7) ts
noncomputable def vl1 (σ : Sg) : Int := (ev1G σ (tk1 σ)).getLastD (-1)
theorem ev1G_c (σ : Sg) (t : Int) (ts : List Int) : ev1G σ (t :: ts) = evT (fun k => ovF (σ 0 0) (σ 1) (σ 2) (σ 3) (σ 4) 0 k 0) (fun x => ovF (σ 0 0) (σ 1) (σ 2) (σ 3) (σ 4) 1 x 0) (ovF (σ 0 0) (σ 1) (σ 2) (σ 3) (σ 4) 2) (σ 7) t (ev1G σ ts) := rfl
def Ag2 (σ ρ : Sg) : Prop := ∀ k, k ≠ 8 → k ≠ 9 → k ≠ 11 → k ≠ 12 → ρ k = σ k
theorem Ag2.up {σ ρ : Sg} (h : Ag2 σ ρ) {k : Nat} {j v : Int} (hk : k = 8 ∨ k = 9 ∨ k = 11 ∨ k = 12) : Ag2 σ (up ρ k j v) := fun k' h1 h2 h3 h4 => (up_o _ _ _ (by omega)).trans (h k' h1 h2 h3 h4)
theorem Ag2.upA (σ : Sg) (S : Int → Int) : Ag2 σ (upA σ 9 S) := fun k' h1 h2 h3 h4 => upA_o _ _ h2
theorem trP_L {n : Int} {ld tk : Int → Int} {tc v k : Int} : trP n ld tk tc v k ↔ trL n ld (toks tk tc) v k := by
  unfold trP trL
  rw [toks_mem]
theorem dec_X {k m : Int} (hk : 0 ≤ k ∧ k < 400) (hm : 0 ≤ m ∧ m < 20) : dec 0 (20 * k + m) = k / 20 ∧ dec 1 (20 * k + m) = k % 20 ∧ dec 2 (20 * k + m) = m := by
  refine ⟨?_, ?_, ?_⟩
  · show (20 * k + m) / 400 = k / 20; omega
  · show (20 * k + m) / 20 % 20 = k % 20; omega
  · show (20 * k + m) % 20 = m; omega
theorem vl1_X {σ ρ : Sg} {X : Int} (h : ∀ k, k < 7 → ρ k = σ k) (ht : ∀ t ∈ tk1 σ, tokOk t) (hb : ∀ v, 0 ≤ v → v ≤ 2 → ρ 7 v = dec v X) : vl1 ρ = valX (σ 0 0) (σ 1) (σ 2) (σ 3) (σ 4) (tk1 σ) X := by
  unfold vl1 valX ev1G
  rw [h 0 (by decide), h 1 (by decide), h 2 (by decide), h 3 (by decide), h 4 (by decide)]
  unfold tk1
  rw [h 5 (by decide), h 6 (by decide)]
  congr 1
  refine evs_congr _ (fun v hv h3 => hb v ?_ (by omega))
  have := ht v hv
  unfold tokOk at this
  omega
theorem cnt_find {B : Int → Bool} {k : Int} (hk : 0 ≤ k) : ∀ n : Nat, k < cntI B n → ∃ X : Int, 0 ≤ X ∧ X < (n : Int) ∧ B X = true ∧ cntI B X = k := by
  intro n
  induction n with
  | zero => intro h; have : cntI B ((0 : Nat) : Int) = 0 := rfl; omega
  | succ n ih =>
    intro h
    by_cases hn : k < cntI B n
    · obtain ⟨X, a, b, c, d⟩ := ih hn
      exact ⟨X, a, by omega, c, d⟩
    · rw [show ((n + 1 : Nat) : Int) = (n : Int) + 1 by omega, cntI_s B (by omega)] at h
      by_cases hb : B n = true
      · rw [if_pos hb] at h
        exact ⟨n, by omega, by omega, hb, by omega⟩
      · rw [if_neg hb] at h; omega
end
section
set_option maxRecDepth 100000
theorem ct1_whole (σ : Sg) (h0 : 0 ≤ σ 5 0) (h7 : σ 5 0 ≤ 7) : Ct w1 yX1_whole cX1_whole 3 (some .boolean) 0 0 [] σ (fun r σ1 => σ1 = σ ∧ ((r = 1 ∧ tm (tk1 σ) = some 1) ∨ (r = 0 ∧ tm (tk1 σ) ≠ some 1))) := by
  refine ct_bool (by decide +kernel) rfl (Nat.le_of_ble_eq_true rfl) (fun κ hret => ?_)
  have loop : ∀ (d : Nat) (i x : Int), -1 ≤ i → i < σ 5 0 → 0 ≤ x → x ≤ σ 5 0 - 1 - i → tm (SF (σ 6) (σ 5 0) (i + 1)) = some x → (i + 1).toNat < d → V w1 κ (rmO 0 0) cX1_whole 3 σ [(0, rH κ), (1, .inl x), (2, .inl i)] 9 [] := by
    intro d
    induction d with
    | zero => intros; omega
    | succ d ih =>
      intro i x hi0 hi1 hx0 hx1 ex hd
      refine v_iload_n dX1_whole_9 rfl ?_
      refine v_if_lt (tgt := 81) dX1_whole_10 (by decide) (fun c10 => ?_) (fun c10 => ?_)
      · refine v_iload_n dX1_whole_81 rfl ?_
        refine v_iconst 1 dX1_whole_82 (by decide) (by decide) ?_
        refine v_icmp_ne (tgt := 90) dX1_whole_83 (by decide) (fun c83 => ?_) (fun c83 => ?_)
        · refine v_iconst 0 dX1_whole_90 (by decide) (by decide) ?_
          exact hret _ _ _ _ dX1_whole_91 (by decide) ⟨rfl, Or.inr ⟨rfl, fun h => by rw [show i + 1 = 0 by omega] at ex; rw [tk1_SF, ex] at h; exact c83 (Option.some.inj h)⟩⟩
        · refine v_iconst 1 dX1_whole_86 (by decide) (by decide) ?_
          refine v_goto (tgt := 91) dX1_whole_87 (by decide) ?_
          exact hret _ _ _ _ dX1_whole_91 (by decide) ⟨rfl, Or.inl ⟨rfl, by rw [show i + 1 = 0 by omega] at ex; rw [tk1_SF, ex]; congr 1⟩⟩
      · obtain ⟨t, et⟩ : ∃ t, σ 6 i = t := ⟨_, rfl⟩
        have es : SF (σ 6) (σ 5 0) i = t :: SF (σ 6) (σ 5 0) (i + 1) := by rw [← et]; exact SF_s hi1
        have ec := tm_c (t := t) ex
        refine v_aload_n dX1_whole_13 rfl ?_
        refine g1_pattern dX1_whole_14 ?_
        refine v_iload_n dX1_whole_17 rfl ?_
        refine l1_pattern dX1_whole_18 (by omega) t et ?_
        refine v_bipush 20 dX1_whole_19 (by decide) (by decide) ?_
        refine v_icmp_ne (tgt := 29) dX1_whole_21 (by decide) (fun c21 => ?_) (fun c21 => ?_)
        · refine v_aload_n dX1_whole_29 rfl ?_
          refine g1_pattern dX1_whole_30 ?_
          refine v_iload_n dX1_whole_33 rfl ?_
          refine l1_pattern dX1_whole_34 (by omega) t et ?_
          refine v_bipush 21 dX1_whole_35 (by decide) (by decide) ?_
          refine v_icmp_ne (tgt := 47) dX1_whole_37 (by decide) (fun c37 => ?_) (fun c37 => ?_)
          · refine v_aload_n dX1_whole_47 rfl ?_
            refine g1_pattern dX1_whole_48 ?_
            refine v_iload_n dX1_whole_51 rfl ?_
            refine l1_pattern dX1_whole_52 (by omega) t et ?_
            refine v_bipush 20 dX1_whole_53 (by decide) (by decide) ?_
            refine v_icmp_ge (tgt := 61) dX1_whole_55 (by decide) (fun c55 => ?_) (fun c55 => ?_)
            · refine v_aload_n dX1_whole_61 rfl ?_
              refine g1_pattern dX1_whole_62 ?_
              refine v_iload_n dX1_whole_65 rfl ?_
              refine l1_pattern dX1_whole_66 (by omega) t et ?_
              refine v_bipush 21 dX1_whole_67 (by decide) (by decide) ?_
              refine v_icmp_ne (tgt := 75) dX1_whole_69 (by decide) (fun c69 => ?_) (fun c69 => ?_)
              · refine v_iinc (lv1 := [(0, rH κ), (1, .inl x), (2, .inl (i + (-1)))]) dX1_whole_75 rfl (fun hw9 => (by omega)) (noL_of rfl) (by decide) rfl ?_
                refine v_goto (tgt := 9) dX1_whole_78 (by decide) ?_
                exact ih _ _ (by omega) (by omega) (by omega) (by omega) (by rw [show i + (-1) + 1 = i by omega, es, ec, if_neg (by omega)]; congr 1; (repeat' split) <;> omega) (by omega)
              · refine v_iinc (lv1 := [(0, rH κ), (1, .inl (x + (-1))), (2, .inl i)]) dX1_whole_72 rfl (fun hw9 => (by omega)) (noL_of rfl) (by decide) rfl ?_
                refine v_iinc (lv1 := [(0, rH κ), (1, .inl (x + (-1))), (2, .inl (i + (-1)))]) dX1_whole_75 rfl (fun hw9 => (by omega)) (noL_of rfl) (by decide) rfl ?_
                refine v_goto (tgt := 9) dX1_whole_78 (by decide) ?_
                exact ih _ _ (by omega) (by omega) (by omega) (by omega) (by rw [show i + (-1) + 1 = i by omega, es, ec, if_neg (by omega)]; congr 1; (repeat' split) <;> omega) (by omega)
            · refine v_iinc (lv1 := [(0, rH κ), (1, .inl (x + 1)), (2, .inl i)]) dX1_whole_58 rfl (fun hw9 => (by omega)) (noL_of rfl) (by decide) rfl ?_
              refine v_aload_n dX1_whole_61 rfl ?_
              refine g1_pattern dX1_whole_62 ?_
              refine v_iload_n dX1_whole_65 rfl ?_
              refine l1_pattern dX1_whole_66 (by omega) t et ?_
              refine v_bipush 21 dX1_whole_67 (by decide) (by decide) ?_
              refine v_icmp_ne (tgt := 75) dX1_whole_69 (by decide) (fun c69 => ?_) (fun c69 => ?_)
              · refine v_iinc (lv1 := [(0, rH κ), (1, .inl (x + 1)), (2, .inl (i + (-1)))]) dX1_whole_75 rfl (fun hw9 => (by omega)) (noL_of rfl) (by decide) rfl ?_
                refine v_goto (tgt := 9) dX1_whole_78 (by decide) ?_
                exact ih _ _ (by omega) (by omega) (by omega) (by omega) (by rw [show i + (-1) + 1 = i by omega, es, ec, if_neg (by omega)]; congr 1; (repeat' split) <;> omega) (by omega)
              · omega
          · refine v_iload_n dX1_whole_40 rfl ?_
            refine v_iconst 2 dX1_whole_41 (by decide) (by decide) ?_
            refine v_icmp_ge (tgt := 47) dX1_whole_42 (by decide) (fun c42 => ?_) (fun c42 => ?_)
            · refine v_aload_n dX1_whole_47 rfl ?_
              refine g1_pattern dX1_whole_48 ?_
              refine v_iload_n dX1_whole_51 rfl ?_
              refine l1_pattern dX1_whole_52 (by omega) t et ?_
              refine v_bipush 20 dX1_whole_53 (by decide) (by decide) ?_
              refine v_icmp_ge (tgt := 61) dX1_whole_55 (by decide) (fun c55 => ?_) (fun c55 => ?_)
              · refine v_aload_n dX1_whole_61 rfl ?_
                refine g1_pattern dX1_whole_62 ?_
                refine v_iload_n dX1_whole_65 rfl ?_
                refine l1_pattern dX1_whole_66 (by omega) t et ?_
                refine v_bipush 21 dX1_whole_67 (by decide) (by decide) ?_
                refine v_icmp_ne (tgt := 75) dX1_whole_69 (by decide) (fun c69 => ?_) (fun c69 => ?_)
                · refine v_iinc (lv1 := [(0, rH κ), (1, .inl x), (2, .inl (i + (-1)))]) dX1_whole_75 rfl (fun hw9 => (by omega)) (noL_of rfl) (by decide) rfl ?_
                  refine v_goto (tgt := 9) dX1_whole_78 (by decide) ?_
                  exact ih _ _ (by omega) (by omega) (by omega) (by omega) (by rw [show i + (-1) + 1 = i by omega, es, ec, if_neg (by omega)]; congr 1; (repeat' split) <;> omega) (by omega)
                · refine v_iinc (lv1 := [(0, rH κ), (1, .inl (x + (-1))), (2, .inl i)]) dX1_whole_72 rfl (fun hw9 => (by omega)) (noL_of rfl) (by decide) rfl ?_
                  refine v_iinc (lv1 := [(0, rH κ), (1, .inl (x + (-1))), (2, .inl (i + (-1)))]) dX1_whole_75 rfl (fun hw9 => (by omega)) (noL_of rfl) (by decide) rfl ?_
                  refine v_goto (tgt := 9) dX1_whole_78 (by decide) ?_
                  exact ih _ _ (by omega) (by omega) (by omega) (by omega) (by rw [show i + (-1) + 1 = i by omega, es, ec, if_neg (by omega)]; congr 1; (repeat' split) <;> omega) (by omega)
              · refine v_iinc (lv1 := [(0, rH κ), (1, .inl (x + 1)), (2, .inl i)]) dX1_whole_58 rfl (fun hw9 => (by omega)) (noL_of rfl) (by decide) rfl ?_
                refine v_aload_n dX1_whole_61 rfl ?_
                refine g1_pattern dX1_whole_62 ?_
                refine v_iload_n dX1_whole_65 rfl ?_
                refine l1_pattern dX1_whole_66 (by omega) t et ?_
                refine v_bipush 21 dX1_whole_67 (by decide) (by decide) ?_
                refine v_icmp_ne (tgt := 75) dX1_whole_69 (by decide) (fun c69 => ?_) (fun c69 => ?_)
                · refine v_iinc (lv1 := [(0, rH κ), (1, .inl (x + 1)), (2, .inl (i + (-1)))]) dX1_whole_75 rfl (fun hw9 => (by omega)) (noL_of rfl) (by decide) rfl ?_
                  refine v_goto (tgt := 9) dX1_whole_78 (by decide) ?_
                  exact ih _ _ (by omega) (by omega) (by omega) (by omega) (by rw [show i + (-1) + 1 = i by omega, es, ec, if_neg (by omega)]; congr 1; (repeat' split) <;> omega) (by omega)
                · omega
            · refine v_iconst 0 dX1_whole_45 (by decide) (by decide) ?_
              exact hret _ _ _ _ dX1_whole_46 (by decide) ⟨rfl, Or.inr ⟨rfl, fun h => by rw [tm_none i.toNat i (by omega) (by omega) (by rw [es, ec, if_pos (by omega)])] at h; cases h⟩⟩
        · refine v_iload_n dX1_whole_24 rfl ?_
          refine v_iconst 1 dX1_whole_25 (by decide) (by decide) ?_
          refine v_icmp_lt (tgt := 45) dX1_whole_26 (by decide) (fun c26 => ?_) (fun c26 => ?_)
          · refine v_iconst 0 dX1_whole_45 (by decide) (by decide) ?_
            exact hret _ _ _ _ dX1_whole_46 (by decide) ⟨rfl, Or.inr ⟨rfl, fun h => by rw [tm_none i.toNat i (by omega) (by omega) (by rw [es, ec, if_pos (by omega)])] at h; cases h⟩⟩
          · refine v_aload_n dX1_whole_29 rfl ?_
            refine g1_pattern dX1_whole_30 ?_
            refine v_iload_n dX1_whole_33 rfl ?_
            refine l1_pattern dX1_whole_34 (by omega) t et ?_
            refine v_bipush 21 dX1_whole_35 (by decide) (by decide) ?_
            refine v_icmp_ne (tgt := 47) dX1_whole_37 (by decide) (fun c37 => ?_) (fun c37 => ?_)
            · refine v_aload_n dX1_whole_47 rfl ?_
              refine g1_pattern dX1_whole_48 ?_
              refine v_iload_n dX1_whole_51 rfl ?_
              refine l1_pattern dX1_whole_52 (by omega) t et ?_
              refine v_bipush 20 dX1_whole_53 (by decide) (by decide) ?_
              refine v_icmp_ge (tgt := 61) dX1_whole_55 (by decide) (fun c55 => ?_) (fun c55 => ?_)
              · refine v_aload_n dX1_whole_61 rfl ?_
                refine g1_pattern dX1_whole_62 ?_
                refine v_iload_n dX1_whole_65 rfl ?_
                refine l1_pattern dX1_whole_66 (by omega) t et ?_
                refine v_bipush 21 dX1_whole_67 (by decide) (by decide) ?_
                refine v_icmp_ne (tgt := 75) dX1_whole_69 (by decide) (fun c69 => ?_) (fun c69 => ?_)
                · refine v_iinc (lv1 := [(0, rH κ), (1, .inl x), (2, .inl (i + (-1)))]) dX1_whole_75 rfl (fun hw9 => (by omega)) (noL_of rfl) (by decide) rfl ?_
                  refine v_goto (tgt := 9) dX1_whole_78 (by decide) ?_
                  exact ih _ _ (by omega) (by omega) (by omega) (by omega) (by rw [show i + (-1) + 1 = i by omega, es, ec, if_neg (by omega)]; congr 1; (repeat' split) <;> omega) (by omega)
                · refine v_iinc (lv1 := [(0, rH κ), (1, .inl (x + (-1))), (2, .inl i)]) dX1_whole_72 rfl (fun hw9 => (by omega)) (noL_of rfl) (by decide) rfl ?_
                  refine v_iinc (lv1 := [(0, rH κ), (1, .inl (x + (-1))), (2, .inl (i + (-1)))]) dX1_whole_75 rfl (fun hw9 => (by omega)) (noL_of rfl) (by decide) rfl ?_
                  refine v_goto (tgt := 9) dX1_whole_78 (by decide) ?_
                  exact ih _ _ (by omega) (by omega) (by omega) (by omega) (by rw [show i + (-1) + 1 = i by omega, es, ec, if_neg (by omega)]; congr 1; (repeat' split) <;> omega) (by omega)
              · refine v_iinc (lv1 := [(0, rH κ), (1, .inl (x + 1)), (2, .inl i)]) dX1_whole_58 rfl (fun hw9 => (by omega)) (noL_of rfl) (by decide) rfl ?_
                refine v_aload_n dX1_whole_61 rfl ?_
                refine g1_pattern dX1_whole_62 ?_
                refine v_iload_n dX1_whole_65 rfl ?_
                refine l1_pattern dX1_whole_66 (by omega) t et ?_
                refine v_bipush 21 dX1_whole_67 (by decide) (by decide) ?_
                refine v_icmp_ne (tgt := 75) dX1_whole_69 (by decide) (fun c69 => ?_) (fun c69 => ?_)
                · refine v_iinc (lv1 := [(0, rH κ), (1, .inl (x + 1)), (2, .inl (i + (-1)))]) dX1_whole_75 rfl (fun hw9 => (by omega)) (noL_of rfl) (by decide) rfl ?_
                  refine v_goto (tgt := 9) dX1_whole_78 (by decide) ?_
                  exact ih _ _ (by omega) (by omega) (by omega) (by omega) (by rw [show i + (-1) + 1 = i by omega, es, ec, if_neg (by omega)]; congr 1; (repeat' split) <;> omega) (by omega)
                · omega
            · refine v_iload_n dX1_whole_40 rfl ?_
              refine v_iconst 2 dX1_whole_41 (by decide) (by decide) ?_
              refine v_icmp_ge (tgt := 47) dX1_whole_42 (by decide) (fun c42 => ?_) (fun c42 => ?_)
              · refine v_aload_n dX1_whole_47 rfl ?_
                refine g1_pattern dX1_whole_48 ?_
                refine v_iload_n dX1_whole_51 rfl ?_
                refine l1_pattern dX1_whole_52 (by omega) t et ?_
                refine v_bipush 20 dX1_whole_53 (by decide) (by decide) ?_
                refine v_icmp_ge (tgt := 61) dX1_whole_55 (by decide) (fun c55 => ?_) (fun c55 => ?_)
                · refine v_aload_n dX1_whole_61 rfl ?_
                  refine g1_pattern dX1_whole_62 ?_
                  refine v_iload_n dX1_whole_65 rfl ?_
                  refine l1_pattern dX1_whole_66 (by omega) t et ?_
                  refine v_bipush 21 dX1_whole_67 (by decide) (by decide) ?_
                  refine v_icmp_ne (tgt := 75) dX1_whole_69 (by decide) (fun c69 => ?_) (fun c69 => ?_)
                  · refine v_iinc (lv1 := [(0, rH κ), (1, .inl x), (2, .inl (i + (-1)))]) dX1_whole_75 rfl (fun hw9 => (by omega)) (noL_of rfl) (by decide) rfl ?_
                    refine v_goto (tgt := 9) dX1_whole_78 (by decide) ?_
                    exact ih _ _ (by omega) (by omega) (by omega) (by omega) (by rw [show i + (-1) + 1 = i by omega, es, ec, if_neg (by omega)]; congr 1; (repeat' split) <;> omega) (by omega)
                  · refine v_iinc (lv1 := [(0, rH κ), (1, .inl (x + (-1))), (2, .inl i)]) dX1_whole_72 rfl (fun hw9 => (by omega)) (noL_of rfl) (by decide) rfl ?_
                    refine v_iinc (lv1 := [(0, rH κ), (1, .inl (x + (-1))), (2, .inl (i + (-1)))]) dX1_whole_75 rfl (fun hw9 => (by omega)) (noL_of rfl) (by decide) rfl ?_
                    refine v_goto (tgt := 9) dX1_whole_78 (by decide) ?_
                    exact ih _ _ (by omega) (by omega) (by omega) (by omega) (by rw [show i + (-1) + 1 = i by omega, es, ec, if_neg (by omega)]; congr 1; (repeat' split) <;> omega) (by omega)
                · refine v_iinc (lv1 := [(0, rH κ), (1, .inl (x + 1)), (2, .inl i)]) dX1_whole_58 rfl (fun hw9 => (by omega)) (noL_of rfl) (by decide) rfl ?_
                  refine v_aload_n dX1_whole_61 rfl ?_
                  refine g1_pattern dX1_whole_62 ?_
                  refine v_iload_n dX1_whole_65 rfl ?_
                  refine l1_pattern dX1_whole_66 (by omega) t et ?_
                  refine v_bipush 21 dX1_whole_67 (by decide) (by decide) ?_
                  refine v_icmp_ne (tgt := 75) dX1_whole_69 (by decide) (fun c69 => ?_) (fun c69 => ?_)
                  · refine v_iinc (lv1 := [(0, rH κ), (1, .inl (x + 1)), (2, .inl (i + (-1)))]) dX1_whole_75 rfl (fun hw9 => (by omega)) (noL_of rfl) (by decide) rfl ?_
                    refine v_goto (tgt := 9) dX1_whole_78 (by decide) ?_
                    exact ih _ _ (by omega) (by omega) (by omega) (by omega) (by rw [show i + (-1) + 1 = i by omega, es, ec, if_neg (by omega)]; congr 1; (repeat' split) <;> omega) (by omega)
                  · omega
              · refine v_iconst 0 dX1_whole_45 (by decide) (by decide) ?_
                exact hret _ _ _ _ dX1_whole_46 (by decide) ⟨rfl, Or.inr ⟨rfl, fun h => by rw [tm_none i.toNat i (by omega) (by omega) (by rw [es, ec, if_pos (by omega)])] at h; cases h⟩⟩
  refine v_iconst 0 dX1_whole_0 (by decide) (by decide) ?_
  refine v_istore_n (lv1 := [(0, rH κ), (1, .inl 0)]) dX1_whole_1 (noL_of rfl) (by decide) rfl ?_
  refine v_aload_n dX1_whole_2 rfl ?_
  refine g1_tokens dX1_whole_3 (σ 5 0) rfl ?_
  refine v_iconst 1 dX1_whole_6 (by decide) (by decide) ?_
  refine v_isub dX1_whole_7 (fun _ _ => (by omega)) ?_
  refine v_istore_n (lv1 := [(0, rH κ), (1, .inl 0), (2, .inl ((σ 5 0) - 1))]) dX1_whole_8 (noL_of rfl) (by decide) rfl ?_
  exact loop 9 _ 0 (by omega) (by omega) (by omega) (by omega) (by rw [SF_e (by omega)]; rfl) (by omega)
theorem ct1_value (σ : Sg) (hG : GOK (σ 0 0) (σ 1) (σ 2) (σ 3)) (h0 : 0 ≤ σ 5 0) (h7 : σ 5 0 ≤ 7) (htok : ∀ i, 0 ≤ i → i < σ 5 0 → tokOk (σ 6 i)) : Ct w1 yX1_value cX1_value 6 (some .int) 1 25 [] σ (fun r σ1 => ∃ S, σ1 = upA σ 9 S ∧ r = vl1 σ) := by
  refine ct_int (by decide +kernel) rfl (Nat.le_of_ble_eq_true rfl) (fun κ hret => ?_)
  have loop : ∀ (d : Nat) (i p : Int) (E : List Int) (S : Int → Int), -1 ≤ i → i < σ 5 0 → ev1G σ (SF (σ 6) (σ 5 0) (i + 1)) = E → Opn S E → p = (E.length : Int) → (E.length : Int) ≤ σ 5 0 - 1 - i → (i + 1).toNat < d → V w1 κ (rmO 1 25) cX1_value 6 (upA σ 9 S) [(0, rH κ), (1, .inl p), (2, .inl i)] 9 [] := by
    intro d
    induction d with
    | zero => intros; omega
    | succ d ih =>
      intro i p E S hi0 hi1 hE hO hp hlen hd
      cases E with
      | nil =>
        have hp0 : p = 0 := hp
        refine v_iload_n dX1_value_9 rfl ?_
        refine v_if_lt (tgt := 173) dX1_value_10 (by decide) (fun c10 => ?_) (fun c10 => ?_)
        · refine v_iload_n dX1_value_173 rfl ?_
          refine v_if_le (tgt := 186) dX1_value_174 (by decide) (fun c174 => ?_) (fun c174 => ?_)
          · refine v_iconst (-1) dX1_value_186 (by decide) (by decide) ?_
            exact hret _ _ _ _ dX1_value_187 ⟨S, rfl, by rw [show i + 1 = 0 by omega] at hE; unfold vl1; rw [tk1_SF, hE]; rfl⟩
          · omega
        · obtain ⟨t, et⟩ : ∃ t, σ 6 i = t := ⟨_, rfl⟩
          have htk := htok i (by omega) hi1
          rw [et] at htk
          unfold tokOk at htk
          have es : ev1G σ (SF (σ 6) (σ 5 0) i) = evT (fun k => ovF (σ 0 0) (σ 1) (σ 2) (σ 3) (σ 4) 0 k 0) (fun x => ovF (σ 0 0) (σ 1) (σ 2) (σ 3) (σ 4) 1 x 0) (ovF (σ 0 0) (σ 1) (σ 2) (σ 3) (σ 4) 2) (σ 7) t [] := by rw [SF_s hi1, et, ev1G_c, hE]
          refine v_aload_n dX1_value_13 rfl ?_
          refine g1_pattern dX1_value_14 ?_
          refine v_iload_n dX1_value_17 rfl ?_
          refine l1_pattern dX1_value_18 (by omega) t et ?_
          refine v_istore_n (lv1 := [(0, rH κ), (1, .inl p), (2, .inl i), (3, .inl t)]) dX1_value_19 (noL_of rfl) (by decide) rfl ?_
          refine v_iload_n dX1_value_20 rfl ?_
          refine v_if_le (tgt := 35) dX1_value_21 (by decide) (fun c21 => ?_) (fun c21 => ?_)
          · refine v_iconst (-1) dX1_value_35 (by decide) (by decide) ?_
            refine v_istore (lv1 := [(0, rH κ), (1, .inl p), (2, .inl i), (3, .inl t), (4, .inl (-1))]) dX1_value_36 (noL_of rfl) (by decide) rfl ?_
            refine v_iload_n dX1_value_38 rfl ?_
            refine v_bipush 20 dX1_value_39 (by decide) (by decide) ?_
            refine v_icmp_ge (tgt := 80) dX1_value_41 (by decide) (fun c41 => ?_) (fun c41 => ?_)
            · refine v_iload_n dX1_value_80 rfl ?_
              refine v_bipush 20 dX1_value_81 (by decide) (by decide) ?_
              refine v_icmp_ne (tgt := 118) dX1_value_83 (by decide) (fun c83 => ?_) (fun c83 => ?_)
              · refine v_iload_n dX1_value_118 rfl ?_
                refine v_iconst 1 dX1_value_119 (by decide) (by decide) ?_
                refine v_icmp_le (tgt := 167) dX1_value_120 (by decide) (fun c120 => ?_) (fun c120 => ?_)
                · refine v_iinc (lv1 := [(0, rH κ), (1, .inl p), (2, .inl (i + (-1))), (3, .inl t), (4, .inl (-1))]) dX1_value_167 rfl (fun hw9 => (by omega)) (noL_of rfl) (by decide) rfl ?_
                  refine v_goto (tgt := 9) dX1_value_170 (by decide) ?_
                  refine v_pick [0, 1, 2] rfl ?_
                  exact ih _ _ [] _ (by omega) (by omega) (by rw [show i + (-1) + 1 = i by omega, es]; unfold evT; rw [if_neg (by omega), if_neg (by omega)]; split <;> rfl) trivial hp (by simp only [List.length_cons, List.length_nil] at *; omega) (by omega)
                · omega
              · refine v_iload_n dX1_value_86 rfl ?_
                refine v_if_le (tgt := 118) dX1_value_87 (by decide) (fun c87 => ?_) (fun c87 => ?_)
                · refine v_iload_n dX1_value_118 rfl ?_
                  refine v_iconst 1 dX1_value_119 (by decide) (by decide) ?_
                  refine v_icmp_le (tgt := 167) dX1_value_120 (by decide) (fun c120 => ?_) (fun c120 => ?_)
                  · refine v_iinc (lv1 := [(0, rH κ), (1, .inl p), (2, .inl (i + (-1))), (3, .inl t), (4, .inl (-1))]) dX1_value_167 rfl (fun hw9 => (by omega)) (noL_of rfl) (by decide) rfl ?_
                    refine v_goto (tgt := 9) dX1_value_170 (by decide) ?_
                    refine v_pick [0, 1, 2] rfl ?_
                    exact ih _ _ [] _ (by omega) (by omega) (by rw [show i + (-1) + 1 = i by omega, es]; unfold evT; rw [if_neg (by omega), if_neg (by omega)]; split <;> rfl) trivial hp (by simp only [List.length_cons, List.length_nil] at *; omega) (by omega)
                  · omega
                · omega
            · refine v_aload_n dX1_value_44 rfl ?_
              refine g1_stack dX1_value_45 ?_
              refine v_iload_n dX1_value_48 rfl ?_
              refine v_iload_n dX1_value_49 rfl ?_
              refine v_iconst 3 dX1_value_50 (by decide) (by decide) ?_
              refine v_icmp_ge (tgt := 63) dX1_value_51 (by decide) (fun c51 => ?_) (fun c51 => ?_)
              · refine v_aload_n dX1_value_63 rfl ?_
                refine v_iconst 0 dX1_value_64 (by decide) (by decide) ?_
                refine v_iload_n dX1_value_65 rfl ?_
                refine v_bipush 10 dX1_value_66 (by decide) (by decide) ?_
                refine v_isub dX1_value_68 (fun _ _ => (by omega)) ?_
                refine v_iconst 0 dX1_value_69 (by decide) (by decide) ?_
                refine c1_over (rest := [.inl p, rA κ 9]) dX1_value_70 (ct1_over 0 (t - 10) 0 (upA σ 9 S) hG) rfl (by decide) rfl (Nat.le_of_ble_eq_true rfl) (fun r5 τ h5 => ?_)
                obtain ⟨u5, e5⟩ := h5
                subst u5
                replace e5 : r5 = ovF (σ 0 0) (σ 1) (σ 2) (σ 3) (σ 4) 0 (t - 10) 0 := ov_q e5
                refine s1_stack dX1_value_73 (by omega) ?_
                refine v_iinc (lv1 := [(0, rH κ), (1, .inl (p + 1)), (2, .inl i), (3, .inl t), (4, .inl (-1))]) dX1_value_74 rfl (fun hw9 => (by omega)) (noL_of rfl) (by decide) rfl ?_
                refine v_goto (tgt := 167) dX1_value_77 (by decide) ?_
                refine v_iinc (lv1 := [(0, rH κ), (1, .inl (p + 1)), (2, .inl (i + (-1))), (3, .inl t), (4, .inl (-1))]) dX1_value_167 rfl (fun hw9 => (by omega)) (noL_of rfl) (by decide) rfl ?_
                refine v_goto (tgt := 9) dX1_value_170 (by decide) ?_
                rw [up_upA]
                refine v_pick [0, 1, 2] rfl ?_
                exact ih _ _ (r5 :: []) _ (by omega) (by omega) (by rw [show i + (-1) + 1 = i by omega, es]; unfold evT; rw [if_neg (by omega), if_pos (by omega), e5]) ⟨if_pos (by simp only [List.length_cons, List.length_nil] at *; omega), opn_up _ hO (by simp only [List.length_cons, List.length_nil] at *; omega)⟩ (by simp only [List.length_cons, List.length_nil] at *; omega) (by simp only [List.length_cons, List.length_nil] at *; omega) (by omega)
              · refine v_aload_n dX1_value_54 rfl ?_
                refine g1_bound dX1_value_55 ?_
                refine v_iload_n dX1_value_58 rfl ?_
                refine l1_bound dX1_value_59 (by omega) (σ 7 t) rfl ?_
                refine v_goto (tgt := 73) dX1_value_60 (by decide) ?_
                refine s1_stack dX1_value_73 (by omega) ?_
                refine v_iinc (lv1 := [(0, rH κ), (1, .inl (p + 1)), (2, .inl i), (3, .inl t), (4, .inl (-1))]) dX1_value_74 rfl (fun hw9 => (by omega)) (noL_of rfl) (by decide) rfl ?_
                refine v_goto (tgt := 167) dX1_value_77 (by decide) ?_
                refine v_iinc (lv1 := [(0, rH κ), (1, .inl (p + 1)), (2, .inl (i + (-1))), (3, .inl t), (4, .inl (-1))]) dX1_value_167 rfl (fun hw9 => (by omega)) (noL_of rfl) (by decide) rfl ?_
                refine v_goto (tgt := 9) dX1_value_170 (by decide) ?_
                rw [up_upA]
                refine v_pick [0, 1, 2] rfl ?_
                exact ih _ _ ((σ 7 t) :: []) _ (by omega) (by omega) (by rw [show i + (-1) + 1 = i by omega, es]; unfold evT; rw [if_pos (by omega)]) ⟨if_pos (by simp only [List.length_cons, List.length_nil] at *; omega), opn_up _ hO (by simp only [List.length_cons, List.length_nil] at *; omega)⟩ (by simp only [List.length_cons, List.length_nil] at *; omega) (by simp only [List.length_cons, List.length_nil] at *; omega) (by omega)
          · omega
      | cons x s =>
        cases s with
        | nil =>
          have hp0 : p = 1 := by simp at hp; omega
          have ex0 : S (p - 1) = x := by rw [show p - 1 = 0 by omega]; exact hO.1
          refine v_iload_n dX1_value_9 rfl ?_
          refine v_if_lt (tgt := 173) dX1_value_10 (by decide) (fun c10 => ?_) (fun c10 => ?_)
          · refine v_iload_n dX1_value_173 rfl ?_
            refine v_if_le (tgt := 186) dX1_value_174 (by decide) (fun c174 => ?_) (fun c174 => ?_)
            · omega
            · refine v_aload_n dX1_value_177 rfl ?_
              refine g1_stack dX1_value_178 ?_
              refine v_iconst 0 dX1_value_181 (by decide) (by decide) ?_
              refine l1_stack dX1_value_182 (by omega) (S 0) rfl ?_
              refine v_goto (tgt := 187) dX1_value_183 (by decide) ?_
              exact hret _ _ _ _ dX1_value_187 ⟨S, rfl, by rw [show i + 1 = 0 by omega] at hE; unfold vl1; rw [tk1_SF, hE]; exact opn_last _ hO (by simp)⟩
          · obtain ⟨t, et⟩ : ∃ t, σ 6 i = t := ⟨_, rfl⟩
            have htk := htok i (by omega) hi1
            rw [et] at htk
            unfold tokOk at htk
            have es : ev1G σ (SF (σ 6) (σ 5 0) i) = evT (fun k => ovF (σ 0 0) (σ 1) (σ 2) (σ 3) (σ 4) 0 k 0) (fun x => ovF (σ 0 0) (σ 1) (σ 2) (σ 3) (σ 4) 1 x 0) (ovF (σ 0 0) (σ 1) (σ 2) (σ 3) (σ 4) 2) (σ 7) t [x] := by rw [SF_s hi1, et, ev1G_c, hE]
            refine v_aload_n dX1_value_13 rfl ?_
            refine g1_pattern dX1_value_14 ?_
            refine v_iload_n dX1_value_17 rfl ?_
            refine l1_pattern dX1_value_18 (by omega) t et ?_
            refine v_istore_n (lv1 := [(0, rH κ), (1, .inl p), (2, .inl i), (3, .inl t)]) dX1_value_19 (noL_of rfl) (by decide) rfl ?_
            refine v_iload_n dX1_value_20 rfl ?_
            refine v_if_le (tgt := 35) dX1_value_21 (by decide) (fun c21 => ?_) (fun c21 => ?_)
            · omega
            · refine v_aload_n dX1_value_24 rfl ?_
              refine g1_stack dX1_value_25 ?_
              refine v_iload_n dX1_value_28 rfl ?_
              refine v_iconst 1 dX1_value_29 (by decide) (by decide) ?_
              refine v_isub dX1_value_30 (fun _ _ => (by omega)) ?_
              refine l1_stack dX1_value_31 (by omega) x ex0 ?_
              refine v_goto (tgt := 36) dX1_value_32 (by decide) ?_
              refine v_istore (lv1 := [(0, rH κ), (1, .inl p), (2, .inl i), (3, .inl t), (4, .inl x)]) dX1_value_36 (noL_of rfl) (by decide) rfl ?_
              refine v_iload_n dX1_value_38 rfl ?_
              refine v_bipush 20 dX1_value_39 (by decide) (by decide) ?_
              refine v_icmp_ge (tgt := 80) dX1_value_41 (by decide) (fun c41 => ?_) (fun c41 => ?_)
              · refine v_iload_n dX1_value_80 rfl ?_
                refine v_bipush 20 dX1_value_81 (by decide) (by decide) ?_
                refine v_icmp_ne (tgt := 118) dX1_value_83 (by decide) (fun c83 => ?_) (fun c83 => ?_)
                · refine v_iload_n dX1_value_118 rfl ?_
                  refine v_iconst 1 dX1_value_119 (by decide) (by decide) ?_
                  refine v_icmp_le (tgt := 167) dX1_value_120 (by decide) (fun c120 => ?_) (fun c120 => ?_)
                  · refine v_iinc (lv1 := [(0, rH κ), (1, .inl p), (2, .inl (i + (-1))), (3, .inl t), (4, .inl x)]) dX1_value_167 rfl (fun hw9 => (by omega)) (noL_of rfl) (by decide) rfl ?_
                    refine v_goto (tgt := 9) dX1_value_170 (by decide) ?_
                    refine v_pick [0, 1, 2] rfl ?_
                    exact ih _ _ [x] _ (by omega) (by omega) (by rw [show i + (-1) + 1 = i by omega, es]; unfold evT; rw [if_neg (by omega), if_neg (by omega), if_neg (by omega)]; rfl) hO hp (by simp only [List.length_cons, List.length_nil] at *; omega) (by omega)
                  · omega
                · refine v_iload_n dX1_value_86 rfl ?_
                  refine v_if_le (tgt := 118) dX1_value_87 (by decide) (fun c87 => ?_) (fun c87 => ?_)
                  · omega
                  · refine v_aload_n dX1_value_90 rfl ?_
                    refine g1_stack dX1_value_91 ?_
                    refine v_iload_n dX1_value_94 rfl ?_
                    refine v_iconst 1 dX1_value_95 (by decide) (by decide) ?_
                    refine v_isub dX1_value_96 (fun _ _ => (by omega)) ?_
                    refine v_iload dX1_value_97 rfl ?_
                    refine v_if_ge (tgt := 106) dX1_value_99 (by decide) (fun c99 => ?_) (fun c99 => ?_)
                    · refine v_aload_n dX1_value_106 rfl ?_
                      refine v_iconst 1 dX1_value_107 (by decide) (by decide) ?_
                      refine v_iload dX1_value_108 rfl ?_
                      refine v_iconst 0 dX1_value_110 (by decide) (by decide) ?_
                      refine c1_over (rest := [.inl (p - 1), rA κ 9]) dX1_value_111 (ct1_over 1 x 0 (upA σ 9 S) hG) rfl (by decide) rfl (Nat.le_of_ble_eq_true rfl) (fun r5 τ h5 => ?_)
                      obtain ⟨u5, e5⟩ := h5
                      subst u5
                      replace e5 : r5 = ovF (σ 0 0) (σ 1) (σ 2) (σ 3) (σ 4) 1 x 0 := ov_q e5
                      refine s1_stack dX1_value_114 (by omega) ?_
                      refine v_goto (tgt := 167) dX1_value_115 (by decide) ?_
                      refine v_iinc (lv1 := [(0, rH κ), (1, .inl p), (2, .inl (i + (-1))), (3, .inl t), (4, .inl x)]) dX1_value_167 rfl (fun hw9 => (by omega)) (noL_of rfl) (by decide) rfl ?_
                      refine v_goto (tgt := 9) dX1_value_170 (by decide) ?_
                      rw [up_upA]
                      refine v_pick [0, 1, 2] rfl ?_
                      exact ih _ _ (r5 :: []) _ (by omega) (by omega) (by rw [show i + (-1) + 1 = i by omega, es]; unfold evT; rw [if_neg (by omega), if_neg (by omega), if_pos (by omega)]; show (if x < 0 then -1 else _) :: _ = _; rw [if_neg (by omega), e5]) ⟨if_pos (by simp only [List.length_cons, List.length_nil] at *; omega), opn_up _ hO.2 (by simp only [List.length_cons, List.length_nil] at *; omega)⟩ (by simp only [List.length_cons, List.length_nil] at *; omega) (by simp only [List.length_cons, List.length_nil] at *; omega) (by omega)
                    · refine v_iconst (-1) dX1_value_102 (by decide) (by decide) ?_
                      refine v_goto (tgt := 114) dX1_value_103 (by decide) ?_
                      refine s1_stack dX1_value_114 (by omega) ?_
                      refine v_goto (tgt := 167) dX1_value_115 (by decide) ?_
                      refine v_iinc (lv1 := [(0, rH κ), (1, .inl p), (2, .inl (i + (-1))), (3, .inl t), (4, .inl x)]) dX1_value_167 rfl (fun hw9 => (by omega)) (noL_of rfl) (by decide) rfl ?_
                      refine v_goto (tgt := 9) dX1_value_170 (by decide) ?_
                      rw [up_upA]
                      refine v_pick [0, 1, 2] rfl ?_
                      exact ih _ _ ((-1) :: []) _ (by omega) (by omega) (by rw [show i + (-1) + 1 = i by omega, es]; unfold evT; rw [if_neg (by omega), if_neg (by omega), if_pos (by omega)]; show (if x < 0 then -1 else _) :: _ = _; rw [if_pos (by omega)]) ⟨if_pos (by simp only [List.length_cons, List.length_nil] at *; omega), opn_up _ hO.2 (by simp only [List.length_cons, List.length_nil] at *; omega)⟩ (by simp only [List.length_cons, List.length_nil] at *; omega) (by simp only [List.length_cons, List.length_nil] at *; omega) (by omega)
              · refine v_aload_n dX1_value_44 rfl ?_
                refine g1_stack dX1_value_45 ?_
                refine v_iload_n dX1_value_48 rfl ?_
                refine v_iload_n dX1_value_49 rfl ?_
                refine v_iconst 3 dX1_value_50 (by decide) (by decide) ?_
                refine v_icmp_ge (tgt := 63) dX1_value_51 (by decide) (fun c51 => ?_) (fun c51 => ?_)
                · refine v_aload_n dX1_value_63 rfl ?_
                  refine v_iconst 0 dX1_value_64 (by decide) (by decide) ?_
                  refine v_iload_n dX1_value_65 rfl ?_
                  refine v_bipush 10 dX1_value_66 (by decide) (by decide) ?_
                  refine v_isub dX1_value_68 (fun _ _ => (by omega)) ?_
                  refine v_iconst 0 dX1_value_69 (by decide) (by decide) ?_
                  refine c1_over (rest := [.inl p, rA κ 9]) dX1_value_70 (ct1_over 0 (t - 10) 0 (upA σ 9 S) hG) rfl (by decide) rfl (Nat.le_of_ble_eq_true rfl) (fun r5 τ h5 => ?_)
                  obtain ⟨u5, e5⟩ := h5
                  subst u5
                  replace e5 : r5 = ovF (σ 0 0) (σ 1) (σ 2) (σ 3) (σ 4) 0 (t - 10) 0 := ov_q e5
                  refine s1_stack dX1_value_73 (by omega) ?_
                  refine v_iinc (lv1 := [(0, rH κ), (1, .inl (p + 1)), (2, .inl i), (3, .inl t), (4, .inl x)]) dX1_value_74 rfl (fun hw9 => (by omega)) (noL_of rfl) (by decide) rfl ?_
                  refine v_goto (tgt := 167) dX1_value_77 (by decide) ?_
                  refine v_iinc (lv1 := [(0, rH κ), (1, .inl (p + 1)), (2, .inl (i + (-1))), (3, .inl t), (4, .inl x)]) dX1_value_167 rfl (fun hw9 => (by omega)) (noL_of rfl) (by decide) rfl ?_
                  refine v_goto (tgt := 9) dX1_value_170 (by decide) ?_
                  rw [up_upA]
                  refine v_pick [0, 1, 2] rfl ?_
                  exact ih _ _ (r5 :: [x]) _ (by omega) (by omega) (by rw [show i + (-1) + 1 = i by omega, es]; unfold evT; rw [if_neg (by omega), if_pos (by omega), e5]) ⟨if_pos (by simp only [List.length_cons, List.length_nil] at *; omega), opn_up _ hO (by simp only [List.length_cons, List.length_nil] at *; omega)⟩ (by simp only [List.length_cons, List.length_nil] at *; omega) (by simp only [List.length_cons, List.length_nil] at *; omega) (by omega)
                · refine v_aload_n dX1_value_54 rfl ?_
                  refine g1_bound dX1_value_55 ?_
                  refine v_iload_n dX1_value_58 rfl ?_
                  refine l1_bound dX1_value_59 (by omega) (σ 7 t) rfl ?_
                  refine v_goto (tgt := 73) dX1_value_60 (by decide) ?_
                  refine s1_stack dX1_value_73 (by omega) ?_
                  refine v_iinc (lv1 := [(0, rH κ), (1, .inl (p + 1)), (2, .inl i), (3, .inl t), (4, .inl x)]) dX1_value_74 rfl (fun hw9 => (by omega)) (noL_of rfl) (by decide) rfl ?_
                  refine v_goto (tgt := 167) dX1_value_77 (by decide) ?_
                  refine v_iinc (lv1 := [(0, rH κ), (1, .inl (p + 1)), (2, .inl (i + (-1))), (3, .inl t), (4, .inl x)]) dX1_value_167 rfl (fun hw9 => (by omega)) (noL_of rfl) (by decide) rfl ?_
                  refine v_goto (tgt := 9) dX1_value_170 (by decide) ?_
                  rw [up_upA]
                  refine v_pick [0, 1, 2] rfl ?_
                  exact ih _ _ ((σ 7 t) :: [x]) _ (by omega) (by omega) (by rw [show i + (-1) + 1 = i by omega, es]; unfold evT; rw [if_pos (by omega)]) ⟨if_pos (by simp only [List.length_cons, List.length_nil] at *; omega), opn_up _ hO (by simp only [List.length_cons, List.length_nil] at *; omega)⟩ (by simp only [List.length_cons, List.length_nil] at *; omega) (by simp only [List.length_cons, List.length_nil] at *; omega) (by omega)
        | cons y s =>
          have hp0 : p = s.length + 2 := by simp at hp; omega
          have ex0 : S (p - 1) = x := by rw [show p - 1 = (((y :: s).length : Nat) : Int) by simp; omega]; exact hO.1
          have ey0 : S (p - 2) = y := by rw [show p - 2 = (s.length : Int) by omega]; exact hO.2.1
          refine v_iload_n dX1_value_9 rfl ?_
          refine v_if_lt (tgt := 173) dX1_value_10 (by decide) (fun c10 => ?_) (fun c10 => ?_)
          · refine v_iload_n dX1_value_173 rfl ?_
            refine v_if_le (tgt := 186) dX1_value_174 (by decide) (fun c174 => ?_) (fun c174 => ?_)
            · omega
            · refine v_aload_n dX1_value_177 rfl ?_
              refine g1_stack dX1_value_178 ?_
              refine v_iconst 0 dX1_value_181 (by decide) (by decide) ?_
              refine l1_stack dX1_value_182 (by omega) (S 0) rfl ?_
              refine v_goto (tgt := 187) dX1_value_183 (by decide) ?_
              exact hret _ _ _ _ dX1_value_187 ⟨S, rfl, by rw [show i + 1 = 0 by omega] at hE; unfold vl1; rw [tk1_SF, hE]; exact opn_last _ hO (by simp)⟩
          · obtain ⟨t, et⟩ : ∃ t, σ 6 i = t := ⟨_, rfl⟩
            have htk := htok i (by omega) hi1
            rw [et] at htk
            unfold tokOk at htk
            have es : ev1G σ (SF (σ 6) (σ 5 0) i) = evT (fun k => ovF (σ 0 0) (σ 1) (σ 2) (σ 3) (σ 4) 0 k 0) (fun x => ovF (σ 0 0) (σ 1) (σ 2) (σ 3) (σ 4) 1 x 0) (ovF (σ 0 0) (σ 1) (σ 2) (σ 3) (σ 4) 2) (σ 7) t (x :: y :: s) := by rw [SF_s hi1, et, ev1G_c, hE]
            refine v_aload_n dX1_value_13 rfl ?_
            refine g1_pattern dX1_value_14 ?_
            refine v_iload_n dX1_value_17 rfl ?_
            refine l1_pattern dX1_value_18 (by omega) t et ?_
            refine v_istore_n (lv1 := [(0, rH κ), (1, .inl p), (2, .inl i), (3, .inl t)]) dX1_value_19 (noL_of rfl) (by decide) rfl ?_
            refine v_iload_n dX1_value_20 rfl ?_
            refine v_if_le (tgt := 35) dX1_value_21 (by decide) (fun c21 => ?_) (fun c21 => ?_)
            · omega
            · refine v_aload_n dX1_value_24 rfl ?_
              refine g1_stack dX1_value_25 ?_
              refine v_iload_n dX1_value_28 rfl ?_
              refine v_iconst 1 dX1_value_29 (by decide) (by decide) ?_
              refine v_isub dX1_value_30 (fun _ _ => (by omega)) ?_
              refine l1_stack dX1_value_31 (by omega) x ex0 ?_
              refine v_goto (tgt := 36) dX1_value_32 (by decide) ?_
              refine v_istore (lv1 := [(0, rH κ), (1, .inl p), (2, .inl i), (3, .inl t), (4, .inl x)]) dX1_value_36 (noL_of rfl) (by decide) rfl ?_
              refine v_iload_n dX1_value_38 rfl ?_
              refine v_bipush 20 dX1_value_39 (by decide) (by decide) ?_
              refine v_icmp_ge (tgt := 80) dX1_value_41 (by decide) (fun c41 => ?_) (fun c41 => ?_)
              · refine v_iload_n dX1_value_80 rfl ?_
                refine v_bipush 20 dX1_value_81 (by decide) (by decide) ?_
                refine v_icmp_ne (tgt := 118) dX1_value_83 (by decide) (fun c83 => ?_) (fun c83 => ?_)
                · refine v_iload_n dX1_value_118 rfl ?_
                  refine v_iconst 1 dX1_value_119 (by decide) (by decide) ?_
                  refine v_icmp_le (tgt := 167) dX1_value_120 (by decide) (fun c120 => ?_) (fun c120 => ?_)
                  · omega
                  · refine v_aload_n dX1_value_123 rfl ?_
                    refine g1_stack dX1_value_124 ?_
                    refine v_iload_n dX1_value_127 rfl ?_
                    refine v_iconst 2 dX1_value_128 (by decide) (by decide) ?_
                    refine v_isub dX1_value_129 (fun _ _ => (by omega)) ?_
                    refine l1_stack dX1_value_130 (by omega) y ey0 ?_
                    refine v_istore (lv1 := [(0, rH κ), (1, .inl p), (2, .inl i), (3, .inl t), (4, .inl x), (5, .inl y)]) dX1_value_131 (noL_of rfl) (by decide) rfl ?_
                    refine v_aload_n dX1_value_133 rfl ?_
                    refine g1_stack dX1_value_134 ?_
                    refine v_iload_n dX1_value_137 rfl ?_
                    refine v_iconst 2 dX1_value_138 (by decide) (by decide) ?_
                    refine v_isub dX1_value_139 (fun _ _ => (by omega)) ?_
                    refine v_iload dX1_value_140 rfl ?_
                    refine v_if_lt (tgt := 150) dX1_value_142 (by decide) (fun c142 => ?_) (fun c142 => ?_)
                    · refine v_iconst (-1) dX1_value_150 (by decide) (by decide) ?_
                      refine v_goto (tgt := 163) dX1_value_151 (by decide) ?_
                      refine s1_stack dX1_value_163 (by omega) ?_
                      refine v_iinc (lv1 := [(0, rH κ), (1, .inl (p + (-1))), (2, .inl i), (3, .inl t), (4, .inl x), (5, .inl y)]) dX1_value_164 rfl (fun hw9 => (by omega)) (noL_of rfl) (by decide) rfl ?_
                      refine v_iinc (lv1 := [(0, rH κ), (1, .inl (p + (-1))), (2, .inl (i + (-1))), (3, .inl t), (4, .inl x), (5, .inl y)]) dX1_value_167 rfl (fun hw9 => (by omega)) (noL_of rfl) (by decide) rfl ?_
                      refine v_goto (tgt := 9) dX1_value_170 (by decide) ?_
                      rw [up_upA]
                      refine v_pick [0, 1, 2] rfl ?_
                      exact ih _ _ ((-1) :: s) _ (by omega) (by omega) (by rw [show i + (-1) + 1 = i by omega, es]; unfold evT; rw [if_neg (by omega), if_neg (by omega), if_neg (by omega)]; show (if x < 0 ∨ y < 0 then -1 else _) :: _ = _; rw [if_pos (by omega)]) ⟨if_pos (by simp only [List.length_cons, List.length_nil] at *; omega), opn_up _ hO.2.2 (by simp only [List.length_cons, List.length_nil] at *; omega)⟩ (by simp only [List.length_cons, List.length_nil] at *; omega) (by simp only [List.length_cons, List.length_nil] at *; omega) (by omega)
                    · refine v_iload dX1_value_145 rfl ?_
                      refine v_if_ge (tgt := 154) dX1_value_147 (by decide) (fun c147 => ?_) (fun c147 => ?_)
                      · refine v_aload_n dX1_value_154 rfl ?_
                        refine v_iconst 2 dX1_value_155 (by decide) (by decide) ?_
                        refine v_iload dX1_value_156 rfl ?_
                        refine v_iload dX1_value_158 rfl ?_
                        refine c1_over (rest := [.inl (p - 2), rA κ 9]) dX1_value_160 (ct1_over 2 x y (upA σ 9 S) hG) rfl (by decide) rfl (Nat.le_of_ble_eq_true rfl) (fun r5 τ h5 => ?_)
                        obtain ⟨u5, e5⟩ := h5
                        subst u5
                        replace e5 : r5 = ovF (σ 0 0) (σ 1) (σ 2) (σ 3) (σ 4) 2 x y := ov_q e5
                        refine s1_stack dX1_value_163 (by omega) ?_
                        refine v_iinc (lv1 := [(0, rH κ), (1, .inl (p + (-1))), (2, .inl i), (3, .inl t), (4, .inl x), (5, .inl y)]) dX1_value_164 rfl (fun hw9 => (by omega)) (noL_of rfl) (by decide) rfl ?_
                        refine v_iinc (lv1 := [(0, rH κ), (1, .inl (p + (-1))), (2, .inl (i + (-1))), (3, .inl t), (4, .inl x), (5, .inl y)]) dX1_value_167 rfl (fun hw9 => (by omega)) (noL_of rfl) (by decide) rfl ?_
                        refine v_goto (tgt := 9) dX1_value_170 (by decide) ?_
                        rw [up_upA]
                        refine v_pick [0, 1, 2] rfl ?_
                        exact ih _ _ (r5 :: s) _ (by omega) (by omega) (by rw [show i + (-1) + 1 = i by omega, es]; unfold evT; rw [if_neg (by omega), if_neg (by omega), if_neg (by omega)]; show (if x < 0 ∨ y < 0 then -1 else _) :: _ = _; rw [if_neg (by omega), e5]) ⟨if_pos (by simp only [List.length_cons, List.length_nil] at *; omega), opn_up _ hO.2.2 (by simp only [List.length_cons, List.length_nil] at *; omega)⟩ (by simp only [List.length_cons, List.length_nil] at *; omega) (by simp only [List.length_cons, List.length_nil] at *; omega) (by omega)
                      · refine v_iconst (-1) dX1_value_150 (by decide) (by decide) ?_
                        refine v_goto (tgt := 163) dX1_value_151 (by decide) ?_
                        refine s1_stack dX1_value_163 (by omega) ?_
                        refine v_iinc (lv1 := [(0, rH κ), (1, .inl (p + (-1))), (2, .inl i), (3, .inl t), (4, .inl x), (5, .inl y)]) dX1_value_164 rfl (fun hw9 => (by omega)) (noL_of rfl) (by decide) rfl ?_
                        refine v_iinc (lv1 := [(0, rH κ), (1, .inl (p + (-1))), (2, .inl (i + (-1))), (3, .inl t), (4, .inl x), (5, .inl y)]) dX1_value_167 rfl (fun hw9 => (by omega)) (noL_of rfl) (by decide) rfl ?_
                        refine v_goto (tgt := 9) dX1_value_170 (by decide) ?_
                        rw [up_upA]
                        refine v_pick [0, 1, 2] rfl ?_
                        exact ih _ _ ((-1) :: s) _ (by omega) (by omega) (by rw [show i + (-1) + 1 = i by omega, es]; unfold evT; rw [if_neg (by omega), if_neg (by omega), if_neg (by omega)]; show (if x < 0 ∨ y < 0 then -1 else _) :: _ = _; rw [if_pos (by omega)]) ⟨if_pos (by simp only [List.length_cons, List.length_nil] at *; omega), opn_up _ hO.2.2 (by simp only [List.length_cons, List.length_nil] at *; omega)⟩ (by simp only [List.length_cons, List.length_nil] at *; omega) (by simp only [List.length_cons, List.length_nil] at *; omega) (by omega)
                · refine v_iload_n dX1_value_86 rfl ?_
                  refine v_if_le (tgt := 118) dX1_value_87 (by decide) (fun c87 => ?_) (fun c87 => ?_)
                  · omega
                  · refine v_aload_n dX1_value_90 rfl ?_
                    refine g1_stack dX1_value_91 ?_
                    refine v_iload_n dX1_value_94 rfl ?_
                    refine v_iconst 1 dX1_value_95 (by decide) (by decide) ?_
                    refine v_isub dX1_value_96 (fun _ _ => (by omega)) ?_
                    refine v_iload dX1_value_97 rfl ?_
                    refine v_if_ge (tgt := 106) dX1_value_99 (by decide) (fun c99 => ?_) (fun c99 => ?_)
                    · refine v_aload_n dX1_value_106 rfl ?_
                      refine v_iconst 1 dX1_value_107 (by decide) (by decide) ?_
                      refine v_iload dX1_value_108 rfl ?_
                      refine v_iconst 0 dX1_value_110 (by decide) (by decide) ?_
                      refine c1_over (rest := [.inl (p - 1), rA κ 9]) dX1_value_111 (ct1_over 1 x 0 (upA σ 9 S) hG) rfl (by decide) rfl (Nat.le_of_ble_eq_true rfl) (fun r5 τ h5 => ?_)
                      obtain ⟨u5, e5⟩ := h5
                      subst u5
                      replace e5 : r5 = ovF (σ 0 0) (σ 1) (σ 2) (σ 3) (σ 4) 1 x 0 := ov_q e5
                      refine s1_stack dX1_value_114 (by omega) ?_
                      refine v_goto (tgt := 167) dX1_value_115 (by decide) ?_
                      refine v_iinc (lv1 := [(0, rH κ), (1, .inl p), (2, .inl (i + (-1))), (3, .inl t), (4, .inl x)]) dX1_value_167 rfl (fun hw9 => (by omega)) (noL_of rfl) (by decide) rfl ?_
                      refine v_goto (tgt := 9) dX1_value_170 (by decide) ?_
                      rw [up_upA]
                      refine v_pick [0, 1, 2] rfl ?_
                      exact ih _ _ (r5 :: (y :: s)) _ (by omega) (by omega) (by rw [show i + (-1) + 1 = i by omega, es]; unfold evT; rw [if_neg (by omega), if_neg (by omega), if_pos (by omega)]; show (if x < 0 then -1 else _) :: _ = _; rw [if_neg (by omega), e5]) ⟨if_pos (by simp only [List.length_cons, List.length_nil] at *; omega), opn_up _ hO.2 (by simp only [List.length_cons, List.length_nil] at *; omega)⟩ (by simp only [List.length_cons, List.length_nil] at *; omega) (by simp only [List.length_cons, List.length_nil] at *; omega) (by omega)
                    · refine v_iconst (-1) dX1_value_102 (by decide) (by decide) ?_
                      refine v_goto (tgt := 114) dX1_value_103 (by decide) ?_
                      refine s1_stack dX1_value_114 (by omega) ?_
                      refine v_goto (tgt := 167) dX1_value_115 (by decide) ?_
                      refine v_iinc (lv1 := [(0, rH κ), (1, .inl p), (2, .inl (i + (-1))), (3, .inl t), (4, .inl x)]) dX1_value_167 rfl (fun hw9 => (by omega)) (noL_of rfl) (by decide) rfl ?_
                      refine v_goto (tgt := 9) dX1_value_170 (by decide) ?_
                      rw [up_upA]
                      refine v_pick [0, 1, 2] rfl ?_
                      exact ih _ _ ((-1) :: (y :: s)) _ (by omega) (by omega) (by rw [show i + (-1) + 1 = i by omega, es]; unfold evT; rw [if_neg (by omega), if_neg (by omega), if_pos (by omega)]; show (if x < 0 then -1 else _) :: _ = _; rw [if_pos (by omega)]) ⟨if_pos (by simp only [List.length_cons, List.length_nil] at *; omega), opn_up _ hO.2 (by simp only [List.length_cons, List.length_nil] at *; omega)⟩ (by simp only [List.length_cons, List.length_nil] at *; omega) (by simp only [List.length_cons, List.length_nil] at *; omega) (by omega)
              · refine v_aload_n dX1_value_44 rfl ?_
                refine g1_stack dX1_value_45 ?_
                refine v_iload_n dX1_value_48 rfl ?_
                refine v_iload_n dX1_value_49 rfl ?_
                refine v_iconst 3 dX1_value_50 (by decide) (by decide) ?_
                refine v_icmp_ge (tgt := 63) dX1_value_51 (by decide) (fun c51 => ?_) (fun c51 => ?_)
                · refine v_aload_n dX1_value_63 rfl ?_
                  refine v_iconst 0 dX1_value_64 (by decide) (by decide) ?_
                  refine v_iload_n dX1_value_65 rfl ?_
                  refine v_bipush 10 dX1_value_66 (by decide) (by decide) ?_
                  refine v_isub dX1_value_68 (fun _ _ => (by omega)) ?_
                  refine v_iconst 0 dX1_value_69 (by decide) (by decide) ?_
                  refine c1_over (rest := [.inl p, rA κ 9]) dX1_value_70 (ct1_over 0 (t - 10) 0 (upA σ 9 S) hG) rfl (by decide) rfl (Nat.le_of_ble_eq_true rfl) (fun r5 τ h5 => ?_)
                  obtain ⟨u5, e5⟩ := h5
                  subst u5
                  replace e5 : r5 = ovF (σ 0 0) (σ 1) (σ 2) (σ 3) (σ 4) 0 (t - 10) 0 := ov_q e5
                  refine s1_stack dX1_value_73 (by omega) ?_
                  refine v_iinc (lv1 := [(0, rH κ), (1, .inl (p + 1)), (2, .inl i), (3, .inl t), (4, .inl x)]) dX1_value_74 rfl (fun hw9 => (by omega)) (noL_of rfl) (by decide) rfl ?_
                  refine v_goto (tgt := 167) dX1_value_77 (by decide) ?_
                  refine v_iinc (lv1 := [(0, rH κ), (1, .inl (p + 1)), (2, .inl (i + (-1))), (3, .inl t), (4, .inl x)]) dX1_value_167 rfl (fun hw9 => (by omega)) (noL_of rfl) (by decide) rfl ?_
                  refine v_goto (tgt := 9) dX1_value_170 (by decide) ?_
                  rw [up_upA]
                  refine v_pick [0, 1, 2] rfl ?_
                  exact ih _ _ (r5 :: (x :: y :: s)) _ (by omega) (by omega) (by rw [show i + (-1) + 1 = i by omega, es]; unfold evT; rw [if_neg (by omega), if_pos (by omega), e5]) ⟨if_pos (by simp only [List.length_cons, List.length_nil] at *; omega), opn_up _ hO (by simp only [List.length_cons, List.length_nil] at *; omega)⟩ (by simp only [List.length_cons, List.length_nil] at *; omega) (by simp only [List.length_cons, List.length_nil] at *; omega) (by omega)
                · refine v_aload_n dX1_value_54 rfl ?_
                  refine g1_bound dX1_value_55 ?_
                  refine v_iload_n dX1_value_58 rfl ?_
                  refine l1_bound dX1_value_59 (by omega) (σ 7 t) rfl ?_
                  refine v_goto (tgt := 73) dX1_value_60 (by decide) ?_
                  refine s1_stack dX1_value_73 (by omega) ?_
                  refine v_iinc (lv1 := [(0, rH κ), (1, .inl (p + 1)), (2, .inl i), (3, .inl t), (4, .inl x)]) dX1_value_74 rfl (fun hw9 => (by omega)) (noL_of rfl) (by decide) rfl ?_
                  refine v_goto (tgt := 167) dX1_value_77 (by decide) ?_
                  refine v_iinc (lv1 := [(0, rH κ), (1, .inl (p + 1)), (2, .inl (i + (-1))), (3, .inl t), (4, .inl x)]) dX1_value_167 rfl (fun hw9 => (by omega)) (noL_of rfl) (by decide) rfl ?_
                  refine v_goto (tgt := 9) dX1_value_170 (by decide) ?_
                  rw [up_upA]
                  refine v_pick [0, 1, 2] rfl ?_
                  exact ih _ _ ((σ 7 t) :: (x :: y :: s)) _ (by omega) (by omega) (by rw [show i + (-1) + 1 = i by omega, es]; unfold evT; rw [if_pos (by omega)]) ⟨if_pos (by simp only [List.length_cons, List.length_nil] at *; omega), opn_up _ hO (by simp only [List.length_cons, List.length_nil] at *; omega)⟩ (by simp only [List.length_cons, List.length_nil] at *; omega) (by simp only [List.length_cons, List.length_nil] at *; omega) (by omega)
  refine v_iconst 0 dX1_value_0 (by decide) (by decide) ?_
  refine v_istore_n (lv1 := [(0, rH κ), (1, .inl 0)]) dX1_value_1 (noL_of rfl) (by decide) rfl ?_
  refine v_aload_n dX1_value_2 rfl ?_
  refine g1_tokens dX1_value_3 (σ 5 0) rfl ?_
  refine v_iconst 1 dX1_value_6 (by decide) (by decide) ?_
  refine v_isub dX1_value_7 (fun _ _ => (by omega)) ?_
  refine v_istore_n (lv1 := [(0, rH κ), (1, .inl 0), (2, .inl ((σ 5 0) - 1))]) dX1_value_8 (noL_of rfl) (by decide) rfl ?_
  have := loop 9 (σ 5 0 - 1) 0 [] (σ 9) (by omega) (by omega) (by rw [SF_e (by omega)]; rfl) trivial rfl (by simp) (by omega)
  rw [upA_id] at this
  exact this
end
section
set_option maxRecDepth 100000
theorem ct1_look (t : Int) (σ : Sg) (hG : GOK (σ 0 0) (σ 1) (σ 2) (σ 3)) (h0 : 0 ≤ σ 5 0) (h7 : σ 5 0 ≤ 7) (htok : ∀ i, 0 ≤ i → i < σ 5 0 → tokOk (σ 6 i)) (h11 : 0 ≤ σ 11 0 ∧ σ 11 0 < 100000) (h12 : 0 ≤ σ 12 0 ∧ σ 12 0 < 100000) : CtV w1 yX1_look cX1_look 4 2 50 [t] σ (fun σ1 => Ag2 σ σ1 ∧ (vl1 σ < 0 → σ1 11 0 = σ 11 0 ∧ σ1 12 0 = σ 12 0 ∧ σ1 8 = σ 8) ∧ (0 ≤ vl1 σ → σ1 11 0 = σ 11 0 + (if t < 0 ∨ vl1 σ = t then 1 else 0) ∧ σ1 12 0 = σ 12 0 + 1 ∧ (σ 12 0 = σ 10 0 → ∀ u, 0 ≤ u → u ≤ 2 → σ1 8 u = σ 7 u) ∧ (σ 12 0 ≠ σ 10 0 → σ1 8 = σ 8))) := by
  refine ct_void (by decide +kernel) rfl (Nat.le_of_ble_eq_true rfl) (fun κ hret => ?_)
  refine v_aload_n dX1_look_0 rfl ?_
  refine c1_value (rest := []) dX1_look_1 (ct1_value σ hG h0 h7 htok) rfl (by decide) rfl (by decide) (fun v τ h2 => ?_)
  obtain ⟨S, u2, e2⟩ := h2
  subst u2
  refine v_istore_n (lv1 := [(0, rH κ), (1, .inl t), (2, .inl v)]) dX1_look_4 (noL_of rfl) (by decide) rfl ?_
  refine v_iload_n dX1_look_5 rfl ?_
  refine v_if_ge (tgt := 10) dX1_look_6 (by decide) (fun c6 => ?_) (fun c6 => ?_)
  · refine v_iload_n dX1_look_10 rfl ?_
    refine v_if_lt (tgt := 19) dX1_look_11 (by decide) (fun c11 => ?_) (fun c11 => ?_)
    · refine v_aload_n dX1_look_19 rfl ?_
      refine v_dup dX1_look_20 rfl ?_
      refine g1_counted dX1_look_21 (σ 11 0) rfl ?_
      refine v_iconst 1 dX1_look_24 (by decide) (by decide) ?_
      refine v_iadd dX1_look_25 (fun _ _ => (by omega)) ?_
      refine p1_counted dX1_look_26 ?_
      refine v_aload_n dX1_look_29 rfl ?_
      refine g1_found dX1_look_30 (σ 12 0) rfl ?_
      refine v_aload_n dX1_look_33 rfl ?_
      refine g1_wanted dX1_look_34 (σ 10 0) rfl ?_
      refine v_icmp_ne (tgt := 65) dX1_look_37 (by decide) (fun c37 => ?_) (fun c37 => ?_)
      · refine v_aload_n dX1_look_65 rfl ?_
        refine v_dup dX1_look_66 rfl ?_
        refine g1_found dX1_look_67 (σ 12 0) rfl ?_
        refine v_iconst 1 dX1_look_70 (by decide) (by decide) ?_
        refine v_iadd dX1_look_71 (fun _ _ => (by omega)) ?_
        refine p1_found dX1_look_72 ?_
        exact hret _ _ _ dX1_look_75 ⟨(Ag2.up (Ag2.up (Ag2.upA σ S) (by decide)) (by decide)), fun h => by omega, fun _ => ⟨by rw [if_pos (by omega)]; rfl, rfl, ⟨fun h => absurd h c37, fun _ => rfl⟩⟩⟩
      · refine v_iconst 0 dX1_look_40 (by decide) (by decide) ?_
        refine v_istore_n (lv1 := [(0, rH κ), (1, .inl t), (2, .inl v), (3, .inl 0)]) dX1_look_41 (noL_of rfl) (by decide) rfl ?_
        refine v_iload_n dX1_look_42 rfl ?_
        refine v_iconst 3 dX1_look_43 (by decide) (by decide) ?_
        refine v_icmp_ge (tgt := 65) dX1_look_44 (by decide) (fun c44 => ?_) (fun c44 => ?_)
        · omega
        · refine v_aload_n dX1_look_47 rfl ?_
          refine g1_kept dX1_look_48 ?_
          refine v_iload_n dX1_look_51 rfl ?_
          refine v_aload_n dX1_look_52 rfl ?_
          refine g1_bound dX1_look_53 ?_
          refine v_iload_n dX1_look_56 rfl ?_
          refine l1_bound dX1_look_57 (by omega) (σ 7 0) rfl ?_
          refine s1_kept dX1_look_58 (by omega) ?_
          refine v_iinc (lv1 := [(0, rH κ), (1, .inl t), (2, .inl v), (3, .inl (0 + 1))]) dX1_look_59 rfl (fun hw9 => (by omega)) (noL_of rfl) (by decide) rfl ?_
          refine v_goto (tgt := 42) dX1_look_62 (by decide) ?_
          refine v_iload_n dX1_look_42 rfl ?_
          refine v_iconst 3 dX1_look_43 (by decide) (by decide) ?_
          refine v_icmp_ge (tgt := 65) dX1_look_44 (by decide) (fun c44 => ?_) (fun c44 => ?_)
          · omega
          · refine v_aload_n dX1_look_47 rfl ?_
            refine g1_kept dX1_look_48 ?_
            refine v_iload_n dX1_look_51 rfl ?_
            refine v_aload_n dX1_look_52 rfl ?_
            refine g1_bound dX1_look_53 ?_
            refine v_iload_n dX1_look_56 rfl ?_
            refine l1_bound dX1_look_57 (by omega) (σ 7 (0 + 1)) rfl ?_
            refine s1_kept dX1_look_58 (by omega) ?_
            refine v_iinc (lv1 := [(0, rH κ), (1, .inl t), (2, .inl v), (3, .inl (0 + 1 + 1))]) dX1_look_59 rfl (fun hw9 => (by omega)) (noL_of rfl) (by decide) rfl ?_
            refine v_goto (tgt := 42) dX1_look_62 (by decide) ?_
            refine v_iload_n dX1_look_42 rfl ?_
            refine v_iconst 3 dX1_look_43 (by decide) (by decide) ?_
            refine v_icmp_ge (tgt := 65) dX1_look_44 (by decide) (fun c44 => ?_) (fun c44 => ?_)
            · omega
            · refine v_aload_n dX1_look_47 rfl ?_
              refine g1_kept dX1_look_48 ?_
              refine v_iload_n dX1_look_51 rfl ?_
              refine v_aload_n dX1_look_52 rfl ?_
              refine g1_bound dX1_look_53 ?_
              refine v_iload_n dX1_look_56 rfl ?_
              refine l1_bound dX1_look_57 (by omega) (σ 7 (0 + 1 + 1)) rfl ?_
              refine s1_kept dX1_look_58 (by omega) ?_
              refine v_iinc (lv1 := [(0, rH κ), (1, .inl t), (2, .inl v), (3, .inl (0 + 1 + 1 + 1))]) dX1_look_59 rfl (fun hw9 => (by omega)) (noL_of rfl) (by decide) rfl ?_
              refine v_goto (tgt := 42) dX1_look_62 (by decide) ?_
              refine v_iload_n dX1_look_42 rfl ?_
              refine v_iconst 3 dX1_look_43 (by decide) (by decide) ?_
              refine v_icmp_ge (tgt := 65) dX1_look_44 (by decide) (fun c44 => ?_) (fun c44 => ?_)
              · refine v_aload_n dX1_look_65 rfl ?_
                refine v_dup dX1_look_66 rfl ?_
                refine g1_found dX1_look_67 (σ 12 0) rfl ?_
                refine v_iconst 1 dX1_look_70 (by decide) (by decide) ?_
                refine v_iadd dX1_look_71 (fun _ _ => (by omega)) ?_
                refine p1_found dX1_look_72 ?_
                exact hret _ _ _ dX1_look_75 ⟨(Ag2.up (Ag2.up (Ag2.up (Ag2.up (Ag2.up (Ag2.upA σ S) (by decide)) (by decide)) (by decide)) (by decide)) (by decide)), fun h => by omega, fun _ => ⟨by rw [if_pos (by omega)]; rfl, rfl, ⟨fun _ u u0 u2 => by
                  rcases (show u = 0 ∨ u = 1 ∨ u = 2 by omega) with e | e | e
                  · rw [e]; rfl
                  · rw [e]; rfl
                  · rw [e]; rfl, fun h => absurd c37 h⟩⟩⟩
              · omega
    · refine v_iload_n dX1_look_14 rfl ?_
      refine v_iload_n dX1_look_15 rfl ?_
      refine v_icmp_ne (tgt := 29) dX1_look_16 (by decide) (fun c16 => ?_) (fun c16 => ?_)
      · refine v_aload_n dX1_look_29 rfl ?_
        refine g1_found dX1_look_30 (σ 12 0) rfl ?_
        refine v_aload_n dX1_look_33 rfl ?_
        refine g1_wanted dX1_look_34 (σ 10 0) rfl ?_
        refine v_icmp_ne (tgt := 65) dX1_look_37 (by decide) (fun c37 => ?_) (fun c37 => ?_)
        · refine v_aload_n dX1_look_65 rfl ?_
          refine v_dup dX1_look_66 rfl ?_
          refine g1_found dX1_look_67 (σ 12 0) rfl ?_
          refine v_iconst 1 dX1_look_70 (by decide) (by decide) ?_
          refine v_iadd dX1_look_71 (fun _ _ => (by omega)) ?_
          refine p1_found dX1_look_72 ?_
          exact hret _ _ _ dX1_look_75 ⟨(Ag2.up (Ag2.upA σ S) (by decide)), fun h => by omega, fun _ => ⟨by rw [if_neg (by omega)]; exact (Int.add_zero _).symm, rfl, ⟨fun h => absurd h c37, fun _ => rfl⟩⟩⟩
        · refine v_iconst 0 dX1_look_40 (by decide) (by decide) ?_
          refine v_istore_n (lv1 := [(0, rH κ), (1, .inl t), (2, .inl v), (3, .inl 0)]) dX1_look_41 (noL_of rfl) (by decide) rfl ?_
          refine v_iload_n dX1_look_42 rfl ?_
          refine v_iconst 3 dX1_look_43 (by decide) (by decide) ?_
          refine v_icmp_ge (tgt := 65) dX1_look_44 (by decide) (fun c44 => ?_) (fun c44 => ?_)
          · omega
          · refine v_aload_n dX1_look_47 rfl ?_
            refine g1_kept dX1_look_48 ?_
            refine v_iload_n dX1_look_51 rfl ?_
            refine v_aload_n dX1_look_52 rfl ?_
            refine g1_bound dX1_look_53 ?_
            refine v_iload_n dX1_look_56 rfl ?_
            refine l1_bound dX1_look_57 (by omega) (σ 7 0) rfl ?_
            refine s1_kept dX1_look_58 (by omega) ?_
            refine v_iinc (lv1 := [(0, rH κ), (1, .inl t), (2, .inl v), (3, .inl (0 + 1))]) dX1_look_59 rfl (fun hw9 => (by omega)) (noL_of rfl) (by decide) rfl ?_
            refine v_goto (tgt := 42) dX1_look_62 (by decide) ?_
            refine v_iload_n dX1_look_42 rfl ?_
            refine v_iconst 3 dX1_look_43 (by decide) (by decide) ?_
            refine v_icmp_ge (tgt := 65) dX1_look_44 (by decide) (fun c44 => ?_) (fun c44 => ?_)
            · omega
            · refine v_aload_n dX1_look_47 rfl ?_
              refine g1_kept dX1_look_48 ?_
              refine v_iload_n dX1_look_51 rfl ?_
              refine v_aload_n dX1_look_52 rfl ?_
              refine g1_bound dX1_look_53 ?_
              refine v_iload_n dX1_look_56 rfl ?_
              refine l1_bound dX1_look_57 (by omega) (σ 7 (0 + 1)) rfl ?_
              refine s1_kept dX1_look_58 (by omega) ?_
              refine v_iinc (lv1 := [(0, rH κ), (1, .inl t), (2, .inl v), (3, .inl (0 + 1 + 1))]) dX1_look_59 rfl (fun hw9 => (by omega)) (noL_of rfl) (by decide) rfl ?_
              refine v_goto (tgt := 42) dX1_look_62 (by decide) ?_
              refine v_iload_n dX1_look_42 rfl ?_
              refine v_iconst 3 dX1_look_43 (by decide) (by decide) ?_
              refine v_icmp_ge (tgt := 65) dX1_look_44 (by decide) (fun c44 => ?_) (fun c44 => ?_)
              · omega
              · refine v_aload_n dX1_look_47 rfl ?_
                refine g1_kept dX1_look_48 ?_
                refine v_iload_n dX1_look_51 rfl ?_
                refine v_aload_n dX1_look_52 rfl ?_
                refine g1_bound dX1_look_53 ?_
                refine v_iload_n dX1_look_56 rfl ?_
                refine l1_bound dX1_look_57 (by omega) (σ 7 (0 + 1 + 1)) rfl ?_
                refine s1_kept dX1_look_58 (by omega) ?_
                refine v_iinc (lv1 := [(0, rH κ), (1, .inl t), (2, .inl v), (3, .inl (0 + 1 + 1 + 1))]) dX1_look_59 rfl (fun hw9 => (by omega)) (noL_of rfl) (by decide) rfl ?_
                refine v_goto (tgt := 42) dX1_look_62 (by decide) ?_
                refine v_iload_n dX1_look_42 rfl ?_
                refine v_iconst 3 dX1_look_43 (by decide) (by decide) ?_
                refine v_icmp_ge (tgt := 65) dX1_look_44 (by decide) (fun c44 => ?_) (fun c44 => ?_)
                · refine v_aload_n dX1_look_65 rfl ?_
                  refine v_dup dX1_look_66 rfl ?_
                  refine g1_found dX1_look_67 (σ 12 0) rfl ?_
                  refine v_iconst 1 dX1_look_70 (by decide) (by decide) ?_
                  refine v_iadd dX1_look_71 (fun _ _ => (by omega)) ?_
                  refine p1_found dX1_look_72 ?_
                  exact hret _ _ _ dX1_look_75 ⟨(Ag2.up (Ag2.up (Ag2.up (Ag2.up (Ag2.upA σ S) (by decide)) (by decide)) (by decide)) (by decide)), fun h => by omega, fun _ => ⟨by rw [if_neg (by omega)]; exact (Int.add_zero _).symm, rfl, ⟨fun _ u u0 u2 => by
                    rcases (show u = 0 ∨ u = 1 ∨ u = 2 by omega) with e | e | e
                    · rw [e]; rfl
                    · rw [e]; rfl
                    · rw [e]; rfl, fun h => absurd c37 h⟩⟩⟩
                · omega
      · refine v_aload_n dX1_look_19 rfl ?_
        refine v_dup dX1_look_20 rfl ?_
        refine g1_counted dX1_look_21 (σ 11 0) rfl ?_
        refine v_iconst 1 dX1_look_24 (by decide) (by decide) ?_
        refine v_iadd dX1_look_25 (fun _ _ => (by omega)) ?_
        refine p1_counted dX1_look_26 ?_
        refine v_aload_n dX1_look_29 rfl ?_
        refine g1_found dX1_look_30 (σ 12 0) rfl ?_
        refine v_aload_n dX1_look_33 rfl ?_
        refine g1_wanted dX1_look_34 (σ 10 0) rfl ?_
        refine v_icmp_ne (tgt := 65) dX1_look_37 (by decide) (fun c37 => ?_) (fun c37 => ?_)
        · refine v_aload_n dX1_look_65 rfl ?_
          refine v_dup dX1_look_66 rfl ?_
          refine g1_found dX1_look_67 (σ 12 0) rfl ?_
          refine v_iconst 1 dX1_look_70 (by decide) (by decide) ?_
          refine v_iadd dX1_look_71 (fun _ _ => (by omega)) ?_
          refine p1_found dX1_look_72 ?_
          exact hret _ _ _ dX1_look_75 ⟨(Ag2.up (Ag2.up (Ag2.upA σ S) (by decide)) (by decide)), fun h => by omega, fun _ => ⟨by rw [if_pos (by omega)]; rfl, rfl, ⟨fun h => absurd h c37, fun _ => rfl⟩⟩⟩
        · refine v_iconst 0 dX1_look_40 (by decide) (by decide) ?_
          refine v_istore_n (lv1 := [(0, rH κ), (1, .inl t), (2, .inl v), (3, .inl 0)]) dX1_look_41 (noL_of rfl) (by decide) rfl ?_
          refine v_iload_n dX1_look_42 rfl ?_
          refine v_iconst 3 dX1_look_43 (by decide) (by decide) ?_
          refine v_icmp_ge (tgt := 65) dX1_look_44 (by decide) (fun c44 => ?_) (fun c44 => ?_)
          · omega
          · refine v_aload_n dX1_look_47 rfl ?_
            refine g1_kept dX1_look_48 ?_
            refine v_iload_n dX1_look_51 rfl ?_
            refine v_aload_n dX1_look_52 rfl ?_
            refine g1_bound dX1_look_53 ?_
            refine v_iload_n dX1_look_56 rfl ?_
            refine l1_bound dX1_look_57 (by omega) (σ 7 0) rfl ?_
            refine s1_kept dX1_look_58 (by omega) ?_
            refine v_iinc (lv1 := [(0, rH κ), (1, .inl t), (2, .inl v), (3, .inl (0 + 1))]) dX1_look_59 rfl (fun hw9 => (by omega)) (noL_of rfl) (by decide) rfl ?_
            refine v_goto (tgt := 42) dX1_look_62 (by decide) ?_
            refine v_iload_n dX1_look_42 rfl ?_
            refine v_iconst 3 dX1_look_43 (by decide) (by decide) ?_
            refine v_icmp_ge (tgt := 65) dX1_look_44 (by decide) (fun c44 => ?_) (fun c44 => ?_)
            · omega
            · refine v_aload_n dX1_look_47 rfl ?_
              refine g1_kept dX1_look_48 ?_
              refine v_iload_n dX1_look_51 rfl ?_
              refine v_aload_n dX1_look_52 rfl ?_
              refine g1_bound dX1_look_53 ?_
              refine v_iload_n dX1_look_56 rfl ?_
              refine l1_bound dX1_look_57 (by omega) (σ 7 (0 + 1)) rfl ?_
              refine s1_kept dX1_look_58 (by omega) ?_
              refine v_iinc (lv1 := [(0, rH κ), (1, .inl t), (2, .inl v), (3, .inl (0 + 1 + 1))]) dX1_look_59 rfl (fun hw9 => (by omega)) (noL_of rfl) (by decide) rfl ?_
              refine v_goto (tgt := 42) dX1_look_62 (by decide) ?_
              refine v_iload_n dX1_look_42 rfl ?_
              refine v_iconst 3 dX1_look_43 (by decide) (by decide) ?_
              refine v_icmp_ge (tgt := 65) dX1_look_44 (by decide) (fun c44 => ?_) (fun c44 => ?_)
              · omega
              · refine v_aload_n dX1_look_47 rfl ?_
                refine g1_kept dX1_look_48 ?_
                refine v_iload_n dX1_look_51 rfl ?_
                refine v_aload_n dX1_look_52 rfl ?_
                refine g1_bound dX1_look_53 ?_
                refine v_iload_n dX1_look_56 rfl ?_
                refine l1_bound dX1_look_57 (by omega) (σ 7 (0 + 1 + 1)) rfl ?_
                refine s1_kept dX1_look_58 (by omega) ?_
                refine v_iinc (lv1 := [(0, rH κ), (1, .inl t), (2, .inl v), (3, .inl (0 + 1 + 1 + 1))]) dX1_look_59 rfl (fun hw9 => (by omega)) (noL_of rfl) (by decide) rfl ?_
                refine v_goto (tgt := 42) dX1_look_62 (by decide) ?_
                refine v_iload_n dX1_look_42 rfl ?_
                refine v_iconst 3 dX1_look_43 (by decide) (by decide) ?_
                refine v_icmp_ge (tgt := 65) dX1_look_44 (by decide) (fun c44 => ?_) (fun c44 => ?_)
                · refine v_aload_n dX1_look_65 rfl ?_
                  refine v_dup dX1_look_66 rfl ?_
                  refine g1_found dX1_look_67 (σ 12 0) rfl ?_
                  refine v_iconst 1 dX1_look_70 (by decide) (by decide) ?_
                  refine v_iadd dX1_look_71 (fun _ _ => (by omega)) ?_
                  refine p1_found dX1_look_72 ?_
                  exact hret _ _ _ dX1_look_75 ⟨(Ag2.up (Ag2.up (Ag2.up (Ag2.up (Ag2.up (Ag2.upA σ S) (by decide)) (by decide)) (by decide)) (by decide)) (by decide)), fun h => by omega, fun _ => ⟨by rw [if_pos (by omega)]; rfl, rfl, ⟨fun _ u u0 u2 => by
                    rcases (show u = 0 ∨ u = 1 ∨ u = 2 by omega) with e | e | e
                    · rw [e]; rfl
                    · rw [e]; rfl
                    · rw [e]; rfl, fun h => absurd c37 h⟩⟩⟩
                · omega
  · exact hret _ _ _ dX1_look_9 ⟨Ag2.upA σ S, fun _ => ⟨rfl, rfl, rfl⟩, fun h => by omega⟩
end
section
set_option maxRecDepth 100000
/-- of the model's state -/
abbrev HA1 (σ : Sg) (t X : Int) : Prop := HA (σ 0 0) (σ 1) (σ 2) (σ 3) (σ 4) (tk1 σ) t X
noncomputable abbrev MN1 (σ : Sg) (t : Int) : Int := MatchN (σ 0 0) (σ 1) (σ 2) (σ 3) (σ 4) (tk1 σ) t
abbrev BP1 (σ : Sg) (k v r : Int) : Prop := BindP (σ 0 0) (σ 1) (σ 2) (σ 3) (σ 4) (tk1 σ) k v r
/-- the search's state before the choice X -/
def SI (σ : Sg) (t wt X : Int) (ρ : Sg) : Prop := (∀ k, k < 7 → ρ k = σ k) ∧ ρ 10 0 = wt ∧ ρ 11 0 = cntI (hB (HA1 σ t)) X ∧ ρ 12 0 = cntI (hB (HA1 σ (-1))) X ∧ ∀ Y, 0 ≤ Y → Y < X → HA1 σ (-1) Y → cntI (hB (HA1 σ (-1))) Y = wt → ∀ u, 0 ≤ u → u ≤ 2 → ρ 8 u = dec u Y
theorem SI_no {σ ρ : Sg} {t wt X : Int} (x0 : 0 ≤ X) (h : SI σ t wt X ρ) (hn : ¬ trX (σ 0 0) (σ 4) (tk1 σ) X) : SI σ t wt (X + 1) ρ := by
  obtain ⟨a, b, c, d, e⟩ := h
  have n1 : ∀ t, ¬ hB (HA1 σ t) X = true := fun t h => hn (hB_t.mp h).1
  refine ⟨a, b, ?_, ?_, fun Y y0 y1 hy => ?_⟩
  · rw [cntI_s _ x0, if_neg (n1 t), c]; omega
  · rw [cntI_s _ x0, if_neg (n1 (-1)), d]; omega
  · by_cases ey : Y = X
    · rw [ey] at hy; exact absurd hy.1 hn
    · exact e Y y0 (by omega) hy
theorem SI_yes {σ ρ ρ2 ρ3 : Sg} {t wt X : Int} (x0 : 0 ≤ X) (h : SI σ t wt X ρ) (htr : trX (σ 0 0) (σ 4) (tk1 σ) X) (h2 : ∀ k, k ≠ 7 → ρ2 k = ρ k) (hb : ∀ v, 0 ≤ v → v ≤ 2 → ρ2 7 v = dec v X) (hv : vl1 ρ2 = valX (σ 0 0) (σ 1) (σ 2) (σ 3) (σ 4) (tk1 σ) X)
    (h3 : Ag2 ρ2 ρ3 ∧ (vl1 ρ2 < 0 → ρ3 11 0 = ρ2 11 0 ∧ ρ3 12 0 = ρ2 12 0 ∧ ρ3 8 = ρ2 8) ∧ (0 ≤ vl1 ρ2 → ρ3 11 0 = ρ2 11 0 + (if t < 0 ∨ vl1 ρ2 = t then 1 else 0) ∧ ρ3 12 0 = ρ2 12 0 + 1 ∧ (ρ2 12 0 = ρ2 10 0 → ∀ u, 0 ≤ u → u ≤ 2 → ρ3 8 u = ρ2 7 u) ∧ (ρ2 12 0 ≠ ρ2 10 0 → ρ3 8 = ρ2 8))) : SI σ t wt (X + 1) ρ3 := by
  obtain ⟨a, b, c, d, e⟩ := h
  obtain ⟨p1, p2, p3⟩ := h3
  have hlo : ∀ k, k < 7 → ρ3 k = σ k := fun k hk => (p1 k (by omega) (by omega) (by omega) (by omega)).trans ((h2 k (by omega)).trans (a k hk))
  have h10 : ρ3 10 0 = wt := by rw [p1 10 (by decide) (by decide) (by decide) (by decide), h2 10 (by decide)]; exact b
  rw [h2 11 (by decide), h2 12 (by decide), h2 8 (by decide)] at p2
  rw [h2 11 (by decide), h2 12 (by decide), h2 8 (by decide), h2 10 (by decide), b] at p3
  by_cases hneg : vl1 ρ2 < 0
  · obtain ⟨q1, q2, q3⟩ := p2 hneg
    have n1 : ∀ t, ¬ HA1 σ t X := fun t h => by have := h.2.1; omega
    refine ⟨hlo, h10, ?_, ?_, fun Y y0 y1 hy => ?_⟩
    · rw [cntI_s _ x0, if_neg (fun h => n1 t (hB_t.mp h)), q1, c]; omega
    · rw [cntI_s _ x0, if_neg (fun h => n1 (-1) (hB_t.mp h)), q2, d]; omega
    · by_cases ey : Y = X
      · rw [ey] at hy; exact absurd hy (n1 (-1))
      · rw [q3]; exact e Y y0 (by omega) hy
  · obtain ⟨q1, q2, q3, q4⟩ := p3 (by omega)
    have y1 : HA1 σ (-1) X := ⟨htr, by omega, Or.inl (by omega)⟩
    refine ⟨hlo, h10, ?_, ?_, fun Y y0 y1 hy hc u u0 u2 => ?_⟩
    · rw [cntI_s _ x0, q1, c]
      congr 1
      by_cases ht : t < 0 ∨ vl1 ρ2 = t
      · rw [if_pos ht, if_pos (hB_t.mpr ⟨htr, by omega, by omega⟩)]
      · rw [if_neg ht, if_neg (fun h => ht (by have := (hB_t.mp h).2.2; omega))]
    · rw [cntI_s _ x0, q2, d, if_pos (hB_t.mpr y1)]
    · by_cases ey : Y = X
      · rw [ey] at hc ⊢
        rw [q3 (by rw [d, hc]) u u0 u2]
        exact hb u u0 u2
      · have hlt := cntI_hit (B := hB (HA1 σ (-1))) y0 (show Y < X by omega) (hB_t.mpr hy)
        rw [q4 (by rw [d]; omega)]
        exact e Y y0 (by omega) hy hc u u0 u2
theorem trX_of {n : Int} {ld tk : Int → Int} {tc k m : Int} (hk : 0 ≤ k ∧ k < 400) (hm : 0 ≤ m ∧ m < 20) : trX n ld (toks tk tc) (20 * k + m) ↔ (trP n ld tk tc 0 (k / 20) ∧ trP n ld tk tc 1 (k % 20) ∧ trP n ld tk tc 2 m) := by
  have d := dec_X hk hm
  unfold trX
  rw [d.1, d.2.1, d.2.2, trP_L, trP_L, trP_L]
theorem ct1_search (t wt : Int) (σ : Sg) (hP : PIC (σ 0 0) (σ 1) (σ 2) (σ 3) (σ 4)) (h0 : 0 ≤ σ 5 0) (h7 : σ 5 0 ≤ 7) (hts : ∀ t ∈ tk1 σ, tokOk t) : CtV w1 yX1_search cX1_search 5 3 73 [t, wt] σ (fun σ1 => (∀ k, k < 7 → σ1 k = σ k) ∧ σ1 11 0 = MN1 σ t ∧ σ1 12 0 = MN1 σ (-1) ∧ ∀ X, 0 ≤ X → X < 8000 → HA1 σ (-1) X → cntI (hB (HA1 σ (-1))) X = wt → ∀ u, 0 ≤ u → u ≤ 2 → σ1 8 u = dec u X) := by
  refine ct_void (by decide +kernel) rfl (Nat.le_of_ble_eq_true rfl) (fun κ hret => ?_)
  have n20 : σ 0 0 ≤ 20 := hP.1.2.1
  have htok : ∀ i, 0 ≤ i → i < σ 5 0 → tokOk (σ 6 i) := fun i a b => hts _ (toks_mem.mpr ⟨i, a, b, rfl⟩)
  have hfin : ∀ ρ, SI σ t wt 8000 ρ → (∀ k, k < 7 → ρ k = σ k) ∧ ρ 11 0 = MN1 σ t ∧ ρ 12 0 = MN1 σ (-1) ∧ ∀ X, 0 ≤ X → X < 8000 → HA1 σ (-1) X → cntI (hB (HA1 σ (-1))) X = wt → ∀ u, 0 ≤ u → u ≤ 2 → ρ 8 u = dec u X := fun ρ h => ⟨h.1, h.2.2.1, h.2.2.2.1, h.2.2.2.2⟩
  have loop : ∀ (d : Nat) (k m : Int) (ρ : Sg), 0 ≤ k → k < 400 → 0 ≤ m → m ≤ 20 → SI σ t wt (20 * k + m) ρ → ((400 - k) * 21 - m).toNat < d → V w1 κ (rmO 3 73) cX1_search 5 ρ [(0, rH κ), (1, .inl t), (2, .inl wt), (3, .inl k), (4, .inl m)] 27 [] := by
    intro d
    induction d with
    | zero => intros; omega
    | succ d ih =>
      intro k m ρ hk0 hk1 hm0 hm1 hI hd
      refine v_iload dX1_search_27 rfl ?_
      refine v_bipush 20 dX1_search_29 (by decide) (by decide) ?_
      refine v_icmp_ge (tgt := 107) dX1_search_31 (by decide) (fun c31 => ?_) (fun c31 => ?_)
      · refine v_iinc (lv1 := [(0, rH κ), (1, .inl t), (2, .inl wt), (3, .inl (k + 1)), (4, .inl m)]) dX1_search_107 rfl (fun hw9 => (by omega)) (noL_of rfl) (by decide) rfl ?_
        refine v_goto (tgt := 17) dX1_search_110 (by decide) ?_
        refine v_iload_n dX1_search_17 rfl ?_
        refine v_sipush 400 dX1_search_18 (by decide) (by decide) ?_
        refine v_icmp_ge (tgt := 113) dX1_search_21 (by decide) (fun c21 => ?_) (fun c21 => ?_)
        · exact hret _ _ _ dX1_search_113 (hfin ρ (by rw [← show 20 * k + m = 8000 by omega]; exact hI))
        · refine v_iconst 0 dX1_search_24 (by decide) (by decide) ?_
          refine v_istore (lv1 := [(0, rH κ), (1, .inl t), (2, .inl wt), (3, .inl (k + 1)), (4, .inl 0)]) dX1_search_25 (noL_of rfl) (by decide) rfl ?_
          exact ih _ _ _ (by omega) (by omega) (by omega) (by omega) (by rw [show 20 * (k + 1) + 0 = 20 * k + m by omega]; exact hI) (by omega)
      · have hL := hI.1
        have b1 := cntI_b (hB (HA1 σ t)) (i := 20 * k + m) (by omega)
        have b2 := cntI_b (hB (HA1 σ (-1))) (i := 20 * k + m) (by omega)
        have hx := trX_of (n := σ 0 0) (ld := σ 4) (tk := σ 6) (tc := σ 5 0) (k := k) (m := m) ⟨by omega, by omega⟩ ⟨by omega, by omega⟩
        refine v_aload_n dX1_search_34 rfl ?_
        refine v_iconst 0 dX1_search_35 (by decide) (by decide) ?_
        refine v_iload_n dX1_search_36 rfl ?_
        refine v_bipush 20 dX1_search_37 (by decide) (by decide) ?_
        refine v_idiv dX1_search_39 (by omega) (by omega) ?_
        refine c1_tried (rest := []) dX1_search_40 (ct1_tried 0 (k / 20) ρ (by rw [hL 5 (by decide)]; exact h0) (by rw [hL 5 (by decide)]; exact h7) (by rw [hL 0 (by decide)]; exact n20) ⟨by omega, by omega⟩) rfl (by decide) rfl (by decide) (fun r1 τ1 h1 => ?_)
        obtain ⟨u1, e1⟩ := h1
        subst u1
        rw [hL 0 (by decide), hL 4 (by decide), hL 5 (by decide), hL 6 (by decide)] at e1
        refine v_if_eq (tgt := 101) dX1_search_43 (by decide) (fun c43 => ?_) (fun c43 => ?_)
        · refine v_iinc (lv1 := [(0, rH κ), (1, .inl t), (2, .inl wt), (3, .inl k), (4, .inl (m + 1))]) dX1_search_101 rfl (fun hw9 => (by omega)) (noL_of rfl) (by decide) rfl ?_
          refine v_goto (tgt := 27) dX1_search_104 (by decide) ?_
          exact ih _ _ _ (by omega) (by omega) (by omega) (by omega) (by
            rw [show 20 * k + (m + 1) = 20 * k + m + 1 by omega]; 
            exact SI_no (by omega) hI (fun h => e1.elim (fun q => absurd (q.1.symm.trans c43) (by decide)) (fun q => q.2 ((fun h => h.1) (hx.mp h))))) (by omega)
        · refine v_aload_n dX1_search_46 rfl ?_
          refine v_iconst 1 dX1_search_47 (by decide) (by decide) ?_
          refine v_iload_n dX1_search_48 rfl ?_
          refine v_bipush 20 dX1_search_49 (by decide) (by decide) ?_
          refine v_irem dX1_search_51 (by omega) (by omega) ?_
          refine c1_tried (rest := []) dX1_search_52 (ct1_tried 1 (k % 20) τ1 (by rw [hL 5 (by decide)]; exact h0) (by rw [hL 5 (by decide)]; exact h7) (by rw [hL 0 (by decide)]; exact n20) ⟨by omega, by omega⟩) rfl (by decide) rfl (by decide) (fun r2 τ2 h2 => ?_)
          obtain ⟨u2, e2⟩ := h2
          subst u2
          rw [hL 0 (by decide), hL 4 (by decide), hL 5 (by decide), hL 6 (by decide)] at e2
          refine v_if_eq (tgt := 101) dX1_search_55 (by decide) (fun c55 => ?_) (fun c55 => ?_)
          · refine v_iinc (lv1 := [(0, rH κ), (1, .inl t), (2, .inl wt), (3, .inl k), (4, .inl (m + 1))]) dX1_search_101 rfl (fun hw9 => (by omega)) (noL_of rfl) (by decide) rfl ?_
            refine v_goto (tgt := 27) dX1_search_104 (by decide) ?_
            exact ih _ _ _ (by omega) (by omega) (by omega) (by omega) (by
              rw [show 20 * k + (m + 1) = 20 * k + m + 1 by omega]; 
              exact SI_no (by omega) hI (fun h => e2.elim (fun q => absurd (q.1.symm.trans c55) (by decide)) (fun q => q.2 ((fun h => h.2.1) (hx.mp h))))) (by omega)
          · refine v_aload_n dX1_search_58 rfl ?_
            refine v_iconst 2 dX1_search_59 (by decide) (by decide) ?_
            refine v_iload dX1_search_60 rfl ?_
            refine c1_tried (rest := []) dX1_search_62 (ct1_tried 2 m τ2 (by rw [hL 5 (by decide)]; exact h0) (by rw [hL 5 (by decide)]; exact h7) (by rw [hL 0 (by decide)]; exact n20) ⟨by omega, by omega⟩) rfl (by decide) rfl (by decide) (fun r3 τ3 h3 => ?_)
            obtain ⟨u3, e3⟩ := h3
            subst u3
            rw [hL 0 (by decide), hL 4 (by decide), hL 5 (by decide), hL 6 (by decide)] at e3
            refine v_if_eq (tgt := 101) dX1_search_65 (by decide) (fun c65 => ?_) (fun c65 => ?_)
            · refine v_iinc (lv1 := [(0, rH κ), (1, .inl t), (2, .inl wt), (3, .inl k), (4, .inl (m + 1))]) dX1_search_101 rfl (fun hw9 => (by omega)) (noL_of rfl) (by decide) rfl ?_
              refine v_goto (tgt := 27) dX1_search_104 (by decide) ?_
              exact ih _ _ _ (by omega) (by omega) (by omega) (by omega) (by
                rw [show 20 * k + (m + 1) = 20 * k + m + 1 by omega]; 
                exact SI_no (by omega) hI (fun h => e3.elim (fun q => absurd (q.1.symm.trans c65) (by decide)) (fun q => q.2 ((fun h => h.2.2) (hx.mp h))))) (by omega)
            · have htr := hx.mpr ⟨e1.elim (fun q => q.2) (fun q => absurd q.1 c43), e2.elim (fun q => q.2) (fun q => absurd q.1 c55), e3.elim (fun q => q.2) (fun q => absurd q.1 c65)⟩
              refine v_aload_n dX1_search_68 rfl ?_
              refine g1_bound dX1_search_69 ?_
              refine v_iconst 0 dX1_search_72 (by decide) (by decide) ?_
              refine v_iload_n dX1_search_73 rfl ?_
              refine v_bipush 20 dX1_search_74 (by decide) (by decide) ?_
              refine v_idiv dX1_search_76 (by omega) (by omega) ?_
              refine s1_bound dX1_search_77 (by omega) ?_
              refine v_aload_n dX1_search_78 rfl ?_
              refine g1_bound dX1_search_79 ?_
              refine v_iconst 1 dX1_search_82 (by decide) (by decide) ?_
              refine v_iload_n dX1_search_83 rfl ?_
              refine v_bipush 20 dX1_search_84 (by decide) (by decide) ?_
              refine v_irem dX1_search_86 (by omega) (by omega) ?_
              refine s1_bound dX1_search_87 (by omega) ?_
              refine v_aload_n dX1_search_88 rfl ?_
              refine g1_bound dX1_search_89 ?_
              refine v_iconst 2 dX1_search_92 (by decide) (by decide) ?_
              refine v_iload dX1_search_93 rfl ?_
              refine s1_bound dX1_search_95 (by omega) ?_
              refine v_aload_n dX1_search_96 rfl ?_
              refine v_iload_n dX1_search_97 rfl ?_
              refine c1_look (rest := []) dX1_search_98 (ct1_look t (up (up (up τ3 7 0 (k / 20)) 7 1 (k % 20)) 7 2 m) (show GOK (τ3 0 0) (τ3 1) (τ3 2) (τ3 3) by rw [hL 0 (by decide), hL 1 (by decide), hL 2 (by decide), hL 3 (by decide)]; exact hP.1) (show 0 ≤ τ3 5 0 by rw [hL 5 (by decide)]; exact h0) (show τ3 5 0 ≤ 7 by rw [hL 5 (by decide)]; exact h7) (show ∀ i, 0 ≤ i → i < τ3 5 0 → tokOk (τ3 6 i) by rw [hL 5 (by decide), hL 6 (by decide)]; exact htok) (show 0 ≤ τ3 11 0 ∧ τ3 11 0 < 100000 by rw [hI.2.2.1]; omega) (show 0 ≤ τ3 12 0 ∧ τ3 12 0 < 100000 by rw [hI.2.2.2.1]; omega)) rfl (by decide) rfl (by decide) (fun τ4 h8 => ?_)
              refine v_iinc (lv1 := [(0, rH κ), (1, .inl t), (2, .inl wt), (3, .inl k), (4, .inl (m + 1))]) dX1_search_101 rfl (fun hw9 => (by omega)) (noL_of rfl) (by decide) rfl ?_
              refine v_goto (tgt := 27) dX1_search_104 (by decide) ?_
              exact ih _ _ _ (by omega) (by omega) (by omega) (by omega) (by
                rw [show 20 * k + (m + 1) = 20 * k + m + 1 by omega]; 
                have dX := dec_X (k := k) (m := m) ⟨by omega, by omega⟩ ⟨by omega, by omega⟩
                have hbd : ∀ v, 0 ≤ v → v ≤ 2 → up (up (up τ3 7 0 (k / 20)) 7 1 (k % 20)) 7 2 m 7 v = dec v (20 * k + m) := fun v v0 v2 => by
                  rcases (show v = 0 ∨ v = 1 ∨ v = 2 by omega) with e | e | e
                  · rw [e, dX.1]; rfl
                  · rw [e, dX.2.1]; rfl
                  · rw [e, dX.2.2]; rfl
                have h27 : ∀ k1, k1 ≠ 7 → up (up (up τ3 7 0 (k / 20)) 7 1 (k % 20)) 7 2 m k1 = τ3 k1 := fun k1 h => (up_o _ _ _ h).trans ((up_o _ _ _ h).trans (up_o _ _ _ h))
                exact SI_yes (by omega) hI htr h27 hbd (vl1_X (fun k1 h => (h27 k1 (by omega)).trans (hL k1 h)) hts hbd) h8) (by omega)
  refine v_aload_n dX1_search_0 rfl ?_
  refine v_iload_n dX1_search_1 rfl ?_
  refine p1_wanted dX1_search_2 ?_
  refine v_aload_n dX1_search_5 rfl ?_
  refine v_iconst 0 dX1_search_6 (by decide) (by decide) ?_
  refine p1_counted dX1_search_7 ?_
  refine v_aload_n dX1_search_10 rfl ?_
  refine v_iconst 0 dX1_search_11 (by decide) (by decide) ?_
  refine p1_found dX1_search_12 ?_
  refine v_iconst 0 dX1_search_15 (by decide) (by decide) ?_
  refine v_istore_n (lv1 := [(0, rH κ), (1, .inl t), (2, .inl wt), (3, .inl 0)]) dX1_search_16 (noL_of rfl) (by decide) rfl ?_
  refine v_iload_n dX1_search_17 rfl ?_
  refine v_sipush 400 dX1_search_18 (by decide) (by decide) ?_
  refine v_icmp_ge (tgt := 113) dX1_search_21 (by decide) (fun c21 => ?_) (fun c21 => ?_)
  · omega
  · refine v_iconst 0 dX1_search_24 (by decide) (by decide) ?_
    refine v_istore (lv1 := [(0, rH κ), (1, .inl t), (2, .inl wt), (3, .inl 0), (4, .inl 0)]) dX1_search_25 (noL_of rfl) (by decide) rfl ?_
    exact loop 8500 0 0 _ (by omega) (by omega) (by omega) (by omega) ⟨fun k hk => (up_o _ _ _ (by omega)).trans ((up_o _ _ _ (by omega)).trans (up_o _ _ _ (by omega))), rfl, rfl, rfl, fun Y y0 y1 => by omega⟩ (by omega)
theorem ct1_matches (σ : Sg) (hP : PIC (σ 0 0) (σ 1) (σ 2) (σ 3) (σ 4)) (h0 : 0 ≤ σ 5 0) (h7 : σ 5 0 ≤ 7) (hts : ∀ t ∈ tk1 σ, tokOk t) : Ct w1 yX1_matches cX1_matches 1 (some .int) 4 97 [] σ (fun r σ1 => (∀ k, k < 7 → σ1 k = σ k) ∧ ((r = -3 ∧ ¬ fw (tk1 σ) 1) ∨ (fw (tk1 σ) 1 ∧ r = MN1 σ (-1)))) := by
  refine ct_int (by decide +kernel) rfl (Nat.le_of_ble_eq_true rfl) (fun κ hret => ?_)
  refine v_aload_n dX1_matches_0 rfl ?_
  refine c1_whole (rest := []) dX1_matches_1 (ct1_whole σ h0 h7) rfl (by decide) rfl (by decide) (fun r2 τ h2 => ?_)
  obtain ⟨u2, e2⟩ := h2
  subst u2
  refine v_if_ne (tgt := 10) dX1_matches_4 (by decide) (fun c4 => ?_) (fun c4 => ?_)
  · have hf : fw (tk1 τ) 1 := (fw_tm (tk1 τ) 1 hts (by omega)).mpr (e2.elim (fun q => q.2) (fun q => absurd q.1 c4))
    refine v_aload_n dX1_matches_10 rfl ?_
    refine v_iconst (-1) dX1_matches_11 (by decide) (by decide) ?_
    refine v_iconst (-1) dX1_matches_12 (by decide) (by decide) ?_
    refine c1_search (rest := []) dX1_matches_13 (ct1_search (-1) (-1) τ hP h0 h7 hts) rfl (by decide) rfl (by decide) (fun τ4 h3 => ?_)
    obtain ⟨q1, q2, q3, q4⟩ := h3
    refine v_aload_n dX1_matches_16 rfl ?_
    refine g1_counted dX1_matches_17 (τ4 11 0) rfl ?_
    exact hret _ _ _ _ dX1_matches_20 ⟨q1, Or.inr ⟨hf, q2⟩⟩
  · refine v_bipush (-3) dX1_matches_7 (by decide) (by decide) ?_
    exact hret _ _ _ _ dX1_matches_9 ⟨fun _ _ => rfl, Or.inl ⟨rfl, fun h => by have h := (fw_tm (tk1 τ) 1 hts (by omega)).mp h; exact e2.elim (fun q => absurd (q.1.symm.trans c4) (by decide)) (fun q => q.2 h)⟩⟩
theorem ct1_matchesAt (a : Int) (σ : Sg) (hP : PIC (σ 0 0) (σ 1) (σ 2) (σ 3) (σ 4)) (h0 : 0 ≤ σ 5 0) (h7 : σ 5 0 ≤ 7) (hts : ∀ t ∈ tk1 σ, tokOk t) : Ct w1 yX1_matchesAt cX1_matchesAt 2 (some .int) 4 97 [a] σ (fun r σ1 => (∀ k, k < 7 → σ1 k = σ k) ∧ ((r = -1 ∧ ¬ (0 ≤ a ∧ a < σ 0 0)) ∨ ((0 ≤ a ∧ a < σ 0 0) ∧ r = -3 ∧ ¬ fw (tk1 σ) 1) ∨ ((0 ≤ a ∧ a < σ 0 0) ∧ fw (tk1 σ) 1 ∧ r = MN1 σ (σ 4 a)))) := by
  refine ct_int (by decide +kernel) rfl (Nat.le_of_ble_eq_true rfl) (fun κ hret => ?_)
  refine v_aload_n dX1_matchesAt_0 rfl ?_
  refine v_iload_n dX1_matchesAt_1 rfl ?_
  refine c1_isNode (rest := []) dX1_matchesAt_2 (ct1_isNode a σ) rfl (by decide) rfl (by decide) (fun r9 s9 h9 => ?_)
  obtain ⟨u9, e9⟩ := h9
  subst u9
  refine v_if_ne (tgt := 10) dX1_matchesAt_5 (by decide) (fun c5 => ?_) (fun c5 => ?_)
  · have n9 : 0 ≤ a ∧ a < s9 0 0 := Classical.byContradiction fun hn => by rw [if_neg hn] at e9; omega
    refine v_aload_n dX1_matchesAt_10 rfl ?_
    refine c1_whole (rest := []) dX1_matchesAt_11 (ct1_whole s9 h0 h7) rfl (by decide) rfl (by decide) (fun r2 τ h2 => ?_)
    obtain ⟨u2, e2⟩ := h2
    subst u2
    refine v_if_ne (tgt := 20) dX1_matchesAt_14 (by decide) (fun c14 => ?_) (fun c14 => ?_)
    · have hf : fw (tk1 τ) 1 := (fw_tm (tk1 τ) 1 hts (by omega)).mpr (e2.elim (fun q => q.2) (fun q => absurd q.1 c14))
      have n20 : τ 0 0 ≤ 20 := hP.1.2.1
      refine v_aload_n dX1_matchesAt_20 rfl ?_
      refine v_aload_n dX1_matchesAt_21 rfl ?_
      refine g1_least dX1_matchesAt_22 ?_
      refine v_iload_n dX1_matchesAt_25 rfl ?_
      refine l1_least dX1_matchesAt_26 (by omega) (τ 4 a) rfl ?_
      refine v_iconst (-1) dX1_matchesAt_27 (by decide) (by decide) ?_
      refine c1_search (rest := []) dX1_matchesAt_28 (ct1_search (τ 4 a) (-1) τ hP h0 h7 hts) rfl (by decide) rfl (by decide) (fun τ4 h3 => ?_)
      obtain ⟨q1, q2, q3, q4⟩ := h3
      refine v_aload_n dX1_matchesAt_31 rfl ?_
      refine g1_counted dX1_matchesAt_32 (τ4 11 0) rfl ?_
      exact hret _ _ _ _ dX1_matchesAt_35 ⟨q1, Or.inr (Or.inr ⟨n9, hf, q2⟩)⟩
    · refine v_bipush (-3) dX1_matchesAt_17 (by decide) (by decide) ?_
      exact hret _ _ _ _ dX1_matchesAt_19 ⟨fun _ _ => rfl, Or.inr (Or.inl ⟨n9, rfl, fun h => by have h := (fw_tm (tk1 τ) 1 hts (by omega)).mp h; exact e2.elim (fun q => absurd (q.1.symm.trans c14) (by decide)) (fun q => q.2 h)⟩)⟩
  · have n9 : ¬ (0 ≤ a ∧ a < s9 0 0) := fun hn => by rw [if_pos hn] at e9; omega
    refine v_iconst (-1) dX1_matchesAt_8 (by decide) (by decide) ?_
    exact hret _ _ _ _ dX1_matchesAt_9 ⟨fun _ _ => rfl, Or.inl ⟨rfl, n9⟩⟩
theorem ct1_binding (k v : Int) (σ : Sg) (hP : PIC (σ 0 0) (σ 1) (σ 2) (σ 3) (σ 4)) (h0 : 0 ≤ σ 5 0) (h7 : σ 5 0 ≤ 7) (hts : ∀ t ∈ tk1 σ, tokOk t) : Ct w1 yX1_binding cX1_binding 3 (some .int) 4 97 [k, v] σ (fun r σ1 => (∀ k, k < 7 → σ1 k = σ k) ∧ ((r = -1 ∧ ¬ (0 ≤ v ∧ v ≤ 2)) ∨ ((0 ≤ v ∧ v ≤ 2) ∧ r = -3 ∧ ¬ (fw (tk1 σ) 1 ∧ 0 ≤ k ∧ v ∈ tk1 σ)) ∨ ((0 ≤ v ∧ v ≤ 2) ∧ (fw (tk1 σ) 1 ∧ 0 ≤ k ∧ v ∈ tk1 σ) ∧ BP1 σ k v r))) := by
  refine ct_int (by decide +kernel) rfl (Nat.le_of_ble_eq_true rfl) (fun κ hret => ?_)
  refine v_iload_n dX1_binding_0 rfl ?_
  refine v_if_lt (tgt := 9) dX1_binding_1 (by decide) (fun c1 => ?_) (fun c1 => ?_)
  · refine v_iconst (-1) dX1_binding_9 (by decide) (by decide) ?_
    exact hret _ _ _ _ dX1_binding_10 ⟨fun _ _ => rfl, Or.inl ⟨rfl, by omega⟩⟩
  · refine v_iload_n dX1_binding_4 rfl ?_
    refine v_iconst 2 dX1_binding_5 (by decide) (by decide) ?_
    refine v_icmp_le (tgt := 11) dX1_binding_6 (by decide) (fun c6 => ?_) (fun c6 => ?_)
    · have hv : 0 ≤ v ∧ v ≤ 2 := by omega
      refine v_aload_n dX1_binding_11 rfl ?_
      refine c1_whole (rest := []) dX1_binding_12 (ct1_whole σ h0 h7) rfl (by decide) rfl (by decide) (fun r2 τ h2 => ?_)
      obtain ⟨u2, e2⟩ := h2
      subst u2
      refine v_if_eq (tgt := 30) dX1_binding_15 (by decide) (fun c15 => ?_) (fun c15 => ?_)
      · refine v_bipush (-3) dX1_binding_30 (by decide) (by decide) ?_
        exact hret _ _ _ _ dX1_binding_32 ⟨fun _ _ => rfl, Or.inr (Or.inl ⟨hv, rfl, fun h9 => by have h := (fw_tm (tk1 τ) 1 hts (by omega)).mp h9.1; exact e2.elim (fun q => absurd (q.1.symm.trans c15) (by decide)) (fun q => q.2 h)⟩)⟩
      · have hf : fw (tk1 τ) 1 := (fw_tm (tk1 τ) 1 hts (by omega)).mpr (e2.elim (fun q => q.2) (fun q => absurd q.1 c15))
        refine v_aload_n dX1_binding_18 rfl ?_
        refine v_iload_n dX1_binding_19 rfl ?_
        refine c1_hasVariable (rest := []) dX1_binding_20 (ct1_hasVariable v τ h0 h7) rfl (by decide) rfl (by decide) (fun r5 s5 h5 => ?_)
        obtain ⟨u5, e5⟩ := h5
        subst u5
        rw [← toks_mem] at e5
        refine v_if_eq (tgt := 30) dX1_binding_23 (by decide) (fun c23 => ?_) (fun c23 => ?_)
        · refine v_bipush (-3) dX1_binding_30 (by decide) (by decide) ?_
          exact hret _ _ _ _ dX1_binding_32 ⟨fun _ _ => rfl, Or.inr (Or.inl ⟨hv, rfl, fun h => e5.elim (fun q => absurd (q.1.symm.trans c23) (by decide)) (fun q => q.2 h.2.2)⟩)⟩
        · have hvm : v ∈ tk1 s5 := e5.elim (fun q => q.2) (fun q => absurd q.1 c23)
          refine v_iload_n dX1_binding_26 rfl ?_
          refine v_if_ge (tgt := 33) dX1_binding_27 (by decide) (fun c27 => ?_) (fun c27 => ?_)
          · refine v_aload_n dX1_binding_33 rfl ?_
            refine v_iconst (-1) dX1_binding_34 (by decide) (by decide) ?_
            refine v_iload_n dX1_binding_35 rfl ?_
            refine c1_search (rest := []) dX1_binding_36 (ct1_search (-1) k s5 hP h0 h7 hts) rfl (by decide) rfl (by decide) (fun τ4 h3 => ?_)
            obtain ⟨q1, q2, q3, q4⟩ := h3
            refine v_aload_n dX1_binding_39 rfl ?_
            refine g1_found dX1_binding_40 (τ4 12 0) rfl ?_
            refine v_iload_n dX1_binding_43 rfl ?_
            refine v_icmp_le (tgt := 56) dX1_binding_44 (by decide) (fun c44 => ?_) (fun c44 => ?_)
            · refine v_bipush (-3) dX1_binding_56 (by decide) (by decide) ?_
              exact hret _ _ _ _ dX1_binding_58 ⟨q1, Or.inr (Or.inr ⟨hv, ⟨hf, by omega, hvm⟩, Or.inr ⟨show MN1 s5 (-1) ≤ k by omega, rfl⟩⟩)⟩
            · obtain ⟨X, x0, x1, x2, x3⟩ := cnt_find (B := hB (HA1 s5 (-1))) (k := k) (by omega) 8000 (show k < MN1 s5 (-1) by omega)
              have x1 : X < 8000 := x1
              have x4 := q4 X x0 x1 (hB_t.mp x2) x3 v hv.1 hv.2
              refine v_aload_n dX1_binding_47 rfl ?_
              refine g1_kept dX1_binding_48 ?_
              refine v_iload_n dX1_binding_51 rfl ?_
              refine l1_kept dX1_binding_52 (by omega) (τ4 8 v) rfl ?_
              refine v_goto (tgt := 58) dX1_binding_53 (by decide) ?_
              exact hret _ _ _ _ dX1_binding_58 ⟨q1, Or.inr (Or.inr ⟨hv, ⟨hf, by omega, hvm⟩, Or.inl ⟨X, x0, x1, hB_t.mp x2, x3, x4⟩⟩)⟩
          · refine v_bipush (-3) dX1_binding_30 (by decide) (by decide) ?_
            exact hret _ _ _ _ dX1_binding_32 ⟨fun _ _ => rfl, Or.inr (Or.inl ⟨hv, rfl, fun h => by omega⟩)⟩
    · refine v_iconst (-1) dX1_binding_9 (by decide) (by decide) ?_
      exact hret _ _ _ _ dX1_binding_10 ⟨fun _ _ => rfl, Or.inl ⟨rfl, by omega⟩⟩
end
section
/-! the two objects' states agree -/
def Inv (x m : Sg) : Prop := PIC (x 0 0) (KV x) (x 2) (x 3) (x 4) ∧ x 0 0 = m 0 0 ∧ same4 (x 0 0) (KV x) (x 2) (x 3) (x 4) (m 1) (m 2) (m 3) (m 4) ∧ TokI x ∧ x 8 0 = m 5 0 ∧ (∀ i, 0 ≤ i → i < x 8 0 → x 9 i = m 6 i) ∧ CmpI x
theorem Inv.pm {x m : Sg} (h : Inv x m) : PIC (m 0 0) (m 1) (m 2) (m 3) (m 4) := by
  rw [← h.2.1]
  exact pic_same h.1 h.2.2.1
theorem Inv.tk {x m : Sg} (h : Inv x m) : tk1 m = tk0 x := by
  unfold tk1 tk0 toks
  rw [← h.2.2.2.2.1]
  have h0 := h.2.2.2.1.1
  exact (sfx_congr _ _ (fun i a b => h.2.2.2.2.2.1 i a (by omega))).symm
theorem Inv.t0 {x m : Sg} (h : Inv x m) : 0 ≤ m 5 0 := by rw [← h.2.2.2.2.1]; exact h.2.2.2.1.1
theorem Inv.t7 {x m : Sg} (h : Inv x m) : m 5 0 ≤ 7 := by rw [← h.2.2.2.2.1]; exact h.2.2.2.1.2.1
theorem Inv.ts {x m : Sg} (h : Inv x m) : ∀ t ∈ tk1 m, tokOk t := by rw [h.tk]; exact h.2.2.2.1.2.2
theorem Inv.n0 {x m : Sg} (h : Inv x m) : 0 ≤ m 0 0 ∧ m 0 0 ≤ 20 := ⟨h.pm.1.1, h.pm.1.2.1⟩
theorem cmp_hi {x x' : Sg} (h : ∀ k, 8 ≤ k → x' k = x k) (hC : CmpI x) : CmpI x' := by
  unfold CmpI Cmp tk0
  rw [h 10 (by decide), h 11 (by decide), h 12 (by decide), h 14 (by decide), h 15 (by decide), h 16 (by decide), h 17 (by decide), h 8 (by decide), h 9 (by decide)]
  exact hC
theorem tok_hi {x x' : Sg} (h : ∀ k, 8 ≤ k → x' k = x k) (hT : TokI x) : TokI x' := by
  unfold TokI tk0
  rw [h 8 (by decide), h 9 (by decide)]
  exact hT
/-- the pattern's part, when the nodes' part is new -/
theorem inv_hi {x m x' m' : Sg} (h : Inv x m) (hx : ∀ k, 8 ≤ k → x' k = x k) (hm : m' 5 = m 5 ∧ m' 6 = m 6) (hP : PIC (x' 0 0) (KV x') (x' 2) (x' 3) (x' 4)) (hn : x' 0 0 = m' 0 0) (hs : same4 (x' 0 0) (KV x') (x' 2) (x' 3) (x' 4) (m' 1) (m' 2) (m' 3) (m' 4)) : Inv x' m' := by
  obtain ⟨-, -, -, a, b, c, d⟩ := h
  refine ⟨hP, hn, hs, tok_hi hx a, ?_, ?_, cmp_hi hx d⟩
  · rw [hx 8 (by decide), hm.1]; exact b
  · rw [hx 8 (by decide), hx 9 (by decide), hm.2]; exact c
theorem inv_node {x m x' m' : Sg} {s a b r r2 : Int} (h : Inv x m) (ha : argOk s a b (x 0 0)) (h0 : NodeP s a b r (x 0 0) (KV x) (x 2) (x 3) (x 4) (x' 0 0) (KV x') (x' 2) (x' 3) (x' 4) ∧ ∀ k, 5 ≤ k → x' k = x k) (h1 : NodeP s a b r2 (m 0 0) (m 1) (m 2) (m 3) (m 4) (m' 0 0) (m' 1) (m' 2) (m' 3) (m' 4) ∧ ∀ k, 5 ≤ k → m' k = m k) : r = r2 ∧ Inv x' m' := by
  have h1' := h1.1
  rw [← h.2.1] at h1'
  obtain ⟨e1, e2, e3⟩ := node_det h.1 ha h.2.2.1 h0.1 h1'
  exact ⟨e1, inv_hi h (fun k hk => h0.2 k (by omega)) ⟨h1.2 5 (by decide), h1.2 6 (by decide)⟩ (node_PIC h.1 ha h0.1) e2 e3⟩
theorem inv_constant {x m x' m' : Sg} {k r r2 : Int} (h : Inv x m) (h0 : (r = -1 ∧ x' = x ∧ ¬ (0 ≤ k ∧ k ≤ 5)) ∨ ((0 ≤ k ∧ k ≤ 5) ∧ NodeP 0 k 0 r (x 0 0) (KV x) (x 2) (x 3) (x 4) (x' 0 0) (KV x') (x' 2) (x' 3) (x' 4) ∧ ∀ k, 5 ≤ k → x' k = x k)) (h1 : (r2 = -1 ∧ m' = m ∧ ¬ (0 ≤ k ∧ k ≤ 5)) ∨ ((0 ≤ k ∧ k ≤ 5) ∧ NodeP 0 k 0 r2 (m 0 0) (m 1) (m 2) (m 3) (m 4) (m' 0 0) (m' 1) (m' 2) (m' 3) (m' 4) ∧ ∀ k, 5 ≤ k → m' k = m k)) : r = r2 ∧ Inv x' m' := by
  rcases h0 with ⟨a, b, c⟩ | ⟨a, b⟩ <;> rcases h1 with ⟨d, e, f⟩ | ⟨d, e⟩
  · rw [a, d, b, e]; exact ⟨rfl, h⟩
  · exact absurd d c
  · exact absurd a f
  · exact inv_node h (Or.inl ⟨rfl, a.1, a.2, rfl⟩) b e
theorem inv_one {x m x' m' : Sg} {a r r2 : Int} (h : Inv x m) (h0 : (r = -1 ∧ x' = x ∧ ¬ (0 ≤ a ∧ a < x 0 0)) ∨ ((0 ≤ a ∧ a < x 0 0) ∧ NodeP 1 a 0 r (x 0 0) (KV x) (x 2) (x 3) (x 4) (x' 0 0) (KV x') (x' 2) (x' 3) (x' 4) ∧ ∀ k, 5 ≤ k → x' k = x k)) (h1 : (r2 = -1 ∧ m' = m ∧ ¬ (0 ≤ a ∧ a < m 0 0)) ∨ ((0 ≤ a ∧ a < m 0 0) ∧ NodeP 1 a 0 r2 (m 0 0) (m 1) (m 2) (m 3) (m 4) (m' 0 0) (m' 1) (m' 2) (m' 3) (m' 4) ∧ ∀ k, 5 ≤ k → m' k = m k)) : r = r2 ∧ Inv x' m' := by
  have hn := h.2.1
  rcases h0 with ⟨a1, b, c⟩ | ⟨a1, b⟩ <;> rcases h1 with ⟨d, e, f⟩ | ⟨d, e⟩
  · rw [a1, d, b, e]; exact ⟨rfl, h⟩
  · exact absurd (hn ▸ d) c
  · exact absurd (hn ▸ a1) f
  · exact inv_node h (Or.inr (Or.inl ⟨rfl, a1.1, a1.2, rfl⟩)) b e
theorem inv_two {x m x' m' : Sg} {a b r r2 : Int} (h : Inv x m) (h0 : (r = -1 ∧ x' = x ∧ ¬ ((0 ≤ a ∧ a < x 0 0) ∧ 0 ≤ b ∧ b < x 0 0)) ∨ (((0 ≤ a ∧ a < x 0 0) ∧ 0 ≤ b ∧ b < x 0 0) ∧ NodeP 2 a b r (x 0 0) (KV x) (x 2) (x 3) (x 4) (x' 0 0) (KV x') (x' 2) (x' 3) (x' 4) ∧ ∀ k, 5 ≤ k → x' k = x k)) (h1 : (r2 = -1 ∧ m' = m ∧ ¬ ((0 ≤ a ∧ a < m 0 0) ∧ 0 ≤ b ∧ b < m 0 0)) ∨ (((0 ≤ a ∧ a < m 0 0) ∧ 0 ≤ b ∧ b < m 0 0) ∧ NodeP 2 a b r2 (m 0 0) (m 1) (m 2) (m 3) (m 4) (m' 0 0) (m' 1) (m' 2) (m' 3) (m' 4) ∧ ∀ k, 5 ≤ k → m' k = m k)) : r = r2 ∧ Inv x' m' := by
  have hn := h.2.1
  rcases h0 with ⟨a1, b1, c⟩ | ⟨a1, b1⟩ <;> rcases h1 with ⟨d, e, f⟩ | ⟨d, e⟩
  · rw [a1, d, b1, e]; exact ⟨rfl, h⟩
  · rw [← hn] at d; exact absurd d c
  · rw [← hn] at f; exact absurd a1 f
  · exact inv_node h (Or.inr (Or.inr ⟨rfl, a1.1.1, a1.1.2, a1.2.1, a1.2.2⟩)) b1 e
theorem clos_same {n a b : Int} {K L R ld K2 L2 R2 ld2 l : Int → Int} (hs : same4 n K L R ld K2 L2 R2 ld2) (h : Clos n K2 L2 R2 (fun i j => ld2 i = ld2 j ∨ (i = a ∧ j = b)) l) : Clos n K L R (fun i j => ld i = ld j ∨ (i = a ∧ j = b)) l := by
  obtain ⟨h1, h2, h3, h4⟩ := h
  refine ⟨h1, fun i j i0 i1 j0 j1 e => ?_, fun i j i0 i1 j0 j1 e => ?_, fun E e1 e2 e3 => ?_⟩
  · refine h2 i j i0 i1 j0 j1 ?_
    show ld2 i = ld2 j ∨ (i = a ∧ j = b)
    rw [(hs i i0 i1).2.2.2, (hs j j0 j1).2.2.2]
    exact e
  · refine h3 i j i0 i1 j0 j1 ?_
    unfold cgr
    rw [(hs i i0 i1).1, (hs j j0 j1).1, (hs i i0 i1).2.1, (hs j j0 j1).2.1, (hs i i0 i1).2.2.1, (hs j j0 j1).2.2.1]
    exact e
  · refine h4 E e1 (fun i j i0 i1 j0 j1 k1 k2 k3 k4 => ?_) (fun i j i0 i1 j0 j1 e => ?_)
    · rw [(hs i i0 i1).1] at k1 k2 k4
      rw [(hs j j0 j1).1] at k1
      rw [(hs i i0 i1).2.1, (hs j j0 j1).2.1] at k3
      rw [(hs i i0 i1).2.2.1, (hs j j0 j1).2.2.1] at k4
      exact e2 i j i0 i1 j0 j1 k1 k2 k3 k4
    · refine e3 i j i0 i1 j0 j1 ?_
      have e : ld2 i = ld2 j ∨ (i = a ∧ j = b) := e
      rw [(hs i i0 i1).2.2.2, (hs j j0 j1).2.2.2] at e
      exact e
theorem lds_cnt {n : Int} {l l2 : Int → Int} (h : ∀ j, 0 ≤ j → j < n → l j = l2 j) : cntI (lds l) n = cntI (lds l2) n := cntI_congr (fun j j0 j1 => by unfold lds; rw [h j j0 j1])
theorem inv_equate {x m x' m' : Sg} {a b r r2 : Int} (h : Inv x m) (h0 : (r = -1 ∧ x' = x ∧ ¬ ((0 ≤ a ∧ a < x 0 0) ∧ 0 ≤ b ∧ b < x 0 0)) ∨ (((0 ≤ a ∧ a < x 0 0) ∧ 0 ≤ b ∧ b < x 0 0) ∧ EqP a b r (x 0 0) (KV x) (x 2) (x 3) (x 4) (x' 4) ∧ x' 0 = x 0 ∧ x' 1 = x 1 ∧ x' 2 = x 2 ∧ x' 3 = x 3 ∧ ∀ k, 8 ≤ k → x' k = x k)) (h1 : (r2 = -1 ∧ m' = m ∧ ¬ ((0 ≤ a ∧ a < m 0 0) ∧ 0 ≤ b ∧ b < m 0 0)) ∨ (((0 ≤ a ∧ a < m 0 0) ∧ 0 ≤ b ∧ b < m 0 0) ∧ ∃ l, m' = upA m 4 l ∧ EqP a b r2 (m 0 0) (m 1) (m 2) (m 3) (m 4) l)) : r = r2 ∧ Inv x' m' := by
  have hn := h.2.1
  have hs := h.2.2.1
  rcases h0 with ⟨a1, b1, c⟩ | ⟨a1, b1⟩ <;> rcases h1 with ⟨d, e, f⟩ | ⟨d, e⟩
  · rw [a1, d, b1, e]; exact ⟨rfl, h⟩
  · rw [← hn] at d; exact absurd d c
  · rw [← hn] at f; exact absurd a1 f
  · obtain ⟨⟨p1, p2⟩, q0, q1, q2, q3, q8⟩ := b1
    obtain ⟨l, em, g1, g2⟩ := e
    rw [← hn] at g1 g2
    have g1 := clos_same hs g1
    have hu := clos_uniq p1 g1
    refine ⟨by rw [p2, g2]; exact lds_cnt hu, ?_⟩
    have m0 : m' 0 = m 0 := by rw [em]; exact upA_o _ _ (by decide)
    have m1 : m' 1 = m 1 := by rw [em]; exact upA_o _ _ (by decide)
    have m2 : m' 2 = m 2 := by rw [em]; exact upA_o _ _ (by decide)
    have m3 : m' 3 = m 3 := by rw [em]; exact upA_o _ _ (by decide)
    have m4 : m' 4 = l := by rw [em]; exact upA_s _ _ _
    have m5 : m' 5 = m 5 := by rw [em]; exact upA_o _ _ (by decide)
    have m6 : m' 6 = m 6 := by rw [em]; exact upA_o _ _ (by decide)
    refine inv_hi h q8 ⟨m5, m6⟩ ?_ (by rw [q0, m0]; exact hn) ?_
    · rw [q0, KV_of q1, q2, q3]
      exact ⟨h.1.1, p1.1, p1.2.2.1⟩
    · rw [q0, KV_of q1, q2, q3, m1, m2, m3, m4]
      intro i i0 i1
      have := hs i i0 i1
      exact ⟨this.1, this.2.1, this.2.2.1, (hu i i0 i1).symm⟩
theorem inv_leader {x m x' m' : Sg} {a r r2 : Int} (h : Inv x m) (h0 : x' = x ∧ r = if 0 ≤ a ∧ a < x 0 0 then x 4 a else -1) (h1 : m' = m ∧ r2 = if 0 ≤ a ∧ a < m 0 0 then m 4 a else -1) : r = r2 ∧ Inv x' m' := by
  obtain ⟨rfl, e0⟩ := h0
  obtain ⟨rfl, e1⟩ := h1
  refine ⟨?_, h⟩
  rw [e0, e1, ← h.2.1]
  by_cases ha : 0 ≤ a ∧ a < x' 0 0
  · rw [if_pos ha, if_pos ha, (h.2.2.1 a ha.1 ha.2).2.2.2]
  · rw [if_neg ha, if_neg ha]
theorem inv_classes {x m x' m' : Sg} {r r2 : Int} (h : Inv x m) (h0 : x' = x ∧ r = cntI (fun j => decide (x 4 j = j)) (x 0 0)) (h1 : m' = m ∧ r2 = cntI (fun j => decide (m 4 j = j)) (m 0 0)) : r = r2 ∧ Inv x' m' := by
  obtain ⟨rfl, e0⟩ := h0
  obtain ⟨rfl, e1⟩ := h1
  refine ⟨?_, h⟩
  rw [e0, e1, ← h.2.1]
  exact cntI_congr (fun j j0 j1 => by rw [(h.2.2.1 j j0 j1).2.2.2])
theorem tokI_of {x : Sg} (h0 : 0 ≤ x 8 0) (h7 : x 8 0 ≤ 7) (h : ∀ i, 0 ≤ i → i < x 8 0 → tokOk (x 9 i)) : TokI x := ⟨h0, h7, fun t ht => by
  obtain ⟨i, a, b, c⟩ := toks_mem.mp ht
  rw [← c]
  exact h i a b⟩
theorem inv_token {x m x' m' : Sg} {t r r2 : Int} (h : Inv x m) (h0 : (x 8 0 = 7 ∧ x' = x ∧ r = -2) ∨ (x 8 0 < 7 ∧ ¬ tokOk t ∧ x' = x ∧ r = -1) ∨ (x 8 0 < 7 ∧ tokOk t ∧ x' = up (up (up x 9 (x 8 0) t) 8 0 (x 8 0 + 1)) 10 0 0 ∧ r = x 8 0 + 1)) (h1 : (m 5 0 = 7 ∧ m' = m ∧ r2 = -2) ∨ (m 5 0 < 7 ∧ ¬ tokOk t ∧ m' = m ∧ r2 = -1) ∨ (m 5 0 < 7 ∧ tokOk t ∧ m' = up (up m 6 (m 5 0) t) 5 0 (m 5 0 + 1) ∧ r2 = m 5 0 + 1)) : r = r2 ∧ Inv x' m' := by
  have ht := h.2.2.2.2.1
  rcases h0 with ⟨a, b, c⟩ | ⟨a, b, c, d⟩ | ⟨a, b, c, d⟩ <;> rcases h1 with ⟨e, f, g⟩ | ⟨e, f, g, i⟩ | ⟨e, f, g, i⟩
  · rw [b, f, c, g]; exact ⟨rfl, h⟩
  · omega
  · omega
  · omega
  · rw [c, d, g, i]; exact ⟨rfl, h⟩
  · exact absurd f b
  · omega
  · exact absurd b f
  · refine ⟨by omega, ?_⟩
    obtain ⟨p1, p2, p3, p4, p5, p6, -⟩ := h
    have t0 := p4.1
    subst c g
    refine ⟨p1, p2, p3, tokI_of (show 0 ≤ x 8 0 + 1 by omega) (show x 8 0 + 1 ≤ 7 by omega) (fun j j0 j1 => ?_), show x 8 0 + 1 = m 5 0 + 1 by omega, fun j j0 j1 => ?_, fun hc => absurd rfl hc⟩
    · have j1 : j < x 8 0 + 1 := j1
      show tokOk (if j = x 8 0 then t else x 9 j)
      by_cases e1 : j = x 8 0
      · rw [if_pos e1]; exact b
      · rw [if_neg e1]; exact tokI_at p4 j0 (by omega)
    · have j1 : j < x 8 0 + 1 := j1
      show (if j = x 8 0 then t else x 9 j) = (if j = m 5 0 then t else m 6 j)
      rw [ht]
      by_cases e1 : j = m 5 0
      · rw [if_pos e1, if_pos e1]
      · rw [if_neg e1, if_neg e1]; exact p6 j j0 (by omega)
theorem inv_wipe {x m x' m' : Sg} {r r2 : Int} (h : Inv x m) (h0 : x' = up (up x 8 0 0) 10 0 0 ∧ r = x 8 0) (h1 : m' = up m 5 0 0 ∧ r2 = m 5 0) : r = r2 ∧ Inv x' m' := by
  obtain ⟨c, e0⟩ := h0
  obtain ⟨g, e1⟩ := h1
  refine ⟨by rw [e0, e1]; exact h.2.2.2.2.1, ?_⟩
  obtain ⟨p1, p2, p3, p4, p5, p6, -⟩ := h
  subst c g
  exact ⟨p1, p2, p3, tokI_of (show (0 : Int) ≤ 0 by omega) (show (0 : Int) ≤ 7 by omega) (fun j j0 j1 => absurd (show j < 0 from j1) (by omega)), rfl, fun j j0 j1 => absurd (show j < 0 from j1) (by omega), fun hc => absurd rfl hc⟩
theorem PIC_0 (K L R ld : Int → Int) : PIC 0 K L R ld := ⟨⟨by omega, by omega, fun j a b => by omega⟩, fun j a b => by omega, fun i j a b => by omega⟩
theorem inv_clear {x m x' m' : Sg} {r r2 : Int} (h : Inv x m) (h0 : x' = up x 0 0 0 ∧ r = x 0 0) (h1 : m' = up m 0 0 0 ∧ r2 = m 0 0) : r = r2 ∧ Inv x' m' := by
  obtain ⟨c, e0⟩ := h0
  obtain ⟨g, e1⟩ := h1
  refine ⟨by rw [e0, e1]; exact h.2.1, ?_⟩
  subst c g
  exact inv_hi h (fun k hk => up_o _ _ _ (by omega)) ⟨up_o _ _ _ (by decide), up_o _ _ _ (by decide)⟩ (PIC_0 _ _ _ _) rfl (fun i a b => absurd (show i < 0 from b) (by omega))
theorem inv_lo {x m x' m' : Sg} (h : Inv x m) (hx : Kp x x') (hm : ∀ k, k < 7 → m' k = m k) : Inv x' m' := by
  obtain ⟨p1, p2, p3, p4, p5, p6, -⟩ := h
  have hx1 := hx.1
  refine ⟨lo_pic hx1 p1, ?_, ?_, lo_tokI hx1 p4, ?_, ?_, hx.2⟩
  · rw [hx1 0 (by decide), hm 0 (by decide)]; exact p2
  · rw [hx1 0 (by decide), KV_of (hx1 1 (by decide)), hx1 2 (by decide), hx1 3 (by decide), hx1 4 (by decide), hm 1 (by decide), hm 2 (by decide), hm 3 (by decide), hm 4 (by decide)]; exact p3
  · rw [hx1 8 (by decide), hm 5 (by decide)]; exact p5
  · rw [hx1 8 (by decide), hx1 9 (by decide), hm 6 (by decide)]; exact p6
theorem Inv.mn {x m : Sg} (h : Inv x m) (t : Int) : MN1 m t = MN0 x t := by
  unfold MN1 MN0
  rw [h.tk, ← h.2.1]
  exact MatchN_same h.1.1 h.2.2.1 _ _
theorem inv_matches {x m x' m' : Sg} {r r2 : Int} (h : Inv x m) (h0 : Kp x x' ∧ ((r = -3 ∧ ¬ fw (tk0 x) 1) ∨ (fw (tk0 x) 1 ∧ r = MN0 x (-1)))) (h1 : (∀ k, k < 7 → m' k = m k) ∧ ((r2 = -3 ∧ ¬ fw (tk1 m) 1) ∨ (fw (tk1 m) 1 ∧ r2 = MN1 m (-1)))) : r = r2 ∧ Inv x' m' := by
  refine ⟨?_, inv_lo h h0.1 h1.1⟩
  have h1 := h1.2
  rw [h.tk, h.mn] at h1
  rcases h0.2 with ⟨a, b⟩ | ⟨a, b⟩ <;> rcases h1 with ⟨d, e⟩ | ⟨d, e⟩
  · rw [a, d]
  · exact absurd d b
  · exact absurd a e
  · rw [b, e]
theorem inv_matchesAt {x m x' m' : Sg} {a r r2 : Int} (h : Inv x m) (h0 : Kp x x' ∧ ((r = -1 ∧ ¬ (0 ≤ a ∧ a < x 0 0)) ∨ ((0 ≤ a ∧ a < x 0 0) ∧ r = -3 ∧ ¬ fw (tk0 x) 1) ∨ ((0 ≤ a ∧ a < x 0 0) ∧ fw (tk0 x) 1 ∧ r = MN0 x (x 4 a)))) (h1 : (∀ k, k < 7 → m' k = m k) ∧ ((r2 = -1 ∧ ¬ (0 ≤ a ∧ a < m 0 0)) ∨ ((0 ≤ a ∧ a < m 0 0) ∧ r2 = -3 ∧ ¬ fw (tk1 m) 1) ∨ ((0 ≤ a ∧ a < m 0 0) ∧ fw (tk1 m) 1 ∧ r2 = MN1 m (m 4 a)))) : r = r2 ∧ Inv x' m' := by
  refine ⟨?_, inv_lo h h0.1 h1.1⟩
  have h1 := h1.2
  rw [h.tk, h.mn, ← h.2.1] at h1
  rcases h0.2 with ⟨p, q⟩ | ⟨p, q, q2⟩ | ⟨p, q, q2⟩ <;> rcases h1 with ⟨d, e⟩ | ⟨d, e, f⟩ | ⟨d, e, f⟩
  · rw [p, d]
  · exact absurd d q
  · exact absurd d q
  · exact absurd p e
  · rw [q, e]
  · exact absurd e q2
  · exact absurd p e
  · exact absurd q f
  · rw [q2, f, (h.2.2.1 a p.1 p.2).2.2.2]
theorem inv_binding {x m x' m' : Sg} {k v r r2 : Int} (h : Inv x m) (h0 : Kp x x' ∧ ((r = -1 ∧ ¬ (0 ≤ v ∧ v ≤ 2)) ∨ ((0 ≤ v ∧ v ≤ 2) ∧ r = -3 ∧ ¬ (fw (tk0 x) 1 ∧ 0 ≤ k ∧ v ∈ tk0 x)) ∨ ((0 ≤ v ∧ v ≤ 2) ∧ (fw (tk0 x) 1 ∧ 0 ≤ k ∧ v ∈ tk0 x) ∧ BP0 x k v r))) (h1 : (∀ k, k < 7 → m' k = m k) ∧ ((r2 = -1 ∧ ¬ (0 ≤ v ∧ v ≤ 2)) ∨ ((0 ≤ v ∧ v ≤ 2) ∧ r2 = -3 ∧ ¬ (fw (tk1 m) 1 ∧ 0 ≤ k ∧ v ∈ tk1 m)) ∨ ((0 ≤ v ∧ v ≤ 2) ∧ (fw (tk1 m) 1 ∧ 0 ≤ k ∧ v ∈ tk1 m) ∧ BP1 m k v r2))) : r = r2 ∧ Inv x' m' := by
  refine ⟨?_, inv_lo h h0.1 h1.1⟩
  have h1 := h1.2
  have hbp : BP1 m k v r2 → BP0 x k v r2 := fun q => by
    unfold BP1 at q
    rw [h.tk, ← h.2.1] at q
    exact BindP_same h.1.1 h.2.2.1 q
  rw [h.tk] at h1
  rcases h0.2 with ⟨p, q⟩ | ⟨p, q, q2⟩ | ⟨p, q, q2⟩ <;> rcases h1 with ⟨d, e⟩ | ⟨d, e, f⟩ | ⟨d, e, f⟩
  · rw [p, d]
  · exact absurd d q
  · exact absurd d q
  · exact absurd p e
  · rw [q, e]
  · exact absurd e q2
  · exact absurd p e
  · exact absurd q f
  · exact BindP_det q2 (hbp f)
def Z0 : Sg := fun _ _ => 0
theorem inv_Z : Inv Z0 Z0 := ⟨PIC_0 _ _ _ _, rfl, fun i a b => absurd (show i < 0 from b) (by omega), tokI_of (show (0 : Int) ≤ 0 by omega) (show (0 : Int) ≤ 7 by omega) (fun j j0 j1 => absurd (show j < 0 from j1) (by omega)), rfl, fun j j0 j1 => absurd (show j < 0 from j1) (by omega), fun hc => absurd rfl hc⟩
theorem Rg_Z (w : WS) : Rg w Z0 := fun k j => ⟨fun _ => show (0 : Int) ≤ 0 ∧ (0 : Int) < 18446744073709551616 by decide, fun _ => show (-2147483648 : Int) ≤ 0 ∧ (0 : Int) ≤ 2147483647 by decide⟩
end
section
set_option maxRecDepth 100000
/-! constructors: the world while n arrays are made -/
def fsN (w : WS) (ad : Nat → Nat) (n : Nat) : List Value := (List.range w.2.1.2.2).map (fun k => if w.2.2.1 k = 0 then .int (iI 0) else if k ∈ w.2.2.2.1.take n then .ref (ad k) else .null)
def iw (w : WS) (h : Nat) (ad : Nat → Nat) (cT : Nat → ClassId) (n : Nat) : va_W := (h, .inr (w.1, fsN w ad n)) :: (w.2.2.2.1.take n).map (ceOf w ad cT Z0)
def adU (ad : Nat → Nat) (k q : Nat) : Nat → Nat := fun i => if i = k then q else ad i
theorem iw_step {w : WS} {h n k q : Nat} {ad : Nat → Nat} {cT : Nat → ClassId} (hw : WSok w) (hn : w.2.2.2.1[n]? = some k) : ((iw w h ad cT n) ++ [(q, (.inl (cT (w.2.2.2.2 k), w.2.2.1 k, ctOf w Z0 k) : va_E))]).set 0 (h, .inr (w.1, (fsN w ad n).set k (.ref q))) = iw w h (adU ad k q) cT (n + 1) := by
  have hk := List.mem_of_getElem? hn
  have hkN := (hw.2.2.2.2.2.1 k hk).1
  have hl0 := (hw.2.2.2.2.2.1 k hk).2.1
  have ht : w.2.2.2.1.take (n + 1) = w.2.2.2.1.take n ++ [k] := by rw [List.take_succ, hn]; rfl
  have hnot : k ∉ w.2.2.2.1.take n := by
    have hnd : (w.2.2.2.1.take (n + 1)).Nodup := hw.2.2.2.2.2.2.sublist (List.take_sublist _ _)
    rw [ht, List.nodup_append] at hnd
    exact fun hm => hnd.2.2 k hm k (List.mem_singleton.mpr rfl) rfl
  have hne : ∀ b ∈ w.2.2.2.1.take n, b ≠ k := fun b hb e => hnot (e ▸ hb)
  unfold iw
  show (h, .inr (w.1, (fsN w ad n).set k (.ref q))) :: ((w.2.2.2.1.take n).map (ceOf w ad cT Z0) ++ [_]) = _
  congr 1
  · have e := map_set_nd (fun k => if w.2.2.1 k = 0 then Value.int (iI 0) else if k ∈ w.2.2.2.1.take n then .ref (ad k) else .null) (fun k' => if w.2.2.1 k' = 0 then Value.int (iI 0) else if k' ∈ w.2.2.2.1.take (n + 1) then .ref (adU ad k q k') else .null) (List.range w.2.1.2.2) k k List.nodup_range (by simp [hkN]) (fun b _ hb => by
      have e1 : adU ad k q b = ad b := if_neg hb
      have e2 : b ∈ w.2.2.2.1.take (n + 1) ↔ b ∈ w.2.2.2.1.take n := by rw [ht, List.mem_append, List.mem_singleton]; exact ⟨fun z => z.elim id (fun z => absurd z hb), Or.inl⟩
      simp only [e1, e2])
    have e3 : k ∈ w.2.2.2.1.take (n + 1) := by rw [ht]; simp
    have e4 : adU ad k q k = q := if_pos rfl
    simp only [hl0, if_false, e3, if_true, e4] at e
    have e5 : (fsN w ad n).set k (.ref q) = fsN w (adU ad k q) (n + 1) := e
    rw [e5]
  · rw [ht, List.map_append]
    congr 1
    · refine List.map_congr_left (fun b hb => ?_)
      unfold ceOf
      rw [show adU ad k q b = ad b from if_neg (hne b hb)]
    · show [_] = [ceOf w (adU ad k q) cT Z0 k]
      unfold ceOf
      rw [show adU ad k q k = q from if_pos rfl]
theorem iw_all {w : WS} {h n : Nat} {ad : Nat → Nat} {cT : Nat → ClassId} (hn : w.2.2.2.1.take n = w.2.2.2.1) (ha : ∀ k, k < w.2.1.2.2 → w.2.2.1 k ≠ 0 → k ∈ w.2.2.2.1) : iw w h ad cT n = pw w h ad cT Z0 := by
  unfold iw pw fsN fsOf
  rw [hn]
  congr 3
  refine congrArg (fun z => (w.1, z)) (List.map_congr_left (fun k hk => ?_))
  by_cases h0 : w.2.2.1 k = 0
  · rw [if_pos h0, if_pos h0]; rfl
  · rw [if_neg h0, if_neg h0, if_pos (ha k (List.mem_range.mp hk) h0)]
section
variable {p : Program} {l : Launch} {e : Env} {R : Room} {s : State} {m : MethodId} {args : Array Value} {below : List Frame} {meth : Method} {c : Code} {H : Heap} {locs : List Loc} {cells slots : Nat} {Q : State → Prop} {pc : Nat} {ls : Array Slot} {rest : List Value} {A : Nat → Prop} {cc : ByteArray} {w : WS} {h n : Nat} {ad : Nat → Nat} {cT : Nat → ClassId} {D : va_G}
set_option maxHeartbeats 1000000 in
theorem ini_np {k N idx : Nat} {v : Int32} {ty fty : FieldType} {atype : ArrayType} (hw : WSok w) (hx : p.tables.exec = Jvm.exec) (hb : c.code = cc) (hts : ∀ x ∈ lw_all, x.before args s = true) (hown : s.vm.findClass w.2.1.1 = some m.cls) (hin : meth.name = "<init>") (hA : ∀ q, s.heap.size ≤ q → A q) (hK : va_K D vwCl (tysOf cT) s)
    (hn : w.2.2.2.1[n]? = some k) (hlen : w.2.2.1 k = N) (harr : Cond.arrayClass (newarray.typeOf atype) ∈ lw_all) (hty : newarray.typeOf atype = ty) (hti : (tysOf cT)[w.2.2.2.2 k]? = some (cT (w.2.2.2.2 k), ty)) (hRA : ∀ c1 c2, va_RA s c1 ty → va_RA s c2 ty → c1 = c2) (ha : ∀ cA : ClassId, vp_cell cA (N, ctOf w Z0 k) = arrV cA N (fun _ => defaultValue ty)) (hv0 : ¬ v < 0) (hvN : v.toNatClampNeg = N) (hbytes : N * componentBytes ty ≤ 536870912) (hcells : cells + 1 ≤ R.cells) (hslots : slots + N ≤ R.slots)
    (hlink : Cond.fieldLink w.2.1.1 idx w.2.1.1 (w.2.1.2.1 k).2.1 (w.2.1.2.1 k).2.2.1 ∈ lw_all) (hpd : parseFieldDescriptor (w.2.1.2.1 k).2.2.1 = some fty) (hnar : ∀ q, narrow fty (.ref q) = .ref q) (hfit : ∀ q, fits fty (.ref q) = true) (hd : decode cc pc = .ok (.newarray atype, 2)) (hd2 : decode cc (pc + 2) = .ok (.putfield idx, 3))
    (kk : ∀ (q : Nat) (H1 : Heap) (locs1 : List Loc), va_P D vwCl (iw w h (adU ad k q) cT (n + 1)) H1 → va_D A (iw w h (adU ad k q) cT (n + 1)) → va_S A s.heap H1 locs1 → W p l e R s m args below meth c H1 locs1 (cells + 1) (slots + N) Q (F0 m (pc + 5) ls rest))
    (hP : va_P D vwCl (iw w h ad cT n) H) (hD : va_D A (iw w h ad cT n)) (hS : va_S A s.heap H locs) : W p l e R s m args below meth c H locs cells slots Q (F0 m pc ls (.int v :: .ref h :: rest)) := by
  have hk := List.mem_of_getElem? hn
  have hkN := (hw.2.2.2.2.2.1 k hk).1
  obtain ⟨ty0, hty0⟩ := hw.2.2.2.1
  refine va_newa (a0 := (N, ctOf w Z0 k)) hx hb (hts _ harr) hty hK hP hD hS hA ha hv0 hvN hbytes hcells hslots hd (fun q cA H1 hK1 hP1 hD1 hS1 => ?_)
  have ecA : cA = cT (w.2.2.2.2 k) := hRA _ _ (hK1.2 3 (cA, ty) rfl).2 (hK.2 _ _ hti).2
  subst ecA
  subst hlen
  have hlf : k < (fsN w ad n).length := by unfold fsN; rw [List.length_map, List.length_range]; exact hkN
  have step := iw_step (h := h) (q := q) (ad := ad) (cT := cT) hw hn
  cases hfl : (w.2.1.2.1 k).2.2.2 with
  | false =>
    refine va_put (q0 := 0) (v := .ref q) (ty := fty) hx hb hts hw.2.1 ty0 hty0 hw.2.2.2.2.1 hown hK hP1 hD1 hS1 rfl hw.1 k hkN (hts _ hlink) (fun x hx => by rw [hw.2.2.1 k hkN] at hx; exact hx) hfl hpd (hnar q) (hfit q) hlf hd2 (fun H2 locs2 hP2 hD2 hS2 => ?_)
    have hP2 : va_P D vwCl (((iw w h ad cT n) ++ [(q, (.inl (cT (w.2.2.2.2 k), w.2.2.1 k, ctOf w Z0 k) : va_E))]).set 0 (h, .inr (w.1, (fsN w ad n).set k (.ref q)))) H2 := hP2
    have hD2 : va_D A (((iw w h ad cT n) ++ [(q, (.inl (cT (w.2.2.2.2 k), w.2.2.1 k, ctOf w Z0 k) : va_E))]).set 0 (h, .inr (w.1, (fsN w ad n).set k (.ref q)))) := hD2
    rw [step] at hP2 hD2
    exact kk q H2 locs2 hP2 hD2 hS2
  | true =>
    refine va_putF (q0 := 0) (v := .ref q) (ty := fty) hx hb hts hw.2.1 ty0 hty0 hw.2.2.2.2.1 hown hK hP1 hD1 hS1 rfl hw.1 k hkN (hts _ hlink) (fun x hx => by rw [hw.2.2.1 k hkN] at hx; exact hx) hfl hin (hw.2.2.1 k hkN) hpd (hnar q) (hfit q) hlf hd2 (fun H2 locs2 hP2 hD2 hS2 => ?_)
    have hP2 : va_P D vwCl (((iw w h ad cT n) ++ [(q, (.inl (cT (w.2.2.2.2 k), w.2.2.1 k, ctOf w Z0 k) : va_E))]).set 0 (h, .inr (w.1, (fsN w ad n).set k (.ref q)))) H2 := hP2
    have hD2 : va_D A (((iw w h ad cT n) ++ [(q, (.inl (cT (w.2.2.2.2 k), w.2.2.1 k, ctOf w Z0 k) : va_E))]).set 0 (h, .inr (w.1, (fsN w ad n).set k (.ref q)))) := hD2
    rw [step] at hP2 hD2
    exact kk q H2 locs2 hP2 hD2 hS2
theorem ini_pi {k idx : Nat} (hw : WSok w) (hx : p.tables.exec = Jvm.exec) (hb : c.code = cc) (hts : ∀ x ∈ lw_all, x.before args s = true) (hown : s.vm.findClass w.2.1.1 = some m.cls) (hK : va_K D vwCl (tysOf cT) s) (hkN : k < w.2.1.2.2) (hz : w.2.2.1 k = 0)
    (hlink : Cond.fieldLink w.2.1.1 idx w.2.1.1 (w.2.1.2.1 k).2.1 (w.2.1.2.1 k).2.2.1 ∈ lw_all) (hfl : (w.2.1.2.1 k).2.2.2 = false) (hpd : parseFieldDescriptor (w.2.1.2.1 k).2.2.1 = some .int) (hd : decode cc pc = .ok (.putfield idx, 3))
    (kk : ∀ (H1 : Heap) (locs1 : List Loc), va_P D vwCl (iw w h ad cT n) H1 → va_D A (iw w h ad cT n) → va_S A s.heap H1 locs1 → W p l e R s m args below meth c H1 locs1 cells slots Q (F0 m (pc + 3) ls rest))
    (hP : va_P D vwCl (iw w h ad cT n) H) (hD : va_D A (iw w h ad cT n)) (hS : va_S A s.heap H locs) : W p l e R s m args below meth c H locs cells slots Q (F0 m pc ls (.int (iI 0) :: .ref h :: rest)) := by
  obtain ⟨ty0, hty0⟩ := hw.2.2.2.1
  have hlf : k < (fsN w ad n).length := by unfold fsN; rw [List.length_map, List.length_range]; exact hkN
  have e := map_set_nd (fun k => if w.2.2.1 k = 0 then Value.int (iI 0) else if k ∈ w.2.2.2.1.take n then .ref (ad k) else .null) (fun k => if w.2.2.1 k = 0 then Value.int (iI 0) else if k ∈ w.2.2.2.1.take n then .ref (ad k) else .null) (List.range w.2.1.2.2) k k List.nodup_range (by simp [hkN]) (fun _ _ _ => rfl)
  simp only [hz, if_true] at e
  have e5 : (fsN w ad n).set k (.int (iI 0)) = fsN w ad n := e
  refine va_put (q0 := 0) (v := .int (iI 0)) (ty := .int) hx hb hts hw.2.1 ty0 hty0 hw.2.2.2.2.1 hown hK hP hD hS rfl hw.1 k hkN (hts _ hlink) (fun x hx => by rw [hw.2.2.1 k hkN] at hx; exact hx) hfl hpd rfl rfl hlf hd (fun H2 locs2 hP2 hD2 hS2 => ?_)
  have hP2 : va_P D vwCl ((iw w h ad cT n).set 0 (h, .inr (w.1, (fsN w ad n).set k (.int (iI 0))))) H2 := hP2
  have hD2 : va_D A ((iw w h ad cT n).set 0 (h, .inr (w.1, (fsN w ad n).set k (.int (iI 0))))) := hD2
  rw [e5] at hP2 hD2
  exact kk H2 locs2 hP2 hD2 hS2
end
/-- what a constructor is called with, and what it leaves -/
def preI (w : WS) (h : Nat) (ad : Nat → Nat) (cT : Nat → ClassId) (D : va_G) (sz : Nat) : State → Prop := fun U => U.heap.size = sz ∧ va_P D vwCl (iw w h ad cT 0) U.heap ∧ va_K D vwCl (tysOf cT) U ∧ va_D (fun _ => True) (iw w h ad cT 0)
def posI (w : WS) (h : Nat) (ad : Nat → Nat) (cT : Nat → ClassId) (D : va_G) (sz : Nat) (ad2 : Nat → Nat) : State → Prop := fun t => va_P D vwCl (pw w h ad2 cT Z0) t.heap ∧ va_K D vwCl (tysOf cT) t ∧ va_D (va_A (iw w h ad cT 0) sz) (pw w h ad2 cT Z0)
set_option maxHeartbeats 4000000 in
theorem met0_init (l : Launch) (D : va_G) (h : Nat) (ad : Nat → Nat) (cT : Nat → ClassId) (sz : Nat) : Met l yX0_init (ws_ yX0_init cX0_init 1 none) ({ frames := 1, cells := 16, slots := 667, locals := 12 }) (va_Pc [.ref h] (preI w0 h ad cT D sz)) (va_Qv (fun (_ : Nat → Nat) => True) (posI w0 h ad cT D sz) (va_A (iw w0 h ad cT 0) sz)) 16 667 (va_A (iw w0 h ad cT 0) sz) := by
  refine Met.ofW (cc := cX0_init) (maxL := 1) (ret := none) (by decide) rfl ?_
  intro p e s m args below meth c s₁ B hml hv
  obtain ⟨rfl, hsz, hP, hK, hD0⟩ := hv
  have hx := B.exec
  have hb := B.bytes
  have hr := B.returns
  have hts := atoms_spec (ws := ws_ yX0_init cX0_init 1 none) B.pre
  have hts : ∀ w ∈ lw_all, w.before _ s = true := fun w h => hts w (List.mem_cons_of_mem _ h)
  have hown : s.vm.findClass RX0 = some m.cls := findClass_of_methodNamed B.named
  have hin : meth.name = "<init>" := (name_of_methodNamed B.named B.method).1
  subst hsz
  have hD := hD0.self (sz := s.heap.size)
  generalize hAe : va_A (iw w0 h ad cT 0) s.heap.size = A at hD ⊢
  have hA : ∀ q : Nat, s.heap.size ≤ q → A q := fun q h => by rw [← hAe]; exact Or.inr h
  have hS : va_S A s.heap s.heap [] := va_S.rf
  have hl := lv_entry ([.ref h]) (n := 1) (Nat.le_of_ble_eq_true rfl)
  rw [lg_entry_eq]
  generalize (lg_sl ([.ref h]) ++ List.replicate (1 - (lg_sl ([.ref h])).length) Slot.unset).toArray = ls at hl ⊢
  have hl : lv_has ls 1 [(0, .ref h)] := hl
  refine lv_aload_n hx hb dX0_init_0 rfl (lv_at hl 0 rfl) ?_
  refine W.objInit hx hb hown (hts _ q36) (hts _ q37) (hts _ q38) rfl (by rw [hml]; exact hl.1) rfl dX0_init_1 (Nat.le_of_ble_eq_true rfl) (Nat.le_of_ble_eq_true rfl) ?_
  refine W.eq (g2 := F0 m 4 ls []) rfl ?_
  refine lv_aload_n hx hb dX0_init_4 rfl (lv_at hl 0 rfl) ?_
  refine lv_bipush (v := 20) hx hb dX0_init_5 (by decide) ?_
  refine ini_np (w := w0) (n := 0) (ad := ad) (k := 1) (N := 20) (atype := .byte) (ty := .byte) (fty := .array .byte) w0ok hx hb hts hown hin hA hK rfl rfl q109 rfl rfl (fun _ _ a b => Option.some.inj (a.symm.trans b)) (fun _ => rfl) (by decide) (by decide) (by decide) (Nat.le_of_ble_eq_true rfl) (Nat.le_of_ble_eq_true rfl) q40 (by decide +kernel) (fun _ => rfl) (fun _ => rfl) dX0_init_7 dX0_init_9 (fun q1x H locs hP hD hS => ?_) hP hD hS
  refine W.widen (k := 1) (n := 20) (Nat.le_of_ble_eq_true rfl) (Nat.le_of_ble_eq_true rfl) ?_
  refine lv_aload_n hx hb dX0_init_12 rfl (lv_at hl 0 rfl) ?_
  refine lv_bipush (v := 20) hx hb dX0_init_13 (by decide) ?_
  refine ini_np (w := w0) (n := 1) (ad := (adU ad 1 q1x)) (k := 2) (N := 20) (atype := .byte) (ty := .byte) (fty := .array .byte) w0ok hx hb hts hown hin hA hK rfl rfl q109 rfl rfl (fun _ _ a b => Option.some.inj (a.symm.trans b)) (fun _ => rfl) (by decide) (by decide) (by decide) (Nat.le_of_ble_eq_true rfl) (Nat.le_of_ble_eq_true rfl) q41 (by decide +kernel) (fun _ => rfl) (fun _ => rfl) dX0_init_15 dX0_init_17 (fun q2x H locs hP hD hS => ?_) hP hD hS
  refine W.widen (k := 2) (n := 40) (Nat.le_of_ble_eq_true rfl) (Nat.le_of_ble_eq_true rfl) ?_
  refine lv_aload_n hx hb dX0_init_20 rfl (lv_at hl 0 rfl) ?_
  refine lv_bipush (v := 20) hx hb dX0_init_21 (by decide) ?_
  refine ini_np (w := w0) (n := 2) (ad := (adU (adU ad 1 q1x) 2 q2x)) (k := 3) (N := 20) (atype := .byte) (ty := .byte) (fty := .array .byte) w0ok hx hb hts hown hin hA hK rfl rfl q109 rfl rfl (fun _ _ a b => Option.some.inj (a.symm.trans b)) (fun _ => rfl) (by decide) (by decide) (by decide) (Nat.le_of_ble_eq_true rfl) (Nat.le_of_ble_eq_true rfl) q42 (by decide +kernel) (fun _ => rfl) (fun _ => rfl) dX0_init_23 dX0_init_25 (fun q3x H locs hP hD hS => ?_) hP hD hS
  refine W.widen (k := 3) (n := 60) (Nat.le_of_ble_eq_true rfl) (Nat.le_of_ble_eq_true rfl) ?_
  refine lv_aload_n hx hb dX0_init_28 rfl (lv_at hl 0 rfl) ?_
  refine lv_bipush (v := 20) hx hb dX0_init_29 (by decide) ?_
  refine ini_np (w := w0) (n := 3) (ad := (adU (adU (adU ad 1 q1x) 2 q2x) 3 q3x)) (k := 4) (N := 20) (atype := .byte) (ty := .byte) (fty := .array .byte) w0ok hx hb hts hown hin hA hK rfl rfl q109 rfl rfl (fun _ _ a b => Option.some.inj (a.symm.trans b)) (fun _ => rfl) (by decide) (by decide) (by decide) (Nat.le_of_ble_eq_true rfl) (Nat.le_of_ble_eq_true rfl) q43 (by decide +kernel) (fun _ => rfl) (fun _ => rfl) dX0_init_31 dX0_init_33 (fun q4x H locs hP hD hS => ?_) hP hD hS
  refine W.widen (k := 4) (n := 80) (Nat.le_of_ble_eq_true rfl) (Nat.le_of_ble_eq_true rfl) ?_
  refine lv_aload_n hx hb dX0_init_36 rfl (lv_at hl 0 rfl) ?_
  refine lv_sipush (v := 190) hx hb dX0_init_37 (by decide) ?_
  refine ini_np (w := w0) (n := 4) (ad := (adU (adU (adU (adU ad 1 q1x) 2 q2x) 3 q3x) 4 q4x)) (k := 6) (N := 190) (atype := .byte) (ty := .byte) (fty := .array .byte) w0ok hx hb hts hown hin hA hK rfl rfl q109 rfl rfl (fun _ _ a b => Option.some.inj (a.symm.trans b)) (fun _ => rfl) (by decide) (by decide) (by decide) (Nat.le_of_ble_eq_true rfl) (Nat.le_of_ble_eq_true rfl) q45 (by decide +kernel) (fun _ => rfl) (fun _ => rfl) dX0_init_40 dX0_init_42 (fun q6x H locs hP hD hS => ?_) hP hD hS
  refine W.widen (k := 5) (n := 270) (Nat.le_of_ble_eq_true rfl) (Nat.le_of_ble_eq_true rfl) ?_
  refine lv_aload_n hx hb dX0_init_45 rfl (lv_at hl 0 rfl) ?_
  refine lv_sipush (v := 190) hx hb dX0_init_46 (by decide) ?_
  refine ini_np (w := w0) (n := 5) (ad := (adU (adU (adU (adU (adU ad 1 q1x) 2 q2x) 3 q3x) 4 q4x) 6 q6x)) (k := 7) (N := 190) (atype := .byte) (ty := .byte) (fty := .array .byte) w0ok hx hb hts hown hin hA hK rfl rfl q109 rfl rfl (fun _ _ a b => Option.some.inj (a.symm.trans b)) (fun _ => rfl) (by decide) (by decide) (by decide) (Nat.le_of_ble_eq_true rfl) (Nat.le_of_ble_eq_true rfl) q46 (by decide +kernel) (fun _ => rfl) (fun _ => rfl) dX0_init_49 dX0_init_51 (fun q7x H locs hP hD hS => ?_) hP hD hS
  refine W.widen (k := 6) (n := 460) (Nat.le_of_ble_eq_true rfl) (Nat.le_of_ble_eq_true rfl) ?_
  refine lv_aload_n hx hb dX0_init_54 rfl (lv_at hl 0 rfl) ?_
  refine lv_bipush (v := 7) hx hb dX0_init_55 (by decide) ?_
  refine ini_np (w := w0) (n := 6) (ad := (adU (adU (adU (adU (adU (adU ad 1 q1x) 2 q2x) 3 q3x) 4 q4x) 6 q6x) 7 q7x)) (k := 9) (N := 7) (atype := .byte) (ty := .byte) (fty := .array .byte) w0ok hx hb hts hown hin hA hK rfl rfl q109 rfl rfl (fun _ _ a b => Option.some.inj (a.symm.trans b)) (fun _ => rfl) (by decide) (by decide) (by decide) (Nat.le_of_ble_eq_true rfl) (Nat.le_of_ble_eq_true rfl) q48 (by decide +kernel) (fun _ => rfl) (fun _ => rfl) dX0_init_57 dX0_init_59 (fun q9x H locs hP hD hS => ?_) hP hD hS
  refine W.widen (k := 7) (n := 467) (Nat.le_of_ble_eq_true rfl) (Nat.le_of_ble_eq_true rfl) ?_
  refine lv_aload_n hx hb dX0_init_62 rfl (lv_at hl 0 rfl) ?_
  refine lv_bipush (v := 10) hx hb dX0_init_63 (by decide) ?_
  refine ini_np (w := w0) (n := 7) (ad := (adU (adU (adU (adU (adU (adU (adU ad 1 q1x) 2 q2x) 3 q3x) 4 q4x) 6 q6x) 7 q7x) 9 q9x)) (k := 14) (N := 10) (atype := .byte) (ty := .byte) (fty := .array .byte) w0ok hx hb hts hown hin hA hK rfl rfl q109 rfl rfl (fun _ _ a b => Option.some.inj (a.symm.trans b)) (fun _ => rfl) (by decide) (by decide) (by decide) (Nat.le_of_ble_eq_true rfl) (Nat.le_of_ble_eq_true rfl) q53 (by decide +kernel) (fun _ => rfl) (fun _ => rfl) dX0_init_65 dX0_init_67 (fun q14x H locs hP hD hS => ?_) hP hD hS
  refine W.widen (k := 8) (n := 477) (Nat.le_of_ble_eq_true rfl) (Nat.le_of_ble_eq_true rfl) ?_
  refine lv_aload_n hx hb dX0_init_70 rfl (lv_at hl 0 rfl) ?_
  refine lv_bipush (v := 10) hx hb dX0_init_71 (by decide) ?_
  refine ini_np (w := w0) (n := 8) (ad := (adU (adU (adU (adU (adU (adU (adU (adU ad 1 q1x) 2 q2x) 3 q3x) 4 q4x) 6 q6x) 7 q7x) 9 q9x) 14 q14x)) (k := 15) (N := 10) (atype := .byte) (ty := .byte) (fty := .array .byte) w0ok hx hb hts hown hin hA hK rfl rfl q109 rfl rfl (fun _ _ a b => Option.some.inj (a.symm.trans b)) (fun _ => rfl) (by decide) (by decide) (by decide) (Nat.le_of_ble_eq_true rfl) (Nat.le_of_ble_eq_true rfl) q54 (by decide +kernel) (fun _ => rfl) (fun _ => rfl) dX0_init_73 dX0_init_75 (fun q15x H locs hP hD hS => ?_) hP hD hS
  refine W.widen (k := 9) (n := 487) (Nat.le_of_ble_eq_true rfl) (Nat.le_of_ble_eq_true rfl) ?_
  refine lv_aload_n hx hb dX0_init_78 rfl (lv_at hl 0 rfl) ?_
  refine lv_bipush (v := 10) hx hb dX0_init_79 (by decide) ?_
  refine ini_np (w := w0) (n := 9) (ad := (adU (adU (adU (adU (adU (adU (adU (adU (adU ad 1 q1x) 2 q2x) 3 q3x) 4 q4x) 6 q6x) 7 q7x) 9 q9x) 14 q14x) 15 q15x)) (k := 16) (N := 10) (atype := .byte) (ty := .byte) (fty := .array .byte) w0ok hx hb hts hown hin hA hK rfl rfl q109 rfl rfl (fun _ _ a b => Option.some.inj (a.symm.trans b)) (fun _ => rfl) (by decide) (by decide) (by decide) (Nat.le_of_ble_eq_true rfl) (Nat.le_of_ble_eq_true rfl) q55 (by decide +kernel) (fun _ => rfl) (fun _ => rfl) dX0_init_81 dX0_init_83 (fun q16x H locs hP hD hS => ?_) hP hD hS
  refine W.widen (k := 10) (n := 497) (Nat.le_of_ble_eq_true rfl) (Nat.le_of_ble_eq_true rfl) ?_
  refine lv_aload_n hx hb dX0_init_86 rfl (lv_at hl 0 rfl) ?_
  refine lv_bipush (v := 8) hx hb dX0_init_87 (by decide) ?_
  refine ini_np (w := w0) (n := 10) (ad := (adU (adU (adU (adU (adU (adU (adU (adU (adU (adU ad 1 q1x) 2 q2x) 3 q3x) 4 q4x) 6 q6x) 7 q7x) 9 q9x) 14 q14x) 15 q15x) 16 q16x)) (k := 17) (N := 8) (atype := .byte) (ty := .byte) (fty := .array .byte) w0ok hx hb hts hown hin hA hK rfl rfl q109 rfl rfl (fun _ _ a b => Option.some.inj (a.symm.trans b)) (fun _ => rfl) (by decide) (by decide) (by decide) (Nat.le_of_ble_eq_true rfl) (Nat.le_of_ble_eq_true rfl) q56 (by decide +kernel) (fun _ => rfl) (fun _ => rfl) dX0_init_89 dX0_init_91 (fun q17x H locs hP hD hS => ?_) hP hD hS
  refine W.widen (k := 11) (n := 505) (Nat.le_of_ble_eq_true rfl) (Nat.le_of_ble_eq_true rfl) ?_
  refine lv_aload_n hx hb dX0_init_94 rfl (lv_at hl 0 rfl) ?_
  refine lv_bipush (v := 8) hx hb dX0_init_95 (by decide) ?_
  refine ini_np (w := w0) (n := 11) (ad := (adU (adU (adU (adU (adU (adU (adU (adU (adU (adU (adU ad 1 q1x) 2 q2x) 3 q3x) 4 q4x) 6 q6x) 7 q7x) 9 q9x) 14 q14x) 15 q15x) 16 q16x) 17 q17x)) (k := 18) (N := 8) (atype := .byte) (ty := .byte) (fty := .array .byte) w0ok hx hb hts hown hin hA hK rfl rfl q109 rfl rfl (fun _ _ a b => Option.some.inj (a.symm.trans b)) (fun _ => rfl) (by decide) (by decide) (by decide) (Nat.le_of_ble_eq_true rfl) (Nat.le_of_ble_eq_true rfl) q57 (by decide +kernel) (fun _ => rfl) (fun _ => rfl) dX0_init_97 dX0_init_99 (fun q18x H locs hP hD hS => ?_) hP hD hS
  refine W.widen (k := 12) (n := 513) (Nat.le_of_ble_eq_true rfl) (Nat.le_of_ble_eq_true rfl) ?_
  refine lv_aload_n hx hb dX0_init_102 rfl (lv_at hl 0 rfl) ?_
  refine lv_bipush (v := 16) hx hb dX0_init_103 (by decide) ?_
  refine ini_np (w := w0) (n := 12) (ad := (adU (adU (adU (adU (adU (adU (adU (adU (adU (adU (adU (adU ad 1 q1x) 2 q2x) 3 q3x) 4 q4x) 6 q6x) 7 q7x) 9 q9x) 14 q14x) 15 q15x) 16 q16x) 17 q17x) 18 q18x)) (k := 19) (N := 16) (atype := .byte) (ty := .byte) (fty := .array .byte) w0ok hx hb hts hown hin hA hK rfl rfl q109 rfl rfl (fun _ _ a b => Option.some.inj (a.symm.trans b)) (fun _ => rfl) (by decide) (by decide) (by decide) (Nat.le_of_ble_eq_true rfl) (Nat.le_of_ble_eq_true rfl) q58 (by decide +kernel) (fun _ => rfl) (fun _ => rfl) dX0_init_105 dX0_init_107 (fun q19x H locs hP hD hS => ?_) hP hD hS
  refine W.widen (k := 13) (n := 529) (Nat.le_of_ble_eq_true rfl) (Nat.le_of_ble_eq_true rfl) ?_
  refine lv_aload_n hx hb dX0_init_110 rfl (lv_at hl 0 rfl) ?_
  refine lv_iconst (v := 3) hx hb dX0_init_111 (by decide) ?_
  refine ini_np (w := w0) (n := 13) (ad := (adU (adU (adU (adU (adU (adU (adU (adU (adU (adU (adU (adU (adU ad 1 q1x) 2 q2x) 3 q3x) 4 q4x) 6 q6x) 7 q7x) 9 q9x) 14 q14x) 15 q15x) 16 q16x) 17 q17x) 18 q18x) 19 q19x)) (k := 20) (N := 3) (atype := .byte) (ty := .byte) (fty := .array .byte) w0ok hx hb hts hown hin hA hK rfl rfl q109 rfl rfl (fun _ _ a b => Option.some.inj (a.symm.trans b)) (fun _ => rfl) (by decide) (by decide) (by decide) (Nat.le_of_ble_eq_true rfl) (Nat.le_of_ble_eq_true rfl) q59 (by decide +kernel) (fun _ => rfl) (fun _ => rfl) dX0_init_112 dX0_init_114 (fun q20x H locs hP hD hS => ?_) hP hD hS
  refine W.widen (k := 14) (n := 532) (Nat.le_of_ble_eq_true rfl) (Nat.le_of_ble_eq_true rfl) ?_
  refine lv_aload_n hx hb dX0_init_117 rfl (lv_at hl 0 rfl) ?_
  refine lv_bipush (v := 10) hx hb dX0_init_118 (by decide) ?_
  refine ini_np (w := w0) (n := 14) (ad := (adU (adU (adU (adU (adU (adU (adU (adU (adU (adU (adU (adU (adU (adU ad 1 q1x) 2 q2x) 3 q3x) 4 q4x) 6 q6x) 7 q7x) 9 q9x) 14 q14x) 15 q15x) 16 q16x) 17 q17x) 18 q18x) 19 q19x) 20 q20x)) (k := 21) (N := 10) (atype := .byte) (ty := .byte) (fty := .array .byte) w0ok hx hb hts hown hin hA hK rfl rfl q109 rfl rfl (fun _ _ a b => Option.some.inj (a.symm.trans b)) (fun _ => rfl) (by decide) (by decide) (by decide) (Nat.le_of_ble_eq_true rfl) (Nat.le_of_ble_eq_true rfl) q60 (by decide +kernel) (fun _ => rfl) (fun _ => rfl) dX0_init_120 dX0_init_122 (fun q21x H locs hP hD hS => ?_) hP hD hS
  refine W.widen (k := 15) (n := 542) (Nat.le_of_ble_eq_true rfl) (Nat.le_of_ble_eq_true rfl) ?_
  refine lv_aload_n hx hb dX0_init_125 rfl (lv_at hl 0 rfl) ?_
  refine lv_bipush (v := 125) hx hb dX0_init_126 (by decide) ?_
  refine ini_np (w := w0) (n := 15) (ad := (adU (adU (adU (adU (adU (adU (adU (adU (adU (adU (adU (adU (adU (adU (adU ad 1 q1x) 2 q2x) 3 q3x) 4 q4x) 6 q6x) 7 q7x) 9 q9x) 14 q14x) 15 q15x) 16 q16x) 17 q17x) 18 q18x) 19 q19x) 20 q20x) 21 q21x)) (k := 22) (N := 125) (atype := .long) (ty := .long) (fty := .array .long) w0ok hx hb hts hown hin hA hK rfl rfl q110 rfl rfl (fun _ _ a b => Option.some.inj (a.symm.trans b)) (fun _ => rfl) (by decide) (by decide) (by decide) (Nat.le_of_ble_eq_true rfl) (Nat.le_of_ble_eq_true rfl) q61 (by decide +kernel) (fun _ => rfl) (fun _ => rfl) dX0_init_128 dX0_init_130 (fun q22x H locs hP hD hS => ?_) hP hD hS
  refine W.widen (k := 16) (n := 667) (Nat.le_of_ble_eq_true rfl) (Nat.le_of_ble_eq_true rfl) ?_
  have hfin : iw w0 h (adU (adU (adU (adU (adU (adU (adU (adU (adU (adU (adU (adU (adU (adU (adU (adU ad 1 q1x) 2 q2x) 3 q3x) 4 q4x) 6 q6x) 7 q7x) 9 q9x) 14 q14x) 15 q15x) 16 q16x) 17 q17x) 18 q18x) 19 q19x) 20 q20x) 21 q21x) 22 q22x) cT 16 = pw w0 h (adU (adU (adU (adU (adU (adU (adU (adU (adU (adU (adU (adU (adU (adU (adU (adU ad 1 q1x) 2 q2x) 3 q3x) 4 q4x) 6 q6x) 7 q7x) 9 q9x) 14 q14x) 15 q15x) 16 q16x) 17 q17x) 18 q18x) 19 q19x) 20 q20x) 21 q21x) 22 q22x) cT Z0 := iw_all rfl (by decide)
  have hP : va_P D vwCl (iw w0 h (adU (adU (adU (adU (adU (adU (adU (adU (adU (adU (adU (adU (adU (adU (adU (adU ad 1 q1x) 2 q2x) 3 q3x) 4 q4x) 6 q6x) 7 q7x) 9 q9x) 14 q14x) 15 q15x) 16 q16x) 17 q17x) 18 q18x) 19 q19x) 20 q20x) 21 q21x) 22 q22x) cT 16) _ := hP
  have hD : va_D A (iw w0 h (adU (adU (adU (adU (adU (adU (adU (adU (adU (adU (adU (adU (adU (adU (adU (adU ad 1 q1x) 2 q2x) 3 q3x) 4 q4x) 6 q6x) 7 q7x) 9 q9x) 14 q14x) 15 q15x) 16 q16x) 17 q17x) 18 q18x) 19 q19x) 20 q20x) 21 q21x) 22 q22x) cT 16) := hD
  rw [hfin] at hP hD
  exact W.vret hx hb hr (fun t ht hW => ⟨⟨(adU (adU (adU (adU (adU (adU (adU (adU (adU (adU (adU (adU (adU (adU (adU (adU ad 1 q1x) 2 q2x) 3 q3x) 4 q4x) 6 q6x) 7 q7x) 9 q9x) 14 q14x) 15 q15x) 16 q16x) 17 q17x) 18 q18x) 19 q19x) 20 q20x) 21 q21x) 22 q22x), rfl, trivial, by rw [ht]; exact hP, va_K.moved hW.alike hK, by rw [hAe]; exact hD⟩, hS.F ht⟩) hS.2.2 dX0_init_133
set_option maxHeartbeats 4000000 in
theorem met1_init (l : Launch) (D : va_G) (h : Nat) (ad : Nat → Nat) (cT : Nat → ClassId) (sz : Nat) : Met l yX1_init (ws_ yX1_init cX1_init 1 none) ({ frames := 1, cells := 8, slots := 101, locals := 12 }) (va_Pc [.ref h] (preI w1 h ad cT D sz)) (va_Qv (fun (_ : Nat → Nat) => True) (posI w1 h ad cT D sz) (va_A (iw w1 h ad cT 0) sz)) 8 101 (va_A (iw w1 h ad cT 0) sz) := by
  refine Met.ofW (cc := cX1_init) (maxL := 1) (ret := none) (by decide) rfl ?_
  intro p e s m args below meth c s₁ B hml hv
  obtain ⟨rfl, hsz, hP, hK, hD0⟩ := hv
  have hx := B.exec
  have hb := B.bytes
  have hr := B.returns
  have hts := atoms_spec (ws := ws_ yX1_init cX1_init 1 none) B.pre
  have hts : ∀ w ∈ lw_all, w.before _ s = true := fun w h => hts w (List.mem_cons_of_mem _ h)
  have hown : s.vm.findClass RX1 = some m.cls := findClass_of_methodNamed B.named
  have hin : meth.name = "<init>" := (name_of_methodNamed B.named B.method).1
  subst hsz
  have hD := hD0.self (sz := s.heap.size)
  generalize hAe : va_A (iw w1 h ad cT 0) s.heap.size = A at hD ⊢
  have hA : ∀ q : Nat, s.heap.size ≤ q → A q := fun q h => by rw [← hAe]; exact Or.inr h
  have hS : va_S A s.heap s.heap [] := va_S.rf
  have hl := lv_entry ([.ref h]) (n := 1) (Nat.le_of_ble_eq_true rfl)
  rw [lg_entry_eq]
  generalize (lg_sl ([.ref h]) ++ List.replicate (1 - (lg_sl ([.ref h])).length) Slot.unset).toArray = ls at hl ⊢
  have hl : lv_has ls 1 [(0, .ref h)] := hl
  refine lv_aload_n hx hb dX1_init_0 rfl (lv_at hl 0 rfl) ?_
  refine W.objInit hx hb hown (hts _ q229) (hts _ q37) (hts _ q38) rfl (by rw [hml]; exact hl.1) rfl dX1_init_1 (Nat.le_of_ble_eq_true rfl) (Nat.le_of_ble_eq_true rfl) ?_
  refine W.eq (g2 := F0 m 4 ls []) rfl ?_
  refine lv_aload_n hx hb dX1_init_4 rfl (lv_at hl 0 rfl) ?_
  refine lv_iconst (v := iI 0) hx hb dX1_init_5 (by decide) ?_
  refine ini_pi (w := w1) (n := 0) (ad := ad) (k := 0) w1ok hx hb hts hown hK (by decide) rfl q230 rfl (by decide +kernel) dX1_init_6 (fun H locs hP hD hS => ?_) hP hD hS
  refine lv_aload_n hx hb dX1_init_9 rfl (lv_at hl 0 rfl) ?_
  refine lv_bipush (v := 20) hx hb dX1_init_10 (by decide) ?_
  refine ini_np (w := w1) (n := 0) (ad := ad) (k := 1) (N := 20) (atype := .int) (ty := .int) (fty := .array .int) w1ok hx hb hts hown hin hA hK rfl rfl q270 rfl rfl (fun _ _ a b => Option.some.inj (a.symm.trans b)) (fun _ => rfl) (by decide) (by decide) (by decide) (Nat.le_of_ble_eq_true rfl) (Nat.le_of_ble_eq_true rfl) q231 (by decide +kernel) (fun _ => rfl) (fun _ => rfl) dX1_init_12 dX1_init_14 (fun q1x H locs hP hD hS => ?_) hP hD hS
  refine W.widen (k := 1) (n := 20) (Nat.le_of_ble_eq_true rfl) (Nat.le_of_ble_eq_true rfl) ?_
  refine lv_aload_n hx hb dX1_init_17 rfl (lv_at hl 0 rfl) ?_
  refine lv_bipush (v := 20) hx hb dX1_init_18 (by decide) ?_
  refine ini_np (w := w1) (n := 1) (ad := (adU ad 1 q1x)) (k := 2) (N := 20) (atype := .int) (ty := .int) (fty := .array .int) w1ok hx hb hts hown hin hA hK rfl rfl q270 rfl rfl (fun _ _ a b => Option.some.inj (a.symm.trans b)) (fun _ => rfl) (by decide) (by decide) (by decide) (Nat.le_of_ble_eq_true rfl) (Nat.le_of_ble_eq_true rfl) q232 (by decide +kernel) (fun _ => rfl) (fun _ => rfl) dX1_init_20 dX1_init_22 (fun q2x H locs hP hD hS => ?_) hP hD hS
  refine W.widen (k := 2) (n := 40) (Nat.le_of_ble_eq_true rfl) (Nat.le_of_ble_eq_true rfl) ?_
  refine lv_aload_n hx hb dX1_init_25 rfl (lv_at hl 0 rfl) ?_
  refine lv_bipush (v := 20) hx hb dX1_init_26 (by decide) ?_
  refine ini_np (w := w1) (n := 2) (ad := (adU (adU ad 1 q1x) 2 q2x)) (k := 3) (N := 20) (atype := .int) (ty := .int) (fty := .array .int) w1ok hx hb hts hown hin hA hK rfl rfl q270 rfl rfl (fun _ _ a b => Option.some.inj (a.symm.trans b)) (fun _ => rfl) (by decide) (by decide) (by decide) (Nat.le_of_ble_eq_true rfl) (Nat.le_of_ble_eq_true rfl) q233 (by decide +kernel) (fun _ => rfl) (fun _ => rfl) dX1_init_28 dX1_init_30 (fun q3x H locs hP hD hS => ?_) hP hD hS
  refine W.widen (k := 3) (n := 60) (Nat.le_of_ble_eq_true rfl) (Nat.le_of_ble_eq_true rfl) ?_
  refine lv_aload_n hx hb dX1_init_33 rfl (lv_at hl 0 rfl) ?_
  refine lv_bipush (v := 20) hx hb dX1_init_34 (by decide) ?_
  refine ini_np (w := w1) (n := 3) (ad := (adU (adU (adU ad 1 q1x) 2 q2x) 3 q3x)) (k := 4) (N := 20) (atype := .int) (ty := .int) (fty := .array .int) w1ok hx hb hts hown hin hA hK rfl rfl q270 rfl rfl (fun _ _ a b => Option.some.inj (a.symm.trans b)) (fun _ => rfl) (by decide) (by decide) (by decide) (Nat.le_of_ble_eq_true rfl) (Nat.le_of_ble_eq_true rfl) q234 (by decide +kernel) (fun _ => rfl) (fun _ => rfl) dX1_init_36 dX1_init_38 (fun q4x H locs hP hD hS => ?_) hP hD hS
  refine W.widen (k := 4) (n := 80) (Nat.le_of_ble_eq_true rfl) (Nat.le_of_ble_eq_true rfl) ?_
  refine lv_aload_n hx hb dX1_init_41 rfl (lv_at hl 0 rfl) ?_
  refine lv_iconst (v := iI 0) hx hb dX1_init_42 (by decide) ?_
  refine ini_pi (w := w1) (n := 4) (ad := (adU (adU (adU (adU ad 1 q1x) 2 q2x) 3 q3x) 4 q4x)) (k := 5) w1ok hx hb hts hown hK (by decide) rfl q235 rfl (by decide +kernel) dX1_init_43 (fun H locs hP hD hS => ?_) hP hD hS
  refine lv_aload_n hx hb dX1_init_46 rfl (lv_at hl 0 rfl) ?_
  refine lv_bipush (v := 7) hx hb dX1_init_47 (by decide) ?_
  refine ini_np (w := w1) (n := 4) (ad := (adU (adU (adU (adU ad 1 q1x) 2 q2x) 3 q3x) 4 q4x)) (k := 6) (N := 7) (atype := .int) (ty := .int) (fty := .array .int) w1ok hx hb hts hown hin hA hK rfl rfl q270 rfl rfl (fun _ _ a b => Option.some.inj (a.symm.trans b)) (fun _ => rfl) (by decide) (by decide) (by decide) (Nat.le_of_ble_eq_true rfl) (Nat.le_of_ble_eq_true rfl) q236 (by decide +kernel) (fun _ => rfl) (fun _ => rfl) dX1_init_49 dX1_init_51 (fun q6x H locs hP hD hS => ?_) hP hD hS
  refine W.widen (k := 5) (n := 87) (Nat.le_of_ble_eq_true rfl) (Nat.le_of_ble_eq_true rfl) ?_
  refine lv_aload_n hx hb dX1_init_54 rfl (lv_at hl 0 rfl) ?_
  refine lv_iconst (v := 3) hx hb dX1_init_55 (by decide) ?_
  refine ini_np (w := w1) (n := 5) (ad := (adU (adU (adU (adU (adU ad 1 q1x) 2 q2x) 3 q3x) 4 q4x) 6 q6x)) (k := 7) (N := 3) (atype := .int) (ty := .int) (fty := .array .int) w1ok hx hb hts hown hin hA hK rfl rfl q270 rfl rfl (fun _ _ a b => Option.some.inj (a.symm.trans b)) (fun _ => rfl) (by decide) (by decide) (by decide) (Nat.le_of_ble_eq_true rfl) (Nat.le_of_ble_eq_true rfl) q237 (by decide +kernel) (fun _ => rfl) (fun _ => rfl) dX1_init_56 dX1_init_58 (fun q7x H locs hP hD hS => ?_) hP hD hS
  refine W.widen (k := 6) (n := 90) (Nat.le_of_ble_eq_true rfl) (Nat.le_of_ble_eq_true rfl) ?_
  refine lv_aload_n hx hb dX1_init_61 rfl (lv_at hl 0 rfl) ?_
  refine lv_iconst (v := 3) hx hb dX1_init_62 (by decide) ?_
  refine ini_np (w := w1) (n := 6) (ad := (adU (adU (adU (adU (adU (adU ad 1 q1x) 2 q2x) 3 q3x) 4 q4x) 6 q6x) 7 q7x)) (k := 8) (N := 3) (atype := .int) (ty := .int) (fty := .array .int) w1ok hx hb hts hown hin hA hK rfl rfl q270 rfl rfl (fun _ _ a b => Option.some.inj (a.symm.trans b)) (fun _ => rfl) (by decide) (by decide) (by decide) (Nat.le_of_ble_eq_true rfl) (Nat.le_of_ble_eq_true rfl) q238 (by decide +kernel) (fun _ => rfl) (fun _ => rfl) dX1_init_63 dX1_init_65 (fun q8x H locs hP hD hS => ?_) hP hD hS
  refine W.widen (k := 7) (n := 93) (Nat.le_of_ble_eq_true rfl) (Nat.le_of_ble_eq_true rfl) ?_
  refine lv_aload_n hx hb dX1_init_68 rfl (lv_at hl 0 rfl) ?_
  refine lv_bipush (v := 8) hx hb dX1_init_69 (by decide) ?_
  refine ini_np (w := w1) (n := 7) (ad := (adU (adU (adU (adU (adU (adU (adU ad 1 q1x) 2 q2x) 3 q3x) 4 q4x) 6 q6x) 7 q7x) 8 q8x)) (k := 9) (N := 8) (atype := .int) (ty := .int) (fty := .array .int) w1ok hx hb hts hown hin hA hK rfl rfl q270 rfl rfl (fun _ _ a b => Option.some.inj (a.symm.trans b)) (fun _ => rfl) (by decide) (by decide) (by decide) (Nat.le_of_ble_eq_true rfl) (Nat.le_of_ble_eq_true rfl) q239 (by decide +kernel) (fun _ => rfl) (fun _ => rfl) dX1_init_71 dX1_init_73 (fun q9x H locs hP hD hS => ?_) hP hD hS
  refine W.widen (k := 8) (n := 101) (Nat.le_of_ble_eq_true rfl) (Nat.le_of_ble_eq_true rfl) ?_
  have hfin : iw w1 h (adU (adU (adU (adU (adU (adU (adU (adU ad 1 q1x) 2 q2x) 3 q3x) 4 q4x) 6 q6x) 7 q7x) 8 q8x) 9 q9x) cT 8 = pw w1 h (adU (adU (adU (adU (adU (adU (adU (adU ad 1 q1x) 2 q2x) 3 q3x) 4 q4x) 6 q6x) 7 q7x) 8 q8x) 9 q9x) cT Z0 := iw_all rfl (by decide)
  have hP : va_P D vwCl (iw w1 h (adU (adU (adU (adU (adU (adU (adU (adU ad 1 q1x) 2 q2x) 3 q3x) 4 q4x) 6 q6x) 7 q7x) 8 q8x) 9 q9x) cT 8) _ := hP
  have hD : va_D A (iw w1 h (adU (adU (adU (adU (adU (adU (adU (adU ad 1 q1x) 2 q2x) 3 q3x) 4 q4x) 6 q6x) 7 q7x) 8 q8x) 9 q9x) cT 8) := hD
  rw [hfin] at hP hD
  exact W.vret hx hb hr (fun t ht hW => ⟨⟨(adU (adU (adU (adU (adU (adU (adU (adU ad 1 q1x) 2 q2x) 3 q3x) 4 q4x) 6 q6x) 7 q7x) 8 q8x) 9 q9x), rfl, trivial, by rw [ht]; exact hP, va_K.moved hW.alike hK, by rw [hAe]; exact hD⟩, hS.F ht⟩) hS.2.2 dX1_init_76
end
section
/-! THE CLAIM OUT OF ONE WALK OF THE LAW'S BODY. Your part is whole_start (and what it stands on); all else here is the same for every law, but numbers. -/
def R_law : String := "PatternTreesLaw"
def lw_P (b : Addr) (xs : List Int32) (args : Array Value) (s : State) : Prop := args = #[.ref b] ∧ s.IntsAt b xs ∧ xs.length ≤ 192 ∧ (Jvm.Cond.and given_1 narrow_1).before args s = true
def lw_Q (_ : Array Value) (s : State) (o : Outcome) (t : State) : Prop := o = .returned (some (.int 1)) ∧ Framed s o t [] 600000 7290000
def lw_Z (below : List Frame) (a : Array Value) (s : State) : State → Prop := fun t => ∃ o, t.status = .running ∧ Ended t below o ∧ lw_Q a s o t
/-- the law's own end, with 1 on the stack, nothing written that was there before, its room as the claim has it -/
theorem lw_ret {p : Program} {l : Launch} {e : Env} {s : State} {m : MethodId} {below : List Frame} {meth : Method} {c : Code} {b : Nat} (hx : p.tables.exec = Jvm.exec) (hb : c.code = code) (hr : meth.sig.returnType = ret) (hlocks : meth.locks = false) {pc : Nat} {H : Heap} {ls : Array Slot} (hdg : decode code pc = .ok (.ireturn, 1)) : W p l e room_1 s m #[Value.ref b] below meth c H [] 600000 7290000 (lw_Z below #[Value.ref b] s) (F0 m pc ls [.int 1]) := by
  intro T hT X
  obtain ⟨fs, hret, hrun, hended, hW, hframe⟩ := X.leave (v := some (.int 1)) (hlocks := hlocks) (fun h => by rw [hr] at h; cases h)
  have hmeth' : T.vm.method? m = some meth := X.method'
  refine ⟨T.setFrames fs, ?_, .returned (some (.int 1)), hrun, hended, rfl, ⟨_, rfl⟩, hW, hframe⟩
  jvm_step X.here [X.here.top, hx, hb, hdg, hmeth', hr, ret, narrow_b1]
  (try refine ⟨rfl, ?_⟩); (try refine ⟨rfl, ?_⟩)
  first | (intro acts; rw [hret _ acts rfl rfl rfl]) | rw [hret _ _ rfl rfl rfl]
  exact Steps.refl _
/-- what holds at the law's entry: the machine, the code, the tables' words (any of lw_tbl by 'hts w (by decide +kernel)'), the script of L ints xs at the cell b, what the Statement gives of the start (any of its parts by flat_of_before) -/
def lw_At (p : Program) (s : State) (m : MethodId) (meth : Method) (c : Code) (b L : Nat) (xs : Nat → Int32) : Prop :=
  p.tables.exec = Jvm.exec ∧ c.code = code ∧ meth.sig.returnType = ret ∧ c.maxLocals = 4 ∧ s.vm.findClass R_law = some m.cls ∧ (∀ w ∈ lw_tbl, w.before #[Value.ref b] s = true) ∧ va_X b L xs s s.heap ∧ b < s.heap.size ∧ meth.locks = false ∧ (Jvm.Cond.and given_1 narrow_1).before #[Value.ref b] s = true
end
section
set_option maxRecDepth 100000
/-! the law's own walk: two objects' worlds side by side -/
theorem va_Pl {D : va_G} {cl : List vw_C} {a b : va_W} {H : Heap} (h : va_P D cl (a ++ b) H) : va_P D cl a H := fun k q hk => h k q (by rw [List.getElem?_append_left (List.getElem?_eq_some_iff.mp hk).1]; exact hk)
theorem app_r {a b : va_W} {k : Nat} {q : Nat × va_E} (hk : b[k]? = some q) : (a ++ b)[a.length + k]? = some q := by
  rw [List.getElem?_append_right (by omega), show a.length + k - a.length = k by omega]
  exact hk
theorem app_l {a b : va_W} {k : Nat} {q : Nat × va_E} (hk : a[k]? = some q) : (a ++ b)[k]? = some q := by
  rw [List.getElem?_append_left (List.getElem?_eq_some_iff.mp hk).1]
  exact hk
theorem va_Pr {D : va_G} {cl : List vw_C} {a b : va_W} {H : Heap} (h : va_P D cl (a ++ b) H) : va_P D cl b H := fun _ q hk => h _ q (app_r hk)
theorem va_Dl {A : Nat → Prop} {a b : va_W} (h : va_D A (a ++ b)) : va_D A a := ⟨fun i j p q hi hj e => h.1 i j p q (app_l hi) (app_l hj) e, fun k q hk => h.2 k q (app_l hk)⟩
theorem va_Dr {A : Nat → Prop} {a b : va_W} (h : va_D A (a ++ b)) : va_D A b := ⟨fun i j p q hi hj e => by
  have := h.1 _ _ p q (app_r hi) (app_r hj) e
  omega, fun _ q hk => h.2 _ q (app_r hk)⟩
theorem va_Dx {A : Nat → Prop} {a b : va_W} (h : va_D A (a ++ b)) {i j : Nat} {p q : Nat × va_E} (hi : a[i]? = some p) (hj : b[j]? = some q) : p.1 ≠ q.1 := fun e => by
  have := h.1 _ _ p q (app_l hi) (app_r hj) e
  have := (List.getElem?_eq_some_iff.mp hi).1
  omega
theorem join_l {A0 : Nat → Prop} {D : va_G} {cl : List vw_C} {a b a1 : va_W} {H H1 : Heap} (hP : va_P D cl (a ++ b) H) (hD : va_D A0 (a ++ b)) (hk : ∀ q : Nat, q < H.size → ¬ va_A a H.size q → H1[q]? = H[q]?) (hF : ∀ q, va_A a H.size q → A0 q) (hP1 : va_P D cl a1 H1) (hD1 : va_D (va_A a H.size) a1) : va_P D cl (a1 ++ b) H1 ∧ va_D A0 (a1 ++ b) := by
  have nA : ∀ (k : Nat) (q : Nat × va_E), b[k]? = some q → q.1 < H.size ∧ ¬ va_A a H.size q.1 := fun k q hq => by
    have hl := (va_Pr hP k q hq).lt
    refine ⟨hl, fun h => ?_⟩
    rcases h with ⟨k2, e, h⟩ | h
    · exact va_Dx hD h hq rfl
    · omega
  refine ⟨va_P.app hP1 (fun k q hq => (va_Pr hP k q hq).kept (hk q.1 (nA k q hq).1 (nA k q hq).2)), va_D.app (hD1.weaken (fun _ q _ h => hF q.1 h)) (va_Dr hD) (fun i j x y hx hy e => (nA j y hy).2 (by rw [← e]; exact hD1.2 i x hx))⟩
theorem join_r {A0 : Nat → Prop} {D : va_G} {cl : List vw_C} {a b b1 : va_W} {H H1 : Heap} (hP : va_P D cl (a ++ b) H) (hD : va_D A0 (a ++ b)) (hk : ∀ q : Nat, q < H.size → ¬ va_A b H.size q → H1[q]? = H[q]?) (hF : ∀ q, va_A b H.size q → A0 q) (hP1 : va_P D cl b1 H1) (hD1 : va_D (va_A b H.size) b1) : va_P D cl (a ++ b1) H1 ∧ va_D A0 (a ++ b1) := by
  have nA : ∀ (k : Nat) (q : Nat × va_E), a[k]? = some q → q.1 < H.size ∧ ¬ va_A b H.size q.1 := fun k q hq => by
    have hl := (va_Pl hP k q hq).lt
    refine ⟨hl, fun h => ?_⟩
    rcases h with ⟨k2, e, h⟩ | h
    · exact va_Dx hD hq h rfl
    · omega
  refine ⟨va_P.app (fun k q hq => (va_Pl hP k q hq).kept (hk q.1 (nA k q hq).1 (nA k q hq).2)) hP1, va_D.app (va_Dl hD) (hD1.weaken (fun _ q _ h => hF q.1 h)) (fun i j x y hx hy e => (nA i x hx).2 (by rw [e]; exact hD1.2 j y hy))⟩
abbrev KL : Type := (Program × Launch × Env × State × MethodId) × (List Frame × Method × Code) × (va_G × (Nat → ClassId)) × (Nat × (Nat → Nat)) × (Nat × (Nat → Nat)) × (Nat × Nat × (Nat → Int32))
def LJ (κ : KL) (i : Int) (x y : Sg) (pc : Nat) (st : List AV) : Prop := match κ with
  | ((p, l, e, s, m), (below, meth, c), (D, cT), (hx, ax), (hm, am), (b, L, xs)) => (lw_At p s m meth c b L xs ∧ L ≤ 192 ∧ va_K D vwCl (tysOf cT) s) → va_D (fun q : Nat => s.heap.size ≤ q) (pw w0 hx ax cT x ++ pw w1 hm am cT y) → Rg w0 x → Rg w1 y → wv (.inl i) → (∀ z ∈ st, wv z) → ∀ (H : Heap) (locs : List Loc) (ls : Array Slot), va_P D vwCl (pw w0 hx ax cT x ++ pw w1 hm am cT y) H → va_S (fun q : Nat => s.heap.size ≤ q) s.heap H locs → lv_has ls 4 [(0, .ref b), (1, .ref hx), (2, .ref hm), (3, .int (iI i))] → W p l e room_1 s m #[Value.ref b] below meth c H locs 26 804 (lw_Z below #[Value.ref b] s) (F0 m pc ls (st.map tv))
def jB (κ : KL) : AV := .inr (.inl κ.2.2.2.2.2.1)
def jX (κ : KL) : AV := .inr (.inl κ.2.2.2.1.1)
def jM (κ : KL) : AV := .inr (.inl κ.2.2.2.2.1.1)
def jN (κ : KL) : Int := (κ.2.2.2.2.2.2.1 : Nat)
def jS (κ : KL) (k : Int) : Int := (κ.2.2.2.2.2.2.2 k.toNat).toInt
theorem iI_of (v : Int32) : iI v.toInt = v := Int32.ofInt_toInt v
theorem wv_of (v : Int32) : wv (.inl v.toInt) := ⟨Int32.le_toInt v, by have := Int32.toInt_lt v; omega⟩
theorem j_aload0 {κ : KL} {i : Int} {x y : Sg} {pc : Nat} {rest : List AV}  (hd : decode code pc = .ok (.aload_n 0, 1)) (k : LJ κ i x y (pc + 1) (jB κ :: rest)) : LJ κ i x y pc rest := by
  obtain ⟨⟨p, l, e, s, m⟩, ⟨below, meth, c⟩, ⟨D, cT⟩, ⟨hx, ax⟩, ⟨hm, am⟩, ⟨b, L, xs⟩⟩ := κ
  intro hO hD hg0 hg1 hi hs H locs ls hP hS hv
  exact lv_aload_n hO.1.1 hO.1.2.1 hd rfl (lv_at hv 0 rfl) (k hO hD hg0 hg1 hi (wf_k trivial hs) H locs ls hP hS hv)
theorem j_aload1 {κ : KL} {i : Int} {x y : Sg} {pc : Nat} {rest : List AV}  (hd : decode code pc = .ok (.aload_n 1, 1)) (k : LJ κ i x y (pc + 1) (jX κ :: rest)) : LJ κ i x y pc rest := by
  obtain ⟨⟨p, l, e, s, m⟩, ⟨below, meth, c⟩, ⟨D, cT⟩, ⟨hx, ax⟩, ⟨hm, am⟩, ⟨b, L, xs⟩⟩ := κ
  intro hO hD hg0 hg1 hi hs H locs ls hP hS hv
  exact lv_aload_n hO.1.1 hO.1.2.1 hd rfl (lv_at hv 1 rfl) (k hO hD hg0 hg1 hi (wf_k trivial hs) H locs ls hP hS hv)
theorem j_aload2 {κ : KL} {i : Int} {x y : Sg} {pc : Nat} {rest : List AV}  (hd : decode code pc = .ok (.aload_n 2, 1)) (k : LJ κ i x y (pc + 1) (jM κ :: rest)) : LJ κ i x y pc rest := by
  obtain ⟨⟨p, l, e, s, m⟩, ⟨below, meth, c⟩, ⟨D, cT⟩, ⟨hx, ax⟩, ⟨hm, am⟩, ⟨b, L, xs⟩⟩ := κ
  intro hO hD hg0 hg1 hi hs H locs ls hP hS hv
  exact lv_aload_n hO.1.1 hO.1.2.1 hd rfl (lv_at hv 2 rfl) (k hO hD hg0 hg1 hi (wf_k trivial hs) H locs ls hP hS hv)
theorem j_iload3 {κ : KL} {i : Int} {x y : Sg} {pc : Nat} {rest : List AV}  (hd : decode code pc = .ok (.iload_n 3, 1)) (k : LJ κ i x y (pc + 1) (.inl i :: rest)) : LJ κ i x y pc rest := by
  obtain ⟨⟨p, l, e, s, m⟩, ⟨below, meth, c⟩, ⟨D, cT⟩, ⟨hx, ax⟩, ⟨hm, am⟩, ⟨b, L, xs⟩⟩ := κ
  intro hO hD hg0 hg1 hi hs H locs ls hP hS hv
  exact lv_iload_n hO.1.1 hO.1.2.1 hd rfl (lv_at hv 3 rfl) (k hO hD hg0 hg1 hi (wf_k hi hs) H locs ls hP hS hv)
theorem j_iconst {κ : KL} {i : Int} {x y : Sg} {pc : Nat} {rest : List AV} {n : Int} (z : Int) (hd : decode code pc = .ok (.iconst n, 1)) (hx_ : Int32.ofInt n = iI z) (hr : -2147483648 ≤ z ∧ z ≤ 2147483647) (k : LJ κ i x y (pc + 1) (.inl z :: rest)) : LJ κ i x y pc rest := by
  obtain ⟨⟨p, l, e, s, m⟩, ⟨below, meth, c⟩, ⟨D, cT⟩, ⟨hx, ax⟩, ⟨hm, am⟩, ⟨b, L, xs⟩⟩ := κ
  intro hO hD hg0 hg1 hi hs H locs ls hP hS hv
  exact lv_iconst (v := iI z) hO.1.1 hO.1.2.1 hd hx_ (k hO hD hg0 hg1 hi (wf_k hr hs) H locs ls hP hS hv)
theorem j_bipush {κ : KL} {i : Int} {x y : Sg} {pc : Nat} {rest : List AV} {n : Int} (z : Int) (hd : decode code pc = .ok (.bipush n, 2)) (hx_ : (Int8.ofInt n).toInt32 = iI z) (hr : -2147483648 ≤ z ∧ z ≤ 2147483647) (k : LJ κ i x y (pc + 2) (.inl z :: rest)) : LJ κ i x y pc rest := by
  obtain ⟨⟨p, l, e, s, m⟩, ⟨below, meth, c⟩, ⟨D, cT⟩, ⟨hx, ax⟩, ⟨hm, am⟩, ⟨b, L, xs⟩⟩ := κ
  intro hO hD hg0 hg1 hi hs H locs ls hP hS hv
  exact lv_bipush (v := iI z) hO.1.1 hO.1.2.1 hd hx_ (k hO hD hg0 hg1 hi (wf_k hr hs) H locs ls hP hS hv)
theorem j_iadd {κ : KL} {i : Int} {x y : Sg} {pc : Nat} {rest : List AV} {u v : Int} (hd : decode code pc = .ok (.iadd, 1)) (hr : -2147483648 ≤ u + v ∧ u + v ≤ 2147483647) (k : LJ κ i x y (pc + 1) (.inl (u + v) :: rest)) : LJ κ i x y pc (.inl v :: .inl u :: rest) := by
  obtain ⟨⟨p, l, e, s, m⟩, ⟨below, meth, c⟩, ⟨D, cT⟩, ⟨hx, ax⟩, ⟨hm, am⟩, ⟨b, L, xs⟩⟩ := κ
  intro hO hD hg0 hg1 hi hs H locs ls hP hS hv
  refine lv_iadd hO.1.1 hO.1.2.1 hd ?_
  have e9 : iI u + iI v = iI (u + v) := (Int32.ofInt_add u v).symm
  show W p l e room_1 s m #[Value.ref b] below meth c H locs 26 804 (lw_Z below #[Value.ref b] s) (F0 m (pc + 1) ls (.int (iI u + iI v) :: rest.map tv))
  rw [e9]
  exact k hO hD hg0 hg1 hi (wf_k hr (wf_c (wf_c hs).2).2) H locs ls hP hS hv
theorem j_isub {κ : KL} {i : Int} {x y : Sg} {pc : Nat} {rest : List AV} {u v : Int} (hd : decode code pc = .ok (.isub, 1)) (hr : -2147483648 ≤ u - v ∧ u - v ≤ 2147483647) (k : LJ κ i x y (pc + 1) (.inl (u - v) :: rest)) : LJ κ i x y pc (.inl v :: .inl u :: rest) := by
  obtain ⟨⟨p, l, e, s, m⟩, ⟨below, meth, c⟩, ⟨D, cT⟩, ⟨hx, ax⟩, ⟨hm, am⟩, ⟨b, L, xs⟩⟩ := κ
  intro hO hD hg0 hg1 hi hs H locs ls hP hS hv
  refine lv_isub hO.1.1 hO.1.2.1 hd ?_
  have e9 : iI u - iI v = iI (u - v) := (Int32.ofInt_sub u v).symm
  show W p l e room_1 s m #[Value.ref b] below meth c H locs 26 804 (lw_Z below #[Value.ref b] s) (F0 m (pc + 1) ls (.int (iI u - iI v) :: rest.map tv))
  rw [e9]
  exact k hO hD hg0 hg1 hi (wf_k hr (wf_c (wf_c hs).2).2) H locs ls hP hS hv
theorem j_iand {κ : KL} {i : Int} {x y : Sg} {pc : Nat} {rest : List AV} {u v : Int} (hd : decode code pc = .ok (.iand, 1)) (k : ∀ z : Int, LJ κ i x y (pc + 1) (.inl z :: rest)) : LJ κ i x y pc (.inl v :: .inl u :: rest) := by
  obtain ⟨⟨p, l, e, s, m⟩, ⟨below, meth, c⟩, ⟨D, cT⟩, ⟨hx, ax⟩, ⟨hm, am⟩, ⟨b, L, xs⟩⟩ := κ
  intro hO hD hg0 hg1 hi hs H locs ls hP hS hv
  refine lv_iand hO.1.1 hO.1.2.1 hd ?_
  have k1 := k (iI u &&& iI v).toInt hO hD hg0 hg1 hi (wf_k (wv_of _) (wf_c (wf_c hs).2).2) H locs ls hP hS hv
  have k1 : W p l e room_1 s m #[Value.ref b] below meth c H locs 26 804 (lw_Z below #[Value.ref b] s) (F0 m (pc + 1) ls (.int (iI (iI u &&& iI v).toInt) :: rest.map tv)) := k1
  rw [iI_of] at k1
  exact k1
theorem j_icmp_gt {κ : KL} {i : Int} {x y : Sg} {pc : Nat} {rest : List AV} {u v : Int} {off : Int} {tgt : Nat} (hd : decode code pc = .ok (.if_icmp .gt off, 3)) (ht : (pc : Int) + off = (tgt : Int)) (kt : v < u → LJ κ i x y tgt rest) (kf : u ≤ v → LJ κ i x y (pc + 3) rest) : LJ κ i x y pc (.inl v :: .inl u :: rest) := by
  obtain ⟨⟨p, l, e, s, m⟩, ⟨below, meth, c⟩, ⟨D, cT⟩, ⟨hx, ax⟩, ⟨hm, am⟩, ⟨b, L, xs⟩⟩ := κ
  intro hO hD hg0 hg1 hi hs H locs ls hP hS hv
  have h2 := (wf_c hs).2
  have rx : -2147483648 ≤ u ∧ u ≤ 2147483647 := (wf_c h2).1
  have ry : -2147483648 ≤ v ∧ v ≤ 2147483647 := (wf_c hs).1
  exact lv_icmp_gt hO.1.1 hO.1.2.1 hd ht (fun hc => kt ((iI_lt ry rx).mp hc) hO hD hg0 hg1 hi (wf_c h2).2 H locs ls hP hS hv) (fun hc => kf (by have := mt (iI_lt ry rx).mpr hc; omega) hO hD hg0 hg1 hi (wf_c h2).2 H locs ls hP hS hv)
theorem j_icmp_eq {κ : KL} {i : Int} {x y : Sg} {pc : Nat} {rest : List AV} {u v : Int} {off : Int} {tgt : Nat} (hd : decode code pc = .ok (.if_icmp .eq off, 3)) (ht : (pc : Int) + off = (tgt : Int)) (kt : u = v → LJ κ i x y tgt rest) (kf : ¬ u = v → LJ κ i x y (pc + 3) rest) : LJ κ i x y pc (.inl v :: .inl u :: rest) := by
  obtain ⟨⟨p, l, e, s, m⟩, ⟨below, meth, c⟩, ⟨D, cT⟩, ⟨hx, ax⟩, ⟨hm, am⟩, ⟨b, L, xs⟩⟩ := κ
  intro hO hD hg0 hg1 hi hs H locs ls hP hS hv
  have h2 := (wf_c hs).2
  have rx : -2147483648 ≤ u ∧ u ≤ 2147483647 := (wf_c h2).1
  have ry : -2147483648 ≤ v ∧ v ≤ 2147483647 := (wf_c hs).1
  exact lv_icmp_eq hO.1.1 hO.1.2.1 hd ht (fun hc => kt ((iI_eq rx ry).mp hc) hO hD hg0 hg1 hi (wf_c h2).2 H locs ls hP hS hv) (fun hc => kf (fun e1 => hc ((iI_eq rx ry).mpr e1)) hO hD hg0 hg1 hi (wf_c h2).2 H locs ls hP hS hv)
theorem j_goto {κ : KL} {i : Int} {x y : Sg} {pc : Nat} {rest : List AV} {off : Int} {tgt : Nat} (hd : decode code pc = .ok (.goto off, 3)) (ht : (pc : Int) + off = (tgt : Int)) (k : LJ κ i x y tgt rest) : LJ κ i x y pc rest := by
  obtain ⟨⟨p, l, e, s, m⟩, ⟨below, meth, c⟩, ⟨D, cT⟩, ⟨hx, ax⟩, ⟨hm, am⟩, ⟨b, L, xs⟩⟩ := κ
  intro hO hD hg0 hg1 hi hs H locs ls hP hS hv
  exact lv_goto hO.1.1 hO.1.2.1 hd ht (k hO hD hg0 hg1 hi hs H locs ls hP hS hv)
theorem j_iinc {κ : KL} {i : Int} {x y : Sg} {pc : Nat} {rest : List AV} {n : Int} (hd : decode code pc = .ok (.iinc 3 n, 3)) (hr : -2147483648 ≤ i + n ∧ i + n ≤ 2147483647) (k : LJ κ (i + n) x y (pc + 3) rest) : LJ κ i x y pc rest := by
  obtain ⟨⟨p, l, e, s, m⟩, ⟨below, meth, c⟩, ⟨D, cT⟩, ⟨hx, ax⟩, ⟨hm, am⟩, ⟨b, L, xs⟩⟩ := κ
  intro hO hD hg0 hg1 hi hs H locs ls hP hS hv
  exact lv_iinc (v := iI (i + n)) hO.1.1 hO.1.2.1 hd hv (k := 3) rfl (Int32.ofInt_add i n).symm (by decide) rfl (fun ls1 hv1 => k hO hD hg0 hg1 hr hs H locs ls1 hP hS (lv_sub hv1 [1, 2, 3, 0] rfl))
theorem j_slen {κ : KL} {i : Int} {x y : Sg} {pc : Nat} {rest : List AV}  (hd : decode code pc = .ok (.arraylength, 1)) (k : LJ κ i x y (pc + 1) (.inl (jN κ) :: rest)) : LJ κ i x y pc (jB κ :: rest) := by
  obtain ⟨⟨p, l, e, s, m⟩, ⟨below, meth, c⟩, ⟨D, cT⟩, ⟨hx, ax⟩, ⟨hm, am⟩, ⟨b, L, xs⟩⟩ := κ
  intro hO hD hg0 hg1 hi hs H locs ls hP hS hv
  have hL := hO.2.1
  have k1 := k hO hD hg0 hg1 hi (wf_k (show -2147483648 ≤ ((L : Nat) : Int) ∧ ((L : Nat) : Int) ≤ 2147483647 by omega) (wf_c hs).2) H locs ls hP hS hv
  have k1 : W p l e room_1 s m #[Value.ref b] below meth c H locs 26 804 (lw_Z below #[Value.ref b] s) (F0 m (pc + 1) ls (.int (iI (L : Int)) :: rest.map tv)) := k1
  rw [iI_nat] at k1
  exact va_slen hO.1.1 hO.1.2.1 hO.1.2.2.2.2.2.2.1 hO.1.2.2.2.2.2.2.2.1 (Nat.not_le.mpr hO.1.2.2.2.2.2.2.2.1) hS hd k1
theorem j_sld {κ : KL} {i : Int} {x y : Sg} {pc : Nat} {rest : List AV} {u : Int} (hd : decode code pc = .ok (.iaload, 1)) (hu : 0 ≤ u ∧ u < jN κ) (k : LJ κ i x y (pc + 1) (.inl (jS κ u) :: rest)) : LJ κ i x y pc (.inl u :: jB κ :: rest) := by
  obtain ⟨⟨p, l, e, s, m⟩, ⟨below, meth, c⟩, ⟨D, cT⟩, ⟨hx, ax⟩, ⟨hm, am⟩, ⟨b, L, xs⟩⟩ := κ
  intro hO hD hg0 hg1 hi hs H locs ls hP hS hv
  have hL := hO.2.1
  have hu : 0 ≤ u ∧ u < (L : Int) := hu
  have k1 := k hO hD hg0 hg1 hi (wf_k (wv_of _) (wf_c (wf_c hs).2).2) H locs ls hP hS hv
  have k1 : W p l e room_1 s m #[Value.ref b] below meth c H locs 26 804 (lw_Z below #[Value.ref b] s) (F0 m (pc + 1) ls (.int (iI (xs u.toNat).toInt) :: rest.map tv)) := k1
  rw [iI_of, ← iI_cl (x := u) (by omega)] at k1
  exact va_sld hO.1.1 hO.1.2.1 hO.1.2.2.2.2.2.2.1 hO.1.2.2.2.2.2.2.2.1 (Nat.not_le.mpr hO.1.2.2.2.2.2.2.2.1) hS (iI_in hu (by omega)) hd k1
theorem j_ret1 {κ : KL} {i : Int} {x y : Sg} {pc : Nat} {rest : List AV}  (hd : decode code pc = .ok (.ireturn, 1)) : LJ κ i x y pc [.inl 1] := by
  obtain ⟨⟨p, l, e, s, m⟩, ⟨below, meth, c⟩, ⟨D, cT⟩, ⟨hx, ax⟩, ⟨hm, am⟩, ⟨b, L, xs⟩⟩ := κ
  intro hO hD hg0 hg1 hi hs H locs ls hP hS hv
  refine va_forget (fun q hq => hS.2.2 q hq) ?_
  refine W.widen (k := 600000) (n := 7290000) (Nat.le_of_ble_eq_true rfl) (Nat.le_of_ble_eq_true rfl) ?_
  exact lw_ret hO.1.1 hO.1.2.1 hO.1.2.2.1 hO.1.2.2.2.2.2.2.2.2.1 hd
theorem j_ts {κ : KL} {i : Int} {x y : Sg} {rest : List AV} {z : Int} (h96 : LJ κ i x y 96 rest) (h119 : LJ κ i x y 119 rest) (h142 : LJ κ i x y 142 rest) (h175 : LJ κ i x y 175 rest) (h208 : LJ κ i x y 208 rest) (h231 : LJ κ i x y 231 rest) (h244 : LJ κ i x y 244 rest) (h267 : LJ κ i x y 267 rest) (h280 : LJ κ i x y 280 rest) (h293 : LJ κ i x y 293 rest) (h316 : LJ κ i x y 316 rest) (h349 : LJ κ i x y 349 rest) (h362 : LJ κ i x y 362 rest) : LJ κ i x y 32 (.inl z :: rest) := by
  obtain ⟨⟨p, l, e, s, m⟩, ⟨below, meth, c⟩, ⟨D, cT⟩, ⟨hx, ax⟩, ⟨hm, am⟩, ⟨b, L, xs⟩⟩ := κ
  intro hO hD hg0 hg1 hi hs H locs ls hP hS hv
  have rz : -2147483648 ≤ z ∧ z ≤ 2147483647 := (wf_c hs).1
  have ez : (iI z).toInt = z := iI_toInt rz
  have hr := (wf_c hs).2
  by_cases hc : 0 ≤ z ∧ z ≤ 11
  · rcases (show z = 0 ∨ z = 1 ∨ z = 2 ∨ z = 3 ∨ z = 4 ∨ z = 5 ∨ z = 6 ∨ z = 7 ∨ z = 8 ∨ z = 9 ∨ z = 10 ∨ z = 11 by omega) with e9 | e9 | e9 | e9 | e9 | e9 | e9 | e9 | e9 | e9 | e9 | e9
    · subst e9; exact lv_tableIn (off := 64) (tgt := 96) hO.1.1 hO.1.2.1 dL_law_32 (by rw [ez]; decide) (by rw [ez]; decide) (by rw [ez]; rfl) (by decide) (h96 hO hD hg0 hg1 hi hr H locs ls hP hS hv)
    · subst e9; exact lv_tableIn (off := 87) (tgt := 119) hO.1.1 hO.1.2.1 dL_law_32 (by rw [ez]; decide) (by rw [ez]; decide) (by rw [ez]; rfl) (by decide) (h119 hO hD hg0 hg1 hi hr H locs ls hP hS hv)
    · subst e9; exact lv_tableIn (off := 110) (tgt := 142) hO.1.1 hO.1.2.1 dL_law_32 (by rw [ez]; decide) (by rw [ez]; decide) (by rw [ez]; rfl) (by decide) (h142 hO hD hg0 hg1 hi hr H locs ls hP hS hv)
    · subst e9; exact lv_tableIn (off := 143) (tgt := 175) hO.1.1 hO.1.2.1 dL_law_32 (by rw [ez]; decide) (by rw [ez]; decide) (by rw [ez]; rfl) (by decide) (h175 hO hD hg0 hg1 hi hr H locs ls hP hS hv)
    · subst e9; exact lv_tableIn (off := 176) (tgt := 208) hO.1.1 hO.1.2.1 dL_law_32 (by rw [ez]; decide) (by rw [ez]; decide) (by rw [ez]; rfl) (by decide) (h208 hO hD hg0 hg1 hi hr H locs ls hP hS hv)
    · subst e9; exact lv_tableIn (off := 199) (tgt := 231) hO.1.1 hO.1.2.1 dL_law_32 (by rw [ez]; decide) (by rw [ez]; decide) (by rw [ez]; rfl) (by decide) (h231 hO hD hg0 hg1 hi hr H locs ls hP hS hv)
    · subst e9; exact lv_tableIn (off := 212) (tgt := 244) hO.1.1 hO.1.2.1 dL_law_32 (by rw [ez]; decide) (by rw [ez]; decide) (by rw [ez]; rfl) (by decide) (h244 hO hD hg0 hg1 hi hr H locs ls hP hS hv)
    · subst e9; exact lv_tableIn (off := 235) (tgt := 267) hO.1.1 hO.1.2.1 dL_law_32 (by rw [ez]; decide) (by rw [ez]; decide) (by rw [ez]; rfl) (by decide) (h267 hO hD hg0 hg1 hi hr H locs ls hP hS hv)
    · subst e9; exact lv_tableIn (off := 248) (tgt := 280) hO.1.1 hO.1.2.1 dL_law_32 (by rw [ez]; decide) (by rw [ez]; decide) (by rw [ez]; rfl) (by decide) (h280 hO hD hg0 hg1 hi hr H locs ls hP hS hv)
    · subst e9; exact lv_tableIn (off := 261) (tgt := 293) hO.1.1 hO.1.2.1 dL_law_32 (by rw [ez]; decide) (by rw [ez]; decide) (by rw [ez]; rfl) (by decide) (h293 hO hD hg0 hg1 hi hr H locs ls hP hS hv)
    · subst e9; exact lv_tableIn (off := 284) (tgt := 316) hO.1.1 hO.1.2.1 dL_law_32 (by rw [ez]; decide) (by rw [ez]; decide) (by rw [ez]; rfl) (by decide) (h316 hO hD hg0 hg1 hi hr H locs ls hP hS hv)
    · subst e9; exact lv_tableIn (off := 317) (tgt := 349) hO.1.1 hO.1.2.1 dL_law_32 (by rw [ez]; decide) (by rw [ez]; decide) (by rw [ez]; rfl) (by decide) (h349 hO hD hg0 hg1 hi hr H locs ls hP hS hv)
  · exact lv_tableOut (tgt := 362) hO.1.1 hO.1.2.1 dL_law_32 (by rw [ez]; omega) (by decide) (h362 hO hD hg0 hg1 hi hr H locs ls hP hS hv)
set_option maxHeartbeats 4000000 in
theorem j_call0 {κ : KL} {i : Int} {x y : Sg} {pc : Nat} {rest : List AV} {yy : MethodName} {cc1 : ByteArray} {nL1 fr lo idx : Nat} {as : List Int} {post : Int → Sg → Prop} {st : List AV} (M : Ct w0 yy cc1 nL1 (some .int) fr lo as x post) (hG : GoodIn lw_all (wsV R_law idx w0.2.1.1 yy (ws_ yy cc1 nL1 (some .int)))) (hd0 : yy.cls = w0.2.1.1 ∧ yy.cls ≠ "java/lang/invoke/MethodHandle" ∧ yy.cls ≠ "java/lang/invoke/VarHandle" ∧ (parseMethodDescriptor yy.desc).map (fun d => d.parameters.length) = some as.length) (hR : fr + 1 ≤ room_1.frames ∧ 8 + (nL1 + 11) + lo ≤ room_1.locals) (hst : st = as.reverse.map (fun x => (Sum.inl x : AV)) ++ jX κ :: rest) (hroom : ((rest.map tv).map fun v => v.category).sum ≤ 8) (hd : decode code pc = .ok (.invokevirtual idx, 3)) (kk : ∀ (r : Int) (x1 : Sg), post r x1 → LJ κ i x1 y (pc + 3) (.inl r :: rest)) : LJ κ i x y pc st := by
  subst hst
  obtain ⟨⟨p, l, e, s, m⟩, ⟨below, meth, c⟩, ⟨D, cT⟩, ⟨hx, ax⟩, ⟨hm, am⟩, ⟨b, L, xs⟩⟩ := κ
  intro hO hD hg0 hg1 hi hs H locs ls hP hS hv
  have hts : ∀ w ∈ lw_all, w.before #[Value.ref b] s = true := fun w h => hO.1.2.2.2.2.2.1 w (lw_all_tbl h)
  have hPc := va_Pl hP
  have hDc := va_Dl hD
  have hFc := free_of hDc hS (fun _ h => h)
  have ha : ∀ a ∈ as, wv (.inl a) := fun a ha => hs _ (List.mem_append_left _ (List.mem_map.mpr ⟨a, List.mem_reverse.mpr ha, rfl⟩))
  have hrest : ∀ z ∈ rest, wv z := fun z hz => hs z (List.mem_append_right _ (List.mem_cons_of_mem _ hz))
  have hK := hO.2.2
  have est : (as.reverse.map (fun x => (Sum.inl x : AV)) ++ jX ((p, l, e, s, m), (below, meth, c), (D, cT), (hx, ax), (hm, am), (b, L, xs)) :: rest).map tv = (vI as).reverse ++ .ref hx :: rest.map tv := by
    rw [List.map_append, vI_rev]; rfl
  rw [est]
  refine va_calli (va_runV (As := vI as) (rest := rest.map tv) ⟨hO.1.1, hO.1.2.1, hO.1.2.2.2.1, hO.1.2.2.2.2.1, hts⟩ (M hg0 ha l D hx ax cT H.size) (cwV as.length hts hG rfl rfl rfl hd0 hR) ⟨preP_blind, va_recv hK hPc (ci := w0.1) (q0 := 0) w0ok.1 rfl, fun U hU hW => ⟨rfl, by rw [hU], by rw [hU]; exact hPc, va_K.moved hW.alike hK, hDc.weaken (fun _ _ _ _ => trivial)⟩⟩ rfl (by unfold vI; rw [List.length_map]) hv.1 rfl (lv_room hroom) hd ⟨Nat.le_of_ble_eq_true rfl, Nat.le_of_ble_eq_true rfl⟩) hS (fun q _ h => hFc q h) hFc (fun r u t H1 locs1 ht hvm hpost hB hz1 hk1 hS1 => ?_)
  obtain ⟨hP1, hK1, hD1⟩ := hB
  rw [ht] at hP1
  obtain ⟨r1, x1⟩ := u
  obtain ⟨rfl, hwv, hg2, hp⟩ := hpost
  obtain ⟨hP2, hD2⟩ := join_l hP hD hk1 hFc hP1 hD1
  exact kk r1 x1 hp hO hD2 hg2 hg1 hi (wf_k hwv hrest) H1 locs1 ls hP2 hS1 hv
set_option maxHeartbeats 4000000 in
theorem j_call1 {κ : KL} {i : Int} {x y : Sg} {pc : Nat} {rest : List AV} {yy : MethodName} {cc1 : ByteArray} {nL1 fr lo idx : Nat} {as : List Int} {post : Int → Sg → Prop} {st : List AV} (M : Ct w1 yy cc1 nL1 (some .int) fr lo as y post) (hG : GoodIn lw_all (wsV R_law idx w1.2.1.1 yy (ws_ yy cc1 nL1 (some .int)))) (hd0 : yy.cls = w1.2.1.1 ∧ yy.cls ≠ "java/lang/invoke/MethodHandle" ∧ yy.cls ≠ "java/lang/invoke/VarHandle" ∧ (parseMethodDescriptor yy.desc).map (fun d => d.parameters.length) = some as.length) (hR : fr + 1 ≤ room_1.frames ∧ 8 + (nL1 + 11) + lo ≤ room_1.locals) (hst : st = as.reverse.map (fun x => (Sum.inl x : AV)) ++ jM κ :: rest) (hroom : ((rest.map tv).map fun v => v.category).sum ≤ 8) (hd : decode code pc = .ok (.invokevirtual idx, 3)) (kk : ∀ (r : Int) (x1 : Sg), post r x1 → LJ κ i x x1 (pc + 3) (.inl r :: rest)) : LJ κ i x y pc st := by
  subst hst
  obtain ⟨⟨p, l, e, s, m⟩, ⟨below, meth, c⟩, ⟨D, cT⟩, ⟨hx, ax⟩, ⟨hm, am⟩, ⟨b, L, xs⟩⟩ := κ
  intro hO hD hg0 hg1 hi hs H locs ls hP hS hv
  have hts : ∀ w ∈ lw_all, w.before #[Value.ref b] s = true := fun w h => hO.1.2.2.2.2.2.1 w (lw_all_tbl h)
  have hPc := va_Pr hP
  have hDc := va_Dr hD
  have hFc := free_of hDc hS (fun _ h => h)
  have ha : ∀ a ∈ as, wv (.inl a) := fun a ha => hs _ (List.mem_append_left _ (List.mem_map.mpr ⟨a, List.mem_reverse.mpr ha, rfl⟩))
  have hrest : ∀ z ∈ rest, wv z := fun z hz => hs z (List.mem_append_right _ (List.mem_cons_of_mem _ hz))
  have hK := hO.2.2
  have est : (as.reverse.map (fun x => (Sum.inl x : AV)) ++ jM ((p, l, e, s, m), (below, meth, c), (D, cT), (hx, ax), (hm, am), (b, L, xs)) :: rest).map tv = (vI as).reverse ++ .ref hm :: rest.map tv := by
    rw [List.map_append, vI_rev]; rfl
  rw [est]
  refine va_calli (va_runV (As := vI as) (rest := rest.map tv) ⟨hO.1.1, hO.1.2.1, hO.1.2.2.2.1, hO.1.2.2.2.2.1, hts⟩ (M hg1 ha l D hm am cT H.size) (cwV as.length hts hG rfl rfl rfl hd0 hR) ⟨preP_blind, va_recv hK hPc (ci := w1.1) (q0 := 0) w1ok.1 rfl, fun U hU hW => ⟨rfl, by rw [hU], by rw [hU]; exact hPc, va_K.moved hW.alike hK, hDc.weaken (fun _ _ _ _ => trivial)⟩⟩ rfl (by unfold vI; rw [List.length_map]) hv.1 rfl (lv_room hroom) hd ⟨Nat.le_of_ble_eq_true rfl, Nat.le_of_ble_eq_true rfl⟩) hS (fun q _ h => hFc q h) hFc (fun r u t H1 locs1 ht hvm hpost hB hz1 hk1 hS1 => ?_)
  obtain ⟨hP1, hK1, hD1⟩ := hB
  rw [ht] at hP1
  obtain ⟨r1, x1⟩ := u
  obtain ⟨rfl, hwv, hg2, hp⟩ := hpost
  obtain ⟨hP2, hD2⟩ := join_r hP hD hk1 hFc hP1 hD1
  exact kk r1 x1 hp hO hD2 hg0 hg2 hi (wf_k hwv hrest) H1 locs1 ls hP2 hS1 hv
end
section
set_option maxRecDepth 100000
set_option maxHeartbeats 4000000 in
/-- the law's loop -/
theorem law_loop (κ : KL) (hN : jN κ ≤ 192) : ∀ (d : Nat) (i : Int) (x y : Sg), Inv x y → 0 ≤ i → i ≤ jN κ → (jN κ - i).toNat < d → LJ κ i x y 18 [] := by
  intro d
  induction d with
  | zero => intros; omega
  | succ d ih =>
    intro i x y hI hi0 hi1 hd
    refine j_iload3 dL_law_18 ?_
    refine j_aload0 dL_law_19 ?_
    refine j_slen dL_law_20 ?_
    refine j_iconst 3 dL_law_21 (by decide) (by decide) ?_
    refine j_isub dL_law_22 (by omega) ?_
    refine j_icmp_gt (tgt := 368) dL_law_23 (by decide) (fun c23 => ?_) (fun c23 => ?_)
    · refine j_iconst 1 dL_law_368 (by decide) (by decide) ?_
      exact j_ret1 (rest := []) dL_law_369
    · have back : ∀ x1 y1, Inv x1 y1 → LJ κ i x1 y1 362 [] := fun x1 y1 h1 => by
        refine j_iinc dL_law_362 (by omega) ?_
        refine j_goto (tgt := 18) dL_law_365 (by decide) ?_
        exact ih (i + 3) x1 y1 h1 (by omega) (by omega) (by omega)
      refine j_aload0 dL_law_26 ?_
      refine j_iload3 dL_law_27 ?_
      refine j_sld dL_law_28 (by omega) ?_
      refine j_bipush 15 dL_law_29 (by decide) (by decide) ?_
      refine j_iand dL_law_31 (fun z => ?_)
      refine j_ts ?_ ?_ ?_ ?_ ?_ ?_ ?_ ?_ ?_ ?_ ?_ ?_ (back x y hI)
      · refine j_aload1 dL_law_96 ?_
        refine j_aload0 dL_law_97 ?_
        refine j_iload3 dL_law_98 ?_
        refine j_iconst 1 dL_law_99 (by decide) (by decide) ?_
        refine j_iadd dL_law_100 (by omega) ?_
        refine j_sld dL_law_101 (by omega) ?_
        refine j_call0 (as := [(jS κ (i + 1))]) (rest := []) (ct0_constant (jS κ (i + 1)) x hI.1) (lw_V q111 q112 q113 q29 q114) (show yX0_constant.cls = w0.2.1.1 ∧ yX0_constant.cls ≠ "java/lang/invoke/MethodHandle" ∧ yX0_constant.cls ≠ "java/lang/invoke/VarHandle" ∧ (parseMethodDescriptor yX0_constant.desc).map (fun d => d.parameters.length) = some 1 by decide +kernel) (by decide) rfl (Nat.le_of_ble_eq_true rfl) dL_law_102 (fun r0 x1 h0 => ?_)
        refine j_aload2 dL_law_105 ?_
        refine j_aload0 dL_law_106 ?_
        refine j_iload3 dL_law_107 ?_
        refine j_iconst 1 dL_law_108 (by decide) (by decide) ?_
        refine j_iadd dL_law_109 (by omega) ?_
        refine j_sld dL_law_110 (by omega) ?_
        refine j_call1 (as := [(jS κ (i + 1))]) (rest := [.inl r0]) (ct1_constant (jS κ (i + 1)) y hI.pm) (lw_V q271 q272 q273 q30 q274) (show yX1_constant.cls = w1.2.1.1 ∧ yX1_constant.cls ≠ "java/lang/invoke/MethodHandle" ∧ yX1_constant.cls ≠ "java/lang/invoke/VarHandle" ∧ (parseMethodDescriptor yX1_constant.desc).map (fun d => d.parameters.length) = some 1 by decide +kernel) (by decide) rfl (Nat.le_of_ble_eq_true rfl) dL_law_111 (fun r1 y1 h1 => ?_)
        have hok := inv_constant hI h0 h1
        exact j_icmp_eq (tgt := 362) dL_law_114 (by decide) (fun _ => back x1 y1 hok.2) (fun hc => absurd hok.1 hc)
      · refine j_aload1 dL_law_119 ?_
        refine j_aload0 dL_law_120 ?_
        refine j_iload3 dL_law_121 ?_
        refine j_iconst 1 dL_law_122 (by decide) (by decide) ?_
        refine j_iadd dL_law_123 (by omega) ?_
        refine j_sld dL_law_124 (by omega) ?_
        refine j_call0 (as := [(jS κ (i + 1))]) (rest := []) (ct0_one (jS κ (i + 1)) x hI.1) (lw_V q123 q124 q125 q29 q126) (show yX0_one.cls = w0.2.1.1 ∧ yX0_one.cls ≠ "java/lang/invoke/MethodHandle" ∧ yX0_one.cls ≠ "java/lang/invoke/VarHandle" ∧ (parseMethodDescriptor yX0_one.desc).map (fun d => d.parameters.length) = some 1 by decide +kernel) (by decide) rfl (Nat.le_of_ble_eq_true rfl) dL_law_125 (fun r0 x1 h0 => ?_)
        refine j_aload2 dL_law_128 ?_
        refine j_aload0 dL_law_129 ?_
        refine j_iload3 dL_law_130 ?_
        refine j_iconst 1 dL_law_131 (by decide) (by decide) ?_
        refine j_iadd dL_law_132 (by omega) ?_
        refine j_sld dL_law_133 (by omega) ?_
        refine j_call1 (as := [(jS κ (i + 1))]) (rest := [.inl r0]) (ct1_one (jS κ (i + 1)) y hI.pm) (lw_V q291 q292 q293 q30 q294) (show yX1_one.cls = w1.2.1.1 ∧ yX1_one.cls ≠ "java/lang/invoke/MethodHandle" ∧ yX1_one.cls ≠ "java/lang/invoke/VarHandle" ∧ (parseMethodDescriptor yX1_one.desc).map (fun d => d.parameters.length) = some 1 by decide +kernel) (by decide) rfl (Nat.le_of_ble_eq_true rfl) dL_law_134 (fun r1 y1 h1 => ?_)
        have hok := inv_one hI h0 h1
        exact j_icmp_eq (tgt := 362) dL_law_137 (by decide) (fun _ => back x1 y1 hok.2) (fun hc => absurd hok.1 hc)
      · refine j_aload1 dL_law_142 ?_
        refine j_aload0 dL_law_143 ?_
        refine j_iload3 dL_law_144 ?_
        refine j_iconst 1 dL_law_145 (by decide) (by decide) ?_
        refine j_iadd dL_law_146 (by omega) ?_
        refine j_sld dL_law_147 (by omega) ?_
        refine j_aload0 dL_law_148 ?_
        refine j_iload3 dL_law_149 ?_
        refine j_iconst 2 dL_law_150 (by decide) (by decide) ?_
        refine j_iadd dL_law_151 (by omega) ?_
        refine j_sld dL_law_152 (by omega) ?_
        refine j_call0 (as := [(jS κ (i + 1)), (jS κ (i + 2))]) (rest := []) (ct0_two (jS κ (i + 1)) (jS κ (i + 2)) x hI.1) (lw_V q131 q132 q133 q29 q134) (show yX0_two.cls = w0.2.1.1 ∧ yX0_two.cls ≠ "java/lang/invoke/MethodHandle" ∧ yX0_two.cls ≠ "java/lang/invoke/VarHandle" ∧ (parseMethodDescriptor yX0_two.desc).map (fun d => d.parameters.length) = some 2 by decide +kernel) (by decide) rfl (Nat.le_of_ble_eq_true rfl) dL_law_153 (fun r0 x1 h0 => ?_)
        refine j_aload2 dL_law_156 ?_
        refine j_aload0 dL_law_157 ?_
        refine j_iload3 dL_law_158 ?_
        refine j_iconst 1 dL_law_159 (by decide) (by decide) ?_
        refine j_iadd dL_law_160 (by omega) ?_
        refine j_sld dL_law_161 (by omega) ?_
        refine j_aload0 dL_law_162 ?_
        refine j_iload3 dL_law_163 ?_
        refine j_iconst 2 dL_law_164 (by decide) (by decide) ?_
        refine j_iadd dL_law_165 (by omega) ?_
        refine j_sld dL_law_166 (by omega) ?_
        refine j_call1 (as := [(jS κ (i + 1)), (jS κ (i + 2))]) (rest := [.inl r0]) (ct1_two (jS κ (i + 1)) (jS κ (i + 2)) y hI.pm) (lw_V q299 q300 q301 q30 q302) (show yX1_two.cls = w1.2.1.1 ∧ yX1_two.cls ≠ "java/lang/invoke/MethodHandle" ∧ yX1_two.cls ≠ "java/lang/invoke/VarHandle" ∧ (parseMethodDescriptor yX1_two.desc).map (fun d => d.parameters.length) = some 2 by decide +kernel) (by decide) rfl (Nat.le_of_ble_eq_true rfl) dL_law_167 (fun r1 y1 h1 => ?_)
        have hok := inv_two hI h0 h1
        exact j_icmp_eq (tgt := 362) dL_law_170 (by decide) (fun _ => back x1 y1 hok.2) (fun hc => absurd hok.1 hc)
      · refine j_aload1 dL_law_175 ?_
        refine j_aload0 dL_law_176 ?_
        refine j_iload3 dL_law_177 ?_
        refine j_iconst 1 dL_law_178 (by decide) (by decide) ?_
        refine j_iadd dL_law_179 (by omega) ?_
        refine j_sld dL_law_180 (by omega) ?_
        refine j_aload0 dL_law_181 ?_
        refine j_iload3 dL_law_182 ?_
        refine j_iconst 2 dL_law_183 (by decide) (by decide) ?_
        refine j_iadd dL_law_184 (by omega) ?_
        refine j_sld dL_law_185 (by omega) ?_
        refine j_call0 (as := [(jS κ (i + 1)), (jS κ (i + 2))]) (rest := []) (ct0_equate (jS κ (i + 1)) (jS κ (i + 2)) x hI.1) (lw_V q135 q136 q137 q29 q138) (show yX0_equate.cls = w0.2.1.1 ∧ yX0_equate.cls ≠ "java/lang/invoke/MethodHandle" ∧ yX0_equate.cls ≠ "java/lang/invoke/VarHandle" ∧ (parseMethodDescriptor yX0_equate.desc).map (fun d => d.parameters.length) = some 2 by decide +kernel) (by decide) rfl (Nat.le_of_ble_eq_true rfl) dL_law_186 (fun r0 x1 h0 => ?_)
        refine j_aload2 dL_law_189 ?_
        refine j_aload0 dL_law_190 ?_
        refine j_iload3 dL_law_191 ?_
        refine j_iconst 1 dL_law_192 (by decide) (by decide) ?_
        refine j_iadd dL_law_193 (by omega) ?_
        refine j_sld dL_law_194 (by omega) ?_
        refine j_aload0 dL_law_195 ?_
        refine j_iload3 dL_law_196 ?_
        refine j_iconst 2 dL_law_197 (by decide) (by decide) ?_
        refine j_iadd dL_law_198 (by omega) ?_
        refine j_sld dL_law_199 (by omega) ?_
        refine j_call1 (as := [(jS κ (i + 1)), (jS κ (i + 2))]) (rest := [.inl r0]) (ct1_equate (jS κ (i + 1)) (jS κ (i + 2)) y hI.pm) (lw_V q303 q304 q305 q30 q306) (show yX1_equate.cls = w1.2.1.1 ∧ yX1_equate.cls ≠ "java/lang/invoke/MethodHandle" ∧ yX1_equate.cls ≠ "java/lang/invoke/VarHandle" ∧ (parseMethodDescriptor yX1_equate.desc).map (fun d => d.parameters.length) = some 2 by decide +kernel) (by decide) rfl (Nat.le_of_ble_eq_true rfl) dL_law_200 (fun r1 y1 h1 => ?_)
        have hok := inv_equate hI h0 h1
        exact j_icmp_eq (tgt := 362) dL_law_203 (by decide) (fun _ => back x1 y1 hok.2) (fun hc => absurd hok.1 hc)
      · refine j_aload1 dL_law_208 ?_
        refine j_aload0 dL_law_209 ?_
        refine j_iload3 dL_law_210 ?_
        refine j_iconst 1 dL_law_211 (by decide) (by decide) ?_
        refine j_iadd dL_law_212 (by omega) ?_
        refine j_sld dL_law_213 (by omega) ?_
        refine j_call0 (as := [(jS κ (i + 1))]) (rest := []) (ct0_leader (jS κ (i + 1)) x hI.1.1.2.1) (lw_V q151 q152 q153 q29 q154) (show yX0_leader.cls = w0.2.1.1 ∧ yX0_leader.cls ≠ "java/lang/invoke/MethodHandle" ∧ yX0_leader.cls ≠ "java/lang/invoke/VarHandle" ∧ (parseMethodDescriptor yX0_leader.desc).map (fun d => d.parameters.length) = some 1 by decide +kernel) (by decide) rfl (Nat.le_of_ble_eq_true rfl) dL_law_214 (fun r0 x1 h0 => ?_)
        refine j_aload2 dL_law_217 ?_
        refine j_aload0 dL_law_218 ?_
        refine j_iload3 dL_law_219 ?_
        refine j_iconst 1 dL_law_220 (by decide) (by decide) ?_
        refine j_iadd dL_law_221 (by omega) ?_
        refine j_sld dL_law_222 (by omega) ?_
        refine j_call1 (as := [(jS κ (i + 1))]) (rest := [.inl r0]) (ct1_leader (jS κ (i + 1)) y hI.n0.2) (lw_V q311 q312 q313 q30 q314) (show yX1_leader.cls = w1.2.1.1 ∧ yX1_leader.cls ≠ "java/lang/invoke/MethodHandle" ∧ yX1_leader.cls ≠ "java/lang/invoke/VarHandle" ∧ (parseMethodDescriptor yX1_leader.desc).map (fun d => d.parameters.length) = some 1 by decide +kernel) (by decide) rfl (Nat.le_of_ble_eq_true rfl) dL_law_223 (fun r1 y1 h1 => ?_)
        have hok := inv_leader hI h0 h1
        exact j_icmp_eq (tgt := 362) dL_law_226 (by decide) (fun _ => back x1 y1 hok.2) (fun hc => absurd hok.1 hc)
      · refine j_aload1 dL_law_231 ?_
        refine j_call0 (as := []) (rest := []) (ct0_classes x hI.1.1.1 hI.1.1.2.1) (lw_V q155 q148 q149 q29 q150) (show yX0_classes.cls = w0.2.1.1 ∧ yX0_classes.cls ≠ "java/lang/invoke/MethodHandle" ∧ yX0_classes.cls ≠ "java/lang/invoke/VarHandle" ∧ (parseMethodDescriptor yX0_classes.desc).map (fun d => d.parameters.length) = some 0 by decide +kernel) (by decide) rfl (Nat.le_of_ble_eq_true rfl) dL_law_232 (fun r0 x1 h0 => ?_)
        refine j_aload2 dL_law_235 ?_
        refine j_call1 (as := []) (rest := [.inl r0]) (ct1_classes y hI.n0.1 hI.n0.2) (lw_V q315 q308 q309 q30 q310) (show yX1_classes.cls = w1.2.1.1 ∧ yX1_classes.cls ≠ "java/lang/invoke/MethodHandle" ∧ yX1_classes.cls ≠ "java/lang/invoke/VarHandle" ∧ (parseMethodDescriptor yX1_classes.desc).map (fun d => d.parameters.length) = some 0 by decide +kernel) (by decide) rfl (Nat.le_of_ble_eq_true rfl) dL_law_236 (fun r1 y1 h1 => ?_)
        have hok := inv_classes hI h0 h1
        exact j_icmp_eq (tgt := 362) dL_law_239 (by decide) (fun _ => back x1 y1 hok.2) (fun hc => absurd hok.1 hc)
      · refine j_aload1 dL_law_244 ?_
        refine j_aload0 dL_law_245 ?_
        refine j_iload3 dL_law_246 ?_
        refine j_iconst 1 dL_law_247 (by decide) (by decide) ?_
        refine j_iadd dL_law_248 (by omega) ?_
        refine j_sld dL_law_249 (by omega) ?_
        refine j_call0 (as := [(jS κ (i + 1))]) (rest := []) (ct0_token (jS κ (i + 1)) x hI.2.2.2.1.1 hI.2.2.2.1.2.1) (lw_V q156 q157 q158 q29 q159) (show yX0_token.cls = w0.2.1.1 ∧ yX0_token.cls ≠ "java/lang/invoke/MethodHandle" ∧ yX0_token.cls ≠ "java/lang/invoke/VarHandle" ∧ (parseMethodDescriptor yX0_token.desc).map (fun d => d.parameters.length) = some 1 by decide +kernel) (by decide) rfl (Nat.le_of_ble_eq_true rfl) dL_law_250 (fun r0 x1 h0 => ?_)
        refine j_aload2 dL_law_253 ?_
        refine j_aload0 dL_law_254 ?_
        refine j_iload3 dL_law_255 ?_
        refine j_iconst 1 dL_law_256 (by decide) (by decide) ?_
        refine j_iadd dL_law_257 (by omega) ?_
        refine j_sld dL_law_258 (by omega) ?_
        refine j_call1 (as := [(jS κ (i + 1))]) (rest := [.inl r0]) (ct1_token (jS κ (i + 1)) y hI.t0 hI.t7) (lw_V q316 q317 q318 q30 q319) (show yX1_token.cls = w1.2.1.1 ∧ yX1_token.cls ≠ "java/lang/invoke/MethodHandle" ∧ yX1_token.cls ≠ "java/lang/invoke/VarHandle" ∧ (parseMethodDescriptor yX1_token.desc).map (fun d => d.parameters.length) = some 1 by decide +kernel) (by decide) rfl (Nat.le_of_ble_eq_true rfl) dL_law_259 (fun r1 y1 h1 => ?_)
        have hok := inv_token hI h0 h1
        exact j_icmp_eq (tgt := 362) dL_law_262 (by decide) (fun _ => back x1 y1 hok.2) (fun hc => absurd hok.1 hc)
      · refine j_aload1 dL_law_267 ?_
        refine j_call0 (as := []) (rest := []) (ct0_wipe x) (lw_V q160 q161 q162 q29 q163) (show yX0_wipe.cls = w0.2.1.1 ∧ yX0_wipe.cls ≠ "java/lang/invoke/MethodHandle" ∧ yX0_wipe.cls ≠ "java/lang/invoke/VarHandle" ∧ (parseMethodDescriptor yX0_wipe.desc).map (fun d => d.parameters.length) = some 0 by decide +kernel) (by decide) rfl (Nat.le_of_ble_eq_true rfl) dL_law_268 (fun r0 x1 h0 => ?_)
        refine j_aload2 dL_law_271 ?_
        refine j_call1 (as := []) (rest := [.inl r0]) (ct1_wipe y) (lw_V q320 q321 q322 q30 q323) (show yX1_wipe.cls = w1.2.1.1 ∧ yX1_wipe.cls ≠ "java/lang/invoke/MethodHandle" ∧ yX1_wipe.cls ≠ "java/lang/invoke/VarHandle" ∧ (parseMethodDescriptor yX1_wipe.desc).map (fun d => d.parameters.length) = some 0 by decide +kernel) (by decide) rfl (Nat.le_of_ble_eq_true rfl) dL_law_272 (fun r1 y1 h1 => ?_)
        have hok := inv_wipe hI h0 h1
        exact j_icmp_eq (tgt := 362) dL_law_275 (by decide) (fun _ => back x1 y1 hok.2) (fun hc => absurd hok.1 hc)
      · refine j_aload1 dL_law_280 ?_
        refine j_call0 (as := []) (rest := []) (ct0_matches x hI.1 hI.2.2.2.1 hI.2.2.2.2.2.2) (lw_V q164 q165 q166 q29 q167) (show yX0_matches.cls = w0.2.1.1 ∧ yX0_matches.cls ≠ "java/lang/invoke/MethodHandle" ∧ yX0_matches.cls ≠ "java/lang/invoke/VarHandle" ∧ (parseMethodDescriptor yX0_matches.desc).map (fun d => d.parameters.length) = some 0 by decide +kernel) (by decide) rfl (Nat.le_of_ble_eq_true rfl) dL_law_281 (fun r0 x1 h0 => ?_)
        refine j_aload2 dL_law_284 ?_
        refine j_call1 (as := []) (rest := [.inl r0]) (ct1_matches y hI.pm hI.t0 hI.t7 hI.ts) (lw_V q324 q325 q326 q30 q327) (show yX1_matches.cls = w1.2.1.1 ∧ yX1_matches.cls ≠ "java/lang/invoke/MethodHandle" ∧ yX1_matches.cls ≠ "java/lang/invoke/VarHandle" ∧ (parseMethodDescriptor yX1_matches.desc).map (fun d => d.parameters.length) = some 0 by decide +kernel) (by decide) rfl (Nat.le_of_ble_eq_true rfl) dL_law_285 (fun r1 y1 h1 => ?_)
        have hok := inv_matches hI h0 h1
        exact j_icmp_eq (tgt := 362) dL_law_288 (by decide) (fun _ => back x1 y1 hok.2) (fun hc => absurd hok.1 hc)
      · refine j_aload1 dL_law_293 ?_
        refine j_aload0 dL_law_294 ?_
        refine j_iload3 dL_law_295 ?_
        refine j_iconst 1 dL_law_296 (by decide) (by decide) ?_
        refine j_iadd dL_law_297 (by omega) ?_
        refine j_sld dL_law_298 (by omega) ?_
        refine j_call0 (as := [(jS κ (i + 1))]) (rest := []) (ct0_matchesAt (jS κ (i + 1)) x hI.1 hI.2.2.2.1 hI.2.2.2.2.2.2) (lw_V q212 q213 q214 q29 q215) (show yX0_matchesAt.cls = w0.2.1.1 ∧ yX0_matchesAt.cls ≠ "java/lang/invoke/MethodHandle" ∧ yX0_matchesAt.cls ≠ "java/lang/invoke/VarHandle" ∧ (parseMethodDescriptor yX0_matchesAt.desc).map (fun d => d.parameters.length) = some 1 by decide +kernel) (by decide) rfl (Nat.le_of_ble_eq_true rfl) dL_law_299 (fun r0 x1 h0 => ?_)
        refine j_aload2 dL_law_302 ?_
        refine j_aload0 dL_law_303 ?_
        refine j_iload3 dL_law_304 ?_
        refine j_iconst 1 dL_law_305 (by decide) (by decide) ?_
        refine j_iadd dL_law_306 (by omega) ?_
        refine j_sld dL_law_307 (by omega) ?_
        refine j_call1 (as := [(jS κ (i + 1))]) (rest := [.inl r0]) (ct1_matchesAt (jS κ (i + 1)) y hI.pm hI.t0 hI.t7 hI.ts) (lw_V q356 q357 q358 q30 q359) (show yX1_matchesAt.cls = w1.2.1.1 ∧ yX1_matchesAt.cls ≠ "java/lang/invoke/MethodHandle" ∧ yX1_matchesAt.cls ≠ "java/lang/invoke/VarHandle" ∧ (parseMethodDescriptor yX1_matchesAt.desc).map (fun d => d.parameters.length) = some 1 by decide +kernel) (by decide) rfl (Nat.le_of_ble_eq_true rfl) dL_law_308 (fun r1 y1 h1 => ?_)
        have hok := inv_matchesAt hI h0 h1
        exact j_icmp_eq (tgt := 362) dL_law_311 (by decide) (fun _ => back x1 y1 hok.2) (fun hc => absurd hok.1 hc)
      · refine j_aload1 dL_law_316 ?_
        refine j_aload0 dL_law_317 ?_
        refine j_iload3 dL_law_318 ?_
        refine j_iconst 1 dL_law_319 (by decide) (by decide) ?_
        refine j_iadd dL_law_320 (by omega) ?_
        refine j_sld dL_law_321 (by omega) ?_
        refine j_aload0 dL_law_322 ?_
        refine j_iload3 dL_law_323 ?_
        refine j_iconst 2 dL_law_324 (by decide) (by decide) ?_
        refine j_iadd dL_law_325 (by omega) ?_
        refine j_sld dL_law_326 (by omega) ?_
        refine j_call0 (as := [(jS κ (i + 1)), (jS κ (i + 2))]) (rest := []) (ct0_binding (jS κ (i + 1)) (jS κ (i + 2)) x hI.1 hI.2.2.2.1 hI.2.2.2.2.2.2) (lw_V q216 q217 q218 q29 q219) (show yX0_binding.cls = w0.2.1.1 ∧ yX0_binding.cls ≠ "java/lang/invoke/MethodHandle" ∧ yX0_binding.cls ≠ "java/lang/invoke/VarHandle" ∧ (parseMethodDescriptor yX0_binding.desc).map (fun d => d.parameters.length) = some 2 by decide +kernel) (by decide) rfl (Nat.le_of_ble_eq_true rfl) dL_law_327 (fun r0 x1 h0 => ?_)
        refine j_aload2 dL_law_330 ?_
        refine j_aload0 dL_law_331 ?_
        refine j_iload3 dL_law_332 ?_
        refine j_iconst 1 dL_law_333 (by decide) (by decide) ?_
        refine j_iadd dL_law_334 (by omega) ?_
        refine j_sld dL_law_335 (by omega) ?_
        refine j_aload0 dL_law_336 ?_
        refine j_iload3 dL_law_337 ?_
        refine j_iconst 2 dL_law_338 (by decide) (by decide) ?_
        refine j_iadd dL_law_339 (by omega) ?_
        refine j_sld dL_law_340 (by omega) ?_
        refine j_call1 (as := [(jS κ (i + 1)), (jS κ (i + 2))]) (rest := [.inl r0]) (ct1_binding (jS κ (i + 1)) (jS κ (i + 2)) y hI.pm hI.t0 hI.t7 hI.ts) (lw_V q360 q361 q362 q30 q363) (show yX1_binding.cls = w1.2.1.1 ∧ yX1_binding.cls ≠ "java/lang/invoke/MethodHandle" ∧ yX1_binding.cls ≠ "java/lang/invoke/VarHandle" ∧ (parseMethodDescriptor yX1_binding.desc).map (fun d => d.parameters.length) = some 2 by decide +kernel) (by decide) rfl (Nat.le_of_ble_eq_true rfl) dL_law_341 (fun r1 y1 h1 => ?_)
        have hok := inv_binding hI h0 h1
        exact j_icmp_eq (tgt := 362) dL_law_344 (by decide) (fun _ => back x1 y1 hok.2) (fun hc => absurd hok.1 hc)
      · refine j_aload1 dL_law_349 ?_
        refine j_call0 (as := []) (rest := []) (ct0_clear x) (lw_V q220 q221 q222 q29 q223) (show yX0_clear.cls = w0.2.1.1 ∧ yX0_clear.cls ≠ "java/lang/invoke/MethodHandle" ∧ yX0_clear.cls ≠ "java/lang/invoke/VarHandle" ∧ (parseMethodDescriptor yX0_clear.desc).map (fun d => d.parameters.length) = some 0 by decide +kernel) (by decide) rfl (Nat.le_of_ble_eq_true rfl) dL_law_350 (fun r0 x1 h0 => ?_)
        refine j_aload2 dL_law_353 ?_
        refine j_call1 (as := []) (rest := [.inl r0]) (ct1_clear y) (lw_V q364 q365 q366 q30 q367) (show yX1_clear.cls = w1.2.1.1 ∧ yX1_clear.cls ≠ "java/lang/invoke/MethodHandle" ∧ yX1_clear.cls ≠ "java/lang/invoke/VarHandle" ∧ (parseMethodDescriptor yX1_clear.desc).map (fun d => d.parameters.length) = some 0 by decide +kernel) (by decide) rfl (Nat.le_of_ble_eq_true rfl) dL_law_354 (fun r1 y1 h1 => ?_)
        have hok := inv_clear hI h0 h1
        exact j_icmp_eq (tgt := 362) dL_law_357 (by decide) (fun _ => back x1 y1 hok.2) (fun hc => absurd hok.1 hc)
theorem arr_b {s : State} {args : Array Value} (h : (Cond.arrayClass .byte).before args s = true) : ∃ cA, ArrOfT s cA .byte ∧ va_RA s cA .byte := by
  obtain ⟨cA, kA, comp, h1, h2, h3⟩ := Cond.arrayClass_spec h
  exact ⟨cA, fun n z => ⟨fun k h => (by cases h), kA, h2, comp, h3⟩, h1⟩
theorem arr_i {s : State} {args : Array Value} (h : (Cond.arrayClass .int).before args s = true) : ∃ cA, ArrOfT s cA .int ∧ va_RA s cA .int := by
  obtain ⟨cA, kA, comp, h1, h2, h3⟩ := Cond.arrayClass_spec h
  exact ⟨cA, fun n z => ⟨fun k h => (by cases h), kA, h2, comp, h3⟩, h1⟩
theorem arr_l {s : State} {args : Array Value} (h : (Cond.arrayClass .long).before args s = true) : ∃ cA, ArrOfT s cA .long ∧ va_RA s cA .long := by
  obtain ⟨cA, kA, comp, h1, h2, h3⟩ := Cond.arrayClass_spec h
  exact ⟨cA, fun n z => ⟨fun k h => (by cases h), kA, h2, comp, h3⟩, h1⟩
theorem preI_blind {w : WS} {h : Nat} {ad : Nat → Nat} {cT : Nat → ClassId} {D : va_G} {sz : Nat} {av : List Value} : FrameBlind (va_Pc av (preI w h ad cT D sz)) := fun a U g mk q => by
  obtain ⟨q0, q1, qP, qK, qD⟩ := q
  exact ⟨q0, q1, qP, va_K.moved (u := U) (U := U.calling g mk a) (Vm.Alike.refl U.vm) qK, qD⟩
theorem dflt0 (ad : Nat → Nat) : ∀ j, j < 23 → defaultValue (tyX0 j) = vp_V (fsN w0 ad 0) j := fun j hj => by
  rcases (show j = 0 ∨ j = 1 ∨ j = 2 ∨ j = 3 ∨ j = 4 ∨ j = 5 ∨ j = 6 ∨ j = 7 ∨ j = 8 ∨ j = 9 ∨ j = 10 ∨ j = 11 ∨ j = 12 ∨ j = 13 ∨ j = 14 ∨ j = 15 ∨ j = 16 ∨ j = 17 ∨ j = 18 ∨ j = 19 ∨ j = 20 ∨ j = 21 ∨ j = 22 by omega) with rfl | rfl | rfl | rfl | rfl | rfl | rfl | rfl | rfl | rfl | rfl | rfl | rfl | rfl | rfl | rfl | rfl | rfl | rfl | rfl | rfl | rfl | rfl <;> rfl
theorem dflt1 (ad : Nat → Nat) : ∀ j, j < 13 → defaultValue (tyX1 j) = vp_V (fsN w1 ad 0) j := fun j hj => by
  rcases (show j = 0 ∨ j = 1 ∨ j = 2 ∨ j = 3 ∨ j = 4 ∨ j = 5 ∨ j = 6 ∨ j = 7 ∨ j = 8 ∨ j = 9 ∨ j = 10 ∨ j = 11 ∨ j = 12 by omega) with rfl | rfl | rfl | rfl | rfl | rfl | rfl | rfl | rfl | rfl | rfl | rfl | rfl <;> rfl
set_option maxHeartbeats 4000000 in
/-- the law, from its entry -/
theorem whole_start {p : Program} {e : Env} {s : State} {m : MethodId} {below : List Frame} {meth : Method} {c : Code} (l : Launch) {b L : Nat} {xs : Nat → Int32} (hL : L ≤ 192) (C0 : lw_At p s m meth c b L xs) : W p l e room_1 s m #[Value.ref b] below meth c s.heap [] 0 0 (lw_Z below #[Value.ref b] s) (entryFrame m ([Value.ref b] : List Value).toArray 4) := by
  obtain ⟨hx, hb, hr, hml, hown, hts0, hX, hbl, hlocks, hgv⟩ := id C0
  have hts : ∀ w ∈ lw_all, w.before #[Value.ref b] s = true := fun w h => hts0 w (lw_all_tbl h)
  have hA : ∀ q : Nat, s.heap.size ≤ q → (fun q : Nat => s.heap.size ≤ q) q := fun _ h => h
  obtain ⟨c0, iS0, hKn0⟩ := u_known (C := RX0) (T := TX0) (N := 23) (n := 23) hts in_X0 (hts _ q32)
  obtain ⟨c1, iS1, hKn1⟩ := u_known (C := RX1) (T := TX1) (N := 13) (n := 13) hts in_X1 (hts _ q225)
  obtain ⟨dC, dI, hKc⟩ : ∃ (dC : Nat → ClassId) (dI : Nat → Nat → Nat), ∀ (k : Nat) (q : vw_C), vwCl[k]? = some q → u_Kn s q.1 q.2.1 q.2.2 (dC k) (dI k) := by
    refine ⟨fun k => if k = 0 then c0 else c1, fun k => if k = 0 then iS0 else iS1, ?_⟩
    intro k q hq
    match k, hq with
    | 0, hq => cases hq; exact hKn0
    | 1, hq => cases hq; exact hKn1
    | k + 2, hq => simp [vwCl] at hq
  obtain ⟨cB, hcB⟩ := arr_b (hts _ q109)
  obtain ⟨cI, hcI⟩ := arr_i (hts _ q270)
  obtain ⟨cL, hcL⟩ := arr_l (hts _ q110)
  obtain ⟨cT, hKt⟩ : ∃ cT : Nat → ClassId, ∀ (k : Nat) (q : ClassId × FieldType), (tysOf cT)[k]? = some q → ArrOfT s q.1 q.2 ∧ va_RA s q.1 q.2 := by
    refine ⟨fun k => if k = 0 then cB else if k = 1 then cI else cL, ?_⟩
    intro k q hq
    match k, hq with
    | 0, hq => cases hq; exact hcB
    | 1, hq => cases hq; exact hcI
    | 2, hq => cases hq; exact hcL
    | k + 3, hq => simp [tysOf] at hq
  have hK : va_K (dC, dI) vwCl (tysOf cT) s := ⟨hKc, hKt⟩
  have hS : va_S (fun q : Nat => s.heap.size ≤ q) s.heap s.heap [] := va_S.rf
  have hP : va_P (dC, dI) vwCl [] s.heap := fun k q h => by simp at h
  have hD : va_D (fun q : Nat => s.heap.size ≤ q) [] := ⟨fun i j p q h => by simp at h, fun k q h => by simp at h⟩
  have hl := lv_entry ([.ref b]) (n := 4) (Nat.le_of_ble_eq_true rfl)
  rw [lg_entry_eq]
  generalize (lg_sl ([.ref b]) ++ List.replicate (4 - (lg_sl ([.ref b])).length) Slot.unset).toArray = ls at hl ⊢
  have hl : lv_has ls 4 [(0, .ref b)] := hl
  refine va_new (ci := 0) (fs := fsN w0 (fun _ => 0) 0) (C := RX0) (T := TX0) (N := 23) hx hb hts in_X0 tyX0 tyX0_ok hown (hts _ q31) (hts _ q32) (hts _ q29) hK hP hD hS hA rfl (dflt0 _) (Nat.le_of_ble_eq_true rfl) (Nat.le_of_ble_eq_true rfl) dL_law_0 (fun hx_ H hP hD hS => ?_)
  have hP : va_P (dC, dI) vwCl (iw w0 hx_ (fun _ => 0) cT 0) H := hP
  have hD : va_D (fun q : Nat => s.heap.size ≤ q) (iw w0 hx_ (fun _ => 0) cT 0) := hD
  refine W.widen (k := 1) (n := 23) (Nat.le_of_ble_eq_true rfl) (Nat.le_of_ble_eq_true rfl) ?_
  refine lv_dup hx hb dL_law_3 rfl ?_
  have hPc := hP
  have hDc := hD
  have hFc := free_of hDc hS hA
  refine va_callv (va_runI (As := []) (rest := [.ref hx_]) ⟨hx, hb, hml, hown, hts⟩ (met0_init l (dC, dI) hx_ (fun _ => 0) cT H.size) (cwI 0 hts (lw_meth q35) rfl rfl rfl (hts _ q29) (hts _ q33) (hts _ q34) rfl (by decide +kernel) ⟨(Nat.le_of_ble_eq_true rfl), (Nat.le_of_ble_eq_true rfl)⟩) ⟨preI_blind, fun U hU hW => ⟨rfl, by rw [hU], by rw [hU]; exact hPc, va_K.moved hW.alike hK, hDc.weaken (fun _ _ _ _ => trivial)⟩⟩ rfl rfl hl.1 rfl (lv_room (Nat.le_of_ble_eq_true rfl)) dL_law_4 ⟨(Nat.le_of_ble_eq_true rfl), (Nat.le_of_ble_eq_true rfl)⟩) hS (fun q _ h => hFc q h) hFc (fun ax t H1 locs ht hvm hw hB hz1 hk1 hS => ?_)
  obtain ⟨hP1, hK1, hD1⟩ := hB
  rw [ht] at hP1
  refine W.widen (k := 17) (n := 690) (Nat.le_of_ble_eq_true rfl) (Nat.le_of_ble_eq_true rfl) ?_
  have hP : va_P (dC, dI) vwCl (pw w0 hx_ ax cT Z0) H1 := hP1
  have hD : va_D (fun q : Nat => s.heap.size ≤ q) (pw w0 hx_ ax cT Z0) := hD1.weaken (fun _ q _ h => hFc q.1 h)
  refine lv_astore_n (lv' := [(1, .ref hx_), (0, .ref b)]) hx hb dL_law_7 rfl hl (by decide) rfl (fun ls hl => ?_)
  refine va_new (ci := 1) (fs := fsN w1 (fun _ => 0) 0) (C := RX1) (T := TX1) (N := 13) hx hb hts in_X1 tyX1 tyX1_ok hown (hts _ q224) (hts _ q225) (hts _ q30) hK hP hD hS hA rfl (dflt1 _) (Nat.le_of_ble_eq_true rfl) (Nat.le_of_ble_eq_true rfl) dL_law_8 (fun hm_ H hP hD hS => ?_)
  have hP : va_P (dC, dI) vwCl (pw w0 hx_ ax cT Z0 ++ iw w1 hm_ (fun _ => 0) cT 0) H := hP
  have hD : va_D (fun q : Nat => s.heap.size ≤ q) (pw w0 hx_ ax cT Z0 ++ iw w1 hm_ (fun _ => 0) cT 0) := hD
  refine W.widen (k := 18) (n := 703) (Nat.le_of_ble_eq_true rfl) (Nat.le_of_ble_eq_true rfl) ?_
  refine lv_dup hx hb dL_law_11 rfl ?_
  have hPc := va_Pr hP
  have hDc := va_Dr hD
  have hFc := free_of hDc hS hA
  refine va_callv (va_runI (As := []) (rest := [.ref hm_]) ⟨hx, hb, hml, hown, hts⟩ (met1_init l (dC, dI) hm_ (fun _ => 0) cT H.size) (cwI 0 hts (lw_meth q228) rfl rfl rfl (hts _ q30) (hts _ q226) (hts _ q227) rfl (by decide +kernel) ⟨(Nat.le_of_ble_eq_true rfl), (Nat.le_of_ble_eq_true rfl)⟩) ⟨preI_blind, fun U hU hW => ⟨rfl, by rw [hU], by rw [hU]; exact hPc, va_K.moved hW.alike hK, hDc.weaken (fun _ _ _ _ => trivial)⟩⟩ rfl rfl hl.1 rfl (lv_room (Nat.le_of_ble_eq_true rfl)) dL_law_12 ⟨(Nat.le_of_ble_eq_true rfl), (Nat.le_of_ble_eq_true rfl)⟩) hS (fun q _ h => hFc q h) hFc (fun am t H1 locs ht hvm hw hB hz1 hk1 hS => ?_)
  obtain ⟨hP1, hK1, hD1⟩ := hB
  rw [ht] at hP1
  refine W.widen (k := 26) (n := 804) (Nat.le_of_ble_eq_true rfl) (Nat.le_of_ble_eq_true rfl) ?_
  obtain ⟨hP, hD⟩ := join_r hP hD hk1 hFc hP1 hD1
  refine lv_astore_n (lv' := [(2, .ref hm_), (1, .ref hx_), (0, .ref b)]) hx hb dL_law_15 rfl hl (by decide) rfl (fun ls hl => ?_)
  refine lv_iconst (v := iI 0) hx hb dL_law_16 (by decide) ?_
  refine lv_istore_n (lv' := [(3, .int (iI 0)), (2, .ref hm_), (1, .ref hx_), (0, .ref b)]) hx hb dL_law_17 rfl hl (by decide) rfl (fun ls hl => ?_)
  exact law_loop ((p, l, e, s, m), (below, meth, c), ((dC, dI), cT), (hx_, ax), (hm_, am), (b, L, xs)) (show (L : Int) ≤ 192 by omega) (L + 1) 0 Z0 Z0 inv_Z (by omega) (show (0 : Int) ≤ (L : Int) by omega) (show ((L : Int) - 0).toNat < L + 1 by omega) ⟨C0, hL, hK⟩ hD (Rg_Z w0) (Rg_Z w1) (show (-2147483648 : Int) ≤ 0 ∧ (0 : Int) ≤ 2147483647 by decide) (fun z hz => by cases hz) H1 locs ls hP hS (lv_sub hl [3, 2, 1, 0] rfl)
end
section
set_option maxHeartbeats 4000000 in
theorem lw_walk (l : Launch) (b : Addr) (xs : List Int32) : MetFree l x (headSpec (Jvm.Cond.code x code maxLocals ret :: tables_1) room_1) (lw_P b xs) (fun _ _ _ _ _ => True) lw_Q := by
  refine MetFree.of_bodyS (code := code) (maxLocals := maxLocals) (ret := ret) (by decide) ?_ ?_
  · intro args s m h hn
    obtain ⟨meth, c, h1, h2, h3, h4, h5, h6, -, -⟩ := Cond.code_spec hn (atoms_spec (ws := Jvm.Cond.code x code maxLocals ret :: tables_1) h _ List.mem_cons_self)
    exact ⟨meth, c, h1, h2, h3, h4, h5, h6⟩
  · intro p e s m args below meth c s₁ B hml0 hP _
    obtain ⟨rfl, hx, hbd, hgv⟩ := hP
    obtain ⟨scr, harrAt, hlist, hof, hsmall⟩ := hx
    obtain ⟨hcb, hkn, -, -⟩ := State.arrayAt?_spec harrAt
    have hown : s.vm.findClass R_law = some m.cls := findClass_of_methodNamed B.named
    have hts0 : ∀ c ∈ (Jvm.Cond.code x code maxLocals ret :: tables_1), c.before #[Value.ref b] s = true := atoms_spec (ws := Jvm.Cond.code x code maxLocals ret :: tables_1) B.pre
    have hts : ∀ w ∈ lw_tbl, w.before #[Value.ref b] s = true := k2_hts_sels lw_privs (fun w hw => hts0 w (List.mem_cons_of_mem _ hw)) lw_privs_ok
    have hml : c.maxLocals = 4 := B.maxLocals_eq (hts0 _ List.mem_cons_self)
    have X₀ : Stand p l e room_1 s m #[Value.ref b] below meth c s₁ [] 0 0 := Stand.of_body B
    have hh0 : s₁.heap = s.heap := by rw [B.state]; rfl
    have hsz : scr.slots.size = xs.length := by rw [← Array.length_toList, hlist, List.length_map]
    have hval : ∀ j : Nat, j < xs.length → scr.slots[j]? = some (.int (xs.getD j 0)) := fun j hj => by
      rw [← Array.getElem?_toList, hlist]
      simp [hj]
    have hbl : b < s.heap.size := (Array.getElem?_eq_some_iff.mp hcb).1
    have hX : va_X b xs.length (fun j => xs.getD j 0) s s.heap := ⟨scr, hcb, hof, hkn, hsz, hval⟩
    have K : W p l e room_1 s m #[Value.ref b] below meth c s₁.heap [] 0 0 (lw_Z below #[Value.ref b] s) (entryFrame m ([Value.ref b] : List Value).toArray 4) := by
      rw [hh0]
      exact whole_start l hbd ⟨B.exec, B.bytes, B.returns, hml, hown, hts, hX, hbl, B.notSynchronized, hgv⟩
    obtain ⟨t, a1, o, b1, b2, b3⟩ := K s₁ rfl X₀
    exact ⟨t, o, a1, b1, b2, b3⟩
theorem lw_pre_spec {args : Array Value} {s : State} (h : (Jvm.Cond.and given_1 narrow_1).before args s = true) (hr : rest_1_c.before args s = true) : ∃ (b : Addr) (xs : List Int32), lw_P b xs args s := by
  have hs := flat_of_before _ h
  have hq := flat_of_before _ hr
  have hc : (Cond.count 1).before args s = true := hs _ (by decide +kernel)
  have harr : (Cond.arrayOf (.arg 0) .int).before args s = true := hs _ (by decide +kernel)
  have hle : (Cond.le (.length (.arg 0)) (.int 192)).before args s = true := hs _ (by decide +kernel)
  have hlen : (Cond.isInt (.length (.arg 0))).before args s = true := hq _ (by decide +kernel)
  have hall : (Cond.all (.arg 0) (.isInt (.elem (.arg 0) (.index 0)))).before args s = true := hq _ (by decide +kernel)
  obtain ⟨b, xs, hb, hx⟩ := State.ints_of_pre rfl harr hlen hall
  have hsm : xs.length < 2 ^ 31 := hx.choose_spec.2.2.2
  have hev : (Term.length (.arg 0)).eval args s none [] s = some (.int xs.length.toInt32) := hx.length_eval hb
  have hv := Cond.le_ints hev (show (Term.int 192).eval args s none [] s = some (.int 192) from rfl)
  have hd : xs.length.toInt32 ≤ 192 := by
    simpa [Cond.before, Cond.holds, hv] using hle
  have hN : xs.length ≤ 192 := (Int32.ofNat_le_ofNat hsm (by decide)).mp (show Int32.ofNat xs.length ≤ Int32.ofNat 192 from hd)
  exact ⟨b, xs, Cond.one_arg hc (show args[0]? = some (.ref b) from hb), hx, hN, h⟩
theorem lw_comes (l : Launch) : Comes l x (Jvm.Cond.code x code maxLocals ret :: tables_1) room_1 (fun tb e args s => Calls_1 tb e args s ∧ rest_1 tb e args s ∧ Pre_1 tb e args s)
    (fun _ _ args s o t => lw_Q args s o t) := by
  intro p e ha hc hk s m args below hf hfit hheap happ hpre
  obtain ⟨b, xs, hP⟩ := lw_pre_spec hpre.2.2 hpre.2.1
  obtain ⟨k, o, h1, h2, h3, hQ⟩ := lw_walk l b xs p e ha hc hk s m args below hf ((Spec.applies_iff_loose hf).mp happ).1 hP trivial
  exact ⟨k, o, h1, h2, h3, hQ⟩
theorem lw_frame {s t : State} {o : Outcome} {args : Array Value} (h : Framed s o t [] 600000 7290000) :
    Framed s o t (fieldLocs frame_1_writes args s ++ arrayLocs frame_1_arrays args s ++ staticLocs frame_1_statics s) 600000 7290000 := h
theorem lw_limb (L : Cond) (hL : ∀ (args : Array Value) (s t : State), L.after args s (.returned (some (.int 1))) t = true) :
    ArmFor flags0 classFile x code maxLocals ret World_1 tables_1 room_1 Calls_1 rest_1 Pre_1
      (fun tb e a s o t => postC L tb e a s o t ∧ Framed s o t (fieldLocs frame_1_writes a s ++ arrayLocs frame_1_arrays a s ++ staticLocs frame_1_statics s) 600000 7290000) := by
  intro l _ _ _ p e ha hc hk s m args below hf hfit hheap happ hpre
  obtain ⟨k, o, h1, h2, h3, rfl, hF⟩ := lw_comes l p e ha hc hk s m args below hf hfit hheap happ hpre
  exact ⟨k, _, h1, h2, h3, hL args s _, lw_frame hF⟩
theorem i_vc : Claimed_1_1 ∧ Claimed_1_2 := ⟨lw_limb limb_1_1 (fun args s t => by simp [limb_1_1, Cond.after, Cond.holds, Cond.value]), lw_limb limb_1_2 (fun args s t => Cond.after_iff.mpr (by
  first | (rw [show limb_1_2 = Cond.eq .result (.int 1) from rfl, Cond.eq_ints (x := 1) (y := 1) rfl rfl]; simp; done) | (simp [limb_1_2, Cond.value, Term.eval]; done)))⟩
end
