section
-- ===== PART A: goes FIRST, ahead of the names: the tables' words, and 'selects' of the private methods out of them =====
/-- a private method of a class that the tables say can be made, by its rows of tables_1 -/
def lw_okq (q : MethodName × Nat) : Prop := (q.1.cls ≠ "java/lang/invoke/MethodHandle" ∧ q.1.cls ≠ "java/lang/invoke/VarHandle") ∧ Cond.instantiable q.1.cls q.2 ∈ tables_1 ∧ Cond.privateMethod q.1 ∈ tables_1 ∧ Cond.instanceMethod q.1 ∈ tables_1
set_option maxRecDepth 100000
theorem lw_t1 {w : Cond} (h : w ∈ tables_1_1) : w ∈ tables_1 := List.mem_append_left _ h
theorem lw_t2 {w : Cond} (h : w ∈ tables_1_2) : w ∈ tables_1 := List.mem_append_right _ h
theorem lw_p0 : lw_okq (⟨"ShortestDigits", "badCode", "(I)Z"⟩, 4) := ⟨⟨by decide +kernel, by decide +kernel⟩, lw_t1 (List.mem_of_getElem? (i := 4) rfl), lw_t1 (List.mem_of_getElem? (i := 30) rfl), lw_t1 (List.mem_of_getElem? (i := 31) rfl)⟩
theorem lw_p1 : lw_okq (⟨"ShortestDigits", "unitsOf", "(I)I"⟩, 4) := ⟨⟨by decide +kernel, by decide +kernel⟩, lw_t1 (List.mem_of_getElem? (i := 4) rfl), lw_t1 (List.mem_of_getElem? (i := 34) rfl), lw_t1 (List.mem_of_getElem? (i := 35) rfl)⟩
theorem lw_p2 : lw_okq (⟨"ShortestDigits", "badDecimal", "(II)Z"⟩, 4) := ⟨⟨by decide +kernel, by decide +kernel⟩, lw_t1 (List.mem_of_getElem? (i := 4) rfl), lw_t1 (List.mem_of_getElem? (i := 42) rfl), lw_t1 (List.mem_of_getElem? (i := 43) rfl)⟩
theorem lw_p3 : lw_okq (⟨"ShortestDigits", "stepsOf", "(II)J"⟩, 4) := ⟨⟨by decide +kernel, by decide +kernel⟩, lw_t1 (List.mem_of_getElem? (i := 4) rfl), lw_t1 (List.mem_of_getElem? (i := 47) rfl), lw_t1 (List.mem_of_getElem? (i := 48) rfl)⟩
theorem lw_p4 : lw_okq (⟨"ShortestDigits", "tenTo", "(I)J"⟩, 4) := ⟨⟨by decide +kernel, by decide +kernel⟩, lw_t1 (List.mem_of_getElem? (i := 4) rfl), lw_t1 (List.mem_of_getElem? (i := 51) rfl), lw_t1 (List.mem_of_getElem? (i := 52) rfl)⟩
theorem lw_p5 : lw_okq (⟨"ShortestDigits", "nearest", "(J)I"⟩, 4) := ⟨⟨by decide +kernel, by decide +kernel⟩, lw_t1 (List.mem_of_getElem? (i := 4) rfl), lw_t1 (List.mem_of_getElem? (i := 60) rfl), lw_t1 (List.mem_of_getElem? (i := 61) rfl)⟩
theorem lw_p6 : lw_okq (⟨"ShortestDigits", "borderAbove", "(I)J"⟩, 4) := ⟨⟨by decide +kernel, by decide +kernel⟩, lw_t1 (List.mem_of_getElem? (i := 4) rfl), lw_t1 (List.mem_of_getElem? (i := 64) rfl), lw_t1 (List.mem_of_getElem? (i := 65) rfl)⟩
theorem lw_p7 : lw_okq (⟨"ShortestDigits", "named", "(IJ)Z"⟩, 4) := ⟨⟨by decide +kernel, by decide +kernel⟩, lw_t1 (List.mem_of_getElem? (i := 4) rfl), lw_t1 (List.mem_of_getElem? (i := 72) rfl), lw_t1 (List.mem_of_getElem? (i := 73) rfl)⟩
theorem lw_p8 : lw_okq (⟨"ShortestDigits", "steps", "(I)J"⟩, 4) := ⟨⟨by decide +kernel, by decide +kernel⟩, lw_t1 (List.mem_of_getElem? (i := 4) rfl), lw_t1 (List.mem_of_getElem? (i := 81) rfl), lw_t1 (List.mem_of_getElem? (i := 82) rfl)⟩
theorem lw_p9 : lw_okq (⟨"ShortestDigits", "findShort", "(I)V"⟩, 4) := ⟨⟨by decide +kernel, by decide +kernel⟩, lw_t1 (List.mem_of_getElem? (i := 4) rfl), lw_t1 (List.mem_of_getElem? (i := 90) rfl), lw_t1 (List.mem_of_getElem? (i := 91) rfl)⟩
theorem lw_p10 : lw_okq (⟨"ShortestDigits", "leastMultiple", "(IJ)J"⟩, 4) := ⟨⟨by decide +kernel, by decide +kernel⟩, lw_t1 (List.mem_of_getElem? (i := 4) rfl), lw_t1 (List.mem_of_getElem? (i := 94) rfl), lw_t1 (List.mem_of_getElem? (i := 95) rfl)⟩
theorem lw_p11 : lw_okq (⟨"ShortestDigits", "greatestMultiple", "(IJ)J"⟩, 4) := ⟨⟨by decide +kernel, by decide +kernel⟩, lw_t1 (List.mem_of_getElem? (i := 4) rfl), lw_t1 (List.mem_of_getElem? (i := 98) rfl), lw_t1 (List.mem_of_getElem? (i := 99) rfl)⟩
theorem lw_p12 : lw_okq (⟨"ShortestDigits", "nearestMultiple", "(JJJJ)J"⟩, 4) := ⟨⟨by decide +kernel, by decide +kernel⟩, lw_t1 (List.mem_of_getElem? (i := 4) rfl), lw_t1 (List.mem_of_getElem? (i := 102) rfl), lw_t1 (List.mem_of_getElem? (i := 103) rfl)⟩
theorem lw_p13 : lw_okq (⟨"ShortestDigits", "size", "(J)J"⟩, 4) := ⟨⟨by decide +kernel, by decide +kernel⟩, lw_t1 (List.mem_of_getElem? (i := 4) rfl), lw_t1 (List.mem_of_getElem? (i := 107) rfl), lw_t1 (List.mem_of_getElem? (i := 108) rfl)⟩
theorem lw_p14 : lw_okq (⟨"ShortestDigits", "improve", "(IJIJ)V"⟩, 4) := ⟨⟨by decide +kernel, by decide +kernel⟩, lw_t1 (List.mem_of_getElem? (i := 4) rfl), lw_t1 (List.mem_of_getElem? (i := 111) rfl), lw_t1 (List.mem_of_getElem? (i := 112) rfl)⟩
theorem lw_p15 : lw_okq (⟨"ShortestDigits", "lengthOf", "(J)I"⟩, 4) := ⟨⟨by decide +kernel, by decide +kernel⟩, lw_t1 (List.mem_of_getElem? (i := 4) rfl), lw_t1 (List.mem_of_getElem? (i := 115) rfl), lw_t1 (List.mem_of_getElem? (i := 116) rfl)⟩
def lw_privs_1 : List (MethodName × Nat) := [(⟨"ShortestDigits", "badCode", "(I)Z"⟩, 4), (⟨"ShortestDigits", "unitsOf", "(I)I"⟩, 4), (⟨"ShortestDigits", "badDecimal", "(II)Z"⟩, 4), (⟨"ShortestDigits", "stepsOf", "(II)J"⟩, 4), (⟨"ShortestDigits", "tenTo", "(I)J"⟩, 4), (⟨"ShortestDigits", "nearest", "(J)I"⟩, 4), (⟨"ShortestDigits", "borderAbove", "(I)J"⟩, 4), (⟨"ShortestDigits", "named", "(IJ)Z"⟩, 4), (⟨"ShortestDigits", "steps", "(I)J"⟩, 4), (⟨"ShortestDigits", "findShort", "(I)V"⟩, 4), (⟨"ShortestDigits", "leastMultiple", "(IJ)J"⟩, 4), (⟨"ShortestDigits", "greatestMultiple", "(IJ)J"⟩, 4), (⟨"ShortestDigits", "nearestMultiple", "(JJJJ)J"⟩, 4), (⟨"ShortestDigits", "size", "(J)J"⟩, 4), (⟨"ShortestDigits", "improve", "(IJIJ)V"⟩, 4), (⟨"ShortestDigits", "lengthOf", "(J)I"⟩, 4)]
theorem lw_r1 : ∀ q ∈ lw_privs_1, lw_okq q := List.forall_mem_cons.mpr ⟨lw_p0, List.forall_mem_cons.mpr ⟨lw_p1, List.forall_mem_cons.mpr ⟨lw_p2, List.forall_mem_cons.mpr ⟨lw_p3, List.forall_mem_cons.mpr ⟨lw_p4, List.forall_mem_cons.mpr ⟨lw_p5, List.forall_mem_cons.mpr ⟨lw_p6, List.forall_mem_cons.mpr ⟨lw_p7, List.forall_mem_cons.mpr ⟨lw_p8, List.forall_mem_cons.mpr ⟨lw_p9, List.forall_mem_cons.mpr ⟨lw_p10, List.forall_mem_cons.mpr ⟨lw_p11, List.forall_mem_cons.mpr ⟨lw_p12, List.forall_mem_cons.mpr ⟨lw_p13, List.forall_mem_cons.mpr ⟨lw_p14, List.forall_mem_cons.mpr ⟨lw_p15, fun _ h => absurd h List.not_mem_nil⟩⟩⟩⟩⟩⟩⟩⟩⟩⟩⟩⟩⟩⟩⟩⟩
theorem lw_p16 : lw_okq (⟨"ShortestDigits", "writtenWith", "(II)I"⟩, 4) := ⟨⟨by decide +kernel, by decide +kernel⟩, lw_t1 (List.mem_of_getElem? (i := 4) rfl), lw_t1 (List.mem_of_getElem? (i := 131) rfl), lw_t1 (List.mem_of_getElem? (i := 132) rfl)⟩
theorem lw_p17 : lw_okq (⟨"ShortestDigits", "digitsTyped", "()I"⟩, 4) := ⟨⟨by decide +kernel, by decide +kernel⟩, lw_t1 (List.mem_of_getElem? (i := 4) rfl), lw_t1 (List.mem_of_getElem? (i := 145) rfl), lw_t1 (List.mem_of_getElem? (i := 146) rfl)⟩
theorem lw_p18 : lw_okq (⟨"ShortestDigits", "textDigits", "()I"⟩, 4) := ⟨⟨by decide +kernel, by decide +kernel⟩, lw_t1 (List.mem_of_getElem? (i := 4) rfl), lw_t1 (List.mem_of_getElem? (i := 161) rfl), lw_t1 (List.mem_of_getElem? (i := 162) rfl)⟩
theorem lw_p19 : lw_okq (⟨"ShortestDigits", "reading", "(I)I"⟩, 4) := ⟨⟨by decide +kernel, by decide +kernel⟩, lw_t1 (List.mem_of_getElem? (i := 4) rfl), lw_t1 (List.mem_of_getElem? (i := 165) rfl), lw_t1 (List.mem_of_getElem? (i := 166) rfl)⟩
theorem lw_p20 : lw_okq (⟨"ShortestDigits", "textScale", "()I"⟩, 4) := ⟨⟨by decide +kernel, by decide +kernel⟩, lw_t1 (List.mem_of_getElem? (i := 4) rfl), lw_t1 (List.mem_of_getElem? (i := 169) rfl), lw_t1 (List.mem_of_getElem? (i := 170) rfl)⟩
theorem lw_p21 : lw_okq (⟨"ShortestDigitsModel", "isCode", "(I)Z"⟩, 5) := ⟨⟨by decide +kernel, by decide +kernel⟩, lw_t1 (List.mem_of_getElem? (i := 181) rfl), lw_t1 (List.mem_of_getElem? (i := 207) rfl), lw_t1 (List.mem_of_getElem? (i := 208) rfl)⟩
theorem lw_p22 : lw_okq (⟨"ShortestDigitsModel", "isDecimal", "(II)Z"⟩, 5) := ⟨⟨by decide +kernel, by decide +kernel⟩, lw_t1 (List.mem_of_getElem? (i := 181) rfl), lw_t1 (List.mem_of_getElem? (i := 215) rfl), lw_t1 (List.mem_of_getElem? (i := 216) rfl)⟩
theorem lw_p23 : lw_okq (⟨"ShortestDigitsModel", "sign", "(JII)I"⟩, 5) := ⟨⟨by decide +kernel, by decide +kernel⟩, lw_t1 (List.mem_of_getElem? (i := 181) rfl), lw_t1 (List.mem_of_getElem? (i := 220) rfl), lw_t1 (List.mem_of_getElem? (i := 221) rfl)⟩
theorem lw_p24 : lw_okq (⟨"ShortestDigitsModel", "power", "(I)J"⟩, 5) := ⟨⟨by decide +kernel, by decide +kernel⟩, lw_t1 (List.mem_of_getElem? (i := 181) rfl), lw_t1 (List.mem_of_getElem? (i := 224) rfl), lw_t1 (List.mem_of_getElem? (i := 225) rfl)⟩
theorem lw_p25 : lw_okq (⟨"ShortestDigitsModel", "isName", "(III)Z"⟩, 5) := ⟨⟨by decide +kernel, by decide +kernel⟩, lw_t1 (List.mem_of_getElem? (i := 181) rfl), lw_t1 (List.mem_of_getElem? (i := 234) rfl), lw_t1 (List.mem_of_getElem? (i := 235) rfl)⟩
theorem lw_p26 : lw_okq (⟨"ShortestDigitsModel", "findShort", "(I)V"⟩, 5) := ⟨⟨by decide +kernel, by decide +kernel⟩, lw_t1 (List.mem_of_getElem? (i := 181) rfl), lw_t2 (List.mem_of_getElem? (i := 7) rfl), lw_t2 (List.mem_of_getElem? (i := 8) rfl)⟩
theorem lw_p27 : lw_okq (⟨"ShortestDigitsModel", "tryNear", "(III)V"⟩, 5) := ⟨⟨by decide +kernel, by decide +kernel⟩, lw_t1 (List.mem_of_getElem? (i := 181) rfl), lw_t2 (List.mem_of_getElem? (i := 11) rfl), lw_t2 (List.mem_of_getElem? (i := 12) rfl)⟩
theorem lw_p28 : lw_okq (⟨"ShortestDigitsModel", "digitsOf", "(I)I"⟩, 5) := ⟨⟨by decide +kernel, by decide +kernel⟩, lw_t1 (List.mem_of_getElem? (i := 181) rfl), lw_t2 (List.mem_of_getElem? (i := 18) rfl), lw_t2 (List.mem_of_getElem? (i := 19) rfl)⟩
theorem lw_p29 : lw_okq (⟨"ShortestDigitsModel", "gap", "(III)J"⟩, 5) := ⟨⟨by decide +kernel, by decide +kernel⟩, lw_t1 (List.mem_of_getElem? (i := 181) rfl), lw_t2 (List.mem_of_getElem? (i := 22) rfl), lw_t2 (List.mem_of_getElem? (i := 23) rfl)⟩
theorem lw_p30 : lw_okq (⟨"ShortestDigitsModel", "write", "(II)I"⟩, 5) := ⟨⟨by decide +kernel, by decide +kernel⟩, lw_t1 (List.mem_of_getElem? (i := 181) rfl), lw_t2 (List.mem_of_getElem? (i := 38) rfl), lw_t2 (List.mem_of_getElem? (i := 39) rfl)⟩
theorem lw_p31 : lw_okq (⟨"ShortestDigitsModel", "countDigits", "(Z)I"⟩, 5) := ⟨⟨by decide +kernel, by decide +kernel⟩, lw_t1 (List.mem_of_getElem? (i := 181) rfl), lw_t2 (List.mem_of_getElem? (i := 51) rfl), lw_t2 (List.mem_of_getElem? (i := 52) rfl)⟩
def lw_privs_2 : List (MethodName × Nat) := [(⟨"ShortestDigits", "writtenWith", "(II)I"⟩, 4), (⟨"ShortestDigits", "digitsTyped", "()I"⟩, 4), (⟨"ShortestDigits", "textDigits", "()I"⟩, 4), (⟨"ShortestDigits", "reading", "(I)I"⟩, 4), (⟨"ShortestDigits", "textScale", "()I"⟩, 4), (⟨"ShortestDigitsModel", "isCode", "(I)Z"⟩, 5), (⟨"ShortestDigitsModel", "isDecimal", "(II)Z"⟩, 5), (⟨"ShortestDigitsModel", "sign", "(JII)I"⟩, 5), (⟨"ShortestDigitsModel", "power", "(I)J"⟩, 5), (⟨"ShortestDigitsModel", "isName", "(III)Z"⟩, 5), (⟨"ShortestDigitsModel", "findShort", "(I)V"⟩, 5), (⟨"ShortestDigitsModel", "tryNear", "(III)V"⟩, 5), (⟨"ShortestDigitsModel", "digitsOf", "(I)I"⟩, 5), (⟨"ShortestDigitsModel", "gap", "(III)J"⟩, 5), (⟨"ShortestDigitsModel", "write", "(II)I"⟩, 5), (⟨"ShortestDigitsModel", "countDigits", "(Z)I"⟩, 5)]
theorem lw_r2 : ∀ q ∈ lw_privs_2, lw_okq q := List.forall_mem_cons.mpr ⟨lw_p16, List.forall_mem_cons.mpr ⟨lw_p17, List.forall_mem_cons.mpr ⟨lw_p18, List.forall_mem_cons.mpr ⟨lw_p19, List.forall_mem_cons.mpr ⟨lw_p20, List.forall_mem_cons.mpr ⟨lw_p21, List.forall_mem_cons.mpr ⟨lw_p22, List.forall_mem_cons.mpr ⟨lw_p23, List.forall_mem_cons.mpr ⟨lw_p24, List.forall_mem_cons.mpr ⟨lw_p25, List.forall_mem_cons.mpr ⟨lw_p26, List.forall_mem_cons.mpr ⟨lw_p27, List.forall_mem_cons.mpr ⟨lw_p28, List.forall_mem_cons.mpr ⟨lw_p29, List.forall_mem_cons.mpr ⟨lw_p30, List.forall_mem_cons.mpr ⟨lw_p31, fun _ h => absurd h List.not_mem_nil⟩⟩⟩⟩⟩⟩⟩⟩⟩⟩⟩⟩⟩⟩⟩⟩
def lw_privs : List (MethodName × Nat) := lw_privs_1 ++ (lw_privs_2)
def lw_tbl : List Cond := k2_sels lw_privs ++ tables_1
theorem lw_privs_ok : ∀ q ∈ lw_privs, lw_okq q := by
  show ∀ q ∈ lw_privs_1 ++ (lw_privs_2), lw_okq q
  exact List.forall_mem_append.mpr ⟨lw_r1, lw_r2⟩
-- ===== ONE list of words for every method: the tables' words that hold all through a run =====
def lw_all : List Cond := lw_tbl.filter goodWord
/-- a word of the tables by its place: claim/WORDS.tsv -/
theorem lw_w {w : Cond} (i : Nat) (h : lw_tbl[i]? = some w) (g : goodWord w = true) : w ∈ lw_all := List.mem_filter.mpr ⟨List.mem_of_getElem? h, g⟩
theorem lw_all_tbl {w : Cond} (h : w ∈ lw_all) : w ∈ lw_tbl := (List.mem_filter.mp h).1
theorem lw_self : GoodIn lw_all lw_all := fun w h => ⟨h, good_of_word (List.mem_filter.mp h).2⟩
/-- a class's field words, by their places -/
theorem lw_in (ws : List Cond) (ps : List Nat) (hp : ws = ps.filterMap (fun i => lw_tbl[i]?)) (hg : ws.all goodWord = true) : ∀ w ∈ ws, w ∈ lw_all := by
  intro w h
  have h1 := List.all_eq_true.mp hg w h
  rw [hp] at h
  obtain ⟨i, -, hi⟩ := List.mem_filterMap.mp h
  exact lw_w i hi h1
/-- the words of a contract for the method y with code b, L locals, answer r -/
abbrev ws_ (y : MethodName) (b : ByteArray) (L : Nat) (r : Option FieldType) : List Cond := Cond.code y b L r :: lw_all
theorem lw_meth {y : MethodName} {b : ByteArray} {L : Nat} {r : Option FieldType} (h : Cond.code y b L r ∈ lw_all) : GoodIn lw_all (ws_ y b L r) := by
  intro w hw
  rcases List.mem_cons.mp hw with e | e
  · rw [e]
    exact lw_self _ h
  · exact lw_self _ e
theorem lw_app {a c : List Cond} (ha : ∀ w ∈ a, w ∈ lw_all) (hc : GoodIn lw_all c) : GoodIn lw_all (a ++ c) := by
  intro w hw
  rcases List.mem_append.mp hw with e | e
  · exact lw_self w (ha w e)
  · exact hc w e
/-- what a call through an object asks: cwV n hts (lw_V ..) -/
theorem lw_V {own : String} {idx : Nat} {C : String} {y : MethodName} {b : ByteArray} {L : Nat} {r : Option FieldType} (h1 : Cond.methodLink own idx y ∈ lw_all) (h2 : Cond.instanceMethod y ∈ lw_all) (h3 : Cond.selects C y y ∈ lw_all) (h4 : Cond.initialized C ∈ lw_all) (h5 : Cond.code y b L r ∈ lw_all) : GoodIn lw_all (wsV own idx C y (ws_ y b L r)) := by
  refine lw_app ?_ (lw_meth h5)
  intro w hw
  simp only [List.mem_cons, List.not_mem_nil, or_false] at hw
  rcases hw with e | e | e | e
  · rw [e]; exact h1
  · rw [e]; exact h2
  · rw [e]; exact h3
  · rw [e]; exact h4
/-- what a static call asks: va_cwS n hts (lw_S ..) -/
theorem lw_S {own : String} {idx : Nat} {y : MethodName} {b : ByteArray} {L : Nat} {r : Option FieldType} (h1 : Cond.methodLink own idx y ∈ lw_all) (h2 : Cond.static y ∈ lw_all) (h3 : Cond.initialized y.cls ∈ lw_all) (h4 : Cond.code y b L r ∈ lw_all) : GoodIn lw_all (va_wsS own idx y (ws_ y b L r)) := by
  refine lw_app ?_ (lw_meth h4)
  intro w hw
  simp only [List.mem_cons, List.not_mem_nil, or_false] at hw
  rcases hw with e | e | e
  · rw [e]; exact h1
  · rw [e]; exact h2
  · rw [e]; exact h3
/-- the words of a contract for a method WITH HANDLERS (hh: its table) -/
abbrev wsW_ (y : MethodName) (b : ByteArray) (L : Nat) (r : Option FieldType) (hh : List (Nat × Nat × Nat × Nat)) : List Cond := Cond.codeWith y b L r hh :: lw_all
theorem lw_methW {y : MethodName} {b : ByteArray} {L : Nat} {r : Option FieldType} {hh : List (Nat × Nat × Nat × Nat)} (h : Cond.codeWith y b L r hh ∈ lw_all) : GoodIn lw_all (wsW_ y b L r hh) := by
  intro w hw
  rcases List.mem_cons.mp hw with e | e
  · rw [e]
    exact lw_self _ h
  · exact lw_self _ e
/-- any list of words by their places (lw_in), good -/
theorem lw_good {ws : List Cond} (h : ∀ w ∈ ws, w ∈ lw_all) : GoodIn lw_all ws := fun w hw => lw_self w (h w hw)
/-- what a call of a method with handlers asks: vx_cwVW n hts (lw_VW ..), vx_cwSW n hts (lw_SW ..) -/
theorem lw_VW {own : String} {idx : Nat} {C : String} {y : MethodName} {b : ByteArray} {L : Nat} {r : Option FieldType} {hh : List (Nat × Nat × Nat × Nat)} (h1 : Cond.methodLink own idx y ∈ lw_all) (h2 : Cond.instanceMethod y ∈ lw_all) (h3 : Cond.selects C y y ∈ lw_all) (h4 : Cond.initialized C ∈ lw_all) (h5 : Cond.codeWith y b L r hh ∈ lw_all) : GoodIn lw_all (wsV own idx C y (wsW_ y b L r hh)) := by
  refine lw_app ?_ (lw_methW h5)
  intro w hw
  simp only [List.mem_cons, List.not_mem_nil, or_false] at hw
  rcases hw with e | e | e | e
  · rw [e]; exact h1
  · rw [e]; exact h2
  · rw [e]; exact h3
  · rw [e]; exact h4
theorem lw_SW {own : String} {idx : Nat} {y : MethodName} {b : ByteArray} {L : Nat} {r : Option FieldType} {hh : List (Nat × Nat × Nat × Nat)} (h1 : Cond.methodLink own idx y ∈ lw_all) (h2 : Cond.static y ∈ lw_all) (h3 : Cond.initialized y.cls ∈ lw_all) (h4 : Cond.codeWith y b L r hh ∈ lw_all) : GoodIn lw_all (va_wsS own idx y (wsW_ y b L r hh)) := by
  refine lw_app ?_ (lw_methW h4)
  intro w hw
  simp only [List.mem_cons, List.not_mem_nil, or_false] at hw
  rcases hw with e | e | e
  · rw [e]; exact h1
  · rw [e]; exact h2
  · rw [e]; exact h3
/-- a word by its place in its run of the tables -/
theorem lw_at {r : List Cond} (hr : ∀ w ∈ r, w ∈ lw_tbl) {w : Cond} (i : Nat) (h : r[i]? = some w) : w ∈ lw_tbl := hr w (List.mem_of_getElem? h)
theorem lw_g {w : Cond} (h : w ∈ lw_tbl) (g : goodWord w = true) : w ∈ lw_all := List.mem_filter.mpr ⟨h, g⟩
theorem lw_ms : ∀ w ∈ k2_sels lw_privs, w ∈ lw_tbl := fun w h => show w ∈ k2_sels lw_privs ++ tables_1 from List.mem_append_left _ h
theorem lw_m1 : ∀ w ∈ tables_1_1, w ∈ lw_tbl := fun w h => show w ∈ k2_sels lw_privs ++ tables_1 from List.mem_append_right (k2_sels lw_privs) (show w ∈ tables_1 from List.mem_append_left _ h)
theorem lw_m2 : ∀ w ∈ tables_1_2, w ∈ lw_tbl := fun w h => show w ∈ k2_sels lw_privs ++ tables_1 from List.mem_append_right (k2_sels lw_privs) (show w ∈ tables_1 from List.mem_append_right _ h)
theorem qs0 : (Cond.selects "ShortestDigits" ⟨"ShortestDigits", "badCode", "(I)Z"⟩ ⟨"ShortestDigits", "badCode", "(I)Z"⟩) ∈ lw_all := lw_g (lw_at lw_ms 0 rfl) rfl
theorem qs1 : (Cond.selects "ShortestDigits" ⟨"ShortestDigits", "unitsOf", "(I)I"⟩ ⟨"ShortestDigits", "unitsOf", "(I)I"⟩) ∈ lw_all := lw_g (lw_at lw_ms 1 rfl) rfl
theorem qs2 : (Cond.selects "ShortestDigits" ⟨"ShortestDigits", "badDecimal", "(II)Z"⟩ ⟨"ShortestDigits", "badDecimal", "(II)Z"⟩) ∈ lw_all := lw_g (lw_at lw_ms 2 rfl) rfl
theorem qs3 : (Cond.selects "ShortestDigits" ⟨"ShortestDigits", "stepsOf", "(II)J"⟩ ⟨"ShortestDigits", "stepsOf", "(II)J"⟩) ∈ lw_all := lw_g (lw_at lw_ms 3 rfl) rfl
theorem qs4 : (Cond.selects "ShortestDigits" ⟨"ShortestDigits", "tenTo", "(I)J"⟩ ⟨"ShortestDigits", "tenTo", "(I)J"⟩) ∈ lw_all := lw_g (lw_at lw_ms 4 rfl) rfl
theorem qs5 : (Cond.selects "ShortestDigits" ⟨"ShortestDigits", "nearest", "(J)I"⟩ ⟨"ShortestDigits", "nearest", "(J)I"⟩) ∈ lw_all := lw_g (lw_at lw_ms 5 rfl) rfl
theorem qs6 : (Cond.selects "ShortestDigits" ⟨"ShortestDigits", "borderAbove", "(I)J"⟩ ⟨"ShortestDigits", "borderAbove", "(I)J"⟩) ∈ lw_all := lw_g (lw_at lw_ms 6 rfl) rfl
theorem qs7 : (Cond.selects "ShortestDigits" ⟨"ShortestDigits", "named", "(IJ)Z"⟩ ⟨"ShortestDigits", "named", "(IJ)Z"⟩) ∈ lw_all := lw_g (lw_at lw_ms 7 rfl) rfl
theorem qs8 : (Cond.selects "ShortestDigits" ⟨"ShortestDigits", "steps", "(I)J"⟩ ⟨"ShortestDigits", "steps", "(I)J"⟩) ∈ lw_all := lw_g (lw_at lw_ms 8 rfl) rfl
theorem qs9 : (Cond.selects "ShortestDigits" ⟨"ShortestDigits", "findShort", "(I)V"⟩ ⟨"ShortestDigits", "findShort", "(I)V"⟩) ∈ lw_all := lw_g (lw_at lw_ms 9 rfl) rfl
theorem qs10 : (Cond.selects "ShortestDigits" ⟨"ShortestDigits", "leastMultiple", "(IJ)J"⟩ ⟨"ShortestDigits", "leastMultiple", "(IJ)J"⟩) ∈ lw_all := lw_g (lw_at lw_ms 10 rfl) rfl
theorem qs11 : (Cond.selects "ShortestDigits" ⟨"ShortestDigits", "greatestMultiple", "(IJ)J"⟩ ⟨"ShortestDigits", "greatestMultiple", "(IJ)J"⟩) ∈ lw_all := lw_g (lw_at lw_ms 11 rfl) rfl
theorem qs12 : (Cond.selects "ShortestDigits" ⟨"ShortestDigits", "nearestMultiple", "(JJJJ)J"⟩ ⟨"ShortestDigits", "nearestMultiple", "(JJJJ)J"⟩) ∈ lw_all := lw_g (lw_at lw_ms 12 rfl) rfl
theorem qs13 : (Cond.selects "ShortestDigits" ⟨"ShortestDigits", "size", "(J)J"⟩ ⟨"ShortestDigits", "size", "(J)J"⟩) ∈ lw_all := lw_g (lw_at lw_ms 13 rfl) rfl
theorem qs14 : (Cond.selects "ShortestDigits" ⟨"ShortestDigits", "improve", "(IJIJ)V"⟩ ⟨"ShortestDigits", "improve", "(IJIJ)V"⟩) ∈ lw_all := lw_g (lw_at lw_ms 14 rfl) rfl
theorem qs15 : (Cond.selects "ShortestDigits" ⟨"ShortestDigits", "lengthOf", "(J)I"⟩ ⟨"ShortestDigits", "lengthOf", "(J)I"⟩) ∈ lw_all := lw_g (lw_at lw_ms 15 rfl) rfl
theorem qs16 : (Cond.selects "ShortestDigits" ⟨"ShortestDigits", "writtenWith", "(II)I"⟩ ⟨"ShortestDigits", "writtenWith", "(II)I"⟩) ∈ lw_all := lw_g (lw_at lw_ms 16 rfl) rfl
theorem qs17 : (Cond.selects "ShortestDigits" ⟨"ShortestDigits", "digitsTyped", "()I"⟩ ⟨"ShortestDigits", "digitsTyped", "()I"⟩) ∈ lw_all := lw_g (lw_at lw_ms 17 rfl) rfl
theorem qs18 : (Cond.selects "ShortestDigits" ⟨"ShortestDigits", "textDigits", "()I"⟩ ⟨"ShortestDigits", "textDigits", "()I"⟩) ∈ lw_all := lw_g (lw_at lw_ms 18 rfl) rfl
theorem qs19 : (Cond.selects "ShortestDigits" ⟨"ShortestDigits", "reading", "(I)I"⟩ ⟨"ShortestDigits", "reading", "(I)I"⟩) ∈ lw_all := lw_g (lw_at lw_ms 19 rfl) rfl
theorem qs20 : (Cond.selects "ShortestDigits" ⟨"ShortestDigits", "textScale", "()I"⟩ ⟨"ShortestDigits", "textScale", "()I"⟩) ∈ lw_all := lw_g (lw_at lw_ms 20 rfl) rfl
theorem qs21 : (Cond.selects "ShortestDigitsModel" ⟨"ShortestDigitsModel", "isCode", "(I)Z"⟩ ⟨"ShortestDigitsModel", "isCode", "(I)Z"⟩) ∈ lw_all := lw_g (lw_at lw_ms 21 rfl) rfl
theorem qs22 : (Cond.selects "ShortestDigitsModel" ⟨"ShortestDigitsModel", "isDecimal", "(II)Z"⟩ ⟨"ShortestDigitsModel", "isDecimal", "(II)Z"⟩) ∈ lw_all := lw_g (lw_at lw_ms 22 rfl) rfl
theorem qs23 : (Cond.selects "ShortestDigitsModel" ⟨"ShortestDigitsModel", "sign", "(JII)I"⟩ ⟨"ShortestDigitsModel", "sign", "(JII)I"⟩) ∈ lw_all := lw_g (lw_at lw_ms 23 rfl) rfl
theorem qs24 : (Cond.selects "ShortestDigitsModel" ⟨"ShortestDigitsModel", "power", "(I)J"⟩ ⟨"ShortestDigitsModel", "power", "(I)J"⟩) ∈ lw_all := lw_g (lw_at lw_ms 24 rfl) rfl
theorem qs25 : (Cond.selects "ShortestDigitsModel" ⟨"ShortestDigitsModel", "isName", "(III)Z"⟩ ⟨"ShortestDigitsModel", "isName", "(III)Z"⟩) ∈ lw_all := lw_g (lw_at lw_ms 25 rfl) rfl
theorem qs26 : (Cond.selects "ShortestDigitsModel" ⟨"ShortestDigitsModel", "findShort", "(I)V"⟩ ⟨"ShortestDigitsModel", "findShort", "(I)V"⟩) ∈ lw_all := lw_g (lw_at lw_ms 26 rfl) rfl
theorem qs27 : (Cond.selects "ShortestDigitsModel" ⟨"ShortestDigitsModel", "tryNear", "(III)V"⟩ ⟨"ShortestDigitsModel", "tryNear", "(III)V"⟩) ∈ lw_all := lw_g (lw_at lw_ms 27 rfl) rfl
theorem qs28 : (Cond.selects "ShortestDigitsModel" ⟨"ShortestDigitsModel", "digitsOf", "(I)I"⟩ ⟨"ShortestDigitsModel", "digitsOf", "(I)I"⟩) ∈ lw_all := lw_g (lw_at lw_ms 28 rfl) rfl
theorem qs29 : (Cond.selects "ShortestDigitsModel" ⟨"ShortestDigitsModel", "gap", "(III)J"⟩ ⟨"ShortestDigitsModel", "gap", "(III)J"⟩) ∈ lw_all := lw_g (lw_at lw_ms 29 rfl) rfl
theorem qs30 : (Cond.selects "ShortestDigitsModel" ⟨"ShortestDigitsModel", "write", "(II)I"⟩ ⟨"ShortestDigitsModel", "write", "(II)I"⟩) ∈ lw_all := lw_g (lw_at lw_ms 30 rfl) rfl
theorem qs31 : (Cond.selects "ShortestDigitsModel" ⟨"ShortestDigitsModel", "countDigits", "(Z)I"⟩ ⟨"ShortestDigitsModel", "countDigits", "(Z)I"⟩) ∈ lw_all := lw_g (lw_at lw_ms 31 rfl) rfl
end
section
set_option maxRecDepth 100000
/-! the law's own entry -/
abbrev cL_law : ByteArray := code

theorem q32 : (Jvm.Cond.initialized "ShortestDigitsLaw") ∈ lw_all := lw_g (lw_at lw_m1 0 rfl) rfl
theorem q35 : (Jvm.Cond.classLink "ShortestDigitsLaw" (7 : Nat) "ShortestDigits") ∈ lw_all := lw_g (lw_at lw_m1 3 rfl) rfl
theorem q37 : (Jvm.Cond.methodLink "ShortestDigitsLaw" (9 : Nat) ({ cls := "ShortestDigits", name := "<init>", desc := "()V" } : Jvm.MethodName)) ∈ lw_all := lw_g (lw_at lw_m1 5 rfl) rfl
theorem q57 : (Jvm.Cond.methodLink "ShortestDigitsLaw" (13 : Nat) ({ cls := "ShortestDigits", name := "units", desc := "(I)I" } : Jvm.MethodName)) ∈ lw_all := lw_g (lw_at lw_m1 25 rfl) rfl
theorem q69 : (Jvm.Cond.methodLink "ShortestDigitsLaw" (18 : Nat) ({ cls := "ShortestDigits", name := "read", desc := "(II)I" } : Jvm.MethodName)) ∈ lw_all := lw_g (lw_at lw_m1 37 rfl) rfl
theorem q99 : (Jvm.Cond.methodLink "ShortestDigitsLaw" (23 : Nat) ({ cls := "ShortestDigits", name := "names", desc := "(III)Z" } : Jvm.MethodName)) ∈ lw_all := lw_g (lw_at lw_m1 67 rfl) rfl
theorem q108 : (Jvm.Cond.methodLink "ShortestDigitsLaw" (28 : Nat) ({ cls := "ShortestDigits", name := "compare", desc := "(III)I" } : Jvm.MethodName)) ∈ lw_all := lw_g (lw_at lw_m1 76 rfl) rfl
theorem q117 : (Jvm.Cond.methodLink "ShortestDigitsLaw" (33 : Nat) ({ cls := "ShortestDigits", name := "digits", desc := "(I)I" } : Jvm.MethodName)) ∈ lw_all := lw_g (lw_at lw_m1 85 rfl) rfl
theorem q150 : (Jvm.Cond.methodLink "ShortestDigitsLaw" (37 : Nat) ({ cls := "ShortestDigits", name := "scale", desc := "(I)I" } : Jvm.MethodName)) ∈ lw_all := lw_g (lw_at lw_m1 118 rfl) rfl
theorem q154 : (Jvm.Cond.methodLink "ShortestDigitsLaw" (41 : Nat) ({ cls := "ShortestDigits", name := "length", desc := "(I)I" } : Jvm.MethodName)) ∈ lw_all := lw_g (lw_at lw_m1 122 rfl) rfl
theorem q158 : (Jvm.Cond.methodLink "ShortestDigitsLaw" (45 : Nat) ({ cls := "ShortestDigits", name := "written", desc := "(II)I" } : Jvm.MethodName)) ∈ lw_all := lw_g (lw_at lw_m1 126 rfl) rfl
theorem q168 : (Jvm.Cond.methodLink "ShortestDigitsLaw" (49 : Nat) ({ cls := "ShortestDigits", name := "places", desc := "(I)I" } : Jvm.MethodName)) ∈ lw_all := lw_g (lw_at lw_m1 136 rfl) rfl
theorem q172 : (Jvm.Cond.methodLink "ShortestDigitsLaw" (53 : Nat) ({ cls := "ShortestDigits", name := "type", desc := "(I)I" } : Jvm.MethodName)) ∈ lw_all := lw_g (lw_at lw_m1 140 rfl) rfl
theorem q180 : (Jvm.Cond.methodLink "ShortestDigitsLaw" (57 : Nat) ({ cls := "ShortestDigits", name := "back", desc := "()I" } : Jvm.MethodName)) ∈ lw_all := lw_g (lw_at lw_m1 148 rfl) rfl
theorem q184 : (Jvm.Cond.methodLink "ShortestDigitsLaw" (62 : Nat) ({ cls := "ShortestDigits", name := "clear", desc := "()V" } : Jvm.MethodName)) ∈ lw_all := lw_g (lw_at lw_m1 152 rfl) rfl
theorem q188 : (Jvm.Cond.methodLink "ShortestDigitsLaw" (66 : Nat) ({ cls := "ShortestDigits", name := "typed", desc := "()I" } : Jvm.MethodName)) ∈ lw_all := lw_g (lw_at lw_m1 156 rfl) rfl
theorem q204 : (Jvm.Cond.methodLink "ShortestDigitsLaw" (70 : Nat) ({ cls := "ShortestDigits", name := "typedDigits", desc := "()I" } : Jvm.MethodName)) ∈ lw_all := lw_g (lw_at lw_m1 172 rfl) rfl
theorem q208 : (Jvm.Cond.methodLink "ShortestDigitsLaw" (74 : Nat) ({ cls := "ShortestDigits", name := "spare", desc := "()I" } : Jvm.MethodName)) ∈ lw_all := lw_g (lw_at lw_m1 176 rfl) rfl
theorem q212 : (Jvm.Cond.classLink "ShortestDigitsLaw" (10 : Nat) "ShortestDigitsModel") ∈ lw_all := lw_g (lw_at lw_m1 180 rfl) rfl
theorem q214 : (Jvm.Cond.methodLink "ShortestDigitsLaw" (12 : Nat) ({ cls := "ShortestDigitsModel", name := "<init>", desc := "()V" } : Jvm.MethodName)) ∈ lw_all := lw_g (lw_at lw_m1 182 rfl) rfl
theorem q234 : (Jvm.Cond.methodLink "ShortestDigitsLaw" (17 : Nat) ({ cls := "ShortestDigitsModel", name := "units", desc := "(I)I" } : Jvm.MethodName)) ∈ lw_all := lw_g (lw_at lw_m1 202 rfl) rfl
theorem q242 : (Jvm.Cond.methodLink "ShortestDigitsLaw" (22 : Nat) ({ cls := "ShortestDigitsModel", name := "read", desc := "(II)I" } : Jvm.MethodName)) ∈ lw_all := lw_g (lw_at lw_m1 210 rfl) rfl
theorem q261 : (Jvm.Cond.methodLink "ShortestDigitsLaw" (27 : Nat) ({ cls := "ShortestDigitsModel", name := "names", desc := "(III)Z" } : Jvm.MethodName)) ∈ lw_all := lw_g (lw_at lw_m1 229 rfl) rfl
theorem q269 : (Jvm.Cond.methodLink "ShortestDigitsLaw" (32 : Nat) ({ cls := "ShortestDigitsModel", name := "compare", desc := "(III)I" } : Jvm.MethodName)) ∈ lw_all := lw_g (lw_at lw_m1 237 rfl) rfl
theorem q274 : (Jvm.Cond.methodLink "ShortestDigitsLaw" (36 : Nat) ({ cls := "ShortestDigitsModel", name := "digits", desc := "(I)I" } : Jvm.MethodName)) ∈ lw_all := lw_g (lw_at lw_m2 2 rfl) rfl
theorem q297 : (Jvm.Cond.methodLink "ShortestDigitsLaw" (40 : Nat) ({ cls := "ShortestDigitsModel", name := "scale", desc := "(I)I" } : Jvm.MethodName)) ∈ lw_all := lw_g (lw_at lw_m2 25 rfl) rfl
theorem q301 : (Jvm.Cond.methodLink "ShortestDigitsLaw" (44 : Nat) ({ cls := "ShortestDigitsModel", name := "length", desc := "(I)I" } : Jvm.MethodName)) ∈ lw_all := lw_g (lw_at lw_m2 29 rfl) rfl
theorem q305 : (Jvm.Cond.methodLink "ShortestDigitsLaw" (48 : Nat) ({ cls := "ShortestDigitsModel", name := "written", desc := "(II)I" } : Jvm.MethodName)) ∈ lw_all := lw_g (lw_at lw_m2 33 rfl) rfl
theorem q314 : (Jvm.Cond.methodLink "ShortestDigitsLaw" (52 : Nat) ({ cls := "ShortestDigitsModel", name := "places", desc := "(I)I" } : Jvm.MethodName)) ∈ lw_all := lw_g (lw_at lw_m2 42 rfl) rfl
theorem q318 : (Jvm.Cond.methodLink "ShortestDigitsLaw" (56 : Nat) ({ cls := "ShortestDigitsModel", name := "type", desc := "(I)I" } : Jvm.MethodName)) ∈ lw_all := lw_g (lw_at lw_m2 46 rfl) rfl
theorem q326 : (Jvm.Cond.methodLink "ShortestDigitsLaw" (61 : Nat) ({ cls := "ShortestDigitsModel", name := "back", desc := "()I" } : Jvm.MethodName)) ∈ lw_all := lw_g (lw_at lw_m2 54 rfl) rfl
theorem q330 : (Jvm.Cond.methodLink "ShortestDigitsLaw" (65 : Nat) ({ cls := "ShortestDigitsModel", name := "clear", desc := "()V" } : Jvm.MethodName)) ∈ lw_all := lw_g (lw_at lw_m2 58 rfl) rfl
theorem q334 : (Jvm.Cond.methodLink "ShortestDigitsLaw" (69 : Nat) ({ cls := "ShortestDigitsModel", name := "typed", desc := "()I" } : Jvm.MethodName)) ∈ lw_all := lw_g (lw_at lw_m2 62 rfl) rfl
theorem q343 : (Jvm.Cond.methodLink "ShortestDigitsLaw" (73 : Nat) ({ cls := "ShortestDigitsModel", name := "typedDigits", desc := "()I" } : Jvm.MethodName)) ∈ lw_all := lw_g (lw_at lw_m2 71 rfl) rfl
theorem q344 : (Jvm.Cond.methodLink "ShortestDigitsLaw" (77 : Nat) ({ cls := "ShortestDigitsModel", name := "spare", desc := "()I" } : Jvm.MethodName)) ∈ lw_all := lw_g (lw_at lw_m2 72 rfl) rfl

theorem q56 : (Jvm.Cond.arrayClass Jvm.ClassFile.FieldType.int) ∈ lw_all := lw_g (lw_at lw_m1 24 rfl) rfl

/-! java/lang/Object -/
def RJ0 : String := "java/lang/Object"
abbrev cJ0_init : ByteArray := object_method_1_code
def yJ0_init : MethodName := ⟨RJ0, "<init>", "()V"⟩
theorem q41 : (Jvm.Cond.instanceMethod ({ cls := "java/lang/Object", name := "<init>", desc := "()V" } : Jvm.MethodName)) ∈ lw_all := lw_g (lw_at lw_m1 9 rfl) rfl
theorem q42 : (Jvm.Cond.code ({ cls := "java/lang/Object", name := "<init>", desc := "()V" } : Jvm.MethodName) object_method_1_code (1 : Nat) (Option.none : Option Jvm.ClassFile.FieldType)) ∈ lw_all := lw_g (lw_at lw_m1 10 rfl) rfl

/-! ShortestDigits -/
def RX0 : String := "ShortestDigits"
def TX0 : u_T := fun k => match k with
  | 0 => ("ShortestDigits", "typedCount", "I", false)
  | 1 => ("ShortestDigits", "keys", "[I", true)
  | 2 => ("ShortestDigits", "shortDigits", "I", false)
  | _ => ("ShortestDigits", "shortScale", "I", false)
def tyX0 : Nat → FieldType := fun k => match k with
  | 0 => .int
  | 1 => .array .int
  | 2 => .int
  | _ => .int
abbrev wsX00 : List Cond := u_ws RX0 TX0 4
theorem nmX0 : ∀ a, a < 4 → ∀ b, b < 4 → a ≠ b → (TX0 a).2.1 ≠ (TX0 b).2.1 := by decide +kernel
theorem tyX0_ok : ∀ k, k < 4 → parseFieldDescriptor (TX0 k).2.2.1 = some (tyX0 k) := by decide +kernel
abbrev cX0_init : ByteArray := prog_1_method_1_code
def yX0_init : MethodName := ⟨RX0, "<init>", "()V"⟩
abbrev cX0_units : ByteArray := prog_1_method_6_code
def yX0_units : MethodName := ⟨RX0, "units", "(I)I"⟩
abbrev cX0_badCode : ByteArray := prog_1_method_2_code
def yX0_badCode : MethodName := ⟨RX0, "badCode", "(I)Z"⟩
abbrev cX0_unitsOf : ByteArray := prog_1_method_3_code
def yX0_unitsOf : MethodName := ⟨RX0, "unitsOf", "(I)I"⟩
abbrev cX0_read : ByteArray := prog_1_method_11_code
def yX0_read : MethodName := ⟨RX0, "read", "(II)I"⟩
abbrev cX0_badDecimal : ByteArray := prog_1_method_7_code
def yX0_badDecimal : MethodName := ⟨RX0, "badDecimal", "(II)Z"⟩
abbrev cX0_stepsOf : ByteArray := prog_1_method_9_code
def yX0_stepsOf : MethodName := ⟨RX0, "stepsOf", "(II)J"⟩
abbrev cX0_tenTo : ByteArray := prog_1_method_8_code
def yX0_tenTo : MethodName := ⟨RX0, "tenTo", "(I)J"⟩
abbrev cX0_nearest : ByteArray := prog_1_method_10_code
def yX0_nearest : MethodName := ⟨RX0, "nearest", "(J)I"⟩
abbrev cX0_borderAbove : ByteArray := prog_1_method_5_code
def yX0_borderAbove : MethodName := ⟨RX0, "borderAbove", "(I)J"⟩
abbrev cX0_names : ByteArray := prog_1_method_13_code
def yX0_names : MethodName := ⟨RX0, "names", "(III)Z"⟩
abbrev cX0_named : ByteArray := prog_1_method_12_code
def yX0_named : MethodName := ⟨RX0, "named", "(IJ)Z"⟩
abbrev cX0_compare : ByteArray := prog_1_method_14_code
def yX0_compare : MethodName := ⟨RX0, "compare", "(III)I"⟩
abbrev cX0_steps : ByteArray := prog_1_method_4_code
def yX0_steps : MethodName := ⟨RX0, "steps", "(I)J"⟩
abbrev cX0_digits : ByteArray := prog_1_method_22_code
def yX0_digits : MethodName := ⟨RX0, "digits", "(I)I"⟩
abbrev cX0_findShort : ByteArray := prog_1_method_20_code
def yX0_findShort : MethodName := ⟨RX0, "findShort", "(I)V"⟩
abbrev cX0_leastMultiple : ByteArray := prog_1_method_16_code
def yX0_leastMultiple : MethodName := ⟨RX0, "leastMultiple", "(IJ)J"⟩
abbrev cX0_greatestMultiple : ByteArray := prog_1_method_17_code
def yX0_greatestMultiple : MethodName := ⟨RX0, "greatestMultiple", "(IJ)J"⟩
abbrev cX0_nearestMultiple : ByteArray := prog_1_method_19_code
def yX0_nearestMultiple : MethodName := ⟨RX0, "nearestMultiple", "(JJJJ)J"⟩
abbrev cX0_size : ByteArray := prog_1_method_15_code
def yX0_size : MethodName := ⟨RX0, "size", "(J)J"⟩
abbrev cX0_improve : ByteArray := prog_1_method_21_code
def yX0_improve : MethodName := ⟨RX0, "improve", "(IJIJ)V"⟩
abbrev cX0_lengthOf : ByteArray := prog_1_method_18_code
def yX0_lengthOf : MethodName := ⟨RX0, "lengthOf", "(J)I"⟩
abbrev cX0_scale : ByteArray := prog_1_method_23_code
def yX0_scale : MethodName := ⟨RX0, "scale", "(I)I"⟩
abbrev cX0_length : ByteArray := prog_1_method_24_code
def yX0_length : MethodName := ⟨RX0, "length", "(I)I"⟩
abbrev cX0_written : ByteArray := prog_1_method_26_code
def yX0_written : MethodName := ⟨RX0, "written", "(II)I"⟩
abbrev cX0_writtenWith : ByteArray := prog_1_method_25_code
def yX0_writtenWith : MethodName := ⟨RX0, "writtenWith", "(II)I"⟩
abbrev cX0_places : ByteArray := prog_1_method_27_code
def yX0_places : MethodName := ⟨RX0, "places", "(I)I"⟩
abbrev cX0_type : ByteArray := prog_1_method_29_code
def yX0_type : MethodName := ⟨RX0, "type", "(I)I"⟩
abbrev cX0_digitsTyped : ByteArray := prog_1_method_28_code
def yX0_digitsTyped : MethodName := ⟨RX0, "digitsTyped", "()I"⟩
abbrev cX0_back : ByteArray := prog_1_method_30_code
def yX0_back : MethodName := ⟨RX0, "back", "()I"⟩
abbrev cX0_clear : ByteArray := prog_1_method_31_code
def yX0_clear : MethodName := ⟨RX0, "clear", "()V"⟩
abbrev cX0_typed : ByteArray := prog_1_method_35_code
def yX0_typed : MethodName := ⟨RX0, "typed", "()I"⟩
abbrev cX0_textDigits : ByteArray := prog_1_method_32_code
def yX0_textDigits : MethodName := ⟨RX0, "textDigits", "()I"⟩
abbrev cX0_reading : ByteArray := prog_1_method_34_code
def yX0_reading : MethodName := ⟨RX0, "reading", "(I)I"⟩
abbrev cX0_textScale : ByteArray := prog_1_method_33_code
def yX0_textScale : MethodName := ⟨RX0, "textScale", "()I"⟩
abbrev cX0_typedDigits : ByteArray := prog_1_method_36_code
def yX0_typedDigits : MethodName := ⟨RX0, "typedDigits", "()I"⟩
abbrev cX0_spare : ByteArray := prog_1_method_37_code
def yX0_spare : MethodName := ⟨RX0, "spare", "()I"⟩
theorem q33 : (Jvm.Cond.initialized "ShortestDigits") ∈ lw_all := lw_g (lw_at lw_m1 1 rfl) rfl
theorem q36 : (Jvm.Cond.instantiable "ShortestDigits" (4 : Nat)) ∈ lw_all := lw_g (lw_at lw_m1 4 rfl) rfl
theorem q38 : (Jvm.Cond.instanceMethod ({ cls := "ShortestDigits", name := "<init>", desc := "()V" } : Jvm.MethodName)) ∈ lw_all := lw_g (lw_at lw_m1 6 rfl) rfl
theorem q39 : (Jvm.Cond.code ({ cls := "ShortestDigits", name := "<init>", desc := "()V" } : Jvm.MethodName) prog_1_method_1_code (1 : Nat) (Option.none : Option Jvm.ClassFile.FieldType)) ∈ lw_all := lw_g (lw_at lw_m1 7 rfl) rfl
theorem q40 : (Jvm.Cond.methodLink "ShortestDigits" (1 : Nat) ({ cls := "java/lang/Object", name := "<init>", desc := "()V" } : Jvm.MethodName)) ∈ lw_all := lw_g (lw_at lw_m1 8 rfl) rfl
theorem q43 : (Jvm.Cond.fieldLink "ShortestDigits" (105 : Nat) "ShortestDigits" "typedCount" "I") ∈ lw_all := lw_g (lw_at lw_m1 11 rfl) rfl
theorem q44 : (Jvm.Cond.fieldLink "ShortestDigits" (7 : Nat) "ShortestDigits" "keys" "[I") ∈ lw_all := lw_g (lw_at lw_m1 12 rfl) rfl
theorem q45 : (Jvm.Cond.fieldLink "ShortestDigits" (64 : Nat) "ShortestDigits" "shortDigits" "I") ∈ lw_all := lw_g (lw_at lw_m1 13 rfl) rfl
theorem q46 : (Jvm.Cond.fieldLink "ShortestDigits" (68 : Nat) "ShortestDigits" "shortScale" "I") ∈ lw_all := lw_g (lw_at lw_m1 14 rfl) rfl
theorem q47 : (Jvm.Cond.lays "ShortestDigits" "ShortestDigits" "typedCount" "I") ∈ lw_all := lw_g (lw_at lw_m1 15 rfl) rfl
theorem q48 : (Jvm.Cond.soleField "ShortestDigits" "typedCount") ∈ lw_all := lw_g (lw_at lw_m1 16 rfl) rfl
theorem q49 : (Jvm.Cond.laysFinal "ShortestDigits" "ShortestDigits" "keys" "[I") ∈ lw_all := lw_g (lw_at lw_m1 17 rfl) rfl
theorem q50 : (Jvm.Cond.soleField "ShortestDigits" "keys") ∈ lw_all := lw_g (lw_at lw_m1 18 rfl) rfl
theorem q51 : (Jvm.Cond.lays "ShortestDigits" "ShortestDigits" "shortDigits" "I") ∈ lw_all := lw_g (lw_at lw_m1 19 rfl) rfl
theorem q52 : (Jvm.Cond.soleField "ShortestDigits" "shortDigits") ∈ lw_all := lw_g (lw_at lw_m1 20 rfl) rfl
theorem q53 : (Jvm.Cond.lays "ShortestDigits" "ShortestDigits" "shortScale" "I") ∈ lw_all := lw_g (lw_at lw_m1 21 rfl) rfl
theorem q54 : (Jvm.Cond.soleField "ShortestDigits" "shortScale") ∈ lw_all := lw_g (lw_at lw_m1 22 rfl) rfl
theorem q55 : (Jvm.Cond.superclass "ShortestDigits" "java/lang/Object") ∈ lw_all := lw_g (lw_at lw_m1 23 rfl) rfl
theorem q58 : (Jvm.Cond.instanceMethod ({ cls := "ShortestDigits", name := "units", desc := "(I)I" } : Jvm.MethodName)) ∈ lw_all := lw_g (lw_at lw_m1 26 rfl) rfl
theorem q59 : (Jvm.Cond.selects "ShortestDigits" ({ cls := "ShortestDigits", name := "units", desc := "(I)I" } : Jvm.MethodName) ({ cls := "ShortestDigits", name := "units", desc := "(I)I" } : Jvm.MethodName)) ∈ lw_all := lw_g (lw_at lw_m1 27 rfl) rfl
theorem q60 : (Jvm.Cond.code ({ cls := "ShortestDigits", name := "units", desc := "(I)I" } : Jvm.MethodName) prog_1_method_6_code (2 : Nat) (Option.some Jvm.ClassFile.FieldType.int)) ∈ lw_all := lw_g (lw_at lw_m1 28 rfl) rfl
theorem q61 : (Jvm.Cond.methodLink "ShortestDigits" (21 : Nat) ({ cls := "ShortestDigits", name := "badCode", desc := "(I)Z" } : Jvm.MethodName)) ∈ lw_all := lw_g (lw_at lw_m1 29 rfl) rfl
theorem q62 : (Jvm.Cond.privateMethod ({ cls := "ShortestDigits", name := "badCode", desc := "(I)Z" } : Jvm.MethodName)) ∈ lw_tbl := lw_at lw_m1 30 rfl
theorem q63 : (Jvm.Cond.instanceMethod ({ cls := "ShortestDigits", name := "badCode", desc := "(I)Z" } : Jvm.MethodName)) ∈ lw_all := lw_g (lw_at lw_m1 31 rfl) rfl
theorem q64 : (Jvm.Cond.code ({ cls := "ShortestDigits", name := "badCode", desc := "(I)Z" } : Jvm.MethodName) prog_1_method_2_code (2 : Nat) (Option.some Jvm.ClassFile.FieldType.boolean)) ∈ lw_all := lw_g (lw_at lw_m1 32 rfl) rfl
theorem q65 : (Jvm.Cond.methodLink "ShortestDigits" (13 : Nat) ({ cls := "ShortestDigits", name := "unitsOf", desc := "(I)I" } : Jvm.MethodName)) ∈ lw_all := lw_g (lw_at lw_m1 33 rfl) rfl
theorem q66 : (Jvm.Cond.privateMethod ({ cls := "ShortestDigits", name := "unitsOf", desc := "(I)I" } : Jvm.MethodName)) ∈ lw_tbl := lw_at lw_m1 34 rfl
theorem q67 : (Jvm.Cond.instanceMethod ({ cls := "ShortestDigits", name := "unitsOf", desc := "(I)I" } : Jvm.MethodName)) ∈ lw_all := lw_g (lw_at lw_m1 35 rfl) rfl
theorem q68 : (Jvm.Cond.code ({ cls := "ShortestDigits", name := "unitsOf", desc := "(I)I" } : Jvm.MethodName) prog_1_method_3_code (4 : Nat) (Option.some Jvm.ClassFile.FieldType.int)) ∈ lw_all := lw_g (lw_at lw_m1 36 rfl) rfl
theorem q70 : (Jvm.Cond.instanceMethod ({ cls := "ShortestDigits", name := "read", desc := "(II)I" } : Jvm.MethodName)) ∈ lw_all := lw_g (lw_at lw_m1 38 rfl) rfl
theorem q71 : (Jvm.Cond.selects "ShortestDigits" ({ cls := "ShortestDigits", name := "read", desc := "(II)I" } : Jvm.MethodName) ({ cls := "ShortestDigits", name := "read", desc := "(II)I" } : Jvm.MethodName)) ∈ lw_all := lw_g (lw_at lw_m1 39 rfl) rfl
theorem q72 : (Jvm.Cond.code ({ cls := "ShortestDigits", name := "read", desc := "(II)I" } : Jvm.MethodName) prog_1_method_11_code (5 : Nat) (Option.some Jvm.ClassFile.FieldType.int)) ∈ lw_all := lw_g (lw_at lw_m1 40 rfl) rfl
theorem q73 : (Jvm.Cond.methodLink "ShortestDigits" (41 : Nat) ({ cls := "ShortestDigits", name := "badDecimal", desc := "(II)Z" } : Jvm.MethodName)) ∈ lw_all := lw_g (lw_at lw_m1 41 rfl) rfl
theorem q74 : (Jvm.Cond.privateMethod ({ cls := "ShortestDigits", name := "badDecimal", desc := "(II)Z" } : Jvm.MethodName)) ∈ lw_tbl := lw_at lw_m1 42 rfl
theorem q75 : (Jvm.Cond.instanceMethod ({ cls := "ShortestDigits", name := "badDecimal", desc := "(II)Z" } : Jvm.MethodName)) ∈ lw_all := lw_g (lw_at lw_m1 43 rfl) rfl
theorem q76 : (Jvm.Cond.code ({ cls := "ShortestDigits", name := "badDecimal", desc := "(II)Z" } : Jvm.MethodName) prog_1_method_7_code (3 : Nat) (Option.some Jvm.ClassFile.FieldType.boolean)) ∈ lw_all := lw_g (lw_at lw_m1 44 rfl) rfl
theorem q77 : (Jvm.Cond.constant "ShortestDigits" (25 : Nat) (99999999 : Int32)) ∈ lw_all := lw_g (lw_at lw_m1 45 rfl) rfl
theorem q78 : (Jvm.Cond.methodLink "ShortestDigits" (45 : Nat) ({ cls := "ShortestDigits", name := "stepsOf", desc := "(II)J" } : Jvm.MethodName)) ∈ lw_all := lw_g (lw_at lw_m1 46 rfl) rfl
theorem q79 : (Jvm.Cond.privateMethod ({ cls := "ShortestDigits", name := "stepsOf", desc := "(II)J" } : Jvm.MethodName)) ∈ lw_tbl := lw_at lw_m1 47 rfl
theorem q80 : (Jvm.Cond.instanceMethod ({ cls := "ShortestDigits", name := "stepsOf", desc := "(II)J" } : Jvm.MethodName)) ∈ lw_all := lw_g (lw_at lw_m1 48 rfl) rfl
theorem q81 : (Jvm.Cond.code ({ cls := "ShortestDigits", name := "stepsOf", desc := "(II)J" } : Jvm.MethodName) prog_1_method_9_code (5 : Nat) (Option.some Jvm.ClassFile.FieldType.long)) ∈ lw_all := lw_g (lw_at lw_m1 49 rfl) rfl
theorem q82 : (Jvm.Cond.methodLink "ShortestDigits" (28 : Nat) ({ cls := "ShortestDigits", name := "tenTo", desc := "(I)J" } : Jvm.MethodName)) ∈ lw_all := lw_g (lw_at lw_m1 50 rfl) rfl
theorem q83 : (Jvm.Cond.privateMethod ({ cls := "ShortestDigits", name := "tenTo", desc := "(I)J" } : Jvm.MethodName)) ∈ lw_tbl := lw_at lw_m1 51 rfl
theorem q84 : (Jvm.Cond.instanceMethod ({ cls := "ShortestDigits", name := "tenTo", desc := "(I)J" } : Jvm.MethodName)) ∈ lw_all := lw_g (lw_at lw_m1 52 rfl) rfl
theorem q85 : (Jvm.Cond.code ({ cls := "ShortestDigits", name := "tenTo", desc := "(I)J" } : Jvm.MethodName) prog_1_method_8_code (5 : Nat) (Option.some Jvm.ClassFile.FieldType.long)) ∈ lw_all := lw_g (lw_at lw_m1 53 rfl) rfl
theorem q86 : (Jvm.Cond.constantLong "ShortestDigits" (26 : Nat) (10 : Int64)) ∈ lw_all := lw_g (lw_at lw_m1 54 rfl) rfl
theorem q87 : (Jvm.Cond.constantLong "ShortestDigits" (32 : Nat) (8000 : Int64)) ∈ lw_all := lw_g (lw_at lw_m1 55 rfl) rfl
theorem q88 : (Jvm.Cond.constantLong "ShortestDigits" (34 : Nat) (9000000000000000000 : Int64)) ∈ lw_all := lw_g (lw_at lw_m1 56 rfl) rfl
theorem q89 : (Jvm.Cond.constantLong "ShortestDigits" (36 : Nat) (1024 : Int64)) ∈ lw_all := lw_g (lw_at lw_m1 57 rfl) rfl
theorem q90 : (Jvm.Cond.constantLong "ShortestDigits" (19 : Nat) (1000000000000 : Int64)) ∈ lw_all := lw_g (lw_at lw_m1 58 rfl) rfl
theorem q91 : (Jvm.Cond.methodLink "ShortestDigits" (49 : Nat) ({ cls := "ShortestDigits", name := "nearest", desc := "(J)I" } : Jvm.MethodName)) ∈ lw_all := lw_g (lw_at lw_m1 59 rfl) rfl
theorem q92 : (Jvm.Cond.privateMethod ({ cls := "ShortestDigits", name := "nearest", desc := "(J)I" } : Jvm.MethodName)) ∈ lw_tbl := lw_at lw_m1 60 rfl
theorem q93 : (Jvm.Cond.instanceMethod ({ cls := "ShortestDigits", name := "nearest", desc := "(J)I" } : Jvm.MethodName)) ∈ lw_all := lw_g (lw_at lw_m1 61 rfl) rfl
theorem q94 : (Jvm.Cond.code ({ cls := "ShortestDigits", name := "nearest", desc := "(J)I" } : Jvm.MethodName) prog_1_method_10_code (10 : Nat) (Option.some Jvm.ClassFile.FieldType.int)) ∈ lw_all := lw_g (lw_at lw_m1 62 rfl) rfl
theorem q95 : (Jvm.Cond.methodLink "ShortestDigits" (38 : Nat) ({ cls := "ShortestDigits", name := "borderAbove", desc := "(I)J" } : Jvm.MethodName)) ∈ lw_all := lw_g (lw_at lw_m1 63 rfl) rfl
theorem q96 : (Jvm.Cond.privateMethod ({ cls := "ShortestDigits", name := "borderAbove", desc := "(I)J" } : Jvm.MethodName)) ∈ lw_tbl := lw_at lw_m1 64 rfl
theorem q97 : (Jvm.Cond.instanceMethod ({ cls := "ShortestDigits", name := "borderAbove", desc := "(I)J" } : Jvm.MethodName)) ∈ lw_all := lw_g (lw_at lw_m1 65 rfl) rfl
theorem q98 : (Jvm.Cond.code ({ cls := "ShortestDigits", name := "borderAbove", desc := "(I)J" } : Jvm.MethodName) prog_1_method_5_code (2 : Nat) (Option.some Jvm.ClassFile.FieldType.long)) ∈ lw_all := lw_g (lw_at lw_m1 66 rfl) rfl
theorem q100 : (Jvm.Cond.instanceMethod ({ cls := "ShortestDigits", name := "names", desc := "(III)Z" } : Jvm.MethodName)) ∈ lw_all := lw_g (lw_at lw_m1 68 rfl) rfl
theorem q101 : (Jvm.Cond.selects "ShortestDigits" ({ cls := "ShortestDigits", name := "names", desc := "(III)Z" } : Jvm.MethodName) ({ cls := "ShortestDigits", name := "names", desc := "(III)Z" } : Jvm.MethodName)) ∈ lw_all := lw_g (lw_at lw_m1 69 rfl) rfl
theorem q102 : (Jvm.Cond.code ({ cls := "ShortestDigits", name := "names", desc := "(III)Z" } : Jvm.MethodName) prog_1_method_13_code (6 : Nat) (Option.some Jvm.ClassFile.FieldType.boolean)) ∈ lw_all := lw_g (lw_at lw_m1 70 rfl) rfl
theorem q103 : (Jvm.Cond.methodLink "ShortestDigits" (55 : Nat) ({ cls := "ShortestDigits", name := "named", desc := "(IJ)Z" } : Jvm.MethodName)) ∈ lw_all := lw_g (lw_at lw_m1 71 rfl) rfl
theorem q104 : (Jvm.Cond.privateMethod ({ cls := "ShortestDigits", name := "named", desc := "(IJ)Z" } : Jvm.MethodName)) ∈ lw_tbl := lw_at lw_m1 72 rfl
theorem q105 : (Jvm.Cond.instanceMethod ({ cls := "ShortestDigits", name := "named", desc := "(IJ)Z" } : Jvm.MethodName)) ∈ lw_all := lw_g (lw_at lw_m1 73 rfl) rfl
theorem q106 : (Jvm.Cond.code ({ cls := "ShortestDigits", name := "named", desc := "(IJ)Z" } : Jvm.MethodName) prog_1_method_12_code (4 : Nat) (Option.some Jvm.ClassFile.FieldType.boolean)) ∈ lw_all := lw_g (lw_at lw_m1 74 rfl) rfl
theorem q107 : (Jvm.Cond.constantLong "ShortestDigits" (53 : Nat) (4177920000000000000 : Int64)) ∈ lw_all := lw_g (lw_at lw_m1 75 rfl) rfl
theorem q109 : (Jvm.Cond.instanceMethod ({ cls := "ShortestDigits", name := "compare", desc := "(III)I" } : Jvm.MethodName)) ∈ lw_all := lw_g (lw_at lw_m1 77 rfl) rfl
theorem q110 : (Jvm.Cond.selects "ShortestDigits" ({ cls := "ShortestDigits", name := "compare", desc := "(III)I" } : Jvm.MethodName) ({ cls := "ShortestDigits", name := "compare", desc := "(III)I" } : Jvm.MethodName)) ∈ lw_all := lw_g (lw_at lw_m1 78 rfl) rfl
theorem q111 : (Jvm.Cond.code ({ cls := "ShortestDigits", name := "compare", desc := "(III)I" } : Jvm.MethodName) prog_1_method_14_code (8 : Nat) (Option.some Jvm.ClassFile.FieldType.int)) ∈ lw_all := lw_g (lw_at lw_m1 79 rfl) rfl
theorem q112 : (Jvm.Cond.methodLink "ShortestDigits" (59 : Nat) ({ cls := "ShortestDigits", name := "steps", desc := "(I)J" } : Jvm.MethodName)) ∈ lw_all := lw_g (lw_at lw_m1 80 rfl) rfl
theorem q113 : (Jvm.Cond.privateMethod ({ cls := "ShortestDigits", name := "steps", desc := "(I)J" } : Jvm.MethodName)) ∈ lw_tbl := lw_at lw_m1 81 rfl
theorem q114 : (Jvm.Cond.instanceMethod ({ cls := "ShortestDigits", name := "steps", desc := "(I)J" } : Jvm.MethodName)) ∈ lw_all := lw_g (lw_at lw_m1 82 rfl) rfl
theorem q115 : (Jvm.Cond.code ({ cls := "ShortestDigits", name := "steps", desc := "(I)J" } : Jvm.MethodName) prog_1_method_4_code (2 : Nat) (Option.some Jvm.ClassFile.FieldType.long)) ∈ lw_all := lw_g (lw_at lw_m1 83 rfl) rfl
theorem q116 : (Jvm.Cond.constantLong "ShortestDigits" (17 : Nat) (2000000000000 : Int64)) ∈ lw_all := lw_g (lw_at lw_m1 84 rfl) rfl
theorem q118 : (Jvm.Cond.instanceMethod ({ cls := "ShortestDigits", name := "digits", desc := "(I)I" } : Jvm.MethodName)) ∈ lw_all := lw_g (lw_at lw_m1 86 rfl) rfl
theorem q119 : (Jvm.Cond.selects "ShortestDigits" ({ cls := "ShortestDigits", name := "digits", desc := "(I)I" } : Jvm.MethodName) ({ cls := "ShortestDigits", name := "digits", desc := "(I)I" } : Jvm.MethodName)) ∈ lw_all := lw_g (lw_at lw_m1 87 rfl) rfl
theorem q120 : (Jvm.Cond.code ({ cls := "ShortestDigits", name := "digits", desc := "(I)I" } : Jvm.MethodName) prog_1_method_22_code (2 : Nat) (Option.some Jvm.ClassFile.FieldType.int)) ∈ lw_all := lw_g (lw_at lw_m1 88 rfl) rfl
theorem q121 : (Jvm.Cond.methodLink "ShortestDigits" (93 : Nat) ({ cls := "ShortestDigits", name := "findShort", desc := "(I)V" } : Jvm.MethodName)) ∈ lw_all := lw_g (lw_at lw_m1 89 rfl) rfl
theorem q122 : (Jvm.Cond.privateMethod ({ cls := "ShortestDigits", name := "findShort", desc := "(I)V" } : Jvm.MethodName)) ∈ lw_tbl := lw_at lw_m1 90 rfl
theorem q123 : (Jvm.Cond.instanceMethod ({ cls := "ShortestDigits", name := "findShort", desc := "(I)V" } : Jvm.MethodName)) ∈ lw_all := lw_g (lw_at lw_m1 91 rfl) rfl
theorem q124 : (Jvm.Cond.code ({ cls := "ShortestDigits", name := "findShort", desc := "(I)V" } : Jvm.MethodName) prog_1_method_20_code (16 : Nat) (Option.none : Option Jvm.ClassFile.FieldType)) ∈ lw_all := lw_g (lw_at lw_m1 92 rfl) rfl
theorem q125 : (Jvm.Cond.methodLink "ShortestDigits" (71 : Nat) ({ cls := "ShortestDigits", name := "leastMultiple", desc := "(IJ)J" } : Jvm.MethodName)) ∈ lw_all := lw_g (lw_at lw_m1 93 rfl) rfl
theorem q126 : (Jvm.Cond.privateMethod ({ cls := "ShortestDigits", name := "leastMultiple", desc := "(IJ)J" } : Jvm.MethodName)) ∈ lw_tbl := lw_at lw_m1 94 rfl
theorem q127 : (Jvm.Cond.instanceMethod ({ cls := "ShortestDigits", name := "leastMultiple", desc := "(IJ)J" } : Jvm.MethodName)) ∈ lw_all := lw_g (lw_at lw_m1 95 rfl) rfl
theorem q128 : (Jvm.Cond.code ({ cls := "ShortestDigits", name := "leastMultiple", desc := "(IJ)J" } : Jvm.MethodName) prog_1_method_16_code (9 : Nat) (Option.some Jvm.ClassFile.FieldType.long)) ∈ lw_all := lw_g (lw_at lw_m1 96 rfl) rfl
theorem q129 : (Jvm.Cond.methodLink "ShortestDigits" (75 : Nat) ({ cls := "ShortestDigits", name := "greatestMultiple", desc := "(IJ)J" } : Jvm.MethodName)) ∈ lw_all := lw_g (lw_at lw_m1 97 rfl) rfl
theorem q130 : (Jvm.Cond.privateMethod ({ cls := "ShortestDigits", name := "greatestMultiple", desc := "(IJ)J" } : Jvm.MethodName)) ∈ lw_tbl := lw_at lw_m1 98 rfl
theorem q131 : (Jvm.Cond.instanceMethod ({ cls := "ShortestDigits", name := "greatestMultiple", desc := "(IJ)J" } : Jvm.MethodName)) ∈ lw_all := lw_g (lw_at lw_m1 99 rfl) rfl
theorem q132 : (Jvm.Cond.code ({ cls := "ShortestDigits", name := "greatestMultiple", desc := "(IJ)J" } : Jvm.MethodName) prog_1_method_17_code (9 : Nat) (Option.some Jvm.ClassFile.FieldType.long)) ∈ lw_all := lw_g (lw_at lw_m1 100 rfl) rfl
theorem q133 : (Jvm.Cond.methodLink "ShortestDigits" (78 : Nat) ({ cls := "ShortestDigits", name := "nearestMultiple", desc := "(JJJJ)J" } : Jvm.MethodName)) ∈ lw_all := lw_g (lw_at lw_m1 101 rfl) rfl
theorem q134 : (Jvm.Cond.privateMethod ({ cls := "ShortestDigits", name := "nearestMultiple", desc := "(JJJJ)J" } : Jvm.MethodName)) ∈ lw_tbl := lw_at lw_m1 102 rfl
theorem q135 : (Jvm.Cond.instanceMethod ({ cls := "ShortestDigits", name := "nearestMultiple", desc := "(JJJJ)J" } : Jvm.MethodName)) ∈ lw_all := lw_g (lw_at lw_m1 103 rfl) rfl
theorem q136 : (Jvm.Cond.code ({ cls := "ShortestDigits", name := "nearestMultiple", desc := "(JJJJ)J" } : Jvm.MethodName) prog_1_method_19_code (11 : Nat) (Option.some Jvm.ClassFile.FieldType.long)) ∈ lw_all := lw_g (lw_at lw_m1 104 rfl) rfl
theorem q137 : (Jvm.Cond.constantLong "ShortestDigits" (62 : Nat) (2 : Int64)) ∈ lw_all := lw_g (lw_at lw_m1 105 rfl) rfl
theorem q138 : (Jvm.Cond.methodLink "ShortestDigits" (82 : Nat) ({ cls := "ShortestDigits", name := "size", desc := "(J)J" } : Jvm.MethodName)) ∈ lw_all := lw_g (lw_at lw_m1 106 rfl) rfl
theorem q139 : (Jvm.Cond.privateMethod ({ cls := "ShortestDigits", name := "size", desc := "(J)J" } : Jvm.MethodName)) ∈ lw_tbl := lw_at lw_m1 107 rfl
theorem q140 : (Jvm.Cond.instanceMethod ({ cls := "ShortestDigits", name := "size", desc := "(J)J" } : Jvm.MethodName)) ∈ lw_all := lw_g (lw_at lw_m1 108 rfl) rfl
theorem q141 : (Jvm.Cond.code ({ cls := "ShortestDigits", name := "size", desc := "(J)J" } : Jvm.MethodName) prog_1_method_15_code (3 : Nat) (Option.some Jvm.ClassFile.FieldType.long)) ∈ lw_all := lw_g (lw_at lw_m1 109 rfl) rfl
theorem q142 : (Jvm.Cond.methodLink "ShortestDigits" (86 : Nat) ({ cls := "ShortestDigits", name := "improve", desc := "(IJIJ)V" } : Jvm.MethodName)) ∈ lw_all := lw_g (lw_at lw_m1 110 rfl) rfl
theorem q143 : (Jvm.Cond.privateMethod ({ cls := "ShortestDigits", name := "improve", desc := "(IJIJ)V" } : Jvm.MethodName)) ∈ lw_tbl := lw_at lw_m1 111 rfl
theorem q144 : (Jvm.Cond.instanceMethod ({ cls := "ShortestDigits", name := "improve", desc := "(IJIJ)V" } : Jvm.MethodName)) ∈ lw_all := lw_g (lw_at lw_m1 112 rfl) rfl
theorem q145 : (Jvm.Cond.code ({ cls := "ShortestDigits", name := "improve", desc := "(IJIJ)V" } : Jvm.MethodName) prog_1_method_21_code (20 : Nat) (Option.none : Option Jvm.ClassFile.FieldType)) ∈ lw_all := lw_g (lw_at lw_m1 113 rfl) rfl
theorem q146 : (Jvm.Cond.methodLink "ShortestDigits" (90 : Nat) ({ cls := "ShortestDigits", name := "lengthOf", desc := "(J)I" } : Jvm.MethodName)) ∈ lw_all := lw_g (lw_at lw_m1 114 rfl) rfl
theorem q147 : (Jvm.Cond.privateMethod ({ cls := "ShortestDigits", name := "lengthOf", desc := "(J)I" } : Jvm.MethodName)) ∈ lw_tbl := lw_at lw_m1 115 rfl
theorem q148 : (Jvm.Cond.instanceMethod ({ cls := "ShortestDigits", name := "lengthOf", desc := "(J)I" } : Jvm.MethodName)) ∈ lw_all := lw_g (lw_at lw_m1 116 rfl) rfl
theorem q149 : (Jvm.Cond.code ({ cls := "ShortestDigits", name := "lengthOf", desc := "(J)I" } : Jvm.MethodName) prog_1_method_18_code (7 : Nat) (Option.some Jvm.ClassFile.FieldType.int)) ∈ lw_all := lw_g (lw_at lw_m1 117 rfl) rfl
theorem q151 : (Jvm.Cond.instanceMethod ({ cls := "ShortestDigits", name := "scale", desc := "(I)I" } : Jvm.MethodName)) ∈ lw_all := lw_g (lw_at lw_m1 119 rfl) rfl
theorem q152 : (Jvm.Cond.selects "ShortestDigits" ({ cls := "ShortestDigits", name := "scale", desc := "(I)I" } : Jvm.MethodName) ({ cls := "ShortestDigits", name := "scale", desc := "(I)I" } : Jvm.MethodName)) ∈ lw_all := lw_g (lw_at lw_m1 120 rfl) rfl
theorem q153 : (Jvm.Cond.code ({ cls := "ShortestDigits", name := "scale", desc := "(I)I" } : Jvm.MethodName) prog_1_method_23_code (2 : Nat) (Option.some Jvm.ClassFile.FieldType.int)) ∈ lw_all := lw_g (lw_at lw_m1 121 rfl) rfl
theorem q155 : (Jvm.Cond.instanceMethod ({ cls := "ShortestDigits", name := "length", desc := "(I)I" } : Jvm.MethodName)) ∈ lw_all := lw_g (lw_at lw_m1 123 rfl) rfl
theorem q156 : (Jvm.Cond.selects "ShortestDigits" ({ cls := "ShortestDigits", name := "length", desc := "(I)I" } : Jvm.MethodName) ({ cls := "ShortestDigits", name := "length", desc := "(I)I" } : Jvm.MethodName)) ∈ lw_all := lw_g (lw_at lw_m1 124 rfl) rfl
theorem q157 : (Jvm.Cond.code ({ cls := "ShortestDigits", name := "length", desc := "(I)I" } : Jvm.MethodName) prog_1_method_24_code (2 : Nat) (Option.some Jvm.ClassFile.FieldType.int)) ∈ lw_all := lw_g (lw_at lw_m1 125 rfl) rfl
theorem q159 : (Jvm.Cond.instanceMethod ({ cls := "ShortestDigits", name := "written", desc := "(II)I" } : Jvm.MethodName)) ∈ lw_all := lw_g (lw_at lw_m1 127 rfl) rfl
theorem q160 : (Jvm.Cond.selects "ShortestDigits" ({ cls := "ShortestDigits", name := "written", desc := "(II)I" } : Jvm.MethodName) ({ cls := "ShortestDigits", name := "written", desc := "(II)I" } : Jvm.MethodName)) ∈ lw_all := lw_g (lw_at lw_m1 128 rfl) rfl
theorem q161 : (Jvm.Cond.code ({ cls := "ShortestDigits", name := "written", desc := "(II)I" } : Jvm.MethodName) prog_1_method_26_code (3 : Nat) (Option.some Jvm.ClassFile.FieldType.int)) ∈ lw_all := lw_g (lw_at lw_m1 129 rfl) rfl
theorem q162 : (Jvm.Cond.methodLink "ShortestDigits" (101 : Nat) ({ cls := "ShortestDigits", name := "writtenWith", desc := "(II)I" } : Jvm.MethodName)) ∈ lw_all := lw_g (lw_at lw_m1 130 rfl) rfl
theorem q163 : (Jvm.Cond.privateMethod ({ cls := "ShortestDigits", name := "writtenWith", desc := "(II)I" } : Jvm.MethodName)) ∈ lw_tbl := lw_at lw_m1 131 rfl
theorem q164 : (Jvm.Cond.instanceMethod ({ cls := "ShortestDigits", name := "writtenWith", desc := "(II)I" } : Jvm.MethodName)) ∈ lw_all := lw_g (lw_at lw_m1 132 rfl) rfl
theorem q165 : (Jvm.Cond.code ({ cls := "ShortestDigits", name := "writtenWith", desc := "(II)I" } : Jvm.MethodName) prog_1_method_25_code (10 : Nat) (Option.some Jvm.ClassFile.FieldType.int)) ∈ lw_all := lw_g (lw_at lw_m1 133 rfl) rfl
theorem q166 : (Jvm.Cond.constantLong "ShortestDigits" (97 : Nat) (511 : Int64)) ∈ lw_all := lw_g (lw_at lw_m1 134 rfl) rfl
theorem q167 : (Jvm.Cond.constantLong "ShortestDigits" (99 : Nat) (256 : Int64)) ∈ lw_all := lw_g (lw_at lw_m1 135 rfl) rfl
theorem q169 : (Jvm.Cond.instanceMethod ({ cls := "ShortestDigits", name := "places", desc := "(I)I" } : Jvm.MethodName)) ∈ lw_all := lw_g (lw_at lw_m1 137 rfl) rfl
theorem q170 : (Jvm.Cond.selects "ShortestDigits" ({ cls := "ShortestDigits", name := "places", desc := "(I)I" } : Jvm.MethodName) ({ cls := "ShortestDigits", name := "places", desc := "(I)I" } : Jvm.MethodName)) ∈ lw_all := lw_g (lw_at lw_m1 138 rfl) rfl
theorem q171 : (Jvm.Cond.code ({ cls := "ShortestDigits", name := "places", desc := "(I)I" } : Jvm.MethodName) prog_1_method_27_code (7 : Nat) (Option.some Jvm.ClassFile.FieldType.int)) ∈ lw_all := lw_g (lw_at lw_m1 139 rfl) rfl
theorem q173 : (Jvm.Cond.instanceMethod ({ cls := "ShortestDigits", name := "type", desc := "(I)I" } : Jvm.MethodName)) ∈ lw_all := lw_g (lw_at lw_m1 141 rfl) rfl
theorem q174 : (Jvm.Cond.selects "ShortestDigits" ({ cls := "ShortestDigits", name := "type", desc := "(I)I" } : Jvm.MethodName) ({ cls := "ShortestDigits", name := "type", desc := "(I)I" } : Jvm.MethodName)) ∈ lw_all := lw_g (lw_at lw_m1 142 rfl) rfl
theorem q175 : (Jvm.Cond.code ({ cls := "ShortestDigits", name := "type", desc := "(I)I" } : Jvm.MethodName) prog_1_method_29_code (4 : Nat) (Option.some Jvm.ClassFile.FieldType.int)) ∈ lw_all := lw_g (lw_at lw_m1 143 rfl) rfl
theorem q176 : (Jvm.Cond.methodLink "ShortestDigits" (108 : Nat) ({ cls := "ShortestDigits", name := "digitsTyped", desc := "()I" } : Jvm.MethodName)) ∈ lw_all := lw_g (lw_at lw_m1 144 rfl) rfl
theorem q177 : (Jvm.Cond.privateMethod ({ cls := "ShortestDigits", name := "digitsTyped", desc := "()I" } : Jvm.MethodName)) ∈ lw_tbl := lw_at lw_m1 145 rfl
theorem q178 : (Jvm.Cond.instanceMethod ({ cls := "ShortestDigits", name := "digitsTyped", desc := "()I" } : Jvm.MethodName)) ∈ lw_all := lw_g (lw_at lw_m1 146 rfl) rfl
theorem q179 : (Jvm.Cond.code ({ cls := "ShortestDigits", name := "digitsTyped", desc := "()I" } : Jvm.MethodName) prog_1_method_28_code (3 : Nat) (Option.some Jvm.ClassFile.FieldType.int)) ∈ lw_all := lw_g (lw_at lw_m1 147 rfl) rfl
theorem q181 : (Jvm.Cond.instanceMethod ({ cls := "ShortestDigits", name := "back", desc := "()I" } : Jvm.MethodName)) ∈ lw_all := lw_g (lw_at lw_m1 149 rfl) rfl
theorem q182 : (Jvm.Cond.selects "ShortestDigits" ({ cls := "ShortestDigits", name := "back", desc := "()I" } : Jvm.MethodName) ({ cls := "ShortestDigits", name := "back", desc := "()I" } : Jvm.MethodName)) ∈ lw_all := lw_g (lw_at lw_m1 150 rfl) rfl
theorem q183 : (Jvm.Cond.code ({ cls := "ShortestDigits", name := "back", desc := "()I" } : Jvm.MethodName) prog_1_method_30_code (1 : Nat) (Option.some Jvm.ClassFile.FieldType.int)) ∈ lw_all := lw_g (lw_at lw_m1 151 rfl) rfl
theorem q185 : (Jvm.Cond.instanceMethod ({ cls := "ShortestDigits", name := "clear", desc := "()V" } : Jvm.MethodName)) ∈ lw_all := lw_g (lw_at lw_m1 153 rfl) rfl
theorem q186 : (Jvm.Cond.selects "ShortestDigits" ({ cls := "ShortestDigits", name := "clear", desc := "()V" } : Jvm.MethodName) ({ cls := "ShortestDigits", name := "clear", desc := "()V" } : Jvm.MethodName)) ∈ lw_all := lw_g (lw_at lw_m1 154 rfl) rfl
theorem q187 : (Jvm.Cond.code ({ cls := "ShortestDigits", name := "clear", desc := "()V" } : Jvm.MethodName) prog_1_method_31_code (1 : Nat) (Option.none : Option Jvm.ClassFile.FieldType)) ∈ lw_all := lw_g (lw_at lw_m1 155 rfl) rfl
theorem q189 : (Jvm.Cond.instanceMethod ({ cls := "ShortestDigits", name := "typed", desc := "()I" } : Jvm.MethodName)) ∈ lw_all := lw_g (lw_at lw_m1 157 rfl) rfl
theorem q190 : (Jvm.Cond.selects "ShortestDigits" ({ cls := "ShortestDigits", name := "typed", desc := "()I" } : Jvm.MethodName) ({ cls := "ShortestDigits", name := "typed", desc := "()I" } : Jvm.MethodName)) ∈ lw_all := lw_g (lw_at lw_m1 158 rfl) rfl
theorem q191 : (Jvm.Cond.code ({ cls := "ShortestDigits", name := "typed", desc := "()I" } : Jvm.MethodName) prog_1_method_35_code (2 : Nat) (Option.some Jvm.ClassFile.FieldType.int)) ∈ lw_all := lw_g (lw_at lw_m1 159 rfl) rfl
theorem q192 : (Jvm.Cond.methodLink "ShortestDigits" (115 : Nat) ({ cls := "ShortestDigits", name := "textDigits", desc := "()I" } : Jvm.MethodName)) ∈ lw_all := lw_g (lw_at lw_m1 160 rfl) rfl
theorem q193 : (Jvm.Cond.privateMethod ({ cls := "ShortestDigits", name := "textDigits", desc := "()I" } : Jvm.MethodName)) ∈ lw_tbl := lw_at lw_m1 161 rfl
theorem q194 : (Jvm.Cond.instanceMethod ({ cls := "ShortestDigits", name := "textDigits", desc := "()I" } : Jvm.MethodName)) ∈ lw_all := lw_g (lw_at lw_m1 162 rfl) rfl
theorem q195 : (Jvm.Cond.code ({ cls := "ShortestDigits", name := "textDigits", desc := "()I" } : Jvm.MethodName) prog_1_method_32_code (3 : Nat) (Option.some Jvm.ClassFile.FieldType.int)) ∈ lw_all := lw_g (lw_at lw_m1 163 rfl) rfl
theorem q196 : (Jvm.Cond.methodLink "ShortestDigits" (118 : Nat) ({ cls := "ShortestDigits", name := "reading", desc := "(I)I" } : Jvm.MethodName)) ∈ lw_all := lw_g (lw_at lw_m1 164 rfl) rfl
theorem q197 : (Jvm.Cond.privateMethod ({ cls := "ShortestDigits", name := "reading", desc := "(I)I" } : Jvm.MethodName)) ∈ lw_tbl := lw_at lw_m1 165 rfl
theorem q198 : (Jvm.Cond.instanceMethod ({ cls := "ShortestDigits", name := "reading", desc := "(I)I" } : Jvm.MethodName)) ∈ lw_all := lw_g (lw_at lw_m1 166 rfl) rfl
theorem q199 : (Jvm.Cond.code ({ cls := "ShortestDigits", name := "reading", desc := "(I)I" } : Jvm.MethodName) prog_1_method_34_code (5 : Nat) (Option.some Jvm.ClassFile.FieldType.int)) ∈ lw_all := lw_g (lw_at lw_m1 167 rfl) rfl
theorem q200 : (Jvm.Cond.methodLink "ShortestDigits" (112 : Nat) ({ cls := "ShortestDigits", name := "textScale", desc := "()I" } : Jvm.MethodName)) ∈ lw_all := lw_g (lw_at lw_m1 168 rfl) rfl
theorem q201 : (Jvm.Cond.privateMethod ({ cls := "ShortestDigits", name := "textScale", desc := "()I" } : Jvm.MethodName)) ∈ lw_tbl := lw_at lw_m1 169 rfl
theorem q202 : (Jvm.Cond.instanceMethod ({ cls := "ShortestDigits", name := "textScale", desc := "()I" } : Jvm.MethodName)) ∈ lw_all := lw_g (lw_at lw_m1 170 rfl) rfl
theorem q203 : (Jvm.Cond.code ({ cls := "ShortestDigits", name := "textScale", desc := "()I" } : Jvm.MethodName) prog_1_method_33_code (4 : Nat) (Option.some Jvm.ClassFile.FieldType.int)) ∈ lw_all := lw_g (lw_at lw_m1 171 rfl) rfl
theorem q205 : (Jvm.Cond.instanceMethod ({ cls := "ShortestDigits", name := "typedDigits", desc := "()I" } : Jvm.MethodName)) ∈ lw_all := lw_g (lw_at lw_m1 173 rfl) rfl
theorem q206 : (Jvm.Cond.selects "ShortestDigits" ({ cls := "ShortestDigits", name := "typedDigits", desc := "()I" } : Jvm.MethodName) ({ cls := "ShortestDigits", name := "typedDigits", desc := "()I" } : Jvm.MethodName)) ∈ lw_all := lw_g (lw_at lw_m1 174 rfl) rfl
theorem q207 : (Jvm.Cond.code ({ cls := "ShortestDigits", name := "typedDigits", desc := "()I" } : Jvm.MethodName) prog_1_method_36_code (1 : Nat) (Option.some Jvm.ClassFile.FieldType.int)) ∈ lw_all := lw_g (lw_at lw_m1 175 rfl) rfl
theorem q209 : (Jvm.Cond.instanceMethod ({ cls := "ShortestDigits", name := "spare", desc := "()I" } : Jvm.MethodName)) ∈ lw_all := lw_g (lw_at lw_m1 177 rfl) rfl
theorem q210 : (Jvm.Cond.selects "ShortestDigits" ({ cls := "ShortestDigits", name := "spare", desc := "()I" } : Jvm.MethodName) ({ cls := "ShortestDigits", name := "spare", desc := "()I" } : Jvm.MethodName)) ∈ lw_all := lw_g (lw_at lw_m1 178 rfl) rfl
theorem q211 : (Jvm.Cond.code ({ cls := "ShortestDigits", name := "spare", desc := "()I" } : Jvm.MethodName) prog_1_method_37_code (9 : Nat) (Option.some Jvm.ClassFile.FieldType.int)) ∈ lw_all := lw_g (lw_at lw_m1 179 rfl) rfl
theorem in_X0 : ∀ w ∈ wsX00, w ∈ lw_all := lw_in wsX00 [47, 49, 51, 53] (by decide +kernel) (by decide +kernel)

/-! ShortestDigitsModel -/
def RX1 : String := "ShortestDigitsModel"
def TX1 : u_T := fun k => match k with
  | 0 => ("ShortestDigitsModel", "values", "[I", true)
  | 1 => ("ShortestDigitsModel", "text", "[I", true)
  | 2 => ("ShortestDigitsModel", "size", "I", false)
  | 3 => ("ShortestDigitsModel", "bestDigits", "I", false)
  | _ => ("ShortestDigitsModel", "bestScale", "I", false)
def tyX1 : Nat → FieldType := fun k => match k with
  | 0 => .array .int
  | 1 => .array .int
  | 2 => .int
  | 3 => .int
  | _ => .int
abbrev wsX10 : List Cond := u_ws RX1 TX1 5
theorem nmX1 : ∀ a, a < 5 → ∀ b, b < 5 → a ≠ b → (TX1 a).2.1 ≠ (TX1 b).2.1 := by decide +kernel
theorem tyX1_ok : ∀ k, k < 5 → parseFieldDescriptor (TX1 k).2.2.1 = some (tyX1 k) := by decide +kernel
abbrev cX1_init : ByteArray := prog_3_method_1_code
def yX1_init : MethodName := ⟨RX1, "<init>", "()V"⟩
abbrev cX1_units : ByteArray := prog_3_method_6_code
def yX1_units : MethodName := ⟨RX1, "units", "(I)I"⟩
abbrev cX1_isCode : ByteArray := prog_3_method_2_code
def yX1_isCode : MethodName := ⟨RX1, "isCode", "(I)Z"⟩
abbrev cX1_read : ByteArray := prog_3_method_7_code
def yX1_read : MethodName := ⟨RX1, "read", "(II)I"⟩
abbrev cX1_isDecimal : ByteArray := prog_3_method_3_code
def yX1_isDecimal : MethodName := ⟨RX1, "isDecimal", "(II)Z"⟩
abbrev cX1_sign : ByteArray := prog_3_method_5_code
def yX1_sign : MethodName := ⟨RX1, "sign", "(JII)I"⟩
abbrev cX1_power : ByteArray := prog_3_method_4_code
def yX1_power : MethodName := ⟨RX1, "power", "(I)J"⟩
abbrev cX1_names : ByteArray := prog_3_method_9_code
def yX1_names : MethodName := ⟨RX1, "names", "(III)Z"⟩
abbrev cX1_isName : ByteArray := prog_3_method_8_code
def yX1_isName : MethodName := ⟨RX1, "isName", "(III)Z"⟩
abbrev cX1_compare : ByteArray := prog_3_method_10_code
def yX1_compare : MethodName := ⟨RX1, "compare", "(III)I"⟩
abbrev cX1_digits : ByteArray := prog_3_method_15_code
def yX1_digits : MethodName := ⟨RX1, "digits", "(I)I"⟩
abbrev cX1_findShort : ByteArray := prog_3_method_14_code
def yX1_findShort : MethodName := ⟨RX1, "findShort", "(I)V"⟩
abbrev cX1_tryNear : ByteArray := prog_3_method_13_code
def yX1_tryNear : MethodName := ⟨RX1, "tryNear", "(III)V"⟩
abbrev cX1_digitsOf : ByteArray := prog_3_method_11_code
def yX1_digitsOf : MethodName := ⟨RX1, "digitsOf", "(I)I"⟩
abbrev cX1_gap : ByteArray := prog_3_method_12_code
def yX1_gap : MethodName := ⟨RX1, "gap", "(III)J"⟩
abbrev cX1_scale : ByteArray := prog_3_method_16_code
def yX1_scale : MethodName := ⟨RX1, "scale", "(I)I"⟩
abbrev cX1_length : ByteArray := prog_3_method_17_code
def yX1_length : MethodName := ⟨RX1, "length", "(I)I"⟩
abbrev cX1_written : ByteArray := prog_3_method_19_code
def yX1_written : MethodName := ⟨RX1, "written", "(II)I"⟩
abbrev cX1_write : ByteArray := prog_3_method_18_code
def yX1_write : MethodName := ⟨RX1, "write", "(II)I"⟩
abbrev cX1_places : ByteArray := prog_3_method_20_code
def yX1_places : MethodName := ⟨RX1, "places", "(I)I"⟩
abbrev cX1_type : ByteArray := prog_3_method_22_code
def yX1_type : MethodName := ⟨RX1, "type", "(I)I"⟩
abbrev cX1_countDigits : ByteArray := prog_3_method_21_code
def yX1_countDigits : MethodName := ⟨RX1, "countDigits", "(Z)I"⟩
abbrev cX1_back : ByteArray := prog_3_method_23_code
def yX1_back : MethodName := ⟨RX1, "back", "()I"⟩
abbrev cX1_clear : ByteArray := prog_3_method_24_code
def yX1_clear : MethodName := ⟨RX1, "clear", "()V"⟩
abbrev cX1_typed : ByteArray := prog_3_method_25_code
def yX1_typed : MethodName := ⟨RX1, "typed", "()I"⟩
abbrev cX1_typedDigits : ByteArray := prog_3_method_26_code
def yX1_typedDigits : MethodName := ⟨RX1, "typedDigits", "()I"⟩
abbrev cX1_spare : ByteArray := prog_3_method_27_code
def yX1_spare : MethodName := ⟨RX1, "spare", "()I"⟩
theorem q34 : (Jvm.Cond.initialized "ShortestDigitsModel") ∈ lw_all := lw_g (lw_at lw_m1 2 rfl) rfl
theorem q213 : (Jvm.Cond.instantiable "ShortestDigitsModel" (5 : Nat)) ∈ lw_all := lw_g (lw_at lw_m1 181 rfl) rfl
theorem q215 : (Jvm.Cond.instanceMethod ({ cls := "ShortestDigitsModel", name := "<init>", desc := "()V" } : Jvm.MethodName)) ∈ lw_all := lw_g (lw_at lw_m1 183 rfl) rfl
theorem q216 : (Jvm.Cond.code ({ cls := "ShortestDigitsModel", name := "<init>", desc := "()V" } : Jvm.MethodName) prog_3_method_1_code (2 : Nat) (Option.none : Option Jvm.ClassFile.FieldType)) ∈ lw_all := lw_g (lw_at lw_m1 184 rfl) rfl
theorem q217 : (Jvm.Cond.methodLink "ShortestDigitsModel" (1 : Nat) ({ cls := "java/lang/Object", name := "<init>", desc := "()V" } : Jvm.MethodName)) ∈ lw_all := lw_g (lw_at lw_m1 185 rfl) rfl
theorem q218 : (Jvm.Cond.fieldLink "ShortestDigitsModel" (7 : Nat) "ShortestDigitsModel" "values" "[I") ∈ lw_all := lw_g (lw_at lw_m1 186 rfl) rfl
theorem q219 : (Jvm.Cond.fieldLink "ShortestDigitsModel" (13 : Nat) "ShortestDigitsModel" "text" "[I") ∈ lw_all := lw_g (lw_at lw_m1 187 rfl) rfl
theorem q220 : (Jvm.Cond.fieldLink "ShortestDigitsModel" (78 : Nat) "ShortestDigitsModel" "size" "I") ∈ lw_all := lw_g (lw_at lw_m1 188 rfl) rfl
theorem q221 : (Jvm.Cond.fieldLink "ShortestDigitsModel" (57 : Nat) "ShortestDigitsModel" "bestDigits" "I") ∈ lw_all := lw_g (lw_at lw_m1 189 rfl) rfl
theorem q222 : (Jvm.Cond.fieldLink "ShortestDigitsModel" (61 : Nat) "ShortestDigitsModel" "bestScale" "I") ∈ lw_all := lw_g (lw_at lw_m1 190 rfl) rfl
theorem q223 : (Jvm.Cond.laysFinal "ShortestDigitsModel" "ShortestDigitsModel" "values" "[I") ∈ lw_all := lw_g (lw_at lw_m1 191 rfl) rfl
theorem q224 : (Jvm.Cond.soleField "ShortestDigitsModel" "values") ∈ lw_all := lw_g (lw_at lw_m1 192 rfl) rfl
theorem q225 : (Jvm.Cond.laysFinal "ShortestDigitsModel" "ShortestDigitsModel" "text" "[I") ∈ lw_all := lw_g (lw_at lw_m1 193 rfl) rfl
theorem q226 : (Jvm.Cond.soleField "ShortestDigitsModel" "text") ∈ lw_all := lw_g (lw_at lw_m1 194 rfl) rfl
theorem q227 : (Jvm.Cond.lays "ShortestDigitsModel" "ShortestDigitsModel" "size" "I") ∈ lw_all := lw_g (lw_at lw_m1 195 rfl) rfl
theorem q228 : (Jvm.Cond.soleField "ShortestDigitsModel" "size") ∈ lw_all := lw_g (lw_at lw_m1 196 rfl) rfl
theorem q229 : (Jvm.Cond.lays "ShortestDigitsModel" "ShortestDigitsModel" "bestDigits" "I") ∈ lw_all := lw_g (lw_at lw_m1 197 rfl) rfl
theorem q230 : (Jvm.Cond.soleField "ShortestDigitsModel" "bestDigits") ∈ lw_all := lw_g (lw_at lw_m1 198 rfl) rfl
theorem q231 : (Jvm.Cond.lays "ShortestDigitsModel" "ShortestDigitsModel" "bestScale" "I") ∈ lw_all := lw_g (lw_at lw_m1 199 rfl) rfl
theorem q232 : (Jvm.Cond.soleField "ShortestDigitsModel" "bestScale") ∈ lw_all := lw_g (lw_at lw_m1 200 rfl) rfl
theorem q233 : (Jvm.Cond.superclass "ShortestDigitsModel" "java/lang/Object") ∈ lw_all := lw_g (lw_at lw_m1 201 rfl) rfl
theorem q235 : (Jvm.Cond.instanceMethod ({ cls := "ShortestDigitsModel", name := "units", desc := "(I)I" } : Jvm.MethodName)) ∈ lw_all := lw_g (lw_at lw_m1 203 rfl) rfl
theorem q236 : (Jvm.Cond.selects "ShortestDigitsModel" ({ cls := "ShortestDigitsModel", name := "units", desc := "(I)I" } : Jvm.MethodName) ({ cls := "ShortestDigitsModel", name := "units", desc := "(I)I" } : Jvm.MethodName)) ∈ lw_all := lw_g (lw_at lw_m1 204 rfl) rfl
theorem q237 : (Jvm.Cond.code ({ cls := "ShortestDigitsModel", name := "units", desc := "(I)I" } : Jvm.MethodName) prog_3_method_6_code (2 : Nat) (Option.some Jvm.ClassFile.FieldType.int)) ∈ lw_all := lw_g (lw_at lw_m1 205 rfl) rfl
theorem q238 : (Jvm.Cond.methodLink "ShortestDigitsModel" (25 : Nat) ({ cls := "ShortestDigitsModel", name := "isCode", desc := "(I)Z" } : Jvm.MethodName)) ∈ lw_all := lw_g (lw_at lw_m1 206 rfl) rfl
theorem q239 : (Jvm.Cond.privateMethod ({ cls := "ShortestDigitsModel", name := "isCode", desc := "(I)Z" } : Jvm.MethodName)) ∈ lw_tbl := lw_at lw_m1 207 rfl
theorem q240 : (Jvm.Cond.instanceMethod ({ cls := "ShortestDigitsModel", name := "isCode", desc := "(I)Z" } : Jvm.MethodName)) ∈ lw_all := lw_g (lw_at lw_m1 208 rfl) rfl
theorem q241 : (Jvm.Cond.code ({ cls := "ShortestDigitsModel", name := "isCode", desc := "(I)Z" } : Jvm.MethodName) prog_3_method_2_code (2 : Nat) (Option.some Jvm.ClassFile.FieldType.boolean)) ∈ lw_all := lw_g (lw_at lw_m1 209 rfl) rfl
theorem q243 : (Jvm.Cond.instanceMethod ({ cls := "ShortestDigitsModel", name := "read", desc := "(II)I" } : Jvm.MethodName)) ∈ lw_all := lw_g (lw_at lw_m1 211 rfl) rfl
theorem q244 : (Jvm.Cond.selects "ShortestDigitsModel" ({ cls := "ShortestDigitsModel", name := "read", desc := "(II)I" } : Jvm.MethodName) ({ cls := "ShortestDigitsModel", name := "read", desc := "(II)I" } : Jvm.MethodName)) ∈ lw_all := lw_g (lw_at lw_m1 212 rfl) rfl
theorem q245 : (Jvm.Cond.code ({ cls := "ShortestDigitsModel", name := "read", desc := "(II)I" } : Jvm.MethodName) prog_3_method_7_code (5 : Nat) (Option.some Jvm.ClassFile.FieldType.int)) ∈ lw_all := lw_g (lw_at lw_m1 213 rfl) rfl
theorem q246 : (Jvm.Cond.methodLink "ShortestDigitsModel" (29 : Nat) ({ cls := "ShortestDigitsModel", name := "isDecimal", desc := "(II)Z" } : Jvm.MethodName)) ∈ lw_all := lw_g (lw_at lw_m1 214 rfl) rfl
theorem q247 : (Jvm.Cond.privateMethod ({ cls := "ShortestDigitsModel", name := "isDecimal", desc := "(II)Z" } : Jvm.MethodName)) ∈ lw_tbl := lw_at lw_m1 215 rfl
theorem q248 : (Jvm.Cond.instanceMethod ({ cls := "ShortestDigitsModel", name := "isDecimal", desc := "(II)Z" } : Jvm.MethodName)) ∈ lw_all := lw_g (lw_at lw_m1 216 rfl) rfl
theorem q249 : (Jvm.Cond.code ({ cls := "ShortestDigitsModel", name := "isDecimal", desc := "(II)Z" } : Jvm.MethodName) prog_3_method_3_code (3 : Nat) (Option.some Jvm.ClassFile.FieldType.boolean)) ∈ lw_all := lw_g (lw_at lw_m1 217 rfl) rfl
theorem q250 : (Jvm.Cond.constant "ShortestDigitsModel" (16 : Nat) (99999999 : Int32)) ∈ lw_all := lw_g (lw_at lw_m1 218 rfl) rfl
theorem q251 : (Jvm.Cond.methodLink "ShortestDigitsModel" (33 : Nat) ({ cls := "ShortestDigitsModel", name := "sign", desc := "(JII)I" } : Jvm.MethodName)) ∈ lw_all := lw_g (lw_at lw_m1 219 rfl) rfl
theorem q252 : (Jvm.Cond.privateMethod ({ cls := "ShortestDigitsModel", name := "sign", desc := "(JII)I" } : Jvm.MethodName)) ∈ lw_tbl := lw_at lw_m1 220 rfl
theorem q253 : (Jvm.Cond.instanceMethod ({ cls := "ShortestDigitsModel", name := "sign", desc := "(JII)I" } : Jvm.MethodName)) ∈ lw_all := lw_g (lw_at lw_m1 221 rfl) rfl
theorem q254 : (Jvm.Cond.code ({ cls := "ShortestDigitsModel", name := "sign", desc := "(JII)I" } : Jvm.MethodName) prog_3_method_5_code (9 : Nat) (Option.some Jvm.ClassFile.FieldType.int)) ∈ lw_all := lw_g (lw_at lw_m1 222 rfl) rfl
theorem q255 : (Jvm.Cond.methodLink "ShortestDigitsModel" (19 : Nat) ({ cls := "ShortestDigitsModel", name := "power", desc := "(I)J" } : Jvm.MethodName)) ∈ lw_all := lw_g (lw_at lw_m1 223 rfl) rfl
theorem q256 : (Jvm.Cond.privateMethod ({ cls := "ShortestDigitsModel", name := "power", desc := "(I)J" } : Jvm.MethodName)) ∈ lw_tbl := lw_at lw_m1 224 rfl
theorem q257 : (Jvm.Cond.instanceMethod ({ cls := "ShortestDigitsModel", name := "power", desc := "(I)J" } : Jvm.MethodName)) ∈ lw_all := lw_g (lw_at lw_m1 225 rfl) rfl
theorem q258 : (Jvm.Cond.code ({ cls := "ShortestDigitsModel", name := "power", desc := "(I)J" } : Jvm.MethodName) prog_3_method_4_code (5 : Nat) (Option.some Jvm.ClassFile.FieldType.long)) ∈ lw_all := lw_g (lw_at lw_m1 226 rfl) rfl
theorem q259 : (Jvm.Cond.constantLong "ShortestDigitsModel" (17 : Nat) (10 : Int64)) ∈ lw_all := lw_g (lw_at lw_m1 227 rfl) rfl
theorem q260 : (Jvm.Cond.constantLong "ShortestDigitsModel" (23 : Nat) (1024 : Int64)) ∈ lw_all := lw_g (lw_at lw_m1 228 rfl) rfl
theorem q262 : (Jvm.Cond.instanceMethod ({ cls := "ShortestDigitsModel", name := "names", desc := "(III)Z" } : Jvm.MethodName)) ∈ lw_all := lw_g (lw_at lw_m1 230 rfl) rfl
theorem q263 : (Jvm.Cond.selects "ShortestDigitsModel" ({ cls := "ShortestDigitsModel", name := "names", desc := "(III)Z" } : Jvm.MethodName) ({ cls := "ShortestDigitsModel", name := "names", desc := "(III)Z" } : Jvm.MethodName)) ∈ lw_all := lw_g (lw_at lw_m1 231 rfl) rfl
theorem q264 : (Jvm.Cond.code ({ cls := "ShortestDigitsModel", name := "names", desc := "(III)Z" } : Jvm.MethodName) prog_3_method_9_code (4 : Nat) (Option.some Jvm.ClassFile.FieldType.boolean)) ∈ lw_all := lw_g (lw_at lw_m1 232 rfl) rfl
theorem q265 : (Jvm.Cond.methodLink "ShortestDigitsModel" (37 : Nat) ({ cls := "ShortestDigitsModel", name := "isName", desc := "(III)Z" } : Jvm.MethodName)) ∈ lw_all := lw_g (lw_at lw_m1 233 rfl) rfl
theorem q266 : (Jvm.Cond.privateMethod ({ cls := "ShortestDigitsModel", name := "isName", desc := "(III)Z" } : Jvm.MethodName)) ∈ lw_tbl := lw_at lw_m1 234 rfl
theorem q267 : (Jvm.Cond.instanceMethod ({ cls := "ShortestDigitsModel", name := "isName", desc := "(III)Z" } : Jvm.MethodName)) ∈ lw_all := lw_g (lw_at lw_m1 235 rfl) rfl
theorem q268 : (Jvm.Cond.code ({ cls := "ShortestDigitsModel", name := "isName", desc := "(III)Z" } : Jvm.MethodName) prog_3_method_8_code (8 : Nat) (Option.some Jvm.ClassFile.FieldType.boolean)) ∈ lw_all := lw_g (lw_at lw_m1 236 rfl) rfl
theorem q270 : (Jvm.Cond.instanceMethod ({ cls := "ShortestDigitsModel", name := "compare", desc := "(III)I" } : Jvm.MethodName)) ∈ lw_all := lw_g (lw_at lw_m1 238 rfl) rfl
theorem q271 : (Jvm.Cond.selects "ShortestDigitsModel" ({ cls := "ShortestDigitsModel", name := "compare", desc := "(III)I" } : Jvm.MethodName) ({ cls := "ShortestDigitsModel", name := "compare", desc := "(III)I" } : Jvm.MethodName)) ∈ lw_all := lw_g (lw_at lw_m1 239 rfl) rfl
theorem q272 : (Jvm.Cond.code ({ cls := "ShortestDigitsModel", name := "compare", desc := "(III)I" } : Jvm.MethodName) prog_3_method_10_code (4 : Nat) (Option.some Jvm.ClassFile.FieldType.int)) ∈ lw_all := lw_g (lw_at lw_m2 0 rfl) rfl
theorem q273 : (Jvm.Cond.constantLong "ShortestDigitsModel" (41 : Nat) (2 : Int64)) ∈ lw_all := lw_g (lw_at lw_m2 1 rfl) rfl
theorem q275 : (Jvm.Cond.instanceMethod ({ cls := "ShortestDigitsModel", name := "digits", desc := "(I)I" } : Jvm.MethodName)) ∈ lw_all := lw_g (lw_at lw_m2 3 rfl) rfl
theorem q276 : (Jvm.Cond.selects "ShortestDigitsModel" ({ cls := "ShortestDigitsModel", name := "digits", desc := "(I)I" } : Jvm.MethodName) ({ cls := "ShortestDigitsModel", name := "digits", desc := "(I)I" } : Jvm.MethodName)) ∈ lw_all := lw_g (lw_at lw_m2 4 rfl) rfl
theorem q277 : (Jvm.Cond.code ({ cls := "ShortestDigitsModel", name := "digits", desc := "(I)I" } : Jvm.MethodName) prog_3_method_15_code (2 : Nat) (Option.some Jvm.ClassFile.FieldType.int)) ∈ lw_all := lw_g (lw_at lw_m2 5 rfl) rfl
theorem q278 : (Jvm.Cond.methodLink "ShortestDigitsModel" (68 : Nat) ({ cls := "ShortestDigitsModel", name := "findShort", desc := "(I)V" } : Jvm.MethodName)) ∈ lw_all := lw_g (lw_at lw_m2 6 rfl) rfl
theorem q279 : (Jvm.Cond.privateMethod ({ cls := "ShortestDigitsModel", name := "findShort", desc := "(I)V" } : Jvm.MethodName)) ∈ lw_tbl := lw_at lw_m2 7 rfl
theorem q280 : (Jvm.Cond.instanceMethod ({ cls := "ShortestDigitsModel", name := "findShort", desc := "(I)V" } : Jvm.MethodName)) ∈ lw_all := lw_g (lw_at lw_m2 8 rfl) rfl
theorem q281 : (Jvm.Cond.code ({ cls := "ShortestDigitsModel", name := "findShort", desc := "(I)V" } : Jvm.MethodName) prog_3_method_14_code (4 : Nat) (Option.none : Option Jvm.ClassFile.FieldType)) ∈ lw_all := lw_g (lw_at lw_m2 9 rfl) rfl
theorem q282 : (Jvm.Cond.methodLink "ShortestDigitsModel" (64 : Nat) ({ cls := "ShortestDigitsModel", name := "tryNear", desc := "(III)V" } : Jvm.MethodName)) ∈ lw_all := lw_g (lw_at lw_m2 10 rfl) rfl
theorem q283 : (Jvm.Cond.privateMethod ({ cls := "ShortestDigitsModel", name := "tryNear", desc := "(III)V" } : Jvm.MethodName)) ∈ lw_tbl := lw_at lw_m2 11 rfl
theorem q284 : (Jvm.Cond.instanceMethod ({ cls := "ShortestDigitsModel", name := "tryNear", desc := "(III)V" } : Jvm.MethodName)) ∈ lw_all := lw_g (lw_at lw_m2 12 rfl) rfl
theorem q285 : (Jvm.Cond.code ({ cls := "ShortestDigitsModel", name := "tryNear", desc := "(III)V" } : Jvm.MethodName) prog_3_method_13_code (11 : Nat) (Option.none : Option Jvm.ClassFile.FieldType)) ∈ lw_all := lw_g (lw_at lw_m2 13 rfl) rfl
theorem q286 : (Jvm.Cond.constantLong "ShortestDigitsModel" (43 : Nat) (512 : Int64)) ∈ lw_all := lw_g (lw_at lw_m2 14 rfl) rfl
theorem q287 : (Jvm.Cond.constantLong "ShortestDigitsModel" (45 : Nat) (100000001 : Int64)) ∈ lw_all := lw_g (lw_at lw_m2 15 rfl) rfl
theorem q288 : (Jvm.Cond.constantLong "ShortestDigitsModel" (47 : Nat) (3 : Int64)) ∈ lw_all := lw_g (lw_at lw_m2 16 rfl) rfl
theorem q289 : (Jvm.Cond.methodLink "ShortestDigitsModel" (49 : Nat) ({ cls := "ShortestDigitsModel", name := "digitsOf", desc := "(I)I" } : Jvm.MethodName)) ∈ lw_all := lw_g (lw_at lw_m2 17 rfl) rfl
theorem q290 : (Jvm.Cond.privateMethod ({ cls := "ShortestDigitsModel", name := "digitsOf", desc := "(I)I" } : Jvm.MethodName)) ∈ lw_tbl := lw_at lw_m2 18 rfl
theorem q291 : (Jvm.Cond.instanceMethod ({ cls := "ShortestDigitsModel", name := "digitsOf", desc := "(I)I" } : Jvm.MethodName)) ∈ lw_all := lw_g (lw_at lw_m2 19 rfl) rfl
theorem q292 : (Jvm.Cond.code ({ cls := "ShortestDigitsModel", name := "digitsOf", desc := "(I)I" } : Jvm.MethodName) prog_3_method_11_code (4 : Nat) (Option.some Jvm.ClassFile.FieldType.int)) ∈ lw_all := lw_g (lw_at lw_m2 20 rfl) rfl
theorem q293 : (Jvm.Cond.methodLink "ShortestDigitsModel" (53 : Nat) ({ cls := "ShortestDigitsModel", name := "gap", desc := "(III)J" } : Jvm.MethodName)) ∈ lw_all := lw_g (lw_at lw_m2 21 rfl) rfl
theorem q294 : (Jvm.Cond.privateMethod ({ cls := "ShortestDigitsModel", name := "gap", desc := "(III)J" } : Jvm.MethodName)) ∈ lw_tbl := lw_at lw_m2 22 rfl
theorem q295 : (Jvm.Cond.instanceMethod ({ cls := "ShortestDigitsModel", name := "gap", desc := "(III)J" } : Jvm.MethodName)) ∈ lw_all := lw_g (lw_at lw_m2 23 rfl) rfl
theorem q296 : (Jvm.Cond.code ({ cls := "ShortestDigitsModel", name := "gap", desc := "(III)J" } : Jvm.MethodName) prog_3_method_12_code (6 : Nat) (Option.some Jvm.ClassFile.FieldType.long)) ∈ lw_all := lw_g (lw_at lw_m2 24 rfl) rfl
theorem q298 : (Jvm.Cond.instanceMethod ({ cls := "ShortestDigitsModel", name := "scale", desc := "(I)I" } : Jvm.MethodName)) ∈ lw_all := lw_g (lw_at lw_m2 26 rfl) rfl
theorem q299 : (Jvm.Cond.selects "ShortestDigitsModel" ({ cls := "ShortestDigitsModel", name := "scale", desc := "(I)I" } : Jvm.MethodName) ({ cls := "ShortestDigitsModel", name := "scale", desc := "(I)I" } : Jvm.MethodName)) ∈ lw_all := lw_g (lw_at lw_m2 27 rfl) rfl
theorem q300 : (Jvm.Cond.code ({ cls := "ShortestDigitsModel", name := "scale", desc := "(I)I" } : Jvm.MethodName) prog_3_method_16_code (2 : Nat) (Option.some Jvm.ClassFile.FieldType.int)) ∈ lw_all := lw_g (lw_at lw_m2 28 rfl) rfl
theorem q302 : (Jvm.Cond.instanceMethod ({ cls := "ShortestDigitsModel", name := "length", desc := "(I)I" } : Jvm.MethodName)) ∈ lw_all := lw_g (lw_at lw_m2 30 rfl) rfl
theorem q303 : (Jvm.Cond.selects "ShortestDigitsModel" ({ cls := "ShortestDigitsModel", name := "length", desc := "(I)I" } : Jvm.MethodName) ({ cls := "ShortestDigitsModel", name := "length", desc := "(I)I" } : Jvm.MethodName)) ∈ lw_all := lw_g (lw_at lw_m2 31 rfl) rfl
theorem q304 : (Jvm.Cond.code ({ cls := "ShortestDigitsModel", name := "length", desc := "(I)I" } : Jvm.MethodName) prog_3_method_17_code (2 : Nat) (Option.some Jvm.ClassFile.FieldType.int)) ∈ lw_all := lw_g (lw_at lw_m2 32 rfl) rfl
theorem q306 : (Jvm.Cond.instanceMethod ({ cls := "ShortestDigitsModel", name := "written", desc := "(II)I" } : Jvm.MethodName)) ∈ lw_all := lw_g (lw_at lw_m2 34 rfl) rfl
theorem q307 : (Jvm.Cond.selects "ShortestDigitsModel" ({ cls := "ShortestDigitsModel", name := "written", desc := "(II)I" } : Jvm.MethodName) ({ cls := "ShortestDigitsModel", name := "written", desc := "(II)I" } : Jvm.MethodName)) ∈ lw_all := lw_g (lw_at lw_m2 35 rfl) rfl
theorem q308 : (Jvm.Cond.code ({ cls := "ShortestDigitsModel", name := "written", desc := "(II)I" } : Jvm.MethodName) prog_3_method_19_code (3 : Nat) (Option.some Jvm.ClassFile.FieldType.int)) ∈ lw_all := lw_g (lw_at lw_m2 36 rfl) rfl
theorem q309 : (Jvm.Cond.methodLink "ShortestDigitsModel" (74 : Nat) ({ cls := "ShortestDigitsModel", name := "write", desc := "(II)I" } : Jvm.MethodName)) ∈ lw_all := lw_g (lw_at lw_m2 37 rfl) rfl
theorem q310 : (Jvm.Cond.privateMethod ({ cls := "ShortestDigitsModel", name := "write", desc := "(II)I" } : Jvm.MethodName)) ∈ lw_tbl := lw_at lw_m2 38 rfl
theorem q311 : (Jvm.Cond.instanceMethod ({ cls := "ShortestDigitsModel", name := "write", desc := "(II)I" } : Jvm.MethodName)) ∈ lw_all := lw_g (lw_at lw_m2 39 rfl) rfl
theorem q312 : (Jvm.Cond.code ({ cls := "ShortestDigitsModel", name := "write", desc := "(II)I" } : Jvm.MethodName) prog_3_method_18_code (10 : Nat) (Option.some Jvm.ClassFile.FieldType.int)) ∈ lw_all := lw_g (lw_at lw_m2 40 rfl) rfl
theorem q313 : (Jvm.Cond.constantLong "ShortestDigitsModel" (72 : Nat) (256 : Int64)) ∈ lw_all := lw_g (lw_at lw_m2 41 rfl) rfl
theorem q315 : (Jvm.Cond.instanceMethod ({ cls := "ShortestDigitsModel", name := "places", desc := "(I)I" } : Jvm.MethodName)) ∈ lw_all := lw_g (lw_at lw_m2 43 rfl) rfl
theorem q316 : (Jvm.Cond.selects "ShortestDigitsModel" ({ cls := "ShortestDigitsModel", name := "places", desc := "(I)I" } : Jvm.MethodName) ({ cls := "ShortestDigitsModel", name := "places", desc := "(I)I" } : Jvm.MethodName)) ∈ lw_all := lw_g (lw_at lw_m2 44 rfl) rfl
theorem q317 : (Jvm.Cond.code ({ cls := "ShortestDigitsModel", name := "places", desc := "(I)I" } : Jvm.MethodName) prog_3_method_20_code (4 : Nat) (Option.some Jvm.ClassFile.FieldType.int)) ∈ lw_all := lw_g (lw_at lw_m2 45 rfl) rfl
theorem q319 : (Jvm.Cond.instanceMethod ({ cls := "ShortestDigitsModel", name := "type", desc := "(I)I" } : Jvm.MethodName)) ∈ lw_all := lw_g (lw_at lw_m2 47 rfl) rfl
theorem q320 : (Jvm.Cond.selects "ShortestDigitsModel" ({ cls := "ShortestDigitsModel", name := "type", desc := "(I)I" } : Jvm.MethodName) ({ cls := "ShortestDigitsModel", name := "type", desc := "(I)I" } : Jvm.MethodName)) ∈ lw_all := lw_g (lw_at lw_m2 48 rfl) rfl
theorem q321 : (Jvm.Cond.code ({ cls := "ShortestDigitsModel", name := "type", desc := "(I)I" } : Jvm.MethodName) prog_3_method_22_code (3 : Nat) (Option.some Jvm.ClassFile.FieldType.int)) ∈ lw_all := lw_g (lw_at lw_m2 49 rfl) rfl
theorem q322 : (Jvm.Cond.methodLink "ShortestDigitsModel" (81 : Nat) ({ cls := "ShortestDigitsModel", name := "countDigits", desc := "(Z)I" } : Jvm.MethodName)) ∈ lw_all := lw_g (lw_at lw_m2 50 rfl) rfl
theorem q323 : (Jvm.Cond.privateMethod ({ cls := "ShortestDigitsModel", name := "countDigits", desc := "(Z)I" } : Jvm.MethodName)) ∈ lw_tbl := lw_at lw_m2 51 rfl
theorem q324 : (Jvm.Cond.instanceMethod ({ cls := "ShortestDigitsModel", name := "countDigits", desc := "(Z)I" } : Jvm.MethodName)) ∈ lw_all := lw_g (lw_at lw_m2 52 rfl) rfl
theorem q325 : (Jvm.Cond.code ({ cls := "ShortestDigitsModel", name := "countDigits", desc := "(Z)I" } : Jvm.MethodName) prog_3_method_21_code (5 : Nat) (Option.some Jvm.ClassFile.FieldType.int)) ∈ lw_all := lw_g (lw_at lw_m2 53 rfl) rfl
theorem q327 : (Jvm.Cond.instanceMethod ({ cls := "ShortestDigitsModel", name := "back", desc := "()I" } : Jvm.MethodName)) ∈ lw_all := lw_g (lw_at lw_m2 55 rfl) rfl
theorem q328 : (Jvm.Cond.selects "ShortestDigitsModel" ({ cls := "ShortestDigitsModel", name := "back", desc := "()I" } : Jvm.MethodName) ({ cls := "ShortestDigitsModel", name := "back", desc := "()I" } : Jvm.MethodName)) ∈ lw_all := lw_g (lw_at lw_m2 56 rfl) rfl
theorem q329 : (Jvm.Cond.code ({ cls := "ShortestDigitsModel", name := "back", desc := "()I" } : Jvm.MethodName) prog_3_method_23_code (1 : Nat) (Option.some Jvm.ClassFile.FieldType.int)) ∈ lw_all := lw_g (lw_at lw_m2 57 rfl) rfl
theorem q331 : (Jvm.Cond.instanceMethod ({ cls := "ShortestDigitsModel", name := "clear", desc := "()V" } : Jvm.MethodName)) ∈ lw_all := lw_g (lw_at lw_m2 59 rfl) rfl
theorem q332 : (Jvm.Cond.selects "ShortestDigitsModel" ({ cls := "ShortestDigitsModel", name := "clear", desc := "()V" } : Jvm.MethodName) ({ cls := "ShortestDigitsModel", name := "clear", desc := "()V" } : Jvm.MethodName)) ∈ lw_all := lw_g (lw_at lw_m2 60 rfl) rfl
theorem q333 : (Jvm.Cond.code ({ cls := "ShortestDigitsModel", name := "clear", desc := "()V" } : Jvm.MethodName) prog_3_method_24_code (1 : Nat) (Option.none : Option Jvm.ClassFile.FieldType)) ∈ lw_all := lw_g (lw_at lw_m2 61 rfl) rfl
theorem q335 : (Jvm.Cond.instanceMethod ({ cls := "ShortestDigitsModel", name := "typed", desc := "()I" } : Jvm.MethodName)) ∈ lw_all := lw_g (lw_at lw_m2 63 rfl) rfl
theorem q336 : (Jvm.Cond.selects "ShortestDigitsModel" ({ cls := "ShortestDigitsModel", name := "typed", desc := "()I" } : Jvm.MethodName) ({ cls := "ShortestDigitsModel", name := "typed", desc := "()I" } : Jvm.MethodName)) ∈ lw_all := lw_g (lw_at lw_m2 64 rfl) rfl
theorem q337 : (Jvm.Cond.code ({ cls := "ShortestDigitsModel", name := "typed", desc := "()I" } : Jvm.MethodName) prog_3_method_25_code (2 : Nat) (Option.some Jvm.ClassFile.FieldType.int)) ∈ lw_all := lw_g (lw_at lw_m2 65 rfl) rfl
theorem q338 : (Jvm.Cond.methodLink "ShortestDigitsModel" (85 : Nat) ({ cls := "ShortestDigitsModel", name := "typedDigits", desc := "()I" } : Jvm.MethodName)) ∈ lw_all := lw_g (lw_at lw_m2 66 rfl) rfl
theorem q339 : (Jvm.Cond.instanceMethod ({ cls := "ShortestDigitsModel", name := "typedDigits", desc := "()I" } : Jvm.MethodName)) ∈ lw_all := lw_g (lw_at lw_m2 67 rfl) rfl
theorem q340 : (Jvm.Cond.selects "ShortestDigitsModel" ({ cls := "ShortestDigitsModel", name := "typedDigits", desc := "()I" } : Jvm.MethodName) ({ cls := "ShortestDigitsModel", name := "typedDigits", desc := "()I" } : Jvm.MethodName)) ∈ lw_all := lw_g (lw_at lw_m2 68 rfl) rfl
theorem q341 : (Jvm.Cond.code ({ cls := "ShortestDigitsModel", name := "typedDigits", desc := "()I" } : Jvm.MethodName) prog_3_method_26_code (3 : Nat) (Option.some Jvm.ClassFile.FieldType.int)) ∈ lw_all := lw_g (lw_at lw_m2 69 rfl) rfl
theorem q342 : (Jvm.Cond.methodLink "ShortestDigitsModel" (89 : Nat) ({ cls := "ShortestDigitsModel", name := "read", desc := "(II)I" } : Jvm.MethodName)) ∈ lw_all := lw_g (lw_at lw_m2 70 rfl) rfl
theorem q345 : (Jvm.Cond.instanceMethod ({ cls := "ShortestDigitsModel", name := "spare", desc := "()I" } : Jvm.MethodName)) ∈ lw_all := lw_g (lw_at lw_m2 73 rfl) rfl
theorem q346 : (Jvm.Cond.selects "ShortestDigitsModel" ({ cls := "ShortestDigitsModel", name := "spare", desc := "()I" } : Jvm.MethodName) ({ cls := "ShortestDigitsModel", name := "spare", desc := "()I" } : Jvm.MethodName)) ∈ lw_all := lw_g (lw_at lw_m2 74 rfl) rfl
theorem q347 : (Jvm.Cond.code ({ cls := "ShortestDigitsModel", name := "spare", desc := "()I" } : Jvm.MethodName) prog_3_method_27_code (8 : Nat) (Option.some Jvm.ClassFile.FieldType.int)) ∈ lw_all := lw_g (lw_at lw_m2 75 rfl) rfl
theorem in_X1 : ∀ w ∈ wsX10, w ∈ lw_all := lw_in wsX10 [223, 225, 227, 229, 231] (by decide +kernel) (by decide +kernel)
end
section
set_option maxRecDepth 100000
theorem dJ0_init_0 : decode cJ0_init 0 = .ok (.return_, 1) := by decide +kernel
theorem dX0_init_0 : decode cX0_init 0 = .ok (.aload_n 0, 1) := by decide +kernel
theorem dX0_init_1 : decode cX0_init 1 = .ok (.invokespecial 1, 3) := by decide +kernel
theorem dX0_init_4 : decode cX0_init 4 = .ok (.aload_n 0, 1) := by decide +kernel
theorem dX0_init_5 : decode cX0_init 5 = .ok (.bipush 9, 2) := by decide +kernel
theorem dX0_init_7 : decode cX0_init 7 = .ok (.newarray .int, 2) := by decide +kernel
theorem dX0_init_9 : decode cX0_init 9 = .ok (.putfield 7, 3) := by decide +kernel
theorem dX0_init_12 : decode cX0_init 12 = .ok (.return_, 1) := by decide +kernel
theorem dX0_units_0 : decode cX0_units 0 = .ok (.aload_n 0, 1) := by decide +kernel
theorem dX0_units_1 : decode cX0_units 1 = .ok (.iload_n 1, 1) := by decide +kernel
theorem dX0_units_2 : decode cX0_units 2 = .ok (.invokevirtual 21, 3) := by decide +kernel
theorem dX0_units_5 : decode cX0_units 5 = .ok (.ifCond .eq 7, 3) := by decide +kernel
theorem dX0_units_8 : decode cX0_units 8 = .ok (.iconst (-1), 1) := by decide +kernel
theorem dX0_units_9 : decode cX0_units 9 = .ok (.goto 8, 3) := by decide +kernel
theorem dX0_units_12 : decode cX0_units 12 = .ok (.aload_n 0, 1) := by decide +kernel
theorem dX0_units_13 : decode cX0_units 13 = .ok (.iload_n 1, 1) := by decide +kernel
theorem dX0_units_14 : decode cX0_units 14 = .ok (.invokevirtual 13, 3) := by decide +kernel
theorem dX0_units_17 : decode cX0_units 17 = .ok (.ireturn, 1) := by decide +kernel
theorem dX0_badCode_0 : decode cX0_badCode 0 = .ok (.iload_n 1, 1) := by decide +kernel
theorem dX0_badCode_1 : decode cX0_badCode 1 = .ok (.ifCond .lt 10, 3) := by decide +kernel
theorem dX0_badCode_4 : decode cX0_badCode 4 = .ok (.iload_n 1, 1) := by decide +kernel
theorem dX0_badCode_5 : decode cX0_badCode 5 = .ok (.sipush 1024, 3) := by decide +kernel
theorem dX0_badCode_8 : decode cX0_badCode 8 = .ok (.if_icmp .lt 7, 3) := by decide +kernel
theorem dX0_badCode_11 : decode cX0_badCode 11 = .ok (.iconst 1, 1) := by decide +kernel
theorem dX0_badCode_12 : decode cX0_badCode 12 = .ok (.goto 4, 3) := by decide +kernel
theorem dX0_badCode_15 : decode cX0_badCode 15 = .ok (.iconst 0, 1) := by decide +kernel
theorem dX0_badCode_16 : decode cX0_badCode 16 = .ok (.ireturn, 1) := by decide +kernel
theorem dX0_unitsOf_0 : decode cX0_unitsOf 0 = .ok (.iload_n 1, 1) := by decide +kernel
theorem dX0_unitsOf_1 : decode cX0_unitsOf 1 = .ok (.bipush 6, 2) := by decide +kernel
theorem dX0_unitsOf_3 : decode cX0_unitsOf 3 = .ok (.ishr, 1) := by decide +kernel
theorem dX0_unitsOf_4 : decode cX0_unitsOf 4 = .ok (.istore_n 2, 1) := by decide +kernel
theorem dX0_unitsOf_5 : decode cX0_unitsOf 5 = .ok (.iload_n 1, 1) := by decide +kernel
theorem dX0_unitsOf_6 : decode cX0_unitsOf 6 = .ok (.bipush 63, 2) := by decide +kernel
theorem dX0_unitsOf_8 : decode cX0_unitsOf 8 = .ok (.iand, 1) := by decide +kernel
theorem dX0_unitsOf_9 : decode cX0_unitsOf 9 = .ok (.istore_n 3, 1) := by decide +kernel
theorem dX0_unitsOf_10 : decode cX0_unitsOf 10 = .ok (.iload_n 2, 1) := by decide +kernel
theorem dX0_unitsOf_11 : decode cX0_unitsOf 11 = .ok (.ifCond .ne 7, 3) := by decide +kernel
theorem dX0_unitsOf_14 : decode cX0_unitsOf 14 = .ok (.iload_n 3, 1) := by decide +kernel
theorem dX0_unitsOf_15 : decode cX0_unitsOf 15 = .ok (.goto 11, 3) := by decide +kernel
theorem dX0_unitsOf_18 : decode cX0_unitsOf 18 = .ok (.bipush 64, 2) := by decide +kernel
theorem dX0_unitsOf_20 : decode cX0_unitsOf 20 = .ok (.iload_n 3, 1) := by decide +kernel
theorem dX0_unitsOf_21 : decode cX0_unitsOf 21 = .ok (.iadd, 1) := by decide +kernel
theorem dX0_unitsOf_22 : decode cX0_unitsOf 22 = .ok (.iload_n 2, 1) := by decide +kernel
theorem dX0_unitsOf_23 : decode cX0_unitsOf 23 = .ok (.iconst 1, 1) := by decide +kernel
theorem dX0_unitsOf_24 : decode cX0_unitsOf 24 = .ok (.isub, 1) := by decide +kernel
theorem dX0_unitsOf_25 : decode cX0_unitsOf 25 = .ok (.ishl, 1) := by decide +kernel
theorem dX0_unitsOf_26 : decode cX0_unitsOf 26 = .ok (.ireturn, 1) := by decide +kernel
theorem dX0_read_0 : decode cX0_read 0 = .ok (.aload_n 0, 1) := by decide +kernel
theorem dX0_read_1 : decode cX0_read 1 = .ok (.iload_n 1, 1) := by decide +kernel
theorem dX0_read_2 : decode cX0_read 2 = .ok (.iload_n 2, 1) := by decide +kernel
theorem dX0_read_3 : decode cX0_read 3 = .ok (.invokevirtual 41, 3) := by decide +kernel
theorem dX0_read_6 : decode cX0_read 6 = .ok (.ifCond .eq 5, 3) := by decide +kernel
theorem dX0_read_9 : decode cX0_read 9 = .ok (.iconst (-1), 1) := by decide +kernel
theorem dX0_read_10 : decode cX0_read 10 = .ok (.ireturn, 1) := by decide +kernel
theorem dX0_read_11 : decode cX0_read 11 = .ok (.aload_n 0, 1) := by decide +kernel
theorem dX0_read_12 : decode cX0_read 12 = .ok (.iload_n 1, 1) := by decide +kernel
theorem dX0_read_13 : decode cX0_read 13 = .ok (.iload_n 2, 1) := by decide +kernel
theorem dX0_read_14 : decode cX0_read 14 = .ok (.invokevirtual 45, 3) := by decide +kernel
theorem dX0_read_17 : decode cX0_read 17 = .ok (.lstore_n 3, 1) := by decide +kernel
theorem dX0_read_18 : decode cX0_read 18 = .ok (.aload_n 0, 1) := by decide +kernel
theorem dX0_read_19 : decode cX0_read 19 = .ok (.lload_n 3, 1) := by decide +kernel
theorem dX0_read_20 : decode cX0_read 20 = .ok (.invokevirtual 49, 3) := by decide +kernel
theorem dX0_read_23 : decode cX0_read 23 = .ok (.ireturn, 1) := by decide +kernel
theorem dX0_badDecimal_0 : decode cX0_badDecimal 0 = .ok (.iload_n 1, 1) := by decide +kernel
theorem dX0_badDecimal_1 : decode cX0_badDecimal 1 = .ok (.ifCond .lt 21, 3) := by decide +kernel
theorem dX0_badDecimal_4 : decode cX0_badDecimal 4 = .ok (.iload_n 1, 1) := by decide +kernel
theorem dX0_badDecimal_5 : decode cX0_badDecimal 5 = .ok (.ldc 25, 2) := by decide +kernel
theorem dX0_badDecimal_7 : decode cX0_badDecimal 7 = .ok (.if_icmp .gt 15, 3) := by decide +kernel
theorem dX0_badDecimal_10 : decode cX0_badDecimal 10 = .ok (.iload_n 2, 1) := by decide +kernel
theorem dX0_badDecimal_11 : decode cX0_badDecimal 11 = .ok (.bipush (-12), 2) := by decide +kernel
theorem dX0_badDecimal_13 : decode cX0_badDecimal 13 = .ok (.if_icmp .lt 9, 3) := by decide +kernel
theorem dX0_badDecimal_16 : decode cX0_badDecimal 16 = .ok (.iload_n 2, 1) := by decide +kernel
theorem dX0_badDecimal_17 : decode cX0_badDecimal 17 = .ok (.bipush 6, 2) := by decide +kernel
theorem dX0_badDecimal_19 : decode cX0_badDecimal 19 = .ok (.if_icmp .le 7, 3) := by decide +kernel
theorem dX0_badDecimal_22 : decode cX0_badDecimal 22 = .ok (.iconst 1, 1) := by decide +kernel
theorem dX0_badDecimal_23 : decode cX0_badDecimal 23 = .ok (.goto 4, 3) := by decide +kernel
theorem dX0_badDecimal_26 : decode cX0_badDecimal 26 = .ok (.iconst 0, 1) := by decide +kernel
theorem dX0_badDecimal_27 : decode cX0_badDecimal 27 = .ok (.ireturn, 1) := by decide +kernel
theorem dX0_stepsOf_0 : decode cX0_stepsOf 0 = .ok (.iload_n 2, 1) := by decide +kernel
theorem dX0_stepsOf_1 : decode cX0_stepsOf 1 = .ok (.ifCond .lt 36, 3) := by decide +kernel
theorem dX0_stepsOf_4 : decode cX0_stepsOf 4 = .ok (.iload_n 1, 1) := by decide +kernel
theorem dX0_stepsOf_5 : decode cX0_stepsOf 5 = .ok (.i2l, 1) := by decide +kernel
theorem dX0_stepsOf_6 : decode cX0_stepsOf 6 = .ok (.aload_n 0, 1) := by decide +kernel
theorem dX0_stepsOf_7 : decode cX0_stepsOf 7 = .ok (.iload_n 2, 1) := by decide +kernel
theorem dX0_stepsOf_8 : decode cX0_stepsOf 8 = .ok (.invokevirtual 28, 3) := by decide +kernel
theorem dX0_stepsOf_11 : decode cX0_stepsOf 11 = .ok (.lmul, 1) := by decide +kernel
theorem dX0_stepsOf_12 : decode cX0_stepsOf 12 = .ok (.lstore_n 3, 1) := by decide +kernel
theorem dX0_stepsOf_13 : decode cX0_stepsOf 13 = .ok (.lload_n 3, 1) := by decide +kernel
theorem dX0_stepsOf_14 : decode cX0_stepsOf 14 = .ok (.ldc2_w 32, 3) := by decide +kernel
theorem dX0_stepsOf_17 : decode cX0_stepsOf 17 = .ok (.lcmp, 1) := by decide +kernel
theorem dX0_stepsOf_18 : decode cX0_stepsOf 18 = .ok (.ifCond .le 9, 3) := by decide +kernel
theorem dX0_stepsOf_21 : decode cX0_stepsOf 21 = .ok (.ldc2_w 34, 3) := by decide +kernel
theorem dX0_stepsOf_24 : decode cX0_stepsOf 24 = .ok (.goto 12, 3) := by decide +kernel
theorem dX0_stepsOf_27 : decode cX0_stepsOf 27 = .ok (.lload_n 3, 1) := by decide +kernel
theorem dX0_stepsOf_28 : decode cX0_stepsOf 28 = .ok (.ldc2_w 36, 3) := by decide +kernel
theorem dX0_stepsOf_31 : decode cX0_stepsOf 31 = .ok (.lmul, 1) := by decide +kernel
theorem dX0_stepsOf_32 : decode cX0_stepsOf 32 = .ok (.ldc2_w 19, 3) := by decide +kernel
theorem dX0_stepsOf_35 : decode cX0_stepsOf 35 = .ok (.lmul, 1) := by decide +kernel
theorem dX0_stepsOf_36 : decode cX0_stepsOf 36 = .ok (.lreturn, 1) := by decide +kernel
theorem dX0_stepsOf_37 : decode cX0_stepsOf 37 = .ok (.aload_n 0, 1) := by decide +kernel
theorem dX0_stepsOf_38 : decode cX0_stepsOf 38 = .ok (.iload_n 2, 1) := by decide +kernel
theorem dX0_stepsOf_39 : decode cX0_stepsOf 39 = .ok (.ineg, 1) := by decide +kernel
theorem dX0_stepsOf_40 : decode cX0_stepsOf 40 = .ok (.invokevirtual 28, 3) := by decide +kernel
theorem dX0_stepsOf_43 : decode cX0_stepsOf 43 = .ok (.lstore_n 3, 1) := by decide +kernel
theorem dX0_stepsOf_44 : decode cX0_stepsOf 44 = .ok (.iload_n 1, 1) := by decide +kernel
theorem dX0_stepsOf_45 : decode cX0_stepsOf 45 = .ok (.i2l, 1) := by decide +kernel
theorem dX0_stepsOf_46 : decode cX0_stepsOf 46 = .ok (.lload_n 3, 1) := by decide +kernel
theorem dX0_stepsOf_47 : decode cX0_stepsOf 47 = .ok (.ldiv, 1) := by decide +kernel
theorem dX0_stepsOf_48 : decode cX0_stepsOf 48 = .ok (.ldc2_w 32, 3) := by decide +kernel
theorem dX0_stepsOf_51 : decode cX0_stepsOf 51 = .ok (.lcmp, 1) := by decide +kernel
theorem dX0_stepsOf_52 : decode cX0_stepsOf 52 = .ok (.ifCond .le 7, 3) := by decide +kernel
theorem dX0_stepsOf_55 : decode cX0_stepsOf 55 = .ok (.ldc2_w 34, 3) := by decide +kernel
theorem dX0_stepsOf_58 : decode cX0_stepsOf 58 = .ok (.lreturn, 1) := by decide +kernel
theorem dX0_stepsOf_59 : decode cX0_stepsOf 59 = .ok (.iload_n 1, 1) := by decide +kernel
theorem dX0_stepsOf_60 : decode cX0_stepsOf 60 = .ok (.i2l, 1) := by decide +kernel
theorem dX0_stepsOf_61 : decode cX0_stepsOf 61 = .ok (.ldc2_w 36, 3) := by decide +kernel
theorem dX0_stepsOf_64 : decode cX0_stepsOf 64 = .ok (.aload_n 0, 1) := by decide +kernel
theorem dX0_stepsOf_65 : decode cX0_stepsOf 65 = .ok (.bipush 12, 2) := by decide +kernel
theorem dX0_stepsOf_67 : decode cX0_stepsOf 67 = .ok (.iload_n 2, 1) := by decide +kernel
theorem dX0_stepsOf_68 : decode cX0_stepsOf 68 = .ok (.iadd, 1) := by decide +kernel
theorem dX0_stepsOf_69 : decode cX0_stepsOf 69 = .ok (.invokevirtual 28, 3) := by decide +kernel
theorem dX0_stepsOf_72 : decode cX0_stepsOf 72 = .ok (.lmul, 1) := by decide +kernel
theorem dX0_stepsOf_73 : decode cX0_stepsOf 73 = .ok (.lmul, 1) := by decide +kernel
theorem dX0_stepsOf_74 : decode cX0_stepsOf 74 = .ok (.lreturn, 1) := by decide +kernel
theorem dX0_tenTo_0 : decode cX0_tenTo 0 = .ok (.lconst 1, 1) := by decide +kernel
theorem dX0_tenTo_1 : decode cX0_tenTo 1 = .ok (.lstore_n 2, 1) := by decide +kernel
theorem dX0_tenTo_2 : decode cX0_tenTo 2 = .ok (.iconst 0, 1) := by decide +kernel
theorem dX0_tenTo_3 : decode cX0_tenTo 3 = .ok (.istore 4, 2) := by decide +kernel
theorem dX0_tenTo_5 : decode cX0_tenTo 5 = .ok (.iload 4, 2) := by decide +kernel
theorem dX0_tenTo_7 : decode cX0_tenTo 7 = .ok (.iload_n 1, 1) := by decide +kernel
theorem dX0_tenTo_8 : decode cX0_tenTo 8 = .ok (.if_icmp .ge 15, 3) := by decide +kernel
theorem dX0_tenTo_11 : decode cX0_tenTo 11 = .ok (.lload_n 2, 1) := by decide +kernel
theorem dX0_tenTo_12 : decode cX0_tenTo 12 = .ok (.ldc2_w 26, 3) := by decide +kernel
theorem dX0_tenTo_15 : decode cX0_tenTo 15 = .ok (.lmul, 1) := by decide +kernel
theorem dX0_tenTo_16 : decode cX0_tenTo 16 = .ok (.lstore_n 2, 1) := by decide +kernel
theorem dX0_tenTo_17 : decode cX0_tenTo 17 = .ok (.iinc 4 1, 3) := by decide +kernel
theorem dX0_tenTo_20 : decode cX0_tenTo 20 = .ok (.goto (-15), 3) := by decide +kernel
theorem dX0_tenTo_23 : decode cX0_tenTo 23 = .ok (.lload_n 2, 1) := by decide +kernel
theorem dX0_tenTo_24 : decode cX0_tenTo 24 = .ok (.lreturn, 1) := by decide +kernel
theorem dX0_nearest_0 : decode cX0_nearest 0 = .ok (.iconst 0, 1) := by decide +kernel
theorem dX0_nearest_1 : decode cX0_nearest 1 = .ok (.istore_n 3, 1) := by decide +kernel
theorem dX0_nearest_2 : decode cX0_nearest 2 = .ok (.sipush 1023, 3) := by decide +kernel
theorem dX0_nearest_5 : decode cX0_nearest 5 = .ok (.istore 4, 2) := by decide +kernel
theorem dX0_nearest_7 : decode cX0_nearest 7 = .ok (.iconst 0, 1) := by decide +kernel
theorem dX0_nearest_8 : decode cX0_nearest 8 = .ok (.istore 5, 2) := by decide +kernel
theorem dX0_nearest_10 : decode cX0_nearest 10 = .ok (.iload 5, 2) := by decide +kernel
theorem dX0_nearest_12 : decode cX0_nearest 12 = .ok (.bipush 11, 2) := by decide +kernel
theorem dX0_nearest_14 : decode cX0_nearest 14 = .ok (.if_icmp .ge 77, 3) := by decide +kernel
theorem dX0_nearest_17 : decode cX0_nearest 17 = .ok (.iload_n 3, 1) := by decide +kernel
theorem dX0_nearest_18 : decode cX0_nearest 18 = .ok (.iload 4, 2) := by decide +kernel
theorem dX0_nearest_20 : decode cX0_nearest 20 = .ok (.if_icmp .ge 71, 3) := by decide +kernel
theorem dX0_nearest_23 : decode cX0_nearest 23 = .ok (.iload_n 3, 1) := by decide +kernel
theorem dX0_nearest_24 : decode cX0_nearest 24 = .ok (.iload 4, 2) := by decide +kernel
theorem dX0_nearest_26 : decode cX0_nearest 26 = .ok (.iadd, 1) := by decide +kernel
theorem dX0_nearest_27 : decode cX0_nearest 27 = .ok (.iconst 1, 1) := by decide +kernel
theorem dX0_nearest_28 : decode cX0_nearest 28 = .ok (.ishr, 1) := by decide +kernel
theorem dX0_nearest_29 : decode cX0_nearest 29 = .ok (.istore 6, 2) := by decide +kernel
theorem dX0_nearest_31 : decode cX0_nearest 31 = .ok (.aload_n 0, 1) := by decide +kernel
theorem dX0_nearest_32 : decode cX0_nearest 32 = .ok (.iload 6, 2) := by decide +kernel
theorem dX0_nearest_34 : decode cX0_nearest 34 = .ok (.invokevirtual 38, 3) := by decide +kernel
theorem dX0_nearest_37 : decode cX0_nearest 37 = .ok (.lstore 7, 2) := by decide +kernel
theorem dX0_nearest_39 : decode cX0_nearest 39 = .ok (.lload_n 1, 1) := by decide +kernel
theorem dX0_nearest_40 : decode cX0_nearest 40 = .ok (.lload 7, 2) := by decide +kernel
theorem dX0_nearest_42 : decode cX0_nearest 42 = .ok (.lcmp, 1) := by decide +kernel
theorem dX0_nearest_43 : decode cX0_nearest 43 = .ok (.ifCond .gt 18, 3) := by decide +kernel
theorem dX0_nearest_46 : decode cX0_nearest 46 = .ok (.lload_n 1, 1) := by decide +kernel
theorem dX0_nearest_47 : decode cX0_nearest 47 = .ok (.lload 7, 2) := by decide +kernel
theorem dX0_nearest_49 : decode cX0_nearest 49 = .ok (.lcmp, 1) := by decide +kernel
theorem dX0_nearest_50 : decode cX0_nearest 50 = .ok (.ifCond .ne 15, 3) := by decide +kernel
theorem dX0_nearest_53 : decode cX0_nearest 53 = .ok (.iload 6, 2) := by decide +kernel
theorem dX0_nearest_55 : decode cX0_nearest 55 = .ok (.iconst 1, 1) := by decide +kernel
theorem dX0_nearest_56 : decode cX0_nearest 56 = .ok (.iand, 1) := by decide +kernel
theorem dX0_nearest_57 : decode cX0_nearest 57 = .ok (.iconst 1, 1) := by decide +kernel
theorem dX0_nearest_58 : decode cX0_nearest 58 = .ok (.if_icmp .ne 7, 3) := by decide +kernel
theorem dX0_nearest_61 : decode cX0_nearest 61 = .ok (.iconst 1, 1) := by decide +kernel
theorem dX0_nearest_62 : decode cX0_nearest 62 = .ok (.goto 4, 3) := by decide +kernel
theorem dX0_nearest_65 : decode cX0_nearest 65 = .ok (.iconst 0, 1) := by decide +kernel
theorem dX0_nearest_66 : decode cX0_nearest 66 = .ok (.istore 9, 2) := by decide +kernel
theorem dX0_nearest_68 : decode cX0_nearest 68 = .ok (.iload 9, 2) := by decide +kernel
theorem dX0_nearest_70 : decode cX0_nearest 70 = .ok (.ifCond .eq 11, 3) := by decide +kernel
theorem dX0_nearest_73 : decode cX0_nearest 73 = .ok (.iload 6, 2) := by decide +kernel
theorem dX0_nearest_75 : decode cX0_nearest 75 = .ok (.iconst 1, 1) := by decide +kernel
theorem dX0_nearest_76 : decode cX0_nearest 76 = .ok (.iadd, 1) := by decide +kernel
theorem dX0_nearest_77 : decode cX0_nearest 77 = .ok (.istore_n 3, 1) := by decide +kernel
theorem dX0_nearest_78 : decode cX0_nearest 78 = .ok (.goto 7, 3) := by decide +kernel
theorem dX0_nearest_81 : decode cX0_nearest 81 = .ok (.iload 6, 2) := by decide +kernel
theorem dX0_nearest_83 : decode cX0_nearest 83 = .ok (.istore 4, 2) := by decide +kernel
theorem dX0_nearest_85 : decode cX0_nearest 85 = .ok (.iinc 5 1, 3) := by decide +kernel
theorem dX0_nearest_88 : decode cX0_nearest 88 = .ok (.goto (-78), 3) := by decide +kernel
theorem dX0_nearest_91 : decode cX0_nearest 91 = .ok (.iload_n 3, 1) := by decide +kernel
theorem dX0_nearest_92 : decode cX0_nearest 92 = .ok (.ireturn, 1) := by decide +kernel
theorem dX0_borderAbove_0 : decode cX0_borderAbove 0 = .ok (.aload_n 0, 1) := by decide +kernel
theorem dX0_borderAbove_1 : decode cX0_borderAbove 1 = .ok (.iload_n 1, 1) := by decide +kernel
theorem dX0_borderAbove_2 : decode cX0_borderAbove 2 = .ok (.invokevirtual 13, 3) := by decide +kernel
theorem dX0_borderAbove_5 : decode cX0_borderAbove 5 = .ok (.aload_n 0, 1) := by decide +kernel
theorem dX0_borderAbove_6 : decode cX0_borderAbove 6 = .ok (.iload_n 1, 1) := by decide +kernel
theorem dX0_borderAbove_7 : decode cX0_borderAbove 7 = .ok (.iconst 1, 1) := by decide +kernel
theorem dX0_borderAbove_8 : decode cX0_borderAbove 8 = .ok (.iadd, 1) := by decide +kernel
theorem dX0_borderAbove_9 : decode cX0_borderAbove 9 = .ok (.invokevirtual 13, 3) := by decide +kernel
theorem dX0_borderAbove_12 : decode cX0_borderAbove 12 = .ok (.iadd, 1) := by decide +kernel
theorem dX0_borderAbove_13 : decode cX0_borderAbove 13 = .ok (.i2l, 1) := by decide +kernel
theorem dX0_borderAbove_14 : decode cX0_borderAbove 14 = .ok (.ldc2_w 19, 3) := by decide +kernel
theorem dX0_borderAbove_17 : decode cX0_borderAbove 17 = .ok (.lmul, 1) := by decide +kernel
theorem dX0_borderAbove_18 : decode cX0_borderAbove 18 = .ok (.lreturn, 1) := by decide +kernel
theorem dX0_names_0 : decode cX0_names 0 = .ok (.aload_n 0, 1) := by decide +kernel
theorem dX0_names_1 : decode cX0_names 1 = .ok (.iload_n 1, 1) := by decide +kernel
theorem dX0_names_2 : decode cX0_names 2 = .ok (.invokevirtual 21, 3) := by decide +kernel
theorem dX0_names_5 : decode cX0_names 5 = .ok (.ifCond .ne 12, 3) := by decide +kernel
theorem dX0_names_8 : decode cX0_names 8 = .ok (.aload_n 0, 1) := by decide +kernel
theorem dX0_names_9 : decode cX0_names 9 = .ok (.iload_n 2, 1) := by decide +kernel
theorem dX0_names_10 : decode cX0_names 10 = .ok (.iload_n 3, 1) := by decide +kernel
theorem dX0_names_11 : decode cX0_names 11 = .ok (.invokevirtual 41, 3) := by decide +kernel
theorem dX0_names_14 : decode cX0_names 14 = .ok (.ifCond .eq 5, 3) := by decide +kernel
theorem dX0_names_17 : decode cX0_names 17 = .ok (.iconst 0, 1) := by decide +kernel
theorem dX0_names_18 : decode cX0_names 18 = .ok (.ireturn, 1) := by decide +kernel
theorem dX0_names_19 : decode cX0_names 19 = .ok (.aload_n 0, 1) := by decide +kernel
theorem dX0_names_20 : decode cX0_names 20 = .ok (.iload_n 2, 1) := by decide +kernel
theorem dX0_names_21 : decode cX0_names 21 = .ok (.iload_n 3, 1) := by decide +kernel
theorem dX0_names_22 : decode cX0_names 22 = .ok (.invokevirtual 45, 3) := by decide +kernel
theorem dX0_names_25 : decode cX0_names 25 = .ok (.lstore 4, 2) := by decide +kernel
theorem dX0_names_27 : decode cX0_names 27 = .ok (.aload_n 0, 1) := by decide +kernel
theorem dX0_names_28 : decode cX0_names 28 = .ok (.iload_n 1, 1) := by decide +kernel
theorem dX0_names_29 : decode cX0_names 29 = .ok (.lload 4, 2) := by decide +kernel
theorem dX0_names_31 : decode cX0_names 31 = .ok (.invokevirtual 55, 3) := by decide +kernel
theorem dX0_names_34 : decode cX0_names 34 = .ok (.ireturn, 1) := by decide +kernel
theorem dX0_named_0 : decode cX0_named 0 = .ok (.lload_n 2, 1) := by decide +kernel
theorem dX0_named_1 : decode cX0_named 1 = .ok (.ldc2_w 53, 3) := by decide +kernel
theorem dX0_named_4 : decode cX0_named 4 = .ok (.lcmp, 1) := by decide +kernel
theorem dX0_named_5 : decode cX0_named 5 = .ok (.ifCond .ge 16, 3) := by decide +kernel
theorem dX0_named_8 : decode cX0_named 8 = .ok (.aload_n 0, 1) := by decide +kernel
theorem dX0_named_9 : decode cX0_named 9 = .ok (.lload_n 2, 1) := by decide +kernel
theorem dX0_named_10 : decode cX0_named 10 = .ok (.invokevirtual 49, 3) := by decide +kernel
theorem dX0_named_13 : decode cX0_named 13 = .ok (.iload_n 1, 1) := by decide +kernel
theorem dX0_named_14 : decode cX0_named 14 = .ok (.if_icmp .ne 7, 3) := by decide +kernel
theorem dX0_named_17 : decode cX0_named 17 = .ok (.iconst 1, 1) := by decide +kernel
theorem dX0_named_18 : decode cX0_named 18 = .ok (.goto 4, 3) := by decide +kernel
theorem dX0_named_21 : decode cX0_named 21 = .ok (.iconst 0, 1) := by decide +kernel
theorem dX0_named_22 : decode cX0_named 22 = .ok (.ireturn, 1) := by decide +kernel
theorem dX0_compare_0 : decode cX0_compare 0 = .ok (.aload_n 0, 1) := by decide +kernel
theorem dX0_compare_1 : decode cX0_compare 1 = .ok (.iload_n 1, 1) := by decide +kernel
theorem dX0_compare_2 : decode cX0_compare 2 = .ok (.invokevirtual 21, 3) := by decide +kernel
theorem dX0_compare_5 : decode cX0_compare 5 = .ok (.ifCond .ne 12, 3) := by decide +kernel
theorem dX0_compare_8 : decode cX0_compare 8 = .ok (.aload_n 0, 1) := by decide +kernel
theorem dX0_compare_9 : decode cX0_compare 9 = .ok (.iload_n 2, 1) := by decide +kernel
theorem dX0_compare_10 : decode cX0_compare 10 = .ok (.iload_n 3, 1) := by decide +kernel
theorem dX0_compare_11 : decode cX0_compare 11 = .ok (.invokevirtual 41, 3) := by decide +kernel
theorem dX0_compare_14 : decode cX0_compare 14 = .ok (.ifCond .eq 5, 3) := by decide +kernel
theorem dX0_compare_17 : decode cX0_compare 17 = .ok (.iconst 2, 1) := by decide +kernel
theorem dX0_compare_18 : decode cX0_compare 18 = .ok (.ireturn, 1) := by decide +kernel
theorem dX0_compare_19 : decode cX0_compare 19 = .ok (.aload_n 0, 1) := by decide +kernel
theorem dX0_compare_20 : decode cX0_compare 20 = .ok (.iload_n 1, 1) := by decide +kernel
theorem dX0_compare_21 : decode cX0_compare 21 = .ok (.invokevirtual 59, 3) := by decide +kernel
theorem dX0_compare_24 : decode cX0_compare 24 = .ok (.lstore 4, 2) := by decide +kernel
theorem dX0_compare_26 : decode cX0_compare 26 = .ok (.aload_n 0, 1) := by decide +kernel
theorem dX0_compare_27 : decode cX0_compare 27 = .ok (.iload_n 2, 1) := by decide +kernel
theorem dX0_compare_28 : decode cX0_compare 28 = .ok (.iload_n 3, 1) := by decide +kernel
theorem dX0_compare_29 : decode cX0_compare 29 = .ok (.invokevirtual 45, 3) := by decide +kernel
theorem dX0_compare_32 : decode cX0_compare 32 = .ok (.lstore 6, 2) := by decide +kernel
theorem dX0_compare_34 : decode cX0_compare 34 = .ok (.lload 4, 2) := by decide +kernel
theorem dX0_compare_36 : decode cX0_compare 36 = .ok (.lload 6, 2) := by decide +kernel
theorem dX0_compare_38 : decode cX0_compare 38 = .ok (.lcmp, 1) := by decide +kernel
theorem dX0_compare_39 : decode cX0_compare 39 = .ok (.ifCond .ne 5, 3) := by decide +kernel
theorem dX0_compare_42 : decode cX0_compare 42 = .ok (.iconst 0, 1) := by decide +kernel
theorem dX0_compare_43 : decode cX0_compare 43 = .ok (.ireturn, 1) := by decide +kernel
theorem dX0_compare_44 : decode cX0_compare 44 = .ok (.lload 4, 2) := by decide +kernel
theorem dX0_compare_46 : decode cX0_compare 46 = .ok (.lload 6, 2) := by decide +kernel
theorem dX0_compare_48 : decode cX0_compare 48 = .ok (.lcmp, 1) := by decide +kernel
theorem dX0_compare_49 : decode cX0_compare 49 = .ok (.ifCond .ge 7, 3) := by decide +kernel
theorem dX0_compare_52 : decode cX0_compare 52 = .ok (.iconst (-1), 1) := by decide +kernel
theorem dX0_compare_53 : decode cX0_compare 53 = .ok (.goto 4, 3) := by decide +kernel
theorem dX0_compare_56 : decode cX0_compare 56 = .ok (.iconst 1, 1) := by decide +kernel
theorem dX0_compare_57 : decode cX0_compare 57 = .ok (.ireturn, 1) := by decide +kernel
theorem dX0_steps_0 : decode cX0_steps 0 = .ok (.aload_n 0, 1) := by decide +kernel
theorem dX0_steps_1 : decode cX0_steps 1 = .ok (.iload_n 1, 1) := by decide +kernel
theorem dX0_steps_2 : decode cX0_steps 2 = .ok (.invokevirtual 13, 3) := by decide +kernel
theorem dX0_steps_5 : decode cX0_steps 5 = .ok (.i2l, 1) := by decide +kernel
theorem dX0_steps_6 : decode cX0_steps 6 = .ok (.ldc2_w 17, 3) := by decide +kernel
theorem dX0_steps_9 : decode cX0_steps 9 = .ok (.lmul, 1) := by decide +kernel
theorem dX0_steps_10 : decode cX0_steps 10 = .ok (.lreturn, 1) := by decide +kernel
theorem dX0_digits_0 : decode cX0_digits 0 = .ok (.aload_n 0, 1) := by decide +kernel
theorem dX0_digits_1 : decode cX0_digits 1 = .ok (.iload_n 1, 1) := by decide +kernel
theorem dX0_digits_2 : decode cX0_digits 2 = .ok (.invokevirtual 21, 3) := by decide +kernel
theorem dX0_digits_5 : decode cX0_digits 5 = .ok (.ifCond .eq 5, 3) := by decide +kernel
theorem dX0_digits_8 : decode cX0_digits 8 = .ok (.iconst (-1), 1) := by decide +kernel
theorem dX0_digits_9 : decode cX0_digits 9 = .ok (.ireturn, 1) := by decide +kernel
theorem dX0_digits_10 : decode cX0_digits 10 = .ok (.aload_n 0, 1) := by decide +kernel
theorem dX0_digits_11 : decode cX0_digits 11 = .ok (.iload_n 1, 1) := by decide +kernel
theorem dX0_digits_12 : decode cX0_digits 12 = .ok (.invokevirtual 93, 3) := by decide +kernel
theorem dX0_digits_15 : decode cX0_digits 15 = .ok (.aload_n 0, 1) := by decide +kernel
theorem dX0_digits_16 : decode cX0_digits 16 = .ok (.getfield 64, 3) := by decide +kernel
theorem dX0_digits_19 : decode cX0_digits 19 = .ok (.ireturn, 1) := by decide +kernel
theorem dX0_findShort_0 : decode cX0_findShort 0 = .ok (.aload_n 0, 1) := by decide +kernel
theorem dX0_findShort_1 : decode cX0_findShort 1 = .ok (.iconst 0, 1) := by decide +kernel
theorem dX0_findShort_2 : decode cX0_findShort 2 = .ok (.putfield 64, 3) := by decide +kernel
theorem dX0_findShort_5 : decode cX0_findShort 5 = .ok (.aload_n 0, 1) := by decide +kernel
theorem dX0_findShort_6 : decode cX0_findShort 6 = .ok (.iconst 0, 1) := by decide +kernel
theorem dX0_findShort_7 : decode cX0_findShort 7 = .ok (.putfield 68, 3) := by decide +kernel
theorem dX0_findShort_10 : decode cX0_findShort 10 = .ok (.iload_n 1, 1) := by decide +kernel
theorem dX0_findShort_11 : decode cX0_findShort 11 = .ok (.ifCond .ne 4, 3) := by decide +kernel
theorem dX0_findShort_14 : decode cX0_findShort 14 = .ok (.return_, 1) := by decide +kernel
theorem dX0_findShort_15 : decode cX0_findShort 15 = .ok (.aload_n 0, 1) := by decide +kernel
theorem dX0_findShort_16 : decode cX0_findShort 16 = .ok (.iload_n 1, 1) := by decide +kernel
theorem dX0_findShort_17 : decode cX0_findShort 17 = .ok (.invokevirtual 59, 3) := by decide +kernel
theorem dX0_findShort_20 : decode cX0_findShort 20 = .ok (.lstore_n 2, 1) := by decide +kernel
theorem dX0_findShort_21 : decode cX0_findShort 21 = .ok (.iconst 0, 1) := by decide +kernel
theorem dX0_findShort_22 : decode cX0_findShort 22 = .ok (.istore 4, 2) := by decide +kernel
theorem dX0_findShort_24 : decode cX0_findShort 24 = .ok (.iconst 3, 1) := by decide +kernel
theorem dX0_findShort_25 : decode cX0_findShort 25 = .ok (.istore 5, 2) := by decide +kernel
theorem dX0_findShort_27 : decode cX0_findShort 27 = .ok (.iload 5, 2) := by decide +kernel
theorem dX0_findShort_29 : decode cX0_findShort 29 = .ok (.bipush (-12), 2) := by decide +kernel
theorem dX0_findShort_31 : decode cX0_findShort 31 = .ok (.if_icmp .lt 109, 3) := by decide +kernel
theorem dX0_findShort_34 : decode cX0_findShort 34 = .ok (.iload 4, 2) := by decide +kernel
theorem dX0_findShort_36 : decode cX0_findShort 36 = .ok (.ifCond .ne 104, 3) := by decide +kernel
theorem dX0_findShort_39 : decode cX0_findShort 39 = .ok (.ldc2_w 36, 3) := by decide +kernel
theorem dX0_findShort_42 : decode cX0_findShort 42 = .ok (.aload_n 0, 1) := by decide +kernel
theorem dX0_findShort_43 : decode cX0_findShort 43 = .ok (.bipush 12, 2) := by decide +kernel
theorem dX0_findShort_45 : decode cX0_findShort 45 = .ok (.iload 5, 2) := by decide +kernel
theorem dX0_findShort_47 : decode cX0_findShort 47 = .ok (.iadd, 1) := by decide +kernel
theorem dX0_findShort_48 : decode cX0_findShort 48 = .ok (.invokevirtual 28, 3) := by decide +kernel
theorem dX0_findShort_51 : decode cX0_findShort 51 = .ok (.lmul, 1) := by decide +kernel
theorem dX0_findShort_52 : decode cX0_findShort 52 = .ok (.lstore 6, 2) := by decide +kernel
theorem dX0_findShort_54 : decode cX0_findShort 54 = .ok (.aload_n 0, 1) := by decide +kernel
theorem dX0_findShort_55 : decode cX0_findShort 55 = .ok (.iload_n 1, 1) := by decide +kernel
theorem dX0_findShort_56 : decode cX0_findShort 56 = .ok (.lload 6, 2) := by decide +kernel
theorem dX0_findShort_58 : decode cX0_findShort 58 = .ok (.invokevirtual 71, 3) := by decide +kernel
theorem dX0_findShort_61 : decode cX0_findShort 61 = .ok (.lstore 8, 2) := by decide +kernel
theorem dX0_findShort_63 : decode cX0_findShort 63 = .ok (.aload_n 0, 1) := by decide +kernel
theorem dX0_findShort_64 : decode cX0_findShort 64 = .ok (.iload_n 1, 1) := by decide +kernel
theorem dX0_findShort_65 : decode cX0_findShort 65 = .ok (.lload 6, 2) := by decide +kernel
theorem dX0_findShort_67 : decode cX0_findShort 67 = .ok (.invokevirtual 75, 3) := by decide +kernel
end
section
set_option maxRecDepth 100000
theorem dX0_findShort_70 : decode cX0_findShort 70 = .ok (.lstore 10, 2) := by decide +kernel
theorem dX0_findShort_72 : decode cX0_findShort 72 = .ok (.lload 8, 2) := by decide +kernel
theorem dX0_findShort_74 : decode cX0_findShort 74 = .ok (.lload 10, 2) := by decide +kernel
theorem dX0_findShort_76 : decode cX0_findShort 76 = .ok (.lcmp, 1) := by decide +kernel
theorem dX0_findShort_77 : decode cX0_findShort 77 = .ok (.ifCond .gt 57, 3) := by decide +kernel
theorem dX0_findShort_80 : decode cX0_findShort 80 = .ok (.aload_n 0, 1) := by decide +kernel
theorem dX0_findShort_81 : decode cX0_findShort 81 = .ok (.lload_n 2, 1) := by decide +kernel
theorem dX0_findShort_82 : decode cX0_findShort 82 = .ok (.lload 6, 2) := by decide +kernel
theorem dX0_findShort_84 : decode cX0_findShort 84 = .ok (.lload 8, 2) := by decide +kernel
theorem dX0_findShort_86 : decode cX0_findShort 86 = .ok (.lload 10, 2) := by decide +kernel
theorem dX0_findShort_88 : decode cX0_findShort 88 = .ok (.invokevirtual 78, 3) := by decide +kernel
theorem dX0_findShort_91 : decode cX0_findShort 91 = .ok (.lstore 12, 2) := by decide +kernel
theorem dX0_findShort_93 : decode cX0_findShort 93 = .ok (.aload_n 0, 1) := by decide +kernel
theorem dX0_findShort_94 : decode cX0_findShort 94 = .ok (.lload 12, 2) := by decide +kernel
theorem dX0_findShort_96 : decode cX0_findShort 96 = .ok (.l2i, 1) := by decide +kernel
theorem dX0_findShort_97 : decode cX0_findShort 97 = .ok (.putfield 64, 3) := by decide +kernel
theorem dX0_findShort_100 : decode cX0_findShort 100 = .ok (.aload_n 0, 1) := by decide +kernel
theorem dX0_findShort_101 : decode cX0_findShort 101 = .ok (.iload 5, 2) := by decide +kernel
theorem dX0_findShort_103 : decode cX0_findShort 103 = .ok (.putfield 68, 3) := by decide +kernel
theorem dX0_findShort_106 : decode cX0_findShort 106 = .ok (.iconst 1, 1) := by decide +kernel
theorem dX0_findShort_107 : decode cX0_findShort 107 = .ok (.istore 4, 2) := by decide +kernel
theorem dX0_findShort_109 : decode cX0_findShort 109 = .ok (.aload_n 0, 1) := by decide +kernel
theorem dX0_findShort_110 : decode cX0_findShort 110 = .ok (.lload 12, 2) := by decide +kernel
theorem dX0_findShort_112 : decode cX0_findShort 112 = .ok (.lload 6, 2) := by decide +kernel
theorem dX0_findShort_114 : decode cX0_findShort 114 = .ok (.lmul, 1) := by decide +kernel
theorem dX0_findShort_115 : decode cX0_findShort 115 = .ok (.lload_n 2, 1) := by decide +kernel
theorem dX0_findShort_116 : decode cX0_findShort 116 = .ok (.lsub, 1) := by decide +kernel
theorem dX0_findShort_117 : decode cX0_findShort 117 = .ok (.invokevirtual 82, 3) := by decide +kernel
theorem dX0_findShort_120 : decode cX0_findShort 120 = .ok (.lstore 14, 2) := by decide +kernel
theorem dX0_findShort_122 : decode cX0_findShort 122 = .ok (.aload_n 0, 1) := by decide +kernel
theorem dX0_findShort_123 : decode cX0_findShort 123 = .ok (.iload_n 1, 1) := by decide +kernel
theorem dX0_findShort_124 : decode cX0_findShort 124 = .ok (.lload_n 2, 1) := by decide +kernel
theorem dX0_findShort_125 : decode cX0_findShort 125 = .ok (.iload 5, 2) := by decide +kernel
theorem dX0_findShort_127 : decode cX0_findShort 127 = .ok (.iconst 1, 1) := by decide +kernel
theorem dX0_findShort_128 : decode cX0_findShort 128 = .ok (.isub, 1) := by decide +kernel
theorem dX0_findShort_129 : decode cX0_findShort 129 = .ok (.lload 14, 2) := by decide +kernel
theorem dX0_findShort_131 : decode cX0_findShort 131 = .ok (.invokevirtual 86, 3) := by decide +kernel
theorem dX0_findShort_134 : decode cX0_findShort 134 = .ok (.iinc 5 (-1), 3) := by decide +kernel
theorem dX0_findShort_137 : decode cX0_findShort 137 = .ok (.goto (-110), 3) := by decide +kernel
theorem dX0_findShort_140 : decode cX0_findShort 140 = .ok (.return_, 1) := by decide +kernel
theorem dX0_leastMultiple_0 : decode cX0_leastMultiple 0 = .ok (.aload_n 0, 1) := by decide +kernel
theorem dX0_leastMultiple_1 : decode cX0_leastMultiple 1 = .ok (.iload_n 1, 1) := by decide +kernel
theorem dX0_leastMultiple_2 : decode cX0_leastMultiple 2 = .ok (.iconst 1, 1) := by decide +kernel
theorem dX0_leastMultiple_3 : decode cX0_leastMultiple 3 = .ok (.isub, 1) := by decide +kernel
theorem dX0_leastMultiple_4 : decode cX0_leastMultiple 4 = .ok (.invokevirtual 38, 3) := by decide +kernel
theorem dX0_leastMultiple_7 : decode cX0_leastMultiple 7 = .ok (.lstore 4, 2) := by decide +kernel
theorem dX0_leastMultiple_9 : decode cX0_leastMultiple 9 = .ok (.lload 4, 2) := by decide +kernel
theorem dX0_leastMultiple_11 : decode cX0_leastMultiple 11 = .ok (.lload_n 2, 1) := by decide +kernel
theorem dX0_leastMultiple_12 : decode cX0_leastMultiple 12 = .ok (.ladd, 1) := by decide +kernel
theorem dX0_leastMultiple_13 : decode cX0_leastMultiple 13 = .ok (.lconst 1, 1) := by decide +kernel
theorem dX0_leastMultiple_14 : decode cX0_leastMultiple 14 = .ok (.lsub, 1) := by decide +kernel
theorem dX0_leastMultiple_15 : decode cX0_leastMultiple 15 = .ok (.lload_n 2, 1) := by decide +kernel
theorem dX0_leastMultiple_16 : decode cX0_leastMultiple 16 = .ok (.ldiv, 1) := by decide +kernel
theorem dX0_leastMultiple_17 : decode cX0_leastMultiple 17 = .ok (.lstore 6, 2) := by decide +kernel
theorem dX0_leastMultiple_19 : decode cX0_leastMultiple 19 = .ok (.lload 6, 2) := by decide +kernel
theorem dX0_leastMultiple_21 : decode cX0_leastMultiple 21 = .ok (.lload_n 2, 1) := by decide +kernel
theorem dX0_leastMultiple_22 : decode cX0_leastMultiple 22 = .ok (.lmul, 1) := by decide +kernel
theorem dX0_leastMultiple_23 : decode cX0_leastMultiple 23 = .ok (.lload 4, 2) := by decide +kernel
theorem dX0_leastMultiple_25 : decode cX0_leastMultiple 25 = .ok (.lcmp, 1) := by decide +kernel
theorem dX0_leastMultiple_26 : decode cX0_leastMultiple 26 = .ok (.ifCond .ne 14, 3) := by decide +kernel
theorem dX0_leastMultiple_29 : decode cX0_leastMultiple 29 = .ok (.iload_n 1, 1) := by decide +kernel
theorem dX0_leastMultiple_30 : decode cX0_leastMultiple 30 = .ok (.iconst 1, 1) := by decide +kernel
theorem dX0_leastMultiple_31 : decode cX0_leastMultiple 31 = .ok (.iand, 1) := by decide +kernel
theorem dX0_leastMultiple_32 : decode cX0_leastMultiple 32 = .ok (.iconst 1, 1) := by decide +kernel
theorem dX0_leastMultiple_33 : decode cX0_leastMultiple 33 = .ok (.if_icmp .ne 7, 3) := by decide +kernel
theorem dX0_leastMultiple_36 : decode cX0_leastMultiple 36 = .ok (.iconst 1, 1) := by decide +kernel
theorem dX0_leastMultiple_37 : decode cX0_leastMultiple 37 = .ok (.goto 4, 3) := by decide +kernel
theorem dX0_leastMultiple_40 : decode cX0_leastMultiple 40 = .ok (.iconst 0, 1) := by decide +kernel
theorem dX0_leastMultiple_41 : decode cX0_leastMultiple 41 = .ok (.istore 8, 2) := by decide +kernel
theorem dX0_leastMultiple_43 : decode cX0_leastMultiple 43 = .ok (.iload 8, 2) := by decide +kernel
theorem dX0_leastMultiple_45 : decode cX0_leastMultiple 45 = .ok (.ifCond .eq 10, 3) := by decide +kernel
theorem dX0_leastMultiple_48 : decode cX0_leastMultiple 48 = .ok (.lload 6, 2) := by decide +kernel
theorem dX0_leastMultiple_50 : decode cX0_leastMultiple 50 = .ok (.lconst 1, 1) := by decide +kernel
theorem dX0_leastMultiple_51 : decode cX0_leastMultiple 51 = .ok (.ladd, 1) := by decide +kernel
theorem dX0_leastMultiple_52 : decode cX0_leastMultiple 52 = .ok (.goto 5, 3) := by decide +kernel
theorem dX0_leastMultiple_55 : decode cX0_leastMultiple 55 = .ok (.lload 6, 2) := by decide +kernel
theorem dX0_leastMultiple_57 : decode cX0_leastMultiple 57 = .ok (.lreturn, 1) := by decide +kernel
theorem dX0_greatestMultiple_0 : decode cX0_greatestMultiple 0 = .ok (.aload_n 0, 1) := by decide +kernel
theorem dX0_greatestMultiple_1 : decode cX0_greatestMultiple 1 = .ok (.iload_n 1, 1) := by decide +kernel
theorem dX0_greatestMultiple_2 : decode cX0_greatestMultiple 2 = .ok (.invokevirtual 38, 3) := by decide +kernel
theorem dX0_greatestMultiple_5 : decode cX0_greatestMultiple 5 = .ok (.lstore 4, 2) := by decide +kernel
theorem dX0_greatestMultiple_7 : decode cX0_greatestMultiple 7 = .ok (.lload 4, 2) := by decide +kernel
theorem dX0_greatestMultiple_9 : decode cX0_greatestMultiple 9 = .ok (.lload_n 2, 1) := by decide +kernel
theorem dX0_greatestMultiple_10 : decode cX0_greatestMultiple 10 = .ok (.ldiv, 1) := by decide +kernel
theorem dX0_greatestMultiple_11 : decode cX0_greatestMultiple 11 = .ok (.lstore 6, 2) := by decide +kernel
theorem dX0_greatestMultiple_13 : decode cX0_greatestMultiple 13 = .ok (.lload 6, 2) := by decide +kernel
theorem dX0_greatestMultiple_15 : decode cX0_greatestMultiple 15 = .ok (.lload_n 2, 1) := by decide +kernel
theorem dX0_greatestMultiple_16 : decode cX0_greatestMultiple 16 = .ok (.lmul, 1) := by decide +kernel
theorem dX0_greatestMultiple_17 : decode cX0_greatestMultiple 17 = .ok (.lload 4, 2) := by decide +kernel
theorem dX0_greatestMultiple_19 : decode cX0_greatestMultiple 19 = .ok (.lcmp, 1) := by decide +kernel
theorem dX0_greatestMultiple_20 : decode cX0_greatestMultiple 20 = .ok (.ifCond .ne 14, 3) := by decide +kernel
theorem dX0_greatestMultiple_23 : decode cX0_greatestMultiple 23 = .ok (.iload_n 1, 1) := by decide +kernel
theorem dX0_greatestMultiple_24 : decode cX0_greatestMultiple 24 = .ok (.iconst 1, 1) := by decide +kernel
theorem dX0_greatestMultiple_25 : decode cX0_greatestMultiple 25 = .ok (.iand, 1) := by decide +kernel
theorem dX0_greatestMultiple_26 : decode cX0_greatestMultiple 26 = .ok (.iconst 1, 1) := by decide +kernel
theorem dX0_greatestMultiple_27 : decode cX0_greatestMultiple 27 = .ok (.if_icmp .ne 7, 3) := by decide +kernel
theorem dX0_greatestMultiple_30 : decode cX0_greatestMultiple 30 = .ok (.iconst 1, 1) := by decide +kernel
theorem dX0_greatestMultiple_31 : decode cX0_greatestMultiple 31 = .ok (.goto 4, 3) := by decide +kernel
theorem dX0_greatestMultiple_34 : decode cX0_greatestMultiple 34 = .ok (.iconst 0, 1) := by decide +kernel
theorem dX0_greatestMultiple_35 : decode cX0_greatestMultiple 35 = .ok (.istore 8, 2) := by decide +kernel
theorem dX0_greatestMultiple_37 : decode cX0_greatestMultiple 37 = .ok (.iload 8, 2) := by decide +kernel
theorem dX0_greatestMultiple_39 : decode cX0_greatestMultiple 39 = .ok (.ifCond .eq 10, 3) := by decide +kernel
theorem dX0_greatestMultiple_42 : decode cX0_greatestMultiple 42 = .ok (.lload 6, 2) := by decide +kernel
theorem dX0_greatestMultiple_44 : decode cX0_greatestMultiple 44 = .ok (.lconst 1, 1) := by decide +kernel
theorem dX0_greatestMultiple_45 : decode cX0_greatestMultiple 45 = .ok (.lsub, 1) := by decide +kernel
theorem dX0_greatestMultiple_46 : decode cX0_greatestMultiple 46 = .ok (.goto 5, 3) := by decide +kernel
theorem dX0_greatestMultiple_49 : decode cX0_greatestMultiple 49 = .ok (.lload 6, 2) := by decide +kernel
theorem dX0_greatestMultiple_51 : decode cX0_greatestMultiple 51 = .ok (.lreturn, 1) := by decide +kernel
theorem dX0_nearestMultiple_0 : decode cX0_nearestMultiple 0 = .ok (.lload_n 1, 1) := by decide +kernel
theorem dX0_nearestMultiple_1 : decode cX0_nearestMultiple 1 = .ok (.lload_n 3, 1) := by decide +kernel
theorem dX0_nearestMultiple_2 : decode cX0_nearestMultiple 2 = .ok (.ldiv, 1) := by decide +kernel
theorem dX0_nearestMultiple_3 : decode cX0_nearestMultiple 3 = .ok (.lstore 9, 2) := by decide +kernel
theorem dX0_nearestMultiple_5 : decode cX0_nearestMultiple 5 = .ok (.ldc2_w 62, 3) := by decide +kernel
theorem dX0_nearestMultiple_8 : decode cX0_nearestMultiple 8 = .ok (.lload_n 1, 1) := by decide +kernel
theorem dX0_nearestMultiple_9 : decode cX0_nearestMultiple 9 = .ok (.lload 9, 2) := by decide +kernel
theorem dX0_nearestMultiple_11 : decode cX0_nearestMultiple 11 = .ok (.lload_n 3, 1) := by decide +kernel
theorem dX0_nearestMultiple_12 : decode cX0_nearestMultiple 12 = .ok (.lmul, 1) := by decide +kernel
theorem dX0_nearestMultiple_13 : decode cX0_nearestMultiple 13 = .ok (.lsub, 1) := by decide +kernel
theorem dX0_nearestMultiple_14 : decode cX0_nearestMultiple 14 = .ok (.lmul, 1) := by decide +kernel
theorem dX0_nearestMultiple_15 : decode cX0_nearestMultiple 15 = .ok (.lload_n 3, 1) := by decide +kernel
theorem dX0_nearestMultiple_16 : decode cX0_nearestMultiple 16 = .ok (.lcmp, 1) := by decide +kernel
theorem dX0_nearestMultiple_17 : decode cX0_nearestMultiple 17 = .ok (.ifCond .le 9, 3) := by decide +kernel
theorem dX0_nearestMultiple_20 : decode cX0_nearestMultiple 20 = .ok (.lload 9, 2) := by decide +kernel
theorem dX0_nearestMultiple_22 : decode cX0_nearestMultiple 22 = .ok (.lconst 1, 1) := by decide +kernel
theorem dX0_nearestMultiple_23 : decode cX0_nearestMultiple 23 = .ok (.ladd, 1) := by decide +kernel
theorem dX0_nearestMultiple_24 : decode cX0_nearestMultiple 24 = .ok (.lstore 9, 2) := by decide +kernel
theorem dX0_nearestMultiple_26 : decode cX0_nearestMultiple 26 = .ok (.lload 9, 2) := by decide +kernel
theorem dX0_nearestMultiple_28 : decode cX0_nearestMultiple 28 = .ok (.lload 5, 2) := by decide +kernel
theorem dX0_nearestMultiple_30 : decode cX0_nearestMultiple 30 = .ok (.lcmp, 1) := by decide +kernel
theorem dX0_nearestMultiple_31 : decode cX0_nearestMultiple 31 = .ok (.ifCond .ge 8, 3) := by decide +kernel
theorem dX0_nearestMultiple_34 : decode cX0_nearestMultiple 34 = .ok (.lload 5, 2) := by decide +kernel
theorem dX0_nearestMultiple_36 : decode cX0_nearestMultiple 36 = .ok (.goto 5, 3) := by decide +kernel
theorem dX0_nearestMultiple_39 : decode cX0_nearestMultiple 39 = .ok (.lload 9, 2) := by decide +kernel
theorem dX0_nearestMultiple_41 : decode cX0_nearestMultiple 41 = .ok (.lstore 9, 2) := by decide +kernel
theorem dX0_nearestMultiple_43 : decode cX0_nearestMultiple 43 = .ok (.lload 9, 2) := by decide +kernel
theorem dX0_nearestMultiple_45 : decode cX0_nearestMultiple 45 = .ok (.lload 7, 2) := by decide +kernel
theorem dX0_nearestMultiple_47 : decode cX0_nearestMultiple 47 = .ok (.lcmp, 1) := by decide +kernel
theorem dX0_nearestMultiple_48 : decode cX0_nearestMultiple 48 = .ok (.ifCond .le 8, 3) := by decide +kernel
theorem dX0_nearestMultiple_51 : decode cX0_nearestMultiple 51 = .ok (.lload 7, 2) := by decide +kernel
theorem dX0_nearestMultiple_53 : decode cX0_nearestMultiple 53 = .ok (.goto 5, 3) := by decide +kernel
theorem dX0_nearestMultiple_56 : decode cX0_nearestMultiple 56 = .ok (.lload 9, 2) := by decide +kernel
theorem dX0_nearestMultiple_58 : decode cX0_nearestMultiple 58 = .ok (.lreturn, 1) := by decide +kernel
theorem dX0_size_0 : decode cX0_size 0 = .ok (.lload_n 1, 1) := by decide +kernel
theorem dX0_size_1 : decode cX0_size 1 = .ok (.lconst 0, 1) := by decide +kernel
theorem dX0_size_2 : decode cX0_size 2 = .ok (.lcmp, 1) := by decide +kernel
theorem dX0_size_3 : decode cX0_size 3 = .ok (.ifCond .ge 8, 3) := by decide +kernel
theorem dX0_size_6 : decode cX0_size 6 = .ok (.lload_n 1, 1) := by decide +kernel
theorem dX0_size_7 : decode cX0_size 7 = .ok (.lneg, 1) := by decide +kernel
theorem dX0_size_8 : decode cX0_size 8 = .ok (.goto 4, 3) := by decide +kernel
theorem dX0_size_11 : decode cX0_size 11 = .ok (.lload_n 1, 1) := by decide +kernel
theorem dX0_size_12 : decode cX0_size 12 = .ok (.lreturn, 1) := by decide +kernel
theorem dX0_improve_0 : decode cX0_improve 0 = .ok (.iload 4, 2) := by decide +kernel
theorem dX0_improve_2 : decode cX0_improve 2 = .ok (.bipush (-12), 2) := by decide +kernel
theorem dX0_improve_4 : decode cX0_improve 4 = .ok (.if_icmp .ge 4, 3) := by decide +kernel
theorem dX0_improve_7 : decode cX0_improve 7 = .ok (.return_, 1) := by decide +kernel
theorem dX0_improve_8 : decode cX0_improve 8 = .ok (.ldc2_w 36, 3) := by decide +kernel
theorem dX0_improve_11 : decode cX0_improve 11 = .ok (.aload_n 0, 1) := by decide +kernel
theorem dX0_improve_12 : decode cX0_improve 12 = .ok (.bipush 12, 2) := by decide +kernel
theorem dX0_improve_14 : decode cX0_improve 14 = .ok (.iload 4, 2) := by decide +kernel
theorem dX0_improve_16 : decode cX0_improve 16 = .ok (.iadd, 1) := by decide +kernel
theorem dX0_improve_17 : decode cX0_improve 17 = .ok (.invokevirtual 28, 3) := by decide +kernel
theorem dX0_improve_20 : decode cX0_improve 20 = .ok (.lmul, 1) := by decide +kernel
theorem dX0_improve_21 : decode cX0_improve 21 = .ok (.lstore 7, 2) := by decide +kernel
theorem dX0_improve_23 : decode cX0_improve 23 = .ok (.aload_n 0, 1) := by decide +kernel
theorem dX0_improve_24 : decode cX0_improve 24 = .ok (.aload_n 0, 1) := by decide +kernel
theorem dX0_improve_25 : decode cX0_improve 25 = .ok (.getfield 64, 3) := by decide +kernel
theorem dX0_improve_28 : decode cX0_improve 28 = .ok (.i2l, 1) := by decide +kernel
theorem dX0_improve_29 : decode cX0_improve 29 = .ok (.invokevirtual 90, 3) := by decide +kernel
theorem dX0_improve_32 : decode cX0_improve 32 = .ok (.istore 9, 2) := by decide +kernel
theorem dX0_improve_34 : decode cX0_improve 34 = .ok (.aload_n 0, 1) := by decide +kernel
theorem dX0_improve_35 : decode cX0_improve 35 = .ok (.iload_n 1, 1) := by decide +kernel
theorem dX0_improve_36 : decode cX0_improve 36 = .ok (.lload 7, 2) := by decide +kernel
theorem dX0_improve_38 : decode cX0_improve 38 = .ok (.invokevirtual 75, 3) := by decide +kernel
theorem dX0_improve_41 : decode cX0_improve 41 = .ok (.lstore 10, 2) := by decide +kernel
theorem dX0_improve_43 : decode cX0_improve 43 = .ok (.aload_n 0, 1) := by decide +kernel
theorem dX0_improve_44 : decode cX0_improve 44 = .ok (.iload 9, 2) := by decide +kernel
theorem dX0_improve_46 : decode cX0_improve 46 = .ok (.invokevirtual 28, 3) := by decide +kernel
theorem dX0_improve_49 : decode cX0_improve 49 = .ok (.lconst 1, 1) := by decide +kernel
theorem dX0_improve_50 : decode cX0_improve 50 = .ok (.lsub, 1) := by decide +kernel
theorem dX0_improve_51 : decode cX0_improve 51 = .ok (.lstore 12, 2) := by decide +kernel
theorem dX0_improve_53 : decode cX0_improve 53 = .ok (.lload 10, 2) := by decide +kernel
theorem dX0_improve_55 : decode cX0_improve 55 = .ok (.lload 12, 2) := by decide +kernel
theorem dX0_improve_57 : decode cX0_improve 57 = .ok (.lcmp, 1) := by decide +kernel
theorem dX0_improve_58 : decode cX0_improve 58 = .ok (.ifCond .le 8, 3) := by decide +kernel
theorem dX0_improve_61 : decode cX0_improve 61 = .ok (.lload 12, 2) := by decide +kernel
theorem dX0_improve_63 : decode cX0_improve 63 = .ok (.goto 5, 3) := by decide +kernel
theorem dX0_improve_66 : decode cX0_improve 66 = .ok (.lload 10, 2) := by decide +kernel
theorem dX0_improve_68 : decode cX0_improve 68 = .ok (.lstore 10, 2) := by decide +kernel
theorem dX0_improve_70 : decode cX0_improve 70 = .ok (.aload_n 0, 1) := by decide +kernel
theorem dX0_improve_71 : decode cX0_improve 71 = .ok (.iload_n 1, 1) := by decide +kernel
theorem dX0_improve_72 : decode cX0_improve 72 = .ok (.lload 7, 2) := by decide +kernel
theorem dX0_improve_74 : decode cX0_improve 74 = .ok (.invokevirtual 71, 3) := by decide +kernel
theorem dX0_improve_77 : decode cX0_improve 77 = .ok (.lstore 14, 2) := by decide +kernel
theorem dX0_improve_79 : decode cX0_improve 79 = .ok (.lload 14, 2) := by decide +kernel
theorem dX0_improve_81 : decode cX0_improve 81 = .ok (.lload 10, 2) := by decide +kernel
theorem dX0_improve_83 : decode cX0_improve 83 = .ok (.lcmp, 1) := by decide +kernel
theorem dX0_improve_84 : decode cX0_improve 84 = .ok (.ifCond .gt 69, 3) := by decide +kernel
theorem dX0_improve_87 : decode cX0_improve 87 = .ok (.aload_n 0, 1) := by decide +kernel
theorem dX0_improve_88 : decode cX0_improve 88 = .ok (.lload_n 2, 1) := by decide +kernel
theorem dX0_improve_89 : decode cX0_improve 89 = .ok (.lload 7, 2) := by decide +kernel
theorem dX0_improve_91 : decode cX0_improve 91 = .ok (.lload 14, 2) := by decide +kernel
theorem dX0_improve_93 : decode cX0_improve 93 = .ok (.lload 10, 2) := by decide +kernel
theorem dX0_improve_95 : decode cX0_improve 95 = .ok (.invokevirtual 78, 3) := by decide +kernel
theorem dX0_improve_98 : decode cX0_improve 98 = .ok (.lstore 16, 2) := by decide +kernel
theorem dX0_improve_100 : decode cX0_improve 100 = .ok (.aload_n 0, 1) := by decide +kernel
theorem dX0_improve_101 : decode cX0_improve 101 = .ok (.lload 16, 2) := by decide +kernel
theorem dX0_improve_103 : decode cX0_improve 103 = .ok (.lload 7, 2) := by decide +kernel
theorem dX0_improve_105 : decode cX0_improve 105 = .ok (.lmul, 1) := by decide +kernel
theorem dX0_improve_106 : decode cX0_improve 106 = .ok (.lload_n 2, 1) := by decide +kernel
theorem dX0_improve_107 : decode cX0_improve 107 = .ok (.lsub, 1) := by decide +kernel
theorem dX0_improve_108 : decode cX0_improve 108 = .ok (.invokevirtual 82, 3) := by decide +kernel
theorem dX0_improve_111 : decode cX0_improve 111 = .ok (.lstore 18, 2) := by decide +kernel
theorem dX0_improve_113 : decode cX0_improve 113 = .ok (.lload 18, 2) := by decide +kernel
theorem dX0_improve_115 : decode cX0_improve 115 = .ok (.lload 5, 2) := by decide +kernel
theorem dX0_improve_117 : decode cX0_improve 117 = .ok (.lcmp, 1) := by decide +kernel
theorem dX0_improve_118 : decode cX0_improve 118 = .ok (.ifCond .lt 22, 3) := by decide +kernel
theorem dX0_improve_121 : decode cX0_improve 121 = .ok (.lload 18, 2) := by decide +kernel
theorem dX0_improve_123 : decode cX0_improve 123 = .ok (.lload 5, 2) := by decide +kernel
theorem dX0_improve_125 : decode cX0_improve 125 = .ok (.lcmp, 1) := by decide +kernel
theorem dX0_improve_126 : decode cX0_improve 126 = .ok (.ifCond .ne 27, 3) := by decide +kernel
theorem dX0_improve_129 : decode cX0_improve 129 = .ok (.lload 16, 2) := by decide +kernel
theorem dX0_improve_131 : decode cX0_improve 131 = .ok (.aload_n 0, 1) := by decide +kernel
theorem dX0_improve_132 : decode cX0_improve 132 = .ok (.getfield 64, 3) := by decide +kernel
theorem dX0_improve_135 : decode cX0_improve 135 = .ok (.i2l, 1) := by decide +kernel
theorem dX0_improve_136 : decode cX0_improve 136 = .ok (.lcmp, 1) := by decide +kernel
theorem dX0_improve_137 : decode cX0_improve 137 = .ok (.ifCond .ge 16, 3) := by decide +kernel
theorem dX0_improve_140 : decode cX0_improve 140 = .ok (.aload_n 0, 1) := by decide +kernel
theorem dX0_improve_141 : decode cX0_improve 141 = .ok (.lload 16, 2) := by decide +kernel
theorem dX0_improve_143 : decode cX0_improve 143 = .ok (.l2i, 1) := by decide +kernel
theorem dX0_improve_144 : decode cX0_improve 144 = .ok (.putfield 64, 3) := by decide +kernel
theorem dX0_improve_147 : decode cX0_improve 147 = .ok (.aload_n 0, 1) := by decide +kernel
theorem dX0_improve_148 : decode cX0_improve 148 = .ok (.iload 4, 2) := by decide +kernel
theorem dX0_improve_150 : decode cX0_improve 150 = .ok (.putfield 68, 3) := by decide +kernel
theorem dX0_improve_153 : decode cX0_improve 153 = .ok (.return_, 1) := by decide +kernel
theorem dX0_lengthOf_0 : decode cX0_lengthOf 0 = .ok (.iconst 1, 1) := by decide +kernel
theorem dX0_lengthOf_1 : decode cX0_lengthOf 1 = .ok (.istore_n 3, 1) := by decide +kernel
theorem dX0_lengthOf_2 : decode cX0_lengthOf 2 = .ok (.lload_n 1, 1) := by decide +kernel
theorem dX0_lengthOf_3 : decode cX0_lengthOf 3 = .ok (.ldc2_w 26, 3) := by decide +kernel
theorem dX0_lengthOf_6 : decode cX0_lengthOf 6 = .ok (.ldiv, 1) := by decide +kernel
theorem dX0_lengthOf_7 : decode cX0_lengthOf 7 = .ok (.lstore 4, 2) := by decide +kernel
theorem dX0_lengthOf_9 : decode cX0_lengthOf 9 = .ok (.iconst 0, 1) := by decide +kernel
theorem dX0_lengthOf_10 : decode cX0_lengthOf 10 = .ok (.istore 6, 2) := by decide +kernel
theorem dX0_lengthOf_12 : decode cX0_lengthOf 12 = .ok (.iload 6, 2) := by decide +kernel
theorem dX0_lengthOf_14 : decode cX0_lengthOf 14 = .ok (.bipush 18, 2) := by decide +kernel
theorem dX0_lengthOf_16 : decode cX0_lengthOf 16 = .ok (.if_icmp .ge 27, 3) := by decide +kernel
theorem dX0_lengthOf_19 : decode cX0_lengthOf 19 = .ok (.lload 4, 2) := by decide +kernel
theorem dX0_lengthOf_21 : decode cX0_lengthOf 21 = .ok (.lconst 0, 1) := by decide +kernel
theorem dX0_lengthOf_22 : decode cX0_lengthOf 22 = .ok (.lcmp, 1) := by decide +kernel
theorem dX0_lengthOf_23 : decode cX0_lengthOf 23 = .ok (.ifCond .le 20, 3) := by decide +kernel
theorem dX0_lengthOf_26 : decode cX0_lengthOf 26 = .ok (.iinc 3 1, 3) := by decide +kernel
theorem dX0_lengthOf_29 : decode cX0_lengthOf 29 = .ok (.lload 4, 2) := by decide +kernel
theorem dX0_lengthOf_31 : decode cX0_lengthOf 31 = .ok (.ldc2_w 26, 3) := by decide +kernel
theorem dX0_lengthOf_34 : decode cX0_lengthOf 34 = .ok (.ldiv, 1) := by decide +kernel
theorem dX0_lengthOf_35 : decode cX0_lengthOf 35 = .ok (.lstore 4, 2) := by decide +kernel
theorem dX0_lengthOf_37 : decode cX0_lengthOf 37 = .ok (.iinc 6 1, 3) := by decide +kernel
theorem dX0_lengthOf_40 : decode cX0_lengthOf 40 = .ok (.goto (-28), 3) := by decide +kernel
theorem dX0_lengthOf_43 : decode cX0_lengthOf 43 = .ok (.iload_n 3, 1) := by decide +kernel
theorem dX0_lengthOf_44 : decode cX0_lengthOf 44 = .ok (.ireturn, 1) := by decide +kernel
theorem dX0_scale_0 : decode cX0_scale 0 = .ok (.aload_n 0, 1) := by decide +kernel
theorem dX0_scale_1 : decode cX0_scale 1 = .ok (.iload_n 1, 1) := by decide +kernel
theorem dX0_scale_2 : decode cX0_scale 2 = .ok (.invokevirtual 21, 3) := by decide +kernel
theorem dX0_scale_5 : decode cX0_scale 5 = .ok (.ifCond .eq 6, 3) := by decide +kernel
theorem dX0_scale_8 : decode cX0_scale 8 = .ok (.bipush (-100), 2) := by decide +kernel
theorem dX0_scale_10 : decode cX0_scale 10 = .ok (.ireturn, 1) := by decide +kernel
theorem dX0_scale_11 : decode cX0_scale 11 = .ok (.aload_n 0, 1) := by decide +kernel
theorem dX0_scale_12 : decode cX0_scale 12 = .ok (.iload_n 1, 1) := by decide +kernel
theorem dX0_scale_13 : decode cX0_scale 13 = .ok (.invokevirtual 93, 3) := by decide +kernel
theorem dX0_scale_16 : decode cX0_scale 16 = .ok (.aload_n 0, 1) := by decide +kernel
theorem dX0_scale_17 : decode cX0_scale 17 = .ok (.getfield 68, 3) := by decide +kernel
theorem dX0_scale_20 : decode cX0_scale 20 = .ok (.ireturn, 1) := by decide +kernel
theorem dX0_length_0 : decode cX0_length 0 = .ok (.aload_n 0, 1) := by decide +kernel
theorem dX0_length_1 : decode cX0_length 1 = .ok (.iload_n 1, 1) := by decide +kernel
theorem dX0_length_2 : decode cX0_length 2 = .ok (.invokevirtual 21, 3) := by decide +kernel
theorem dX0_length_5 : decode cX0_length 5 = .ok (.ifCond .eq 5, 3) := by decide +kernel
theorem dX0_length_8 : decode cX0_length 8 = .ok (.iconst (-1), 1) := by decide +kernel
theorem dX0_length_9 : decode cX0_length 9 = .ok (.ireturn, 1) := by decide +kernel
theorem dX0_length_10 : decode cX0_length 10 = .ok (.aload_n 0, 1) := by decide +kernel
theorem dX0_length_11 : decode cX0_length 11 = .ok (.iload_n 1, 1) := by decide +kernel
theorem dX0_length_12 : decode cX0_length 12 = .ok (.invokevirtual 93, 3) := by decide +kernel
theorem dX0_length_15 : decode cX0_length 15 = .ok (.aload_n 0, 1) := by decide +kernel
theorem dX0_length_16 : decode cX0_length 16 = .ok (.aload_n 0, 1) := by decide +kernel
theorem dX0_length_17 : decode cX0_length 17 = .ok (.getfield 64, 3) := by decide +kernel
theorem dX0_length_20 : decode cX0_length 20 = .ok (.i2l, 1) := by decide +kernel
theorem dX0_length_21 : decode cX0_length 21 = .ok (.invokevirtual 90, 3) := by decide +kernel
theorem dX0_length_24 : decode cX0_length 24 = .ok (.ireturn, 1) := by decide +kernel
theorem dX0_written_0 : decode cX0_written 0 = .ok (.aload_n 0, 1) := by decide +kernel
theorem dX0_written_1 : decode cX0_written 1 = .ok (.iload_n 1, 1) := by decide +kernel
theorem dX0_written_2 : decode cX0_written 2 = .ok (.invokevirtual 21, 3) := by decide +kernel
theorem dX0_written_5 : decode cX0_written 5 = .ok (.ifCond .ne 12, 3) := by decide +kernel
theorem dX0_written_8 : decode cX0_written 8 = .ok (.iload_n 2, 1) := by decide +kernel
theorem dX0_written_9 : decode cX0_written 9 = .ok (.ifCond .lt 8, 3) := by decide +kernel
theorem dX0_written_12 : decode cX0_written 12 = .ok (.iload_n 2, 1) := by decide +kernel
theorem dX0_written_13 : decode cX0_written 13 = .ok (.iconst 5, 1) := by decide +kernel
theorem dX0_written_14 : decode cX0_written 14 = .ok (.if_icmp .le 7, 3) := by decide +kernel
theorem dX0_written_17 : decode cX0_written 17 = .ok (.iconst (-1), 1) := by decide +kernel
theorem dX0_written_18 : decode cX0_written 18 = .ok (.goto 9, 3) := by decide +kernel
theorem dX0_written_21 : decode cX0_written 21 = .ok (.aload_n 0, 1) := by decide +kernel
theorem dX0_written_22 : decode cX0_written 22 = .ok (.iload_n 1, 1) := by decide +kernel
theorem dX0_written_23 : decode cX0_written 23 = .ok (.iload_n 2, 1) := by decide +kernel
theorem dX0_written_24 : decode cX0_written 24 = .ok (.invokevirtual 101, 3) := by decide +kernel
theorem dX0_written_27 : decode cX0_written 27 = .ok (.ireturn, 1) := by decide +kernel
theorem dX0_writtenWith_0 : decode cX0_writtenWith 0 = .ok (.aload_n 0, 1) := by decide +kernel
theorem dX0_writtenWith_1 : decode cX0_writtenWith 1 = .ok (.iload_n 1, 1) := by decide +kernel
theorem dX0_writtenWith_2 : decode cX0_writtenWith 2 = .ok (.invokevirtual 13, 3) := by decide +kernel
theorem dX0_writtenWith_5 : decode cX0_writtenWith 5 = .ok (.i2l, 1) := by decide +kernel
theorem dX0_writtenWith_6 : decode cX0_writtenWith 6 = .ok (.aload_n 0, 1) := by decide +kernel
theorem dX0_writtenWith_7 : decode cX0_writtenWith 7 = .ok (.iload_n 2, 1) := by decide +kernel
theorem dX0_writtenWith_8 : decode cX0_writtenWith 8 = .ok (.invokevirtual 28, 3) := by decide +kernel
theorem dX0_writtenWith_11 : decode cX0_writtenWith 11 = .ok (.lmul, 1) := by decide +kernel
theorem dX0_writtenWith_12 : decode cX0_writtenWith 12 = .ok (.lstore_n 3, 1) := by decide +kernel
theorem dX0_writtenWith_13 : decode cX0_writtenWith 13 = .ok (.lload_n 3, 1) := by decide +kernel
theorem dX0_writtenWith_14 : decode cX0_writtenWith 14 = .ok (.bipush 9, 2) := by decide +kernel
theorem dX0_writtenWith_16 : decode cX0_writtenWith 16 = .ok (.lshr, 1) := by decide +kernel
theorem dX0_writtenWith_17 : decode cX0_writtenWith 17 = .ok (.lstore 5, 2) := by decide +kernel
theorem dX0_writtenWith_19 : decode cX0_writtenWith 19 = .ok (.lload_n 3, 1) := by decide +kernel
theorem dX0_writtenWith_20 : decode cX0_writtenWith 20 = .ok (.ldc2_w 97, 3) := by decide +kernel
theorem dX0_writtenWith_23 : decode cX0_writtenWith 23 = .ok (.land, 1) := by decide +kernel
theorem dX0_writtenWith_24 : decode cX0_writtenWith 24 = .ok (.lstore 7, 2) := by decide +kernel
theorem dX0_writtenWith_26 : decode cX0_writtenWith 26 = .ok (.lload 7, 2) := by decide +kernel
theorem dX0_writtenWith_28 : decode cX0_writtenWith 28 = .ok (.ldc2_w 99, 3) := by decide +kernel
theorem dX0_writtenWith_31 : decode cX0_writtenWith 31 = .ok (.lcmp, 1) := by decide +kernel
theorem dX0_writtenWith_32 : decode cX0_writtenWith 32 = .ok (.ifCond .gt 21, 3) := by decide +kernel
theorem dX0_writtenWith_35 : decode cX0_writtenWith 35 = .ok (.lload 7, 2) := by decide +kernel
theorem dX0_writtenWith_37 : decode cX0_writtenWith 37 = .ok (.ldc2_w 99, 3) := by decide +kernel
theorem dX0_writtenWith_40 : decode cX0_writtenWith 40 = .ok (.lcmp, 1) := by decide +kernel
theorem dX0_writtenWith_41 : decode cX0_writtenWith 41 = .ok (.ifCond .ne 16, 3) := by decide +kernel
theorem dX0_writtenWith_44 : decode cX0_writtenWith 44 = .ok (.lload 5, 2) := by decide +kernel
theorem dX0_writtenWith_46 : decode cX0_writtenWith 46 = .ok (.lconst 1, 1) := by decide +kernel
theorem dX0_writtenWith_47 : decode cX0_writtenWith 47 = .ok (.land, 1) := by decide +kernel
theorem dX0_writtenWith_48 : decode cX0_writtenWith 48 = .ok (.lconst 1, 1) := by decide +kernel
end
section
set_option maxRecDepth 100000
theorem dX0_writtenWith_49 : decode cX0_writtenWith 49 = .ok (.lcmp, 1) := by decide +kernel
theorem dX0_writtenWith_50 : decode cX0_writtenWith 50 = .ok (.ifCond .ne 7, 3) := by decide +kernel
theorem dX0_writtenWith_53 : decode cX0_writtenWith 53 = .ok (.iconst 1, 1) := by decide +kernel
theorem dX0_writtenWith_54 : decode cX0_writtenWith 54 = .ok (.goto 4, 3) := by decide +kernel
theorem dX0_writtenWith_57 : decode cX0_writtenWith 57 = .ok (.iconst 0, 1) := by decide +kernel
theorem dX0_writtenWith_58 : decode cX0_writtenWith 58 = .ok (.istore 9, 2) := by decide +kernel
theorem dX0_writtenWith_60 : decode cX0_writtenWith 60 = .ok (.iload 9, 2) := by decide +kernel
theorem dX0_writtenWith_62 : decode cX0_writtenWith 62 = .ok (.ifCond .eq 10, 3) := by decide +kernel
theorem dX0_writtenWith_65 : decode cX0_writtenWith 65 = .ok (.lload 5, 2) := by decide +kernel
theorem dX0_writtenWith_67 : decode cX0_writtenWith 67 = .ok (.lconst 1, 1) := by decide +kernel
theorem dX0_writtenWith_68 : decode cX0_writtenWith 68 = .ok (.ladd, 1) := by decide +kernel
theorem dX0_writtenWith_69 : decode cX0_writtenWith 69 = .ok (.goto 5, 3) := by decide +kernel
theorem dX0_writtenWith_72 : decode cX0_writtenWith 72 = .ok (.lload 5, 2) := by decide +kernel
theorem dX0_writtenWith_74 : decode cX0_writtenWith 74 = .ok (.l2i, 1) := by decide +kernel
theorem dX0_writtenWith_75 : decode cX0_writtenWith 75 = .ok (.ireturn, 1) := by decide +kernel
theorem dX0_places_0 : decode cX0_places 0 = .ok (.aload_n 0, 1) := by decide +kernel
theorem dX0_places_1 : decode cX0_places 1 = .ok (.iload_n 1, 1) := by decide +kernel
theorem dX0_places_2 : decode cX0_places 2 = .ok (.invokevirtual 21, 3) := by decide +kernel
theorem dX0_places_5 : decode cX0_places 5 = .ok (.ifCond .eq 5, 3) := by decide +kernel
theorem dX0_places_8 : decode cX0_places 8 = .ok (.iconst (-1), 1) := by decide +kernel
theorem dX0_places_9 : decode cX0_places 9 = .ok (.ireturn, 1) := by decide +kernel
theorem dX0_places_10 : decode cX0_places 10 = .ok (.iconst 0, 1) := by decide +kernel
theorem dX0_places_11 : decode cX0_places 11 = .ok (.istore_n 2, 1) := by decide +kernel
theorem dX0_places_12 : decode cX0_places 12 = .ok (.iload_n 2, 1) := by decide +kernel
theorem dX0_places_13 : decode cX0_places 13 = .ok (.iconst 5, 1) := by decide +kernel
theorem dX0_places_14 : decode cX0_places 14 = .ok (.if_icmp .ge 41, 3) := by decide +kernel
theorem dX0_places_17 : decode cX0_places 17 = .ok (.aload_n 0, 1) := by decide +kernel
theorem dX0_places_18 : decode cX0_places 18 = .ok (.iload_n 1, 1) := by decide +kernel
theorem dX0_places_19 : decode cX0_places 19 = .ok (.iload_n 2, 1) := by decide +kernel
theorem dX0_places_20 : decode cX0_places 20 = .ok (.invokevirtual 101, 3) := by decide +kernel
theorem dX0_places_23 : decode cX0_places 23 = .ok (.istore_n 3, 1) := by decide +kernel
theorem dX0_places_24 : decode cX0_places 24 = .ok (.aload_n 0, 1) := by decide +kernel
theorem dX0_places_25 : decode cX0_places 25 = .ok (.iload_n 3, 1) := by decide +kernel
theorem dX0_places_26 : decode cX0_places 26 = .ok (.iload_n 2, 1) := by decide +kernel
theorem dX0_places_27 : decode cX0_places 27 = .ok (.ineg, 1) := by decide +kernel
theorem dX0_places_28 : decode cX0_places 28 = .ok (.invokevirtual 45, 3) := by decide +kernel
theorem dX0_places_31 : decode cX0_places 31 = .ok (.lstore 4, 2) := by decide +kernel
theorem dX0_places_33 : decode cX0_places 33 = .ok (.aload_n 0, 1) := by decide +kernel
theorem dX0_places_34 : decode cX0_places 34 = .ok (.iload_n 1, 1) := by decide +kernel
theorem dX0_places_35 : decode cX0_places 35 = .ok (.lload 4, 2) := by decide +kernel
theorem dX0_places_37 : decode cX0_places 37 = .ok (.invokevirtual 55, 3) := by decide +kernel
theorem dX0_places_40 : decode cX0_places 40 = .ok (.istore 6, 2) := by decide +kernel
theorem dX0_places_42 : decode cX0_places 42 = .ok (.iload 6, 2) := by decide +kernel
theorem dX0_places_44 : decode cX0_places 44 = .ok (.ifCond .eq 5, 3) := by decide +kernel
theorem dX0_places_47 : decode cX0_places 47 = .ok (.iload_n 2, 1) := by decide +kernel
theorem dX0_places_48 : decode cX0_places 48 = .ok (.ireturn, 1) := by decide +kernel
theorem dX0_places_49 : decode cX0_places 49 = .ok (.iinc 2 1, 3) := by decide +kernel
theorem dX0_places_52 : decode cX0_places 52 = .ok (.goto (-40), 3) := by decide +kernel
theorem dX0_places_55 : decode cX0_places 55 = .ok (.iconst 5, 1) := by decide +kernel
theorem dX0_places_56 : decode cX0_places 56 = .ok (.ireturn, 1) := by decide +kernel
theorem dX0_type_0 : decode cX0_type 0 = .ok (.iload_n 1, 1) := by decide +kernel
theorem dX0_type_1 : decode cX0_type 1 = .ok (.ifCond .lt 9, 3) := by decide +kernel
theorem dX0_type_4 : decode cX0_type 4 = .ok (.iload_n 1, 1) := by decide +kernel
theorem dX0_type_5 : decode cX0_type 5 = .ok (.bipush 10, 2) := by decide +kernel
theorem dX0_type_7 : decode cX0_type 7 = .ok (.if_icmp .le 5, 3) := by decide +kernel
theorem dX0_type_10 : decode cX0_type 10 = .ok (.iconst (-1), 1) := by decide +kernel
theorem dX0_type_11 : decode cX0_type 11 = .ok (.ireturn, 1) := by decide +kernel
theorem dX0_type_12 : decode cX0_type 12 = .ok (.aload_n 0, 1) := by decide +kernel
theorem dX0_type_13 : decode cX0_type 13 = .ok (.invokevirtual 108, 3) := by decide +kernel
theorem dX0_type_16 : decode cX0_type 16 = .ok (.istore_n 2, 1) := by decide +kernel
theorem dX0_type_17 : decode cX0_type 17 = .ok (.iload_n 2, 1) := by decide +kernel
theorem dX0_type_18 : decode cX0_type 18 = .ok (.aload_n 0, 1) := by decide +kernel
theorem dX0_type_19 : decode cX0_type 19 = .ok (.getfield 105, 3) := by decide +kernel
theorem dX0_type_22 : decode cX0_type 22 = .ok (.if_icmp .ge 7, 3) := by decide +kernel
theorem dX0_type_25 : decode cX0_type 25 = .ok (.iconst 1, 1) := by decide +kernel
theorem dX0_type_26 : decode cX0_type 26 = .ok (.goto 4, 3) := by decide +kernel
theorem dX0_type_29 : decode cX0_type 29 = .ok (.iconst 0, 1) := by decide +kernel
theorem dX0_type_30 : decode cX0_type 30 = .ok (.istore_n 3, 1) := by decide +kernel
theorem dX0_type_31 : decode cX0_type 31 = .ok (.iload_n 1, 1) := by decide +kernel
theorem dX0_type_32 : decode cX0_type 32 = .ok (.bipush 10, 2) := by decide +kernel
theorem dX0_type_34 : decode cX0_type 34 = .ok (.if_icmp .ne 10, 3) := by decide +kernel
theorem dX0_type_37 : decode cX0_type 37 = .ok (.iload_n 3, 1) := by decide +kernel
theorem dX0_type_38 : decode cX0_type 38 = .ok (.ifCond .eq 15, 3) := by decide +kernel
theorem dX0_type_41 : decode cX0_type 41 = .ok (.goto 9, 3) := by decide +kernel
theorem dX0_type_44 : decode cX0_type 44 = .ok (.iload_n 2, 1) := by decide +kernel
theorem dX0_type_45 : decode cX0_type 45 = .ok (.bipush 8, 2) := by decide +kernel
theorem dX0_type_47 : decode cX0_type 47 = .ok (.if_icmp .ne 6, 3) := by decide +kernel
theorem dX0_type_50 : decode cX0_type 50 = .ok (.bipush (-2), 2) := by decide +kernel
theorem dX0_type_52 : decode cX0_type 52 = .ok (.ireturn, 1) := by decide +kernel
theorem dX0_type_53 : decode cX0_type 53 = .ok (.aload_n 0, 1) := by decide +kernel
theorem dX0_type_54 : decode cX0_type 54 = .ok (.getfield 7, 3) := by decide +kernel
theorem dX0_type_57 : decode cX0_type 57 = .ok (.aload_n 0, 1) := by decide +kernel
theorem dX0_type_58 : decode cX0_type 58 = .ok (.getfield 105, 3) := by decide +kernel
theorem dX0_type_61 : decode cX0_type 61 = .ok (.iload_n 1, 1) := by decide +kernel
theorem dX0_type_62 : decode cX0_type 62 = .ok (.iastore, 1) := by decide +kernel
theorem dX0_type_63 : decode cX0_type 63 = .ok (.aload_n 0, 1) := by decide +kernel
theorem dX0_type_64 : decode cX0_type 64 = .ok (.dup, 1) := by decide +kernel
theorem dX0_type_65 : decode cX0_type 65 = .ok (.getfield 105, 3) := by decide +kernel
theorem dX0_type_68 : decode cX0_type 68 = .ok (.iconst 1, 1) := by decide +kernel
theorem dX0_type_69 : decode cX0_type 69 = .ok (.iadd, 1) := by decide +kernel
theorem dX0_type_70 : decode cX0_type 70 = .ok (.putfield 105, 3) := by decide +kernel
theorem dX0_type_73 : decode cX0_type 73 = .ok (.iload_n 1, 1) := by decide +kernel
theorem dX0_type_74 : decode cX0_type 74 = .ok (.bipush 10, 2) := by decide +kernel
theorem dX0_type_76 : decode cX0_type 76 = .ok (.if_icmp .ne 7, 3) := by decide +kernel
theorem dX0_type_79 : decode cX0_type 79 = .ok (.iload_n 2, 1) := by decide +kernel
theorem dX0_type_80 : decode cX0_type 80 = .ok (.goto 6, 3) := by decide +kernel
theorem dX0_type_83 : decode cX0_type 83 = .ok (.iload_n 2, 1) := by decide +kernel
theorem dX0_type_84 : decode cX0_type 84 = .ok (.iconst 1, 1) := by decide +kernel
theorem dX0_type_85 : decode cX0_type 85 = .ok (.iadd, 1) := by decide +kernel
theorem dX0_type_86 : decode cX0_type 86 = .ok (.ireturn, 1) := by decide +kernel
theorem dX0_digitsTyped_0 : decode cX0_digitsTyped 0 = .ok (.iconst 0, 1) := by decide +kernel
theorem dX0_digitsTyped_1 : decode cX0_digitsTyped 1 = .ok (.istore_n 1, 1) := by decide +kernel
theorem dX0_digitsTyped_2 : decode cX0_digitsTyped 2 = .ok (.iconst 0, 1) := by decide +kernel
theorem dX0_digitsTyped_3 : decode cX0_digitsTyped 3 = .ok (.istore_n 2, 1) := by decide +kernel
theorem dX0_digitsTyped_4 : decode cX0_digitsTyped 4 = .ok (.iload_n 2, 1) := by decide +kernel
theorem dX0_digitsTyped_5 : decode cX0_digitsTyped 5 = .ok (.aload_n 0, 1) := by decide +kernel
theorem dX0_digitsTyped_6 : decode cX0_digitsTyped 6 = .ok (.getfield 105, 3) := by decide +kernel
theorem dX0_digitsTyped_9 : decode cX0_digitsTyped 9 = .ok (.if_icmp .ge 28, 3) := by decide +kernel
theorem dX0_digitsTyped_12 : decode cX0_digitsTyped 12 = .ok (.aload_n 0, 1) := by decide +kernel
theorem dX0_digitsTyped_13 : decode cX0_digitsTyped 13 = .ok (.getfield 7, 3) := by decide +kernel
theorem dX0_digitsTyped_16 : decode cX0_digitsTyped 16 = .ok (.iload_n 2, 1) := by decide +kernel
theorem dX0_digitsTyped_17 : decode cX0_digitsTyped 17 = .ok (.iaload, 1) := by decide +kernel
theorem dX0_digitsTyped_18 : decode cX0_digitsTyped 18 = .ok (.bipush 10, 2) := by decide +kernel
theorem dX0_digitsTyped_20 : decode cX0_digitsTyped 20 = .ok (.if_icmp .ne 7, 3) := by decide +kernel
theorem dX0_digitsTyped_23 : decode cX0_digitsTyped 23 = .ok (.iload_n 1, 1) := by decide +kernel
theorem dX0_digitsTyped_24 : decode cX0_digitsTyped 24 = .ok (.goto 6, 3) := by decide +kernel
theorem dX0_digitsTyped_27 : decode cX0_digitsTyped 27 = .ok (.iload_n 1, 1) := by decide +kernel
theorem dX0_digitsTyped_28 : decode cX0_digitsTyped 28 = .ok (.iconst 1, 1) := by decide +kernel
theorem dX0_digitsTyped_29 : decode cX0_digitsTyped 29 = .ok (.iadd, 1) := by decide +kernel
theorem dX0_digitsTyped_30 : decode cX0_digitsTyped 30 = .ok (.istore_n 1, 1) := by decide +kernel
theorem dX0_digitsTyped_31 : decode cX0_digitsTyped 31 = .ok (.iinc 2 1, 3) := by decide +kernel
theorem dX0_digitsTyped_34 : decode cX0_digitsTyped 34 = .ok (.goto (-30), 3) := by decide +kernel
theorem dX0_digitsTyped_37 : decode cX0_digitsTyped 37 = .ok (.iload_n 1, 1) := by decide +kernel
theorem dX0_digitsTyped_38 : decode cX0_digitsTyped 38 = .ok (.ireturn, 1) := by decide +kernel
theorem dX0_back_0 : decode cX0_back 0 = .ok (.aload_n 0, 1) := by decide +kernel
theorem dX0_back_1 : decode cX0_back 1 = .ok (.getfield 105, 3) := by decide +kernel
theorem dX0_back_4 : decode cX0_back 4 = .ok (.ifCond .ne 6, 3) := by decide +kernel
theorem dX0_back_7 : decode cX0_back 7 = .ok (.bipush (-4), 2) := by decide +kernel
theorem dX0_back_9 : decode cX0_back 9 = .ok (.ireturn, 1) := by decide +kernel
theorem dX0_back_10 : decode cX0_back 10 = .ok (.aload_n 0, 1) := by decide +kernel
theorem dX0_back_11 : decode cX0_back 11 = .ok (.dup, 1) := by decide +kernel
theorem dX0_back_12 : decode cX0_back 12 = .ok (.getfield 105, 3) := by decide +kernel
theorem dX0_back_15 : decode cX0_back 15 = .ok (.iconst 1, 1) := by decide +kernel
theorem dX0_back_16 : decode cX0_back 16 = .ok (.isub, 1) := by decide +kernel
theorem dX0_back_17 : decode cX0_back 17 = .ok (.putfield 105, 3) := by decide +kernel
theorem dX0_back_20 : decode cX0_back 20 = .ok (.aload_n 0, 1) := by decide +kernel
theorem dX0_back_21 : decode cX0_back 21 = .ok (.getfield 7, 3) := by decide +kernel
theorem dX0_back_24 : decode cX0_back 24 = .ok (.aload_n 0, 1) := by decide +kernel
theorem dX0_back_25 : decode cX0_back 25 = .ok (.getfield 105, 3) := by decide +kernel
theorem dX0_back_28 : decode cX0_back 28 = .ok (.iaload, 1) := by decide +kernel
theorem dX0_back_29 : decode cX0_back 29 = .ok (.ireturn, 1) := by decide +kernel
theorem dX0_clear_0 : decode cX0_clear 0 = .ok (.aload_n 0, 1) := by decide +kernel
theorem dX0_clear_1 : decode cX0_clear 1 = .ok (.iconst 0, 1) := by decide +kernel
theorem dX0_clear_2 : decode cX0_clear 2 = .ok (.putfield 105, 3) := by decide +kernel
theorem dX0_clear_5 : decode cX0_clear 5 = .ok (.return_, 1) := by decide +kernel
theorem dX0_typed_0 : decode cX0_typed 0 = .ok (.aload_n 0, 1) := by decide +kernel
theorem dX0_typed_1 : decode cX0_typed 1 = .ok (.invokevirtual 115, 3) := by decide +kernel
theorem dX0_typed_4 : decode cX0_typed 4 = .ok (.istore_n 1, 1) := by decide +kernel
theorem dX0_typed_5 : decode cX0_typed 5 = .ok (.aload_n 0, 1) := by decide +kernel
theorem dX0_typed_6 : decode cX0_typed 6 = .ok (.iload_n 1, 1) := by decide +kernel
theorem dX0_typed_7 : decode cX0_typed 7 = .ok (.invokevirtual 118, 3) := by decide +kernel
theorem dX0_typed_10 : decode cX0_typed 10 = .ok (.ireturn, 1) := by decide +kernel
theorem dX0_textDigits_0 : decode cX0_textDigits 0 = .ok (.iconst 0, 1) := by decide +kernel
theorem dX0_textDigits_1 : decode cX0_textDigits 1 = .ok (.istore_n 1, 1) := by decide +kernel
theorem dX0_textDigits_2 : decode cX0_textDigits 2 = .ok (.iconst 0, 1) := by decide +kernel
theorem dX0_textDigits_3 : decode cX0_textDigits 3 = .ok (.istore_n 2, 1) := by decide +kernel
theorem dX0_textDigits_4 : decode cX0_textDigits 4 = .ok (.iload_n 2, 1) := by decide +kernel
theorem dX0_textDigits_5 : decode cX0_textDigits 5 = .ok (.aload_n 0, 1) := by decide +kernel
theorem dX0_textDigits_6 : decode cX0_textDigits 6 = .ok (.getfield 105, 3) := by decide +kernel
theorem dX0_textDigits_9 : decode cX0_textDigits 9 = .ok (.if_icmp .ge 36, 3) := by decide +kernel
theorem dX0_textDigits_12 : decode cX0_textDigits 12 = .ok (.aload_n 0, 1) := by decide +kernel
theorem dX0_textDigits_13 : decode cX0_textDigits 13 = .ok (.getfield 7, 3) := by decide +kernel
theorem dX0_textDigits_16 : decode cX0_textDigits 16 = .ok (.iload_n 2, 1) := by decide +kernel
theorem dX0_textDigits_17 : decode cX0_textDigits 17 = .ok (.iaload, 1) := by decide +kernel
theorem dX0_textDigits_18 : decode cX0_textDigits 18 = .ok (.bipush 10, 2) := by decide +kernel
theorem dX0_textDigits_20 : decode cX0_textDigits 20 = .ok (.if_icmp .ne 7, 3) := by decide +kernel
theorem dX0_textDigits_23 : decode cX0_textDigits 23 = .ok (.iload_n 1, 1) := by decide +kernel
theorem dX0_textDigits_24 : decode cX0_textDigits 24 = .ok (.goto 14, 3) := by decide +kernel
theorem dX0_textDigits_27 : decode cX0_textDigits 27 = .ok (.iload_n 1, 1) := by decide +kernel
theorem dX0_textDigits_28 : decode cX0_textDigits 28 = .ok (.bipush 10, 2) := by decide +kernel
theorem dX0_textDigits_30 : decode cX0_textDigits 30 = .ok (.imul, 1) := by decide +kernel
theorem dX0_textDigits_31 : decode cX0_textDigits 31 = .ok (.aload_n 0, 1) := by decide +kernel
theorem dX0_textDigits_32 : decode cX0_textDigits 32 = .ok (.getfield 7, 3) := by decide +kernel
theorem dX0_textDigits_35 : decode cX0_textDigits 35 = .ok (.iload_n 2, 1) := by decide +kernel
theorem dX0_textDigits_36 : decode cX0_textDigits 36 = .ok (.iaload, 1) := by decide +kernel
theorem dX0_textDigits_37 : decode cX0_textDigits 37 = .ok (.iadd, 1) := by decide +kernel
theorem dX0_textDigits_38 : decode cX0_textDigits 38 = .ok (.istore_n 1, 1) := by decide +kernel
theorem dX0_textDigits_39 : decode cX0_textDigits 39 = .ok (.iinc 2 1, 3) := by decide +kernel
theorem dX0_textDigits_42 : decode cX0_textDigits 42 = .ok (.goto (-38), 3) := by decide +kernel
theorem dX0_textDigits_45 : decode cX0_textDigits 45 = .ok (.iload_n 1, 1) := by decide +kernel
theorem dX0_textDigits_46 : decode cX0_textDigits 46 = .ok (.ireturn, 1) := by decide +kernel
theorem dX0_reading_0 : decode cX0_reading 0 = .ok (.aload_n 0, 1) := by decide +kernel
theorem dX0_reading_1 : decode cX0_reading 1 = .ok (.invokevirtual 112, 3) := by decide +kernel
theorem dX0_reading_4 : decode cX0_reading 4 = .ok (.istore_n 2, 1) := by decide +kernel
theorem dX0_reading_5 : decode cX0_reading 5 = .ok (.aload_n 0, 1) := by decide +kernel
theorem dX0_reading_6 : decode cX0_reading 6 = .ok (.iload_n 1, 1) := by decide +kernel
theorem dX0_reading_7 : decode cX0_reading 7 = .ok (.iload_n 2, 1) := by decide +kernel
theorem dX0_reading_8 : decode cX0_reading 8 = .ok (.invokevirtual 45, 3) := by decide +kernel
theorem dX0_reading_11 : decode cX0_reading 11 = .ok (.lstore_n 3, 1) := by decide +kernel
theorem dX0_reading_12 : decode cX0_reading 12 = .ok (.aload_n 0, 1) := by decide +kernel
theorem dX0_reading_13 : decode cX0_reading 13 = .ok (.lload_n 3, 1) := by decide +kernel
theorem dX0_reading_14 : decode cX0_reading 14 = .ok (.invokevirtual 49, 3) := by decide +kernel
theorem dX0_reading_17 : decode cX0_reading 17 = .ok (.ireturn, 1) := by decide +kernel
theorem dX0_textScale_0 : decode cX0_textScale 0 = .ok (.iconst 0, 1) := by decide +kernel
theorem dX0_textScale_1 : decode cX0_textScale 1 = .ok (.istore_n 1, 1) := by decide +kernel
theorem dX0_textScale_2 : decode cX0_textScale 2 = .ok (.iconst 0, 1) := by decide +kernel
theorem dX0_textScale_3 : decode cX0_textScale 3 = .ok (.istore_n 2, 1) := by decide +kernel
theorem dX0_textScale_4 : decode cX0_textScale 4 = .ok (.iconst 0, 1) := by decide +kernel
theorem dX0_textScale_5 : decode cX0_textScale 5 = .ok (.istore_n 3, 1) := by decide +kernel
theorem dX0_textScale_6 : decode cX0_textScale 6 = .ok (.iload_n 3, 1) := by decide +kernel
theorem dX0_textScale_7 : decode cX0_textScale 7 = .ok (.aload_n 0, 1) := by decide +kernel
theorem dX0_textScale_8 : decode cX0_textScale 8 = .ok (.getfield 105, 3) := by decide +kernel
theorem dX0_textScale_11 : decode cX0_textScale 11 = .ok (.if_icmp .ge 32, 3) := by decide +kernel
theorem dX0_textScale_14 : decode cX0_textScale 14 = .ok (.aload_n 0, 1) := by decide +kernel
theorem dX0_textScale_15 : decode cX0_textScale 15 = .ok (.getfield 7, 3) := by decide +kernel
theorem dX0_textScale_18 : decode cX0_textScale 18 = .ok (.iload_n 3, 1) := by decide +kernel
theorem dX0_textScale_19 : decode cX0_textScale 19 = .ok (.iaload, 1) := by decide +kernel
theorem dX0_textScale_20 : decode cX0_textScale 20 = .ok (.bipush 10, 2) := by decide +kernel
theorem dX0_textScale_22 : decode cX0_textScale 22 = .ok (.if_icmp .ne 8, 3) := by decide +kernel
theorem dX0_textScale_25 : decode cX0_textScale 25 = .ok (.iconst 1, 1) := by decide +kernel
theorem dX0_textScale_26 : decode cX0_textScale 26 = .ok (.istore_n 2, 1) := by decide +kernel
theorem dX0_textScale_27 : decode cX0_textScale 27 = .ok (.goto 10, 3) := by decide +kernel
theorem dX0_textScale_30 : decode cX0_textScale 30 = .ok (.iload_n 2, 1) := by decide +kernel
theorem dX0_textScale_31 : decode cX0_textScale 31 = .ok (.ifCond .eq 6, 3) := by decide +kernel
theorem dX0_textScale_34 : decode cX0_textScale 34 = .ok (.iinc 1 (-1), 3) := by decide +kernel
theorem dX0_textScale_37 : decode cX0_textScale 37 = .ok (.iinc 3 1, 3) := by decide +kernel
theorem dX0_textScale_40 : decode cX0_textScale 40 = .ok (.goto (-34), 3) := by decide +kernel
theorem dX0_textScale_43 : decode cX0_textScale 43 = .ok (.iload_n 1, 1) := by decide +kernel
theorem dX0_textScale_44 : decode cX0_textScale 44 = .ok (.ireturn, 1) := by decide +kernel
theorem dX0_typedDigits_0 : decode cX0_typedDigits 0 = .ok (.aload_n 0, 1) := by decide +kernel
theorem dX0_typedDigits_1 : decode cX0_typedDigits 1 = .ok (.invokevirtual 115, 3) := by decide +kernel
theorem dX0_typedDigits_4 : decode cX0_typedDigits 4 = .ok (.ireturn, 1) := by decide +kernel
theorem dX0_spare_0 : decode cX0_spare 0 = .ok (.aload_n 0, 1) := by decide +kernel
theorem dX0_spare_1 : decode cX0_spare 1 = .ok (.invokevirtual 115, 3) := by decide +kernel
theorem dX0_spare_4 : decode cX0_spare 4 = .ok (.istore_n 1, 1) := by decide +kernel
theorem dX0_spare_5 : decode cX0_spare 5 = .ok (.aload_n 0, 1) := by decide +kernel
theorem dX0_spare_6 : decode cX0_spare 6 = .ok (.iload_n 1, 1) := by decide +kernel
theorem dX0_spare_7 : decode cX0_spare 7 = .ok (.invokevirtual 118, 3) := by decide +kernel
theorem dX0_spare_10 : decode cX0_spare 10 = .ok (.istore_n 2, 1) := by decide +kernel
theorem dX0_spare_11 : decode cX0_spare 11 = .ok (.aload_n 0, 1) := by decide +kernel
theorem dX0_spare_12 : decode cX0_spare 12 = .ok (.invokevirtual 108, 3) := by decide +kernel
theorem dX0_spare_15 : decode cX0_spare 15 = .ok (.istore_n 3, 1) := by decide +kernel
theorem dX0_spare_16 : decode cX0_spare 16 = .ok (.iconst 0, 1) := by decide +kernel
theorem dX0_spare_17 : decode cX0_spare 17 = .ok (.istore 4, 2) := by decide +kernel
theorem dX0_spare_19 : decode cX0_spare 19 = .ok (.iconst 1, 1) := by decide +kernel
theorem dX0_spare_20 : decode cX0_spare 20 = .ok (.istore 5, 2) := by decide +kernel
theorem dX0_spare_22 : decode cX0_spare 22 = .ok (.iconst 1, 1) := by decide +kernel
theorem dX0_spare_23 : decode cX0_spare 23 = .ok (.istore 6, 2) := by decide +kernel
theorem dX0_spare_25 : decode cX0_spare 25 = .ok (.iload 6, 2) := by decide +kernel
theorem dX0_spare_27 : decode cX0_spare 27 = .ok (.iload_n 3, 1) := by decide +kernel
theorem dX0_spare_28 : decode cX0_spare 28 = .ok (.if_icmp .gt 48, 3) := by decide +kernel
theorem dX0_spare_31 : decode cX0_spare 31 = .ok (.iload 5, 2) := by decide +kernel
theorem dX0_spare_33 : decode cX0_spare 33 = .ok (.bipush 10, 2) := by decide +kernel
theorem dX0_spare_35 : decode cX0_spare 35 = .ok (.imul, 1) := by decide +kernel
theorem dX0_spare_36 : decode cX0_spare 36 = .ok (.istore 5, 2) := by decide +kernel
theorem dX0_spare_38 : decode cX0_spare 38 = .ok (.iload_n 1, 1) := by decide +kernel
theorem dX0_spare_39 : decode cX0_spare 39 = .ok (.iload 5, 2) := by decide +kernel
theorem dX0_spare_41 : decode cX0_spare 41 = .ok (.idiv, 1) := by decide +kernel
theorem dX0_spare_42 : decode cX0_spare 42 = .ok (.iload 5, 2) := by decide +kernel
theorem dX0_spare_44 : decode cX0_spare 44 = .ok (.imul, 1) := by decide +kernel
theorem dX0_spare_45 : decode cX0_spare 45 = .ok (.istore 7, 2) := by decide +kernel
theorem dX0_spare_47 : decode cX0_spare 47 = .ok (.aload_n 0, 1) := by decide +kernel
theorem dX0_spare_48 : decode cX0_spare 48 = .ok (.iload 7, 2) := by decide +kernel
theorem dX0_spare_50 : decode cX0_spare 50 = .ok (.invokevirtual 118, 3) := by decide +kernel
theorem dX0_spare_53 : decode cX0_spare 53 = .ok (.istore 8, 2) := by decide +kernel
theorem dX0_spare_55 : decode cX0_spare 55 = .ok (.iload 8, 2) := by decide +kernel
theorem dX0_spare_57 : decode cX0_spare 57 = .ok (.iload_n 2, 1) := by decide +kernel
theorem dX0_spare_58 : decode cX0_spare 58 = .ok (.if_icmp .ne 8, 3) := by decide +kernel
theorem dX0_spare_61 : decode cX0_spare 61 = .ok (.iload 6, 2) := by decide +kernel
theorem dX0_spare_63 : decode cX0_spare 63 = .ok (.goto 5, 3) := by decide +kernel
theorem dX0_spare_66 : decode cX0_spare 66 = .ok (.iload 4, 2) := by decide +kernel
theorem dX0_spare_68 : decode cX0_spare 68 = .ok (.istore 4, 2) := by decide +kernel
theorem dX0_spare_70 : decode cX0_spare 70 = .ok (.iinc 6 1, 3) := by decide +kernel
theorem dX0_spare_73 : decode cX0_spare 73 = .ok (.goto (-48), 3) := by decide +kernel
theorem dX0_spare_76 : decode cX0_spare 76 = .ok (.iload 4, 2) := by decide +kernel
theorem dX0_spare_78 : decode cX0_spare 78 = .ok (.ireturn, 1) := by decide +kernel
end
section
set_option maxRecDepth 100000
theorem dX1_init_0 : decode cX1_init 0 = .ok (.aload_n 0, 1) := by decide +kernel
theorem dX1_init_1 : decode cX1_init 1 = .ok (.invokespecial 1, 3) := by decide +kernel
theorem dX1_init_4 : decode cX1_init 4 = .ok (.aload_n 0, 1) := by decide +kernel
theorem dX1_init_5 : decode cX1_init 5 = .ok (.sipush 1025, 3) := by decide +kernel
theorem dX1_init_8 : decode cX1_init 8 = .ok (.newarray .int, 2) := by decide +kernel
theorem dX1_init_10 : decode cX1_init 10 = .ok (.putfield 7, 3) := by decide +kernel
theorem dX1_init_13 : decode cX1_init 13 = .ok (.aload_n 0, 1) := by decide +kernel
theorem dX1_init_14 : decode cX1_init 14 = .ok (.bipush 9, 2) := by decide +kernel
theorem dX1_init_16 : decode cX1_init 16 = .ok (.newarray .int, 2) := by decide +kernel
theorem dX1_init_18 : decode cX1_init 18 = .ok (.putfield 13, 3) := by decide +kernel
theorem dX1_init_21 : decode cX1_init 21 = .ok (.iconst 0, 1) := by decide +kernel
theorem dX1_init_22 : decode cX1_init 22 = .ok (.istore_n 1, 1) := by decide +kernel
theorem dX1_init_23 : decode cX1_init 23 = .ok (.iload_n 1, 1) := by decide +kernel
theorem dX1_init_24 : decode cX1_init 24 = .ok (.sipush 1025, 3) := by decide +kernel
theorem dX1_init_27 : decode cX1_init 27 = .ok (.if_icmp .ge 39, 3) := by decide +kernel
theorem dX1_init_30 : decode cX1_init 30 = .ok (.aload_n 0, 1) := by decide +kernel
theorem dX1_init_31 : decode cX1_init 31 = .ok (.getfield 7, 3) := by decide +kernel
theorem dX1_init_34 : decode cX1_init 34 = .ok (.iload_n 1, 1) := by decide +kernel
theorem dX1_init_35 : decode cX1_init 35 = .ok (.iload_n 1, 1) := by decide +kernel
theorem dX1_init_36 : decode cX1_init 36 = .ok (.bipush 64, 2) := by decide +kernel
theorem dX1_init_38 : decode cX1_init 38 = .ok (.if_icmp .ge 7, 3) := by decide +kernel
theorem dX1_init_41 : decode cX1_init 41 = .ok (.iload_n 1, 1) := by decide +kernel
theorem dX1_init_42 : decode cX1_init 42 = .ok (.goto 17, 3) := by decide +kernel
theorem dX1_init_45 : decode cX1_init 45 = .ok (.bipush 64, 2) := by decide +kernel
theorem dX1_init_47 : decode cX1_init 47 = .ok (.iload_n 1, 1) := by decide +kernel
theorem dX1_init_48 : decode cX1_init 48 = .ok (.bipush 64, 2) := by decide +kernel
theorem dX1_init_50 : decode cX1_init 50 = .ok (.irem, 1) := by decide +kernel
theorem dX1_init_51 : decode cX1_init 51 = .ok (.iadd, 1) := by decide +kernel
theorem dX1_init_52 : decode cX1_init 52 = .ok (.iload_n 1, 1) := by decide +kernel
theorem dX1_init_53 : decode cX1_init 53 = .ok (.bipush 64, 2) := by decide +kernel
theorem dX1_init_55 : decode cX1_init 55 = .ok (.idiv, 1) := by decide +kernel
theorem dX1_init_56 : decode cX1_init 56 = .ok (.iconst 1, 1) := by decide +kernel
theorem dX1_init_57 : decode cX1_init 57 = .ok (.isub, 1) := by decide +kernel
theorem dX1_init_58 : decode cX1_init 58 = .ok (.ishl, 1) := by decide +kernel
theorem dX1_init_59 : decode cX1_init 59 = .ok (.iastore, 1) := by decide +kernel
theorem dX1_init_60 : decode cX1_init 60 = .ok (.iinc 1 1, 3) := by decide +kernel
theorem dX1_init_63 : decode cX1_init 63 = .ok (.goto (-40), 3) := by decide +kernel
theorem dX1_init_66 : decode cX1_init 66 = .ok (.return_, 1) := by decide +kernel
theorem dX1_units_0 : decode cX1_units 0 = .ok (.aload_n 0, 1) := by decide +kernel
theorem dX1_units_1 : decode cX1_units 1 = .ok (.iload_n 1, 1) := by decide +kernel
theorem dX1_units_2 : decode cX1_units 2 = .ok (.invokevirtual 25, 3) := by decide +kernel
theorem dX1_units_5 : decode cX1_units 5 = .ok (.ifCond .eq 12, 3) := by decide +kernel
theorem dX1_units_8 : decode cX1_units 8 = .ok (.aload_n 0, 1) := by decide +kernel
theorem dX1_units_9 : decode cX1_units 9 = .ok (.getfield 7, 3) := by decide +kernel
theorem dX1_units_12 : decode cX1_units 12 = .ok (.iload_n 1, 1) := by decide +kernel
theorem dX1_units_13 : decode cX1_units 13 = .ok (.iaload, 1) := by decide +kernel
theorem dX1_units_14 : decode cX1_units 14 = .ok (.goto 4, 3) := by decide +kernel
theorem dX1_units_17 : decode cX1_units 17 = .ok (.iconst (-1), 1) := by decide +kernel
theorem dX1_units_18 : decode cX1_units 18 = .ok (.ireturn, 1) := by decide +kernel
theorem dX1_isCode_0 : decode cX1_isCode 0 = .ok (.iload_n 1, 1) := by decide +kernel
theorem dX1_isCode_1 : decode cX1_isCode 1 = .ok (.ifCond .lt 14, 3) := by decide +kernel
theorem dX1_isCode_4 : decode cX1_isCode 4 = .ok (.iload_n 1, 1) := by decide +kernel
theorem dX1_isCode_5 : decode cX1_isCode 5 = .ok (.sipush 1023, 3) := by decide +kernel
theorem dX1_isCode_8 : decode cX1_isCode 8 = .ok (.if_icmp .gt 7, 3) := by decide +kernel
theorem dX1_isCode_11 : decode cX1_isCode 11 = .ok (.iconst 1, 1) := by decide +kernel
theorem dX1_isCode_12 : decode cX1_isCode 12 = .ok (.goto 4, 3) := by decide +kernel
theorem dX1_isCode_15 : decode cX1_isCode 15 = .ok (.iconst 0, 1) := by decide +kernel
theorem dX1_isCode_16 : decode cX1_isCode 16 = .ok (.ireturn, 1) := by decide +kernel
theorem dX1_read_0 : decode cX1_read 0 = .ok (.aload_n 0, 1) := by decide +kernel
theorem dX1_read_1 : decode cX1_read 1 = .ok (.iload_n 1, 1) := by decide +kernel
theorem dX1_read_2 : decode cX1_read 2 = .ok (.iload_n 2, 1) := by decide +kernel
theorem dX1_read_3 : decode cX1_read 3 = .ok (.invokevirtual 29, 3) := by decide +kernel
theorem dX1_read_6 : decode cX1_read 6 = .ok (.ifCond .ne 5, 3) := by decide +kernel
theorem dX1_read_9 : decode cX1_read 9 = .ok (.iconst (-1), 1) := by decide +kernel
theorem dX1_read_10 : decode cX1_read 10 = .ok (.ireturn, 1) := by decide +kernel
theorem dX1_read_11 : decode cX1_read 11 = .ok (.iconst 0, 1) := by decide +kernel
theorem dX1_read_12 : decode cX1_read 12 = .ok (.istore_n 3, 1) := by decide +kernel
theorem dX1_read_13 : decode cX1_read 13 = .ok (.iload_n 3, 1) := by decide +kernel
theorem dX1_read_14 : decode cX1_read 14 = .ok (.sipush 1023, 3) := by decide +kernel
theorem dX1_read_17 : decode cX1_read 17 = .ok (.if_icmp .ge 51, 3) := by decide +kernel
theorem dX1_read_20 : decode cX1_read 20 = .ok (.aload_n 0, 1) := by decide +kernel
theorem dX1_read_21 : decode cX1_read 21 = .ok (.aload_n 0, 1) := by decide +kernel
theorem dX1_read_22 : decode cX1_read 22 = .ok (.getfield 7, 3) := by decide +kernel
theorem dX1_read_25 : decode cX1_read 25 = .ok (.iload_n 3, 1) := by decide +kernel
theorem dX1_read_26 : decode cX1_read 26 = .ok (.iaload, 1) := by decide +kernel
theorem dX1_read_27 : decode cX1_read 27 = .ok (.aload_n 0, 1) := by decide +kernel
theorem dX1_read_28 : decode cX1_read 28 = .ok (.getfield 7, 3) := by decide +kernel
theorem dX1_read_31 : decode cX1_read 31 = .ok (.iload_n 3, 1) := by decide +kernel
theorem dX1_read_32 : decode cX1_read 32 = .ok (.iconst 1, 1) := by decide +kernel
theorem dX1_read_33 : decode cX1_read 33 = .ok (.iadd, 1) := by decide +kernel
theorem dX1_read_34 : decode cX1_read 34 = .ok (.iaload, 1) := by decide +kernel
theorem dX1_read_35 : decode cX1_read 35 = .ok (.iadd, 1) := by decide +kernel
theorem dX1_read_36 : decode cX1_read 36 = .ok (.i2l, 1) := by decide +kernel
theorem dX1_read_37 : decode cX1_read 37 = .ok (.iload_n 1, 1) := by decide +kernel
theorem dX1_read_38 : decode cX1_read 38 = .ok (.iload_n 2, 1) := by decide +kernel
theorem dX1_read_39 : decode cX1_read 39 = .ok (.invokevirtual 33, 3) := by decide +kernel
theorem dX1_read_42 : decode cX1_read 42 = .ok (.istore 4, 2) := by decide +kernel
theorem dX1_read_44 : decode cX1_read 44 = .ok (.iload 4, 2) := by decide +kernel
theorem dX1_read_46 : decode cX1_read 46 = .ok (.ifCond .gt 14, 3) := by decide +kernel
theorem dX1_read_49 : decode cX1_read 49 = .ok (.iload 4, 2) := by decide +kernel
theorem dX1_read_51 : decode cX1_read 51 = .ok (.ifCond .ne 11, 3) := by decide +kernel
theorem dX1_read_54 : decode cX1_read 54 = .ok (.iload_n 3, 1) := by decide +kernel
theorem dX1_read_55 : decode cX1_read 55 = .ok (.iconst 2, 1) := by decide +kernel
theorem dX1_read_56 : decode cX1_read 56 = .ok (.irem, 1) := by decide +kernel
theorem dX1_read_57 : decode cX1_read 57 = .ok (.ifCond .ne 5, 3) := by decide +kernel
theorem dX1_read_60 : decode cX1_read 60 = .ok (.iload_n 3, 1) := by decide +kernel
theorem dX1_read_61 : decode cX1_read 61 = .ok (.ireturn, 1) := by decide +kernel
theorem dX1_read_62 : decode cX1_read 62 = .ok (.iinc 3 1, 3) := by decide +kernel
theorem dX1_read_65 : decode cX1_read 65 = .ok (.goto (-52), 3) := by decide +kernel
theorem dX1_read_68 : decode cX1_read 68 = .ok (.sipush 1023, 3) := by decide +kernel
theorem dX1_read_71 : decode cX1_read 71 = .ok (.ireturn, 1) := by decide +kernel
theorem dX1_isDecimal_0 : decode cX1_isDecimal 0 = .ok (.iload_n 1, 1) := by decide +kernel
theorem dX1_isDecimal_1 : decode cX1_isDecimal 1 = .ok (.ifCond .lt 25, 3) := by decide +kernel
theorem dX1_isDecimal_4 : decode cX1_isDecimal 4 = .ok (.iload_n 1, 1) := by decide +kernel
theorem dX1_isDecimal_5 : decode cX1_isDecimal 5 = .ok (.ldc 16, 2) := by decide +kernel
theorem dX1_isDecimal_7 : decode cX1_isDecimal 7 = .ok (.if_icmp .gt 19, 3) := by decide +kernel
theorem dX1_isDecimal_10 : decode cX1_isDecimal 10 = .ok (.iload_n 2, 1) := by decide +kernel
theorem dX1_isDecimal_11 : decode cX1_isDecimal 11 = .ok (.bipush (-12), 2) := by decide +kernel
theorem dX1_isDecimal_13 : decode cX1_isDecimal 13 = .ok (.if_icmp .lt 13, 3) := by decide +kernel
theorem dX1_isDecimal_16 : decode cX1_isDecimal 16 = .ok (.iload_n 2, 1) := by decide +kernel
theorem dX1_isDecimal_17 : decode cX1_isDecimal 17 = .ok (.bipush 6, 2) := by decide +kernel
theorem dX1_isDecimal_19 : decode cX1_isDecimal 19 = .ok (.if_icmp .gt 7, 3) := by decide +kernel
theorem dX1_isDecimal_22 : decode cX1_isDecimal 22 = .ok (.iconst 1, 1) := by decide +kernel
theorem dX1_isDecimal_23 : decode cX1_isDecimal 23 = .ok (.goto 4, 3) := by decide +kernel
theorem dX1_isDecimal_26 : decode cX1_isDecimal 26 = .ok (.iconst 0, 1) := by decide +kernel
theorem dX1_isDecimal_27 : decode cX1_isDecimal 27 = .ok (.ireturn, 1) := by decide +kernel
theorem dX1_sign_0 : decode cX1_sign 0 = .ok (.iload 4, 2) := by decide +kernel
theorem dX1_sign_2 : decode cX1_sign 2 = .ok (.ifCond .ge 15, 3) := by decide +kernel
theorem dX1_sign_5 : decode cX1_sign 5 = .ok (.lload_n 1, 1) := by decide +kernel
theorem dX1_sign_6 : decode cX1_sign 6 = .ok (.aload_n 0, 1) := by decide +kernel
theorem dX1_sign_7 : decode cX1_sign 7 = .ok (.iload 4, 2) := by decide +kernel
theorem dX1_sign_9 : decode cX1_sign 9 = .ok (.ineg, 1) := by decide +kernel
theorem dX1_sign_10 : decode cX1_sign 10 = .ok (.invokevirtual 19, 3) := by decide +kernel
theorem dX1_sign_13 : decode cX1_sign 13 = .ok (.lmul, 1) := by decide +kernel
theorem dX1_sign_14 : decode cX1_sign 14 = .ok (.goto 4, 3) := by decide +kernel
theorem dX1_sign_17 : decode cX1_sign 17 = .ok (.lload_n 1, 1) := by decide +kernel
theorem dX1_sign_18 : decode cX1_sign 18 = .ok (.lstore 5, 2) := by decide +kernel
theorem dX1_sign_20 : decode cX1_sign 20 = .ok (.iload 4, 2) := by decide +kernel
theorem dX1_sign_22 : decode cX1_sign 22 = .ok (.ifCond .ge 12, 3) := by decide +kernel
theorem dX1_sign_25 : decode cX1_sign 25 = .ok (.ldc2_w 23, 3) := by decide +kernel
theorem dX1_sign_28 : decode cX1_sign 28 = .ok (.iload_n 3, 1) := by decide +kernel
theorem dX1_sign_29 : decode cX1_sign 29 = .ok (.i2l, 1) := by decide +kernel
theorem dX1_sign_30 : decode cX1_sign 30 = .ok (.lmul, 1) := by decide +kernel
theorem dX1_sign_31 : decode cX1_sign 31 = .ok (.goto 16, 3) := by decide +kernel
theorem dX1_sign_34 : decode cX1_sign 34 = .ok (.ldc2_w 23, 3) := by decide +kernel
theorem dX1_sign_37 : decode cX1_sign 37 = .ok (.iload_n 3, 1) := by decide +kernel
theorem dX1_sign_38 : decode cX1_sign 38 = .ok (.i2l, 1) := by decide +kernel
theorem dX1_sign_39 : decode cX1_sign 39 = .ok (.lmul, 1) := by decide +kernel
theorem dX1_sign_40 : decode cX1_sign 40 = .ok (.aload_n 0, 1) := by decide +kernel
theorem dX1_sign_41 : decode cX1_sign 41 = .ok (.iload 4, 2) := by decide +kernel
theorem dX1_sign_43 : decode cX1_sign 43 = .ok (.invokevirtual 19, 3) := by decide +kernel
theorem dX1_sign_46 : decode cX1_sign 46 = .ok (.lmul, 1) := by decide +kernel
theorem dX1_sign_47 : decode cX1_sign 47 = .ok (.lstore 7, 2) := by decide +kernel
theorem dX1_sign_49 : decode cX1_sign 49 = .ok (.lload 5, 2) := by decide +kernel
theorem dX1_sign_51 : decode cX1_sign 51 = .ok (.lload 7, 2) := by decide +kernel
theorem dX1_sign_53 : decode cX1_sign 53 = .ok (.lcmp, 1) := by decide +kernel
theorem dX1_sign_54 : decode cX1_sign 54 = .ok (.ifCond .ge 7, 3) := by decide +kernel
theorem dX1_sign_57 : decode cX1_sign 57 = .ok (.iconst (-1), 1) := by decide +kernel
theorem dX1_sign_58 : decode cX1_sign 58 = .ok (.goto 16, 3) := by decide +kernel
theorem dX1_sign_61 : decode cX1_sign 61 = .ok (.lload 5, 2) := by decide +kernel
theorem dX1_sign_63 : decode cX1_sign 63 = .ok (.lload 7, 2) := by decide +kernel
theorem dX1_sign_65 : decode cX1_sign 65 = .ok (.lcmp, 1) := by decide +kernel
theorem dX1_sign_66 : decode cX1_sign 66 = .ok (.ifCond .le 7, 3) := by decide +kernel
theorem dX1_sign_69 : decode cX1_sign 69 = .ok (.iconst 1, 1) := by decide +kernel
theorem dX1_sign_70 : decode cX1_sign 70 = .ok (.goto 4, 3) := by decide +kernel
theorem dX1_sign_73 : decode cX1_sign 73 = .ok (.iconst 0, 1) := by decide +kernel
theorem dX1_sign_74 : decode cX1_sign 74 = .ok (.ireturn, 1) := by decide +kernel
theorem dX1_power_0 : decode cX1_power 0 = .ok (.lconst 1, 1) := by decide +kernel
theorem dX1_power_1 : decode cX1_power 1 = .ok (.lstore_n 2, 1) := by decide +kernel
theorem dX1_power_2 : decode cX1_power 2 = .ok (.iconst 0, 1) := by decide +kernel
theorem dX1_power_3 : decode cX1_power 3 = .ok (.istore 4, 2) := by decide +kernel
theorem dX1_power_5 : decode cX1_power 5 = .ok (.iload 4, 2) := by decide +kernel
theorem dX1_power_7 : decode cX1_power 7 = .ok (.iload_n 1, 1) := by decide +kernel
theorem dX1_power_8 : decode cX1_power 8 = .ok (.if_icmp .ge 15, 3) := by decide +kernel
theorem dX1_power_11 : decode cX1_power 11 = .ok (.ldc2_w 17, 3) := by decide +kernel
theorem dX1_power_14 : decode cX1_power 14 = .ok (.lload_n 2, 1) := by decide +kernel
theorem dX1_power_15 : decode cX1_power 15 = .ok (.lmul, 1) := by decide +kernel
theorem dX1_power_16 : decode cX1_power 16 = .ok (.lstore_n 2, 1) := by decide +kernel
theorem dX1_power_17 : decode cX1_power 17 = .ok (.iinc 4 1, 3) := by decide +kernel
theorem dX1_power_20 : decode cX1_power 20 = .ok (.goto (-15), 3) := by decide +kernel
theorem dX1_power_23 : decode cX1_power 23 = .ok (.lload_n 2, 1) := by decide +kernel
theorem dX1_power_24 : decode cX1_power 24 = .ok (.lreturn, 1) := by decide +kernel
theorem dX1_names_0 : decode cX1_names 0 = .ok (.aload_n 0, 1) := by decide +kernel
theorem dX1_names_1 : decode cX1_names 1 = .ok (.iload_n 2, 1) := by decide +kernel
theorem dX1_names_2 : decode cX1_names 2 = .ok (.iload_n 3, 1) := by decide +kernel
theorem dX1_names_3 : decode cX1_names 3 = .ok (.invokevirtual 29, 3) := by decide +kernel
theorem dX1_names_6 : decode cX1_names 6 = .ok (.ifCond .eq 25, 3) := by decide +kernel
theorem dX1_names_9 : decode cX1_names 9 = .ok (.aload_n 0, 1) := by decide +kernel
theorem dX1_names_10 : decode cX1_names 10 = .ok (.iload_n 1, 1) := by decide +kernel
theorem dX1_names_11 : decode cX1_names 11 = .ok (.invokevirtual 25, 3) := by decide +kernel
theorem dX1_names_14 : decode cX1_names 14 = .ok (.ifCond .eq 17, 3) := by decide +kernel
theorem dX1_names_17 : decode cX1_names 17 = .ok (.aload_n 0, 1) := by decide +kernel
theorem dX1_names_18 : decode cX1_names 18 = .ok (.iload_n 1, 1) := by decide +kernel
theorem dX1_names_19 : decode cX1_names 19 = .ok (.iload_n 2, 1) := by decide +kernel
theorem dX1_names_20 : decode cX1_names 20 = .ok (.iload_n 3, 1) := by decide +kernel
theorem dX1_names_21 : decode cX1_names 21 = .ok (.invokevirtual 37, 3) := by decide +kernel
theorem dX1_names_24 : decode cX1_names 24 = .ok (.ifCond .eq 7, 3) := by decide +kernel
theorem dX1_names_27 : decode cX1_names 27 = .ok (.iconst 1, 1) := by decide +kernel
theorem dX1_names_28 : decode cX1_names 28 = .ok (.goto 4, 3) := by decide +kernel
theorem dX1_names_31 : decode cX1_names 31 = .ok (.iconst 0, 1) := by decide +kernel
theorem dX1_names_32 : decode cX1_names 32 = .ok (.ireturn, 1) := by decide +kernel
theorem dX1_isName_0 : decode cX1_isName 0 = .ok (.aload_n 0, 1) := by decide +kernel
theorem dX1_isName_1 : decode cX1_isName 1 = .ok (.aload_n 0, 1) := by decide +kernel
theorem dX1_isName_2 : decode cX1_isName 2 = .ok (.getfield 7, 3) := by decide +kernel
theorem dX1_isName_5 : decode cX1_isName 5 = .ok (.iload_n 1, 1) := by decide +kernel
theorem dX1_isName_6 : decode cX1_isName 6 = .ok (.iaload, 1) := by decide +kernel
theorem dX1_isName_7 : decode cX1_isName 7 = .ok (.aload_n 0, 1) := by decide +kernel
theorem dX1_isName_8 : decode cX1_isName 8 = .ok (.getfield 7, 3) := by decide +kernel
theorem dX1_isName_11 : decode cX1_isName 11 = .ok (.iload_n 1, 1) := by decide +kernel
theorem dX1_isName_12 : decode cX1_isName 12 = .ok (.iconst 1, 1) := by decide +kernel
theorem dX1_isName_13 : decode cX1_isName 13 = .ok (.iadd, 1) := by decide +kernel
theorem dX1_isName_14 : decode cX1_isName 14 = .ok (.iaload, 1) := by decide +kernel
theorem dX1_isName_15 : decode cX1_isName 15 = .ok (.iadd, 1) := by decide +kernel
theorem dX1_isName_16 : decode cX1_isName 16 = .ok (.i2l, 1) := by decide +kernel
theorem dX1_isName_17 : decode cX1_isName 17 = .ok (.iload_n 2, 1) := by decide +kernel
theorem dX1_isName_18 : decode cX1_isName 18 = .ok (.iload_n 3, 1) := by decide +kernel
theorem dX1_isName_19 : decode cX1_isName 19 = .ok (.invokevirtual 33, 3) := by decide +kernel
theorem dX1_isName_22 : decode cX1_isName 22 = .ok (.istore 4, 2) := by decide +kernel
theorem dX1_isName_24 : decode cX1_isName 24 = .ok (.iload_n 1, 1) := by decide +kernel
theorem dX1_isName_25 : decode cX1_isName 25 = .ok (.ifCond .ne 7, 3) := by decide +kernel
theorem dX1_isName_28 : decode cX1_isName 28 = .ok (.iconst (-1), 1) := by decide +kernel
theorem dX1_isName_29 : decode cX1_isName 29 = .ok (.goto 25, 3) := by decide +kernel
theorem dX1_isName_32 : decode cX1_isName 32 = .ok (.aload_n 0, 1) := by decide +kernel
theorem dX1_isName_33 : decode cX1_isName 33 = .ok (.aload_n 0, 1) := by decide +kernel
theorem dX1_isName_34 : decode cX1_isName 34 = .ok (.getfield 7, 3) := by decide +kernel
theorem dX1_isName_37 : decode cX1_isName 37 = .ok (.iload_n 1, 1) := by decide +kernel
theorem dX1_isName_38 : decode cX1_isName 38 = .ok (.iconst 1, 1) := by decide +kernel
theorem dX1_isName_39 : decode cX1_isName 39 = .ok (.isub, 1) := by decide +kernel
theorem dX1_isName_40 : decode cX1_isName 40 = .ok (.iaload, 1) := by decide +kernel
theorem dX1_isName_41 : decode cX1_isName 41 = .ok (.aload_n 0, 1) := by decide +kernel
theorem dX1_isName_42 : decode cX1_isName 42 = .ok (.getfield 7, 3) := by decide +kernel
theorem dX1_isName_45 : decode cX1_isName 45 = .ok (.iload_n 1, 1) := by decide +kernel
theorem dX1_isName_46 : decode cX1_isName 46 = .ok (.iaload, 1) := by decide +kernel
theorem dX1_isName_47 : decode cX1_isName 47 = .ok (.iadd, 1) := by decide +kernel
theorem dX1_isName_48 : decode cX1_isName 48 = .ok (.i2l, 1) := by decide +kernel
theorem dX1_isName_49 : decode cX1_isName 49 = .ok (.iload_n 2, 1) := by decide +kernel
theorem dX1_isName_50 : decode cX1_isName 50 = .ok (.iload_n 3, 1) := by decide +kernel
theorem dX1_isName_51 : decode cX1_isName 51 = .ok (.invokevirtual 33, 3) := by decide +kernel
theorem dX1_isName_54 : decode cX1_isName 54 = .ok (.istore 5, 2) := by decide +kernel
theorem dX1_isName_56 : decode cX1_isName 56 = .ok (.iload_n 1, 1) := by decide +kernel
theorem dX1_isName_57 : decode cX1_isName 57 = .ok (.iconst 2, 1) := by decide +kernel
theorem dX1_isName_58 : decode cX1_isName 58 = .ok (.irem, 1) := by decide +kernel
theorem dX1_isName_59 : decode cX1_isName 59 = .ok (.ifCond .ne 7, 3) := by decide +kernel
theorem dX1_isName_62 : decode cX1_isName 62 = .ok (.iconst 1, 1) := by decide +kernel
theorem dX1_isName_63 : decode cX1_isName 63 = .ok (.goto 4, 3) := by decide +kernel
theorem dX1_isName_66 : decode cX1_isName 66 = .ok (.iconst 0, 1) := by decide +kernel
theorem dX1_isName_67 : decode cX1_isName 67 = .ok (.istore 6, 2) := by decide +kernel
theorem dX1_isName_69 : decode cX1_isName 69 = .ok (.iload 5, 2) := by decide +kernel
theorem dX1_isName_71 : decode cX1_isName 71 = .ok (.ifCond .lt 13, 3) := by decide +kernel
theorem dX1_isName_74 : decode cX1_isName 74 = .ok (.iload 5, 2) := by decide +kernel
theorem dX1_isName_76 : decode cX1_isName 76 = .ok (.ifCond .ne 12, 3) := by decide +kernel
theorem dX1_isName_79 : decode cX1_isName 79 = .ok (.iload 6, 2) := by decide +kernel
theorem dX1_isName_81 : decode cX1_isName 81 = .ok (.ifCond .eq 7, 3) := by decide +kernel
theorem dX1_isName_84 : decode cX1_isName 84 = .ok (.iconst 1, 1) := by decide +kernel
theorem dX1_isName_85 : decode cX1_isName 85 = .ok (.goto 4, 3) := by decide +kernel
theorem dX1_isName_88 : decode cX1_isName 88 = .ok (.iconst 0, 1) := by decide +kernel
theorem dX1_isName_89 : decode cX1_isName 89 = .ok (.istore 7, 2) := by decide +kernel
theorem dX1_isName_91 : decode cX1_isName 91 = .ok (.iload 7, 2) := by decide +kernel
theorem dX1_isName_93 : decode cX1_isName 93 = .ok (.ifCond .eq 22, 3) := by decide +kernel
theorem dX1_isName_96 : decode cX1_isName 96 = .ok (.iload 4, 2) := by decide +kernel
theorem dX1_isName_98 : decode cX1_isName 98 = .ok (.ifCond .gt 13, 3) := by decide +kernel
theorem dX1_isName_101 : decode cX1_isName 101 = .ok (.iload 4, 2) := by decide +kernel
theorem dX1_isName_103 : decode cX1_isName 103 = .ok (.ifCond .ne 12, 3) := by decide +kernel
theorem dX1_isName_106 : decode cX1_isName 106 = .ok (.iload 6, 2) := by decide +kernel
theorem dX1_isName_108 : decode cX1_isName 108 = .ok (.ifCond .eq 7, 3) := by decide +kernel
theorem dX1_isName_111 : decode cX1_isName 111 = .ok (.iconst 1, 1) := by decide +kernel
theorem dX1_isName_112 : decode cX1_isName 112 = .ok (.goto 4, 3) := by decide +kernel
theorem dX1_isName_115 : decode cX1_isName 115 = .ok (.iconst 0, 1) := by decide +kernel
theorem dX1_isName_116 : decode cX1_isName 116 = .ok (.ireturn, 1) := by decide +kernel
theorem dX1_compare_0 : decode cX1_compare 0 = .ok (.aload_n 0, 1) := by decide +kernel
theorem dX1_compare_1 : decode cX1_compare 1 = .ok (.iload_n 2, 1) := by decide +kernel
theorem dX1_compare_2 : decode cX1_compare 2 = .ok (.iload_n 3, 1) := by decide +kernel
theorem dX1_compare_3 : decode cX1_compare 3 = .ok (.invokevirtual 29, 3) := by decide +kernel
theorem dX1_compare_6 : decode cX1_compare 6 = .ok (.ifCond .eq 31, 3) := by decide +kernel
theorem dX1_compare_9 : decode cX1_compare 9 = .ok (.aload_n 0, 1) := by decide +kernel
theorem dX1_compare_10 : decode cX1_compare 10 = .ok (.iload_n 1, 1) := by decide +kernel
theorem dX1_compare_11 : decode cX1_compare 11 = .ok (.invokevirtual 25, 3) := by decide +kernel
theorem dX1_compare_14 : decode cX1_compare 14 = .ok (.ifCond .eq 23, 3) := by decide +kernel
theorem dX1_compare_17 : decode cX1_compare 17 = .ok (.aload_n 0, 1) := by decide +kernel
theorem dX1_compare_18 : decode cX1_compare 18 = .ok (.ldc2_w 41, 3) := by decide +kernel
theorem dX1_compare_21 : decode cX1_compare 21 = .ok (.aload_n 0, 1) := by decide +kernel
theorem dX1_compare_22 : decode cX1_compare 22 = .ok (.getfield 7, 3) := by decide +kernel
theorem dX1_compare_25 : decode cX1_compare 25 = .ok (.iload_n 1, 1) := by decide +kernel
theorem dX1_compare_26 : decode cX1_compare 26 = .ok (.iaload, 1) := by decide +kernel
theorem dX1_compare_27 : decode cX1_compare 27 = .ok (.i2l, 1) := by decide +kernel
theorem dX1_compare_28 : decode cX1_compare 28 = .ok (.lmul, 1) := by decide +kernel
theorem dX1_compare_29 : decode cX1_compare 29 = .ok (.iload_n 2, 1) := by decide +kernel
theorem dX1_compare_30 : decode cX1_compare 30 = .ok (.iload_n 3, 1) := by decide +kernel
theorem dX1_compare_31 : decode cX1_compare 31 = .ok (.invokevirtual 33, 3) := by decide +kernel
theorem dX1_compare_34 : decode cX1_compare 34 = .ok (.goto 4, 3) := by decide +kernel
theorem dX1_compare_37 : decode cX1_compare 37 = .ok (.iconst 2, 1) := by decide +kernel
theorem dX1_compare_38 : decode cX1_compare 38 = .ok (.ireturn, 1) := by decide +kernel
theorem dX1_digits_0 : decode cX1_digits 0 = .ok (.aload_n 0, 1) := by decide +kernel
theorem dX1_digits_1 : decode cX1_digits 1 = .ok (.iload_n 1, 1) := by decide +kernel
theorem dX1_digits_2 : decode cX1_digits 2 = .ok (.invokevirtual 25, 3) := by decide +kernel
theorem dX1_digits_5 : decode cX1_digits 5 = .ok (.ifCond .ne 5, 3) := by decide +kernel
theorem dX1_digits_8 : decode cX1_digits 8 = .ok (.iconst (-1), 1) := by decide +kernel
theorem dX1_digits_9 : decode cX1_digits 9 = .ok (.ireturn, 1) := by decide +kernel
theorem dX1_digits_10 : decode cX1_digits 10 = .ok (.aload_n 0, 1) := by decide +kernel
theorem dX1_digits_11 : decode cX1_digits 11 = .ok (.iload_n 1, 1) := by decide +kernel
theorem dX1_digits_12 : decode cX1_digits 12 = .ok (.invokevirtual 68, 3) := by decide +kernel
theorem dX1_digits_15 : decode cX1_digits 15 = .ok (.aload_n 0, 1) := by decide +kernel
theorem dX1_digits_16 : decode cX1_digits 16 = .ok (.getfield 57, 3) := by decide +kernel
theorem dX1_digits_19 : decode cX1_digits 19 = .ok (.ireturn, 1) := by decide +kernel
theorem dX1_findShort_0 : decode cX1_findShort 0 = .ok (.aload_n 0, 1) := by decide +kernel
theorem dX1_findShort_1 : decode cX1_findShort 1 = .ok (.iconst 0, 1) := by decide +kernel
theorem dX1_findShort_2 : decode cX1_findShort 2 = .ok (.putfield 57, 3) := by decide +kernel
theorem dX1_findShort_5 : decode cX1_findShort 5 = .ok (.aload_n 0, 1) := by decide +kernel
theorem dX1_findShort_6 : decode cX1_findShort 6 = .ok (.iconst 0, 1) := by decide +kernel
theorem dX1_findShort_7 : decode cX1_findShort 7 = .ok (.putfield 61, 3) := by decide +kernel
theorem dX1_findShort_10 : decode cX1_findShort 10 = .ok (.iconst 1, 1) := by decide +kernel
theorem dX1_findShort_11 : decode cX1_findShort 11 = .ok (.istore_n 2, 1) := by decide +kernel
theorem dX1_findShort_12 : decode cX1_findShort 12 = .ok (.iload_n 2, 1) := by decide +kernel
theorem dX1_findShort_13 : decode cX1_findShort 13 = .ok (.bipush 9, 2) := by decide +kernel
theorem dX1_findShort_15 : decode cX1_findShort 15 = .ok (.if_icmp .ge 42, 3) := by decide +kernel
theorem dX1_findShort_18 : decode cX1_findShort 18 = .ok (.aload_n 0, 1) := by decide +kernel
theorem dX1_findShort_19 : decode cX1_findShort 19 = .ok (.getfield 57, 3) := by decide +kernel
theorem dX1_findShort_22 : decode cX1_findShort 22 = .ok (.ifCond .ne 35, 3) := by decide +kernel
theorem dX1_findShort_25 : decode cX1_findShort 25 = .ok (.iload_n 1, 1) := by decide +kernel
theorem dX1_findShort_26 : decode cX1_findShort 26 = .ok (.ifCond .le 31, 3) := by decide +kernel
theorem dX1_findShort_29 : decode cX1_findShort 29 = .ok (.bipush (-12), 2) := by decide +kernel
theorem dX1_findShort_31 : decode cX1_findShort 31 = .ok (.istore_n 3, 1) := by decide +kernel
theorem dX1_findShort_32 : decode cX1_findShort 32 = .ok (.iload_n 3, 1) := by decide +kernel
theorem dX1_findShort_33 : decode cX1_findShort 33 = .ok (.bipush 7, 2) := by decide +kernel
theorem dX1_findShort_35 : decode cX1_findShort 35 = .ok (.if_icmp .ge 16, 3) := by decide +kernel
theorem dX1_findShort_38 : decode cX1_findShort 38 = .ok (.aload_n 0, 1) := by decide +kernel
theorem dX1_findShort_39 : decode cX1_findShort 39 = .ok (.iload_n 1, 1) := by decide +kernel
theorem dX1_findShort_40 : decode cX1_findShort 40 = .ok (.iload_n 2, 1) := by decide +kernel
theorem dX1_findShort_41 : decode cX1_findShort 41 = .ok (.iload_n 3, 1) := by decide +kernel
theorem dX1_findShort_42 : decode cX1_findShort 42 = .ok (.invokevirtual 64, 3) := by decide +kernel
theorem dX1_findShort_45 : decode cX1_findShort 45 = .ok (.iinc 3 1, 3) := by decide +kernel
theorem dX1_findShort_48 : decode cX1_findShort 48 = .ok (.goto (-16), 3) := by decide +kernel
theorem dX1_findShort_51 : decode cX1_findShort 51 = .ok (.iinc 2 1, 3) := by decide +kernel
theorem dX1_findShort_54 : decode cX1_findShort 54 = .ok (.goto (-42), 3) := by decide +kernel
theorem dX1_findShort_57 : decode cX1_findShort 57 = .ok (.return_, 1) := by decide +kernel
theorem dX1_tryNear_0 : decode cX1_tryNear 0 = .ok (.iload_n 3, 1) := by decide +kernel
theorem dX1_tryNear_1 : decode cX1_tryNear 1 = .ok (.ifCond .ge 24, 3) := by decide +kernel
theorem dX1_tryNear_4 : decode cX1_tryNear 4 = .ok (.aload_n 0, 1) := by decide +kernel
theorem dX1_tryNear_5 : decode cX1_tryNear 5 = .ok (.getfield 7, 3) := by decide +kernel
theorem dX1_tryNear_8 : decode cX1_tryNear 8 = .ok (.iload_n 1, 1) := by decide +kernel
end
section
set_option maxRecDepth 100000
theorem dX1_tryNear_9 : decode cX1_tryNear 9 = .ok (.iaload, 1) := by decide +kernel
theorem dX1_tryNear_10 : decode cX1_tryNear 10 = .ok (.i2l, 1) := by decide +kernel
theorem dX1_tryNear_11 : decode cX1_tryNear 11 = .ok (.aload_n 0, 1) := by decide +kernel
theorem dX1_tryNear_12 : decode cX1_tryNear 12 = .ok (.iload_n 3, 1) := by decide +kernel
theorem dX1_tryNear_13 : decode cX1_tryNear 13 = .ok (.ineg, 1) := by decide +kernel
theorem dX1_tryNear_14 : decode cX1_tryNear 14 = .ok (.invokevirtual 19, 3) := by decide +kernel
theorem dX1_tryNear_17 : decode cX1_tryNear 17 = .ok (.lmul, 1) := by decide +kernel
theorem dX1_tryNear_18 : decode cX1_tryNear 18 = .ok (.ldc2_w 43, 3) := by decide +kernel
theorem dX1_tryNear_21 : decode cX1_tryNear 21 = .ok (.ldiv, 1) := by decide +kernel
theorem dX1_tryNear_22 : decode cX1_tryNear 22 = .ok (.goto 20, 3) := by decide +kernel
theorem dX1_tryNear_25 : decode cX1_tryNear 25 = .ok (.aload_n 0, 1) := by decide +kernel
theorem dX1_tryNear_26 : decode cX1_tryNear 26 = .ok (.getfield 7, 3) := by decide +kernel
theorem dX1_tryNear_29 : decode cX1_tryNear 29 = .ok (.iload_n 1, 1) := by decide +kernel
theorem dX1_tryNear_30 : decode cX1_tryNear 30 = .ok (.iaload, 1) := by decide +kernel
theorem dX1_tryNear_31 : decode cX1_tryNear 31 = .ok (.i2l, 1) := by decide +kernel
theorem dX1_tryNear_32 : decode cX1_tryNear 32 = .ok (.ldc2_w 43, 3) := by decide +kernel
theorem dX1_tryNear_35 : decode cX1_tryNear 35 = .ok (.aload_n 0, 1) := by decide +kernel
theorem dX1_tryNear_36 : decode cX1_tryNear 36 = .ok (.iload_n 3, 1) := by decide +kernel
theorem dX1_tryNear_37 : decode cX1_tryNear 37 = .ok (.invokevirtual 19, 3) := by decide +kernel
theorem dX1_tryNear_40 : decode cX1_tryNear 40 = .ok (.lmul, 1) := by decide +kernel
theorem dX1_tryNear_41 : decode cX1_tryNear 41 = .ok (.ldiv, 1) := by decide +kernel
theorem dX1_tryNear_42 : decode cX1_tryNear 42 = .ok (.lstore 4, 2) := by decide +kernel
theorem dX1_tryNear_44 : decode cX1_tryNear 44 = .ok (.lload 4, 2) := by decide +kernel
theorem dX1_tryNear_46 : decode cX1_tryNear 46 = .ok (.ldc2_w 45, 3) := by decide +kernel
theorem dX1_tryNear_49 : decode cX1_tryNear 49 = .ok (.lcmp, 1) := by decide +kernel
theorem dX1_tryNear_50 : decode cX1_tryNear 50 = .ok (.ifCond .le 4, 3) := by decide +kernel
theorem dX1_tryNear_53 : decode cX1_tryNear 53 = .ok (.return_, 1) := by decide +kernel
theorem dX1_tryNear_54 : decode cX1_tryNear 54 = .ok (.lload 4, 2) := by decide +kernel
theorem dX1_tryNear_56 : decode cX1_tryNear 56 = .ok (.l2i, 1) := by decide +kernel
theorem dX1_tryNear_57 : decode cX1_tryNear 57 = .ok (.iconst 1, 1) := by decide +kernel
theorem dX1_tryNear_58 : decode cX1_tryNear 58 = .ok (.isub, 1) := by decide +kernel
theorem dX1_tryNear_59 : decode cX1_tryNear 59 = .ok (.istore 6, 2) := by decide +kernel
theorem dX1_tryNear_61 : decode cX1_tryNear 61 = .ok (.iload 6, 2) := by decide +kernel
theorem dX1_tryNear_63 : decode cX1_tryNear 63 = .ok (.i2l, 1) := by decide +kernel
theorem dX1_tryNear_64 : decode cX1_tryNear 64 = .ok (.lload 4, 2) := by decide +kernel
theorem dX1_tryNear_66 : decode cX1_tryNear 66 = .ok (.ldc2_w 47, 3) := by decide +kernel
theorem dX1_tryNear_69 : decode cX1_tryNear 69 = .ok (.ladd, 1) := by decide +kernel
theorem dX1_tryNear_70 : decode cX1_tryNear 70 = .ok (.lcmp, 1) := by decide +kernel
theorem dX1_tryNear_71 : decode cX1_tryNear 71 = .ok (.ifCond .ge 125, 3) := by decide +kernel
theorem dX1_tryNear_74 : decode cX1_tryNear 74 = .ok (.iload 6, 2) := by decide +kernel
theorem dX1_tryNear_76 : decode cX1_tryNear 76 = .ok (.ifCond .le 114, 3) := by decide +kernel
theorem dX1_tryNear_79 : decode cX1_tryNear 79 = .ok (.iload 6, 2) := by decide +kernel
theorem dX1_tryNear_81 : decode cX1_tryNear 81 = .ok (.ldc 16, 2) := by decide +kernel
theorem dX1_tryNear_83 : decode cX1_tryNear 83 = .ok (.if_icmp .gt 107, 3) := by decide +kernel
theorem dX1_tryNear_86 : decode cX1_tryNear 86 = .ok (.iload 6, 2) := by decide +kernel
theorem dX1_tryNear_88 : decode cX1_tryNear 88 = .ok (.bipush 10, 2) := by decide +kernel
theorem dX1_tryNear_90 : decode cX1_tryNear 90 = .ok (.irem, 1) := by decide +kernel
theorem dX1_tryNear_91 : decode cX1_tryNear 91 = .ok (.ifCond .eq 99, 3) := by decide +kernel
theorem dX1_tryNear_94 : decode cX1_tryNear 94 = .ok (.aload_n 0, 1) := by decide +kernel
theorem dX1_tryNear_95 : decode cX1_tryNear 95 = .ok (.iload 6, 2) := by decide +kernel
theorem dX1_tryNear_97 : decode cX1_tryNear 97 = .ok (.invokevirtual 49, 3) := by decide +kernel
theorem dX1_tryNear_100 : decode cX1_tryNear 100 = .ok (.iload_n 2, 1) := by decide +kernel
theorem dX1_tryNear_101 : decode cX1_tryNear 101 = .ok (.if_icmp .ne 89, 3) := by decide +kernel
theorem dX1_tryNear_104 : decode cX1_tryNear 104 = .ok (.aload_n 0, 1) := by decide +kernel
theorem dX1_tryNear_105 : decode cX1_tryNear 105 = .ok (.iload_n 1, 1) := by decide +kernel
theorem dX1_tryNear_106 : decode cX1_tryNear 106 = .ok (.iload 6, 2) := by decide +kernel
theorem dX1_tryNear_108 : decode cX1_tryNear 108 = .ok (.iload_n 3, 1) := by decide +kernel
theorem dX1_tryNear_109 : decode cX1_tryNear 109 = .ok (.invokevirtual 37, 3) := by decide +kernel
theorem dX1_tryNear_112 : decode cX1_tryNear 112 = .ok (.ifCond .eq 78, 3) := by decide +kernel
theorem dX1_tryNear_115 : decode cX1_tryNear 115 = .ok (.aload_n 0, 1) := by decide +kernel
theorem dX1_tryNear_116 : decode cX1_tryNear 116 = .ok (.iload_n 1, 1) := by decide +kernel
theorem dX1_tryNear_117 : decode cX1_tryNear 117 = .ok (.iload 6, 2) := by decide +kernel
theorem dX1_tryNear_119 : decode cX1_tryNear 119 = .ok (.iload_n 3, 1) := by decide +kernel
theorem dX1_tryNear_120 : decode cX1_tryNear 120 = .ok (.invokevirtual 53, 3) := by decide +kernel
theorem dX1_tryNear_123 : decode cX1_tryNear 123 = .ok (.lstore 7, 2) := by decide +kernel
theorem dX1_tryNear_125 : decode cX1_tryNear 125 = .ok (.aload_n 0, 1) := by decide +kernel
theorem dX1_tryNear_126 : decode cX1_tryNear 126 = .ok (.getfield 57, 3) := by decide +kernel
theorem dX1_tryNear_129 : decode cX1_tryNear 129 = .ok (.ifCond .ne 10, 3) := by decide +kernel
theorem dX1_tryNear_132 : decode cX1_tryNear 132 = .ok (.lload 7, 2) := by decide +kernel
theorem dX1_tryNear_134 : decode cX1_tryNear 134 = .ok (.lconst 1, 1) := by decide +kernel
theorem dX1_tryNear_135 : decode cX1_tryNear 135 = .ok (.ladd, 1) := by decide +kernel
theorem dX1_tryNear_136 : decode cX1_tryNear 136 = .ok (.goto 16, 3) := by decide +kernel
theorem dX1_tryNear_139 : decode cX1_tryNear 139 = .ok (.aload_n 0, 1) := by decide +kernel
theorem dX1_tryNear_140 : decode cX1_tryNear 140 = .ok (.iload_n 1, 1) := by decide +kernel
theorem dX1_tryNear_141 : decode cX1_tryNear 141 = .ok (.aload_n 0, 1) := by decide +kernel
theorem dX1_tryNear_142 : decode cX1_tryNear 142 = .ok (.getfield 57, 3) := by decide +kernel
theorem dX1_tryNear_145 : decode cX1_tryNear 145 = .ok (.aload_n 0, 1) := by decide +kernel
theorem dX1_tryNear_146 : decode cX1_tryNear 146 = .ok (.getfield 61, 3) := by decide +kernel
theorem dX1_tryNear_149 : decode cX1_tryNear 149 = .ok (.invokevirtual 53, 3) := by decide +kernel
theorem dX1_tryNear_152 : decode cX1_tryNear 152 = .ok (.lstore 9, 2) := by decide +kernel
theorem dX1_tryNear_154 : decode cX1_tryNear 154 = .ok (.lload 7, 2) := by decide +kernel
theorem dX1_tryNear_156 : decode cX1_tryNear 156 = .ok (.lload 9, 2) := by decide +kernel
theorem dX1_tryNear_158 : decode cX1_tryNear 158 = .ok (.lcmp, 1) := by decide +kernel
theorem dX1_tryNear_159 : decode cX1_tryNear 159 = .ok (.ifCond .lt 20, 3) := by decide +kernel
theorem dX1_tryNear_162 : decode cX1_tryNear 162 = .ok (.lload 7, 2) := by decide +kernel
theorem dX1_tryNear_164 : decode cX1_tryNear 164 = .ok (.lload 9, 2) := by decide +kernel
theorem dX1_tryNear_166 : decode cX1_tryNear 166 = .ok (.lcmp, 1) := by decide +kernel
theorem dX1_tryNear_167 : decode cX1_tryNear 167 = .ok (.ifCond .ne 23, 3) := by decide +kernel
theorem dX1_tryNear_170 : decode cX1_tryNear 170 = .ok (.iload 6, 2) := by decide +kernel
theorem dX1_tryNear_172 : decode cX1_tryNear 172 = .ok (.aload_n 0, 1) := by decide +kernel
theorem dX1_tryNear_173 : decode cX1_tryNear 173 = .ok (.getfield 57, 3) := by decide +kernel
theorem dX1_tryNear_176 : decode cX1_tryNear 176 = .ok (.if_icmp .ge 14, 3) := by decide +kernel
theorem dX1_tryNear_179 : decode cX1_tryNear 179 = .ok (.aload_n 0, 1) := by decide +kernel
theorem dX1_tryNear_180 : decode cX1_tryNear 180 = .ok (.iload 6, 2) := by decide +kernel
theorem dX1_tryNear_182 : decode cX1_tryNear 182 = .ok (.putfield 57, 3) := by decide +kernel
theorem dX1_tryNear_185 : decode cX1_tryNear 185 = .ok (.aload_n 0, 1) := by decide +kernel
theorem dX1_tryNear_186 : decode cX1_tryNear 186 = .ok (.iload_n 3, 1) := by decide +kernel
theorem dX1_tryNear_187 : decode cX1_tryNear 187 = .ok (.putfield 61, 3) := by decide +kernel
theorem dX1_tryNear_190 : decode cX1_tryNear 190 = .ok (.iinc 6 1, 3) := by decide +kernel
theorem dX1_tryNear_193 : decode cX1_tryNear 193 = .ok (.goto (-132), 3) := by decide +kernel
theorem dX1_tryNear_196 : decode cX1_tryNear 196 = .ok (.return_, 1) := by decide +kernel
theorem dX1_digitsOf_0 : decode cX1_digitsOf 0 = .ok (.iconst 1, 1) := by decide +kernel
theorem dX1_digitsOf_1 : decode cX1_digitsOf 1 = .ok (.istore_n 2, 1) := by decide +kernel
theorem dX1_digitsOf_2 : decode cX1_digitsOf 2 = .ok (.iload_n 1, 1) := by decide +kernel
theorem dX1_digitsOf_3 : decode cX1_digitsOf 3 = .ok (.bipush 10, 2) := by decide +kernel
theorem dX1_digitsOf_5 : decode cX1_digitsOf 5 = .ok (.idiv, 1) := by decide +kernel
theorem dX1_digitsOf_6 : decode cX1_digitsOf 6 = .ok (.istore_n 3, 1) := by decide +kernel
theorem dX1_digitsOf_7 : decode cX1_digitsOf 7 = .ok (.iload_n 3, 1) := by decide +kernel
theorem dX1_digitsOf_8 : decode cX1_digitsOf 8 = .ok (.ifCond .le 14, 3) := by decide +kernel
theorem dX1_digitsOf_11 : decode cX1_digitsOf 11 = .ok (.iinc 2 1, 3) := by decide +kernel
theorem dX1_digitsOf_14 : decode cX1_digitsOf 14 = .ok (.iload_n 3, 1) := by decide +kernel
theorem dX1_digitsOf_15 : decode cX1_digitsOf 15 = .ok (.bipush 10, 2) := by decide +kernel
theorem dX1_digitsOf_17 : decode cX1_digitsOf 17 = .ok (.idiv, 1) := by decide +kernel
theorem dX1_digitsOf_18 : decode cX1_digitsOf 18 = .ok (.istore_n 3, 1) := by decide +kernel
theorem dX1_digitsOf_19 : decode cX1_digitsOf 19 = .ok (.goto (-12), 3) := by decide +kernel
theorem dX1_digitsOf_22 : decode cX1_digitsOf 22 = .ok (.iload_n 2, 1) := by decide +kernel
theorem dX1_digitsOf_23 : decode cX1_digitsOf 23 = .ok (.ireturn, 1) := by decide +kernel
theorem dX1_gap_0 : decode cX1_gap 0 = .ok (.ldc2_w 43, 3) := by decide +kernel
theorem dX1_gap_3 : decode cX1_gap 3 = .ok (.iload_n 2, 1) := by decide +kernel
theorem dX1_gap_4 : decode cX1_gap 4 = .ok (.i2l, 1) := by decide +kernel
theorem dX1_gap_5 : decode cX1_gap 5 = .ok (.lmul, 1) := by decide +kernel
theorem dX1_gap_6 : decode cX1_gap 6 = .ok (.aload_n 0, 1) := by decide +kernel
theorem dX1_gap_7 : decode cX1_gap 7 = .ok (.iload_n 3, 1) := by decide +kernel
theorem dX1_gap_8 : decode cX1_gap 8 = .ok (.bipush 12, 2) := by decide +kernel
theorem dX1_gap_10 : decode cX1_gap 10 = .ok (.iadd, 1) := by decide +kernel
theorem dX1_gap_11 : decode cX1_gap 11 = .ok (.invokevirtual 19, 3) := by decide +kernel
theorem dX1_gap_14 : decode cX1_gap 14 = .ok (.lmul, 1) := by decide +kernel
theorem dX1_gap_15 : decode cX1_gap 15 = .ok (.aload_n 0, 1) := by decide +kernel
theorem dX1_gap_16 : decode cX1_gap 16 = .ok (.getfield 7, 3) := by decide +kernel
theorem dX1_gap_19 : decode cX1_gap 19 = .ok (.iload_n 1, 1) := by decide +kernel
theorem dX1_gap_20 : decode cX1_gap 20 = .ok (.iaload, 1) := by decide +kernel
theorem dX1_gap_21 : decode cX1_gap 21 = .ok (.i2l, 1) := by decide +kernel
theorem dX1_gap_22 : decode cX1_gap 22 = .ok (.aload_n 0, 1) := by decide +kernel
theorem dX1_gap_23 : decode cX1_gap 23 = .ok (.bipush 12, 2) := by decide +kernel
theorem dX1_gap_25 : decode cX1_gap 25 = .ok (.invokevirtual 19, 3) := by decide +kernel
theorem dX1_gap_28 : decode cX1_gap 28 = .ok (.lmul, 1) := by decide +kernel
theorem dX1_gap_29 : decode cX1_gap 29 = .ok (.lsub, 1) := by decide +kernel
theorem dX1_gap_30 : decode cX1_gap 30 = .ok (.lstore 4, 2) := by decide +kernel
theorem dX1_gap_32 : decode cX1_gap 32 = .ok (.lload 4, 2) := by decide +kernel
theorem dX1_gap_34 : decode cX1_gap 34 = .ok (.lconst 0, 1) := by decide +kernel
theorem dX1_gap_35 : decode cX1_gap 35 = .ok (.lcmp, 1) := by decide +kernel
theorem dX1_gap_36 : decode cX1_gap 36 = .ok (.ifCond .ge 9, 3) := by decide +kernel
theorem dX1_gap_39 : decode cX1_gap 39 = .ok (.lload 4, 2) := by decide +kernel
theorem dX1_gap_41 : decode cX1_gap 41 = .ok (.lneg, 1) := by decide +kernel
theorem dX1_gap_42 : decode cX1_gap 42 = .ok (.goto 5, 3) := by decide +kernel
theorem dX1_gap_45 : decode cX1_gap 45 = .ok (.lload 4, 2) := by decide +kernel
theorem dX1_gap_47 : decode cX1_gap 47 = .ok (.lreturn, 1) := by decide +kernel
theorem dX1_scale_0 : decode cX1_scale 0 = .ok (.aload_n 0, 1) := by decide +kernel
theorem dX1_scale_1 : decode cX1_scale 1 = .ok (.iload_n 1, 1) := by decide +kernel
theorem dX1_scale_2 : decode cX1_scale 2 = .ok (.invokevirtual 25, 3) := by decide +kernel
theorem dX1_scale_5 : decode cX1_scale 5 = .ok (.ifCond .ne 6, 3) := by decide +kernel
theorem dX1_scale_8 : decode cX1_scale 8 = .ok (.bipush (-100), 2) := by decide +kernel
theorem dX1_scale_10 : decode cX1_scale 10 = .ok (.ireturn, 1) := by decide +kernel
theorem dX1_scale_11 : decode cX1_scale 11 = .ok (.aload_n 0, 1) := by decide +kernel
theorem dX1_scale_12 : decode cX1_scale 12 = .ok (.iload_n 1, 1) := by decide +kernel
theorem dX1_scale_13 : decode cX1_scale 13 = .ok (.invokevirtual 68, 3) := by decide +kernel
theorem dX1_scale_16 : decode cX1_scale 16 = .ok (.aload_n 0, 1) := by decide +kernel
theorem dX1_scale_17 : decode cX1_scale 17 = .ok (.getfield 61, 3) := by decide +kernel
theorem dX1_scale_20 : decode cX1_scale 20 = .ok (.ireturn, 1) := by decide +kernel
theorem dX1_length_0 : decode cX1_length 0 = .ok (.aload_n 0, 1) := by decide +kernel
theorem dX1_length_1 : decode cX1_length 1 = .ok (.iload_n 1, 1) := by decide +kernel
theorem dX1_length_2 : decode cX1_length 2 = .ok (.invokevirtual 25, 3) := by decide +kernel
theorem dX1_length_5 : decode cX1_length 5 = .ok (.ifCond .ne 5, 3) := by decide +kernel
theorem dX1_length_8 : decode cX1_length 8 = .ok (.iconst (-1), 1) := by decide +kernel
theorem dX1_length_9 : decode cX1_length 9 = .ok (.ireturn, 1) := by decide +kernel
theorem dX1_length_10 : decode cX1_length 10 = .ok (.aload_n 0, 1) := by decide +kernel
theorem dX1_length_11 : decode cX1_length 11 = .ok (.iload_n 1, 1) := by decide +kernel
theorem dX1_length_12 : decode cX1_length 12 = .ok (.invokevirtual 68, 3) := by decide +kernel
theorem dX1_length_15 : decode cX1_length 15 = .ok (.aload_n 0, 1) := by decide +kernel
theorem dX1_length_16 : decode cX1_length 16 = .ok (.aload_n 0, 1) := by decide +kernel
theorem dX1_length_17 : decode cX1_length 17 = .ok (.getfield 57, 3) := by decide +kernel
theorem dX1_length_20 : decode cX1_length 20 = .ok (.invokevirtual 49, 3) := by decide +kernel
theorem dX1_length_23 : decode cX1_length 23 = .ok (.ireturn, 1) := by decide +kernel
theorem dX1_written_0 : decode cX1_written 0 = .ok (.aload_n 0, 1) := by decide +kernel
theorem dX1_written_1 : decode cX1_written 1 = .ok (.iload_n 1, 1) := by decide +kernel
theorem dX1_written_2 : decode cX1_written 2 = .ok (.invokevirtual 25, 3) := by decide +kernel
theorem dX1_written_5 : decode cX1_written 5 = .ok (.ifCond .eq 21, 3) := by decide +kernel
theorem dX1_written_8 : decode cX1_written 8 = .ok (.iload_n 2, 1) := by decide +kernel
theorem dX1_written_9 : decode cX1_written 9 = .ok (.ifCond .lt 17, 3) := by decide +kernel
theorem dX1_written_12 : decode cX1_written 12 = .ok (.iload_n 2, 1) := by decide +kernel
theorem dX1_written_13 : decode cX1_written 13 = .ok (.iconst 5, 1) := by decide +kernel
theorem dX1_written_14 : decode cX1_written 14 = .ok (.if_icmp .gt 12, 3) := by decide +kernel
theorem dX1_written_17 : decode cX1_written 17 = .ok (.aload_n 0, 1) := by decide +kernel
theorem dX1_written_18 : decode cX1_written 18 = .ok (.iload_n 1, 1) := by decide +kernel
theorem dX1_written_19 : decode cX1_written 19 = .ok (.iload_n 2, 1) := by decide +kernel
theorem dX1_written_20 : decode cX1_written 20 = .ok (.invokevirtual 74, 3) := by decide +kernel
theorem dX1_written_23 : decode cX1_written 23 = .ok (.goto 4, 3) := by decide +kernel
theorem dX1_written_26 : decode cX1_written 26 = .ok (.iconst (-1), 1) := by decide +kernel
theorem dX1_written_27 : decode cX1_written 27 = .ok (.ireturn, 1) := by decide +kernel
theorem dX1_write_0 : decode cX1_write 0 = .ok (.aload_n 0, 1) := by decide +kernel
theorem dX1_write_1 : decode cX1_write 1 = .ok (.getfield 7, 3) := by decide +kernel
theorem dX1_write_4 : decode cX1_write 4 = .ok (.iload_n 1, 1) := by decide +kernel
theorem dX1_write_5 : decode cX1_write 5 = .ok (.iaload, 1) := by decide +kernel
theorem dX1_write_6 : decode cX1_write 6 = .ok (.i2l, 1) := by decide +kernel
theorem dX1_write_7 : decode cX1_write 7 = .ok (.aload_n 0, 1) := by decide +kernel
theorem dX1_write_8 : decode cX1_write 8 = .ok (.iload_n 2, 1) := by decide +kernel
theorem dX1_write_9 : decode cX1_write 9 = .ok (.invokevirtual 19, 3) := by decide +kernel
theorem dX1_write_12 : decode cX1_write 12 = .ok (.lmul, 1) := by decide +kernel
theorem dX1_write_13 : decode cX1_write 13 = .ok (.lstore_n 3, 1) := by decide +kernel
theorem dX1_write_14 : decode cX1_write 14 = .ok (.lload_n 3, 1) := by decide +kernel
theorem dX1_write_15 : decode cX1_write 15 = .ok (.ldc2_w 43, 3) := by decide +kernel
theorem dX1_write_18 : decode cX1_write 18 = .ok (.ldiv, 1) := by decide +kernel
theorem dX1_write_19 : decode cX1_write 19 = .ok (.lstore 5, 2) := by decide +kernel
theorem dX1_write_21 : decode cX1_write 21 = .ok (.lload_n 3, 1) := by decide +kernel
theorem dX1_write_22 : decode cX1_write 22 = .ok (.ldc2_w 43, 3) := by decide +kernel
theorem dX1_write_25 : decode cX1_write 25 = .ok (.lrem, 1) := by decide +kernel
theorem dX1_write_26 : decode cX1_write 26 = .ok (.lstore 7, 2) := by decide +kernel
theorem dX1_write_28 : decode cX1_write 28 = .ok (.lload 7, 2) := by decide +kernel
theorem dX1_write_30 : decode cX1_write 30 = .ok (.ldc2_w 72, 3) := by decide +kernel
theorem dX1_write_33 : decode cX1_write 33 = .ok (.lcmp, 1) := by decide +kernel
theorem dX1_write_34 : decode cX1_write 34 = .ok (.ifCond .gt 23, 3) := by decide +kernel
theorem dX1_write_37 : decode cX1_write 37 = .ok (.lload 7, 2) := by decide +kernel
theorem dX1_write_39 : decode cX1_write 39 = .ok (.ldc2_w 72, 3) := by decide +kernel
theorem dX1_write_42 : decode cX1_write 42 = .ok (.lcmp, 1) := by decide +kernel
theorem dX1_write_43 : decode cX1_write 43 = .ok (.ifCond .ne 18, 3) := by decide +kernel
theorem dX1_write_46 : decode cX1_write 46 = .ok (.lload 5, 2) := by decide +kernel
theorem dX1_write_48 : decode cX1_write 48 = .ok (.ldc2_w 41, 3) := by decide +kernel
theorem dX1_write_51 : decode cX1_write 51 = .ok (.lrem, 1) := by decide +kernel
theorem dX1_write_52 : decode cX1_write 52 = .ok (.lconst 1, 1) := by decide +kernel
theorem dX1_write_53 : decode cX1_write 53 = .ok (.lcmp, 1) := by decide +kernel
theorem dX1_write_54 : decode cX1_write 54 = .ok (.ifCond .ne 7, 3) := by decide +kernel
theorem dX1_write_57 : decode cX1_write 57 = .ok (.iconst 1, 1) := by decide +kernel
theorem dX1_write_58 : decode cX1_write 58 = .ok (.goto 4, 3) := by decide +kernel
theorem dX1_write_61 : decode cX1_write 61 = .ok (.iconst 0, 1) := by decide +kernel
theorem dX1_write_62 : decode cX1_write 62 = .ok (.istore 9, 2) := by decide +kernel
theorem dX1_write_64 : decode cX1_write 64 = .ok (.iload 9, 2) := by decide +kernel
theorem dX1_write_66 : decode cX1_write 66 = .ok (.ifCond .eq 10, 3) := by decide +kernel
theorem dX1_write_69 : decode cX1_write 69 = .ok (.lload 5, 2) := by decide +kernel
theorem dX1_write_71 : decode cX1_write 71 = .ok (.lconst 1, 1) := by decide +kernel
theorem dX1_write_72 : decode cX1_write 72 = .ok (.ladd, 1) := by decide +kernel
theorem dX1_write_73 : decode cX1_write 73 = .ok (.goto 5, 3) := by decide +kernel
theorem dX1_write_76 : decode cX1_write 76 = .ok (.lload 5, 2) := by decide +kernel
theorem dX1_write_78 : decode cX1_write 78 = .ok (.l2i, 1) := by decide +kernel
theorem dX1_write_79 : decode cX1_write 79 = .ok (.ireturn, 1) := by decide +kernel
theorem dX1_places_0 : decode cX1_places 0 = .ok (.aload_n 0, 1) := by decide +kernel
theorem dX1_places_1 : decode cX1_places 1 = .ok (.iload_n 1, 1) := by decide +kernel
theorem dX1_places_2 : decode cX1_places 2 = .ok (.invokevirtual 25, 3) := by decide +kernel
theorem dX1_places_5 : decode cX1_places 5 = .ok (.ifCond .ne 5, 3) := by decide +kernel
theorem dX1_places_8 : decode cX1_places 8 = .ok (.iconst (-1), 1) := by decide +kernel
theorem dX1_places_9 : decode cX1_places 9 = .ok (.ireturn, 1) := by decide +kernel
theorem dX1_places_10 : decode cX1_places 10 = .ok (.iconst 0, 1) := by decide +kernel
theorem dX1_places_11 : decode cX1_places 11 = .ok (.istore_n 2, 1) := by decide +kernel
theorem dX1_places_12 : decode cX1_places 12 = .ok (.iload_n 2, 1) := by decide +kernel
theorem dX1_places_13 : decode cX1_places 13 = .ok (.iconst 5, 1) := by decide +kernel
theorem dX1_places_14 : decode cX1_places 14 = .ok (.if_icmp .ge 35, 3) := by decide +kernel
theorem dX1_places_17 : decode cX1_places 17 = .ok (.aload_n 0, 1) := by decide +kernel
theorem dX1_places_18 : decode cX1_places 18 = .ok (.iload_n 1, 1) := by decide +kernel
theorem dX1_places_19 : decode cX1_places 19 = .ok (.iload_n 2, 1) := by decide +kernel
theorem dX1_places_20 : decode cX1_places 20 = .ok (.invokevirtual 74, 3) := by decide +kernel
theorem dX1_places_23 : decode cX1_places 23 = .ok (.istore_n 3, 1) := by decide +kernel
theorem dX1_places_24 : decode cX1_places 24 = .ok (.iload_n 3, 1) := by decide +kernel
theorem dX1_places_25 : decode cX1_places 25 = .ok (.ldc 16, 2) := by decide +kernel
theorem dX1_places_27 : decode cX1_places 27 = .ok (.if_icmp .gt 16, 3) := by decide +kernel
theorem dX1_places_30 : decode cX1_places 30 = .ok (.aload_n 0, 1) := by decide +kernel
theorem dX1_places_31 : decode cX1_places 31 = .ok (.iload_n 1, 1) := by decide +kernel
theorem dX1_places_32 : decode cX1_places 32 = .ok (.iload_n 3, 1) := by decide +kernel
theorem dX1_places_33 : decode cX1_places 33 = .ok (.iload_n 2, 1) := by decide +kernel
theorem dX1_places_34 : decode cX1_places 34 = .ok (.ineg, 1) := by decide +kernel
theorem dX1_places_35 : decode cX1_places 35 = .ok (.invokevirtual 37, 3) := by decide +kernel
theorem dX1_places_38 : decode cX1_places 38 = .ok (.ifCond .eq 5, 3) := by decide +kernel
theorem dX1_places_41 : decode cX1_places 41 = .ok (.iload_n 2, 1) := by decide +kernel
theorem dX1_places_42 : decode cX1_places 42 = .ok (.ireturn, 1) := by decide +kernel
theorem dX1_places_43 : decode cX1_places 43 = .ok (.iinc 2 1, 3) := by decide +kernel
theorem dX1_places_46 : decode cX1_places 46 = .ok (.goto (-34), 3) := by decide +kernel
theorem dX1_places_49 : decode cX1_places 49 = .ok (.iconst 5, 1) := by decide +kernel
theorem dX1_places_50 : decode cX1_places 50 = .ok (.ireturn, 1) := by decide +kernel
theorem dX1_type_0 : decode cX1_type 0 = .ok (.iload_n 1, 1) := by decide +kernel
theorem dX1_type_1 : decode cX1_type 1 = .ok (.ifCond .lt 9, 3) := by decide +kernel
theorem dX1_type_4 : decode cX1_type 4 = .ok (.iload_n 1, 1) := by decide +kernel
theorem dX1_type_5 : decode cX1_type 5 = .ok (.bipush 10, 2) := by decide +kernel
theorem dX1_type_7 : decode cX1_type 7 = .ok (.if_icmp .le 5, 3) := by decide +kernel
theorem dX1_type_10 : decode cX1_type 10 = .ok (.iconst (-1), 1) := by decide +kernel
theorem dX1_type_11 : decode cX1_type 11 = .ok (.ireturn, 1) := by decide +kernel
theorem dX1_type_12 : decode cX1_type 12 = .ok (.aload_n 0, 1) := by decide +kernel
theorem dX1_type_13 : decode cX1_type 13 = .ok (.iconst 0, 1) := by decide +kernel
theorem dX1_type_14 : decode cX1_type 14 = .ok (.invokevirtual 81, 3) := by decide +kernel
theorem dX1_type_17 : decode cX1_type 17 = .ok (.istore_n 2, 1) := by decide +kernel
theorem dX1_type_18 : decode cX1_type 18 = .ok (.iload_n 1, 1) := by decide +kernel
theorem dX1_type_19 : decode cX1_type 19 = .ok (.bipush 10, 2) := by decide +kernel
theorem dX1_type_21 : decode cX1_type 21 = .ok (.if_icmp .ne 14, 3) := by decide +kernel
theorem dX1_type_24 : decode cX1_type 24 = .ok (.aload_n 0, 1) := by decide +kernel
theorem dX1_type_25 : decode cX1_type 25 = .ok (.getfield 78, 3) := by decide +kernel
theorem dX1_type_28 : decode cX1_type 28 = .ok (.iload_n 2, 1) := by decide +kernel
theorem dX1_type_29 : decode cX1_type 29 = .ok (.if_icmp .le 15, 3) := by decide +kernel
theorem dX1_type_32 : decode cX1_type 32 = .ok (.goto 9, 3) := by decide +kernel
theorem dX1_type_35 : decode cX1_type 35 = .ok (.iload_n 2, 1) := by decide +kernel
theorem dX1_type_36 : decode cX1_type 36 = .ok (.bipush 8, 2) := by decide +kernel
theorem dX1_type_38 : decode cX1_type 38 = .ok (.if_icmp .ne 6, 3) := by decide +kernel
theorem dX1_type_41 : decode cX1_type 41 = .ok (.bipush (-2), 2) := by decide +kernel
theorem dX1_type_43 : decode cX1_type 43 = .ok (.ireturn, 1) := by decide +kernel
theorem dX1_type_44 : decode cX1_type 44 = .ok (.aload_n 0, 1) := by decide +kernel
theorem dX1_type_45 : decode cX1_type 45 = .ok (.getfield 13, 3) := by decide +kernel
theorem dX1_type_48 : decode cX1_type 48 = .ok (.aload_n 0, 1) := by decide +kernel
theorem dX1_type_49 : decode cX1_type 49 = .ok (.getfield 78, 3) := by decide +kernel
theorem dX1_type_52 : decode cX1_type 52 = .ok (.iload_n 1, 1) := by decide +kernel
theorem dX1_type_53 : decode cX1_type 53 = .ok (.iastore, 1) := by decide +kernel
theorem dX1_type_54 : decode cX1_type 54 = .ok (.aload_n 0, 1) := by decide +kernel
theorem dX1_type_55 : decode cX1_type 55 = .ok (.dup, 1) := by decide +kernel
theorem dX1_type_56 : decode cX1_type 56 = .ok (.getfield 78, 3) := by decide +kernel
theorem dX1_type_59 : decode cX1_type 59 = .ok (.iconst 1, 1) := by decide +kernel
theorem dX1_type_60 : decode cX1_type 60 = .ok (.iadd, 1) := by decide +kernel
theorem dX1_type_61 : decode cX1_type 61 = .ok (.putfield 78, 3) := by decide +kernel
theorem dX1_type_64 : decode cX1_type 64 = .ok (.aload_n 0, 1) := by decide +kernel
theorem dX1_type_65 : decode cX1_type 65 = .ok (.iconst 0, 1) := by decide +kernel
theorem dX1_type_66 : decode cX1_type 66 = .ok (.invokevirtual 81, 3) := by decide +kernel
theorem dX1_type_69 : decode cX1_type 69 = .ok (.ireturn, 1) := by decide +kernel
theorem dX1_countDigits_0 : decode cX1_countDigits 0 = .ok (.iconst 0, 1) := by decide +kernel
theorem dX1_countDigits_1 : decode cX1_countDigits 1 = .ok (.istore_n 2, 1) := by decide +kernel
theorem dX1_countDigits_2 : decode cX1_countDigits 2 = .ok (.iconst 0, 1) := by decide +kernel
theorem dX1_countDigits_3 : decode cX1_countDigits 3 = .ok (.istore_n 3, 1) := by decide +kernel
theorem dX1_countDigits_4 : decode cX1_countDigits 4 = .ok (.iconst 0, 1) := by decide +kernel
theorem dX1_countDigits_5 : decode cX1_countDigits 5 = .ok (.istore 4, 2) := by decide +kernel
theorem dX1_countDigits_7 : decode cX1_countDigits 7 = .ok (.iload 4, 2) := by decide +kernel
theorem dX1_countDigits_9 : decode cX1_countDigits 9 = .ok (.aload_n 0, 1) := by decide +kernel
theorem dX1_countDigits_10 : decode cX1_countDigits 10 = .ok (.getfield 78, 3) := by decide +kernel
theorem dX1_countDigits_13 : decode cX1_countDigits 13 = .ok (.if_icmp .ge 59, 3) := by decide +kernel
theorem dX1_countDigits_16 : decode cX1_countDigits 16 = .ok (.iload_n 3, 1) := by decide +kernel
theorem dX1_countDigits_17 : decode cX1_countDigits 17 = .ok (.ifCond .ne 15, 3) := by decide +kernel
theorem dX1_countDigits_20 : decode cX1_countDigits 20 = .ok (.aload_n 0, 1) := by decide +kernel
theorem dX1_countDigits_21 : decode cX1_countDigits 21 = .ok (.getfield 13, 3) := by decide +kernel
theorem dX1_countDigits_24 : decode cX1_countDigits 24 = .ok (.iload 4, 2) := by decide +kernel
theorem dX1_countDigits_26 : decode cX1_countDigits 26 = .ok (.iaload, 1) := by decide +kernel
theorem dX1_countDigits_27 : decode cX1_countDigits 27 = .ok (.bipush 10, 2) := by decide +kernel
theorem dX1_countDigits_29 : decode cX1_countDigits 29 = .ok (.if_icmp .ne 7, 3) := by decide +kernel
theorem dX1_countDigits_32 : decode cX1_countDigits 32 = .ok (.iconst 1, 1) := by decide +kernel
theorem dX1_countDigits_33 : decode cX1_countDigits 33 = .ok (.goto 4, 3) := by decide +kernel
theorem dX1_countDigits_36 : decode cX1_countDigits 36 = .ok (.iconst 0, 1) := by decide +kernel
theorem dX1_countDigits_37 : decode cX1_countDigits 37 = .ok (.istore_n 3, 1) := by decide +kernel
theorem dX1_countDigits_38 : decode cX1_countDigits 38 = .ok (.aload_n 0, 1) := by decide +kernel
theorem dX1_countDigits_39 : decode cX1_countDigits 39 = .ok (.getfield 13, 3) := by decide +kernel
end
section
set_option maxRecDepth 100000
theorem dX1_countDigits_42 : decode cX1_countDigits 42 = .ok (.iload 4, 2) := by decide +kernel
theorem dX1_countDigits_44 : decode cX1_countDigits 44 = .ok (.iaload, 1) := by decide +kernel
theorem dX1_countDigits_45 : decode cX1_countDigits 45 = .ok (.bipush 10, 2) := by decide +kernel
theorem dX1_countDigits_47 : decode cX1_countDigits 47 = .ok (.if_icmp .eq 17, 3) := by decide +kernel
theorem dX1_countDigits_50 : decode cX1_countDigits 50 = .ok (.iload_n 3, 1) := by decide +kernel
theorem dX1_countDigits_51 : decode cX1_countDigits 51 = .ok (.ifCond .ne 7, 3) := by decide +kernel
theorem dX1_countDigits_54 : decode cX1_countDigits 54 = .ok (.iload_n 1, 1) := by decide +kernel
theorem dX1_countDigits_55 : decode cX1_countDigits 55 = .ok (.ifCond .ne 9, 3) := by decide +kernel
theorem dX1_countDigits_58 : decode cX1_countDigits 58 = .ok (.iload_n 2, 1) := by decide +kernel
theorem dX1_countDigits_59 : decode cX1_countDigits 59 = .ok (.iconst 1, 1) := by decide +kernel
theorem dX1_countDigits_60 : decode cX1_countDigits 60 = .ok (.iadd, 1) := by decide +kernel
theorem dX1_countDigits_61 : decode cX1_countDigits 61 = .ok (.goto 4, 3) := by decide +kernel
theorem dX1_countDigits_64 : decode cX1_countDigits 64 = .ok (.iload_n 2, 1) := by decide +kernel
theorem dX1_countDigits_65 : decode cX1_countDigits 65 = .ok (.istore_n 2, 1) := by decide +kernel
theorem dX1_countDigits_66 : decode cX1_countDigits 66 = .ok (.iinc 4 1, 3) := by decide +kernel
theorem dX1_countDigits_69 : decode cX1_countDigits 69 = .ok (.goto (-62), 3) := by decide +kernel
theorem dX1_countDigits_72 : decode cX1_countDigits 72 = .ok (.iload_n 2, 1) := by decide +kernel
theorem dX1_countDigits_73 : decode cX1_countDigits 73 = .ok (.ireturn, 1) := by decide +kernel
theorem dX1_back_0 : decode cX1_back 0 = .ok (.aload_n 0, 1) := by decide +kernel
theorem dX1_back_1 : decode cX1_back 1 = .ok (.getfield 78, 3) := by decide +kernel
theorem dX1_back_4 : decode cX1_back 4 = .ok (.ifCond .ne 6, 3) := by decide +kernel
theorem dX1_back_7 : decode cX1_back 7 = .ok (.bipush (-4), 2) := by decide +kernel
theorem dX1_back_9 : decode cX1_back 9 = .ok (.ireturn, 1) := by decide +kernel
theorem dX1_back_10 : decode cX1_back 10 = .ok (.aload_n 0, 1) := by decide +kernel
theorem dX1_back_11 : decode cX1_back 11 = .ok (.dup, 1) := by decide +kernel
theorem dX1_back_12 : decode cX1_back 12 = .ok (.getfield 78, 3) := by decide +kernel
theorem dX1_back_15 : decode cX1_back 15 = .ok (.iconst 1, 1) := by decide +kernel
theorem dX1_back_16 : decode cX1_back 16 = .ok (.isub, 1) := by decide +kernel
theorem dX1_back_17 : decode cX1_back 17 = .ok (.putfield 78, 3) := by decide +kernel
theorem dX1_back_20 : decode cX1_back 20 = .ok (.aload_n 0, 1) := by decide +kernel
theorem dX1_back_21 : decode cX1_back 21 = .ok (.getfield 13, 3) := by decide +kernel
theorem dX1_back_24 : decode cX1_back 24 = .ok (.aload_n 0, 1) := by decide +kernel
theorem dX1_back_25 : decode cX1_back 25 = .ok (.getfield 78, 3) := by decide +kernel
theorem dX1_back_28 : decode cX1_back 28 = .ok (.iaload, 1) := by decide +kernel
theorem dX1_back_29 : decode cX1_back 29 = .ok (.ireturn, 1) := by decide +kernel
theorem dX1_clear_0 : decode cX1_clear 0 = .ok (.aload_n 0, 1) := by decide +kernel
theorem dX1_clear_1 : decode cX1_clear 1 = .ok (.iconst 0, 1) := by decide +kernel
theorem dX1_clear_2 : decode cX1_clear 2 = .ok (.putfield 78, 3) := by decide +kernel
theorem dX1_clear_5 : decode cX1_clear 5 = .ok (.return_, 1) := by decide +kernel
theorem dX1_typed_0 : decode cX1_typed 0 = .ok (.aload_n 0, 1) := by decide +kernel
theorem dX1_typed_1 : decode cX1_typed 1 = .ok (.invokevirtual 85, 3) := by decide +kernel
theorem dX1_typed_4 : decode cX1_typed 4 = .ok (.istore_n 1, 1) := by decide +kernel
theorem dX1_typed_5 : decode cX1_typed 5 = .ok (.aload_n 0, 1) := by decide +kernel
theorem dX1_typed_6 : decode cX1_typed 6 = .ok (.iload_n 1, 1) := by decide +kernel
theorem dX1_typed_7 : decode cX1_typed 7 = .ok (.aload_n 0, 1) := by decide +kernel
theorem dX1_typed_8 : decode cX1_typed 8 = .ok (.iconst 1, 1) := by decide +kernel
theorem dX1_typed_9 : decode cX1_typed 9 = .ok (.invokevirtual 81, 3) := by decide +kernel
theorem dX1_typed_12 : decode cX1_typed 12 = .ok (.ineg, 1) := by decide +kernel
theorem dX1_typed_13 : decode cX1_typed 13 = .ok (.invokevirtual 89, 3) := by decide +kernel
theorem dX1_typed_16 : decode cX1_typed 16 = .ok (.ireturn, 1) := by decide +kernel
theorem dX1_typedDigits_0 : decode cX1_typedDigits 0 = .ok (.iconst 0, 1) := by decide +kernel
theorem dX1_typedDigits_1 : decode cX1_typedDigits 1 = .ok (.istore_n 1, 1) := by decide +kernel
theorem dX1_typedDigits_2 : decode cX1_typedDigits 2 = .ok (.iconst 0, 1) := by decide +kernel
theorem dX1_typedDigits_3 : decode cX1_typedDigits 3 = .ok (.istore_n 2, 1) := by decide +kernel
theorem dX1_typedDigits_4 : decode cX1_typedDigits 4 = .ok (.iload_n 2, 1) := by decide +kernel
theorem dX1_typedDigits_5 : decode cX1_typedDigits 5 = .ok (.aload_n 0, 1) := by decide +kernel
theorem dX1_typedDigits_6 : decode cX1_typedDigits 6 = .ok (.getfield 78, 3) := by decide +kernel
theorem dX1_typedDigits_9 : decode cX1_typedDigits 9 = .ok (.if_icmp .ge 36, 3) := by decide +kernel
theorem dX1_typedDigits_12 : decode cX1_typedDigits 12 = .ok (.aload_n 0, 1) := by decide +kernel
theorem dX1_typedDigits_13 : decode cX1_typedDigits 13 = .ok (.getfield 13, 3) := by decide +kernel
theorem dX1_typedDigits_16 : decode cX1_typedDigits 16 = .ok (.iload_n 2, 1) := by decide +kernel
theorem dX1_typedDigits_17 : decode cX1_typedDigits 17 = .ok (.iaload, 1) := by decide +kernel
theorem dX1_typedDigits_18 : decode cX1_typedDigits 18 = .ok (.bipush 10, 2) := by decide +kernel
theorem dX1_typedDigits_20 : decode cX1_typedDigits 20 = .ok (.if_icmp .ne 7, 3) := by decide +kernel
theorem dX1_typedDigits_23 : decode cX1_typedDigits 23 = .ok (.iload_n 1, 1) := by decide +kernel
theorem dX1_typedDigits_24 : decode cX1_typedDigits 24 = .ok (.goto 14, 3) := by decide +kernel
theorem dX1_typedDigits_27 : decode cX1_typedDigits 27 = .ok (.bipush 10, 2) := by decide +kernel
theorem dX1_typedDigits_29 : decode cX1_typedDigits 29 = .ok (.iload_n 1, 1) := by decide +kernel
theorem dX1_typedDigits_30 : decode cX1_typedDigits 30 = .ok (.imul, 1) := by decide +kernel
theorem dX1_typedDigits_31 : decode cX1_typedDigits 31 = .ok (.aload_n 0, 1) := by decide +kernel
theorem dX1_typedDigits_32 : decode cX1_typedDigits 32 = .ok (.getfield 13, 3) := by decide +kernel
theorem dX1_typedDigits_35 : decode cX1_typedDigits 35 = .ok (.iload_n 2, 1) := by decide +kernel
theorem dX1_typedDigits_36 : decode cX1_typedDigits 36 = .ok (.iaload, 1) := by decide +kernel
theorem dX1_typedDigits_37 : decode cX1_typedDigits 37 = .ok (.iadd, 1) := by decide +kernel
theorem dX1_typedDigits_38 : decode cX1_typedDigits 38 = .ok (.istore_n 1, 1) := by decide +kernel
theorem dX1_typedDigits_39 : decode cX1_typedDigits 39 = .ok (.iinc 2 1, 3) := by decide +kernel
theorem dX1_typedDigits_42 : decode cX1_typedDigits 42 = .ok (.goto (-38), 3) := by decide +kernel
theorem dX1_typedDigits_45 : decode cX1_typedDigits 45 = .ok (.iload_n 1, 1) := by decide +kernel
theorem dX1_typedDigits_46 : decode cX1_typedDigits 46 = .ok (.ireturn, 1) := by decide +kernel
theorem dX1_spare_0 : decode cX1_spare 0 = .ok (.aload_n 0, 1) := by decide +kernel
theorem dX1_spare_1 : decode cX1_spare 1 = .ok (.invokevirtual 85, 3) := by decide +kernel
theorem dX1_spare_4 : decode cX1_spare 4 = .ok (.istore_n 1, 1) := by decide +kernel
theorem dX1_spare_5 : decode cX1_spare 5 = .ok (.aload_n 0, 1) := by decide +kernel
theorem dX1_spare_6 : decode cX1_spare 6 = .ok (.iconst 1, 1) := by decide +kernel
theorem dX1_spare_7 : decode cX1_spare 7 = .ok (.invokevirtual 81, 3) := by decide +kernel
theorem dX1_spare_10 : decode cX1_spare 10 = .ok (.ineg, 1) := by decide +kernel
theorem dX1_spare_11 : decode cX1_spare 11 = .ok (.istore_n 2, 1) := by decide +kernel
theorem dX1_spare_12 : decode cX1_spare 12 = .ok (.aload_n 0, 1) := by decide +kernel
theorem dX1_spare_13 : decode cX1_spare 13 = .ok (.iload_n 1, 1) := by decide +kernel
theorem dX1_spare_14 : decode cX1_spare 14 = .ok (.iload_n 2, 1) := by decide +kernel
theorem dX1_spare_15 : decode cX1_spare 15 = .ok (.invokevirtual 89, 3) := by decide +kernel
theorem dX1_spare_18 : decode cX1_spare 18 = .ok (.istore_n 3, 1) := by decide +kernel
theorem dX1_spare_19 : decode cX1_spare 19 = .ok (.iconst 1, 1) := by decide +kernel
theorem dX1_spare_20 : decode cX1_spare 20 = .ok (.istore 4, 2) := by decide +kernel
theorem dX1_spare_22 : decode cX1_spare 22 = .ok (.iconst 0, 1) := by decide +kernel
theorem dX1_spare_23 : decode cX1_spare 23 = .ok (.istore 5, 2) := by decide +kernel
theorem dX1_spare_25 : decode cX1_spare 25 = .ok (.aload_n 0, 1) := by decide +kernel
theorem dX1_spare_26 : decode cX1_spare 26 = .ok (.iconst 0, 1) := by decide +kernel
theorem dX1_spare_27 : decode cX1_spare 27 = .ok (.invokevirtual 81, 3) := by decide +kernel
theorem dX1_spare_30 : decode cX1_spare 30 = .ok (.istore 6, 2) := by decide +kernel
theorem dX1_spare_32 : decode cX1_spare 32 = .ok (.iconst 1, 1) := by decide +kernel
theorem dX1_spare_33 : decode cX1_spare 33 = .ok (.istore 7, 2) := by decide +kernel
theorem dX1_spare_35 : decode cX1_spare 35 = .ok (.iload 7, 2) := by decide +kernel
theorem dX1_spare_37 : decode cX1_spare 37 = .ok (.iload 6, 2) := by decide +kernel
theorem dX1_spare_39 : decode cX1_spare 39 = .ok (.if_icmp .gt 40, 3) := by decide +kernel
theorem dX1_spare_42 : decode cX1_spare 42 = .ok (.bipush 10, 2) := by decide +kernel
theorem dX1_spare_44 : decode cX1_spare 44 = .ok (.iload 4, 2) := by decide +kernel
theorem dX1_spare_46 : decode cX1_spare 46 = .ok (.imul, 1) := by decide +kernel
theorem dX1_spare_47 : decode cX1_spare 47 = .ok (.istore 4, 2) := by decide +kernel
theorem dX1_spare_49 : decode cX1_spare 49 = .ok (.aload_n 0, 1) := by decide +kernel
theorem dX1_spare_50 : decode cX1_spare 50 = .ok (.iload_n 1, 1) := by decide +kernel
theorem dX1_spare_51 : decode cX1_spare 51 = .ok (.iload_n 1, 1) := by decide +kernel
theorem dX1_spare_52 : decode cX1_spare 52 = .ok (.iload 4, 2) := by decide +kernel
theorem dX1_spare_54 : decode cX1_spare 54 = .ok (.irem, 1) := by decide +kernel
theorem dX1_spare_55 : decode cX1_spare 55 = .ok (.isub, 1) := by decide +kernel
theorem dX1_spare_56 : decode cX1_spare 56 = .ok (.iload_n 2, 1) := by decide +kernel
theorem dX1_spare_57 : decode cX1_spare 57 = .ok (.invokevirtual 89, 3) := by decide +kernel
theorem dX1_spare_60 : decode cX1_spare 60 = .ok (.iload_n 3, 1) := by decide +kernel
theorem dX1_spare_61 : decode cX1_spare 61 = .ok (.if_icmp .ne 8, 3) := by decide +kernel
theorem dX1_spare_64 : decode cX1_spare 64 = .ok (.iload 7, 2) := by decide +kernel
theorem dX1_spare_66 : decode cX1_spare 66 = .ok (.goto 5, 3) := by decide +kernel
theorem dX1_spare_69 : decode cX1_spare 69 = .ok (.iload 5, 2) := by decide +kernel
theorem dX1_spare_71 : decode cX1_spare 71 = .ok (.istore 5, 2) := by decide +kernel
theorem dX1_spare_73 : decode cX1_spare 73 = .ok (.iinc 7 1, 3) := by decide +kernel
theorem dX1_spare_76 : decode cX1_spare 76 = .ok (.goto (-41), 3) := by decide +kernel
theorem dX1_spare_79 : decode cX1_spare 79 = .ok (.iload 5, 2) := by decide +kernel
theorem dX1_spare_81 : decode cX1_spare 81 = .ok (.ireturn, 1) := by decide +kernel
end
section
set_option maxRecDepth 100000
theorem dL_law_0 : decode cL_law 0 = .ok (.new 7, 3) := by decide +kernel
theorem dL_law_3 : decode cL_law 3 = .ok (.dup, 1) := by decide +kernel
theorem dL_law_4 : decode cL_law 4 = .ok (.invokespecial 9, 3) := by decide +kernel
theorem dL_law_7 : decode cL_law 7 = .ok (.astore_n 1, 1) := by decide +kernel
theorem dL_law_8 : decode cL_law 8 = .ok (.new 10, 3) := by decide +kernel
theorem dL_law_11 : decode cL_law 11 = .ok (.dup, 1) := by decide +kernel
theorem dL_law_12 : decode cL_law 12 = .ok (.invokespecial 12, 3) := by decide +kernel
theorem dL_law_15 : decode cL_law 15 = .ok (.astore_n 2, 1) := by decide +kernel
theorem dL_law_16 : decode cL_law 16 = .ok (.iconst 0, 1) := by decide +kernel
theorem dL_law_17 : decode cL_law 17 = .ok (.istore_n 3, 1) := by decide +kernel
theorem dL_law_18 : decode cL_law 18 = .ok (.iload_n 3, 1) := by decide +kernel
theorem dL_law_19 : decode cL_law 19 = .ok (.aload_n 0, 1) := by decide +kernel
theorem dL_law_20 : decode cL_law 20 = .ok (.arraylength, 1) := by decide +kernel
theorem dL_law_21 : decode cL_law 21 = .ok (.iconst 4, 1) := by decide +kernel
theorem dL_law_22 : decode cL_law 22 = .ok (.isub, 1) := by decide +kernel
theorem dL_law_23 : decode cL_law 23 = .ok (.if_icmp .gt 444, 3) := by decide +kernel
theorem dL_law_26 : decode cL_law 26 = .ok (.aload_n 0, 1) := by decide +kernel
theorem dL_law_27 : decode cL_law 27 = .ok (.iload_n 3, 1) := by decide +kernel
theorem dL_law_28 : decode cL_law 28 = .ok (.iaload, 1) := by decide +kernel
theorem dL_law_29 : decode cL_law 29 = .ok (.bipush 15, 2) := by decide +kernel
theorem dL_law_31 : decode cL_law 31 = .ok (.iand, 1) := by decide +kernel
theorem dL_law_32 : decode cL_law 32 = .ok (.tableswitch 429 0 14 #[76, 99, 132, 175, 218, 241, 264, 287, 320, 343, 366, 379, 390, 403, 416], 76) := by decide +kernel
theorem dL_law_108 : decode cL_law 108 = .ok (.aload_n 1, 1) := by decide +kernel
theorem dL_law_109 : decode cL_law 109 = .ok (.aload_n 0, 1) := by decide +kernel
theorem dL_law_110 : decode cL_law 110 = .ok (.iload_n 3, 1) := by decide +kernel
theorem dL_law_111 : decode cL_law 111 = .ok (.iconst 1, 1) := by decide +kernel
theorem dL_law_112 : decode cL_law 112 = .ok (.iadd, 1) := by decide +kernel
theorem dL_law_113 : decode cL_law 113 = .ok (.iaload, 1) := by decide +kernel
theorem dL_law_114 : decode cL_law 114 = .ok (.invokevirtual 13, 3) := by decide +kernel
theorem dL_law_117 : decode cL_law 117 = .ok (.aload_n 2, 1) := by decide +kernel
theorem dL_law_118 : decode cL_law 118 = .ok (.aload_n 0, 1) := by decide +kernel
theorem dL_law_119 : decode cL_law 119 = .ok (.iload_n 3, 1) := by decide +kernel
theorem dL_law_120 : decode cL_law 120 = .ok (.iconst 1, 1) := by decide +kernel
theorem dL_law_121 : decode cL_law 121 = .ok (.iadd, 1) := by decide +kernel
theorem dL_law_122 : decode cL_law 122 = .ok (.iaload, 1) := by decide +kernel
theorem dL_law_123 : decode cL_law 123 = .ok (.invokevirtual 17, 3) := by decide +kernel
theorem dL_law_126 : decode cL_law 126 = .ok (.if_icmp .eq 335, 3) := by decide +kernel
theorem dL_law_129 : decode cL_law 129 = .ok (.iconst 0, 1) := by decide +kernel
theorem dL_law_130 : decode cL_law 130 = .ok (.ireturn, 1) := by decide +kernel
theorem dL_law_131 : decode cL_law 131 = .ok (.aload_n 1, 1) := by decide +kernel
theorem dL_law_132 : decode cL_law 132 = .ok (.aload_n 0, 1) := by decide +kernel
theorem dL_law_133 : decode cL_law 133 = .ok (.iload_n 3, 1) := by decide +kernel
theorem dL_law_134 : decode cL_law 134 = .ok (.iconst 1, 1) := by decide +kernel
theorem dL_law_135 : decode cL_law 135 = .ok (.iadd, 1) := by decide +kernel
theorem dL_law_136 : decode cL_law 136 = .ok (.iaload, 1) := by decide +kernel
theorem dL_law_137 : decode cL_law 137 = .ok (.aload_n 0, 1) := by decide +kernel
theorem dL_law_138 : decode cL_law 138 = .ok (.iload_n 3, 1) := by decide +kernel
theorem dL_law_139 : decode cL_law 139 = .ok (.iconst 2, 1) := by decide +kernel
theorem dL_law_140 : decode cL_law 140 = .ok (.iadd, 1) := by decide +kernel
theorem dL_law_141 : decode cL_law 141 = .ok (.iaload, 1) := by decide +kernel
theorem dL_law_142 : decode cL_law 142 = .ok (.invokevirtual 18, 3) := by decide +kernel
theorem dL_law_145 : decode cL_law 145 = .ok (.aload_n 2, 1) := by decide +kernel
theorem dL_law_146 : decode cL_law 146 = .ok (.aload_n 0, 1) := by decide +kernel
theorem dL_law_147 : decode cL_law 147 = .ok (.iload_n 3, 1) := by decide +kernel
theorem dL_law_148 : decode cL_law 148 = .ok (.iconst 1, 1) := by decide +kernel
theorem dL_law_149 : decode cL_law 149 = .ok (.iadd, 1) := by decide +kernel
theorem dL_law_150 : decode cL_law 150 = .ok (.iaload, 1) := by decide +kernel
theorem dL_law_151 : decode cL_law 151 = .ok (.aload_n 0, 1) := by decide +kernel
theorem dL_law_152 : decode cL_law 152 = .ok (.iload_n 3, 1) := by decide +kernel
theorem dL_law_153 : decode cL_law 153 = .ok (.iconst 2, 1) := by decide +kernel
theorem dL_law_154 : decode cL_law 154 = .ok (.iadd, 1) := by decide +kernel
theorem dL_law_155 : decode cL_law 155 = .ok (.iaload, 1) := by decide +kernel
theorem dL_law_156 : decode cL_law 156 = .ok (.invokevirtual 22, 3) := by decide +kernel
theorem dL_law_159 : decode cL_law 159 = .ok (.if_icmp .eq 302, 3) := by decide +kernel
theorem dL_law_162 : decode cL_law 162 = .ok (.iconst 0, 1) := by decide +kernel
theorem dL_law_163 : decode cL_law 163 = .ok (.ireturn, 1) := by decide +kernel
theorem dL_law_164 : decode cL_law 164 = .ok (.aload_n 1, 1) := by decide +kernel
theorem dL_law_165 : decode cL_law 165 = .ok (.aload_n 0, 1) := by decide +kernel
theorem dL_law_166 : decode cL_law 166 = .ok (.iload_n 3, 1) := by decide +kernel
theorem dL_law_167 : decode cL_law 167 = .ok (.iconst 1, 1) := by decide +kernel
theorem dL_law_168 : decode cL_law 168 = .ok (.iadd, 1) := by decide +kernel
theorem dL_law_169 : decode cL_law 169 = .ok (.iaload, 1) := by decide +kernel
theorem dL_law_170 : decode cL_law 170 = .ok (.aload_n 0, 1) := by decide +kernel
theorem dL_law_171 : decode cL_law 171 = .ok (.iload_n 3, 1) := by decide +kernel
theorem dL_law_172 : decode cL_law 172 = .ok (.iconst 2, 1) := by decide +kernel
theorem dL_law_173 : decode cL_law 173 = .ok (.iadd, 1) := by decide +kernel
theorem dL_law_174 : decode cL_law 174 = .ok (.iaload, 1) := by decide +kernel
theorem dL_law_175 : decode cL_law 175 = .ok (.aload_n 0, 1) := by decide +kernel
theorem dL_law_176 : decode cL_law 176 = .ok (.iload_n 3, 1) := by decide +kernel
theorem dL_law_177 : decode cL_law 177 = .ok (.iconst 3, 1) := by decide +kernel
theorem dL_law_178 : decode cL_law 178 = .ok (.iadd, 1) := by decide +kernel
theorem dL_law_179 : decode cL_law 179 = .ok (.iaload, 1) := by decide +kernel
theorem dL_law_180 : decode cL_law 180 = .ok (.invokevirtual 23, 3) := by decide +kernel
theorem dL_law_183 : decode cL_law 183 = .ok (.aload_n 2, 1) := by decide +kernel
theorem dL_law_184 : decode cL_law 184 = .ok (.aload_n 0, 1) := by decide +kernel
theorem dL_law_185 : decode cL_law 185 = .ok (.iload_n 3, 1) := by decide +kernel
theorem dL_law_186 : decode cL_law 186 = .ok (.iconst 1, 1) := by decide +kernel
theorem dL_law_187 : decode cL_law 187 = .ok (.iadd, 1) := by decide +kernel
theorem dL_law_188 : decode cL_law 188 = .ok (.iaload, 1) := by decide +kernel
theorem dL_law_189 : decode cL_law 189 = .ok (.aload_n 0, 1) := by decide +kernel
theorem dL_law_190 : decode cL_law 190 = .ok (.iload_n 3, 1) := by decide +kernel
theorem dL_law_191 : decode cL_law 191 = .ok (.iconst 2, 1) := by decide +kernel
theorem dL_law_192 : decode cL_law 192 = .ok (.iadd, 1) := by decide +kernel
theorem dL_law_193 : decode cL_law 193 = .ok (.iaload, 1) := by decide +kernel
theorem dL_law_194 : decode cL_law 194 = .ok (.aload_n 0, 1) := by decide +kernel
theorem dL_law_195 : decode cL_law 195 = .ok (.iload_n 3, 1) := by decide +kernel
theorem dL_law_196 : decode cL_law 196 = .ok (.iconst 3, 1) := by decide +kernel
theorem dL_law_197 : decode cL_law 197 = .ok (.iadd, 1) := by decide +kernel
theorem dL_law_198 : decode cL_law 198 = .ok (.iaload, 1) := by decide +kernel
theorem dL_law_199 : decode cL_law 199 = .ok (.invokevirtual 27, 3) := by decide +kernel
theorem dL_law_202 : decode cL_law 202 = .ok (.if_icmp .eq 259, 3) := by decide +kernel
theorem dL_law_205 : decode cL_law 205 = .ok (.iconst 0, 1) := by decide +kernel
theorem dL_law_206 : decode cL_law 206 = .ok (.ireturn, 1) := by decide +kernel
theorem dL_law_207 : decode cL_law 207 = .ok (.aload_n 1, 1) := by decide +kernel
theorem dL_law_208 : decode cL_law 208 = .ok (.aload_n 0, 1) := by decide +kernel
theorem dL_law_209 : decode cL_law 209 = .ok (.iload_n 3, 1) := by decide +kernel
theorem dL_law_210 : decode cL_law 210 = .ok (.iconst 1, 1) := by decide +kernel
theorem dL_law_211 : decode cL_law 211 = .ok (.iadd, 1) := by decide +kernel
theorem dL_law_212 : decode cL_law 212 = .ok (.iaload, 1) := by decide +kernel
theorem dL_law_213 : decode cL_law 213 = .ok (.aload_n 0, 1) := by decide +kernel
theorem dL_law_214 : decode cL_law 214 = .ok (.iload_n 3, 1) := by decide +kernel
theorem dL_law_215 : decode cL_law 215 = .ok (.iconst 2, 1) := by decide +kernel
theorem dL_law_216 : decode cL_law 216 = .ok (.iadd, 1) := by decide +kernel
theorem dL_law_217 : decode cL_law 217 = .ok (.iaload, 1) := by decide +kernel
theorem dL_law_218 : decode cL_law 218 = .ok (.aload_n 0, 1) := by decide +kernel
theorem dL_law_219 : decode cL_law 219 = .ok (.iload_n 3, 1) := by decide +kernel
theorem dL_law_220 : decode cL_law 220 = .ok (.iconst 3, 1) := by decide +kernel
theorem dL_law_221 : decode cL_law 221 = .ok (.iadd, 1) := by decide +kernel
theorem dL_law_222 : decode cL_law 222 = .ok (.iaload, 1) := by decide +kernel
theorem dL_law_223 : decode cL_law 223 = .ok (.invokevirtual 28, 3) := by decide +kernel
theorem dL_law_226 : decode cL_law 226 = .ok (.aload_n 2, 1) := by decide +kernel
theorem dL_law_227 : decode cL_law 227 = .ok (.aload_n 0, 1) := by decide +kernel
theorem dL_law_228 : decode cL_law 228 = .ok (.iload_n 3, 1) := by decide +kernel
theorem dL_law_229 : decode cL_law 229 = .ok (.iconst 1, 1) := by decide +kernel
theorem dL_law_230 : decode cL_law 230 = .ok (.iadd, 1) := by decide +kernel
theorem dL_law_231 : decode cL_law 231 = .ok (.iaload, 1) := by decide +kernel
theorem dL_law_232 : decode cL_law 232 = .ok (.aload_n 0, 1) := by decide +kernel
theorem dL_law_233 : decode cL_law 233 = .ok (.iload_n 3, 1) := by decide +kernel
theorem dL_law_234 : decode cL_law 234 = .ok (.iconst 2, 1) := by decide +kernel
theorem dL_law_235 : decode cL_law 235 = .ok (.iadd, 1) := by decide +kernel
theorem dL_law_236 : decode cL_law 236 = .ok (.iaload, 1) := by decide +kernel
theorem dL_law_237 : decode cL_law 237 = .ok (.aload_n 0, 1) := by decide +kernel
theorem dL_law_238 : decode cL_law 238 = .ok (.iload_n 3, 1) := by decide +kernel
theorem dL_law_239 : decode cL_law 239 = .ok (.iconst 3, 1) := by decide +kernel
theorem dL_law_240 : decode cL_law 240 = .ok (.iadd, 1) := by decide +kernel
theorem dL_law_241 : decode cL_law 241 = .ok (.iaload, 1) := by decide +kernel
theorem dL_law_242 : decode cL_law 242 = .ok (.invokevirtual 32, 3) := by decide +kernel
theorem dL_law_245 : decode cL_law 245 = .ok (.if_icmp .eq 216, 3) := by decide +kernel
theorem dL_law_248 : decode cL_law 248 = .ok (.iconst 0, 1) := by decide +kernel
theorem dL_law_249 : decode cL_law 249 = .ok (.ireturn, 1) := by decide +kernel
theorem dL_law_250 : decode cL_law 250 = .ok (.aload_n 1, 1) := by decide +kernel
theorem dL_law_251 : decode cL_law 251 = .ok (.aload_n 0, 1) := by decide +kernel
theorem dL_law_252 : decode cL_law 252 = .ok (.iload_n 3, 1) := by decide +kernel
theorem dL_law_253 : decode cL_law 253 = .ok (.iconst 1, 1) := by decide +kernel
theorem dL_law_254 : decode cL_law 254 = .ok (.iadd, 1) := by decide +kernel
theorem dL_law_255 : decode cL_law 255 = .ok (.iaload, 1) := by decide +kernel
theorem dL_law_256 : decode cL_law 256 = .ok (.invokevirtual 33, 3) := by decide +kernel
theorem dL_law_259 : decode cL_law 259 = .ok (.aload_n 2, 1) := by decide +kernel
theorem dL_law_260 : decode cL_law 260 = .ok (.aload_n 0, 1) := by decide +kernel
theorem dL_law_261 : decode cL_law 261 = .ok (.iload_n 3, 1) := by decide +kernel
theorem dL_law_262 : decode cL_law 262 = .ok (.iconst 1, 1) := by decide +kernel
theorem dL_law_263 : decode cL_law 263 = .ok (.iadd, 1) := by decide +kernel
theorem dL_law_264 : decode cL_law 264 = .ok (.iaload, 1) := by decide +kernel
theorem dL_law_265 : decode cL_law 265 = .ok (.invokevirtual 36, 3) := by decide +kernel
theorem dL_law_268 : decode cL_law 268 = .ok (.if_icmp .eq 193, 3) := by decide +kernel
theorem dL_law_271 : decode cL_law 271 = .ok (.iconst 0, 1) := by decide +kernel
theorem dL_law_272 : decode cL_law 272 = .ok (.ireturn, 1) := by decide +kernel
theorem dL_law_273 : decode cL_law 273 = .ok (.aload_n 1, 1) := by decide +kernel
theorem dL_law_274 : decode cL_law 274 = .ok (.aload_n 0, 1) := by decide +kernel
theorem dL_law_275 : decode cL_law 275 = .ok (.iload_n 3, 1) := by decide +kernel
theorem dL_law_276 : decode cL_law 276 = .ok (.iconst 1, 1) := by decide +kernel
theorem dL_law_277 : decode cL_law 277 = .ok (.iadd, 1) := by decide +kernel
theorem dL_law_278 : decode cL_law 278 = .ok (.iaload, 1) := by decide +kernel
theorem dL_law_279 : decode cL_law 279 = .ok (.invokevirtual 37, 3) := by decide +kernel
theorem dL_law_282 : decode cL_law 282 = .ok (.aload_n 2, 1) := by decide +kernel
theorem dL_law_283 : decode cL_law 283 = .ok (.aload_n 0, 1) := by decide +kernel
theorem dL_law_284 : decode cL_law 284 = .ok (.iload_n 3, 1) := by decide +kernel
theorem dL_law_285 : decode cL_law 285 = .ok (.iconst 1, 1) := by decide +kernel
theorem dL_law_286 : decode cL_law 286 = .ok (.iadd, 1) := by decide +kernel
theorem dL_law_287 : decode cL_law 287 = .ok (.iaload, 1) := by decide +kernel
theorem dL_law_288 : decode cL_law 288 = .ok (.invokevirtual 40, 3) := by decide +kernel
theorem dL_law_291 : decode cL_law 291 = .ok (.if_icmp .eq 170, 3) := by decide +kernel
theorem dL_law_294 : decode cL_law 294 = .ok (.iconst 0, 1) := by decide +kernel
theorem dL_law_295 : decode cL_law 295 = .ok (.ireturn, 1) := by decide +kernel
theorem dL_law_296 : decode cL_law 296 = .ok (.aload_n 1, 1) := by decide +kernel
theorem dL_law_297 : decode cL_law 297 = .ok (.aload_n 0, 1) := by decide +kernel
theorem dL_law_298 : decode cL_law 298 = .ok (.iload_n 3, 1) := by decide +kernel
theorem dL_law_299 : decode cL_law 299 = .ok (.iconst 1, 1) := by decide +kernel
theorem dL_law_300 : decode cL_law 300 = .ok (.iadd, 1) := by decide +kernel
theorem dL_law_301 : decode cL_law 301 = .ok (.iaload, 1) := by decide +kernel
theorem dL_law_302 : decode cL_law 302 = .ok (.invokevirtual 41, 3) := by decide +kernel
theorem dL_law_305 : decode cL_law 305 = .ok (.aload_n 2, 1) := by decide +kernel
theorem dL_law_306 : decode cL_law 306 = .ok (.aload_n 0, 1) := by decide +kernel
theorem dL_law_307 : decode cL_law 307 = .ok (.iload_n 3, 1) := by decide +kernel
theorem dL_law_308 : decode cL_law 308 = .ok (.iconst 1, 1) := by decide +kernel
theorem dL_law_309 : decode cL_law 309 = .ok (.iadd, 1) := by decide +kernel
theorem dL_law_310 : decode cL_law 310 = .ok (.iaload, 1) := by decide +kernel
theorem dL_law_311 : decode cL_law 311 = .ok (.invokevirtual 44, 3) := by decide +kernel
theorem dL_law_314 : decode cL_law 314 = .ok (.if_icmp .eq 147, 3) := by decide +kernel
theorem dL_law_317 : decode cL_law 317 = .ok (.iconst 0, 1) := by decide +kernel
theorem dL_law_318 : decode cL_law 318 = .ok (.ireturn, 1) := by decide +kernel
theorem dL_law_319 : decode cL_law 319 = .ok (.aload_n 1, 1) := by decide +kernel
theorem dL_law_320 : decode cL_law 320 = .ok (.aload_n 0, 1) := by decide +kernel
theorem dL_law_321 : decode cL_law 321 = .ok (.iload_n 3, 1) := by decide +kernel
theorem dL_law_322 : decode cL_law 322 = .ok (.iconst 1, 1) := by decide +kernel
theorem dL_law_323 : decode cL_law 323 = .ok (.iadd, 1) := by decide +kernel
theorem dL_law_324 : decode cL_law 324 = .ok (.iaload, 1) := by decide +kernel
theorem dL_law_325 : decode cL_law 325 = .ok (.aload_n 0, 1) := by decide +kernel
theorem dL_law_326 : decode cL_law 326 = .ok (.iload_n 3, 1) := by decide +kernel
theorem dL_law_327 : decode cL_law 327 = .ok (.iconst 2, 1) := by decide +kernel
theorem dL_law_328 : decode cL_law 328 = .ok (.iadd, 1) := by decide +kernel
theorem dL_law_329 : decode cL_law 329 = .ok (.iaload, 1) := by decide +kernel
theorem dL_law_330 : decode cL_law 330 = .ok (.invokevirtual 45, 3) := by decide +kernel
theorem dL_law_333 : decode cL_law 333 = .ok (.aload_n 2, 1) := by decide +kernel
theorem dL_law_334 : decode cL_law 334 = .ok (.aload_n 0, 1) := by decide +kernel
theorem dL_law_335 : decode cL_law 335 = .ok (.iload_n 3, 1) := by decide +kernel
theorem dL_law_336 : decode cL_law 336 = .ok (.iconst 1, 1) := by decide +kernel
theorem dL_law_337 : decode cL_law 337 = .ok (.iadd, 1) := by decide +kernel
theorem dL_law_338 : decode cL_law 338 = .ok (.iaload, 1) := by decide +kernel
theorem dL_law_339 : decode cL_law 339 = .ok (.aload_n 0, 1) := by decide +kernel
theorem dL_law_340 : decode cL_law 340 = .ok (.iload_n 3, 1) := by decide +kernel
theorem dL_law_341 : decode cL_law 341 = .ok (.iconst 2, 1) := by decide +kernel
theorem dL_law_342 : decode cL_law 342 = .ok (.iadd, 1) := by decide +kernel
theorem dL_law_343 : decode cL_law 343 = .ok (.iaload, 1) := by decide +kernel
theorem dL_law_344 : decode cL_law 344 = .ok (.invokevirtual 48, 3) := by decide +kernel
theorem dL_law_347 : decode cL_law 347 = .ok (.if_icmp .eq 114, 3) := by decide +kernel
theorem dL_law_350 : decode cL_law 350 = .ok (.iconst 0, 1) := by decide +kernel
theorem dL_law_351 : decode cL_law 351 = .ok (.ireturn, 1) := by decide +kernel
theorem dL_law_352 : decode cL_law 352 = .ok (.aload_n 1, 1) := by decide +kernel
theorem dL_law_353 : decode cL_law 353 = .ok (.aload_n 0, 1) := by decide +kernel
theorem dL_law_354 : decode cL_law 354 = .ok (.iload_n 3, 1) := by decide +kernel
theorem dL_law_355 : decode cL_law 355 = .ok (.iconst 1, 1) := by decide +kernel
theorem dL_law_356 : decode cL_law 356 = .ok (.iadd, 1) := by decide +kernel
theorem dL_law_357 : decode cL_law 357 = .ok (.iaload, 1) := by decide +kernel
theorem dL_law_358 : decode cL_law 358 = .ok (.invokevirtual 49, 3) := by decide +kernel
theorem dL_law_361 : decode cL_law 361 = .ok (.aload_n 2, 1) := by decide +kernel
theorem dL_law_362 : decode cL_law 362 = .ok (.aload_n 0, 1) := by decide +kernel
theorem dL_law_363 : decode cL_law 363 = .ok (.iload_n 3, 1) := by decide +kernel
theorem dL_law_364 : decode cL_law 364 = .ok (.iconst 1, 1) := by decide +kernel
theorem dL_law_365 : decode cL_law 365 = .ok (.iadd, 1) := by decide +kernel
theorem dL_law_366 : decode cL_law 366 = .ok (.iaload, 1) := by decide +kernel
theorem dL_law_367 : decode cL_law 367 = .ok (.invokevirtual 52, 3) := by decide +kernel
theorem dL_law_370 : decode cL_law 370 = .ok (.if_icmp .eq 91, 3) := by decide +kernel
theorem dL_law_373 : decode cL_law 373 = .ok (.iconst 0, 1) := by decide +kernel
theorem dL_law_374 : decode cL_law 374 = .ok (.ireturn, 1) := by decide +kernel
theorem dL_law_375 : decode cL_law 375 = .ok (.aload_n 1, 1) := by decide +kernel
theorem dL_law_376 : decode cL_law 376 = .ok (.aload_n 0, 1) := by decide +kernel
theorem dL_law_377 : decode cL_law 377 = .ok (.iload_n 3, 1) := by decide +kernel
theorem dL_law_378 : decode cL_law 378 = .ok (.iconst 1, 1) := by decide +kernel
theorem dL_law_379 : decode cL_law 379 = .ok (.iadd, 1) := by decide +kernel
theorem dL_law_380 : decode cL_law 380 = .ok (.iaload, 1) := by decide +kernel
theorem dL_law_381 : decode cL_law 381 = .ok (.invokevirtual 53, 3) := by decide +kernel
theorem dL_law_384 : decode cL_law 384 = .ok (.aload_n 2, 1) := by decide +kernel
theorem dL_law_385 : decode cL_law 385 = .ok (.aload_n 0, 1) := by decide +kernel
theorem dL_law_386 : decode cL_law 386 = .ok (.iload_n 3, 1) := by decide +kernel
theorem dL_law_387 : decode cL_law 387 = .ok (.iconst 1, 1) := by decide +kernel
theorem dL_law_388 : decode cL_law 388 = .ok (.iadd, 1) := by decide +kernel
theorem dL_law_389 : decode cL_law 389 = .ok (.iaload, 1) := by decide +kernel
theorem dL_law_390 : decode cL_law 390 = .ok (.invokevirtual 56, 3) := by decide +kernel
theorem dL_law_393 : decode cL_law 393 = .ok (.if_icmp .eq 68, 3) := by decide +kernel
theorem dL_law_396 : decode cL_law 396 = .ok (.iconst 0, 1) := by decide +kernel
theorem dL_law_397 : decode cL_law 397 = .ok (.ireturn, 1) := by decide +kernel
theorem dL_law_398 : decode cL_law 398 = .ok (.aload_n 1, 1) := by decide +kernel
theorem dL_law_399 : decode cL_law 399 = .ok (.invokevirtual 57, 3) := by decide +kernel
theorem dL_law_402 : decode cL_law 402 = .ok (.aload_n 2, 1) := by decide +kernel
theorem dL_law_403 : decode cL_law 403 = .ok (.invokevirtual 61, 3) := by decide +kernel
theorem dL_law_406 : decode cL_law 406 = .ok (.if_icmp .eq 55, 3) := by decide +kernel
theorem dL_law_409 : decode cL_law 409 = .ok (.iconst 0, 1) := by decide +kernel
theorem dL_law_410 : decode cL_law 410 = .ok (.ireturn, 1) := by decide +kernel
theorem dL_law_411 : decode cL_law 411 = .ok (.aload_n 1, 1) := by decide +kernel
theorem dL_law_412 : decode cL_law 412 = .ok (.invokevirtual 62, 3) := by decide +kernel
theorem dL_law_415 : decode cL_law 415 = .ok (.aload_n 2, 1) := by decide +kernel
theorem dL_law_416 : decode cL_law 416 = .ok (.invokevirtual 65, 3) := by decide +kernel
theorem dL_law_419 : decode cL_law 419 = .ok (.goto 42, 3) := by decide +kernel
theorem dL_law_422 : decode cL_law 422 = .ok (.aload_n 1, 1) := by decide +kernel
theorem dL_law_423 : decode cL_law 423 = .ok (.invokevirtual 66, 3) := by decide +kernel
theorem dL_law_426 : decode cL_law 426 = .ok (.aload_n 2, 1) := by decide +kernel
theorem dL_law_427 : decode cL_law 427 = .ok (.invokevirtual 69, 3) := by decide +kernel
theorem dL_law_430 : decode cL_law 430 = .ok (.if_icmp .eq 31, 3) := by decide +kernel
theorem dL_law_433 : decode cL_law 433 = .ok (.iconst 0, 1) := by decide +kernel
theorem dL_law_434 : decode cL_law 434 = .ok (.ireturn, 1) := by decide +kernel
theorem dL_law_435 : decode cL_law 435 = .ok (.aload_n 1, 1) := by decide +kernel
theorem dL_law_436 : decode cL_law 436 = .ok (.invokevirtual 70, 3) := by decide +kernel
theorem dL_law_439 : decode cL_law 439 = .ok (.aload_n 2, 1) := by decide +kernel
theorem dL_law_440 : decode cL_law 440 = .ok (.invokevirtual 73, 3) := by decide +kernel
theorem dL_law_443 : decode cL_law 443 = .ok (.if_icmp .eq 18, 3) := by decide +kernel
theorem dL_law_446 : decode cL_law 446 = .ok (.iconst 0, 1) := by decide +kernel
theorem dL_law_447 : decode cL_law 447 = .ok (.ireturn, 1) := by decide +kernel
theorem dL_law_448 : decode cL_law 448 = .ok (.aload_n 1, 1) := by decide +kernel
theorem dL_law_449 : decode cL_law 449 = .ok (.invokevirtual 74, 3) := by decide +kernel
theorem dL_law_452 : decode cL_law 452 = .ok (.aload_n 2, 1) := by decide +kernel
theorem dL_law_453 : decode cL_law 453 = .ok (.invokevirtual 77, 3) := by decide +kernel
theorem dL_law_456 : decode cL_law 456 = .ok (.if_icmp .eq 5, 3) := by decide +kernel
theorem dL_law_459 : decode cL_law 459 = .ok (.iconst 0, 1) := by decide +kernel
theorem dL_law_460 : decode cL_law 460 = .ok (.ireturn, 1) := by decide +kernel
theorem dL_law_461 : decode cL_law 461 = .ok (.iinc 3 4, 3) := by decide +kernel
theorem dL_law_464 : decode cL_law 464 = .ok (.goto (-446), 3) := by decide +kernel
theorem dL_law_467 : decode cL_law 467 = .ok (.iconst 1, 1) := by decide +kernel
theorem dL_law_468 : decode cL_law 468 = .ok (.ireturn, 1) := by decide +kernel
end
section
/-! the two classes, calls that change nothing, calls that change one object, rows of the plain side -/
set_option maxRecDepth 100000
abbrev vwCl : List vw_C := [(RX0, TX0, 4), (RX1, TX1, 5)]
/-- the heap has at a an object of class number ci -/
def xR (D : va_G) (H : Heap) (a ci : Nat) : Prop := ∃ fs : List Value, va_at D vwCl (a, .inr (ci, fs)) H
theorem xR.of {D : va_G} {H : Heap} {ws : va_W} (hP : va_P D vwCl ws H) (k : Nat) {a ci : Nat} {fs : List Value} (h : ws[k]? = some (a, .inr (ci, fs))) : xR D H a ci := ⟨fs, hP k _ h⟩
theorem xR.recv {s : State} {H : Heap} {D : va_G} {a ci : Nat} {q : vw_C} {tys : List (ClassId × FieldType)} (h : xR D H a ci) (hK : va_K D vwCl tys s) (hc : vwCl[ci]? = some q) : ∃ cell : Cell, H[a]? = some cell ∧ cell.vm.isStatics = false ∧ s.vm.findClass q.1 = some cell.cls := by
  obtain ⟨fs, h⟩ := h
  refine va_recv (ws := [(a, .inr (ci, fs))]) hK ?_ hc (q0 := 0) rfl
  intro k q hk
  match k, hk with
  | 0, hk => cases hk; exact h
  | k + 1, hk => simp at hk
/-- a method that answers v and leaves the heap as it is -/
def roQ (v : Value) : Array Value → State → Outcome → State → Prop := fun _ st oc t => oc = .returned (some v) ∧ t.heap = st.heap
/-- a method that answers v, leaves the cells W, and changes none but those of A -/
def wrQ (D : va_G) (ws : va_W) (A : Nat → Prop) (v : Option Value) : Array Value → State → Outcome → State → Prop := fun _ st oc t => oc = .returned v ∧ va_P D vwCl ws t.heap ∧ va_F A st t
abbrev roP (D : va_G) (tys : List (ClassId × FieldType)) (H : Heap) (av : List Value) : Array Value → State → Prop := va_Pc av (fun U => U.heap = H ∧ va_K D vwCl tys U)
abbrev noA : Addr → Prop := fun _ => False
theorem roP.blind {D : va_G} {tys : List (ClassId × FieldType)} {H : Heap} {av : List Value} : FrameBlind (roP D tys H av) := fun a U g mk q => by
  obtain ⟨q0, q1, qK⟩ := q
  exact ⟨q0, q1, va_K.moved (u := U) (U := U.calling g mk a) (Vm.Alike.refl U.vm) qK⟩
section RO
variable {p : Program} {l : Launch} {e : Env} {R : Room} {s : State} {m : MethodId} {args : Array Value} {below : List Frame} {meth : Method} {c : Code} {H : Heap} {locs : List Loc} {cells slots : Nat} {Q : State → Prop}
variable {y : MethodName} {bytes cc : ByteArray} {maxL nL n index : Nat} {ret : Option FieldType} {rm : Room} {own C : String} {b : Addr} {As rest st : List Value} {D : va_G} {tys : List (ClassId × FieldType)} {ci : Nat} {q : vw_C} {pc : Nat} {ls : Array Slot}
/-- the start of a contract -/
theorem ro_enter {H0 : Heap} {av : List Value} {Qc : Array Value → State → Outcome → State → Prop} {free : Addr → Prop} (hy : plainName y.cls = true) (hlen : (lg_sl av).length ≤ maxL)
    (body : ∀ p e s m below meth c, CallFix p m c cc maxL s av.toArray lw_all y.cls → meth.sig.returnType = ret → meth.locks = false → s.heap = H0 → va_K D vwCl tys s → ∀ ls, lv_has ls maxL (lv_args 0 av) → W p l e rm s m av.toArray below meth c H0 [] 0 0 (MQ below Qc av.toArray s 0 0 free) (F0 m 0 ls [])) :
    Met l y (ws_ y cc maxL ret) rm (roP D tys H0 av) Qc 0 0 free := by
  refine Met.ofW (cc := cc) (maxL := maxL) (ret := ret) hy rfl ?_
  intro p e s m args below meth c s₁ B hml hv
  obtain ⟨rfl, hH, hK⟩ := hv
  have hts := atoms_spec (ws := ws_ y cc maxL ret) B.pre
  have hts : ∀ w ∈ lw_all, w.before _ s = true := fun w h => hts w (List.mem_cons_of_mem _ h)
  rw [lg_entry_eq, hH]
  exact body p e s m below meth c ⟨B.exec, B.bytes, hml, findClass_of_methodNamed B.named, hts⟩ B.returns B.notSynchronized hH hK _ (lv_entry av hlen)
theorem ro_iret {r v : Int32} (hF : CallFix p m c cc nL s args lw_all own) (hr : meth.sig.returnType = some .int) (hlk : meth.locks = false) (hH : s.heap = H) (hdg : decode cc pc = .ok (.ireturn, 1)) (hJ : some v = some r) :
    W p l e R s m args below meth c H [] 0 0 (MQ below (roQ (.int r)) args s 0 0 noA) (F0 m pc ls [.int v]) := by
  obtain rfl := Option.some.inj hJ
  exact W.iret hF.1 hF.2.1 hr (fun t ht _ => ⟨rfl, ht.trans hH.symm⟩) (fun q hq => by cases hq) hdg
theorem ro_zret {r v : Int32} (hF : CallFix p m c cc nL s args lw_all own) (hr : meth.sig.returnType = some .boolean) (hlk : meth.locks = false) (hH : s.heap = H) (hdg : decode cc pc = .ok (.ireturn, 1)) (hn : narrow .boolean (.int v) = .int v) (hJ : some v = some r) :
    W p l e R s m args below meth c H [] 0 0 (MQ below (roQ (.int r)) args s 0 0 noA) (F0 m pc ls [.int v]) := by
  obtain rfl := Option.some.inj hJ
  exact W.zret hF.1 hF.2.1 hr hn (fun t ht _ => ⟨rfl, ht.trans hH.symm⟩) (fun q hq => by cases hq) hdg
theorem ro_lret {r v : Int64} (hF : CallFix p m c cc nL s args lw_all own) (hr : meth.sig.returnType = some .long) (hlk : meth.locks = false) (hH : s.heap = H) (hdg : decode cc pc = .ok (.lreturn, 1)) (hJ : some v = some r) :
    W p l e R s m args below meth c H [] 0 0 (MQ below (roQ (.long r)) args s 0 0 noA) (F0 m pc ls [.long v]) := by
  obtain rfl := Option.some.inj hJ
  exact W.lret hF.1 hF.2.1 hr (fun t ht _ => ⟨rfl, ht.trans hH.symm⟩) (fun q hq => by cases hq) hdg
/-- a call of a method that changes nothing -/
theorem ro_call {v : Value} (hF : CallFix p m c cc nL s args lw_all own) (hM : Met l y (ws_ y bytes maxL ret) rm (roP D tys H (.ref b :: As)) (roQ v) 0 0 noA) (hG : GoodIn lw_all (wsV own index C y (ws_ y bytes maxL ret)))
    (hd : y.cls = C ∧ y.cls ≠ "java/lang/invoke/MethodHandle" ∧ y.cls ≠ "java/lang/invoke/VarHandle" ∧ (parseMethodDescriptor y.desc).map (fun d => d.parameters.length) = some n) (hrc : rm.cells = 0) (hrs : rm.slots = 0) (hR : rm.frames + 1 ≤ R.frames ∧ 8 + (maxL + 11) + rm.locals ≤ R.locals)
    (hr : xR D H b ci) (hK : va_K D vwCl tys s) (hc : vwCl[ci]? = some q) (hq : q.1 = C) (hn : As.length = n) (hsz : ls.size = nL) (hst : st = As.reverse ++ .ref b :: rest) (hW : (rest.map fun v => v.category).sum ≤ 8) (hdg : decode cc pc = .ok (.invokevirtual index, 3)) (hf : cells ≤ R.cells ∧ slots ≤ R.slots)
    (kk : W p l e R s m args below meth c H locs cells slots Q (F0 m (pc + 3) ls (v :: rest))) : W p l e R s m args below meth c H locs cells slots Q (F0 m pc ls st) := by
  have hrecv := hr.recv hK hc
  rw [hq] at hrecv
  have run := va_runV (e := e) (below := below) (meth := meth) (g := F0 m pc ls st) (locs := locs) (cells := cells) (slots := slots) (rest := rest) hF hM (cwV n hF.2.2.2.2 hG rfl hrc hrs hd hR) ⟨roP.blind, hrecv, fun U hU hW => ⟨rfl, hU, va_K.moved hW.alike hK⟩⟩ rfl hn hsz hst (lv_room hW) hdg hf
  intro T hT X
  obtain ⟨w, st₀, t, T', L, h0, X', hL, e1, -, ⟨hv, hh⟩, go⟩ := run T hT X
  cases hv
  obtain ⟨t2, a1, b1⟩ := kk T' (by rw [e1, hh, h0]) (Stand.forget X' (fun q h => (hL q h).elim))
  exact ⟨t2, go t2 a1, b1⟩
/-- a call of a method that changes cells of A1 alone -/
theorem wr_call {v : Option Value} {W1 : va_W} {A0 A1 : Nat → Prop} {Hs : Heap} (hF : CallFix p m c cc nL s args lw_all own) (hM : Met l y (ws_ y bytes maxL ret) rm (roP D tys H (.ref b :: As)) (wrQ D W1 A1 v) 0 0 A1) (hG : GoodIn lw_all (wsV own index C y (ws_ y bytes maxL ret)))
    (hd : y.cls = C ∧ y.cls ≠ "java/lang/invoke/MethodHandle" ∧ y.cls ≠ "java/lang/invoke/VarHandle" ∧ (parseMethodDescriptor y.desc).map (fun d => d.parameters.length) = some n) (hrc : rm.cells = 0) (hrs : rm.slots = 0) (hR : rm.frames + 1 ≤ R.frames ∧ 8 + (maxL + 11) + rm.locals ≤ R.locals)
    (hr : xR D H b ci) (hK : va_K D vwCl tys s) (hc : vwCl[ci]? = some q) (hq : q.1 = C) (hn : As.length = n) (hsz : ls.size = nL) (hst : st = As.reverse ++ .ref b :: rest) (hW : (rest.map fun v => v.category).sum ≤ 8) (hdg : decode cc pc = .ok (.invokevirtual index, 3)) (hf : cells ≤ R.cells ∧ slots ≤ R.slots)
    (hS : va_S A0 Hs H locs) (hA : ∀ q, A1 q → A0 q)
    (kk : ∀ (H1 : Heap) (locs1 : List Loc), va_P D vwCl W1 H1 → H.size ≤ H1.size → (∀ q : Nat, q < H.size → ¬ A1 q → H1[q]? = H[q]?) → va_S A0 Hs H1 locs1 → W p l e R s m args below meth c H1 locs1 cells slots Q (F0 m (pc + 3) ls (v.toList ++ rest))) : W p l e R s m args below meth c H locs cells slots Q (F0 m pc ls st) := by
  have hrecv := hr.recv hK hc
  rw [hq] at hrecv
  have run := va_runV (e := e) (below := below) (meth := meth) (g := F0 m pc ls st) (locs := locs) (cells := cells) (slots := slots) (rest := rest) hF hM (cwV n hF.2.2.2.2 hG rfl hrc hrs hd hR) ⟨roP.blind, hrecv, fun U hU hW => ⟨rfl, hU, va_K.moved hW.alike hK⟩⟩ rfl hn hsz hst (lv_room hW) hdg hf
  intro T hT X
  obtain ⟨w, st₀, t, T', L, h0, X', hL, e1, -, ⟨hv, hP1, hz, hk⟩, go⟩ := run T hT X
  cases hv
  rw [h0] at hz hk
  rw [← e1] at hP1 hz hk
  obtain ⟨t2, a1, b1⟩ := kk T'.heap (locs ++ L) hP1 hz hk ⟨Nat.le_trans hS.1 hz, fun q h1 h2 => by rw [hk q (Nat.lt_of_lt_of_le h1 hS.1) (fun z => h2 (hA q z))]; exact hS.2.1 q h1 h2, fun q hq => by
      rcases List.mem_append.mp hq with h | h
      · exact hS.2.2 q h
      · exact hA _ (hL q h)⟩ T' rfl X'
  exact ⟨t2, go t2 a1, b1⟩
theorem wr_vret {W1 W2 : va_W} {A : Nat → Prop} (hF : CallFix p m c cc nL s args lw_all own) (hr : meth.sig.returnType = none) (hlk : meth.locks = false) (hP : va_P D vwCl W1 H) (hS : va_S A s.heap H locs) (hdg : decode cc pc = .ok (.return_, 1)) (hW : W1 = W2) :
    W p l e R s m args below meth c H locs 0 0 (MQ below (wrQ D W2 A none) args s 0 0 A) (F0 m pc ls []) := by
  subst hW
  exact W.vret hF.1 hF.2.1 hr (fun t ht _ => ⟨rfl, by rw [ht]; exact hP, hS.F ht⟩) hS.2.2 hdg
theorem wr_iret {r v : Int32} {W1 W2 : va_W} {A : Nat → Prop} (hF : CallFix p m c cc nL s args lw_all own) (hr : meth.sig.returnType = some .int) (hlk : meth.locks = false) (hP : va_P D vwCl W1 H) (hS : va_S A s.heap H locs) (hdg : decode cc pc = .ok (.ireturn, 1)) (hv : v = r) (hW : W1 = W2) :
    W p l e R s m args below meth c H locs 0 0 (MQ below (wrQ D W2 A (some (.int r))) args s 0 0 A) (F0 m pc ls [.int v]) := by
  subst hW; subst hv
  exact W.iret hF.1 hF.2.1 hr (fun t ht _ => ⟨rfl, by rw [ht]; exact hP, hS.F ht⟩) hS.2.2 hdg
end RO
theorem lg_le (x y : Int64) : lg_cmp x y ≤ 0 ↔ x ≤ y := by
  unfold lg_cmp
  have h0 : ¬ (1 : Int32) ≤ 0 := by decide
  have h1 : (0 : Int32) ≤ 0 := by decide
  have h2 : (-1 : Int32) ≤ 0 := by decide
  split
  · rename_i h
    exact ⟨fun q => absurd q h0, fun q => absurd h (Int64.not_lt.mpr q)⟩
  · rename_i h
    have h3 : x ≤ y := Int64.not_lt.mp h
    split <;> simp [h1, h2, h3]
theorem lg_eq (x y : Int64) : lg_cmp x y = 0 ↔ x = y := by
  unfold lg_cmp
  split
  · rename_i h
    exact ⟨fun q => absurd q (by decide), fun q => by subst q; exact (Int64.lt_irrefl h).elim⟩
  · split
    · rename_i h; simp [h]
    · rename_i h; simp [h]
theorem lg_gt (x y : Int64) : 0 < lg_cmp x y ↔ y < x := by
  rw [← Int32.not_le, lg_le, Int64.not_le]
theorem lg_lt (x y : Int64) : lg_cmp x y < 0 ↔ x < y := by
  unfold lg_cmp
  have h0 : ¬ (1 : Int32) < 0 := by decide
  have h1 : ¬ (0 : Int32) < 0 := by decide
  have h2 : (-1 : Int32) < 0 := by decide
  split
  · rename_i h
    exact ⟨fun q => absurd q h0, fun q => (Int64.lt_irrefl (Int64.lt_trans h q)).elim⟩
  · rename_i h
    split
    · rename_i h3; subst h3; exact ⟨fun q => absurd q h1, fun q => (Int64.lt_irrefl q).elim⟩
    · rename_i h3; exact ⟨fun _ => Int64.lt_of_le_of_ne (Int64.not_lt.mp h) h3, fun _ => h2⟩
theorem lg_ge (x y : Int64) : 0 ≤ lg_cmp x y ↔ y ≤ x := by
  rw [← Int32.not_lt, lg_lt, Int64.not_lt]
section LC
variable {p : Program} {l : Launch} {e : Env} {R : Room} {s : State} {m : MethodId} {args : Array Value} {below : List Frame} {meth : Method} {c : Code} {H : Heap} {locs : List Loc} {cells slots : Nat} {Q : State → Prop}
variable {cc : ByteArray} {pc : Nat} {ls : Array Slot} {rest : List Value} {x y : Int64} {off : Int} {tgt : Nat}
theorem lc_le (hx : p.tables.exec = Jvm.exec) (hb : c.code = cc) (h1 : decode cc pc = .ok (.lcmp, 1)) (h2 : decode cc (pc + 1) = .ok (.ifCond .le off, 3)) (ht : ((pc + 1 : Nat) : Int) + off = (tgt : Int))
    (kt : x ≤ y → W p l e R s m args below meth c H locs cells slots Q (F0 m tgt ls rest)) (kf : ¬ x ≤ y → W p l e R s m args below meth c H locs cells slots Q (F0 m (pc + 4) ls rest)) : W p l e R s m args below meth c H locs cells slots Q (F0 m pc ls (.long y :: .long x :: rest)) :=
  W.lcmp hx hb h1 (lv_if_le hx hb h2 ht (fun h => kt ((lg_le x y).mp h)) (fun h => kf (fun q => h ((lg_le x y).mpr q))))
theorem lc_lt (hx : p.tables.exec = Jvm.exec) (hb : c.code = cc) (h1 : decode cc pc = .ok (.lcmp, 1)) (h2 : decode cc (pc + 1) = .ok (.ifCond .lt off, 3)) (ht : ((pc + 1 : Nat) : Int) + off = (tgt : Int))
    (kt : x < y → W p l e R s m args below meth c H locs cells slots Q (F0 m tgt ls rest)) (kf : ¬ x < y → W p l e R s m args below meth c H locs cells slots Q (F0 m (pc + 4) ls rest)) : W p l e R s m args below meth c H locs cells slots Q (F0 m pc ls (.long y :: .long x :: rest)) :=
  W.lcmp hx hb h1 (lv_if_lt hx hb h2 ht (fun h => kt ((lg_lt x y).mp h)) (fun h => kf (fun q => h ((lg_lt x y).mpr q))))
theorem lc_ge (hx : p.tables.exec = Jvm.exec) (hb : c.code = cc) (h1 : decode cc pc = .ok (.lcmp, 1)) (h2 : decode cc (pc + 1) = .ok (.ifCond .ge off, 3)) (ht : ((pc + 1 : Nat) : Int) + off = (tgt : Int))
    (kt : y ≤ x → W p l e R s m args below meth c H locs cells slots Q (F0 m tgt ls rest)) (kf : ¬ y ≤ x → W p l e R s m args below meth c H locs cells slots Q (F0 m (pc + 4) ls rest)) : W p l e R s m args below meth c H locs cells slots Q (F0 m pc ls (.long y :: .long x :: rest)) :=
  W.lcmp hx hb h1 (lv_if_ge hx hb h2 ht (fun h => kt ((lg_ge x y).mp h)) (fun h => kf (fun q => h ((lg_ge x y).mpr q))))
theorem lc_gt (hx : p.tables.exec = Jvm.exec) (hb : c.code = cc) (h1 : decode cc pc = .ok (.lcmp, 1)) (h2 : decode cc (pc + 1) = .ok (.ifCond .gt off, 3)) (ht : ((pc + 1 : Nat) : Int) + off = (tgt : Int))
    (kt : y < x → W p l e R s m args below meth c H locs cells slots Q (F0 m tgt ls rest)) (kf : ¬ y < x → W p l e R s m args below meth c H locs cells slots Q (F0 m (pc + 4) ls rest)) : W p l e R s m args below meth c H locs cells slots Q (F0 m pc ls (.long y :: .long x :: rest)) :=
  W.lcmp hx hb h1 (lv_if_gt hx hb h2 ht (fun h => kt ((lg_gt x y).mp h)) (fun h => kf (fun q => h ((lg_gt x y).mpr q))))
theorem lc_ne (hx : p.tables.exec = Jvm.exec) (hb : c.code = cc) (h1 : decode cc pc = .ok (.lcmp, 1)) (h2 : decode cc (pc + 1) = .ok (.ifCond .ne off, 3)) (ht : ((pc + 1 : Nat) : Int) + off = (tgt : Int))
    (kt : ¬ x = y → W p l e R s m args below meth c H locs cells slots Q (F0 m tgt ls rest)) (kf : x = y → W p l e R s m args below meth c H locs cells slots Q (F0 m (pc + 4) ls rest)) : W p l e R s m args below meth c H locs cells slots Q (F0 m pc ls (.long y :: .long x :: rest)) :=
  W.lcmp hx hb h1 (lv_if_ne hx hb h2 ht (fun h => kt (fun q => h ((lg_eq x y).mpr q))) (fun h => kf ((lg_eq x y).mp h)))
end LC
/-- the plain side: a value with a name -/
def jL {α β : Type} (e : α) (f : α → β) : β := f e
theorem jlet {α β : Type} {e x : α} {f : α → Option β} {r : β} (hJ : jL e f = some r) (h : x = e) : f x = some r := by
  subst h
  exact hJ
theorem jt {c : Prop} [Decidable c] {α : Type} {a b : Option α} {r : α} (hJ : (if c then a else b) = some r) (h : c) : a = some r := by
  rw [if_pos h] at hJ
  exact hJ
theorem jf {c : Prop} [Decidable c] {α : Type} {a b : Option α} {r : α} (hJ : (if c then a else b) = some r) (h : ¬ c) : b = some r := by
  rw [if_neg h] at hJ
  exact hJ
theorem jg {c : Prop} [Decidable c] {α : Type} {b : Option α} {r : α} (hJ : (if c then none else b) = some r) : ¬ c ∧ b = some r := by
  by_cases h : c
  · rw [if_pos h] at hJ
    cases hJ
  · rw [if_neg h] at hJ
    exact ⟨h, hJ⟩
theorem jb {α β : Type} {a : Option α} {f : α → Option β} {r : β} (hJ : Option.bind a f = some r) : ∃ x, a = some x ∧ f x = some r := by
  cases a with
  | none => cases hJ
  | some x => exact ⟨x, rfl, hJ⟩
/-- how often a loop may turn -/
def FU : Nat := 2000
end
section
/-! the two objects with their arrays; more rows of the plain side -/
abbrev W0 (h0 hk : Nat) (dA : ClassId) (f0 : Int32) (ks : Nat → Int32) (f2 f3 : Int32) : va_W := [(h0, .inr (0, [.int f0, .ref hk, .int f2, .int f3])), (hk, .inl (dA, 9, .inl ks))]
abbrev W1 (h0 hv ht : Nat) (dA : ClassId) (mv ks : Nat → Int32) (f2 f3 f4 : Int32) : va_W := [(h0, .inr (1, [.ref hv, .ref ht, .int f2, .int f3, .int f4])), (hv, .inl (dA, 1025, .inl mv)), (ht, .inl (dA, 9, .inl ks))]
def dA0 (A : Nat → Prop) (h0 hk : Nat) : Prop := h0 ≠ hk ∧ A h0 ∧ A hk
def dA1 (A : Nat → Prop) (h0 hv ht : Nat) : Prop := h0 ≠ hv ∧ h0 ≠ ht ∧ hv ≠ ht ∧ A h0 ∧ A hv ∧ A ht
theorem d0_of {A : Nat → Prop} {h0 hk : Nat} {dA : ClassId} {f0 : Int32} {ks : Nat → Int32} {f2 f3 : Int32} (h : dA0 A h0 hk) : va_D A (W0 h0 hk dA f0 ks f2 f3) := by
  obtain ⟨h1, h2, h3⟩ := h
  refine ⟨fun i j p q hp hq he => ?_, fun k q hq => ?_⟩
  · match i, j, hp, hq with
    | 0, 0, _, _ => rfl
    | 1, 1, _, _ => rfl
    | 0, 1, hp, hq => cases hp; cases hq; exact absurd he h1
    | 1, 0, hp, hq => cases hp; cases hq; exact absurd he.symm h1
    | i + 2, _, hp, _ => simp at hp
    | 0, j + 2, _, hq => simp at hq
    | 1, j + 2, _, hq => simp at hq
  · match k, hq with
    | 0, hq => cases hq; exact h2
    | 1, hq => cases hq; exact h3
    | k + 2, hq => simp at hq
theorem d1_of {A : Nat → Prop} {h0 hv ht : Nat} {dA : ClassId} {mv ks : Nat → Int32} {f2 f3 f4 : Int32} (h : dA1 A h0 hv ht) : va_D A (W1 h0 hv ht dA mv ks f2 f3 f4) := by
  obtain ⟨h1, h2, h3, h4, h5, h6⟩ := h
  refine ⟨fun i j p q hp hq he => ?_, fun k q hq => ?_⟩
  · match i, j, hp, hq with
    | 0, 0, _, _ => rfl
    | 1, 1, _, _ => rfl
    | 2, 2, _, _ => rfl
    | 0, 1, hp, hq => cases hp; cases hq; exact absurd he h1
    | 1, 0, hp, hq => cases hp; cases hq; exact absurd he.symm h1
    | 0, 2, hp, hq => cases hp; cases hq; exact absurd he h2
    | 2, 0, hp, hq => cases hp; cases hq; exact absurd he.symm h2
    | 1, 2, hp, hq => cases hp; cases hq; exact absurd he h3
    | 2, 1, hp, hq => cases hp; cases hq; exact absurd he.symm h3
    | i + 3, _, hp, _ => simp at hp
    | 0, j + 3, _, hq => simp at hq
    | 1, j + 3, _, hq => simp at hq
    | 2, j + 3, _, hq => simp at hq
  · match k, hq with
    | 0, hq => cases hq; exact h4
    | 1, hq => cases hq; exact h5
    | 2, hq => cases hq; exact h6
    | k + 3, hq => simp at hq
section JN
variable {p : Program} {l : Launch} {e : Env} {R : Room} {s : State} {m : MethodId} {args : Array Value} {below : List Frame} {meth : Method} {c : Code} {H : Heap} {locs : List Loc} {cells slots : Nat} {Q : State → Prop} {g : JFrame}
/-- where paths meet -/
theorem jn (nL : Nat) (lv : List (Nat × Value)) (M : Nat) (st : List Value) (K : ∀ ls : Array Slot, lv_has ls nL lv → W p l e R s m args below meth c H locs cells slots Q (F0 m M ls st)) (body : (∀ ls : Array Slot, lv_has ls nL lv → W p l e R s m args below meth c H locs cells slots Q (F0 m M ls st)) → W p l e R s m args below meth c H locs cells slots Q g) : W p l e R s m args below meth c H locs cells slots Q g := body K
end JN
def jB2 {α β γ : Type} (a : Option (α × β)) (f : α → β → Option γ) : Option γ := Option.bind a (fun u => f u.1 u.2)
theorem jb2 {α β γ : Type} {a : Option (α × β)} {f : α → β → Option γ} {r : γ} (hJ : jB2 a f = some r) : ∃ x y, a = some (x, y) ∧ f x y = some r := by
  unfold jB2 at hJ
  obtain ⟨⟨x, y⟩, h1, h2⟩ := jb hJ
  exact ⟨x, y, h1, h2⟩
theorem jp2 {α β : Type} {a a' : α} {b b' : β} (h : some (a, b) = some (a', b')) : a = a' ∧ b = b' := by
  cases h
  exact ⟨rfl, rfl⟩
theorem jp3 {α β γ : Type} {a a' : α} {b b' : β} {c c' : γ} (h : some (a, b, c) = some (a', b', c')) : a = a' ∧ b = b' ∧ c = c' := by
  cases h
  exact ⟨rfl, rfl, rfl⟩
theorem nz {r : Int32} (h : ¬ ¬ (r = 0 ∨ r = 1)) : narrow .boolean (.int r) = .int r := by
  rcases Classical.not_not.mp h with rfl | rfl <;> rfl
end
section
set_option maxRecDepth 100000
/-! ShortestDigits.badCode(I)Z -/
def J0_badCode (p1 : Int32) : Option Int32 :=
  if p1 < 0 then
    some (1 : Int32)
  else
    if p1 < (1024 : Int32) then
      some (0 : Int32)
    else
      some (1 : Int32)
set_option maxHeartbeats 4000000 in
set_option maxRecDepth 100000 in
theorem m0_badCode (l : Launch) (D : va_G) (tys : List (ClassId × FieldType)) (H0 : Heap) (h0 : Nat) (hR : xR D H0 h0 0) (p1 : Int32) (r : Int32) (hJ : J0_badCode p1 = some r) : Met l yX0_badCode (ws_ yX0_badCode cX0_badCode 2 (some .boolean)) ({ frames := 0, cells := 0, slots := 0, locals := 0 } : Room) (roP D tys H0 [.ref h0, .int p1]) (roQ (.int r)) 0 0 noA := by
  refine ro_enter (by decide) (Nat.le_of_ble_eq_true rfl) ?_
  intro p e s m below meth c hF hr hlk hH hK ls hl
  have hl : lv_has ls 2 [(0, .ref h0), (1, .int p1)] := hl
  obtain ⟨hx, hb, hml, hown, hts⟩ := id hF
  unfold J0_badCode at hJ
  refine lv_iload_n hx hb dX0_badCode_0 rfl (lv_at hl 1 rfl) ?_
  refine lv_if_lt (tgt := 11) hx hb dX0_badCode_1 (by decide) (fun c_1 => ?_) (fun c_1 => ?_)
  · have hJ := jt hJ c_1
    refine lv_iconst (v := 1) hx hb dX0_badCode_11 (by decide) ?_
    refine lv_goto (tgt := 16) hx hb dX0_badCode_12 (by decide) ?_
    exact ro_zret hF hr hlk hH dX0_badCode_16 rfl hJ
  · have hJ := jf hJ c_1
    refine lv_iload_n hx hb dX0_badCode_4 rfl (lv_at hl 1 rfl) ?_
    refine lv_sipush (v := 1024) hx hb dX0_badCode_5 (by decide) ?_
    refine lv_icmp_lt (tgt := 15) hx hb dX0_badCode_8 (by decide) (fun c_2 => ?_) (fun c_2 => ?_)
    · have hJ := jt hJ c_2
      refine lv_iconst (v := 0) hx hb dX0_badCode_15 (by decide) ?_
      exact ro_zret hF hr hlk hH dX0_badCode_16 rfl hJ
    · have hJ := jf hJ c_2
      refine lv_iconst (v := 1) hx hb dX0_badCode_11 (by decide) ?_
      refine lv_goto (tgt := 16) hx hb dX0_badCode_12 (by decide) ?_
      exact ro_zret hF hr hlk hH dX0_badCode_16 rfl hJ
theorem k0_badCode {p : Program} {l : Launch} {e : Env} {R : Room} {s : State} {m : MethodId} {args : Array Value} {below : List Frame} {meth : Method} {c : Code} {H : Heap} {locs : List Loc} {cells slots : Nat} {Q : State → Prop} {cc : ByteArray} {nL pc : Nat} {ls : Array Slot} {rest : List Value} {D : va_G} {tys : List (ClassId × FieldType)} {b : Nat} (hF : CallFix p m c cc nL s args lw_all RX0) (hr : xR D H b 0) (hK : va_K D vwCl tys s) {p1 : Int32} {r : Int32} (hJ : J0_badCode p1 = some r) (hsz : ls.size = nL) (hW : (rest.map fun v => v.category).sum ≤ 8) (hdg : decode cc pc = .ok (.invokevirtual 21, 3)) (hR : 0 + 1 ≤ R.frames ∧ 8 + (2 + 11) + 0 ≤ R.locals) (hf : cells ≤ R.cells ∧ slots ≤ R.slots) (kk : W p l e R s m args below meth c H locs cells slots Q (F0 m (pc + 3) ls (.int r :: rest))) : W p l e R s m args below meth c H locs cells slots Q (F0 m pc ls (.int p1 :: .ref b :: rest)) :=
  ro_call (n := 1) (ci := 0) hF (m0_badCode l D tys H b hr p1 r hJ) (lw_V q61 q63 qs0 q33 q64) (by decide +kernel) rfl rfl hR hr hK rfl rfl rfl hsz rfl hW hdg hf kk
/-! ShortestDigits.unitsOf(I)I -/
def J0_unitsOf (p1 : Int32) : Option Int32 :=
  jL (p1 >>> ((6 : Int32) &&& 31)) (fun (x2_1 : Int32) =>
  jL (p1 &&& (63 : Int32)) (fun (x3_2 : Int32) =>
  if x2_1 = 0 then
    some x3_2
  else
    some (((64 : Int32) + x3_2) <<< ((x2_1 - (1 : Int32)) &&& 31))))
set_option maxHeartbeats 4000000 in
set_option maxRecDepth 100000 in
theorem m0_unitsOf (l : Launch) (D : va_G) (tys : List (ClassId × FieldType)) (H0 : Heap) (h0 : Nat) (hR : xR D H0 h0 0) (p1 : Int32) (r : Int32) (hJ : J0_unitsOf p1 = some r) : Met l yX0_unitsOf (ws_ yX0_unitsOf cX0_unitsOf 4 (some .int)) ({ frames := 0, cells := 0, slots := 0, locals := 0 } : Room) (roP D tys H0 [.ref h0, .int p1]) (roQ (.int r)) 0 0 noA := by
  refine ro_enter (by decide) (Nat.le_of_ble_eq_true rfl) ?_
  intro p e s m below meth c hF hr hlk hH hK ls hl
  have hl : lv_has ls 4 [(0, .ref h0), (1, .int p1)] := hl
  obtain ⟨hx, hb, hml, hown, hts⟩ := id hF
  unfold J0_unitsOf at hJ
  refine lv_iload_n hx hb dX0_unitsOf_0 rfl (lv_at hl 1 rfl) ?_
  refine lv_bipush (v := 6) hx hb dX0_unitsOf_1 (by decide) ?_
  refine lv_ishr hx hb dX0_unitsOf_3 ?_
  refine lv_topi (fun x2_1 ex2_1 => ?_)
  have hJ := jlet hJ ex2_1
  refine lv_istore_n (lv' := [(2, .int x2_1), (0, .ref h0), (1, .int p1)]) hx hb dX0_unitsOf_4 rfl hl (by decide) rfl (fun ls hl => ?_)
  refine lv_iload_n hx hb dX0_unitsOf_5 rfl (lv_at hl 2 rfl) ?_
  refine lv_bipush (v := 63) hx hb dX0_unitsOf_6 (by decide) ?_
  refine lv_iand hx hb dX0_unitsOf_8 ?_
  refine lv_topi (fun x3_2 ex3_2 => ?_)
  have hJ := jlet hJ ex3_2
  refine lv_istore_n (lv' := [(3, .int x3_2), (2, .int x2_1), (0, .ref h0), (1, .int p1)]) hx hb dX0_unitsOf_9 rfl hl (by decide) rfl (fun ls hl => ?_)
  refine lv_iload_n hx hb dX0_unitsOf_10 rfl (lv_at hl 1 rfl) ?_
  refine lv_if_ne (tgt := 18) hx hb dX0_unitsOf_11 (by decide) (fun c_3 => ?_) (fun c_3 => ?_)
  · have hJ := jf hJ c_3
    refine lv_bipush (v := 64) hx hb dX0_unitsOf_18 (by decide) ?_
    refine lv_iload_n hx hb dX0_unitsOf_20 rfl (lv_at hl 0 rfl) ?_
    refine lv_iadd hx hb dX0_unitsOf_21 ?_
    refine lv_iload_n hx hb dX0_unitsOf_22 rfl (lv_at hl 1 rfl) ?_
    refine lv_iconst (v := 1) hx hb dX0_unitsOf_23 (by decide) ?_
    refine lv_isub hx hb dX0_unitsOf_24 ?_
    refine lv_ishl hx hb dX0_unitsOf_25 ?_
    exact ro_iret hF hr hlk hH dX0_unitsOf_26 hJ
  · have hJ := jt hJ c_3
    refine lv_iload_n hx hb dX0_unitsOf_14 rfl (lv_at hl 0 rfl) ?_
    refine lv_goto (tgt := 26) hx hb dX0_unitsOf_15 (by decide) ?_
    exact ro_iret hF hr hlk hH dX0_unitsOf_26 hJ
theorem k0_unitsOf {p : Program} {l : Launch} {e : Env} {R : Room} {s : State} {m : MethodId} {args : Array Value} {below : List Frame} {meth : Method} {c : Code} {H : Heap} {locs : List Loc} {cells slots : Nat} {Q : State → Prop} {cc : ByteArray} {nL pc : Nat} {ls : Array Slot} {rest : List Value} {D : va_G} {tys : List (ClassId × FieldType)} {b : Nat} (hF : CallFix p m c cc nL s args lw_all RX0) (hr : xR D H b 0) (hK : va_K D vwCl tys s) {p1 : Int32} {r : Int32} (hJ : J0_unitsOf p1 = some r) (hsz : ls.size = nL) (hW : (rest.map fun v => v.category).sum ≤ 8) (hdg : decode cc pc = .ok (.invokevirtual 13, 3)) (hR : 0 + 1 ≤ R.frames ∧ 8 + (4 + 11) + 0 ≤ R.locals) (hf : cells ≤ R.cells ∧ slots ≤ R.slots) (kk : W p l e R s m args below meth c H locs cells slots Q (F0 m (pc + 3) ls (.int r :: rest))) : W p l e R s m args below meth c H locs cells slots Q (F0 m pc ls (.int p1 :: .ref b :: rest)) :=
  ro_call (n := 1) (ci := 0) hF (m0_unitsOf l D tys H b hr p1 r hJ) (lw_V q65 q67 qs1 q33 q68) (by decide +kernel) rfl rfl hR hr hK rfl rfl rfl hsz rfl hW hdg hf kk
/-! ShortestDigits.steps(I)J -/
def J0_steps (p1 : Int32) : Option Int64 :=
  Option.bind (J0_unitsOf p1) (fun (r_2 : Int32) =>
  some ((r_2.toInt64) * (2000000000000 : Int64)))
set_option maxHeartbeats 4000000 in
set_option maxRecDepth 100000 in
theorem m0_steps (l : Launch) (D : va_G) (tys : List (ClassId × FieldType)) (H0 : Heap) (h0 : Nat) (hR : xR D H0 h0 0) (p1 : Int32) (r : Int64) (hJ : J0_steps p1 = some r) : Met l yX0_steps (ws_ yX0_steps cX0_steps 2 (some .long)) ({ frames := 1, cells := 0, slots := 0, locals := 23 } : Room) (roP D tys H0 [.ref h0, .int p1]) (roQ (.long r)) 0 0 noA := by
  refine ro_enter (by decide) (Nat.le_of_ble_eq_true rfl) ?_
  intro p e s m below meth c hF hr hlk hH hK ls hl
  have hl : lv_has ls 2 [(0, .ref h0), (1, .int p1)] := hl
  obtain ⟨hx, hb, hml, hown, hts⟩ := id hF
  unfold J0_steps at hJ
  refine lv_aload_n hx hb dX0_steps_0 rfl (lv_at hl 0 rfl) ?_
  refine lv_iload_n hx hb dX0_steps_1 rfl (lv_at hl 1 rfl) ?_
  obtain ⟨r_2, h_1, hJ⟩ := jb hJ
  refine k0_unitsOf hF hR hK h_1 hl.1 (Nat.le_of_ble_eq_true rfl) dX0_steps_2 ⟨Nat.le_of_ble_eq_true rfl, Nat.le_of_ble_eq_true rfl⟩ ⟨Nat.zero_le _, Nat.zero_le _⟩ ?_
  refine lv_i2l hx hb dX0_steps_5 rfl ?_
  refine lv_ldc2 hx hb hown (hts _ q116) dX0_steps_6 ?_
  refine lv_lmul hx hb dX0_steps_9 ?_
  exact ro_lret hF hr hlk hH dX0_steps_10 hJ
theorem k0_steps {p : Program} {l : Launch} {e : Env} {R : Room} {s : State} {m : MethodId} {args : Array Value} {below : List Frame} {meth : Method} {c : Code} {H : Heap} {locs : List Loc} {cells slots : Nat} {Q : State → Prop} {cc : ByteArray} {nL pc : Nat} {ls : Array Slot} {rest : List Value} {D : va_G} {tys : List (ClassId × FieldType)} {b : Nat} (hF : CallFix p m c cc nL s args lw_all RX0) (hr : xR D H b 0) (hK : va_K D vwCl tys s) {p1 : Int32} {r : Int64} (hJ : J0_steps p1 = some r) (hsz : ls.size = nL) (hW : (rest.map fun v => v.category).sum ≤ 8) (hdg : decode cc pc = .ok (.invokevirtual 59, 3)) (hR : 1 + 1 ≤ R.frames ∧ 8 + (2 + 11) + 23 ≤ R.locals) (hf : cells ≤ R.cells ∧ slots ≤ R.slots) (kk : W p l e R s m args below meth c H locs cells slots Q (F0 m (pc + 3) ls (.long r :: rest))) : W p l e R s m args below meth c H locs cells slots Q (F0 m pc ls (.int p1 :: .ref b :: rest)) :=
  ro_call (n := 1) (ci := 0) hF (m0_steps l D tys H b hr p1 r hJ) (lw_V q112 q114 qs8 q33 q115) (by decide +kernel) rfl rfl hR hr hK rfl rfl rfl hsz rfl hW hdg hf kk
/-! ShortestDigits.borderAbove(I)J -/
def J0_borderAbove (p1 : Int32) : Option Int64 :=
  Option.bind (J0_unitsOf p1) (fun (r_2 : Int32) =>
  Option.bind (J0_unitsOf (p1 + (1 : Int32))) (fun (r_4 : Int32) =>
  some (((r_2 + r_4).toInt64) * (1000000000000 : Int64))))
set_option maxHeartbeats 4000000 in
set_option maxRecDepth 100000 in
theorem m0_borderAbove (l : Launch) (D : va_G) (tys : List (ClassId × FieldType)) (H0 : Heap) (h0 : Nat) (hR : xR D H0 h0 0) (p1 : Int32) (r : Int64) (hJ : J0_borderAbove p1 = some r) : Met l yX0_borderAbove (ws_ yX0_borderAbove cX0_borderAbove 2 (some .long)) ({ frames := 1, cells := 0, slots := 0, locals := 23 } : Room) (roP D tys H0 [.ref h0, .int p1]) (roQ (.long r)) 0 0 noA := by
  refine ro_enter (by decide) (Nat.le_of_ble_eq_true rfl) ?_
  intro p e s m below meth c hF hr hlk hH hK ls hl
  have hl : lv_has ls 2 [(0, .ref h0), (1, .int p1)] := hl
  obtain ⟨hx, hb, hml, hown, hts⟩ := id hF
  unfold J0_borderAbove at hJ
  refine lv_aload_n hx hb dX0_borderAbove_0 rfl (lv_at hl 0 rfl) ?_
  refine lv_iload_n hx hb dX0_borderAbove_1 rfl (lv_at hl 1 rfl) ?_
  obtain ⟨r_2, h_1, hJ⟩ := jb hJ
  refine k0_unitsOf hF hR hK h_1 hl.1 (Nat.le_of_ble_eq_true rfl) dX0_borderAbove_2 ⟨Nat.le_of_ble_eq_true rfl, Nat.le_of_ble_eq_true rfl⟩ ⟨Nat.zero_le _, Nat.zero_le _⟩ ?_
  refine lv_aload_n hx hb dX0_borderAbove_5 rfl (lv_at hl 0 rfl) ?_
  refine lv_iload_n hx hb dX0_borderAbove_6 rfl (lv_at hl 1 rfl) ?_
  refine lv_iconst (v := 1) hx hb dX0_borderAbove_7 (by decide) ?_
  refine lv_iadd hx hb dX0_borderAbove_8 ?_
  obtain ⟨r_4, h_3, hJ⟩ := jb hJ
  refine k0_unitsOf hF hR hK h_3 hl.1 (Nat.le_of_ble_eq_true rfl) dX0_borderAbove_9 ⟨Nat.le_of_ble_eq_true rfl, Nat.le_of_ble_eq_true rfl⟩ ⟨Nat.zero_le _, Nat.zero_le _⟩ ?_
  refine lv_iadd hx hb dX0_borderAbove_12 ?_
  refine lv_i2l hx hb dX0_borderAbove_13 rfl ?_
  refine lv_ldc2 hx hb hown (hts _ q90) dX0_borderAbove_14 ?_
  refine lv_lmul hx hb dX0_borderAbove_17 ?_
  exact ro_lret hF hr hlk hH dX0_borderAbove_18 hJ
theorem k0_borderAbove {p : Program} {l : Launch} {e : Env} {R : Room} {s : State} {m : MethodId} {args : Array Value} {below : List Frame} {meth : Method} {c : Code} {H : Heap} {locs : List Loc} {cells slots : Nat} {Q : State → Prop} {cc : ByteArray} {nL pc : Nat} {ls : Array Slot} {rest : List Value} {D : va_G} {tys : List (ClassId × FieldType)} {b : Nat} (hF : CallFix p m c cc nL s args lw_all RX0) (hr : xR D H b 0) (hK : va_K D vwCl tys s) {p1 : Int32} {r : Int64} (hJ : J0_borderAbove p1 = some r) (hsz : ls.size = nL) (hW : (rest.map fun v => v.category).sum ≤ 8) (hdg : decode cc pc = .ok (.invokevirtual 38, 3)) (hR : 1 + 1 ≤ R.frames ∧ 8 + (2 + 11) + 23 ≤ R.locals) (hf : cells ≤ R.cells ∧ slots ≤ R.slots) (kk : W p l e R s m args below meth c H locs cells slots Q (F0 m (pc + 3) ls (.long r :: rest))) : W p l e R s m args below meth c H locs cells slots Q (F0 m pc ls (.int p1 :: .ref b :: rest)) :=
  ro_call (n := 1) (ci := 0) hF (m0_borderAbove l D tys H b hr p1 r hJ) (lw_V q95 q97 qs6 q33 q98) (by decide +kernel) rfl rfl hR hr hK rfl rfl rfl hsz rfl hW hdg hf kk
/-! ShortestDigits.units(I)I -/
def J0_units (p1 : Int32) : Option Int32 :=
  Option.bind (J0_badCode p1) (fun (r_2 : Int32) =>
  if r_2 = 0 then
    Option.bind (J0_unitsOf p1) (fun (r_5 : Int32) =>
    some r_5)
  else
    some (-1 : Int32))
set_option maxHeartbeats 4000000 in
set_option maxRecDepth 100000 in
theorem m0_units (l : Launch) (D : va_G) (tys : List (ClassId × FieldType)) (H0 : Heap) (h0 : Nat) (hR : xR D H0 h0 0) (p1 : Int32) (r : Int32) (hJ : J0_units p1 = some r) : Met l yX0_units (ws_ yX0_units cX0_units 2 (some .int)) ({ frames := 1, cells := 0, slots := 0, locals := 23 } : Room) (roP D tys H0 [.ref h0, .int p1]) (roQ (.int r)) 0 0 noA := by
  refine ro_enter (by decide) (Nat.le_of_ble_eq_true rfl) ?_
  intro p e s m below meth c hF hr hlk hH hK ls hl
  have hl : lv_has ls 2 [(0, .ref h0), (1, .int p1)] := hl
  obtain ⟨hx, hb, hml, hown, hts⟩ := id hF
  unfold J0_units at hJ
  refine lv_aload_n hx hb dX0_units_0 rfl (lv_at hl 0 rfl) ?_
  refine lv_iload_n hx hb dX0_units_1 rfl (lv_at hl 1 rfl) ?_
  obtain ⟨r_2, h_1, hJ⟩ := jb hJ
  refine k0_badCode hF hR hK h_1 hl.1 (Nat.le_of_ble_eq_true rfl) dX0_units_2 ⟨Nat.le_of_ble_eq_true rfl, Nat.le_of_ble_eq_true rfl⟩ ⟨Nat.zero_le _, Nat.zero_le _⟩ ?_
  refine lv_if_eq (tgt := 12) hx hb dX0_units_5 (by decide) (fun c_3 => ?_) (fun c_3 => ?_)
  · have hJ := jt hJ c_3
    refine lv_aload_n hx hb dX0_units_12 rfl (lv_at hl 0 rfl) ?_
    refine lv_iload_n hx hb dX0_units_13 rfl (lv_at hl 1 rfl) ?_
    obtain ⟨r_5, h_4, hJ⟩ := jb hJ
    refine k0_unitsOf hF hR hK h_4 hl.1 (Nat.le_of_ble_eq_true rfl) dX0_units_14 ⟨Nat.le_of_ble_eq_true rfl, Nat.le_of_ble_eq_true rfl⟩ ⟨Nat.zero_le _, Nat.zero_le _⟩ ?_
    exact ro_iret hF hr hlk hH dX0_units_17 hJ
  · have hJ := jf hJ c_3
    refine lv_iconst (v := -1) hx hb dX0_units_8 (by decide) ?_
    refine lv_goto (tgt := 17) hx hb dX0_units_9 (by decide) ?_
    exact ro_iret hF hr hlk hH dX0_units_17 hJ
/-! ShortestDigits.badDecimal(II)Z -/
def J0_badDecimal (p1 : Int32) (p2 : Int32) : Option Int32 :=
  if p1 < 0 then
    some (1 : Int32)
  else
    if (99999999 : Int32) < p1 then
      some (1 : Int32)
    else
      if p2 < (-12 : Int32) then
        some (1 : Int32)
      else
        if p2 ≤ (6 : Int32) then
          some (0 : Int32)
        else
          some (1 : Int32)
set_option maxHeartbeats 4000000 in
set_option maxRecDepth 100000 in
theorem m0_badDecimal (l : Launch) (D : va_G) (tys : List (ClassId × FieldType)) (H0 : Heap) (h0 : Nat) (hR : xR D H0 h0 0) (p1 : Int32) (p2 : Int32) (r : Int32) (hJ : J0_badDecimal p1 p2 = some r) : Met l yX0_badDecimal (ws_ yX0_badDecimal cX0_badDecimal 3 (some .boolean)) ({ frames := 0, cells := 0, slots := 0, locals := 0 } : Room) (roP D tys H0 [.ref h0, .int p1, .int p2]) (roQ (.int r)) 0 0 noA := by
  refine ro_enter (by decide) (Nat.le_of_ble_eq_true rfl) ?_
  intro p e s m below meth c hF hr hlk hH hK ls hl
  have hl : lv_has ls 3 [(0, .ref h0), (1, .int p1), (2, .int p2)] := hl
  obtain ⟨hx, hb, hml, hown, hts⟩ := id hF
  unfold J0_badDecimal at hJ
  refine lv_iload_n hx hb dX0_badDecimal_0 rfl (lv_at hl 1 rfl) ?_
  refine lv_if_lt (tgt := 22) hx hb dX0_badDecimal_1 (by decide) (fun c_1 => ?_) (fun c_1 => ?_)
  · have hJ := jt hJ c_1
    refine lv_iconst (v := 1) hx hb dX0_badDecimal_22 (by decide) ?_
    refine lv_goto (tgt := 27) hx hb dX0_badDecimal_23 (by decide) ?_
    exact ro_zret hF hr hlk hH dX0_badDecimal_27 rfl hJ
  · have hJ := jf hJ c_1
    refine lv_iload_n hx hb dX0_badDecimal_4 rfl (lv_at hl 1 rfl) ?_
    refine lv_ldc hx hb hown (hts _ q77) dX0_badDecimal_5 ?_
    refine lv_icmp_gt (tgt := 22) hx hb dX0_badDecimal_7 (by decide) (fun c_2 => ?_) (fun c_2 => ?_)
    · have hJ := jt hJ c_2
      refine lv_iconst (v := 1) hx hb dX0_badDecimal_22 (by decide) ?_
      refine lv_goto (tgt := 27) hx hb dX0_badDecimal_23 (by decide) ?_
      exact ro_zret hF hr hlk hH dX0_badDecimal_27 rfl hJ
    · have hJ := jf hJ c_2
      refine lv_iload_n hx hb dX0_badDecimal_10 rfl (lv_at hl 2 rfl) ?_
      refine lv_bipush (v := -12) hx hb dX0_badDecimal_11 (by decide) ?_
      refine lv_icmp_lt (tgt := 22) hx hb dX0_badDecimal_13 (by decide) (fun c_3 => ?_) (fun c_3 => ?_)
      · have hJ := jt hJ c_3
        refine lv_iconst (v := 1) hx hb dX0_badDecimal_22 (by decide) ?_
        refine lv_goto (tgt := 27) hx hb dX0_badDecimal_23 (by decide) ?_
        exact ro_zret hF hr hlk hH dX0_badDecimal_27 rfl hJ
      · have hJ := jf hJ c_3
        refine lv_iload_n hx hb dX0_badDecimal_16 rfl (lv_at hl 2 rfl) ?_
        refine lv_bipush (v := 6) hx hb dX0_badDecimal_17 (by decide) ?_
        refine lv_icmp_le (tgt := 26) hx hb dX0_badDecimal_19 (by decide) (fun c_4 => ?_) (fun c_4 => ?_)
        · have hJ := jt hJ c_4
          refine lv_iconst (v := 0) hx hb dX0_badDecimal_26 (by decide) ?_
          exact ro_zret hF hr hlk hH dX0_badDecimal_27 rfl hJ
        · have hJ := jf hJ c_4
          refine lv_iconst (v := 1) hx hb dX0_badDecimal_22 (by decide) ?_
          refine lv_goto (tgt := 27) hx hb dX0_badDecimal_23 (by decide) ?_
          exact ro_zret hF hr hlk hH dX0_badDecimal_27 rfl hJ
theorem k0_badDecimal {p : Program} {l : Launch} {e : Env} {R : Room} {s : State} {m : MethodId} {args : Array Value} {below : List Frame} {meth : Method} {c : Code} {H : Heap} {locs : List Loc} {cells slots : Nat} {Q : State → Prop} {cc : ByteArray} {nL pc : Nat} {ls : Array Slot} {rest : List Value} {D : va_G} {tys : List (ClassId × FieldType)} {b : Nat} (hF : CallFix p m c cc nL s args lw_all RX0) (hr : xR D H b 0) (hK : va_K D vwCl tys s) {p1 : Int32} {p2 : Int32} {r : Int32} (hJ : J0_badDecimal p1 p2 = some r) (hsz : ls.size = nL) (hW : (rest.map fun v => v.category).sum ≤ 8) (hdg : decode cc pc = .ok (.invokevirtual 41, 3)) (hR : 0 + 1 ≤ R.frames ∧ 8 + (3 + 11) + 0 ≤ R.locals) (hf : cells ≤ R.cells ∧ slots ≤ R.slots) (kk : W p l e R s m args below meth c H locs cells slots Q (F0 m (pc + 3) ls (.int r :: rest))) : W p l e R s m args below meth c H locs cells slots Q (F0 m pc ls (.int p2 :: .int p1 :: .ref b :: rest)) :=
  ro_call (n := 2) (ci := 0) hF (m0_badDecimal l D tys H b hr p1 p2 r hJ) (lw_V q73 q75 qs2 q33 q76) (by decide +kernel) rfl rfl hR hr hK rfl rfl rfl hsz rfl hW hdg hf kk
/-! ShortestDigits.tenTo(I)J -/
def L0_tenTo_5 : Nat → Int32 → Int64 → Int32 → Option Int64
  | 0, _, _, _ => none
  | k + 1, x1, x2, x4 =>
    if x1 ≤ x4 then
      some x2
    else
      jL (x2 * (10 : Int64)) (fun (x2_2 : Int64) =>
      jL (x4 + (1 : Int32)) (fun (x4_3 : Int32) =>
      L0_tenTo_5 k x1 x2_2 x4_3))
def J0_tenTo (p1 : Int32) : Option Int64 :=
  L0_tenTo_5 FU p1 (1 : Int64) (0 : Int32)
set_option maxHeartbeats 4000000 in
set_option maxRecDepth 100000 in
theorem l0_tenTo_5 {p : Program} {l : Launch} {e : Env} {s : State} {m : MethodId} {below : List Frame} {meth : Method} {c : Code} {D : va_G} {tys : List (ClassId × FieldType)} {H0 : Heap} {h0 : Nat} (hR : xR D H0 h0 0) (p1 : Int32) (hF : CallFix p m c cX0_tenTo 5 s ([.ref h0, .int p1] : List Value).toArray lw_all RX0) (hr : meth.sig.returnType = (some .long)) (hlk : meth.locks = false) (hH : s.heap = H0) (hK : va_K D vwCl tys s) (r : Int64) :
    ∀ (k : Nat) (x1 : Int32) (x2 : Int64) (x4 : Int32), L0_tenTo_5 k x1 x2 x4 = some r → ∀ (ls : Array Slot), lv_has ls 5 [(0, .ref h0), (1, .int x1), (2, .long x2), (4, .int x4)] → W p l e ({ frames := 0, cells := 0, slots := 0, locals := 0 } : Room) s m ([.ref h0, .int p1] : List Value).toArray below meth c H0 [] 0 0 (MQ below (roQ (.long r)) ([.ref h0, .int p1] : List Value).toArray s 0 0 noA) (F0 m 5 ls []) := by
  obtain ⟨hx, hb, hml, hown, hts⟩ := id hF
  intro k
  induction k with
  | zero =>
    intro x1 x2 x4 hJ
    rw [L0_tenTo_5] at hJ
    cases hJ
  | succ k ih =>
    intro x1 x2 x4 hJ ls hl
    rw [L0_tenTo_5] at hJ
    refine lv_iload hx hb dX0_tenTo_5 (lv_at hl 3 rfl) ?_
    refine lv_iload_n hx hb dX0_tenTo_7 rfl (lv_at hl 1 rfl) ?_
    refine lv_icmp_ge (tgt := 23) hx hb dX0_tenTo_8 (by decide) (fun c_1 => ?_) (fun c_1 => ?_)
    · have hJ := jt hJ c_1
      refine lv_lload_n hx hb dX0_tenTo_23 rfl (lv_at hl 2 rfl) ?_
      exact ro_lret hF hr hlk hH dX0_tenTo_24 hJ
    · have hJ := jf hJ c_1
      refine lv_lload_n hx hb dX0_tenTo_11 rfl (lv_at hl 2 rfl) ?_
      refine lv_ldc2 hx hb hown (hts _ q86) dX0_tenTo_12 ?_
      refine lv_lmul hx hb dX0_tenTo_15 ?_
      refine lv_topl (fun x2_2 ex2_2 => ?_)
      have hJ := jlet hJ ex2_2
      refine lv_lstore_n (lv' := [(2, .long x2_2), (0, .ref h0), (1, .int x1), (4, .int x4)]) hx hb dX0_tenTo_16 rfl hl (by decide) rfl (fun ls hl => ?_)
      obtain ⟨x4_3, ex4_3⟩ : ∃ y : Int32, y = x4 + (1 : Int32) := ⟨_, rfl⟩
      have hJ := jlet hJ ex4_3
      refine lv_iinc (v := x4_3) (lv' := [(4, .int x4_3), (2, .long x2_2), (0, .ref h0), (1, .int x1)]) hx hb dX0_tenTo_17 hl (k := 3) rfl (by rw [ex4_3]; rfl) (by decide) rfl (fun ls hl => ?_)
      refine lv_goto (tgt := 5) hx hb dX0_tenTo_20 (by decide) ?_
      exact ih x1 x2_2 x4_3 hJ ls (lv_sub hl [2, 3, 1, 0] rfl)
set_option maxHeartbeats 4000000 in
set_option maxRecDepth 100000 in
theorem m0_tenTo (l : Launch) (D : va_G) (tys : List (ClassId × FieldType)) (H0 : Heap) (h0 : Nat) (hR : xR D H0 h0 0) (p1 : Int32) (r : Int64) (hJ : J0_tenTo p1 = some r) : Met l yX0_tenTo (ws_ yX0_tenTo cX0_tenTo 5 (some .long)) ({ frames := 0, cells := 0, slots := 0, locals := 0 } : Room) (roP D tys H0 [.ref h0, .int p1]) (roQ (.long r)) 0 0 noA := by
  refine ro_enter (by decide) (Nat.le_of_ble_eq_true rfl) ?_
  intro p e s m below meth c hF hr hlk hH hK ls hl
  have hl : lv_has ls 5 [(0, .ref h0), (1, .int p1)] := hl
  obtain ⟨hx, hb, hml, hown, hts⟩ := id hF
  unfold J0_tenTo at hJ
  refine lv_lconst (v := 1) hx hb dX0_tenTo_0 (by decide) ?_
  refine lv_lstore_n (lv' := [(2, .long (1 : Int64)), (0, .ref h0), (1, .int p1)]) hx hb dX0_tenTo_1 rfl hl (by decide) rfl (fun ls hl => ?_)
  refine lv_iconst (v := 0) hx hb dX0_tenTo_2 (by decide) ?_
  refine lv_istore (lv' := [(4, .int (0 : Int32)), (2, .long (1 : Int64)), (0, .ref h0), (1, .int p1)]) hx hb dX0_tenTo_3 hl (by decide) rfl (fun ls hl => ?_)
  exact l0_tenTo_5 hR p1 hF hr hlk hH hK r FU p1 (1 : Int64) (0 : Int32) hJ ls (lv_sub hl [2, 3, 1, 0] rfl)
theorem k0_tenTo {p : Program} {l : Launch} {e : Env} {R : Room} {s : State} {m : MethodId} {args : Array Value} {below : List Frame} {meth : Method} {c : Code} {H : Heap} {locs : List Loc} {cells slots : Nat} {Q : State → Prop} {cc : ByteArray} {nL pc : Nat} {ls : Array Slot} {rest : List Value} {D : va_G} {tys : List (ClassId × FieldType)} {b : Nat} (hF : CallFix p m c cc nL s args lw_all RX0) (hr : xR D H b 0) (hK : va_K D vwCl tys s) {p1 : Int32} {r : Int64} (hJ : J0_tenTo p1 = some r) (hsz : ls.size = nL) (hW : (rest.map fun v => v.category).sum ≤ 8) (hdg : decode cc pc = .ok (.invokevirtual 28, 3)) (hR : 0 + 1 ≤ R.frames ∧ 8 + (5 + 11) + 0 ≤ R.locals) (hf : cells ≤ R.cells ∧ slots ≤ R.slots) (kk : W p l e R s m args below meth c H locs cells slots Q (F0 m (pc + 3) ls (.long r :: rest))) : W p l e R s m args below meth c H locs cells slots Q (F0 m pc ls (.int p1 :: .ref b :: rest)) :=
  ro_call (n := 1) (ci := 0) hF (m0_tenTo l D tys H b hr p1 r hJ) (lw_V q82 q84 qs4 q33 q85) (by decide +kernel) rfl rfl hR hr hK rfl rfl rfl hsz rfl hW hdg hf kk
/-! ShortestDigits.stepsOf(II)J -/
def J0_stepsOf (p1 : Int32) (p2 : Int32) : Option Int64 :=
  if p2 < 0 then
    Option.bind (J0_tenTo (-p2)) (fun (r_3 : Int64) =>
    if r_3 = 0 then none else
    if ((p1.toInt64) / r_3) ≤ (8000 : Int64) then
      Option.bind (J0_tenTo ((12 : Int32) + p2)) (fun (r_6 : Int64) =>
      some ((p1.toInt64) * ((1024 : Int64) * r_6)))
    else
      some (9000000000000000000 : Int64))
  else
    Option.bind (J0_tenTo p2) (fun (r_9 : Int64) =>
    jL ((p1.toInt64) * r_9) (fun (x3_10 : Int64) =>
    if x3_10 ≤ (8000 : Int64) then
      some ((x3_10 * (1024 : Int64)) * (1000000000000 : Int64))
    else
      some (9000000000000000000 : Int64)))
set_option maxHeartbeats 4000000 in
set_option maxRecDepth 100000 in
theorem m0_stepsOf (l : Launch) (D : va_G) (tys : List (ClassId × FieldType)) (H0 : Heap) (h0 : Nat) (hR : xR D H0 h0 0) (p1 : Int32) (p2 : Int32) (r : Int64) (hJ : J0_stepsOf p1 p2 = some r) : Met l yX0_stepsOf (ws_ yX0_stepsOf cX0_stepsOf 5 (some .long)) ({ frames := 1, cells := 0, slots := 0, locals := 24 } : Room) (roP D tys H0 [.ref h0, .int p1, .int p2]) (roQ (.long r)) 0 0 noA := by
  refine ro_enter (by decide) (Nat.le_of_ble_eq_true rfl) ?_
  intro p e s m below meth c hF hr hlk hH hK ls hl
  have hl : lv_has ls 5 [(0, .ref h0), (1, .int p1), (2, .int p2)] := hl
  obtain ⟨hx, hb, hml, hown, hts⟩ := id hF
  unfold J0_stepsOf at hJ
  refine lv_iload_n hx hb dX0_stepsOf_0 rfl (lv_at hl 2 rfl) ?_
  refine lv_if_lt (tgt := 37) hx hb dX0_stepsOf_1 (by decide) (fun c_1 => ?_) (fun c_1 => ?_)
  · have hJ := jt hJ c_1
    refine lv_aload_n hx hb dX0_stepsOf_37 rfl (lv_at hl 0 rfl) ?_
    refine lv_iload_n hx hb dX0_stepsOf_38 rfl (lv_at hl 2 rfl) ?_
    refine lv_ineg hx hb dX0_stepsOf_39 ?_
    obtain ⟨r_3, h_2, hJ⟩ := jb hJ
    refine k0_tenTo hF hR hK h_2 hl.1 (Nat.le_of_ble_eq_true rfl) dX0_stepsOf_40 ⟨Nat.le_of_ble_eq_true rfl, Nat.le_of_ble_eq_true rfl⟩ ⟨Nat.zero_le _, Nat.zero_le _⟩ ?_
    refine lv_lstore_n (lv' := [(3, .long r_3), (0, .ref h0), (1, .int p1), (2, .int p2)]) hx hb dX0_stepsOf_43 rfl hl (by decide) rfl (fun ls hl => ?_)
    refine lv_iload_n hx hb dX0_stepsOf_44 rfl (lv_at hl 2 rfl) ?_
    refine lv_i2l hx hb dX0_stepsOf_45 rfl ?_
    refine lv_lload_n hx hb dX0_stepsOf_46 rfl (lv_at hl 0 rfl) ?_
    obtain ⟨g_7, hJ⟩ := jg hJ
    refine lv_ldiv hx hb dX0_stepsOf_47 g_7 ?_
    refine lv_ldc2 hx hb hown (hts _ q87) dX0_stepsOf_48 ?_
    refine lc_le (tgt := 59) hx hb dX0_stepsOf_51 dX0_stepsOf_52 (by decide) (fun c_4 => ?_) (fun c_4 => ?_)
    · have hJ := jt hJ c_4
      refine lv_iload_n hx hb dX0_stepsOf_59 rfl (lv_at hl 2 rfl) ?_
      refine lv_i2l hx hb dX0_stepsOf_60 rfl ?_
      refine lv_ldc2 hx hb hown (hts _ q89) dX0_stepsOf_61 ?_
      refine lv_aload_n hx hb dX0_stepsOf_64 rfl (lv_at hl 1 rfl) ?_
      refine lv_bipush (v := 12) hx hb dX0_stepsOf_65 (by decide) ?_
      refine lv_iload_n hx hb dX0_stepsOf_67 rfl (lv_at hl 3 rfl) ?_
      refine lv_iadd hx hb dX0_stepsOf_68 ?_
      obtain ⟨r_6, h_5, hJ⟩ := jb hJ
      refine k0_tenTo hF hR hK h_5 hl.1 (Nat.le_of_ble_eq_true rfl) dX0_stepsOf_69 ⟨Nat.le_of_ble_eq_true rfl, Nat.le_of_ble_eq_true rfl⟩ ⟨Nat.zero_le _, Nat.zero_le _⟩ ?_
      refine lv_lmul hx hb dX0_stepsOf_72 ?_
      refine lv_lmul hx hb dX0_stepsOf_73 ?_
      exact ro_lret hF hr hlk hH dX0_stepsOf_74 hJ
    · have hJ := jf hJ c_4
      refine lv_ldc2 hx hb hown (hts _ q88) dX0_stepsOf_55 ?_
      exact ro_lret hF hr hlk hH dX0_stepsOf_58 hJ
  · have hJ := jf hJ c_1
    refine lv_iload_n hx hb dX0_stepsOf_4 rfl (lv_at hl 1 rfl) ?_
    refine lv_i2l hx hb dX0_stepsOf_5 rfl ?_
    refine lv_aload_n hx hb dX0_stepsOf_6 rfl (lv_at hl 0 rfl) ?_
    refine lv_iload_n hx hb dX0_stepsOf_7 rfl (lv_at hl 2 rfl) ?_
    obtain ⟨r_9, h_8, hJ⟩ := jb hJ
    refine k0_tenTo hF hR hK h_8 hl.1 (Nat.le_of_ble_eq_true rfl) dX0_stepsOf_8 ⟨Nat.le_of_ble_eq_true rfl, Nat.le_of_ble_eq_true rfl⟩ ⟨Nat.zero_le _, Nat.zero_le _⟩ ?_
    refine lv_lmul hx hb dX0_stepsOf_11 ?_
    refine lv_topl (fun x3_10 ex3_10 => ?_)
    have hJ := jlet hJ ex3_10
    refine lv_lstore_n (lv' := [(3, .long x3_10), (0, .ref h0), (1, .int p1), (2, .int p2)]) hx hb dX0_stepsOf_12 rfl hl (by decide) rfl (fun ls hl => ?_)
    refine lv_lload_n hx hb dX0_stepsOf_13 rfl (lv_at hl 0 rfl) ?_
    refine lv_ldc2 hx hb hown (hts _ q87) dX0_stepsOf_14 ?_
    refine lc_le (tgt := 27) hx hb dX0_stepsOf_17 dX0_stepsOf_18 (by decide) (fun c_11 => ?_) (fun c_11 => ?_)
    · have hJ := jt hJ c_11
      refine lv_lload_n hx hb dX0_stepsOf_27 rfl (lv_at hl 0 rfl) ?_
      refine lv_ldc2 hx hb hown (hts _ q89) dX0_stepsOf_28 ?_
      refine lv_lmul hx hb dX0_stepsOf_31 ?_
      refine lv_ldc2 hx hb hown (hts _ q90) dX0_stepsOf_32 ?_
      refine lv_lmul hx hb dX0_stepsOf_35 ?_
      exact ro_lret hF hr hlk hH dX0_stepsOf_36 hJ
    · have hJ := jf hJ c_11
      refine lv_ldc2 hx hb hown (hts _ q88) dX0_stepsOf_21 ?_
      refine lv_goto (tgt := 36) hx hb dX0_stepsOf_24 (by decide) ?_
      exact ro_lret hF hr hlk hH dX0_stepsOf_36 hJ
theorem k0_stepsOf {p : Program} {l : Launch} {e : Env} {R : Room} {s : State} {m : MethodId} {args : Array Value} {below : List Frame} {meth : Method} {c : Code} {H : Heap} {locs : List Loc} {cells slots : Nat} {Q : State → Prop} {cc : ByteArray} {nL pc : Nat} {ls : Array Slot} {rest : List Value} {D : va_G} {tys : List (ClassId × FieldType)} {b : Nat} (hF : CallFix p m c cc nL s args lw_all RX0) (hr : xR D H b 0) (hK : va_K D vwCl tys s) {p1 : Int32} {p2 : Int32} {r : Int64} (hJ : J0_stepsOf p1 p2 = some r) (hsz : ls.size = nL) (hW : (rest.map fun v => v.category).sum ≤ 8) (hdg : decode cc pc = .ok (.invokevirtual 45, 3)) (hR : 1 + 1 ≤ R.frames ∧ 8 + (5 + 11) + 24 ≤ R.locals) (hf : cells ≤ R.cells ∧ slots ≤ R.slots) (kk : W p l e R s m args below meth c H locs cells slots Q (F0 m (pc + 3) ls (.long r :: rest))) : W p l e R s m args below meth c H locs cells slots Q (F0 m pc ls (.int p2 :: .int p1 :: .ref b :: rest)) :=
  ro_call (n := 2) (ci := 0) hF (m0_stepsOf l D tys H b hr p1 p2 r hJ) (lw_V q78 q80 qs3 q33 q81) (by decide +kernel) rfl rfl hR hr hK rfl rfl rfl hsz rfl hW hdg hf kk
/-! ShortestDigits.nearest(J)I -/
def L0_nearest_10 : Nat → Int64 → Int32 → Int32 → Int32 → Option Int32
  | 0, _, _, _, _ => none
  | k + 1, x1, x3, x4, x5 =>
    if (11 : Int32) ≤ x5 then
      some x3
    else
      if x4 ≤ x3 then
        some x3
      else
        jL ((x3 + x4) >>> ((1 : Int32) &&& 31)) (fun (x6_3 : Int32) =>
        Option.bind (J0_borderAbove x6_3) (fun (r_5 : Int64) =>
        Option.bind (
          if r_5 < x1 then
            some (1 : Int32)
          else
            if x1 = r_5 then
              if (x6_3 &&& (1 : Int32)) = (1 : Int32) then
                some (1 : Int32)
              else
                some (0 : Int32)
            else
              some (0 : Int32)) (fun (v_6 : Int32) =>
        if v_6 = 0 then
          jL (x5 + (1 : Int32)) (fun (x5_11 : Int32) =>
          L0_nearest_10 k x1 x3 x6_3 x5_11)
        else
          jL (x6_3 + (1 : Int32)) (fun (x3_12 : Int32) =>
          jL (x5 + (1 : Int32)) (fun (x5_13 : Int32) =>
          L0_nearest_10 k x1 x3_12 x4 x5_13)))))
def J0_nearest (p1 : Int64) : Option Int32 :=
  L0_nearest_10 FU p1 (0 : Int32) (1023 : Int32) (0 : Int32)
set_option maxHeartbeats 4000000 in
set_option maxRecDepth 100000 in
theorem l0_nearest_10 {p : Program} {l : Launch} {e : Env} {s : State} {m : MethodId} {below : List Frame} {meth : Method} {c : Code} {D : va_G} {tys : List (ClassId × FieldType)} {H0 : Heap} {h0 : Nat} (hR : xR D H0 h0 0) (p1 : Int64) (hF : CallFix p m c cX0_nearest 10 s ([.ref h0, .long p1] : List Value).toArray lw_all RX0) (hr : meth.sig.returnType = (some .int)) (hlk : meth.locks = false) (hH : s.heap = H0) (hK : va_K D vwCl tys s) (r : Int32) :
    ∀ (k : Nat) (x1 : Int64) (x3 : Int32) (x4 : Int32) (x5 : Int32), L0_nearest_10 k x1 x3 x4 x5 = some r → ∀ (ls : Array Slot), lv_has ls 10 [(0, .ref h0), (1, .long x1), (3, .int x3), (4, .int x4), (5, .int x5)] → W p l e ({ frames := 2, cells := 0, slots := 0, locals := 44 } : Room) s m ([.ref h0, .long p1] : List Value).toArray below meth c H0 [] 0 0 (MQ below (roQ (.int r)) ([.ref h0, .long p1] : List Value).toArray s 0 0 noA) (F0 m 10 ls []) := by
  obtain ⟨hx, hb, hml, hown, hts⟩ := id hF
  intro k
  induction k with
  | zero =>
    intro x1 x3 x4 x5 hJ
    rw [L0_nearest_10] at hJ
    cases hJ
  | succ k ih =>
    intro x1 x3 x4 x5 hJ ls hl
    rw [L0_nearest_10] at hJ
    refine lv_iload hx hb dX0_nearest_10 (lv_at hl 4 rfl) ?_
    refine lv_bipush (v := 11) hx hb dX0_nearest_12 (by decide) ?_
    refine lv_icmp_ge (tgt := 91) hx hb dX0_nearest_14 (by decide) (fun c_1 => ?_) (fun c_1 => ?_)
    · have hJ := jt hJ c_1
      refine lv_iload_n hx hb dX0_nearest_91 rfl (lv_at hl 2 rfl) ?_
      exact ro_iret hF hr hlk hH dX0_nearest_92 hJ
    · have hJ := jf hJ c_1
      refine lv_iload_n hx hb dX0_nearest_17 rfl (lv_at hl 2 rfl) ?_
      refine lv_iload hx hb dX0_nearest_18 (lv_at hl 3 rfl) ?_
      refine lv_icmp_ge (tgt := 91) hx hb dX0_nearest_20 (by decide) (fun c_2 => ?_) (fun c_2 => ?_)
      · have hJ := jt hJ c_2
        refine lv_iload_n hx hb dX0_nearest_91 rfl (lv_at hl 2 rfl) ?_
        exact ro_iret hF hr hlk hH dX0_nearest_92 hJ
      · have hJ := jf hJ c_2
        refine lv_iload_n hx hb dX0_nearest_23 rfl (lv_at hl 2 rfl) ?_
        refine lv_iload hx hb dX0_nearest_24 (lv_at hl 3 rfl) ?_
        refine lv_iadd hx hb dX0_nearest_26 ?_
        refine lv_iconst (v := 1) hx hb dX0_nearest_27 (by decide) ?_
        refine lv_ishr hx hb dX0_nearest_28 ?_
        refine lv_topi (fun x6_3 ex6_3 => ?_)
        have hJ := jlet hJ ex6_3
        refine lv_istore (lv' := [(6, .int x6_3), (0, .ref h0), (1, .long x1), (3, .int x3), (4, .int x4), (5, .int x5)]) hx hb dX0_nearest_29 hl (by decide) rfl (fun ls hl => ?_)
        refine lv_aload_n hx hb dX0_nearest_31 rfl (lv_at hl 1 rfl) ?_
        refine lv_iload hx hb dX0_nearest_32 (lv_at hl 0 rfl) ?_
        obtain ⟨r_5, h_4, hJ⟩ := jb hJ
        refine k0_borderAbove hF hR hK h_4 hl.1 (Nat.le_of_ble_eq_true rfl) dX0_nearest_34 ⟨Nat.le_of_ble_eq_true rfl, Nat.le_of_ble_eq_true rfl⟩ ⟨Nat.zero_le _, Nat.zero_le _⟩ ?_
        refine lv_lstore (lv' := [(7, .long r_5), (6, .int x6_3), (0, .ref h0), (1, .long x1), (3, .int x3), (4, .int x4), (5, .int x5)]) hx hb dX0_nearest_37 hl (by decide) rfl (fun ls hl => ?_)
        obtain ⟨v_6, hR39, hJ⟩ := jb hJ
        refine jn 10 [(7, .long r_5), (6, .int x6_3), (0, .ref h0), (1, .long x1), (3, .int x3), (4, .int x4), (5, .int x5)] 66 [.int v_6] ?_ (fun K66 => ?_)
        · intro ls hl
          refine lv_istore (lv' := [(9, .int v_6), (7, .long r_5), (6, .int x6_3), (0, .ref h0), (1, .long x1), (3, .int x3), (4, .int x4), (5, .int x5)]) hx hb dX0_nearest_66 hl (by decide) rfl (fun ls hl => ?_)
          refine lv_iload hx hb dX0_nearest_68 (lv_at hl 0 rfl) ?_
          refine lv_if_eq (tgt := 81) hx hb dX0_nearest_70 (by decide) (fun c_10 => ?_) (fun c_10 => ?_)
          · have hJ := jt hJ c_10
            refine lv_iload hx hb dX0_nearest_81 (lv_at hl 2 rfl) ?_
            refine lv_istore (lv' := [(4, .int x6_3), (9, .int v_6), (7, .long r_5), (6, .int x6_3), (0, .ref h0), (1, .long x1), (3, .int x3), (5, .int x5)]) hx hb dX0_nearest_83 hl (by decide) rfl (fun ls hl => ?_)
            obtain ⟨x5_11, ex5_11⟩ : ∃ y : Int32, y = x5 + (1 : Int32) := ⟨_, rfl⟩
            have hJ := jlet hJ ex5_11
            refine lv_iinc (v := x5_11) (lv' := [(5, .int x5_11), (4, .int x6_3), (9, .int v_6), (7, .long r_5), (6, .int x6_3), (0, .ref h0), (1, .long x1), (3, .int x3)]) hx hb dX0_nearest_85 hl (k := 7) rfl (by rw [ex5_11]; rfl) (by decide) rfl (fun ls hl => ?_)
            refine lv_goto (tgt := 10) hx hb dX0_nearest_88 (by decide) ?_
            exact ih x1 x3 x6_3 x5_11 hJ ls (lv_sub hl [5, 6, 7, 1, 0] rfl)
          · have hJ := jf hJ c_10
            refine lv_iload hx hb dX0_nearest_73 (lv_at hl 2 rfl) ?_
            refine lv_iconst (v := 1) hx hb dX0_nearest_75 (by decide) ?_
            refine lv_iadd hx hb dX0_nearest_76 ?_
            refine lv_topi (fun x3_12 ex3_12 => ?_)
            have hJ := jlet hJ ex3_12
            refine lv_istore_n (lv' := [(3, .int x3_12), (9, .int v_6), (7, .long r_5), (6, .int x6_3), (0, .ref h0), (1, .long x1), (4, .int x4), (5, .int x5)]) hx hb dX0_nearest_77 rfl hl (by decide) rfl (fun ls hl => ?_)
            refine lv_goto (tgt := 85) hx hb dX0_nearest_78 (by decide) ?_
            obtain ⟨x5_13, ex5_13⟩ : ∃ y : Int32, y = x5 + (1 : Int32) := ⟨_, rfl⟩
            have hJ := jlet hJ ex5_13
            refine lv_iinc (v := x5_13) (lv' := [(5, .int x5_13), (3, .int x3_12), (9, .int v_6), (7, .long r_5), (6, .int x6_3), (0, .ref h0), (1, .long x1), (4, .int x4)]) hx hb dX0_nearest_85 hl (k := 7) rfl (by rw [ex5_13]; rfl) (by decide) rfl (fun ls hl => ?_)
            refine lv_goto (tgt := 10) hx hb dX0_nearest_88 (by decide) ?_
            exact ih x1 x3_12 x4 x5_13 hJ ls (lv_sub hl [5, 6, 1, 7, 0] rfl)
        · have hJ := hR39
          refine lv_lload_n hx hb dX0_nearest_39 rfl (lv_at hl 3 rfl) ?_
          refine lv_lload hx hb dX0_nearest_40 (lv_at hl 0 rfl) ?_
          refine lc_gt (tgt := 61) hx hb dX0_nearest_42 dX0_nearest_43 (by decide) (fun c_7 => ?_) (fun c_7 => ?_)
          · have hJ := jt hJ c_7
            refine lv_iconst (v := 1) hx hb dX0_nearest_61 (by decide) ?_
            refine lv_goto (tgt := 66) hx hb dX0_nearest_62 (by decide) ?_
            obtain rfl := Option.some.inj hJ
            exact K66 ls (lv_sub hl [0, 1, 2, 3, 4, 5, 6] rfl)
          · have hJ := jf hJ c_7
            refine lv_lload_n hx hb dX0_nearest_46 rfl (lv_at hl 3 rfl) ?_
            refine lv_lload hx hb dX0_nearest_47 (lv_at hl 0 rfl) ?_
            refine lc_ne (tgt := 65) hx hb dX0_nearest_49 dX0_nearest_50 (by decide) (fun c_8 => ?_) (fun c_8 => ?_)
            · have hJ := jf hJ c_8
              refine lv_iconst (v := 0) hx hb dX0_nearest_65 (by decide) ?_
              obtain rfl := Option.some.inj hJ
              exact K66 ls (lv_sub hl [0, 1, 2, 3, 4, 5, 6] rfl)
            · have hJ := jt hJ c_8
              refine lv_iload hx hb dX0_nearest_53 (lv_at hl 1 rfl) ?_
              refine lv_iconst (v := 1) hx hb dX0_nearest_55 (by decide) ?_
              refine lv_iand hx hb dX0_nearest_56 ?_
              refine lv_iconst (v := 1) hx hb dX0_nearest_57 (by decide) ?_
              refine lv_icmp_ne (tgt := 65) hx hb dX0_nearest_58 (by decide) (fun c_9 => ?_) (fun c_9 => ?_)
              · have hJ := jf hJ c_9
                refine lv_iconst (v := 0) hx hb dX0_nearest_65 (by decide) ?_
                obtain rfl := Option.some.inj hJ
                exact K66 ls (lv_sub hl [0, 1, 2, 3, 4, 5, 6] rfl)
              · have hJ := jt hJ c_9
                refine lv_iconst (v := 1) hx hb dX0_nearest_61 (by decide) ?_
                refine lv_goto (tgt := 66) hx hb dX0_nearest_62 (by decide) ?_
                obtain rfl := Option.some.inj hJ
                exact K66 ls (lv_sub hl [0, 1, 2, 3, 4, 5, 6] rfl)
set_option maxHeartbeats 4000000 in
set_option maxRecDepth 100000 in
theorem m0_nearest (l : Launch) (D : va_G) (tys : List (ClassId × FieldType)) (H0 : Heap) (h0 : Nat) (hR : xR D H0 h0 0) (p1 : Int64) (r : Int32) (hJ : J0_nearest p1 = some r) : Met l yX0_nearest (ws_ yX0_nearest cX0_nearest 10 (some .int)) ({ frames := 2, cells := 0, slots := 0, locals := 44 } : Room) (roP D tys H0 [.ref h0, .long p1]) (roQ (.int r)) 0 0 noA := by
  refine ro_enter (by decide) (Nat.le_of_ble_eq_true rfl) ?_
  intro p e s m below meth c hF hr hlk hH hK ls hl
  have hl : lv_has ls 10 [(0, .ref h0), (1, .long p1)] := hl
  obtain ⟨hx, hb, hml, hown, hts⟩ := id hF
  unfold J0_nearest at hJ
  refine lv_iconst (v := 0) hx hb dX0_nearest_0 (by decide) ?_
  refine lv_istore_n (lv' := [(3, .int (0 : Int32)), (0, .ref h0), (1, .long p1)]) hx hb dX0_nearest_1 rfl hl (by decide) rfl (fun ls hl => ?_)
  refine lv_sipush (v := 1023) hx hb dX0_nearest_2 (by decide) ?_
  refine lv_istore (lv' := [(4, .int (1023 : Int32)), (3, .int (0 : Int32)), (0, .ref h0), (1, .long p1)]) hx hb dX0_nearest_5 hl (by decide) rfl (fun ls hl => ?_)
  refine lv_iconst (v := 0) hx hb dX0_nearest_7 (by decide) ?_
  refine lv_istore (lv' := [(5, .int (0 : Int32)), (4, .int (1023 : Int32)), (3, .int (0 : Int32)), (0, .ref h0), (1, .long p1)]) hx hb dX0_nearest_8 hl (by decide) rfl (fun ls hl => ?_)
  exact l0_nearest_10 hR p1 hF hr hlk hH hK r FU p1 (0 : Int32) (1023 : Int32) (0 : Int32) hJ ls (lv_sub hl [3, 4, 2, 1, 0] rfl)
theorem k0_nearest {p : Program} {l : Launch} {e : Env} {R : Room} {s : State} {m : MethodId} {args : Array Value} {below : List Frame} {meth : Method} {c : Code} {H : Heap} {locs : List Loc} {cells slots : Nat} {Q : State → Prop} {cc : ByteArray} {nL pc : Nat} {ls : Array Slot} {rest : List Value} {D : va_G} {tys : List (ClassId × FieldType)} {b : Nat} (hF : CallFix p m c cc nL s args lw_all RX0) (hr : xR D H b 0) (hK : va_K D vwCl tys s) {p1 : Int64} {r : Int32} (hJ : J0_nearest p1 = some r) (hsz : ls.size = nL) (hW : (rest.map fun v => v.category).sum ≤ 8) (hdg : decode cc pc = .ok (.invokevirtual 49, 3)) (hR : 2 + 1 ≤ R.frames ∧ 8 + (10 + 11) + 44 ≤ R.locals) (hf : cells ≤ R.cells ∧ slots ≤ R.slots) (kk : W p l e R s m args below meth c H locs cells slots Q (F0 m (pc + 3) ls (.int r :: rest))) : W p l e R s m args below meth c H locs cells slots Q (F0 m pc ls (.long p1 :: .ref b :: rest)) :=
  ro_call (n := 1) (ci := 0) hF (m0_nearest l D tys H b hr p1 r hJ) (lw_V q91 q93 qs5 q33 q94) (by decide +kernel) rfl rfl hR hr hK rfl rfl rfl hsz rfl hW hdg hf kk
/-! ShortestDigits.read(II)I -/
def J0_read (p1 : Int32) (p2 : Int32) : Option Int32 :=
  Option.bind (J0_badDecimal p1 p2) (fun (r_2 : Int32) =>
  if r_2 = 0 then
    Option.bind (J0_stepsOf p1 p2) (fun (r_5 : Int64) =>
    Option.bind (J0_nearest r_5) (fun (r_7 : Int32) =>
    some r_7))
  else
    some (-1 : Int32))
set_option maxHeartbeats 4000000 in
set_option maxRecDepth 100000 in
theorem m0_read (l : Launch) (D : va_G) (tys : List (ClassId × FieldType)) (H0 : Heap) (h0 : Nat) (hR : xR D H0 h0 0) (p1 : Int32) (p2 : Int32) (r : Int32) (hJ : J0_read p1 p2 = some r) : Met l yX0_read (ws_ yX0_read cX0_read 5 (some .int)) ({ frames := 3, cells := 0, slots := 0, locals := 73 } : Room) (roP D tys H0 [.ref h0, .int p1, .int p2]) (roQ (.int r)) 0 0 noA := by
  refine ro_enter (by decide) (Nat.le_of_ble_eq_true rfl) ?_
  intro p e s m below meth c hF hr hlk hH hK ls hl
  have hl : lv_has ls 5 [(0, .ref h0), (1, .int p1), (2, .int p2)] := hl
  obtain ⟨hx, hb, hml, hown, hts⟩ := id hF
  unfold J0_read at hJ
  refine lv_aload_n hx hb dX0_read_0 rfl (lv_at hl 0 rfl) ?_
  refine lv_iload_n hx hb dX0_read_1 rfl (lv_at hl 1 rfl) ?_
  refine lv_iload_n hx hb dX0_read_2 rfl (lv_at hl 2 rfl) ?_
  obtain ⟨r_2, h_1, hJ⟩ := jb hJ
  refine k0_badDecimal hF hR hK h_1 hl.1 (Nat.le_of_ble_eq_true rfl) dX0_read_3 ⟨Nat.le_of_ble_eq_true rfl, Nat.le_of_ble_eq_true rfl⟩ ⟨Nat.zero_le _, Nat.zero_le _⟩ ?_
  refine lv_if_eq (tgt := 11) hx hb dX0_read_6 (by decide) (fun c_3 => ?_) (fun c_3 => ?_)
  · have hJ := jt hJ c_3
    refine lv_aload_n hx hb dX0_read_11 rfl (lv_at hl 0 rfl) ?_
    refine lv_iload_n hx hb dX0_read_12 rfl (lv_at hl 1 rfl) ?_
    refine lv_iload_n hx hb dX0_read_13 rfl (lv_at hl 2 rfl) ?_
    obtain ⟨r_5, h_4, hJ⟩ := jb hJ
    refine k0_stepsOf hF hR hK h_4 hl.1 (Nat.le_of_ble_eq_true rfl) dX0_read_14 ⟨Nat.le_of_ble_eq_true rfl, Nat.le_of_ble_eq_true rfl⟩ ⟨Nat.zero_le _, Nat.zero_le _⟩ ?_
    refine lv_lstore_n (lv' := [(3, .long r_5), (0, .ref h0), (1, .int p1), (2, .int p2)]) hx hb dX0_read_17 rfl hl (by decide) rfl (fun ls hl => ?_)
    refine lv_aload_n hx hb dX0_read_18 rfl (lv_at hl 1 rfl) ?_
    refine lv_lload_n hx hb dX0_read_19 rfl (lv_at hl 0 rfl) ?_
    obtain ⟨r_7, h_6, hJ⟩ := jb hJ
    refine k0_nearest hF hR hK h_6 hl.1 (Nat.le_of_ble_eq_true rfl) dX0_read_20 ⟨Nat.le_of_ble_eq_true rfl, Nat.le_of_ble_eq_true rfl⟩ ⟨Nat.zero_le _, Nat.zero_le _⟩ ?_
    exact ro_iret hF hr hlk hH dX0_read_23 hJ
  · have hJ := jf hJ c_3
    refine lv_iconst (v := -1) hx hb dX0_read_9 (by decide) ?_
    exact ro_iret hF hr hlk hH dX0_read_10 hJ
/-! ShortestDigits.named(IJ)Z -/
def J0_named (p1 : Int32) (p2 : Int64) : Option Int32 :=
  if (4177920000000000000 : Int64) ≤ p2 then
    some (0 : Int32)
  else
    Option.bind (J0_nearest p2) (fun (r_3 : Int32) =>
    if r_3 = p1 then
      some (1 : Int32)
    else
      some (0 : Int32))
set_option maxHeartbeats 4000000 in
set_option maxRecDepth 100000 in
theorem m0_named (l : Launch) (D : va_G) (tys : List (ClassId × FieldType)) (H0 : Heap) (h0 : Nat) (hR : xR D H0 h0 0) (p1 : Int32) (p2 : Int64) (r : Int32) (hJ : J0_named p1 p2 = some r) : Met l yX0_named (ws_ yX0_named cX0_named 4 (some .boolean)) ({ frames := 3, cells := 0, slots := 0, locals := 73 } : Room) (roP D tys H0 [.ref h0, .int p1, .long p2]) (roQ (.int r)) 0 0 noA := by
  refine ro_enter (by decide) (Nat.le_of_ble_eq_true rfl) ?_
  intro p e s m below meth c hF hr hlk hH hK ls hl
  have hl : lv_has ls 4 [(0, .ref h0), (1, .int p1), (2, .long p2)] := hl
  obtain ⟨hx, hb, hml, hown, hts⟩ := id hF
  unfold J0_named at hJ
  refine lv_lload_n hx hb dX0_named_0 rfl (lv_at hl 2 rfl) ?_
  refine lv_ldc2 hx hb hown (hts _ q107) dX0_named_1 ?_
  refine lc_ge (tgt := 21) hx hb dX0_named_4 dX0_named_5 (by decide) (fun c_1 => ?_) (fun c_1 => ?_)
  · have hJ := jt hJ c_1
    refine lv_iconst (v := 0) hx hb dX0_named_21 (by decide) ?_
    exact ro_zret hF hr hlk hH dX0_named_22 rfl hJ
  · have hJ := jf hJ c_1
    refine lv_aload_n hx hb dX0_named_8 rfl (lv_at hl 0 rfl) ?_
    refine lv_lload_n hx hb dX0_named_9 rfl (lv_at hl 2 rfl) ?_
    obtain ⟨r_3, h_2, hJ⟩ := jb hJ
    refine k0_nearest hF hR hK h_2 hl.1 (Nat.le_of_ble_eq_true rfl) dX0_named_10 ⟨Nat.le_of_ble_eq_true rfl, Nat.le_of_ble_eq_true rfl⟩ ⟨Nat.zero_le _, Nat.zero_le _⟩ ?_
    refine lv_iload_n hx hb dX0_named_13 rfl (lv_at hl 1 rfl) ?_
    refine lv_icmp_ne (tgt := 21) hx hb dX0_named_14 (by decide) (fun c_4 => ?_) (fun c_4 => ?_)
    · have hJ := jf hJ c_4
      refine lv_iconst (v := 0) hx hb dX0_named_21 (by decide) ?_
      exact ro_zret hF hr hlk hH dX0_named_22 rfl hJ
    · have hJ := jt hJ c_4
      refine lv_iconst (v := 1) hx hb dX0_named_17 (by decide) ?_
      refine lv_goto (tgt := 22) hx hb dX0_named_18 (by decide) ?_
      exact ro_zret hF hr hlk hH dX0_named_22 rfl hJ
theorem k0_named {p : Program} {l : Launch} {e : Env} {R : Room} {s : State} {m : MethodId} {args : Array Value} {below : List Frame} {meth : Method} {c : Code} {H : Heap} {locs : List Loc} {cells slots : Nat} {Q : State → Prop} {cc : ByteArray} {nL pc : Nat} {ls : Array Slot} {rest : List Value} {D : va_G} {tys : List (ClassId × FieldType)} {b : Nat} (hF : CallFix p m c cc nL s args lw_all RX0) (hr : xR D H b 0) (hK : va_K D vwCl tys s) {p1 : Int32} {p2 : Int64} {r : Int32} (hJ : J0_named p1 p2 = some r) (hsz : ls.size = nL) (hW : (rest.map fun v => v.category).sum ≤ 8) (hdg : decode cc pc = .ok (.invokevirtual 55, 3)) (hR : 3 + 1 ≤ R.frames ∧ 8 + (4 + 11) + 73 ≤ R.locals) (hf : cells ≤ R.cells ∧ slots ≤ R.slots) (kk : W p l e R s m args below meth c H locs cells slots Q (F0 m (pc + 3) ls (.int r :: rest))) : W p l e R s m args below meth c H locs cells slots Q (F0 m pc ls (.long p2 :: .int p1 :: .ref b :: rest)) :=
  ro_call (n := 2) (ci := 0) hF (m0_named l D tys H b hr p1 p2 r hJ) (lw_V q103 q105 qs7 q33 q106) (by decide +kernel) rfl rfl hR hr hK rfl rfl rfl hsz rfl hW hdg hf kk
/-! ShortestDigits.names(III)Z -/
def J0_names (p1 : Int32) (p2 : Int32) (p3 : Int32) : Option Int32 :=
  Option.bind (J0_badCode p1) (fun (r_2 : Int32) =>
  if r_2 = 0 then
    Option.bind (J0_badDecimal p2 p3) (fun (r_5 : Int32) =>
    if r_5 = 0 then
      Option.bind (J0_stepsOf p2 p3) (fun (r_8 : Int64) =>
      Option.bind (J0_named p1 r_8) (fun (r_10 : Int32) =>
      if ¬ (r_10 = 0 ∨ r_10 = 1) then none else some r_10))
    else
      some (0 : Int32))
  else
    some (0 : Int32))
set_option maxHeartbeats 4000000 in
set_option maxRecDepth 100000 in
theorem m0_names (l : Launch) (D : va_G) (tys : List (ClassId × FieldType)) (H0 : Heap) (h0 : Nat) (hR : xR D H0 h0 0) (p1 : Int32) (p2 : Int32) (p3 : Int32) (r : Int32) (hJ : J0_names p1 p2 p3 = some r) : Met l yX0_names (ws_ yX0_names cX0_names 6 (some .boolean)) ({ frames := 4, cells := 0, slots := 0, locals := 96 } : Room) (roP D tys H0 [.ref h0, .int p1, .int p2, .int p3]) (roQ (.int r)) 0 0 noA := by
  refine ro_enter (by decide) (Nat.le_of_ble_eq_true rfl) ?_
  intro p e s m below meth c hF hr hlk hH hK ls hl
  have hl : lv_has ls 6 [(0, .ref h0), (1, .int p1), (2, .int p2), (3, .int p3)] := hl
  obtain ⟨hx, hb, hml, hown, hts⟩ := id hF
  unfold J0_names at hJ
  refine lv_aload_n hx hb dX0_names_0 rfl (lv_at hl 0 rfl) ?_
  refine lv_iload_n hx hb dX0_names_1 rfl (lv_at hl 1 rfl) ?_
  obtain ⟨r_2, h_1, hJ⟩ := jb hJ
  refine k0_badCode hF hR hK h_1 hl.1 (Nat.le_of_ble_eq_true rfl) dX0_names_2 ⟨Nat.le_of_ble_eq_true rfl, Nat.le_of_ble_eq_true rfl⟩ ⟨Nat.zero_le _, Nat.zero_le _⟩ ?_
  refine lv_if_ne (tgt := 17) hx hb dX0_names_5 (by decide) (fun c_3 => ?_) (fun c_3 => ?_)
  · have hJ := jf hJ c_3
    refine lv_iconst (v := 0) hx hb dX0_names_17 (by decide) ?_
    exact ro_zret hF hr hlk hH dX0_names_18 rfl hJ
  · have hJ := jt hJ c_3
    refine lv_aload_n hx hb dX0_names_8 rfl (lv_at hl 0 rfl) ?_
    refine lv_iload_n hx hb dX0_names_9 rfl (lv_at hl 2 rfl) ?_
    refine lv_iload_n hx hb dX0_names_10 rfl (lv_at hl 3 rfl) ?_
    obtain ⟨r_5, h_4, hJ⟩ := jb hJ
    refine k0_badDecimal hF hR hK h_4 hl.1 (Nat.le_of_ble_eq_true rfl) dX0_names_11 ⟨Nat.le_of_ble_eq_true rfl, Nat.le_of_ble_eq_true rfl⟩ ⟨Nat.zero_le _, Nat.zero_le _⟩ ?_
    refine lv_if_eq (tgt := 19) hx hb dX0_names_14 (by decide) (fun c_6 => ?_) (fun c_6 => ?_)
    · have hJ := jt hJ c_6
      refine lv_aload_n hx hb dX0_names_19 rfl (lv_at hl 0 rfl) ?_
      refine lv_iload_n hx hb dX0_names_20 rfl (lv_at hl 2 rfl) ?_
      refine lv_iload_n hx hb dX0_names_21 rfl (lv_at hl 3 rfl) ?_
      obtain ⟨r_8, h_7, hJ⟩ := jb hJ
      refine k0_stepsOf hF hR hK h_7 hl.1 (Nat.le_of_ble_eq_true rfl) dX0_names_22 ⟨Nat.le_of_ble_eq_true rfl, Nat.le_of_ble_eq_true rfl⟩ ⟨Nat.zero_le _, Nat.zero_le _⟩ ?_
      refine lv_lstore (lv' := [(4, .long r_8), (0, .ref h0), (1, .int p1), (2, .int p2), (3, .int p3)]) hx hb dX0_names_25 hl (by decide) rfl (fun ls hl => ?_)
      refine lv_aload_n hx hb dX0_names_27 rfl (lv_at hl 1 rfl) ?_
      refine lv_iload_n hx hb dX0_names_28 rfl (lv_at hl 2 rfl) ?_
      refine lv_lload hx hb dX0_names_29 (lv_at hl 0 rfl) ?_
      obtain ⟨r_10, h_9, hJ⟩ := jb hJ
      refine k0_named hF hR hK h_9 hl.1 (Nat.le_of_ble_eq_true rfl) dX0_names_31 ⟨Nat.le_of_ble_eq_true rfl, Nat.le_of_ble_eq_true rfl⟩ ⟨Nat.zero_le _, Nat.zero_le _⟩ ?_
      obtain ⟨hz, hJ⟩ := jg hJ
      exact ro_zret hF hr hlk hH dX0_names_34 (nz hz) hJ
    · have hJ := jf hJ c_6
      refine lv_iconst (v := 0) hx hb dX0_names_17 (by decide) ?_
      exact ro_zret hF hr hlk hH dX0_names_18 rfl hJ
/-! ShortestDigits.compare(III)I -/
def J0_compare (p1 : Int32) (p2 : Int32) (p3 : Int32) : Option Int32 :=
  Option.bind (J0_badCode p1) (fun (r_2 : Int32) =>
  if r_2 = 0 then
    Option.bind (J0_badDecimal p2 p3) (fun (r_5 : Int32) =>
    if r_5 = 0 then
      Option.bind (J0_steps p1) (fun (r_8 : Int64) =>
      Option.bind (J0_stepsOf p2 p3) (fun (r_10 : Int64) =>
      if r_8 = r_10 then
        some (0 : Int32)
      else
        if r_10 ≤ r_8 then
          some (1 : Int32)
        else
          some (-1 : Int32)))
    else
      some (2 : Int32))
  else
    some (2 : Int32))
set_option maxHeartbeats 4000000 in
set_option maxRecDepth 100000 in
theorem m0_compare (l : Launch) (D : va_G) (tys : List (ClassId × FieldType)) (H0 : Heap) (h0 : Nat) (hR : xR D H0 h0 0) (p1 : Int32) (p2 : Int32) (p3 : Int32) (r : Int32) (hJ : J0_compare p1 p2 p3 = some r) : Met l yX0_compare (ws_ yX0_compare cX0_compare 8 (some .int)) ({ frames := 2, cells := 0, slots := 0, locals := 48 } : Room) (roP D tys H0 [.ref h0, .int p1, .int p2, .int p3]) (roQ (.int r)) 0 0 noA := by
  refine ro_enter (by decide) (Nat.le_of_ble_eq_true rfl) ?_
  intro p e s m below meth c hF hr hlk hH hK ls hl
  have hl : lv_has ls 8 [(0, .ref h0), (1, .int p1), (2, .int p2), (3, .int p3)] := hl
  obtain ⟨hx, hb, hml, hown, hts⟩ := id hF
  unfold J0_compare at hJ
  refine lv_aload_n hx hb dX0_compare_0 rfl (lv_at hl 0 rfl) ?_
  refine lv_iload_n hx hb dX0_compare_1 rfl (lv_at hl 1 rfl) ?_
  obtain ⟨r_2, h_1, hJ⟩ := jb hJ
  refine k0_badCode hF hR hK h_1 hl.1 (Nat.le_of_ble_eq_true rfl) dX0_compare_2 ⟨Nat.le_of_ble_eq_true rfl, Nat.le_of_ble_eq_true rfl⟩ ⟨Nat.zero_le _, Nat.zero_le _⟩ ?_
  refine lv_if_ne (tgt := 17) hx hb dX0_compare_5 (by decide) (fun c_3 => ?_) (fun c_3 => ?_)
  · have hJ := jf hJ c_3
    refine lv_iconst (v := 2) hx hb dX0_compare_17 (by decide) ?_
    exact ro_iret hF hr hlk hH dX0_compare_18 hJ
  · have hJ := jt hJ c_3
    refine lv_aload_n hx hb dX0_compare_8 rfl (lv_at hl 0 rfl) ?_
    refine lv_iload_n hx hb dX0_compare_9 rfl (lv_at hl 2 rfl) ?_
    refine lv_iload_n hx hb dX0_compare_10 rfl (lv_at hl 3 rfl) ?_
    obtain ⟨r_5, h_4, hJ⟩ := jb hJ
    refine k0_badDecimal hF hR hK h_4 hl.1 (Nat.le_of_ble_eq_true rfl) dX0_compare_11 ⟨Nat.le_of_ble_eq_true rfl, Nat.le_of_ble_eq_true rfl⟩ ⟨Nat.zero_le _, Nat.zero_le _⟩ ?_
    refine lv_if_eq (tgt := 19) hx hb dX0_compare_14 (by decide) (fun c_6 => ?_) (fun c_6 => ?_)
    · have hJ := jt hJ c_6
      refine lv_aload_n hx hb dX0_compare_19 rfl (lv_at hl 0 rfl) ?_
      refine lv_iload_n hx hb dX0_compare_20 rfl (lv_at hl 1 rfl) ?_
      obtain ⟨r_8, h_7, hJ⟩ := jb hJ
      refine k0_steps hF hR hK h_7 hl.1 (Nat.le_of_ble_eq_true rfl) dX0_compare_21 ⟨Nat.le_of_ble_eq_true rfl, Nat.le_of_ble_eq_true rfl⟩ ⟨Nat.zero_le _, Nat.zero_le _⟩ ?_
      refine lv_lstore (lv' := [(4, .long r_8), (0, .ref h0), (1, .int p1), (2, .int p2), (3, .int p3)]) hx hb dX0_compare_24 hl (by decide) rfl (fun ls hl => ?_)
      refine lv_aload_n hx hb dX0_compare_26 rfl (lv_at hl 1 rfl) ?_
      refine lv_iload_n hx hb dX0_compare_27 rfl (lv_at hl 3 rfl) ?_
      refine lv_iload_n hx hb dX0_compare_28 rfl (lv_at hl 4 rfl) ?_
      obtain ⟨r_10, h_9, hJ⟩ := jb hJ
      refine k0_stepsOf hF hR hK h_9 hl.1 (Nat.le_of_ble_eq_true rfl) dX0_compare_29 ⟨Nat.le_of_ble_eq_true rfl, Nat.le_of_ble_eq_true rfl⟩ ⟨Nat.zero_le _, Nat.zero_le _⟩ ?_
      refine lv_lstore (lv' := [(6, .long r_10), (4, .long r_8), (0, .ref h0), (1, .int p1), (2, .int p2), (3, .int p3)]) hx hb dX0_compare_32 hl (by decide) rfl (fun ls hl => ?_)
      refine lv_lload hx hb dX0_compare_34 (lv_at hl 1 rfl) ?_
      refine lv_lload hx hb dX0_compare_36 (lv_at hl 0 rfl) ?_
      refine lc_ne (tgt := 44) hx hb dX0_compare_38 dX0_compare_39 (by decide) (fun c_11 => ?_) (fun c_11 => ?_)
      · have hJ := jf hJ c_11
        refine lv_lload hx hb dX0_compare_44 (lv_at hl 1 rfl) ?_
        refine lv_lload hx hb dX0_compare_46 (lv_at hl 0 rfl) ?_
        refine lc_ge (tgt := 56) hx hb dX0_compare_48 dX0_compare_49 (by decide) (fun c_12 => ?_) (fun c_12 => ?_)
        · have hJ := jt hJ c_12
          refine lv_iconst (v := 1) hx hb dX0_compare_56 (by decide) ?_
          exact ro_iret hF hr hlk hH dX0_compare_57 hJ
        · have hJ := jf hJ c_12
          refine lv_iconst (v := -1) hx hb dX0_compare_52 (by decide) ?_
          refine lv_goto (tgt := 57) hx hb dX0_compare_53 (by decide) ?_
          exact ro_iret hF hr hlk hH dX0_compare_57 hJ
      · have hJ := jt hJ c_11
        refine lv_iconst (v := 0) hx hb dX0_compare_42 (by decide) ?_
        exact ro_iret hF hr hlk hH dX0_compare_43 hJ
    · have hJ := jf hJ c_6
      refine lv_iconst (v := 2) hx hb dX0_compare_17 (by decide) ?_
      exact ro_iret hF hr hlk hH dX0_compare_18 hJ
/-! ShortestDigits.size(J)J -/
def J0_size (p1 : Int64) : Option Int64 :=
  if (0 : Int64) ≤ p1 then
    some p1
  else
    some (-p1)
set_option maxHeartbeats 4000000 in
set_option maxRecDepth 100000 in
theorem m0_size (l : Launch) (D : va_G) (tys : List (ClassId × FieldType)) (H0 : Heap) (h0 : Nat) (hR : xR D H0 h0 0) (p1 : Int64) (r : Int64) (hJ : J0_size p1 = some r) : Met l yX0_size (ws_ yX0_size cX0_size 3 (some .long)) ({ frames := 0, cells := 0, slots := 0, locals := 0 } : Room) (roP D tys H0 [.ref h0, .long p1]) (roQ (.long r)) 0 0 noA := by
  refine ro_enter (by decide) (Nat.le_of_ble_eq_true rfl) ?_
  intro p e s m below meth c hF hr hlk hH hK ls hl
  have hl : lv_has ls 3 [(0, .ref h0), (1, .long p1)] := hl
  obtain ⟨hx, hb, hml, hown, hts⟩ := id hF
  unfold J0_size at hJ
  refine lv_lload_n hx hb dX0_size_0 rfl (lv_at hl 1 rfl) ?_
  refine lv_lconst (v := 0) hx hb dX0_size_1 (by decide) ?_
  refine lc_ge (tgt := 11) hx hb dX0_size_2 dX0_size_3 (by decide) (fun c_1 => ?_) (fun c_1 => ?_)
  · have hJ := jt hJ c_1
    refine lv_lload_n hx hb dX0_size_11 rfl (lv_at hl 1 rfl) ?_
    exact ro_lret hF hr hlk hH dX0_size_12 hJ
  · have hJ := jf hJ c_1
    refine lv_lload_n hx hb dX0_size_6 rfl (lv_at hl 1 rfl) ?_
    refine lv_lneg hx hb dX0_size_7 ?_
    refine lv_goto (tgt := 12) hx hb dX0_size_8 (by decide) ?_
    exact ro_lret hF hr hlk hH dX0_size_12 hJ
theorem k0_size {p : Program} {l : Launch} {e : Env} {R : Room} {s : State} {m : MethodId} {args : Array Value} {below : List Frame} {meth : Method} {c : Code} {H : Heap} {locs : List Loc} {cells slots : Nat} {Q : State → Prop} {cc : ByteArray} {nL pc : Nat} {ls : Array Slot} {rest : List Value} {D : va_G} {tys : List (ClassId × FieldType)} {b : Nat} (hF : CallFix p m c cc nL s args lw_all RX0) (hr : xR D H b 0) (hK : va_K D vwCl tys s) {p1 : Int64} {r : Int64} (hJ : J0_size p1 = some r) (hsz : ls.size = nL) (hW : (rest.map fun v => v.category).sum ≤ 8) (hdg : decode cc pc = .ok (.invokevirtual 82, 3)) (hR : 0 + 1 ≤ R.frames ∧ 8 + (3 + 11) + 0 ≤ R.locals) (hf : cells ≤ R.cells ∧ slots ≤ R.slots) (kk : W p l e R s m args below meth c H locs cells slots Q (F0 m (pc + 3) ls (.long r :: rest))) : W p l e R s m args below meth c H locs cells slots Q (F0 m pc ls (.long p1 :: .ref b :: rest)) :=
  ro_call (n := 1) (ci := 0) hF (m0_size l D tys H b hr p1 r hJ) (lw_V q138 q140 qs13 q33 q141) (by decide +kernel) rfl rfl hR hr hK rfl rfl rfl hsz rfl hW hdg hf kk
end
section
set_option maxRecDepth 100000
/-! ShortestDigits.leastMultiple(IJ)J -/
def J0_leastMultiple (p1 : Int32) (p2 : Int64) : Option Int64 :=
  Option.bind (J0_borderAbove (p1 - (1 : Int32))) (fun (r_2 : Int64) =>
  if p2 = 0 then none else
  jL (((r_2 + p2) - (1 : Int64)) / p2) (fun (x6_3 : Int64) =>
  Option.bind (
    if (x6_3 * p2) = r_2 then
      if (p1 &&& (1 : Int32)) = (1 : Int32) then
        some (1 : Int32)
      else
        some (0 : Int32)
    else
      some (0 : Int32)) (fun (v_4 : Int32) =>
  if v_4 = 0 then
    some x6_3
  else
    some (x6_3 + (1 : Int64)))))
set_option maxHeartbeats 4000000 in
set_option maxRecDepth 100000 in
theorem m0_leastMultiple (l : Launch) (D : va_G) (tys : List (ClassId × FieldType)) (H0 : Heap) (h0 : Nat) (hR : xR D H0 h0 0) (p1 : Int32) (p2 : Int64) (r : Int64) (hJ : J0_leastMultiple p1 p2 = some r) : Met l yX0_leastMultiple (ws_ yX0_leastMultiple cX0_leastMultiple 9 (some .long)) ({ frames := 2, cells := 0, slots := 0, locals := 44 } : Room) (roP D tys H0 [.ref h0, .int p1, .long p2]) (roQ (.long r)) 0 0 noA := by
  refine ro_enter (by decide) (Nat.le_of_ble_eq_true rfl) ?_
  intro p e s m below meth c hF hr hlk hH hK ls hl
  have hl : lv_has ls 9 [(0, .ref h0), (1, .int p1), (2, .long p2)] := hl
  obtain ⟨hx, hb, hml, hown, hts⟩ := id hF
  unfold J0_leastMultiple at hJ
  refine lv_aload_n hx hb dX0_leastMultiple_0 rfl (lv_at hl 0 rfl) ?_
  refine lv_iload_n hx hb dX0_leastMultiple_1 rfl (lv_at hl 1 rfl) ?_
  refine lv_iconst (v := 1) hx hb dX0_leastMultiple_2 (by decide) ?_
  refine lv_isub hx hb dX0_leastMultiple_3 ?_
  obtain ⟨r_2, h_1, hJ⟩ := jb hJ
  refine k0_borderAbove hF hR hK h_1 hl.1 (Nat.le_of_ble_eq_true rfl) dX0_leastMultiple_4 ⟨Nat.le_of_ble_eq_true rfl, Nat.le_of_ble_eq_true rfl⟩ ⟨Nat.zero_le _, Nat.zero_le _⟩ ?_
  refine lv_lstore (lv' := [(4, .long r_2), (0, .ref h0), (1, .int p1), (2, .long p2)]) hx hb dX0_leastMultiple_7 hl (by decide) rfl (fun ls hl => ?_)
  refine lv_lload hx hb dX0_leastMultiple_9 (lv_at hl 0 rfl) ?_
  refine lv_lload_n hx hb dX0_leastMultiple_11 rfl (lv_at hl 3 rfl) ?_
  refine lv_ladd hx hb dX0_leastMultiple_12 ?_
  refine lv_lconst (v := 1) hx hb dX0_leastMultiple_13 (by decide) ?_
  refine lv_lsub hx hb dX0_leastMultiple_14 ?_
  refine lv_lload_n hx hb dX0_leastMultiple_15 rfl (lv_at hl 3 rfl) ?_
  obtain ⟨g_8, hJ⟩ := jg hJ
  refine lv_ldiv hx hb dX0_leastMultiple_16 g_8 ?_
  refine lv_topl (fun x6_3 ex6_3 => ?_)
  have hJ := jlet hJ ex6_3
  refine lv_lstore (lv' := [(6, .long x6_3), (4, .long r_2), (0, .ref h0), (1, .int p1), (2, .long p2)]) hx hb dX0_leastMultiple_17 hl (by decide) rfl (fun ls hl => ?_)
  obtain ⟨v_4, hR19, hJ⟩ := jb hJ
  refine jn 9 [(6, .long x6_3), (4, .long r_2), (0, .ref h0), (1, .int p1), (2, .long p2)] 41 [.int v_4] ?_ (fun K41 => ?_)
  · intro ls hl
    refine lv_istore (lv' := [(8, .int v_4), (6, .long x6_3), (4, .long r_2), (0, .ref h0), (1, .int p1), (2, .long p2)]) hx hb dX0_leastMultiple_41 hl (by decide) rfl (fun ls hl => ?_)
    refine lv_iload hx hb dX0_leastMultiple_43 (lv_at hl 0 rfl) ?_
    refine lv_if_eq (tgt := 55) hx hb dX0_leastMultiple_45 (by decide) (fun c_7 => ?_) (fun c_7 => ?_)
    · have hJ := jt hJ c_7
      refine lv_lload hx hb dX0_leastMultiple_55 (lv_at hl 1 rfl) ?_
      exact ro_lret hF hr hlk hH dX0_leastMultiple_57 hJ
    · have hJ := jf hJ c_7
      refine lv_lload hx hb dX0_leastMultiple_48 (lv_at hl 1 rfl) ?_
      refine lv_lconst (v := 1) hx hb dX0_leastMultiple_50 (by decide) ?_
      refine lv_ladd hx hb dX0_leastMultiple_51 ?_
      refine lv_goto (tgt := 57) hx hb dX0_leastMultiple_52 (by decide) ?_
      exact ro_lret hF hr hlk hH dX0_leastMultiple_57 hJ
  · have hJ := hR19
    refine lv_lload hx hb dX0_leastMultiple_19 (lv_at hl 0 rfl) ?_
    refine lv_lload_n hx hb dX0_leastMultiple_21 rfl (lv_at hl 4 rfl) ?_
    refine lv_lmul hx hb dX0_leastMultiple_22 ?_
    refine lv_lload hx hb dX0_leastMultiple_23 (lv_at hl 1 rfl) ?_
    refine lc_ne (tgt := 40) hx hb dX0_leastMultiple_25 dX0_leastMultiple_26 (by decide) (fun c_5 => ?_) (fun c_5 => ?_)
    · have hJ := jf hJ c_5
      refine lv_iconst (v := 0) hx hb dX0_leastMultiple_40 (by decide) ?_
      obtain rfl := Option.some.inj hJ
      exact K41 ls (lv_sub hl [0, 1, 2, 3, 4] rfl)
    · have hJ := jt hJ c_5
      refine lv_iload_n hx hb dX0_leastMultiple_29 rfl (lv_at hl 3 rfl) ?_
      refine lv_iconst (v := 1) hx hb dX0_leastMultiple_30 (by decide) ?_
      refine lv_iand hx hb dX0_leastMultiple_31 ?_
      refine lv_iconst (v := 1) hx hb dX0_leastMultiple_32 (by decide) ?_
      refine lv_icmp_ne (tgt := 40) hx hb dX0_leastMultiple_33 (by decide) (fun c_6 => ?_) (fun c_6 => ?_)
      · have hJ := jf hJ c_6
        refine lv_iconst (v := 0) hx hb dX0_leastMultiple_40 (by decide) ?_
        obtain rfl := Option.some.inj hJ
        exact K41 ls (lv_sub hl [0, 1, 2, 3, 4] rfl)
      · have hJ := jt hJ c_6
        refine lv_iconst (v := 1) hx hb dX0_leastMultiple_36 (by decide) ?_
        refine lv_goto (tgt := 41) hx hb dX0_leastMultiple_37 (by decide) ?_
        obtain rfl := Option.some.inj hJ
        exact K41 ls (lv_sub hl [0, 1, 2, 3, 4] rfl)
theorem k0_leastMultiple {p : Program} {l : Launch} {e : Env} {R : Room} {s : State} {m : MethodId} {args : Array Value} {below : List Frame} {meth : Method} {c : Code} {H : Heap} {locs : List Loc} {cells slots : Nat} {Q : State → Prop} {cc : ByteArray} {nL pc : Nat} {ls : Array Slot} {rest : List Value} {D : va_G} {tys : List (ClassId × FieldType)} {b : Nat} (hF : CallFix p m c cc nL s args lw_all RX0) (hr : xR D H b 0) (hK : va_K D vwCl tys s) {p1 : Int32} {p2 : Int64} {r : Int64} (hJ : J0_leastMultiple p1 p2 = some r) (hsz : ls.size = nL) (hW : (rest.map fun v => v.category).sum ≤ 8) (hdg : decode cc pc = .ok (.invokevirtual 71, 3)) (hR : 2 + 1 ≤ R.frames ∧ 8 + (9 + 11) + 44 ≤ R.locals) (hf : cells ≤ R.cells ∧ slots ≤ R.slots) (kk : W p l e R s m args below meth c H locs cells slots Q (F0 m (pc + 3) ls (.long r :: rest))) : W p l e R s m args below meth c H locs cells slots Q (F0 m pc ls (.long p2 :: .int p1 :: .ref b :: rest)) :=
  ro_call (n := 2) (ci := 0) hF (m0_leastMultiple l D tys H b hr p1 p2 r hJ) (lw_V q125 q127 qs10 q33 q128) (by decide +kernel) rfl rfl hR hr hK rfl rfl rfl hsz rfl hW hdg hf kk
/-! ShortestDigits.greatestMultiple(IJ)J -/
def J0_greatestMultiple (p1 : Int32) (p2 : Int64) : Option Int64 :=
  Option.bind (J0_borderAbove p1) (fun (r_2 : Int64) =>
  if p2 = 0 then none else
  jL (r_2 / p2) (fun (x6_3 : Int64) =>
  Option.bind (
    if (x6_3 * p2) = r_2 then
      if (p1 &&& (1 : Int32)) = (1 : Int32) then
        some (1 : Int32)
      else
        some (0 : Int32)
    else
      some (0 : Int32)) (fun (v_4 : Int32) =>
  if v_4 = 0 then
    some x6_3
  else
    some (x6_3 - (1 : Int64)))))
set_option maxHeartbeats 4000000 in
set_option maxRecDepth 100000 in
theorem m0_greatestMultiple (l : Launch) (D : va_G) (tys : List (ClassId × FieldType)) (H0 : Heap) (h0 : Nat) (hR : xR D H0 h0 0) (p1 : Int32) (p2 : Int64) (r : Int64) (hJ : J0_greatestMultiple p1 p2 = some r) : Met l yX0_greatestMultiple (ws_ yX0_greatestMultiple cX0_greatestMultiple 9 (some .long)) ({ frames := 2, cells := 0, slots := 0, locals := 44 } : Room) (roP D tys H0 [.ref h0, .int p1, .long p2]) (roQ (.long r)) 0 0 noA := by
  refine ro_enter (by decide) (Nat.le_of_ble_eq_true rfl) ?_
  intro p e s m below meth c hF hr hlk hH hK ls hl
  have hl : lv_has ls 9 [(0, .ref h0), (1, .int p1), (2, .long p2)] := hl
  obtain ⟨hx, hb, hml, hown, hts⟩ := id hF
  unfold J0_greatestMultiple at hJ
  refine lv_aload_n hx hb dX0_greatestMultiple_0 rfl (lv_at hl 0 rfl) ?_
  refine lv_iload_n hx hb dX0_greatestMultiple_1 rfl (lv_at hl 1 rfl) ?_
  obtain ⟨r_2, h_1, hJ⟩ := jb hJ
  refine k0_borderAbove hF hR hK h_1 hl.1 (Nat.le_of_ble_eq_true rfl) dX0_greatestMultiple_2 ⟨Nat.le_of_ble_eq_true rfl, Nat.le_of_ble_eq_true rfl⟩ ⟨Nat.zero_le _, Nat.zero_le _⟩ ?_
  refine lv_lstore (lv' := [(4, .long r_2), (0, .ref h0), (1, .int p1), (2, .long p2)]) hx hb dX0_greatestMultiple_5 hl (by decide) rfl (fun ls hl => ?_)
  refine lv_lload hx hb dX0_greatestMultiple_7 (lv_at hl 0 rfl) ?_
  refine lv_lload_n hx hb dX0_greatestMultiple_9 rfl (lv_at hl 3 rfl) ?_
  obtain ⟨g_8, hJ⟩ := jg hJ
  refine lv_ldiv hx hb dX0_greatestMultiple_10 g_8 ?_
  refine lv_topl (fun x6_3 ex6_3 => ?_)
  have hJ := jlet hJ ex6_3
  refine lv_lstore (lv' := [(6, .long x6_3), (4, .long r_2), (0, .ref h0), (1, .int p1), (2, .long p2)]) hx hb dX0_greatestMultiple_11 hl (by decide) rfl (fun ls hl => ?_)
  obtain ⟨v_4, hR13, hJ⟩ := jb hJ
  refine jn 9 [(6, .long x6_3), (4, .long r_2), (0, .ref h0), (1, .int p1), (2, .long p2)] 35 [.int v_4] ?_ (fun K35 => ?_)
  · intro ls hl
    refine lv_istore (lv' := [(8, .int v_4), (6, .long x6_3), (4, .long r_2), (0, .ref h0), (1, .int p1), (2, .long p2)]) hx hb dX0_greatestMultiple_35 hl (by decide) rfl (fun ls hl => ?_)
    refine lv_iload hx hb dX0_greatestMultiple_37 (lv_at hl 0 rfl) ?_
    refine lv_if_eq (tgt := 49) hx hb dX0_greatestMultiple_39 (by decide) (fun c_7 => ?_) (fun c_7 => ?_)
    · have hJ := jt hJ c_7
      refine lv_lload hx hb dX0_greatestMultiple_49 (lv_at hl 1 rfl) ?_
      exact ro_lret hF hr hlk hH dX0_greatestMultiple_51 hJ
    · have hJ := jf hJ c_7
      refine lv_lload hx hb dX0_greatestMultiple_42 (lv_at hl 1 rfl) ?_
      refine lv_lconst (v := 1) hx hb dX0_greatestMultiple_44 (by decide) ?_
      refine lv_lsub hx hb dX0_greatestMultiple_45 ?_
      refine lv_goto (tgt := 51) hx hb dX0_greatestMultiple_46 (by decide) ?_
      exact ro_lret hF hr hlk hH dX0_greatestMultiple_51 hJ
  · have hJ := hR13
    refine lv_lload hx hb dX0_greatestMultiple_13 (lv_at hl 0 rfl) ?_
    refine lv_lload_n hx hb dX0_greatestMultiple_15 rfl (lv_at hl 4 rfl) ?_
    refine lv_lmul hx hb dX0_greatestMultiple_16 ?_
    refine lv_lload hx hb dX0_greatestMultiple_17 (lv_at hl 1 rfl) ?_
    refine lc_ne (tgt := 34) hx hb dX0_greatestMultiple_19 dX0_greatestMultiple_20 (by decide) (fun c_5 => ?_) (fun c_5 => ?_)
    · have hJ := jf hJ c_5
      refine lv_iconst (v := 0) hx hb dX0_greatestMultiple_34 (by decide) ?_
      obtain rfl := Option.some.inj hJ
      exact K35 ls (lv_sub hl [0, 1, 2, 3, 4] rfl)
    · have hJ := jt hJ c_5
      refine lv_iload_n hx hb dX0_greatestMultiple_23 rfl (lv_at hl 3 rfl) ?_
      refine lv_iconst (v := 1) hx hb dX0_greatestMultiple_24 (by decide) ?_
      refine lv_iand hx hb dX0_greatestMultiple_25 ?_
      refine lv_iconst (v := 1) hx hb dX0_greatestMultiple_26 (by decide) ?_
      refine lv_icmp_ne (tgt := 34) hx hb dX0_greatestMultiple_27 (by decide) (fun c_6 => ?_) (fun c_6 => ?_)
      · have hJ := jf hJ c_6
        refine lv_iconst (v := 0) hx hb dX0_greatestMultiple_34 (by decide) ?_
        obtain rfl := Option.some.inj hJ
        exact K35 ls (lv_sub hl [0, 1, 2, 3, 4] rfl)
      · have hJ := jt hJ c_6
        refine lv_iconst (v := 1) hx hb dX0_greatestMultiple_30 (by decide) ?_
        refine lv_goto (tgt := 35) hx hb dX0_greatestMultiple_31 (by decide) ?_
        obtain rfl := Option.some.inj hJ
        exact K35 ls (lv_sub hl [0, 1, 2, 3, 4] rfl)
theorem k0_greatestMultiple {p : Program} {l : Launch} {e : Env} {R : Room} {s : State} {m : MethodId} {args : Array Value} {below : List Frame} {meth : Method} {c : Code} {H : Heap} {locs : List Loc} {cells slots : Nat} {Q : State → Prop} {cc : ByteArray} {nL pc : Nat} {ls : Array Slot} {rest : List Value} {D : va_G} {tys : List (ClassId × FieldType)} {b : Nat} (hF : CallFix p m c cc nL s args lw_all RX0) (hr : xR D H b 0) (hK : va_K D vwCl tys s) {p1 : Int32} {p2 : Int64} {r : Int64} (hJ : J0_greatestMultiple p1 p2 = some r) (hsz : ls.size = nL) (hW : (rest.map fun v => v.category).sum ≤ 8) (hdg : decode cc pc = .ok (.invokevirtual 75, 3)) (hR : 2 + 1 ≤ R.frames ∧ 8 + (9 + 11) + 44 ≤ R.locals) (hf : cells ≤ R.cells ∧ slots ≤ R.slots) (kk : W p l e R s m args below meth c H locs cells slots Q (F0 m (pc + 3) ls (.long r :: rest))) : W p l e R s m args below meth c H locs cells slots Q (F0 m pc ls (.long p2 :: .int p1 :: .ref b :: rest)) :=
  ro_call (n := 2) (ci := 0) hF (m0_greatestMultiple l D tys H b hr p1 p2 r hJ) (lw_V q129 q131 qs11 q33 q132) (by decide +kernel) rfl rfl hR hr hK rfl rfl rfl hsz rfl hW hdg hf kk
/-! ShortestDigits.lengthOf(J)I -/
def L0_lengthOf_12 : Nat → Int64 → Int32 → Int64 → Int32 → Option Int32
  | 0, _, _, _, _ => none
  | k + 1, x1, x3, x4, x6 =>
    if (18 : Int32) ≤ x6 then
      some x3
    else
      if x4 ≤ (0 : Int64) then
        some x3
      else
        jL (x3 + (1 : Int32)) (fun (x3_4 : Int32) =>
        jL (x4 / (10 : Int64)) (fun (x4_5 : Int64) =>
        jL (x6 + (1 : Int32)) (fun (x6_6 : Int32) =>
        L0_lengthOf_12 k x1 x3_4 x4_5 x6_6)))
def J0_lengthOf (p1 : Int64) : Option Int32 :=
  jL (p1 / (10 : Int64)) (fun (x4_1 : Int64) =>
  L0_lengthOf_12 FU p1 (1 : Int32) x4_1 (0 : Int32))
set_option maxHeartbeats 4000000 in
set_option maxRecDepth 100000 in
theorem l0_lengthOf_12 {p : Program} {l : Launch} {e : Env} {s : State} {m : MethodId} {below : List Frame} {meth : Method} {c : Code} {D : va_G} {tys : List (ClassId × FieldType)} {H0 : Heap} {h0 : Nat} (hR : xR D H0 h0 0) (p1 : Int64) (hF : CallFix p m c cX0_lengthOf 7 s ([.ref h0, .long p1] : List Value).toArray lw_all RX0) (hr : meth.sig.returnType = (some .int)) (hlk : meth.locks = false) (hH : s.heap = H0) (hK : va_K D vwCl tys s) (r : Int32) :
    ∀ (k : Nat) (x1 : Int64) (x3 : Int32) (x4 : Int64) (x6 : Int32), L0_lengthOf_12 k x1 x3 x4 x6 = some r → ∀ (ls : Array Slot), lv_has ls 7 [(0, .ref h0), (1, .long x1), (3, .int x3), (4, .long x4), (6, .int x6)] → W p l e ({ frames := 0, cells := 0, slots := 0, locals := 0 } : Room) s m ([.ref h0, .long p1] : List Value).toArray below meth c H0 [] 0 0 (MQ below (roQ (.int r)) ([.ref h0, .long p1] : List Value).toArray s 0 0 noA) (F0 m 12 ls []) := by
  obtain ⟨hx, hb, hml, hown, hts⟩ := id hF
  intro k
  induction k with
  | zero =>
    intro x1 x3 x4 x6 hJ
    rw [L0_lengthOf_12] at hJ
    cases hJ
  | succ k ih =>
    intro x1 x3 x4 x6 hJ ls hl
    rw [L0_lengthOf_12] at hJ
    refine lv_iload hx hb dX0_lengthOf_12 (lv_at hl 4 rfl) ?_
    refine lv_bipush (v := 18) hx hb dX0_lengthOf_14 (by decide) ?_
    refine lv_icmp_ge (tgt := 43) hx hb dX0_lengthOf_16 (by decide) (fun c_2 => ?_) (fun c_2 => ?_)
    · have hJ := jt hJ c_2
      refine lv_iload_n hx hb dX0_lengthOf_43 rfl (lv_at hl 2 rfl) ?_
      exact ro_iret hF hr hlk hH dX0_lengthOf_44 hJ
    · have hJ := jf hJ c_2
      refine lv_lload hx hb dX0_lengthOf_19 (lv_at hl 3 rfl) ?_
      refine lv_lconst (v := 0) hx hb dX0_lengthOf_21 (by decide) ?_
      refine lc_le (tgt := 43) hx hb dX0_lengthOf_22 dX0_lengthOf_23 (by decide) (fun c_3 => ?_) (fun c_3 => ?_)
      · have hJ := jt hJ c_3
        refine lv_iload_n hx hb dX0_lengthOf_43 rfl (lv_at hl 2 rfl) ?_
        exact ro_iret hF hr hlk hH dX0_lengthOf_44 hJ
      · have hJ := jf hJ c_3
        obtain ⟨x3_4, ex3_4⟩ : ∃ y : Int32, y = x3 + (1 : Int32) := ⟨_, rfl⟩
        have hJ := jlet hJ ex3_4
        refine lv_iinc (v := x3_4) (lv' := [(3, .int x3_4), (0, .ref h0), (1, .long x1), (4, .long x4), (6, .int x6)]) hx hb dX0_lengthOf_26 hl (k := 2) rfl (by rw [ex3_4]; rfl) (by decide) rfl (fun ls hl => ?_)
        refine lv_lload hx hb dX0_lengthOf_29 (lv_at hl 3 rfl) ?_
        refine lv_ldc2 hx hb hown (hts _ q86) dX0_lengthOf_31 ?_
        refine lv_ldiv hx hb dX0_lengthOf_34 (by decide) ?_
        refine lv_topl (fun x4_5 ex4_5 => ?_)
        have hJ := jlet hJ ex4_5
        refine lv_lstore (lv' := [(4, .long x4_5), (3, .int x3_4), (0, .ref h0), (1, .long x1), (6, .int x6)]) hx hb dX0_lengthOf_35 hl (by decide) rfl (fun ls hl => ?_)
        obtain ⟨x6_6, ex6_6⟩ : ∃ y : Int32, y = x6 + (1 : Int32) := ⟨_, rfl⟩
        have hJ := jlet hJ ex6_6
        refine lv_iinc (v := x6_6) (lv' := [(6, .int x6_6), (4, .long x4_5), (3, .int x3_4), (0, .ref h0), (1, .long x1)]) hx hb dX0_lengthOf_37 hl (k := 4) rfl (by rw [ex6_6]; rfl) (by decide) rfl (fun ls hl => ?_)
        refine lv_goto (tgt := 12) hx hb dX0_lengthOf_40 (by decide) ?_
        exact ih x1 x3_4 x4_5 x6_6 hJ ls (lv_sub hl [3, 4, 2, 1, 0] rfl)
set_option maxHeartbeats 4000000 in
set_option maxRecDepth 100000 in
theorem m0_lengthOf (l : Launch) (D : va_G) (tys : List (ClassId × FieldType)) (H0 : Heap) (h0 : Nat) (hR : xR D H0 h0 0) (p1 : Int64) (r : Int32) (hJ : J0_lengthOf p1 = some r) : Met l yX0_lengthOf (ws_ yX0_lengthOf cX0_lengthOf 7 (some .int)) ({ frames := 0, cells := 0, slots := 0, locals := 0 } : Room) (roP D tys H0 [.ref h0, .long p1]) (roQ (.int r)) 0 0 noA := by
  refine ro_enter (by decide) (Nat.le_of_ble_eq_true rfl) ?_
  intro p e s m below meth c hF hr hlk hH hK ls hl
  have hl : lv_has ls 7 [(0, .ref h0), (1, .long p1)] := hl
  obtain ⟨hx, hb, hml, hown, hts⟩ := id hF
  unfold J0_lengthOf at hJ
  refine lv_iconst (v := 1) hx hb dX0_lengthOf_0 (by decide) ?_
  refine lv_istore_n (lv' := [(3, .int (1 : Int32)), (0, .ref h0), (1, .long p1)]) hx hb dX0_lengthOf_1 rfl hl (by decide) rfl (fun ls hl => ?_)
  refine lv_lload_n hx hb dX0_lengthOf_2 rfl (lv_at hl 2 rfl) ?_
  refine lv_ldc2 hx hb hown (hts _ q86) dX0_lengthOf_3 ?_
  refine lv_ldiv hx hb dX0_lengthOf_6 (by decide) ?_
  refine lv_topl (fun x4_1 ex4_1 => ?_)
  have hJ := jlet hJ ex4_1
  refine lv_lstore (lv' := [(4, .long x4_1), (3, .int (1 : Int32)), (0, .ref h0), (1, .long p1)]) hx hb dX0_lengthOf_7 hl (by decide) rfl (fun ls hl => ?_)
  refine lv_iconst (v := 0) hx hb dX0_lengthOf_9 (by decide) ?_
  refine lv_istore (lv' := [(6, .int (0 : Int32)), (4, .long x4_1), (3, .int (1 : Int32)), (0, .ref h0), (1, .long p1)]) hx hb dX0_lengthOf_10 hl (by decide) rfl (fun ls hl => ?_)
  exact l0_lengthOf_12 hR p1 hF hr hlk hH hK r FU p1 (1 : Int32) x4_1 (0 : Int32) hJ ls (lv_sub hl [3, 4, 2, 1, 0] rfl)
theorem k0_lengthOf {p : Program} {l : Launch} {e : Env} {R : Room} {s : State} {m : MethodId} {args : Array Value} {below : List Frame} {meth : Method} {c : Code} {H : Heap} {locs : List Loc} {cells slots : Nat} {Q : State → Prop} {cc : ByteArray} {nL pc : Nat} {ls : Array Slot} {rest : List Value} {D : va_G} {tys : List (ClassId × FieldType)} {b : Nat} (hF : CallFix p m c cc nL s args lw_all RX0) (hr : xR D H b 0) (hK : va_K D vwCl tys s) {p1 : Int64} {r : Int32} (hJ : J0_lengthOf p1 = some r) (hsz : ls.size = nL) (hW : (rest.map fun v => v.category).sum ≤ 8) (hdg : decode cc pc = .ok (.invokevirtual 90, 3)) (hR : 0 + 1 ≤ R.frames ∧ 8 + (7 + 11) + 0 ≤ R.locals) (hf : cells ≤ R.cells ∧ slots ≤ R.slots) (kk : W p l e R s m args below meth c H locs cells slots Q (F0 m (pc + 3) ls (.int r :: rest))) : W p l e R s m args below meth c H locs cells slots Q (F0 m pc ls (.long p1 :: .ref b :: rest)) :=
  ro_call (n := 1) (ci := 0) hF (m0_lengthOf l D tys H b hr p1 r hJ) (lw_V q146 q148 qs15 q33 q149) (by decide +kernel) rfl rfl hR hr hK rfl rfl rfl hsz rfl hW hdg hf kk
/-! ShortestDigits.nearestMultiple(JJJJ)J -/
def J0_nearestMultiple (p1 : Int64) (p2 : Int64) (p3 : Int64) (p4 : Int64) : Option Int64 :=
  if p2 = 0 then none else
  jL (p1 / p2) (fun (x9_1 : Int64) =>
  Option.bind (
    if ((2 : Int64) * (p1 - (x9_1 * p2))) ≤ p2 then
      some x9_1
    else
      jL (x9_1 + (1 : Int64)) (fun (x9_4 : Int64) =>
      some x9_4)) (fun (x9_2 : Int64) =>
  Option.bind (
    if p3 ≤ x9_2 then
      some x9_2
    else
      some p3) (fun (v_5 : Int64) =>
  if v_5 ≤ p4 then
    some v_5
  else
    some p4)))
set_option maxHeartbeats 4000000 in
set_option maxRecDepth 100000 in
theorem m0_nearestMultiple (l : Launch) (D : va_G) (tys : List (ClassId × FieldType)) (H0 : Heap) (h0 : Nat) (hR : xR D H0 h0 0) (p1 : Int64) (p2 : Int64) (p3 : Int64) (p4 : Int64) (r : Int64) (hJ : J0_nearestMultiple p1 p2 p3 p4 = some r) : Met l yX0_nearestMultiple (ws_ yX0_nearestMultiple cX0_nearestMultiple 11 (some .long)) ({ frames := 0, cells := 0, slots := 0, locals := 0 } : Room) (roP D tys H0 [.ref h0, .long p1, .long p2, .long p3, .long p4]) (roQ (.long r)) 0 0 noA := by
  refine ro_enter (by decide) (Nat.le_of_ble_eq_true rfl) ?_
  intro p e s m below meth c hF hr hlk hH hK ls hl
  have hl : lv_has ls 11 [(0, .ref h0), (1, .long p1), (3, .long p2), (5, .long p3), (7, .long p4)] := hl
  obtain ⟨hx, hb, hml, hown, hts⟩ := id hF
  unfold J0_nearestMultiple at hJ
  refine lv_lload_n hx hb dX0_nearestMultiple_0 rfl (lv_at hl 1 rfl) ?_
  refine lv_lload_n hx hb dX0_nearestMultiple_1 rfl (lv_at hl 2 rfl) ?_
  obtain ⟨g_8, hJ⟩ := jg hJ
  refine lv_ldiv hx hb dX0_nearestMultiple_2 g_8 ?_
  refine lv_topl (fun x9_1 ex9_1 => ?_)
  have hJ := jlet hJ ex9_1
  refine lv_lstore (lv' := [(9, .long x9_1), (0, .ref h0), (1, .long p1), (3, .long p2), (5, .long p3), (7, .long p4)]) hx hb dX0_nearestMultiple_3 hl (by decide) rfl (fun ls hl => ?_)
  obtain ⟨x9_2, hR5, hJ⟩ := jb hJ
  refine jn 11 [(9, .long x9_2), (0, .ref h0), (1, .long p1), (3, .long p2), (5, .long p3), (7, .long p4)] 26 [] ?_ (fun K26 => ?_)
  · intro ls hl
    obtain ⟨v_5, hR26, hJ⟩ := jb hJ
    refine jn 11 [(9, .long x9_2), (0, .ref h0), (1, .long p1), (3, .long p2), (5, .long p3), (7, .long p4)] 41 [.long v_5] ?_ (fun K41 => ?_)
    · intro ls hl
      refine lv_lstore (lv' := [(9, .long v_5), (0, .ref h0), (1, .long p1), (3, .long p2), (5, .long p3), (7, .long p4)]) hx hb dX0_nearestMultiple_41 hl (by decide) rfl (fun ls hl => ?_)
      refine lv_lload hx hb dX0_nearestMultiple_43 (lv_at hl 0 rfl) ?_
      refine lv_lload hx hb dX0_nearestMultiple_45 (lv_at hl 5 rfl) ?_
      refine lc_le (tgt := 56) hx hb dX0_nearestMultiple_47 dX0_nearestMultiple_48 (by decide) (fun c_7 => ?_) (fun c_7 => ?_)
      · have hJ := jt hJ c_7
        refine lv_lload hx hb dX0_nearestMultiple_56 (lv_at hl 0 rfl) ?_
        exact ro_lret hF hr hlk hH dX0_nearestMultiple_58 hJ
      · have hJ := jf hJ c_7
        refine lv_lload hx hb dX0_nearestMultiple_51 (lv_at hl 5 rfl) ?_
        refine lv_goto (tgt := 58) hx hb dX0_nearestMultiple_53 (by decide) ?_
        exact ro_lret hF hr hlk hH dX0_nearestMultiple_58 hJ
    · have hJ := hR26
      refine lv_lload hx hb dX0_nearestMultiple_26 (lv_at hl 0 rfl) ?_
      refine lv_lload hx hb dX0_nearestMultiple_28 (lv_at hl 4 rfl) ?_
      refine lc_ge (tgt := 39) hx hb dX0_nearestMultiple_30 dX0_nearestMultiple_31 (by decide) (fun c_6 => ?_) (fun c_6 => ?_)
      · have hJ := jt hJ c_6
        refine lv_lload hx hb dX0_nearestMultiple_39 (lv_at hl 0 rfl) ?_
        obtain rfl := Option.some.inj hJ
        exact K41 ls (lv_sub hl [0, 1, 2, 3, 4, 5] rfl)
      · have hJ := jf hJ c_6
        refine lv_lload hx hb dX0_nearestMultiple_34 (lv_at hl 4 rfl) ?_
        refine lv_goto (tgt := 41) hx hb dX0_nearestMultiple_36 (by decide) ?_
        obtain rfl := Option.some.inj hJ
        exact K41 ls (lv_sub hl [0, 1, 2, 3, 4, 5] rfl)
  · have hJ := hR5
    refine lv_ldc2 hx hb hown (hts _ q137) dX0_nearestMultiple_5 ?_
    refine lv_lload_n hx hb dX0_nearestMultiple_8 rfl (lv_at hl 2 rfl) ?_
    refine lv_lload hx hb dX0_nearestMultiple_9 (lv_at hl 0 rfl) ?_
    refine lv_lload_n hx hb dX0_nearestMultiple_11 rfl (lv_at hl 3 rfl) ?_
    refine lv_lmul hx hb dX0_nearestMultiple_12 ?_
    refine lv_lsub hx hb dX0_nearestMultiple_13 ?_
    refine lv_lmul hx hb dX0_nearestMultiple_14 ?_
    refine lv_lload_n hx hb dX0_nearestMultiple_15 rfl (lv_at hl 3 rfl) ?_
    refine lc_le (tgt := 26) hx hb dX0_nearestMultiple_16 dX0_nearestMultiple_17 (by decide) (fun c_3 => ?_) (fun c_3 => ?_)
    · have hJ := jt hJ c_3
      obtain rfl := Option.some.inj hJ
      exact K26 ls (lv_sub hl [0, 1, 2, 3, 4, 5] rfl)
    · have hJ := jf hJ c_3
      refine lv_lload hx hb dX0_nearestMultiple_20 (lv_at hl 0 rfl) ?_
      refine lv_lconst (v := 1) hx hb dX0_nearestMultiple_22 (by decide) ?_
      refine lv_ladd hx hb dX0_nearestMultiple_23 ?_
      refine lv_topl (fun x9_4 ex9_4 => ?_)
      have hJ := jlet hJ ex9_4
      refine lv_lstore (lv' := [(9, .long x9_4), (0, .ref h0), (1, .long p1), (3, .long p2), (5, .long p3), (7, .long p4)]) hx hb dX0_nearestMultiple_24 hl (by decide) rfl (fun ls hl => ?_)
      obtain rfl := Option.some.inj hJ
      exact K26 ls (lv_sub hl [0, 1, 2, 3, 4, 5] rfl)
theorem k0_nearestMultiple {p : Program} {l : Launch} {e : Env} {R : Room} {s : State} {m : MethodId} {args : Array Value} {below : List Frame} {meth : Method} {c : Code} {H : Heap} {locs : List Loc} {cells slots : Nat} {Q : State → Prop} {cc : ByteArray} {nL pc : Nat} {ls : Array Slot} {rest : List Value} {D : va_G} {tys : List (ClassId × FieldType)} {b : Nat} (hF : CallFix p m c cc nL s args lw_all RX0) (hr : xR D H b 0) (hK : va_K D vwCl tys s) {p1 : Int64} {p2 : Int64} {p3 : Int64} {p4 : Int64} {r : Int64} (hJ : J0_nearestMultiple p1 p2 p3 p4 = some r) (hsz : ls.size = nL) (hW : (rest.map fun v => v.category).sum ≤ 8) (hdg : decode cc pc = .ok (.invokevirtual 78, 3)) (hR : 0 + 1 ≤ R.frames ∧ 8 + (11 + 11) + 0 ≤ R.locals) (hf : cells ≤ R.cells ∧ slots ≤ R.slots) (kk : W p l e R s m args below meth c H locs cells slots Q (F0 m (pc + 3) ls (.long r :: rest))) : W p l e R s m args below meth c H locs cells slots Q (F0 m pc ls (.long p4 :: .long p3 :: .long p2 :: .long p1 :: .ref b :: rest)) :=
  ro_call (n := 4) (ci := 0) hF (m0_nearestMultiple l D tys H b hr p1 p2 p3 p4 r hJ) (lw_V q133 q135 qs12 q33 q136) (by decide +kernel) rfl rfl hR hr hK rfl rfl rfl hsz rfl hW hdg hf kk
/-! ShortestDigits.writtenWith(II)I -/
def J0_writtenWith (p1 : Int32) (p2 : Int32) : Option Int32 :=
  Option.bind (J0_unitsOf p1) (fun (r_2 : Int32) =>
  Option.bind (J0_tenTo p2) (fun (r_4 : Int64) =>
  jL ((r_2.toInt64) * r_4) (fun (x3_5 : Int64) =>
  jL (x3_5 >>> ((9 : Int32).toInt64 &&& 63)) (fun (x5_6 : Int64) =>
  jL (x3_5 &&& (511 : Int64)) (fun (x7_7 : Int64) =>
  Option.bind (
    if (256 : Int64) < x7_7 then
      some (1 : Int32)
    else
      if x7_7 = (256 : Int64) then
        if (x5_6 &&& (1 : Int64)) = (1 : Int64) then
          some (1 : Int32)
        else
          some (0 : Int32)
      else
        some (0 : Int32)) (fun (v_8 : Int32) =>
  if v_8 = 0 then
    some (x5_6.toInt32)
  else
    some ((x5_6 + (1 : Int64)).toInt32)))))))
set_option maxHeartbeats 4000000 in
set_option maxRecDepth 100000 in
theorem m0_writtenWith (l : Launch) (D : va_G) (tys : List (ClassId × FieldType)) (H0 : Heap) (h0 : Nat) (hR : xR D H0 h0 0) (p1 : Int32) (p2 : Int32) (r : Int32) (hJ : J0_writtenWith p1 p2 = some r) : Met l yX0_writtenWith (ws_ yX0_writtenWith cX0_writtenWith 10 (some .int)) ({ frames := 1, cells := 0, slots := 0, locals := 24 } : Room) (roP D tys H0 [.ref h0, .int p1, .int p2]) (roQ (.int r)) 0 0 noA := by
  refine ro_enter (by decide) (Nat.le_of_ble_eq_true rfl) ?_
  intro p e s m below meth c hF hr hlk hH hK ls hl
  have hl : lv_has ls 10 [(0, .ref h0), (1, .int p1), (2, .int p2)] := hl
  obtain ⟨hx, hb, hml, hown, hts⟩ := id hF
  unfold J0_writtenWith at hJ
  refine lv_aload_n hx hb dX0_writtenWith_0 rfl (lv_at hl 0 rfl) ?_
  refine lv_iload_n hx hb dX0_writtenWith_1 rfl (lv_at hl 1 rfl) ?_
  obtain ⟨r_2, h_1, hJ⟩ := jb hJ
  refine k0_unitsOf hF hR hK h_1 hl.1 (Nat.le_of_ble_eq_true rfl) dX0_writtenWith_2 ⟨Nat.le_of_ble_eq_true rfl, Nat.le_of_ble_eq_true rfl⟩ ⟨Nat.zero_le _, Nat.zero_le _⟩ ?_
  refine lv_i2l hx hb dX0_writtenWith_5 rfl ?_
  refine lv_aload_n hx hb dX0_writtenWith_6 rfl (lv_at hl 0 rfl) ?_
  refine lv_iload_n hx hb dX0_writtenWith_7 rfl (lv_at hl 2 rfl) ?_
  obtain ⟨r_4, h_3, hJ⟩ := jb hJ
  refine k0_tenTo hF hR hK h_3 hl.1 (Nat.le_of_ble_eq_true rfl) dX0_writtenWith_8 ⟨Nat.le_of_ble_eq_true rfl, Nat.le_of_ble_eq_true rfl⟩ ⟨Nat.zero_le _, Nat.zero_le _⟩ ?_
  refine lv_lmul hx hb dX0_writtenWith_11 ?_
  refine lv_topl (fun x3_5 ex3_5 => ?_)
  have hJ := jlet hJ ex3_5
  refine lv_lstore_n (lv' := [(3, .long x3_5), (0, .ref h0), (1, .int p1), (2, .int p2)]) hx hb dX0_writtenWith_12 rfl hl (by decide) rfl (fun ls hl => ?_)
  refine lv_lload_n hx hb dX0_writtenWith_13 rfl (lv_at hl 0 rfl) ?_
  refine lv_bipush (v := 9) hx hb dX0_writtenWith_14 (by decide) ?_
  refine lv_lshr hx hb dX0_writtenWith_16 rfl ?_
  refine lv_topl (fun x5_6 ex5_6 => ?_)
  have hJ := jlet hJ ex5_6
  refine lv_lstore (lv' := [(5, .long x5_6), (3, .long x3_5), (0, .ref h0), (1, .int p1), (2, .int p2)]) hx hb dX0_writtenWith_17 hl (by decide) rfl (fun ls hl => ?_)
  refine lv_lload_n hx hb dX0_writtenWith_19 rfl (lv_at hl 1 rfl) ?_
  refine lv_ldc2 hx hb hown (hts _ q166) dX0_writtenWith_20 ?_
  refine lv_land hx hb dX0_writtenWith_23 ?_
  refine lv_topl (fun x7_7 ex7_7 => ?_)
  have hJ := jlet hJ ex7_7
  refine lv_lstore (lv' := [(7, .long x7_7), (5, .long x5_6), (3, .long x3_5), (0, .ref h0), (1, .int p1), (2, .int p2)]) hx hb dX0_writtenWith_24 hl (by decide) rfl (fun ls hl => ?_)
  obtain ⟨v_8, hR26, hJ⟩ := jb hJ
  refine jn 10 [(7, .long x7_7), (5, .long x5_6), (3, .long x3_5), (0, .ref h0), (1, .int p1), (2, .int p2)] 58 [.int v_8] ?_ (fun K58 => ?_)
  · intro ls hl
    refine lv_istore (lv' := [(9, .int v_8), (7, .long x7_7), (5, .long x5_6), (3, .long x3_5), (0, .ref h0), (1, .int p1), (2, .int p2)]) hx hb dX0_writtenWith_58 hl (by decide) rfl (fun ls hl => ?_)
    refine lv_iload hx hb dX0_writtenWith_60 (lv_at hl 0 rfl) ?_
    refine lv_if_eq (tgt := 72) hx hb dX0_writtenWith_62 (by decide) (fun c_12 => ?_) (fun c_12 => ?_)
    · have hJ := jt hJ c_12
      refine lv_lload hx hb dX0_writtenWith_72 (lv_at hl 2 rfl) ?_
      refine lv_l2i hx hb dX0_writtenWith_74 rfl ?_
      exact ro_iret hF hr hlk hH dX0_writtenWith_75 hJ
    · have hJ := jf hJ c_12
      refine lv_lload hx hb dX0_writtenWith_65 (lv_at hl 2 rfl) ?_
      refine lv_lconst (v := 1) hx hb dX0_writtenWith_67 (by decide) ?_
      refine lv_ladd hx hb dX0_writtenWith_68 ?_
      refine lv_goto (tgt := 74) hx hb dX0_writtenWith_69 (by decide) ?_
      refine lv_l2i hx hb dX0_writtenWith_74 rfl ?_
      exact ro_iret hF hr hlk hH dX0_writtenWith_75 hJ
  · have hJ := hR26
    refine lv_lload hx hb dX0_writtenWith_26 (lv_at hl 0 rfl) ?_
    refine lv_ldc2 hx hb hown (hts _ q167) dX0_writtenWith_28 ?_
    refine lc_gt (tgt := 53) hx hb dX0_writtenWith_31 dX0_writtenWith_32 (by decide) (fun c_9 => ?_) (fun c_9 => ?_)
    · have hJ := jt hJ c_9
      refine lv_iconst (v := 1) hx hb dX0_writtenWith_53 (by decide) ?_
      refine lv_goto (tgt := 58) hx hb dX0_writtenWith_54 (by decide) ?_
      obtain rfl := Option.some.inj hJ
      exact K58 ls (lv_sub hl [0, 1, 2, 3, 4, 5] rfl)
    · have hJ := jf hJ c_9
      refine lv_lload hx hb dX0_writtenWith_35 (lv_at hl 0 rfl) ?_
      refine lv_ldc2 hx hb hown (hts _ q167) dX0_writtenWith_37 ?_
      refine lc_ne (tgt := 57) hx hb dX0_writtenWith_40 dX0_writtenWith_41 (by decide) (fun c_10 => ?_) (fun c_10 => ?_)
      · have hJ := jf hJ c_10
        refine lv_iconst (v := 0) hx hb dX0_writtenWith_57 (by decide) ?_
        obtain rfl := Option.some.inj hJ
        exact K58 ls (lv_sub hl [0, 1, 2, 3, 4, 5] rfl)
      · have hJ := jt hJ c_10
        refine lv_lload hx hb dX0_writtenWith_44 (lv_at hl 1 rfl) ?_
        refine lv_lconst (v := 1) hx hb dX0_writtenWith_46 (by decide) ?_
        refine lv_land hx hb dX0_writtenWith_47 ?_
        refine lv_lconst (v := 1) hx hb dX0_writtenWith_48 (by decide) ?_
        refine lc_ne (tgt := 57) hx hb dX0_writtenWith_49 dX0_writtenWith_50 (by decide) (fun c_11 => ?_) (fun c_11 => ?_)
        · have hJ := jf hJ c_11
          refine lv_iconst (v := 0) hx hb dX0_writtenWith_57 (by decide) ?_
          obtain rfl := Option.some.inj hJ
          exact K58 ls (lv_sub hl [0, 1, 2, 3, 4, 5] rfl)
        · have hJ := jt hJ c_11
          refine lv_iconst (v := 1) hx hb dX0_writtenWith_53 (by decide) ?_
          refine lv_goto (tgt := 58) hx hb dX0_writtenWith_54 (by decide) ?_
          obtain rfl := Option.some.inj hJ
          exact K58 ls (lv_sub hl [0, 1, 2, 3, 4, 5] rfl)
theorem k0_writtenWith {p : Program} {l : Launch} {e : Env} {R : Room} {s : State} {m : MethodId} {args : Array Value} {below : List Frame} {meth : Method} {c : Code} {H : Heap} {locs : List Loc} {cells slots : Nat} {Q : State → Prop} {cc : ByteArray} {nL pc : Nat} {ls : Array Slot} {rest : List Value} {D : va_G} {tys : List (ClassId × FieldType)} {b : Nat} (hF : CallFix p m c cc nL s args lw_all RX0) (hr : xR D H b 0) (hK : va_K D vwCl tys s) {p1 : Int32} {p2 : Int32} {r : Int32} (hJ : J0_writtenWith p1 p2 = some r) (hsz : ls.size = nL) (hW : (rest.map fun v => v.category).sum ≤ 8) (hdg : decode cc pc = .ok (.invokevirtual 101, 3)) (hR : 1 + 1 ≤ R.frames ∧ 8 + (10 + 11) + 24 ≤ R.locals) (hf : cells ≤ R.cells ∧ slots ≤ R.slots) (kk : W p l e R s m args below meth c H locs cells slots Q (F0 m (pc + 3) ls (.int r :: rest))) : W p l e R s m args below meth c H locs cells slots Q (F0 m pc ls (.int p2 :: .int p1 :: .ref b :: rest)) :=
  ro_call (n := 2) (ci := 0) hF (m0_writtenWith l D tys H b hr p1 p2 r hJ) (lw_V q162 q164 qs16 q33 q165) (by decide +kernel) rfl rfl hR hr hK rfl rfl rfl hsz rfl hW hdg hf kk
/-! ShortestDigits.written(II)I -/
def J0_written (p1 : Int32) (p2 : Int32) : Option Int32 :=
  Option.bind (J0_badCode p1) (fun (r_2 : Int32) =>
  if r_2 = 0 then
    if p2 < 0 then
      some (-1 : Int32)
    else
      if p2 ≤ (5 : Int32) then
        Option.bind (J0_writtenWith p1 p2) (fun (r_7 : Int32) =>
        some r_7)
      else
        some (-1 : Int32)
  else
    some (-1 : Int32))
set_option maxHeartbeats 4000000 in
set_option maxRecDepth 100000 in
theorem m0_written (l : Launch) (D : va_G) (tys : List (ClassId × FieldType)) (H0 : Heap) (h0 : Nat) (hR : xR D H0 h0 0) (p1 : Int32) (p2 : Int32) (r : Int32) (hJ : J0_written p1 p2 = some r) : Met l yX0_written (ws_ yX0_written cX0_written 3 (some .int)) ({ frames := 2, cells := 0, slots := 0, locals := 53 } : Room) (roP D tys H0 [.ref h0, .int p1, .int p2]) (roQ (.int r)) 0 0 noA := by
  refine ro_enter (by decide) (Nat.le_of_ble_eq_true rfl) ?_
  intro p e s m below meth c hF hr hlk hH hK ls hl
  have hl : lv_has ls 3 [(0, .ref h0), (1, .int p1), (2, .int p2)] := hl
  obtain ⟨hx, hb, hml, hown, hts⟩ := id hF
  unfold J0_written at hJ
  refine lv_aload_n hx hb dX0_written_0 rfl (lv_at hl 0 rfl) ?_
  refine lv_iload_n hx hb dX0_written_1 rfl (lv_at hl 1 rfl) ?_
  obtain ⟨r_2, h_1, hJ⟩ := jb hJ
  refine k0_badCode hF hR hK h_1 hl.1 (Nat.le_of_ble_eq_true rfl) dX0_written_2 ⟨Nat.le_of_ble_eq_true rfl, Nat.le_of_ble_eq_true rfl⟩ ⟨Nat.zero_le _, Nat.zero_le _⟩ ?_
  refine lv_if_ne (tgt := 17) hx hb dX0_written_5 (by decide) (fun c_3 => ?_) (fun c_3 => ?_)
  · have hJ := jf hJ c_3
    refine lv_iconst (v := -1) hx hb dX0_written_17 (by decide) ?_
    refine lv_goto (tgt := 27) hx hb dX0_written_18 (by decide) ?_
    exact ro_iret hF hr hlk hH dX0_written_27 hJ
  · have hJ := jt hJ c_3
    refine lv_iload_n hx hb dX0_written_8 rfl (lv_at hl 2 rfl) ?_
    refine lv_if_lt (tgt := 17) hx hb dX0_written_9 (by decide) (fun c_4 => ?_) (fun c_4 => ?_)
    · have hJ := jt hJ c_4
      refine lv_iconst (v := -1) hx hb dX0_written_17 (by decide) ?_
      refine lv_goto (tgt := 27) hx hb dX0_written_18 (by decide) ?_
      exact ro_iret hF hr hlk hH dX0_written_27 hJ
    · have hJ := jf hJ c_4
      refine lv_iload_n hx hb dX0_written_12 rfl (lv_at hl 2 rfl) ?_
      refine lv_iconst (v := 5) hx hb dX0_written_13 (by decide) ?_
      refine lv_icmp_le (tgt := 21) hx hb dX0_written_14 (by decide) (fun c_5 => ?_) (fun c_5 => ?_)
      · have hJ := jt hJ c_5
        refine lv_aload_n hx hb dX0_written_21 rfl (lv_at hl 0 rfl) ?_
        refine lv_iload_n hx hb dX0_written_22 rfl (lv_at hl 1 rfl) ?_
        refine lv_iload_n hx hb dX0_written_23 rfl (lv_at hl 2 rfl) ?_
        obtain ⟨r_7, h_6, hJ⟩ := jb hJ
        refine k0_writtenWith hF hR hK h_6 hl.1 (Nat.le_of_ble_eq_true rfl) dX0_written_24 ⟨Nat.le_of_ble_eq_true rfl, Nat.le_of_ble_eq_true rfl⟩ ⟨Nat.zero_le _, Nat.zero_le _⟩ ?_
        exact ro_iret hF hr hlk hH dX0_written_27 hJ
      · have hJ := jf hJ c_5
        refine lv_iconst (v := -1) hx hb dX0_written_17 (by decide) ?_
        refine lv_goto (tgt := 27) hx hb dX0_written_18 (by decide) ?_
        exact ro_iret hF hr hlk hH dX0_written_27 hJ
/-! ShortestDigits.places(I)I -/
def L0_places_12 : Nat → Int32 → Int32 → Option Int32
  | 0, _, _ => none
  | k + 1, x1, x2 =>
    if (5 : Int32) ≤ x2 then
      some (5 : Int32)
    else
      Option.bind (J0_writtenWith x1 x2) (fun (r_6 : Int32) =>
      Option.bind (J0_stepsOf r_6 (-x2)) (fun (r_8 : Int64) =>
      Option.bind (J0_named x1 r_8) (fun (r_10 : Int32) =>
      if r_10 = 0 then
        jL (x2 + (1 : Int32)) (fun (x2_12 : Int32) =>
        L0_places_12 k x1 x2_12)
      else
        some x2)))
def J0_places (p1 : Int32) : Option Int32 :=
  Option.bind (J0_badCode p1) (fun (r_2 : Int32) =>
  if r_2 = 0 then
    L0_places_12 FU p1 (0 : Int32)
  else
    some (-1 : Int32))
set_option maxHeartbeats 4000000 in
set_option maxRecDepth 100000 in
theorem l0_places_12 {p : Program} {l : Launch} {e : Env} {s : State} {m : MethodId} {below : List Frame} {meth : Method} {c : Code} {D : va_G} {tys : List (ClassId × FieldType)} {H0 : Heap} {h0 : Nat} (hR : xR D H0 h0 0) (p1 : Int32) (hF : CallFix p m c cX0_places 7 s ([.ref h0, .int p1] : List Value).toArray lw_all RX0) (hr : meth.sig.returnType = (some .int)) (hlk : meth.locks = false) (hH : s.heap = H0) (hK : va_K D vwCl tys s) (r : Int32) :
    ∀ (k : Nat) (x1 : Int32) (x2 : Int32), L0_places_12 k x1 x2 = some r → ∀ (ls : Array Slot), lv_has ls 7 [(0, .ref h0), (1, .int x1), (2, .int x2)] → W p l e ({ frames := 4, cells := 0, slots := 0, locals := 96 } : Room) s m ([.ref h0, .int p1] : List Value).toArray below meth c H0 [] 0 0 (MQ below (roQ (.int r)) ([.ref h0, .int p1] : List Value).toArray s 0 0 noA) (F0 m 12 ls []) := by
  obtain ⟨hx, hb, hml, hown, hts⟩ := id hF
  intro k
  induction k with
  | zero =>
    intro x1 x2 hJ
    rw [L0_places_12] at hJ
    cases hJ
  | succ k ih =>
    intro x1 x2 hJ ls hl
    rw [L0_places_12] at hJ
    refine lv_iload_n hx hb dX0_places_12 rfl (lv_at hl 2 rfl) ?_
    refine lv_iconst (v := 5) hx hb dX0_places_13 (by decide) ?_
    refine lv_icmp_ge (tgt := 55) hx hb dX0_places_14 (by decide) (fun c_4 => ?_) (fun c_4 => ?_)
    · have hJ := jt hJ c_4
      refine lv_iconst (v := 5) hx hb dX0_places_55 (by decide) ?_
      exact ro_iret hF hr hlk hH dX0_places_56 hJ
    · have hJ := jf hJ c_4
      refine lv_aload_n hx hb dX0_places_17 rfl (lv_at hl 0 rfl) ?_
      refine lv_iload_n hx hb dX0_places_18 rfl (lv_at hl 1 rfl) ?_
      refine lv_iload_n hx hb dX0_places_19 rfl (lv_at hl 2 rfl) ?_
      obtain ⟨r_6, h_5, hJ⟩ := jb hJ
      refine k0_writtenWith hF hR hK h_5 hl.1 (Nat.le_of_ble_eq_true rfl) dX0_places_20 ⟨Nat.le_of_ble_eq_true rfl, Nat.le_of_ble_eq_true rfl⟩ ⟨Nat.zero_le _, Nat.zero_le _⟩ ?_
      refine lv_istore_n (lv' := [(3, .int r_6), (0, .ref h0), (1, .int x1), (2, .int x2)]) hx hb dX0_places_23 rfl hl (by decide) rfl (fun ls hl => ?_)
      refine lv_aload_n hx hb dX0_places_24 rfl (lv_at hl 1 rfl) ?_
      refine lv_iload_n hx hb dX0_places_25 rfl (lv_at hl 0 rfl) ?_
      refine lv_iload_n hx hb dX0_places_26 rfl (lv_at hl 3 rfl) ?_
      refine lv_ineg hx hb dX0_places_27 ?_
      obtain ⟨r_8, h_7, hJ⟩ := jb hJ
      refine k0_stepsOf hF hR hK h_7 hl.1 (Nat.le_of_ble_eq_true rfl) dX0_places_28 ⟨Nat.le_of_ble_eq_true rfl, Nat.le_of_ble_eq_true rfl⟩ ⟨Nat.zero_le _, Nat.zero_le _⟩ ?_
      refine lv_lstore (lv' := [(4, .long r_8), (3, .int r_6), (0, .ref h0), (1, .int x1), (2, .int x2)]) hx hb dX0_places_31 hl (by decide) rfl (fun ls hl => ?_)
      refine lv_aload_n hx hb dX0_places_33 rfl (lv_at hl 2 rfl) ?_
      refine lv_iload_n hx hb dX0_places_34 rfl (lv_at hl 3 rfl) ?_
      refine lv_lload hx hb dX0_places_35 (lv_at hl 0 rfl) ?_
      obtain ⟨r_10, h_9, hJ⟩ := jb hJ
      refine k0_named hF hR hK h_9 hl.1 (Nat.le_of_ble_eq_true rfl) dX0_places_37 ⟨Nat.le_of_ble_eq_true rfl, Nat.le_of_ble_eq_true rfl⟩ ⟨Nat.zero_le _, Nat.zero_le _⟩ ?_
      refine lv_istore (lv' := [(6, .int r_10), (4, .long r_8), (3, .int r_6), (0, .ref h0), (1, .int x1), (2, .int x2)]) hx hb dX0_places_40 hl (by decide) rfl (fun ls hl => ?_)
      refine lv_iload hx hb dX0_places_42 (lv_at hl 0 rfl) ?_
      refine lv_if_eq (tgt := 49) hx hb dX0_places_44 (by decide) (fun c_11 => ?_) (fun c_11 => ?_)
      · have hJ := jt hJ c_11
        obtain ⟨x2_12, ex2_12⟩ : ∃ y : Int32, y = x2 + (1 : Int32) := ⟨_, rfl⟩
        have hJ := jlet hJ ex2_12
        refine lv_iinc (v := x2_12) (lv' := [(2, .int x2_12), (6, .int r_10), (4, .long r_8), (3, .int r_6), (0, .ref h0), (1, .int x1)]) hx hb dX0_places_49 hl (k := 5) rfl (by rw [ex2_12]; rfl) (by decide) rfl (fun ls hl => ?_)
        refine lv_goto (tgt := 12) hx hb dX0_places_52 (by decide) ?_
        exact ih x1 x2_12 hJ ls (lv_sub hl [4, 5, 0] rfl)
      · have hJ := jf hJ c_11
        refine lv_iload_n hx hb dX0_places_47 rfl (lv_at hl 5 rfl) ?_
        exact ro_iret hF hr hlk hH dX0_places_48 hJ
set_option maxHeartbeats 4000000 in
set_option maxRecDepth 100000 in
theorem m0_places (l : Launch) (D : va_G) (tys : List (ClassId × FieldType)) (H0 : Heap) (h0 : Nat) (hR : xR D H0 h0 0) (p1 : Int32) (r : Int32) (hJ : J0_places p1 = some r) : Met l yX0_places (ws_ yX0_places cX0_places 7 (some .int)) ({ frames := 4, cells := 0, slots := 0, locals := 96 } : Room) (roP D tys H0 [.ref h0, .int p1]) (roQ (.int r)) 0 0 noA := by
  refine ro_enter (by decide) (Nat.le_of_ble_eq_true rfl) ?_
  intro p e s m below meth c hF hr hlk hH hK ls hl
  have hl : lv_has ls 7 [(0, .ref h0), (1, .int p1)] := hl
  obtain ⟨hx, hb, hml, hown, hts⟩ := id hF
  unfold J0_places at hJ
  refine lv_aload_n hx hb dX0_places_0 rfl (lv_at hl 0 rfl) ?_
  refine lv_iload_n hx hb dX0_places_1 rfl (lv_at hl 1 rfl) ?_
  obtain ⟨r_2, h_1, hJ⟩ := jb hJ
  refine k0_badCode hF hR hK h_1 hl.1 (Nat.le_of_ble_eq_true rfl) dX0_places_2 ⟨Nat.le_of_ble_eq_true rfl, Nat.le_of_ble_eq_true rfl⟩ ⟨Nat.zero_le _, Nat.zero_le _⟩ ?_
  refine lv_if_eq (tgt := 10) hx hb dX0_places_5 (by decide) (fun c_3 => ?_) (fun c_3 => ?_)
  · have hJ := jt hJ c_3
    refine lv_iconst (v := 0) hx hb dX0_places_10 (by decide) ?_
    refine lv_istore_n (lv' := [(2, .int (0 : Int32)), (0, .ref h0), (1, .int p1)]) hx hb dX0_places_11 rfl hl (by decide) rfl (fun ls hl => ?_)
    exact l0_places_12 hR p1 hF hr hlk hH hK r FU p1 (0 : Int32) hJ ls (lv_sub hl [1, 2, 0] rfl)
  · have hJ := jf hJ c_3
    refine lv_iconst (v := -1) hx hb dX0_places_8 (by decide) ?_
    exact ro_iret hF hr hlk hH dX0_places_9 hJ
end
section
set_option maxRecDepth 100000
/-! ShortestDigits.digitsTyped()I -/
def L0_digitsTyped_4 (f0 : Int32) (ks : Nat → Int32) : Nat → Int32 → Int32 → Option Int32
  | 0, _, _ => none
  | k + 1, x1, x2 =>
    if f0 ≤ x2 then
      some x1
    else
      Option.bind (
        if (x2 < 0 ∨ 9 ≤ x2.toNatClampNeg) then none else
        if (ks x2.toNatClampNeg) = (10 : Int32) then
          some x1
        else
          some (x1 + (1 : Int32))) (fun (v_2 : Int32) =>
      jL (x2 + (1 : Int32)) (fun (x2_5 : Int32) =>
      L0_digitsTyped_4 f0 ks k v_2 x2_5))
def J0_digitsTyped (f0 : Int32) (ks : Nat → Int32) : Option Int32 :=
  L0_digitsTyped_4 f0 ks FU (0 : Int32) (0 : Int32)
set_option maxHeartbeats 4000000 in
set_option maxRecDepth 100000 in
theorem l0_digitsTyped_4 {p : Program} {l : Launch} {e : Env} {s : State} {m : MethodId} {below : List Frame} {meth : Method} {c : Code} {D : va_G} {H0 : Heap} {h0 hk : Nat} {dA : ClassId} (f0 : Int32) (ks : Nat → Int32) (f2 : Int32) (f3 : Int32) (hP : va_P D vwCl (W0 h0 hk dA f0 ks f2 f3) H0)  (hF : CallFix p m c cX0_digitsTyped 3 s ([.ref h0] : List Value).toArray lw_all RX0) (hr : meth.sig.returnType = (some .int)) (hlk : meth.locks = false) (hH : s.heap = H0) (hK : va_K D vwCl [(dA, .int)] s) (r : Int32) :
    ∀ (k : Nat) (x1 : Int32) (x2 : Int32), L0_digitsTyped_4 f0 ks k x1 x2 = some r → ∀ (ls : Array Slot), lv_has ls 3 [(0, .ref h0), (1, .int x1), (2, .int x2)] → W p l e ({ frames := 0, cells := 0, slots := 0, locals := 0 } : Room) s m ([.ref h0] : List Value).toArray below meth c H0 [] 0 0 (MQ below (roQ (.int r)) ([.ref h0] : List Value).toArray s 0 0 noA) (F0 m 4 ls []) := by
  obtain ⟨hx, hb, hml, hown, hts⟩ := id hF
  intro k
  induction k with
  | zero =>
    intro x1 x2 hJ
    rw [L0_digitsTyped_4] at hJ
    cases hJ
  | succ k ih =>
    intro x1 x2 hJ ls hl
    rw [L0_digitsTyped_4] at hJ
    refine lv_iload_n hx hb dX0_digitsTyped_4 rfl (lv_at hl 2 rfl) ?_
    refine lv_aload_n hx hb dX0_digitsTyped_5 rfl (lv_at hl 0 rfl) ?_
    refine va_get (D := D) (ci := 0) (v := .int f0) (C := RX0) (T := TX0) (N := 4) hx hb hts in_X0 hown hK hP 0 rfl rfl 0 (by decide) (hts _ q43) (fun _ h9 => h9) rfl dX0_digitsTyped_6 ?_
    refine lv_icmp_ge (tgt := 37) hx hb dX0_digitsTyped_9 (by decide) (fun c_1 => ?_) (fun c_1 => ?_)
    · have hJ := jt hJ c_1
      refine lv_iload_n hx hb dX0_digitsTyped_37 rfl (lv_at hl 1 rfl) ?_
      exact ro_iret hF hr hlk hH dX0_digitsTyped_38 hJ
    · have hJ := jf hJ c_1
      obtain ⟨v_2, hR12, hJ⟩ := jb hJ
      refine jn 3 [(0, .ref h0), (1, .int x1), (2, .int x2)] 30 [.int v_2] ?_ (fun K30 => ?_)
      · intro ls hl
        refine lv_istore_n (lv' := [(1, .int v_2), (0, .ref h0), (2, .int x2)]) hx hb dX0_digitsTyped_30 rfl hl (by decide) rfl (fun ls hl => ?_)
        obtain ⟨x2_5, ex2_5⟩ : ∃ y : Int32, y = x2 + (1 : Int32) := ⟨_, rfl⟩
        have hJ := jlet hJ ex2_5
        refine lv_iinc (v := x2_5) (lv' := [(2, .int x2_5), (1, .int v_2), (0, .ref h0)]) hx hb dX0_digitsTyped_31 hl (k := 2) rfl (by rw [ex2_5]; rfl) (by decide) rfl (fun ls hl => ?_)
        refine lv_goto (tgt := 4) hx hb dX0_digitsTyped_34 (by decide) ?_
        exact ih v_2 x2_5 hJ ls (lv_sub hl [2, 1, 0] rfl)
      · have hJ := hR12
        refine lv_aload_n hx hb dX0_digitsTyped_12 rfl (lv_at hl 0 rfl) ?_
        refine va_get (D := D) (ci := 0) (v := .ref hk) (C := RX0) (T := TX0) (N := 4) hx hb hts in_X0 hown hK hP 0 rfl rfl 1 (by decide) (hts _ q44) (fun _ h9 => h9) rfl dX0_digitsTyped_13 ?_
        refine lv_iload_n hx hb dX0_digitsTyped_16 rfl (lv_at hl 2 rfl) ?_
        obtain ⟨g_4, hJ⟩ := jg hJ
        refine va_iald hx hb hK hP 1 0 rfl rfl g_4 dX0_digitsTyped_17 ?_
        refine lv_bipush (v := 10) hx hb dX0_digitsTyped_18 (by decide) ?_
        refine lv_icmp_ne (tgt := 27) hx hb dX0_digitsTyped_20 (by decide) (fun c_3 => ?_) (fun c_3 => ?_)
        · have hJ := jf hJ c_3
          refine lv_iload_n hx hb dX0_digitsTyped_27 rfl (lv_at hl 1 rfl) ?_
          refine lv_iconst (v := 1) hx hb dX0_digitsTyped_28 (by decide) ?_
          refine lv_iadd hx hb dX0_digitsTyped_29 ?_
          obtain rfl := Option.some.inj hJ
          exact K30 ls (lv_sub hl [0, 1, 2] rfl)
        · have hJ := jt hJ c_3
          refine lv_iload_n hx hb dX0_digitsTyped_23 rfl (lv_at hl 1 rfl) ?_
          refine lv_goto (tgt := 30) hx hb dX0_digitsTyped_24 (by decide) ?_
          obtain rfl := Option.some.inj hJ
          exact K30 ls (lv_sub hl [0, 1, 2] rfl)
set_option maxHeartbeats 4000000 in
set_option maxRecDepth 100000 in
theorem m0_digitsTyped (l : Launch) (D : va_G) (H0 : Heap) (h0 hk : Nat) (dA : ClassId) (f0 : Int32) (ks : Nat → Int32) (f2 : Int32) (f3 : Int32) (hP : va_P D vwCl (W0 h0 hk dA f0 ks f2 f3) H0)  (r : Int32) (hJ : J0_digitsTyped f0 ks = some r) : Met l yX0_digitsTyped (ws_ yX0_digitsTyped cX0_digitsTyped 3 (some .int)) ({ frames := 0, cells := 0, slots := 0, locals := 0 } : Room) (roP D [(dA, .int)] H0 [.ref h0]) (roQ (.int r)) 0 0 noA := by
  refine ro_enter (by decide) (Nat.le_of_ble_eq_true rfl) ?_
  intro p e s m below meth c hF hr hlk hH hK ls hl
  have hl : lv_has ls 3 [(0, .ref h0)] := hl
  obtain ⟨hx, hb, hml, hown, hts⟩ := id hF
  unfold J0_digitsTyped at hJ
  refine lv_iconst (v := 0) hx hb dX0_digitsTyped_0 (by decide) ?_
  refine lv_istore_n (lv' := [(1, .int (0 : Int32)), (0, .ref h0)]) hx hb dX0_digitsTyped_1 rfl hl (by decide) rfl (fun ls hl => ?_)
  refine lv_iconst (v := 0) hx hb dX0_digitsTyped_2 (by decide) ?_
  refine lv_istore_n (lv' := [(2, .int (0 : Int32)), (1, .int (0 : Int32)), (0, .ref h0)]) hx hb dX0_digitsTyped_3 rfl hl (by decide) rfl (fun ls hl => ?_)
  exact l0_digitsTyped_4 f0 ks f2 f3 hP  hF hr hlk hH hK r FU (0 : Int32) (0 : Int32) hJ ls (lv_sub hl [2, 1, 0] rfl)
theorem k0_digitsTyped {p : Program} {l : Launch} {e : Env} {R : Room} {s : State} {m : MethodId} {args : Array Value} {below : List Frame} {meth : Method} {c : Code} {H : Heap} {locs : List Loc} {cells slots : Nat} {Q : State → Prop} {cc : ByteArray} {nL pc : Nat} {ls : Array Slot} {rest : List Value} {D : va_G} {b hk : Nat} {dA : ClassId} {f0 : Int32} {ks : Nat → Int32} {f2 : Int32} {f3 : Int32} (hF : CallFix p m c cc nL s args lw_all RX0) (hP : va_P D vwCl (W0 b hk dA f0 ks f2 f3) H) (hK : va_K D vwCl [(dA, .int)] s)  {r : Int32} (hJ : J0_digitsTyped f0 ks = some r) (hsz : ls.size = nL) (hW : (rest.map fun v => v.category).sum ≤ 8) (hdg : decode cc pc = .ok (.invokevirtual 108, 3)) (hR : 0 + 1 ≤ R.frames ∧ 8 + (3 + 11) + 0 ≤ R.locals) (hf : cells ≤ R.cells ∧ slots ≤ R.slots) (kk : W p l e R s m args below meth c H locs cells slots Q (F0 m (pc + 3) ls (.int r :: rest))) : W p l e R s m args below meth c H locs cells slots Q (F0 m pc ls (.ref b :: rest)) :=
  ro_call (n := 0) (ci := 0) hF (m0_digitsTyped l D H b hk dA f0 ks f2 f3 hP  r hJ) (lw_V q176 q178 qs17 q33 q179) (by decide +kernel) rfl rfl hR (xR.of hP 0 rfl) hK rfl rfl rfl hsz rfl hW hdg hf kk
/-! ShortestDigits.textDigits()I -/
def L0_textDigits_4 (f0 : Int32) (ks : Nat → Int32) : Nat → Int32 → Int32 → Option Int32
  | 0, _, _ => none
  | k + 1, x1, x2 =>
    if f0 ≤ x2 then
      some x1
    else
      Option.bind (
        if (x2 < 0 ∨ 9 ≤ x2.toNatClampNeg) then none else
        if (ks x2.toNatClampNeg) = (10 : Int32) then
          some x1
        else
          if (x2 < 0 ∨ 9 ≤ x2.toNatClampNeg) then none else
          some ((x1 * (10 : Int32)) + (ks x2.toNatClampNeg))) (fun (v_2 : Int32) =>
      jL (x2 + (1 : Int32)) (fun (x2_6 : Int32) =>
      L0_textDigits_4 f0 ks k v_2 x2_6))
def J0_textDigits (f0 : Int32) (ks : Nat → Int32) : Option Int32 :=
  L0_textDigits_4 f0 ks FU (0 : Int32) (0 : Int32)
set_option maxHeartbeats 4000000 in
set_option maxRecDepth 100000 in
theorem l0_textDigits_4 {p : Program} {l : Launch} {e : Env} {s : State} {m : MethodId} {below : List Frame} {meth : Method} {c : Code} {D : va_G} {H0 : Heap} {h0 hk : Nat} {dA : ClassId} (f0 : Int32) (ks : Nat → Int32) (f2 : Int32) (f3 : Int32) (hP : va_P D vwCl (W0 h0 hk dA f0 ks f2 f3) H0)  (hF : CallFix p m c cX0_textDigits 3 s ([.ref h0] : List Value).toArray lw_all RX0) (hr : meth.sig.returnType = (some .int)) (hlk : meth.locks = false) (hH : s.heap = H0) (hK : va_K D vwCl [(dA, .int)] s) (r : Int32) :
    ∀ (k : Nat) (x1 : Int32) (x2 : Int32), L0_textDigits_4 f0 ks k x1 x2 = some r → ∀ (ls : Array Slot), lv_has ls 3 [(0, .ref h0), (1, .int x1), (2, .int x2)] → W p l e ({ frames := 0, cells := 0, slots := 0, locals := 0 } : Room) s m ([.ref h0] : List Value).toArray below meth c H0 [] 0 0 (MQ below (roQ (.int r)) ([.ref h0] : List Value).toArray s 0 0 noA) (F0 m 4 ls []) := by
  obtain ⟨hx, hb, hml, hown, hts⟩ := id hF
  intro k
  induction k with
  | zero =>
    intro x1 x2 hJ
    rw [L0_textDigits_4] at hJ
    cases hJ
  | succ k ih =>
    intro x1 x2 hJ ls hl
    rw [L0_textDigits_4] at hJ
    refine lv_iload_n hx hb dX0_textDigits_4 rfl (lv_at hl 2 rfl) ?_
    refine lv_aload_n hx hb dX0_textDigits_5 rfl (lv_at hl 0 rfl) ?_
    refine va_get (D := D) (ci := 0) (v := .int f0) (C := RX0) (T := TX0) (N := 4) hx hb hts in_X0 hown hK hP 0 rfl rfl 0 (by decide) (hts _ q43) (fun _ h9 => h9) rfl dX0_textDigits_6 ?_
    refine lv_icmp_ge (tgt := 45) hx hb dX0_textDigits_9 (by decide) (fun c_1 => ?_) (fun c_1 => ?_)
    · have hJ := jt hJ c_1
      refine lv_iload_n hx hb dX0_textDigits_45 rfl (lv_at hl 1 rfl) ?_
      exact ro_iret hF hr hlk hH dX0_textDigits_46 hJ
    · have hJ := jf hJ c_1
      obtain ⟨v_2, hR12, hJ⟩ := jb hJ
      refine jn 3 [(0, .ref h0), (1, .int x1), (2, .int x2)] 38 [.int v_2] ?_ (fun K38 => ?_)
      · intro ls hl
        refine lv_istore_n (lv' := [(1, .int v_2), (0, .ref h0), (2, .int x2)]) hx hb dX0_textDigits_38 rfl hl (by decide) rfl (fun ls hl => ?_)
        obtain ⟨x2_6, ex2_6⟩ : ∃ y : Int32, y = x2 + (1 : Int32) := ⟨_, rfl⟩
        have hJ := jlet hJ ex2_6
        refine lv_iinc (v := x2_6) (lv' := [(2, .int x2_6), (1, .int v_2), (0, .ref h0)]) hx hb dX0_textDigits_39 hl (k := 2) rfl (by rw [ex2_6]; rfl) (by decide) rfl (fun ls hl => ?_)
        refine lv_goto (tgt := 4) hx hb dX0_textDigits_42 (by decide) ?_
        exact ih v_2 x2_6 hJ ls (lv_sub hl [2, 1, 0] rfl)
      · have hJ := hR12
        refine lv_aload_n hx hb dX0_textDigits_12 rfl (lv_at hl 0 rfl) ?_
        refine va_get (D := D) (ci := 0) (v := .ref hk) (C := RX0) (T := TX0) (N := 4) hx hb hts in_X0 hown hK hP 0 rfl rfl 1 (by decide) (hts _ q44) (fun _ h9 => h9) rfl dX0_textDigits_13 ?_
        refine lv_iload_n hx hb dX0_textDigits_16 rfl (lv_at hl 2 rfl) ?_
        obtain ⟨g_5, hJ⟩ := jg hJ
        refine va_iald hx hb hK hP 1 0 rfl rfl g_5 dX0_textDigits_17 ?_
        refine lv_bipush (v := 10) hx hb dX0_textDigits_18 (by decide) ?_
        refine lv_icmp_ne (tgt := 27) hx hb dX0_textDigits_20 (by decide) (fun c_3 => ?_) (fun c_3 => ?_)
        · have hJ := jf hJ c_3
          refine lv_iload_n hx hb dX0_textDigits_27 rfl (lv_at hl 1 rfl) ?_
          refine lv_bipush (v := 10) hx hb dX0_textDigits_28 (by decide) ?_
          refine lv_imul hx hb dX0_textDigits_30 ?_
          refine lv_aload_n hx hb dX0_textDigits_31 rfl (lv_at hl 0 rfl) ?_
          refine va_get (D := D) (ci := 0) (v := .ref hk) (C := RX0) (T := TX0) (N := 4) hx hb hts in_X0 hown hK hP 0 rfl rfl 1 (by decide) (hts _ q44) (fun _ h9 => h9) rfl dX0_textDigits_32 ?_
          refine lv_iload_n hx hb dX0_textDigits_35 rfl (lv_at hl 2 rfl) ?_
          obtain ⟨g_4, hJ⟩ := jg hJ
          refine va_iald hx hb hK hP 1 0 rfl rfl g_4 dX0_textDigits_36 ?_
          refine lv_iadd hx hb dX0_textDigits_37 ?_
          obtain rfl := Option.some.inj hJ
          exact K38 ls (lv_sub hl [0, 1, 2] rfl)
        · have hJ := jt hJ c_3
          refine lv_iload_n hx hb dX0_textDigits_23 rfl (lv_at hl 1 rfl) ?_
          refine lv_goto (tgt := 38) hx hb dX0_textDigits_24 (by decide) ?_
          obtain rfl := Option.some.inj hJ
          exact K38 ls (lv_sub hl [0, 1, 2] rfl)
set_option maxHeartbeats 4000000 in
set_option maxRecDepth 100000 in
theorem m0_textDigits (l : Launch) (D : va_G) (H0 : Heap) (h0 hk : Nat) (dA : ClassId) (f0 : Int32) (ks : Nat → Int32) (f2 : Int32) (f3 : Int32) (hP : va_P D vwCl (W0 h0 hk dA f0 ks f2 f3) H0)  (r : Int32) (hJ : J0_textDigits f0 ks = some r) : Met l yX0_textDigits (ws_ yX0_textDigits cX0_textDigits 3 (some .int)) ({ frames := 0, cells := 0, slots := 0, locals := 0 } : Room) (roP D [(dA, .int)] H0 [.ref h0]) (roQ (.int r)) 0 0 noA := by
  refine ro_enter (by decide) (Nat.le_of_ble_eq_true rfl) ?_
  intro p e s m below meth c hF hr hlk hH hK ls hl
  have hl : lv_has ls 3 [(0, .ref h0)] := hl
  obtain ⟨hx, hb, hml, hown, hts⟩ := id hF
  unfold J0_textDigits at hJ
  refine lv_iconst (v := 0) hx hb dX0_textDigits_0 (by decide) ?_
  refine lv_istore_n (lv' := [(1, .int (0 : Int32)), (0, .ref h0)]) hx hb dX0_textDigits_1 rfl hl (by decide) rfl (fun ls hl => ?_)
  refine lv_iconst (v := 0) hx hb dX0_textDigits_2 (by decide) ?_
  refine lv_istore_n (lv' := [(2, .int (0 : Int32)), (1, .int (0 : Int32)), (0, .ref h0)]) hx hb dX0_textDigits_3 rfl hl (by decide) rfl (fun ls hl => ?_)
  exact l0_textDigits_4 f0 ks f2 f3 hP  hF hr hlk hH hK r FU (0 : Int32) (0 : Int32) hJ ls (lv_sub hl [2, 1, 0] rfl)
theorem k0_textDigits {p : Program} {l : Launch} {e : Env} {R : Room} {s : State} {m : MethodId} {args : Array Value} {below : List Frame} {meth : Method} {c : Code} {H : Heap} {locs : List Loc} {cells slots : Nat} {Q : State → Prop} {cc : ByteArray} {nL pc : Nat} {ls : Array Slot} {rest : List Value} {D : va_G} {b hk : Nat} {dA : ClassId} {f0 : Int32} {ks : Nat → Int32} {f2 : Int32} {f3 : Int32} (hF : CallFix p m c cc nL s args lw_all RX0) (hP : va_P D vwCl (W0 b hk dA f0 ks f2 f3) H) (hK : va_K D vwCl [(dA, .int)] s)  {r : Int32} (hJ : J0_textDigits f0 ks = some r) (hsz : ls.size = nL) (hW : (rest.map fun v => v.category).sum ≤ 8) (hdg : decode cc pc = .ok (.invokevirtual 115, 3)) (hR : 0 + 1 ≤ R.frames ∧ 8 + (3 + 11) + 0 ≤ R.locals) (hf : cells ≤ R.cells ∧ slots ≤ R.slots) (kk : W p l e R s m args below meth c H locs cells slots Q (F0 m (pc + 3) ls (.int r :: rest))) : W p l e R s m args below meth c H locs cells slots Q (F0 m pc ls (.ref b :: rest)) :=
  ro_call (n := 0) (ci := 0) hF (m0_textDigits l D H b hk dA f0 ks f2 f3 hP  r hJ) (lw_V q192 q194 qs18 q33 q195) (by decide +kernel) rfl rfl hR (xR.of hP 0 rfl) hK rfl rfl rfl hsz rfl hW hdg hf kk
/-! ShortestDigits.textScale()I -/
def L0_textScale_6 (f0 : Int32) (ks : Nat → Int32) : Nat → Int32 → Int32 → Int32 → Option Int32
  | 0, _, _, _ => none
  | k + 1, x1, x2, x3 =>
    if f0 ≤ x3 then
      some x1
    else
      jB2 (
        if (x3 < 0 ∨ 9 ≤ x3.toNatClampNeg) then none else
        if (ks x3.toNatClampNeg) = (10 : Int32) then
          some (x1, (1 : Int32))
        else
          if x2 = 0 then
            some (x1, x2)
          else
            jL (x1 + (-1)) (fun (x1_6 : Int32) =>
            some (x1_6, x2))) (fun (x1_2 x2_3 : Int32) =>
      jL (x3 + (1 : Int32)) (fun (x3_8 : Int32) =>
      L0_textScale_6 f0 ks k x1_2 x2_3 x3_8))
def J0_textScale (f0 : Int32) (ks : Nat → Int32) : Option Int32 :=
  L0_textScale_6 f0 ks FU (0 : Int32) (0 : Int32) (0 : Int32)
set_option maxHeartbeats 4000000 in
set_option maxRecDepth 100000 in
theorem l0_textScale_6 {p : Program} {l : Launch} {e : Env} {s : State} {m : MethodId} {below : List Frame} {meth : Method} {c : Code} {D : va_G} {H0 : Heap} {h0 hk : Nat} {dA : ClassId} (f0 : Int32) (ks : Nat → Int32) (f2 : Int32) (f3 : Int32) (hP : va_P D vwCl (W0 h0 hk dA f0 ks f2 f3) H0)  (hF : CallFix p m c cX0_textScale 4 s ([.ref h0] : List Value).toArray lw_all RX0) (hr : meth.sig.returnType = (some .int)) (hlk : meth.locks = false) (hH : s.heap = H0) (hK : va_K D vwCl [(dA, .int)] s) (r : Int32) :
    ∀ (k : Nat) (x1 : Int32) (x2 : Int32) (x3 : Int32), L0_textScale_6 f0 ks k x1 x2 x3 = some r → ∀ (ls : Array Slot), lv_has ls 4 [(0, .ref h0), (1, .int x1), (2, .int x2), (3, .int x3)] → W p l e ({ frames := 0, cells := 0, slots := 0, locals := 0 } : Room) s m ([.ref h0] : List Value).toArray below meth c H0 [] 0 0 (MQ below (roQ (.int r)) ([.ref h0] : List Value).toArray s 0 0 noA) (F0 m 6 ls []) := by
  obtain ⟨hx, hb, hml, hown, hts⟩ := id hF
  intro k
  induction k with
  | zero =>
    intro x1 x2 x3 hJ
    rw [L0_textScale_6] at hJ
    cases hJ
  | succ k ih =>
    intro x1 x2 x3 hJ ls hl
    rw [L0_textScale_6] at hJ
    refine lv_iload_n hx hb dX0_textScale_6 rfl (lv_at hl 3 rfl) ?_
    refine lv_aload_n hx hb dX0_textScale_7 rfl (lv_at hl 0 rfl) ?_
    refine va_get (D := D) (ci := 0) (v := .int f0) (C := RX0) (T := TX0) (N := 4) hx hb hts in_X0 hown hK hP 0 rfl rfl 0 (by decide) (hts _ q43) (fun _ h9 => h9) rfl dX0_textScale_8 ?_
    refine lv_icmp_ge (tgt := 43) hx hb dX0_textScale_11 (by decide) (fun c_1 => ?_) (fun c_1 => ?_)
    · have hJ := jt hJ c_1
      refine lv_iload_n hx hb dX0_textScale_43 rfl (lv_at hl 1 rfl) ?_
      exact ro_iret hF hr hlk hH dX0_textScale_44 hJ
    · have hJ := jf hJ c_1
      obtain ⟨x1_2, x2_3, hR14, hJ⟩ := jb2 hJ
      refine jn 4 [(0, .ref h0), (1, .int x1_2), (2, .int x2_3), (3, .int x3)] 37 [] ?_ (fun K37 => ?_)
      · intro ls hl
        obtain ⟨x3_8, ex3_8⟩ : ∃ y : Int32, y = x3 + (1 : Int32) := ⟨_, rfl⟩
        have hJ := jlet hJ ex3_8
        refine lv_iinc (v := x3_8) (lv' := [(3, .int x3_8), (0, .ref h0), (1, .int x1_2), (2, .int x2_3)]) hx hb dX0_textScale_37 hl (k := 3) rfl (by rw [ex3_8]; rfl) (by decide) rfl (fun ls hl => ?_)
        refine lv_goto (tgt := 6) hx hb dX0_textScale_40 (by decide) ?_
        exact ih x1_2 x2_3 x3_8 hJ ls (lv_sub hl [1, 2, 3, 0] rfl)
      · have hJ := hR14
        refine lv_aload_n hx hb dX0_textScale_14 rfl (lv_at hl 0 rfl) ?_
        refine va_get (D := D) (ci := 0) (v := .ref hk) (C := RX0) (T := TX0) (N := 4) hx hb hts in_X0 hown hK hP 0 rfl rfl 1 (by decide) (hts _ q44) (fun _ h9 => h9) rfl dX0_textScale_15 ?_
        refine lv_iload_n hx hb dX0_textScale_18 rfl (lv_at hl 3 rfl) ?_
        obtain ⟨g_7, hJ⟩ := jg hJ
        refine va_iald hx hb hK hP 1 0 rfl rfl g_7 dX0_textScale_19 ?_
        refine lv_bipush (v := 10) hx hb dX0_textScale_20 (by decide) ?_
        refine lv_icmp_ne (tgt := 30) hx hb dX0_textScale_22 (by decide) (fun c_4 => ?_) (fun c_4 => ?_)
        · have hJ := jf hJ c_4
          refine lv_iload_n hx hb dX0_textScale_30 rfl (lv_at hl 2 rfl) ?_
          refine lv_if_eq (tgt := 37) hx hb dX0_textScale_31 (by decide) (fun c_5 => ?_) (fun c_5 => ?_)
          · have hJ := jt hJ c_5
            obtain ⟨rfl, rfl⟩ := jp2 hJ
            exact K37 ls (lv_sub hl [0, 1, 2, 3] rfl)
          · have hJ := jf hJ c_5
            obtain ⟨x1_6, ex1_6⟩ : ∃ y : Int32, y = x1 + (-1) := ⟨_, rfl⟩
            have hJ := jlet hJ ex1_6
            refine lv_iinc (v := x1_6) (lv' := [(1, .int x1_6), (0, .ref h0), (2, .int x2), (3, .int x3)]) hx hb dX0_textScale_34 hl (k := 1) rfl (by rw [ex1_6]; rfl) (by decide) rfl (fun ls hl => ?_)
            obtain ⟨rfl, rfl⟩ := jp2 hJ
            exact K37 ls (lv_sub hl [1, 0, 2, 3] rfl)
        · have hJ := jt hJ c_4
          refine lv_iconst (v := 1) hx hb dX0_textScale_25 (by decide) ?_
          refine lv_istore_n (lv' := [(2, .int (1 : Int32)), (0, .ref h0), (1, .int x1), (3, .int x3)]) hx hb dX0_textScale_26 rfl hl (by decide) rfl (fun ls hl => ?_)
          refine lv_goto (tgt := 37) hx hb dX0_textScale_27 (by decide) ?_
          obtain ⟨rfl, rfl⟩ := jp2 hJ
          exact K37 ls (lv_sub hl [1, 2, 0, 3] rfl)
set_option maxHeartbeats 4000000 in
set_option maxRecDepth 100000 in
theorem m0_textScale (l : Launch) (D : va_G) (H0 : Heap) (h0 hk : Nat) (dA : ClassId) (f0 : Int32) (ks : Nat → Int32) (f2 : Int32) (f3 : Int32) (hP : va_P D vwCl (W0 h0 hk dA f0 ks f2 f3) H0)  (r : Int32) (hJ : J0_textScale f0 ks = some r) : Met l yX0_textScale (ws_ yX0_textScale cX0_textScale 4 (some .int)) ({ frames := 0, cells := 0, slots := 0, locals := 0 } : Room) (roP D [(dA, .int)] H0 [.ref h0]) (roQ (.int r)) 0 0 noA := by
  refine ro_enter (by decide) (Nat.le_of_ble_eq_true rfl) ?_
  intro p e s m below meth c hF hr hlk hH hK ls hl
  have hl : lv_has ls 4 [(0, .ref h0)] := hl
  obtain ⟨hx, hb, hml, hown, hts⟩ := id hF
  unfold J0_textScale at hJ
  refine lv_iconst (v := 0) hx hb dX0_textScale_0 (by decide) ?_
  refine lv_istore_n (lv' := [(1, .int (0 : Int32)), (0, .ref h0)]) hx hb dX0_textScale_1 rfl hl (by decide) rfl (fun ls hl => ?_)
  refine lv_iconst (v := 0) hx hb dX0_textScale_2 (by decide) ?_
  refine lv_istore_n (lv' := [(2, .int (0 : Int32)), (1, .int (0 : Int32)), (0, .ref h0)]) hx hb dX0_textScale_3 rfl hl (by decide) rfl (fun ls hl => ?_)
  refine lv_iconst (v := 0) hx hb dX0_textScale_4 (by decide) ?_
  refine lv_istore_n (lv' := [(3, .int (0 : Int32)), (2, .int (0 : Int32)), (1, .int (0 : Int32)), (0, .ref h0)]) hx hb dX0_textScale_5 rfl hl (by decide) rfl (fun ls hl => ?_)
  exact l0_textScale_6 f0 ks f2 f3 hP  hF hr hlk hH hK r FU (0 : Int32) (0 : Int32) (0 : Int32) hJ ls (lv_sub hl [3, 2, 1, 0] rfl)
theorem k0_textScale {p : Program} {l : Launch} {e : Env} {R : Room} {s : State} {m : MethodId} {args : Array Value} {below : List Frame} {meth : Method} {c : Code} {H : Heap} {locs : List Loc} {cells slots : Nat} {Q : State → Prop} {cc : ByteArray} {nL pc : Nat} {ls : Array Slot} {rest : List Value} {D : va_G} {b hk : Nat} {dA : ClassId} {f0 : Int32} {ks : Nat → Int32} {f2 : Int32} {f3 : Int32} (hF : CallFix p m c cc nL s args lw_all RX0) (hP : va_P D vwCl (W0 b hk dA f0 ks f2 f3) H) (hK : va_K D vwCl [(dA, .int)] s)  {r : Int32} (hJ : J0_textScale f0 ks = some r) (hsz : ls.size = nL) (hW : (rest.map fun v => v.category).sum ≤ 8) (hdg : decode cc pc = .ok (.invokevirtual 112, 3)) (hR : 0 + 1 ≤ R.frames ∧ 8 + (4 + 11) + 0 ≤ R.locals) (hf : cells ≤ R.cells ∧ slots ≤ R.slots) (kk : W p l e R s m args below meth c H locs cells slots Q (F0 m (pc + 3) ls (.int r :: rest))) : W p l e R s m args below meth c H locs cells slots Q (F0 m pc ls (.ref b :: rest)) :=
  ro_call (n := 0) (ci := 0) hF (m0_textScale l D H b hk dA f0 ks f2 f3 hP  r hJ) (lw_V q200 q202 qs20 q33 q203) (by decide +kernel) rfl rfl hR (xR.of hP 0 rfl) hK rfl rfl rfl hsz rfl hW hdg hf kk
/-! ShortestDigits.reading(I)I -/
def J0_reading (f0 : Int32) (ks : Nat → Int32) (p1 : Int32) : Option Int32 :=
  Option.bind (J0_textScale f0 ks) (fun (r_2 : Int32) =>
  Option.bind (J0_stepsOf p1 r_2) (fun (r_4 : Int64) =>
  Option.bind (J0_nearest r_4) (fun (r_6 : Int32) =>
  some r_6)))
set_option maxHeartbeats 4000000 in
set_option maxRecDepth 100000 in
theorem m0_reading (l : Launch) (D : va_G) (H0 : Heap) (h0 hk : Nat) (dA : ClassId) (f0 : Int32) (ks : Nat → Int32) (f2 : Int32) (f3 : Int32) (hP : va_P D vwCl (W0 h0 hk dA f0 ks f2 f3) H0) (p1 : Int32) (r : Int32) (hJ : J0_reading f0 ks p1 = some r) : Met l yX0_reading (ws_ yX0_reading cX0_reading 5 (some .int)) ({ frames := 3, cells := 0, slots := 0, locals := 73 } : Room) (roP D [(dA, .int)] H0 [.ref h0, .int p1]) (roQ (.int r)) 0 0 noA := by
  refine ro_enter (by decide) (Nat.le_of_ble_eq_true rfl) ?_
  intro p e s m below meth c hF hr hlk hH hK ls hl
  have hl : lv_has ls 5 [(0, .ref h0), (1, .int p1)] := hl
  obtain ⟨hx, hb, hml, hown, hts⟩ := id hF
  unfold J0_reading at hJ
  refine lv_aload_n hx hb dX0_reading_0 rfl (lv_at hl 0 rfl) ?_
  obtain ⟨r_2, h_1, hJ⟩ := jb hJ
  refine k0_textScale hF hP hK h_1 hl.1 (Nat.le_of_ble_eq_true rfl) dX0_reading_1 ⟨Nat.le_of_ble_eq_true rfl, Nat.le_of_ble_eq_true rfl⟩ ⟨Nat.zero_le _, Nat.zero_le _⟩ ?_
  refine lv_istore_n (lv' := [(2, .int r_2), (0, .ref h0), (1, .int p1)]) hx hb dX0_reading_4 rfl hl (by decide) rfl (fun ls hl => ?_)
  refine lv_aload_n hx hb dX0_reading_5 rfl (lv_at hl 1 rfl) ?_
  refine lv_iload_n hx hb dX0_reading_6 rfl (lv_at hl 2 rfl) ?_
  refine lv_iload_n hx hb dX0_reading_7 rfl (lv_at hl 0 rfl) ?_
  obtain ⟨r_4, h_3, hJ⟩ := jb hJ
  refine k0_stepsOf hF (xR.of hP 0 rfl) hK h_3 hl.1 (Nat.le_of_ble_eq_true rfl) dX0_reading_8 ⟨Nat.le_of_ble_eq_true rfl, Nat.le_of_ble_eq_true rfl⟩ ⟨Nat.zero_le _, Nat.zero_le _⟩ ?_
  refine lv_lstore_n (lv' := [(3, .long r_4), (2, .int r_2), (0, .ref h0), (1, .int p1)]) hx hb dX0_reading_11 rfl hl (by decide) rfl (fun ls hl => ?_)
  refine lv_aload_n hx hb dX0_reading_12 rfl (lv_at hl 2 rfl) ?_
  refine lv_lload_n hx hb dX0_reading_13 rfl (lv_at hl 0 rfl) ?_
  obtain ⟨r_6, h_5, hJ⟩ := jb hJ
  refine k0_nearest hF (xR.of hP 0 rfl) hK h_5 hl.1 (Nat.le_of_ble_eq_true rfl) dX0_reading_14 ⟨Nat.le_of_ble_eq_true rfl, Nat.le_of_ble_eq_true rfl⟩ ⟨Nat.zero_le _, Nat.zero_le _⟩ ?_
  exact ro_iret hF hr hlk hH dX0_reading_17 hJ
theorem k0_reading {p : Program} {l : Launch} {e : Env} {R : Room} {s : State} {m : MethodId} {args : Array Value} {below : List Frame} {meth : Method} {c : Code} {H : Heap} {locs : List Loc} {cells slots : Nat} {Q : State → Prop} {cc : ByteArray} {nL pc : Nat} {ls : Array Slot} {rest : List Value} {D : va_G} {b hk : Nat} {dA : ClassId} {f0 : Int32} {ks : Nat → Int32} {f2 : Int32} {f3 : Int32} (hF : CallFix p m c cc nL s args lw_all RX0) (hP : va_P D vwCl (W0 b hk dA f0 ks f2 f3) H) (hK : va_K D vwCl [(dA, .int)] s) {p1 : Int32} {r : Int32} (hJ : J0_reading f0 ks p1 = some r) (hsz : ls.size = nL) (hW : (rest.map fun v => v.category).sum ≤ 8) (hdg : decode cc pc = .ok (.invokevirtual 118, 3)) (hR : 3 + 1 ≤ R.frames ∧ 8 + (5 + 11) + 73 ≤ R.locals) (hf : cells ≤ R.cells ∧ slots ≤ R.slots) (kk : W p l e R s m args below meth c H locs cells slots Q (F0 m (pc + 3) ls (.int r :: rest))) : W p l e R s m args below meth c H locs cells slots Q (F0 m pc ls (.int p1 :: .ref b :: rest)) :=
  ro_call (n := 1) (ci := 0) hF (m0_reading l D H b hk dA f0 ks f2 f3 hP p1 r hJ) (lw_V q196 q198 qs19 q33 q199) (by decide +kernel) rfl rfl hR (xR.of hP 0 rfl) hK rfl rfl rfl hsz rfl hW hdg hf kk
/-! ShortestDigits.typed()I -/
def J0_typed (f0 : Int32) (ks : Nat → Int32) : Option Int32 :=
  Option.bind (J0_textDigits f0 ks) (fun (r_2 : Int32) =>
  Option.bind (J0_reading f0 ks r_2) (fun (r_4 : Int32) =>
  some r_4))
set_option maxHeartbeats 4000000 in
set_option maxRecDepth 100000 in
theorem m0_typed (l : Launch) (D : va_G) (H0 : Heap) (h0 hk : Nat) (dA : ClassId) (f0 : Int32) (ks : Nat → Int32) (f2 : Int32) (f3 : Int32) (hP : va_P D vwCl (W0 h0 hk dA f0 ks f2 f3) H0)  (r : Int32) (hJ : J0_typed f0 ks = some r) : Met l yX0_typed (ws_ yX0_typed cX0_typed 2 (some .int)) ({ frames := 4, cells := 0, slots := 0, locals := 97 } : Room) (roP D [(dA, .int)] H0 [.ref h0]) (roQ (.int r)) 0 0 noA := by
  refine ro_enter (by decide) (Nat.le_of_ble_eq_true rfl) ?_
  intro p e s m below meth c hF hr hlk hH hK ls hl
  have hl : lv_has ls 2 [(0, .ref h0)] := hl
  obtain ⟨hx, hb, hml, hown, hts⟩ := id hF
  unfold J0_typed at hJ
  refine lv_aload_n hx hb dX0_typed_0 rfl (lv_at hl 0 rfl) ?_
  obtain ⟨r_2, h_1, hJ⟩ := jb hJ
  refine k0_textDigits hF hP hK h_1 hl.1 (Nat.le_of_ble_eq_true rfl) dX0_typed_1 ⟨Nat.le_of_ble_eq_true rfl, Nat.le_of_ble_eq_true rfl⟩ ⟨Nat.zero_le _, Nat.zero_le _⟩ ?_
  refine lv_istore_n (lv' := [(1, .int r_2), (0, .ref h0)]) hx hb dX0_typed_4 rfl hl (by decide) rfl (fun ls hl => ?_)
  refine lv_aload_n hx hb dX0_typed_5 rfl (lv_at hl 1 rfl) ?_
  refine lv_iload_n hx hb dX0_typed_6 rfl (lv_at hl 0 rfl) ?_
  obtain ⟨r_4, h_3, hJ⟩ := jb hJ
  refine k0_reading hF hP hK h_3 hl.1 (Nat.le_of_ble_eq_true rfl) dX0_typed_7 ⟨Nat.le_of_ble_eq_true rfl, Nat.le_of_ble_eq_true rfl⟩ ⟨Nat.zero_le _, Nat.zero_le _⟩ ?_
  exact ro_iret hF hr hlk hH dX0_typed_10 hJ
/-! ShortestDigits.typedDigits()I -/
def J0_typedDigits (f0 : Int32) (ks : Nat → Int32) : Option Int32 :=
  Option.bind (J0_textDigits f0 ks) (fun (r_2 : Int32) =>
  some r_2)
set_option maxHeartbeats 4000000 in
set_option maxRecDepth 100000 in
theorem m0_typedDigits (l : Launch) (D : va_G) (H0 : Heap) (h0 hk : Nat) (dA : ClassId) (f0 : Int32) (ks : Nat → Int32) (f2 : Int32) (f3 : Int32) (hP : va_P D vwCl (W0 h0 hk dA f0 ks f2 f3) H0)  (r : Int32) (hJ : J0_typedDigits f0 ks = some r) : Met l yX0_typedDigits (ws_ yX0_typedDigits cX0_typedDigits 1 (some .int)) ({ frames := 1, cells := 0, slots := 0, locals := 22 } : Room) (roP D [(dA, .int)] H0 [.ref h0]) (roQ (.int r)) 0 0 noA := by
  refine ro_enter (by decide) (Nat.le_of_ble_eq_true rfl) ?_
  intro p e s m below meth c hF hr hlk hH hK ls hl
  have hl : lv_has ls 1 [(0, .ref h0)] := hl
  obtain ⟨hx, hb, hml, hown, hts⟩ := id hF
  unfold J0_typedDigits at hJ
  refine lv_aload_n hx hb dX0_typedDigits_0 rfl (lv_at hl 0 rfl) ?_
  obtain ⟨r_2, h_1, hJ⟩ := jb hJ
  refine k0_textDigits hF hP hK h_1 hl.1 (Nat.le_of_ble_eq_true rfl) dX0_typedDigits_1 ⟨Nat.le_of_ble_eq_true rfl, Nat.le_of_ble_eq_true rfl⟩ ⟨Nat.zero_le _, Nat.zero_le _⟩ ?_
  exact ro_iret hF hr hlk hH dX0_typedDigits_4 hJ
/-! ShortestDigits.spare()I -/
def L0_spare_25 (f0 : Int32) (ks : Nat → Int32) : Nat → Int32 → Int32 → Int32 → Int32 → Int32 → Int32 → Option Int32
  | 0, _, _, _, _, _, _ => none
  | k + 1, x1, x2, x3, x4, x5, x6 =>
    if x3 < x6 then
      some x4
    else
      jL (x5 * (10 : Int32)) (fun (x5_8 : Int32) =>
      if x5_8 = 0 then none else
      jL ((x1 / x5_8) * x5_8) (fun (x7_9 : Int32) =>
      Option.bind (J0_reading f0 ks x7_9) (fun (r_11 : Int32) =>
      Option.bind (
        if r_11 = x2 then
          some x6
        else
          some x4) (fun (v_12 : Int32) =>
      jL (x6 + (1 : Int32)) (fun (x6_14 : Int32) =>
      L0_spare_25 f0 ks k x1 x2 x3 v_12 x5_8 x6_14)))))
def J0_spare (f0 : Int32) (ks : Nat → Int32) : Option Int32 :=
  Option.bind (J0_textDigits f0 ks) (fun (r_2 : Int32) =>
  Option.bind (J0_reading f0 ks r_2) (fun (r_4 : Int32) =>
  Option.bind (J0_digitsTyped f0 ks) (fun (r_6 : Int32) =>
  L0_spare_25 f0 ks FU r_2 r_4 r_6 (0 : Int32) (1 : Int32) (1 : Int32))))
set_option maxHeartbeats 4000000 in
set_option maxRecDepth 100000 in
theorem l0_spare_25 {p : Program} {l : Launch} {e : Env} {s : State} {m : MethodId} {below : List Frame} {meth : Method} {c : Code} {D : va_G} {H0 : Heap} {h0 hk : Nat} {dA : ClassId} (f0 : Int32) (ks : Nat → Int32) (f2 : Int32) (f3 : Int32) (hP : va_P D vwCl (W0 h0 hk dA f0 ks f2 f3) H0)  (hF : CallFix p m c cX0_spare 9 s ([.ref h0] : List Value).toArray lw_all RX0) (hr : meth.sig.returnType = (some .int)) (hlk : meth.locks = false) (hH : s.heap = H0) (hK : va_K D vwCl [(dA, .int)] s) (r : Int32) :
    ∀ (k : Nat) (x1 : Int32) (x2 : Int32) (x3 : Int32) (x4 : Int32) (x5 : Int32) (x6 : Int32), L0_spare_25 f0 ks k x1 x2 x3 x4 x5 x6 = some r → ∀ (ls : Array Slot), lv_has ls 9 [(0, .ref h0), (1, .int x1), (2, .int x2), (3, .int x3), (4, .int x4), (5, .int x5), (6, .int x6)] → W p l e ({ frames := 4, cells := 0, slots := 0, locals := 97 } : Room) s m ([.ref h0] : List Value).toArray below meth c H0 [] 0 0 (MQ below (roQ (.int r)) ([.ref h0] : List Value).toArray s 0 0 noA) (F0 m 25 ls []) := by
  obtain ⟨hx, hb, hml, hown, hts⟩ := id hF
  intro k
  induction k with
  | zero =>
    intro x1 x2 x3 x4 x5 x6 hJ
    rw [L0_spare_25] at hJ
    cases hJ
  | succ k ih =>
    intro x1 x2 x3 x4 x5 x6 hJ ls hl
    rw [L0_spare_25] at hJ
    refine lv_iload hx hb dX0_spare_25 (lv_at hl 6 rfl) ?_
    refine lv_iload_n hx hb dX0_spare_27 rfl (lv_at hl 3 rfl) ?_
    refine lv_icmp_gt (tgt := 76) hx hb dX0_spare_28 (by decide) (fun c_7 => ?_) (fun c_7 => ?_)
    · have hJ := jt hJ c_7
      refine lv_iload hx hb dX0_spare_76 (lv_at hl 4 rfl) ?_
      exact ro_iret hF hr hlk hH dX0_spare_78 hJ
    · have hJ := jf hJ c_7
      refine lv_iload hx hb dX0_spare_31 (lv_at hl 5 rfl) ?_
      refine lv_bipush (v := 10) hx hb dX0_spare_33 (by decide) ?_
      refine lv_imul hx hb dX0_spare_35 ?_
      refine lv_topi (fun x5_8 ex5_8 => ?_)
      have hJ := jlet hJ ex5_8
      refine lv_istore (lv' := [(5, .int x5_8), (0, .ref h0), (1, .int x1), (2, .int x2), (3, .int x3), (4, .int x4), (6, .int x6)]) hx hb dX0_spare_36 hl (by decide) rfl (fun ls hl => ?_)
      refine lv_iload_n hx hb dX0_spare_38 rfl (lv_at hl 2 rfl) ?_
      refine lv_iload hx hb dX0_spare_39 (lv_at hl 0 rfl) ?_
      obtain ⟨g_15, hJ⟩ := jg hJ
      refine lv_idiv hx hb dX0_spare_41 g_15 ?_
      refine lv_iload hx hb dX0_spare_42 (lv_at hl 0 rfl) ?_
      refine lv_imul hx hb dX0_spare_44 ?_
      refine lv_topi (fun x7_9 ex7_9 => ?_)
      have hJ := jlet hJ ex7_9
      refine lv_istore (lv' := [(7, .int x7_9), (5, .int x5_8), (0, .ref h0), (1, .int x1), (2, .int x2), (3, .int x3), (4, .int x4), (6, .int x6)]) hx hb dX0_spare_45 hl (by decide) rfl (fun ls hl => ?_)
      refine lv_aload_n hx hb dX0_spare_47 rfl (lv_at hl 2 rfl) ?_
      refine lv_iload hx hb dX0_spare_48 (lv_at hl 0 rfl) ?_
      obtain ⟨r_11, h_10, hJ⟩ := jb hJ
      refine k0_reading hF hP hK h_10 hl.1 (Nat.le_of_ble_eq_true rfl) dX0_spare_50 ⟨Nat.le_of_ble_eq_true rfl, Nat.le_of_ble_eq_true rfl⟩ ⟨Nat.zero_le _, Nat.zero_le _⟩ ?_
      refine lv_istore (lv' := [(8, .int r_11), (7, .int x7_9), (5, .int x5_8), (0, .ref h0), (1, .int x1), (2, .int x2), (3, .int x3), (4, .int x4), (6, .int x6)]) hx hb dX0_spare_53 hl (by decide) rfl (fun ls hl => ?_)
      obtain ⟨v_12, hR55, hJ⟩ := jb hJ
      refine jn 9 [(8, .int r_11), (7, .int x7_9), (5, .int x5_8), (0, .ref h0), (1, .int x1), (2, .int x2), (3, .int x3), (4, .int x4), (6, .int x6)] 68 [.int v_12] ?_ (fun K68 => ?_)
      · intro ls hl
        refine lv_istore (lv' := [(4, .int v_12), (8, .int r_11), (7, .int x7_9), (5, .int x5_8), (0, .ref h0), (1, .int x1), (2, .int x2), (3, .int x3), (6, .int x6)]) hx hb dX0_spare_68 hl (by decide) rfl (fun ls hl => ?_)
        obtain ⟨x6_14, ex6_14⟩ : ∃ y : Int32, y = x6 + (1 : Int32) := ⟨_, rfl⟩
        have hJ := jlet hJ ex6_14
        refine lv_iinc (v := x6_14) (lv' := [(6, .int x6_14), (4, .int v_12), (8, .int r_11), (7, .int x7_9), (5, .int x5_8), (0, .ref h0), (1, .int x1), (2, .int x2), (3, .int x3)]) hx hb dX0_spare_70 hl (k := 8) rfl (by rw [ex6_14]; rfl) (by decide) rfl (fun ls hl => ?_)
        refine lv_goto (tgt := 25) hx hb dX0_spare_73 (by decide) ?_
        exact ih x1 x2 x3 v_12 x5_8 x6_14 hJ ls (lv_sub hl [5, 6, 7, 8, 1, 4, 0] rfl)
      · have hJ := hR55
        refine lv_iload hx hb dX0_spare_55 (lv_at hl 0 rfl) ?_
        refine lv_iload_n hx hb dX0_spare_57 rfl (lv_at hl 5 rfl) ?_
        refine lv_icmp_ne (tgt := 66) hx hb dX0_spare_58 (by decide) (fun c_13 => ?_) (fun c_13 => ?_)
        · have hJ := jf hJ c_13
          refine lv_iload hx hb dX0_spare_66 (lv_at hl 7 rfl) ?_
          obtain rfl := Option.some.inj hJ
          exact K68 ls (lv_sub hl [0, 1, 2, 3, 4, 5, 6, 7, 8] rfl)
        · have hJ := jt hJ c_13
          refine lv_iload hx hb dX0_spare_61 (lv_at hl 8 rfl) ?_
          refine lv_goto (tgt := 68) hx hb dX0_spare_63 (by decide) ?_
          obtain rfl := Option.some.inj hJ
          exact K68 ls (lv_sub hl [0, 1, 2, 3, 4, 5, 6, 7, 8] rfl)
set_option maxHeartbeats 4000000 in
set_option maxRecDepth 100000 in
theorem m0_spare (l : Launch) (D : va_G) (H0 : Heap) (h0 hk : Nat) (dA : ClassId) (f0 : Int32) (ks : Nat → Int32) (f2 : Int32) (f3 : Int32) (hP : va_P D vwCl (W0 h0 hk dA f0 ks f2 f3) H0)  (r : Int32) (hJ : J0_spare f0 ks = some r) : Met l yX0_spare (ws_ yX0_spare cX0_spare 9 (some .int)) ({ frames := 4, cells := 0, slots := 0, locals := 97 } : Room) (roP D [(dA, .int)] H0 [.ref h0]) (roQ (.int r)) 0 0 noA := by
  refine ro_enter (by decide) (Nat.le_of_ble_eq_true rfl) ?_
  intro p e s m below meth c hF hr hlk hH hK ls hl
  have hl : lv_has ls 9 [(0, .ref h0)] := hl
  obtain ⟨hx, hb, hml, hown, hts⟩ := id hF
  unfold J0_spare at hJ
  refine lv_aload_n hx hb dX0_spare_0 rfl (lv_at hl 0 rfl) ?_
  obtain ⟨r_2, h_1, hJ⟩ := jb hJ
  refine k0_textDigits hF hP hK h_1 hl.1 (Nat.le_of_ble_eq_true rfl) dX0_spare_1 ⟨Nat.le_of_ble_eq_true rfl, Nat.le_of_ble_eq_true rfl⟩ ⟨Nat.zero_le _, Nat.zero_le _⟩ ?_
  refine lv_istore_n (lv' := [(1, .int r_2), (0, .ref h0)]) hx hb dX0_spare_4 rfl hl (by decide) rfl (fun ls hl => ?_)
  refine lv_aload_n hx hb dX0_spare_5 rfl (lv_at hl 1 rfl) ?_
  refine lv_iload_n hx hb dX0_spare_6 rfl (lv_at hl 0 rfl) ?_
  obtain ⟨r_4, h_3, hJ⟩ := jb hJ
  refine k0_reading hF hP hK h_3 hl.1 (Nat.le_of_ble_eq_true rfl) dX0_spare_7 ⟨Nat.le_of_ble_eq_true rfl, Nat.le_of_ble_eq_true rfl⟩ ⟨Nat.zero_le _, Nat.zero_le _⟩ ?_
  refine lv_istore_n (lv' := [(2, .int r_4), (1, .int r_2), (0, .ref h0)]) hx hb dX0_spare_10 rfl hl (by decide) rfl (fun ls hl => ?_)
  refine lv_aload_n hx hb dX0_spare_11 rfl (lv_at hl 2 rfl) ?_
  obtain ⟨r_6, h_5, hJ⟩ := jb hJ
  refine k0_digitsTyped hF hP hK h_5 hl.1 (Nat.le_of_ble_eq_true rfl) dX0_spare_12 ⟨Nat.le_of_ble_eq_true rfl, Nat.le_of_ble_eq_true rfl⟩ ⟨Nat.zero_le _, Nat.zero_le _⟩ ?_
  refine lv_istore_n (lv' := [(3, .int r_6), (2, .int r_4), (1, .int r_2), (0, .ref h0)]) hx hb dX0_spare_15 rfl hl (by decide) rfl (fun ls hl => ?_)
  refine lv_iconst (v := 0) hx hb dX0_spare_16 (by decide) ?_
  refine lv_istore (lv' := [(4, .int (0 : Int32)), (3, .int r_6), (2, .int r_4), (1, .int r_2), (0, .ref h0)]) hx hb dX0_spare_17 hl (by decide) rfl (fun ls hl => ?_)
  refine lv_iconst (v := 1) hx hb dX0_spare_19 (by decide) ?_
  refine lv_istore (lv' := [(5, .int (1 : Int32)), (4, .int (0 : Int32)), (3, .int r_6), (2, .int r_4), (1, .int r_2), (0, .ref h0)]) hx hb dX0_spare_20 hl (by decide) rfl (fun ls hl => ?_)
  refine lv_iconst (v := 1) hx hb dX0_spare_22 (by decide) ?_
  refine lv_istore (lv' := [(6, .int (1 : Int32)), (5, .int (1 : Int32)), (4, .int (0 : Int32)), (3, .int r_6), (2, .int r_4), (1, .int r_2), (0, .ref h0)]) hx hb dX0_spare_23 hl (by decide) rfl (fun ls hl => ?_)
  exact l0_spare_25 f0 ks f2 f3 hP  hF hr hlk hH hK r FU r_2 r_4 r_6 (0 : Int32) (1 : Int32) (1 : Int32) hJ ls (lv_sub hl [6, 5, 4, 3, 2, 1, 0] rfl)
end
section
set_option maxRecDepth 100000
/-! ShortestDigits.improve(IJIJ)V -/
def J0_improve (f2 : Int32) (f3 : Int32) (p1 : Int32) (p2 : Int64) (p3 : Int32) (p4 : Int64) : Option (Int32 × Int32) :=
  if (-12 : Int32) ≤ p3 then
    Option.bind (J0_tenTo ((12 : Int32) + p3)) (fun (r_3 : Int64) =>
    jL ((1024 : Int64) * r_3) (fun (x7_4 : Int64) =>
    Option.bind (J0_lengthOf (f2.toInt64)) (fun (r_6 : Int32) =>
    Option.bind (J0_greatestMultiple p1 x7_4) (fun (r_8 : Int64) =>
    Option.bind (J0_tenTo r_6) (fun (r_10 : Int64) =>
    jL (r_10 - (1 : Int64)) (fun (x12_11 : Int64) =>
    Option.bind (
      if r_8 ≤ x12_11 then
        some r_8
      else
        some x12_11) (fun (v_12 : Int64) =>
    Option.bind (J0_leastMultiple p1 x7_4) (fun (r_15 : Int64) =>
    if v_12 < r_15 then
      some (f2, f3)
    else
      Option.bind (J0_nearestMultiple p2 x7_4 r_15 v_12) (fun (r_18 : Int64) =>
      Option.bind (J0_size ((r_18 * x7_4) - p2)) (fun (r_20 : Int64) =>
      if r_20 < p4 then
        jL (r_18.toInt32) (fun (f2_22 : Int32) =>
        some (f2_22, p3))
      else
        if r_20 = p4 then
          if (f2.toInt64) ≤ r_18 then
            some (f2, f3)
          else
            jL (r_18.toInt32) (fun (f2_25 : Int32) =>
            some (f2_25, p3))
        else
          some (f2, f3)))))))))))
  else
    some (f2, f3)
set_option maxHeartbeats 4000000 in
set_option maxRecDepth 100000 in
theorem m0_improve (l : Launch) (D : va_G) (H0 : Heap) (h0 hk : Nat) (dA : ClassId) (f0 : Int32) (ks : Nat → Int32) (f2 : Int32) (f3 : Int32) (A : Nat → Prop) (hAd : dA0 A h0 hk) (hP : va_P D vwCl (W0 h0 hk dA f0 ks f2 f3) H0) (p1 : Int32) (p2 : Int64) (p3 : Int32) (p4 : Int64) (gf2 : Int32) (gf3 : Int32) (hJ : J0_improve f2 f3 p1 p2 p3 p4 = some (gf2, gf3)) : Met l yX0_improve (ws_ yX0_improve cX0_improve 20 none) ({ frames := 3, cells := 0, slots := 0, locals := 72 } : Room) (roP D [(dA, .int)] H0 [.ref h0, .int p1, .long p2, .int p3, .long p4]) (wrQ D (W0 h0 hk dA f0 ks gf2 gf3) A none) 0 0 A := by
  refine ro_enter (by decide) (Nat.le_of_ble_eq_true rfl) ?_
  intro p e s m below meth c hF hr hlk hH hK ls hl
  have hl : lv_has ls 20 [(0, .ref h0), (1, .int p1), (2, .long p2), (4, .int p3), (5, .long p4)] := hl
  obtain ⟨hx, hb, hml, hown, hts⟩ := id hF
  subst hH
  have hS : va_S A s.heap s.heap [] := va_S.rf
  unfold J0_improve at hJ
  refine lv_iload hx hb dX0_improve_0 (lv_at hl 3 rfl) ?_
  refine lv_bipush (v := -12) hx hb dX0_improve_2 (by decide) ?_
  refine lv_icmp_ge (tgt := 8) hx hb dX0_improve_4 (by decide) (fun c_1 => ?_) (fun c_1 => ?_)
  · have hJ := jt hJ c_1
    refine lv_ldc2 hx hb hown (hts _ q89) dX0_improve_8 ?_
    refine lv_aload_n hx hb dX0_improve_11 rfl (lv_at hl 0 rfl) ?_
    refine lv_bipush (v := 12) hx hb dX0_improve_12 (by decide) ?_
    refine lv_iload hx hb dX0_improve_14 (lv_at hl 3 rfl) ?_
    refine lv_iadd hx hb dX0_improve_16 ?_
    obtain ⟨r_3, h_2, hJ⟩ := jb hJ
    refine k0_tenTo hF (xR.of hP 0 rfl) hK h_2 hl.1 (Nat.le_of_ble_eq_true rfl) dX0_improve_17 ⟨Nat.le_of_ble_eq_true rfl, Nat.le_of_ble_eq_true rfl⟩ ⟨Nat.zero_le _, Nat.zero_le _⟩ ?_
    refine lv_lmul hx hb dX0_improve_20 ?_
    refine lv_topl (fun x7_4 ex7_4 => ?_)
    have hJ := jlet hJ ex7_4
    refine lv_lstore (lv' := [(7, .long x7_4), (0, .ref h0), (1, .int p1), (2, .long p2), (4, .int p3), (5, .long p4)]) hx hb dX0_improve_21 hl (by decide) rfl (fun ls hl => ?_)
    refine lv_aload_n hx hb dX0_improve_23 rfl (lv_at hl 1 rfl) ?_
    refine lv_aload_n hx hb dX0_improve_24 rfl (lv_at hl 1 rfl) ?_
    refine va_get (D := D) (ci := 0) (v := .int f2) (C := RX0) (T := TX0) (N := 4) hx hb hts in_X0 hown hK hP 0 rfl rfl 2 (by decide) (hts _ q45) (fun _ h9 => h9) rfl dX0_improve_25 ?_
    refine lv_i2l hx hb dX0_improve_28 rfl ?_
    obtain ⟨r_6, h_5, hJ⟩ := jb hJ
    refine k0_lengthOf hF (xR.of hP 0 rfl) hK h_5 hl.1 (Nat.le_of_ble_eq_true rfl) dX0_improve_29 ⟨Nat.le_of_ble_eq_true rfl, Nat.le_of_ble_eq_true rfl⟩ ⟨Nat.zero_le _, Nat.zero_le _⟩ ?_
    refine lv_istore (lv' := [(9, .int r_6), (7, .long x7_4), (0, .ref h0), (1, .int p1), (2, .long p2), (4, .int p3), (5, .long p4)]) hx hb dX0_improve_32 hl (by decide) rfl (fun ls hl => ?_)
    refine lv_aload_n hx hb dX0_improve_34 rfl (lv_at hl 2 rfl) ?_
    refine lv_iload_n hx hb dX0_improve_35 rfl (lv_at hl 3 rfl) ?_
    refine lv_lload hx hb dX0_improve_36 (lv_at hl 1 rfl) ?_
    obtain ⟨r_8, h_7, hJ⟩ := jb hJ
    refine k0_greatestMultiple hF (xR.of hP 0 rfl) hK h_7 hl.1 (Nat.le_of_ble_eq_true rfl) dX0_improve_38 ⟨Nat.le_of_ble_eq_true rfl, Nat.le_of_ble_eq_true rfl⟩ ⟨Nat.zero_le _, Nat.zero_le _⟩ ?_
    refine lv_lstore (lv' := [(10, .long r_8), (9, .int r_6), (7, .long x7_4), (0, .ref h0), (1, .int p1), (2, .long p2), (4, .int p3), (5, .long p4)]) hx hb dX0_improve_41 hl (by decide) rfl (fun ls hl => ?_)
    refine lv_aload_n hx hb dX0_improve_43 rfl (lv_at hl 3 rfl) ?_
    refine lv_iload hx hb dX0_improve_44 (lv_at hl 1 rfl) ?_
    obtain ⟨r_10, h_9, hJ⟩ := jb hJ
    refine k0_tenTo hF (xR.of hP 0 rfl) hK h_9 hl.1 (Nat.le_of_ble_eq_true rfl) dX0_improve_46 ⟨Nat.le_of_ble_eq_true rfl, Nat.le_of_ble_eq_true rfl⟩ ⟨Nat.zero_le _, Nat.zero_le _⟩ ?_
    refine lv_lconst (v := 1) hx hb dX0_improve_49 (by decide) ?_
    refine lv_lsub hx hb dX0_improve_50 ?_
    refine lv_topl (fun x12_11 ex12_11 => ?_)
    have hJ := jlet hJ ex12_11
    refine lv_lstore (lv' := [(12, .long x12_11), (10, .long r_8), (9, .int r_6), (7, .long x7_4), (0, .ref h0), (1, .int p1), (2, .long p2), (4, .int p3), (5, .long p4)]) hx hb dX0_improve_51 hl (by decide) rfl (fun ls hl => ?_)
    obtain ⟨v_12, hR53, hJ⟩ := jb hJ
    refine jn 20 [(12, .long x12_11), (10, .long r_8), (9, .int r_6), (7, .long x7_4), (0, .ref h0), (1, .int p1), (2, .long p2), (4, .int p3), (5, .long p4)] 68 [.long v_12] ?_ (fun K68 => ?_)
    · intro ls hl
      refine lv_lstore (lv' := [(10, .long v_12), (12, .long x12_11), (9, .int r_6), (7, .long x7_4), (0, .ref h0), (1, .int p1), (2, .long p2), (4, .int p3), (5, .long p4)]) hx hb dX0_improve_68 hl (by decide) rfl (fun ls hl => ?_)
      refine lv_aload_n hx hb dX0_improve_70 rfl (lv_at hl 4 rfl) ?_
      refine lv_iload_n hx hb dX0_improve_71 rfl (lv_at hl 5 rfl) ?_
      refine lv_lload hx hb dX0_improve_72 (lv_at hl 3 rfl) ?_
      obtain ⟨r_15, h_14, hJ⟩ := jb hJ
      refine k0_leastMultiple hF (xR.of hP 0 rfl) hK h_14 hl.1 (Nat.le_of_ble_eq_true rfl) dX0_improve_74 ⟨Nat.le_of_ble_eq_true rfl, Nat.le_of_ble_eq_true rfl⟩ ⟨Nat.zero_le _, Nat.zero_le _⟩ ?_
      refine lv_lstore (lv' := [(14, .long r_15), (10, .long v_12), (12, .long x12_11), (9, .int r_6), (7, .long x7_4), (0, .ref h0), (1, .int p1), (2, .long p2), (4, .int p3), (5, .long p4)]) hx hb dX0_improve_77 hl (by decide) rfl (fun ls hl => ?_)
      refine lv_lload hx hb dX0_improve_79 (lv_at hl 0 rfl) ?_
      refine lv_lload hx hb dX0_improve_81 (lv_at hl 1 rfl) ?_
      refine lc_gt (tgt := 153) hx hb dX0_improve_83 dX0_improve_84 (by decide) (fun c_16 => ?_) (fun c_16 => ?_)
      · have hJ := jt hJ c_16
        obtain ⟨rfl, rfl⟩ := jp2 hJ
        exact wr_vret hF hr hlk hP hS dX0_improve_153 rfl
      · have hJ := jf hJ c_16
        refine lv_aload_n hx hb dX0_improve_87 rfl (lv_at hl 5 rfl) ?_
        refine lv_lload_n hx hb dX0_improve_88 rfl (lv_at hl 7 rfl) ?_
        refine lv_lload hx hb dX0_improve_89 (lv_at hl 4 rfl) ?_
        refine lv_lload hx hb dX0_improve_91 (lv_at hl 0 rfl) ?_
        refine lv_lload hx hb dX0_improve_93 (lv_at hl 1 rfl) ?_
        obtain ⟨r_18, h_17, hJ⟩ := jb hJ
        refine k0_nearestMultiple hF (xR.of hP 0 rfl) hK h_17 hl.1 (Nat.le_of_ble_eq_true rfl) dX0_improve_95 ⟨Nat.le_of_ble_eq_true rfl, Nat.le_of_ble_eq_true rfl⟩ ⟨Nat.zero_le _, Nat.zero_le _⟩ ?_
        refine lv_lstore (lv' := [(16, .long r_18), (14, .long r_15), (10, .long v_12), (12, .long x12_11), (9, .int r_6), (7, .long x7_4), (0, .ref h0), (1, .int p1), (2, .long p2), (4, .int p3), (5, .long p4)]) hx hb dX0_improve_98 hl (by decide) rfl (fun ls hl => ?_)
        refine lv_aload_n hx hb dX0_improve_100 rfl (lv_at hl 6 rfl) ?_
        refine lv_lload hx hb dX0_improve_101 (lv_at hl 0 rfl) ?_
        refine lv_lload hx hb dX0_improve_103 (lv_at hl 5 rfl) ?_
        refine lv_lmul hx hb dX0_improve_105 ?_
        refine lv_lload_n hx hb dX0_improve_106 rfl (lv_at hl 8 rfl) ?_
        refine lv_lsub hx hb dX0_improve_107 ?_
        obtain ⟨r_20, h_19, hJ⟩ := jb hJ
        refine k0_size hF (xR.of hP 0 rfl) hK h_19 hl.1 (Nat.le_of_ble_eq_true rfl) dX0_improve_108 ⟨Nat.le_of_ble_eq_true rfl, Nat.le_of_ble_eq_true rfl⟩ ⟨Nat.zero_le _, Nat.zero_le _⟩ ?_
        refine lv_lstore (lv' := [(18, .long r_20), (16, .long r_18), (14, .long r_15), (10, .long v_12), (12, .long x12_11), (9, .int r_6), (7, .long x7_4), (0, .ref h0), (1, .int p1), (2, .long p2), (4, .int p3), (5, .long p4)]) hx hb dX0_improve_111 hl (by decide) rfl (fun ls hl => ?_)
        refine lv_lload hx hb dX0_improve_113 (lv_at hl 0 rfl) ?_
        refine lv_lload hx hb dX0_improve_115 (lv_at hl 11 rfl) ?_
        refine lc_lt (tgt := 140) hx hb dX0_improve_117 dX0_improve_118 (by decide) (fun c_21 => ?_) (fun c_21 => ?_)
        · have hJ := jt hJ c_21
          refine lv_aload_n hx hb dX0_improve_140 rfl (lv_at hl 7 rfl) ?_
          refine lv_lload hx hb dX0_improve_141 (lv_at hl 1 rfl) ?_
          refine lv_l2i hx hb dX0_improve_143 rfl ?_
          refine lv_topi (fun f2_22 ef2_22 => ?_)
          have hJ := jlet hJ ef2_22
          refine va_put (D := D) (A := A) (ci := 0) (v := .int f2_22) (ty := .int) (C := RX0) (T := TX0) (N := 4) hx hb hts in_X0 tyX0 tyX0_ok nmX0 hown hK hP (d0_of hAd) hS 0 rfl rfl 2 (by decide) (hts _ q45) (fun _ h9 => h9) rfl (by decide +kernel) rfl rfl (Nat.le_of_ble_eq_true rfl) dX0_improve_144 (fun H locs hP _ hS => ?_)
          have hP : va_P D vwCl (W0 h0 hk dA f0 ks f2_22 f3) H := hP
          refine lv_aload_n hx hb dX0_improve_147 rfl (lv_at hl 7 rfl) ?_
          refine lv_iload hx hb dX0_improve_148 (lv_at hl 10 rfl) ?_
          refine va_put (D := D) (A := A) (ci := 0) (v := .int p3) (ty := .int) (C := RX0) (T := TX0) (N := 4) hx hb hts in_X0 tyX0 tyX0_ok nmX0 hown hK hP (d0_of hAd) hS 0 rfl rfl 3 (by decide) (hts _ q46) (fun _ h9 => h9) rfl (by decide +kernel) rfl rfl (Nat.le_of_ble_eq_true rfl) dX0_improve_150 (fun H locs hP _ hS => ?_)
          have hP : va_P D vwCl (W0 h0 hk dA f0 ks f2_22 p3) H := hP
          obtain ⟨rfl, rfl⟩ := jp2 hJ
          exact wr_vret hF hr hlk hP hS dX0_improve_153 rfl
        · have hJ := jf hJ c_21
          refine lv_lload hx hb dX0_improve_121 (lv_at hl 0 rfl) ?_
          refine lv_lload hx hb dX0_improve_123 (lv_at hl 11 rfl) ?_
          refine lc_ne (tgt := 153) hx hb dX0_improve_125 dX0_improve_126 (by decide) (fun c_23 => ?_) (fun c_23 => ?_)
          · have hJ := jf hJ c_23
            obtain ⟨rfl, rfl⟩ := jp2 hJ
            exact wr_vret hF hr hlk hP hS dX0_improve_153 rfl
          · have hJ := jt hJ c_23
            refine lv_lload hx hb dX0_improve_129 (lv_at hl 1 rfl) ?_
            refine lv_aload_n hx hb dX0_improve_131 rfl (lv_at hl 7 rfl) ?_
            refine va_get (D := D) (ci := 0) (v := .int f2) (C := RX0) (T := TX0) (N := 4) hx hb hts in_X0 hown hK hP 0 rfl rfl 2 (by decide) (hts _ q45) (fun _ h9 => h9) rfl dX0_improve_132 ?_
            refine lv_i2l hx hb dX0_improve_135 rfl ?_
            refine lc_ge (tgt := 153) hx hb dX0_improve_136 dX0_improve_137 (by decide) (fun c_24 => ?_) (fun c_24 => ?_)
            · have hJ := jt hJ c_24
              obtain ⟨rfl, rfl⟩ := jp2 hJ
              exact wr_vret hF hr hlk hP hS dX0_improve_153 rfl
            · have hJ := jf hJ c_24
              refine lv_aload_n hx hb dX0_improve_140 rfl (lv_at hl 7 rfl) ?_
              refine lv_lload hx hb dX0_improve_141 (lv_at hl 1 rfl) ?_
              refine lv_l2i hx hb dX0_improve_143 rfl ?_
              refine lv_topi (fun f2_25 ef2_25 => ?_)
              have hJ := jlet hJ ef2_25
              refine va_put (D := D) (A := A) (ci := 0) (v := .int f2_25) (ty := .int) (C := RX0) (T := TX0) (N := 4) hx hb hts in_X0 tyX0 tyX0_ok nmX0 hown hK hP (d0_of hAd) hS 0 rfl rfl 2 (by decide) (hts _ q45) (fun _ h9 => h9) rfl (by decide +kernel) rfl rfl (Nat.le_of_ble_eq_true rfl) dX0_improve_144 (fun H locs hP _ hS => ?_)
              have hP : va_P D vwCl (W0 h0 hk dA f0 ks f2_25 f3) H := hP
              refine lv_aload_n hx hb dX0_improve_147 rfl (lv_at hl 7 rfl) ?_
              refine lv_iload hx hb dX0_improve_148 (lv_at hl 10 rfl) ?_
              refine va_put (D := D) (A := A) (ci := 0) (v := .int p3) (ty := .int) (C := RX0) (T := TX0) (N := 4) hx hb hts in_X0 tyX0 tyX0_ok nmX0 hown hK hP (d0_of hAd) hS 0 rfl rfl 3 (by decide) (hts _ q46) (fun _ h9 => h9) rfl (by decide +kernel) rfl rfl (Nat.le_of_ble_eq_true rfl) dX0_improve_150 (fun H locs hP _ hS => ?_)
              have hP : va_P D vwCl (W0 h0 hk dA f0 ks f2_25 p3) H := hP
              obtain ⟨rfl, rfl⟩ := jp2 hJ
              exact wr_vret hF hr hlk hP hS dX0_improve_153 rfl
    · have hJ := hR53
      refine lv_lload hx hb dX0_improve_53 (lv_at hl 1 rfl) ?_
      refine lv_lload hx hb dX0_improve_55 (lv_at hl 0 rfl) ?_
      refine lc_le (tgt := 66) hx hb dX0_improve_57 dX0_improve_58 (by decide) (fun c_13 => ?_) (fun c_13 => ?_)
      · have hJ := jt hJ c_13
        refine lv_lload hx hb dX0_improve_66 (lv_at hl 1 rfl) ?_
        obtain rfl := Option.some.inj hJ
        exact K68 ls (lv_sub hl [0, 1, 2, 3, 4, 5, 6, 7, 8] rfl)
      · have hJ := jf hJ c_13
        refine lv_lload hx hb dX0_improve_61 (lv_at hl 0 rfl) ?_
        refine lv_goto (tgt := 68) hx hb dX0_improve_63 (by decide) ?_
        obtain rfl := Option.some.inj hJ
        exact K68 ls (lv_sub hl [0, 1, 2, 3, 4, 5, 6, 7, 8] rfl)
  · have hJ := jf hJ c_1
    obtain ⟨rfl, rfl⟩ := jp2 hJ
    exact wr_vret hF hr hlk hP hS dX0_improve_7 rfl
theorem k0_improve {p : Program} {l : Launch} {e : Env} {R : Room} {s : State} {m : MethodId} {args : Array Value} {below : List Frame} {meth : Method} {c : Code} {H : Heap} {locs : List Loc} {cells slots : Nat} {Q : State → Prop} {cc : ByteArray} {nL pc : Nat} {ls : Array Slot} {rest : List Value} {D : va_G} {b hk : Nat} {dA : ClassId} {f0 : Int32} {ks : Nat → Int32} {f2 : Int32} {f3 : Int32} {A : Nat → Prop} {Hs : Heap} (hF : CallFix p m c cc nL s args lw_all RX0) (hP : va_P D vwCl (W0 b hk dA f0 ks f2 f3) H) (hK : va_K D vwCl [(dA, .int)] s) (hAd : dA0 A b hk) {p1 : Int32} {p2 : Int64} {p3 : Int32} {p4 : Int64} {gf2 : Int32} {gf3 : Int32} (hJ : J0_improve f2 f3 p1 p2 p3 p4 = some (gf2, gf3)) (hsz : ls.size = nL) (hW : (rest.map fun v => v.category).sum ≤ 8) (hdg : decode cc pc = .ok (.invokevirtual 86, 3)) (hR : 3 + 1 ≤ R.frames ∧ 8 + (20 + 11) + 72 ≤ R.locals) (hf : cells ≤ R.cells ∧ slots ≤ R.slots) (hS : va_S A Hs H locs) (kk : ∀ (H1 : Heap) (locs1 : List Loc), va_P D vwCl (W0 b hk dA f0 ks gf2 gf3) H1 → va_S A Hs H1 locs1 → W p l e R s m args below meth c H1 locs1 cells slots Q (F0 m (pc + 3) ls rest)) : W p l e R s m args below meth c H locs cells slots Q (F0 m pc ls (.long p4 :: .int p3 :: .long p2 :: .int p1 :: .ref b :: rest)) :=
  wr_call (n := 4) (ci := 0) hF (m0_improve l D H b hk dA f0 ks f2 f3 A hAd hP p1 p2 p3 p4 _ _ hJ) (lw_V q142 q144 qs14 q33 q145) (by decide +kernel) rfl rfl hR (xR.of hP 0 rfl) hK rfl rfl rfl hsz rfl hW hdg hf hS (fun _ h => h) (fun H1 locs1 h1 _ _ h4 => kk H1 locs1 h1 h4)
/-! ShortestDigits.findShort(I)V -/
def L0_findShort_27 : Nat → Int32 → Int64 → Int32 → Int32 → Int32 → Int32 → Option (Int32 × Int32)
  | 0, _, _, _, _, _, _ => none
  | k + 1, x1, x2, x4, x5, f2, f3 =>
    if x5 < (-12 : Int32) then
      some (f2, f3)
    else
      if x4 = 0 then
        Option.bind (J0_tenTo ((12 : Int32) + x5)) (fun (r_7 : Int64) =>
        jL ((1024 : Int64) * r_7) (fun (x6_8 : Int64) =>
        Option.bind (J0_leastMultiple x1 x6_8) (fun (r_10 : Int64) =>
        Option.bind (J0_greatestMultiple x1 x6_8) (fun (r_12 : Int64) =>
        if r_12 < r_10 then
          jL (x5 + (-1)) (fun (x5_14 : Int32) =>
          L0_findShort_27 k x1 x2 x4 x5_14 f2 f3)
        else
          Option.bind (J0_nearestMultiple x2 x6_8 r_10 r_12) (fun (r_16 : Int64) =>
          jL (r_16.toInt32) (fun (f2_17 : Int32) =>
          Option.bind (J0_size ((r_16 * x6_8) - x2)) (fun (r_19 : Int64) =>
          jB2 (J0_improve f2_17 x5 x1 x2 (x5 - (1 : Int32)) r_19) (fun (f2_21 f3_22 : Int32) =>
          jL (x5 + (-1)) (fun (x5_23 : Int32) =>
          L0_findShort_27 k x1 x2 (1 : Int32) x5_23 f2_21 f3_22)))))))))
      else
        some (f2, f3)
def J0_findShort (f2 : Int32) (f3 : Int32) (p1 : Int32) : Option (Int32 × Int32) :=
  if p1 = 0 then
    some ((0 : Int32), (0 : Int32))
  else
    Option.bind (J0_steps p1) (fun (r_3 : Int64) =>
    L0_findShort_27 FU p1 r_3 (0 : Int32) (3 : Int32) (0 : Int32) (0 : Int32))
set_option maxHeartbeats 4000000 in
set_option maxRecDepth 100000 in
theorem l0_findShort_27 {p : Program} {l : Launch} {e : Env} {s : State} {m : MethodId} {below : List Frame} {meth : Method} {c : Code} {D : va_G} {h0 hk : Nat} {dA : ClassId} (f0 : Int32) (ks : Nat → Int32) {A : Nat → Prop} (hAd : dA0 A h0 hk) (p1 : Int32) (hF : CallFix p m c cX0_findShort 16 s ([.ref h0, .int p1] : List Value).toArray lw_all RX0) (hr : meth.sig.returnType = none) (hlk : meth.locks = false)  (hK : va_K D vwCl [(dA, .int)] s) (gf2 : Int32) (gf3 : Int32) :
    ∀ (k : Nat) (x1 : Int32) (x2 : Int64) (x4 : Int32) (x5 : Int32) (f2 : Int32) (f3 : Int32), L0_findShort_27 k x1 x2 x4 x5 f2 f3 = some (gf2, gf3) → ∀ (H : Heap) (locs : List Loc), va_P D vwCl (W0 h0 hk dA f0 ks f2 f3) H → va_S A s.heap H locs → ∀ (ls : Array Slot), lv_has ls 16 [(0, .ref h0), (1, .int x1), (2, .long x2), (4, .int x4), (5, .int x5)] → W p l e ({ frames := 4, cells := 0, slots := 0, locals := 111 } : Room) s m ([.ref h0, .int p1] : List Value).toArray below meth c H locs 0 0 (MQ below (wrQ D (W0 h0 hk dA f0 ks gf2 gf3) A none) ([.ref h0, .int p1] : List Value).toArray s 0 0 A) (F0 m 27 ls []) := by
  obtain ⟨hx, hb, hml, hown, hts⟩ := id hF
  intro k
  induction k with
  | zero =>
    intro x1 x2 x4 x5 f2 f3 hJ
    rw [L0_findShort_27] at hJ
    cases hJ
  | succ k ih =>
    intro x1 x2 x4 x5 f2 f3 hJ H locs hP hS ls hl
    rw [L0_findShort_27] at hJ
    refine lv_iload hx hb dX0_findShort_27 (lv_at hl 4 rfl) ?_
    refine lv_bipush (v := -12) hx hb dX0_findShort_29 (by decide) ?_
    refine lv_icmp_lt (tgt := 140) hx hb dX0_findShort_31 (by decide) (fun c_4 => ?_) (fun c_4 => ?_)
    · have hJ := jt hJ c_4
      obtain ⟨rfl, rfl⟩ := jp2 hJ
      exact wr_vret hF hr hlk hP hS dX0_findShort_140 rfl
    · have hJ := jf hJ c_4
      refine lv_iload hx hb dX0_findShort_34 (lv_at hl 3 rfl) ?_
      refine lv_if_ne (tgt := 140) hx hb dX0_findShort_36 (by decide) (fun c_5 => ?_) (fun c_5 => ?_)
      · have hJ := jf hJ c_5
        obtain ⟨rfl, rfl⟩ := jp2 hJ
        exact wr_vret hF hr hlk hP hS dX0_findShort_140 rfl
      · have hJ := jt hJ c_5
        refine lv_ldc2 hx hb hown (hts _ q89) dX0_findShort_39 ?_
        refine lv_aload_n hx hb dX0_findShort_42 rfl (lv_at hl 0 rfl) ?_
        refine lv_bipush (v := 12) hx hb dX0_findShort_43 (by decide) ?_
        refine lv_iload hx hb dX0_findShort_45 (lv_at hl 4 rfl) ?_
        refine lv_iadd hx hb dX0_findShort_47 ?_
        obtain ⟨r_7, h_6, hJ⟩ := jb hJ
        refine k0_tenTo hF (xR.of hP 0 rfl) hK h_6 hl.1 (Nat.le_of_ble_eq_true rfl) dX0_findShort_48 ⟨Nat.le_of_ble_eq_true rfl, Nat.le_of_ble_eq_true rfl⟩ ⟨Nat.zero_le _, Nat.zero_le _⟩ ?_
        refine lv_lmul hx hb dX0_findShort_51 ?_
        refine lv_topl (fun x6_8 ex6_8 => ?_)
        have hJ := jlet hJ ex6_8
        refine lv_lstore (lv' := [(6, .long x6_8), (0, .ref h0), (1, .int x1), (2, .long x2), (4, .int x4), (5, .int x5)]) hx hb dX0_findShort_52 hl (by decide) rfl (fun ls hl => ?_)
        refine lv_aload_n hx hb dX0_findShort_54 rfl (lv_at hl 1 rfl) ?_
        refine lv_iload_n hx hb dX0_findShort_55 rfl (lv_at hl 2 rfl) ?_
        refine lv_lload hx hb dX0_findShort_56 (lv_at hl 0 rfl) ?_
        obtain ⟨r_10, h_9, hJ⟩ := jb hJ
        refine k0_leastMultiple hF (xR.of hP 0 rfl) hK h_9 hl.1 (Nat.le_of_ble_eq_true rfl) dX0_findShort_58 ⟨Nat.le_of_ble_eq_true rfl, Nat.le_of_ble_eq_true rfl⟩ ⟨Nat.zero_le _, Nat.zero_le _⟩ ?_
        refine lv_lstore (lv' := [(8, .long r_10), (6, .long x6_8), (0, .ref h0), (1, .int x1), (2, .long x2), (4, .int x4), (5, .int x5)]) hx hb dX0_findShort_61 hl (by decide) rfl (fun ls hl => ?_)
        refine lv_aload_n hx hb dX0_findShort_63 rfl (lv_at hl 2 rfl) ?_
        refine lv_iload_n hx hb dX0_findShort_64 rfl (lv_at hl 3 rfl) ?_
        refine lv_lload hx hb dX0_findShort_65 (lv_at hl 1 rfl) ?_
        obtain ⟨r_12, h_11, hJ⟩ := jb hJ
        refine k0_greatestMultiple hF (xR.of hP 0 rfl) hK h_11 hl.1 (Nat.le_of_ble_eq_true rfl) dX0_findShort_67 ⟨Nat.le_of_ble_eq_true rfl, Nat.le_of_ble_eq_true rfl⟩ ⟨Nat.zero_le _, Nat.zero_le _⟩ ?_
        refine lv_lstore (lv' := [(10, .long r_12), (8, .long r_10), (6, .long x6_8), (0, .ref h0), (1, .int x1), (2, .long x2), (4, .int x4), (5, .int x5)]) hx hb dX0_findShort_70 hl (by decide) rfl (fun ls hl => ?_)
        refine lv_lload hx hb dX0_findShort_72 (lv_at hl 1 rfl) ?_
        refine lv_lload hx hb dX0_findShort_74 (lv_at hl 0 rfl) ?_
        refine lc_gt (tgt := 134) hx hb dX0_findShort_76 dX0_findShort_77 (by decide) (fun c_13 => ?_) (fun c_13 => ?_)
        · have hJ := jt hJ c_13
          obtain ⟨x5_14, ex5_14⟩ : ∃ y : Int32, y = x5 + (-1) := ⟨_, rfl⟩
          have hJ := jlet hJ ex5_14
          refine lv_iinc (v := x5_14) (lv' := [(5, .int x5_14), (10, .long r_12), (8, .long r_10), (6, .long x6_8), (0, .ref h0), (1, .int x1), (2, .long x2), (4, .int x4)]) hx hb dX0_findShort_134 hl (k := 7) rfl (by rw [ex5_14]; rfl) (by decide) rfl (fun ls hl => ?_)
          refine lv_goto (tgt := 27) hx hb dX0_findShort_137 (by decide) ?_
          exact ih x1 x2 x4 x5_14 f2 f3 hJ _ _ hP hS ls (lv_sub hl [4, 5, 6, 7, 0] rfl)
        · have hJ := jf hJ c_13
          refine lv_aload_n hx hb dX0_findShort_80 rfl (lv_at hl 3 rfl) ?_
          refine lv_lload_n hx hb dX0_findShort_81 rfl (lv_at hl 5 rfl) ?_
          refine lv_lload hx hb dX0_findShort_82 (lv_at hl 2 rfl) ?_
          refine lv_lload hx hb dX0_findShort_84 (lv_at hl 1 rfl) ?_
          refine lv_lload hx hb dX0_findShort_86 (lv_at hl 0 rfl) ?_
          obtain ⟨r_16, h_15, hJ⟩ := jb hJ
          refine k0_nearestMultiple hF (xR.of hP 0 rfl) hK h_15 hl.1 (Nat.le_of_ble_eq_true rfl) dX0_findShort_88 ⟨Nat.le_of_ble_eq_true rfl, Nat.le_of_ble_eq_true rfl⟩ ⟨Nat.zero_le _, Nat.zero_le _⟩ ?_
          refine lv_lstore (lv' := [(12, .long r_16), (10, .long r_12), (8, .long r_10), (6, .long x6_8), (0, .ref h0), (1, .int x1), (2, .long x2), (4, .int x4), (5, .int x5)]) hx hb dX0_findShort_91 hl (by decide) rfl (fun ls hl => ?_)
          refine lv_aload_n hx hb dX0_findShort_93 rfl (lv_at hl 4 rfl) ?_
          refine lv_lload hx hb dX0_findShort_94 (lv_at hl 0 rfl) ?_
          refine lv_l2i hx hb dX0_findShort_96 rfl ?_
          refine lv_topi (fun f2_17 ef2_17 => ?_)
          have hJ := jlet hJ ef2_17
          refine va_put (D := D) (A := A) (ci := 0) (v := .int f2_17) (ty := .int) (C := RX0) (T := TX0) (N := 4) hx hb hts in_X0 tyX0 tyX0_ok nmX0 hown hK hP (d0_of hAd) hS 0 rfl rfl 2 (by decide) (hts _ q45) (fun _ h9 => h9) rfl (by decide +kernel) rfl rfl (Nat.le_of_ble_eq_true rfl) dX0_findShort_97 (fun H locs hP _ hS => ?_)
          have hP : va_P D vwCl (W0 h0 hk dA f0 ks f2_17 f3) H := hP
          refine lv_aload_n hx hb dX0_findShort_100 rfl (lv_at hl 4 rfl) ?_
          refine lv_iload hx hb dX0_findShort_101 (lv_at hl 8 rfl) ?_
          refine va_put (D := D) (A := A) (ci := 0) (v := .int x5) (ty := .int) (C := RX0) (T := TX0) (N := 4) hx hb hts in_X0 tyX0 tyX0_ok nmX0 hown hK hP (d0_of hAd) hS 0 rfl rfl 3 (by decide) (hts _ q46) (fun _ h9 => h9) rfl (by decide +kernel) rfl rfl (Nat.le_of_ble_eq_true rfl) dX0_findShort_103 (fun H locs hP _ hS => ?_)
          have hP : va_P D vwCl (W0 h0 hk dA f0 ks f2_17 x5) H := hP
          refine lv_iconst (v := 1) hx hb dX0_findShort_106 (by decide) ?_
          refine lv_istore (lv' := [(4, .int (1 : Int32)), (12, .long r_16), (10, .long r_12), (8, .long r_10), (6, .long x6_8), (0, .ref h0), (1, .int x1), (2, .long x2), (5, .int x5)]) hx hb dX0_findShort_107 hl (by decide) rfl (fun ls hl => ?_)
          refine lv_aload_n hx hb dX0_findShort_109 rfl (lv_at hl 5 rfl) ?_
          refine lv_lload hx hb dX0_findShort_110 (lv_at hl 1 rfl) ?_
          refine lv_lload hx hb dX0_findShort_112 (lv_at hl 4 rfl) ?_
          refine lv_lmul hx hb dX0_findShort_114 ?_
          refine lv_lload_n hx hb dX0_findShort_115 rfl (lv_at hl 7 rfl) ?_
          refine lv_lsub hx hb dX0_findShort_116 ?_
          obtain ⟨r_19, h_18, hJ⟩ := jb hJ
          refine k0_size hF (xR.of hP 0 rfl) hK h_18 hl.1 (Nat.le_of_ble_eq_true rfl) dX0_findShort_117 ⟨Nat.le_of_ble_eq_true rfl, Nat.le_of_ble_eq_true rfl⟩ ⟨Nat.zero_le _, Nat.zero_le _⟩ ?_
          refine lv_lstore (lv' := [(14, .long r_19), (4, .int (1 : Int32)), (12, .long r_16), (10, .long r_12), (8, .long r_10), (6, .long x6_8), (0, .ref h0), (1, .int x1), (2, .long x2), (5, .int x5)]) hx hb dX0_findShort_120 hl (by decide) rfl (fun ls hl => ?_)
          refine lv_aload_n hx hb dX0_findShort_122 rfl (lv_at hl 6 rfl) ?_
          refine lv_iload_n hx hb dX0_findShort_123 rfl (lv_at hl 7 rfl) ?_
          refine lv_lload_n hx hb dX0_findShort_124 rfl (lv_at hl 8 rfl) ?_
          refine lv_iload hx hb dX0_findShort_125 (lv_at hl 9 rfl) ?_
          refine lv_iconst (v := 1) hx hb dX0_findShort_127 (by decide) ?_
          refine lv_isub hx hb dX0_findShort_128 ?_
          refine lv_lload hx hb dX0_findShort_129 (lv_at hl 0 rfl) ?_
          obtain ⟨f2_21, f3_22, h_20, hJ⟩ := jb2 hJ
          refine k0_improve hF hP hK hAd h_20 hl.1 (Nat.le_of_ble_eq_true rfl) dX0_findShort_131 ⟨Nat.le_of_ble_eq_true rfl, Nat.le_of_ble_eq_true rfl⟩ ⟨Nat.zero_le _, Nat.zero_le _⟩ hS (fun H locs hP hS => ?_)
          obtain ⟨x5_23, ex5_23⟩ : ∃ y : Int32, y = x5 + (-1) := ⟨_, rfl⟩
          have hJ := jlet hJ ex5_23
          refine lv_iinc (v := x5_23) (lv' := [(5, .int x5_23), (14, .long r_19), (4, .int (1 : Int32)), (12, .long r_16), (10, .long r_12), (8, .long r_10), (6, .long x6_8), (0, .ref h0), (1, .int x1), (2, .long x2)]) hx hb dX0_findShort_134 hl (k := 9) rfl (by rw [ex5_23]; rfl) (by decide) rfl (fun ls hl => ?_)
          refine lv_goto (tgt := 27) hx hb dX0_findShort_137 (by decide) ?_
          exact ih x1 x2 (1 : Int32) x5_23 f2_21 f3_22 hJ _ _ hP hS ls (lv_sub hl [7, 8, 9, 2, 0] rfl)
set_option maxHeartbeats 4000000 in
set_option maxRecDepth 100000 in
theorem m0_findShort (l : Launch) (D : va_G) (H0 : Heap) (h0 hk : Nat) (dA : ClassId) (f0 : Int32) (ks : Nat → Int32) (f2 : Int32) (f3 : Int32) (A : Nat → Prop) (hAd : dA0 A h0 hk) (hP : va_P D vwCl (W0 h0 hk dA f0 ks f2 f3) H0) (p1 : Int32) (gf2 : Int32) (gf3 : Int32) (hJ : J0_findShort f2 f3 p1 = some (gf2, gf3)) : Met l yX0_findShort (ws_ yX0_findShort cX0_findShort 16 none) ({ frames := 4, cells := 0, slots := 0, locals := 111 } : Room) (roP D [(dA, .int)] H0 [.ref h0, .int p1]) (wrQ D (W0 h0 hk dA f0 ks gf2 gf3) A none) 0 0 A := by
  refine ro_enter (by decide) (Nat.le_of_ble_eq_true rfl) ?_
  intro p e s m below meth c hF hr hlk hH hK ls hl
  have hl : lv_has ls 16 [(0, .ref h0), (1, .int p1)] := hl
  obtain ⟨hx, hb, hml, hown, hts⟩ := id hF
  subst hH
  have hS : va_S A s.heap s.heap [] := va_S.rf
  unfold J0_findShort at hJ
  refine lv_aload_n hx hb dX0_findShort_0 rfl (lv_at hl 0 rfl) ?_
  refine lv_iconst (v := 0) hx hb dX0_findShort_1 (by decide) ?_
  refine va_put (D := D) (A := A) (ci := 0) (v := .int (0 : Int32)) (ty := .int) (C := RX0) (T := TX0) (N := 4) hx hb hts in_X0 tyX0 tyX0_ok nmX0 hown hK hP (d0_of hAd) hS 0 rfl rfl 2 (by decide) (hts _ q45) (fun _ h9 => h9) rfl (by decide +kernel) rfl rfl (Nat.le_of_ble_eq_true rfl) dX0_findShort_2 (fun H locs hP _ hS => ?_)
  have hP : va_P D vwCl (W0 h0 hk dA f0 ks (0 : Int32) f3) H := hP
  refine lv_aload_n hx hb dX0_findShort_5 rfl (lv_at hl 0 rfl) ?_
  refine lv_iconst (v := 0) hx hb dX0_findShort_6 (by decide) ?_
  refine va_put (D := D) (A := A) (ci := 0) (v := .int (0 : Int32)) (ty := .int) (C := RX0) (T := TX0) (N := 4) hx hb hts in_X0 tyX0 tyX0_ok nmX0 hown hK hP (d0_of hAd) hS 0 rfl rfl 3 (by decide) (hts _ q46) (fun _ h9 => h9) rfl (by decide +kernel) rfl rfl (Nat.le_of_ble_eq_true rfl) dX0_findShort_7 (fun H locs hP _ hS => ?_)
  have hP : va_P D vwCl (W0 h0 hk dA f0 ks (0 : Int32) (0 : Int32)) H := hP
  refine lv_iload_n hx hb dX0_findShort_10 rfl (lv_at hl 1 rfl) ?_
  refine lv_if_ne (tgt := 15) hx hb dX0_findShort_11 (by decide) (fun c_1 => ?_) (fun c_1 => ?_)
  · have hJ := jf hJ c_1
    refine lv_aload_n hx hb dX0_findShort_15 rfl (lv_at hl 0 rfl) ?_
    refine lv_iload_n hx hb dX0_findShort_16 rfl (lv_at hl 1 rfl) ?_
    obtain ⟨r_3, h_2, hJ⟩ := jb hJ
    refine k0_steps hF (xR.of hP 0 rfl) hK h_2 hl.1 (Nat.le_of_ble_eq_true rfl) dX0_findShort_17 ⟨Nat.le_of_ble_eq_true rfl, Nat.le_of_ble_eq_true rfl⟩ ⟨Nat.zero_le _, Nat.zero_le _⟩ ?_
    refine lv_lstore_n (lv' := [(2, .long r_3), (0, .ref h0), (1, .int p1)]) hx hb dX0_findShort_20 rfl hl (by decide) rfl (fun ls hl => ?_)
    refine lv_iconst (v := 0) hx hb dX0_findShort_21 (by decide) ?_
    refine lv_istore (lv' := [(4, .int (0 : Int32)), (2, .long r_3), (0, .ref h0), (1, .int p1)]) hx hb dX0_findShort_22 hl (by decide) rfl (fun ls hl => ?_)
    refine lv_iconst (v := 3) hx hb dX0_findShort_24 (by decide) ?_
    refine lv_istore (lv' := [(5, .int (3 : Int32)), (4, .int (0 : Int32)), (2, .long r_3), (0, .ref h0), (1, .int p1)]) hx hb dX0_findShort_25 hl (by decide) rfl (fun ls hl => ?_)
    exact l0_findShort_27 f0 ks hAd p1 hF hr hlk hK _ _ FU p1 r_3 (0 : Int32) (3 : Int32) (0 : Int32) (0 : Int32) hJ _ _ hP hS ls (lv_sub hl [3, 4, 2, 1, 0] rfl)
  · have hJ := jt hJ c_1
    obtain ⟨rfl, rfl⟩ := jp2 hJ
    exact wr_vret hF hr hlk hP hS dX0_findShort_14 rfl
theorem k0_findShort {p : Program} {l : Launch} {e : Env} {R : Room} {s : State} {m : MethodId} {args : Array Value} {below : List Frame} {meth : Method} {c : Code} {H : Heap} {locs : List Loc} {cells slots : Nat} {Q : State → Prop} {cc : ByteArray} {nL pc : Nat} {ls : Array Slot} {rest : List Value} {D : va_G} {b hk : Nat} {dA : ClassId} {f0 : Int32} {ks : Nat → Int32} {f2 : Int32} {f3 : Int32} {A : Nat → Prop} {Hs : Heap} (hF : CallFix p m c cc nL s args lw_all RX0) (hP : va_P D vwCl (W0 b hk dA f0 ks f2 f3) H) (hK : va_K D vwCl [(dA, .int)] s) (hAd : dA0 A b hk) {p1 : Int32} {gf2 : Int32} {gf3 : Int32} (hJ : J0_findShort f2 f3 p1 = some (gf2, gf3)) (hsz : ls.size = nL) (hW : (rest.map fun v => v.category).sum ≤ 8) (hdg : decode cc pc = .ok (.invokevirtual 93, 3)) (hR : 4 + 1 ≤ R.frames ∧ 8 + (16 + 11) + 111 ≤ R.locals) (hf : cells ≤ R.cells ∧ slots ≤ R.slots) (hS : va_S A Hs H locs) (kk : ∀ (H1 : Heap) (locs1 : List Loc), va_P D vwCl (W0 b hk dA f0 ks gf2 gf3) H1 → va_S A Hs H1 locs1 → W p l e R s m args below meth c H1 locs1 cells slots Q (F0 m (pc + 3) ls rest)) : W p l e R s m args below meth c H locs cells slots Q (F0 m pc ls (.int p1 :: .ref b :: rest)) :=
  wr_call (n := 1) (ci := 0) hF (m0_findShort l D H b hk dA f0 ks f2 f3 A hAd hP p1 _ _ hJ) (lw_V q121 q123 qs9 q33 q124) (by decide +kernel) rfl rfl hR (xR.of hP 0 rfl) hK rfl rfl rfl hsz rfl hW hdg hf hS (fun _ h => h) (fun H1 locs1 h1 _ _ h4 => kk H1 locs1 h1 h4)
/-! ShortestDigits.digits(I)I -/
def J0_digits (f2 : Int32) (f3 : Int32) (p1 : Int32) : Option (Int32 × Int32 × Int32) :=
  Option.bind (J0_badCode p1) (fun (r_2 : Int32) =>
  if r_2 = 0 then
    jB2 (J0_findShort f2 f3 p1) (fun (f2_5 f3_6 : Int32) =>
    some (f2_5, f2_5, f3_6))
  else
    some ((-1 : Int32), f2, f3))
set_option maxHeartbeats 4000000 in
set_option maxRecDepth 100000 in
theorem m0_digits (l : Launch) (D : va_G) (H0 : Heap) (h0 hk : Nat) (dA : ClassId) (f0 : Int32) (ks : Nat → Int32) (f2 : Int32) (f3 : Int32) (A : Nat → Prop) (hAd : dA0 A h0 hk) (hP : va_P D vwCl (W0 h0 hk dA f0 ks f2 f3) H0) (p1 : Int32) (r : Int32) (gf2 : Int32) (gf3 : Int32) (hJ : J0_digits f2 f3 p1 = some (r, gf2, gf3)) : Met l yX0_digits (ws_ yX0_digits cX0_digits 2 (some .int)) ({ frames := 5, cells := 0, slots := 0, locals := 146 } : Room) (roP D [(dA, .int)] H0 [.ref h0, .int p1]) (wrQ D (W0 h0 hk dA f0 ks gf2 gf3) A (some (.int r))) 0 0 A := by
  refine ro_enter (by decide) (Nat.le_of_ble_eq_true rfl) ?_
  intro p e s m below meth c hF hr hlk hH hK ls hl
  have hl : lv_has ls 2 [(0, .ref h0), (1, .int p1)] := hl
  obtain ⟨hx, hb, hml, hown, hts⟩ := id hF
  subst hH
  have hS : va_S A s.heap s.heap [] := va_S.rf
  unfold J0_digits at hJ
  refine lv_aload_n hx hb dX0_digits_0 rfl (lv_at hl 0 rfl) ?_
  refine lv_iload_n hx hb dX0_digits_1 rfl (lv_at hl 1 rfl) ?_
  obtain ⟨r_2, h_1, hJ⟩ := jb hJ
  refine k0_badCode hF (xR.of hP 0 rfl) hK h_1 hl.1 (Nat.le_of_ble_eq_true rfl) dX0_digits_2 ⟨Nat.le_of_ble_eq_true rfl, Nat.le_of_ble_eq_true rfl⟩ ⟨Nat.zero_le _, Nat.zero_le _⟩ ?_
  refine lv_if_eq (tgt := 10) hx hb dX0_digits_5 (by decide) (fun c_3 => ?_) (fun c_3 => ?_)
  · have hJ := jt hJ c_3
    refine lv_aload_n hx hb dX0_digits_10 rfl (lv_at hl 0 rfl) ?_
    refine lv_iload_n hx hb dX0_digits_11 rfl (lv_at hl 1 rfl) ?_
    obtain ⟨f2_5, f3_6, h_4, hJ⟩ := jb2 hJ
    refine k0_findShort hF hP hK hAd h_4 hl.1 (Nat.le_of_ble_eq_true rfl) dX0_digits_12 ⟨Nat.le_of_ble_eq_true rfl, Nat.le_of_ble_eq_true rfl⟩ ⟨Nat.zero_le _, Nat.zero_le _⟩ hS (fun H locs hP hS => ?_)
    refine lv_aload_n hx hb dX0_digits_15 rfl (lv_at hl 0 rfl) ?_
    refine va_get (D := D) (ci := 0) (v := .int f2_5) (C := RX0) (T := TX0) (N := 4) hx hb hts in_X0 hown hK hP 0 rfl rfl 2 (by decide) (hts _ q45) (fun _ h9 => h9) rfl dX0_digits_16 ?_
    obtain ⟨rfl, rfl, rfl⟩ := jp3 hJ
    exact wr_iret hF hr hlk hP hS dX0_digits_19 rfl rfl
  · have hJ := jf hJ c_3
    refine lv_iconst (v := -1) hx hb dX0_digits_8 (by decide) ?_
    obtain ⟨rfl, rfl, rfl⟩ := jp3 hJ
    exact wr_iret hF hr hlk hP hS dX0_digits_9 rfl rfl
/-! ShortestDigits.scale(I)I -/
def J0_scale (f2 : Int32) (f3 : Int32) (p1 : Int32) : Option (Int32 × Int32 × Int32) :=
  Option.bind (J0_badCode p1) (fun (r_2 : Int32) =>
  if r_2 = 0 then
    jB2 (J0_findShort f2 f3 p1) (fun (f2_5 f3_6 : Int32) =>
    some (f3_6, f2_5, f3_6))
  else
    some ((-100 : Int32), f2, f3))
set_option maxHeartbeats 4000000 in
set_option maxRecDepth 100000 in
theorem m0_scale (l : Launch) (D : va_G) (H0 : Heap) (h0 hk : Nat) (dA : ClassId) (f0 : Int32) (ks : Nat → Int32) (f2 : Int32) (f3 : Int32) (A : Nat → Prop) (hAd : dA0 A h0 hk) (hP : va_P D vwCl (W0 h0 hk dA f0 ks f2 f3) H0) (p1 : Int32) (r : Int32) (gf2 : Int32) (gf3 : Int32) (hJ : J0_scale f2 f3 p1 = some (r, gf2, gf3)) : Met l yX0_scale (ws_ yX0_scale cX0_scale 2 (some .int)) ({ frames := 5, cells := 0, slots := 0, locals := 146 } : Room) (roP D [(dA, .int)] H0 [.ref h0, .int p1]) (wrQ D (W0 h0 hk dA f0 ks gf2 gf3) A (some (.int r))) 0 0 A := by
  refine ro_enter (by decide) (Nat.le_of_ble_eq_true rfl) ?_
  intro p e s m below meth c hF hr hlk hH hK ls hl
  have hl : lv_has ls 2 [(0, .ref h0), (1, .int p1)] := hl
  obtain ⟨hx, hb, hml, hown, hts⟩ := id hF
  subst hH
  have hS : va_S A s.heap s.heap [] := va_S.rf
  unfold J0_scale at hJ
  refine lv_aload_n hx hb dX0_scale_0 rfl (lv_at hl 0 rfl) ?_
  refine lv_iload_n hx hb dX0_scale_1 rfl (lv_at hl 1 rfl) ?_
  obtain ⟨r_2, h_1, hJ⟩ := jb hJ
  refine k0_badCode hF (xR.of hP 0 rfl) hK h_1 hl.1 (Nat.le_of_ble_eq_true rfl) dX0_scale_2 ⟨Nat.le_of_ble_eq_true rfl, Nat.le_of_ble_eq_true rfl⟩ ⟨Nat.zero_le _, Nat.zero_le _⟩ ?_
  refine lv_if_eq (tgt := 11) hx hb dX0_scale_5 (by decide) (fun c_3 => ?_) (fun c_3 => ?_)
  · have hJ := jt hJ c_3
    refine lv_aload_n hx hb dX0_scale_11 rfl (lv_at hl 0 rfl) ?_
    refine lv_iload_n hx hb dX0_scale_12 rfl (lv_at hl 1 rfl) ?_
    obtain ⟨f2_5, f3_6, h_4, hJ⟩ := jb2 hJ
    refine k0_findShort hF hP hK hAd h_4 hl.1 (Nat.le_of_ble_eq_true rfl) dX0_scale_13 ⟨Nat.le_of_ble_eq_true rfl, Nat.le_of_ble_eq_true rfl⟩ ⟨Nat.zero_le _, Nat.zero_le _⟩ hS (fun H locs hP hS => ?_)
    refine lv_aload_n hx hb dX0_scale_16 rfl (lv_at hl 0 rfl) ?_
    refine va_get (D := D) (ci := 0) (v := .int f3_6) (C := RX0) (T := TX0) (N := 4) hx hb hts in_X0 hown hK hP 0 rfl rfl 3 (by decide) (hts _ q46) (fun _ h9 => h9) rfl dX0_scale_17 ?_
    obtain ⟨rfl, rfl, rfl⟩ := jp3 hJ
    exact wr_iret hF hr hlk hP hS dX0_scale_20 rfl rfl
  · have hJ := jf hJ c_3
    refine lv_bipush (v := -100) hx hb dX0_scale_8 (by decide) ?_
    obtain ⟨rfl, rfl, rfl⟩ := jp3 hJ
    exact wr_iret hF hr hlk hP hS dX0_scale_10 rfl rfl
/-! ShortestDigits.length(I)I -/
def J0_length (f2 : Int32) (f3 : Int32) (p1 : Int32) : Option (Int32 × Int32 × Int32) :=
  Option.bind (J0_badCode p1) (fun (r_2 : Int32) =>
  if r_2 = 0 then
    jB2 (J0_findShort f2 f3 p1) (fun (f2_5 f3_6 : Int32) =>
    Option.bind (J0_lengthOf (f2_5.toInt64)) (fun (r_8 : Int32) =>
    some (r_8, f2_5, f3_6)))
  else
    some ((-1 : Int32), f2, f3))
set_option maxHeartbeats 4000000 in
set_option maxRecDepth 100000 in
theorem m0_length (l : Launch) (D : va_G) (H0 : Heap) (h0 hk : Nat) (dA : ClassId) (f0 : Int32) (ks : Nat → Int32) (f2 : Int32) (f3 : Int32) (A : Nat → Prop) (hAd : dA0 A h0 hk) (hP : va_P D vwCl (W0 h0 hk dA f0 ks f2 f3) H0) (p1 : Int32) (r : Int32) (gf2 : Int32) (gf3 : Int32) (hJ : J0_length f2 f3 p1 = some (r, gf2, gf3)) : Met l yX0_length (ws_ yX0_length cX0_length 2 (some .int)) ({ frames := 5, cells := 0, slots := 0, locals := 146 } : Room) (roP D [(dA, .int)] H0 [.ref h0, .int p1]) (wrQ D (W0 h0 hk dA f0 ks gf2 gf3) A (some (.int r))) 0 0 A := by
  refine ro_enter (by decide) (Nat.le_of_ble_eq_true rfl) ?_
  intro p e s m below meth c hF hr hlk hH hK ls hl
  have hl : lv_has ls 2 [(0, .ref h0), (1, .int p1)] := hl
  obtain ⟨hx, hb, hml, hown, hts⟩ := id hF
  subst hH
  have hS : va_S A s.heap s.heap [] := va_S.rf
  unfold J0_length at hJ
  refine lv_aload_n hx hb dX0_length_0 rfl (lv_at hl 0 rfl) ?_
  refine lv_iload_n hx hb dX0_length_1 rfl (lv_at hl 1 rfl) ?_
  obtain ⟨r_2, h_1, hJ⟩ := jb hJ
  refine k0_badCode hF (xR.of hP 0 rfl) hK h_1 hl.1 (Nat.le_of_ble_eq_true rfl) dX0_length_2 ⟨Nat.le_of_ble_eq_true rfl, Nat.le_of_ble_eq_true rfl⟩ ⟨Nat.zero_le _, Nat.zero_le _⟩ ?_
  refine lv_if_eq (tgt := 10) hx hb dX0_length_5 (by decide) (fun c_3 => ?_) (fun c_3 => ?_)
  · have hJ := jt hJ c_3
    refine lv_aload_n hx hb dX0_length_10 rfl (lv_at hl 0 rfl) ?_
    refine lv_iload_n hx hb dX0_length_11 rfl (lv_at hl 1 rfl) ?_
    obtain ⟨f2_5, f3_6, h_4, hJ⟩ := jb2 hJ
    refine k0_findShort hF hP hK hAd h_4 hl.1 (Nat.le_of_ble_eq_true rfl) dX0_length_12 ⟨Nat.le_of_ble_eq_true rfl, Nat.le_of_ble_eq_true rfl⟩ ⟨Nat.zero_le _, Nat.zero_le _⟩ hS (fun H locs hP hS => ?_)
    refine lv_aload_n hx hb dX0_length_15 rfl (lv_at hl 0 rfl) ?_
    refine lv_aload_n hx hb dX0_length_16 rfl (lv_at hl 0 rfl) ?_
    refine va_get (D := D) (ci := 0) (v := .int f2_5) (C := RX0) (T := TX0) (N := 4) hx hb hts in_X0 hown hK hP 0 rfl rfl 2 (by decide) (hts _ q45) (fun _ h9 => h9) rfl dX0_length_17 ?_
    refine lv_i2l hx hb dX0_length_20 rfl ?_
    obtain ⟨r_8, h_7, hJ⟩ := jb hJ
    refine k0_lengthOf hF (xR.of hP 0 rfl) hK h_7 hl.1 (Nat.le_of_ble_eq_true rfl) dX0_length_21 ⟨Nat.le_of_ble_eq_true rfl, Nat.le_of_ble_eq_true rfl⟩ ⟨Nat.zero_le _, Nat.zero_le _⟩ ?_
    obtain ⟨rfl, rfl, rfl⟩ := jp3 hJ
    exact wr_iret hF hr hlk hP hS dX0_length_24 rfl rfl
  · have hJ := jf hJ c_3
    refine lv_iconst (v := -1) hx hb dX0_length_8 (by decide) ?_
    obtain ⟨rfl, rfl, rfl⟩ := jp3 hJ
    exact wr_iret hF hr hlk hP hS dX0_length_9 rfl rfl
/-! ShortestDigits.type(I)I -/
def J0_type (f0 : Int32) (ks : Nat → Int32) (p1 : Int32) : Option (Int32 × Int32 × (Nat → Int32)) :=
  if p1 < 0 then
    some ((-1 : Int32), f0, ks)
  else
    if p1 ≤ (10 : Int32) then
      Option.bind (J0_digitsTyped f0 ks) (fun (r_4 : Int32) =>
      Option.bind (
        if f0 ≤ r_4 then
          some (0 : Int32)
        else
          some (1 : Int32)) (fun (v_5 : Int32) =>
      if p1 = (10 : Int32) then
        if v_5 = 0 then
          if (f0 < 0 ∨ 9 ≤ f0.toNatClampNeg) then none else
          jL (upd ks f0.toNatClampNeg p1) (fun (ks_15 : Nat → Int32) =>
          jL (f0 + (1 : Int32)) (fun (f0_16 : Int32) =>
          if p1 = (10 : Int32) then
            some (r_4, f0_16, ks_15)
          else
            some (r_4 + (1 : Int32), f0_16, ks_15)))
        else
          some ((-2 : Int32), f0, ks)
      else
        if r_4 = (8 : Int32) then
          some ((-2 : Int32), f0, ks)
        else
          if (f0 < 0 ∨ 9 ≤ f0.toNatClampNeg) then none else
          jL (upd ks f0.toNatClampNeg p1) (fun (ks_10 : Nat → Int32) =>
          jL (f0 + (1 : Int32)) (fun (f0_11 : Int32) =>
          if p1 = (10 : Int32) then
            some (r_4, f0_11, ks_10)
          else
            some (r_4 + (1 : Int32), f0_11, ks_10)))))
    else
      some ((-1 : Int32), f0, ks)
set_option maxHeartbeats 4000000 in
set_option maxRecDepth 100000 in
theorem m0_type (l : Launch) (D : va_G) (H0 : Heap) (h0 hk : Nat) (dA : ClassId) (f0 : Int32) (ks : Nat → Int32) (f2 : Int32) (f3 : Int32) (A : Nat → Prop) (hAd : dA0 A h0 hk) (hP : va_P D vwCl (W0 h0 hk dA f0 ks f2 f3) H0) (p1 : Int32) (r : Int32) (gf0 : Int32) (gks : Nat → Int32) (hJ : J0_type f0 ks p1 = some (r, gf0, gks)) : Met l yX0_type (ws_ yX0_type cX0_type 4 (some .int)) ({ frames := 1, cells := 0, slots := 0, locals := 22 } : Room) (roP D [(dA, .int)] H0 [.ref h0, .int p1]) (wrQ D (W0 h0 hk dA gf0 gks f2 f3) A (some (.int r))) 0 0 A := by
  refine ro_enter (by decide) (Nat.le_of_ble_eq_true rfl) ?_
  intro p e s m below meth c hF hr hlk hH hK ls hl
  have hl : lv_has ls 4 [(0, .ref h0), (1, .int p1)] := hl
  obtain ⟨hx, hb, hml, hown, hts⟩ := id hF
  subst hH
  have hS : va_S A s.heap s.heap [] := va_S.rf
  unfold J0_type at hJ
  refine lv_iload_n hx hb dX0_type_0 rfl (lv_at hl 1 rfl) ?_
  refine lv_if_lt (tgt := 10) hx hb dX0_type_1 (by decide) (fun c_1 => ?_) (fun c_1 => ?_)
  · have hJ := jt hJ c_1
    refine lv_iconst (v := -1) hx hb dX0_type_10 (by decide) ?_
    obtain ⟨rfl, rfl, rfl⟩ := jp3 hJ
    exact wr_iret hF hr hlk hP hS dX0_type_11 rfl rfl
  · have hJ := jf hJ c_1
    refine lv_iload_n hx hb dX0_type_4 rfl (lv_at hl 1 rfl) ?_
    refine lv_bipush (v := 10) hx hb dX0_type_5 (by decide) ?_
    refine lv_icmp_le (tgt := 12) hx hb dX0_type_7 (by decide) (fun c_2 => ?_) (fun c_2 => ?_)
    · have hJ := jt hJ c_2
      refine lv_aload_n hx hb dX0_type_12 rfl (lv_at hl 0 rfl) ?_
      obtain ⟨r_4, h_3, hJ⟩ := jb hJ
      refine k0_digitsTyped hF hP hK h_3 hl.1 (Nat.le_of_ble_eq_true rfl) dX0_type_13 ⟨Nat.le_of_ble_eq_true rfl, Nat.le_of_ble_eq_true rfl⟩ ⟨Nat.zero_le _, Nat.zero_le _⟩ ?_
      refine lv_istore_n (lv' := [(2, .int r_4), (0, .ref h0), (1, .int p1)]) hx hb dX0_type_16 rfl hl (by decide) rfl (fun ls hl => ?_)
      obtain ⟨v_5, hR17, hJ⟩ := jb hJ
      refine jn 4 [(2, .int r_4), (0, .ref h0), (1, .int p1)] 30 [.int v_5] ?_ (fun K30 => ?_)
      · intro ls hl
        refine lv_istore_n (lv' := [(3, .int v_5), (2, .int r_4), (0, .ref h0), (1, .int p1)]) hx hb dX0_type_30 rfl hl (by decide) rfl (fun ls hl => ?_)
        refine lv_iload_n hx hb dX0_type_31 rfl (lv_at hl 3 rfl) ?_
        refine lv_bipush (v := 10) hx hb dX0_type_32 (by decide) ?_
        refine lv_icmp_ne (tgt := 44) hx hb dX0_type_34 (by decide) (fun c_7 => ?_) (fun c_7 => ?_)
        · have hJ := jf hJ c_7
          refine lv_iload_n hx hb dX0_type_44 rfl (lv_at hl 1 rfl) ?_
          refine lv_bipush (v := 8) hx hb dX0_type_45 (by decide) ?_
          refine lv_icmp_ne (tgt := 53) hx hb dX0_type_47 (by decide) (fun c_8 => ?_) (fun c_8 => ?_)
          · have hJ := jf hJ c_8
            refine lv_aload_n hx hb dX0_type_53 rfl (lv_at hl 2 rfl) ?_
            refine va_get (D := D) (ci := 0) (v := .ref hk) (C := RX0) (T := TX0) (N := 4) hx hb hts in_X0 hown hK hP 0 rfl rfl 1 (by decide) (hts _ q44) (fun _ h9 => h9) rfl dX0_type_54 ?_
            refine lv_aload_n hx hb dX0_type_57 rfl (lv_at hl 2 rfl) ?_
            refine va_get (D := D) (ci := 0) (v := .int f0) (C := RX0) (T := TX0) (N := 4) hx hb hts in_X0 hown hK hP 0 rfl rfl 0 (by decide) (hts _ q43) (fun _ h9 => h9) rfl dX0_type_58 ?_
            refine lv_iload_n hx hb dX0_type_61 rfl (lv_at hl 3 rfl) ?_
            obtain ⟨g_9, hJ⟩ := jg hJ
            obtain ⟨ks_10, eks_10⟩ : ∃ y : Nat → Int32, y = upd ks f0.toNatClampNeg p1 := ⟨_, rfl⟩
            have hJ := jlet hJ eks_10
            refine va_iast (A := A) hx hb hK hP (d0_of hAd) hS 1 0 rfl rfl g_9 dX0_type_62 (fun H locs hP _ hS => ?_)
            have hP : va_P D vwCl (W0 h0 hk dA f0 ks_10 f2 f3) H := by rw [eks_10]; exact hP
            refine lv_aload_n hx hb dX0_type_63 rfl (lv_at hl 2 rfl) ?_
            refine lv_dup hx hb dX0_type_64 rfl ?_
            refine va_get (D := D) (ci := 0) (v := .int f0) (C := RX0) (T := TX0) (N := 4) hx hb hts in_X0 hown hK hP 0 rfl rfl 0 (by decide) (hts _ q43) (fun _ h9 => h9) rfl dX0_type_65 ?_
            refine lv_iconst (v := 1) hx hb dX0_type_68 (by decide) ?_
            refine lv_iadd hx hb dX0_type_69 ?_
            refine lv_topi (fun f0_11 ef0_11 => ?_)
            have hJ := jlet hJ ef0_11
            refine va_put (D := D) (A := A) (ci := 0) (v := .int f0_11) (ty := .int) (C := RX0) (T := TX0) (N := 4) hx hb hts in_X0 tyX0 tyX0_ok nmX0 hown hK hP (d0_of hAd) hS 0 rfl rfl 0 (by decide) (hts _ q43) (fun _ h9 => h9) rfl (by decide +kernel) rfl rfl (Nat.le_of_ble_eq_true rfl) dX0_type_70 (fun H locs hP _ hS => ?_)
            have hP : va_P D vwCl (W0 h0 hk dA f0_11 ks_10 f2 f3) H := hP
            refine lv_iload_n hx hb dX0_type_73 rfl (lv_at hl 3 rfl) ?_
            refine lv_bipush (v := 10) hx hb dX0_type_74 (by decide) ?_
            refine lv_icmp_ne (tgt := 83) hx hb dX0_type_76 (by decide) (fun c_12 => ?_) (fun c_12 => ?_)
            · have hJ := jf hJ c_12
              refine lv_iload_n hx hb dX0_type_83 rfl (lv_at hl 1 rfl) ?_
              refine lv_iconst (v := 1) hx hb dX0_type_84 (by decide) ?_
              refine lv_iadd hx hb dX0_type_85 ?_
              obtain ⟨rfl, rfl, rfl⟩ := jp3 hJ
              exact wr_iret hF hr hlk hP hS dX0_type_86 rfl rfl
            · have hJ := jt hJ c_12
              refine lv_iload_n hx hb dX0_type_79 rfl (lv_at hl 1 rfl) ?_
              refine lv_goto (tgt := 86) hx hb dX0_type_80 (by decide) ?_
              obtain ⟨rfl, rfl, rfl⟩ := jp3 hJ
              exact wr_iret hF hr hlk hP hS dX0_type_86 rfl rfl
          · have hJ := jt hJ c_8
            refine lv_bipush (v := -2) hx hb dX0_type_50 (by decide) ?_
            obtain ⟨rfl, rfl, rfl⟩ := jp3 hJ
            exact wr_iret hF hr hlk hP hS dX0_type_52 rfl rfl
        · have hJ := jt hJ c_7
          refine lv_iload_n hx hb dX0_type_37 rfl (lv_at hl 0 rfl) ?_
          refine lv_if_eq (tgt := 53) hx hb dX0_type_38 (by decide) (fun c_13 => ?_) (fun c_13 => ?_)
          · have hJ := jt hJ c_13
            refine lv_aload_n hx hb dX0_type_53 rfl (lv_at hl 2 rfl) ?_
            refine va_get (D := D) (ci := 0) (v := .ref hk) (C := RX0) (T := TX0) (N := 4) hx hb hts in_X0 hown hK hP 0 rfl rfl 1 (by decide) (hts _ q44) (fun _ h9 => h9) rfl dX0_type_54 ?_
            refine lv_aload_n hx hb dX0_type_57 rfl (lv_at hl 2 rfl) ?_
            refine va_get (D := D) (ci := 0) (v := .int f0) (C := RX0) (T := TX0) (N := 4) hx hb hts in_X0 hown hK hP 0 rfl rfl 0 (by decide) (hts _ q43) (fun _ h9 => h9) rfl dX0_type_58 ?_
            refine lv_iload_n hx hb dX0_type_61 rfl (lv_at hl 3 rfl) ?_
            obtain ⟨g_14, hJ⟩ := jg hJ
            obtain ⟨ks_15, eks_15⟩ : ∃ y : Nat → Int32, y = upd ks f0.toNatClampNeg p1 := ⟨_, rfl⟩
            have hJ := jlet hJ eks_15
            refine va_iast (A := A) hx hb hK hP (d0_of hAd) hS 1 0 rfl rfl g_14 dX0_type_62 (fun H locs hP _ hS => ?_)
            have hP : va_P D vwCl (W0 h0 hk dA f0 ks_15 f2 f3) H := by rw [eks_15]; exact hP
            refine lv_aload_n hx hb dX0_type_63 rfl (lv_at hl 2 rfl) ?_
            refine lv_dup hx hb dX0_type_64 rfl ?_
            refine va_get (D := D) (ci := 0) (v := .int f0) (C := RX0) (T := TX0) (N := 4) hx hb hts in_X0 hown hK hP 0 rfl rfl 0 (by decide) (hts _ q43) (fun _ h9 => h9) rfl dX0_type_65 ?_
            refine lv_iconst (v := 1) hx hb dX0_type_68 (by decide) ?_
            refine lv_iadd hx hb dX0_type_69 ?_
            refine lv_topi (fun f0_16 ef0_16 => ?_)
            have hJ := jlet hJ ef0_16
            refine va_put (D := D) (A := A) (ci := 0) (v := .int f0_16) (ty := .int) (C := RX0) (T := TX0) (N := 4) hx hb hts in_X0 tyX0 tyX0_ok nmX0 hown hK hP (d0_of hAd) hS 0 rfl rfl 0 (by decide) (hts _ q43) (fun _ h9 => h9) rfl (by decide +kernel) rfl rfl (Nat.le_of_ble_eq_true rfl) dX0_type_70 (fun H locs hP _ hS => ?_)
            have hP : va_P D vwCl (W0 h0 hk dA f0_16 ks_15 f2 f3) H := hP
            refine lv_iload_n hx hb dX0_type_73 rfl (lv_at hl 3 rfl) ?_
            refine lv_bipush (v := 10) hx hb dX0_type_74 (by decide) ?_
            refine lv_icmp_ne (tgt := 83) hx hb dX0_type_76 (by decide) (fun c_17 => ?_) (fun c_17 => ?_)
            · have hJ := jf hJ c_17
              refine lv_iload_n hx hb dX0_type_83 rfl (lv_at hl 1 rfl) ?_
              refine lv_iconst (v := 1) hx hb dX0_type_84 (by decide) ?_
              refine lv_iadd hx hb dX0_type_85 ?_
              obtain ⟨rfl, rfl, rfl⟩ := jp3 hJ
              exact wr_iret hF hr hlk hP hS dX0_type_86 rfl rfl
            · have hJ := jt hJ c_17
              refine lv_iload_n hx hb dX0_type_79 rfl (lv_at hl 1 rfl) ?_
              refine lv_goto (tgt := 86) hx hb dX0_type_80 (by decide) ?_
              obtain ⟨rfl, rfl, rfl⟩ := jp3 hJ
              exact wr_iret hF hr hlk hP hS dX0_type_86 rfl rfl
          · have hJ := jf hJ c_13
            refine lv_goto (tgt := 50) hx hb dX0_type_41 (by decide) ?_
            refine lv_bipush (v := -2) hx hb dX0_type_50 (by decide) ?_
            obtain ⟨rfl, rfl, rfl⟩ := jp3 hJ
            exact wr_iret hF hr hlk hP hS dX0_type_52 rfl rfl
      · have hJ := hR17
        refine lv_iload_n hx hb dX0_type_17 rfl (lv_at hl 0 rfl) ?_
        refine lv_aload_n hx hb dX0_type_18 rfl (lv_at hl 1 rfl) ?_
        refine va_get (D := D) (ci := 0) (v := .int f0) (C := RX0) (T := TX0) (N := 4) hx hb hts in_X0 hown hK hP 0 rfl rfl 0 (by decide) (hts _ q43) (fun _ h9 => h9) rfl dX0_type_19 ?_
        refine lv_icmp_ge (tgt := 29) hx hb dX0_type_22 (by decide) (fun c_6 => ?_) (fun c_6 => ?_)
        · have hJ := jt hJ c_6
          refine lv_iconst (v := 0) hx hb dX0_type_29 (by decide) ?_
          obtain rfl := Option.some.inj hJ
          exact K30 ls (lv_sub hl [0, 1, 2] rfl)
        · have hJ := jf hJ c_6
          refine lv_iconst (v := 1) hx hb dX0_type_25 (by decide) ?_
          refine lv_goto (tgt := 30) hx hb dX0_type_26 (by decide) ?_
          obtain rfl := Option.some.inj hJ
          exact K30 ls (lv_sub hl [0, 1, 2] rfl)
    · have hJ := jf hJ c_2
      refine lv_iconst (v := -1) hx hb dX0_type_10 (by decide) ?_
      obtain ⟨rfl, rfl, rfl⟩ := jp3 hJ
      exact wr_iret hF hr hlk hP hS dX0_type_11 rfl rfl
/-! ShortestDigits.back()I -/
def J0_back (f0 : Int32) (ks : Nat → Int32) : Option (Int32 × Int32) :=
  if f0 = 0 then
    some ((-4 : Int32), f0)
  else
    jL (f0 - (1 : Int32)) (fun (f0_2 : Int32) =>
    if (f0_2 < 0 ∨ 9 ≤ f0_2.toNatClampNeg) then none else
    some (ks f0_2.toNatClampNeg, f0_2))
set_option maxHeartbeats 4000000 in
set_option maxRecDepth 100000 in
theorem m0_back (l : Launch) (D : va_G) (H0 : Heap) (h0 hk : Nat) (dA : ClassId) (f0 : Int32) (ks : Nat → Int32) (f2 : Int32) (f3 : Int32) (A : Nat → Prop) (hAd : dA0 A h0 hk) (hP : va_P D vwCl (W0 h0 hk dA f0 ks f2 f3) H0)  (r : Int32) (gf0 : Int32) (hJ : J0_back f0 ks = some (r, gf0)) : Met l yX0_back (ws_ yX0_back cX0_back 1 (some .int)) ({ frames := 0, cells := 0, slots := 0, locals := 0 } : Room) (roP D [(dA, .int)] H0 [.ref h0]) (wrQ D (W0 h0 hk dA gf0 ks f2 f3) A (some (.int r))) 0 0 A := by
  refine ro_enter (by decide) (Nat.le_of_ble_eq_true rfl) ?_
  intro p e s m below meth c hF hr hlk hH hK ls hl
  have hl : lv_has ls 1 [(0, .ref h0)] := hl
  obtain ⟨hx, hb, hml, hown, hts⟩ := id hF
  subst hH
  have hS : va_S A s.heap s.heap [] := va_S.rf
  unfold J0_back at hJ
  refine lv_aload_n hx hb dX0_back_0 rfl (lv_at hl 0 rfl) ?_
  refine va_get (D := D) (ci := 0) (v := .int f0) (C := RX0) (T := TX0) (N := 4) hx hb hts in_X0 hown hK hP 0 rfl rfl 0 (by decide) (hts _ q43) (fun _ h9 => h9) rfl dX0_back_1 ?_
  refine lv_if_ne (tgt := 10) hx hb dX0_back_4 (by decide) (fun c_1 => ?_) (fun c_1 => ?_)
  · have hJ := jf hJ c_1
    refine lv_aload_n hx hb dX0_back_10 rfl (lv_at hl 0 rfl) ?_
    refine lv_dup hx hb dX0_back_11 rfl ?_
    refine va_get (D := D) (ci := 0) (v := .int f0) (C := RX0) (T := TX0) (N := 4) hx hb hts in_X0 hown hK hP 0 rfl rfl 0 (by decide) (hts _ q43) (fun _ h9 => h9) rfl dX0_back_12 ?_
    refine lv_iconst (v := 1) hx hb dX0_back_15 (by decide) ?_
    refine lv_isub hx hb dX0_back_16 ?_
    refine lv_topi (fun f0_2 ef0_2 => ?_)
    have hJ := jlet hJ ef0_2
    refine va_put (D := D) (A := A) (ci := 0) (v := .int f0_2) (ty := .int) (C := RX0) (T := TX0) (N := 4) hx hb hts in_X0 tyX0 tyX0_ok nmX0 hown hK hP (d0_of hAd) hS 0 rfl rfl 0 (by decide) (hts _ q43) (fun _ h9 => h9) rfl (by decide +kernel) rfl rfl (Nat.le_of_ble_eq_true rfl) dX0_back_17 (fun H locs hP _ hS => ?_)
    have hP : va_P D vwCl (W0 h0 hk dA f0_2 ks f2 f3) H := hP
    refine lv_aload_n hx hb dX0_back_20 rfl (lv_at hl 0 rfl) ?_
    refine va_get (D := D) (ci := 0) (v := .ref hk) (C := RX0) (T := TX0) (N := 4) hx hb hts in_X0 hown hK hP 0 rfl rfl 1 (by decide) (hts _ q44) (fun _ h9 => h9) rfl dX0_back_21 ?_
    refine lv_aload_n hx hb dX0_back_24 rfl (lv_at hl 0 rfl) ?_
    refine va_get (D := D) (ci := 0) (v := .int f0_2) (C := RX0) (T := TX0) (N := 4) hx hb hts in_X0 hown hK hP 0 rfl rfl 0 (by decide) (hts _ q43) (fun _ h9 => h9) rfl dX0_back_25 ?_
    obtain ⟨g_3, hJ⟩ := jg hJ
    refine va_iald hx hb hK hP 1 0 rfl rfl g_3 dX0_back_28 ?_
    obtain ⟨rfl, rfl⟩ := jp2 hJ
    exact wr_iret hF hr hlk hP hS dX0_back_29 rfl rfl
  · have hJ := jt hJ c_1
    refine lv_bipush (v := -4) hx hb dX0_back_7 (by decide) ?_
    obtain ⟨rfl, rfl⟩ := jp2 hJ
    exact wr_iret hF hr hlk hP hS dX0_back_9 rfl rfl
/-! ShortestDigits.clear()V -/
def J0_clear (f0 : Int32) : Option Int32 :=
  some (0 : Int32)
set_option maxHeartbeats 4000000 in
set_option maxRecDepth 100000 in
theorem m0_clear (l : Launch) (D : va_G) (H0 : Heap) (h0 hk : Nat) (dA : ClassId) (f0 : Int32) (ks : Nat → Int32) (f2 : Int32) (f3 : Int32) (A : Nat → Prop) (hAd : dA0 A h0 hk) (hP : va_P D vwCl (W0 h0 hk dA f0 ks f2 f3) H0)  (gf0 : Int32) (hJ : J0_clear f0 = some gf0) : Met l yX0_clear (ws_ yX0_clear cX0_clear 1 none) ({ frames := 0, cells := 0, slots := 0, locals := 0 } : Room) (roP D [(dA, .int)] H0 [.ref h0]) (wrQ D (W0 h0 hk dA gf0 ks f2 f3) A none) 0 0 A := by
  refine ro_enter (by decide) (Nat.le_of_ble_eq_true rfl) ?_
  intro p e s m below meth c hF hr hlk hH hK ls hl
  have hl : lv_has ls 1 [(0, .ref h0)] := hl
  obtain ⟨hx, hb, hml, hown, hts⟩ := id hF
  subst hH
  have hS : va_S A s.heap s.heap [] := va_S.rf
  unfold J0_clear at hJ
  refine lv_aload_n hx hb dX0_clear_0 rfl (lv_at hl 0 rfl) ?_
  refine lv_iconst (v := 0) hx hb dX0_clear_1 (by decide) ?_
  refine va_put (D := D) (A := A) (ci := 0) (v := .int (0 : Int32)) (ty := .int) (C := RX0) (T := TX0) (N := 4) hx hb hts in_X0 tyX0 tyX0_ok nmX0 hown hK hP (d0_of hAd) hS 0 rfl rfl 0 (by decide) (hts _ q43) (fun _ h9 => h9) rfl (by decide +kernel) rfl rfl (Nat.le_of_ble_eq_true rfl) dX0_clear_2 (fun H locs hP _ hS => ?_)
  have hP : va_P D vwCl (W0 h0 hk dA (0 : Int32) ks f2 f3) H := hP
  obtain rfl := Option.some.inj hJ
  exact wr_vret hF hr hlk hP hS dX0_clear_5 rfl
end
section
set_option maxRecDepth 100000
/-! ShortestDigitsModel.isCode(I)Z -/
def J1_isCode (p1 : Int32) : Option Int32 :=
  if p1 < 0 then
    some (0 : Int32)
  else
    if (1023 : Int32) < p1 then
      some (0 : Int32)
    else
      some (1 : Int32)
set_option maxHeartbeats 4000000 in
set_option maxRecDepth 100000 in
theorem m1_isCode (l : Launch) (D : va_G) (tys : List (ClassId × FieldType)) (H0 : Heap) (h0 : Nat) (hR : xR D H0 h0 1) (p1 : Int32) (r : Int32) (hJ : J1_isCode p1 = some r) : Met l yX1_isCode (ws_ yX1_isCode cX1_isCode 2 (some .boolean)) ({ frames := 0, cells := 0, slots := 0, locals := 0 } : Room) (roP D tys H0 [.ref h0, .int p1]) (roQ (.int r)) 0 0 noA := by
  refine ro_enter (by decide) (Nat.le_of_ble_eq_true rfl) ?_
  intro p e s m below meth c hF hr hlk hH hK ls hl
  have hl : lv_has ls 2 [(0, .ref h0), (1, .int p1)] := hl
  obtain ⟨hx, hb, hml, hown, hts⟩ := id hF
  unfold J1_isCode at hJ
  refine lv_iload_n hx hb dX1_isCode_0 rfl (lv_at hl 1 rfl) ?_
  refine lv_if_lt (tgt := 15) hx hb dX1_isCode_1 (by decide) (fun c_1 => ?_) (fun c_1 => ?_)
  · have hJ := jt hJ c_1
    refine lv_iconst (v := 0) hx hb dX1_isCode_15 (by decide) ?_
    exact ro_zret hF hr hlk hH dX1_isCode_16 rfl hJ
  · have hJ := jf hJ c_1
    refine lv_iload_n hx hb dX1_isCode_4 rfl (lv_at hl 1 rfl) ?_
    refine lv_sipush (v := 1023) hx hb dX1_isCode_5 (by decide) ?_
    refine lv_icmp_gt (tgt := 15) hx hb dX1_isCode_8 (by decide) (fun c_2 => ?_) (fun c_2 => ?_)
    · have hJ := jt hJ c_2
      refine lv_iconst (v := 0) hx hb dX1_isCode_15 (by decide) ?_
      exact ro_zret hF hr hlk hH dX1_isCode_16 rfl hJ
    · have hJ := jf hJ c_2
      refine lv_iconst (v := 1) hx hb dX1_isCode_11 (by decide) ?_
      refine lv_goto (tgt := 16) hx hb dX1_isCode_12 (by decide) ?_
      exact ro_zret hF hr hlk hH dX1_isCode_16 rfl hJ
theorem k1_isCode {p : Program} {l : Launch} {e : Env} {R : Room} {s : State} {m : MethodId} {args : Array Value} {below : List Frame} {meth : Method} {c : Code} {H : Heap} {locs : List Loc} {cells slots : Nat} {Q : State → Prop} {cc : ByteArray} {nL pc : Nat} {ls : Array Slot} {rest : List Value} {D : va_G} {tys : List (ClassId × FieldType)} {b : Nat} (hF : CallFix p m c cc nL s args lw_all RX1) (hr : xR D H b 1) (hK : va_K D vwCl tys s) {p1 : Int32} {r : Int32} (hJ : J1_isCode p1 = some r) (hsz : ls.size = nL) (hW : (rest.map fun v => v.category).sum ≤ 8) (hdg : decode cc pc = .ok (.invokevirtual 25, 3)) (hR : 0 + 1 ≤ R.frames ∧ 8 + (2 + 11) + 0 ≤ R.locals) (hf : cells ≤ R.cells ∧ slots ≤ R.slots) (kk : W p l e R s m args below meth c H locs cells slots Q (F0 m (pc + 3) ls (.int r :: rest))) : W p l e R s m args below meth c H locs cells slots Q (F0 m pc ls (.int p1 :: .ref b :: rest)) :=
  ro_call (n := 1) (ci := 1) hF (m1_isCode l D tys H b hr p1 r hJ) (lw_V q238 q240 qs21 q34 q241) (by decide +kernel) rfl rfl hR hr hK rfl rfl rfl hsz rfl hW hdg hf kk
/-! ShortestDigitsModel.isDecimal(II)Z -/
def J1_isDecimal (p1 : Int32) (p2 : Int32) : Option Int32 :=
  if p1 < 0 then
    some (0 : Int32)
  else
    if (99999999 : Int32) < p1 then
      some (0 : Int32)
    else
      if p2 < (-12 : Int32) then
        some (0 : Int32)
      else
        if (6 : Int32) < p2 then
          some (0 : Int32)
        else
          some (1 : Int32)
set_option maxHeartbeats 4000000 in
set_option maxRecDepth 100000 in
theorem m1_isDecimal (l : Launch) (D : va_G) (tys : List (ClassId × FieldType)) (H0 : Heap) (h0 : Nat) (hR : xR D H0 h0 1) (p1 : Int32) (p2 : Int32) (r : Int32) (hJ : J1_isDecimal p1 p2 = some r) : Met l yX1_isDecimal (ws_ yX1_isDecimal cX1_isDecimal 3 (some .boolean)) ({ frames := 0, cells := 0, slots := 0, locals := 0 } : Room) (roP D tys H0 [.ref h0, .int p1, .int p2]) (roQ (.int r)) 0 0 noA := by
  refine ro_enter (by decide) (Nat.le_of_ble_eq_true rfl) ?_
  intro p e s m below meth c hF hr hlk hH hK ls hl
  have hl : lv_has ls 3 [(0, .ref h0), (1, .int p1), (2, .int p2)] := hl
  obtain ⟨hx, hb, hml, hown, hts⟩ := id hF
  unfold J1_isDecimal at hJ
  refine lv_iload_n hx hb dX1_isDecimal_0 rfl (lv_at hl 1 rfl) ?_
  refine lv_if_lt (tgt := 26) hx hb dX1_isDecimal_1 (by decide) (fun c_1 => ?_) (fun c_1 => ?_)
  · have hJ := jt hJ c_1
    refine lv_iconst (v := 0) hx hb dX1_isDecimal_26 (by decide) ?_
    exact ro_zret hF hr hlk hH dX1_isDecimal_27 rfl hJ
  · have hJ := jf hJ c_1
    refine lv_iload_n hx hb dX1_isDecimal_4 rfl (lv_at hl 1 rfl) ?_
    refine lv_ldc hx hb hown (hts _ q250) dX1_isDecimal_5 ?_
    refine lv_icmp_gt (tgt := 26) hx hb dX1_isDecimal_7 (by decide) (fun c_2 => ?_) (fun c_2 => ?_)
    · have hJ := jt hJ c_2
      refine lv_iconst (v := 0) hx hb dX1_isDecimal_26 (by decide) ?_
      exact ro_zret hF hr hlk hH dX1_isDecimal_27 rfl hJ
    · have hJ := jf hJ c_2
      refine lv_iload_n hx hb dX1_isDecimal_10 rfl (lv_at hl 2 rfl) ?_
      refine lv_bipush (v := -12) hx hb dX1_isDecimal_11 (by decide) ?_
      refine lv_icmp_lt (tgt := 26) hx hb dX1_isDecimal_13 (by decide) (fun c_3 => ?_) (fun c_3 => ?_)
      · have hJ := jt hJ c_3
        refine lv_iconst (v := 0) hx hb dX1_isDecimal_26 (by decide) ?_
        exact ro_zret hF hr hlk hH dX1_isDecimal_27 rfl hJ
      · have hJ := jf hJ c_3
        refine lv_iload_n hx hb dX1_isDecimal_16 rfl (lv_at hl 2 rfl) ?_
        refine lv_bipush (v := 6) hx hb dX1_isDecimal_17 (by decide) ?_
        refine lv_icmp_gt (tgt := 26) hx hb dX1_isDecimal_19 (by decide) (fun c_4 => ?_) (fun c_4 => ?_)
        · have hJ := jt hJ c_4
          refine lv_iconst (v := 0) hx hb dX1_isDecimal_26 (by decide) ?_
          exact ro_zret hF hr hlk hH dX1_isDecimal_27 rfl hJ
        · have hJ := jf hJ c_4
          refine lv_iconst (v := 1) hx hb dX1_isDecimal_22 (by decide) ?_
          refine lv_goto (tgt := 27) hx hb dX1_isDecimal_23 (by decide) ?_
          exact ro_zret hF hr hlk hH dX1_isDecimal_27 rfl hJ
theorem k1_isDecimal {p : Program} {l : Launch} {e : Env} {R : Room} {s : State} {m : MethodId} {args : Array Value} {below : List Frame} {meth : Method} {c : Code} {H : Heap} {locs : List Loc} {cells slots : Nat} {Q : State → Prop} {cc : ByteArray} {nL pc : Nat} {ls : Array Slot} {rest : List Value} {D : va_G} {tys : List (ClassId × FieldType)} {b : Nat} (hF : CallFix p m c cc nL s args lw_all RX1) (hr : xR D H b 1) (hK : va_K D vwCl tys s) {p1 : Int32} {p2 : Int32} {r : Int32} (hJ : J1_isDecimal p1 p2 = some r) (hsz : ls.size = nL) (hW : (rest.map fun v => v.category).sum ≤ 8) (hdg : decode cc pc = .ok (.invokevirtual 29, 3)) (hR : 0 + 1 ≤ R.frames ∧ 8 + (3 + 11) + 0 ≤ R.locals) (hf : cells ≤ R.cells ∧ slots ≤ R.slots) (kk : W p l e R s m args below meth c H locs cells slots Q (F0 m (pc + 3) ls (.int r :: rest))) : W p l e R s m args below meth c H locs cells slots Q (F0 m pc ls (.int p2 :: .int p1 :: .ref b :: rest)) :=
  ro_call (n := 2) (ci := 1) hF (m1_isDecimal l D tys H b hr p1 p2 r hJ) (lw_V q246 q248 qs22 q34 q249) (by decide +kernel) rfl rfl hR hr hK rfl rfl rfl hsz rfl hW hdg hf kk
/-! ShortestDigitsModel.power(I)J -/
def L1_power_5 : Nat → Int32 → Int64 → Int32 → Option Int64
  | 0, _, _, _ => none
  | k + 1, x1, x2, x4 =>
    if x1 ≤ x4 then
      some x2
    else
      jL ((10 : Int64) * x2) (fun (x2_2 : Int64) =>
      jL (x4 + (1 : Int32)) (fun (x4_3 : Int32) =>
      L1_power_5 k x1 x2_2 x4_3))
def J1_power (p1 : Int32) : Option Int64 :=
  L1_power_5 FU p1 (1 : Int64) (0 : Int32)
set_option maxHeartbeats 4000000 in
set_option maxRecDepth 100000 in
theorem l1_power_5 {p : Program} {l : Launch} {e : Env} {s : State} {m : MethodId} {below : List Frame} {meth : Method} {c : Code} {D : va_G} {tys : List (ClassId × FieldType)} {H0 : Heap} {h0 : Nat} (hR : xR D H0 h0 1) (p1 : Int32) (hF : CallFix p m c cX1_power 5 s ([.ref h0, .int p1] : List Value).toArray lw_all RX1) (hr : meth.sig.returnType = (some .long)) (hlk : meth.locks = false) (hH : s.heap = H0) (hK : va_K D vwCl tys s) (r : Int64) :
    ∀ (k : Nat) (x1 : Int32) (x2 : Int64) (x4 : Int32), L1_power_5 k x1 x2 x4 = some r → ∀ (ls : Array Slot), lv_has ls 5 [(0, .ref h0), (1, .int x1), (2, .long x2), (4, .int x4)] → W p l e ({ frames := 0, cells := 0, slots := 0, locals := 0 } : Room) s m ([.ref h0, .int p1] : List Value).toArray below meth c H0 [] 0 0 (MQ below (roQ (.long r)) ([.ref h0, .int p1] : List Value).toArray s 0 0 noA) (F0 m 5 ls []) := by
  obtain ⟨hx, hb, hml, hown, hts⟩ := id hF
  intro k
  induction k with
  | zero =>
    intro x1 x2 x4 hJ
    rw [L1_power_5] at hJ
    cases hJ
  | succ k ih =>
    intro x1 x2 x4 hJ ls hl
    rw [L1_power_5] at hJ
    refine lv_iload hx hb dX1_power_5 (lv_at hl 3 rfl) ?_
    refine lv_iload_n hx hb dX1_power_7 rfl (lv_at hl 1 rfl) ?_
    refine lv_icmp_ge (tgt := 23) hx hb dX1_power_8 (by decide) (fun c_1 => ?_) (fun c_1 => ?_)
    · have hJ := jt hJ c_1
      refine lv_lload_n hx hb dX1_power_23 rfl (lv_at hl 2 rfl) ?_
      exact ro_lret hF hr hlk hH dX1_power_24 hJ
    · have hJ := jf hJ c_1
      refine lv_ldc2 hx hb hown (hts _ q259) dX1_power_11 ?_
      refine lv_lload_n hx hb dX1_power_14 rfl (lv_at hl 2 rfl) ?_
      refine lv_lmul hx hb dX1_power_15 ?_
      refine lv_topl (fun x2_2 ex2_2 => ?_)
      have hJ := jlet hJ ex2_2
      refine lv_lstore_n (lv' := [(2, .long x2_2), (0, .ref h0), (1, .int x1), (4, .int x4)]) hx hb dX1_power_16 rfl hl (by decide) rfl (fun ls hl => ?_)
      obtain ⟨x4_3, ex4_3⟩ : ∃ y : Int32, y = x4 + (1 : Int32) := ⟨_, rfl⟩
      have hJ := jlet hJ ex4_3
      refine lv_iinc (v := x4_3) (lv' := [(4, .int x4_3), (2, .long x2_2), (0, .ref h0), (1, .int x1)]) hx hb dX1_power_17 hl (k := 3) rfl (by rw [ex4_3]; rfl) (by decide) rfl (fun ls hl => ?_)
      refine lv_goto (tgt := 5) hx hb dX1_power_20 (by decide) ?_
      exact ih x1 x2_2 x4_3 hJ ls (lv_sub hl [2, 3, 1, 0] rfl)
set_option maxHeartbeats 4000000 in
set_option maxRecDepth 100000 in
theorem m1_power (l : Launch) (D : va_G) (tys : List (ClassId × FieldType)) (H0 : Heap) (h0 : Nat) (hR : xR D H0 h0 1) (p1 : Int32) (r : Int64) (hJ : J1_power p1 = some r) : Met l yX1_power (ws_ yX1_power cX1_power 5 (some .long)) ({ frames := 0, cells := 0, slots := 0, locals := 0 } : Room) (roP D tys H0 [.ref h0, .int p1]) (roQ (.long r)) 0 0 noA := by
  refine ro_enter (by decide) (Nat.le_of_ble_eq_true rfl) ?_
  intro p e s m below meth c hF hr hlk hH hK ls hl
  have hl : lv_has ls 5 [(0, .ref h0), (1, .int p1)] := hl
  obtain ⟨hx, hb, hml, hown, hts⟩ := id hF
  unfold J1_power at hJ
  refine lv_lconst (v := 1) hx hb dX1_power_0 (by decide) ?_
  refine lv_lstore_n (lv' := [(2, .long (1 : Int64)), (0, .ref h0), (1, .int p1)]) hx hb dX1_power_1 rfl hl (by decide) rfl (fun ls hl => ?_)
  refine lv_iconst (v := 0) hx hb dX1_power_2 (by decide) ?_
  refine lv_istore (lv' := [(4, .int (0 : Int32)), (2, .long (1 : Int64)), (0, .ref h0), (1, .int p1)]) hx hb dX1_power_3 hl (by decide) rfl (fun ls hl => ?_)
  exact l1_power_5 hR p1 hF hr hlk hH hK r FU p1 (1 : Int64) (0 : Int32) hJ ls (lv_sub hl [2, 3, 1, 0] rfl)
theorem k1_power {p : Program} {l : Launch} {e : Env} {R : Room} {s : State} {m : MethodId} {args : Array Value} {below : List Frame} {meth : Method} {c : Code} {H : Heap} {locs : List Loc} {cells slots : Nat} {Q : State → Prop} {cc : ByteArray} {nL pc : Nat} {ls : Array Slot} {rest : List Value} {D : va_G} {tys : List (ClassId × FieldType)} {b : Nat} (hF : CallFix p m c cc nL s args lw_all RX1) (hr : xR D H b 1) (hK : va_K D vwCl tys s) {p1 : Int32} {r : Int64} (hJ : J1_power p1 = some r) (hsz : ls.size = nL) (hW : (rest.map fun v => v.category).sum ≤ 8) (hdg : decode cc pc = .ok (.invokevirtual 19, 3)) (hR : 0 + 1 ≤ R.frames ∧ 8 + (5 + 11) + 0 ≤ R.locals) (hf : cells ≤ R.cells ∧ slots ≤ R.slots) (kk : W p l e R s m args below meth c H locs cells slots Q (F0 m (pc + 3) ls (.long r :: rest))) : W p l e R s m args below meth c H locs cells slots Q (F0 m pc ls (.int p1 :: .ref b :: rest)) :=
  ro_call (n := 1) (ci := 1) hF (m1_power l D tys H b hr p1 r hJ) (lw_V q255 q257 qs24 q34 q258) (by decide +kernel) rfl rfl hR hr hK rfl rfl rfl hsz rfl hW hdg hf kk
/-! ShortestDigitsModel.sign(JII)I -/
def J1_sign (p1 : Int64) (p2 : Int32) (p3 : Int32) : Option Int32 :=
  Option.bind (
    if 0 ≤ p3 then
      some p1
    else
      Option.bind (J1_power (-p3)) (fun (r_4 : Int64) =>
      some (p1 * r_4))) (fun (v_1 : Int64) =>
  Option.bind (
    if 0 ≤ p3 then
      Option.bind (J1_power p3) (fun (r_8 : Int64) =>
      some (((1024 : Int64) * (p2.toInt64)) * r_8))
    else
      some ((1024 : Int64) * (p2.toInt64))) (fun (v_5 : Int64) =>
  if v_5 ≤ v_1 then
    if v_1 ≤ v_5 then
      some (0 : Int32)
    else
      some (1 : Int32)
  else
    some (-1 : Int32)))
set_option maxHeartbeats 4000000 in
set_option maxRecDepth 100000 in
theorem m1_sign (l : Launch) (D : va_G) (tys : List (ClassId × FieldType)) (H0 : Heap) (h0 : Nat) (hR : xR D H0 h0 1) (p1 : Int64) (p2 : Int32) (p3 : Int32) (r : Int32) (hJ : J1_sign p1 p2 p3 = some r) : Met l yX1_sign (ws_ yX1_sign cX1_sign 9 (some .int)) ({ frames := 1, cells := 0, slots := 0, locals := 24 } : Room) (roP D tys H0 [.ref h0, .long p1, .int p2, .int p3]) (roQ (.int r)) 0 0 noA := by
  refine ro_enter (by decide) (Nat.le_of_ble_eq_true rfl) ?_
  intro p e s m below meth c hF hr hlk hH hK ls hl
  have hl : lv_has ls 9 [(0, .ref h0), (1, .long p1), (3, .int p2), (4, .int p3)] := hl
  obtain ⟨hx, hb, hml, hown, hts⟩ := id hF
  unfold J1_sign at hJ
  obtain ⟨v_1, hR0, hJ⟩ := jb hJ
  refine jn 9 [(0, .ref h0), (1, .long p1), (3, .int p2), (4, .int p3)] 18 [.long v_1] ?_ (fun K18 => ?_)
  · intro ls hl
    refine lv_lstore (lv' := [(5, .long v_1), (0, .ref h0), (1, .long p1), (3, .int p2), (4, .int p3)]) hx hb dX1_sign_18 hl (by decide) rfl (fun ls hl => ?_)
    obtain ⟨v_5, hR20, hJ⟩ := jb hJ
    refine jn 9 [(5, .long v_1), (0, .ref h0), (1, .long p1), (3, .int p2), (4, .int p3)] 47 [.long v_5] ?_ (fun K47 => ?_)
    · intro ls hl
      refine lv_lstore (lv' := [(7, .long v_5), (5, .long v_1), (0, .ref h0), (1, .long p1), (3, .int p2), (4, .int p3)]) hx hb dX1_sign_47 hl (by decide) rfl (fun ls hl => ?_)
      refine lv_lload hx hb dX1_sign_49 (lv_at hl 1 rfl) ?_
      refine lv_lload hx hb dX1_sign_51 (lv_at hl 0 rfl) ?_
      refine lc_ge (tgt := 61) hx hb dX1_sign_53 dX1_sign_54 (by decide) (fun c_9 => ?_) (fun c_9 => ?_)
      · have hJ := jt hJ c_9
        refine lv_lload hx hb dX1_sign_61 (lv_at hl 1 rfl) ?_
        refine lv_lload hx hb dX1_sign_63 (lv_at hl 0 rfl) ?_
        refine lc_le (tgt := 73) hx hb dX1_sign_65 dX1_sign_66 (by decide) (fun c_10 => ?_) (fun c_10 => ?_)
        · have hJ := jt hJ c_10
          refine lv_iconst (v := 0) hx hb dX1_sign_73 (by decide) ?_
          exact ro_iret hF hr hlk hH dX1_sign_74 hJ
        · have hJ := jf hJ c_10
          refine lv_iconst (v := 1) hx hb dX1_sign_69 (by decide) ?_
          refine lv_goto (tgt := 74) hx hb dX1_sign_70 (by decide) ?_
          exact ro_iret hF hr hlk hH dX1_sign_74 hJ
      · have hJ := jf hJ c_9
        refine lv_iconst (v := -1) hx hb dX1_sign_57 (by decide) ?_
        refine lv_goto (tgt := 74) hx hb dX1_sign_58 (by decide) ?_
        exact ro_iret hF hr hlk hH dX1_sign_74 hJ
    · have hJ := hR20
      refine lv_iload hx hb dX1_sign_20 (lv_at hl 4 rfl) ?_
      refine lv_if_ge (tgt := 34) hx hb dX1_sign_22 (by decide) (fun c_6 => ?_) (fun c_6 => ?_)
      · have hJ := jt hJ c_6
        refine lv_ldc2 hx hb hown (hts _ q260) dX1_sign_34 ?_
        refine lv_iload_n hx hb dX1_sign_37 rfl (lv_at hl 3 rfl) ?_
        refine lv_i2l hx hb dX1_sign_38 rfl ?_
        refine lv_lmul hx hb dX1_sign_39 ?_
        refine lv_aload_n hx hb dX1_sign_40 rfl (lv_at hl 1 rfl) ?_
        refine lv_iload hx hb dX1_sign_41 (lv_at hl 4 rfl) ?_
        obtain ⟨r_8, h_7, hJ⟩ := jb hJ
        refine k1_power hF hR hK h_7 hl.1 (Nat.le_of_ble_eq_true rfl) dX1_sign_43 ⟨Nat.le_of_ble_eq_true rfl, Nat.le_of_ble_eq_true rfl⟩ ⟨Nat.zero_le _, Nat.zero_le _⟩ ?_
        refine lv_lmul hx hb dX1_sign_46 ?_
        obtain rfl := Option.some.inj hJ
        exact K47 ls (lv_sub hl [0, 1, 2, 3, 4] rfl)
      · have hJ := jf hJ c_6
        refine lv_ldc2 hx hb hown (hts _ q260) dX1_sign_25 ?_
        refine lv_iload_n hx hb dX1_sign_28 rfl (lv_at hl 3 rfl) ?_
        refine lv_i2l hx hb dX1_sign_29 rfl ?_
        refine lv_lmul hx hb dX1_sign_30 ?_
        refine lv_goto (tgt := 47) hx hb dX1_sign_31 (by decide) ?_
        obtain rfl := Option.some.inj hJ
        exact K47 ls (lv_sub hl [0, 1, 2, 3, 4] rfl)
  · have hJ := hR0
    refine lv_iload hx hb dX1_sign_0 (lv_at hl 3 rfl) ?_
    refine lv_if_ge (tgt := 17) hx hb dX1_sign_2 (by decide) (fun c_2 => ?_) (fun c_2 => ?_)
    · have hJ := jt hJ c_2
      refine lv_lload_n hx hb dX1_sign_17 rfl (lv_at hl 1 rfl) ?_
      obtain rfl := Option.some.inj hJ
      exact K18 ls (lv_sub hl [0, 1, 2, 3] rfl)
    · have hJ := jf hJ c_2
      refine lv_lload_n hx hb dX1_sign_5 rfl (lv_at hl 1 rfl) ?_
      refine lv_aload_n hx hb dX1_sign_6 rfl (lv_at hl 0 rfl) ?_
      refine lv_iload hx hb dX1_sign_7 (lv_at hl 3 rfl) ?_
      refine lv_ineg hx hb dX1_sign_9 ?_
      obtain ⟨r_4, h_3, hJ⟩ := jb hJ
      refine k1_power hF hR hK h_3 hl.1 (Nat.le_of_ble_eq_true rfl) dX1_sign_10 ⟨Nat.le_of_ble_eq_true rfl, Nat.le_of_ble_eq_true rfl⟩ ⟨Nat.zero_le _, Nat.zero_le _⟩ ?_
      refine lv_lmul hx hb dX1_sign_13 ?_
      refine lv_goto (tgt := 18) hx hb dX1_sign_14 (by decide) ?_
      obtain rfl := Option.some.inj hJ
      exact K18 ls (lv_sub hl [0, 1, 2, 3] rfl)
theorem k1_sign {p : Program} {l : Launch} {e : Env} {R : Room} {s : State} {m : MethodId} {args : Array Value} {below : List Frame} {meth : Method} {c : Code} {H : Heap} {locs : List Loc} {cells slots : Nat} {Q : State → Prop} {cc : ByteArray} {nL pc : Nat} {ls : Array Slot} {rest : List Value} {D : va_G} {tys : List (ClassId × FieldType)} {b : Nat} (hF : CallFix p m c cc nL s args lw_all RX1) (hr : xR D H b 1) (hK : va_K D vwCl tys s) {p1 : Int64} {p2 : Int32} {p3 : Int32} {r : Int32} (hJ : J1_sign p1 p2 p3 = some r) (hsz : ls.size = nL) (hW : (rest.map fun v => v.category).sum ≤ 8) (hdg : decode cc pc = .ok (.invokevirtual 33, 3)) (hR : 1 + 1 ≤ R.frames ∧ 8 + (9 + 11) + 24 ≤ R.locals) (hf : cells ≤ R.cells ∧ slots ≤ R.slots) (kk : W p l e R s m args below meth c H locs cells slots Q (F0 m (pc + 3) ls (.int r :: rest))) : W p l e R s m args below meth c H locs cells slots Q (F0 m pc ls (.int p3 :: .int p2 :: .long p1 :: .ref b :: rest)) :=
  ro_call (n := 3) (ci := 1) hF (m1_sign l D tys H b hr p1 p2 p3 r hJ) (lw_V q251 q253 qs23 q34 q254) (by decide +kernel) rfl rfl hR hr hK rfl rfl rfl hsz rfl hW hdg hf kk
/-! ShortestDigitsModel.digitsOf(I)I -/
def L1_digitsOf_7 : Nat → Int32 → Int32 → Int32 → Option Int32
  | 0, _, _, _ => none
  | k + 1, x1, x2, x3 =>
    if x3 ≤ 0 then
      some x2
    else
      jL (x2 + (1 : Int32)) (fun (x2_3 : Int32) =>
      jL (x3 / (10 : Int32)) (fun (x3_4 : Int32) =>
      L1_digitsOf_7 k x1 x2_3 x3_4))
def J1_digitsOf (p1 : Int32) : Option Int32 :=
  jL (p1 / (10 : Int32)) (fun (x3_1 : Int32) =>
  L1_digitsOf_7 FU p1 (1 : Int32) x3_1)
set_option maxHeartbeats 4000000 in
set_option maxRecDepth 100000 in
theorem l1_digitsOf_7 {p : Program} {l : Launch} {e : Env} {s : State} {m : MethodId} {below : List Frame} {meth : Method} {c : Code} {D : va_G} {tys : List (ClassId × FieldType)} {H0 : Heap} {h0 : Nat} (hR : xR D H0 h0 1) (p1 : Int32) (hF : CallFix p m c cX1_digitsOf 4 s ([.ref h0, .int p1] : List Value).toArray lw_all RX1) (hr : meth.sig.returnType = (some .int)) (hlk : meth.locks = false) (hH : s.heap = H0) (hK : va_K D vwCl tys s) (r : Int32) :
    ∀ (k : Nat) (x1 : Int32) (x2 : Int32) (x3 : Int32), L1_digitsOf_7 k x1 x2 x3 = some r → ∀ (ls : Array Slot), lv_has ls 4 [(0, .ref h0), (1, .int x1), (2, .int x2), (3, .int x3)] → W p l e ({ frames := 0, cells := 0, slots := 0, locals := 0 } : Room) s m ([.ref h0, .int p1] : List Value).toArray below meth c H0 [] 0 0 (MQ below (roQ (.int r)) ([.ref h0, .int p1] : List Value).toArray s 0 0 noA) (F0 m 7 ls []) := by
  obtain ⟨hx, hb, hml, hown, hts⟩ := id hF
  intro k
  induction k with
  | zero =>
    intro x1 x2 x3 hJ
    rw [L1_digitsOf_7] at hJ
    cases hJ
  | succ k ih =>
    intro x1 x2 x3 hJ ls hl
    rw [L1_digitsOf_7] at hJ
    refine lv_iload_n hx hb dX1_digitsOf_7 rfl (lv_at hl 3 rfl) ?_
    refine lv_if_le (tgt := 22) hx hb dX1_digitsOf_8 (by decide) (fun c_2 => ?_) (fun c_2 => ?_)
    · have hJ := jt hJ c_2
      refine lv_iload_n hx hb dX1_digitsOf_22 rfl (lv_at hl 2 rfl) ?_
      exact ro_iret hF hr hlk hH dX1_digitsOf_23 hJ
    · have hJ := jf hJ c_2
      obtain ⟨x2_3, ex2_3⟩ : ∃ y : Int32, y = x2 + (1 : Int32) := ⟨_, rfl⟩
      have hJ := jlet hJ ex2_3
      refine lv_iinc (v := x2_3) (lv' := [(2, .int x2_3), (0, .ref h0), (1, .int x1), (3, .int x3)]) hx hb dX1_digitsOf_11 hl (k := 2) rfl (by rw [ex2_3]; rfl) (by decide) rfl (fun ls hl => ?_)
      refine lv_iload_n hx hb dX1_digitsOf_14 rfl (lv_at hl 3 rfl) ?_
      refine lv_bipush (v := 10) hx hb dX1_digitsOf_15 (by decide) ?_
      refine lv_idiv hx hb dX1_digitsOf_17 (by decide) ?_
      refine lv_topi (fun x3_4 ex3_4 => ?_)
      have hJ := jlet hJ ex3_4
      refine lv_istore_n (lv' := [(3, .int x3_4), (2, .int x2_3), (0, .ref h0), (1, .int x1)]) hx hb dX1_digitsOf_18 rfl hl (by decide) rfl (fun ls hl => ?_)
      refine lv_goto (tgt := 7) hx hb dX1_digitsOf_19 (by decide) ?_
      exact ih x1 x2_3 x3_4 hJ ls (lv_sub hl [2, 3, 1, 0] rfl)
set_option maxHeartbeats 4000000 in
set_option maxRecDepth 100000 in
theorem m1_digitsOf (l : Launch) (D : va_G) (tys : List (ClassId × FieldType)) (H0 : Heap) (h0 : Nat) (hR : xR D H0 h0 1) (p1 : Int32) (r : Int32) (hJ : J1_digitsOf p1 = some r) : Met l yX1_digitsOf (ws_ yX1_digitsOf cX1_digitsOf 4 (some .int)) ({ frames := 0, cells := 0, slots := 0, locals := 0 } : Room) (roP D tys H0 [.ref h0, .int p1]) (roQ (.int r)) 0 0 noA := by
  refine ro_enter (by decide) (Nat.le_of_ble_eq_true rfl) ?_
  intro p e s m below meth c hF hr hlk hH hK ls hl
  have hl : lv_has ls 4 [(0, .ref h0), (1, .int p1)] := hl
  obtain ⟨hx, hb, hml, hown, hts⟩ := id hF
  unfold J1_digitsOf at hJ
  refine lv_iconst (v := 1) hx hb dX1_digitsOf_0 (by decide) ?_
  refine lv_istore_n (lv' := [(2, .int (1 : Int32)), (0, .ref h0), (1, .int p1)]) hx hb dX1_digitsOf_1 rfl hl (by decide) rfl (fun ls hl => ?_)
  refine lv_iload_n hx hb dX1_digitsOf_2 rfl (lv_at hl 2 rfl) ?_
  refine lv_bipush (v := 10) hx hb dX1_digitsOf_3 (by decide) ?_
  refine lv_idiv hx hb dX1_digitsOf_5 (by decide) ?_
  refine lv_topi (fun x3_1 ex3_1 => ?_)
  have hJ := jlet hJ ex3_1
  refine lv_istore_n (lv' := [(3, .int x3_1), (2, .int (1 : Int32)), (0, .ref h0), (1, .int p1)]) hx hb dX1_digitsOf_6 rfl hl (by decide) rfl (fun ls hl => ?_)
  exact l1_digitsOf_7 hR p1 hF hr hlk hH hK r FU p1 (1 : Int32) x3_1 hJ ls (lv_sub hl [2, 3, 1, 0] rfl)
theorem k1_digitsOf {p : Program} {l : Launch} {e : Env} {R : Room} {s : State} {m : MethodId} {args : Array Value} {below : List Frame} {meth : Method} {c : Code} {H : Heap} {locs : List Loc} {cells slots : Nat} {Q : State → Prop} {cc : ByteArray} {nL pc : Nat} {ls : Array Slot} {rest : List Value} {D : va_G} {tys : List (ClassId × FieldType)} {b : Nat} (hF : CallFix p m c cc nL s args lw_all RX1) (hr : xR D H b 1) (hK : va_K D vwCl tys s) {p1 : Int32} {r : Int32} (hJ : J1_digitsOf p1 = some r) (hsz : ls.size = nL) (hW : (rest.map fun v => v.category).sum ≤ 8) (hdg : decode cc pc = .ok (.invokevirtual 49, 3)) (hR : 0 + 1 ≤ R.frames ∧ 8 + (4 + 11) + 0 ≤ R.locals) (hf : cells ≤ R.cells ∧ slots ≤ R.slots) (kk : W p l e R s m args below meth c H locs cells slots Q (F0 m (pc + 3) ls (.int r :: rest))) : W p l e R s m args below meth c H locs cells slots Q (F0 m pc ls (.int p1 :: .ref b :: rest)) :=
  ro_call (n := 1) (ci := 1) hF (m1_digitsOf l D tys H b hr p1 r hJ) (lw_V q289 q291 qs28 q34 q292) (by decide +kernel) rfl rfl hR hr hK rfl rfl rfl hsz rfl hW hdg hf kk
end
section
set_option maxRecDepth 100000
/-! ShortestDigitsModel.units(I)I -/
def J1_units (mv : Nat → Int32) (p1 : Int32) : Option Int32 :=
  Option.bind (J1_isCode p1) (fun (r_2 : Int32) =>
  if r_2 = 0 then
    some (-1 : Int32)
  else
    if (p1 < 0 ∨ 1025 ≤ p1.toNatClampNeg) then none else
    some (mv p1.toNatClampNeg))
set_option maxHeartbeats 4000000 in
set_option maxRecDepth 100000 in
theorem m1_units (l : Launch) (D : va_G) (H0 : Heap) (h0 hv ht : Nat) (dA : ClassId) (mv : Nat → Int32) (ks : Nat → Int32) (f2 : Int32) (f3 : Int32) (f4 : Int32) (hP : va_P D vwCl (W1 h0 hv ht dA mv ks f2 f3 f4) H0) (p1 : Int32) (r : Int32) (hJ : J1_units mv p1 = some r) : Met l yX1_units (ws_ yX1_units cX1_units 2 (some .int)) ({ frames := 1, cells := 0, slots := 0, locals := 21 } : Room) (roP D [(dA, .int)] H0 [.ref h0, .int p1]) (roQ (.int r)) 0 0 noA := by
  refine ro_enter (by decide) (Nat.le_of_ble_eq_true rfl) ?_
  intro p e s m below meth c hF hr hlk hH hK ls hl
  have hl : lv_has ls 2 [(0, .ref h0), (1, .int p1)] := hl
  obtain ⟨hx, hb, hml, hown, hts⟩ := id hF
  unfold J1_units at hJ
  refine lv_aload_n hx hb dX1_units_0 rfl (lv_at hl 0 rfl) ?_
  refine lv_iload_n hx hb dX1_units_1 rfl (lv_at hl 1 rfl) ?_
  obtain ⟨r_2, h_1, hJ⟩ := jb hJ
  refine k1_isCode hF (xR.of hP 0 rfl) hK h_1 hl.1 (Nat.le_of_ble_eq_true rfl) dX1_units_2 ⟨Nat.le_of_ble_eq_true rfl, Nat.le_of_ble_eq_true rfl⟩ ⟨Nat.zero_le _, Nat.zero_le _⟩ ?_
  refine lv_if_eq (tgt := 17) hx hb dX1_units_5 (by decide) (fun c_3 => ?_) (fun c_3 => ?_)
  · have hJ := jt hJ c_3
    refine lv_iconst (v := -1) hx hb dX1_units_17 (by decide) ?_
    exact ro_iret hF hr hlk hH dX1_units_18 hJ
  · have hJ := jf hJ c_3
    refine lv_aload_n hx hb dX1_units_8 rfl (lv_at hl 0 rfl) ?_
    refine va_get (D := D) (ci := 1) (v := .ref hv) (C := RX1) (T := TX1) (N := 5) hx hb hts in_X1 hown hK hP 0 rfl rfl 0 (by decide) (hts _ q218) (fun _ h9 => h9) rfl dX1_units_9 ?_
    refine lv_iload_n hx hb dX1_units_12 rfl (lv_at hl 1 rfl) ?_
    obtain ⟨g_4, hJ⟩ := jg hJ
    refine va_iald hx hb hK hP 1 0 rfl rfl g_4 dX1_units_13 ?_
    refine lv_goto (tgt := 18) hx hb dX1_units_14 (by decide) ?_
    exact ro_iret hF hr hlk hH dX1_units_18 hJ
/-! ShortestDigitsModel.read(II)I -/
def L1_read_13 (mv : Nat → Int32) : Nat → Int32 → Int32 → Int32 → Option Int32
  | 0, _, _, _ => none
  | k + 1, x1, x2, x3 =>
    if (1023 : Int32) ≤ x3 then
      some (1023 : Int32)
    else
      if (x3 < 0 ∨ 1025 ≤ x3.toNatClampNeg) then none else
      if ((x3 + (1 : Int32)) < 0 ∨ 1025 ≤ (x3 + (1 : Int32)).toNatClampNeg) then none else
      Option.bind (J1_sign (((mv x3.toNatClampNeg) + (mv (x3 + (1 : Int32)).toNatClampNeg)).toInt64) x1 x2) (fun (r_6 : Int32) =>
      if 0 < r_6 then
        some x3
      else
        if r_6 = 0 then
          if (x3 - x3 / (2 : Int32) * (2 : Int32)) = 0 then
            some x3
          else
            jL (x3 + (1 : Int32)) (fun (x3_11 : Int32) =>
            L1_read_13 mv k x1 x2 x3_11)
        else
          jL (x3 + (1 : Int32)) (fun (x3_9 : Int32) =>
          L1_read_13 mv k x1 x2 x3_9))
def J1_read (mv : Nat → Int32) (p1 : Int32) (p2 : Int32) : Option Int32 :=
  Option.bind (J1_isDecimal p1 p2) (fun (r_2 : Int32) =>
  if r_2 = 0 then
    some (-1 : Int32)
  else
    L1_read_13 mv FU p1 p2 (0 : Int32))
set_option maxHeartbeats 4000000 in
set_option maxRecDepth 100000 in
theorem l1_read_13 {p : Program} {l : Launch} {e : Env} {s : State} {m : MethodId} {below : List Frame} {meth : Method} {c : Code} {D : va_G} {H0 : Heap} {h0 hv ht : Nat} {dA : ClassId} (mv : Nat → Int32) (ks : Nat → Int32) (f2 : Int32) (f3 : Int32) (f4 : Int32) (hP : va_P D vwCl (W1 h0 hv ht dA mv ks f2 f3 f4) H0) (p1 : Int32) (p2 : Int32) (hF : CallFix p m c cX1_read 5 s ([.ref h0, .int p1, .int p2] : List Value).toArray lw_all RX1) (hr : meth.sig.returnType = (some .int)) (hlk : meth.locks = false) (hH : s.heap = H0) (hK : va_K D vwCl [(dA, .int)] s) (r : Int32) :
    ∀ (k : Nat) (x1 : Int32) (x2 : Int32) (x3 : Int32), L1_read_13 mv k x1 x2 x3 = some r → ∀ (ls : Array Slot), lv_has ls 5 [(0, .ref h0), (1, .int x1), (2, .int x2), (3, .int x3)] → W p l e ({ frames := 2, cells := 0, slots := 0, locals := 52 } : Room) s m ([.ref h0, .int p1, .int p2] : List Value).toArray below meth c H0 [] 0 0 (MQ below (roQ (.int r)) ([.ref h0, .int p1, .int p2] : List Value).toArray s 0 0 noA) (F0 m 13 ls []) := by
  obtain ⟨hx, hb, hml, hown, hts⟩ := id hF
  intro k
  induction k with
  | zero =>
    intro x1 x2 x3 hJ
    rw [L1_read_13] at hJ
    cases hJ
  | succ k ih =>
    intro x1 x2 x3 hJ ls hl
    rw [L1_read_13] at hJ
    refine lv_iload_n hx hb dX1_read_13 rfl (lv_at hl 3 rfl) ?_
    refine lv_sipush (v := 1023) hx hb dX1_read_14 (by decide) ?_
    refine lv_icmp_ge (tgt := 68) hx hb dX1_read_17 (by decide) (fun c_4 => ?_) (fun c_4 => ?_)
    · have hJ := jt hJ c_4
      refine lv_sipush (v := 1023) hx hb dX1_read_68 (by decide) ?_
      exact ro_iret hF hr hlk hH dX1_read_71 hJ
    · have hJ := jf hJ c_4
      refine lv_aload_n hx hb dX1_read_20 rfl (lv_at hl 0 rfl) ?_
      refine lv_aload_n hx hb dX1_read_21 rfl (lv_at hl 0 rfl) ?_
      refine va_get (D := D) (ci := 1) (v := .ref hv) (C := RX1) (T := TX1) (N := 5) hx hb hts in_X1 hown hK hP 0 rfl rfl 0 (by decide) (hts _ q218) (fun _ h9 => h9) rfl dX1_read_22 ?_
      refine lv_iload_n hx hb dX1_read_25 rfl (lv_at hl 3 rfl) ?_
      obtain ⟨g_13, hJ⟩ := jg hJ
      refine va_iald hx hb hK hP 1 0 rfl rfl g_13 dX1_read_26 ?_
      refine lv_aload_n hx hb dX1_read_27 rfl (lv_at hl 0 rfl) ?_
      refine va_get (D := D) (ci := 1) (v := .ref hv) (C := RX1) (T := TX1) (N := 5) hx hb hts in_X1 hown hK hP 0 rfl rfl 0 (by decide) (hts _ q218) (fun _ h9 => h9) rfl dX1_read_28 ?_
      refine lv_iload_n hx hb dX1_read_31 rfl (lv_at hl 3 rfl) ?_
      refine lv_iconst (v := 1) hx hb dX1_read_32 (by decide) ?_
      refine lv_iadd hx hb dX1_read_33 ?_
      obtain ⟨g_12, hJ⟩ := jg hJ
      refine va_iald hx hb hK hP 1 0 rfl rfl g_12 dX1_read_34 ?_
      refine lv_iadd hx hb dX1_read_35 ?_
      refine lv_i2l hx hb dX1_read_36 rfl ?_
      refine lv_iload_n hx hb dX1_read_37 rfl (lv_at hl 1 rfl) ?_
      refine lv_iload_n hx hb dX1_read_38 rfl (lv_at hl 2 rfl) ?_
      obtain ⟨r_6, h_5, hJ⟩ := jb hJ
      refine k1_sign hF (xR.of hP 0 rfl) hK h_5 hl.1 (Nat.le_of_ble_eq_true rfl) dX1_read_39 ⟨Nat.le_of_ble_eq_true rfl, Nat.le_of_ble_eq_true rfl⟩ ⟨Nat.zero_le _, Nat.zero_le _⟩ ?_
      refine lv_istore (lv' := [(4, .int r_6), (0, .ref h0), (1, .int x1), (2, .int x2), (3, .int x3)]) hx hb dX1_read_42 hl (by decide) rfl (fun ls hl => ?_)
      refine lv_iload hx hb dX1_read_44 (lv_at hl 0 rfl) ?_
      refine lv_if_gt (tgt := 60) hx hb dX1_read_46 (by decide) (fun c_7 => ?_) (fun c_7 => ?_)
      · have hJ := jt hJ c_7
        refine lv_iload_n hx hb dX1_read_60 rfl (lv_at hl 4 rfl) ?_
        exact ro_iret hF hr hlk hH dX1_read_61 hJ
      · have hJ := jf hJ c_7
        refine lv_iload hx hb dX1_read_49 (lv_at hl 0 rfl) ?_
        refine lv_if_ne (tgt := 62) hx hb dX1_read_51 (by decide) (fun c_8 => ?_) (fun c_8 => ?_)
        · have hJ := jf hJ c_8
          obtain ⟨x3_9, ex3_9⟩ : ∃ y : Int32, y = x3 + (1 : Int32) := ⟨_, rfl⟩
          have hJ := jlet hJ ex3_9
          refine lv_iinc (v := x3_9) (lv' := [(3, .int x3_9), (4, .int r_6), (0, .ref h0), (1, .int x1), (2, .int x2)]) hx hb dX1_read_62 hl (k := 4) rfl (by rw [ex3_9]; rfl) (by decide) rfl (fun ls hl => ?_)
          refine lv_goto (tgt := 13) hx hb dX1_read_65 (by decide) ?_
          exact ih x1 x2 x3_9 hJ ls (lv_sub hl [2, 3, 4, 0] rfl)
        · have hJ := jt hJ c_8
          refine lv_iload_n hx hb dX1_read_54 rfl (lv_at hl 4 rfl) ?_
          refine lv_iconst (v := 2) hx hb dX1_read_55 (by decide) ?_
          refine lv_irem hx hb dX1_read_56 (by decide) ?_
          refine lv_if_ne (tgt := 62) hx hb dX1_read_57 (by decide) (fun c_10 => ?_) (fun c_10 => ?_)
          · have hJ := jf hJ c_10
            obtain ⟨x3_11, ex3_11⟩ : ∃ y : Int32, y = x3 + (1 : Int32) := ⟨_, rfl⟩
            have hJ := jlet hJ ex3_11
            refine lv_iinc (v := x3_11) (lv' := [(3, .int x3_11), (4, .int r_6), (0, .ref h0), (1, .int x1), (2, .int x2)]) hx hb dX1_read_62 hl (k := 4) rfl (by rw [ex3_11]; rfl) (by decide) rfl (fun ls hl => ?_)
            refine lv_goto (tgt := 13) hx hb dX1_read_65 (by decide) ?_
            exact ih x1 x2 x3_11 hJ ls (lv_sub hl [2, 3, 4, 0] rfl)
          · have hJ := jt hJ c_10
            refine lv_iload_n hx hb dX1_read_60 rfl (lv_at hl 4 rfl) ?_
            exact ro_iret hF hr hlk hH dX1_read_61 hJ
set_option maxHeartbeats 4000000 in
set_option maxRecDepth 100000 in
theorem m1_read (l : Launch) (D : va_G) (H0 : Heap) (h0 hv ht : Nat) (dA : ClassId) (mv : Nat → Int32) (ks : Nat → Int32) (f2 : Int32) (f3 : Int32) (f4 : Int32) (hP : va_P D vwCl (W1 h0 hv ht dA mv ks f2 f3 f4) H0) (p1 : Int32) (p2 : Int32) (r : Int32) (hJ : J1_read mv p1 p2 = some r) : Met l yX1_read (ws_ yX1_read cX1_read 5 (some .int)) ({ frames := 2, cells := 0, slots := 0, locals := 52 } : Room) (roP D [(dA, .int)] H0 [.ref h0, .int p1, .int p2]) (roQ (.int r)) 0 0 noA := by
  refine ro_enter (by decide) (Nat.le_of_ble_eq_true rfl) ?_
  intro p e s m below meth c hF hr hlk hH hK ls hl
  have hl : lv_has ls 5 [(0, .ref h0), (1, .int p1), (2, .int p2)] := hl
  obtain ⟨hx, hb, hml, hown, hts⟩ := id hF
  unfold J1_read at hJ
  refine lv_aload_n hx hb dX1_read_0 rfl (lv_at hl 0 rfl) ?_
  refine lv_iload_n hx hb dX1_read_1 rfl (lv_at hl 1 rfl) ?_
  refine lv_iload_n hx hb dX1_read_2 rfl (lv_at hl 2 rfl) ?_
  obtain ⟨r_2, h_1, hJ⟩ := jb hJ
  refine k1_isDecimal hF (xR.of hP 0 rfl) hK h_1 hl.1 (Nat.le_of_ble_eq_true rfl) dX1_read_3 ⟨Nat.le_of_ble_eq_true rfl, Nat.le_of_ble_eq_true rfl⟩ ⟨Nat.zero_le _, Nat.zero_le _⟩ ?_
  refine lv_if_ne (tgt := 11) hx hb dX1_read_6 (by decide) (fun c_3 => ?_) (fun c_3 => ?_)
  · have hJ := jf hJ c_3
    refine lv_iconst (v := 0) hx hb dX1_read_11 (by decide) ?_
    refine lv_istore_n (lv' := [(3, .int (0 : Int32)), (0, .ref h0), (1, .int p1), (2, .int p2)]) hx hb dX1_read_12 rfl hl (by decide) rfl (fun ls hl => ?_)
    exact l1_read_13 mv ks f2 f3 f4 hP p1 p2 hF hr hlk hH hK r FU p1 p2 (0 : Int32) hJ ls (lv_sub hl [1, 2, 3, 0] rfl)
  · have hJ := jt hJ c_3
    refine lv_iconst (v := -1) hx hb dX1_read_9 (by decide) ?_
    exact ro_iret hF hr hlk hH dX1_read_10 hJ
theorem k1_read {p : Program} {l : Launch} {e : Env} {R : Room} {s : State} {m : MethodId} {args : Array Value} {below : List Frame} {meth : Method} {c : Code} {H : Heap} {locs : List Loc} {cells slots : Nat} {Q : State → Prop} {cc : ByteArray} {nL pc : Nat} {ls : Array Slot} {rest : List Value} {D : va_G} {b hv ht : Nat} {dA : ClassId} {mv : Nat → Int32} {ks : Nat → Int32} {f2 : Int32} {f3 : Int32} {f4 : Int32} (hF : CallFix p m c cc nL s args lw_all RX1) (hP : va_P D vwCl (W1 b hv ht dA mv ks f2 f3 f4) H) (hK : va_K D vwCl [(dA, .int)] s) {p1 : Int32} {p2 : Int32} {r : Int32} (hJ : J1_read mv p1 p2 = some r) (hsz : ls.size = nL) (hW : (rest.map fun v => v.category).sum ≤ 8) (hdg : decode cc pc = .ok (.invokevirtual 89, 3)) (hR : 2 + 1 ≤ R.frames ∧ 8 + (5 + 11) + 52 ≤ R.locals) (hf : cells ≤ R.cells ∧ slots ≤ R.slots) (kk : W p l e R s m args below meth c H locs cells slots Q (F0 m (pc + 3) ls (.int r :: rest))) : W p l e R s m args below meth c H locs cells slots Q (F0 m pc ls (.int p2 :: .int p1 :: .ref b :: rest)) :=
  ro_call (n := 2) (ci := 1) hF (m1_read l D H b hv ht dA mv ks f2 f3 f4 hP p1 p2 r hJ) (lw_V q342 q243 q244 q34 q245) (by decide +kernel) rfl rfl hR (xR.of hP 0 rfl) hK rfl rfl rfl hsz rfl hW hdg hf kk
/-! ShortestDigitsModel.isName(III)Z -/
def J1_isName (mv : Nat → Int32) (p1 : Int32) (p2 : Int32) (p3 : Int32) : Option Int32 :=
  if (p1 < 0 ∨ 1025 ≤ p1.toNatClampNeg) then none else
  if ((p1 + (1 : Int32)) < 0 ∨ 1025 ≤ (p1 + (1 : Int32)).toNatClampNeg) then none else
  Option.bind (J1_sign (((mv p1.toNatClampNeg) + (mv (p1 + (1 : Int32)).toNatClampNeg)).toInt64) p2 p3) (fun (r_2 : Int32) =>
  Option.bind (
    if p1 = 0 then
      some (-1 : Int32)
    else
      if ((p1 - (1 : Int32)) < 0 ∨ 1025 ≤ (p1 - (1 : Int32)).toNatClampNeg) then none else
      if (p1 < 0 ∨ 1025 ≤ p1.toNatClampNeg) then none else
      Option.bind (J1_sign (((mv (p1 - (1 : Int32)).toNatClampNeg) + (mv p1.toNatClampNeg)).toInt64) p2 p3) (fun (r_6 : Int32) =>
      some r_6)) (fun (v_3 : Int32) =>
  Option.bind (
    if (p1 - p1 / (2 : Int32) * (2 : Int32)) = 0 then
      some (1 : Int32)
    else
      some (0 : Int32)) (fun (v_9 : Int32) =>
  Option.bind (
    if v_3 < 0 then
      some (1 : Int32)
    else
      if v_3 = 0 then
        if v_9 = 0 then
          some (0 : Int32)
        else
          some (1 : Int32)
      else
        some (0 : Int32)) (fun (v_11 : Int32) =>
  if v_11 = 0 then
    some (0 : Int32)
  else
    if 0 < r_2 then
      some (1 : Int32)
    else
      if r_2 = 0 then
        if v_9 = 0 then
          some (0 : Int32)
        else
          some (1 : Int32)
      else
        some (0 : Int32)))))
set_option maxHeartbeats 4000000 in
set_option maxRecDepth 100000 in
theorem m1_isName (l : Launch) (D : va_G) (H0 : Heap) (h0 hv ht : Nat) (dA : ClassId) (mv : Nat → Int32) (ks : Nat → Int32) (f2 : Int32) (f3 : Int32) (f4 : Int32) (hP : va_P D vwCl (W1 h0 hv ht dA mv ks f2 f3 f4) H0) (p1 : Int32) (p2 : Int32) (p3 : Int32) (r : Int32) (hJ : J1_isName mv p1 p2 p3 = some r) : Met l yX1_isName (ws_ yX1_isName cX1_isName 8 (some .boolean)) ({ frames := 2, cells := 0, slots := 0, locals := 52 } : Room) (roP D [(dA, .int)] H0 [.ref h0, .int p1, .int p2, .int p3]) (roQ (.int r)) 0 0 noA := by
  refine ro_enter (by decide) (Nat.le_of_ble_eq_true rfl) ?_
  intro p e s m below meth c hF hr hlk hH hK ls hl
  have hl : lv_has ls 8 [(0, .ref h0), (1, .int p1), (2, .int p2), (3, .int p3)] := hl
  obtain ⟨hx, hb, hml, hown, hts⟩ := id hF
  unfold J1_isName at hJ
  refine lv_aload_n hx hb dX1_isName_0 rfl (lv_at hl 0 rfl) ?_
  refine lv_aload_n hx hb dX1_isName_1 rfl (lv_at hl 0 rfl) ?_
  refine va_get (D := D) (ci := 1) (v := .ref hv) (C := RX1) (T := TX1) (N := 5) hx hb hts in_X1 hown hK hP 0 rfl rfl 0 (by decide) (hts _ q218) (fun _ h9 => h9) rfl dX1_isName_2 ?_
  refine lv_iload_n hx hb dX1_isName_5 rfl (lv_at hl 1 rfl) ?_
  obtain ⟨g_20, hJ⟩ := jg hJ
  refine va_iald hx hb hK hP 1 0 rfl rfl g_20 dX1_isName_6 ?_
  refine lv_aload_n hx hb dX1_isName_7 rfl (lv_at hl 0 rfl) ?_
  refine va_get (D := D) (ci := 1) (v := .ref hv) (C := RX1) (T := TX1) (N := 5) hx hb hts in_X1 hown hK hP 0 rfl rfl 0 (by decide) (hts _ q218) (fun _ h9 => h9) rfl dX1_isName_8 ?_
  refine lv_iload_n hx hb dX1_isName_11 rfl (lv_at hl 1 rfl) ?_
  refine lv_iconst (v := 1) hx hb dX1_isName_12 (by decide) ?_
  refine lv_iadd hx hb dX1_isName_13 ?_
  obtain ⟨g_19, hJ⟩ := jg hJ
  refine va_iald hx hb hK hP 1 0 rfl rfl g_19 dX1_isName_14 ?_
  refine lv_iadd hx hb dX1_isName_15 ?_
  refine lv_i2l hx hb dX1_isName_16 rfl ?_
  refine lv_iload_n hx hb dX1_isName_17 rfl (lv_at hl 2 rfl) ?_
  refine lv_iload_n hx hb dX1_isName_18 rfl (lv_at hl 3 rfl) ?_
  obtain ⟨r_2, h_1, hJ⟩ := jb hJ
  refine k1_sign hF (xR.of hP 0 rfl) hK h_1 hl.1 (Nat.le_of_ble_eq_true rfl) dX1_isName_19 ⟨Nat.le_of_ble_eq_true rfl, Nat.le_of_ble_eq_true rfl⟩ ⟨Nat.zero_le _, Nat.zero_le _⟩ ?_
  refine lv_istore (lv' := [(4, .int r_2), (0, .ref h0), (1, .int p1), (2, .int p2), (3, .int p3)]) hx hb dX1_isName_22 hl (by decide) rfl (fun ls hl => ?_)
  obtain ⟨v_3, hR24, hJ⟩ := jb hJ
  refine jn 8 [(4, .int r_2), (0, .ref h0), (1, .int p1), (2, .int p2), (3, .int p3)] 54 [.int v_3] ?_ (fun K54 => ?_)
  · intro ls hl
    refine lv_istore (lv' := [(5, .int v_3), (4, .int r_2), (0, .ref h0), (1, .int p1), (2, .int p2), (3, .int p3)]) hx hb dX1_isName_54 hl (by decide) rfl (fun ls hl => ?_)
    obtain ⟨v_9, hR56, hJ⟩ := jb hJ
    refine jn 8 [(5, .int v_3), (4, .int r_2), (0, .ref h0), (1, .int p1), (2, .int p2), (3, .int p3)] 67 [.int v_9] ?_ (fun K67 => ?_)
    · intro ls hl
      refine lv_istore (lv' := [(6, .int v_9), (5, .int v_3), (4, .int r_2), (0, .ref h0), (1, .int p1), (2, .int p2), (3, .int p3)]) hx hb dX1_isName_67 hl (by decide) rfl (fun ls hl => ?_)
      obtain ⟨v_11, hR69, hJ⟩ := jb hJ
      refine jn 8 [(6, .int v_9), (5, .int v_3), (4, .int r_2), (0, .ref h0), (1, .int p1), (2, .int p2), (3, .int p3)] 89 [.int v_11] ?_ (fun K89 => ?_)
      · intro ls hl
        refine lv_istore (lv' := [(7, .int v_11), (6, .int v_9), (5, .int v_3), (4, .int r_2), (0, .ref h0), (1, .int p1), (2, .int p2), (3, .int p3)]) hx hb dX1_isName_89 hl (by decide) rfl (fun ls hl => ?_)
        refine lv_iload hx hb dX1_isName_91 (lv_at hl 0 rfl) ?_
        refine lv_if_eq (tgt := 115) hx hb dX1_isName_93 (by decide) (fun c_15 => ?_) (fun c_15 => ?_)
        · have hJ := jt hJ c_15
          refine lv_iconst (v := 0) hx hb dX1_isName_115 (by decide) ?_
          exact ro_zret hF hr hlk hH dX1_isName_116 rfl hJ
        · have hJ := jf hJ c_15
          refine lv_iload hx hb dX1_isName_96 (lv_at hl 3 rfl) ?_
          refine lv_if_gt (tgt := 111) hx hb dX1_isName_98 (by decide) (fun c_16 => ?_) (fun c_16 => ?_)
          · have hJ := jt hJ c_16
            refine lv_iconst (v := 1) hx hb dX1_isName_111 (by decide) ?_
            refine lv_goto (tgt := 116) hx hb dX1_isName_112 (by decide) ?_
            exact ro_zret hF hr hlk hH dX1_isName_116 rfl hJ
          · have hJ := jf hJ c_16
            refine lv_iload hx hb dX1_isName_101 (lv_at hl 3 rfl) ?_
            refine lv_if_ne (tgt := 115) hx hb dX1_isName_103 (by decide) (fun c_17 => ?_) (fun c_17 => ?_)
            · have hJ := jf hJ c_17
              refine lv_iconst (v := 0) hx hb dX1_isName_115 (by decide) ?_
              exact ro_zret hF hr hlk hH dX1_isName_116 rfl hJ
            · have hJ := jt hJ c_17
              refine lv_iload hx hb dX1_isName_106 (lv_at hl 1 rfl) ?_
              refine lv_if_eq (tgt := 115) hx hb dX1_isName_108 (by decide) (fun c_18 => ?_) (fun c_18 => ?_)
              · have hJ := jt hJ c_18
                refine lv_iconst (v := 0) hx hb dX1_isName_115 (by decide) ?_
                exact ro_zret hF hr hlk hH dX1_isName_116 rfl hJ
              · have hJ := jf hJ c_18
                refine lv_iconst (v := 1) hx hb dX1_isName_111 (by decide) ?_
                refine lv_goto (tgt := 116) hx hb dX1_isName_112 (by decide) ?_
                exact ro_zret hF hr hlk hH dX1_isName_116 rfl hJ
      · have hJ := hR69
        refine lv_iload hx hb dX1_isName_69 (lv_at hl 1 rfl) ?_
        refine lv_if_lt (tgt := 84) hx hb dX1_isName_71 (by decide) (fun c_12 => ?_) (fun c_12 => ?_)
        · have hJ := jt hJ c_12
          refine lv_iconst (v := 1) hx hb dX1_isName_84 (by decide) ?_
          refine lv_goto (tgt := 89) hx hb dX1_isName_85 (by decide) ?_
          obtain rfl := Option.some.inj hJ
          exact K89 ls (lv_sub hl [0, 1, 2, 3, 4, 5, 6] rfl)
        · have hJ := jf hJ c_12
          refine lv_iload hx hb dX1_isName_74 (lv_at hl 1 rfl) ?_
          refine lv_if_ne (tgt := 88) hx hb dX1_isName_76 (by decide) (fun c_13 => ?_) (fun c_13 => ?_)
          · have hJ := jf hJ c_13
            refine lv_iconst (v := 0) hx hb dX1_isName_88 (by decide) ?_
            obtain rfl := Option.some.inj hJ
            exact K89 ls (lv_sub hl [0, 1, 2, 3, 4, 5, 6] rfl)
          · have hJ := jt hJ c_13
            refine lv_iload hx hb dX1_isName_79 (lv_at hl 0 rfl) ?_
            refine lv_if_eq (tgt := 88) hx hb dX1_isName_81 (by decide) (fun c_14 => ?_) (fun c_14 => ?_)
            · have hJ := jt hJ c_14
              refine lv_iconst (v := 0) hx hb dX1_isName_88 (by decide) ?_
              obtain rfl := Option.some.inj hJ
              exact K89 ls (lv_sub hl [0, 1, 2, 3, 4, 5, 6] rfl)
            · have hJ := jf hJ c_14
              refine lv_iconst (v := 1) hx hb dX1_isName_84 (by decide) ?_
              refine lv_goto (tgt := 89) hx hb dX1_isName_85 (by decide) ?_
              obtain rfl := Option.some.inj hJ
              exact K89 ls (lv_sub hl [0, 1, 2, 3, 4, 5, 6] rfl)
    · have hJ := hR56
      refine lv_iload_n hx hb dX1_isName_56 rfl (lv_at hl 3 rfl) ?_
      refine lv_iconst (v := 2) hx hb dX1_isName_57 (by decide) ?_
      refine lv_irem hx hb dX1_isName_58 (by decide) ?_
      refine lv_if_ne (tgt := 66) hx hb dX1_isName_59 (by decide) (fun c_10 => ?_) (fun c_10 => ?_)
      · have hJ := jf hJ c_10
        refine lv_iconst (v := 0) hx hb dX1_isName_66 (by decide) ?_
        obtain rfl := Option.some.inj hJ
        exact K67 ls (lv_sub hl [0, 1, 2, 3, 4, 5] rfl)
      · have hJ := jt hJ c_10
        refine lv_iconst (v := 1) hx hb dX1_isName_62 (by decide) ?_
        refine lv_goto (tgt := 67) hx hb dX1_isName_63 (by decide) ?_
        obtain rfl := Option.some.inj hJ
        exact K67 ls (lv_sub hl [0, 1, 2, 3, 4, 5] rfl)
  · have hJ := hR24
    refine lv_iload_n hx hb dX1_isName_24 rfl (lv_at hl 2 rfl) ?_
    refine lv_if_ne (tgt := 32) hx hb dX1_isName_25 (by decide) (fun c_4 => ?_) (fun c_4 => ?_)
    · have hJ := jf hJ c_4
      refine lv_aload_n hx hb dX1_isName_32 rfl (lv_at hl 1 rfl) ?_
      refine lv_aload_n hx hb dX1_isName_33 rfl (lv_at hl 1 rfl) ?_
      refine va_get (D := D) (ci := 1) (v := .ref hv) (C := RX1) (T := TX1) (N := 5) hx hb hts in_X1 hown hK hP 0 rfl rfl 0 (by decide) (hts _ q218) (fun _ h9 => h9) rfl dX1_isName_34 ?_
      refine lv_iload_n hx hb dX1_isName_37 rfl (lv_at hl 2 rfl) ?_
      refine lv_iconst (v := 1) hx hb dX1_isName_38 (by decide) ?_
      refine lv_isub hx hb dX1_isName_39 ?_
      obtain ⟨g_8, hJ⟩ := jg hJ
      refine va_iald hx hb hK hP 1 0 rfl rfl g_8 dX1_isName_40 ?_
      refine lv_aload_n hx hb dX1_isName_41 rfl (lv_at hl 1 rfl) ?_
      refine va_get (D := D) (ci := 1) (v := .ref hv) (C := RX1) (T := TX1) (N := 5) hx hb hts in_X1 hown hK hP 0 rfl rfl 0 (by decide) (hts _ q218) (fun _ h9 => h9) rfl dX1_isName_42 ?_
      refine lv_iload_n hx hb dX1_isName_45 rfl (lv_at hl 2 rfl) ?_
      obtain ⟨g_7, hJ⟩ := jg hJ
      refine va_iald hx hb hK hP 1 0 rfl rfl g_7 dX1_isName_46 ?_
      refine lv_iadd hx hb dX1_isName_47 ?_
      refine lv_i2l hx hb dX1_isName_48 rfl ?_
      refine lv_iload_n hx hb dX1_isName_49 rfl (lv_at hl 3 rfl) ?_
      refine lv_iload_n hx hb dX1_isName_50 rfl (lv_at hl 4 rfl) ?_
      obtain ⟨r_6, h_5, hJ⟩ := jb hJ
      refine k1_sign hF (xR.of hP 0 rfl) hK h_5 hl.1 (Nat.le_of_ble_eq_true rfl) dX1_isName_51 ⟨Nat.le_of_ble_eq_true rfl, Nat.le_of_ble_eq_true rfl⟩ ⟨Nat.zero_le _, Nat.zero_le _⟩ ?_
      obtain rfl := Option.some.inj hJ
      exact K54 ls (lv_sub hl [0, 1, 2, 3, 4] rfl)
    · have hJ := jt hJ c_4
      refine lv_iconst (v := -1) hx hb dX1_isName_28 (by decide) ?_
      refine lv_goto (tgt := 54) hx hb dX1_isName_29 (by decide) ?_
      obtain rfl := Option.some.inj hJ
      exact K54 ls (lv_sub hl [0, 1, 2, 3, 4] rfl)
theorem k1_isName {p : Program} {l : Launch} {e : Env} {R : Room} {s : State} {m : MethodId} {args : Array Value} {below : List Frame} {meth : Method} {c : Code} {H : Heap} {locs : List Loc} {cells slots : Nat} {Q : State → Prop} {cc : ByteArray} {nL pc : Nat} {ls : Array Slot} {rest : List Value} {D : va_G} {b hv ht : Nat} {dA : ClassId} {mv : Nat → Int32} {ks : Nat → Int32} {f2 : Int32} {f3 : Int32} {f4 : Int32} (hF : CallFix p m c cc nL s args lw_all RX1) (hP : va_P D vwCl (W1 b hv ht dA mv ks f2 f3 f4) H) (hK : va_K D vwCl [(dA, .int)] s) {p1 : Int32} {p2 : Int32} {p3 : Int32} {r : Int32} (hJ : J1_isName mv p1 p2 p3 = some r) (hsz : ls.size = nL) (hW : (rest.map fun v => v.category).sum ≤ 8) (hdg : decode cc pc = .ok (.invokevirtual 37, 3)) (hR : 2 + 1 ≤ R.frames ∧ 8 + (8 + 11) + 52 ≤ R.locals) (hf : cells ≤ R.cells ∧ slots ≤ R.slots) (kk : W p l e R s m args below meth c H locs cells slots Q (F0 m (pc + 3) ls (.int r :: rest))) : W p l e R s m args below meth c H locs cells slots Q (F0 m pc ls (.int p3 :: .int p2 :: .int p1 :: .ref b :: rest)) :=
  ro_call (n := 3) (ci := 1) hF (m1_isName l D H b hv ht dA mv ks f2 f3 f4 hP p1 p2 p3 r hJ) (lw_V q265 q267 qs25 q34 q268) (by decide +kernel) rfl rfl hR (xR.of hP 0 rfl) hK rfl rfl rfl hsz rfl hW hdg hf kk
/-! ShortestDigitsModel.names(III)Z -/
def J1_names (mv : Nat → Int32) (p1 : Int32) (p2 : Int32) (p3 : Int32) : Option Int32 :=
  Option.bind (J1_isDecimal p2 p3) (fun (r_2 : Int32) =>
  if r_2 = 0 then
    some (0 : Int32)
  else
    Option.bind (J1_isCode p1) (fun (r_5 : Int32) =>
    if r_5 = 0 then
      some (0 : Int32)
    else
      Option.bind (J1_isName mv p1 p2 p3) (fun (r_8 : Int32) =>
      if r_8 = 0 then
        some (0 : Int32)
      else
        some (1 : Int32))))
set_option maxHeartbeats 4000000 in
set_option maxRecDepth 100000 in
theorem m1_names (l : Launch) (D : va_G) (H0 : Heap) (h0 hv ht : Nat) (dA : ClassId) (mv : Nat → Int32) (ks : Nat → Int32) (f2 : Int32) (f3 : Int32) (f4 : Int32) (hP : va_P D vwCl (W1 h0 hv ht dA mv ks f2 f3 f4) H0) (p1 : Int32) (p2 : Int32) (p3 : Int32) (r : Int32) (hJ : J1_names mv p1 p2 p3 = some r) : Met l yX1_names (ws_ yX1_names cX1_names 4 (some .boolean)) ({ frames := 3, cells := 0, slots := 0, locals := 79 } : Room) (roP D [(dA, .int)] H0 [.ref h0, .int p1, .int p2, .int p3]) (roQ (.int r)) 0 0 noA := by
  refine ro_enter (by decide) (Nat.le_of_ble_eq_true rfl) ?_
  intro p e s m below meth c hF hr hlk hH hK ls hl
  have hl : lv_has ls 4 [(0, .ref h0), (1, .int p1), (2, .int p2), (3, .int p3)] := hl
  obtain ⟨hx, hb, hml, hown, hts⟩ := id hF
  unfold J1_names at hJ
  refine lv_aload_n hx hb dX1_names_0 rfl (lv_at hl 0 rfl) ?_
  refine lv_iload_n hx hb dX1_names_1 rfl (lv_at hl 2 rfl) ?_
  refine lv_iload_n hx hb dX1_names_2 rfl (lv_at hl 3 rfl) ?_
  obtain ⟨r_2, h_1, hJ⟩ := jb hJ
  refine k1_isDecimal hF (xR.of hP 0 rfl) hK h_1 hl.1 (Nat.le_of_ble_eq_true rfl) dX1_names_3 ⟨Nat.le_of_ble_eq_true rfl, Nat.le_of_ble_eq_true rfl⟩ ⟨Nat.zero_le _, Nat.zero_le _⟩ ?_
  refine lv_if_eq (tgt := 31) hx hb dX1_names_6 (by decide) (fun c_3 => ?_) (fun c_3 => ?_)
  · have hJ := jt hJ c_3
    refine lv_iconst (v := 0) hx hb dX1_names_31 (by decide) ?_
    exact ro_zret hF hr hlk hH dX1_names_32 rfl hJ
  · have hJ := jf hJ c_3
    refine lv_aload_n hx hb dX1_names_9 rfl (lv_at hl 0 rfl) ?_
    refine lv_iload_n hx hb dX1_names_10 rfl (lv_at hl 1 rfl) ?_
    obtain ⟨r_5, h_4, hJ⟩ := jb hJ
    refine k1_isCode hF (xR.of hP 0 rfl) hK h_4 hl.1 (Nat.le_of_ble_eq_true rfl) dX1_names_11 ⟨Nat.le_of_ble_eq_true rfl, Nat.le_of_ble_eq_true rfl⟩ ⟨Nat.zero_le _, Nat.zero_le _⟩ ?_
    refine lv_if_eq (tgt := 31) hx hb dX1_names_14 (by decide) (fun c_6 => ?_) (fun c_6 => ?_)
    · have hJ := jt hJ c_6
      refine lv_iconst (v := 0) hx hb dX1_names_31 (by decide) ?_
      exact ro_zret hF hr hlk hH dX1_names_32 rfl hJ
    · have hJ := jf hJ c_6
      refine lv_aload_n hx hb dX1_names_17 rfl (lv_at hl 0 rfl) ?_
      refine lv_iload_n hx hb dX1_names_18 rfl (lv_at hl 1 rfl) ?_
      refine lv_iload_n hx hb dX1_names_19 rfl (lv_at hl 2 rfl) ?_
      refine lv_iload_n hx hb dX1_names_20 rfl (lv_at hl 3 rfl) ?_
      obtain ⟨r_8, h_7, hJ⟩ := jb hJ
      refine k1_isName hF hP hK h_7 hl.1 (Nat.le_of_ble_eq_true rfl) dX1_names_21 ⟨Nat.le_of_ble_eq_true rfl, Nat.le_of_ble_eq_true rfl⟩ ⟨Nat.zero_le _, Nat.zero_le _⟩ ?_
      refine lv_if_eq (tgt := 31) hx hb dX1_names_24 (by decide) (fun c_9 => ?_) (fun c_9 => ?_)
      · have hJ := jt hJ c_9
        refine lv_iconst (v := 0) hx hb dX1_names_31 (by decide) ?_
        exact ro_zret hF hr hlk hH dX1_names_32 rfl hJ
      · have hJ := jf hJ c_9
        refine lv_iconst (v := 1) hx hb dX1_names_27 (by decide) ?_
        refine lv_goto (tgt := 32) hx hb dX1_names_28 (by decide) ?_
        exact ro_zret hF hr hlk hH dX1_names_32 rfl hJ
/-! ShortestDigitsModel.compare(III)I -/
def J1_compare (mv : Nat → Int32) (p1 : Int32) (p2 : Int32) (p3 : Int32) : Option Int32 :=
  Option.bind (J1_isDecimal p2 p3) (fun (r_2 : Int32) =>
  if r_2 = 0 then
    some (2 : Int32)
  else
    Option.bind (J1_isCode p1) (fun (r_5 : Int32) =>
    if r_5 = 0 then
      some (2 : Int32)
    else
      if (p1 < 0 ∨ 1025 ≤ p1.toNatClampNeg) then none else
      Option.bind (J1_sign ((2 : Int64) * ((mv p1.toNatClampNeg).toInt64)) p2 p3) (fun (r_8 : Int32) =>
      some r_8)))
set_option maxHeartbeats 4000000 in
set_option maxRecDepth 100000 in
theorem m1_compare (l : Launch) (D : va_G) (H0 : Heap) (h0 hv ht : Nat) (dA : ClassId) (mv : Nat → Int32) (ks : Nat → Int32) (f2 : Int32) (f3 : Int32) (f4 : Int32) (hP : va_P D vwCl (W1 h0 hv ht dA mv ks f2 f3 f4) H0) (p1 : Int32) (p2 : Int32) (p3 : Int32) (r : Int32) (hJ : J1_compare mv p1 p2 p3 = some r) : Met l yX1_compare (ws_ yX1_compare cX1_compare 4 (some .int)) ({ frames := 2, cells := 0, slots := 0, locals := 52 } : Room) (roP D [(dA, .int)] H0 [.ref h0, .int p1, .int p2, .int p3]) (roQ (.int r)) 0 0 noA := by
  refine ro_enter (by decide) (Nat.le_of_ble_eq_true rfl) ?_
  intro p e s m below meth c hF hr hlk hH hK ls hl
  have hl : lv_has ls 4 [(0, .ref h0), (1, .int p1), (2, .int p2), (3, .int p3)] := hl
  obtain ⟨hx, hb, hml, hown, hts⟩ := id hF
  unfold J1_compare at hJ
  refine lv_aload_n hx hb dX1_compare_0 rfl (lv_at hl 0 rfl) ?_
  refine lv_iload_n hx hb dX1_compare_1 rfl (lv_at hl 2 rfl) ?_
  refine lv_iload_n hx hb dX1_compare_2 rfl (lv_at hl 3 rfl) ?_
  obtain ⟨r_2, h_1, hJ⟩ := jb hJ
  refine k1_isDecimal hF (xR.of hP 0 rfl) hK h_1 hl.1 (Nat.le_of_ble_eq_true rfl) dX1_compare_3 ⟨Nat.le_of_ble_eq_true rfl, Nat.le_of_ble_eq_true rfl⟩ ⟨Nat.zero_le _, Nat.zero_le _⟩ ?_
  refine lv_if_eq (tgt := 37) hx hb dX1_compare_6 (by decide) (fun c_3 => ?_) (fun c_3 => ?_)
  · have hJ := jt hJ c_3
    refine lv_iconst (v := 2) hx hb dX1_compare_37 (by decide) ?_
    exact ro_iret hF hr hlk hH dX1_compare_38 hJ
  · have hJ := jf hJ c_3
    refine lv_aload_n hx hb dX1_compare_9 rfl (lv_at hl 0 rfl) ?_
    refine lv_iload_n hx hb dX1_compare_10 rfl (lv_at hl 1 rfl) ?_
    obtain ⟨r_5, h_4, hJ⟩ := jb hJ
    refine k1_isCode hF (xR.of hP 0 rfl) hK h_4 hl.1 (Nat.le_of_ble_eq_true rfl) dX1_compare_11 ⟨Nat.le_of_ble_eq_true rfl, Nat.le_of_ble_eq_true rfl⟩ ⟨Nat.zero_le _, Nat.zero_le _⟩ ?_
    refine lv_if_eq (tgt := 37) hx hb dX1_compare_14 (by decide) (fun c_6 => ?_) (fun c_6 => ?_)
    · have hJ := jt hJ c_6
      refine lv_iconst (v := 2) hx hb dX1_compare_37 (by decide) ?_
      exact ro_iret hF hr hlk hH dX1_compare_38 hJ
    · have hJ := jf hJ c_6
      refine lv_aload_n hx hb dX1_compare_17 rfl (lv_at hl 0 rfl) ?_
      refine lv_ldc2 hx hb hown (hts _ q273) dX1_compare_18 ?_
      refine lv_aload_n hx hb dX1_compare_21 rfl (lv_at hl 0 rfl) ?_
      refine va_get (D := D) (ci := 1) (v := .ref hv) (C := RX1) (T := TX1) (N := 5) hx hb hts in_X1 hown hK hP 0 rfl rfl 0 (by decide) (hts _ q218) (fun _ h9 => h9) rfl dX1_compare_22 ?_
      refine lv_iload_n hx hb dX1_compare_25 rfl (lv_at hl 1 rfl) ?_
      obtain ⟨g_9, hJ⟩ := jg hJ
      refine va_iald hx hb hK hP 1 0 rfl rfl g_9 dX1_compare_26 ?_
      refine lv_i2l hx hb dX1_compare_27 rfl ?_
      refine lv_lmul hx hb dX1_compare_28 ?_
      refine lv_iload_n hx hb dX1_compare_29 rfl (lv_at hl 2 rfl) ?_
      refine lv_iload_n hx hb dX1_compare_30 rfl (lv_at hl 3 rfl) ?_
      obtain ⟨r_8, h_7, hJ⟩ := jb hJ
      refine k1_sign hF (xR.of hP 0 rfl) hK h_7 hl.1 (Nat.le_of_ble_eq_true rfl) dX1_compare_31 ⟨Nat.le_of_ble_eq_true rfl, Nat.le_of_ble_eq_true rfl⟩ ⟨Nat.zero_le _, Nat.zero_le _⟩ ?_
      refine lv_goto (tgt := 38) hx hb dX1_compare_34 (by decide) ?_
      exact ro_iret hF hr hlk hH dX1_compare_38 hJ
/-! ShortestDigitsModel.gap(III)J -/
def J1_gap (mv : Nat → Int32) (p1 : Int32) (p2 : Int32) (p3 : Int32) : Option Int64 :=
  Option.bind (J1_power (p3 + (12 : Int32))) (fun (r_2 : Int64) =>
  if (p1 < 0 ∨ 1025 ≤ p1.toNatClampNeg) then none else
  Option.bind (J1_power (12 : Int32)) (fun (r_4 : Int64) =>
  jL ((((512 : Int64) * (p2.toInt64)) * r_2) - (((mv p1.toNatClampNeg).toInt64) * r_4)) (fun (x4_5 : Int64) =>
  if (0 : Int64) ≤ x4_5 then
    some x4_5
  else
    some (-x4_5))))
set_option maxHeartbeats 4000000 in
set_option maxRecDepth 100000 in
theorem m1_gap (l : Launch) (D : va_G) (H0 : Heap) (h0 hv ht : Nat) (dA : ClassId) (mv : Nat → Int32) (ks : Nat → Int32) (f2 : Int32) (f3 : Int32) (f4 : Int32) (hP : va_P D vwCl (W1 h0 hv ht dA mv ks f2 f3 f4) H0) (p1 : Int32) (p2 : Int32) (p3 : Int32) (r : Int64) (hJ : J1_gap mv p1 p2 p3 = some r) : Met l yX1_gap (ws_ yX1_gap cX1_gap 6 (some .long)) ({ frames := 1, cells := 0, slots := 0, locals := 24 } : Room) (roP D [(dA, .int)] H0 [.ref h0, .int p1, .int p2, .int p3]) (roQ (.long r)) 0 0 noA := by
  refine ro_enter (by decide) (Nat.le_of_ble_eq_true rfl) ?_
  intro p e s m below meth c hF hr hlk hH hK ls hl
  have hl : lv_has ls 6 [(0, .ref h0), (1, .int p1), (2, .int p2), (3, .int p3)] := hl
  obtain ⟨hx, hb, hml, hown, hts⟩ := id hF
  unfold J1_gap at hJ
  refine lv_ldc2 hx hb hown (hts _ q286) dX1_gap_0 ?_
  refine lv_iload_n hx hb dX1_gap_3 rfl (lv_at hl 2 rfl) ?_
  refine lv_i2l hx hb dX1_gap_4 rfl ?_
  refine lv_lmul hx hb dX1_gap_5 ?_
  refine lv_aload_n hx hb dX1_gap_6 rfl (lv_at hl 0 rfl) ?_
  refine lv_iload_n hx hb dX1_gap_7 rfl (lv_at hl 3 rfl) ?_
  refine lv_bipush (v := 12) hx hb dX1_gap_8 (by decide) ?_
  refine lv_iadd hx hb dX1_gap_10 ?_
  obtain ⟨r_2, h_1, hJ⟩ := jb hJ
  refine k1_power hF (xR.of hP 0 rfl) hK h_1 hl.1 (Nat.le_of_ble_eq_true rfl) dX1_gap_11 ⟨Nat.le_of_ble_eq_true rfl, Nat.le_of_ble_eq_true rfl⟩ ⟨Nat.zero_le _, Nat.zero_le _⟩ ?_
  refine lv_lmul hx hb dX1_gap_14 ?_
  refine lv_aload_n hx hb dX1_gap_15 rfl (lv_at hl 0 rfl) ?_
  refine va_get (D := D) (ci := 1) (v := .ref hv) (C := RX1) (T := TX1) (N := 5) hx hb hts in_X1 hown hK hP 0 rfl rfl 0 (by decide) (hts _ q218) (fun _ h9 => h9) rfl dX1_gap_16 ?_
  refine lv_iload_n hx hb dX1_gap_19 rfl (lv_at hl 1 rfl) ?_
  obtain ⟨g_7, hJ⟩ := jg hJ
  refine va_iald hx hb hK hP 1 0 rfl rfl g_7 dX1_gap_20 ?_
  refine lv_i2l hx hb dX1_gap_21 rfl ?_
  refine lv_aload_n hx hb dX1_gap_22 rfl (lv_at hl 0 rfl) ?_
  refine lv_bipush (v := 12) hx hb dX1_gap_23 (by decide) ?_
  obtain ⟨r_4, h_3, hJ⟩ := jb hJ
  refine k1_power hF (xR.of hP 0 rfl) hK h_3 hl.1 (Nat.le_of_ble_eq_true rfl) dX1_gap_25 ⟨Nat.le_of_ble_eq_true rfl, Nat.le_of_ble_eq_true rfl⟩ ⟨Nat.zero_le _, Nat.zero_le _⟩ ?_
  refine lv_lmul hx hb dX1_gap_28 ?_
  refine lv_lsub hx hb dX1_gap_29 ?_
  refine lv_topl (fun x4_5 ex4_5 => ?_)
  have hJ := jlet hJ ex4_5
  refine lv_lstore (lv' := [(4, .long x4_5), (0, .ref h0), (1, .int p1), (2, .int p2), (3, .int p3)]) hx hb dX1_gap_30 hl (by decide) rfl (fun ls hl => ?_)
  refine lv_lload hx hb dX1_gap_32 (lv_at hl 0 rfl) ?_
  refine lv_lconst (v := 0) hx hb dX1_gap_34 (by decide) ?_
  refine lc_ge (tgt := 45) hx hb dX1_gap_35 dX1_gap_36 (by decide) (fun c_6 => ?_) (fun c_6 => ?_)
  · have hJ := jt hJ c_6
    refine lv_lload hx hb dX1_gap_45 (lv_at hl 0 rfl) ?_
    exact ro_lret hF hr hlk hH dX1_gap_47 hJ
  · have hJ := jf hJ c_6
    refine lv_lload hx hb dX1_gap_39 (lv_at hl 0 rfl) ?_
    refine lv_lneg hx hb dX1_gap_41 ?_
    refine lv_goto (tgt := 47) hx hb dX1_gap_42 (by decide) ?_
    exact ro_lret hF hr hlk hH dX1_gap_47 hJ
theorem k1_gap {p : Program} {l : Launch} {e : Env} {R : Room} {s : State} {m : MethodId} {args : Array Value} {below : List Frame} {meth : Method} {c : Code} {H : Heap} {locs : List Loc} {cells slots : Nat} {Q : State → Prop} {cc : ByteArray} {nL pc : Nat} {ls : Array Slot} {rest : List Value} {D : va_G} {b hv ht : Nat} {dA : ClassId} {mv : Nat → Int32} {ks : Nat → Int32} {f2 : Int32} {f3 : Int32} {f4 : Int32} (hF : CallFix p m c cc nL s args lw_all RX1) (hP : va_P D vwCl (W1 b hv ht dA mv ks f2 f3 f4) H) (hK : va_K D vwCl [(dA, .int)] s) {p1 : Int32} {p2 : Int32} {p3 : Int32} {r : Int64} (hJ : J1_gap mv p1 p2 p3 = some r) (hsz : ls.size = nL) (hW : (rest.map fun v => v.category).sum ≤ 8) (hdg : decode cc pc = .ok (.invokevirtual 53, 3)) (hR : 1 + 1 ≤ R.frames ∧ 8 + (6 + 11) + 24 ≤ R.locals) (hf : cells ≤ R.cells ∧ slots ≤ R.slots) (kk : W p l e R s m args below meth c H locs cells slots Q (F0 m (pc + 3) ls (.long r :: rest))) : W p l e R s m args below meth c H locs cells slots Q (F0 m pc ls (.int p3 :: .int p2 :: .int p1 :: .ref b :: rest)) :=
  ro_call (n := 3) (ci := 1) hF (m1_gap l D H b hv ht dA mv ks f2 f3 f4 hP p1 p2 p3 r hJ) (lw_V q293 q295 qs29 q34 q296) (by decide +kernel) rfl rfl hR (xR.of hP 0 rfl) hK rfl rfl rfl hsz rfl hW hdg hf kk
/-! ShortestDigitsModel.write(II)I -/
def J1_write (mv : Nat → Int32) (p1 : Int32) (p2 : Int32) : Option Int32 :=
  if (p1 < 0 ∨ 1025 ≤ p1.toNatClampNeg) then none else
  Option.bind (J1_power p2) (fun (r_2 : Int64) =>
  jL (((mv p1.toNatClampNeg).toInt64) * r_2) (fun (x3_3 : Int64) =>
  jL (x3_3 / (512 : Int64)) (fun (x5_4 : Int64) =>
  jL (x3_3 - x3_3 / (512 : Int64) * (512 : Int64)) (fun (x7_5 : Int64) =>
  Option.bind (
    if (256 : Int64) < x7_5 then
      some (1 : Int32)
    else
      if x7_5 = (256 : Int64) then
        if (x5_4 - x5_4 / (2 : Int64) * (2 : Int64)) = (1 : Int64) then
          some (1 : Int32)
        else
          some (0 : Int32)
      else
        some (0 : Int32)) (fun (v_6 : Int32) =>
  if v_6 = 0 then
    some (x5_4.toInt32)
  else
    some ((x5_4 + (1 : Int64)).toInt32))))))
set_option maxHeartbeats 4000000 in
set_option maxRecDepth 100000 in
theorem m1_write (l : Launch) (D : va_G) (H0 : Heap) (h0 hv ht : Nat) (dA : ClassId) (mv : Nat → Int32) (ks : Nat → Int32) (f2 : Int32) (f3 : Int32) (f4 : Int32) (hP : va_P D vwCl (W1 h0 hv ht dA mv ks f2 f3 f4) H0) (p1 : Int32) (p2 : Int32) (r : Int32) (hJ : J1_write mv p1 p2 = some r) : Met l yX1_write (ws_ yX1_write cX1_write 10 (some .int)) ({ frames := 1, cells := 0, slots := 0, locals := 24 } : Room) (roP D [(dA, .int)] H0 [.ref h0, .int p1, .int p2]) (roQ (.int r)) 0 0 noA := by
  refine ro_enter (by decide) (Nat.le_of_ble_eq_true rfl) ?_
  intro p e s m below meth c hF hr hlk hH hK ls hl
  have hl : lv_has ls 10 [(0, .ref h0), (1, .int p1), (2, .int p2)] := hl
  obtain ⟨hx, hb, hml, hown, hts⟩ := id hF
  unfold J1_write at hJ
  refine lv_aload_n hx hb dX1_write_0 rfl (lv_at hl 0 rfl) ?_
  refine va_get (D := D) (ci := 1) (v := .ref hv) (C := RX1) (T := TX1) (N := 5) hx hb hts in_X1 hown hK hP 0 rfl rfl 0 (by decide) (hts _ q218) (fun _ h9 => h9) rfl dX1_write_1 ?_
  refine lv_iload_n hx hb dX1_write_4 rfl (lv_at hl 1 rfl) ?_
  obtain ⟨g_11, hJ⟩ := jg hJ
  refine va_iald hx hb hK hP 1 0 rfl rfl g_11 dX1_write_5 ?_
  refine lv_i2l hx hb dX1_write_6 rfl ?_
  refine lv_aload_n hx hb dX1_write_7 rfl (lv_at hl 0 rfl) ?_
  refine lv_iload_n hx hb dX1_write_8 rfl (lv_at hl 2 rfl) ?_
  obtain ⟨r_2, h_1, hJ⟩ := jb hJ
  refine k1_power hF (xR.of hP 0 rfl) hK h_1 hl.1 (Nat.le_of_ble_eq_true rfl) dX1_write_9 ⟨Nat.le_of_ble_eq_true rfl, Nat.le_of_ble_eq_true rfl⟩ ⟨Nat.zero_le _, Nat.zero_le _⟩ ?_
  refine lv_lmul hx hb dX1_write_12 ?_
  refine lv_topl (fun x3_3 ex3_3 => ?_)
  have hJ := jlet hJ ex3_3
  refine lv_lstore_n (lv' := [(3, .long x3_3), (0, .ref h0), (1, .int p1), (2, .int p2)]) hx hb dX1_write_13 rfl hl (by decide) rfl (fun ls hl => ?_)
  refine lv_lload_n hx hb dX1_write_14 rfl (lv_at hl 0 rfl) ?_
  refine lv_ldc2 hx hb hown (hts _ q286) dX1_write_15 ?_
  refine lv_ldiv hx hb dX1_write_18 (by decide) ?_
  refine lv_topl (fun x5_4 ex5_4 => ?_)
  have hJ := jlet hJ ex5_4
  refine lv_lstore (lv' := [(5, .long x5_4), (3, .long x3_3), (0, .ref h0), (1, .int p1), (2, .int p2)]) hx hb dX1_write_19 hl (by decide) rfl (fun ls hl => ?_)
  refine lv_lload_n hx hb dX1_write_21 rfl (lv_at hl 1 rfl) ?_
  refine lv_ldc2 hx hb hown (hts _ q286) dX1_write_22 ?_
  refine lv_lrem hx hb dX1_write_25 (by decide) ?_
  refine lv_topl (fun x7_5 ex7_5 => ?_)
  have hJ := jlet hJ ex7_5
  refine lv_lstore (lv' := [(7, .long x7_5), (5, .long x5_4), (3, .long x3_3), (0, .ref h0), (1, .int p1), (2, .int p2)]) hx hb dX1_write_26 hl (by decide) rfl (fun ls hl => ?_)
  obtain ⟨v_6, hR28, hJ⟩ := jb hJ
  refine jn 10 [(7, .long x7_5), (5, .long x5_4), (3, .long x3_3), (0, .ref h0), (1, .int p1), (2, .int p2)] 62 [.int v_6] ?_ (fun K62 => ?_)
  · intro ls hl
    refine lv_istore (lv' := [(9, .int v_6), (7, .long x7_5), (5, .long x5_4), (3, .long x3_3), (0, .ref h0), (1, .int p1), (2, .int p2)]) hx hb dX1_write_62 hl (by decide) rfl (fun ls hl => ?_)
    refine lv_iload hx hb dX1_write_64 (lv_at hl 0 rfl) ?_
    refine lv_if_eq (tgt := 76) hx hb dX1_write_66 (by decide) (fun c_10 => ?_) (fun c_10 => ?_)
    · have hJ := jt hJ c_10
      refine lv_lload hx hb dX1_write_76 (lv_at hl 2 rfl) ?_
      refine lv_l2i hx hb dX1_write_78 rfl ?_
      exact ro_iret hF hr hlk hH dX1_write_79 hJ
    · have hJ := jf hJ c_10
      refine lv_lload hx hb dX1_write_69 (lv_at hl 2 rfl) ?_
      refine lv_lconst (v := 1) hx hb dX1_write_71 (by decide) ?_
      refine lv_ladd hx hb dX1_write_72 ?_
      refine lv_goto (tgt := 78) hx hb dX1_write_73 (by decide) ?_
      refine lv_l2i hx hb dX1_write_78 rfl ?_
      exact ro_iret hF hr hlk hH dX1_write_79 hJ
  · have hJ := hR28
    refine lv_lload hx hb dX1_write_28 (lv_at hl 0 rfl) ?_
    refine lv_ldc2 hx hb hown (hts _ q313) dX1_write_30 ?_
    refine lc_gt (tgt := 57) hx hb dX1_write_33 dX1_write_34 (by decide) (fun c_7 => ?_) (fun c_7 => ?_)
    · have hJ := jt hJ c_7
      refine lv_iconst (v := 1) hx hb dX1_write_57 (by decide) ?_
      refine lv_goto (tgt := 62) hx hb dX1_write_58 (by decide) ?_
      obtain rfl := Option.some.inj hJ
      exact K62 ls (lv_sub hl [0, 1, 2, 3, 4, 5] rfl)
    · have hJ := jf hJ c_7
      refine lv_lload hx hb dX1_write_37 (lv_at hl 0 rfl) ?_
      refine lv_ldc2 hx hb hown (hts _ q313) dX1_write_39 ?_
      refine lc_ne (tgt := 61) hx hb dX1_write_42 dX1_write_43 (by decide) (fun c_8 => ?_) (fun c_8 => ?_)
      · have hJ := jf hJ c_8
        refine lv_iconst (v := 0) hx hb dX1_write_61 (by decide) ?_
        obtain rfl := Option.some.inj hJ
        exact K62 ls (lv_sub hl [0, 1, 2, 3, 4, 5] rfl)
      · have hJ := jt hJ c_8
        refine lv_lload hx hb dX1_write_46 (lv_at hl 1 rfl) ?_
        refine lv_ldc2 hx hb hown (hts _ q273) dX1_write_48 ?_
        refine lv_lrem hx hb dX1_write_51 (by decide) ?_
        refine lv_lconst (v := 1) hx hb dX1_write_52 (by decide) ?_
        refine lc_ne (tgt := 61) hx hb dX1_write_53 dX1_write_54 (by decide) (fun c_9 => ?_) (fun c_9 => ?_)
        · have hJ := jf hJ c_9
          refine lv_iconst (v := 0) hx hb dX1_write_61 (by decide) ?_
          obtain rfl := Option.some.inj hJ
          exact K62 ls (lv_sub hl [0, 1, 2, 3, 4, 5] rfl)
        · have hJ := jt hJ c_9
          refine lv_iconst (v := 1) hx hb dX1_write_57 (by decide) ?_
          refine lv_goto (tgt := 62) hx hb dX1_write_58 (by decide) ?_
          obtain rfl := Option.some.inj hJ
          exact K62 ls (lv_sub hl [0, 1, 2, 3, 4, 5] rfl)
theorem k1_write {p : Program} {l : Launch} {e : Env} {R : Room} {s : State} {m : MethodId} {args : Array Value} {below : List Frame} {meth : Method} {c : Code} {H : Heap} {locs : List Loc} {cells slots : Nat} {Q : State → Prop} {cc : ByteArray} {nL pc : Nat} {ls : Array Slot} {rest : List Value} {D : va_G} {b hv ht : Nat} {dA : ClassId} {mv : Nat → Int32} {ks : Nat → Int32} {f2 : Int32} {f3 : Int32} {f4 : Int32} (hF : CallFix p m c cc nL s args lw_all RX1) (hP : va_P D vwCl (W1 b hv ht dA mv ks f2 f3 f4) H) (hK : va_K D vwCl [(dA, .int)] s) {p1 : Int32} {p2 : Int32} {r : Int32} (hJ : J1_write mv p1 p2 = some r) (hsz : ls.size = nL) (hW : (rest.map fun v => v.category).sum ≤ 8) (hdg : decode cc pc = .ok (.invokevirtual 74, 3)) (hR : 1 + 1 ≤ R.frames ∧ 8 + (10 + 11) + 24 ≤ R.locals) (hf : cells ≤ R.cells ∧ slots ≤ R.slots) (kk : W p l e R s m args below meth c H locs cells slots Q (F0 m (pc + 3) ls (.int r :: rest))) : W p l e R s m args below meth c H locs cells slots Q (F0 m pc ls (.int p2 :: .int p1 :: .ref b :: rest)) :=
  ro_call (n := 2) (ci := 1) hF (m1_write l D H b hv ht dA mv ks f2 f3 f4 hP p1 p2 r hJ) (lw_V q309 q311 qs30 q34 q312) (by decide +kernel) rfl rfl hR (xR.of hP 0 rfl) hK rfl rfl rfl hsz rfl hW hdg hf kk
/-! ShortestDigitsModel.written(II)I -/
def J1_written (mv : Nat → Int32) (p1 : Int32) (p2 : Int32) : Option Int32 :=
  Option.bind (J1_isCode p1) (fun (r_2 : Int32) =>
  if r_2 = 0 then
    some (-1 : Int32)
  else
    if p2 < 0 then
      some (-1 : Int32)
    else
      if (5 : Int32) < p2 then
        some (-1 : Int32)
      else
        Option.bind (J1_write mv p1 p2) (fun (r_7 : Int32) =>
        some r_7))
set_option maxHeartbeats 4000000 in
set_option maxRecDepth 100000 in
theorem m1_written (l : Launch) (D : va_G) (H0 : Heap) (h0 hv ht : Nat) (dA : ClassId) (mv : Nat → Int32) (ks : Nat → Int32) (f2 : Int32) (f3 : Int32) (f4 : Int32) (hP : va_P D vwCl (W1 h0 hv ht dA mv ks f2 f3 f4) H0) (p1 : Int32) (p2 : Int32) (r : Int32) (hJ : J1_written mv p1 p2 = some r) : Met l yX1_written (ws_ yX1_written cX1_written 3 (some .int)) ({ frames := 2, cells := 0, slots := 0, locals := 53 } : Room) (roP D [(dA, .int)] H0 [.ref h0, .int p1, .int p2]) (roQ (.int r)) 0 0 noA := by
  refine ro_enter (by decide) (Nat.le_of_ble_eq_true rfl) ?_
  intro p e s m below meth c hF hr hlk hH hK ls hl
  have hl : lv_has ls 3 [(0, .ref h0), (1, .int p1), (2, .int p2)] := hl
  obtain ⟨hx, hb, hml, hown, hts⟩ := id hF
  unfold J1_written at hJ
  refine lv_aload_n hx hb dX1_written_0 rfl (lv_at hl 0 rfl) ?_
  refine lv_iload_n hx hb dX1_written_1 rfl (lv_at hl 1 rfl) ?_
  obtain ⟨r_2, h_1, hJ⟩ := jb hJ
  refine k1_isCode hF (xR.of hP 0 rfl) hK h_1 hl.1 (Nat.le_of_ble_eq_true rfl) dX1_written_2 ⟨Nat.le_of_ble_eq_true rfl, Nat.le_of_ble_eq_true rfl⟩ ⟨Nat.zero_le _, Nat.zero_le _⟩ ?_
  refine lv_if_eq (tgt := 26) hx hb dX1_written_5 (by decide) (fun c_3 => ?_) (fun c_3 => ?_)
  · have hJ := jt hJ c_3
    refine lv_iconst (v := -1) hx hb dX1_written_26 (by decide) ?_
    exact ro_iret hF hr hlk hH dX1_written_27 hJ
  · have hJ := jf hJ c_3
    refine lv_iload_n hx hb dX1_written_8 rfl (lv_at hl 2 rfl) ?_
    refine lv_if_lt (tgt := 26) hx hb dX1_written_9 (by decide) (fun c_4 => ?_) (fun c_4 => ?_)
    · have hJ := jt hJ c_4
      refine lv_iconst (v := -1) hx hb dX1_written_26 (by decide) ?_
      exact ro_iret hF hr hlk hH dX1_written_27 hJ
    · have hJ := jf hJ c_4
      refine lv_iload_n hx hb dX1_written_12 rfl (lv_at hl 2 rfl) ?_
      refine lv_iconst (v := 5) hx hb dX1_written_13 (by decide) ?_
      refine lv_icmp_gt (tgt := 26) hx hb dX1_written_14 (by decide) (fun c_5 => ?_) (fun c_5 => ?_)
      · have hJ := jt hJ c_5
        refine lv_iconst (v := -1) hx hb dX1_written_26 (by decide) ?_
        exact ro_iret hF hr hlk hH dX1_written_27 hJ
      · have hJ := jf hJ c_5
        refine lv_aload_n hx hb dX1_written_17 rfl (lv_at hl 0 rfl) ?_
        refine lv_iload_n hx hb dX1_written_18 rfl (lv_at hl 1 rfl) ?_
        refine lv_iload_n hx hb dX1_written_19 rfl (lv_at hl 2 rfl) ?_
        obtain ⟨r_7, h_6, hJ⟩ := jb hJ
        refine k1_write hF hP hK h_6 hl.1 (Nat.le_of_ble_eq_true rfl) dX1_written_20 ⟨Nat.le_of_ble_eq_true rfl, Nat.le_of_ble_eq_true rfl⟩ ⟨Nat.zero_le _, Nat.zero_le _⟩ ?_
        refine lv_goto (tgt := 27) hx hb dX1_written_23 (by decide) ?_
        exact ro_iret hF hr hlk hH dX1_written_27 hJ
/-! ShortestDigitsModel.places(I)I -/
def L1_places_12 (mv : Nat → Int32) : Nat → Int32 → Int32 → Option Int32
  | 0, _, _ => none
  | k + 1, x1, x2 =>
    if (5 : Int32) ≤ x2 then
      some (5 : Int32)
    else
      Option.bind (J1_write mv x1 x2) (fun (r_6 : Int32) =>
      if (99999999 : Int32) < r_6 then
        jL (x2 + (1 : Int32)) (fun (x2_8 : Int32) =>
        L1_places_12 mv k x1 x2_8)
      else
        Option.bind (J1_isName mv x1 r_6 (-x2)) (fun (r_10 : Int32) =>
        if r_10 = 0 then
          jL (x2 + (1 : Int32)) (fun (x2_12 : Int32) =>
          L1_places_12 mv k x1 x2_12)
        else
          some x2))
def J1_places (mv : Nat → Int32) (p1 : Int32) : Option Int32 :=
  Option.bind (J1_isCode p1) (fun (r_2 : Int32) =>
  if r_2 = 0 then
    some (-1 : Int32)
  else
    L1_places_12 mv FU p1 (0 : Int32))
set_option maxHeartbeats 4000000 in
set_option maxRecDepth 100000 in
theorem l1_places_12 {p : Program} {l : Launch} {e : Env} {s : State} {m : MethodId} {below : List Frame} {meth : Method} {c : Code} {D : va_G} {H0 : Heap} {h0 hv ht : Nat} {dA : ClassId} (mv : Nat → Int32) (ks : Nat → Int32) (f2 : Int32) (f3 : Int32) (f4 : Int32) (hP : va_P D vwCl (W1 h0 hv ht dA mv ks f2 f3 f4) H0) (p1 : Int32) (hF : CallFix p m c cX1_places 4 s ([.ref h0, .int p1] : List Value).toArray lw_all RX1) (hr : meth.sig.returnType = (some .int)) (hlk : meth.locks = false) (hH : s.heap = H0) (hK : va_K D vwCl [(dA, .int)] s) (r : Int32) :
    ∀ (k : Nat) (x1 : Int32) (x2 : Int32), L1_places_12 mv k x1 x2 = some r → ∀ (ls : Array Slot), lv_has ls 4 [(0, .ref h0), (1, .int x1), (2, .int x2)] → W p l e ({ frames := 3, cells := 0, slots := 0, locals := 79 } : Room) s m ([.ref h0, .int p1] : List Value).toArray below meth c H0 [] 0 0 (MQ below (roQ (.int r)) ([.ref h0, .int p1] : List Value).toArray s 0 0 noA) (F0 m 12 ls []) := by
  obtain ⟨hx, hb, hml, hown, hts⟩ := id hF
  intro k
  induction k with
  | zero =>
    intro x1 x2 hJ
    rw [L1_places_12] at hJ
    cases hJ
  | succ k ih =>
    intro x1 x2 hJ ls hl
    rw [L1_places_12] at hJ
    refine lv_iload_n hx hb dX1_places_12 rfl (lv_at hl 2 rfl) ?_
    refine lv_iconst (v := 5) hx hb dX1_places_13 (by decide) ?_
    refine lv_icmp_ge (tgt := 49) hx hb dX1_places_14 (by decide) (fun c_4 => ?_) (fun c_4 => ?_)
    · have hJ := jt hJ c_4
      refine lv_iconst (v := 5) hx hb dX1_places_49 (by decide) ?_
      exact ro_iret hF hr hlk hH dX1_places_50 hJ
    · have hJ := jf hJ c_4
      refine lv_aload_n hx hb dX1_places_17 rfl (lv_at hl 0 rfl) ?_
      refine lv_iload_n hx hb dX1_places_18 rfl (lv_at hl 1 rfl) ?_
      refine lv_iload_n hx hb dX1_places_19 rfl (lv_at hl 2 rfl) ?_
      obtain ⟨r_6, h_5, hJ⟩ := jb hJ
      refine k1_write hF hP hK h_5 hl.1 (Nat.le_of_ble_eq_true rfl) dX1_places_20 ⟨Nat.le_of_ble_eq_true rfl, Nat.le_of_ble_eq_true rfl⟩ ⟨Nat.zero_le _, Nat.zero_le _⟩ ?_
      refine lv_istore_n (lv' := [(3, .int r_6), (0, .ref h0), (1, .int x1), (2, .int x2)]) hx hb dX1_places_23 rfl hl (by decide) rfl (fun ls hl => ?_)
      refine lv_iload_n hx hb dX1_places_24 rfl (lv_at hl 0 rfl) ?_
      refine lv_ldc hx hb hown (hts _ q250) dX1_places_25 ?_
      refine lv_icmp_gt (tgt := 43) hx hb dX1_places_27 (by decide) (fun c_7 => ?_) (fun c_7 => ?_)
      · have hJ := jt hJ c_7
        obtain ⟨x2_8, ex2_8⟩ : ∃ y : Int32, y = x2 + (1 : Int32) := ⟨_, rfl⟩
        have hJ := jlet hJ ex2_8
        refine lv_iinc (v := x2_8) (lv' := [(2, .int x2_8), (3, .int r_6), (0, .ref h0), (1, .int x1)]) hx hb dX1_places_43 hl (k := 3) rfl (by rw [ex2_8]; rfl) (by decide) rfl (fun ls hl => ?_)
        refine lv_goto (tgt := 12) hx hb dX1_places_46 (by decide) ?_
        exact ih x1 x2_8 hJ ls (lv_sub hl [2, 3, 0] rfl)
      · have hJ := jf hJ c_7
        refine lv_aload_n hx hb dX1_places_30 rfl (lv_at hl 1 rfl) ?_
        refine lv_iload_n hx hb dX1_places_31 rfl (lv_at hl 2 rfl) ?_
        refine lv_iload_n hx hb dX1_places_32 rfl (lv_at hl 0 rfl) ?_
        refine lv_iload_n hx hb dX1_places_33 rfl (lv_at hl 3 rfl) ?_
        refine lv_ineg hx hb dX1_places_34 ?_
        obtain ⟨r_10, h_9, hJ⟩ := jb hJ
        refine k1_isName hF hP hK h_9 hl.1 (Nat.le_of_ble_eq_true rfl) dX1_places_35 ⟨Nat.le_of_ble_eq_true rfl, Nat.le_of_ble_eq_true rfl⟩ ⟨Nat.zero_le _, Nat.zero_le _⟩ ?_
        refine lv_if_eq (tgt := 43) hx hb dX1_places_38 (by decide) (fun c_11 => ?_) (fun c_11 => ?_)
        · have hJ := jt hJ c_11
          obtain ⟨x2_12, ex2_12⟩ : ∃ y : Int32, y = x2 + (1 : Int32) := ⟨_, rfl⟩
          have hJ := jlet hJ ex2_12
          refine lv_iinc (v := x2_12) (lv' := [(2, .int x2_12), (3, .int r_6), (0, .ref h0), (1, .int x1)]) hx hb dX1_places_43 hl (k := 3) rfl (by rw [ex2_12]; rfl) (by decide) rfl (fun ls hl => ?_)
          refine lv_goto (tgt := 12) hx hb dX1_places_46 (by decide) ?_
          exact ih x1 x2_12 hJ ls (lv_sub hl [2, 3, 0] rfl)
        · have hJ := jf hJ c_11
          refine lv_iload_n hx hb dX1_places_41 rfl (lv_at hl 3 rfl) ?_
          exact ro_iret hF hr hlk hH dX1_places_42 hJ
set_option maxHeartbeats 4000000 in
set_option maxRecDepth 100000 in
theorem m1_places (l : Launch) (D : va_G) (H0 : Heap) (h0 hv ht : Nat) (dA : ClassId) (mv : Nat → Int32) (ks : Nat → Int32) (f2 : Int32) (f3 : Int32) (f4 : Int32) (hP : va_P D vwCl (W1 h0 hv ht dA mv ks f2 f3 f4) H0) (p1 : Int32) (r : Int32) (hJ : J1_places mv p1 = some r) : Met l yX1_places (ws_ yX1_places cX1_places 4 (some .int)) ({ frames := 3, cells := 0, slots := 0, locals := 79 } : Room) (roP D [(dA, .int)] H0 [.ref h0, .int p1]) (roQ (.int r)) 0 0 noA := by
  refine ro_enter (by decide) (Nat.le_of_ble_eq_true rfl) ?_
  intro p e s m below meth c hF hr hlk hH hK ls hl
  have hl : lv_has ls 4 [(0, .ref h0), (1, .int p1)] := hl
  obtain ⟨hx, hb, hml, hown, hts⟩ := id hF
  unfold J1_places at hJ
  refine lv_aload_n hx hb dX1_places_0 rfl (lv_at hl 0 rfl) ?_
  refine lv_iload_n hx hb dX1_places_1 rfl (lv_at hl 1 rfl) ?_
  obtain ⟨r_2, h_1, hJ⟩ := jb hJ
  refine k1_isCode hF (xR.of hP 0 rfl) hK h_1 hl.1 (Nat.le_of_ble_eq_true rfl) dX1_places_2 ⟨Nat.le_of_ble_eq_true rfl, Nat.le_of_ble_eq_true rfl⟩ ⟨Nat.zero_le _, Nat.zero_le _⟩ ?_
  refine lv_if_ne (tgt := 10) hx hb dX1_places_5 (by decide) (fun c_3 => ?_) (fun c_3 => ?_)
  · have hJ := jf hJ c_3
    refine lv_iconst (v := 0) hx hb dX1_places_10 (by decide) ?_
    refine lv_istore_n (lv' := [(2, .int (0 : Int32)), (0, .ref h0), (1, .int p1)]) hx hb dX1_places_11 rfl hl (by decide) rfl (fun ls hl => ?_)
    exact l1_places_12 mv ks f2 f3 f4 hP p1 hF hr hlk hH hK r FU p1 (0 : Int32) hJ ls (lv_sub hl [1, 2, 0] rfl)
  · have hJ := jt hJ c_3
    refine lv_iconst (v := -1) hx hb dX1_places_8 (by decide) ?_
    exact ro_iret hF hr hlk hH dX1_places_9 hJ
/-! ShortestDigitsModel.countDigits(Z)I -/
def L1_countDigits_7 (ks : Nat → Int32) (f2 : Int32) : Nat → Int32 → Int32 → Int32 → Int32 → Option Int32
  | 0, _, _, _, _ => none
  | k + 1, x1, x2, x3, x4 =>
    if f2 ≤ x4 then
      some x2
    else
      Option.bind (
        if x3 = 0 then
          if (x4 < 0 ∨ 9 ≤ x4.toNatClampNeg) then none else
          if (ks x4.toNatClampNeg) = (10 : Int32) then
            some (1 : Int32)
          else
            some (0 : Int32)
        else
          some (1 : Int32)) (fun (v_2 : Int32) =>
      Option.bind (
        if (x4 < 0 ∨ 9 ≤ x4.toNatClampNeg) then none else
        if (ks x4.toNatClampNeg) = (10 : Int32) then
          some x2
        else
          if v_2 = 0 then
            if x1 = 0 then
              some (x2 + (1 : Int32))
            else
              some x2
          else
            some (x2 + (1 : Int32))) (fun (v_6 : Int32) =>
      jL (x4 + (1 : Int32)) (fun (x4_11 : Int32) =>
      L1_countDigits_7 ks f2 k x1 v_6 v_2 x4_11)))
def J1_countDigits (ks : Nat → Int32) (f2 : Int32) (p1 : Int32) : Option Int32 :=
  L1_countDigits_7 ks f2 FU p1 (0 : Int32) (0 : Int32) (0 : Int32)
set_option maxHeartbeats 4000000 in
set_option maxRecDepth 100000 in
theorem l1_countDigits_7 {p : Program} {l : Launch} {e : Env} {s : State} {m : MethodId} {below : List Frame} {meth : Method} {c : Code} {D : va_G} {H0 : Heap} {h0 hv ht : Nat} {dA : ClassId} (mv : Nat → Int32) (ks : Nat → Int32) (f2 : Int32) (f3 : Int32) (f4 : Int32) (hP : va_P D vwCl (W1 h0 hv ht dA mv ks f2 f3 f4) H0) (p1 : Int32) (hF : CallFix p m c cX1_countDigits 5 s ([.ref h0, .int p1] : List Value).toArray lw_all RX1) (hr : meth.sig.returnType = (some .int)) (hlk : meth.locks = false) (hH : s.heap = H0) (hK : va_K D vwCl [(dA, .int)] s) (r : Int32) :
    ∀ (k : Nat) (x1 : Int32) (x2 : Int32) (x3 : Int32) (x4 : Int32), L1_countDigits_7 ks f2 k x1 x2 x3 x4 = some r → ∀ (ls : Array Slot), lv_has ls 5 [(0, .ref h0), (1, .int x1), (2, .int x2), (3, .int x3), (4, .int x4)] → W p l e ({ frames := 0, cells := 0, slots := 0, locals := 0 } : Room) s m ([.ref h0, .int p1] : List Value).toArray below meth c H0 [] 0 0 (MQ below (roQ (.int r)) ([.ref h0, .int p1] : List Value).toArray s 0 0 noA) (F0 m 7 ls []) := by
  obtain ⟨hx, hb, hml, hown, hts⟩ := id hF
  intro k
  induction k with
  | zero =>
    intro x1 x2 x3 x4 hJ
    rw [L1_countDigits_7] at hJ
    cases hJ
  | succ k ih =>
    intro x1 x2 x3 x4 hJ ls hl
    rw [L1_countDigits_7] at hJ
    refine lv_iload hx hb dX1_countDigits_7 (lv_at hl 4 rfl) ?_
    refine lv_aload_n hx hb dX1_countDigits_9 rfl (lv_at hl 0 rfl) ?_
    refine va_get (D := D) (ci := 1) (v := .int f2) (C := RX1) (T := TX1) (N := 5) hx hb hts in_X1 hown hK hP 0 rfl rfl 2 (by decide) (hts _ q220) (fun _ h9 => h9) rfl dX1_countDigits_10 ?_
    refine lv_icmp_ge (tgt := 72) hx hb dX1_countDigits_13 (by decide) (fun c_1 => ?_) (fun c_1 => ?_)
    · have hJ := jt hJ c_1
      refine lv_iload_n hx hb dX1_countDigits_72 rfl (lv_at hl 2 rfl) ?_
      exact ro_iret hF hr hlk hH dX1_countDigits_73 hJ
    · have hJ := jf hJ c_1
      obtain ⟨v_2, hR16, hJ⟩ := jb hJ
      refine jn 5 [(0, .ref h0), (1, .int x1), (2, .int x2), (3, .int x3), (4, .int x4)] 37 [.int v_2] ?_ (fun K37 => ?_)
      · intro ls hl
        refine lv_istore_n (lv' := [(3, .int v_2), (0, .ref h0), (1, .int x1), (2, .int x2), (4, .int x4)]) hx hb dX1_countDigits_37 rfl hl (by decide) rfl (fun ls hl => ?_)
        obtain ⟨v_6, hR38, hJ⟩ := jb hJ
        refine jn 5 [(3, .int v_2), (0, .ref h0), (1, .int x1), (2, .int x2), (4, .int x4)] 65 [.int v_6] ?_ (fun K65 => ?_)
        · intro ls hl
          refine lv_istore_n (lv' := [(2, .int v_6), (3, .int v_2), (0, .ref h0), (1, .int x1), (4, .int x4)]) hx hb dX1_countDigits_65 rfl hl (by decide) rfl (fun ls hl => ?_)
          obtain ⟨x4_11, ex4_11⟩ : ∃ y : Int32, y = x4 + (1 : Int32) := ⟨_, rfl⟩
          have hJ := jlet hJ ex4_11
          refine lv_iinc (v := x4_11) (lv' := [(4, .int x4_11), (2, .int v_6), (3, .int v_2), (0, .ref h0), (1, .int x1)]) hx hb dX1_countDigits_66 hl (k := 4) rfl (by rw [ex4_11]; rfl) (by decide) rfl (fun ls hl => ?_)
          refine lv_goto (tgt := 7) hx hb dX1_countDigits_69 (by decide) ?_
          exact ih x1 v_6 v_2 x4_11 hJ ls (lv_sub hl [3, 4, 1, 2, 0] rfl)
        · have hJ := hR38
          refine lv_aload_n hx hb dX1_countDigits_38 rfl (lv_at hl 1 rfl) ?_
          refine va_get (D := D) (ci := 1) (v := .ref ht) (C := RX1) (T := TX1) (N := 5) hx hb hts in_X1 hown hK hP 0 rfl rfl 1 (by decide) (hts _ q219) (fun _ h9 => h9) rfl dX1_countDigits_39 ?_
          refine lv_iload hx hb dX1_countDigits_42 (lv_at hl 4 rfl) ?_
          obtain ⟨g_10, hJ⟩ := jg hJ
          refine va_iald hx hb hK hP 2 0 rfl rfl g_10 dX1_countDigits_44 ?_
          refine lv_bipush (v := 10) hx hb dX1_countDigits_45 (by decide) ?_
          refine lv_icmp_eq (tgt := 64) hx hb dX1_countDigits_47 (by decide) (fun c_7 => ?_) (fun c_7 => ?_)
          · have hJ := jt hJ c_7
            refine lv_iload_n hx hb dX1_countDigits_64 rfl (lv_at hl 3 rfl) ?_
            obtain rfl := Option.some.inj hJ
            exact K65 ls (lv_sub hl [0, 1, 2, 3, 4] rfl)
          · have hJ := jf hJ c_7
            refine lv_iload_n hx hb dX1_countDigits_50 rfl (lv_at hl 0 rfl) ?_
            refine lv_if_ne (tgt := 58) hx hb dX1_countDigits_51 (by decide) (fun c_8 => ?_) (fun c_8 => ?_)
            · have hJ := jf hJ c_8
              refine lv_iload_n hx hb dX1_countDigits_58 rfl (lv_at hl 3 rfl) ?_
              refine lv_iconst (v := 1) hx hb dX1_countDigits_59 (by decide) ?_
              refine lv_iadd hx hb dX1_countDigits_60 ?_
              refine lv_goto (tgt := 65) hx hb dX1_countDigits_61 (by decide) ?_
              obtain rfl := Option.some.inj hJ
              exact K65 ls (lv_sub hl [0, 1, 2, 3, 4] rfl)
            · have hJ := jt hJ c_8
              refine lv_iload_n hx hb dX1_countDigits_54 rfl (lv_at hl 2 rfl) ?_
              refine lv_if_ne (tgt := 64) hx hb dX1_countDigits_55 (by decide) (fun c_9 => ?_) (fun c_9 => ?_)
              · have hJ := jf hJ c_9
                refine lv_iload_n hx hb dX1_countDigits_64 rfl (lv_at hl 3 rfl) ?_
                obtain rfl := Option.some.inj hJ
                exact K65 ls (lv_sub hl [0, 1, 2, 3, 4] rfl)
              · have hJ := jt hJ c_9
                refine lv_iload_n hx hb dX1_countDigits_58 rfl (lv_at hl 3 rfl) ?_
                refine lv_iconst (v := 1) hx hb dX1_countDigits_59 (by decide) ?_
                refine lv_iadd hx hb dX1_countDigits_60 ?_
                refine lv_goto (tgt := 65) hx hb dX1_countDigits_61 (by decide) ?_
                obtain rfl := Option.some.inj hJ
                exact K65 ls (lv_sub hl [0, 1, 2, 3, 4] rfl)
      · have hJ := hR16
        refine lv_iload_n hx hb dX1_countDigits_16 rfl (lv_at hl 3 rfl) ?_
        refine lv_if_ne (tgt := 32) hx hb dX1_countDigits_17 (by decide) (fun c_3 => ?_) (fun c_3 => ?_)
        · have hJ := jf hJ c_3
          refine lv_iconst (v := 1) hx hb dX1_countDigits_32 (by decide) ?_
          refine lv_goto (tgt := 37) hx hb dX1_countDigits_33 (by decide) ?_
          obtain rfl := Option.some.inj hJ
          exact K37 ls (lv_sub hl [0, 1, 2, 3, 4] rfl)
        · have hJ := jt hJ c_3
          refine lv_aload_n hx hb dX1_countDigits_20 rfl (lv_at hl 0 rfl) ?_
          refine va_get (D := D) (ci := 1) (v := .ref ht) (C := RX1) (T := TX1) (N := 5) hx hb hts in_X1 hown hK hP 0 rfl rfl 1 (by decide) (hts _ q219) (fun _ h9 => h9) rfl dX1_countDigits_21 ?_
          refine lv_iload hx hb dX1_countDigits_24 (lv_at hl 4 rfl) ?_
          obtain ⟨g_5, hJ⟩ := jg hJ
          refine va_iald hx hb hK hP 2 0 rfl rfl g_5 dX1_countDigits_26 ?_
          refine lv_bipush (v := 10) hx hb dX1_countDigits_27 (by decide) ?_
          refine lv_icmp_ne (tgt := 36) hx hb dX1_countDigits_29 (by decide) (fun c_4 => ?_) (fun c_4 => ?_)
          · have hJ := jf hJ c_4
            refine lv_iconst (v := 0) hx hb dX1_countDigits_36 (by decide) ?_
            obtain rfl := Option.some.inj hJ
            exact K37 ls (lv_sub hl [0, 1, 2, 3, 4] rfl)
          · have hJ := jt hJ c_4
            refine lv_iconst (v := 1) hx hb dX1_countDigits_32 (by decide) ?_
            refine lv_goto (tgt := 37) hx hb dX1_countDigits_33 (by decide) ?_
            obtain rfl := Option.some.inj hJ
            exact K37 ls (lv_sub hl [0, 1, 2, 3, 4] rfl)
set_option maxHeartbeats 4000000 in
set_option maxRecDepth 100000 in
theorem m1_countDigits (l : Launch) (D : va_G) (H0 : Heap) (h0 hv ht : Nat) (dA : ClassId) (mv : Nat → Int32) (ks : Nat → Int32) (f2 : Int32) (f3 : Int32) (f4 : Int32) (hP : va_P D vwCl (W1 h0 hv ht dA mv ks f2 f3 f4) H0) (p1 : Int32) (r : Int32) (hJ : J1_countDigits ks f2 p1 = some r) : Met l yX1_countDigits (ws_ yX1_countDigits cX1_countDigits 5 (some .int)) ({ frames := 0, cells := 0, slots := 0, locals := 0 } : Room) (roP D [(dA, .int)] H0 [.ref h0, .int p1]) (roQ (.int r)) 0 0 noA := by
  refine ro_enter (by decide) (Nat.le_of_ble_eq_true rfl) ?_
  intro p e s m below meth c hF hr hlk hH hK ls hl
  have hl : lv_has ls 5 [(0, .ref h0), (1, .int p1)] := hl
  obtain ⟨hx, hb, hml, hown, hts⟩ := id hF
  unfold J1_countDigits at hJ
  refine lv_iconst (v := 0) hx hb dX1_countDigits_0 (by decide) ?_
  refine lv_istore_n (lv' := [(2, .int (0 : Int32)), (0, .ref h0), (1, .int p1)]) hx hb dX1_countDigits_1 rfl hl (by decide) rfl (fun ls hl => ?_)
  refine lv_iconst (v := 0) hx hb dX1_countDigits_2 (by decide) ?_
  refine lv_istore_n (lv' := [(3, .int (0 : Int32)), (2, .int (0 : Int32)), (0, .ref h0), (1, .int p1)]) hx hb dX1_countDigits_3 rfl hl (by decide) rfl (fun ls hl => ?_)
  refine lv_iconst (v := 0) hx hb dX1_countDigits_4 (by decide) ?_
  refine lv_istore (lv' := [(4, .int (0 : Int32)), (3, .int (0 : Int32)), (2, .int (0 : Int32)), (0, .ref h0), (1, .int p1)]) hx hb dX1_countDigits_5 hl (by decide) rfl (fun ls hl => ?_)
  exact l1_countDigits_7 mv ks f2 f3 f4 hP p1 hF hr hlk hH hK r FU p1 (0 : Int32) (0 : Int32) (0 : Int32) hJ ls (lv_sub hl [3, 4, 2, 1, 0] rfl)
theorem k1_countDigits {p : Program} {l : Launch} {e : Env} {R : Room} {s : State} {m : MethodId} {args : Array Value} {below : List Frame} {meth : Method} {c : Code} {H : Heap} {locs : List Loc} {cells slots : Nat} {Q : State → Prop} {cc : ByteArray} {nL pc : Nat} {ls : Array Slot} {rest : List Value} {D : va_G} {b hv ht : Nat} {dA : ClassId} {mv : Nat → Int32} {ks : Nat → Int32} {f2 : Int32} {f3 : Int32} {f4 : Int32} (hF : CallFix p m c cc nL s args lw_all RX1) (hP : va_P D vwCl (W1 b hv ht dA mv ks f2 f3 f4) H) (hK : va_K D vwCl [(dA, .int)] s) {p1 : Int32} {r : Int32} (hJ : J1_countDigits ks f2 p1 = some r) (hsz : ls.size = nL) (hW : (rest.map fun v => v.category).sum ≤ 8) (hdg : decode cc pc = .ok (.invokevirtual 81, 3)) (hR : 0 + 1 ≤ R.frames ∧ 8 + (5 + 11) + 0 ≤ R.locals) (hf : cells ≤ R.cells ∧ slots ≤ R.slots) (kk : W p l e R s m args below meth c H locs cells slots Q (F0 m (pc + 3) ls (.int r :: rest))) : W p l e R s m args below meth c H locs cells slots Q (F0 m pc ls (.int p1 :: .ref b :: rest)) :=
  ro_call (n := 1) (ci := 1) hF (m1_countDigits l D H b hv ht dA mv ks f2 f3 f4 hP p1 r hJ) (lw_V q322 q324 qs31 q34 q325) (by decide +kernel) rfl rfl hR (xR.of hP 0 rfl) hK rfl rfl rfl hsz rfl hW hdg hf kk
/-! ShortestDigitsModel.typedDigits()I -/
def L1_typedDigits_4 (ks : Nat → Int32) (f2 : Int32) : Nat → Int32 → Int32 → Option Int32
  | 0, _, _ => none
  | k + 1, x1, x2 =>
    if f2 ≤ x2 then
      some x1
    else
      Option.bind (
        if (x2 < 0 ∨ 9 ≤ x2.toNatClampNeg) then none else
        if (ks x2.toNatClampNeg) = (10 : Int32) then
          some x1
        else
          if (x2 < 0 ∨ 9 ≤ x2.toNatClampNeg) then none else
          some (((10 : Int32) * x1) + (ks x2.toNatClampNeg))) (fun (v_2 : Int32) =>
      jL (x2 + (1 : Int32)) (fun (x2_6 : Int32) =>
      L1_typedDigits_4 ks f2 k v_2 x2_6))
def J1_typedDigits (ks : Nat → Int32) (f2 : Int32) : Option Int32 :=
  L1_typedDigits_4 ks f2 FU (0 : Int32) (0 : Int32)
set_option maxHeartbeats 4000000 in
set_option maxRecDepth 100000 in
theorem l1_typedDigits_4 {p : Program} {l : Launch} {e : Env} {s : State} {m : MethodId} {below : List Frame} {meth : Method} {c : Code} {D : va_G} {H0 : Heap} {h0 hv ht : Nat} {dA : ClassId} (mv : Nat → Int32) (ks : Nat → Int32) (f2 : Int32) (f3 : Int32) (f4 : Int32) (hP : va_P D vwCl (W1 h0 hv ht dA mv ks f2 f3 f4) H0)  (hF : CallFix p m c cX1_typedDigits 3 s ([.ref h0] : List Value).toArray lw_all RX1) (hr : meth.sig.returnType = (some .int)) (hlk : meth.locks = false) (hH : s.heap = H0) (hK : va_K D vwCl [(dA, .int)] s) (r : Int32) :
    ∀ (k : Nat) (x1 : Int32) (x2 : Int32), L1_typedDigits_4 ks f2 k x1 x2 = some r → ∀ (ls : Array Slot), lv_has ls 3 [(0, .ref h0), (1, .int x1), (2, .int x2)] → W p l e ({ frames := 0, cells := 0, slots := 0, locals := 0 } : Room) s m ([.ref h0] : List Value).toArray below meth c H0 [] 0 0 (MQ below (roQ (.int r)) ([.ref h0] : List Value).toArray s 0 0 noA) (F0 m 4 ls []) := by
  obtain ⟨hx, hb, hml, hown, hts⟩ := id hF
  intro k
  induction k with
  | zero =>
    intro x1 x2 hJ
    rw [L1_typedDigits_4] at hJ
    cases hJ
  | succ k ih =>
    intro x1 x2 hJ ls hl
    rw [L1_typedDigits_4] at hJ
    refine lv_iload_n hx hb dX1_typedDigits_4 rfl (lv_at hl 2 rfl) ?_
    refine lv_aload_n hx hb dX1_typedDigits_5 rfl (lv_at hl 0 rfl) ?_
    refine va_get (D := D) (ci := 1) (v := .int f2) (C := RX1) (T := TX1) (N := 5) hx hb hts in_X1 hown hK hP 0 rfl rfl 2 (by decide) (hts _ q220) (fun _ h9 => h9) rfl dX1_typedDigits_6 ?_
    refine lv_icmp_ge (tgt := 45) hx hb dX1_typedDigits_9 (by decide) (fun c_1 => ?_) (fun c_1 => ?_)
    · have hJ := jt hJ c_1
      refine lv_iload_n hx hb dX1_typedDigits_45 rfl (lv_at hl 1 rfl) ?_
      exact ro_iret hF hr hlk hH dX1_typedDigits_46 hJ
    · have hJ := jf hJ c_1
      obtain ⟨v_2, hR12, hJ⟩ := jb hJ
      refine jn 3 [(0, .ref h0), (1, .int x1), (2, .int x2)] 38 [.int v_2] ?_ (fun K38 => ?_)
      · intro ls hl
        refine lv_istore_n (lv' := [(1, .int v_2), (0, .ref h0), (2, .int x2)]) hx hb dX1_typedDigits_38 rfl hl (by decide) rfl (fun ls hl => ?_)
        obtain ⟨x2_6, ex2_6⟩ : ∃ y : Int32, y = x2 + (1 : Int32) := ⟨_, rfl⟩
        have hJ := jlet hJ ex2_6
        refine lv_iinc (v := x2_6) (lv' := [(2, .int x2_6), (1, .int v_2), (0, .ref h0)]) hx hb dX1_typedDigits_39 hl (k := 2) rfl (by rw [ex2_6]; rfl) (by decide) rfl (fun ls hl => ?_)
        refine lv_goto (tgt := 4) hx hb dX1_typedDigits_42 (by decide) ?_
        exact ih v_2 x2_6 hJ ls (lv_sub hl [2, 1, 0] rfl)
      · have hJ := hR12
        refine lv_aload_n hx hb dX1_typedDigits_12 rfl (lv_at hl 0 rfl) ?_
        refine va_get (D := D) (ci := 1) (v := .ref ht) (C := RX1) (T := TX1) (N := 5) hx hb hts in_X1 hown hK hP 0 rfl rfl 1 (by decide) (hts _ q219) (fun _ h9 => h9) rfl dX1_typedDigits_13 ?_
        refine lv_iload_n hx hb dX1_typedDigits_16 rfl (lv_at hl 2 rfl) ?_
        obtain ⟨g_5, hJ⟩ := jg hJ
        refine va_iald hx hb hK hP 2 0 rfl rfl g_5 dX1_typedDigits_17 ?_
        refine lv_bipush (v := 10) hx hb dX1_typedDigits_18 (by decide) ?_
        refine lv_icmp_ne (tgt := 27) hx hb dX1_typedDigits_20 (by decide) (fun c_3 => ?_) (fun c_3 => ?_)
        · have hJ := jf hJ c_3
          refine lv_bipush (v := 10) hx hb dX1_typedDigits_27 (by decide) ?_
          refine lv_iload_n hx hb dX1_typedDigits_29 rfl (lv_at hl 1 rfl) ?_
          refine lv_imul hx hb dX1_typedDigits_30 ?_
          refine lv_aload_n hx hb dX1_typedDigits_31 rfl (lv_at hl 0 rfl) ?_
          refine va_get (D := D) (ci := 1) (v := .ref ht) (C := RX1) (T := TX1) (N := 5) hx hb hts in_X1 hown hK hP 0 rfl rfl 1 (by decide) (hts _ q219) (fun _ h9 => h9) rfl dX1_typedDigits_32 ?_
          refine lv_iload_n hx hb dX1_typedDigits_35 rfl (lv_at hl 2 rfl) ?_
          obtain ⟨g_4, hJ⟩ := jg hJ
          refine va_iald hx hb hK hP 2 0 rfl rfl g_4 dX1_typedDigits_36 ?_
          refine lv_iadd hx hb dX1_typedDigits_37 ?_
          obtain rfl := Option.some.inj hJ
          exact K38 ls (lv_sub hl [0, 1, 2] rfl)
        · have hJ := jt hJ c_3
          refine lv_iload_n hx hb dX1_typedDigits_23 rfl (lv_at hl 1 rfl) ?_
          refine lv_goto (tgt := 38) hx hb dX1_typedDigits_24 (by decide) ?_
          obtain rfl := Option.some.inj hJ
          exact K38 ls (lv_sub hl [0, 1, 2] rfl)
set_option maxHeartbeats 4000000 in
set_option maxRecDepth 100000 in
theorem m1_typedDigits (l : Launch) (D : va_G) (H0 : Heap) (h0 hv ht : Nat) (dA : ClassId) (mv : Nat → Int32) (ks : Nat → Int32) (f2 : Int32) (f3 : Int32) (f4 : Int32) (hP : va_P D vwCl (W1 h0 hv ht dA mv ks f2 f3 f4) H0)  (r : Int32) (hJ : J1_typedDigits ks f2 = some r) : Met l yX1_typedDigits (ws_ yX1_typedDigits cX1_typedDigits 3 (some .int)) ({ frames := 0, cells := 0, slots := 0, locals := 0 } : Room) (roP D [(dA, .int)] H0 [.ref h0]) (roQ (.int r)) 0 0 noA := by
  refine ro_enter (by decide) (Nat.le_of_ble_eq_true rfl) ?_
  intro p e s m below meth c hF hr hlk hH hK ls hl
  have hl : lv_has ls 3 [(0, .ref h0)] := hl
  obtain ⟨hx, hb, hml, hown, hts⟩ := id hF
  unfold J1_typedDigits at hJ
  refine lv_iconst (v := 0) hx hb dX1_typedDigits_0 (by decide) ?_
  refine lv_istore_n (lv' := [(1, .int (0 : Int32)), (0, .ref h0)]) hx hb dX1_typedDigits_1 rfl hl (by decide) rfl (fun ls hl => ?_)
  refine lv_iconst (v := 0) hx hb dX1_typedDigits_2 (by decide) ?_
  refine lv_istore_n (lv' := [(2, .int (0 : Int32)), (1, .int (0 : Int32)), (0, .ref h0)]) hx hb dX1_typedDigits_3 rfl hl (by decide) rfl (fun ls hl => ?_)
  exact l1_typedDigits_4 mv ks f2 f3 f4 hP  hF hr hlk hH hK r FU (0 : Int32) (0 : Int32) hJ ls (lv_sub hl [2, 1, 0] rfl)
theorem k1_typedDigits {p : Program} {l : Launch} {e : Env} {R : Room} {s : State} {m : MethodId} {args : Array Value} {below : List Frame} {meth : Method} {c : Code} {H : Heap} {locs : List Loc} {cells slots : Nat} {Q : State → Prop} {cc : ByteArray} {nL pc : Nat} {ls : Array Slot} {rest : List Value} {D : va_G} {b hv ht : Nat} {dA : ClassId} {mv : Nat → Int32} {ks : Nat → Int32} {f2 : Int32} {f3 : Int32} {f4 : Int32} (hF : CallFix p m c cc nL s args lw_all RX1) (hP : va_P D vwCl (W1 b hv ht dA mv ks f2 f3 f4) H) (hK : va_K D vwCl [(dA, .int)] s)  {r : Int32} (hJ : J1_typedDigits ks f2 = some r) (hsz : ls.size = nL) (hW : (rest.map fun v => v.category).sum ≤ 8) (hdg : decode cc pc = .ok (.invokevirtual 85, 3)) (hR : 0 + 1 ≤ R.frames ∧ 8 + (3 + 11) + 0 ≤ R.locals) (hf : cells ≤ R.cells ∧ slots ≤ R.slots) (kk : W p l e R s m args below meth c H locs cells slots Q (F0 m (pc + 3) ls (.int r :: rest))) : W p l e R s m args below meth c H locs cells slots Q (F0 m pc ls (.ref b :: rest)) :=
  ro_call (n := 0) (ci := 1) hF (m1_typedDigits l D H b hv ht dA mv ks f2 f3 f4 hP  r hJ) (lw_V q338 q339 q340 q34 q341) (by decide +kernel) rfl rfl hR (xR.of hP 0 rfl) hK rfl rfl rfl hsz rfl hW hdg hf kk
/-! ShortestDigitsModel.typed()I -/
def J1_typed (mv : Nat → Int32) (ks : Nat → Int32) (f2 : Int32) : Option Int32 :=
  Option.bind (J1_typedDigits ks f2) (fun (r_2 : Int32) =>
  Option.bind (J1_countDigits ks f2 (1 : Int32)) (fun (r_4 : Int32) =>
  Option.bind (J1_read mv r_2 (-r_4)) (fun (r_6 : Int32) =>
  some r_6)))
set_option maxHeartbeats 4000000 in
set_option maxRecDepth 100000 in
theorem m1_typed (l : Launch) (D : va_G) (H0 : Heap) (h0 hv ht : Nat) (dA : ClassId) (mv : Nat → Int32) (ks : Nat → Int32) (f2 : Int32) (f3 : Int32) (f4 : Int32) (hP : va_P D vwCl (W1 h0 hv ht dA mv ks f2 f3 f4) H0)  (r : Int32) (hJ : J1_typed mv ks f2 = some r) : Met l yX1_typed (ws_ yX1_typed cX1_typed 2 (some .int)) ({ frames := 3, cells := 0, slots := 0, locals := 76 } : Room) (roP D [(dA, .int)] H0 [.ref h0]) (roQ (.int r)) 0 0 noA := by
  refine ro_enter (by decide) (Nat.le_of_ble_eq_true rfl) ?_
  intro p e s m below meth c hF hr hlk hH hK ls hl
  have hl : lv_has ls 2 [(0, .ref h0)] := hl
  obtain ⟨hx, hb, hml, hown, hts⟩ := id hF
  unfold J1_typed at hJ
  refine lv_aload_n hx hb dX1_typed_0 rfl (lv_at hl 0 rfl) ?_
  obtain ⟨r_2, h_1, hJ⟩ := jb hJ
  refine k1_typedDigits hF hP hK h_1 hl.1 (Nat.le_of_ble_eq_true rfl) dX1_typed_1 ⟨Nat.le_of_ble_eq_true rfl, Nat.le_of_ble_eq_true rfl⟩ ⟨Nat.zero_le _, Nat.zero_le _⟩ ?_
  refine lv_istore_n (lv' := [(1, .int r_2), (0, .ref h0)]) hx hb dX1_typed_4 rfl hl (by decide) rfl (fun ls hl => ?_)
  refine lv_aload_n hx hb dX1_typed_5 rfl (lv_at hl 1 rfl) ?_
  refine lv_iload_n hx hb dX1_typed_6 rfl (lv_at hl 0 rfl) ?_
  refine lv_aload_n hx hb dX1_typed_7 rfl (lv_at hl 1 rfl) ?_
  refine lv_iconst (v := 1) hx hb dX1_typed_8 (by decide) ?_
  obtain ⟨r_4, h_3, hJ⟩ := jb hJ
  refine k1_countDigits hF hP hK h_3 hl.1 (Nat.le_of_ble_eq_true rfl) dX1_typed_9 ⟨Nat.le_of_ble_eq_true rfl, Nat.le_of_ble_eq_true rfl⟩ ⟨Nat.zero_le _, Nat.zero_le _⟩ ?_
  refine lv_ineg hx hb dX1_typed_12 ?_
  obtain ⟨r_6, h_5, hJ⟩ := jb hJ
  refine k1_read hF hP hK h_5 hl.1 (Nat.le_of_ble_eq_true rfl) dX1_typed_13 ⟨Nat.le_of_ble_eq_true rfl, Nat.le_of_ble_eq_true rfl⟩ ⟨Nat.zero_le _, Nat.zero_le _⟩ ?_
  exact ro_iret hF hr hlk hH dX1_typed_16 hJ
/-! ShortestDigitsModel.spare()I -/
def L1_spare_35 (mv : Nat → Int32) (ks : Nat → Int32) (f2 : Int32) : Nat → Int32 → Int32 → Int32 → Int32 → Int32 → Int32 → Int32 → Option Int32
  | 0, _, _, _, _, _, _, _ => none
  | k + 1, x1, x2, x3, x4, x5, x6, x7 =>
    if x6 < x7 then
      some x5
    else
      jL ((10 : Int32) * x4) (fun (x4_11 : Int32) =>
      Option.bind (
        if x4_11 = 0 then none else
        Option.bind (J1_read mv (x1 - (x1 - x1 / x4_11 * x4_11)) x2) (fun (r_14 : Int32) =>
        if r_14 = x3 then
          some x7
        else
          some x5)) (fun (v_12 : Int32) =>
      jL (x7 + (1 : Int32)) (fun (x7_17 : Int32) =>
      L1_spare_35 mv ks f2 k x1 x2 x3 x4_11 v_12 x6 x7_17)))
def J1_spare (mv : Nat → Int32) (ks : Nat → Int32) (f2 : Int32) : Option Int32 :=
  Option.bind (J1_typedDigits ks f2) (fun (r_2 : Int32) =>
  Option.bind (J1_countDigits ks f2 (1 : Int32)) (fun (r_4 : Int32) =>
  jL (-r_4) (fun (x2_5 : Int32) =>
  Option.bind (J1_read mv r_2 x2_5) (fun (r_7 : Int32) =>
  Option.bind (J1_countDigits ks f2 (0 : Int32)) (fun (r_9 : Int32) =>
  L1_spare_35 mv ks f2 FU r_2 x2_5 r_7 (1 : Int32) (0 : Int32) r_9 (1 : Int32))))))
set_option maxHeartbeats 4000000 in
set_option maxRecDepth 100000 in
theorem l1_spare_35 {p : Program} {l : Launch} {e : Env} {s : State} {m : MethodId} {below : List Frame} {meth : Method} {c : Code} {D : va_G} {H0 : Heap} {h0 hv ht : Nat} {dA : ClassId} (mv : Nat → Int32) (ks : Nat → Int32) (f2 : Int32) (f3 : Int32) (f4 : Int32) (hP : va_P D vwCl (W1 h0 hv ht dA mv ks f2 f3 f4) H0)  (hF : CallFix p m c cX1_spare 8 s ([.ref h0] : List Value).toArray lw_all RX1) (hr : meth.sig.returnType = (some .int)) (hlk : meth.locks = false) (hH : s.heap = H0) (hK : va_K D vwCl [(dA, .int)] s) (r : Int32) :
    ∀ (k : Nat) (x1 : Int32) (x2 : Int32) (x3 : Int32) (x4 : Int32) (x5 : Int32) (x6 : Int32) (x7 : Int32), L1_spare_35 mv ks f2 k x1 x2 x3 x4 x5 x6 x7 = some r → ∀ (ls : Array Slot), lv_has ls 8 [(0, .ref h0), (1, .int x1), (2, .int x2), (3, .int x3), (4, .int x4), (5, .int x5), (6, .int x6), (7, .int x7)] → W p l e ({ frames := 3, cells := 0, slots := 0, locals := 76 } : Room) s m ([.ref h0] : List Value).toArray below meth c H0 [] 0 0 (MQ below (roQ (.int r)) ([.ref h0] : List Value).toArray s 0 0 noA) (F0 m 35 ls []) := by
  obtain ⟨hx, hb, hml, hown, hts⟩ := id hF
  intro k
  induction k with
  | zero =>
    intro x1 x2 x3 x4 x5 x6 x7 hJ
    rw [L1_spare_35] at hJ
    cases hJ
  | succ k ih =>
    intro x1 x2 x3 x4 x5 x6 x7 hJ ls hl
    rw [L1_spare_35] at hJ
    refine lv_iload hx hb dX1_spare_35 (lv_at hl 7 rfl) ?_
    refine lv_iload hx hb dX1_spare_37 (lv_at hl 6 rfl) ?_
    refine lv_icmp_gt (tgt := 79) hx hb dX1_spare_39 (by decide) (fun c_10 => ?_) (fun c_10 => ?_)
    · have hJ := jt hJ c_10
      refine lv_iload hx hb dX1_spare_79 (lv_at hl 5 rfl) ?_
      exact ro_iret hF hr hlk hH dX1_spare_81 hJ
    · have hJ := jf hJ c_10
      refine lv_bipush (v := 10) hx hb dX1_spare_42 (by decide) ?_
      refine lv_iload hx hb dX1_spare_44 (lv_at hl 4 rfl) ?_
      refine lv_imul hx hb dX1_spare_46 ?_
      refine lv_topi (fun x4_11 ex4_11 => ?_)
      have hJ := jlet hJ ex4_11
      refine lv_istore (lv' := [(4, .int x4_11), (0, .ref h0), (1, .int x1), (2, .int x2), (3, .int x3), (5, .int x5), (6, .int x6), (7, .int x7)]) hx hb dX1_spare_47 hl (by decide) rfl (fun ls hl => ?_)
      obtain ⟨v_12, hR49, hJ⟩ := jb hJ
      refine jn 8 [(4, .int x4_11), (0, .ref h0), (1, .int x1), (2, .int x2), (3, .int x3), (5, .int x5), (6, .int x6), (7, .int x7)] 71 [.int v_12] ?_ (fun K71 => ?_)
      · intro ls hl
        refine lv_istore (lv' := [(5, .int v_12), (4, .int x4_11), (0, .ref h0), (1, .int x1), (2, .int x2), (3, .int x3), (6, .int x6), (7, .int x7)]) hx hb dX1_spare_71 hl (by decide) rfl (fun ls hl => ?_)
        obtain ⟨x7_17, ex7_17⟩ : ∃ y : Int32, y = x7 + (1 : Int32) := ⟨_, rfl⟩
        have hJ := jlet hJ ex7_17
        refine lv_iinc (v := x7_17) (lv' := [(7, .int x7_17), (5, .int v_12), (4, .int x4_11), (0, .ref h0), (1, .int x1), (2, .int x2), (3, .int x3), (6, .int x6)]) hx hb dX1_spare_73 hl (k := 7) rfl (by rw [ex7_17]; rfl) (by decide) rfl (fun ls hl => ?_)
        refine lv_goto (tgt := 35) hx hb dX1_spare_76 (by decide) ?_
        exact ih x1 x2 x3 x4_11 v_12 x6 x7_17 hJ ls (lv_sub hl [3, 4, 5, 6, 2, 1, 7, 0] rfl)
      · have hJ := hR49
        refine lv_aload_n hx hb dX1_spare_49 rfl (lv_at hl 1 rfl) ?_
        refine lv_iload_n hx hb dX1_spare_50 rfl (lv_at hl 2 rfl) ?_
        refine lv_iload_n hx hb dX1_spare_51 rfl (lv_at hl 2 rfl) ?_
        refine lv_iload hx hb dX1_spare_52 (lv_at hl 0 rfl) ?_
        obtain ⟨g_16, hJ⟩ := jg hJ
        refine lv_irem hx hb dX1_spare_54 g_16 ?_
        refine lv_isub hx hb dX1_spare_55 ?_
        refine lv_iload_n hx hb dX1_spare_56 rfl (lv_at hl 3 rfl) ?_
        obtain ⟨r_14, h_13, hJ⟩ := jb hJ
        refine k1_read hF hP hK h_13 hl.1 (Nat.le_of_ble_eq_true rfl) dX1_spare_57 ⟨Nat.le_of_ble_eq_true rfl, Nat.le_of_ble_eq_true rfl⟩ ⟨Nat.zero_le _, Nat.zero_le _⟩ ?_
        refine lv_iload_n hx hb dX1_spare_60 rfl (lv_at hl 4 rfl) ?_
        refine lv_icmp_ne (tgt := 69) hx hb dX1_spare_61 (by decide) (fun c_15 => ?_) (fun c_15 => ?_)
        · have hJ := jf hJ c_15
          refine lv_iload hx hb dX1_spare_69 (lv_at hl 5 rfl) ?_
          obtain rfl := Option.some.inj hJ
          exact K71 ls (lv_sub hl [0, 1, 2, 3, 4, 5, 6, 7] rfl)
        · have hJ := jt hJ c_15
          refine lv_iload hx hb dX1_spare_64 (lv_at hl 7 rfl) ?_
          refine lv_goto (tgt := 71) hx hb dX1_spare_66 (by decide) ?_
          obtain rfl := Option.some.inj hJ
          exact K71 ls (lv_sub hl [0, 1, 2, 3, 4, 5, 6, 7] rfl)
set_option maxHeartbeats 4000000 in
set_option maxRecDepth 100000 in
theorem m1_spare (l : Launch) (D : va_G) (H0 : Heap) (h0 hv ht : Nat) (dA : ClassId) (mv : Nat → Int32) (ks : Nat → Int32) (f2 : Int32) (f3 : Int32) (f4 : Int32) (hP : va_P D vwCl (W1 h0 hv ht dA mv ks f2 f3 f4) H0)  (r : Int32) (hJ : J1_spare mv ks f2 = some r) : Met l yX1_spare (ws_ yX1_spare cX1_spare 8 (some .int)) ({ frames := 3, cells := 0, slots := 0, locals := 76 } : Room) (roP D [(dA, .int)] H0 [.ref h0]) (roQ (.int r)) 0 0 noA := by
  refine ro_enter (by decide) (Nat.le_of_ble_eq_true rfl) ?_
  intro p e s m below meth c hF hr hlk hH hK ls hl
  have hl : lv_has ls 8 [(0, .ref h0)] := hl
  obtain ⟨hx, hb, hml, hown, hts⟩ := id hF
  unfold J1_spare at hJ
  refine lv_aload_n hx hb dX1_spare_0 rfl (lv_at hl 0 rfl) ?_
  obtain ⟨r_2, h_1, hJ⟩ := jb hJ
  refine k1_typedDigits hF hP hK h_1 hl.1 (Nat.le_of_ble_eq_true rfl) dX1_spare_1 ⟨Nat.le_of_ble_eq_true rfl, Nat.le_of_ble_eq_true rfl⟩ ⟨Nat.zero_le _, Nat.zero_le _⟩ ?_
  refine lv_istore_n (lv' := [(1, .int r_2), (0, .ref h0)]) hx hb dX1_spare_4 rfl hl (by decide) rfl (fun ls hl => ?_)
  refine lv_aload_n hx hb dX1_spare_5 rfl (lv_at hl 1 rfl) ?_
  refine lv_iconst (v := 1) hx hb dX1_spare_6 (by decide) ?_
  obtain ⟨r_4, h_3, hJ⟩ := jb hJ
  refine k1_countDigits hF hP hK h_3 hl.1 (Nat.le_of_ble_eq_true rfl) dX1_spare_7 ⟨Nat.le_of_ble_eq_true rfl, Nat.le_of_ble_eq_true rfl⟩ ⟨Nat.zero_le _, Nat.zero_le _⟩ ?_
  refine lv_ineg hx hb dX1_spare_10 ?_
  refine lv_topi (fun x2_5 ex2_5 => ?_)
  have hJ := jlet hJ ex2_5
  refine lv_istore_n (lv' := [(2, .int x2_5), (1, .int r_2), (0, .ref h0)]) hx hb dX1_spare_11 rfl hl (by decide) rfl (fun ls hl => ?_)
  refine lv_aload_n hx hb dX1_spare_12 rfl (lv_at hl 2 rfl) ?_
  refine lv_iload_n hx hb dX1_spare_13 rfl (lv_at hl 1 rfl) ?_
  refine lv_iload_n hx hb dX1_spare_14 rfl (lv_at hl 0 rfl) ?_
  obtain ⟨r_7, h_6, hJ⟩ := jb hJ
  refine k1_read hF hP hK h_6 hl.1 (Nat.le_of_ble_eq_true rfl) dX1_spare_15 ⟨Nat.le_of_ble_eq_true rfl, Nat.le_of_ble_eq_true rfl⟩ ⟨Nat.zero_le _, Nat.zero_le _⟩ ?_
  refine lv_istore_n (lv' := [(3, .int r_7), (2, .int x2_5), (1, .int r_2), (0, .ref h0)]) hx hb dX1_spare_18 rfl hl (by decide) rfl (fun ls hl => ?_)
  refine lv_iconst (v := 1) hx hb dX1_spare_19 (by decide) ?_
  refine lv_istore (lv' := [(4, .int (1 : Int32)), (3, .int r_7), (2, .int x2_5), (1, .int r_2), (0, .ref h0)]) hx hb dX1_spare_20 hl (by decide) rfl (fun ls hl => ?_)
  refine lv_iconst (v := 0) hx hb dX1_spare_22 (by decide) ?_
  refine lv_istore (lv' := [(5, .int (0 : Int32)), (4, .int (1 : Int32)), (3, .int r_7), (2, .int x2_5), (1, .int r_2), (0, .ref h0)]) hx hb dX1_spare_23 hl (by decide) rfl (fun ls hl => ?_)
  refine lv_aload_n hx hb dX1_spare_25 rfl (lv_at hl 5 rfl) ?_
  refine lv_iconst (v := 0) hx hb dX1_spare_26 (by decide) ?_
  obtain ⟨r_9, h_8, hJ⟩ := jb hJ
  refine k1_countDigits hF hP hK h_8 hl.1 (Nat.le_of_ble_eq_true rfl) dX1_spare_27 ⟨Nat.le_of_ble_eq_true rfl, Nat.le_of_ble_eq_true rfl⟩ ⟨Nat.zero_le _, Nat.zero_le _⟩ ?_
  refine lv_istore (lv' := [(6, .int r_9), (5, .int (0 : Int32)), (4, .int (1 : Int32)), (3, .int r_7), (2, .int x2_5), (1, .int r_2), (0, .ref h0)]) hx hb dX1_spare_30 hl (by decide) rfl (fun ls hl => ?_)
  refine lv_iconst (v := 1) hx hb dX1_spare_32 (by decide) ?_
  refine lv_istore (lv' := [(7, .int (1 : Int32)), (6, .int r_9), (5, .int (0 : Int32)), (4, .int (1 : Int32)), (3, .int r_7), (2, .int x2_5), (1, .int r_2), (0, .ref h0)]) hx hb dX1_spare_33 hl (by decide) rfl (fun ls hl => ?_)
  exact l1_spare_35 mv ks f2 f3 f4 hP  hF hr hlk hH hK r FU r_2 x2_5 r_7 (1 : Int32) (0 : Int32) r_9 (1 : Int32) hJ ls (lv_sub hl [7, 6, 5, 4, 3, 2, 1, 0] rfl)
end
section
set_option maxRecDepth 100000
/-! ShortestDigitsModel.tryNear(III)V -/
def L1_tryNear_61 (mv : Nat → Int32) : Nat → Int32 → Int32 → Int32 → Int64 → Int32 → Int32 → Int32 → Option (Int32 × Int32)
  | 0, _, _, _, _, _, _, _ => none
  | k + 1, x1, x2, x3, x4, x6, f3, f4 =>
    if (x4 + (3 : Int64)) ≤ (x6.toInt64) then
      some (f3, f4)
    else
      if x6 ≤ 0 then
        jL (x6 + (1 : Int32)) (fun (x6_14 : Int32) =>
        L1_tryNear_61 mv k x1 x2 x3 x4 x6_14 f3 f4)
      else
        if (99999999 : Int32) < x6 then
          jL (x6 + (1 : Int32)) (fun (x6_16 : Int32) =>
          L1_tryNear_61 mv k x1 x2 x3 x4 x6_16 f3 f4)
        else
          if (x6 - x6 / (10 : Int32) * (10 : Int32)) = 0 then
            jL (x6 + (1 : Int32)) (fun (x6_18 : Int32) =>
            L1_tryNear_61 mv k x1 x2 x3 x4 x6_18 f3 f4)
          else
            Option.bind (J1_digitsOf x6) (fun (r_20 : Int32) =>
            if r_20 = x2 then
              Option.bind (J1_isName mv x1 x6 x3) (fun (r_24 : Int32) =>
              if r_24 = 0 then
                jL (x6 + (1 : Int32)) (fun (x6_26 : Int32) =>
                L1_tryNear_61 mv k x1 x2 x3 x4 x6_26 f3 f4)
              else
                Option.bind (J1_gap mv x1 x6 x3) (fun (r_28 : Int64) =>
                Option.bind (
                  if f3 = 0 then
                    some (r_28 + (1 : Int64))
                  else
                    Option.bind (J1_gap mv x1 f3 f4) (fun (r_32 : Int64) =>
                    some r_32)) (fun (v_29 : Int64) =>
                if r_28 < v_29 then
                  jL (x6 + (1 : Int32)) (fun (x6_34 : Int32) =>
                  L1_tryNear_61 mv k x1 x2 x3 x4 x6_34 x6 x3)
                else
                  if r_28 = v_29 then
                    if f3 ≤ x6 then
                      jL (x6 + (1 : Int32)) (fun (x6_38 : Int32) =>
                      L1_tryNear_61 mv k x1 x2 x3 x4 x6_38 f3 f4)
                    else
                      jL (x6 + (1 : Int32)) (fun (x6_39 : Int32) =>
                      L1_tryNear_61 mv k x1 x2 x3 x4 x6_39 x6 x3)
                  else
                    jL (x6 + (1 : Int32)) (fun (x6_36 : Int32) =>
                    L1_tryNear_61 mv k x1 x2 x3 x4 x6_36 f3 f4))))
            else
              jL (x6 + (1 : Int32)) (fun (x6_22 : Int32) =>
              L1_tryNear_61 mv k x1 x2 x3 x4 x6_22 f3 f4))
def J1_tryNear (mv : Nat → Int32) (f3 : Int32) (f4 : Int32) (p1 : Int32) (p2 : Int32) (p3 : Int32) : Option (Int32 × Int32) :=
  Option.bind (
    if 0 ≤ p3 then
      if (p1 < 0 ∨ 1025 ≤ p1.toNatClampNeg) then none else
      Option.bind (J1_power p3) (fun (r_4 : Int64) =>
      if ((512 : Int64) * r_4) = 0 then none else
      some (((mv p1.toNatClampNeg).toInt64) / ((512 : Int64) * r_4)))
    else
      if (p1 < 0 ∨ 1025 ≤ p1.toNatClampNeg) then none else
      Option.bind (J1_power (-p3)) (fun (r_8 : Int64) =>
      some ((((mv p1.toNatClampNeg).toInt64) * r_8) / (512 : Int64)))) (fun (v_1 : Int64) =>
  if v_1 ≤ (100000001 : Int64) then
    jL ((v_1.toInt32) - (1 : Int32)) (fun (x6_11 : Int32) =>
    L1_tryNear_61 mv FU p1 p2 p3 v_1 x6_11 f3 f4)
  else
    some (f3, f4))
set_option maxHeartbeats 4000000 in
set_option maxRecDepth 100000 in
theorem l1_tryNear_61 {p : Program} {l : Launch} {e : Env} {s : State} {m : MethodId} {below : List Frame} {meth : Method} {c : Code} {D : va_G} {h0 hv ht : Nat} {dA : ClassId} (mv : Nat → Int32) (ks : Nat → Int32) (f2 : Int32) {A : Nat → Prop} (hAd : dA1 A h0 hv ht) (p1 : Int32) (p2 : Int32) (p3 : Int32) (hF : CallFix p m c cX1_tryNear 11 s ([.ref h0, .int p1, .int p2, .int p3] : List Value).toArray lw_all RX1) (hr : meth.sig.returnType = none) (hlk : meth.locks = false)  (hK : va_K D vwCl [(dA, .int)] s) (gf3 : Int32) (gf4 : Int32) :
    ∀ (k : Nat) (x1 : Int32) (x2 : Int32) (x3 : Int32) (x4 : Int64) (x6 : Int32) (f3 : Int32) (f4 : Int32), L1_tryNear_61 mv k x1 x2 x3 x4 x6 f3 f4 = some (gf3, gf4) → ∀ (H : Heap) (locs : List Loc), va_P D vwCl (W1 h0 hv ht dA mv ks f2 f3 f4) H → va_S A s.heap H locs → ∀ (ls : Array Slot), lv_has ls 11 [(0, .ref h0), (1, .int x1), (2, .int x2), (3, .int x3), (4, .long x4), (6, .int x6)] → W p l e ({ frames := 3, cells := 0, slots := 0, locals := 79 } : Room) s m ([.ref h0, .int p1, .int p2, .int p3] : List Value).toArray below meth c H locs 0 0 (MQ below (wrQ D (W1 h0 hv ht dA mv ks f2 gf3 gf4) A none) ([.ref h0, .int p1, .int p2, .int p3] : List Value).toArray s 0 0 A) (F0 m 61 ls []) := by
  obtain ⟨hx, hb, hml, hown, hts⟩ := id hF
  intro k
  induction k with
  | zero =>
    intro x1 x2 x3 x4 x6 f3 f4 hJ
    rw [L1_tryNear_61] at hJ
    cases hJ
  | succ k ih =>
    intro x1 x2 x3 x4 x6 f3 f4 hJ H locs hP hS ls hl
    rw [L1_tryNear_61] at hJ
    refine lv_iload hx hb dX1_tryNear_61 (lv_at hl 5 rfl) ?_
    refine lv_i2l hx hb dX1_tryNear_63 rfl ?_
    refine lv_lload hx hb dX1_tryNear_64 (lv_at hl 4 rfl) ?_
    refine lv_ldc2 hx hb hown (hts _ q288) dX1_tryNear_66 ?_
    refine lv_ladd hx hb dX1_tryNear_69 ?_
    refine lc_ge (tgt := 196) hx hb dX1_tryNear_70 dX1_tryNear_71 (by decide) (fun c_12 => ?_) (fun c_12 => ?_)
    · have hJ := jt hJ c_12
      obtain ⟨rfl, rfl⟩ := jp2 hJ
      exact wr_vret hF hr hlk hP hS dX1_tryNear_196 rfl
    · have hJ := jf hJ c_12
      refine lv_iload hx hb dX1_tryNear_74 (lv_at hl 5 rfl) ?_
      refine lv_if_le (tgt := 190) hx hb dX1_tryNear_76 (by decide) (fun c_13 => ?_) (fun c_13 => ?_)
      · have hJ := jt hJ c_13
        obtain ⟨x6_14, ex6_14⟩ : ∃ y : Int32, y = x6 + (1 : Int32) := ⟨_, rfl⟩
        have hJ := jlet hJ ex6_14
        refine lv_iinc (v := x6_14) (lv' := [(6, .int x6_14), (0, .ref h0), (1, .int x1), (2, .int x2), (3, .int x3), (4, .long x4)]) hx hb dX1_tryNear_190 hl (k := 5) rfl (by rw [ex6_14]; rfl) (by decide) rfl (fun ls hl => ?_)
        refine lv_goto (tgt := 61) hx hb dX1_tryNear_193 (by decide) ?_
        exact ih x1 x2 x3 x4 x6_14 f3 f4 hJ _ _ hP hS ls (lv_sub hl [1, 2, 3, 4, 5, 0] rfl)
      · have hJ := jf hJ c_13
        refine lv_iload hx hb dX1_tryNear_79 (lv_at hl 5 rfl) ?_
        refine lv_ldc hx hb hown (hts _ q250) dX1_tryNear_81 ?_
        refine lv_icmp_gt (tgt := 190) hx hb dX1_tryNear_83 (by decide) (fun c_15 => ?_) (fun c_15 => ?_)
        · have hJ := jt hJ c_15
          obtain ⟨x6_16, ex6_16⟩ : ∃ y : Int32, y = x6 + (1 : Int32) := ⟨_, rfl⟩
          have hJ := jlet hJ ex6_16
          refine lv_iinc (v := x6_16) (lv' := [(6, .int x6_16), (0, .ref h0), (1, .int x1), (2, .int x2), (3, .int x3), (4, .long x4)]) hx hb dX1_tryNear_190 hl (k := 5) rfl (by rw [ex6_16]; rfl) (by decide) rfl (fun ls hl => ?_)
          refine lv_goto (tgt := 61) hx hb dX1_tryNear_193 (by decide) ?_
          exact ih x1 x2 x3 x4 x6_16 f3 f4 hJ _ _ hP hS ls (lv_sub hl [1, 2, 3, 4, 5, 0] rfl)
        · have hJ := jf hJ c_15
          refine lv_iload hx hb dX1_tryNear_86 (lv_at hl 5 rfl) ?_
          refine lv_bipush (v := 10) hx hb dX1_tryNear_88 (by decide) ?_
          refine lv_irem hx hb dX1_tryNear_90 (by decide) ?_
          refine lv_if_eq (tgt := 190) hx hb dX1_tryNear_91 (by decide) (fun c_17 => ?_) (fun c_17 => ?_)
          · have hJ := jt hJ c_17
            obtain ⟨x6_18, ex6_18⟩ : ∃ y : Int32, y = x6 + (1 : Int32) := ⟨_, rfl⟩
            have hJ := jlet hJ ex6_18
            refine lv_iinc (v := x6_18) (lv' := [(6, .int x6_18), (0, .ref h0), (1, .int x1), (2, .int x2), (3, .int x3), (4, .long x4)]) hx hb dX1_tryNear_190 hl (k := 5) rfl (by rw [ex6_18]; rfl) (by decide) rfl (fun ls hl => ?_)
            refine lv_goto (tgt := 61) hx hb dX1_tryNear_193 (by decide) ?_
            exact ih x1 x2 x3 x4 x6_18 f3 f4 hJ _ _ hP hS ls (lv_sub hl [1, 2, 3, 4, 5, 0] rfl)
          · have hJ := jf hJ c_17
            refine lv_aload_n hx hb dX1_tryNear_94 rfl (lv_at hl 0 rfl) ?_
            refine lv_iload hx hb dX1_tryNear_95 (lv_at hl 5 rfl) ?_
            obtain ⟨r_20, h_19, hJ⟩ := jb hJ
            refine k1_digitsOf hF (xR.of hP 0 rfl) hK h_19 hl.1 (Nat.le_of_ble_eq_true rfl) dX1_tryNear_97 ⟨Nat.le_of_ble_eq_true rfl, Nat.le_of_ble_eq_true rfl⟩ ⟨Nat.zero_le _, Nat.zero_le _⟩ ?_
            refine lv_iload_n hx hb dX1_tryNear_100 rfl (lv_at hl 2 rfl) ?_
            refine lv_icmp_ne (tgt := 190) hx hb dX1_tryNear_101 (by decide) (fun c_21 => ?_) (fun c_21 => ?_)
            · have hJ := jf hJ c_21
              obtain ⟨x6_22, ex6_22⟩ : ∃ y : Int32, y = x6 + (1 : Int32) := ⟨_, rfl⟩
              have hJ := jlet hJ ex6_22
              refine lv_iinc (v := x6_22) (lv' := [(6, .int x6_22), (0, .ref h0), (1, .int x1), (2, .int x2), (3, .int x3), (4, .long x4)]) hx hb dX1_tryNear_190 hl (k := 5) rfl (by rw [ex6_22]; rfl) (by decide) rfl (fun ls hl => ?_)
              refine lv_goto (tgt := 61) hx hb dX1_tryNear_193 (by decide) ?_
              exact ih x1 x2 x3 x4 x6_22 f3 f4 hJ _ _ hP hS ls (lv_sub hl [1, 2, 3, 4, 5, 0] rfl)
            · have hJ := jt hJ c_21
              refine lv_aload_n hx hb dX1_tryNear_104 rfl (lv_at hl 0 rfl) ?_
              refine lv_iload_n hx hb dX1_tryNear_105 rfl (lv_at hl 1 rfl) ?_
              refine lv_iload hx hb dX1_tryNear_106 (lv_at hl 5 rfl) ?_
              refine lv_iload_n hx hb dX1_tryNear_108 rfl (lv_at hl 3 rfl) ?_
              obtain ⟨r_24, h_23, hJ⟩ := jb hJ
              refine k1_isName hF hP hK h_23 hl.1 (Nat.le_of_ble_eq_true rfl) dX1_tryNear_109 ⟨Nat.le_of_ble_eq_true rfl, Nat.le_of_ble_eq_true rfl⟩ ⟨Nat.zero_le _, Nat.zero_le _⟩ ?_
              refine lv_if_eq (tgt := 190) hx hb dX1_tryNear_112 (by decide) (fun c_25 => ?_) (fun c_25 => ?_)
              · have hJ := jt hJ c_25
                obtain ⟨x6_26, ex6_26⟩ : ∃ y : Int32, y = x6 + (1 : Int32) := ⟨_, rfl⟩
                have hJ := jlet hJ ex6_26
                refine lv_iinc (v := x6_26) (lv' := [(6, .int x6_26), (0, .ref h0), (1, .int x1), (2, .int x2), (3, .int x3), (4, .long x4)]) hx hb dX1_tryNear_190 hl (k := 5) rfl (by rw [ex6_26]; rfl) (by decide) rfl (fun ls hl => ?_)
                refine lv_goto (tgt := 61) hx hb dX1_tryNear_193 (by decide) ?_
                exact ih x1 x2 x3 x4 x6_26 f3 f4 hJ _ _ hP hS ls (lv_sub hl [1, 2, 3, 4, 5, 0] rfl)
              · have hJ := jf hJ c_25
                refine lv_aload_n hx hb dX1_tryNear_115 rfl (lv_at hl 0 rfl) ?_
                refine lv_iload_n hx hb dX1_tryNear_116 rfl (lv_at hl 1 rfl) ?_
                refine lv_iload hx hb dX1_tryNear_117 (lv_at hl 5 rfl) ?_
                refine lv_iload_n hx hb dX1_tryNear_119 rfl (lv_at hl 3 rfl) ?_
                obtain ⟨r_28, h_27, hJ⟩ := jb hJ
                refine k1_gap hF hP hK h_27 hl.1 (Nat.le_of_ble_eq_true rfl) dX1_tryNear_120 ⟨Nat.le_of_ble_eq_true rfl, Nat.le_of_ble_eq_true rfl⟩ ⟨Nat.zero_le _, Nat.zero_le _⟩ ?_
                refine lv_lstore (lv' := [(7, .long r_28), (0, .ref h0), (1, .int x1), (2, .int x2), (3, .int x3), (4, .long x4), (6, .int x6)]) hx hb dX1_tryNear_123 hl (by decide) rfl (fun ls hl => ?_)
                obtain ⟨v_29, hR125, hJ⟩ := jb hJ
                refine jn 11 [(7, .long r_28), (0, .ref h0), (1, .int x1), (2, .int x2), (3, .int x3), (4, .long x4), (6, .int x6)] 152 [.long v_29] ?_ (fun K152 => ?_)
                · intro ls hl
                  refine lv_lstore (lv' := [(9, .long v_29), (7, .long r_28), (0, .ref h0), (1, .int x1), (2, .int x2), (3, .int x3), (4, .long x4), (6, .int x6)]) hx hb dX1_tryNear_152 hl (by decide) rfl (fun ls hl => ?_)
                  refine lv_lload hx hb dX1_tryNear_154 (lv_at hl 1 rfl) ?_
                  refine lv_lload hx hb dX1_tryNear_156 (lv_at hl 0 rfl) ?_
                  refine lc_lt (tgt := 179) hx hb dX1_tryNear_158 dX1_tryNear_159 (by decide) (fun c_33 => ?_) (fun c_33 => ?_)
                  · have hJ := jt hJ c_33
                    refine lv_aload_n hx hb dX1_tryNear_179 rfl (lv_at hl 2 rfl) ?_
                    refine lv_iload hx hb dX1_tryNear_180 (lv_at hl 7 rfl) ?_
                    refine va_put (D := D) (A := A) (ci := 1) (v := .int x6) (ty := .int) (C := RX1) (T := TX1) (N := 5) hx hb hts in_X1 tyX1 tyX1_ok nmX1 hown hK hP (d1_of hAd) hS 0 rfl rfl 3 (by decide) (hts _ q221) (fun _ h9 => h9) rfl (by decide +kernel) rfl rfl (Nat.le_of_ble_eq_true rfl) dX1_tryNear_182 (fun H locs hP _ hS => ?_)
                    have hP : va_P D vwCl (W1 h0 hv ht dA mv ks f2 x6 f4) H := hP
                    refine lv_aload_n hx hb dX1_tryNear_185 rfl (lv_at hl 2 rfl) ?_
                    refine lv_iload_n hx hb dX1_tryNear_186 rfl (lv_at hl 5 rfl) ?_
                    refine va_put (D := D) (A := A) (ci := 1) (v := .int x3) (ty := .int) (C := RX1) (T := TX1) (N := 5) hx hb hts in_X1 tyX1 tyX1_ok nmX1 hown hK hP (d1_of hAd) hS 0 rfl rfl 4 (by decide) (hts _ q222) (fun _ h9 => h9) rfl (by decide +kernel) rfl rfl (Nat.le_of_ble_eq_true rfl) dX1_tryNear_187 (fun H locs hP _ hS => ?_)
                    have hP : va_P D vwCl (W1 h0 hv ht dA mv ks f2 x6 x3) H := hP
                    obtain ⟨x6_34, ex6_34⟩ : ∃ y : Int32, y = x6 + (1 : Int32) := ⟨_, rfl⟩
                    have hJ := jlet hJ ex6_34
                    refine lv_iinc (v := x6_34) (lv' := [(6, .int x6_34), (9, .long v_29), (7, .long r_28), (0, .ref h0), (1, .int x1), (2, .int x2), (3, .int x3), (4, .long x4)]) hx hb dX1_tryNear_190 hl (k := 7) rfl (by rw [ex6_34]; rfl) (by decide) rfl (fun ls hl => ?_)
                    refine lv_goto (tgt := 61) hx hb dX1_tryNear_193 (by decide) ?_
                    exact ih x1 x2 x3 x4 x6_34 x6 x3 hJ _ _ hP hS ls (lv_sub hl [3, 4, 5, 6, 7, 0] rfl)
                  · have hJ := jf hJ c_33
                    refine lv_lload hx hb dX1_tryNear_162 (lv_at hl 1 rfl) ?_
                    refine lv_lload hx hb dX1_tryNear_164 (lv_at hl 0 rfl) ?_
                    refine lc_ne (tgt := 190) hx hb dX1_tryNear_166 dX1_tryNear_167 (by decide) (fun c_35 => ?_) (fun c_35 => ?_)
                    · have hJ := jf hJ c_35
                      obtain ⟨x6_36, ex6_36⟩ : ∃ y : Int32, y = x6 + (1 : Int32) := ⟨_, rfl⟩
                      have hJ := jlet hJ ex6_36
                      refine lv_iinc (v := x6_36) (lv' := [(6, .int x6_36), (9, .long v_29), (7, .long r_28), (0, .ref h0), (1, .int x1), (2, .int x2), (3, .int x3), (4, .long x4)]) hx hb dX1_tryNear_190 hl (k := 7) rfl (by rw [ex6_36]; rfl) (by decide) rfl (fun ls hl => ?_)
                      refine lv_goto (tgt := 61) hx hb dX1_tryNear_193 (by decide) ?_
                      exact ih x1 x2 x3 x4 x6_36 f3 f4 hJ _ _ hP hS ls (lv_sub hl [3, 4, 5, 6, 7, 0] rfl)
                    · have hJ := jt hJ c_35
                      refine lv_iload hx hb dX1_tryNear_170 (lv_at hl 7 rfl) ?_
                      refine lv_aload_n hx hb dX1_tryNear_172 rfl (lv_at hl 2 rfl) ?_
                      refine va_get (D := D) (ci := 1) (v := .int f3) (C := RX1) (T := TX1) (N := 5) hx hb hts in_X1 hown hK hP 0 rfl rfl 3 (by decide) (hts _ q221) (fun _ h9 => h9) rfl dX1_tryNear_173 ?_
                      refine lv_icmp_ge (tgt := 190) hx hb dX1_tryNear_176 (by decide) (fun c_37 => ?_) (fun c_37 => ?_)
                      · have hJ := jt hJ c_37
                        obtain ⟨x6_38, ex6_38⟩ : ∃ y : Int32, y = x6 + (1 : Int32) := ⟨_, rfl⟩
                        have hJ := jlet hJ ex6_38
                        refine lv_iinc (v := x6_38) (lv' := [(6, .int x6_38), (9, .long v_29), (7, .long r_28), (0, .ref h0), (1, .int x1), (2, .int x2), (3, .int x3), (4, .long x4)]) hx hb dX1_tryNear_190 hl (k := 7) rfl (by rw [ex6_38]; rfl) (by decide) rfl (fun ls hl => ?_)
                        refine lv_goto (tgt := 61) hx hb dX1_tryNear_193 (by decide) ?_
                        exact ih x1 x2 x3 x4 x6_38 f3 f4 hJ _ _ hP hS ls (lv_sub hl [3, 4, 5, 6, 7, 0] rfl)
                      · have hJ := jf hJ c_37
                        refine lv_aload_n hx hb dX1_tryNear_179 rfl (lv_at hl 2 rfl) ?_
                        refine lv_iload hx hb dX1_tryNear_180 (lv_at hl 7 rfl) ?_
                        refine va_put (D := D) (A := A) (ci := 1) (v := .int x6) (ty := .int) (C := RX1) (T := TX1) (N := 5) hx hb hts in_X1 tyX1 tyX1_ok nmX1 hown hK hP (d1_of hAd) hS 0 rfl rfl 3 (by decide) (hts _ q221) (fun _ h9 => h9) rfl (by decide +kernel) rfl rfl (Nat.le_of_ble_eq_true rfl) dX1_tryNear_182 (fun H locs hP _ hS => ?_)
                        have hP : va_P D vwCl (W1 h0 hv ht dA mv ks f2 x6 f4) H := hP
                        refine lv_aload_n hx hb dX1_tryNear_185 rfl (lv_at hl 2 rfl) ?_
                        refine lv_iload_n hx hb dX1_tryNear_186 rfl (lv_at hl 5 rfl) ?_
                        refine va_put (D := D) (A := A) (ci := 1) (v := .int x3) (ty := .int) (C := RX1) (T := TX1) (N := 5) hx hb hts in_X1 tyX1 tyX1_ok nmX1 hown hK hP (d1_of hAd) hS 0 rfl rfl 4 (by decide) (hts _ q222) (fun _ h9 => h9) rfl (by decide +kernel) rfl rfl (Nat.le_of_ble_eq_true rfl) dX1_tryNear_187 (fun H locs hP _ hS => ?_)
                        have hP : va_P D vwCl (W1 h0 hv ht dA mv ks f2 x6 x3) H := hP
                        obtain ⟨x6_39, ex6_39⟩ : ∃ y : Int32, y = x6 + (1 : Int32) := ⟨_, rfl⟩
                        have hJ := jlet hJ ex6_39
                        refine lv_iinc (v := x6_39) (lv' := [(6, .int x6_39), (9, .long v_29), (7, .long r_28), (0, .ref h0), (1, .int x1), (2, .int x2), (3, .int x3), (4, .long x4)]) hx hb dX1_tryNear_190 hl (k := 7) rfl (by rw [ex6_39]; rfl) (by decide) rfl (fun ls hl => ?_)
                        refine lv_goto (tgt := 61) hx hb dX1_tryNear_193 (by decide) ?_
                        exact ih x1 x2 x3 x4 x6_39 x6 x3 hJ _ _ hP hS ls (lv_sub hl [3, 4, 5, 6, 7, 0] rfl)
                · have hJ := hR125
                  refine lv_aload_n hx hb dX1_tryNear_125 rfl (lv_at hl 1 rfl) ?_
                  refine va_get (D := D) (ci := 1) (v := .int f3) (C := RX1) (T := TX1) (N := 5) hx hb hts in_X1 hown hK hP 0 rfl rfl 3 (by decide) (hts _ q221) (fun _ h9 => h9) rfl dX1_tryNear_126 ?_
                  refine lv_if_ne (tgt := 139) hx hb dX1_tryNear_129 (by decide) (fun c_30 => ?_) (fun c_30 => ?_)
                  · have hJ := jf hJ c_30
                    refine lv_aload_n hx hb dX1_tryNear_139 rfl (lv_at hl 1 rfl) ?_
                    refine lv_iload_n hx hb dX1_tryNear_140 rfl (lv_at hl 2 rfl) ?_
                    refine lv_aload_n hx hb dX1_tryNear_141 rfl (lv_at hl 1 rfl) ?_
                    refine va_get (D := D) (ci := 1) (v := .int f3) (C := RX1) (T := TX1) (N := 5) hx hb hts in_X1 hown hK hP 0 rfl rfl 3 (by decide) (hts _ q221) (fun _ h9 => h9) rfl dX1_tryNear_142 ?_
                    refine lv_aload_n hx hb dX1_tryNear_145 rfl (lv_at hl 1 rfl) ?_
                    refine va_get (D := D) (ci := 1) (v := .int f4) (C := RX1) (T := TX1) (N := 5) hx hb hts in_X1 hown hK hP 0 rfl rfl 4 (by decide) (hts _ q222) (fun _ h9 => h9) rfl dX1_tryNear_146 ?_
                    obtain ⟨r_32, h_31, hJ⟩ := jb hJ
                    refine k1_gap hF hP hK h_31 hl.1 (Nat.le_of_ble_eq_true rfl) dX1_tryNear_149 ⟨Nat.le_of_ble_eq_true rfl, Nat.le_of_ble_eq_true rfl⟩ ⟨Nat.zero_le _, Nat.zero_le _⟩ ?_
                    obtain rfl := Option.some.inj hJ
                    exact K152 ls (lv_sub hl [0, 1, 2, 3, 4, 5, 6] rfl)
                  · have hJ := jt hJ c_30
                    refine lv_lload hx hb dX1_tryNear_132 (lv_at hl 0 rfl) ?_
                    refine lv_lconst (v := 1) hx hb dX1_tryNear_134 (by decide) ?_
                    refine lv_ladd hx hb dX1_tryNear_135 ?_
                    refine lv_goto (tgt := 152) hx hb dX1_tryNear_136 (by decide) ?_
                    obtain rfl := Option.some.inj hJ
                    exact K152 ls (lv_sub hl [0, 1, 2, 3, 4, 5, 6] rfl)
set_option maxHeartbeats 4000000 in
set_option maxRecDepth 100000 in
theorem m1_tryNear (l : Launch) (D : va_G) (H0 : Heap) (h0 hv ht : Nat) (dA : ClassId) (mv : Nat → Int32) (ks : Nat → Int32) (f2 : Int32) (f3 : Int32) (f4 : Int32) (A : Nat → Prop) (hAd : dA1 A h0 hv ht) (hP : va_P D vwCl (W1 h0 hv ht dA mv ks f2 f3 f4) H0) (p1 : Int32) (p2 : Int32) (p3 : Int32) (gf3 : Int32) (gf4 : Int32) (hJ : J1_tryNear mv f3 f4 p1 p2 p3 = some (gf3, gf4)) : Met l yX1_tryNear (ws_ yX1_tryNear cX1_tryNear 11 none) ({ frames := 3, cells := 0, slots := 0, locals := 79 } : Room) (roP D [(dA, .int)] H0 [.ref h0, .int p1, .int p2, .int p3]) (wrQ D (W1 h0 hv ht dA mv ks f2 gf3 gf4) A none) 0 0 A := by
  refine ro_enter (by decide) (Nat.le_of_ble_eq_true rfl) ?_
  intro p e s m below meth c hF hr hlk hH hK ls hl
  have hl : lv_has ls 11 [(0, .ref h0), (1, .int p1), (2, .int p2), (3, .int p3)] := hl
  obtain ⟨hx, hb, hml, hown, hts⟩ := id hF
  subst hH
  have hS : va_S A s.heap s.heap [] := va_S.rf
  unfold J1_tryNear at hJ
  obtain ⟨v_1, hR0, hJ⟩ := jb hJ
  refine jn 11 [(0, .ref h0), (1, .int p1), (2, .int p2), (3, .int p3)] 42 [.long v_1] ?_ (fun K42 => ?_)
  · intro ls hl
    refine lv_lstore (lv' := [(4, .long v_1), (0, .ref h0), (1, .int p1), (2, .int p2), (3, .int p3)]) hx hb dX1_tryNear_42 hl (by decide) rfl (fun ls hl => ?_)
    refine lv_lload hx hb dX1_tryNear_44 (lv_at hl 0 rfl) ?_
    refine lv_ldc2 hx hb hown (hts _ q287) dX1_tryNear_46 ?_
    refine lc_le (tgt := 54) hx hb dX1_tryNear_49 dX1_tryNear_50 (by decide) (fun c_10 => ?_) (fun c_10 => ?_)
    · have hJ := jt hJ c_10
      refine lv_lload hx hb dX1_tryNear_54 (lv_at hl 0 rfl) ?_
      refine lv_l2i hx hb dX1_tryNear_56 rfl ?_
      refine lv_iconst (v := 1) hx hb dX1_tryNear_57 (by decide) ?_
      refine lv_isub hx hb dX1_tryNear_58 ?_
      refine lv_topi (fun x6_11 ex6_11 => ?_)
      have hJ := jlet hJ ex6_11
      refine lv_istore (lv' := [(6, .int x6_11), (4, .long v_1), (0, .ref h0), (1, .int p1), (2, .int p2), (3, .int p3)]) hx hb dX1_tryNear_59 hl (by decide) rfl (fun ls hl => ?_)
      exact l1_tryNear_61 mv ks f2 hAd p1 p2 p3 hF hr hlk hK _ _ FU p1 p2 p3 v_1 x6_11 f3 f4 hJ _ _ hP hS ls (lv_sub hl [2, 3, 4, 5, 1, 0] rfl)
    · have hJ := jf hJ c_10
      obtain ⟨rfl, rfl⟩ := jp2 hJ
      exact wr_vret hF hr hlk hP hS dX1_tryNear_53 rfl
  · have hJ := hR0
    refine lv_iload_n hx hb dX1_tryNear_0 rfl (lv_at hl 3 rfl) ?_
    refine lv_if_ge (tgt := 25) hx hb dX1_tryNear_1 (by decide) (fun c_2 => ?_) (fun c_2 => ?_)
    · have hJ := jt hJ c_2
      refine lv_aload_n hx hb dX1_tryNear_25 rfl (lv_at hl 0 rfl) ?_
      refine va_get (D := D) (ci := 1) (v := .ref hv) (C := RX1) (T := TX1) (N := 5) hx hb hts in_X1 hown hK hP 0 rfl rfl 0 (by decide) (hts _ q218) (fun _ h9 => h9) rfl dX1_tryNear_26 ?_
      refine lv_iload_n hx hb dX1_tryNear_29 rfl (lv_at hl 1 rfl) ?_
      obtain ⟨g_6, hJ⟩ := jg hJ
      refine va_iald hx hb hK hP 1 0 rfl rfl g_6 dX1_tryNear_30 ?_
      refine lv_i2l hx hb dX1_tryNear_31 rfl ?_
      refine lv_ldc2 hx hb hown (hts _ q286) dX1_tryNear_32 ?_
      refine lv_aload_n hx hb dX1_tryNear_35 rfl (lv_at hl 0 rfl) ?_
      refine lv_iload_n hx hb dX1_tryNear_36 rfl (lv_at hl 3 rfl) ?_
      obtain ⟨r_4, h_3, hJ⟩ := jb hJ
      refine k1_power hF (xR.of hP 0 rfl) hK h_3 hl.1 (Nat.le_of_ble_eq_true rfl) dX1_tryNear_37 ⟨Nat.le_of_ble_eq_true rfl, Nat.le_of_ble_eq_true rfl⟩ ⟨Nat.zero_le _, Nat.zero_le _⟩ ?_
      refine lv_lmul hx hb dX1_tryNear_40 ?_
      obtain ⟨g_5, hJ⟩ := jg hJ
      refine lv_ldiv hx hb dX1_tryNear_41 g_5 ?_
      obtain rfl := Option.some.inj hJ
      exact K42 ls (lv_sub hl [0, 1, 2, 3] rfl)
    · have hJ := jf hJ c_2
      refine lv_aload_n hx hb dX1_tryNear_4 rfl (lv_at hl 0 rfl) ?_
      refine va_get (D := D) (ci := 1) (v := .ref hv) (C := RX1) (T := TX1) (N := 5) hx hb hts in_X1 hown hK hP 0 rfl rfl 0 (by decide) (hts _ q218) (fun _ h9 => h9) rfl dX1_tryNear_5 ?_
      refine lv_iload_n hx hb dX1_tryNear_8 rfl (lv_at hl 1 rfl) ?_
      obtain ⟨g_9, hJ⟩ := jg hJ
      refine va_iald hx hb hK hP 1 0 rfl rfl g_9 dX1_tryNear_9 ?_
      refine lv_i2l hx hb dX1_tryNear_10 rfl ?_
      refine lv_aload_n hx hb dX1_tryNear_11 rfl (lv_at hl 0 rfl) ?_
      refine lv_iload_n hx hb dX1_tryNear_12 rfl (lv_at hl 3 rfl) ?_
      refine lv_ineg hx hb dX1_tryNear_13 ?_
      obtain ⟨r_8, h_7, hJ⟩ := jb hJ
      refine k1_power hF (xR.of hP 0 rfl) hK h_7 hl.1 (Nat.le_of_ble_eq_true rfl) dX1_tryNear_14 ⟨Nat.le_of_ble_eq_true rfl, Nat.le_of_ble_eq_true rfl⟩ ⟨Nat.zero_le _, Nat.zero_le _⟩ ?_
      refine lv_lmul hx hb dX1_tryNear_17 ?_
      refine lv_ldc2 hx hb hown (hts _ q286) dX1_tryNear_18 ?_
      refine lv_ldiv hx hb dX1_tryNear_21 (by decide) ?_
      refine lv_goto (tgt := 42) hx hb dX1_tryNear_22 (by decide) ?_
      obtain rfl := Option.some.inj hJ
      exact K42 ls (lv_sub hl [0, 1, 2, 3] rfl)
theorem k1_tryNear {p : Program} {l : Launch} {e : Env} {R : Room} {s : State} {m : MethodId} {args : Array Value} {below : List Frame} {meth : Method} {c : Code} {H : Heap} {locs : List Loc} {cells slots : Nat} {Q : State → Prop} {cc : ByteArray} {nL pc : Nat} {ls : Array Slot} {rest : List Value} {D : va_G} {b hv ht : Nat} {dA : ClassId} {mv : Nat → Int32} {ks : Nat → Int32} {f2 : Int32} {f3 : Int32} {f4 : Int32} {A : Nat → Prop} {Hs : Heap} (hF : CallFix p m c cc nL s args lw_all RX1) (hP : va_P D vwCl (W1 b hv ht dA mv ks f2 f3 f4) H) (hK : va_K D vwCl [(dA, .int)] s) (hAd : dA1 A b hv ht) {p1 : Int32} {p2 : Int32} {p3 : Int32} {gf3 : Int32} {gf4 : Int32} (hJ : J1_tryNear mv f3 f4 p1 p2 p3 = some (gf3, gf4)) (hsz : ls.size = nL) (hW : (rest.map fun v => v.category).sum ≤ 8) (hdg : decode cc pc = .ok (.invokevirtual 64, 3)) (hR : 3 + 1 ≤ R.frames ∧ 8 + (11 + 11) + 79 ≤ R.locals) (hf : cells ≤ R.cells ∧ slots ≤ R.slots) (hS : va_S A Hs H locs) (kk : ∀ (H1 : Heap) (locs1 : List Loc), va_P D vwCl (W1 b hv ht dA mv ks f2 gf3 gf4) H1 → va_S A Hs H1 locs1 → W p l e R s m args below meth c H1 locs1 cells slots Q (F0 m (pc + 3) ls rest)) : W p l e R s m args below meth c H locs cells slots Q (F0 m pc ls (.int p3 :: .int p2 :: .int p1 :: .ref b :: rest)) :=
  wr_call (n := 3) (ci := 1) hF (m1_tryNear l D H b hv ht dA mv ks f2 f3 f4 A hAd hP p1 p2 p3 _ _ hJ) (lw_V q282 q284 qs27 q34 q285) (by decide +kernel) rfl rfl hR (xR.of hP 0 rfl) hK rfl rfl rfl hsz rfl hW hdg hf hS (fun _ h => h) (fun H1 locs1 h1 _ _ h4 => kk H1 locs1 h1 h4)
/-! ShortestDigitsModel.type(I)I -/
def J1_type (ks : Nat → Int32) (f2 : Int32) (p1 : Int32) : Option (Int32 × (Nat → Int32) × Int32) :=
  if p1 < 0 then
    some ((-1 : Int32), ks, f2)
  else
    if p1 ≤ (10 : Int32) then
      Option.bind (J1_countDigits ks f2 (0 : Int32)) (fun (r_4 : Int32) =>
      if p1 = (10 : Int32) then
        if f2 ≤ r_4 then
          if (f2 < 0 ∨ 9 ≤ f2.toNatClampNeg) then none else
          jL (upd ks f2.toNatClampNeg p1) (fun (ks_14 : Nat → Int32) =>
          jL (f2 + (1 : Int32)) (fun (f2_15 : Int32) =>
          Option.bind (J1_countDigits ks_14 f2_15 (0 : Int32)) (fun (r_17 : Int32) =>
          some (r_17, ks_14, f2_15))))
        else
          some ((-2 : Int32), ks, f2)
      else
        if r_4 = (8 : Int32) then
          some ((-2 : Int32), ks, f2)
        else
          if (f2 < 0 ∨ 9 ≤ f2.toNatClampNeg) then none else
          jL (upd ks f2.toNatClampNeg p1) (fun (ks_8 : Nat → Int32) =>
          jL (f2 + (1 : Int32)) (fun (f2_9 : Int32) =>
          Option.bind (J1_countDigits ks_8 f2_9 (0 : Int32)) (fun (r_11 : Int32) =>
          some (r_11, ks_8, f2_9)))))
    else
      some ((-1 : Int32), ks, f2)
set_option maxHeartbeats 4000000 in
set_option maxRecDepth 100000 in
theorem m1_type (l : Launch) (D : va_G) (H0 : Heap) (h0 hv ht : Nat) (dA : ClassId) (mv : Nat → Int32) (ks : Nat → Int32) (f2 : Int32) (f3 : Int32) (f4 : Int32) (A : Nat → Prop) (hAd : dA1 A h0 hv ht) (hP : va_P D vwCl (W1 h0 hv ht dA mv ks f2 f3 f4) H0) (p1 : Int32) (r : Int32) (gks : Nat → Int32) (gf2 : Int32) (hJ : J1_type ks f2 p1 = some (r, gks, gf2)) : Met l yX1_type (ws_ yX1_type cX1_type 3 (some .int)) ({ frames := 1, cells := 0, slots := 0, locals := 24 } : Room) (roP D [(dA, .int)] H0 [.ref h0, .int p1]) (wrQ D (W1 h0 hv ht dA mv gks gf2 f3 f4) A (some (.int r))) 0 0 A := by
  refine ro_enter (by decide) (Nat.le_of_ble_eq_true rfl) ?_
  intro p e s m below meth c hF hr hlk hH hK ls hl
  have hl : lv_has ls 3 [(0, .ref h0), (1, .int p1)] := hl
  obtain ⟨hx, hb, hml, hown, hts⟩ := id hF
  subst hH
  have hS : va_S A s.heap s.heap [] := va_S.rf
  unfold J1_type at hJ
  refine lv_iload_n hx hb dX1_type_0 rfl (lv_at hl 1 rfl) ?_
  refine lv_if_lt (tgt := 10) hx hb dX1_type_1 (by decide) (fun c_1 => ?_) (fun c_1 => ?_)
  · have hJ := jt hJ c_1
    refine lv_iconst (v := -1) hx hb dX1_type_10 (by decide) ?_
    obtain ⟨rfl, rfl, rfl⟩ := jp3 hJ
    exact wr_iret hF hr hlk hP hS dX1_type_11 rfl rfl
  · have hJ := jf hJ c_1
    refine lv_iload_n hx hb dX1_type_4 rfl (lv_at hl 1 rfl) ?_
    refine lv_bipush (v := 10) hx hb dX1_type_5 (by decide) ?_
    refine lv_icmp_le (tgt := 12) hx hb dX1_type_7 (by decide) (fun c_2 => ?_) (fun c_2 => ?_)
    · have hJ := jt hJ c_2
      refine lv_aload_n hx hb dX1_type_12 rfl (lv_at hl 0 rfl) ?_
      refine lv_iconst (v := 0) hx hb dX1_type_13 (by decide) ?_
      obtain ⟨r_4, h_3, hJ⟩ := jb hJ
      refine k1_countDigits hF hP hK h_3 hl.1 (Nat.le_of_ble_eq_true rfl) dX1_type_14 ⟨Nat.le_of_ble_eq_true rfl, Nat.le_of_ble_eq_true rfl⟩ ⟨Nat.zero_le _, Nat.zero_le _⟩ ?_
      refine lv_istore_n (lv' := [(2, .int r_4), (0, .ref h0), (1, .int p1)]) hx hb dX1_type_17 rfl hl (by decide) rfl (fun ls hl => ?_)
      refine lv_iload_n hx hb dX1_type_18 rfl (lv_at hl 2 rfl) ?_
      refine lv_bipush (v := 10) hx hb dX1_type_19 (by decide) ?_
      refine lv_icmp_ne (tgt := 35) hx hb dX1_type_21 (by decide) (fun c_5 => ?_) (fun c_5 => ?_)
      · have hJ := jf hJ c_5
        refine lv_iload_n hx hb dX1_type_35 rfl (lv_at hl 0 rfl) ?_
        refine lv_bipush (v := 8) hx hb dX1_type_36 (by decide) ?_
        refine lv_icmp_ne (tgt := 44) hx hb dX1_type_38 (by decide) (fun c_6 => ?_) (fun c_6 => ?_)
        · have hJ := jf hJ c_6
          refine lv_aload_n hx hb dX1_type_44 rfl (lv_at hl 1 rfl) ?_
          refine va_get (D := D) (ci := 1) (v := .ref ht) (C := RX1) (T := TX1) (N := 5) hx hb hts in_X1 hown hK hP 0 rfl rfl 1 (by decide) (hts _ q219) (fun _ h9 => h9) rfl dX1_type_45 ?_
          refine lv_aload_n hx hb dX1_type_48 rfl (lv_at hl 1 rfl) ?_
          refine va_get (D := D) (ci := 1) (v := .int f2) (C := RX1) (T := TX1) (N := 5) hx hb hts in_X1 hown hK hP 0 rfl rfl 2 (by decide) (hts _ q220) (fun _ h9 => h9) rfl dX1_type_49 ?_
          refine lv_iload_n hx hb dX1_type_52 rfl (lv_at hl 2 rfl) ?_
          obtain ⟨g_7, hJ⟩ := jg hJ
          obtain ⟨ks_8, eks_8⟩ : ∃ y : Nat → Int32, y = upd ks f2.toNatClampNeg p1 := ⟨_, rfl⟩
          have hJ := jlet hJ eks_8
          refine va_iast (A := A) hx hb hK hP (d1_of hAd) hS 2 0 rfl rfl g_7 dX1_type_53 (fun H locs hP _ hS => ?_)
          have hP : va_P D vwCl (W1 h0 hv ht dA mv ks_8 f2 f3 f4) H := by rw [eks_8]; exact hP
          refine lv_aload_n hx hb dX1_type_54 rfl (lv_at hl 1 rfl) ?_
          refine lv_dup hx hb dX1_type_55 rfl ?_
          refine va_get (D := D) (ci := 1) (v := .int f2) (C := RX1) (T := TX1) (N := 5) hx hb hts in_X1 hown hK hP 0 rfl rfl 2 (by decide) (hts _ q220) (fun _ h9 => h9) rfl dX1_type_56 ?_
          refine lv_iconst (v := 1) hx hb dX1_type_59 (by decide) ?_
          refine lv_iadd hx hb dX1_type_60 ?_
          refine lv_topi (fun f2_9 ef2_9 => ?_)
          have hJ := jlet hJ ef2_9
          refine va_put (D := D) (A := A) (ci := 1) (v := .int f2_9) (ty := .int) (C := RX1) (T := TX1) (N := 5) hx hb hts in_X1 tyX1 tyX1_ok nmX1 hown hK hP (d1_of hAd) hS 0 rfl rfl 2 (by decide) (hts _ q220) (fun _ h9 => h9) rfl (by decide +kernel) rfl rfl (Nat.le_of_ble_eq_true rfl) dX1_type_61 (fun H locs hP _ hS => ?_)
          have hP : va_P D vwCl (W1 h0 hv ht dA mv ks_8 f2_9 f3 f4) H := hP
          refine lv_aload_n hx hb dX1_type_64 rfl (lv_at hl 1 rfl) ?_
          refine lv_iconst (v := 0) hx hb dX1_type_65 (by decide) ?_
          obtain ⟨r_11, h_10, hJ⟩ := jb hJ
          refine k1_countDigits hF hP hK h_10 hl.1 (Nat.le_of_ble_eq_true rfl) dX1_type_66 ⟨Nat.le_of_ble_eq_true rfl, Nat.le_of_ble_eq_true rfl⟩ ⟨Nat.zero_le _, Nat.zero_le _⟩ ?_
          obtain ⟨rfl, rfl, rfl⟩ := jp3 hJ
          exact wr_iret hF hr hlk hP hS dX1_type_69 rfl rfl
        · have hJ := jt hJ c_6
          refine lv_bipush (v := -2) hx hb dX1_type_41 (by decide) ?_
          obtain ⟨rfl, rfl, rfl⟩ := jp3 hJ
          exact wr_iret hF hr hlk hP hS dX1_type_43 rfl rfl
      · have hJ := jt hJ c_5
        refine lv_aload_n hx hb dX1_type_24 rfl (lv_at hl 1 rfl) ?_
        refine va_get (D := D) (ci := 1) (v := .int f2) (C := RX1) (T := TX1) (N := 5) hx hb hts in_X1 hown hK hP 0 rfl rfl 2 (by decide) (hts _ q220) (fun _ h9 => h9) rfl dX1_type_25 ?_
        refine lv_iload_n hx hb dX1_type_28 rfl (lv_at hl 0 rfl) ?_
        refine lv_icmp_le (tgt := 44) hx hb dX1_type_29 (by decide) (fun c_12 => ?_) (fun c_12 => ?_)
        · have hJ := jt hJ c_12
          refine lv_aload_n hx hb dX1_type_44 rfl (lv_at hl 1 rfl) ?_
          refine va_get (D := D) (ci := 1) (v := .ref ht) (C := RX1) (T := TX1) (N := 5) hx hb hts in_X1 hown hK hP 0 rfl rfl 1 (by decide) (hts _ q219) (fun _ h9 => h9) rfl dX1_type_45 ?_
          refine lv_aload_n hx hb dX1_type_48 rfl (lv_at hl 1 rfl) ?_
          refine va_get (D := D) (ci := 1) (v := .int f2) (C := RX1) (T := TX1) (N := 5) hx hb hts in_X1 hown hK hP 0 rfl rfl 2 (by decide) (hts _ q220) (fun _ h9 => h9) rfl dX1_type_49 ?_
          refine lv_iload_n hx hb dX1_type_52 rfl (lv_at hl 2 rfl) ?_
          obtain ⟨g_13, hJ⟩ := jg hJ
          obtain ⟨ks_14, eks_14⟩ : ∃ y : Nat → Int32, y = upd ks f2.toNatClampNeg p1 := ⟨_, rfl⟩
          have hJ := jlet hJ eks_14
          refine va_iast (A := A) hx hb hK hP (d1_of hAd) hS 2 0 rfl rfl g_13 dX1_type_53 (fun H locs hP _ hS => ?_)
          have hP : va_P D vwCl (W1 h0 hv ht dA mv ks_14 f2 f3 f4) H := by rw [eks_14]; exact hP
          refine lv_aload_n hx hb dX1_type_54 rfl (lv_at hl 1 rfl) ?_
          refine lv_dup hx hb dX1_type_55 rfl ?_
          refine va_get (D := D) (ci := 1) (v := .int f2) (C := RX1) (T := TX1) (N := 5) hx hb hts in_X1 hown hK hP 0 rfl rfl 2 (by decide) (hts _ q220) (fun _ h9 => h9) rfl dX1_type_56 ?_
          refine lv_iconst (v := 1) hx hb dX1_type_59 (by decide) ?_
          refine lv_iadd hx hb dX1_type_60 ?_
          refine lv_topi (fun f2_15 ef2_15 => ?_)
          have hJ := jlet hJ ef2_15
          refine va_put (D := D) (A := A) (ci := 1) (v := .int f2_15) (ty := .int) (C := RX1) (T := TX1) (N := 5) hx hb hts in_X1 tyX1 tyX1_ok nmX1 hown hK hP (d1_of hAd) hS 0 rfl rfl 2 (by decide) (hts _ q220) (fun _ h9 => h9) rfl (by decide +kernel) rfl rfl (Nat.le_of_ble_eq_true rfl) dX1_type_61 (fun H locs hP _ hS => ?_)
          have hP : va_P D vwCl (W1 h0 hv ht dA mv ks_14 f2_15 f3 f4) H := hP
          refine lv_aload_n hx hb dX1_type_64 rfl (lv_at hl 1 rfl) ?_
          refine lv_iconst (v := 0) hx hb dX1_type_65 (by decide) ?_
          obtain ⟨r_17, h_16, hJ⟩ := jb hJ
          refine k1_countDigits hF hP hK h_16 hl.1 (Nat.le_of_ble_eq_true rfl) dX1_type_66 ⟨Nat.le_of_ble_eq_true rfl, Nat.le_of_ble_eq_true rfl⟩ ⟨Nat.zero_le _, Nat.zero_le _⟩ ?_
          obtain ⟨rfl, rfl, rfl⟩ := jp3 hJ
          exact wr_iret hF hr hlk hP hS dX1_type_69 rfl rfl
        · have hJ := jf hJ c_12
          refine lv_goto (tgt := 41) hx hb dX1_type_32 (by decide) ?_
          refine lv_bipush (v := -2) hx hb dX1_type_41 (by decide) ?_
          obtain ⟨rfl, rfl, rfl⟩ := jp3 hJ
          exact wr_iret hF hr hlk hP hS dX1_type_43 rfl rfl
    · have hJ := jf hJ c_2
      refine lv_iconst (v := -1) hx hb dX1_type_10 (by decide) ?_
      obtain ⟨rfl, rfl, rfl⟩ := jp3 hJ
      exact wr_iret hF hr hlk hP hS dX1_type_11 rfl rfl
/-! ShortestDigitsModel.back()I -/
def J1_back (ks : Nat → Int32) (f2 : Int32) : Option (Int32 × Int32) :=
  if f2 = 0 then
    some ((-4 : Int32), f2)
  else
    jL (f2 - (1 : Int32)) (fun (f2_2 : Int32) =>
    if (f2_2 < 0 ∨ 9 ≤ f2_2.toNatClampNeg) then none else
    some (ks f2_2.toNatClampNeg, f2_2))
set_option maxHeartbeats 4000000 in
set_option maxRecDepth 100000 in
theorem m1_back (l : Launch) (D : va_G) (H0 : Heap) (h0 hv ht : Nat) (dA : ClassId) (mv : Nat → Int32) (ks : Nat → Int32) (f2 : Int32) (f3 : Int32) (f4 : Int32) (A : Nat → Prop) (hAd : dA1 A h0 hv ht) (hP : va_P D vwCl (W1 h0 hv ht dA mv ks f2 f3 f4) H0)  (r : Int32) (gf2 : Int32) (hJ : J1_back ks f2 = some (r, gf2)) : Met l yX1_back (ws_ yX1_back cX1_back 1 (some .int)) ({ frames := 0, cells := 0, slots := 0, locals := 0 } : Room) (roP D [(dA, .int)] H0 [.ref h0]) (wrQ D (W1 h0 hv ht dA mv ks gf2 f3 f4) A (some (.int r))) 0 0 A := by
  refine ro_enter (by decide) (Nat.le_of_ble_eq_true rfl) ?_
  intro p e s m below meth c hF hr hlk hH hK ls hl
  have hl : lv_has ls 1 [(0, .ref h0)] := hl
  obtain ⟨hx, hb, hml, hown, hts⟩ := id hF
  subst hH
  have hS : va_S A s.heap s.heap [] := va_S.rf
  unfold J1_back at hJ
  refine lv_aload_n hx hb dX1_back_0 rfl (lv_at hl 0 rfl) ?_
  refine va_get (D := D) (ci := 1) (v := .int f2) (C := RX1) (T := TX1) (N := 5) hx hb hts in_X1 hown hK hP 0 rfl rfl 2 (by decide) (hts _ q220) (fun _ h9 => h9) rfl dX1_back_1 ?_
  refine lv_if_ne (tgt := 10) hx hb dX1_back_4 (by decide) (fun c_1 => ?_) (fun c_1 => ?_)
  · have hJ := jf hJ c_1
    refine lv_aload_n hx hb dX1_back_10 rfl (lv_at hl 0 rfl) ?_
    refine lv_dup hx hb dX1_back_11 rfl ?_
    refine va_get (D := D) (ci := 1) (v := .int f2) (C := RX1) (T := TX1) (N := 5) hx hb hts in_X1 hown hK hP 0 rfl rfl 2 (by decide) (hts _ q220) (fun _ h9 => h9) rfl dX1_back_12 ?_
    refine lv_iconst (v := 1) hx hb dX1_back_15 (by decide) ?_
    refine lv_isub hx hb dX1_back_16 ?_
    refine lv_topi (fun f2_2 ef2_2 => ?_)
    have hJ := jlet hJ ef2_2
    refine va_put (D := D) (A := A) (ci := 1) (v := .int f2_2) (ty := .int) (C := RX1) (T := TX1) (N := 5) hx hb hts in_X1 tyX1 tyX1_ok nmX1 hown hK hP (d1_of hAd) hS 0 rfl rfl 2 (by decide) (hts _ q220) (fun _ h9 => h9) rfl (by decide +kernel) rfl rfl (Nat.le_of_ble_eq_true rfl) dX1_back_17 (fun H locs hP _ hS => ?_)
    have hP : va_P D vwCl (W1 h0 hv ht dA mv ks f2_2 f3 f4) H := hP
    refine lv_aload_n hx hb dX1_back_20 rfl (lv_at hl 0 rfl) ?_
    refine va_get (D := D) (ci := 1) (v := .ref ht) (C := RX1) (T := TX1) (N := 5) hx hb hts in_X1 hown hK hP 0 rfl rfl 1 (by decide) (hts _ q219) (fun _ h9 => h9) rfl dX1_back_21 ?_
    refine lv_aload_n hx hb dX1_back_24 rfl (lv_at hl 0 rfl) ?_
    refine va_get (D := D) (ci := 1) (v := .int f2_2) (C := RX1) (T := TX1) (N := 5) hx hb hts in_X1 hown hK hP 0 rfl rfl 2 (by decide) (hts _ q220) (fun _ h9 => h9) rfl dX1_back_25 ?_
    obtain ⟨g_3, hJ⟩ := jg hJ
    refine va_iald hx hb hK hP 2 0 rfl rfl g_3 dX1_back_28 ?_
    obtain ⟨rfl, rfl⟩ := jp2 hJ
    exact wr_iret hF hr hlk hP hS dX1_back_29 rfl rfl
  · have hJ := jt hJ c_1
    refine lv_bipush (v := -4) hx hb dX1_back_7 (by decide) ?_
    obtain ⟨rfl, rfl⟩ := jp2 hJ
    exact wr_iret hF hr hlk hP hS dX1_back_9 rfl rfl
/-! ShortestDigitsModel.clear()V -/
def J1_clear (f2 : Int32) : Option Int32 :=
  some (0 : Int32)
set_option maxHeartbeats 4000000 in
set_option maxRecDepth 100000 in
theorem m1_clear (l : Launch) (D : va_G) (H0 : Heap) (h0 hv ht : Nat) (dA : ClassId) (mv : Nat → Int32) (ks : Nat → Int32) (f2 : Int32) (f3 : Int32) (f4 : Int32) (A : Nat → Prop) (hAd : dA1 A h0 hv ht) (hP : va_P D vwCl (W1 h0 hv ht dA mv ks f2 f3 f4) H0)  (gf2 : Int32) (hJ : J1_clear f2 = some gf2) : Met l yX1_clear (ws_ yX1_clear cX1_clear 1 none) ({ frames := 0, cells := 0, slots := 0, locals := 0 } : Room) (roP D [(dA, .int)] H0 [.ref h0]) (wrQ D (W1 h0 hv ht dA mv ks gf2 f3 f4) A none) 0 0 A := by
  refine ro_enter (by decide) (Nat.le_of_ble_eq_true rfl) ?_
  intro p e s m below meth c hF hr hlk hH hK ls hl
  have hl : lv_has ls 1 [(0, .ref h0)] := hl
  obtain ⟨hx, hb, hml, hown, hts⟩ := id hF
  subst hH
  have hS : va_S A s.heap s.heap [] := va_S.rf
  unfold J1_clear at hJ
  refine lv_aload_n hx hb dX1_clear_0 rfl (lv_at hl 0 rfl) ?_
  refine lv_iconst (v := 0) hx hb dX1_clear_1 (by decide) ?_
  refine va_put (D := D) (A := A) (ci := 1) (v := .int (0 : Int32)) (ty := .int) (C := RX1) (T := TX1) (N := 5) hx hb hts in_X1 tyX1 tyX1_ok nmX1 hown hK hP (d1_of hAd) hS 0 rfl rfl 2 (by decide) (hts _ q220) (fun _ h9 => h9) rfl (by decide +kernel) rfl rfl (Nat.le_of_ble_eq_true rfl) dX1_clear_2 (fun H locs hP _ hS => ?_)
  have hP : va_P D vwCl (W1 h0 hv ht dA mv ks (0 : Int32) f3 f4) H := hP
  obtain rfl := Option.some.inj hJ
  exact wr_vret hF hr hlk hP hS dX1_clear_5 rfl
end
section
set_option maxRecDepth 100000
/-! ShortestDigitsModel.findShort(I)V: two loops, one in the other -/
def L1_findShort_32 (mv : Nat → Int32) : Nat → Int32 → Int32 → Int32 → Int32 → Int32 → Option (Int32 × Int32)
  | 0, _, _, _, _, _ => none
  | k + 1, x1, x2, x3, f3, f4 =>
    if (7 : Int32) ≤ x3 then some (f3, f4)
    else
      jB2 (J1_tryNear mv f3 f4 x1 x2 x3) (fun (a b : Int32) =>
      jL (x3 + (1 : Int32)) (fun (y : Int32) =>
      L1_findShort_32 mv k x1 x2 y a b))
def L1_findShort_12 (mv : Nat → Int32) : Nat → Int32 → Int32 → Int32 → Int32 → Option (Int32 × Int32)
  | 0, _, _, _, _ => none
  | k + 1, x1, x2, f3, f4 =>
    if (9 : Int32) ≤ x2 then some (f3, f4)
    else
      if f3 = 0 then
        if x1 ≤ 0 then some (f3, f4)
        else
          jB2 (L1_findShort_32 mv FU x1 x2 (-12 : Int32) f3 f4) (fun (a b : Int32) =>
          jL (x2 + (1 : Int32)) (fun (y : Int32) =>
          L1_findShort_12 mv k x1 y a b))
      else some (f3, f4)
def J1_findShort (mv : Nat → Int32) (f3 : Int32) (f4 : Int32) (p1 : Int32) : Option (Int32 × Int32) :=
  L1_findShort_12 mv FU p1 (1 : Int32) (0 : Int32) (0 : Int32)
set_option maxHeartbeats 4000000 in
set_option maxRecDepth 100000 in
theorem l1_findShort_32 {p : Program} {l : Launch} {e : Env} {s : State} {m : MethodId} {args : Array Value} {below : List Frame} {meth : Method} {c : Code} {D : va_G} {h0 hv ht : Nat} {dA : ClassId} (mv : Nat → Int32) (ks : Nat → Int32) (f2 : Int32) {A : Nat → Prop} {Q : State → Prop} (hAd : dA1 A h0 hv ht) (hF : CallFix p m c cX1_findShort 4 s args lw_all RX1) (hK : va_K D vwCl [(dA, .int)] s) (gf3 : Int32) (gf4 : Int32) (x1 x2 : Int32)
    (K : ∀ (H : Heap) (locs : List Loc) (ls : Array Slot), va_P D vwCl (W1 h0 hv ht dA mv ks f2 gf3 gf4) H → va_S A s.heap H locs → lv_has ls 4 [(0, .ref h0), (1, .int x1), (2, .int x2)] → W p l e ({ frames := 4, cells := 0, slots := 0, locals := 109 } : Room) s m args below meth c H locs 0 0 Q (F0 m 51 ls [])) :
    ∀ (k : Nat) (x3 : Int32) (f3 : Int32) (f4 : Int32), L1_findShort_32 mv k x1 x2 x3 f3 f4 = some (gf3, gf4) → ∀ (H : Heap) (locs : List Loc), va_P D vwCl (W1 h0 hv ht dA mv ks f2 f3 f4) H → va_S A s.heap H locs → ∀ (ls : Array Slot), lv_has ls 4 [(0, .ref h0), (1, .int x1), (2, .int x2), (3, .int x3)] → W p l e ({ frames := 4, cells := 0, slots := 0, locals := 109 } : Room) s m args below meth c H locs 0 0 Q (F0 m 32 ls []) := by
  obtain ⟨hx, hb, hml, hown, hts⟩ := id hF
  intro k
  induction k with
  | zero =>
    intro x3 f3 f4 hJ
    rw [L1_findShort_32] at hJ
    cases hJ
  | succ k ih =>
    intro x3 f3 f4 hJ H locs hP hS ls hl
    rw [L1_findShort_32] at hJ
    refine lv_iload_n hx hb dX1_findShort_32 rfl (lv_at hl 3 rfl) ?_
    refine lv_bipush (v := 7) hx hb dX1_findShort_33 (by decide) ?_
    refine lv_icmp_ge (tgt := 51) hx hb dX1_findShort_35 (by decide) (fun c_1 => ?_) (fun c_1 => ?_)
    · have hJ := jt hJ c_1
      obtain ⟨rfl, rfl⟩ := jp2 hJ
      exact K _ _ ls hP hS (lv_sub hl [0, 1, 2] rfl)
    · have hJ := jf hJ c_1
      refine lv_aload_n hx hb dX1_findShort_38 rfl (lv_at hl 0 rfl) ?_
      refine lv_iload_n hx hb dX1_findShort_39 rfl (lv_at hl 1 rfl) ?_
      refine lv_iload_n hx hb dX1_findShort_40 rfl (lv_at hl 2 rfl) ?_
      refine lv_iload_n hx hb dX1_findShort_41 rfl (lv_at hl 3 rfl) ?_
      obtain ⟨a, b, h1, hJ⟩ := jb2 hJ
      refine k1_tryNear hF hP hK hAd h1 hl.1 (Nat.le_of_ble_eq_true rfl) dX1_findShort_42 ⟨Nat.le_of_ble_eq_true rfl, Nat.le_of_ble_eq_true rfl⟩ ⟨Nat.zero_le _, Nat.zero_le _⟩ hS (fun H locs hP hS => ?_)
      obtain ⟨y, ey⟩ : ∃ y : Int32, y = x3 + (1 : Int32) := ⟨_, rfl⟩
      have hJ := jlet hJ ey
      refine lv_iinc (v := y) (lv' := [(3, .int y), (0, .ref h0), (1, .int x1), (2, .int x2)]) hx hb dX1_findShort_45 hl (k := 3) rfl (by rw [ey]; rfl) (by decide) rfl (fun ls hl => ?_)
      refine lv_goto (tgt := 32) hx hb dX1_findShort_48 (by decide) ?_
      exact ih y a b hJ _ _ hP hS ls (lv_sub hl [1, 2, 3, 0] rfl)
set_option maxHeartbeats 4000000 in
set_option maxRecDepth 100000 in
theorem l1_findShort_12 {p : Program} {l : Launch} {e : Env} {s : State} {m : MethodId} {below : List Frame} {meth : Method} {c : Code} {D : va_G} {h0 hv ht : Nat} {dA : ClassId} (mv : Nat → Int32) (ks : Nat → Int32) (f2 : Int32) {A : Nat → Prop} (hAd : dA1 A h0 hv ht) (p1 : Int32) (hF : CallFix p m c cX1_findShort 4 s ([.ref h0, .int p1] : List Value).toArray lw_all RX1) (hr : meth.sig.returnType = none) (hlk : meth.locks = false)  (hK : va_K D vwCl [(dA, .int)] s) (gf3 : Int32) (gf4 : Int32) :
    ∀ (k : Nat) (x1 : Int32) (x2 : Int32) (f3 : Int32) (f4 : Int32), L1_findShort_12 mv k x1 x2 f3 f4 = some (gf3, gf4) → ∀ (H : Heap) (locs : List Loc), va_P D vwCl (W1 h0 hv ht dA mv ks f2 f3 f4) H → va_S A s.heap H locs → ∀ (ls : Array Slot), lv_has ls 4 [(0, .ref h0), (1, .int x1), (2, .int x2)] → W p l e ({ frames := 4, cells := 0, slots := 0, locals := 109 } : Room) s m ([.ref h0, .int p1] : List Value).toArray below meth c H locs 0 0 (MQ below (wrQ D (W1 h0 hv ht dA mv ks f2 gf3 gf4) A none) ([.ref h0, .int p1] : List Value).toArray s 0 0 A) (F0 m 12 ls []) := by
  obtain ⟨hx, hb, hml, hown, hts⟩ := id hF
  intro k
  induction k with
  | zero =>
    intro x1 x2 f3 f4 hJ
    rw [L1_findShort_12] at hJ
    cases hJ
  | succ k ih =>
    intro x1 x2 f3 f4 hJ H locs hP hS ls hl
    rw [L1_findShort_12] at hJ
    refine lv_iload_n hx hb dX1_findShort_12 rfl (lv_at hl 2 rfl) ?_
    refine lv_bipush (v := 9) hx hb dX1_findShort_13 (by decide) ?_
    refine lv_icmp_ge (tgt := 57) hx hb dX1_findShort_15 (by decide) (fun c_1 => ?_) (fun c_1 => ?_)
    · have hJ := jt hJ c_1
      obtain ⟨rfl, rfl⟩ := jp2 hJ
      exact wr_vret hF hr hlk hP hS dX1_findShort_57 rfl
    · have hJ := jf hJ c_1
      refine lv_aload_n hx hb dX1_findShort_18 rfl (lv_at hl 0 rfl) ?_
      refine va_get (D := D) (ci := 1) (v := .int f3) (C := RX1) (T := TX1) (N := 5) hx hb hts in_X1 hown hK hP 0 rfl rfl 3 (by decide) (hts _ q221) (fun _ h9 => h9) rfl dX1_findShort_19 ?_
      refine lv_if_ne (tgt := 57) hx hb dX1_findShort_22 (by decide) (fun c_2 => ?_) (fun c_2 => ?_)
      · have hJ := jf hJ c_2
        obtain ⟨rfl, rfl⟩ := jp2 hJ
        exact wr_vret hF hr hlk hP hS dX1_findShort_57 rfl
      · have hJ := jt hJ c_2
        refine lv_iload_n hx hb dX1_findShort_25 rfl (lv_at hl 1 rfl) ?_
        refine lv_if_le (tgt := 57) hx hb dX1_findShort_26 (by decide) (fun c_3 => ?_) (fun c_3 => ?_)
        · have hJ := jt hJ c_3
          obtain ⟨rfl, rfl⟩ := jp2 hJ
          exact wr_vret hF hr hlk hP hS dX1_findShort_57 rfl
        · have hJ := jf hJ c_3
          refine lv_bipush (v := -12) hx hb dX1_findShort_29 (by decide) ?_
          refine lv_istore_n (lv' := [(3, .int (-12 : Int32)), (0, .ref h0), (1, .int x1), (2, .int x2)]) hx hb dX1_findShort_31 rfl hl (by decide) rfl (fun ls hl => ?_)
          obtain ⟨a, b, h1, hJ⟩ := jb2 hJ
          refine l1_findShort_32 mv ks f2 hAd hF hK a b x1 x2 (fun H locs ls hP hS hl => ?_) FU (-12 : Int32) f3 f4 h1 _ _ hP hS ls (lv_sub hl [1, 2, 3, 0] rfl)
          obtain ⟨y, ey⟩ : ∃ y : Int32, y = x2 + (1 : Int32) := ⟨_, rfl⟩
          have hJ := jlet hJ ey
          refine lv_iinc (v := y) (lv' := [(2, .int y), (0, .ref h0), (1, .int x1)]) hx hb dX1_findShort_51 hl (k := 2) rfl (by rw [ey]; rfl) (by decide) rfl (fun ls hl => ?_)
          refine lv_goto (tgt := 12) hx hb dX1_findShort_54 (by decide) ?_
          exact ih x1 y a b hJ _ _ hP hS ls (lv_sub hl [1, 2, 0] rfl)
set_option maxHeartbeats 4000000 in
set_option maxRecDepth 100000 in
theorem m1_findShort (l : Launch) (D : va_G) (H0 : Heap) (h0 hv ht : Nat) (dA : ClassId) (mv : Nat → Int32) (ks : Nat → Int32) (f2 : Int32) (f3 : Int32) (f4 : Int32) (A : Nat → Prop) (hAd : dA1 A h0 hv ht) (hP : va_P D vwCl (W1 h0 hv ht dA mv ks f2 f3 f4) H0) (p1 : Int32) (gf3 : Int32) (gf4 : Int32) (hJ : J1_findShort mv f3 f4 p1 = some (gf3, gf4)) : Met l yX1_findShort (ws_ yX1_findShort cX1_findShort 4 none) ({ frames := 4, cells := 0, slots := 0, locals := 109 } : Room) (roP D [(dA, .int)] H0 [.ref h0, .int p1]) (wrQ D (W1 h0 hv ht dA mv ks f2 gf3 gf4) A none) 0 0 A := by
  refine ro_enter (by decide) (Nat.le_of_ble_eq_true rfl) ?_
  intro p e s m below meth c hF hr hlk hH hK ls hl
  have hl : lv_has ls 4 [(0, .ref h0), (1, .int p1)] := hl
  obtain ⟨hx, hb, hml, hown, hts⟩ := id hF
  subst hH
  have hS : va_S A s.heap s.heap [] := va_S.rf
  unfold J1_findShort at hJ
  refine lv_aload_n hx hb dX1_findShort_0 rfl (lv_at hl 0 rfl) ?_
  refine lv_iconst (v := 0) hx hb dX1_findShort_1 (by decide) ?_
  refine va_put (D := D) (A := A) (ci := 1) (v := .int (0 : Int32)) (ty := .int) (C := RX1) (T := TX1) (N := 5) hx hb hts in_X1 tyX1 tyX1_ok nmX1 hown hK hP (d1_of hAd) hS 0 rfl rfl 3 (by decide) (hts _ q221) (fun _ h9 => h9) rfl (by decide +kernel) rfl rfl (Nat.le_of_ble_eq_true rfl) dX1_findShort_2 (fun H locs hP _ hS => ?_)
  have hP : va_P D vwCl (W1 h0 hv ht dA mv ks f2 (0 : Int32) f4) H := hP
  refine lv_aload_n hx hb dX1_findShort_5 rfl (lv_at hl 0 rfl) ?_
  refine lv_iconst (v := 0) hx hb dX1_findShort_6 (by decide) ?_
  refine va_put (D := D) (A := A) (ci := 1) (v := .int (0 : Int32)) (ty := .int) (C := RX1) (T := TX1) (N := 5) hx hb hts in_X1 tyX1 tyX1_ok nmX1 hown hK hP (d1_of hAd) hS 0 rfl rfl 4 (by decide) (hts _ q222) (fun _ h9 => h9) rfl (by decide +kernel) rfl rfl (Nat.le_of_ble_eq_true rfl) dX1_findShort_7 (fun H locs hP _ hS => ?_)
  have hP : va_P D vwCl (W1 h0 hv ht dA mv ks f2 (0 : Int32) (0 : Int32)) H := hP
  refine lv_iconst (v := 1) hx hb dX1_findShort_10 (by decide) ?_
  refine lv_istore_n (lv' := [(2, .int (1 : Int32)), (0, .ref h0), (1, .int p1)]) hx hb dX1_findShort_11 rfl hl (by decide) rfl (fun ls hl => ?_)
  exact l1_findShort_12 mv ks f2 hAd p1 hF hr hlk hK _ _ FU p1 (1 : Int32) (0 : Int32) (0 : Int32) hJ _ _ hP hS ls (lv_sub hl [1, 2, 0] rfl)
theorem k1_findShort {p : Program} {l : Launch} {e : Env} {R : Room} {s : State} {m : MethodId} {args : Array Value} {below : List Frame} {meth : Method} {c : Code} {H : Heap} {locs : List Loc} {cells slots : Nat} {Q : State → Prop} {cc : ByteArray} {nL pc : Nat} {ls : Array Slot} {rest : List Value} {D : va_G} {b hv ht : Nat} {dA : ClassId} {mv : Nat → Int32} {ks : Nat → Int32} {f2 : Int32} {f3 : Int32} {f4 : Int32} {A : Nat → Prop} {Hs : Heap} (hF : CallFix p m c cc nL s args lw_all RX1) (hP : va_P D vwCl (W1 b hv ht dA mv ks f2 f3 f4) H) (hK : va_K D vwCl [(dA, .int)] s) (hAd : dA1 A b hv ht) {p1 : Int32} {gf3 : Int32} {gf4 : Int32} (hJ : J1_findShort mv f3 f4 p1 = some (gf3, gf4)) (hsz : ls.size = nL) (hW : (rest.map fun v => v.category).sum ≤ 8) (hdg : decode cc pc = .ok (.invokevirtual 68, 3)) (hR : 4 + 1 ≤ R.frames ∧ 8 + (4 + 11) + 109 ≤ R.locals) (hf : cells ≤ R.cells ∧ slots ≤ R.slots) (hS : va_S A Hs H locs) (kk : ∀ (H1 : Heap) (locs1 : List Loc), va_P D vwCl (W1 b hv ht dA mv ks f2 gf3 gf4) H1 → va_S A Hs H1 locs1 → W p l e R s m args below meth c H1 locs1 cells slots Q (F0 m (pc + 3) ls rest)) : W p l e R s m args below meth c H locs cells slots Q (F0 m pc ls (.int p1 :: .ref b :: rest)) :=
  wr_call (n := 1) (ci := 1) hF (m1_findShort l D H b hv ht dA mv ks f2 f3 f4 A hAd hP p1 _ _ hJ) (lw_V q278 q280 qs26 q34 q281) (by decide +kernel) rfl rfl hR (xR.of hP 0 rfl) hK rfl rfl rfl hsz rfl hW hdg hf hS (fun _ h => h) (fun H1 locs1 h1 _ _ h4 => kk H1 locs1 h1 h4)
/-! ShortestDigitsModel.digits(I)I -/
def J1_digits (mv : Nat → Int32) (f3 : Int32) (f4 : Int32) (p1 : Int32) : Option (Int32 × Int32 × Int32) :=
  Option.bind (J1_isCode p1) (fun (r_2 : Int32) =>
  if r_2 = 0 then
    some ((-1 : Int32), f3, f4)
  else
    jB2 (J1_findShort mv f3 f4 p1) (fun (f3_5 f4_6 : Int32) =>
    some (f3_5, f3_5, f4_6)))
set_option maxHeartbeats 4000000 in
set_option maxRecDepth 100000 in
theorem m1_digits (l : Launch) (D : va_G) (H0 : Heap) (h0 hv ht : Nat) (dA : ClassId) (mv : Nat → Int32) (ks : Nat → Int32) (f2 : Int32) (f3 : Int32) (f4 : Int32) (A : Nat → Prop) (hAd : dA1 A h0 hv ht) (hP : va_P D vwCl (W1 h0 hv ht dA mv ks f2 f3 f4) H0) (p1 : Int32) (r : Int32) (gf3 : Int32) (gf4 : Int32) (hJ : J1_digits mv f3 f4 p1 = some (r, gf3, gf4)) : Met l yX1_digits (ws_ yX1_digits cX1_digits 2 (some .int)) ({ frames := 5, cells := 0, slots := 0, locals := 132 } : Room) (roP D [(dA, .int)] H0 [.ref h0, .int p1]) (wrQ D (W1 h0 hv ht dA mv ks f2 gf3 gf4) A (some (.int r))) 0 0 A := by
  refine ro_enter (by decide) (Nat.le_of_ble_eq_true rfl) ?_
  intro p e s m below meth c hF hr hlk hH hK ls hl
  have hl : lv_has ls 2 [(0, .ref h0), (1, .int p1)] := hl
  obtain ⟨hx, hb, hml, hown, hts⟩ := id hF
  subst hH
  have hS : va_S A s.heap s.heap [] := va_S.rf
  unfold J1_digits at hJ
  refine lv_aload_n hx hb dX1_digits_0 rfl (lv_at hl 0 rfl) ?_
  refine lv_iload_n hx hb dX1_digits_1 rfl (lv_at hl 1 rfl) ?_
  obtain ⟨r_2, h_1, hJ⟩ := jb hJ
  refine k1_isCode hF (xR.of hP 0 rfl) hK h_1 hl.1 (Nat.le_of_ble_eq_true rfl) dX1_digits_2 ⟨Nat.le_of_ble_eq_true rfl, Nat.le_of_ble_eq_true rfl⟩ ⟨Nat.zero_le _, Nat.zero_le _⟩ ?_
  refine lv_if_ne (tgt := 10) hx hb dX1_digits_5 (by decide) (fun c_3 => ?_) (fun c_3 => ?_)
  · have hJ := jf hJ c_3
    refine lv_aload_n hx hb dX1_digits_10 rfl (lv_at hl 0 rfl) ?_
    refine lv_iload_n hx hb dX1_digits_11 rfl (lv_at hl 1 rfl) ?_
    obtain ⟨f3_5, f4_6, h_4, hJ⟩ := jb2 hJ
    refine k1_findShort hF hP hK hAd h_4 hl.1 (Nat.le_of_ble_eq_true rfl) dX1_digits_12 ⟨Nat.le_of_ble_eq_true rfl, Nat.le_of_ble_eq_true rfl⟩ ⟨Nat.zero_le _, Nat.zero_le _⟩ hS (fun H locs hP hS => ?_)
    refine lv_aload_n hx hb dX1_digits_15 rfl (lv_at hl 0 rfl) ?_
    refine va_get (D := D) (ci := 1) (v := .int f3_5) (C := RX1) (T := TX1) (N := 5) hx hb hts in_X1 hown hK hP 0 rfl rfl 3 (by decide) (hts _ q221) (fun _ h9 => h9) rfl dX1_digits_16 ?_
    obtain ⟨rfl, rfl, rfl⟩ := jp3 hJ
    exact wr_iret hF hr hlk hP hS dX1_digits_19 rfl rfl
  · have hJ := jt hJ c_3
    refine lv_iconst (v := -1) hx hb dX1_digits_8 (by decide) ?_
    obtain ⟨rfl, rfl, rfl⟩ := jp3 hJ
    exact wr_iret hF hr hlk hP hS dX1_digits_9 rfl rfl
/-! ShortestDigitsModel.scale(I)I -/
def J1_scale (mv : Nat → Int32) (f3 : Int32) (f4 : Int32) (p1 : Int32) : Option (Int32 × Int32 × Int32) :=
  Option.bind (J1_isCode p1) (fun (r_2 : Int32) =>
  if r_2 = 0 then
    some ((-100 : Int32), f3, f4)
  else
    jB2 (J1_findShort mv f3 f4 p1) (fun (f3_5 f4_6 : Int32) =>
    some (f4_6, f3_5, f4_6)))
set_option maxHeartbeats 4000000 in
set_option maxRecDepth 100000 in
theorem m1_scale (l : Launch) (D : va_G) (H0 : Heap) (h0 hv ht : Nat) (dA : ClassId) (mv : Nat → Int32) (ks : Nat → Int32) (f2 : Int32) (f3 : Int32) (f4 : Int32) (A : Nat → Prop) (hAd : dA1 A h0 hv ht) (hP : va_P D vwCl (W1 h0 hv ht dA mv ks f2 f3 f4) H0) (p1 : Int32) (r : Int32) (gf3 : Int32) (gf4 : Int32) (hJ : J1_scale mv f3 f4 p1 = some (r, gf3, gf4)) : Met l yX1_scale (ws_ yX1_scale cX1_scale 2 (some .int)) ({ frames := 5, cells := 0, slots := 0, locals := 132 } : Room) (roP D [(dA, .int)] H0 [.ref h0, .int p1]) (wrQ D (W1 h0 hv ht dA mv ks f2 gf3 gf4) A (some (.int r))) 0 0 A := by
  refine ro_enter (by decide) (Nat.le_of_ble_eq_true rfl) ?_
  intro p e s m below meth c hF hr hlk hH hK ls hl
  have hl : lv_has ls 2 [(0, .ref h0), (1, .int p1)] := hl
  obtain ⟨hx, hb, hml, hown, hts⟩ := id hF
  subst hH
  have hS : va_S A s.heap s.heap [] := va_S.rf
  unfold J1_scale at hJ
  refine lv_aload_n hx hb dX1_scale_0 rfl (lv_at hl 0 rfl) ?_
  refine lv_iload_n hx hb dX1_scale_1 rfl (lv_at hl 1 rfl) ?_
  obtain ⟨r_2, h_1, hJ⟩ := jb hJ
  refine k1_isCode hF (xR.of hP 0 rfl) hK h_1 hl.1 (Nat.le_of_ble_eq_true rfl) dX1_scale_2 ⟨Nat.le_of_ble_eq_true rfl, Nat.le_of_ble_eq_true rfl⟩ ⟨Nat.zero_le _, Nat.zero_le _⟩ ?_
  refine lv_if_ne (tgt := 11) hx hb dX1_scale_5 (by decide) (fun c_3 => ?_) (fun c_3 => ?_)
  · have hJ := jf hJ c_3
    refine lv_aload_n hx hb dX1_scale_11 rfl (lv_at hl 0 rfl) ?_
    refine lv_iload_n hx hb dX1_scale_12 rfl (lv_at hl 1 rfl) ?_
    obtain ⟨f3_5, f4_6, h_4, hJ⟩ := jb2 hJ
    refine k1_findShort hF hP hK hAd h_4 hl.1 (Nat.le_of_ble_eq_true rfl) dX1_scale_13 ⟨Nat.le_of_ble_eq_true rfl, Nat.le_of_ble_eq_true rfl⟩ ⟨Nat.zero_le _, Nat.zero_le _⟩ hS (fun H locs hP hS => ?_)
    refine lv_aload_n hx hb dX1_scale_16 rfl (lv_at hl 0 rfl) ?_
    refine va_get (D := D) (ci := 1) (v := .int f4_6) (C := RX1) (T := TX1) (N := 5) hx hb hts in_X1 hown hK hP 0 rfl rfl 4 (by decide) (hts _ q222) (fun _ h9 => h9) rfl dX1_scale_17 ?_
    obtain ⟨rfl, rfl, rfl⟩ := jp3 hJ
    exact wr_iret hF hr hlk hP hS dX1_scale_20 rfl rfl
  · have hJ := jt hJ c_3
    refine lv_bipush (v := -100) hx hb dX1_scale_8 (by decide) ?_
    obtain ⟨rfl, rfl, rfl⟩ := jp3 hJ
    exact wr_iret hF hr hlk hP hS dX1_scale_10 rfl rfl
/-! ShortestDigitsModel.length(I)I -/
def J1_length (mv : Nat → Int32) (f3 : Int32) (f4 : Int32) (p1 : Int32) : Option (Int32 × Int32 × Int32) :=
  Option.bind (J1_isCode p1) (fun (r_2 : Int32) =>
  if r_2 = 0 then
    some ((-1 : Int32), f3, f4)
  else
    jB2 (J1_findShort mv f3 f4 p1) (fun (f3_5 f4_6 : Int32) =>
    Option.bind (J1_digitsOf f3_5) (fun (r_8 : Int32) =>
    some (r_8, f3_5, f4_6))))
set_option maxHeartbeats 4000000 in
set_option maxRecDepth 100000 in
theorem m1_length (l : Launch) (D : va_G) (H0 : Heap) (h0 hv ht : Nat) (dA : ClassId) (mv : Nat → Int32) (ks : Nat → Int32) (f2 : Int32) (f3 : Int32) (f4 : Int32) (A : Nat → Prop) (hAd : dA1 A h0 hv ht) (hP : va_P D vwCl (W1 h0 hv ht dA mv ks f2 f3 f4) H0) (p1 : Int32) (r : Int32) (gf3 : Int32) (gf4 : Int32) (hJ : J1_length mv f3 f4 p1 = some (r, gf3, gf4)) : Met l yX1_length (ws_ yX1_length cX1_length 2 (some .int)) ({ frames := 5, cells := 0, slots := 0, locals := 132 } : Room) (roP D [(dA, .int)] H0 [.ref h0, .int p1]) (wrQ D (W1 h0 hv ht dA mv ks f2 gf3 gf4) A (some (.int r))) 0 0 A := by
  refine ro_enter (by decide) (Nat.le_of_ble_eq_true rfl) ?_
  intro p e s m below meth c hF hr hlk hH hK ls hl
  have hl : lv_has ls 2 [(0, .ref h0), (1, .int p1)] := hl
  obtain ⟨hx, hb, hml, hown, hts⟩ := id hF
  subst hH
  have hS : va_S A s.heap s.heap [] := va_S.rf
  unfold J1_length at hJ
  refine lv_aload_n hx hb dX1_length_0 rfl (lv_at hl 0 rfl) ?_
  refine lv_iload_n hx hb dX1_length_1 rfl (lv_at hl 1 rfl) ?_
  obtain ⟨r_2, h_1, hJ⟩ := jb hJ
  refine k1_isCode hF (xR.of hP 0 rfl) hK h_1 hl.1 (Nat.le_of_ble_eq_true rfl) dX1_length_2 ⟨Nat.le_of_ble_eq_true rfl, Nat.le_of_ble_eq_true rfl⟩ ⟨Nat.zero_le _, Nat.zero_le _⟩ ?_
  refine lv_if_ne (tgt := 10) hx hb dX1_length_5 (by decide) (fun c_3 => ?_) (fun c_3 => ?_)
  · have hJ := jf hJ c_3
    refine lv_aload_n hx hb dX1_length_10 rfl (lv_at hl 0 rfl) ?_
    refine lv_iload_n hx hb dX1_length_11 rfl (lv_at hl 1 rfl) ?_
    obtain ⟨f3_5, f4_6, h_4, hJ⟩ := jb2 hJ
    refine k1_findShort hF hP hK hAd h_4 hl.1 (Nat.le_of_ble_eq_true rfl) dX1_length_12 ⟨Nat.le_of_ble_eq_true rfl, Nat.le_of_ble_eq_true rfl⟩ ⟨Nat.zero_le _, Nat.zero_le _⟩ hS (fun H locs hP hS => ?_)
    refine lv_aload_n hx hb dX1_length_15 rfl (lv_at hl 0 rfl) ?_
    refine lv_aload_n hx hb dX1_length_16 rfl (lv_at hl 0 rfl) ?_
    refine va_get (D := D) (ci := 1) (v := .int f3_5) (C := RX1) (T := TX1) (N := 5) hx hb hts in_X1 hown hK hP 0 rfl rfl 3 (by decide) (hts _ q221) (fun _ h9 => h9) rfl dX1_length_17 ?_
    obtain ⟨r_8, h_7, hJ⟩ := jb hJ
    refine k1_digitsOf hF (xR.of hP 0 rfl) hK h_7 hl.1 (Nat.le_of_ble_eq_true rfl) dX1_length_20 ⟨Nat.le_of_ble_eq_true rfl, Nat.le_of_ble_eq_true rfl⟩ ⟨Nat.zero_le _, Nat.zero_le _⟩ ?_
    obtain ⟨rfl, rfl, rfl⟩ := jp3 hJ
    exact wr_iret hF hr hlk hP hS dX1_length_23 rfl rfl
  · have hJ := jt hJ c_3
    refine lv_iconst (v := -1) hx hb dX1_length_8 (by decide) ?_
    obtain ⟨rfl, rfl, rfl⟩ := jp3 hJ
    exact wr_iret hF hr hlk hP hS dX1_length_9 rfl rfl
end
section
/-! the two constructors -/
set_option maxRecDepth 100000
/-- a constructor's end: what it says of the state, and nothing changed but A -/
def inQ (P : State → Prop) (A : Nat → Prop) : Array Value → State → Outcome → State → Prop := fun _ st oc t => oc = .returned none ∧ P t ∧ va_F A st t
section INI
variable {p : Program} {l : Launch} {e : Env} {R : Room} {s : State} {m : MethodId} {args : Array Value} {below : List Frame} {meth : Method} {c : Code} {H : Heap} {locs : List Loc} {cells slots : Nat} {Q : State → Prop}
variable {y : MethodName} {bytes cc : ByteArray} {maxL nL n index mc ms : Nat} {rm : Room} {own : String} {b : Addr} {rest st : List Value} {D : va_G} {tys : List (ClassId × FieldType)} {pc : Nat} {ls : Array Slot}
theorem in_enter {H0 : Heap} {av : List Value} {Qc : Array Value → State → Outcome → State → Prop} {free : Addr → Prop} (hy : plainName y.cls = true) (hnm : y.name = "<init>") (hlen : (lg_sl av).length ≤ maxL)
    (body : ∀ p e s m below meth c, CallFix p m c cc maxL s av.toArray lw_all y.cls → meth.sig.returnType = none → meth.locks = false → meth.name = "<init>" → s.heap = H0 → va_K D vwCl tys s → ∀ ls, lv_has ls maxL (lv_args 0 av) → W p l e rm s m av.toArray below meth c H0 [] 0 0 (MQ below Qc av.toArray s mc ms free) (F0 m 0 ls [])) :
    Met l y (ws_ y cc maxL none) rm (roP D tys H0 av) Qc mc ms free := by
  refine Met.ofW (cc := cc) (maxL := maxL) (ret := none) hy rfl ?_
  intro p e s m args below meth c s₁ B hml hv
  obtain ⟨rfl, hH, hK⟩ := hv
  have hts := atoms_spec (ws := ws_ y cc maxL none) B.pre
  have hts : ∀ w ∈ lw_all, w.before _ s = true := fun w h => hts w (List.mem_cons_of_mem _ h)
  have hin : meth.name = "<init>" := by rw [← hnm]; exact (name_of_methodNamed B.named B.method).1
  rw [lg_entry_eq, hH]
  exact body p e s m below meth c ⟨B.exec, B.bytes, hml, findClass_of_methodNamed B.named, hts⟩ B.returns B.notSynchronized hin hH hK _ (lv_entry av hlen)
theorem in_call {P : State → Prop} {A0 A1 : Nat → Prop} {Hs : Heap} (hF : CallFix p m c cc nL s args lw_all own) (hM : Met l y (ws_ y bytes maxL none) rm (roP D tys H [.ref b]) (inQ P A1) mc ms A1) (hG : GoodIn lw_all (ws_ y bytes maxL none)) (hini : (Cond.initialized y.cls).before args s = true) (hl : (Cond.methodLink own index y).before args s = true) (hin : (Cond.instanceMethod y).before args s = true) (hy1 : y.name = "<init>")
    (hd : y.cls ≠ "java/lang/invoke/MethodHandle" ∧ y.cls ≠ "java/lang/invoke/VarHandle" ∧ (parseMethodDescriptor y.desc).map (fun d => d.parameters.length) = some 0) (hrc : rm.cells = mc) (hrs : rm.slots = ms) (hR : rm.frames + 1 ≤ R.frames ∧ 8 + (maxL + 11) + rm.locals ≤ R.locals)
    (hK : va_K D vwCl tys s) (hsz : ls.size = nL) (hst : st = .ref b :: rest) (hW : (rest.map fun v => v.category).sum ≤ 8) (hdg : decode cc pc = .ok (.invokespecial index, 3)) (hf : cells + mc ≤ R.cells ∧ slots + ms ≤ R.slots)
    (hS : va_S A0 Hs H locs) (hA : ∀ q, q < H.size → A1 q → A0 q) (hA2 : ∀ q, A1 q → A0 q)
    (kk : ∀ (t : State) (H1 : Heap) (locs1 : List Loc), t.heap = H1 → s.vm.Alike t.vm → P t → (∀ q : Nat, q < H.size → ¬ A1 q → H1[q]? = H[q]?) → va_S A0 Hs H1 locs1 → W p l e R s m args below meth c H1 locs1 (cells + mc) (slots + ms) Q (F0 m (pc + 3) ls rest)) : W p l e R s m args below meth c H locs cells slots Q (F0 m pc ls st) := by
  have run := va_runI (e := e) (below := below) (meth := meth) (g := F0 m pc ls st) (locs := locs) (cells := cells) (slots := slots) (rest := rest) (As := []) hF hM (cwI 0 hF.2.2.2.2 hG rfl hrc hrs hini hl hin hy1 hd hR) ⟨roP.blind, fun U hU hW => ⟨rfl, hU, va_K.moved hW.alike hK⟩⟩ rfl rfl hsz hst (lv_room hW) hdg hf
  intro T hT X
  obtain ⟨w, st₀, t, T', L, h0, X', hL, e1, e2, ⟨hv, hP1, hz, hk⟩, go⟩ := run T hT X
  cases hv
  rw [h0] at hz hk
  rw [← e1] at hz hk
  obtain ⟨t2, a1, b1⟩ := kk t T'.heap (locs ++ L) e1.symm (by rw [← e2]; exact X'.warmed.alike) hP1 hk ⟨Nat.le_trans hS.1 hz, fun q h1 h2 => by rw [hk q (Nat.lt_of_lt_of_le h1 hS.1) (fun z => h2 (hA2 q z))]; exact hS.2.1 q h1 h2, fun q hq => by
      rcases List.mem_append.mp hq with h | h
      · exact hS.2.2 q h
      · exact hA2 _ (hL q h)⟩ T' rfl X'
  exact ⟨t2, go t2 a1, b1⟩
end INI
theorem va_one {D : va_G} {tys : List (ClassId × FieldType)} {s : State} (hK : va_K D vwCl tys s) (i j : Nat) {a b : ClassId} (hi : tys[i]? = some (a, .int)) (hj : tys[j]? = some (b, .int)) : a = b := by
  have h1 : s.vm.findClass _ = some a := (hK.2 i _ hi).2
  have h2 : s.vm.findClass _ = some b := (hK.2 j _ hj).2
  exact Option.some.inj (h1.symm.trans h2)
theorem dA0_of {A : Nat → Prop} {h0 hk : Nat} {e0 e1 : va_E} (h : va_D A [(h0, e0), (hk, e1)]) : dA0 A h0 hk := ⟨fun q => absurd (h.1 0 1 _ _ rfl rfl q) (by decide), h.2 0 _ rfl, h.2 1 _ rfl⟩
theorem dA1_of {A : Nat → Prop} {h0 hv ht : Nat} {e0 e1 e2 : va_E} (h : va_D A [(h0, e0), (hv, e1), (ht, e2)]) : dA1 A h0 hv ht := ⟨fun q => absurd (h.1 0 1 _ _ rfl rfl q) (by decide), fun q => absurd (h.1 0 2 _ _ rfl rfl q) (by decide), fun q => absurd (h.1 1 2 _ _ rfl rfl q) (by decide), h.2 0 _ rfl, h.2 1 _ rfl, h.2 2 _ rfl⟩
set_option maxHeartbeats 4000000 in
set_option maxRecDepth 100000 in
theorem m0_init (l : Launch) (D : va_G) (H0 : Heap) (h0 : Nat) (A : Nat → Prop) (hA0 : A h0) (hA : ∀ q, H0.size ≤ q → A q) (hP : va_P D vwCl [(h0, .inr (0, [.int 0, .null, .int 0, .int 0]))] H0) : Met l yX0_init (ws_ yX0_init cX0_init 1 none) ({ frames := 1, cells := 1, slots := 9, locals := 12 } : Room) (roP D [] H0 [.ref h0]) (inQ (fun t => ∃ (hk : Nat) (dA : ClassId), dA0 A h0 hk ∧ va_P D vwCl (W0 h0 hk dA 0 (fun _ => 0) 0 0) t.heap ∧ va_K D vwCl [(dA, .int)] t) A) 1 9 A := by
  refine in_enter (by decide) rfl (Nat.le_of_ble_eq_true rfl) ?_
  intro p e s m below meth c hF hr hlk hin hH hK ls hl
  have hl : lv_has ls 1 [(0, .ref h0)] := hl
  obtain ⟨hx, hb, hml, hown, hts⟩ := id hF
  subst hH
  have hS : va_S A s.heap s.heap [] := va_S.rf
  have hD : va_D A [(h0, .inr (0, [.int 0, .null, .int 0, .int 0]))] := by
    refine ⟨fun i j p q hp hq _ => ?_, fun k q hq => ?_⟩
    · match i, j, hp, hq with
      | 0, 0, _, _ => rfl
      | i + 1, _, hp, _ => simp at hp
      | 0, j + 1, _, hq => simp at hq
    · match k, hq with
      | 0, hq => cases hq; exact hA0
      | k + 1, hq => simp at hq
  refine lv_aload_n hx hb dX0_init_0 rfl (lv_at hl 0 rfl) ?_
  refine W.objInit hx hb hown (hts _ q40) (hts _ q41) (hts _ q42) rfl (by rw [hml]; exact hl.1) rfl dX0_init_1 (Nat.le_of_ble_eq_true rfl) (Nat.le_of_ble_eq_true rfl) ?_
  refine W.eq (g2 := F0 m 4 ls []) rfl ?_
  refine lv_aload_n hx hb dX0_init_4 rfl (lv_at hl 0 rfl) ?_
  refine lv_bipush (v := 9) hx hb dX0_init_5 (by decide) ?_
  refine va_newa (atype := .int) (A := A) (ty := .int) (N' := 9) (a0 := (9, .inl (fun _ => 0))) hx hb (hts _ q56) rfl hK hP hD hS hA (fun _ => rfl) (by decide) (by decide) (by decide) (Nat.le_of_ble_eq_true rfl) (Nat.le_of_ble_eq_true rfl) dX0_init_7 (fun hk dA H hK hP hD hS => ?_)
  have hP : va_P D vwCl [(h0, .inr (0, [.int 0, .null, .int 0, .int 0])), (hk, .inl (dA, 9, .inl (fun _ => 0)))] H := hP
  have hD : va_D A [(h0, .inr (0, [.int 0, .null, .int 0, .int 0])), (hk, .inl (dA, 9, .inl (fun _ => 0)))] := hD
  have hK : va_K D vwCl [(dA, .int)] s := hK
  refine W.widen (k := 1) (n := 9) (by omega) (by omega) ?_
  refine va_putF (D := D) (ci := 0) (v := .ref hk) (ty := .array .int) (C := RX0) (T := TX0) (N := 4) hx hb hts in_X0 tyX0 tyX0_ok nmX0 hown hK hP hD hS 0 rfl rfl 1 (by decide) (hts _ q44) (fun _ h9 => h9) rfl hin rfl (by decide +kernel) rfl rfl (Nat.le_of_ble_eq_true rfl) dX0_init_9 (fun H locs hP hD hS => ?_)
  have hP : va_P D vwCl (W0 h0 hk dA 0 (fun _ => 0) 0 0) H := hP
  exact W.vret hx hb hr (fun t ht hW => ⟨rfl, ⟨hk, dA, dA0_of hD, by rw [ht]; exact hP, va_K.moved hW.alike hK⟩, hS.F ht⟩) hS.2.2 dX0_init_12
/-- a value as the model's constructor computes it -/
def V1 (c : Int32) : Int32 := if (64 : Int32) ≤ c then ((64 : Int32) + (c - c / (64 : Int32) * (64 : Int32))) <<< ((c / (64 : Int32) - (1 : Int32)) &&& 31) else c
def mvs (i : Nat) : Nat → Int32 := fun j => if j < i then V1 (nI j) else 0
theorem mvs_0 : mvs 0 = fun _ => 0 := by
  funext j
  simp [mvs]
theorem mvs_s (i : Nat) : upd (mvs i) i (V1 (nI i)) = mvs (i + 1) := by
  funext j
  unfold upd mvs
  by_cases h : j = i
  · subst h; simp
  · rw [if_neg h]
    by_cases h2 : j < i
    · rw [if_pos h2, if_pos (by omega)]
    · rw [if_neg h2, if_neg (by omega)]
set_option maxHeartbeats 4000000 in
set_option maxRecDepth 100000 in
theorem l1_init {p : Program} {l : Launch} {e : Env} {s : State} {m : MethodId} {args : Array Value} {below : List Frame} {meth : Method} {c : Code} {D : va_G} {h0 hv ht : Nat} {dA : ClassId} {A : Nat → Prop} {R : Room} {Q : State → Prop} (hAd : dA1 A h0 hv ht) (hF : CallFix p m c cX1_init 2 s args lw_all RX1) (hK : va_K D vwCl [(dA, .int)] s)
    (K : ∀ (H : Heap) (locs : List Loc) (ls : Array Slot), va_P D vwCl (W1 h0 hv ht dA (mvs 1025) (fun _ => 0) 0 0 0) H → va_S A s.heap H locs → W p l e R s m args below meth c H locs 2 1034 Q (F0 m 66 ls [])) :
    ∀ (n i : Nat), i + n = 1025 → ∀ (H : Heap) (locs : List Loc), va_P D vwCl (W1 h0 hv ht dA (mvs i) (fun _ => 0) 0 0 0) H → va_S A s.heap H locs → ∀ (ls : Array Slot), lv_has ls 2 [(0, .ref h0), (1, .int (nI i))] → W p l e R s m args below meth c H locs 2 1034 Q (F0 m 23 ls []) := by
  obtain ⟨hx, hb, hml, hown, hts⟩ := id hF
  intro n
  induction n with
  | zero =>
    intro i hi H locs hP hS ls hl
    obtain rfl : i = 1025 := by omega
    refine lv_iload_n hx hb dX1_init_23 rfl (lv_at hl 1 rfl) ?_
    refine lv_sipush (v := 1025) hx hb dX1_init_24 (by decide) ?_
    refine lv_icmp_ge (tgt := 66) hx hb dX1_init_27 (by decide) (fun c_1 => ?_) (fun c_1 => ?_)
    · exact K _ _ ls hP hS
    · exact absurd (by decide) c_1
  | succ n ih =>
    intro i hi H locs hP hS ls hl
    have hi2 : i < 1025 := by omega
    refine lv_iload_n hx hb dX1_init_23 rfl (lv_at hl 1 rfl) ?_
    refine lv_sipush (v := 1025) hx hb dX1_init_24 (by decide) ?_
    refine lv_icmp_ge (tgt := 66) hx hb dX1_init_27 (by decide) (fun c_1 => ?_) (fun c_1 => ?_)
    · exact absurd c_1 (nI_ge hi2 (by decide))
    · refine lv_aload_n hx hb dX1_init_30 rfl (lv_at hl 0 rfl) ?_
      refine va_get (D := D) (ci := 1) (v := .ref hv) (C := RX1) (T := TX1) (N := 5) hx hb hts in_X1 hown hK hP 0 rfl rfl 0 (by decide) (hts _ q218) (fun _ h9 => h9) rfl dX1_init_31 ?_
      refine lv_iload_n hx hb dX1_init_34 rfl (lv_at hl 1 rfl) ?_
      have hin : vp_in (nI i) 1025 := vp_in_nI hi2 (by decide)
      refine jn 2 [(0, .ref h0), (1, .int (nI i))] 59 [.int (V1 (nI i)), .int (nI i), .ref hv] ?_ (fun K59 => ?_)
      · intro ls hl
        refine va_iast (A := A) hx hb hK hP (d1_of hAd) hS 1 0 rfl rfl hin dX1_init_59 (fun H locs hP _ hS => ?_)
        have hP : va_P D vwCl (W1 h0 hv ht dA (mvs (i + 1)) (fun _ => 0) 0 0 0) H := by
          rw [nI_clamp (by omega)] at hP
          rw [← mvs_s]
          exact hP
        refine lv_iinc (v := nI (i + 1)) (lv' := [(1, .int (nI (i + 1))), (0, .ref h0)]) hx hb dX1_init_60 hl (k := 1) rfl (nI_1 i) (by decide) rfl (fun ls hl => ?_)
        refine lv_goto (tgt := 23) hx hb dX1_init_63 (by decide) ?_
        exact ih (i + 1) (by omega) _ _ hP hS ls (lv_sub hl [1, 0] rfl)
      · refine lv_iload_n hx hb dX1_init_35 rfl (lv_at hl 1 rfl) ?_
        refine lv_bipush (v := 64) hx hb dX1_init_36 (by decide) ?_
        refine lv_icmp_ge (tgt := 45) hx hb dX1_init_38 (by decide) (fun c_2 => ?_) (fun c_2 => ?_)
        · refine lv_bipush (v := 64) hx hb dX1_init_45 (by decide) ?_
          refine lv_iload_n hx hb dX1_init_47 rfl (lv_at hl 1 rfl) ?_
          refine lv_bipush (v := 64) hx hb dX1_init_48 (by decide) ?_
          refine lv_irem hx hb dX1_init_50 (by decide) ?_
          refine lv_iadd hx hb dX1_init_51 ?_
          refine lv_iload_n hx hb dX1_init_52 rfl (lv_at hl 1 rfl) ?_
          refine lv_bipush (v := 64) hx hb dX1_init_53 (by decide) ?_
          refine lv_idiv hx hb dX1_init_55 (by decide) ?_
          refine lv_iconst (v := 1) hx hb dX1_init_56 (by decide) ?_
          refine lv_isub hx hb dX1_init_57 ?_
          refine lv_ishl hx hb dX1_init_58 ?_
          have e1 : V1 (nI i) = ((64 : Int32) + (nI i - nI i / (64 : Int32) * (64 : Int32))) <<< ((nI i / (64 : Int32) - (1 : Int32)) &&& 31) := if_pos c_2
          rw [e1] at K59
          exact K59 ls hl
        · refine lv_iload_n hx hb dX1_init_41 rfl (lv_at hl 1 rfl) ?_
          refine lv_goto (tgt := 59) hx hb dX1_init_42 (by decide) ?_
          have e1 : V1 (nI i) = nI i := if_neg c_2
          rw [e1] at K59
          exact K59 ls hl
set_option maxHeartbeats 4000000 in
set_option maxRecDepth 100000 in
theorem m1_init (l : Launch) (D : va_G) (H0 : Heap) (h0 : Nat) (A : Nat → Prop) (hA0 : A h0) (hA : ∀ q, H0.size ≤ q → A q) (hP : va_P D vwCl [(h0, .inr (1, [.null, .null, .int 0, .int 0, .int 0]))] H0) : Met l yX1_init (ws_ yX1_init cX1_init 2 none) ({ frames := 1, cells := 2, slots := 1034, locals := 12 } : Room) (roP D [] H0 [.ref h0]) (inQ (fun t => ∃ (hv ht : Nat) (dA : ClassId), dA1 A h0 hv ht ∧ va_P D vwCl (W1 h0 hv ht dA (mvs 1025) (fun _ => 0) 0 0 0) t.heap ∧ va_K D vwCl [(dA, .int)] t) A) 2 1034 A := by
  refine in_enter (by decide) rfl (Nat.le_of_ble_eq_true rfl) ?_
  intro p e s m below meth c hF hr hlk hin hH hK ls hl
  have hl : lv_has ls 2 [(0, .ref h0)] := hl
  obtain ⟨hx, hb, hml, hown, hts⟩ := id hF
  subst hH
  have hS : va_S A s.heap s.heap [] := va_S.rf
  have hD : va_D A [(h0, .inr (1, [.null, .null, .int 0, .int 0, .int 0]))] := by
    refine ⟨fun i j p q hp hq _ => ?_, fun k q hq => ?_⟩
    · match i, j, hp, hq with
      | 0, 0, _, _ => rfl
      | i + 1, _, hp, _ => simp at hp
      | 0, j + 1, _, hq => simp at hq
    · match k, hq with
      | 0, hq => cases hq; exact hA0
      | k + 1, hq => simp at hq
  refine lv_aload_n hx hb dX1_init_0 rfl (lv_at hl 0 rfl) ?_
  refine W.objInit hx hb hown (hts _ q217) (hts _ q41) (hts _ q42) rfl (by rw [hml]; exact hl.1) rfl dX1_init_1 (Nat.le_of_ble_eq_true rfl) (Nat.le_of_ble_eq_true rfl) ?_
  refine W.eq (g2 := F0 m 4 ls []) rfl ?_
  refine lv_aload_n hx hb dX1_init_4 rfl (lv_at hl 0 rfl) ?_
  refine lv_sipush (v := 1025) hx hb dX1_init_5 (by decide) ?_
  refine va_newa (atype := .int) (A := A) (ty := .int) (N' := 1025) (a0 := (1025, .inl (fun _ => 0))) hx hb (hts _ q56) rfl hK hP hD hS hA (fun _ => rfl) (by decide) (by decide) (by decide) (Nat.le_of_ble_eq_true rfl) (Nat.le_of_ble_eq_true rfl) dX1_init_8 (fun hv dA H hK hP hD hS => ?_)
  have hP : va_P D vwCl [(h0, .inr (1, [.null, .null, .int 0, .int 0, .int 0])), (hv, .inl (dA, 1025, .inl (fun _ => 0)))] H := hP
  have hD : va_D A [(h0, .inr (1, [.null, .null, .int 0, .int 0, .int 0])), (hv, .inl (dA, 1025, .inl (fun _ => 0)))] := hD
  have hK : va_K D vwCl [(dA, .int)] s := hK
  refine W.widen (k := 1) (n := 1025) (by omega) (by omega) ?_
  refine va_putF (D := D) (ci := 1) (v := .ref hv) (ty := .array .int) (C := RX1) (T := TX1) (N := 5) hx hb hts in_X1 tyX1 tyX1_ok nmX1 hown hK hP hD hS 0 rfl rfl 0 (by decide) (hts _ q218) (fun _ h9 => h9) rfl hin rfl (by decide +kernel) rfl rfl (Nat.le_of_ble_eq_true rfl) dX1_init_10 (fun H locs hP hD hS => ?_)
  refine lv_aload_n hx hb dX1_init_13 rfl (lv_at hl 0 rfl) ?_
  refine lv_bipush (v := 9) hx hb dX1_init_14 (by decide) ?_
  refine va_newa (atype := .int) (A := A) (ty := .int) (N' := 9) (a0 := (9, .inl (fun _ => 0))) hx hb (hts _ q56) rfl hK hP hD hS hA (fun _ => rfl) (by decide) (by decide) (by decide) (Nat.le_of_ble_eq_true rfl) (Nat.le_of_ble_eq_true rfl) dX1_init_16 (fun ht dB H hK hP hD hS => ?_)
  have hK : va_K D vwCl [(dA, .int), (dB, .int)] s := hK
  obtain rfl : dA = dB := va_one hK 0 1 rfl rfl
  have hK : va_K D vwCl [(dA, .int)] s := hK.sub [0] rfl
  refine W.widen (k := 2) (n := 1034) (by omega) (by omega) ?_
  refine va_putF (D := D) (ci := 1) (v := .ref ht) (ty := .array .int) (C := RX1) (T := TX1) (N := 5) hx hb hts in_X1 tyX1 tyX1_ok nmX1 hown hK hP hD hS 0 rfl rfl 1 (by decide) (hts _ q219) (fun _ h9 => h9) rfl hin rfl (by decide +kernel) rfl rfl (Nat.le_of_ble_eq_true rfl) dX1_init_18 (fun H locs hP hD hS => ?_)
  have hP : va_P D vwCl (W1 h0 hv ht dA (mvs 0) (fun _ => 0) 0 0 0) H := by
    rw [mvs_0]
    exact hP
  have hAd : dA1 A h0 hv ht := dA1_of hD
  refine lv_iconst (v := 0) hx hb dX1_init_21 (by decide) ?_
  refine lv_istore_n (lv' := [(1, .int (nI 0)), (0, .ref h0)]) hx hb dX1_init_22 rfl hl (by decide) rfl (fun ls hl => ?_)
  refine l1_init hAd hF hK (fun H locs ls hP hS => ?_) 1025 0 rfl _ _ hP hS ls (lv_sub hl [1, 0] rfl)
  exact W.vret hx hb hr (fun t ht' hW => ⟨rfl, ⟨hv, ht, dA, hAd, by rw [ht']; exact hP, va_K.moved hW.alike hK⟩, hS.F ht'⟩) hS.2.2 dX1_init_66
end
section
set_option maxRecDepth 100000
/-! THE CLAIM OUT OF ONE WALK OF THE LAW'S BODY. Your part is whole_start (and what it stands on); all else here is the same for every law, but numbers. -/
def R_law : String := "ShortestDigitsLaw"
def lw_P (b : Addr) (xs : List Int32) (args : Array Value) (s : State) : Prop := args = #[.ref b] ∧ s.IntsAt b xs ∧ xs.length ≤ 256 ∧ (Jvm.Cond.and given_1 narrow_1).before args s = true
def lw_Q (_ : Array Value) (s : State) (o : Outcome) (t : State) : Prop := o = .returned (some (.int 1)) ∧ Framed s o t [] 600000 7290000
def lw_Z (below : List Frame) (a : Array Value) (s : State) : State → Prop := fun t => ∃ o, t.status = .running ∧ Ended t below o ∧ lw_Q a s o t
/-- the law's own end, with 1 on the stack, nothing written that was there before, its room as the claim has it -/
theorem lw_ret {p : Program} {l : Launch} {e : Env} {s : State} {m : MethodId} {below : List Frame} {meth : Method} {c : Code} {b : Nat} (hx : p.tables.exec = Jvm.exec) (hb : c.code = code) (hr : meth.sig.returnType = ret) (hlocks : meth.locks = false) {pc : Nat} {H : Heap} {ls : Array Slot} (hdg : decode code pc = .ok (.ireturn, 1)) : W p l e room_1 s m #[Value.ref b] below meth c H [] 600000 7290000 (lw_Z below #[Value.ref b] s) (F0 m pc ls [.int 1]) := by
  intro T hT X
  obtain ⟨fs, hret, hrun, hended, hW, hframe⟩ := X.leave (v := some (.int 1)) (hlocks := hlocks) (fun h => by rw [hr] at h; cases h)
  have hmeth' : T.vm.method? m = some meth := X.method'
  refine ⟨T.setFrames fs, ?_, .returned (some (.int 1)), hrun, hended, rfl, ⟨_, rfl⟩, hW, hframe⟩
  jvm_step X.here [X.here.top, hx, hb, hdg, hmeth', hr, ret, narrow_b1]
  (try refine ⟨rfl, ?_⟩); (try refine ⟨rfl, ?_⟩)
  first | (intro acts; rw [hret _ acts rfl rfl rfl]) | rw [hret _ _ rfl rfl rfl]
  exact Steps.refl _
/-- what holds at the law's entry: the machine, the code, the tables' words (any of lw_tbl by 'hts w (by decide +kernel)'), the script of L ints xs at the cell b, what the Statement gives of the start (any of its parts by flat_of_before) -/
def lw_At (p : Program) (s : State) (m : MethodId) (meth : Method) (c : Code) (b L : Nat) (xs : Nat → Int32) : Prop :=
  p.tables.exec = Jvm.exec ∧ c.code = code ∧ meth.sig.returnType = ret ∧ c.maxLocals = 4 ∧ s.vm.findClass R_law = some m.cls ∧ (∀ w ∈ lw_tbl, w.before #[Value.ref b] s = true) ∧ va_X b L xs s s.heap ∧ b < s.heap.size ∧ meth.locks = false ∧ (Jvm.Cond.and given_1 narrow_1).before #[Value.ref b] s = true
end
section
/-! both findShort give the same decimal, and both count its digits alike: by computation, code by code -/
set_option maxRecDepth 1000000
set_option maxHeartbeats 4000000
def okF (k : Nat) : Bool :=
  match J0_findShort 0 0 (nI k), J1_findShort (mvs 1025) 0 0 (nI k) with
  | some (a, b), some (c, d) => decide (a = c) && decide (b = d) && (match J0_lengthOf a.toInt64, J1_digitsOf c with
    | some x, some y => decide (x = y)
    | _, _ => false)
  | _, _ => false
theorem okF_0 : ∀ k, k < 64 → okF (0 + k) = true := by decide +kernel
theorem okF_1 : ∀ k, k < 64 → okF (64 + k) = true := by decide +kernel
theorem okF_2 : ∀ k, k < 64 → okF (128 + k) = true := by decide +kernel
theorem okF_3 : ∀ k, k < 64 → okF (192 + k) = true := by decide +kernel
end
section
/-! both findShort give the same decimal, and both count its digits alike: by computation, code by code -/
set_option maxRecDepth 1000000
set_option maxHeartbeats 4000000
theorem okF_4 : ∀ k, k < 64 → okF (256 + k) = true := by decide +kernel
theorem okF_5 : ∀ k, k < 64 → okF (320 + k) = true := by decide +kernel
theorem okF_6 : ∀ k, k < 64 → okF (384 + k) = true := by decide +kernel
theorem okF_7 : ∀ k, k < 64 → okF (448 + k) = true := by decide +kernel
end
section
/-! both findShort give the same decimal, and both count its digits alike: by computation, code by code -/
set_option maxRecDepth 1000000
set_option maxHeartbeats 4000000
theorem okF_8 : ∀ k, k < 64 → okF (512 + k) = true := by decide +kernel
theorem okF_9 : ∀ k, k < 64 → okF (576 + k) = true := by decide +kernel
theorem okF_10 : ∀ k, k < 64 → okF (640 + k) = true := by decide +kernel
theorem okF_11 : ∀ k, k < 64 → okF (704 + k) = true := by decide +kernel
end
section
/-! both findShort give the same decimal, and both count its digits alike: by computation, code by code -/
set_option maxRecDepth 1000000
set_option maxHeartbeats 4000000
theorem okF_12 : ∀ k, k < 64 → okF (768 + k) = true := by decide +kernel
theorem okF_13 : ∀ k, k < 64 → okF (832 + k) = true := by decide +kernel
theorem okF_14 : ∀ k, k < 64 → okF (896 + k) = true := by decide +kernel
theorem okF_15 : ∀ k, k < 64 → okF (960 + k) = true := by decide +kernel
end
section
/-! the plain law, 1: values, borders, decimals as numbers of steps -/
set_option maxRecDepth 1000000
set_option maxHeartbeats 4000000
def un (c : Nat) : Nat := if c < 64 then c else (64 + c % 64) * 2 ^ (c / 64 - 1)
theorem un0 : ∀ c, c < 1025 → J0_unitsOf (nI c) = some (nI (un c)) := by decide +kernel
theorem un1 : ∀ c, c < 1025 → mvs 1025 c = nI (un c) := by decide +kernel
theorem un_le : ∀ c, c < 1024 → un c ≤ 2080768 ∧ un c + un (c + 1) ≤ 4177920 := by decide +kernel
def bo (c : Nat) : Nat := (un c + un (c + 1)) * 1000000000000
theorem bo_s : ∀ c, c < 1023 → bo c < bo (c + 1) := by decide +kernel
theorem bo_1023 : bo 1023 = 4177920000000000000 := by decide +kernel
theorem bo_lt (a : Nat) : ∀ b, a < b → b < 1024 → bo a < bo b := by
  intro b
  induction b with
  | zero => intro h; omega
  | succ b ih =>
    intro h1 h2
    have h3 := bo_s b (by omega)
    rcases Nat.lt_or_ge a b with h | h
    · exact Nat.lt_trans (ih h (by omega)) h3
    · obtain rfl : a = b := by omega
      exact h3
theorem bo_le {c : Nat} (h : c < 1024) : bo c ≤ 4177920000000000000 := by
  rw [← bo_1023]
  rcases Nat.lt_or_ge c 1023 with h1 | h1
  · exact Nat.le_of_lt (bo_lt c 1023 h1 (by omega))
  · obtain rfl : c = 1023 := by omega
    exact Nat.le_refl _
/-- n steps lie above the code c: above its upper border, or at it and c is odd -/
def ab (c n : Nat) : Prop := bo c < n ∨ (n = bo c ∧ c % 2 = 1)
theorem ab_anti {a b n : Nat} (h : a ≤ b) (hb : b < 1024) (hn : ab b n) : ab a n := by
  rcases Nat.lt_or_ge a b with h1 | h1
  · have h2 := bo_lt a b h1 hb
    rcases hn with h3 | h3
    · exact Or.inl (by omega)
    · exact Or.inl (by omega)
  · obtain rfl : a = b := by omega
    exact hn
/-- the code r is nearest to n steps -/
def cod (n r : Nat) : Prop := r < 1024 ∧ (0 < r → ab (r - 1) n) ∧ (r < 1023 → ¬ ab r n)
theorem cod_le {n r s : Nat} (hr : cod n r) (hs : cod n s) : r ≤ s := by
  rcases Nat.lt_or_ge s r with h | h
  · exact absurd (ab_anti (by omega) (by have := hr.1; omega) (hr.2.1 (by omega))) (hs.2.2 (by have := hr.1; omega))
  · exact h
theorem cod_one {n r s : Nat} (hr : cod n r) (hs : cod n s) : r = s := Nat.le_antisymm (cod_le hr hs) (cod_le hs hr)
theorem cls_code (c : Int32) : (J0_badCode c = some 1 ∧ J1_isCode c = some 0) ∨ ∃ k : Nat, k < 1024 ∧ c = nI k ∧ J0_badCode c = some 0 ∧ J1_isCode c = some 1 := by
  unfold J0_badCode J1_isCode
  by_cases h1 : c < 0
  · left
    rw [if_pos h1, if_pos h1]
    exact ⟨rfl, rfl⟩
  · rw [if_neg h1, if_neg h1]
    obtain ⟨j, hj, rfl⟩ := nI_of h1
    have e1 : (nI j < (1024 : Int32)) ↔ j < 1024 := nI_ltI (b := 1024) hj (by decide)
    have e2 : ((1023 : Int32) < nI j) ↔ 1023 < j := nI_ltI (a := 1023) (by decide) hj
    by_cases h2 : j < 1024
    · right
      refine ⟨j, h2, rfl, ?_, ?_⟩
      · rw [if_pos (e1.mpr h2)]
      · rw [if_neg (fun q => by have := e2.mp q; omega)]
    · left
      rw [if_neg (fun q => h2 (e1.mp q)), if_pos (e2.mpr (by omega))]
      exact ⟨rfl, rfl⟩
/-- a scale that a decimal may have -/
def QV (q : Int32) : Prop := (∃ a : Nat, a ≤ 6 ∧ q = nI a) ∨ (∃ a : Nat, 1 ≤ a ∧ a ≤ 12 ∧ q = -nI a)
theorem qv_of {q : Int32} (h1 : ¬ q < (-12 : Int32)) (h2 : q ≤ (6 : Int32)) : QV q := by
  rw [Int32.lt_iff_toInt_lt] at h1
  rw [Int32.le_iff_toInt_le] at h2
  have e1 : (-12 : Int32).toInt = -12 := by decide
  have e2 : (6 : Int32).toInt = 6 := by decide
  rw [e1] at h1
  rw [e2] at h2
  rcases Int.lt_or_le q.toInt 0 with h | h
  · right
    refine ⟨(-q.toInt).toNat, by omega, by omega, ?_⟩
    apply Int32.toInt_inj.mp
    rw [sb_negT (by omega)]
    omega
  · left
    refine ⟨q.toInt.toNat, by omega, ?_⟩
    apply Int32.toInt_inj.mp
    rw [nI_toInt (by omega)]
    omega
theorem cls_dec (d q : Int32) : (J0_badDecimal d q = some 1 ∧ J1_isDecimal d q = some 0) ∨ ∃ k : Nat, k ≤ 99999999 ∧ d = nI k ∧ QV q ∧ J0_badDecimal d q = some 0 ∧ J1_isDecimal d q = some 1 := by
  unfold J0_badDecimal J1_isDecimal
  by_cases h1 : d < 0
  · left
    rw [if_pos h1, if_pos h1]
    exact ⟨rfl, rfl⟩
  · rw [if_neg h1, if_neg h1]
    by_cases h2 : (99999999 : Int32) < d
    · left
      rw [if_pos h2, if_pos h2]
      exact ⟨rfl, rfl⟩
    · rw [if_neg h2, if_neg h2]
      by_cases h3 : q < (-12 : Int32)
      · left
        rw [if_pos h3, if_pos h3]
        exact ⟨rfl, rfl⟩
      · rw [if_neg h3, if_neg h3]
        by_cases h4 : q ≤ (6 : Int32)
        · right
          rw [if_pos h4, if_neg (Int32.not_lt.mpr h4)]
          obtain ⟨j, hj, rfl⟩ := nI_of h1
          refine ⟨j, ?_, rfl, qv_of h3 h4, rfl, rfl⟩
          rcases Nat.lt_or_ge 99999999 j with h | h
          · exact absurd ((nI_ltI (a := 99999999) (by decide) hj).mpr h) h2
          · exact h
        · left
          rw [if_neg h4, if_pos (Int32.not_le.mp h4)]
          exact ⟨rfl, rfl⟩
theorem ten0 : ∀ a, a < 20 → J0_tenTo (nI a) = some (lN (10 ^ a)) := by decide +kernel
theorem ten1 : ∀ a, a < 20 → J1_power (nI a) = some (lN (10 ^ a)) := by decide +kernel
theorem neg_a : ∀ a, a < 13 → 1 ≤ a → (-nI a < 0 ∧ ¬ (0 ≤ -nI a) ∧ (12 : Int32) + -nI a = nI (12 - a) ∧ - -nI a = nI a) := by decide +kernel
theorem pow_split : ∀ a, a < 13 → 10 ^ a * 10 ^ (12 - a) = 1000000000000 := by decide +kernel
theorem pow_pos : ∀ a, a < 20 → 0 < 10 ^ a ∧ 10 ^ a ≤ 10000000000000000000 := by decide +kernel
theorem pow_le6 : ∀ a, a < 7 → 10 ^ a ≤ 1000000 := by decide +kernel
theorem pow_le12 : ∀ a, a < 13 → 10 ^ a ≤ 1000000000000 := by decide +kernel
/-- how h half units stand to n steps -/
def cmpN (h n : Nat) : Int32 := if n ≤ h * 1000000000000 then (if h * 1000000000000 ≤ n then 0 else 1) else -1
/-- a decimal is n steps, for both sides -/
def DecOf (d q : Int32) (n : Nat) : Prop := n < 2 ^ 63 ∧ J0_stepsOf d q = some (lN n) ∧ ∀ h, h ≤ 4177920 → J1_sign (lN h) d q = some (cmpN h n)
theorem sgn_if {x y h n : Nat} (hx : x < 2 ^ 63) (hy : y < 2 ^ 63) (e1 : y ≤ x ↔ n ≤ h * 1000000000000) (e2 : x ≤ y ↔ h * 1000000000000 ≤ n) : (if lN y ≤ lN x then (if lN x ≤ lN y then some (0 : Int32) else some 1) else some (-1)) = some (cmpN h n) := by
  unfold cmpN
  by_cases h1 : y ≤ x
  · rw [if_pos ((pk_lLE hy hx).mpr h1), if_pos (e1.mp h1)]
    by_cases h2 : x ≤ y
    · rw [if_pos ((pk_lLE hx hy).mpr h2), if_pos (e2.mp h2)]
    · rw [if_neg (fun q => h2 ((pk_lLE hx hy).mp q)), if_neg (fun q => h2 (e2.mpr q))]
  · rw [if_neg (fun q => h1 ((pk_lLE hy hx).mp q)), if_neg (fun q => h1 (e1.mpr q))]
theorem dec_pos {k a : Nat} (hk : k ≤ 99999999) (ha : a ≤ 6) : ∃ n, DecOf (nI k) (nI a) n := by
  have hp := pow_le6 a (by omega)
  have hp0 := (pow_pos a (by omega)).1
  have hm : k * 10 ^ a ≤ 99999999 * 1000000 := Nat.mul_le_mul hk hp
  have hJ : J0_stepsOf (nI k) (nI a) = (if lN (k * 10 ^ a) ≤ (8000 : Int64) then some ((lN (k * 10 ^ a) * (1024 : Int64)) * (1000000000000 : Int64)) else some (9000000000000000000 : Int64)) := by
    unfold J0_stepsOf
    rw [if_neg (nI_pos (by omega)), ten0 a (by omega)]
    simp only [Option.bind_some, jL]
    rw [nI_l (by omega), lN_mul]
  have hsg : ∀ h, h ≤ 4177920 → J1_sign (lN h) (nI k) (nI a) = (if lN (1024 * k * 10 ^ a) ≤ lN h then (if lN h ≤ lN (1024 * k * 10 ^ a) then some (0 : Int32) else some 1) else some (-1)) := by
    intro h _
    unfold J1_sign
    rw [if_pos (nI_pos' (by omega)), if_pos (nI_pos' (by omega)), ten1 a (by omega)]
    simp only [Option.bind_some]
    rw [nI_l (by omega), show (1024 : Int64) * lN k * lN (10 ^ a) = lN (1024 * k * 10 ^ a) from by rw [show (1024 : Int64) = lN 1024 from rfl, lN_mul, lN_mul]]
  have e0 : 1024 * k * 10 ^ a = 1024 * (k * 10 ^ a) := Nat.mul_assoc _ _ _
  have e8 : (lN (k * 10 ^ a) ≤ (8000 : Int64)) ↔ k * 10 ^ a ≤ 8000 := pk_lLE (b := 8000) (by omega) (by decide)
  by_cases h8 : k * 10 ^ a ≤ 8000
  · refine ⟨k * 10 ^ a * 1024 * 1000000000000, by omega, ?_, ?_⟩
    · rw [hJ, if_pos (e8.mpr h8), show (1024 : Int64) = lN 1024 from rfl, show (1000000000000 : Int64) = lN 1000000000000 from rfl, lN_mul, lN_mul]
    · intro h hh
      rw [hsg h hh, e0]
      exact sgn_if (by omega) (by omega) (by omega) (by omega)
  · refine ⟨9000000000000000000, by decide, ?_, ?_⟩
    · rw [hJ, if_neg (fun q => h8 (e8.mp q))]
      rfl
    · intro h hh
      rw [hsg h hh, e0]
      exact sgn_if (by omega) (by omega) (by omega) (by omega)
theorem dec_neg {k a : Nat} (hk : k ≤ 99999999) (h1a : 1 ≤ a) (ha : a ≤ 12) : ∃ n, DecOf (nI k) (-nI a) n := by
  obtain ⟨n1, n2, n3, n4⟩ := neg_a a (by omega) h1a
  have hp := pow_le12 a (by omega)
  have hq := pow_le12 (12 - a) (by omega)
  have hs := pow_split a (by omega)
  have hp0 := (pow_pos a (by omega)).1
  have hq0 := (pow_pos (12 - a) (by omega)).1
  have hJ : J0_stepsOf (nI k) (-nI a) = (if lN (k / 10 ^ a) ≤ (8000 : Int64) then some (lN k * ((1024 : Int64) * lN (10 ^ (12 - a)))) else some (9000000000000000000 : Int64)) := by
    unfold J0_stepsOf
    rw [if_pos n1, n4, ten0 a (by omega)]
    simp only [Option.bind_some]
    rw [if_neg (fun q => by have := (pk_lEQ (b := 0) (by omega) (by decide)).mp q; omega), n3, ten0 (12 - a) (by omega)]
    simp only [Option.bind_some]
    rw [nI_l (by omega), pk_lDiv (by omega) hp0 (by omega)]
  have hsg : ∀ h, h ≤ 4177920 → J1_sign (lN h) (nI k) (-nI a) = (if lN (1024 * k) ≤ lN (h * 10 ^ a) then (if lN (h * 10 ^ a) ≤ lN (1024 * k) then some (0 : Int32) else some 1) else some (-1)) := by
    intro h _
    unfold J1_sign
    rw [if_neg n2, if_neg n2, n4, ten1 a (by omega)]
    simp only [Option.bind_some]
    rw [nI_l (by omega), show (1024 : Int64) * lN k = lN (1024 * k) from by rw [show (1024 : Int64) = lN 1024 from rfl, lN_mul], lN_mul]
  have e8 : (lN (k / 10 ^ a) ≤ (8000 : Int64)) ↔ k / 10 ^ a ≤ 8000 := pk_lLE (b := 8000) (Nat.lt_of_le_of_lt (Nat.div_le_self _ _) (by omega)) (by decide)
  have hbig : ∀ h, h ≤ 4177920 → h * 10 ^ a < 2 ^ 63 := fun h hh => Nat.lt_of_le_of_lt (Nat.mul_le_mul hh hp) (by decide)
  by_cases h8 : k / 10 ^ a ≤ 8000
  · have hk2 : k < 8001 * 10 ^ a := (Nat.div_lt_iff_lt_mul hp0).mp (by omega)
    have e1 : k * (1024 * 10 ^ (12 - a)) = 1024 * k * 10 ^ (12 - a) := by rw [← Nat.mul_assoc, Nat.mul_comm k 1024]
    have e3 : 1024 * k * 10 ^ (12 - a) < 1024 * 8001 * 1000000000000 := by
      rw [← hs, ← Nat.mul_assoc]
      exact Nat.mul_lt_mul_of_pos_right (by rw [Nat.mul_assoc]; exact Nat.mul_lt_mul_of_pos_left hk2 (by decide)) hq0
    refine ⟨k * (1024 * 10 ^ (12 - a)), by rw [e1]; omega, ?_, ?_⟩
    · rw [hJ, if_pos (e8.mpr h8), show (1024 : Int64) = lN 1024 from rfl, lN_mul, lN_mul]
    · intro h hh
      rw [hsg h hh]
      have e4 : h * 1000000000000 = h * 10 ^ a * 10 ^ (12 - a) := by rw [← hs, Nat.mul_assoc]
      refine sgn_if (hbig h hh) (by omega) ?_ ?_
      · rw [e1, e4]
        exact (Nat.mul_le_mul_right_iff hq0).symm
      · rw [e1, e4]
        exact (Nat.mul_le_mul_right_iff hq0).symm
  · have hk2 : 8001 * 10 ^ a ≤ k := (Nat.le_div_iff_mul_le hp0).mp (by omega)
    refine ⟨9000000000000000000, by decide, ?_, ?_⟩
    · rw [hJ, if_neg (fun q => h8 (e8.mp q))]
      rfl
    · intro h hh
      rw [hsg h hh]
      have e5 : h * 10 ^ a ≤ 4177920 * 10 ^ a := Nat.mul_le_mul_right _ hh
      exact sgn_if (hbig h hh) (by omega) (by omega) (by omega)
theorem dec_of {k : Nat} {q : Int32} (hk : k ≤ 99999999) (hq : QV q) : ∃ n, DecOf (nI k) q n := by
  rcases hq with ⟨a, ha, rfl⟩ | ⟨a, h1, ha, rfl⟩
  · exact dec_pos hk ha
  · exact dec_neg hk h1 ha
end
section
/-! the plain law, 2: the nearest code, by halving and one by one -/
set_option maxRecDepth 1000000
set_option maxHeartbeats 4000000
theorem bor {c : Nat} (hc : c < 1024) : J0_borderAbove (nI c) = some (lN (bo c)) := by
  have h := (un_le c hc).2
  unfold J0_borderAbove
  rw [un0 c (by omega), nI_1, un0 (c + 1) (by omega)]
  simp only [Option.bind_some]
  rw [nI_add, nI_l (by omega), show (1000000000000 : Int64) = lN 1000000000000 from rfl, lN_mul]
  rfl
theorem odd_i {c : Nat} (hc : c < 1024) : (nI c &&& (1 : Int32)) = 1 ↔ c % 2 = 1 := by
  rw [pk_andN (m := 1) (by omega) 1 (by decide)]
  exact nI_eq (b := 1) (by omega) (by decide)
theorem even_i {c : Nat} (hc : c < 1024) : (nI c - nI c / (2 : Int32) * (2 : Int32)) = 0 ↔ c % 2 = 0 := by
  rw [show (2 : Int32) = nI 2 from rfl, pk_rem (by omega) (by decide) (by decide)]
  exact nI_eq (b := 0) (by omega) (by decide)
theorem near_loop {n : Nat} (hn : n < 2 ^ 63) : ∀ (t lo hi i f : Nat), lo ≤ hi → hi < 1024 → hi - lo < 2 ^ t → i + t ≤ 10 → (0 < lo → ab (lo - 1) n) → (hi < 1023 → ¬ ab hi n) → ∃ r, cod n r ∧ L0_nearest_10 (f + t + 1) (lN n) (nI lo) (nI hi) (nI i) = some (nI r) := by
  intro t
  induction t with
  | zero =>
    intro lo hi i f h1 h2 h3 h4 h5 h6
    obtain rfl : lo = hi := by simp at h3; omega
    refine ⟨lo, ⟨h2, h5, h6⟩, ?_⟩
    rw [L0_nearest_10, if_neg (show ¬ (11 : Int32) ≤ nI i from nI_ge (a := i) (b := 11) (by omega) (by decide)), if_pos (nI_le (Nat.le_refl _) (by omega))]
  | succ t ih =>
    intro lo hi i f h1 h2 h3 h4 h5 h6
    by_cases he : hi ≤ lo
    · obtain rfl : lo = hi := by omega
      refine ⟨lo, ⟨h2, h5, h6⟩, ?_⟩
      rw [L0_nearest_10, if_neg (show ¬ (11 : Int32) ≤ nI i from nI_ge (a := i) (b := 11) (by omega) (by decide)), if_pos (nI_le (Nat.le_refl _) (by omega))]
    · have hm1 : lo ≤ (lo + hi) / 2 := by omega
      have hm2 : (lo + hi) / 2 < hi := by omega
      have hmid : (nI lo + nI hi) >>> ((1 : Int32) &&& 31) = nI ((lo + hi) / 2) := by
        rw [nI_add, pk_shrN (by omega) _ 1 (by decide)]
      have hmq : hi - ((lo + hi) / 2 + 1) < 2 ^ t ∧ (lo + hi) / 2 - lo < 2 ^ t := by
        rw [Nat.pow_succ] at h3
        generalize 2 ^ t = P at h3 ⊢
        omega
      generalize (lo + hi) / 2 = mid at hm1 hm2 hmid hmq
      rw [show f + (t + 1) + 1 = (f + t + 1) + 1 from by omega, L0_nearest_10, if_neg (show ¬ (11 : Int32) ≤ nI i from nI_ge (a := i) (b := 11) (by omega) (by decide)), if_neg (nI_ge (a := lo) (b := hi) (by omega) (by omega))]
      simp only [jL]
      rw [hmid, bor (by omega)]
      simp only [Option.bind_some]
      have hbl : bo mid < 2 ^ 63 := Nat.lt_of_le_of_lt (bo_le (c := mid) (by omega)) (by decide)
      have e1 : (lN (bo mid) < lN n) ↔ bo mid < n := pk_lLT hbl hn
      have e2 : (lN n = lN (bo mid)) ↔ n = bo mid := pk_lEQ hn hbl
      have e3 := odd_i (c := mid) (by omega)
      by_cases hab : ab mid n
      · have hv : (if lN (bo mid) < lN n then some (1 : Int32) else if lN n = lN (bo mid) then (if (nI mid &&& (1 : Int32)) = (1 : Int32) then some 1 else some 0) else some 0) = some 1 := by
          rcases hab with h | ⟨h, h'⟩
          · rw [if_pos (e1.mpr h)]
          · rw [if_neg (fun q => by have := e1.mp q; omega), if_pos (e2.mpr h), if_pos (e3.mpr h')]
        rw [hv]
        simp only [Option.bind_some]
        rw [if_neg (by decide), nI_1, nI_1]
        exact ih (mid + 1) hi (i + 1) f (by omega) h2 hmq.1 (by omega) (fun _ => by simpa using hab) h6
      · have hv : (if lN (bo mid) < lN n then some (1 : Int32) else if lN n = lN (bo mid) then (if (nI mid &&& (1 : Int32)) = (1 : Int32) then some 1 else some 0) else some 0) = some 0 := by
          rw [if_neg (fun q => hab (Or.inl (e1.mp q)))]
          by_cases h : n = bo mid
          · rw [if_pos (e2.mpr h), if_neg (fun q => hab (Or.inr ⟨h, e3.mp q⟩))]
          · rw [if_neg (fun q => h (e2.mp q))]
        rw [hv]
        simp only [Option.bind_some]
        rw [if_pos trivial, nI_1]
        exact ih lo mid (i + 1) f hm1 (by omega) hmq.2 (by omega) h5 (fun _ => hab)
theorem near {n : Nat} (hn : n < 2 ^ 63) : ∃ r, cod n r ∧ J0_nearest (lN n) = some (nI r) := by
  obtain ⟨r, h1, h2⟩ := near_loop hn 10 0 1023 0 1989 (by omega) (by omega) (by decide) (by omega) (fun h => by omega) (fun h => by omega)
  exact ⟨r, h1, h2⟩
theorem cmp_lt {h n : Nat} (hl : n < h * 1000000000000) : cmpN h n = 1 := by
  unfold cmpN
  rw [if_pos (Nat.le_of_lt hl), if_neg (Nat.not_le.mpr hl)]
theorem cmp_eq {h n : Nat} (hl : n = h * 1000000000000) : cmpN h n = 0 := by
  unfold cmpN
  rw [if_pos (by omega), if_pos (by omega)]
theorem cmp_gt {h n : Nat} (hl : h * 1000000000000 < n) : cmpN h n = -1 := by
  unfold cmpN
  rw [if_neg (by omega)]
/-- the sign of a border's half units, from the model's table -/
theorem sgB {d q : Int32} {n c : Nat} (hd : DecOf d q n) (hc : c < 1024) : J1_sign ((mvs 1025 (nI c).toNatClampNeg + mvs 1025 (nI (c + 1)).toNatClampNeg).toInt64) d q = some (cmpN (un c + un (c + 1)) n) := by
  have h := (un_le c hc).2
  rw [nI_clamp (by omega), nI_clamp (by omega), un1 c (by omega), un1 (c + 1) (by omega), nI_add, nI_l (by omega)]
  exact hd.2.2 _ h
theorem in_r {c : Nat} (hc : c < 1025) : ¬ (nI c < 0 ∨ 1025 ≤ (nI c).toNatClampNeg) := nI_in hc (by decide)
theorem read_loop {d q : Int32} {n : Nat} (hd : DecOf d q n) : ∀ (t c f : Nat), c + t = 1023 → (0 < c → ab (c - 1) n) → ∃ r, cod n r ∧ L1_read_13 (mvs 1025) (f + t + 1) d q (nI c) = some (nI r) := by
  intro t
  induction t with
  | zero =>
    intro c f hc h1
    obtain rfl : c = 1023 := by omega
    refine ⟨1023, ⟨by decide, h1, fun h => by omega⟩, ?_⟩
    rw [L1_read_13, if_pos (by decide)]
    rfl
  | succ t ih =>
    intro c f hc h1
    have hb : bo c = (un c + un (c + 1)) * 1000000000000 := rfl
    rw [show f + (t + 1) + 1 = (f + t + 1) + 1 from by omega, L1_read_13, if_neg (show ¬ (1023 : Int32) ≤ nI c from nI_ge (a := c) (b := 1023) (by omega) (by decide)), if_neg (in_r (by omega)), nI_1, if_neg (in_r (by omega)), sgB hd (by omega)]
    simp only [Option.bind_some, jL]
    have e3 := even_i (c := c) (by omega)
    rcases Nat.lt_trichotomy n (bo c) with h | h | h
    · refine ⟨c, ⟨by omega, h1, fun _ q => ?_⟩, ?_⟩
      · rcases q with q | q <;> omega
      · rw [cmp_lt (by omega), if_pos (by decide)]
    · rw [cmp_eq (by omega), if_neg (by decide), if_pos rfl]
      by_cases he : c % 2 = 0
      · refine ⟨c, ⟨by omega, h1, fun _ q => ?_⟩, ?_⟩
        · rcases q with q | q <;> omega
        · rw [if_pos (e3.mpr he)]
      · rw [if_neg (fun q => he (e3.mp q))]
        exact ih (c + 1) f (by omega) (fun _ => by rw [Nat.add_sub_cancel]; exact Or.inr ⟨h, by omega⟩)
    · rw [cmp_gt (by omega), if_neg (by decide), if_neg (by decide)]
      exact ih (c + 1) f (by omega) (fun _ => by rw [Nat.add_sub_cancel]; exact Or.inl h)
theorem read1 {d q : Int32} {n : Nat} (hd : DecOf d q n) : ∃ r, cod n r ∧ L1_read_13 (mvs 1025) FU d q 0 = some (nI r) := by
  obtain ⟨r, h1, h2⟩ := read_loop hd 1023 0 976 (by omega) (fun h => by omega)
  exact ⟨r, h1, h2⟩
/-- both sides read a decimal as the same code -/
theorem read_eq {d q : Int32} {n : Nat} (hd : DecOf d q n) : ∃ r, cod n r ∧ J0_nearest (lN n) = some (nI r) ∧ L1_read_13 (mvs 1025) FU d q 0 = some (nI r) := by
  obtain ⟨r, h1, h2⟩ := near hd.1
  obtain ⟨s, h3, h4⟩ := read1 hd
  obtain rfl := cod_one h1 h3
  exact ⟨r, h1, h2, h4⟩
/-- c names n steps -/
def nmC (c n : Nat) : Prop := (0 < c → ab (c - 1) n) ∧ ¬ ab c n
theorem named0 {c n : Nat} (hc : c < 1024) (hn : n < 2 ^ 63) : (nmC c n → J0_named (nI c) (lN n) = some 1) ∧ (¬ nmC c n → J0_named (nI c) (lN n) = some 0) := by
  obtain ⟨r, h1, h2⟩ := near hn
  have e1 : ((4177920000000000000 : Int64) ≤ lN n) ↔ 4177920000000000000 ≤ n := pk_lLE (a := 4177920000000000000) (by decide) hn
  have hr := h1.1
  have e2 : (nI r = nI c) ↔ r = c := nI_eq (by omega) (by omega)
  unfold J0_named
  rw [h2]
  simp only [Option.bind_some]
  have hb := bo_le hc
  constructor
  · intro h
    have hlt : n < 4177920000000000000 := by
      rcases Nat.lt_or_ge c 1023 with h3 | h3
      · have h4 := bo_lt c 1023 h3 (by decide)
        rw [bo_1023] at h4
        rcases Nat.lt_or_ge (bo c) n with h5 | h5
        · exact absurd (Or.inl h5) h.2
        · omega
      · obtain rfl : c = 1023 := by omega
        rcases Nat.lt_or_ge n 4177920000000000000 with h5 | h5
        · exact h5
        · rw [← bo_1023] at h5
          rcases Nat.lt_or_ge (bo 1023) n with h6 | h6
          · exact absurd (Or.inl h6) h.2
          · exact absurd (Or.inr ⟨by omega, by decide⟩) h.2
    have hcod : cod n c := ⟨hc, h.1, fun _ => h.2⟩
    rw [if_neg (fun q => by have := e1.mp q; omega), if_pos (e2.mpr (cod_one h1 hcod))]
  · intro h
    by_cases h8 : 4177920000000000000 ≤ n
    · rw [if_pos (e1.mpr h8)]
    · rw [if_neg (fun q => h8 (e1.mp q))]
      rw [if_neg]
      intro q
      obtain rfl := e2.mp q
      refine h ⟨h1.2.1, ?_⟩
      rcases Nat.lt_or_ge r 1023 with h3 | h3
      · exact h1.2.2 h3
      · obtain rfl : r = 1023 := by omega
        rw [← bo_1023] at h8
        intro q2
        rcases q2 with q2 | q2 <;> omega
theorem isName1 {d q : Int32} {c n : Nat} (hd : DecOf d q n) (hc : c < 1024) : (nmC c n → J1_isName (mvs 1025) (nI c) d q = some 1) ∧ (¬ nmC c n → J1_isName (mvs 1025) (nI c) d q = some 0) := by
  have hb : bo c = (un c + un (c + 1)) * 1000000000000 := rfl
  have e3 := even_i (c := c) hc
  have hA : J1_isName (mvs 1025) (nI c) d q = (Option.bind (if nI c = 0 then some (-1 : Int32) else some (cmpN (un (c - 1) + un c) n)) (fun v3 : Int32 => Option.bind (if (nI c - nI c / (2 : Int32) * (2 : Int32)) = 0 then some (1 : Int32) else some 0) (fun v9 : Int32 => Option.bind (if v3 < 0 then some (1 : Int32) else if v3 = 0 then (if v9 = 0 then some 0 else some 1) else some 0) (fun v11 : Int32 => if v11 = 0 then some (0 : Int32) else if 0 < cmpN (un c + un (c + 1)) n then some 1 else if cmpN (un c + un (c + 1)) n = 0 then (if v9 = 0 then some 0 else some 1) else some 0)))) := by
    unfold J1_isName
    rw [if_neg (in_r (by omega)), nI_1, if_neg (in_r (by omega)), sgB hd hc]
    simp only [Option.bind_some]
    by_cases h0 : c = 0
    · subst h0
      rw [if_pos (show nI 0 = 0 from rfl), if_pos (show nI 0 = 0 from rfl)]
    · have e0 : ¬ nI c = 0 := nI_ne0 (by omega) (by omega)
      rw [if_neg e0, if_neg e0]
      have e1 : nI c - 1 = nI (c - 1) := by
        obtain ⟨j, rfl⟩ : ∃ j, c = j + 1 := ⟨c - 1, by omega⟩
        exact nI_pred j
      rw [e1, if_neg (in_r (by omega)), if_neg (in_r (by omega))]
      have e2 := sgB hd (c := c - 1) (by omega)
      rw [show c - 1 + 1 = c from by omega] at e2
      rw [e2]
      simp only [Option.bind_some]
  rw [hA]
  have hlow : ∀ (b : Int32), (b = if c % 2 = 0 then 1 else 0) → (Option.bind (if nI c = 0 then some (-1 : Int32) else some (cmpN (un (c - 1) + un c) n)) (fun v3 : Int32 => (if v3 < 0 then some (1 : Int32) else if v3 = 0 then (if b = 0 then some 0 else some 1) else some 0))) = (if (0 < c → bo (c - 1) < n ∨ (n = bo (c - 1) ∧ (c - 1) % 2 = 1)) then some 1 else some 0) := by
    intro b hbb
    by_cases h0 : c = 0
    · subst h0
      rw [if_pos (show nI 0 = 0 from rfl), if_pos (fun h => by omega)]
      rfl
    · rw [if_neg (nI_ne0 (by omega) (by omega))]
      simp only [Option.bind_some]
      have hb1 : bo (c - 1) = (un (c - 1) + un c) * 1000000000000 := by
        unfold bo
        rw [show c - 1 + 1 = c from by omega]
      rcases Nat.lt_trichotomy n (bo (c - 1)) with h | h | h
      · rw [cmp_lt (by omega), if_neg (by decide), if_neg (by decide), if_neg (fun q => by have := q (by omega); omega)]
      · rw [cmp_eq (by omega), if_neg (by decide), if_pos rfl]
        by_cases he : c % 2 = 0
        · rw [if_pos he] at hbb
          rw [hbb, if_neg (by decide), if_pos (fun _ => Or.inr ⟨h, by omega⟩)]
        · rw [if_neg he] at hbb
          rw [hbb, if_pos rfl, if_neg (fun q => by have := q (by omega); omega)]
      · rw [cmp_gt (by omega), if_pos (by decide), if_pos (fun _ => Or.inl h)]
  have hev : (if (nI c - nI c / (2 : Int32) * (2 : Int32)) = 0 then some (1 : Int32) else some 0) = some (if c % 2 = 0 then (1 : Int32) else 0) := by
    by_cases he : c % 2 = 0
    · rw [if_pos (e3.mpr he), if_pos he]
    · rw [if_neg (fun q => he (e3.mp q)), if_neg he]
  rw [hev]
  simp only [Option.bind_some]
  have hl := hlow _ rfl
  generalize hbe : (if c % 2 = 0 then (1 : Int32) else 0) = b at hl
  have hbind : ∀ (a : Option Int32) (f : Int32 → Option Int32) (g : Int32 → Option Int32), Option.bind a (fun v => Option.bind (f v) g) = Option.bind (Option.bind a f) g := by
    intro a f g
    cases a <;> rfl
  rw [hbind, hl]
  by_cases hlo : (0 < c → bo (c - 1) < n ∨ (n = bo (c - 1) ∧ (c - 1) % 2 = 1))
  · rw [if_pos hlo]
    simp only [Option.bind_some]
    rw [if_neg (by decide)]
    have hq : nmC c n ↔ ¬ ab c n := ⟨fun h => h.2, fun h => ⟨hlo, h⟩⟩
    rw [hq]
    rcases Nat.lt_trichotomy n (bo c) with h | h | h
    · rw [cmp_lt (by omega), if_pos (by decide)]
      exact ⟨fun _ => rfl, fun q => absurd (fun q2 : ab c n => by rcases q2 with q2 | q2 <;> omega) q⟩
    · rw [cmp_eq (by omega), if_neg (by decide), if_pos rfl]
      by_cases he : c % 2 = 0
      · rw [if_pos he] at hbe
        rw [← hbe, if_neg (by decide)]
        exact ⟨fun _ => rfl, fun q => absurd (fun q2 : ab c n => by rcases q2 with q2 | q2 <;> omega) q⟩
      · rw [if_neg he] at hbe
        rw [← hbe, if_pos rfl]
        exact ⟨fun q => absurd (Or.inr ⟨h, by omega⟩) q, fun _ => rfl⟩
    · rw [cmp_gt (by omega), if_neg (by decide), if_neg (by decide)]
      exact ⟨fun q => absurd (Or.inl h) q, fun _ => rfl⟩
  · rw [if_neg hlo]
    simp only [Option.bind_some]
    rw [if_pos trivial]
    exact ⟨fun q => absurd q.1 hlo, fun _ => rfl⟩
theorem nm_eq {d q : Int32} {c n : Nat} (hd : DecOf d q n) (hc : c < 1024) : ∃ b, (b = 0 ∨ b = 1) ∧ J0_named (nI c) (lN n) = some b ∧ J1_isName (mvs 1025) (nI c) d q = some b := by
  by_cases h : nmC c n
  · exact ⟨1, Or.inr rfl, (named0 hc hd.1).1 h, (isName1 hd hc).1 h⟩
  · exact ⟨0, Or.inl rfl, (named0 hc hd.1).2 h, (isName1 hd hc).2 h⟩
end
section
/-! the plain law, 3: the calls of the law that depend on no text -/
set_option maxRecDepth 1000000
set_option maxHeartbeats 4000000
theorem bindS {α β : Type} (a : α) (f : α → Option β) : Option.bind (some a) f = f a := (fun (y : Option β) (h : f a = y) => (show Option.bind (some a) f = y from h)) (f a) rfl
theorem jLS {α β : Type} (e : α) (f : α → β) : jL e f = f e := (fun (y : β) (h : f e = y) => (show jL e f = y from h)) (f e) rfl
theorem pl_units (c : Int32) : ∃ r, J0_units c = some r ∧ J1_units (mvs 1025) c = some r := by
  unfold J0_units J1_units
  rcases cls_code c with ⟨h1, h2⟩ | ⟨k, hk, rfl, h1, h2⟩
  · refine ⟨-1, ?_, ?_⟩
    · rw [h1]; rfl
    · rw [h2]; rfl
  · refine ⟨nI (un k), ?_, ?_⟩
    · rw [h1]
      simp only [bindS]
      rw [if_pos trivial, un0 k (by omega)]
      rfl
    · rw [h2]
      simp only [bindS]
      rw [if_neg (by decide), if_neg (in_r (by omega)), nI_clamp (by omega), un1 k (by omega)]
theorem pl_read (d q : Int32) : ∃ r, J0_read d q = some r ∧ J1_read (mvs 1025) d q = some r := by
  unfold J0_read J1_read
  rcases cls_dec d q with ⟨h1, h2⟩ | ⟨k, hk, rfl, hq, h1, h2⟩
  · refine ⟨-1, ?_, ?_⟩
    · rw [h1]; rfl
    · rw [h2]; rfl
  · obtain ⟨n, hd⟩ := dec_of hk hq
    obtain ⟨r, -, e1, e2⟩ := read_eq hd
    refine ⟨nI r, ?_, ?_⟩
    · rw [h1]
      simp only [bindS]
      rw [if_pos trivial, hd.2.1]
      simp only [bindS]
      rw [e1]
      rfl
    · rw [h2, e2]
      rfl
theorem pl_names (c d q : Int32) : ∃ r, J0_names c d q = some r ∧ J1_names (mvs 1025) c d q = some r := by
  unfold J0_names J1_names
  rcases cls_code c with ⟨h1, h2⟩ | ⟨k, hk, rfl, h1, h2⟩
  · refine ⟨0, ?_, ?_⟩
    · rw [h1]; rfl
    · rw [h2]
      rcases cls_dec d q with ⟨h3, h4⟩ | ⟨j, hj, rfl, hq, h3, h4⟩ <;> rw [h4] <;> rfl
  · rcases cls_dec d q with ⟨h3, h4⟩ | ⟨j, hj, rfl, hq, h3, h4⟩
    · refine ⟨0, ?_, ?_⟩
      · rw [h1, h3]; rfl
      · rw [h4]; rfl
    · obtain ⟨n, hd⟩ := dec_of hj hq
      obtain ⟨b, hb, e1, e2⟩ := nm_eq hd hk
      refine ⟨b, ?_, ?_⟩
      · rw [h1, h3, hd.2.1]
        simp only [bindS]
        rw [if_pos trivial, if_pos trivial, e1]
        simp only [bindS]
        rw [if_neg (fun q => q hb)]
      · rw [h2, h4, e2]
        simp only [bindS]
        rw [if_neg (by decide), if_neg (by decide)]
        rcases hb with rfl | rfl <;> rfl
theorem cm_s {k : Nat} (hk : k < 1024) : J0_steps (nI k) = some (lN (2 * un k * 1000000000000)) := by
  have hu := (un_le k hk).1
  unfold J0_steps
  rw [un0 k (by omega)]
  simp only [bindS]
  rw [nI_l (by omega), show (2000000000000 : Int64) = lN 2000000000000 from rfl, lN_mul, show un k * 2000000000000 = 2 * un k * 1000000000000 from by omega]
theorem cm_1 {k j n : Nat} {q : Int32} (hk : k < 1024) (hd : DecOf (nI j) q n) : J1_sign ((2 : Int64) * (mvs 1025 (nI k).toNatClampNeg).toInt64) (nI j) q = some (cmpN (2 * un k) n) := by
  have hu := (un_le k hk).1
  have e : (2 : Int64) * (mvs 1025 (nI k).toNatClampNeg).toInt64 = lN (2 * un k) := by
    rw [nI_clamp (by omega), un1 k (by omega), nI_l (by omega)]
    exact lN_mul 2 (un k)
  rw [e]
  exact hd.2.2 (2 * un k) (by omega)
theorem cm_if {v h n : Nat} (hv : v < 2 ^ 63) (hn : n < 2 ^ 63) (e : v = h * 1000000000000) : (if lN v = lN n then some (0 : Int32) else if lN n ≤ lN v then some 1 else some (-1)) = some (cmpN h n) := by
  have e1 : (lN v = lN n) ↔ v = n := pk_lEQ hv hn
  have e2 : (lN n ≤ lN v) ↔ n ≤ v := pk_lLE hn hv
  rcases Nat.lt_trichotomy n v with h | h | h
  · rw [if_neg (fun q => by have := e1.mp q; omega), if_pos (e2.mpr (by omega)), cmp_lt (by omega)]
  · rw [if_pos (e1.mpr h.symm), cmp_eq (by omega)]
  · rw [if_neg (fun q => by have := e1.mp q; omega), if_neg (fun q => by have := e2.mp q; omega), cmp_gt (by omega)]
theorem cm_0 {k j n : Nat} {q : Int32} (hk : k < 1024) (hd : DecOf (nI j) q n) (h1 : J0_badCode (nI k) = some 0) (h3 : J0_badDecimal (nI j) q = some 0) : J0_compare (nI k) (nI j) q = some (cmpN (2 * un k) n) := by
  have hu := (un_le k hk).1
  have hv : 2 * un k * 1000000000000 < 2 ^ 63 := by omega
  have hs := cm_s hk
  have hc := cm_if hv hd.1 rfl
  generalize 2 * un k * 1000000000000 = v at hs hc
  unfold J0_compare
  rw [h1, h3, hd.2.1, hs]
  simp only [bindS]
  rw [if_pos trivial, if_pos trivial]
  exact hc
theorem pl_compare (c d q : Int32) : ∃ r, J0_compare c d q = some r ∧ J1_compare (mvs 1025) c d q = some r := by
  rcases cls_code c with ⟨h1, h2⟩ | ⟨k, hk, rfl, h1, h2⟩
  · refine ⟨2, ?_, ?_⟩
    · unfold J0_compare
      rw [h1]; rfl
    · unfold J1_compare
      rw [h2]
      rcases cls_dec d q with ⟨h3, h4⟩ | ⟨j, hj, rfl, hq, h3, h4⟩ <;> rw [h4] <;> rfl
  · rcases cls_dec d q with ⟨h3, h4⟩ | ⟨j, hj, rfl, hq, h3, h4⟩
    · refine ⟨2, ?_, ?_⟩
      · unfold J0_compare
        rw [h1, h3]; rfl
      · unfold J1_compare
        rw [h4]; rfl
    · obtain ⟨n, hd⟩ := dec_of hj hq
      refine ⟨cmpN (2 * un k) n, cm_0 hk hd h1 h3, ?_⟩
      unfold J1_compare
      rw [h2, h4, cm_1 hk hd, if_neg (in_r (by omega))]
      generalize cmpN (2 * un k) n = r
      rfl
/-! rows of kit/laws/BITS.to-paste (a starting text) -/
theorem wb_tb (n : Nat) : (lN n).toBitVec = BitVec.ofNat 64 n := rfl
theorem wb_inj {a b : Int64} (h : a.toBitVec = b.toBitVec) : a = b := Int64.toBitVec_inj.mp h
theorem wb_lt2 {a b : Nat} (h : a < b) : 2 ^ a < 2 ^ b := Nat.pow_lt_pow_right (by decide) h
theorem wb_and {a b : Nat} (ha : a < 2 ^ 64) (hb : b < 2 ^ 64) : lN a &&& lN b = lN (a &&& b) := by
  apply wb_inj
  rw [Int64.toBitVec_and, wb_tb, wb_tb, wb_tb]
  apply BitVec.eq_of_toNat_eq
  rw [BitVec.toNat_and, BitVec.toNat_ofNat, BitVec.toNat_ofNat, BitVec.toNat_ofNat, Nat.mod_eq_of_lt ha, Nat.mod_eq_of_lt hb, Nat.mod_eq_of_lt (Nat.and_lt_two_pow _ hb)]
theorem wb_mask {n k : Nat} (hn : n < 2 ^ 64) (hk : k < 64) : lN n &&& lN (2 ^ k - 1) = lN (n % 2 ^ k) := by
  rw [wb_and hn (by have := wb_lt2 hk; omega), Nat.and_two_pow_sub_one_eq_mod]
theorem pf_shr {a d : Nat} {D : Int64} (hD : (D.toBitVec.smod 64).toNat = d) (h : a < 2 ^ 62) : lN a >>> D = lN (a / 2 ^ d) := by
  have hd : a / 2 ^ d ≤ a := Nat.div_le_self _ _
  apply Int64.toInt_inj.mp
  have e : (lN a >>> D).toInt = (lN a).toInt >>> d := by
    rw [← hD]
    exact BitVec.toInt_sshiftRight ..
  rw [e, Int.shiftRight_eq_div_pow, pk_lT (by omega), pk_lT (by omega)]
  rfl
/-- a value written with a places: the rounded number -/
def wr5 (k a : Nat) : Nat := if 256 < un k * 10 ^ a % 512 ∨ (un k * 10 ^ a % 512 = 256 ∧ un k * 10 ^ a / 512 % 2 = 1) then un k * 10 ^ a / 512 + 1 else un k * 10 ^ a / 512
theorem wr5_le {k a : Nat} (hk : k < 1024) (ha : a < 5) : wr5 k a ≤ 99999999 := by
  have h1 := (un_le k hk).1
  have h2 : 10 ^ a ≤ 10000 := by
    have : ∀ a, a < 5 → 10 ^ a ≤ 10000 := by decide +kernel
    exact this a ha
  have h3 : un k * 10 ^ a ≤ 2080768 * 10000 := Nat.mul_le_mul h1 h2
  unfold wr5
  split <;> omega
theorem ww0 {k a : Nat} (hk : k < 1024) (ha : a < 6) : J0_writtenWith (nI k) (nI a) = some (nI (wr5 k a)) := by
  have h1 := (un_le k hk).1
  have h2 := (pow_le6 a (by omega))
  have h3 : un k * 10 ^ a ≤ 2080768 * 1000000 := Nat.mul_le_mul h1 h2
  unfold J0_writtenWith wr5
  rw [un0 k (by omega), ten0 a (by omega)]
  simp only [bindS, jLS]
  rw [nI_l (by omega), lN_mul]
  generalize un k * 10 ^ a = N at h3
  have e1 : lN N >>> ((9 : Int32).toInt64 &&& 63) = lN (N / 512) := pf_shr (d := 9) (by decide) (by omega)
  have e2 : lN N &&& (511 : Int64) = lN (N % 512) := wb_mask (k := 9) (by omega) (by decide)
  have e3 : (lN (N / 512) &&& (1 : Int64)) = lN (N / 512 % 2) := wb_mask (k := 1) (by omega) (by decide)
  rw [e1, e2, e3]
  have c1 : ((256 : Int64) < lN (N % 512)) ↔ 256 < N % 512 := pk_lLT (a := 256) (by decide) (by omega)
  have c2 : (lN (N % 512) = (256 : Int64)) ↔ N % 512 = 256 := pk_lEQ (b := 256) (by omega) (by decide)
  have c3 : (lN (N / 512 % 2) = (1 : Int64)) ↔ N / 512 % 2 = 1 := pk_lEQ (b := 1) (by omega) (by decide)
  by_cases d1 : 256 < N % 512
  · rw [if_pos (c1.mpr d1), if_pos (Or.inl d1)]
    simp only [bindS]
    rw [if_neg (by decide), lN_1, lN_i]
  · rw [if_neg (fun q => d1 (c1.mp q))]
    by_cases d2 : N % 512 = 256
    · rw [if_pos (c2.mpr d2)]
      by_cases d3 : N / 512 % 2 = 1
      · rw [if_pos (c3.mpr d3), if_pos (Or.inr ⟨d2, d3⟩)]
        simp only [bindS]
        rw [if_neg (by decide), lN_1, lN_i]
      · rw [if_neg (fun q => d3 (c3.mp q)), if_neg (fun q => by rcases q with q | q; exact d1 q; exact d3 q.2)]
        simp only [bindS]
        rw [if_pos trivial, lN_i]
    · rw [if_neg (fun q => d2 (c2.mp q)), if_neg (fun q => by rcases q with q | q; exact d1 q; exact d2 q.1)]
      simp only [bindS]
      rw [if_pos trivial, lN_i]
theorem ww1 {k a : Nat} (hk : k < 1024) (ha : a < 6) : J1_write (mvs 1025) (nI k) (nI a) = some (nI (wr5 k a)) := by
  have h1 := (un_le k hk).1
  have h2 := (pow_le6 a (by omega))
  have h3 : un k * 10 ^ a ≤ 2080768 * 1000000 := Nat.mul_le_mul h1 h2
  unfold J1_write wr5
  rw [if_neg (in_r (by omega)), nI_clamp (by omega), un1 k (by omega), ten1 a (by omega)]
  simp only [bindS, jLS]
  rw [nI_l (by omega), lN_mul]
  generalize un k * 10 ^ a = N at h3
  rw [show (512 : Int64) = lN 512 from rfl, show (2 : Int64) = lN 2 from rfl, pk_lRem (a := N) (b := 512) (by omega) (by decide) (by decide), pk_lDiv (a := N) (b := 512) (by omega) (by decide) (by decide), pk_lRem (a := N / 512) (b := 2) (by omega) (by decide) (by decide)]
  have c1 : ((256 : Int64) < lN (N % 512)) ↔ 256 < N % 512 := pk_lLT (a := 256) (by decide) (by omega)
  have c2 : (lN (N % 512) = (256 : Int64)) ↔ N % 512 = 256 := pk_lEQ (b := 256) (by omega) (by decide)
  have c3 : (lN (N / 512 % 2) = (1 : Int64)) ↔ N / 512 % 2 = 1 := pk_lEQ (b := 1) (by omega) (by decide)
  by_cases d1 : 256 < N % 512
  · rw [if_pos (c1.mpr d1), if_pos (Or.inl d1)]
    simp only [bindS]
    rw [if_neg (by decide), lN_1, lN_i]
  · rw [if_neg (fun q => d1 (c1.mp q))]
    by_cases d2 : N % 512 = 256
    · rw [if_pos (c2.mpr d2)]
      by_cases d3 : N / 512 % 2 = 1
      · rw [if_pos (c3.mpr d3), if_pos (Or.inr ⟨d2, d3⟩)]
        simp only [bindS]
        rw [if_neg (by decide), lN_1, lN_i]
      · rw [if_neg (fun q => d3 (c3.mp q)), if_neg (fun q => by rcases q with q | q; exact d1 q; exact d3 q.2)]
        simp only [bindS]
        rw [if_pos trivial, lN_i]
    · rw [if_neg (fun q => d2 (c2.mp q)), if_neg (fun q => by rcases q with q | q; exact d1 q; exact d2 q.1)]
      simp only [bindS]
      rw [if_pos trivial, lN_i]
theorem pl_written (c p : Int32) : ∃ r, J0_written c p = some r ∧ J1_written (mvs 1025) c p = some r := by
  unfold J0_written J1_written
  rcases cls_code c with ⟨h1, h2⟩ | ⟨k, hk, rfl, h1, h2⟩
  · refine ⟨-1, ?_, ?_⟩
    · rw [h1]; rfl
    · rw [h2]; rfl
  · rw [h1, h2]
    simp only [bindS]
    rw [if_pos trivial, if_neg (show ¬ (1 : Int32) = 0 by decide)]
    by_cases h3 : p < 0
    · rw [if_pos h3, if_pos h3]
      exact ⟨_, rfl, rfl⟩
    · rw [if_neg h3, if_neg h3]
      by_cases h4 : p ≤ (5 : Int32)
      · obtain ⟨a, ha, rfl⟩ := nI_of2 (M := 5) (n := 5) (by decide) h3 h4
        rw [if_pos h4, if_neg (Int32.not_lt.mpr h4), ww0 hk (by omega), ww1 hk (by omega)]
        exact ⟨_, rfl, rfl⟩
      · rw [if_neg h4, if_pos (Int32.not_le.mp h4)]
        exact ⟨_, rfl, rfl⟩
theorem qv_neg {a : Nat} (ha : a < 5) : QV (-nI a) := by
  rcases Nat.eq_zero_or_pos a with h | h
  · subst h
    exact Or.inl ⟨0, by decide, by decide⟩
  · exact Or.inr ⟨a, h, by omega, rfl⟩
theorem places_loop {k : Nat} (hk : k < 1024) : ∀ (t a f : Nat), a + t = 5 → ∃ r, L0_places_12 (f + t + 1) (nI k) (nI a) = some r ∧ L1_places_12 (mvs 1025) (f + t + 1) (nI k) (nI a) = some r := by
  intro t
  induction t with
  | zero =>
    intro a f ha
    obtain rfl : a = 5 := by omega
    refine ⟨5, ?_, ?_⟩
    · rw [L0_places_12, if_pos (by decide)]
    · rw [L1_places_12, if_pos (by decide)]
  | succ t ih =>
    intro a f ha
    have h5 : ¬ (5 : Int32) ≤ nI a := nI_ge (a := a) (b := 5) (by omega) (by decide)
    have hw := wr5_le hk (show a < 5 by omega)
    obtain ⟨n, hd⟩ := dec_of hw (qv_neg (show a < 5 by omega))
    obtain ⟨b, hb, e1, e2⟩ := nm_eq hd hk
    have h9 : ¬ (99999999 : Int32) < nI (wr5 k a) := nI_nlt (a := 99999999) hw (by decide)
    rw [show f + (t + 1) + 1 = (f + t + 1) + 1 from by omega, L0_places_12, L1_places_12, if_neg h5, if_neg h5, ww0 hk (by omega), ww1 hk (by omega)]
    simp only [bindS, jLS]
    rw [if_neg h9, hd.2.1, e2]
    simp only [bindS]
    rw [e1]
    simp only [bindS]
    rcases hb with rfl | rfl
    · rw [if_pos rfl, if_pos rfl, nI_1]
      exact ih (a + 1) f (by omega)
    · rw [if_neg (show ¬ (1 : Int32) = 0 by decide), if_neg (show ¬ (1 : Int32) = 0 by decide)]
      exact ⟨_, rfl, rfl⟩
theorem pl_places (c : Int32) : ∃ r, J0_places c = some r ∧ J1_places (mvs 1025) c = some r := by
  unfold J0_places J1_places
  rcases cls_code c with ⟨h1, h2⟩ | ⟨k, hk, rfl, h1, h2⟩
  · refine ⟨-1, ?_, ?_⟩
    · rw [h1]; rfl
    · rw [h2]; rfl
  · obtain ⟨r, h3, h4⟩ := places_loop hk 5 0 1994 (by omega)
    have h3 : L0_places_12 FU (nI k) 0 = some r := h3
    have h4 : L1_places_12 (mvs 1025) FU (nI k) 0 = some r := h4
    rw [h1, h2, h3, h4]
    exact ⟨r, rfl, rfl⟩
theorem okF_all : ∀ k, k < 1024 → okF k = true := by
  intro k hk
  have e : k = k / 64 * 64 + k % 64 := by omega
  have hm : k % 64 < 64 := Nat.mod_lt _ (by decide)
  have hd : k / 64 < 16 := by omega
  rw [e]
  generalize k % 64 = j at hm
  rcases (show k / 64 = 0 ∨ k / 64 = 1 ∨ k / 64 = 2 ∨ k / 64 = 3 ∨ k / 64 = 4 ∨ k / 64 = 5 ∨ k / 64 = 6 ∨ k / 64 = 7 ∨ k / 64 = 8 ∨ k / 64 = 9 ∨ k / 64 = 10 ∨ k / 64 = 11 ∨ k / 64 = 12 ∨ k / 64 = 13 ∨ k / 64 = 14 ∨ k / 64 = 15 by omega) with h | h | h | h | h | h | h | h | h | h | h | h | h | h | h | h <;> rw [h]
  · exact okF_0 j hm
  · exact okF_1 j hm
  · exact okF_2 j hm
  · exact okF_3 j hm
  · exact okF_4 j hm
  · exact okF_5 j hm
  · exact okF_6 j hm
  · exact okF_7 j hm
  · exact okF_8 j hm
  · exact okF_9 j hm
  · exact okF_10 j hm
  · exact okF_11 j hm
  · exact okF_12 j hm
  · exact okF_13 j hm
  · exact okF_14 j hm
  · exact okF_15 j hm
theorem find_eq {k : Nat} (hk : k < 1024) : ∃ a b n, J0_findShort 0 0 (nI k) = some (a, b) ∧ J1_findShort (mvs 1025) 0 0 (nI k) = some (a, b) ∧ J0_lengthOf a.toInt64 = some n ∧ J1_digitsOf a = some n := by
  have h := okF_all k hk
  unfold okF at h
  split at h
  · rename_i a b c d e1 e2
    simp only [Bool.and_eq_true, decide_eq_true_eq] at h
    obtain ⟨⟨rfl, rfl⟩, h3⟩ := h
    split at h3
    · rename_i x y e3 e4
      obtain rfl := of_decide_eq_true h3
      exact ⟨a, b, x, e1, e2, e3, e4⟩
    · cases h3
  · cases h
theorem find0_any (f2 f3 c : Int32) : J0_findShort f2 f3 c = J0_findShort 0 0 c := rfl
theorem find1_any (g3 g4 c : Int32) : J1_findShort (mvs 1025) g3 g4 c = J1_findShort (mvs 1025) 0 0 c := rfl
theorem pl_digits (f2 f3 g3 g4 c : Int32) : ∃ r a2 a3 b3 b4, J0_digits f2 f3 c = some (r, a2, a3) ∧ J1_digits (mvs 1025) g3 g4 c = some (r, b3, b4) := by
  unfold J0_digits J1_digits
  rcases cls_code c with ⟨h1, h2⟩ | ⟨k, hk, rfl, h1, h2⟩
  · rw [h1, h2]
    exact ⟨_, _, _, _, _, rfl, rfl⟩
  · obtain ⟨a, b, n, e1, e2, e3, e4⟩ := find_eq hk
    rw [h1, h2, find0_any, find1_any, e1, e2]
    exact ⟨_, _, _, _, _, rfl, rfl⟩
theorem pl_scale (f2 f3 g3 g4 c : Int32) : ∃ r a2 a3 b3 b4, J0_scale f2 f3 c = some (r, a2, a3) ∧ J1_scale (mvs 1025) g3 g4 c = some (r, b3, b4) := by
  unfold J0_scale J1_scale
  rcases cls_code c with ⟨h1, h2⟩ | ⟨k, hk, rfl, h1, h2⟩
  · rw [h1, h2]
    exact ⟨_, _, _, _, _, rfl, rfl⟩
  · obtain ⟨a, b, n, e1, e2, e3, e4⟩ := find_eq hk
    rw [h1, h2, find0_any, find1_any, e1, e2]
    exact ⟨_, _, _, _, _, rfl, rfl⟩
theorem pl_length (f2 f3 g3 g4 c : Int32) : ∃ r a2 a3 b3 b4, J0_length f2 f3 c = some (r, a2, a3) ∧ J1_length (mvs 1025) g3 g4 c = some (r, b3, b4) := by
  unfold J0_length J1_length
  rcases cls_code c with ⟨h1, h2⟩ | ⟨k, hk, rfl, h1, h2⟩
  · rw [h1, h2]
    exact ⟨_, _, _, _, _, rfl, rfl⟩
  · obtain ⟨a, b, n, e1, e2, e3, e4⟩ := find_eq hk
    rw [h1, h2, find0_any, find1_any, e1, e2]
    refine ⟨n, a, b, a, b, ?_, ?_⟩
    · simp only [bindS, jB2]
      rw [if_pos trivial, e3]
      rfl
    · simp only [bindS, jB2]
      rw [if_neg (by decide), e4]
      rfl
end
section
/-! the plain law, 4: the text -/
set_option maxRecDepth 1000000
set_option maxHeartbeats 4000000
/-- digits among the first i keys -/
def cntD (ks : Nat → Int32) : Nat → Nat
  | 0 => 0
  | i + 1 => cntD ks i + (if ks i = 10 then 0 else 1)
/-- whether the point is among the first i keys -/
def ptD (ks : Nat → Int32) : Nat → Bool
  | 0 => false
  | i + 1 => ptD ks i || decide (ks i = 10)
/-- digits behind the point among the first i keys -/
def behD (ks : Nat → Int32) : Nat → Nat
  | 0 => 0
  | i + 1 => behD ks i + (if ks i = 10 then 0 else if ptD ks i = true then 1 else 0)
/-- the number of the digits among the first i keys -/
def numD (ks : Nat → Int32) : Nat → Int32
  | 0 => 0
  | i + 1 => if ks i = 10 then numD ks i else numD ks i * 10 + ks i
/-- a text that typing can reach: at most 8 digits and one point -/
def TI (n : Int32) (ks : Nat → Int32) : Prop := ∃ k : Nat, n = nI k ∧ (∀ j, j < k → ∃ d : Nat, d ≤ 10 ∧ ks j = nI d) ∧ cntD ks k ≤ 8 ∧ k ≤ cntD ks k + 1
theorem TI_0 : TI 0 (fun _ => 0) := ⟨0, rfl, fun j h => by omega, by decide, by decide⟩
theorem TI_0' (ks : Nat → Int32) : TI 0 ks := ⟨0, rfl, fun j h => by omega, Nat.zero_le 8, Nat.zero_le 1⟩
theorem cnt_le (ks : Nat → Int32) : ∀ i, cntD ks i ≤ i
  | 0 => Nat.le_refl _
  | i + 1 => by
    have := cnt_le ks i
    unfold cntD
    split <;> omega
theorem beh_le (ks : Nat → Int32) : ∀ i, behD ks i ≤ cntD ks i
  | 0 => Nat.le_refl _
  | i + 1 => by
    have := beh_le ks i
    unfold cntD behD
    split
    · omega
    · split <;> omega
theorem num_of (ks : Nat → Int32) : ∀ k, (∀ j, j < k → ∃ d : Nat, d ≤ 10 ∧ ks j = nI d) → cntD ks k ≤ 8 → ∃ v : Nat, v < 10 ^ cntD ks k ∧ numD ks k = nI v
  | 0, _, _ => ⟨0, Nat.one_pos, rfl⟩
  | i + 1, h, hc => by
    have hci : cntD ks i ≤ cntD ks (i + 1) := by
      show cntD ks i ≤ cntD ks i + _
      omega
    obtain ⟨v, hv, ev⟩ := num_of ks i (fun j hj => h j (by omega)) (by omega)
    obtain ⟨d, hd, ed⟩ := h i (by omega)
    unfold numD cntD
    by_cases h10 : ks i = 10
    · rw [if_pos h10, if_pos h10]
      exact ⟨v, hv, ev⟩
    · rw [if_neg h10, if_neg h10]
      have hd9 : d ≤ 9 := by
        rcases Nat.lt_or_ge d 10 with q | q
        · omega
        · obtain rfl : d = 10 := by omega
          exact absurd ed h10
      refine ⟨v * 10 + d, ?_, ?_⟩
      · rw [Nat.pow_succ]
        omega
      · rw [ev, ed, show (10 : Int32) = nI 10 from rfl, pk_mul, nI_add]
theorem in_9 {i : Nat} (h : i < 9) : ¬ (nI i < 0 ∨ 9 ≤ (nI i).toNatClampNeg) := nI_in h (by decide)
theorem dt_loop {ks : Nat → Int32} {k : Nat} (hk : k ≤ 9) : ∀ (t i f : Nat), i + t = k → L0_digitsTyped_4 (nI k) ks (f + t + 1) (nI (cntD ks i)) (nI i) = some (nI (cntD ks k)) := by
  intro t
  induction t with
  | zero =>
    intro i f h
    obtain rfl : i = k := by omega
    rw [L0_digitsTyped_4, if_pos (nI_le (Nat.le_refl _) (by omega))]
  | succ t ih =>
    intro i f h
    rw [show f + (t + 1) + 1 = (f + t + 1) + 1 from by omega, L0_digitsTyped_4, if_neg (nI_ge (a := i) (b := k) (by omega) (by omega)), if_neg (in_9 (by omega)), nI_clamp (by omega), nI_1 i]
    have e := ih (i + 1) f (by omega)
    have e1 : cntD ks (i + 1) = cntD ks i + (if ks i = 10 then 0 else 1) := rfl
    rw [e1] at e
    by_cases h10 : ks i = 10
    · rw [if_pos h10] at e
      rw [if_pos h10]
      simp only [bindS, jLS]
      exact e
    · rw [if_neg h10] at e
      rw [if_neg h10, nI_1]
      simp only [bindS, jLS]
      exact e
theorem dt0 {ks : Nat → Int32} {k : Nat} (hk : k ≤ 9) : J0_digitsTyped (nI k) ks = some (nI (cntD ks k)) := by
  have h := dt_loop (ks := ks) hk k 0 (1999 - k) (by omega)
  rw [show 1999 - k + k + 1 = 2000 from by omega] at h
  exact h
theorem td_loop {ks : Nat → Int32} {k : Nat} (hk : k ≤ 9) : ∀ (t i f : Nat), i + t = k → L0_textDigits_4 (nI k) ks (f + t + 1) (numD ks i) (nI i) = some (numD ks k) ∧ L1_typedDigits_4 ks (nI k) (f + t + 1) (numD ks i) (nI i) = some (numD ks k) := by
  intro t
  induction t with
  | zero =>
    intro i f h
    obtain rfl : i = k := by omega
    rw [L0_textDigits_4, L1_typedDigits_4, if_pos (nI_le (Nat.le_refl _) (by omega)), if_pos (nI_le (Nat.le_refl _) (by omega))]
    exact ⟨rfl, rfl⟩
  | succ t ih =>
    intro i f h
    rw [show f + (t + 1) + 1 = (f + t + 1) + 1 from by omega, L0_textDigits_4, L1_typedDigits_4, if_neg (nI_ge (a := i) (b := k) (by omega) (by omega)), if_neg (nI_ge (a := i) (b := k) (by omega) (by omega)), if_neg (in_9 (by omega)), nI_clamp (by omega), nI_1 i]
    have e := ih (i + 1) f (by omega)
    have en : numD ks (i + 1) = if ks i = 10 then numD ks i else numD ks i * 10 + ks i := rfl
    rw [en] at e
    by_cases h10 : ks i = 10
    · rw [if_pos h10] at e
      rw [if_pos h10, if_pos h10]
      simp only [bindS, jLS]
      rw [if_neg (show ¬ (nI i < 0 ∨ 9 ≤ i) from fun q => in_9 (i := i) (by omega) (by rw [nI_clamp (by omega)]; exact q))]
      simp only [bindS, jLS]
      exact e
    · rw [if_neg h10] at e
      have hni : ¬ (nI i < 0 ∨ 9 ≤ i) := fun q => in_9 (i := i) (by omega) (by rw [nI_clamp (by omega)]; exact q)
      rw [if_neg h10, if_neg h10, if_neg hni, if_neg hni, if_neg hni, Int32.mul_comm (10 : Int32) (numD ks i)]
      simp only [bindS, jLS]
      exact e
theorem td0 {ks : Nat → Int32} {k : Nat} (hk : k ≤ 9) : J0_textDigits (nI k) ks = some (numD ks k) ∧ J1_typedDigits ks (nI k) = some (numD ks k) := by
  have h := td_loop (ks := ks) hk k 0 (1999 - k) (by omega)
  rw [show 1999 - k + k + 1 = 2000 from by omega] at h
  exact h
theorem neg_1 (b : Nat) : -nI b + (-1) = -nI (b + 1) := by rw [← nI_1, Int32.neg_add, Int32.sub_eq_add_neg]
def pI (b : Bool) : Int32 := if b = true then 1 else 0
theorem ts_loop {ks : Nat → Int32} {k : Nat} (hk : k ≤ 9) : ∀ (t i f : Nat), i + t = k → L0_textScale_6 (nI k) ks (f + t + 1) (-nI (behD ks i)) (pI (ptD ks i)) (nI i) = some (-nI (behD ks k)) := by
  intro t
  induction t with
  | zero =>
    intro i f h
    obtain rfl : i = k := by omega
    rw [L0_textScale_6, if_pos (nI_le (Nat.le_refl _) (by omega))]
  | succ t ih =>
    intro i f h
    rw [show f + (t + 1) + 1 = (f + t + 1) + 1 from by omega, L0_textScale_6, if_neg (nI_ge (a := i) (b := k) (by omega) (by omega)), if_neg (in_9 (by omega)), nI_clamp (by omega), nI_1 i]
    have e := ih (i + 1) f (by omega)
    have e1 : behD ks (i + 1) = behD ks i + (if ks i = 10 then 0 else if ptD ks i = true then 1 else 0) := rfl
    have e2 : ptD ks (i + 1) = (ptD ks i || decide (ks i = 10)) := rfl
    rw [e1, e2] at e
    by_cases h10 : ks i = 10
    · rw [if_pos h10, decide_eq_true h10, Bool.or_true] at e
      rw [if_pos h10]
      simp only [jB2, bindS, jLS]
      exact e
    · rw [if_neg h10, decide_eq_false h10, Bool.or_false] at e
      rw [if_neg h10]
      cases hp : ptD ks i with
      | false =>
        rw [hp, if_neg (by decide)] at e
        rw [if_pos (show pI false = 0 from rfl)]
        simp only [jB2, bindS, jLS]
        exact e
      | true =>
        rw [hp, if_pos rfl] at e
        rw [if_neg (show ¬ pI true = 0 by decide)]
        simp only [jB2, bindS, jLS]
        rw [neg_1]
        exact e
theorem ts0 {ks : Nat → Int32} {k : Nat} (hk : k ≤ 9) : J0_textScale (nI k) ks = some (-nI (behD ks k)) := by
  have h := ts_loop (ks := ks) hk k 0 (1999 - k) (by omega)
  have e0 : -nI (behD ks 0) = 0 := show -nI 0 = 0 by decide
  rw [show 1999 - k + k + 1 = 2000 from by omega, e0] at h
  exact h
/-- what countDigits counts -/
def cD (ks : Nat → Int32) (b : Bool) : Nat → Nat := fun i => if b = true then behD ks i else cntD ks i
theorem cd_loop {ks : Nat → Int32} {k : Nat} (b : Bool) (hk : k ≤ 9) : ∀ (t i f : Nat), i + t = k → L1_countDigits_7 ks (nI k) (f + t + 1) (pI b) (nI (cD ks b i)) (pI (ptD ks i)) (nI i) = some (nI (cD ks b k)) := by
  intro t
  induction t with
  | zero =>
    intro i f h
    obtain rfl : i = k := by omega
    rw [L1_countDigits_7, if_pos (nI_le (Nat.le_refl _) (by omega))]
  | succ t ih =>
    intro i f h
    have hni : ¬ (nI i < 0 ∨ 9 ≤ i) := fun q => in_9 (i := i) (by omega) (by rw [nI_clamp (by omega)]; exact q)
    rw [show f + (t + 1) + 1 = (f + t + 1) + 1 from by omega, L1_countDigits_7, if_neg (nI_ge (a := i) (b := k) (by omega) (by omega)), nI_clamp (by omega), nI_1 i]
    simp only [if_neg hni]
    have e := ih (i + 1) f (by omega)
    have e1 : behD ks (i + 1) = behD ks i + (if ks i = 10 then 0 else if ptD ks i = true then 1 else 0) := rfl
    have e2 : ptD ks (i + 1) = (ptD ks i || decide (ks i = 10)) := rfl
    have e3 : cntD ks (i + 1) = cntD ks i + (if ks i = 10 then 0 else 1) := rfl
    have hpt : (if pI (ptD ks i) = 0 then (if ks i = (10 : Int32) then some (1 : Int32) else some 0) else some 1) = some (pI (ptD ks (i + 1))) := by
      rw [e2]
      cases hp : ptD ks i with
      | false =>
        rw [if_pos (show pI false = 0 from rfl)]
        by_cases h10 : ks i = 10
        · rw [if_pos h10, decide_eq_true h10]; rfl
        · rw [if_neg h10, decide_eq_false h10]; rfl
      | true =>
        rw [if_neg (show ¬ pI true = 0 by decide)]
        rfl
    rw [hpt]
    simp only [bindS, jLS]
    have hct : (if ks i = (10 : Int32) then some (nI (cD ks b i)) else if pI (ptD ks (i + 1)) = 0 then (if pI b = 0 then some (nI (cD ks b i) + (1 : Int32)) else some (nI (cD ks b i))) else some (nI (cD ks b i) + (1 : Int32))) = some (nI (cD ks b (i + 1))) := by
      by_cases h10 : ks i = 10
      · rw [if_pos h10]
        cases b
        · show some (nI (cntD ks i)) = some (nI (cntD ks (i + 1)))
          rw [e3, if_pos h10]; rfl
        · show some (nI (behD ks i)) = some (nI (behD ks (i + 1)))
          rw [e1, if_pos h10]; rfl
      · rw [if_neg h10, e2, decide_eq_false h10, Bool.or_false]
        cases b
        · have e4 : nI (cntD ks i) + 1 = nI (cntD ks (i + 1)) := by rw [e3, if_neg h10, nI_1]
          show (if pI (ptD ks i) = 0 then (if pI false = 0 then some (nI (cntD ks i) + 1) else some (nI (cntD ks i))) else some (nI (cntD ks i) + 1)) = some (nI (cntD ks (i + 1)))
          rw [if_pos (show pI false = 0 from rfl), e4]
          split <;> rfl
        · show (if pI (ptD ks i) = 0 then (if pI true = 0 then some (nI (behD ks i) + 1) else some (nI (behD ks i))) else some (nI (behD ks i) + 1)) = some (nI (behD ks (i + 1)))
          rw [e1, if_neg h10]
          cases hp : ptD ks i with
          | false =>
            rw [if_pos (show pI false = 0 from rfl), if_neg (show ¬ pI true = 0 by decide), if_neg (by decide)]
            rfl
          | true =>
            rw [if_neg (show ¬ pI true = 0 by decide), if_pos rfl, nI_1]
    rw [hct]
    simp only [bindS, jLS]
    exact e
theorem cd0 {ks : Nat → Int32} {k : Nat} (b : Bool) (hk : k ≤ 9) : J1_countDigits ks (nI k) (pI b) = some (nI (cD ks b k)) := by
  have h := cd_loop (ks := ks) b hk k 0 (1999 - k) (by omega)
  rw [show 1999 - k + k + 1 = 2000 from by omega] at h
  cases b <;> exact h
end
section
/-! the plain law, 5: the calls of the law that depend on the text -/
set_option maxRecDepth 1000000
set_option maxHeartbeats 4000000
theorem dq_n : ∀ a, a < 13 → (¬ (-nI a < (-12 : Int32)) ∧ ¬ ((6 : Int32) < -nI a)) := by decide +kernel
theorem dq_p : ∀ a, a < 7 → (¬ (nI a < (-12 : Int32)) ∧ ¬ ((6 : Int32) < nI a)) := by decide +kernel
theorem dec_ok {v : Nat} {q : Int32} (hv : v ≤ 99999999) (hq : QV q) : J1_isDecimal (nI v) q = some 1 := by
  have hqq : ¬ q < (-12 : Int32) ∧ ¬ (6 : Int32) < q := by
    rcases hq with ⟨a, ha, rfl⟩ | ⟨a, -, ha, rfl⟩
    · exact dq_p a (by omega)
    · exact dq_n a (by omega)
  unfold J1_isDecimal
  rw [if_neg (nI_pos (by omega)), if_neg (show ¬ (99999999 : Int32) < nI v from nI_nlt (a := 99999999) hv (by decide)), if_neg hqq.1, if_neg hqq.2]
theorem qv_beh {b : Nat} (h : b ≤ 12) : QV (-nI b) := by
  rcases Nat.eq_zero_or_pos b with h0 | h0
  · subst h0
    exact Or.inl ⟨0, by decide, by decide⟩
  · exact Or.inr ⟨b, h0, h, rfl⟩
theorem rd_eq {ks : Nat → Int32} {k v : Nat} (hk : k ≤ 9) (hb : behD ks k ≤ 12) (hv : v ≤ 99999999) : ∃ r : Nat, J0_reading (nI k) ks (nI v) = some (nI r) ∧ J1_read (mvs 1025) (nI v) (-nI (behD ks k)) = some (nI r) := by
  obtain ⟨n, hd⟩ := dec_of hv (qv_beh hb)
  obtain ⟨r, -, e1, e2⟩ := read_eq hd
  refine ⟨r, ?_, ?_⟩
  · unfold J0_reading
    rw [ts0 hk]
    simp only [bindS]
    rw [hd.2.1]
    simp only [bindS]
    rw [e1]
    simp only [bindS]
  · unfold J1_read
    rw [dec_ok hv (qv_beh hb), e2]
    rfl
theorem pw8 : ∀ c, c < 9 → 10 ^ c ≤ 100000000 := by decide +kernel
theorem ti_num {ks : Nat → Int32} {k : Nat} (h1 : ∀ j, j < k → ∃ d : Nat, d ≤ 10 ∧ ks j = nI d) (h2 : cntD ks k ≤ 8) : ∃ v : Nat, v ≤ 99999999 ∧ numD ks k = nI v := by
  obtain ⟨v, hv, ev⟩ := num_of ks k h1 h2
  have := pw8 (cntD ks k) (by omega)
  exact ⟨v, by omega, ev⟩
theorem cdT {ks : Nat → Int32} {k : Nat} (hk : k ≤ 9) : J1_countDigits ks (nI k) 1 = some (nI (behD ks k)) := cd0 true hk
theorem cdF {ks : Nat → Int32} {k : Nat} (hk : k ≤ 9) : J1_countDigits ks (nI k) 0 = some (nI (cntD ks k)) := cd0 false hk
theorem pl_typedDigits {n : Int32} {ks : Nat → Int32} (hT : TI n ks) : ∃ r, J0_typedDigits n ks = some r ∧ J1_typedDigits ks n = some r := by
  obtain ⟨k, rfl, h1, h2, h3⟩ := hT
  have h := td0 (ks := ks) (k := k) (by omega)
  refine ⟨numD ks k, ?_, h.2⟩
  unfold J0_typedDigits
  rw [h.1]
  simp only [bindS]
theorem pl_typed {n : Int32} {ks : Nat → Int32} (hT : TI n ks) : ∃ r, J0_typed n ks = some r ∧ J1_typed (mvs 1025) ks n = some r := by
  obtain ⟨k, rfl, h1, h2, h3⟩ := hT
  have hk : k ≤ 9 := by omega
  have hb := beh_le ks k
  have h := td0 (ks := ks) hk
  obtain ⟨v, hv, ev⟩ := ti_num h1 h2
  obtain ⟨r, e1, e2⟩ := rd_eq (ks := ks) hk (by omega) hv
  refine ⟨nI r, ?_, ?_⟩
  · unfold J0_typed
    rw [h.1, ev]
    simp only [bindS]
    rw [e1]
    simp only [bindS]
  · unfold J1_typed
    rw [h.2, ev, cdT hk]
    simp only [bindS]
    rw [e2]
    simp only [bindS]
theorem cut_eq {v u : Nat} (hv : v < 2 ^ 31) (hu0 : 0 < u) (hu : u < 2 ^ 31) : nI v / nI u * nI u = nI (v / u * u) ∧ nI v - (nI v - nI v / nI u * nI u) = nI (v / u * u) := by
  have e : v - v % u = v / u * u := by
    have := Nat.div_add_mod v u
    rw [Nat.mul_comm] at this
    omega
  refine ⟨?_, ?_⟩
  · rw [pk_div hv hu0 hu, pk_mul]
  · rw [pk_rem hv hu0 hu, pk_sub (Nat.mod_le _ _), e]
theorem pw9 : ∀ c, c < 9 → (nI (10 ^ c) * (10 : Int32) = nI (10 ^ (c + 1)) ∧ (10 : Int32) * nI (10 ^ c) = nI (10 ^ (c + 1))) := by decide +kernel
theorem spare_loop {ks : Nat → Int32} {k v : Nat} (hk : k ≤ 9) (hb : behD ks k ≤ 12) (hv : v ≤ 99999999) (w : Int32) (c : Nat) (hc : c ≤ 8) : ∀ (t j f : Nat) (best : Int32), j + t = c → ∃ r, L0_spare_25 (nI k) ks (f + t + 1) (nI v) w (nI c) best (nI (10 ^ j)) (nI (j + 1)) = some r ∧ L1_spare_35 (mvs 1025) ks (nI k) (f + t + 1) (nI v) (-nI (behD ks k)) w (nI (10 ^ j)) best (nI c) (nI (j + 1)) = some r := by
  intro t
  induction t with
  | zero =>
    intro j f best hj
    refine ⟨best, ?_, ?_⟩
    · rw [L0_spare_25, if_pos (nI_lt (by omega) (by omega))]
    · rw [L1_spare_35, if_pos (nI_lt (by omega) (by omega))]
  | succ t ih =>
    intro j f best hj
    have hp := pw8 (j + 1) (by omega)
    have hp0 := (pow_pos (j + 1) (by omega)).1
    obtain ⟨u1, u2⟩ := pw9 j (by omega)
    obtain ⟨c1, c2⟩ := cut_eq (v := v) (u := 10 ^ (j + 1)) (by omega) hp0 (by omega)
    have hcut : v / 10 ^ (j + 1) * 10 ^ (j + 1) ≤ 99999999 := Nat.le_trans (Nat.div_mul_le_self _ _) hv
    obtain ⟨r, e1, e2⟩ := rd_eq (ks := ks) hk hb hcut
    have hn0 : ¬ nI (10 ^ (j + 1)) = 0 := nI_ne0 hp0 (by omega)
    rw [show f + (t + 1) + 1 = (f + t + 1) + 1 from by omega, L0_spare_25, L1_spare_35, if_neg (nI_nlt (by omega) (by omega)), if_neg (nI_nlt (by omega) (by omega)), u1, u2]
    simp only [jLS]
    rw [if_neg hn0, if_neg hn0, c2, c1, e1, e2]
    simp only [bindS]
    by_cases hw : nI r = w
    · rw [if_pos hw]
      simp only [bindS]
      rw [nI_1]
      exact ih (j + 1) f _ (by omega)
    · rw [if_neg hw]
      simp only [bindS]
      rw [nI_1]
      exact ih (j + 1) f _ (by omega)
theorem pl_spare {n : Int32} {ks : Nat → Int32} (hT : TI n ks) : ∃ r, J0_spare n ks = some r ∧ J1_spare (mvs 1025) ks n = some r := by
  obtain ⟨k, rfl, h1, h2, h3⟩ := hT
  have hk : k ≤ 9 := by omega
  have hb := beh_le ks k
  have h := td0 (ks := ks) hk
  obtain ⟨v, hv, ev⟩ := ti_num h1 h2
  obtain ⟨r, e1, e2⟩ := rd_eq (ks := ks) hk (by omega) hv
  obtain ⟨x, l1, l2⟩ := spare_loop (ks := ks) hk (by omega) hv (nI r) (cntD ks k) h2 (cntD ks k) 0 (1999 - cntD ks k) 0 (by omega)
  rw [show 1999 - cntD ks k + cntD ks k + 1 = FU from by unfold FU; omega] at l1 l2
  have l1 : L0_spare_25 (nI k) ks FU (nI v) (nI r) (nI (cntD ks k)) 0 1 1 = some x := l1
  have l2 : L1_spare_35 (mvs 1025) ks (nI k) FU (nI v) (-nI (behD ks k)) (nI r) 1 0 (nI (cntD ks k)) 1 = some x := l2
  refine ⟨x, ?_, ?_⟩
  · unfold J0_spare
    rw [h.1, ev]
    simp only [bindS]
    rw [e1]
    simp only [bindS]
    rw [dt0 hk]
    simp only [bindS]
    exact l1
  · unfold J1_spare
    rw [h.2, ev, cdT hk, cdF hk]
    simp only [bindS, jLS]
    rw [e2]
    simp only [bindS]
    exact l2
theorem cnt_s (ks : Nat → Int32) (i : Nat) : cntD ks (i + 1) = cntD ks i + (if ks i = 10 then 0 else 1) := rfl
theorem pl_back {n : Int32} {ks : Nat → Int32} (hT : TI n ks) : ∃ r n2, J0_back n ks = some (r, n2) ∧ J1_back ks n = some (r, n2) ∧ TI n2 ks := by
  obtain ⟨k, rfl, h1, h2, h3⟩ := hT
  unfold J0_back J1_back
  cases k with
  | zero =>
    rw [if_pos (show nI 0 = 0 from rfl)]
    exact ⟨_, _, rfl, rfl, TI_0' ks⟩
  | succ k =>
    have hc := cnt_s ks k
    have hn : ¬ nI (k + 1) = 0 := nI_ne0 (by omega) (by omega)
    rw [if_neg hn, show nI (k + 1) - (1 : Int32) = nI k from nI_pred k]
    simp only [jLS]
    rw [if_neg (in_9 (by omega)), nI_clamp (by omega)]
    refine ⟨_, _, rfl, rfl, k, rfl, fun j hj => h1 j (by omega), ?_, ?_⟩
    · split at hc <;> omega
    · split at hc <;> omega
theorem pl_clear {n : Int32} {ks : Nat → Int32} (_ : TI n ks) : J0_clear n = some 0 ∧ J1_clear n = some 0 ∧ TI 0 ks := ⟨rfl, rfl, TI_0' ks⟩
theorem cnt_congr {ks ks' : Nat → Int32} : ∀ k, (∀ j, j < k → ks' j = ks j) → cntD ks' k = cntD ks k
  | 0, _ => rfl
  | k + 1, h => by
    rw [cnt_s, cnt_s, cnt_congr k (fun j hj => h j (by omega)), h k (by omega)]
theorem cnt_upd (ks : Nat → Int32) (k : Nat) (p : Int32) : cntD (upd ks k p) (k + 1) = cntD ks k + (if p = 10 then 0 else 1) := by
  rw [cnt_s, cnt_congr (ks := ks) k (fun j hj => pk_un (by omega)), pk_us]
theorem TI_upd {ks : Nat → Int32} {k d : Nat} (h1 : ∀ j, j < k → ∃ d : Nat, d ≤ 10 ∧ ks j = nI d) (hd : d ≤ 10) (h2 : cntD (upd ks k (nI d)) (k + 1) ≤ 8) (h3 : k + 1 ≤ cntD (upd ks k (nI d)) (k + 1) + 1) : TI (nI (k + 1)) (upd ks k (nI d)) := by
  refine ⟨k + 1, rfl, fun j hj => ?_, h2, h3⟩
  rcases Nat.lt_or_ge j k with q | q
  · obtain ⟨e, he, ee⟩ := h1 j q
    exact ⟨e, he, by rw [pk_un (by omega)]; exact ee⟩
  · obtain rfl : j = k := by omega
    exact ⟨d, hd, pk_us⟩
theorem pl_type {n : Int32} {ks : Nat → Int32} (hT : TI n ks) (p : Int32) : ∃ r n2 ks2, J0_type n ks p = some (r, n2, ks2) ∧ J1_type ks n p = some (r, ks2, n2) ∧ TI n2 ks2 := by
  have hT0 := hT
  obtain ⟨k, rfl, h1, h2, h3⟩ := hT
  have hk : k ≤ 9 := by omega
  unfold J0_type J1_type
  by_cases hp : p < 0
  · rw [if_pos hp, if_pos hp]
    exact ⟨_, _, _, rfl, rfl, hT0⟩
  · rw [if_neg hp, if_neg hp]
    by_cases hp2 : p ≤ (10 : Int32)
    · obtain ⟨d, hd, rfl⟩ := nI_of2 (M := 10) (n := 10) (by decide) hp hp2
      have e10 : (nI d = (10 : Int32)) ↔ d = 10 := nI_eq (b := 10) (by omega) (by decide)
      have e8 : (nI (cntD ks k) = (8 : Int32)) ↔ cntD ks k = 8 := nI_eq (b := 8) (by omega) (by decide)
      have ele : (nI k ≤ nI (cntD ks k)) ↔ k ≤ cntD ks k := nI_leI (by omega) (by omega)
      have hu := cnt_upd ks k (nI d)
      have ht := TI_upd (ks := ks) (k := k) h1 hd
      rw [if_pos hp2, if_pos hp2, dt0 hk, cdF hk]
      simp only [bindS]
      by_cases hd10 : d = 10
      · rw [if_pos (e10.mpr hd10)] at hu
        by_cases hkc : k ≤ cntD ks k
        · rw [if_pos (ele.mpr hkc), if_pos (ele.mpr hkc)]
          simp only [bindS]
          rw [if_pos (e10.mpr hd10), if_pos (e10.mpr hd10), if_pos trivial, if_neg (in_9 (by omega)), if_neg (in_9 (by omega)), nI_clamp (by omega)]
          simp only [jLS]
          rw [nI_1, if_pos (e10.mpr hd10), cdF (ks := upd ks k (nI d)) (k := k + 1) (by omega), hu]
          simp only [bindS]
          exact ⟨_, _, _, rfl, rfl, ht (by omega) (by omega)⟩
        · rw [if_neg (fun q => hkc (ele.mp q)), if_neg (fun q => hkc (ele.mp q))]
          simp only [bindS]
          rw [if_pos (e10.mpr hd10), if_pos (e10.mpr hd10), if_neg (show ¬ (1 : Int32) = 0 by decide)]
          exact ⟨_, _, _, rfl, rfl, hT0⟩
      · have hne : ¬ nI d = (10 : Int32) := fun q => hd10 (e10.mp q)
        rw [if_neg hne] at hu
        have hv : ∀ (g : Int32 → Option (Int32 × Int32 × (Nat → Int32))) (x : Option (Int32 × Int32 × (Nat → Int32))), (∀ v, g v = x) → Option.bind (if nI k ≤ nI (cntD ks k) then some (0 : Int32) else some 1) g = x := by
          intro g x hg
          split <;> exact hg _
        by_cases hc8 : cntD ks k = 8
        · simp only [if_neg hne, if_pos (e8.mpr hc8)]
          exact ⟨-2, nI k, ks, hv _ _ (fun v => rfl), rfl, hT0⟩
        · have hc8' : ¬ nI (cntD ks k) = (8 : Int32) := fun q => hc8 (e8.mp q)
          simp only [if_neg hne, if_neg hc8', if_neg (in_9 (i := k) (by omega))]
          simp only [nI_clamp (show k < 2 ^ 31 by omega), jLS, nI_1]
          rw [cdF (ks := upd ks k (nI d)) (k := k + 1) (by omega), hu]
          simp only [bindS]
          exact ⟨nI (cntD ks k + 1), nI (k + 1), upd ks k (nI d), hv _ _ (fun v => rfl), rfl, ht (by omega) (by omega)⟩
    · rw [if_neg hp2, if_neg hp2]
      exact ⟨_, _, _, rfl, rfl, hT0⟩
end
section
/-! calls out of the law -/
set_option maxRecDepth 100000
theorem kL0_units {p : Program} {l : Launch} {e : Env} {R : Room} {s : State} {m : MethodId} {args : Array Value} {below : List Frame} {meth : Method} {c : Code} {H : Heap} {locs : List Loc} {cells slots : Nat} {Q : State → Prop} {cc : ByteArray} {nL pc : Nat} {ls : Array Slot} {rest : List Value} {D : va_G} {tys : List (ClassId × FieldType)} {b : Nat} (hF : CallFix p m c cc nL s args lw_all R_law) (hr : xR D H b 0) (hK : va_K D vwCl tys s) {p1 : Int32} {r : Int32} (hJ : J0_units p1 = some r) (hsz : ls.size = nL) (hW : (rest.map fun v => v.category).sum ≤ 8) (hdg : decode cc pc = .ok (.invokevirtual 13, 3)) (hR : 1 + 1 ≤ R.frames ∧ 8 + (2 + 11) + 23 ≤ R.locals) (hf : cells ≤ R.cells ∧ slots ≤ R.slots) (kk : W p l e R s m args below meth c H locs cells slots Q (F0 m (pc + 3) ls (.int r :: rest))) : W p l e R s m args below meth c H locs cells slots Q (F0 m pc ls (.int p1 :: .ref b :: rest)) :=
  ro_call (n := 1) (ci := 0) hF (m0_units l D tys H b hr p1 r hJ) (lw_V q57 q58 q59 q33 q60) (by decide +kernel) rfl rfl hR hr hK rfl rfl rfl hsz rfl hW hdg hf kk
theorem kL1_units {p : Program} {l : Launch} {e : Env} {R : Room} {s : State} {m : MethodId} {args : Array Value} {below : List Frame} {meth : Method} {c : Code} {H : Heap} {locs : List Loc} {cells slots : Nat} {Q : State → Prop} {cc : ByteArray} {nL pc : Nat} {ls : Array Slot} {rest : List Value} {D : va_G} {b hv ht : Nat} {dA : ClassId} {mv : Nat → Int32} {ks : Nat → Int32} {f2 : Int32} {f3 : Int32} {f4 : Int32} (hF : CallFix p m c cc nL s args lw_all R_law) (hP : va_P D vwCl (W1 b hv ht dA mv ks f2 f3 f4) H) (hK : va_K D vwCl [(dA, .int)] s) {p1 : Int32} {r : Int32} (hJ : J1_units mv p1 = some r) (hsz : ls.size = nL) (hW : (rest.map fun v => v.category).sum ≤ 8) (hdg : decode cc pc = .ok (.invokevirtual 17, 3)) (hR : 1 + 1 ≤ R.frames ∧ 8 + (2 + 11) + 21 ≤ R.locals) (hf : cells ≤ R.cells ∧ slots ≤ R.slots) (kk : W p l e R s m args below meth c H locs cells slots Q (F0 m (pc + 3) ls (.int r :: rest))) : W p l e R s m args below meth c H locs cells slots Q (F0 m pc ls (.int p1 :: .ref b :: rest)) :=
  ro_call (n := 1) (ci := 1) hF (m1_units l D H b hv ht dA mv ks f2 f3 f4 hP p1 r hJ) (lw_V q234 q235 q236 q34 q237) (by decide +kernel) rfl rfl hR (xR.of hP 0 rfl) hK rfl rfl rfl hsz rfl hW hdg hf kk
theorem kL0_read {p : Program} {l : Launch} {e : Env} {R : Room} {s : State} {m : MethodId} {args : Array Value} {below : List Frame} {meth : Method} {c : Code} {H : Heap} {locs : List Loc} {cells slots : Nat} {Q : State → Prop} {cc : ByteArray} {nL pc : Nat} {ls : Array Slot} {rest : List Value} {D : va_G} {tys : List (ClassId × FieldType)} {b : Nat} (hF : CallFix p m c cc nL s args lw_all R_law) (hr : xR D H b 0) (hK : va_K D vwCl tys s) {p1 : Int32} {p2 : Int32} {r : Int32} (hJ : J0_read p1 p2 = some r) (hsz : ls.size = nL) (hW : (rest.map fun v => v.category).sum ≤ 8) (hdg : decode cc pc = .ok (.invokevirtual 18, 3)) (hR : 3 + 1 ≤ R.frames ∧ 8 + (5 + 11) + 73 ≤ R.locals) (hf : cells ≤ R.cells ∧ slots ≤ R.slots) (kk : W p l e R s m args below meth c H locs cells slots Q (F0 m (pc + 3) ls (.int r :: rest))) : W p l e R s m args below meth c H locs cells slots Q (F0 m pc ls (.int p2 :: .int p1 :: .ref b :: rest)) :=
  ro_call (n := 2) (ci := 0) hF (m0_read l D tys H b hr p1 p2 r hJ) (lw_V q69 q70 q71 q33 q72) (by decide +kernel) rfl rfl hR hr hK rfl rfl rfl hsz rfl hW hdg hf kk
theorem kL1_read {p : Program} {l : Launch} {e : Env} {R : Room} {s : State} {m : MethodId} {args : Array Value} {below : List Frame} {meth : Method} {c : Code} {H : Heap} {locs : List Loc} {cells slots : Nat} {Q : State → Prop} {cc : ByteArray} {nL pc : Nat} {ls : Array Slot} {rest : List Value} {D : va_G} {b hv ht : Nat} {dA : ClassId} {mv : Nat → Int32} {ks : Nat → Int32} {f2 : Int32} {f3 : Int32} {f4 : Int32} (hF : CallFix p m c cc nL s args lw_all R_law) (hP : va_P D vwCl (W1 b hv ht dA mv ks f2 f3 f4) H) (hK : va_K D vwCl [(dA, .int)] s) {p1 : Int32} {p2 : Int32} {r : Int32} (hJ : J1_read mv p1 p2 = some r) (hsz : ls.size = nL) (hW : (rest.map fun v => v.category).sum ≤ 8) (hdg : decode cc pc = .ok (.invokevirtual 22, 3)) (hR : 2 + 1 ≤ R.frames ∧ 8 + (5 + 11) + 52 ≤ R.locals) (hf : cells ≤ R.cells ∧ slots ≤ R.slots) (kk : W p l e R s m args below meth c H locs cells slots Q (F0 m (pc + 3) ls (.int r :: rest))) : W p l e R s m args below meth c H locs cells slots Q (F0 m pc ls (.int p2 :: .int p1 :: .ref b :: rest)) :=
  ro_call (n := 2) (ci := 1) hF (m1_read l D H b hv ht dA mv ks f2 f3 f4 hP p1 p2 r hJ) (lw_V q242 q243 q244 q34 q245) (by decide +kernel) rfl rfl hR (xR.of hP 0 rfl) hK rfl rfl rfl hsz rfl hW hdg hf kk
theorem kL0_names {p : Program} {l : Launch} {e : Env} {R : Room} {s : State} {m : MethodId} {args : Array Value} {below : List Frame} {meth : Method} {c : Code} {H : Heap} {locs : List Loc} {cells slots : Nat} {Q : State → Prop} {cc : ByteArray} {nL pc : Nat} {ls : Array Slot} {rest : List Value} {D : va_G} {tys : List (ClassId × FieldType)} {b : Nat} (hF : CallFix p m c cc nL s args lw_all R_law) (hr : xR D H b 0) (hK : va_K D vwCl tys s) {p1 : Int32} {p2 : Int32} {p3 : Int32} {r : Int32} (hJ : J0_names p1 p2 p3 = some r) (hsz : ls.size = nL) (hW : (rest.map fun v => v.category).sum ≤ 8) (hdg : decode cc pc = .ok (.invokevirtual 23, 3)) (hR : 4 + 1 ≤ R.frames ∧ 8 + (6 + 11) + 96 ≤ R.locals) (hf : cells ≤ R.cells ∧ slots ≤ R.slots) (kk : W p l e R s m args below meth c H locs cells slots Q (F0 m (pc + 3) ls (.int r :: rest))) : W p l e R s m args below meth c H locs cells slots Q (F0 m pc ls (.int p3 :: .int p2 :: .int p1 :: .ref b :: rest)) :=
  ro_call (n := 3) (ci := 0) hF (m0_names l D tys H b hr p1 p2 p3 r hJ) (lw_V q99 q100 q101 q33 q102) (by decide +kernel) rfl rfl hR hr hK rfl rfl rfl hsz rfl hW hdg hf kk
theorem kL1_names {p : Program} {l : Launch} {e : Env} {R : Room} {s : State} {m : MethodId} {args : Array Value} {below : List Frame} {meth : Method} {c : Code} {H : Heap} {locs : List Loc} {cells slots : Nat} {Q : State → Prop} {cc : ByteArray} {nL pc : Nat} {ls : Array Slot} {rest : List Value} {D : va_G} {b hv ht : Nat} {dA : ClassId} {mv : Nat → Int32} {ks : Nat → Int32} {f2 : Int32} {f3 : Int32} {f4 : Int32} (hF : CallFix p m c cc nL s args lw_all R_law) (hP : va_P D vwCl (W1 b hv ht dA mv ks f2 f3 f4) H) (hK : va_K D vwCl [(dA, .int)] s) {p1 : Int32} {p2 : Int32} {p3 : Int32} {r : Int32} (hJ : J1_names mv p1 p2 p3 = some r) (hsz : ls.size = nL) (hW : (rest.map fun v => v.category).sum ≤ 8) (hdg : decode cc pc = .ok (.invokevirtual 27, 3)) (hR : 3 + 1 ≤ R.frames ∧ 8 + (4 + 11) + 79 ≤ R.locals) (hf : cells ≤ R.cells ∧ slots ≤ R.slots) (kk : W p l e R s m args below meth c H locs cells slots Q (F0 m (pc + 3) ls (.int r :: rest))) : W p l e R s m args below meth c H locs cells slots Q (F0 m pc ls (.int p3 :: .int p2 :: .int p1 :: .ref b :: rest)) :=
  ro_call (n := 3) (ci := 1) hF (m1_names l D H b hv ht dA mv ks f2 f3 f4 hP p1 p2 p3 r hJ) (lw_V q261 q262 q263 q34 q264) (by decide +kernel) rfl rfl hR (xR.of hP 0 rfl) hK rfl rfl rfl hsz rfl hW hdg hf kk
theorem kL0_compare {p : Program} {l : Launch} {e : Env} {R : Room} {s : State} {m : MethodId} {args : Array Value} {below : List Frame} {meth : Method} {c : Code} {H : Heap} {locs : List Loc} {cells slots : Nat} {Q : State → Prop} {cc : ByteArray} {nL pc : Nat} {ls : Array Slot} {rest : List Value} {D : va_G} {tys : List (ClassId × FieldType)} {b : Nat} (hF : CallFix p m c cc nL s args lw_all R_law) (hr : xR D H b 0) (hK : va_K D vwCl tys s) {p1 : Int32} {p2 : Int32} {p3 : Int32} {r : Int32} (hJ : J0_compare p1 p2 p3 = some r) (hsz : ls.size = nL) (hW : (rest.map fun v => v.category).sum ≤ 8) (hdg : decode cc pc = .ok (.invokevirtual 28, 3)) (hR : 2 + 1 ≤ R.frames ∧ 8 + (8 + 11) + 48 ≤ R.locals) (hf : cells ≤ R.cells ∧ slots ≤ R.slots) (kk : W p l e R s m args below meth c H locs cells slots Q (F0 m (pc + 3) ls (.int r :: rest))) : W p l e R s m args below meth c H locs cells slots Q (F0 m pc ls (.int p3 :: .int p2 :: .int p1 :: .ref b :: rest)) :=
  ro_call (n := 3) (ci := 0) hF (m0_compare l D tys H b hr p1 p2 p3 r hJ) (lw_V q108 q109 q110 q33 q111) (by decide +kernel) rfl rfl hR hr hK rfl rfl rfl hsz rfl hW hdg hf kk
theorem kL1_compare {p : Program} {l : Launch} {e : Env} {R : Room} {s : State} {m : MethodId} {args : Array Value} {below : List Frame} {meth : Method} {c : Code} {H : Heap} {locs : List Loc} {cells slots : Nat} {Q : State → Prop} {cc : ByteArray} {nL pc : Nat} {ls : Array Slot} {rest : List Value} {D : va_G} {b hv ht : Nat} {dA : ClassId} {mv : Nat → Int32} {ks : Nat → Int32} {f2 : Int32} {f3 : Int32} {f4 : Int32} (hF : CallFix p m c cc nL s args lw_all R_law) (hP : va_P D vwCl (W1 b hv ht dA mv ks f2 f3 f4) H) (hK : va_K D vwCl [(dA, .int)] s) {p1 : Int32} {p2 : Int32} {p3 : Int32} {r : Int32} (hJ : J1_compare mv p1 p2 p3 = some r) (hsz : ls.size = nL) (hW : (rest.map fun v => v.category).sum ≤ 8) (hdg : decode cc pc = .ok (.invokevirtual 32, 3)) (hR : 2 + 1 ≤ R.frames ∧ 8 + (4 + 11) + 52 ≤ R.locals) (hf : cells ≤ R.cells ∧ slots ≤ R.slots) (kk : W p l e R s m args below meth c H locs cells slots Q (F0 m (pc + 3) ls (.int r :: rest))) : W p l e R s m args below meth c H locs cells slots Q (F0 m pc ls (.int p3 :: .int p2 :: .int p1 :: .ref b :: rest)) :=
  ro_call (n := 3) (ci := 1) hF (m1_compare l D H b hv ht dA mv ks f2 f3 f4 hP p1 p2 p3 r hJ) (lw_V q269 q270 q271 q34 q272) (by decide +kernel) rfl rfl hR (xR.of hP 0 rfl) hK rfl rfl rfl hsz rfl hW hdg hf kk
theorem kL0_digits {p : Program} {l : Launch} {e : Env} {R : Room} {s : State} {m : MethodId} {args : Array Value} {below : List Frame} {meth : Method} {c : Code} {H : Heap} {locs : List Loc} {cells slots : Nat} {Q : State → Prop} {cc : ByteArray} {nL pc : Nat} {ls : Array Slot} {rest : List Value} {D : va_G} {b hk : Nat} {dA : ClassId} {f0 : Int32} {ks : Nat → Int32} {f2 : Int32} {f3 : Int32} {A : Nat → Prop} {Hs : Heap} (hF : CallFix p m c cc nL s args lw_all R_law) (hP : va_P D vwCl (W0 b hk dA f0 ks f2 f3) H) (hK : va_K D vwCl [(dA, .int)] s) (hAd : dA0 A b hk) {p1 : Int32} {r : Int32} {gf2 : Int32} {gf3 : Int32} (hJ : J0_digits f2 f3 p1 = some (r, gf2, gf3)) (hsz : ls.size = nL) (hW : (rest.map fun v => v.category).sum ≤ 8) (hdg : decode cc pc = .ok (.invokevirtual 33, 3)) (hR : 5 + 1 ≤ R.frames ∧ 8 + (2 + 11) + 146 ≤ R.locals) (hf : cells ≤ R.cells ∧ slots ≤ R.slots) (hS : va_S A Hs H locs) (kk : ∀ (H1 : Heap) (locs1 : List Loc), va_P D vwCl (W0 b hk dA f0 ks gf2 gf3) H1 → (∀ q : Nat, q < H.size → q ≠ b → q ≠ hk → H1[q]? = H[q]?) → va_S A Hs H1 locs1 → W p l e R s m args below meth c H1 locs1 cells slots Q (F0 m (pc + 3) ls (.int r :: rest))) : W p l e R s m args below meth c H locs cells slots Q (F0 m pc ls (.int p1 :: .ref b :: rest)) :=
  wr_call (n := 1) (ci := 0) hF (m0_digits l D H b hk dA f0 ks f2 f3 (fun q => q = b ∨ q = hk) ⟨hAd.1, Or.inl rfl, Or.inr rfl⟩ hP p1 r _ _ hJ) (lw_V q117 q118 q119 q33 q120) (by decide +kernel) rfl rfl hR (xR.of hP 0 rfl) hK rfl rfl rfl hsz rfl hW hdg hf hS (fun q h => by rcases h with rfl | rfl <;> first | exact hAd.2.1 | exact hAd.2.2) (fun H1 locs1 h1 _ h3 h4 => kk H1 locs1 h1 (fun q hq n1 n2 => h3 q hq (fun h => by rcases h with h1 | h1 <;> first | exact n1 h1 | exact n2 h1)) h4)
theorem kL1_digits {p : Program} {l : Launch} {e : Env} {R : Room} {s : State} {m : MethodId} {args : Array Value} {below : List Frame} {meth : Method} {c : Code} {H : Heap} {locs : List Loc} {cells slots : Nat} {Q : State → Prop} {cc : ByteArray} {nL pc : Nat} {ls : Array Slot} {rest : List Value} {D : va_G} {b hv ht : Nat} {dA : ClassId} {mv : Nat → Int32} {ks : Nat → Int32} {f2 : Int32} {f3 : Int32} {f4 : Int32} {A : Nat → Prop} {Hs : Heap} (hF : CallFix p m c cc nL s args lw_all R_law) (hP : va_P D vwCl (W1 b hv ht dA mv ks f2 f3 f4) H) (hK : va_K D vwCl [(dA, .int)] s) (hAd : dA1 A b hv ht) {p1 : Int32} {r : Int32} {gf3 : Int32} {gf4 : Int32} (hJ : J1_digits mv f3 f4 p1 = some (r, gf3, gf4)) (hsz : ls.size = nL) (hW : (rest.map fun v => v.category).sum ≤ 8) (hdg : decode cc pc = .ok (.invokevirtual 36, 3)) (hR : 5 + 1 ≤ R.frames ∧ 8 + (2 + 11) + 132 ≤ R.locals) (hf : cells ≤ R.cells ∧ slots ≤ R.slots) (hS : va_S A Hs H locs) (kk : ∀ (H1 : Heap) (locs1 : List Loc), va_P D vwCl (W1 b hv ht dA mv ks f2 gf3 gf4) H1 → (∀ q : Nat, q < H.size → q ≠ b → q ≠ hv → q ≠ ht → H1[q]? = H[q]?) → va_S A Hs H1 locs1 → W p l e R s m args below meth c H1 locs1 cells slots Q (F0 m (pc + 3) ls (.int r :: rest))) : W p l e R s m args below meth c H locs cells slots Q (F0 m pc ls (.int p1 :: .ref b :: rest)) :=
  wr_call (n := 1) (ci := 1) hF (m1_digits l D H b hv ht dA mv ks f2 f3 f4 (fun q => q = b ∨ q = hv ∨ q = ht) ⟨hAd.1, hAd.2.1, hAd.2.2.1, Or.inl rfl, Or.inr (Or.inl rfl), Or.inr (Or.inr rfl)⟩ hP p1 r _ _ hJ) (lw_V q274 q275 q276 q34 q277) (by decide +kernel) rfl rfl hR (xR.of hP 0 rfl) hK rfl rfl rfl hsz rfl hW hdg hf hS (fun q h => by rcases h with rfl | rfl | rfl <;> first | exact hAd.2.2.2.1 | exact hAd.2.2.2.2.1 | exact hAd.2.2.2.2.2) (fun H1 locs1 h1 _ h3 h4 => kk H1 locs1 h1 (fun q hq n1 n2 n3 => h3 q hq (fun h => by rcases h with h1 | h1 | h1 <;> first | exact n1 h1 | exact n2 h1 | exact n3 h1)) h4)
theorem kL0_scale {p : Program} {l : Launch} {e : Env} {R : Room} {s : State} {m : MethodId} {args : Array Value} {below : List Frame} {meth : Method} {c : Code} {H : Heap} {locs : List Loc} {cells slots : Nat} {Q : State → Prop} {cc : ByteArray} {nL pc : Nat} {ls : Array Slot} {rest : List Value} {D : va_G} {b hk : Nat} {dA : ClassId} {f0 : Int32} {ks : Nat → Int32} {f2 : Int32} {f3 : Int32} {A : Nat → Prop} {Hs : Heap} (hF : CallFix p m c cc nL s args lw_all R_law) (hP : va_P D vwCl (W0 b hk dA f0 ks f2 f3) H) (hK : va_K D vwCl [(dA, .int)] s) (hAd : dA0 A b hk) {p1 : Int32} {r : Int32} {gf2 : Int32} {gf3 : Int32} (hJ : J0_scale f2 f3 p1 = some (r, gf2, gf3)) (hsz : ls.size = nL) (hW : (rest.map fun v => v.category).sum ≤ 8) (hdg : decode cc pc = .ok (.invokevirtual 37, 3)) (hR : 5 + 1 ≤ R.frames ∧ 8 + (2 + 11) + 146 ≤ R.locals) (hf : cells ≤ R.cells ∧ slots ≤ R.slots) (hS : va_S A Hs H locs) (kk : ∀ (H1 : Heap) (locs1 : List Loc), va_P D vwCl (W0 b hk dA f0 ks gf2 gf3) H1 → (∀ q : Nat, q < H.size → q ≠ b → q ≠ hk → H1[q]? = H[q]?) → va_S A Hs H1 locs1 → W p l e R s m args below meth c H1 locs1 cells slots Q (F0 m (pc + 3) ls (.int r :: rest))) : W p l e R s m args below meth c H locs cells slots Q (F0 m pc ls (.int p1 :: .ref b :: rest)) :=
  wr_call (n := 1) (ci := 0) hF (m0_scale l D H b hk dA f0 ks f2 f3 (fun q => q = b ∨ q = hk) ⟨hAd.1, Or.inl rfl, Or.inr rfl⟩ hP p1 r _ _ hJ) (lw_V q150 q151 q152 q33 q153) (by decide +kernel) rfl rfl hR (xR.of hP 0 rfl) hK rfl rfl rfl hsz rfl hW hdg hf hS (fun q h => by rcases h with rfl | rfl <;> first | exact hAd.2.1 | exact hAd.2.2) (fun H1 locs1 h1 _ h3 h4 => kk H1 locs1 h1 (fun q hq n1 n2 => h3 q hq (fun h => by rcases h with h1 | h1 <;> first | exact n1 h1 | exact n2 h1)) h4)
theorem kL1_scale {p : Program} {l : Launch} {e : Env} {R : Room} {s : State} {m : MethodId} {args : Array Value} {below : List Frame} {meth : Method} {c : Code} {H : Heap} {locs : List Loc} {cells slots : Nat} {Q : State → Prop} {cc : ByteArray} {nL pc : Nat} {ls : Array Slot} {rest : List Value} {D : va_G} {b hv ht : Nat} {dA : ClassId} {mv : Nat → Int32} {ks : Nat → Int32} {f2 : Int32} {f3 : Int32} {f4 : Int32} {A : Nat → Prop} {Hs : Heap} (hF : CallFix p m c cc nL s args lw_all R_law) (hP : va_P D vwCl (W1 b hv ht dA mv ks f2 f3 f4) H) (hK : va_K D vwCl [(dA, .int)] s) (hAd : dA1 A b hv ht) {p1 : Int32} {r : Int32} {gf3 : Int32} {gf4 : Int32} (hJ : J1_scale mv f3 f4 p1 = some (r, gf3, gf4)) (hsz : ls.size = nL) (hW : (rest.map fun v => v.category).sum ≤ 8) (hdg : decode cc pc = .ok (.invokevirtual 40, 3)) (hR : 5 + 1 ≤ R.frames ∧ 8 + (2 + 11) + 132 ≤ R.locals) (hf : cells ≤ R.cells ∧ slots ≤ R.slots) (hS : va_S A Hs H locs) (kk : ∀ (H1 : Heap) (locs1 : List Loc), va_P D vwCl (W1 b hv ht dA mv ks f2 gf3 gf4) H1 → (∀ q : Nat, q < H.size → q ≠ b → q ≠ hv → q ≠ ht → H1[q]? = H[q]?) → va_S A Hs H1 locs1 → W p l e R s m args below meth c H1 locs1 cells slots Q (F0 m (pc + 3) ls (.int r :: rest))) : W p l e R s m args below meth c H locs cells slots Q (F0 m pc ls (.int p1 :: .ref b :: rest)) :=
  wr_call (n := 1) (ci := 1) hF (m1_scale l D H b hv ht dA mv ks f2 f3 f4 (fun q => q = b ∨ q = hv ∨ q = ht) ⟨hAd.1, hAd.2.1, hAd.2.2.1, Or.inl rfl, Or.inr (Or.inl rfl), Or.inr (Or.inr rfl)⟩ hP p1 r _ _ hJ) (lw_V q297 q298 q299 q34 q300) (by decide +kernel) rfl rfl hR (xR.of hP 0 rfl) hK rfl rfl rfl hsz rfl hW hdg hf hS (fun q h => by rcases h with rfl | rfl | rfl <;> first | exact hAd.2.2.2.1 | exact hAd.2.2.2.2.1 | exact hAd.2.2.2.2.2) (fun H1 locs1 h1 _ h3 h4 => kk H1 locs1 h1 (fun q hq n1 n2 n3 => h3 q hq (fun h => by rcases h with h1 | h1 | h1 <;> first | exact n1 h1 | exact n2 h1 | exact n3 h1)) h4)
theorem kL0_length {p : Program} {l : Launch} {e : Env} {R : Room} {s : State} {m : MethodId} {args : Array Value} {below : List Frame} {meth : Method} {c : Code} {H : Heap} {locs : List Loc} {cells slots : Nat} {Q : State → Prop} {cc : ByteArray} {nL pc : Nat} {ls : Array Slot} {rest : List Value} {D : va_G} {b hk : Nat} {dA : ClassId} {f0 : Int32} {ks : Nat → Int32} {f2 : Int32} {f3 : Int32} {A : Nat → Prop} {Hs : Heap} (hF : CallFix p m c cc nL s args lw_all R_law) (hP : va_P D vwCl (W0 b hk dA f0 ks f2 f3) H) (hK : va_K D vwCl [(dA, .int)] s) (hAd : dA0 A b hk) {p1 : Int32} {r : Int32} {gf2 : Int32} {gf3 : Int32} (hJ : J0_length f2 f3 p1 = some (r, gf2, gf3)) (hsz : ls.size = nL) (hW : (rest.map fun v => v.category).sum ≤ 8) (hdg : decode cc pc = .ok (.invokevirtual 41, 3)) (hR : 5 + 1 ≤ R.frames ∧ 8 + (2 + 11) + 146 ≤ R.locals) (hf : cells ≤ R.cells ∧ slots ≤ R.slots) (hS : va_S A Hs H locs) (kk : ∀ (H1 : Heap) (locs1 : List Loc), va_P D vwCl (W0 b hk dA f0 ks gf2 gf3) H1 → (∀ q : Nat, q < H.size → q ≠ b → q ≠ hk → H1[q]? = H[q]?) → va_S A Hs H1 locs1 → W p l e R s m args below meth c H1 locs1 cells slots Q (F0 m (pc + 3) ls (.int r :: rest))) : W p l e R s m args below meth c H locs cells slots Q (F0 m pc ls (.int p1 :: .ref b :: rest)) :=
  wr_call (n := 1) (ci := 0) hF (m0_length l D H b hk dA f0 ks f2 f3 (fun q => q = b ∨ q = hk) ⟨hAd.1, Or.inl rfl, Or.inr rfl⟩ hP p1 r _ _ hJ) (lw_V q154 q155 q156 q33 q157) (by decide +kernel) rfl rfl hR (xR.of hP 0 rfl) hK rfl rfl rfl hsz rfl hW hdg hf hS (fun q h => by rcases h with rfl | rfl <;> first | exact hAd.2.1 | exact hAd.2.2) (fun H1 locs1 h1 _ h3 h4 => kk H1 locs1 h1 (fun q hq n1 n2 => h3 q hq (fun h => by rcases h with h1 | h1 <;> first | exact n1 h1 | exact n2 h1)) h4)
theorem kL1_length {p : Program} {l : Launch} {e : Env} {R : Room} {s : State} {m : MethodId} {args : Array Value} {below : List Frame} {meth : Method} {c : Code} {H : Heap} {locs : List Loc} {cells slots : Nat} {Q : State → Prop} {cc : ByteArray} {nL pc : Nat} {ls : Array Slot} {rest : List Value} {D : va_G} {b hv ht : Nat} {dA : ClassId} {mv : Nat → Int32} {ks : Nat → Int32} {f2 : Int32} {f3 : Int32} {f4 : Int32} {A : Nat → Prop} {Hs : Heap} (hF : CallFix p m c cc nL s args lw_all R_law) (hP : va_P D vwCl (W1 b hv ht dA mv ks f2 f3 f4) H) (hK : va_K D vwCl [(dA, .int)] s) (hAd : dA1 A b hv ht) {p1 : Int32} {r : Int32} {gf3 : Int32} {gf4 : Int32} (hJ : J1_length mv f3 f4 p1 = some (r, gf3, gf4)) (hsz : ls.size = nL) (hW : (rest.map fun v => v.category).sum ≤ 8) (hdg : decode cc pc = .ok (.invokevirtual 44, 3)) (hR : 5 + 1 ≤ R.frames ∧ 8 + (2 + 11) + 132 ≤ R.locals) (hf : cells ≤ R.cells ∧ slots ≤ R.slots) (hS : va_S A Hs H locs) (kk : ∀ (H1 : Heap) (locs1 : List Loc), va_P D vwCl (W1 b hv ht dA mv ks f2 gf3 gf4) H1 → (∀ q : Nat, q < H.size → q ≠ b → q ≠ hv → q ≠ ht → H1[q]? = H[q]?) → va_S A Hs H1 locs1 → W p l e R s m args below meth c H1 locs1 cells slots Q (F0 m (pc + 3) ls (.int r :: rest))) : W p l e R s m args below meth c H locs cells slots Q (F0 m pc ls (.int p1 :: .ref b :: rest)) :=
  wr_call (n := 1) (ci := 1) hF (m1_length l D H b hv ht dA mv ks f2 f3 f4 (fun q => q = b ∨ q = hv ∨ q = ht) ⟨hAd.1, hAd.2.1, hAd.2.2.1, Or.inl rfl, Or.inr (Or.inl rfl), Or.inr (Or.inr rfl)⟩ hP p1 r _ _ hJ) (lw_V q301 q302 q303 q34 q304) (by decide +kernel) rfl rfl hR (xR.of hP 0 rfl) hK rfl rfl rfl hsz rfl hW hdg hf hS (fun q h => by rcases h with rfl | rfl | rfl <;> first | exact hAd.2.2.2.1 | exact hAd.2.2.2.2.1 | exact hAd.2.2.2.2.2) (fun H1 locs1 h1 _ h3 h4 => kk H1 locs1 h1 (fun q hq n1 n2 n3 => h3 q hq (fun h => by rcases h with h1 | h1 | h1 <;> first | exact n1 h1 | exact n2 h1 | exact n3 h1)) h4)
theorem kL0_written {p : Program} {l : Launch} {e : Env} {R : Room} {s : State} {m : MethodId} {args : Array Value} {below : List Frame} {meth : Method} {c : Code} {H : Heap} {locs : List Loc} {cells slots : Nat} {Q : State → Prop} {cc : ByteArray} {nL pc : Nat} {ls : Array Slot} {rest : List Value} {D : va_G} {tys : List (ClassId × FieldType)} {b : Nat} (hF : CallFix p m c cc nL s args lw_all R_law) (hr : xR D H b 0) (hK : va_K D vwCl tys s) {p1 : Int32} {p2 : Int32} {r : Int32} (hJ : J0_written p1 p2 = some r) (hsz : ls.size = nL) (hW : (rest.map fun v => v.category).sum ≤ 8) (hdg : decode cc pc = .ok (.invokevirtual 45, 3)) (hR : 2 + 1 ≤ R.frames ∧ 8 + (3 + 11) + 53 ≤ R.locals) (hf : cells ≤ R.cells ∧ slots ≤ R.slots) (kk : W p l e R s m args below meth c H locs cells slots Q (F0 m (pc + 3) ls (.int r :: rest))) : W p l e R s m args below meth c H locs cells slots Q (F0 m pc ls (.int p2 :: .int p1 :: .ref b :: rest)) :=
  ro_call (n := 2) (ci := 0) hF (m0_written l D tys H b hr p1 p2 r hJ) (lw_V q158 q159 q160 q33 q161) (by decide +kernel) rfl rfl hR hr hK rfl rfl rfl hsz rfl hW hdg hf kk
theorem kL1_written {p : Program} {l : Launch} {e : Env} {R : Room} {s : State} {m : MethodId} {args : Array Value} {below : List Frame} {meth : Method} {c : Code} {H : Heap} {locs : List Loc} {cells slots : Nat} {Q : State → Prop} {cc : ByteArray} {nL pc : Nat} {ls : Array Slot} {rest : List Value} {D : va_G} {b hv ht : Nat} {dA : ClassId} {mv : Nat → Int32} {ks : Nat → Int32} {f2 : Int32} {f3 : Int32} {f4 : Int32} (hF : CallFix p m c cc nL s args lw_all R_law) (hP : va_P D vwCl (W1 b hv ht dA mv ks f2 f3 f4) H) (hK : va_K D vwCl [(dA, .int)] s) {p1 : Int32} {p2 : Int32} {r : Int32} (hJ : J1_written mv p1 p2 = some r) (hsz : ls.size = nL) (hW : (rest.map fun v => v.category).sum ≤ 8) (hdg : decode cc pc = .ok (.invokevirtual 48, 3)) (hR : 2 + 1 ≤ R.frames ∧ 8 + (3 + 11) + 53 ≤ R.locals) (hf : cells ≤ R.cells ∧ slots ≤ R.slots) (kk : W p l e R s m args below meth c H locs cells slots Q (F0 m (pc + 3) ls (.int r :: rest))) : W p l e R s m args below meth c H locs cells slots Q (F0 m pc ls (.int p2 :: .int p1 :: .ref b :: rest)) :=
  ro_call (n := 2) (ci := 1) hF (m1_written l D H b hv ht dA mv ks f2 f3 f4 hP p1 p2 r hJ) (lw_V q305 q306 q307 q34 q308) (by decide +kernel) rfl rfl hR (xR.of hP 0 rfl) hK rfl rfl rfl hsz rfl hW hdg hf kk
theorem kL0_places {p : Program} {l : Launch} {e : Env} {R : Room} {s : State} {m : MethodId} {args : Array Value} {below : List Frame} {meth : Method} {c : Code} {H : Heap} {locs : List Loc} {cells slots : Nat} {Q : State → Prop} {cc : ByteArray} {nL pc : Nat} {ls : Array Slot} {rest : List Value} {D : va_G} {tys : List (ClassId × FieldType)} {b : Nat} (hF : CallFix p m c cc nL s args lw_all R_law) (hr : xR D H b 0) (hK : va_K D vwCl tys s) {p1 : Int32} {r : Int32} (hJ : J0_places p1 = some r) (hsz : ls.size = nL) (hW : (rest.map fun v => v.category).sum ≤ 8) (hdg : decode cc pc = .ok (.invokevirtual 49, 3)) (hR : 4 + 1 ≤ R.frames ∧ 8 + (7 + 11) + 96 ≤ R.locals) (hf : cells ≤ R.cells ∧ slots ≤ R.slots) (kk : W p l e R s m args below meth c H locs cells slots Q (F0 m (pc + 3) ls (.int r :: rest))) : W p l e R s m args below meth c H locs cells slots Q (F0 m pc ls (.int p1 :: .ref b :: rest)) :=
  ro_call (n := 1) (ci := 0) hF (m0_places l D tys H b hr p1 r hJ) (lw_V q168 q169 q170 q33 q171) (by decide +kernel) rfl rfl hR hr hK rfl rfl rfl hsz rfl hW hdg hf kk
theorem kL1_places {p : Program} {l : Launch} {e : Env} {R : Room} {s : State} {m : MethodId} {args : Array Value} {below : List Frame} {meth : Method} {c : Code} {H : Heap} {locs : List Loc} {cells slots : Nat} {Q : State → Prop} {cc : ByteArray} {nL pc : Nat} {ls : Array Slot} {rest : List Value} {D : va_G} {b hv ht : Nat} {dA : ClassId} {mv : Nat → Int32} {ks : Nat → Int32} {f2 : Int32} {f3 : Int32} {f4 : Int32} (hF : CallFix p m c cc nL s args lw_all R_law) (hP : va_P D vwCl (W1 b hv ht dA mv ks f2 f3 f4) H) (hK : va_K D vwCl [(dA, .int)] s) {p1 : Int32} {r : Int32} (hJ : J1_places mv p1 = some r) (hsz : ls.size = nL) (hW : (rest.map fun v => v.category).sum ≤ 8) (hdg : decode cc pc = .ok (.invokevirtual 52, 3)) (hR : 3 + 1 ≤ R.frames ∧ 8 + (4 + 11) + 79 ≤ R.locals) (hf : cells ≤ R.cells ∧ slots ≤ R.slots) (kk : W p l e R s m args below meth c H locs cells slots Q (F0 m (pc + 3) ls (.int r :: rest))) : W p l e R s m args below meth c H locs cells slots Q (F0 m pc ls (.int p1 :: .ref b :: rest)) :=
  ro_call (n := 1) (ci := 1) hF (m1_places l D H b hv ht dA mv ks f2 f3 f4 hP p1 r hJ) (lw_V q314 q315 q316 q34 q317) (by decide +kernel) rfl rfl hR (xR.of hP 0 rfl) hK rfl rfl rfl hsz rfl hW hdg hf kk
theorem kL0_type {p : Program} {l : Launch} {e : Env} {R : Room} {s : State} {m : MethodId} {args : Array Value} {below : List Frame} {meth : Method} {c : Code} {H : Heap} {locs : List Loc} {cells slots : Nat} {Q : State → Prop} {cc : ByteArray} {nL pc : Nat} {ls : Array Slot} {rest : List Value} {D : va_G} {b hk : Nat} {dA : ClassId} {f0 : Int32} {ks : Nat → Int32} {f2 : Int32} {f3 : Int32} {A : Nat → Prop} {Hs : Heap} (hF : CallFix p m c cc nL s args lw_all R_law) (hP : va_P D vwCl (W0 b hk dA f0 ks f2 f3) H) (hK : va_K D vwCl [(dA, .int)] s) (hAd : dA0 A b hk) {p1 : Int32} {r : Int32} {gf0 : Int32} {gks : Nat → Int32} (hJ : J0_type f0 ks p1 = some (r, gf0, gks)) (hsz : ls.size = nL) (hW : (rest.map fun v => v.category).sum ≤ 8) (hdg : decode cc pc = .ok (.invokevirtual 53, 3)) (hR : 1 + 1 ≤ R.frames ∧ 8 + (4 + 11) + 22 ≤ R.locals) (hf : cells ≤ R.cells ∧ slots ≤ R.slots) (hS : va_S A Hs H locs) (kk : ∀ (H1 : Heap) (locs1 : List Loc), va_P D vwCl (W0 b hk dA gf0 gks f2 f3) H1 → (∀ q : Nat, q < H.size → q ≠ b → q ≠ hk → H1[q]? = H[q]?) → va_S A Hs H1 locs1 → W p l e R s m args below meth c H1 locs1 cells slots Q (F0 m (pc + 3) ls (.int r :: rest))) : W p l e R s m args below meth c H locs cells slots Q (F0 m pc ls (.int p1 :: .ref b :: rest)) :=
  wr_call (n := 1) (ci := 0) hF (m0_type l D H b hk dA f0 ks f2 f3 (fun q => q = b ∨ q = hk) ⟨hAd.1, Or.inl rfl, Or.inr rfl⟩ hP p1 r _ _ hJ) (lw_V q172 q173 q174 q33 q175) (by decide +kernel) rfl rfl hR (xR.of hP 0 rfl) hK rfl rfl rfl hsz rfl hW hdg hf hS (fun q h => by rcases h with rfl | rfl <;> first | exact hAd.2.1 | exact hAd.2.2) (fun H1 locs1 h1 _ h3 h4 => kk H1 locs1 h1 (fun q hq n1 n2 => h3 q hq (fun h => by rcases h with h1 | h1 <;> first | exact n1 h1 | exact n2 h1)) h4)
theorem kL1_type {p : Program} {l : Launch} {e : Env} {R : Room} {s : State} {m : MethodId} {args : Array Value} {below : List Frame} {meth : Method} {c : Code} {H : Heap} {locs : List Loc} {cells slots : Nat} {Q : State → Prop} {cc : ByteArray} {nL pc : Nat} {ls : Array Slot} {rest : List Value} {D : va_G} {b hv ht : Nat} {dA : ClassId} {mv : Nat → Int32} {ks : Nat → Int32} {f2 : Int32} {f3 : Int32} {f4 : Int32} {A : Nat → Prop} {Hs : Heap} (hF : CallFix p m c cc nL s args lw_all R_law) (hP : va_P D vwCl (W1 b hv ht dA mv ks f2 f3 f4) H) (hK : va_K D vwCl [(dA, .int)] s) (hAd : dA1 A b hv ht) {p1 : Int32} {r : Int32} {gks : Nat → Int32} {gf2 : Int32} (hJ : J1_type ks f2 p1 = some (r, gks, gf2)) (hsz : ls.size = nL) (hW : (rest.map fun v => v.category).sum ≤ 8) (hdg : decode cc pc = .ok (.invokevirtual 56, 3)) (hR : 1 + 1 ≤ R.frames ∧ 8 + (3 + 11) + 24 ≤ R.locals) (hf : cells ≤ R.cells ∧ slots ≤ R.slots) (hS : va_S A Hs H locs) (kk : ∀ (H1 : Heap) (locs1 : List Loc), va_P D vwCl (W1 b hv ht dA mv gks gf2 f3 f4) H1 → (∀ q : Nat, q < H.size → q ≠ b → q ≠ hv → q ≠ ht → H1[q]? = H[q]?) → va_S A Hs H1 locs1 → W p l e R s m args below meth c H1 locs1 cells slots Q (F0 m (pc + 3) ls (.int r :: rest))) : W p l e R s m args below meth c H locs cells slots Q (F0 m pc ls (.int p1 :: .ref b :: rest)) :=
  wr_call (n := 1) (ci := 1) hF (m1_type l D H b hv ht dA mv ks f2 f3 f4 (fun q => q = b ∨ q = hv ∨ q = ht) ⟨hAd.1, hAd.2.1, hAd.2.2.1, Or.inl rfl, Or.inr (Or.inl rfl), Or.inr (Or.inr rfl)⟩ hP p1 r _ _ hJ) (lw_V q318 q319 q320 q34 q321) (by decide +kernel) rfl rfl hR (xR.of hP 0 rfl) hK rfl rfl rfl hsz rfl hW hdg hf hS (fun q h => by rcases h with rfl | rfl | rfl <;> first | exact hAd.2.2.2.1 | exact hAd.2.2.2.2.1 | exact hAd.2.2.2.2.2) (fun H1 locs1 h1 _ h3 h4 => kk H1 locs1 h1 (fun q hq n1 n2 n3 => h3 q hq (fun h => by rcases h with h1 | h1 | h1 <;> first | exact n1 h1 | exact n2 h1 | exact n3 h1)) h4)
theorem kL0_back {p : Program} {l : Launch} {e : Env} {R : Room} {s : State} {m : MethodId} {args : Array Value} {below : List Frame} {meth : Method} {c : Code} {H : Heap} {locs : List Loc} {cells slots : Nat} {Q : State → Prop} {cc : ByteArray} {nL pc : Nat} {ls : Array Slot} {rest : List Value} {D : va_G} {b hk : Nat} {dA : ClassId} {f0 : Int32} {ks : Nat → Int32} {f2 : Int32} {f3 : Int32} {A : Nat → Prop} {Hs : Heap} (hF : CallFix p m c cc nL s args lw_all R_law) (hP : va_P D vwCl (W0 b hk dA f0 ks f2 f3) H) (hK : va_K D vwCl [(dA, .int)] s) (hAd : dA0 A b hk)  {r : Int32} {gf0 : Int32} (hJ : J0_back f0 ks = some (r, gf0)) (hsz : ls.size = nL) (hW : (rest.map fun v => v.category).sum ≤ 8) (hdg : decode cc pc = .ok (.invokevirtual 57, 3)) (hR : 0 + 1 ≤ R.frames ∧ 8 + (1 + 11) + 0 ≤ R.locals) (hf : cells ≤ R.cells ∧ slots ≤ R.slots) (hS : va_S A Hs H locs) (kk : ∀ (H1 : Heap) (locs1 : List Loc), va_P D vwCl (W0 b hk dA gf0 ks f2 f3) H1 → (∀ q : Nat, q < H.size → q ≠ b → q ≠ hk → H1[q]? = H[q]?) → va_S A Hs H1 locs1 → W p l e R s m args below meth c H1 locs1 cells slots Q (F0 m (pc + 3) ls (.int r :: rest))) : W p l e R s m args below meth c H locs cells slots Q (F0 m pc ls (.ref b :: rest)) :=
  wr_call (n := 0) (ci := 0) hF (m0_back l D H b hk dA f0 ks f2 f3 (fun q => q = b ∨ q = hk) ⟨hAd.1, Or.inl rfl, Or.inr rfl⟩ hP  r _ hJ) (lw_V q180 q181 q182 q33 q183) (by decide +kernel) rfl rfl hR (xR.of hP 0 rfl) hK rfl rfl rfl hsz rfl hW hdg hf hS (fun q h => by rcases h with rfl | rfl <;> first | exact hAd.2.1 | exact hAd.2.2) (fun H1 locs1 h1 _ h3 h4 => kk H1 locs1 h1 (fun q hq n1 n2 => h3 q hq (fun h => by rcases h with h1 | h1 <;> first | exact n1 h1 | exact n2 h1)) h4)
theorem kL1_back {p : Program} {l : Launch} {e : Env} {R : Room} {s : State} {m : MethodId} {args : Array Value} {below : List Frame} {meth : Method} {c : Code} {H : Heap} {locs : List Loc} {cells slots : Nat} {Q : State → Prop} {cc : ByteArray} {nL pc : Nat} {ls : Array Slot} {rest : List Value} {D : va_G} {b hv ht : Nat} {dA : ClassId} {mv : Nat → Int32} {ks : Nat → Int32} {f2 : Int32} {f3 : Int32} {f4 : Int32} {A : Nat → Prop} {Hs : Heap} (hF : CallFix p m c cc nL s args lw_all R_law) (hP : va_P D vwCl (W1 b hv ht dA mv ks f2 f3 f4) H) (hK : va_K D vwCl [(dA, .int)] s) (hAd : dA1 A b hv ht)  {r : Int32} {gf2 : Int32} (hJ : J1_back ks f2 = some (r, gf2)) (hsz : ls.size = nL) (hW : (rest.map fun v => v.category).sum ≤ 8) (hdg : decode cc pc = .ok (.invokevirtual 61, 3)) (hR : 0 + 1 ≤ R.frames ∧ 8 + (1 + 11) + 0 ≤ R.locals) (hf : cells ≤ R.cells ∧ slots ≤ R.slots) (hS : va_S A Hs H locs) (kk : ∀ (H1 : Heap) (locs1 : List Loc), va_P D vwCl (W1 b hv ht dA mv ks gf2 f3 f4) H1 → (∀ q : Nat, q < H.size → q ≠ b → q ≠ hv → q ≠ ht → H1[q]? = H[q]?) → va_S A Hs H1 locs1 → W p l e R s m args below meth c H1 locs1 cells slots Q (F0 m (pc + 3) ls (.int r :: rest))) : W p l e R s m args below meth c H locs cells slots Q (F0 m pc ls (.ref b :: rest)) :=
  wr_call (n := 0) (ci := 1) hF (m1_back l D H b hv ht dA mv ks f2 f3 f4 (fun q => q = b ∨ q = hv ∨ q = ht) ⟨hAd.1, hAd.2.1, hAd.2.2.1, Or.inl rfl, Or.inr (Or.inl rfl), Or.inr (Or.inr rfl)⟩ hP  r _ hJ) (lw_V q326 q327 q328 q34 q329) (by decide +kernel) rfl rfl hR (xR.of hP 0 rfl) hK rfl rfl rfl hsz rfl hW hdg hf hS (fun q h => by rcases h with rfl | rfl | rfl <;> first | exact hAd.2.2.2.1 | exact hAd.2.2.2.2.1 | exact hAd.2.2.2.2.2) (fun H1 locs1 h1 _ h3 h4 => kk H1 locs1 h1 (fun q hq n1 n2 n3 => h3 q hq (fun h => by rcases h with h1 | h1 | h1 <;> first | exact n1 h1 | exact n2 h1 | exact n3 h1)) h4)
theorem kL0_clear {p : Program} {l : Launch} {e : Env} {R : Room} {s : State} {m : MethodId} {args : Array Value} {below : List Frame} {meth : Method} {c : Code} {H : Heap} {locs : List Loc} {cells slots : Nat} {Q : State → Prop} {cc : ByteArray} {nL pc : Nat} {ls : Array Slot} {rest : List Value} {D : va_G} {b hk : Nat} {dA : ClassId} {f0 : Int32} {ks : Nat → Int32} {f2 : Int32} {f3 : Int32} {A : Nat → Prop} {Hs : Heap} (hF : CallFix p m c cc nL s args lw_all R_law) (hP : va_P D vwCl (W0 b hk dA f0 ks f2 f3) H) (hK : va_K D vwCl [(dA, .int)] s) (hAd : dA0 A b hk)  {gf0 : Int32} (hJ : J0_clear f0 = some gf0) (hsz : ls.size = nL) (hW : (rest.map fun v => v.category).sum ≤ 8) (hdg : decode cc pc = .ok (.invokevirtual 62, 3)) (hR : 0 + 1 ≤ R.frames ∧ 8 + (1 + 11) + 0 ≤ R.locals) (hf : cells ≤ R.cells ∧ slots ≤ R.slots) (hS : va_S A Hs H locs) (kk : ∀ (H1 : Heap) (locs1 : List Loc), va_P D vwCl (W0 b hk dA gf0 ks f2 f3) H1 → (∀ q : Nat, q < H.size → q ≠ b → q ≠ hk → H1[q]? = H[q]?) → va_S A Hs H1 locs1 → W p l e R s m args below meth c H1 locs1 cells slots Q (F0 m (pc + 3) ls rest)) : W p l e R s m args below meth c H locs cells slots Q (F0 m pc ls (.ref b :: rest)) :=
  wr_call (n := 0) (ci := 0) hF (m0_clear l D H b hk dA f0 ks f2 f3 (fun q => q = b ∨ q = hk) ⟨hAd.1, Or.inl rfl, Or.inr rfl⟩ hP  _ hJ) (lw_V q184 q185 q186 q33 q187) (by decide +kernel) rfl rfl hR (xR.of hP 0 rfl) hK rfl rfl rfl hsz rfl hW hdg hf hS (fun q h => by rcases h with rfl | rfl <;> first | exact hAd.2.1 | exact hAd.2.2) (fun H1 locs1 h1 _ h3 h4 => kk H1 locs1 h1 (fun q hq n1 n2 => h3 q hq (fun h => by rcases h with h1 | h1 <;> first | exact n1 h1 | exact n2 h1)) h4)
theorem kL1_clear {p : Program} {l : Launch} {e : Env} {R : Room} {s : State} {m : MethodId} {args : Array Value} {below : List Frame} {meth : Method} {c : Code} {H : Heap} {locs : List Loc} {cells slots : Nat} {Q : State → Prop} {cc : ByteArray} {nL pc : Nat} {ls : Array Slot} {rest : List Value} {D : va_G} {b hv ht : Nat} {dA : ClassId} {mv : Nat → Int32} {ks : Nat → Int32} {f2 : Int32} {f3 : Int32} {f4 : Int32} {A : Nat → Prop} {Hs : Heap} (hF : CallFix p m c cc nL s args lw_all R_law) (hP : va_P D vwCl (W1 b hv ht dA mv ks f2 f3 f4) H) (hK : va_K D vwCl [(dA, .int)] s) (hAd : dA1 A b hv ht)  {gf2 : Int32} (hJ : J1_clear f2 = some gf2) (hsz : ls.size = nL) (hW : (rest.map fun v => v.category).sum ≤ 8) (hdg : decode cc pc = .ok (.invokevirtual 65, 3)) (hR : 0 + 1 ≤ R.frames ∧ 8 + (1 + 11) + 0 ≤ R.locals) (hf : cells ≤ R.cells ∧ slots ≤ R.slots) (hS : va_S A Hs H locs) (kk : ∀ (H1 : Heap) (locs1 : List Loc), va_P D vwCl (W1 b hv ht dA mv ks gf2 f3 f4) H1 → (∀ q : Nat, q < H.size → q ≠ b → q ≠ hv → q ≠ ht → H1[q]? = H[q]?) → va_S A Hs H1 locs1 → W p l e R s m args below meth c H1 locs1 cells slots Q (F0 m (pc + 3) ls rest)) : W p l e R s m args below meth c H locs cells slots Q (F0 m pc ls (.ref b :: rest)) :=
  wr_call (n := 0) (ci := 1) hF (m1_clear l D H b hv ht dA mv ks f2 f3 f4 (fun q => q = b ∨ q = hv ∨ q = ht) ⟨hAd.1, hAd.2.1, hAd.2.2.1, Or.inl rfl, Or.inr (Or.inl rfl), Or.inr (Or.inr rfl)⟩ hP  _ hJ) (lw_V q330 q331 q332 q34 q333) (by decide +kernel) rfl rfl hR (xR.of hP 0 rfl) hK rfl rfl rfl hsz rfl hW hdg hf hS (fun q h => by rcases h with rfl | rfl | rfl <;> first | exact hAd.2.2.2.1 | exact hAd.2.2.2.2.1 | exact hAd.2.2.2.2.2) (fun H1 locs1 h1 _ h3 h4 => kk H1 locs1 h1 (fun q hq n1 n2 n3 => h3 q hq (fun h => by rcases h with h1 | h1 | h1 <;> first | exact n1 h1 | exact n2 h1 | exact n3 h1)) h4)
theorem kL0_typed {p : Program} {l : Launch} {e : Env} {R : Room} {s : State} {m : MethodId} {args : Array Value} {below : List Frame} {meth : Method} {c : Code} {H : Heap} {locs : List Loc} {cells slots : Nat} {Q : State → Prop} {cc : ByteArray} {nL pc : Nat} {ls : Array Slot} {rest : List Value} {D : va_G} {b hk : Nat} {dA : ClassId} {f0 : Int32} {ks : Nat → Int32} {f2 : Int32} {f3 : Int32} (hF : CallFix p m c cc nL s args lw_all R_law) (hP : va_P D vwCl (W0 b hk dA f0 ks f2 f3) H) (hK : va_K D vwCl [(dA, .int)] s)  {r : Int32} (hJ : J0_typed f0 ks = some r) (hsz : ls.size = nL) (hW : (rest.map fun v => v.category).sum ≤ 8) (hdg : decode cc pc = .ok (.invokevirtual 66, 3)) (hR : 4 + 1 ≤ R.frames ∧ 8 + (2 + 11) + 97 ≤ R.locals) (hf : cells ≤ R.cells ∧ slots ≤ R.slots) (kk : W p l e R s m args below meth c H locs cells slots Q (F0 m (pc + 3) ls (.int r :: rest))) : W p l e R s m args below meth c H locs cells slots Q (F0 m pc ls (.ref b :: rest)) :=
  ro_call (n := 0) (ci := 0) hF (m0_typed l D H b hk dA f0 ks f2 f3 hP  r hJ) (lw_V q188 q189 q190 q33 q191) (by decide +kernel) rfl rfl hR (xR.of hP 0 rfl) hK rfl rfl rfl hsz rfl hW hdg hf kk
theorem kL1_typed {p : Program} {l : Launch} {e : Env} {R : Room} {s : State} {m : MethodId} {args : Array Value} {below : List Frame} {meth : Method} {c : Code} {H : Heap} {locs : List Loc} {cells slots : Nat} {Q : State → Prop} {cc : ByteArray} {nL pc : Nat} {ls : Array Slot} {rest : List Value} {D : va_G} {b hv ht : Nat} {dA : ClassId} {mv : Nat → Int32} {ks : Nat → Int32} {f2 : Int32} {f3 : Int32} {f4 : Int32} (hF : CallFix p m c cc nL s args lw_all R_law) (hP : va_P D vwCl (W1 b hv ht dA mv ks f2 f3 f4) H) (hK : va_K D vwCl [(dA, .int)] s)  {r : Int32} (hJ : J1_typed mv ks f2 = some r) (hsz : ls.size = nL) (hW : (rest.map fun v => v.category).sum ≤ 8) (hdg : decode cc pc = .ok (.invokevirtual 69, 3)) (hR : 3 + 1 ≤ R.frames ∧ 8 + (2 + 11) + 76 ≤ R.locals) (hf : cells ≤ R.cells ∧ slots ≤ R.slots) (kk : W p l e R s m args below meth c H locs cells slots Q (F0 m (pc + 3) ls (.int r :: rest))) : W p l e R s m args below meth c H locs cells slots Q (F0 m pc ls (.ref b :: rest)) :=
  ro_call (n := 0) (ci := 1) hF (m1_typed l D H b hv ht dA mv ks f2 f3 f4 hP  r hJ) (lw_V q334 q335 q336 q34 q337) (by decide +kernel) rfl rfl hR (xR.of hP 0 rfl) hK rfl rfl rfl hsz rfl hW hdg hf kk
theorem kL0_typedDigits {p : Program} {l : Launch} {e : Env} {R : Room} {s : State} {m : MethodId} {args : Array Value} {below : List Frame} {meth : Method} {c : Code} {H : Heap} {locs : List Loc} {cells slots : Nat} {Q : State → Prop} {cc : ByteArray} {nL pc : Nat} {ls : Array Slot} {rest : List Value} {D : va_G} {b hk : Nat} {dA : ClassId} {f0 : Int32} {ks : Nat → Int32} {f2 : Int32} {f3 : Int32} (hF : CallFix p m c cc nL s args lw_all R_law) (hP : va_P D vwCl (W0 b hk dA f0 ks f2 f3) H) (hK : va_K D vwCl [(dA, .int)] s)  {r : Int32} (hJ : J0_typedDigits f0 ks = some r) (hsz : ls.size = nL) (hW : (rest.map fun v => v.category).sum ≤ 8) (hdg : decode cc pc = .ok (.invokevirtual 70, 3)) (hR : 1 + 1 ≤ R.frames ∧ 8 + (1 + 11) + 22 ≤ R.locals) (hf : cells ≤ R.cells ∧ slots ≤ R.slots) (kk : W p l e R s m args below meth c H locs cells slots Q (F0 m (pc + 3) ls (.int r :: rest))) : W p l e R s m args below meth c H locs cells slots Q (F0 m pc ls (.ref b :: rest)) :=
  ro_call (n := 0) (ci := 0) hF (m0_typedDigits l D H b hk dA f0 ks f2 f3 hP  r hJ) (lw_V q204 q205 q206 q33 q207) (by decide +kernel) rfl rfl hR (xR.of hP 0 rfl) hK rfl rfl rfl hsz rfl hW hdg hf kk
theorem kL1_typedDigits {p : Program} {l : Launch} {e : Env} {R : Room} {s : State} {m : MethodId} {args : Array Value} {below : List Frame} {meth : Method} {c : Code} {H : Heap} {locs : List Loc} {cells slots : Nat} {Q : State → Prop} {cc : ByteArray} {nL pc : Nat} {ls : Array Slot} {rest : List Value} {D : va_G} {b hv ht : Nat} {dA : ClassId} {mv : Nat → Int32} {ks : Nat → Int32} {f2 : Int32} {f3 : Int32} {f4 : Int32} (hF : CallFix p m c cc nL s args lw_all R_law) (hP : va_P D vwCl (W1 b hv ht dA mv ks f2 f3 f4) H) (hK : va_K D vwCl [(dA, .int)] s)  {r : Int32} (hJ : J1_typedDigits ks f2 = some r) (hsz : ls.size = nL) (hW : (rest.map fun v => v.category).sum ≤ 8) (hdg : decode cc pc = .ok (.invokevirtual 73, 3)) (hR : 0 + 1 ≤ R.frames ∧ 8 + (3 + 11) + 0 ≤ R.locals) (hf : cells ≤ R.cells ∧ slots ≤ R.slots) (kk : W p l e R s m args below meth c H locs cells slots Q (F0 m (pc + 3) ls (.int r :: rest))) : W p l e R s m args below meth c H locs cells slots Q (F0 m pc ls (.ref b :: rest)) :=
  ro_call (n := 0) (ci := 1) hF (m1_typedDigits l D H b hv ht dA mv ks f2 f3 f4 hP  r hJ) (lw_V q343 q339 q340 q34 q341) (by decide +kernel) rfl rfl hR (xR.of hP 0 rfl) hK rfl rfl rfl hsz rfl hW hdg hf kk
theorem kL0_spare {p : Program} {l : Launch} {e : Env} {R : Room} {s : State} {m : MethodId} {args : Array Value} {below : List Frame} {meth : Method} {c : Code} {H : Heap} {locs : List Loc} {cells slots : Nat} {Q : State → Prop} {cc : ByteArray} {nL pc : Nat} {ls : Array Slot} {rest : List Value} {D : va_G} {b hk : Nat} {dA : ClassId} {f0 : Int32} {ks : Nat → Int32} {f2 : Int32} {f3 : Int32} (hF : CallFix p m c cc nL s args lw_all R_law) (hP : va_P D vwCl (W0 b hk dA f0 ks f2 f3) H) (hK : va_K D vwCl [(dA, .int)] s)  {r : Int32} (hJ : J0_spare f0 ks = some r) (hsz : ls.size = nL) (hW : (rest.map fun v => v.category).sum ≤ 8) (hdg : decode cc pc = .ok (.invokevirtual 74, 3)) (hR : 4 + 1 ≤ R.frames ∧ 8 + (9 + 11) + 97 ≤ R.locals) (hf : cells ≤ R.cells ∧ slots ≤ R.slots) (kk : W p l e R s m args below meth c H locs cells slots Q (F0 m (pc + 3) ls (.int r :: rest))) : W p l e R s m args below meth c H locs cells slots Q (F0 m pc ls (.ref b :: rest)) :=
  ro_call (n := 0) (ci := 0) hF (m0_spare l D H b hk dA f0 ks f2 f3 hP  r hJ) (lw_V q208 q209 q210 q33 q211) (by decide +kernel) rfl rfl hR (xR.of hP 0 rfl) hK rfl rfl rfl hsz rfl hW hdg hf kk
theorem kL1_spare {p : Program} {l : Launch} {e : Env} {R : Room} {s : State} {m : MethodId} {args : Array Value} {below : List Frame} {meth : Method} {c : Code} {H : Heap} {locs : List Loc} {cells slots : Nat} {Q : State → Prop} {cc : ByteArray} {nL pc : Nat} {ls : Array Slot} {rest : List Value} {D : va_G} {b hv ht : Nat} {dA : ClassId} {mv : Nat → Int32} {ks : Nat → Int32} {f2 : Int32} {f3 : Int32} {f4 : Int32} (hF : CallFix p m c cc nL s args lw_all R_law) (hP : va_P D vwCl (W1 b hv ht dA mv ks f2 f3 f4) H) (hK : va_K D vwCl [(dA, .int)] s)  {r : Int32} (hJ : J1_spare mv ks f2 = some r) (hsz : ls.size = nL) (hW : (rest.map fun v => v.category).sum ≤ 8) (hdg : decode cc pc = .ok (.invokevirtual 77, 3)) (hR : 3 + 1 ≤ R.frames ∧ 8 + (8 + 11) + 76 ≤ R.locals) (hf : cells ≤ R.cells ∧ slots ≤ R.slots) (kk : W p l e R s m args below meth c H locs cells slots Q (F0 m (pc + 3) ls (.int r :: rest))) : W p l e R s m args below meth c H locs cells slots Q (F0 m pc ls (.ref b :: rest)) :=
  ro_call (n := 0) (ci := 1) hF (m1_spare l D H b hv ht dA mv ks f2 f3 f4 hP  r hJ) (lw_V q344 q345 q346 q34 q347) (by decide +kernel) rfl rfl hR (xR.of hP 0 rfl) hK rfl rfl rfl hsz rfl hW hdg hf kk
theorem keepX {D : va_G} {hx hk : Nat} {dA : ClassId} {f0 : Int32} {ks : Nat → Int32} {f2 f3 : Int32} {H H1 : Heap} (h : va_P D vwCl (W0 hx hk dA f0 ks f2 f3) H) (e1 : hx < H.size → H1[hx]? = H[hx]?) (e2 : hk < H.size → H1[hk]? = H[hk]?) : va_P D vwCl (W0 hx hk dA f0 ks f2 f3) H1 := by
  refine h.kept (fun k x hx => ?_)
  have hl := (h k x hx).lt
  match k, hx with
  | 0, hx => cases hx; exact e1 hl
  | 1, hx => cases hx; exact e2 hl
  | k + 2, hx => simp at hx
theorem keepM {D : va_G} {hm hv ht : Nat} {dA : ClassId} {mv ks : Nat → Int32} {f2 f3 f4 : Int32} {H H1 : Heap} (h : va_P D vwCl (W1 hm hv ht dA mv ks f2 f3 f4) H) (e1 : hm < H.size → H1[hm]? = H[hm]?) (e2 : hv < H.size → H1[hv]? = H[hv]?) (e3 : ht < H.size → H1[ht]? = H[ht]?) : va_P D vwCl (W1 hm hv ht dA mv ks f2 f3 f4) H1 := by
  refine h.kept (fun k x hx => ?_)
  have hl := (h k x hx).lt
  match k, hx with
  | 0, hx => cases hx; exact e1 hl
  | 1, hx => cases hx; exact e2 hl
  | 2, hx => cases hx; exact e3 hl
  | k + 3, hx => simp at hx
end
section
/-! the law's walk -/
set_option maxRecDepth 100000
theorem law_len {L k : Nat} (hL : L ≤ 256) (hk : k ≤ 256) : (Int32.ofNat L - 4 < nI k) ↔ L < k + 4 := by
  have e1 : (Int32.ofNat L - 4).toInt = (L : Int) - 4 := pk_sub_toInt (a := L) (b := 4) (by omega) (by decide)
  have e2 : (nI k).toInt = (k : Int) := nI_toInt (by omega)
  rw [Int32.lt_iff_toInt_lt, e1, e2]
  omega
set_option maxHeartbeats 4000000 in
set_option maxRecDepth 100000 in
/-- the law's loop at its head, with k ints read: both objects hold the same text -/
theorem law_loop {p : Program} {l : Launch} {e : Env} {s : State} {m : MethodId} {below : List Frame} {meth : Method} {c : Code} {D : va_G} {b L : Nat} {xs : Nat → Int32} (hL : L ≤ 256) (C0 : lw_At p s m meth c b L xs) {hx0 hk hm hv ht : Nat} {dA : ClassId} (hAx : dA0 (fun q : Nat => s.heap.size ≤ q) hx0 hk) (hAm : dA1 (fun q : Nat => s.heap.size ≤ q) hm hv ht) (hXM : hx0 ≠ hm ∧ hx0 ≠ hv ∧ hx0 ≠ ht ∧ hk ≠ hm ∧ hk ≠ hv ∧ hk ≠ ht) (hK : va_K D vwCl [(dA, .int)] s) :
    ∀ (w k : Nat), k ≤ L → L + 1 ≤ k + w → ∀ (n : Int32) (ks : Nat → Int32) (f2 f3 g3 g4 : Int32), TI n ks → ∀ (H : Heap) (locs : List Loc), va_P D vwCl (W0 hx0 hk dA n ks f2 f3) H → va_P D vwCl (W1 hm hv ht dA (mvs 1025) ks n g3 g4) H → va_S (fun q : Nat => s.heap.size ≤ q) s.heap H locs → ∀ (ls : Array Slot), lv_has ls 4 [(0, .ref b), (1, .ref hx0), (2, .ref hm), (3, .int (nI k))] → W p l e room_1 s m #[Value.ref b] below meth c H locs 5 1052 (lw_Z below #[Value.ref b] s) (F0 m 18 ls []) := by
  obtain ⟨hx, hb, hr, hml, hown, hts0, hX, hbl, hlocks, hgv⟩ := C0
  have hts : ∀ w ∈ lw_all, w.before #[Value.ref b] s = true := fun w h => hts0 w (lw_all_tbl h)
  have hF : CallFix p m c code 4 s #[Value.ref b] lw_all R_law := ⟨hx, hb, hml, hown, hts⟩
  have hbA : ¬ (fun q : Nat => s.heap.size ≤ q) b := Nat.not_le.mpr hbl
  intro w
  induction w with
  | zero =>
    intro k h1 h2
    exact absurd h2 (by omega)
  | succ w ih =>
    intro k hk1 hk2 n ks f2 f3 g3 g4 hT H locs hPx hPm hS ls hl
    refine lv_iload_n hx hb dL_law_18 rfl (lv_at hl 3 rfl) ?_
    refine lv_aload_n hx hb dL_law_19 rfl (lv_at hl 0 rfl) ?_
    refine va_slen hx hb hX hbl hbA hS dL_law_20 ?_
    refine lv_iconst (v := 4) hx hb dL_law_21 (by decide) ?_
    refine lv_isub hx hb dL_law_22 ?_
    refine lv_icmp_gt (tgt := 467) hx hb dL_law_23 (by decide) (fun c_1 => ?_) (fun c_1 => ?_)
    · refine lv_iconst (v := 1) hx hb dL_law_467 (by decide) ?_
      refine va_forget (fun q hq => hS.2.2 q hq) ?_
      refine W.widen (k := 600000) (n := 7290000) (Nat.le_of_ble_eq_true rfl) (Nat.le_of_ble_eq_true rfl) ?_
      exact lw_ret hx hb hr hlocks dL_law_468
    · have hk4 : k + 4 ≤ L := Nat.not_lt.mp (fun q => c_1 ((law_len hL (by omega)).mpr q))
      have hin0 : vp_in (nI k) L := vp_in_nI (by omega) (by omega)
      have hin1 : vp_in (nI k + 1) L := by rw [nI_1]; exact vp_in_nI (by omega) (by omega)
      have hin2 : vp_in (nI k + 2) L := by rw [show nI k + 2 = nI (k + 2) from nI_add k 2]; exact vp_in_nI (by omega) (by omega)
      have hin3 : vp_in (nI k + 3) L := by rw [show nI k + 3 = nI (k + 3) from nI_add k 3]; exact vp_in_nI (by omega) (by omega)
      have K461 : ∀ (n : Int32) (ks : Nat → Int32) (f2 f3 g3 g4 : Int32), TI n ks → ∀ (H : Heap) (locs : List Loc), va_P D vwCl (W0 hx0 hk dA n ks f2 f3) H → va_P D vwCl (W1 hm hv ht dA (mvs 1025) ks n g3 g4) H → va_S (fun q : Nat => s.heap.size ≤ q) s.heap H locs → ∀ (ls : Array Slot), lv_has ls 4 [(0, .ref b), (1, .ref hx0), (2, .ref hm), (3, .int (nI k))] → W p l e room_1 s m #[Value.ref b] below meth c H locs 5 1052 (lw_Z below #[Value.ref b] s) (F0 m 461 ls []) := by
        intro n ks f2 f3 g3 g4 hT H locs hPx hPm hS ls hl
        refine lv_iinc (v := nI (k + 4)) (lv' := [(3, .int (nI (k + 4))), (0, .ref b), (1, .ref hx0), (2, .ref hm)]) hx hb dL_law_461 hl (k := 3) rfl (nI_add k 4) (by decide) rfl (fun ls hl => ?_)
        refine lv_goto (tgt := 18) hx hb dL_law_464 (by decide) ?_
        exact ih (k + 4) hk4 (by omega) n ks f2 f3 g3 g4 hT H locs hPx hPm hS ls (lv_sub hl [1, 2, 3, 0] rfl)
      refine lv_aload_n hx hb dL_law_26 rfl (lv_at hl 0 rfl) ?_
      refine lv_iload_n hx hb dL_law_27 rfl (lv_at hl 3 rfl) ?_
      refine va_sld hx hb hX hbl hbA hS hin0 dL_law_28 ?_
      refine lv_bipush (v := 15) hx hb dL_law_29 (by decide) ?_
      refine lv_iand hx hb dL_law_31 ?_
      refine lv_topi (fun v ev => ?_)
      obtain ⟨j, hj, ej⟩ := pk_andE (xs (nI k).toNatClampNeg) (m := 15) 4 (by decide)
      obtain rfl : v = nI j := ev.trans ej
      clear ev ej
      rcases (show j = 0 ∨ j = 1 ∨ j = 2 ∨ j = 3 ∨ j = 4 ∨ j = 5 ∨ j = 6 ∨ j = 7 ∨ j = 8 ∨ j = 9 ∨ j = 10 ∨ j = 11 ∨ j = 12 ∨ j = 13 ∨ j = 14 ∨ j = 15 by omega) with rfl | rfl | rfl | rfl | rfl | rfl | rfl | rfl | rfl | rfl | rfl | rfl | rfl | rfl | rfl | rfl
      · refine lv_tableIn (off := 76) (tgt := 108) hx hb dL_law_32 (by decide) (by decide) (by decide) (by decide) ?_
        obtain ⟨r, h0J, h1J⟩ := pl_units (xs (nI k + 1).toNatClampNeg)
        refine lv_aload_n hx hb dL_law_108 rfl (lv_at hl 1 rfl) ?_
        refine lv_aload_n hx hb dL_law_109 rfl (lv_at hl 0 rfl) ?_
        refine lv_iload_n hx hb dL_law_110 rfl (lv_at hl 3 rfl) ?_
        refine lv_iconst (v := 1) hx hb dL_law_111 (by decide) ?_
        refine lv_iadd hx hb dL_law_112 ?_
        refine va_sld hx hb hX hbl hbA hS hin1 dL_law_113 ?_
        refine kL0_units hF (xR.of hPx 0 rfl) hK h0J hl.1 (Nat.le_of_ble_eq_true rfl) dL_law_114 ⟨Nat.le_of_ble_eq_true rfl, Nat.le_of_ble_eq_true rfl⟩ ⟨Nat.le_of_ble_eq_true rfl, Nat.le_of_ble_eq_true rfl⟩ ?_
        refine lv_aload_n hx hb dL_law_117 rfl (lv_at hl 2 rfl) ?_
        refine lv_aload_n hx hb dL_law_118 rfl (lv_at hl 0 rfl) ?_
        refine lv_iload_n hx hb dL_law_119 rfl (lv_at hl 3 rfl) ?_
        refine lv_iconst (v := 1) hx hb dL_law_120 (by decide) ?_
        refine lv_iadd hx hb dL_law_121 ?_
        refine va_sld hx hb hX hbl hbA hS hin1 dL_law_122 ?_
        refine kL1_units hF hPm hK h1J hl.1 (Nat.le_of_ble_eq_true rfl) dL_law_123 ⟨Nat.le_of_ble_eq_true rfl, Nat.le_of_ble_eq_true rfl⟩ ⟨Nat.le_of_ble_eq_true rfl, Nat.le_of_ble_eq_true rfl⟩ ?_
        refine lv_icmp_eq (tgt := 461) hx hb dL_law_126 (by decide) (fun c_9 => ?_) (fun c_9 => ?_)
        · exact K461 n ks f2 f3 g3 g4 hT _ _ hPx hPm hS ls hl
        · exact absurd rfl c_9
      · refine lv_tableIn (off := 99) (tgt := 131) hx hb dL_law_32 (by decide) (by decide) (by decide) (by decide) ?_
        obtain ⟨r, h0J, h1J⟩ := pl_read (xs (nI k + 1).toNatClampNeg) (xs (nI k + 2).toNatClampNeg)
        refine lv_aload_n hx hb dL_law_131 rfl (lv_at hl 1 rfl) ?_
        refine lv_aload_n hx hb dL_law_132 rfl (lv_at hl 0 rfl) ?_
        refine lv_iload_n hx hb dL_law_133 rfl (lv_at hl 3 rfl) ?_
        refine lv_iconst (v := 1) hx hb dL_law_134 (by decide) ?_
        refine lv_iadd hx hb dL_law_135 ?_
        refine va_sld hx hb hX hbl hbA hS hin1 dL_law_136 ?_
        refine lv_aload_n hx hb dL_law_137 rfl (lv_at hl 0 rfl) ?_
        refine lv_iload_n hx hb dL_law_138 rfl (lv_at hl 3 rfl) ?_
        refine lv_iconst (v := 2) hx hb dL_law_139 (by decide) ?_
        refine lv_iadd hx hb dL_law_140 ?_
        refine va_sld hx hb hX hbl hbA hS hin2 dL_law_141 ?_
        refine kL0_read hF (xR.of hPx 0 rfl) hK h0J hl.1 (Nat.le_of_ble_eq_true rfl) dL_law_142 ⟨Nat.le_of_ble_eq_true rfl, Nat.le_of_ble_eq_true rfl⟩ ⟨Nat.le_of_ble_eq_true rfl, Nat.le_of_ble_eq_true rfl⟩ ?_
        refine lv_aload_n hx hb dL_law_145 rfl (lv_at hl 2 rfl) ?_
        refine lv_aload_n hx hb dL_law_146 rfl (lv_at hl 0 rfl) ?_
        refine lv_iload_n hx hb dL_law_147 rfl (lv_at hl 3 rfl) ?_
        refine lv_iconst (v := 1) hx hb dL_law_148 (by decide) ?_
        refine lv_iadd hx hb dL_law_149 ?_
        refine va_sld hx hb hX hbl hbA hS hin1 dL_law_150 ?_
        refine lv_aload_n hx hb dL_law_151 rfl (lv_at hl 0 rfl) ?_
        refine lv_iload_n hx hb dL_law_152 rfl (lv_at hl 3 rfl) ?_
        refine lv_iconst (v := 2) hx hb dL_law_153 (by decide) ?_
        refine lv_iadd hx hb dL_law_154 ?_
        refine va_sld hx hb hX hbl hbA hS hin2 dL_law_155 ?_
        refine kL1_read hF hPm hK h1J hl.1 (Nat.le_of_ble_eq_true rfl) dL_law_156 ⟨Nat.le_of_ble_eq_true rfl, Nat.le_of_ble_eq_true rfl⟩ ⟨Nat.le_of_ble_eq_true rfl, Nat.le_of_ble_eq_true rfl⟩ ?_
        refine lv_icmp_eq (tgt := 461) hx hb dL_law_159 (by decide) (fun c_9 => ?_) (fun c_9 => ?_)
        · exact K461 n ks f2 f3 g3 g4 hT _ _ hPx hPm hS ls hl
        · exact absurd rfl c_9
      · refine lv_tableIn (off := 132) (tgt := 164) hx hb dL_law_32 (by decide) (by decide) (by decide) (by decide) ?_
        obtain ⟨r, h0J, h1J⟩ := pl_names (xs (nI k + 1).toNatClampNeg) (xs (nI k + 2).toNatClampNeg) (xs (nI k + 3).toNatClampNeg)
        refine lv_aload_n hx hb dL_law_164 rfl (lv_at hl 1 rfl) ?_
        refine lv_aload_n hx hb dL_law_165 rfl (lv_at hl 0 rfl) ?_
        refine lv_iload_n hx hb dL_law_166 rfl (lv_at hl 3 rfl) ?_
        refine lv_iconst (v := 1) hx hb dL_law_167 (by decide) ?_
        refine lv_iadd hx hb dL_law_168 ?_
        refine va_sld hx hb hX hbl hbA hS hin1 dL_law_169 ?_
        refine lv_aload_n hx hb dL_law_170 rfl (lv_at hl 0 rfl) ?_
        refine lv_iload_n hx hb dL_law_171 rfl (lv_at hl 3 rfl) ?_
        refine lv_iconst (v := 2) hx hb dL_law_172 (by decide) ?_
        refine lv_iadd hx hb dL_law_173 ?_
        refine va_sld hx hb hX hbl hbA hS hin2 dL_law_174 ?_
        refine lv_aload_n hx hb dL_law_175 rfl (lv_at hl 0 rfl) ?_
        refine lv_iload_n hx hb dL_law_176 rfl (lv_at hl 3 rfl) ?_
        refine lv_iconst (v := 3) hx hb dL_law_177 (by decide) ?_
        refine lv_iadd hx hb dL_law_178 ?_
        refine va_sld hx hb hX hbl hbA hS hin3 dL_law_179 ?_
        refine kL0_names hF (xR.of hPx 0 rfl) hK h0J hl.1 (Nat.le_of_ble_eq_true rfl) dL_law_180 ⟨Nat.le_of_ble_eq_true rfl, Nat.le_of_ble_eq_true rfl⟩ ⟨Nat.le_of_ble_eq_true rfl, Nat.le_of_ble_eq_true rfl⟩ ?_
        refine lv_aload_n hx hb dL_law_183 rfl (lv_at hl 2 rfl) ?_
        refine lv_aload_n hx hb dL_law_184 rfl (lv_at hl 0 rfl) ?_
        refine lv_iload_n hx hb dL_law_185 rfl (lv_at hl 3 rfl) ?_
        refine lv_iconst (v := 1) hx hb dL_law_186 (by decide) ?_
        refine lv_iadd hx hb dL_law_187 ?_
        refine va_sld hx hb hX hbl hbA hS hin1 dL_law_188 ?_
        refine lv_aload_n hx hb dL_law_189 rfl (lv_at hl 0 rfl) ?_
        refine lv_iload_n hx hb dL_law_190 rfl (lv_at hl 3 rfl) ?_
        refine lv_iconst (v := 2) hx hb dL_law_191 (by decide) ?_
        refine lv_iadd hx hb dL_law_192 ?_
        refine va_sld hx hb hX hbl hbA hS hin2 dL_law_193 ?_
        refine lv_aload_n hx hb dL_law_194 rfl (lv_at hl 0 rfl) ?_
        refine lv_iload_n hx hb dL_law_195 rfl (lv_at hl 3 rfl) ?_
        refine lv_iconst (v := 3) hx hb dL_law_196 (by decide) ?_
        refine lv_iadd hx hb dL_law_197 ?_
        refine va_sld hx hb hX hbl hbA hS hin3 dL_law_198 ?_
        refine kL1_names hF hPm hK h1J hl.1 (Nat.le_of_ble_eq_true rfl) dL_law_199 ⟨Nat.le_of_ble_eq_true rfl, Nat.le_of_ble_eq_true rfl⟩ ⟨Nat.le_of_ble_eq_true rfl, Nat.le_of_ble_eq_true rfl⟩ ?_
        refine lv_icmp_eq (tgt := 461) hx hb dL_law_202 (by decide) (fun c_9 => ?_) (fun c_9 => ?_)
        · exact K461 n ks f2 f3 g3 g4 hT _ _ hPx hPm hS ls hl
        · exact absurd rfl c_9
      · refine lv_tableIn (off := 175) (tgt := 207) hx hb dL_law_32 (by decide) (by decide) (by decide) (by decide) ?_
        obtain ⟨r, h0J, h1J⟩ := pl_compare (xs (nI k + 1).toNatClampNeg) (xs (nI k + 2).toNatClampNeg) (xs (nI k + 3).toNatClampNeg)
        refine lv_aload_n hx hb dL_law_207 rfl (lv_at hl 1 rfl) ?_
        refine lv_aload_n hx hb dL_law_208 rfl (lv_at hl 0 rfl) ?_
        refine lv_iload_n hx hb dL_law_209 rfl (lv_at hl 3 rfl) ?_
        refine lv_iconst (v := 1) hx hb dL_law_210 (by decide) ?_
        refine lv_iadd hx hb dL_law_211 ?_
        refine va_sld hx hb hX hbl hbA hS hin1 dL_law_212 ?_
        refine lv_aload_n hx hb dL_law_213 rfl (lv_at hl 0 rfl) ?_
        refine lv_iload_n hx hb dL_law_214 rfl (lv_at hl 3 rfl) ?_
        refine lv_iconst (v := 2) hx hb dL_law_215 (by decide) ?_
        refine lv_iadd hx hb dL_law_216 ?_
        refine va_sld hx hb hX hbl hbA hS hin2 dL_law_217 ?_
        refine lv_aload_n hx hb dL_law_218 rfl (lv_at hl 0 rfl) ?_
        refine lv_iload_n hx hb dL_law_219 rfl (lv_at hl 3 rfl) ?_
        refine lv_iconst (v := 3) hx hb dL_law_220 (by decide) ?_
        refine lv_iadd hx hb dL_law_221 ?_
        refine va_sld hx hb hX hbl hbA hS hin3 dL_law_222 ?_
        refine kL0_compare hF (xR.of hPx 0 rfl) hK h0J hl.1 (Nat.le_of_ble_eq_true rfl) dL_law_223 ⟨Nat.le_of_ble_eq_true rfl, Nat.le_of_ble_eq_true rfl⟩ ⟨Nat.le_of_ble_eq_true rfl, Nat.le_of_ble_eq_true rfl⟩ ?_
        refine lv_aload_n hx hb dL_law_226 rfl (lv_at hl 2 rfl) ?_
        refine lv_aload_n hx hb dL_law_227 rfl (lv_at hl 0 rfl) ?_
        refine lv_iload_n hx hb dL_law_228 rfl (lv_at hl 3 rfl) ?_
        refine lv_iconst (v := 1) hx hb dL_law_229 (by decide) ?_
        refine lv_iadd hx hb dL_law_230 ?_
        refine va_sld hx hb hX hbl hbA hS hin1 dL_law_231 ?_
        refine lv_aload_n hx hb dL_law_232 rfl (lv_at hl 0 rfl) ?_
        refine lv_iload_n hx hb dL_law_233 rfl (lv_at hl 3 rfl) ?_
        refine lv_iconst (v := 2) hx hb dL_law_234 (by decide) ?_
        refine lv_iadd hx hb dL_law_235 ?_
        refine va_sld hx hb hX hbl hbA hS hin2 dL_law_236 ?_
        refine lv_aload_n hx hb dL_law_237 rfl (lv_at hl 0 rfl) ?_
        refine lv_iload_n hx hb dL_law_238 rfl (lv_at hl 3 rfl) ?_
        refine lv_iconst (v := 3) hx hb dL_law_239 (by decide) ?_
        refine lv_iadd hx hb dL_law_240 ?_
        refine va_sld hx hb hX hbl hbA hS hin3 dL_law_241 ?_
        refine kL1_compare hF hPm hK h1J hl.1 (Nat.le_of_ble_eq_true rfl) dL_law_242 ⟨Nat.le_of_ble_eq_true rfl, Nat.le_of_ble_eq_true rfl⟩ ⟨Nat.le_of_ble_eq_true rfl, Nat.le_of_ble_eq_true rfl⟩ ?_
        refine lv_icmp_eq (tgt := 461) hx hb dL_law_245 (by decide) (fun c_9 => ?_) (fun c_9 => ?_)
        · exact K461 n ks f2 f3 g3 g4 hT _ _ hPx hPm hS ls hl
        · exact absurd rfl c_9
      · refine lv_tableIn (off := 218) (tgt := 250) hx hb dL_law_32 (by decide) (by decide) (by decide) (by decide) ?_
        obtain ⟨r, a2, a3, b3, b4, h0J, h1J⟩ := pl_digits f2 f3 g3 g4 (xs (nI k + 1).toNatClampNeg)
        refine lv_aload_n hx hb dL_law_250 rfl (lv_at hl 1 rfl) ?_
        refine lv_aload_n hx hb dL_law_251 rfl (lv_at hl 0 rfl) ?_
        refine lv_iload_n hx hb dL_law_252 rfl (lv_at hl 3 rfl) ?_
        refine lv_iconst (v := 1) hx hb dL_law_253 (by decide) ?_
        refine lv_iadd hx hb dL_law_254 ?_
        refine va_sld hx hb hX hbl hbA hS hin1 dL_law_255 ?_
        refine kL0_digits hF hPx hK hAx h0J hl.1 (Nat.le_of_ble_eq_true rfl) dL_law_256 ⟨Nat.le_of_ble_eq_true rfl, Nat.le_of_ble_eq_true rfl⟩ ⟨Nat.le_of_ble_eq_true rfl, Nat.le_of_ble_eq_true rfl⟩ hS (fun H locs hPx hfr hS => ?_)
        have hPm := keepM hPm (fun q => hfr _ q hXM.1.symm hXM.2.2.2.1.symm) (fun q => hfr _ q hXM.2.1.symm hXM.2.2.2.2.1.symm) (fun q => hfr _ q hXM.2.2.1.symm hXM.2.2.2.2.2.symm)
        refine lv_aload_n hx hb dL_law_259 rfl (lv_at hl 2 rfl) ?_
        refine lv_aload_n hx hb dL_law_260 rfl (lv_at hl 0 rfl) ?_
        refine lv_iload_n hx hb dL_law_261 rfl (lv_at hl 3 rfl) ?_
        refine lv_iconst (v := 1) hx hb dL_law_262 (by decide) ?_
        refine lv_iadd hx hb dL_law_263 ?_
        refine va_sld hx hb hX hbl hbA hS hin1 dL_law_264 ?_
        refine kL1_digits hF hPm hK hAm h1J hl.1 (Nat.le_of_ble_eq_true rfl) dL_law_265 ⟨Nat.le_of_ble_eq_true rfl, Nat.le_of_ble_eq_true rfl⟩ ⟨Nat.le_of_ble_eq_true rfl, Nat.le_of_ble_eq_true rfl⟩ hS (fun H locs hPm hfr hS => ?_)
        have hPx := keepX hPx (fun q => hfr _ q hXM.1 hXM.2.1 hXM.2.2.1) (fun q => hfr _ q hXM.2.2.2.1 hXM.2.2.2.2.1 hXM.2.2.2.2.2)
        refine lv_icmp_eq (tgt := 461) hx hb dL_law_268 (by decide) (fun c_9 => ?_) (fun c_9 => ?_)
        · exact K461 n ks a2 a3 b3 b4 hT _ _ hPx hPm hS ls hl
        · exact absurd rfl c_9
      · refine lv_tableIn (off := 241) (tgt := 273) hx hb dL_law_32 (by decide) (by decide) (by decide) (by decide) ?_
        obtain ⟨r, a2, a3, b3, b4, h0J, h1J⟩ := pl_scale f2 f3 g3 g4 (xs (nI k + 1).toNatClampNeg)
        refine lv_aload_n hx hb dL_law_273 rfl (lv_at hl 1 rfl) ?_
        refine lv_aload_n hx hb dL_law_274 rfl (lv_at hl 0 rfl) ?_
        refine lv_iload_n hx hb dL_law_275 rfl (lv_at hl 3 rfl) ?_
        refine lv_iconst (v := 1) hx hb dL_law_276 (by decide) ?_
        refine lv_iadd hx hb dL_law_277 ?_
        refine va_sld hx hb hX hbl hbA hS hin1 dL_law_278 ?_
        refine kL0_scale hF hPx hK hAx h0J hl.1 (Nat.le_of_ble_eq_true rfl) dL_law_279 ⟨Nat.le_of_ble_eq_true rfl, Nat.le_of_ble_eq_true rfl⟩ ⟨Nat.le_of_ble_eq_true rfl, Nat.le_of_ble_eq_true rfl⟩ hS (fun H locs hPx hfr hS => ?_)
        have hPm := keepM hPm (fun q => hfr _ q hXM.1.symm hXM.2.2.2.1.symm) (fun q => hfr _ q hXM.2.1.symm hXM.2.2.2.2.1.symm) (fun q => hfr _ q hXM.2.2.1.symm hXM.2.2.2.2.2.symm)
        refine lv_aload_n hx hb dL_law_282 rfl (lv_at hl 2 rfl) ?_
        refine lv_aload_n hx hb dL_law_283 rfl (lv_at hl 0 rfl) ?_
        refine lv_iload_n hx hb dL_law_284 rfl (lv_at hl 3 rfl) ?_
        refine lv_iconst (v := 1) hx hb dL_law_285 (by decide) ?_
        refine lv_iadd hx hb dL_law_286 ?_
        refine va_sld hx hb hX hbl hbA hS hin1 dL_law_287 ?_
        refine kL1_scale hF hPm hK hAm h1J hl.1 (Nat.le_of_ble_eq_true rfl) dL_law_288 ⟨Nat.le_of_ble_eq_true rfl, Nat.le_of_ble_eq_true rfl⟩ ⟨Nat.le_of_ble_eq_true rfl, Nat.le_of_ble_eq_true rfl⟩ hS (fun H locs hPm hfr hS => ?_)
        have hPx := keepX hPx (fun q => hfr _ q hXM.1 hXM.2.1 hXM.2.2.1) (fun q => hfr _ q hXM.2.2.2.1 hXM.2.2.2.2.1 hXM.2.2.2.2.2)
        refine lv_icmp_eq (tgt := 461) hx hb dL_law_291 (by decide) (fun c_9 => ?_) (fun c_9 => ?_)
        · exact K461 n ks a2 a3 b3 b4 hT _ _ hPx hPm hS ls hl
        · exact absurd rfl c_9
      · refine lv_tableIn (off := 264) (tgt := 296) hx hb dL_law_32 (by decide) (by decide) (by decide) (by decide) ?_
        obtain ⟨r, a2, a3, b3, b4, h0J, h1J⟩ := pl_length f2 f3 g3 g4 (xs (nI k + 1).toNatClampNeg)
        refine lv_aload_n hx hb dL_law_296 rfl (lv_at hl 1 rfl) ?_
        refine lv_aload_n hx hb dL_law_297 rfl (lv_at hl 0 rfl) ?_
        refine lv_iload_n hx hb dL_law_298 rfl (lv_at hl 3 rfl) ?_
        refine lv_iconst (v := 1) hx hb dL_law_299 (by decide) ?_
        refine lv_iadd hx hb dL_law_300 ?_
        refine va_sld hx hb hX hbl hbA hS hin1 dL_law_301 ?_
        refine kL0_length hF hPx hK hAx h0J hl.1 (Nat.le_of_ble_eq_true rfl) dL_law_302 ⟨Nat.le_of_ble_eq_true rfl, Nat.le_of_ble_eq_true rfl⟩ ⟨Nat.le_of_ble_eq_true rfl, Nat.le_of_ble_eq_true rfl⟩ hS (fun H locs hPx hfr hS => ?_)
        have hPm := keepM hPm (fun q => hfr _ q hXM.1.symm hXM.2.2.2.1.symm) (fun q => hfr _ q hXM.2.1.symm hXM.2.2.2.2.1.symm) (fun q => hfr _ q hXM.2.2.1.symm hXM.2.2.2.2.2.symm)
        refine lv_aload_n hx hb dL_law_305 rfl (lv_at hl 2 rfl) ?_
        refine lv_aload_n hx hb dL_law_306 rfl (lv_at hl 0 rfl) ?_
        refine lv_iload_n hx hb dL_law_307 rfl (lv_at hl 3 rfl) ?_
        refine lv_iconst (v := 1) hx hb dL_law_308 (by decide) ?_
        refine lv_iadd hx hb dL_law_309 ?_
        refine va_sld hx hb hX hbl hbA hS hin1 dL_law_310 ?_
        refine kL1_length hF hPm hK hAm h1J hl.1 (Nat.le_of_ble_eq_true rfl) dL_law_311 ⟨Nat.le_of_ble_eq_true rfl, Nat.le_of_ble_eq_true rfl⟩ ⟨Nat.le_of_ble_eq_true rfl, Nat.le_of_ble_eq_true rfl⟩ hS (fun H locs hPm hfr hS => ?_)
        have hPx := keepX hPx (fun q => hfr _ q hXM.1 hXM.2.1 hXM.2.2.1) (fun q => hfr _ q hXM.2.2.2.1 hXM.2.2.2.2.1 hXM.2.2.2.2.2)
        refine lv_icmp_eq (tgt := 461) hx hb dL_law_314 (by decide) (fun c_9 => ?_) (fun c_9 => ?_)
        · exact K461 n ks a2 a3 b3 b4 hT _ _ hPx hPm hS ls hl
        · exact absurd rfl c_9
      · refine lv_tableIn (off := 287) (tgt := 319) hx hb dL_law_32 (by decide) (by decide) (by decide) (by decide) ?_
        obtain ⟨r, h0J, h1J⟩ := pl_written (xs (nI k + 1).toNatClampNeg) (xs (nI k + 2).toNatClampNeg)
        refine lv_aload_n hx hb dL_law_319 rfl (lv_at hl 1 rfl) ?_
        refine lv_aload_n hx hb dL_law_320 rfl (lv_at hl 0 rfl) ?_
        refine lv_iload_n hx hb dL_law_321 rfl (lv_at hl 3 rfl) ?_
        refine lv_iconst (v := 1) hx hb dL_law_322 (by decide) ?_
        refine lv_iadd hx hb dL_law_323 ?_
        refine va_sld hx hb hX hbl hbA hS hin1 dL_law_324 ?_
        refine lv_aload_n hx hb dL_law_325 rfl (lv_at hl 0 rfl) ?_
        refine lv_iload_n hx hb dL_law_326 rfl (lv_at hl 3 rfl) ?_
        refine lv_iconst (v := 2) hx hb dL_law_327 (by decide) ?_
        refine lv_iadd hx hb dL_law_328 ?_
        refine va_sld hx hb hX hbl hbA hS hin2 dL_law_329 ?_
        refine kL0_written hF (xR.of hPx 0 rfl) hK h0J hl.1 (Nat.le_of_ble_eq_true rfl) dL_law_330 ⟨Nat.le_of_ble_eq_true rfl, Nat.le_of_ble_eq_true rfl⟩ ⟨Nat.le_of_ble_eq_true rfl, Nat.le_of_ble_eq_true rfl⟩ ?_
        refine lv_aload_n hx hb dL_law_333 rfl (lv_at hl 2 rfl) ?_
        refine lv_aload_n hx hb dL_law_334 rfl (lv_at hl 0 rfl) ?_
        refine lv_iload_n hx hb dL_law_335 rfl (lv_at hl 3 rfl) ?_
        refine lv_iconst (v := 1) hx hb dL_law_336 (by decide) ?_
        refine lv_iadd hx hb dL_law_337 ?_
        refine va_sld hx hb hX hbl hbA hS hin1 dL_law_338 ?_
        refine lv_aload_n hx hb dL_law_339 rfl (lv_at hl 0 rfl) ?_
        refine lv_iload_n hx hb dL_law_340 rfl (lv_at hl 3 rfl) ?_
        refine lv_iconst (v := 2) hx hb dL_law_341 (by decide) ?_
        refine lv_iadd hx hb dL_law_342 ?_
        refine va_sld hx hb hX hbl hbA hS hin2 dL_law_343 ?_
        refine kL1_written hF hPm hK h1J hl.1 (Nat.le_of_ble_eq_true rfl) dL_law_344 ⟨Nat.le_of_ble_eq_true rfl, Nat.le_of_ble_eq_true rfl⟩ ⟨Nat.le_of_ble_eq_true rfl, Nat.le_of_ble_eq_true rfl⟩ ?_
        refine lv_icmp_eq (tgt := 461) hx hb dL_law_347 (by decide) (fun c_9 => ?_) (fun c_9 => ?_)
        · exact K461 n ks f2 f3 g3 g4 hT _ _ hPx hPm hS ls hl
        · exact absurd rfl c_9
      · refine lv_tableIn (off := 320) (tgt := 352) hx hb dL_law_32 (by decide) (by decide) (by decide) (by decide) ?_
        obtain ⟨r, h0J, h1J⟩ := pl_places (xs (nI k + 1).toNatClampNeg)
        refine lv_aload_n hx hb dL_law_352 rfl (lv_at hl 1 rfl) ?_
        refine lv_aload_n hx hb dL_law_353 rfl (lv_at hl 0 rfl) ?_
        refine lv_iload_n hx hb dL_law_354 rfl (lv_at hl 3 rfl) ?_
        refine lv_iconst (v := 1) hx hb dL_law_355 (by decide) ?_
        refine lv_iadd hx hb dL_law_356 ?_
        refine va_sld hx hb hX hbl hbA hS hin1 dL_law_357 ?_
        refine kL0_places hF (xR.of hPx 0 rfl) hK h0J hl.1 (Nat.le_of_ble_eq_true rfl) dL_law_358 ⟨Nat.le_of_ble_eq_true rfl, Nat.le_of_ble_eq_true rfl⟩ ⟨Nat.le_of_ble_eq_true rfl, Nat.le_of_ble_eq_true rfl⟩ ?_
        refine lv_aload_n hx hb dL_law_361 rfl (lv_at hl 2 rfl) ?_
        refine lv_aload_n hx hb dL_law_362 rfl (lv_at hl 0 rfl) ?_
        refine lv_iload_n hx hb dL_law_363 rfl (lv_at hl 3 rfl) ?_
        refine lv_iconst (v := 1) hx hb dL_law_364 (by decide) ?_
        refine lv_iadd hx hb dL_law_365 ?_
        refine va_sld hx hb hX hbl hbA hS hin1 dL_law_366 ?_
        refine kL1_places hF hPm hK h1J hl.1 (Nat.le_of_ble_eq_true rfl) dL_law_367 ⟨Nat.le_of_ble_eq_true rfl, Nat.le_of_ble_eq_true rfl⟩ ⟨Nat.le_of_ble_eq_true rfl, Nat.le_of_ble_eq_true rfl⟩ ?_
        refine lv_icmp_eq (tgt := 461) hx hb dL_law_370 (by decide) (fun c_9 => ?_) (fun c_9 => ?_)
        · exact K461 n ks f2 f3 g3 g4 hT _ _ hPx hPm hS ls hl
        · exact absurd rfl c_9
      · refine lv_tableIn (off := 343) (tgt := 375) hx hb dL_law_32 (by decide) (by decide) (by decide) (by decide) ?_
        obtain ⟨r, n2, ks2, h0J, h1J, hT2⟩ := pl_type hT (xs (nI k + 1).toNatClampNeg)
        refine lv_aload_n hx hb dL_law_375 rfl (lv_at hl 1 rfl) ?_
        refine lv_aload_n hx hb dL_law_376 rfl (lv_at hl 0 rfl) ?_
        refine lv_iload_n hx hb dL_law_377 rfl (lv_at hl 3 rfl) ?_
        refine lv_iconst (v := 1) hx hb dL_law_378 (by decide) ?_
        refine lv_iadd hx hb dL_law_379 ?_
        refine va_sld hx hb hX hbl hbA hS hin1 dL_law_380 ?_
        refine kL0_type hF hPx hK hAx h0J hl.1 (Nat.le_of_ble_eq_true rfl) dL_law_381 ⟨Nat.le_of_ble_eq_true rfl, Nat.le_of_ble_eq_true rfl⟩ ⟨Nat.le_of_ble_eq_true rfl, Nat.le_of_ble_eq_true rfl⟩ hS (fun H locs hPx hfr hS => ?_)
        have hPm := keepM hPm (fun q => hfr _ q hXM.1.symm hXM.2.2.2.1.symm) (fun q => hfr _ q hXM.2.1.symm hXM.2.2.2.2.1.symm) (fun q => hfr _ q hXM.2.2.1.symm hXM.2.2.2.2.2.symm)
        refine lv_aload_n hx hb dL_law_384 rfl (lv_at hl 2 rfl) ?_
        refine lv_aload_n hx hb dL_law_385 rfl (lv_at hl 0 rfl) ?_
        refine lv_iload_n hx hb dL_law_386 rfl (lv_at hl 3 rfl) ?_
        refine lv_iconst (v := 1) hx hb dL_law_387 (by decide) ?_
        refine lv_iadd hx hb dL_law_388 ?_
        refine va_sld hx hb hX hbl hbA hS hin1 dL_law_389 ?_
        refine kL1_type hF hPm hK hAm h1J hl.1 (Nat.le_of_ble_eq_true rfl) dL_law_390 ⟨Nat.le_of_ble_eq_true rfl, Nat.le_of_ble_eq_true rfl⟩ ⟨Nat.le_of_ble_eq_true rfl, Nat.le_of_ble_eq_true rfl⟩ hS (fun H locs hPm hfr hS => ?_)
        have hPx := keepX hPx (fun q => hfr _ q hXM.1 hXM.2.1 hXM.2.2.1) (fun q => hfr _ q hXM.2.2.2.1 hXM.2.2.2.2.1 hXM.2.2.2.2.2)
        refine lv_icmp_eq (tgt := 461) hx hb dL_law_393 (by decide) (fun c_9 => ?_) (fun c_9 => ?_)
        · exact K461 n2 ks2 f2 f3 g3 g4 hT2 _ _ hPx hPm hS ls hl
        · exact absurd rfl c_9
      · refine lv_tableIn (off := 366) (tgt := 398) hx hb dL_law_32 (by decide) (by decide) (by decide) (by decide) ?_
        obtain ⟨r, n2, h0J, h1J, hT2⟩ := pl_back hT
        refine lv_aload_n hx hb dL_law_398 rfl (lv_at hl 1 rfl) ?_
        refine kL0_back hF hPx hK hAx h0J hl.1 (Nat.le_of_ble_eq_true rfl) dL_law_399 ⟨Nat.le_of_ble_eq_true rfl, Nat.le_of_ble_eq_true rfl⟩ ⟨Nat.le_of_ble_eq_true rfl, Nat.le_of_ble_eq_true rfl⟩ hS (fun H locs hPx hfr hS => ?_)
        have hPm := keepM hPm (fun q => hfr _ q hXM.1.symm hXM.2.2.2.1.symm) (fun q => hfr _ q hXM.2.1.symm hXM.2.2.2.2.1.symm) (fun q => hfr _ q hXM.2.2.1.symm hXM.2.2.2.2.2.symm)
        refine lv_aload_n hx hb dL_law_402 rfl (lv_at hl 2 rfl) ?_
        refine kL1_back hF hPm hK hAm h1J hl.1 (Nat.le_of_ble_eq_true rfl) dL_law_403 ⟨Nat.le_of_ble_eq_true rfl, Nat.le_of_ble_eq_true rfl⟩ ⟨Nat.le_of_ble_eq_true rfl, Nat.le_of_ble_eq_true rfl⟩ hS (fun H locs hPm hfr hS => ?_)
        have hPx := keepX hPx (fun q => hfr _ q hXM.1 hXM.2.1 hXM.2.2.1) (fun q => hfr _ q hXM.2.2.2.1 hXM.2.2.2.2.1 hXM.2.2.2.2.2)
        refine lv_icmp_eq (tgt := 461) hx hb dL_law_406 (by decide) (fun c_9 => ?_) (fun c_9 => ?_)
        · exact K461 n2 ks f2 f3 g3 g4 hT2 _ _ hPx hPm hS ls hl
        · exact absurd rfl c_9
      · refine lv_tableIn (off := 379) (tgt := 411) hx hb dL_law_32 (by decide) (by decide) (by decide) (by decide) ?_
        obtain ⟨h0J, h1J, hT2⟩ := pl_clear hT
        refine lv_aload_n hx hb dL_law_411 rfl (lv_at hl 1 rfl) ?_
        refine kL0_clear hF hPx hK hAx h0J hl.1 (Nat.le_of_ble_eq_true rfl) dL_law_412 ⟨Nat.le_of_ble_eq_true rfl, Nat.le_of_ble_eq_true rfl⟩ ⟨Nat.le_of_ble_eq_true rfl, Nat.le_of_ble_eq_true rfl⟩ hS (fun H locs hPx hfr hS => ?_)
        have hPm := keepM hPm (fun q => hfr _ q hXM.1.symm hXM.2.2.2.1.symm) (fun q => hfr _ q hXM.2.1.symm hXM.2.2.2.2.1.symm) (fun q => hfr _ q hXM.2.2.1.symm hXM.2.2.2.2.2.symm)
        refine lv_aload_n hx hb dL_law_415 rfl (lv_at hl 2 rfl) ?_
        refine kL1_clear hF hPm hK hAm h1J hl.1 (Nat.le_of_ble_eq_true rfl) dL_law_416 ⟨Nat.le_of_ble_eq_true rfl, Nat.le_of_ble_eq_true rfl⟩ ⟨Nat.le_of_ble_eq_true rfl, Nat.le_of_ble_eq_true rfl⟩ hS (fun H locs hPm hfr hS => ?_)
        have hPx := keepX hPx (fun q => hfr _ q hXM.1 hXM.2.1 hXM.2.2.1) (fun q => hfr _ q hXM.2.2.2.1 hXM.2.2.2.2.1 hXM.2.2.2.2.2)
        refine lv_goto (tgt := 461) hx hb dL_law_419 (by decide) ?_
        exact K461 0 ks f2 f3 g3 g4 hT2 _ _ hPx hPm hS ls hl
      · refine lv_tableIn (off := 390) (tgt := 422) hx hb dL_law_32 (by decide) (by decide) (by decide) (by decide) ?_
        obtain ⟨r, h0J, h1J⟩ := pl_typed hT
        refine lv_aload_n hx hb dL_law_422 rfl (lv_at hl 1 rfl) ?_
        refine kL0_typed hF hPx hK h0J hl.1 (Nat.le_of_ble_eq_true rfl) dL_law_423 ⟨Nat.le_of_ble_eq_true rfl, Nat.le_of_ble_eq_true rfl⟩ ⟨Nat.le_of_ble_eq_true rfl, Nat.le_of_ble_eq_true rfl⟩ ?_
        refine lv_aload_n hx hb dL_law_426 rfl (lv_at hl 2 rfl) ?_
        refine kL1_typed hF hPm hK h1J hl.1 (Nat.le_of_ble_eq_true rfl) dL_law_427 ⟨Nat.le_of_ble_eq_true rfl, Nat.le_of_ble_eq_true rfl⟩ ⟨Nat.le_of_ble_eq_true rfl, Nat.le_of_ble_eq_true rfl⟩ ?_
        refine lv_icmp_eq (tgt := 461) hx hb dL_law_430 (by decide) (fun c_9 => ?_) (fun c_9 => ?_)
        · exact K461 n ks f2 f3 g3 g4 hT _ _ hPx hPm hS ls hl
        · exact absurd rfl c_9
      · refine lv_tableIn (off := 403) (tgt := 435) hx hb dL_law_32 (by decide) (by decide) (by decide) (by decide) ?_
        obtain ⟨r, h0J, h1J⟩ := pl_typedDigits hT
        refine lv_aload_n hx hb dL_law_435 rfl (lv_at hl 1 rfl) ?_
        refine kL0_typedDigits hF hPx hK h0J hl.1 (Nat.le_of_ble_eq_true rfl) dL_law_436 ⟨Nat.le_of_ble_eq_true rfl, Nat.le_of_ble_eq_true rfl⟩ ⟨Nat.le_of_ble_eq_true rfl, Nat.le_of_ble_eq_true rfl⟩ ?_
        refine lv_aload_n hx hb dL_law_439 rfl (lv_at hl 2 rfl) ?_
        refine kL1_typedDigits hF hPm hK h1J hl.1 (Nat.le_of_ble_eq_true rfl) dL_law_440 ⟨Nat.le_of_ble_eq_true rfl, Nat.le_of_ble_eq_true rfl⟩ ⟨Nat.le_of_ble_eq_true rfl, Nat.le_of_ble_eq_true rfl⟩ ?_
        refine lv_icmp_eq (tgt := 461) hx hb dL_law_443 (by decide) (fun c_9 => ?_) (fun c_9 => ?_)
        · exact K461 n ks f2 f3 g3 g4 hT _ _ hPx hPm hS ls hl
        · exact absurd rfl c_9
      · refine lv_tableIn (off := 416) (tgt := 448) hx hb dL_law_32 (by decide) (by decide) (by decide) (by decide) ?_
        obtain ⟨r, h0J, h1J⟩ := pl_spare hT
        refine lv_aload_n hx hb dL_law_448 rfl (lv_at hl 1 rfl) ?_
        refine kL0_spare hF hPx hK h0J hl.1 (Nat.le_of_ble_eq_true rfl) dL_law_449 ⟨Nat.le_of_ble_eq_true rfl, Nat.le_of_ble_eq_true rfl⟩ ⟨Nat.le_of_ble_eq_true rfl, Nat.le_of_ble_eq_true rfl⟩ ?_
        refine lv_aload_n hx hb dL_law_452 rfl (lv_at hl 2 rfl) ?_
        refine kL1_spare hF hPm hK h1J hl.1 (Nat.le_of_ble_eq_true rfl) dL_law_453 ⟨Nat.le_of_ble_eq_true rfl, Nat.le_of_ble_eq_true rfl⟩ ⟨Nat.le_of_ble_eq_true rfl, Nat.le_of_ble_eq_true rfl⟩ ?_
        refine lv_icmp_eq (tgt := 461) hx hb dL_law_456 (by decide) (fun c_9 => ?_) (fun c_9 => ?_)
        · exact K461 n ks f2 f3 g3 g4 hT _ _ hPx hPm hS ls hl
        · exact absurd rfl c_9
      · refine lv_tableOut (tgt := 461) hx hb dL_law_32 (by decide) (by decide) ?_
        exact K461 n ks f2 f3 g3 g4 hT _ _ hPx hPm hS ls hl
set_option maxHeartbeats 4000000 in
set_option maxRecDepth 100000 in
/-- from the entry, for every script of at most 256 ints, the law comes to its end with true -/
theorem whole_start {p : Program} {e : Env} {s : State} {m : MethodId} {below : List Frame} {meth : Method} {c : Code} (l : Launch) {b L : Nat} {xs : Nat → Int32} (hL : L ≤ 256) (C0 : lw_At p s m meth c b L xs) : W p l e room_1 s m #[Value.ref b] below meth c s.heap [] 0 0 (lw_Z below #[Value.ref b] s) (entryFrame m ([Value.ref b] : List Value).toArray 4) := by
  obtain ⟨hx, hb, hr, hml, hown, hts0, hX, hbl, hlocks, hgv⟩ := id C0
  have hts : ∀ w ∈ lw_all, w.before #[Value.ref b] s = true := fun w h => hts0 w (lw_all_tbl h)
  have hF : CallFix p m c code 4 s #[Value.ref b] lw_all R_law := ⟨hx, hb, hml, hown, hts⟩
  have hA : ∀ q : Nat, s.heap.size ≤ q → (fun q : Nat => s.heap.size ≤ q) q := fun _ h => h
  obtain ⟨c0, iS0, hKn0⟩ := u_known (C := RX0) (T := TX0) (N := 4) (n := 4) hts in_X0 (hts _ q36)
  obtain ⟨c1, iS1, hKn1⟩ := u_known (C := RX1) (T := TX1) (N := 5) (n := 5) hts in_X1 (hts _ q213)
  obtain ⟨D, hKc⟩ : ∃ D : va_G, ∀ (k : Nat) (q : vw_C), vwCl[k]? = some q → u_Kn s q.1 q.2.1 q.2.2 (D.1 k) (D.2 k) := by
    refine ⟨(fun k => if k = 0 then c0 else c1, fun k => if k = 0 then iS0 else iS1), ?_⟩
    intro k q hq
    match k, hq with
    | 0, hq => cases hq; exact hKn0
    | 1, hq => cases hq; exact hKn1
    | k + 2, hq => simp [vwCl] at hq
  have hS : va_S (fun q : Nat => s.heap.size ≤ q) s.heap s.heap [] := va_S.rf
  have hK0 : va_K D vwCl [] s := ⟨hKc, fun k q h => by simp at h⟩
  have hP : va_P D vwCl [] s.heap := fun k q h => by simp at h
  have hD : va_D (fun q : Nat => s.heap.size ≤ q) [] := ⟨fun i j p q h => by simp at h, fun k q h => by simp at h⟩
  have hl := lv_entry ([.ref b]) (n := 4) (Nat.le_of_ble_eq_true rfl)
  rw [lg_entry_eq]
  generalize (lg_sl ([.ref b]) ++ List.replicate (4 - (lg_sl ([.ref b])).length) Slot.unset).toArray = ls at hl ⊢
  have hl : lv_has ls 4 [(0, .ref b)] := hl
  refine va_new (ci := 0) (fs := [.int 0, .null, .int 0, .int 0]) (C := RX0) (T := TX0) (N := 4) hx hb hts in_X0 tyX0 tyX0_ok hown (hts _ q35) (hts _ q36) (hts _ q33) hK0 hP hD hS hA rfl (fun j hj => by rcases (show j = 0 ∨ j = 1 ∨ j = 2 ∨ j = 3 by omega) with rfl | rfl | rfl | rfl <;> rfl) (Nat.le_of_ble_eq_true rfl) (Nat.le_of_ble_eq_true rfl) dL_law_0 (fun hx0 H hP hD hS => ?_)
  have hP : va_P D vwCl [(hx0, .inr (0, [.int 0, .null, .int 0, .int 0]))] H := hP
  have hx0A : s.heap.size ≤ hx0 := hD.2 0 _ rfl
  have hx0l : hx0 < H.size := (hP 0 _ rfl).lt
  have hHs : s.heap.size ≤ H.size := hS.1
  refine W.widen (k := 1) (n := 4) (by omega) (by omega) ?_
  refine lv_dup hx hb dL_law_3 rfl ?_
  refine in_call (b := hx0) hF (m0_init l D H hx0 (fun q => q = hx0 ∨ H.size ≤ q) (Or.inl rfl) (fun q h => Or.inr h) hP) (lw_meth q39) (hts _ q33) (hts _ q37) (hts _ q38) rfl (by decide +kernel) rfl rfl ⟨Nat.le_of_ble_eq_true rfl, Nat.le_of_ble_eq_true rfl⟩ hK0 hl.1 rfl (Nat.le_of_ble_eq_true rfl) dL_law_4 ⟨Nat.le_of_ble_eq_true rfl, Nat.le_of_ble_eq_true rfl⟩ hS (fun q _ h => by rcases h with rfl | h; exact hx0A; exact Nat.le_trans hHs h) (fun q h => by rcases h with rfl | h; exact hx0A; exact Nat.le_trans hHs h) (fun t H1 locs1 ht hvm hB hk1 hS => ?_)
  obtain ⟨hk, dA, hAx1, hPx, hKx⟩ := hB
  rw [ht] at hPx
  have hKx := va_K.moved hvm.symm hKx
  have hkA : H.size ≤ hk := by
    rcases hAx1.2.2 with h | h
    · exact absurd h.symm hAx1.1
    · exact h
  have hAx : dA0 (fun q : Nat => s.heap.size ≤ q) hx0 hk := ⟨hAx1.1, hx0A, Nat.le_trans hHs hkA⟩
  have hx0l1 : hx0 < H1.size := (hPx 0 _ rfl).lt
  have hkl1 : hk < H1.size := (hPx 1 _ rfl).lt
  have hH1s : s.heap.size ≤ H1.size := hS.1
  refine W.widen (k := 2) (n := 13) (by omega) (by omega) ?_
  refine lv_astore_n (lv' := [(1, .ref hx0), (0, .ref b)]) hx hb dL_law_7 rfl hl (by decide) rfl (fun ls hl => ?_)
  refine va_new (ci := 1) (fs := [.null, .null, .int 0, .int 0, .int 0]) (C := RX1) (T := TX1) (N := 5) hx hb hts in_X1 tyX1 tyX1_ok hown (hts _ q212) (hts _ q213) (hts _ q34) hKx hPx (d0_of hAx) hS hA rfl (fun j hj => by rcases (show j = 0 ∨ j = 1 ∨ j = 2 ∨ j = 3 ∨ j = 4 by omega) with rfl | rfl | rfl | rfl | rfl <;> rfl) (Nat.le_of_ble_eq_true rfl) (Nat.le_of_ble_eq_true rfl) dL_law_8 (fun hm H2 hP2 hD2 hS => ?_)
  have hP2 : va_P D vwCl [(hx0, .inr (0, [.int 0, .ref hk, .int 0, .int 0])), (hk, .inl (dA, 9, .inl (fun _ => 0))), (hm, .inr (1, [.null, .null, .int 0, .int 0, .int 0]))] H2 := hP2
  have hPx : va_P D vwCl (W0 hx0 hk dA 0 (fun _ => 0) 0 0) H2 := hP2.sub [0, 1] rfl
  have hPm : va_P D vwCl [(hm, .inr (1, [.null, .null, .int 0, .int 0, .int 0]))] H2 := hP2.sub [2] rfl
  have n1 : hx0 ≠ hm := fun q => absurd (hD2.1 0 2 _ _ rfl rfl q) (by decide)
  have n2 : hk ≠ hm := fun q => absurd (hD2.1 1 2 _ _ rfl rfl q) (by decide)
  have hmA : s.heap.size ≤ hm := hD2.2 2 _ rfl
  have hx0l2 : hx0 < H2.size := (hPx 0 _ rfl).lt
  have hkl2 : hk < H2.size := (hPx 1 _ rfl).lt
  have hH2s : s.heap.size ≤ H2.size := hS.1
  refine W.widen (k := 3) (n := 18) (by omega) (by omega) ?_
  refine lv_dup hx hb dL_law_11 rfl ?_
  refine in_call (b := hm) hF (m1_init l D H2 hm (fun q => q = hm ∨ H2.size ≤ q) (Or.inl rfl) (fun q h => Or.inr h) hPm) (lw_meth q216) (hts _ q34) (hts _ q214) (hts _ q215) rfl (by decide +kernel) rfl rfl ⟨Nat.le_of_ble_eq_true rfl, Nat.le_of_ble_eq_true rfl⟩ hK0 hl.1 rfl (Nat.le_of_ble_eq_true rfl) dL_law_12 ⟨Nat.le_of_ble_eq_true rfl, Nat.le_of_ble_eq_true rfl⟩ hS (fun q _ h => by rcases h with rfl | h; exact hmA; exact Nat.le_trans hH2s h) (fun q h => by rcases h with rfl | h; exact hmA; exact Nat.le_trans hH2s h) (fun t H3 locs3 ht3 hvm hB hk3 hS => ?_)
  obtain ⟨hv, ht, dB, hAm1, hPm, hKm⟩ := hB
  rw [ht3] at hPm
  have hKm := va_K.moved hvm.symm hKm
  obtain rfl : dA = dB := va_one (hKx.app hKm) 0 1 rfl rfl
  have hvA : H2.size ≤ hv := by
    rcases hAm1.2.2.2.2.1 with h | h
    · exact absurd h.symm hAm1.1
    · exact h
  have htA : H2.size ≤ ht := by
    rcases hAm1.2.2.2.2.2 with h | h
    · exact absurd h.symm hAm1.2.1
    · exact h
  have hPx := keepX hPx (fun q => hk3 hx0 q (fun h => by rcases h with h | h; exact n1 h; omega)) (fun q => hk3 hk q (fun h => by rcases h with h | h; exact n2 h; omega))
  have hAm : dA1 (fun q : Nat => s.heap.size ≤ q) hm hv ht := ⟨hAm1.1, hAm1.2.1, hAm1.2.2.1, hmA, Nat.le_trans hH2s hvA, Nat.le_trans hH2s htA⟩
  have hXM : hx0 ≠ hm ∧ hx0 ≠ hv ∧ hx0 ≠ ht ∧ hk ≠ hm ∧ hk ≠ hv ∧ hk ≠ ht := ⟨n1, by omega, by omega, n2, by omega, by omega⟩
  refine W.widen (k := 5) (n := 1052) (by omega) (by omega) ?_
  refine lv_astore_n (lv' := [(2, .ref hm), (1, .ref hx0), (0, .ref b)]) hx hb dL_law_15 rfl hl (by decide) rfl (fun ls hl => ?_)
  refine lv_iconst (v := 0) hx hb dL_law_16 (by decide) ?_
  refine lv_istore_n (lv' := [(3, .int (nI 0)), (2, .ref hm), (1, .ref hx0), (0, .ref b)]) hx hb dL_law_17 rfl hl (by decide) rfl (fun ls hl => ?_)
  exact law_loop hL C0 hAx hAm hXM hKx (L + 1) 0 (Nat.zero_le L) (by omega) 0 (fun _ => 0) 0 0 0 0 TI_0 _ _ hPx hPm hS ls (lv_sub hl [3, 2, 1, 0] rfl)
end
section
set_option maxRecDepth 100000
set_option maxHeartbeats 4000000 in
theorem lw_walk (l : Launch) (b : Addr) (xs : List Int32) : MetFree l x (headSpec (Jvm.Cond.code x code maxLocals ret :: tables_1) room_1) (lw_P b xs) (fun _ _ _ _ _ => True) lw_Q := by
  refine MetFree.of_bodyS (code := code) (maxLocals := maxLocals) (ret := ret) (by decide) ?_ ?_
  · intro args s m h hn
    obtain ⟨meth, c, h1, h2, h3, h4, h5, h6, -, -⟩ := Cond.code_spec hn (atoms_spec (ws := Jvm.Cond.code x code maxLocals ret :: tables_1) h _ List.mem_cons_self)
    exact ⟨meth, c, h1, h2, h3, h4, h5, h6⟩
  · intro p e s m args below meth c s₁ B hml0 hP _
    obtain ⟨rfl, hx, hbd, hgv⟩ := hP
    obtain ⟨scr, harrAt, hlist, hof, hsmall⟩ := hx
    obtain ⟨hcb, hkn, -, -⟩ := State.arrayAt?_spec harrAt
    have hown : s.vm.findClass R_law = some m.cls := findClass_of_methodNamed B.named
    have hts0 : ∀ c ∈ (Jvm.Cond.code x code maxLocals ret :: tables_1), c.before #[Value.ref b] s = true := atoms_spec (ws := Jvm.Cond.code x code maxLocals ret :: tables_1) B.pre
    have hts : ∀ w ∈ lw_tbl, w.before #[Value.ref b] s = true := k2_hts_sels lw_privs (fun w hw => hts0 w (List.mem_cons_of_mem _ hw)) lw_privs_ok
    have hml : c.maxLocals = 4 := B.maxLocals_eq (hts0 _ List.mem_cons_self)
    have X₀ : Stand p l e room_1 s m #[Value.ref b] below meth c s₁ [] 0 0 := Stand.of_body B
    have hh0 : s₁.heap = s.heap := by rw [B.state]; rfl
    have hsz : scr.slots.size = xs.length := by rw [← Array.length_toList, hlist, List.length_map]
    have hval : ∀ j : Nat, j < xs.length → scr.slots[j]? = some (.int (xs.getD j 0)) := fun j hj => by
      rw [← Array.getElem?_toList, hlist]
      simp [hj]
    have hbl : b < s.heap.size := (Array.getElem?_eq_some_iff.mp hcb).1
    have hX : va_X b xs.length (fun j => xs.getD j 0) s s.heap := ⟨scr, hcb, hof, hkn, hsz, hval⟩
    have K : W p l e room_1 s m #[Value.ref b] below meth c s₁.heap [] 0 0 (lw_Z below #[Value.ref b] s) (entryFrame m ([Value.ref b] : List Value).toArray 4) := by
      rw [hh0]
      exact whole_start l hbd ⟨B.exec, B.bytes, B.returns, hml, hown, hts, hX, hbl, B.notSynchronized, hgv⟩
    obtain ⟨t, a1, o, b1, b2, b3⟩ := K s₁ rfl X₀
    exact ⟨t, o, a1, b1, b2, b3⟩
theorem lw_pre_spec {args : Array Value} {s : State} (h : (Jvm.Cond.and given_1 narrow_1).before args s = true) (hr : rest_1_c.before args s = true) : ∃ (b : Addr) (xs : List Int32), lw_P b xs args s := by
  have hs := flat_of_before _ h
  have hq := flat_of_before _ hr
  have hc : (Cond.count 1).before args s = true := hs _ (by decide +kernel)
  have harr : (Cond.arrayOf (.arg 0) .int).before args s = true := hs _ (by decide +kernel)
  have hle : (Cond.le (.length (.arg 0)) (.int 256)).before args s = true := hs _ (by decide +kernel)
  have hlen : (Cond.isInt (.length (.arg 0))).before args s = true := hq _ (by decide +kernel)
  have hall : (Cond.all (.arg 0) (.isInt (.elem (.arg 0) (.index 0)))).before args s = true := hq _ (by decide +kernel)
  obtain ⟨b, xs, hb, hx⟩ := State.ints_of_pre rfl harr hlen hall
  have hsm : xs.length < 2 ^ 31 := hx.choose_spec.2.2.2
  have hev : (Term.length (.arg 0)).eval args s none [] s = some (.int xs.length.toInt32) := hx.length_eval hb
  have hv := Cond.le_ints hev (show (Term.int 256).eval args s none [] s = some (.int 256) from rfl)
  have hd : xs.length.toInt32 ≤ 256 := by
    simpa [Cond.before, Cond.holds, hv] using hle
  have hN : xs.length ≤ 256 := (Int32.ofNat_le_ofNat hsm (by decide)).mp (show Int32.ofNat xs.length ≤ Int32.ofNat 256 from hd)
  exact ⟨b, xs, Cond.one_arg hc (show args[0]? = some (.ref b) from hb), hx, hN, h⟩
theorem lw_comes (l : Launch) : Comes l x (Jvm.Cond.code x code maxLocals ret :: tables_1) room_1 (fun tb e args s => Calls_1 tb e args s ∧ rest_1 tb e args s ∧ Pre_1 tb e args s)
    (fun _ _ args s o t => lw_Q args s o t) := by
  intro p e ha hc hk s m args below hf hfit hheap happ hpre
  obtain ⟨b, xs, hP⟩ := lw_pre_spec hpre.2.2 hpre.2.1
  obtain ⟨k, o, h1, h2, h3, hQ⟩ := lw_walk l b xs p e ha hc hk s m args below hf ((Spec.applies_iff_loose hf).mp happ).1 hP trivial
  exact ⟨k, o, h1, h2, h3, hQ⟩
theorem lw_frame {s t : State} {o : Outcome} {args : Array Value} (h : Framed s o t [] 600000 7290000) :
    Framed s o t (fieldLocs frame_1_writes args s ++ arrayLocs frame_1_arrays args s ++ staticLocs frame_1_statics s) 600000 7290000 := h
theorem lw_limb (L : Cond) (hL : ∀ (args : Array Value) (s t : State), L.after args s (.returned (some (.int 1))) t = true) :
    ArmFor flags0 classFile x code maxLocals ret World_1 tables_1 room_1 Calls_1 rest_1 Pre_1
      (fun tb e a s o t => postC L tb e a s o t ∧ Framed s o t (fieldLocs frame_1_writes a s ++ arrayLocs frame_1_arrays a s ++ staticLocs frame_1_statics s) 600000 7290000) := by
  intro l _ _ _ p e ha hc hk s m args below hf hfit hheap happ hpre
  obtain ⟨k, o, h1, h2, h3, rfl, hF⟩ := lw_comes l p e ha hc hk s m args below hf hfit hheap happ hpre
  exact ⟨k, _, h1, h2, h3, hL args s _, lw_frame hF⟩
theorem i_vc : Claimed_1_1 ∧ Claimed_1_2 := ⟨lw_limb limb_1_1 (fun args s t => by simp [limb_1_1, Cond.after, Cond.holds, Cond.value]), lw_limb limb_1_2 (fun args s t => Cond.after_iff.mpr (by
  first | (rw [show limb_1_2 = Cond.eq .result (.int 1) from rfl, Cond.eq_ints (x := 1) (y := 1) rfl rfl]; simp; done) | (simp [limb_1_2, Cond.value, Term.eval]; done)))⟩
end
