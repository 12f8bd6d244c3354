section
-- ===== PART A: goes FIRST, ahead of the names: the tables' words, and 'selects' of the private methods out of them =====
/-- a private method of a class that the tables say can be made, by its rows of tables_1 -/
def lw_okq (q : MethodName × Nat) : Prop := (q.1.cls ≠ "java/lang/invoke/MethodHandle" ∧ q.1.cls ≠ "java/lang/invoke/VarHandle") ∧ Cond.instantiable q.1.cls q.2 ∈ tables_1 ∧ Cond.privateMethod q.1 ∈ tables_1 ∧ Cond.instanceMethod q.1 ∈ tables_1
set_option maxRecDepth 100000
theorem lw_t1 {w : Cond} (h : w ∈ tables_1_1) : w ∈ tables_1 := List.mem_append_left _ h
theorem lw_t2 {w : Cond} (h : w ∈ tables_1_2) : w ∈ tables_1 := List.mem_append_right _ h
theorem lw_p0 : lw_okq (⟨"RecordLocks", "refused", "(IIIII)I"⟩, 11) := ⟨⟨by decide +kernel, by decide +kernel⟩, lw_t1 (List.mem_of_getElem? (i := 4) rfl), lw_t1 (List.mem_of_getElem? (i := 52) rfl), lw_t1 (List.mem_of_getElem? (i := 53) rfl)⟩
theorem lw_p1 : lw_okq (⟨"RecordLocks", "rivals", "(IIII)I"⟩, 11) := ⟨⟨by decide +kernel, by decide +kernel⟩, lw_t1 (List.mem_of_getElem? (i := 4) rfl), lw_t1 (List.mem_of_getElem? (i := 62) rfl), lw_t1 (List.mem_of_getElem? (i := 63) rfl)⟩
theorem lw_p2 : lw_okq (⟨"RecordLocks", "stands", "(IIIII)Z"⟩, 11) := ⟨⟨by decide +kernel, by decide +kernel⟩, lw_t1 (List.mem_of_getElem? (i := 4) rfl), lw_t1 (List.mem_of_getElem? (i := 66) rfl), lw_t1 (List.mem_of_getElem? (i := 67) rfl)⟩
theorem lw_p3 : lw_okq (⟨"RecordLocks", "paint", "(IIII)V"⟩, 11) := ⟨⟨by decide +kernel, by decide +kernel⟩, lw_t1 (List.mem_of_getElem? (i := 4) rfl), lw_t1 (List.mem_of_getElem? (i := 70) rfl), lw_t1 (List.mem_of_getElem? (i := 71) rfl)⟩
theorem lw_p4 : lw_okq (⟨"RecordLocks", "cutOut", "(III)V"⟩, 11) := ⟨⟨by decide +kernel, by decide +kernel⟩, lw_t1 (List.mem_of_getElem? (i := 4) rfl), lw_t1 (List.mem_of_getElem? (i := 74) rfl), lw_t1 (List.mem_of_getElem? (i := 75) rfl)⟩
theorem lw_p5 : lw_okq (⟨"RecordLocks", "begin", "(I)I"⟩, 11) := ⟨⟨by decide +kernel, by decide +kernel⟩, lw_t1 (List.mem_of_getElem? (i := 4) rfl), lw_t1 (List.mem_of_getElem? (i := 78) rfl), lw_t1 (List.mem_of_getElem? (i := 79) rfl)⟩
theorem lw_p6 : lw_okq (⟨"RecordLocks", "open", "(I)V"⟩, 11) := ⟨⟨by decide +kernel, by decide +kernel⟩, lw_t1 (List.mem_of_getElem? (i := 4) rfl), lw_t1 (List.mem_of_getElem? (i := 82) rfl), lw_t1 (List.mem_of_getElem? (i := 83) rfl)⟩
theorem lw_p7 : lw_okq (⟨"RecordLocks", "copyPiece", "(II)V"⟩, 11) := ⟨⟨by decide +kernel, by decide +kernel⟩, lw_t1 (List.mem_of_getElem? (i := 4) rfl), lw_t1 (List.mem_of_getElem? (i := 86) rfl), lw_t1 (List.mem_of_getElem? (i := 87) rfl)⟩
theorem lw_p8 : lw_okq (⟨"RecordLocks", "shut", "(I)V"⟩, 11) := ⟨⟨by decide +kernel, by decide +kernel⟩, lw_t1 (List.mem_of_getElem? (i := 4) rfl), lw_t1 (List.mem_of_getElem? (i := 90) rfl), lw_t1 (List.mem_of_getElem? (i := 91) rfl)⟩
theorem lw_p9 : lw_okq (⟨"RecordLocks", "joinNext", "(I)V"⟩, 11) := ⟨⟨by decide +kernel, by decide +kernel⟩, lw_t1 (List.mem_of_getElem? (i := 4) rfl), lw_t1 (List.mem_of_getElem? (i := 94) rfl), lw_t1 (List.mem_of_getElem? (i := 95) rfl)⟩
theorem lw_p10 : lw_okq (⟨"RecordLocks", "settle", "()I"⟩, 11) := ⟨⟨by decide +kernel, by decide +kernel⟩, lw_t1 (List.mem_of_getElem? (i := 4) rfl), lw_t1 (List.mem_of_getElem? (i := 98) rfl), lw_t1 (List.mem_of_getElem? (i := 99) rfl)⟩
theorem lw_p11 : lw_okq (⟨"RecordLocks", "blockers", "(I)I"⟩, 11) := ⟨⟨by decide +kernel, by decide +kernel⟩, lw_t1 (List.mem_of_getElem? (i := 4) rfl), lw_t1 (List.mem_of_getElem? (i := 102) rfl), lw_t1 (List.mem_of_getElem? (i := 103) rfl)⟩
theorem lw_p12 : lw_okq (⟨"RecordLocks", "leadsTo", "(II)Z"⟩, 11) := ⟨⟨by decide +kernel, by decide +kernel⟩, lw_t1 (List.mem_of_getElem? (i := 4) rfl), lw_t1 (List.mem_of_getElem? (i := 110) rfl), lw_t1 (List.mem_of_getElem? (i := 111) rfl)⟩
theorem lw_p13 : lw_okq (⟨"RecordLocks", "pieceAt", "(II)I"⟩, 11) := ⟨⟨by decide +kernel, by decide +kernel⟩, lw_t1 (List.mem_of_getElem? (i := 4) rfl), lw_t1 (List.mem_of_getElem? (i := 133) rfl), lw_t1 (List.mem_of_getElem? (i := 134) rfl)⟩
theorem lw_p14 : lw_okq (⟨"RecordLocks", "find", "(II)I"⟩, 11) := ⟨⟨by decide +kernel, by decide +kernel⟩, lw_t1 (List.mem_of_getElem? (i := 4) rfl), lw_t1 (List.mem_of_getElem? (i := 169) rfl), lw_t1 (List.mem_of_getElem? (i := 170) rfl)⟩
theorem lw_p15 : lw_okq (⟨"RecordLocksModel", "bad", "(I)Z"⟩, 7) := ⟨⟨by decide +kernel, by decide +kernel⟩, lw_t1 (List.mem_of_getElem? (i := 186) rfl), lw_t1 (List.mem_of_getElem? (i := 218) rfl), lw_t1 (List.mem_of_getElem? (i := 219) rfl)⟩
def lw_privs_1 : List (MethodName × Nat) := [(⟨"RecordLocks", "refused", "(IIIII)I"⟩, 11), (⟨"RecordLocks", "rivals", "(IIII)I"⟩, 11), (⟨"RecordLocks", "stands", "(IIIII)Z"⟩, 11), (⟨"RecordLocks", "paint", "(IIII)V"⟩, 11), (⟨"RecordLocks", "cutOut", "(III)V"⟩, 11), (⟨"RecordLocks", "begin", "(I)I"⟩, 11), (⟨"RecordLocks", "open", "(I)V"⟩, 11), (⟨"RecordLocks", "copyPiece", "(II)V"⟩, 11), (⟨"RecordLocks", "shut", "(I)V"⟩, 11), (⟨"RecordLocks", "joinNext", "(I)V"⟩, 11), (⟨"RecordLocks", "settle", "()I"⟩, 11), (⟨"RecordLocks", "blockers", "(I)I"⟩, 11), (⟨"RecordLocks", "leadsTo", "(II)Z"⟩, 11), (⟨"RecordLocks", "pieceAt", "(II)I"⟩, 11), (⟨"RecordLocks", "find", "(II)I"⟩, 11), (⟨"RecordLocksModel", "bad", "(I)Z"⟩, 7)]
theorem lw_r1 : ∀ q ∈ lw_privs_1, lw_okq q := List.forall_mem_cons.mpr ⟨lw_p0, List.forall_mem_cons.mpr ⟨lw_p1, List.forall_mem_cons.mpr ⟨lw_p2, List.forall_mem_cons.mpr ⟨lw_p3, List.forall_mem_cons.mpr ⟨lw_p4, List.forall_mem_cons.mpr ⟨lw_p5, List.forall_mem_cons.mpr ⟨lw_p6, List.forall_mem_cons.mpr ⟨lw_p7, List.forall_mem_cons.mpr ⟨lw_p8, List.forall_mem_cons.mpr ⟨lw_p9, List.forall_mem_cons.mpr ⟨lw_p10, List.forall_mem_cons.mpr ⟨lw_p11, List.forall_mem_cons.mpr ⟨lw_p12, List.forall_mem_cons.mpr ⟨lw_p13, List.forall_mem_cons.mpr ⟨lw_p14, List.forall_mem_cons.mpr ⟨lw_p15, fun _ h => absurd h List.not_mem_nil⟩⟩⟩⟩⟩⟩⟩⟩⟩⟩⟩⟩⟩⟩⟩⟩
theorem lw_p16 : lw_okq (⟨"RecordLocksModel", "badRange", "(II)Z"⟩, 7) := ⟨⟨by decide +kernel, by decide +kernel⟩, lw_t1 (List.mem_of_getElem? (i := 186) rfl), lw_t1 (List.mem_of_getElem? (i := 222) rfl), lw_t1 (List.mem_of_getElem? (i := 223) rfl)⟩
theorem lw_p17 : lw_okq (⟨"RecordLocksModel", "placeOf", "(I)I"⟩, 7) := ⟨⟨by decide +kernel, by decide +kernel⟩, lw_t1 (List.mem_of_getElem? (i := 186) rfl), lw_t1 (List.mem_of_getElem? (i := 226) rfl), lw_t1 (List.mem_of_getElem? (i := 227) rfl)⟩
theorem lw_p18 : lw_okq (⟨"RecordLocksModel", "against", "(IIII)I"⟩, 7) := ⟨⟨by decide +kernel, by decide +kernel⟩, lw_t1 (List.mem_of_getElem? (i := 186) rfl), lw_t1 (List.mem_of_getElem? (i := 230) rfl), lw_t1 (List.mem_of_getElem? (i := 231) rfl)⟩
theorem lw_p19 : lw_okq (⟨"RecordLocksModel", "clash", "(II)Z"⟩, 7) := ⟨⟨by decide +kernel, by decide +kernel⟩, lw_t1 (List.mem_of_getElem? (i := 186) rfl), lw_t1 (List.mem_of_getElem? (i := 234) rfl), lw_t1 (List.mem_of_getElem? (i := 235) rfl)⟩
theorem lw_p20 : lw_okq (⟨"RecordLocksModel", "grant", "(IIII)V"⟩, 7) := ⟨⟨by decide +kernel, by decide +kernel⟩, lw_t1 (List.mem_of_getElem? (i := 186) rfl), lw_t1 (List.mem_of_getElem? (i := 238) rfl), lw_t1 (List.mem_of_getElem? (i := 239) rfl)⟩
theorem lw_p21 : lw_okq (⟨"RecordLocksModel", "settle", "()I"⟩, 7) := ⟨⟨by decide +kernel, by decide +kernel⟩, lw_t1 (List.mem_of_getElem? (i := 186) rfl), lw_t2 (List.mem_of_getElem? (i := 2) rfl), lw_t2 (List.mem_of_getElem? (i := 3) rfl)⟩
theorem lw_p22 : lw_okq (⟨"RecordLocksModel", "ready", "()I"⟩, 7) := ⟨⟨by decide +kernel, by decide +kernel⟩, lw_t1 (List.mem_of_getElem? (i := 186) rfl), lw_t2 (List.mem_of_getElem? (i := 6) rfl), lw_t2 (List.mem_of_getElem? (i := 7) rfl)⟩
theorem lw_p23 : lw_okq (⟨"RecordLocksModel", "leave", "(I)V"⟩, 7) := ⟨⟨by decide +kernel, by decide +kernel⟩, lw_t1 (List.mem_of_getElem? (i := 186) rfl), lw_t2 (List.mem_of_getElem? (i := 10) rfl), lw_t2 (List.mem_of_getElem? (i := 11) rfl)⟩
theorem lw_p24 : lw_okq (⟨"RecordLocksModel", "circles", "(II)Z"⟩, 7) := ⟨⟨by decide +kernel, by decide +kernel⟩, lw_t1 (List.mem_of_getElem? (i := 186) rfl), lw_t2 (List.mem_of_getElem? (i := 18) rfl), lw_t2 (List.mem_of_getElem? (i := 19) rfl)⟩
theorem lw_p25 : lw_okq (⟨"RecordLocksModel", "badByte", "(I)Z"⟩, 7) := ⟨⟨by decide +kernel, by decide +kernel⟩, lw_t1 (List.mem_of_getElem? (i := 186) rfl), lw_t2 (List.mem_of_getElem? (i := 34) rfl), lw_t2 (List.mem_of_getElem? (i := 35) rfl)⟩
theorem lw_p26 : lw_okq (⟨"RecordLocksModel", "begins", "(II)Z"⟩, 7) := ⟨⟨by decide +kernel, by decide +kernel⟩, lw_t1 (List.mem_of_getElem? (i := 186) rfl), lw_t2 (List.mem_of_getElem? (i := 66) rfl), lw_t2 (List.mem_of_getElem? (i := 67) rfl)⟩
theorem lw_p27 : lw_okq (⟨"RecordLocksModel", "startOf", "(II)I"⟩, 7) := ⟨⟨by decide +kernel, by decide +kernel⟩, lw_t1 (List.mem_of_getElem? (i := 186) rfl), lw_t2 (List.mem_of_getElem? (i := 74) rfl), lw_t2 (List.mem_of_getElem? (i := 75) rfl)⟩
def lw_privs_2 : List (MethodName × Nat) := [(⟨"RecordLocksModel", "badRange", "(II)Z"⟩, 7), (⟨"RecordLocksModel", "placeOf", "(I)I"⟩, 7), (⟨"RecordLocksModel", "against", "(IIII)I"⟩, 7), (⟨"RecordLocksModel", "clash", "(II)Z"⟩, 7), (⟨"RecordLocksModel", "grant", "(IIII)V"⟩, 7), (⟨"RecordLocksModel", "settle", "()I"⟩, 7), (⟨"RecordLocksModel", "ready", "()I"⟩, 7), (⟨"RecordLocksModel", "leave", "(I)V"⟩, 7), (⟨"RecordLocksModel", "circles", "(II)Z"⟩, 7), (⟨"RecordLocksModel", "badByte", "(I)Z"⟩, 7), (⟨"RecordLocksModel", "begins", "(II)Z"⟩, 7), (⟨"RecordLocksModel", "startOf", "(II)I"⟩, 7)]
theorem lw_r2 : ∀ q ∈ lw_privs_2, lw_okq q := List.forall_mem_cons.mpr ⟨lw_p16, List.forall_mem_cons.mpr ⟨lw_p17, List.forall_mem_cons.mpr ⟨lw_p18, List.forall_mem_cons.mpr ⟨lw_p19, List.forall_mem_cons.mpr ⟨lw_p20, List.forall_mem_cons.mpr ⟨lw_p21, List.forall_mem_cons.mpr ⟨lw_p22, List.forall_mem_cons.mpr ⟨lw_p23, List.forall_mem_cons.mpr ⟨lw_p24, List.forall_mem_cons.mpr ⟨lw_p25, List.forall_mem_cons.mpr ⟨lw_p26, List.forall_mem_cons.mpr ⟨lw_p27, fun _ h => absurd h List.not_mem_nil⟩⟩⟩⟩⟩⟩⟩⟩⟩⟩⟩⟩
def lw_privs : List (MethodName × Nat) := lw_privs_1 ++ (lw_privs_2)
def lw_tbl : List Cond := k2_sels lw_privs ++ tables_1
theorem lw_privs_ok : ∀ q ∈ lw_privs, lw_okq q := by
  show ∀ q ∈ lw_privs_1 ++ (lw_privs_2), lw_okq q
  exact List.forall_mem_append.mpr ⟨lw_r1, lw_r2⟩
-- ===== ONE list of words for every method: the tables' words that hold all through a run =====
def lw_all : List Cond := lw_tbl.filter goodWord
/-- a word of the tables by its place: claim/WORDS.tsv -/
theorem lw_w {w : Cond} (i : Nat) (h : lw_tbl[i]? = some w) (g : goodWord w = true) : w ∈ lw_all := List.mem_filter.mpr ⟨List.mem_of_getElem? h, g⟩
theorem lw_all_tbl {w : Cond} (h : w ∈ lw_all) : w ∈ lw_tbl := (List.mem_filter.mp h).1
theorem lw_self : GoodIn lw_all lw_all := fun w h => ⟨h, good_of_word (List.mem_filter.mp h).2⟩
/-- a class's field words, by their places -/
theorem lw_in (ws : List Cond) (ps : List Nat) (hp : ws = ps.filterMap (fun i => lw_tbl[i]?)) (hg : ws.all goodWord = true) : ∀ w ∈ ws, w ∈ lw_all := by
  intro w h
  have h1 := List.all_eq_true.mp hg w h
  rw [hp] at h
  obtain ⟨i, -, hi⟩ := List.mem_filterMap.mp h
  exact lw_w i hi h1
/-- the words of a contract for the method y with code b, L locals, answer r -/
abbrev ws_ (y : MethodName) (b : ByteArray) (L : Nat) (r : Option FieldType) : List Cond := Cond.code y b L r :: lw_all
theorem lw_meth {y : MethodName} {b : ByteArray} {L : Nat} {r : Option FieldType} (h : Cond.code y b L r ∈ lw_all) : GoodIn lw_all (ws_ y b L r) := by
  intro w hw
  rcases List.mem_cons.mp hw with e | e
  · rw [e]
    exact lw_self _ h
  · exact lw_self _ e
theorem lw_app {a c : List Cond} (ha : ∀ w ∈ a, w ∈ lw_all) (hc : GoodIn lw_all c) : GoodIn lw_all (a ++ c) := by
  intro w hw
  rcases List.mem_append.mp hw with e | e
  · exact lw_self w (ha w e)
  · exact hc w e
/-- what a call through an object asks: cwV n hts (lw_V ..) -/
theorem lw_V {own : String} {idx : Nat} {C : String} {y : MethodName} {b : ByteArray} {L : Nat} {r : Option FieldType} (h1 : Cond.methodLink own idx y ∈ lw_all) (h2 : Cond.instanceMethod y ∈ lw_all) (h3 : Cond.selects C y y ∈ lw_all) (h4 : Cond.initialized C ∈ lw_all) (h5 : Cond.code y b L r ∈ lw_all) : GoodIn lw_all (wsV own idx C y (ws_ y b L r)) := by
  refine lw_app ?_ (lw_meth h5)
  intro w hw
  simp only [List.mem_cons, List.not_mem_nil, or_false] at hw
  rcases hw with e | e | e | e
  · rw [e]; exact h1
  · rw [e]; exact h2
  · rw [e]; exact h3
  · rw [e]; exact h4
/-- what a static call asks: va_cwS n hts (lw_S ..) -/
theorem lw_S {own : String} {idx : Nat} {y : MethodName} {b : ByteArray} {L : Nat} {r : Option FieldType} (h1 : Cond.methodLink own idx y ∈ lw_all) (h2 : Cond.static y ∈ lw_all) (h3 : Cond.initialized y.cls ∈ lw_all) (h4 : Cond.code y b L r ∈ lw_all) : GoodIn lw_all (va_wsS own idx y (ws_ y b L r)) := by
  refine lw_app ?_ (lw_meth h4)
  intro w hw
  simp only [List.mem_cons, List.not_mem_nil, or_false] at hw
  rcases hw with e | e | e
  · rw [e]; exact h1
  · rw [e]; exact h2
  · rw [e]; exact h3
/-- the words of a contract for a method WITH HANDLERS (hh: its table) -/
abbrev wsW_ (y : MethodName) (b : ByteArray) (L : Nat) (r : Option FieldType) (hh : List (Nat × Nat × Nat × Nat)) : List Cond := Cond.codeWith y b L r hh :: lw_all
theorem lw_methW {y : MethodName} {b : ByteArray} {L : Nat} {r : Option FieldType} {hh : List (Nat × Nat × Nat × Nat)} (h : Cond.codeWith y b L r hh ∈ lw_all) : GoodIn lw_all (wsW_ y b L r hh) := by
  intro w hw
  rcases List.mem_cons.mp hw with e | e
  · rw [e]
    exact lw_self _ h
  · exact lw_self _ e
/-- any list of words by their places (lw_in), good -/
theorem lw_good {ws : List Cond} (h : ∀ w ∈ ws, w ∈ lw_all) : GoodIn lw_all ws := fun w hw => lw_self w (h w hw)
/-- what a call of a method with handlers asks: vx_cwVW n hts (lw_VW ..), vx_cwSW n hts (lw_SW ..) -/
theorem lw_VW {own : String} {idx : Nat} {C : String} {y : MethodName} {b : ByteArray} {L : Nat} {r : Option FieldType} {hh : List (Nat × Nat × Nat × Nat)} (h1 : Cond.methodLink own idx y ∈ lw_all) (h2 : Cond.instanceMethod y ∈ lw_all) (h3 : Cond.selects C y y ∈ lw_all) (h4 : Cond.initialized C ∈ lw_all) (h5 : Cond.codeWith y b L r hh ∈ lw_all) : GoodIn lw_all (wsV own idx C y (wsW_ y b L r hh)) := by
  refine lw_app ?_ (lw_methW h5)
  intro w hw
  simp only [List.mem_cons, List.not_mem_nil, or_false] at hw
  rcases hw with e | e | e | e
  · rw [e]; exact h1
  · rw [e]; exact h2
  · rw [e]; exact h3
  · rw [e]; exact h4
theorem lw_SW {own : String} {idx : Nat} {y : MethodName} {b : ByteArray} {L : Nat} {r : Option FieldType} {hh : List (Nat × Nat × Nat × Nat)} (h1 : Cond.methodLink own idx y ∈ lw_all) (h2 : Cond.static y ∈ lw_all) (h3 : Cond.initialized y.cls ∈ lw_all) (h4 : Cond.codeWith y b L r hh ∈ lw_all) : GoodIn lw_all (va_wsS own idx y (wsW_ y b L r hh)) := by
  refine lw_app ?_ (lw_methW h4)
  intro w hw
  simp only [List.mem_cons, List.not_mem_nil, or_false] at hw
  rcases hw with e | e | e
  · rw [e]; exact h1
  · rw [e]; exact h2
  · rw [e]; exact h3
/-- a word by its place in its run of the tables -/
theorem lw_at {r : List Cond} (hr : ∀ w ∈ r, w ∈ lw_tbl) {w : Cond} (i : Nat) (h : r[i]? = some w) : w ∈ lw_tbl := hr w (List.mem_of_getElem? h)
theorem lw_g {w : Cond} (h : w ∈ lw_tbl) (g : goodWord w = true) : w ∈ lw_all := List.mem_filter.mpr ⟨h, g⟩
theorem lw_ms : ∀ w ∈ k2_sels lw_privs, w ∈ lw_tbl := fun w h => show w ∈ k2_sels lw_privs ++ tables_1 from List.mem_append_left _ h
theorem lw_m1 : ∀ w ∈ tables_1_1, w ∈ lw_tbl := fun w h => show w ∈ k2_sels lw_privs ++ tables_1 from List.mem_append_right (k2_sels lw_privs) (show w ∈ tables_1 from List.mem_append_left _ h)
theorem lw_m2 : ∀ w ∈ tables_1_2, w ∈ lw_tbl := fun w h => show w ∈ k2_sels lw_privs ++ tables_1 from List.mem_append_right (k2_sels lw_privs) (show w ∈ tables_1 from List.mem_append_right _ h)
theorem qs0 : (Cond.selects "RecordLocks" ⟨"RecordLocks", "refused", "(IIIII)I"⟩ ⟨"RecordLocks", "refused", "(IIIII)I"⟩) ∈ lw_all := lw_g (lw_at lw_ms 0 rfl) rfl
theorem qs1 : (Cond.selects "RecordLocks" ⟨"RecordLocks", "rivals", "(IIII)I"⟩ ⟨"RecordLocks", "rivals", "(IIII)I"⟩) ∈ lw_all := lw_g (lw_at lw_ms 1 rfl) rfl
theorem qs2 : (Cond.selects "RecordLocks" ⟨"RecordLocks", "stands", "(IIIII)Z"⟩ ⟨"RecordLocks", "stands", "(IIIII)Z"⟩) ∈ lw_all := lw_g (lw_at lw_ms 2 rfl) rfl
theorem qs3 : (Cond.selects "RecordLocks" ⟨"RecordLocks", "paint", "(IIII)V"⟩ ⟨"RecordLocks", "paint", "(IIII)V"⟩) ∈ lw_all := lw_g (lw_at lw_ms 3 rfl) rfl
theorem qs4 : (Cond.selects "RecordLocks" ⟨"RecordLocks", "cutOut", "(III)V"⟩ ⟨"RecordLocks", "cutOut", "(III)V"⟩) ∈ lw_all := lw_g (lw_at lw_ms 4 rfl) rfl
theorem qs5 : (Cond.selects "RecordLocks" ⟨"RecordLocks", "begin", "(I)I"⟩ ⟨"RecordLocks", "begin", "(I)I"⟩) ∈ lw_all := lw_g (lw_at lw_ms 5 rfl) rfl
theorem qs6 : (Cond.selects "RecordLocks" ⟨"RecordLocks", "open", "(I)V"⟩ ⟨"RecordLocks", "open", "(I)V"⟩) ∈ lw_all := lw_g (lw_at lw_ms 6 rfl) rfl
theorem qs7 : (Cond.selects "RecordLocks" ⟨"RecordLocks", "copyPiece", "(II)V"⟩ ⟨"RecordLocks", "copyPiece", "(II)V"⟩) ∈ lw_all := lw_g (lw_at lw_ms 7 rfl) rfl
theorem qs8 : (Cond.selects "RecordLocks" ⟨"RecordLocks", "shut", "(I)V"⟩ ⟨"RecordLocks", "shut", "(I)V"⟩) ∈ lw_all := lw_g (lw_at lw_ms 8 rfl) rfl
theorem qs9 : (Cond.selects "RecordLocks" ⟨"RecordLocks", "joinNext", "(I)V"⟩ ⟨"RecordLocks", "joinNext", "(I)V"⟩) ∈ lw_all := lw_g (lw_at lw_ms 9 rfl) rfl
theorem qs10 : (Cond.selects "RecordLocks" ⟨"RecordLocks", "settle", "()I"⟩ ⟨"RecordLocks", "settle", "()I"⟩) ∈ lw_all := lw_g (lw_at lw_ms 10 rfl) rfl
theorem qs11 : (Cond.selects "RecordLocks" ⟨"RecordLocks", "blockers", "(I)I"⟩ ⟨"RecordLocks", "blockers", "(I)I"⟩) ∈ lw_all := lw_g (lw_at lw_ms 11 rfl) rfl
theorem qs12 : (Cond.selects "RecordLocks" ⟨"RecordLocks", "leadsTo", "(II)Z"⟩ ⟨"RecordLocks", "leadsTo", "(II)Z"⟩) ∈ lw_all := lw_g (lw_at lw_ms 12 rfl) rfl
theorem qs13 : (Cond.selects "RecordLocks" ⟨"RecordLocks", "pieceAt", "(II)I"⟩ ⟨"RecordLocks", "pieceAt", "(II)I"⟩) ∈ lw_all := lw_g (lw_at lw_ms 13 rfl) rfl
theorem qs14 : (Cond.selects "RecordLocks" ⟨"RecordLocks", "find", "(II)I"⟩ ⟨"RecordLocks", "find", "(II)I"⟩) ∈ lw_all := lw_g (lw_at lw_ms 14 rfl) rfl
theorem qs15 : (Cond.selects "RecordLocksModel" ⟨"RecordLocksModel", "bad", "(I)Z"⟩ ⟨"RecordLocksModel", "bad", "(I)Z"⟩) ∈ lw_all := lw_g (lw_at lw_ms 15 rfl) rfl
theorem qs16 : (Cond.selects "RecordLocksModel" ⟨"RecordLocksModel", "badRange", "(II)Z"⟩ ⟨"RecordLocksModel", "badRange", "(II)Z"⟩) ∈ lw_all := lw_g (lw_at lw_ms 16 rfl) rfl
theorem qs17 : (Cond.selects "RecordLocksModel" ⟨"RecordLocksModel", "placeOf", "(I)I"⟩ ⟨"RecordLocksModel", "placeOf", "(I)I"⟩) ∈ lw_all := lw_g (lw_at lw_ms 17 rfl) rfl
theorem qs18 : (Cond.selects "RecordLocksModel" ⟨"RecordLocksModel", "against", "(IIII)I"⟩ ⟨"RecordLocksModel", "against", "(IIII)I"⟩) ∈ lw_all := lw_g (lw_at lw_ms 18 rfl) rfl
theorem qs19 : (Cond.selects "RecordLocksModel" ⟨"RecordLocksModel", "clash", "(II)Z"⟩ ⟨"RecordLocksModel", "clash", "(II)Z"⟩) ∈ lw_all := lw_g (lw_at lw_ms 19 rfl) rfl
theorem qs20 : (Cond.selects "RecordLocksModel" ⟨"RecordLocksModel", "grant", "(IIII)V"⟩ ⟨"RecordLocksModel", "grant", "(IIII)V"⟩) ∈ lw_all := lw_g (lw_at lw_ms 20 rfl) rfl
theorem qs21 : (Cond.selects "RecordLocksModel" ⟨"RecordLocksModel", "settle", "()I"⟩ ⟨"RecordLocksModel", "settle", "()I"⟩) ∈ lw_all := lw_g (lw_at lw_ms 21 rfl) rfl
theorem qs22 : (Cond.selects "RecordLocksModel" ⟨"RecordLocksModel", "ready", "()I"⟩ ⟨"RecordLocksModel", "ready", "()I"⟩) ∈ lw_all := lw_g (lw_at lw_ms 22 rfl) rfl
theorem qs23 : (Cond.selects "RecordLocksModel" ⟨"RecordLocksModel", "leave", "(I)V"⟩ ⟨"RecordLocksModel", "leave", "(I)V"⟩) ∈ lw_all := lw_g (lw_at lw_ms 23 rfl) rfl
theorem qs24 : (Cond.selects "RecordLocksModel" ⟨"RecordLocksModel", "circles", "(II)Z"⟩ ⟨"RecordLocksModel", "circles", "(II)Z"⟩) ∈ lw_all := lw_g (lw_at lw_ms 24 rfl) rfl
theorem qs25 : (Cond.selects "RecordLocksModel" ⟨"RecordLocksModel", "badByte", "(I)Z"⟩ ⟨"RecordLocksModel", "badByte", "(I)Z"⟩) ∈ lw_all := lw_g (lw_at lw_ms 25 rfl) rfl
theorem qs26 : (Cond.selects "RecordLocksModel" ⟨"RecordLocksModel", "begins", "(II)Z"⟩ ⟨"RecordLocksModel", "begins", "(II)Z"⟩) ∈ lw_all := lw_g (lw_at lw_ms 26 rfl) rfl
theorem qs27 : (Cond.selects "RecordLocksModel" ⟨"RecordLocksModel", "startOf", "(II)I"⟩ ⟨"RecordLocksModel", "startOf", "(II)I"⟩) ∈ lw_all := lw_g (lw_at lw_ms 27 rfl) rfl
end
section
set_option maxRecDepth 100000
/-! RecordLocks -/
def RX0 : String := "RecordLocks"
def TX0 : u_T := fun k => match k with
  | 0 => ("RecordLocks", "ownerOf", "[I", true)
  | 1 => ("RecordLocks", "firsts", "[I", true)
  | 2 => ("RecordLocks", "lasts", "[I", true)
  | 3 => ("RecordLocks", "types", "[I", true)
  | 4 => ("RecordLocks", "waits", "[Z", true)
  | 5 => ("RecordLocks", "wantFirst", "[I", true)
  | 6 => ("RecordLocks", "wantLast", "[I", true)
  | 7 => ("RecordLocks", "wantType", "[I", true)
  | 8 => ("RecordLocks", "since", "[I", true)
  | 9 => ("RecordLocks", "count", "I", false)
  | _ => ("RecordLocks", "clock", "I", false)
def tyX0 : Nat → FieldType := fun k => match k with
  | 0 => .array .int
  | 1 => .array .int
  | 2 => .array .int
  | 3 => .array .int
  | 4 => .array .boolean
  | 5 => .array .int
  | 6 => .array .int
  | 7 => .array .int
  | 8 => .array .int
  | 9 => .int
  | _ => .int
abbrev wsX00 : List Cond := u_ws RX0 TX0 11
theorem nmX0 : ∀ a, a < 11 → ∀ b, b < 11 → a ≠ b → (TX0 a).2.1 ≠ (TX0 b).2.1 := by decide +kernel
theorem tyX0_ok : ∀ k, k < 11 → parseFieldDescriptor (TX0 k).2.2.1 = some (tyX0 k) := by decide +kernel
abbrev cX0_init : ByteArray := prog_1_method_1_code
def yX0_init : MethodName := ⟨RX0, "<init>", "()V"⟩
abbrev cX0_lock : ByteArray := prog_1_method_2_code
def yX0_lock : MethodName := ⟨RX0, "lock", "(IIII)I"⟩
abbrev cX0_refused : ByteArray := prog_1_method_22_code
def yX0_refused : MethodName := ⟨RX0, "refused", "(IIIII)I"⟩
abbrev cX0_isOwner : ByteArray := prog_1_method_19_code
def yX0_isOwner : MethodName := ⟨RX0, "isOwner", "(I)Z"⟩
abbrev cX0_isRange : ByteArray := prog_1_method_21_code
def yX0_isRange : MethodName := ⟨RX0, "isRange", "(II)Z"⟩
abbrev cX0_rivals : ByteArray := prog_1_method_27_code
def yX0_rivals : MethodName := ⟨RX0, "rivals", "(IIII)I"⟩
abbrev cX0_stands : ByteArray := prog_1_method_26_code
def yX0_stands : MethodName := ⟨RX0, "stands", "(IIIII)Z"⟩
abbrev cX0_paint : ByteArray := prog_1_method_31_code
def yX0_paint : MethodName := ⟨RX0, "paint", "(IIII)V"⟩
abbrev cX0_cutOut : ByteArray := prog_1_method_32_code
def yX0_cutOut : MethodName := ⟨RX0, "cutOut", "(III)V"⟩
abbrev cX0_begin : ByteArray := prog_1_method_23_code
def yX0_begin : MethodName := ⟨RX0, "begin", "(I)I"⟩
abbrev cX0_open : ByteArray := prog_1_method_33_code
def yX0_open : MethodName := ⟨RX0, "open", "(I)V"⟩
abbrev cX0_copyPiece : ByteArray := prog_1_method_35_code
def yX0_copyPiece : MethodName := ⟨RX0, "copyPiece", "(II)V"⟩
abbrev cX0_shut : ByteArray := prog_1_method_34_code
def yX0_shut : MethodName := ⟨RX0, "shut", "(I)V"⟩
abbrev cX0_joinNext : ByteArray := prog_1_method_36_code
def yX0_joinNext : MethodName := ⟨RX0, "joinNext", "(I)V"⟩
abbrev cX0_settle : ByteArray := prog_1_method_30_code
def yX0_settle : MethodName := ⟨RX0, "settle", "()I"⟩
abbrev cX0_blockers : ByteArray := prog_1_method_28_code
def yX0_blockers : MethodName := ⟨RX0, "blockers", "(I)I"⟩
abbrev cX0_await : ByteArray := prog_1_method_3_code
def yX0_await : MethodName := ⟨RX0, "await", "(IIII)I"⟩
abbrev cX0_leadsTo : ByteArray := prog_1_method_29_code
def yX0_leadsTo : MethodName := ⟨RX0, "leadsTo", "(II)Z"⟩
abbrev cX0_cancel : ByteArray := prog_1_method_4_code
def yX0_cancel : MethodName := ⟨RX0, "cancel", "(I)I"⟩
abbrev cX0_close : ByteArray := prog_1_method_5_code
def yX0_close : MethodName := ⟨RX0, "close", "(I)I"⟩
abbrev cX0_count : ByteArray := prog_1_method_17_code
def yX0_count : MethodName := ⟨RX0, "count", "(II)I"⟩
abbrev cX0_lockAt : ByteArray := prog_1_method_6_code
def yX0_lockAt : MethodName := ⟨RX0, "lockAt", "(II)I"⟩
abbrev cX0_isByte : ByteArray := prog_1_method_20_code
def yX0_isByte : MethodName := ⟨RX0, "isByte", "(I)Z"⟩
abbrev cX0_pieceAt : ByteArray := prog_1_method_25_code
def yX0_pieceAt : MethodName := ⟨RX0, "pieceAt", "(II)I"⟩
abbrev cX0_holders : ByteArray := prog_1_method_7_code
def yX0_holders : MethodName := ⟨RX0, "holders", "(I)I"⟩
abbrev cX0_obstacle : ByteArray := prog_1_method_8_code
def yX0_obstacle : MethodName := ⟨RX0, "obstacle", "(IIII)I"⟩
abbrev cX0_wouldCircle : ByteArray := prog_1_method_9_code
def yX0_wouldCircle : MethodName := ⟨RX0, "wouldCircle", "(IIII)I"⟩
abbrev cX0_waiting : ByteArray := prog_1_method_10_code
def yX0_waiting : MethodName := ⟨RX0, "waiting", "(I)I"⟩
abbrev cX0_waitsFor : ByteArray := prog_1_method_11_code
def yX0_waitsFor : MethodName := ⟨RX0, "waitsFor", "(I)I"⟩
abbrev cX0_ahead : ByteArray := prog_1_method_12_code
def yX0_ahead : MethodName := ⟨RX0, "ahead", "(I)I"⟩
abbrev cX0_pieces : ByteArray := prog_1_method_13_code
def yX0_pieces : MethodName := ⟨RX0, "pieces", "(I)I"⟩
abbrev cX0_pieceStart : ByteArray := prog_1_method_14_code
def yX0_pieceStart : MethodName := ⟨RX0, "pieceStart", "(II)I"⟩
abbrev cX0_find : ByteArray := prog_1_method_24_code
def yX0_find : MethodName := ⟨RX0, "find", "(II)I"⟩
abbrev cX0_pieceEnd : ByteArray := prog_1_method_15_code
def yX0_pieceEnd : MethodName := ⟨RX0, "pieceEnd", "(II)I"⟩
abbrev cX0_pieceType : ByteArray := prog_1_method_16_code
def yX0_pieceType : MethodName := ⟨RX0, "pieceType", "(II)I"⟩
abbrev cX0_free : ByteArray := prog_1_method_18_code
def yX0_free : MethodName := ⟨RX0, "free", "()I"⟩
theorem q29 : (Jvm.Cond.initialized "RecordLocks") ∈ lw_all := lw_g (lw_at lw_m1 1 rfl) rfl
theorem q32 : (Jvm.Cond.instantiable "RecordLocks" (11 : Nat)) ∈ lw_all := lw_g (lw_at lw_m1 4 rfl) rfl
theorem q34 : (Jvm.Cond.instanceMethod ({ cls := "RecordLocks", name := "<init>", desc := "()V" } : Jvm.MethodName)) ∈ lw_all := lw_g (lw_at lw_m1 6 rfl) rfl
theorem q35 : (Jvm.Cond.code ({ cls := "RecordLocks", name := "<init>", desc := "()V" } : Jvm.MethodName) prog_1_method_1_code (1 : Nat) (Option.none : Option Jvm.ClassFile.FieldType)) ∈ lw_all := lw_g (lw_at lw_m1 7 rfl) rfl
theorem q36 : (Jvm.Cond.methodLink "RecordLocks" (1 : Nat) ({ cls := "java/lang/Object", name := "<init>", desc := "()V" } : Jvm.MethodName)) ∈ lw_all := lw_g (lw_at lw_m1 8 rfl) rfl
theorem q39 : (Jvm.Cond.fieldLink "RecordLocks" (7 : Nat) "RecordLocks" "ownerOf" "[I") ∈ lw_all := lw_g (lw_at lw_m1 11 rfl) rfl
theorem q40 : (Jvm.Cond.fieldLink "RecordLocks" (13 : Nat) "RecordLocks" "firsts" "[I") ∈ lw_all := lw_g (lw_at lw_m1 12 rfl) rfl
theorem q41 : (Jvm.Cond.fieldLink "RecordLocks" (16 : Nat) "RecordLocks" "lasts" "[I") ∈ lw_all := lw_g (lw_at lw_m1 13 rfl) rfl
theorem q42 : (Jvm.Cond.fieldLink "RecordLocks" (19 : Nat) "RecordLocks" "types" "[I") ∈ lw_all := lw_g (lw_at lw_m1 14 rfl) rfl
theorem q43 : (Jvm.Cond.fieldLink "RecordLocks" (22 : Nat) "RecordLocks" "waits" "[Z") ∈ lw_all := lw_g (lw_at lw_m1 15 rfl) rfl
theorem q44 : (Jvm.Cond.fieldLink "RecordLocks" (26 : Nat) "RecordLocks" "wantFirst" "[I") ∈ lw_all := lw_g (lw_at lw_m1 16 rfl) rfl
theorem q45 : (Jvm.Cond.fieldLink "RecordLocks" (29 : Nat) "RecordLocks" "wantLast" "[I") ∈ lw_all := lw_g (lw_at lw_m1 17 rfl) rfl
theorem q46 : (Jvm.Cond.fieldLink "RecordLocks" (32 : Nat) "RecordLocks" "wantType" "[I") ∈ lw_all := lw_g (lw_at lw_m1 18 rfl) rfl
theorem q47 : (Jvm.Cond.fieldLink "RecordLocks" (35 : Nat) "RecordLocks" "since" "[I") ∈ lw_all := lw_g (lw_at lw_m1 19 rfl) rfl
theorem q48 : (Jvm.Cond.fieldLink "RecordLocks" (38 : Nat) "RecordLocks" "count" "I") ∈ lw_all := lw_g (lw_at lw_m1 20 rfl) rfl
theorem q49 : (Jvm.Cond.fieldLink "RecordLocks" (62 : Nat) "RecordLocks" "clock" "I") ∈ lw_all := lw_g (lw_at lw_m1 21 rfl) rfl
theorem q50 : (Jvm.Cond.laysFinal "RecordLocks" "RecordLocks" "ownerOf" "[I") ∈ lw_all := lw_g (lw_at lw_m1 22 rfl) rfl
theorem q51 : (Jvm.Cond.soleField "RecordLocks" "ownerOf") ∈ lw_all := lw_g (lw_at lw_m1 23 rfl) rfl
theorem q52 : (Jvm.Cond.laysFinal "RecordLocks" "RecordLocks" "firsts" "[I") ∈ lw_all := lw_g (lw_at lw_m1 24 rfl) rfl
theorem q53 : (Jvm.Cond.soleField "RecordLocks" "firsts") ∈ lw_all := lw_g (lw_at lw_m1 25 rfl) rfl
theorem q54 : (Jvm.Cond.laysFinal "RecordLocks" "RecordLocks" "lasts" "[I") ∈ lw_all := lw_g (lw_at lw_m1 26 rfl) rfl
theorem q55 : (Jvm.Cond.soleField "RecordLocks" "lasts") ∈ lw_all := lw_g (lw_at lw_m1 27 rfl) rfl
theorem q56 : (Jvm.Cond.laysFinal "RecordLocks" "RecordLocks" "types" "[I") ∈ lw_all := lw_g (lw_at lw_m1 28 rfl) rfl
theorem q57 : (Jvm.Cond.soleField "RecordLocks" "types") ∈ lw_all := lw_g (lw_at lw_m1 29 rfl) rfl
theorem q58 : (Jvm.Cond.laysFinal "RecordLocks" "RecordLocks" "waits" "[Z") ∈ lw_all := lw_g (lw_at lw_m1 30 rfl) rfl
theorem q59 : (Jvm.Cond.soleField "RecordLocks" "waits") ∈ lw_all := lw_g (lw_at lw_m1 31 rfl) rfl
theorem q60 : (Jvm.Cond.laysFinal "RecordLocks" "RecordLocks" "wantFirst" "[I") ∈ lw_all := lw_g (lw_at lw_m1 32 rfl) rfl
theorem q61 : (Jvm.Cond.soleField "RecordLocks" "wantFirst") ∈ lw_all := lw_g (lw_at lw_m1 33 rfl) rfl
theorem q62 : (Jvm.Cond.laysFinal "RecordLocks" "RecordLocks" "wantLast" "[I") ∈ lw_all := lw_g (lw_at lw_m1 34 rfl) rfl
theorem q63 : (Jvm.Cond.soleField "RecordLocks" "wantLast") ∈ lw_all := lw_g (lw_at lw_m1 35 rfl) rfl
theorem q64 : (Jvm.Cond.laysFinal "RecordLocks" "RecordLocks" "wantType" "[I") ∈ lw_all := lw_g (lw_at lw_m1 36 rfl) rfl
theorem q65 : (Jvm.Cond.soleField "RecordLocks" "wantType") ∈ lw_all := lw_g (lw_at lw_m1 37 rfl) rfl
theorem q66 : (Jvm.Cond.laysFinal "RecordLocks" "RecordLocks" "since" "[I") ∈ lw_all := lw_g (lw_at lw_m1 38 rfl) rfl
theorem q67 : (Jvm.Cond.soleField "RecordLocks" "since") ∈ lw_all := lw_g (lw_at lw_m1 39 rfl) rfl
theorem q68 : (Jvm.Cond.lays "RecordLocks" "RecordLocks" "count" "I") ∈ lw_all := lw_g (lw_at lw_m1 40 rfl) rfl
theorem q69 : (Jvm.Cond.soleField "RecordLocks" "count") ∈ lw_all := lw_g (lw_at lw_m1 41 rfl) rfl
theorem q70 : (Jvm.Cond.lays "RecordLocks" "RecordLocks" "clock" "I") ∈ lw_all := lw_g (lw_at lw_m1 42 rfl) rfl
theorem q71 : (Jvm.Cond.soleField "RecordLocks" "clock") ∈ lw_all := lw_g (lw_at lw_m1 43 rfl) rfl
theorem q72 : (Jvm.Cond.superclass "RecordLocks" "java/lang/Object") ∈ lw_all := lw_g (lw_at lw_m1 44 rfl) rfl
theorem q76 : (Jvm.Cond.instanceMethod ({ cls := "RecordLocks", name := "lock", desc := "(IIII)I" } : Jvm.MethodName)) ∈ lw_all := lw_g (lw_at lw_m1 48 rfl) rfl
theorem q77 : (Jvm.Cond.selects "RecordLocks" ({ cls := "RecordLocks", name := "lock", desc := "(IIII)I" } : Jvm.MethodName) ({ cls := "RecordLocks", name := "lock", desc := "(IIII)I" } : Jvm.MethodName)) ∈ lw_all := lw_g (lw_at lw_m1 49 rfl) rfl
theorem q78 : (Jvm.Cond.code ({ cls := "RecordLocks", name := "lock", desc := "(IIII)I" } : Jvm.MethodName) prog_1_method_2_code (7 : Nat) (Option.some Jvm.ClassFile.FieldType.int)) ∈ lw_all := lw_g (lw_at lw_m1 50 rfl) rfl
theorem q79 : (Jvm.Cond.methodLink "RecordLocks" (42 : Nat) ({ cls := "RecordLocks", name := "refused", desc := "(IIIII)I" } : Jvm.MethodName)) ∈ lw_all := lw_g (lw_at lw_m1 51 rfl) rfl
theorem q80 : (Jvm.Cond.privateMethod ({ cls := "RecordLocks", name := "refused", desc := "(IIIII)I" } : Jvm.MethodName)) ∈ lw_tbl := lw_at lw_m1 52 rfl
theorem q81 : (Jvm.Cond.instanceMethod ({ cls := "RecordLocks", name := "refused", desc := "(IIIII)I" } : Jvm.MethodName)) ∈ lw_all := lw_g (lw_at lw_m1 53 rfl) rfl
theorem q82 : (Jvm.Cond.code ({ cls := "RecordLocks", name := "refused", desc := "(IIIII)I" } : Jvm.MethodName) prog_1_method_22_code (6 : Nat) (Option.some Jvm.ClassFile.FieldType.int)) ∈ lw_all := lw_g (lw_at lw_m1 54 rfl) rfl
theorem q83 : (Jvm.Cond.methodLink "RecordLocks" (65 : Nat) ({ cls := "RecordLocks", name := "isOwner", desc := "(I)Z" } : Jvm.MethodName)) ∈ lw_all := lw_g (lw_at lw_m1 55 rfl) rfl
theorem q84 : (Jvm.Cond.static ({ cls := "RecordLocks", name := "isOwner", desc := "(I)Z" } : Jvm.MethodName)) ∈ lw_all := lw_g (lw_at lw_m1 56 rfl) rfl
theorem q85 : (Jvm.Cond.code ({ cls := "RecordLocks", name := "isOwner", desc := "(I)Z" } : Jvm.MethodName) prog_1_method_19_code (1 : Nat) (Option.some Jvm.ClassFile.FieldType.boolean)) ∈ lw_all := lw_g (lw_at lw_m1 57 rfl) rfl
theorem q86 : (Jvm.Cond.methodLink "RecordLocks" (78 : Nat) ({ cls := "RecordLocks", name := "isRange", desc := "(II)Z" } : Jvm.MethodName)) ∈ lw_all := lw_g (lw_at lw_m1 58 rfl) rfl
theorem q87 : (Jvm.Cond.static ({ cls := "RecordLocks", name := "isRange", desc := "(II)Z" } : Jvm.MethodName)) ∈ lw_all := lw_g (lw_at lw_m1 59 rfl) rfl
theorem q88 : (Jvm.Cond.code ({ cls := "RecordLocks", name := "isRange", desc := "(II)Z" } : Jvm.MethodName) prog_1_method_21_code (2 : Nat) (Option.some Jvm.ClassFile.FieldType.boolean)) ∈ lw_all := lw_g (lw_at lw_m1 60 rfl) rfl
theorem q89 : (Jvm.Cond.methodLink "RecordLocks" (46 : Nat) ({ cls := "RecordLocks", name := "rivals", desc := "(IIII)I" } : Jvm.MethodName)) ∈ lw_all := lw_g (lw_at lw_m1 61 rfl) rfl
theorem q90 : (Jvm.Cond.privateMethod ({ cls := "RecordLocks", name := "rivals", desc := "(IIII)I" } : Jvm.MethodName)) ∈ lw_tbl := lw_at lw_m1 62 rfl
theorem q91 : (Jvm.Cond.instanceMethod ({ cls := "RecordLocks", name := "rivals", desc := "(IIII)I" } : Jvm.MethodName)) ∈ lw_all := lw_g (lw_at lw_m1 63 rfl) rfl
theorem q92 : (Jvm.Cond.code ({ cls := "RecordLocks", name := "rivals", desc := "(IIII)I" } : Jvm.MethodName) prog_1_method_27_code (7 : Nat) (Option.some Jvm.ClassFile.FieldType.int)) ∈ lw_all := lw_g (lw_at lw_m1 64 rfl) rfl
theorem q93 : (Jvm.Cond.methodLink "RecordLocks" (81 : Nat) ({ cls := "RecordLocks", name := "stands", desc := "(IIIII)Z" } : Jvm.MethodName)) ∈ lw_all := lw_g (lw_at lw_m1 65 rfl) rfl
theorem q94 : (Jvm.Cond.privateMethod ({ cls := "RecordLocks", name := "stands", desc := "(IIIII)Z" } : Jvm.MethodName)) ∈ lw_tbl := lw_at lw_m1 66 rfl
theorem q95 : (Jvm.Cond.instanceMethod ({ cls := "RecordLocks", name := "stands", desc := "(IIIII)Z" } : Jvm.MethodName)) ∈ lw_all := lw_g (lw_at lw_m1 67 rfl) rfl
theorem q96 : (Jvm.Cond.code ({ cls := "RecordLocks", name := "stands", desc := "(IIIII)Z" } : Jvm.MethodName) prog_1_method_26_code (7 : Nat) (Option.some Jvm.ClassFile.FieldType.boolean)) ∈ lw_all := lw_g (lw_at lw_m1 68 rfl) rfl
theorem q97 : (Jvm.Cond.methodLink "RecordLocks" (50 : Nat) ({ cls := "RecordLocks", name := "paint", desc := "(IIII)V" } : Jvm.MethodName)) ∈ lw_all := lw_g (lw_at lw_m1 69 rfl) rfl
theorem q98 : (Jvm.Cond.privateMethod ({ cls := "RecordLocks", name := "paint", desc := "(IIII)V" } : Jvm.MethodName)) ∈ lw_tbl := lw_at lw_m1 70 rfl
theorem q99 : (Jvm.Cond.instanceMethod ({ cls := "RecordLocks", name := "paint", desc := "(IIII)V" } : Jvm.MethodName)) ∈ lw_all := lw_g (lw_at lw_m1 71 rfl) rfl
theorem q100 : (Jvm.Cond.code ({ cls := "RecordLocks", name := "paint", desc := "(IIII)V" } : Jvm.MethodName) prog_1_method_31_code (7 : Nat) (Option.none : Option Jvm.ClassFile.FieldType)) ∈ lw_all := lw_g (lw_at lw_m1 72 rfl) rfl
theorem q101 : (Jvm.Cond.methodLink "RecordLocks" (95 : Nat) ({ cls := "RecordLocks", name := "cutOut", desc := "(III)V" } : Jvm.MethodName)) ∈ lw_all := lw_g (lw_at lw_m1 73 rfl) rfl
theorem q102 : (Jvm.Cond.privateMethod ({ cls := "RecordLocks", name := "cutOut", desc := "(III)V" } : Jvm.MethodName)) ∈ lw_tbl := lw_at lw_m1 74 rfl
theorem q103 : (Jvm.Cond.instanceMethod ({ cls := "RecordLocks", name := "cutOut", desc := "(III)V" } : Jvm.MethodName)) ∈ lw_all := lw_g (lw_at lw_m1 75 rfl) rfl
theorem q104 : (Jvm.Cond.code ({ cls := "RecordLocks", name := "cutOut", desc := "(III)V" } : Jvm.MethodName) prog_1_method_32_code (6 : Nat) (Option.none : Option Jvm.ClassFile.FieldType)) ∈ lw_all := lw_g (lw_at lw_m1 76 rfl) rfl
theorem q105 : (Jvm.Cond.methodLink "RecordLocks" (89 : Nat) ({ cls := "RecordLocks", name := "begin", desc := "(I)I" } : Jvm.MethodName)) ∈ lw_all := lw_g (lw_at lw_m1 77 rfl) rfl
theorem q106 : (Jvm.Cond.privateMethod ({ cls := "RecordLocks", name := "begin", desc := "(I)I" } : Jvm.MethodName)) ∈ lw_tbl := lw_at lw_m1 78 rfl
theorem q107 : (Jvm.Cond.instanceMethod ({ cls := "RecordLocks", name := "begin", desc := "(I)I" } : Jvm.MethodName)) ∈ lw_all := lw_g (lw_at lw_m1 79 rfl) rfl
theorem q108 : (Jvm.Cond.code ({ cls := "RecordLocks", name := "begin", desc := "(I)I" } : Jvm.MethodName) prog_1_method_23_code (6 : Nat) (Option.some Jvm.ClassFile.FieldType.int)) ∈ lw_all := lw_g (lw_at lw_m1 80 rfl) rfl
theorem q109 : (Jvm.Cond.methodLink "RecordLocks" (99 : Nat) ({ cls := "RecordLocks", name := "open", desc := "(I)V" } : Jvm.MethodName)) ∈ lw_all := lw_g (lw_at lw_m1 81 rfl) rfl
theorem q110 : (Jvm.Cond.privateMethod ({ cls := "RecordLocks", name := "open", desc := "(I)V" } : Jvm.MethodName)) ∈ lw_tbl := lw_at lw_m1 82 rfl
theorem q111 : (Jvm.Cond.instanceMethod ({ cls := "RecordLocks", name := "open", desc := "(I)V" } : Jvm.MethodName)) ∈ lw_all := lw_g (lw_at lw_m1 83 rfl) rfl
theorem q112 : (Jvm.Cond.code ({ cls := "RecordLocks", name := "open", desc := "(I)V" } : Jvm.MethodName) prog_1_method_33_code (3 : Nat) (Option.none : Option Jvm.ClassFile.FieldType)) ∈ lw_all := lw_g (lw_at lw_m1 84 rfl) rfl
theorem q113 : (Jvm.Cond.methodLink "RecordLocks" (109 : Nat) ({ cls := "RecordLocks", name := "copyPiece", desc := "(II)V" } : Jvm.MethodName)) ∈ lw_all := lw_g (lw_at lw_m1 85 rfl) rfl
theorem q114 : (Jvm.Cond.privateMethod ({ cls := "RecordLocks", name := "copyPiece", desc := "(II)V" } : Jvm.MethodName)) ∈ lw_tbl := lw_at lw_m1 86 rfl
theorem q115 : (Jvm.Cond.instanceMethod ({ cls := "RecordLocks", name := "copyPiece", desc := "(II)V" } : Jvm.MethodName)) ∈ lw_all := lw_g (lw_at lw_m1 87 rfl) rfl
theorem q116 : (Jvm.Cond.code ({ cls := "RecordLocks", name := "copyPiece", desc := "(II)V" } : Jvm.MethodName) prog_1_method_35_code (3 : Nat) (Option.none : Option Jvm.ClassFile.FieldType)) ∈ lw_all := lw_g (lw_at lw_m1 88 rfl) rfl
theorem q117 : (Jvm.Cond.methodLink "RecordLocks" (106 : Nat) ({ cls := "RecordLocks", name := "shut", desc := "(I)V" } : Jvm.MethodName)) ∈ lw_all := lw_g (lw_at lw_m1 89 rfl) rfl
theorem q118 : (Jvm.Cond.privateMethod ({ cls := "RecordLocks", name := "shut", desc := "(I)V" } : Jvm.MethodName)) ∈ lw_tbl := lw_at lw_m1 90 rfl
theorem q119 : (Jvm.Cond.instanceMethod ({ cls := "RecordLocks", name := "shut", desc := "(I)V" } : Jvm.MethodName)) ∈ lw_all := lw_g (lw_at lw_m1 91 rfl) rfl
theorem q120 : (Jvm.Cond.code ({ cls := "RecordLocks", name := "shut", desc := "(I)V" } : Jvm.MethodName) prog_1_method_34_code (3 : Nat) (Option.none : Option Jvm.ClassFile.FieldType)) ∈ lw_all := lw_g (lw_at lw_m1 92 rfl) rfl
theorem q121 : (Jvm.Cond.methodLink "RecordLocks" (103 : Nat) ({ cls := "RecordLocks", name := "joinNext", desc := "(I)V" } : Jvm.MethodName)) ∈ lw_all := lw_g (lw_at lw_m1 93 rfl) rfl
theorem q122 : (Jvm.Cond.privateMethod ({ cls := "RecordLocks", name := "joinNext", desc := "(I)V" } : Jvm.MethodName)) ∈ lw_tbl := lw_at lw_m1 94 rfl
theorem q123 : (Jvm.Cond.instanceMethod ({ cls := "RecordLocks", name := "joinNext", desc := "(I)V" } : Jvm.MethodName)) ∈ lw_all := lw_g (lw_at lw_m1 95 rfl) rfl
theorem q124 : (Jvm.Cond.code ({ cls := "RecordLocks", name := "joinNext", desc := "(I)V" } : Jvm.MethodName) prog_1_method_36_code (2 : Nat) (Option.none : Option Jvm.ClassFile.FieldType)) ∈ lw_all := lw_g (lw_at lw_m1 96 rfl) rfl
theorem q125 : (Jvm.Cond.methodLink "RecordLocks" (54 : Nat) ({ cls := "RecordLocks", name := "settle", desc := "()I" } : Jvm.MethodName)) ∈ lw_all := lw_g (lw_at lw_m1 97 rfl) rfl
theorem q126 : (Jvm.Cond.privateMethod ({ cls := "RecordLocks", name := "settle", desc := "()I" } : Jvm.MethodName)) ∈ lw_tbl := lw_at lw_m1 98 rfl
theorem q127 : (Jvm.Cond.instanceMethod ({ cls := "RecordLocks", name := "settle", desc := "()I" } : Jvm.MethodName)) ∈ lw_all := lw_g (lw_at lw_m1 99 rfl) rfl
theorem q128 : (Jvm.Cond.code ({ cls := "RecordLocks", name := "settle", desc := "()I" } : Jvm.MethodName) prog_1_method_30_code (5 : Nat) (Option.some Jvm.ClassFile.FieldType.int)) ∈ lw_all := lw_g (lw_at lw_m1 100 rfl) rfl
theorem q129 : (Jvm.Cond.methodLink "RecordLocks" (85 : Nat) ({ cls := "RecordLocks", name := "blockers", desc := "(I)I" } : Jvm.MethodName)) ∈ lw_all := lw_g (lw_at lw_m1 101 rfl) rfl
theorem q130 : (Jvm.Cond.privateMethod ({ cls := "RecordLocks", name := "blockers", desc := "(I)I" } : Jvm.MethodName)) ∈ lw_tbl := lw_at lw_m1 102 rfl
theorem q131 : (Jvm.Cond.instanceMethod ({ cls := "RecordLocks", name := "blockers", desc := "(I)I" } : Jvm.MethodName)) ∈ lw_all := lw_g (lw_at lw_m1 103 rfl) rfl
theorem q132 : (Jvm.Cond.code ({ cls := "RecordLocks", name := "blockers", desc := "(I)I" } : Jvm.MethodName) prog_1_method_28_code (2 : Nat) (Option.some Jvm.ClassFile.FieldType.int)) ∈ lw_all := lw_g (lw_at lw_m1 104 rfl) rfl
theorem q134 : (Jvm.Cond.instanceMethod ({ cls := "RecordLocks", name := "await", desc := "(IIII)I" } : Jvm.MethodName)) ∈ lw_all := lw_g (lw_at lw_m1 106 rfl) rfl
theorem q135 : (Jvm.Cond.selects "RecordLocks" ({ cls := "RecordLocks", name := "await", desc := "(IIII)I" } : Jvm.MethodName) ({ cls := "RecordLocks", name := "await", desc := "(IIII)I" } : Jvm.MethodName)) ∈ lw_all := lw_g (lw_at lw_m1 107 rfl) rfl
theorem q136 : (Jvm.Cond.code ({ cls := "RecordLocks", name := "await", desc := "(IIII)I" } : Jvm.MethodName) prog_1_method_3_code (8 : Nat) (Option.some Jvm.ClassFile.FieldType.int)) ∈ lw_all := lw_g (lw_at lw_m1 108 rfl) rfl
theorem q137 : (Jvm.Cond.methodLink "RecordLocks" (58 : Nat) ({ cls := "RecordLocks", name := "leadsTo", desc := "(II)Z" } : Jvm.MethodName)) ∈ lw_all := lw_g (lw_at lw_m1 109 rfl) rfl
theorem q138 : (Jvm.Cond.privateMethod ({ cls := "RecordLocks", name := "leadsTo", desc := "(II)Z" } : Jvm.MethodName)) ∈ lw_tbl := lw_at lw_m1 110 rfl
theorem q139 : (Jvm.Cond.instanceMethod ({ cls := "RecordLocks", name := "leadsTo", desc := "(II)Z" } : Jvm.MethodName)) ∈ lw_all := lw_g (lw_at lw_m1 111 rfl) rfl
theorem q140 : (Jvm.Cond.code ({ cls := "RecordLocks", name := "leadsTo", desc := "(II)Z" } : Jvm.MethodName) prog_1_method_29_code (6 : Nat) (Option.some Jvm.ClassFile.FieldType.boolean)) ∈ lw_all := lw_g (lw_at lw_m1 112 rfl) rfl
theorem q142 : (Jvm.Cond.instanceMethod ({ cls := "RecordLocks", name := "cancel", desc := "(I)I" } : Jvm.MethodName)) ∈ lw_all := lw_g (lw_at lw_m1 114 rfl) rfl
theorem q143 : (Jvm.Cond.selects "RecordLocks" ({ cls := "RecordLocks", name := "cancel", desc := "(I)I" } : Jvm.MethodName) ({ cls := "RecordLocks", name := "cancel", desc := "(I)I" } : Jvm.MethodName)) ∈ lw_all := lw_g (lw_at lw_m1 115 rfl) rfl
theorem q144 : (Jvm.Cond.code ({ cls := "RecordLocks", name := "cancel", desc := "(I)I" } : Jvm.MethodName) prog_1_method_4_code (2 : Nat) (Option.some Jvm.ClassFile.FieldType.int)) ∈ lw_all := lw_g (lw_at lw_m1 116 rfl) rfl
theorem q146 : (Jvm.Cond.instanceMethod ({ cls := "RecordLocks", name := "close", desc := "(I)I" } : Jvm.MethodName)) ∈ lw_all := lw_g (lw_at lw_m1 118 rfl) rfl
theorem q147 : (Jvm.Cond.selects "RecordLocks" ({ cls := "RecordLocks", name := "close", desc := "(I)I" } : Jvm.MethodName) ({ cls := "RecordLocks", name := "close", desc := "(I)I" } : Jvm.MethodName)) ∈ lw_all := lw_g (lw_at lw_m1 119 rfl) rfl
theorem q148 : (Jvm.Cond.code ({ cls := "RecordLocks", name := "close", desc := "(I)I" } : Jvm.MethodName) prog_1_method_5_code (3 : Nat) (Option.some Jvm.ClassFile.FieldType.int)) ∈ lw_all := lw_g (lw_at lw_m1 120 rfl) rfl
theorem q149 : (Jvm.Cond.methodLink "RecordLocks" (69 : Nat) ({ cls := "RecordLocks", name := "count", desc := "(II)I" } : Jvm.MethodName)) ∈ lw_all := lw_g (lw_at lw_m1 121 rfl) rfl
theorem q150 : (Jvm.Cond.instanceMethod ({ cls := "RecordLocks", name := "count", desc := "(II)I" } : Jvm.MethodName)) ∈ lw_all := lw_g (lw_at lw_m1 122 rfl) rfl
theorem q151 : (Jvm.Cond.selects "RecordLocks" ({ cls := "RecordLocks", name := "count", desc := "(II)I" } : Jvm.MethodName) ({ cls := "RecordLocks", name := "count", desc := "(II)I" } : Jvm.MethodName)) ∈ lw_all := lw_g (lw_at lw_m1 123 rfl) rfl
theorem q152 : (Jvm.Cond.code ({ cls := "RecordLocks", name := "count", desc := "(II)I" } : Jvm.MethodName) prog_1_method_17_code (8 : Nat) (Option.some Jvm.ClassFile.FieldType.int)) ∈ lw_all := lw_g (lw_at lw_m1 124 rfl) rfl
theorem q154 : (Jvm.Cond.instanceMethod ({ cls := "RecordLocks", name := "lockAt", desc := "(II)I" } : Jvm.MethodName)) ∈ lw_all := lw_g (lw_at lw_m1 126 rfl) rfl
theorem q155 : (Jvm.Cond.selects "RecordLocks" ({ cls := "RecordLocks", name := "lockAt", desc := "(II)I" } : Jvm.MethodName) ({ cls := "RecordLocks", name := "lockAt", desc := "(II)I" } : Jvm.MethodName)) ∈ lw_all := lw_g (lw_at lw_m1 127 rfl) rfl
theorem q156 : (Jvm.Cond.code ({ cls := "RecordLocks", name := "lockAt", desc := "(II)I" } : Jvm.MethodName) prog_1_method_6_code (4 : Nat) (Option.some Jvm.ClassFile.FieldType.int)) ∈ lw_all := lw_g (lw_at lw_m1 128 rfl) rfl
theorem q157 : (Jvm.Cond.methodLink "RecordLocks" (72 : Nat) ({ cls := "RecordLocks", name := "isByte", desc := "(I)Z" } : Jvm.MethodName)) ∈ lw_all := lw_g (lw_at lw_m1 129 rfl) rfl
theorem q158 : (Jvm.Cond.static ({ cls := "RecordLocks", name := "isByte", desc := "(I)Z" } : Jvm.MethodName)) ∈ lw_all := lw_g (lw_at lw_m1 130 rfl) rfl
theorem q159 : (Jvm.Cond.code ({ cls := "RecordLocks", name := "isByte", desc := "(I)Z" } : Jvm.MethodName) prog_1_method_20_code (1 : Nat) (Option.some Jvm.ClassFile.FieldType.boolean)) ∈ lw_all := lw_g (lw_at lw_m1 131 rfl) rfl
theorem q160 : (Jvm.Cond.methodLink "RecordLocks" (75 : Nat) ({ cls := "RecordLocks", name := "pieceAt", desc := "(II)I" } : Jvm.MethodName)) ∈ lw_all := lw_g (lw_at lw_m1 132 rfl) rfl
theorem q161 : (Jvm.Cond.privateMethod ({ cls := "RecordLocks", name := "pieceAt", desc := "(II)I" } : Jvm.MethodName)) ∈ lw_tbl := lw_at lw_m1 133 rfl
theorem q162 : (Jvm.Cond.instanceMethod ({ cls := "RecordLocks", name := "pieceAt", desc := "(II)I" } : Jvm.MethodName)) ∈ lw_all := lw_g (lw_at lw_m1 134 rfl) rfl
theorem q163 : (Jvm.Cond.code ({ cls := "RecordLocks", name := "pieceAt", desc := "(II)I" } : Jvm.MethodName) prog_1_method_25_code (5 : Nat) (Option.some Jvm.ClassFile.FieldType.int)) ∈ lw_all := lw_g (lw_at lw_m1 135 rfl) rfl
theorem q165 : (Jvm.Cond.instanceMethod ({ cls := "RecordLocks", name := "holders", desc := "(I)I" } : Jvm.MethodName)) ∈ lw_all := lw_g (lw_at lw_m1 137 rfl) rfl
theorem q166 : (Jvm.Cond.selects "RecordLocks" ({ cls := "RecordLocks", name := "holders", desc := "(I)I" } : Jvm.MethodName) ({ cls := "RecordLocks", name := "holders", desc := "(I)I" } : Jvm.MethodName)) ∈ lw_all := lw_g (lw_at lw_m1 138 rfl) rfl
theorem q167 : (Jvm.Cond.code ({ cls := "RecordLocks", name := "holders", desc := "(I)I" } : Jvm.MethodName) prog_1_method_7_code (4 : Nat) (Option.some Jvm.ClassFile.FieldType.int)) ∈ lw_all := lw_g (lw_at lw_m1 139 rfl) rfl
theorem q169 : (Jvm.Cond.instanceMethod ({ cls := "RecordLocks", name := "obstacle", desc := "(IIII)I" } : Jvm.MethodName)) ∈ lw_all := lw_g (lw_at lw_m1 141 rfl) rfl
theorem q170 : (Jvm.Cond.selects "RecordLocks" ({ cls := "RecordLocks", name := "obstacle", desc := "(IIII)I" } : Jvm.MethodName) ({ cls := "RecordLocks", name := "obstacle", desc := "(IIII)I" } : Jvm.MethodName)) ∈ lw_all := lw_g (lw_at lw_m1 142 rfl) rfl
theorem q171 : (Jvm.Cond.code ({ cls := "RecordLocks", name := "obstacle", desc := "(IIII)I" } : Jvm.MethodName) prog_1_method_8_code (8 : Nat) (Option.some Jvm.ClassFile.FieldType.int)) ∈ lw_all := lw_g (lw_at lw_m1 143 rfl) rfl
theorem q173 : (Jvm.Cond.instanceMethod ({ cls := "RecordLocks", name := "wouldCircle", desc := "(IIII)I" } : Jvm.MethodName)) ∈ lw_all := lw_g (lw_at lw_m1 145 rfl) rfl
theorem q174 : (Jvm.Cond.selects "RecordLocks" ({ cls := "RecordLocks", name := "wouldCircle", desc := "(IIII)I" } : Jvm.MethodName) ({ cls := "RecordLocks", name := "wouldCircle", desc := "(IIII)I" } : Jvm.MethodName)) ∈ lw_all := lw_g (lw_at lw_m1 146 rfl) rfl
theorem q175 : (Jvm.Cond.code ({ cls := "RecordLocks", name := "wouldCircle", desc := "(IIII)I" } : Jvm.MethodName) prog_1_method_9_code (7 : Nat) (Option.some Jvm.ClassFile.FieldType.int)) ∈ lw_all := lw_g (lw_at lw_m1 147 rfl) rfl
theorem q177 : (Jvm.Cond.instanceMethod ({ cls := "RecordLocks", name := "waiting", desc := "(I)I" } : Jvm.MethodName)) ∈ lw_all := lw_g (lw_at lw_m1 149 rfl) rfl
theorem q178 : (Jvm.Cond.selects "RecordLocks" ({ cls := "RecordLocks", name := "waiting", desc := "(I)I" } : Jvm.MethodName) ({ cls := "RecordLocks", name := "waiting", desc := "(I)I" } : Jvm.MethodName)) ∈ lw_all := lw_g (lw_at lw_m1 150 rfl) rfl
theorem q179 : (Jvm.Cond.code ({ cls := "RecordLocks", name := "waiting", desc := "(I)I" } : Jvm.MethodName) prog_1_method_10_code (2 : Nat) (Option.some Jvm.ClassFile.FieldType.int)) ∈ lw_all := lw_g (lw_at lw_m1 151 rfl) rfl
theorem q181 : (Jvm.Cond.instanceMethod ({ cls := "RecordLocks", name := "waitsFor", desc := "(I)I" } : Jvm.MethodName)) ∈ lw_all := lw_g (lw_at lw_m1 153 rfl) rfl
theorem q182 : (Jvm.Cond.selects "RecordLocks" ({ cls := "RecordLocks", name := "waitsFor", desc := "(I)I" } : Jvm.MethodName) ({ cls := "RecordLocks", name := "waitsFor", desc := "(I)I" } : Jvm.MethodName)) ∈ lw_all := lw_g (lw_at lw_m1 154 rfl) rfl
theorem q183 : (Jvm.Cond.code ({ cls := "RecordLocks", name := "waitsFor", desc := "(I)I" } : Jvm.MethodName) prog_1_method_11_code (2 : Nat) (Option.some Jvm.ClassFile.FieldType.int)) ∈ lw_all := lw_g (lw_at lw_m1 155 rfl) rfl
theorem q185 : (Jvm.Cond.instanceMethod ({ cls := "RecordLocks", name := "ahead", desc := "(I)I" } : Jvm.MethodName)) ∈ lw_all := lw_g (lw_at lw_m1 157 rfl) rfl
theorem q186 : (Jvm.Cond.selects "RecordLocks" ({ cls := "RecordLocks", name := "ahead", desc := "(I)I" } : Jvm.MethodName) ({ cls := "RecordLocks", name := "ahead", desc := "(I)I" } : Jvm.MethodName)) ∈ lw_all := lw_g (lw_at lw_m1 158 rfl) rfl
theorem q187 : (Jvm.Cond.code ({ cls := "RecordLocks", name := "ahead", desc := "(I)I" } : Jvm.MethodName) prog_1_method_12_code (4 : Nat) (Option.some Jvm.ClassFile.FieldType.int)) ∈ lw_all := lw_g (lw_at lw_m1 159 rfl) rfl
theorem q189 : (Jvm.Cond.instanceMethod ({ cls := "RecordLocks", name := "pieces", desc := "(I)I" } : Jvm.MethodName)) ∈ lw_all := lw_g (lw_at lw_m1 161 rfl) rfl
theorem q190 : (Jvm.Cond.selects "RecordLocks" ({ cls := "RecordLocks", name := "pieces", desc := "(I)I" } : Jvm.MethodName) ({ cls := "RecordLocks", name := "pieces", desc := "(I)I" } : Jvm.MethodName)) ∈ lw_all := lw_g (lw_at lw_m1 162 rfl) rfl
theorem q191 : (Jvm.Cond.code ({ cls := "RecordLocks", name := "pieces", desc := "(I)I" } : Jvm.MethodName) prog_1_method_13_code (2 : Nat) (Option.some Jvm.ClassFile.FieldType.int)) ∈ lw_all := lw_g (lw_at lw_m1 163 rfl) rfl
theorem q193 : (Jvm.Cond.instanceMethod ({ cls := "RecordLocks", name := "pieceStart", desc := "(II)I" } : Jvm.MethodName)) ∈ lw_all := lw_g (lw_at lw_m1 165 rfl) rfl
theorem q194 : (Jvm.Cond.selects "RecordLocks" ({ cls := "RecordLocks", name := "pieceStart", desc := "(II)I" } : Jvm.MethodName) ({ cls := "RecordLocks", name := "pieceStart", desc := "(II)I" } : Jvm.MethodName)) ∈ lw_all := lw_g (lw_at lw_m1 166 rfl) rfl
theorem q195 : (Jvm.Cond.code ({ cls := "RecordLocks", name := "pieceStart", desc := "(II)I" } : Jvm.MethodName) prog_1_method_14_code (4 : Nat) (Option.some Jvm.ClassFile.FieldType.int)) ∈ lw_all := lw_g (lw_at lw_m1 167 rfl) rfl
theorem q196 : (Jvm.Cond.methodLink "RecordLocks" (92 : Nat) ({ cls := "RecordLocks", name := "find", desc := "(II)I" } : Jvm.MethodName)) ∈ lw_all := lw_g (lw_at lw_m1 168 rfl) rfl
theorem q197 : (Jvm.Cond.privateMethod ({ cls := "RecordLocks", name := "find", desc := "(II)I" } : Jvm.MethodName)) ∈ lw_tbl := lw_at lw_m1 169 rfl
theorem q198 : (Jvm.Cond.instanceMethod ({ cls := "RecordLocks", name := "find", desc := "(II)I" } : Jvm.MethodName)) ∈ lw_all := lw_g (lw_at lw_m1 170 rfl) rfl
theorem q199 : (Jvm.Cond.code ({ cls := "RecordLocks", name := "find", desc := "(II)I" } : Jvm.MethodName) prog_1_method_24_code (5 : Nat) (Option.some Jvm.ClassFile.FieldType.int)) ∈ lw_all := lw_g (lw_at lw_m1 171 rfl) rfl
theorem q201 : (Jvm.Cond.instanceMethod ({ cls := "RecordLocks", name := "pieceEnd", desc := "(II)I" } : Jvm.MethodName)) ∈ lw_all := lw_g (lw_at lw_m1 173 rfl) rfl
theorem q202 : (Jvm.Cond.selects "RecordLocks" ({ cls := "RecordLocks", name := "pieceEnd", desc := "(II)I" } : Jvm.MethodName) ({ cls := "RecordLocks", name := "pieceEnd", desc := "(II)I" } : Jvm.MethodName)) ∈ lw_all := lw_g (lw_at lw_m1 174 rfl) rfl
theorem q203 : (Jvm.Cond.code ({ cls := "RecordLocks", name := "pieceEnd", desc := "(II)I" } : Jvm.MethodName) prog_1_method_15_code (4 : Nat) (Option.some Jvm.ClassFile.FieldType.int)) ∈ lw_all := lw_g (lw_at lw_m1 175 rfl) rfl
theorem q205 : (Jvm.Cond.instanceMethod ({ cls := "RecordLocks", name := "pieceType", desc := "(II)I" } : Jvm.MethodName)) ∈ lw_all := lw_g (lw_at lw_m1 177 rfl) rfl
theorem q206 : (Jvm.Cond.selects "RecordLocks" ({ cls := "RecordLocks", name := "pieceType", desc := "(II)I" } : Jvm.MethodName) ({ cls := "RecordLocks", name := "pieceType", desc := "(II)I" } : Jvm.MethodName)) ∈ lw_all := lw_g (lw_at lw_m1 178 rfl) rfl
theorem q207 : (Jvm.Cond.code ({ cls := "RecordLocks", name := "pieceType", desc := "(II)I" } : Jvm.MethodName) prog_1_method_16_code (4 : Nat) (Option.some Jvm.ClassFile.FieldType.int)) ∈ lw_all := lw_g (lw_at lw_m1 179 rfl) rfl
theorem q210 : (Jvm.Cond.instanceMethod ({ cls := "RecordLocks", name := "free", desc := "()I" } : Jvm.MethodName)) ∈ lw_all := lw_g (lw_at lw_m1 182 rfl) rfl
theorem q211 : (Jvm.Cond.selects "RecordLocks" ({ cls := "RecordLocks", name := "free", desc := "()I" } : Jvm.MethodName) ({ cls := "RecordLocks", name := "free", desc := "()I" } : Jvm.MethodName)) ∈ lw_all := lw_g (lw_at lw_m1 183 rfl) rfl
theorem q212 : (Jvm.Cond.code ({ cls := "RecordLocks", name := "free", desc := "()I" } : Jvm.MethodName) prog_1_method_18_code (5 : Nat) (Option.some Jvm.ClassFile.FieldType.int)) ∈ lw_all := lw_g (lw_at lw_m1 184 rfl) rfl
theorem in_X0 : ∀ w ∈ wsX00, w ∈ lw_all := lw_in wsX00 [50, 52, 54, 56, 58, 60, 62, 64, 66, 68, 70] (by decide +kernel) (by decide +kernel)
/-! RecordLocksModel -/
def RX1 : String := "RecordLocksModel"
def TX1 : u_T := fun k => match k with
  | 0 => ("RecordLocksModel", "table", "[I", false)
  | 1 => ("RecordLocksModel", "queue", "I", false)
  | 2 => ("RecordLocksModel", "who", "[I", false)
  | 3 => ("RecordLocksModel", "first", "[I", false)
  | 4 => ("RecordLocksModel", "many", "[I", false)
  | 5 => ("RecordLocksModel", "kind", "[I", false)
  | _ => ("RecordLocksModel", "out", "[I", false)
def tyX1 : Nat → FieldType := fun k => match k with
  | 0 => .array .int
  | 1 => .int
  | 2 => .array .int
  | 3 => .array .int
  | 4 => .array .int
  | 5 => .array .int
  | _ => .array .int
abbrev wsX10 : List Cond := u_ws RX1 TX1 7
theorem nmX1 : ∀ a, a < 7 → ∀ b, b < 7 → a ≠ b → (TX1 a).2.1 ≠ (TX1 b).2.1 := by decide +kernel
theorem tyX1_ok : ∀ k, k < 7 → parseFieldDescriptor (TX1 k).2.2.1 = some (tyX1 k) := by decide +kernel
abbrev cX1_init : ByteArray := prog_3_method_1_code
def yX1_init : MethodName := ⟨RX1, "<init>", "()V"⟩
abbrev cX1_lock : ByteArray := prog_3_method_12_code
def yX1_lock : MethodName := ⟨RX1, "lock", "(IIII)I"⟩
abbrev cX1_bad : ByteArray := prog_3_method_2_code
def yX1_bad : MethodName := ⟨RX1, "bad", "(I)Z"⟩
abbrev cX1_badRange : ByteArray := prog_3_method_4_code
def yX1_badRange : MethodName := ⟨RX1, "badRange", "(II)Z"⟩
abbrev cX1_placeOf : ByteArray := prog_3_method_5_code
def yX1_placeOf : MethodName := ⟨RX1, "placeOf", "(I)I"⟩
abbrev cX1_against : ByteArray := prog_3_method_7_code
def yX1_against : MethodName := ⟨RX1, "against", "(IIII)I"⟩
abbrev cX1_clash : ByteArray := prog_3_method_6_code
def yX1_clash : MethodName := ⟨RX1, "clash", "(II)Z"⟩
abbrev cX1_grant : ByteArray := prog_3_method_8_code
def yX1_grant : MethodName := ⟨RX1, "grant", "(IIII)V"⟩
abbrev cX1_settle : ByteArray := prog_3_method_11_code
def yX1_settle : MethodName := ⟨RX1, "settle", "()I"⟩
abbrev cX1_ready : ByteArray := prog_3_method_10_code
def yX1_ready : MethodName := ⟨RX1, "ready", "()I"⟩
abbrev cX1_leave : ByteArray := prog_3_method_9_code
def yX1_leave : MethodName := ⟨RX1, "leave", "(I)V"⟩
abbrev cX1_await : ByteArray := prog_3_method_14_code
def yX1_await : MethodName := ⟨RX1, "await", "(IIII)I"⟩
abbrev cX1_circles : ByteArray := prog_3_method_13_code
def yX1_circles : MethodName := ⟨RX1, "circles", "(II)Z"⟩
abbrev cX1_cancel : ByteArray := prog_3_method_15_code
def yX1_cancel : MethodName := ⟨RX1, "cancel", "(I)I"⟩
abbrev cX1_close : ByteArray := prog_3_method_16_code
def yX1_close : MethodName := ⟨RX1, "close", "(I)I"⟩
abbrev cX1_lockAt : ByteArray := prog_3_method_17_code
def yX1_lockAt : MethodName := ⟨RX1, "lockAt", "(II)I"⟩
abbrev cX1_badByte : ByteArray := prog_3_method_3_code
def yX1_badByte : MethodName := ⟨RX1, "badByte", "(I)Z"⟩
abbrev cX1_holders : ByteArray := prog_3_method_18_code
def yX1_holders : MethodName := ⟨RX1, "holders", "(I)I"⟩
abbrev cX1_obstacle : ByteArray := prog_3_method_19_code
def yX1_obstacle : MethodName := ⟨RX1, "obstacle", "(IIII)I"⟩
abbrev cX1_wouldCircle : ByteArray := prog_3_method_20_code
def yX1_wouldCircle : MethodName := ⟨RX1, "wouldCircle", "(IIII)I"⟩
abbrev cX1_waiting : ByteArray := prog_3_method_21_code
def yX1_waiting : MethodName := ⟨RX1, "waiting", "(I)I"⟩
abbrev cX1_waitsFor : ByteArray := prog_3_method_22_code
def yX1_waitsFor : MethodName := ⟨RX1, "waitsFor", "(I)I"⟩
abbrev cX1_ahead : ByteArray := prog_3_method_23_code
def yX1_ahead : MethodName := ⟨RX1, "ahead", "(I)I"⟩
abbrev cX1_pieces : ByteArray := prog_3_method_25_code
def yX1_pieces : MethodName := ⟨RX1, "pieces", "(I)I"⟩
abbrev cX1_begins : ByteArray := prog_3_method_24_code
def yX1_begins : MethodName := ⟨RX1, "begins", "(II)Z"⟩
abbrev cX1_pieceStart : ByteArray := prog_3_method_27_code
def yX1_pieceStart : MethodName := ⟨RX1, "pieceStart", "(II)I"⟩
abbrev cX1_startOf : ByteArray := prog_3_method_26_code
def yX1_startOf : MethodName := ⟨RX1, "startOf", "(II)I"⟩
abbrev cX1_pieceEnd : ByteArray := prog_3_method_28_code
def yX1_pieceEnd : MethodName := ⟨RX1, "pieceEnd", "(II)I"⟩
abbrev cX1_pieceType : ByteArray := prog_3_method_29_code
def yX1_pieceType : MethodName := ⟨RX1, "pieceType", "(II)I"⟩
abbrev cX1_count : ByteArray := prog_3_method_30_code
def yX1_count : MethodName := ⟨RX1, "count", "(II)I"⟩
abbrev cX1_free : ByteArray := prog_3_method_31_code
def yX1_free : MethodName := ⟨RX1, "free", "()I"⟩
theorem q30 : (Jvm.Cond.initialized "RecordLocksModel") ∈ lw_all := lw_g (lw_at lw_m1 2 rfl) rfl
theorem q214 : (Jvm.Cond.instantiable "RecordLocksModel" (7 : Nat)) ∈ lw_all := lw_g (lw_at lw_m1 186 rfl) rfl
theorem q216 : (Jvm.Cond.instanceMethod ({ cls := "RecordLocksModel", name := "<init>", desc := "()V" } : Jvm.MethodName)) ∈ lw_all := lw_g (lw_at lw_m1 188 rfl) rfl
theorem q217 : (Jvm.Cond.code ({ cls := "RecordLocksModel", name := "<init>", desc := "()V" } : Jvm.MethodName) prog_3_method_1_code (1 : Nat) (Option.none : Option Jvm.ClassFile.FieldType)) ∈ lw_all := lw_g (lw_at lw_m1 189 rfl) rfl
theorem q218 : (Jvm.Cond.methodLink "RecordLocksModel" (1 : Nat) ({ cls := "java/lang/Object", name := "<init>", desc := "()V" } : Jvm.MethodName)) ∈ lw_all := lw_g (lw_at lw_m1 190 rfl) rfl
theorem q219 : (Jvm.Cond.fieldLink "RecordLocksModel" (7 : Nat) "RecordLocksModel" "table" "[I") ∈ lw_all := lw_g (lw_at lw_m1 191 rfl) rfl
theorem q220 : (Jvm.Cond.fieldLink "RecordLocksModel" (28 : Nat) "RecordLocksModel" "queue" "I") ∈ lw_all := lw_g (lw_at lw_m1 192 rfl) rfl
theorem q221 : (Jvm.Cond.fieldLink "RecordLocksModel" (13 : Nat) "RecordLocksModel" "who" "[I") ∈ lw_all := lw_g (lw_at lw_m1 193 rfl) rfl
theorem q222 : (Jvm.Cond.fieldLink "RecordLocksModel" (16 : Nat) "RecordLocksModel" "first" "[I") ∈ lw_all := lw_g (lw_at lw_m1 194 rfl) rfl
theorem q223 : (Jvm.Cond.fieldLink "RecordLocksModel" (19 : Nat) "RecordLocksModel" "many" "[I") ∈ lw_all := lw_g (lw_at lw_m1 195 rfl) rfl
theorem q224 : (Jvm.Cond.fieldLink "RecordLocksModel" (22 : Nat) "RecordLocksModel" "kind" "[I") ∈ lw_all := lw_g (lw_at lw_m1 196 rfl) rfl
theorem q225 : (Jvm.Cond.fieldLink "RecordLocksModel" (25 : Nat) "RecordLocksModel" "out" "[I") ∈ lw_all := lw_g (lw_at lw_m1 197 rfl) rfl
theorem q226 : (Jvm.Cond.lays "RecordLocksModel" "RecordLocksModel" "table" "[I") ∈ lw_all := lw_g (lw_at lw_m1 198 rfl) rfl
theorem q227 : (Jvm.Cond.soleField "RecordLocksModel" "table") ∈ lw_all := lw_g (lw_at lw_m1 199 rfl) rfl
theorem q228 : (Jvm.Cond.lays "RecordLocksModel" "RecordLocksModel" "queue" "I") ∈ lw_all := lw_g (lw_at lw_m1 200 rfl) rfl
theorem q229 : (Jvm.Cond.soleField "RecordLocksModel" "queue") ∈ lw_all := lw_g (lw_at lw_m1 201 rfl) rfl
theorem q230 : (Jvm.Cond.lays "RecordLocksModel" "RecordLocksModel" "who" "[I") ∈ lw_all := lw_g (lw_at lw_m1 202 rfl) rfl
theorem q231 : (Jvm.Cond.soleField "RecordLocksModel" "who") ∈ lw_all := lw_g (lw_at lw_m1 203 rfl) rfl
theorem q232 : (Jvm.Cond.lays "RecordLocksModel" "RecordLocksModel" "first" "[I") ∈ lw_all := lw_g (lw_at lw_m1 204 rfl) rfl
theorem q233 : (Jvm.Cond.soleField "RecordLocksModel" "first") ∈ lw_all := lw_g (lw_at lw_m1 205 rfl) rfl
theorem q234 : (Jvm.Cond.lays "RecordLocksModel" "RecordLocksModel" "many" "[I") ∈ lw_all := lw_g (lw_at lw_m1 206 rfl) rfl
theorem q235 : (Jvm.Cond.soleField "RecordLocksModel" "many") ∈ lw_all := lw_g (lw_at lw_m1 207 rfl) rfl
theorem q236 : (Jvm.Cond.lays "RecordLocksModel" "RecordLocksModel" "kind" "[I") ∈ lw_all := lw_g (lw_at lw_m1 208 rfl) rfl
theorem q237 : (Jvm.Cond.soleField "RecordLocksModel" "kind") ∈ lw_all := lw_g (lw_at lw_m1 209 rfl) rfl
theorem q238 : (Jvm.Cond.lays "RecordLocksModel" "RecordLocksModel" "out" "[I") ∈ lw_all := lw_g (lw_at lw_m1 210 rfl) rfl
theorem q239 : (Jvm.Cond.soleField "RecordLocksModel" "out") ∈ lw_all := lw_g (lw_at lw_m1 211 rfl) rfl
theorem q240 : (Jvm.Cond.superclass "RecordLocksModel" "java/lang/Object") ∈ lw_all := lw_g (lw_at lw_m1 212 rfl) rfl
theorem q242 : (Jvm.Cond.instanceMethod ({ cls := "RecordLocksModel", name := "lock", desc := "(IIII)I" } : Jvm.MethodName)) ∈ lw_all := lw_g (lw_at lw_m1 214 rfl) rfl
theorem q243 : (Jvm.Cond.selects "RecordLocksModel" ({ cls := "RecordLocksModel", name := "lock", desc := "(IIII)I" } : Jvm.MethodName) ({ cls := "RecordLocksModel", name := "lock", desc := "(IIII)I" } : Jvm.MethodName)) ∈ lw_all := lw_g (lw_at lw_m1 215 rfl) rfl
theorem q244 : (Jvm.Cond.code ({ cls := "RecordLocksModel", name := "lock", desc := "(IIII)I" } : Jvm.MethodName) prog_3_method_12_code (5 : Nat) (Option.some Jvm.ClassFile.FieldType.int)) ∈ lw_all := lw_g (lw_at lw_m1 216 rfl) rfl
theorem q245 : (Jvm.Cond.methodLink "RecordLocksModel" (52 : Nat) ({ cls := "RecordLocksModel", name := "bad", desc := "(I)Z" } : Jvm.MethodName)) ∈ lw_all := lw_g (lw_at lw_m1 217 rfl) rfl
theorem q246 : (Jvm.Cond.privateMethod ({ cls := "RecordLocksModel", name := "bad", desc := "(I)Z" } : Jvm.MethodName)) ∈ lw_tbl := lw_at lw_m1 218 rfl
theorem q247 : (Jvm.Cond.instanceMethod ({ cls := "RecordLocksModel", name := "bad", desc := "(I)Z" } : Jvm.MethodName)) ∈ lw_all := lw_g (lw_at lw_m1 219 rfl) rfl
theorem q248 : (Jvm.Cond.code ({ cls := "RecordLocksModel", name := "bad", desc := "(I)Z" } : Jvm.MethodName) prog_3_method_2_code (2 : Nat) (Option.some Jvm.ClassFile.FieldType.boolean)) ∈ lw_all := lw_g (lw_at lw_m1 220 rfl) rfl
theorem q249 : (Jvm.Cond.methodLink "RecordLocksModel" (56 : Nat) ({ cls := "RecordLocksModel", name := "badRange", desc := "(II)Z" } : Jvm.MethodName)) ∈ lw_all := lw_g (lw_at lw_m1 221 rfl) rfl
theorem q250 : (Jvm.Cond.privateMethod ({ cls := "RecordLocksModel", name := "badRange", desc := "(II)Z" } : Jvm.MethodName)) ∈ lw_tbl := lw_at lw_m1 222 rfl
theorem q251 : (Jvm.Cond.instanceMethod ({ cls := "RecordLocksModel", name := "badRange", desc := "(II)Z" } : Jvm.MethodName)) ∈ lw_all := lw_g (lw_at lw_m1 223 rfl) rfl
theorem q252 : (Jvm.Cond.code ({ cls := "RecordLocksModel", name := "badRange", desc := "(II)Z" } : Jvm.MethodName) prog_3_method_4_code (3 : Nat) (Option.some Jvm.ClassFile.FieldType.boolean)) ∈ lw_all := lw_g (lw_at lw_m1 224 rfl) rfl
theorem q253 : (Jvm.Cond.methodLink "RecordLocksModel" (59 : Nat) ({ cls := "RecordLocksModel", name := "placeOf", desc := "(I)I" } : Jvm.MethodName)) ∈ lw_all := lw_g (lw_at lw_m1 225 rfl) rfl
theorem q254 : (Jvm.Cond.privateMethod ({ cls := "RecordLocksModel", name := "placeOf", desc := "(I)I" } : Jvm.MethodName)) ∈ lw_tbl := lw_at lw_m1 226 rfl
theorem q255 : (Jvm.Cond.instanceMethod ({ cls := "RecordLocksModel", name := "placeOf", desc := "(I)I" } : Jvm.MethodName)) ∈ lw_all := lw_g (lw_at lw_m1 227 rfl) rfl
theorem q256 : (Jvm.Cond.code ({ cls := "RecordLocksModel", name := "placeOf", desc := "(I)I" } : Jvm.MethodName) prog_3_method_5_code (3 : Nat) (Option.some Jvm.ClassFile.FieldType.int)) ∈ lw_all := lw_g (lw_at lw_m1 228 rfl) rfl
theorem q257 : (Jvm.Cond.methodLink "RecordLocksModel" (36 : Nat) ({ cls := "RecordLocksModel", name := "against", desc := "(IIII)I" } : Jvm.MethodName)) ∈ lw_all := lw_g (lw_at lw_m1 229 rfl) rfl
theorem q258 : (Jvm.Cond.privateMethod ({ cls := "RecordLocksModel", name := "against", desc := "(IIII)I" } : Jvm.MethodName)) ∈ lw_tbl := lw_at lw_m1 230 rfl
theorem q259 : (Jvm.Cond.instanceMethod ({ cls := "RecordLocksModel", name := "against", desc := "(IIII)I" } : Jvm.MethodName)) ∈ lw_all := lw_g (lw_at lw_m1 231 rfl) rfl
theorem q260 : (Jvm.Cond.code ({ cls := "RecordLocksModel", name := "against", desc := "(IIII)I" } : Jvm.MethodName) prog_3_method_7_code (8 : Nat) (Option.some Jvm.ClassFile.FieldType.int)) ∈ lw_all := lw_g (lw_at lw_m1 232 rfl) rfl
theorem q261 : (Jvm.Cond.methodLink "RecordLocksModel" (32 : Nat) ({ cls := "RecordLocksModel", name := "clash", desc := "(II)Z" } : Jvm.MethodName)) ∈ lw_all := lw_g (lw_at lw_m1 233 rfl) rfl
theorem q262 : (Jvm.Cond.privateMethod ({ cls := "RecordLocksModel", name := "clash", desc := "(II)Z" } : Jvm.MethodName)) ∈ lw_tbl := lw_at lw_m1 234 rfl
theorem q263 : (Jvm.Cond.instanceMethod ({ cls := "RecordLocksModel", name := "clash", desc := "(II)Z" } : Jvm.MethodName)) ∈ lw_all := lw_g (lw_at lw_m1 235 rfl) rfl
theorem q264 : (Jvm.Cond.code ({ cls := "RecordLocksModel", name := "clash", desc := "(II)Z" } : Jvm.MethodName) prog_3_method_6_code (3 : Nat) (Option.some Jvm.ClassFile.FieldType.boolean)) ∈ lw_all := lw_g (lw_at lw_m1 236 rfl) rfl
theorem q265 : (Jvm.Cond.methodLink "RecordLocksModel" (44 : Nat) ({ cls := "RecordLocksModel", name := "grant", desc := "(IIII)V" } : Jvm.MethodName)) ∈ lw_all := lw_g (lw_at lw_m1 237 rfl) rfl
theorem q266 : (Jvm.Cond.privateMethod ({ cls := "RecordLocksModel", name := "grant", desc := "(IIII)V" } : Jvm.MethodName)) ∈ lw_tbl := lw_at lw_m1 238 rfl
theorem q267 : (Jvm.Cond.instanceMethod ({ cls := "RecordLocksModel", name := "grant", desc := "(IIII)V" } : Jvm.MethodName)) ∈ lw_all := lw_g (lw_at lw_m1 239 rfl) rfl
theorem q268 : (Jvm.Cond.code ({ cls := "RecordLocksModel", name := "grant", desc := "(IIII)V" } : Jvm.MethodName) prog_3_method_8_code (6 : Nat) (Option.none : Option Jvm.ClassFile.FieldType)) ∈ lw_all := lw_g (lw_at lw_m2 0 rfl) rfl
theorem q269 : (Jvm.Cond.methodLink "RecordLocksModel" (63 : Nat) ({ cls := "RecordLocksModel", name := "settle", desc := "()I" } : Jvm.MethodName)) ∈ lw_all := lw_g (lw_at lw_m2 1 rfl) rfl
theorem q270 : (Jvm.Cond.privateMethod ({ cls := "RecordLocksModel", name := "settle", desc := "()I" } : Jvm.MethodName)) ∈ lw_tbl := lw_at lw_m2 2 rfl
theorem q271 : (Jvm.Cond.instanceMethod ({ cls := "RecordLocksModel", name := "settle", desc := "()I" } : Jvm.MethodName)) ∈ lw_all := lw_g (lw_at lw_m2 3 rfl) rfl
theorem q272 : (Jvm.Cond.code ({ cls := "RecordLocksModel", name := "settle", desc := "()I" } : Jvm.MethodName) prog_3_method_11_code (4 : Nat) (Option.some Jvm.ClassFile.FieldType.int)) ∈ lw_all := lw_g (lw_at lw_m2 4 rfl) rfl
theorem q273 : (Jvm.Cond.methodLink "RecordLocksModel" (40 : Nat) ({ cls := "RecordLocksModel", name := "ready", desc := "()I" } : Jvm.MethodName)) ∈ lw_all := lw_g (lw_at lw_m2 5 rfl) rfl
theorem q274 : (Jvm.Cond.privateMethod ({ cls := "RecordLocksModel", name := "ready", desc := "()I" } : Jvm.MethodName)) ∈ lw_tbl := lw_at lw_m2 6 rfl
theorem q275 : (Jvm.Cond.instanceMethod ({ cls := "RecordLocksModel", name := "ready", desc := "()I" } : Jvm.MethodName)) ∈ lw_all := lw_g (lw_at lw_m2 7 rfl) rfl
theorem q276 : (Jvm.Cond.code ({ cls := "RecordLocksModel", name := "ready", desc := "()I" } : Jvm.MethodName) prog_3_method_10_code (2 : Nat) (Option.some Jvm.ClassFile.FieldType.int)) ∈ lw_all := lw_g (lw_at lw_m2 8 rfl) rfl
theorem q277 : (Jvm.Cond.methodLink "RecordLocksModel" (48 : Nat) ({ cls := "RecordLocksModel", name := "leave", desc := "(I)V" } : Jvm.MethodName)) ∈ lw_all := lw_g (lw_at lw_m2 9 rfl) rfl
theorem q278 : (Jvm.Cond.privateMethod ({ cls := "RecordLocksModel", name := "leave", desc := "(I)V" } : Jvm.MethodName)) ∈ lw_tbl := lw_at lw_m2 10 rfl
theorem q279 : (Jvm.Cond.instanceMethod ({ cls := "RecordLocksModel", name := "leave", desc := "(I)V" } : Jvm.MethodName)) ∈ lw_all := lw_g (lw_at lw_m2 11 rfl) rfl
theorem q280 : (Jvm.Cond.code ({ cls := "RecordLocksModel", name := "leave", desc := "(I)V" } : Jvm.MethodName) prog_3_method_9_code (3 : Nat) (Option.none : Option Jvm.ClassFile.FieldType)) ∈ lw_all := lw_g (lw_at lw_m2 12 rfl) rfl
theorem q282 : (Jvm.Cond.instanceMethod ({ cls := "RecordLocksModel", name := "await", desc := "(IIII)I" } : Jvm.MethodName)) ∈ lw_all := lw_g (lw_at lw_m2 14 rfl) rfl
theorem q283 : (Jvm.Cond.selects "RecordLocksModel" ({ cls := "RecordLocksModel", name := "await", desc := "(IIII)I" } : Jvm.MethodName) ({ cls := "RecordLocksModel", name := "await", desc := "(IIII)I" } : Jvm.MethodName)) ∈ lw_all := lw_g (lw_at lw_m2 15 rfl) rfl
theorem q284 : (Jvm.Cond.code ({ cls := "RecordLocksModel", name := "await", desc := "(IIII)I" } : Jvm.MethodName) prog_3_method_14_code (7 : Nat) (Option.some Jvm.ClassFile.FieldType.int)) ∈ lw_all := lw_g (lw_at lw_m2 16 rfl) rfl
theorem q285 : (Jvm.Cond.methodLink "RecordLocksModel" (66 : Nat) ({ cls := "RecordLocksModel", name := "circles", desc := "(II)Z" } : Jvm.MethodName)) ∈ lw_all := lw_g (lw_at lw_m2 17 rfl) rfl
theorem q286 : (Jvm.Cond.privateMethod ({ cls := "RecordLocksModel", name := "circles", desc := "(II)Z" } : Jvm.MethodName)) ∈ lw_tbl := lw_at lw_m2 18 rfl
theorem q287 : (Jvm.Cond.instanceMethod ({ cls := "RecordLocksModel", name := "circles", desc := "(II)Z" } : Jvm.MethodName)) ∈ lw_all := lw_g (lw_at lw_m2 19 rfl) rfl
theorem q288 : (Jvm.Cond.code ({ cls := "RecordLocksModel", name := "circles", desc := "(II)Z" } : Jvm.MethodName) prog_3_method_13_code (7 : Nat) (Option.some Jvm.ClassFile.FieldType.boolean)) ∈ lw_all := lw_g (lw_at lw_m2 20 rfl) rfl
theorem q290 : (Jvm.Cond.instanceMethod ({ cls := "RecordLocksModel", name := "cancel", desc := "(I)I" } : Jvm.MethodName)) ∈ lw_all := lw_g (lw_at lw_m2 22 rfl) rfl
theorem q291 : (Jvm.Cond.selects "RecordLocksModel" ({ cls := "RecordLocksModel", name := "cancel", desc := "(I)I" } : Jvm.MethodName) ({ cls := "RecordLocksModel", name := "cancel", desc := "(I)I" } : Jvm.MethodName)) ∈ lw_all := lw_g (lw_at lw_m2 23 rfl) rfl
theorem q292 : (Jvm.Cond.code ({ cls := "RecordLocksModel", name := "cancel", desc := "(I)I" } : Jvm.MethodName) prog_3_method_15_code (3 : Nat) (Option.some Jvm.ClassFile.FieldType.int)) ∈ lw_all := lw_g (lw_at lw_m2 24 rfl) rfl
theorem q294 : (Jvm.Cond.instanceMethod ({ cls := "RecordLocksModel", name := "close", desc := "(I)I" } : Jvm.MethodName)) ∈ lw_all := lw_g (lw_at lw_m2 26 rfl) rfl
theorem q295 : (Jvm.Cond.selects "RecordLocksModel" ({ cls := "RecordLocksModel", name := "close", desc := "(I)I" } : Jvm.MethodName) ({ cls := "RecordLocksModel", name := "close", desc := "(I)I" } : Jvm.MethodName)) ∈ lw_all := lw_g (lw_at lw_m2 27 rfl) rfl
theorem q296 : (Jvm.Cond.code ({ cls := "RecordLocksModel", name := "close", desc := "(I)I" } : Jvm.MethodName) prog_3_method_16_code (4 : Nat) (Option.some Jvm.ClassFile.FieldType.int)) ∈ lw_all := lw_g (lw_at lw_m2 28 rfl) rfl
theorem q298 : (Jvm.Cond.instanceMethod ({ cls := "RecordLocksModel", name := "lockAt", desc := "(II)I" } : Jvm.MethodName)) ∈ lw_all := lw_g (lw_at lw_m2 30 rfl) rfl
theorem q299 : (Jvm.Cond.selects "RecordLocksModel" ({ cls := "RecordLocksModel", name := "lockAt", desc := "(II)I" } : Jvm.MethodName) ({ cls := "RecordLocksModel", name := "lockAt", desc := "(II)I" } : Jvm.MethodName)) ∈ lw_all := lw_g (lw_at lw_m2 31 rfl) rfl
theorem q300 : (Jvm.Cond.code ({ cls := "RecordLocksModel", name := "lockAt", desc := "(II)I" } : Jvm.MethodName) prog_3_method_17_code (3 : Nat) (Option.some Jvm.ClassFile.FieldType.int)) ∈ lw_all := lw_g (lw_at lw_m2 32 rfl) rfl
theorem q301 : (Jvm.Cond.methodLink "RecordLocksModel" (69 : Nat) ({ cls := "RecordLocksModel", name := "badByte", desc := "(I)Z" } : Jvm.MethodName)) ∈ lw_all := lw_g (lw_at lw_m2 33 rfl) rfl
theorem q302 : (Jvm.Cond.privateMethod ({ cls := "RecordLocksModel", name := "badByte", desc := "(I)Z" } : Jvm.MethodName)) ∈ lw_tbl := lw_at lw_m2 34 rfl
theorem q303 : (Jvm.Cond.instanceMethod ({ cls := "RecordLocksModel", name := "badByte", desc := "(I)Z" } : Jvm.MethodName)) ∈ lw_all := lw_g (lw_at lw_m2 35 rfl) rfl
theorem q304 : (Jvm.Cond.code ({ cls := "RecordLocksModel", name := "badByte", desc := "(I)Z" } : Jvm.MethodName) prog_3_method_3_code (2 : Nat) (Option.some Jvm.ClassFile.FieldType.boolean)) ∈ lw_all := lw_g (lw_at lw_m2 36 rfl) rfl
theorem q306 : (Jvm.Cond.instanceMethod ({ cls := "RecordLocksModel", name := "holders", desc := "(I)I" } : Jvm.MethodName)) ∈ lw_all := lw_g (lw_at lw_m2 38 rfl) rfl
theorem q307 : (Jvm.Cond.selects "RecordLocksModel" ({ cls := "RecordLocksModel", name := "holders", desc := "(I)I" } : Jvm.MethodName) ({ cls := "RecordLocksModel", name := "holders", desc := "(I)I" } : Jvm.MethodName)) ∈ lw_all := lw_g (lw_at lw_m2 39 rfl) rfl
theorem q308 : (Jvm.Cond.code ({ cls := "RecordLocksModel", name := "holders", desc := "(I)I" } : Jvm.MethodName) prog_3_method_18_code (4 : Nat) (Option.some Jvm.ClassFile.FieldType.int)) ∈ lw_all := lw_g (lw_at lw_m2 40 rfl) rfl
theorem q310 : (Jvm.Cond.instanceMethod ({ cls := "RecordLocksModel", name := "obstacle", desc := "(IIII)I" } : Jvm.MethodName)) ∈ lw_all := lw_g (lw_at lw_m2 42 rfl) rfl
theorem q311 : (Jvm.Cond.selects "RecordLocksModel" ({ cls := "RecordLocksModel", name := "obstacle", desc := "(IIII)I" } : Jvm.MethodName) ({ cls := "RecordLocksModel", name := "obstacle", desc := "(IIII)I" } : Jvm.MethodName)) ∈ lw_all := lw_g (lw_at lw_m2 43 rfl) rfl
theorem q312 : (Jvm.Cond.code ({ cls := "RecordLocksModel", name := "obstacle", desc := "(IIII)I" } : Jvm.MethodName) prog_3_method_19_code (6 : Nat) (Option.some Jvm.ClassFile.FieldType.int)) ∈ lw_all := lw_g (lw_at lw_m2 44 rfl) rfl
theorem q314 : (Jvm.Cond.instanceMethod ({ cls := "RecordLocksModel", name := "wouldCircle", desc := "(IIII)I" } : Jvm.MethodName)) ∈ lw_all := lw_g (lw_at lw_m2 46 rfl) rfl
theorem q315 : (Jvm.Cond.selects "RecordLocksModel" ({ cls := "RecordLocksModel", name := "wouldCircle", desc := "(IIII)I" } : Jvm.MethodName) ({ cls := "RecordLocksModel", name := "wouldCircle", desc := "(IIII)I" } : Jvm.MethodName)) ∈ lw_all := lw_g (lw_at lw_m2 47 rfl) rfl
theorem q316 : (Jvm.Cond.code ({ cls := "RecordLocksModel", name := "wouldCircle", desc := "(IIII)I" } : Jvm.MethodName) prog_3_method_20_code (6 : Nat) (Option.some Jvm.ClassFile.FieldType.int)) ∈ lw_all := lw_g (lw_at lw_m2 48 rfl) rfl
theorem q318 : (Jvm.Cond.instanceMethod ({ cls := "RecordLocksModel", name := "waiting", desc := "(I)I" } : Jvm.MethodName)) ∈ lw_all := lw_g (lw_at lw_m2 50 rfl) rfl
theorem q319 : (Jvm.Cond.selects "RecordLocksModel" ({ cls := "RecordLocksModel", name := "waiting", desc := "(I)I" } : Jvm.MethodName) ({ cls := "RecordLocksModel", name := "waiting", desc := "(I)I" } : Jvm.MethodName)) ∈ lw_all := lw_g (lw_at lw_m2 51 rfl) rfl
theorem q320 : (Jvm.Cond.code ({ cls := "RecordLocksModel", name := "waiting", desc := "(I)I" } : Jvm.MethodName) prog_3_method_21_code (2 : Nat) (Option.some Jvm.ClassFile.FieldType.int)) ∈ lw_all := lw_g (lw_at lw_m2 52 rfl) rfl
theorem q322 : (Jvm.Cond.instanceMethod ({ cls := "RecordLocksModel", name := "waitsFor", desc := "(I)I" } : Jvm.MethodName)) ∈ lw_all := lw_g (lw_at lw_m2 54 rfl) rfl
theorem q323 : (Jvm.Cond.selects "RecordLocksModel" ({ cls := "RecordLocksModel", name := "waitsFor", desc := "(I)I" } : Jvm.MethodName) ({ cls := "RecordLocksModel", name := "waitsFor", desc := "(I)I" } : Jvm.MethodName)) ∈ lw_all := lw_g (lw_at lw_m2 55 rfl) rfl
theorem q324 : (Jvm.Cond.code ({ cls := "RecordLocksModel", name := "waitsFor", desc := "(I)I" } : Jvm.MethodName) prog_3_method_22_code (3 : Nat) (Option.some Jvm.ClassFile.FieldType.int)) ∈ lw_all := lw_g (lw_at lw_m2 56 rfl) rfl
theorem q326 : (Jvm.Cond.instanceMethod ({ cls := "RecordLocksModel", name := "ahead", desc := "(I)I" } : Jvm.MethodName)) ∈ lw_all := lw_g (lw_at lw_m2 58 rfl) rfl
theorem q327 : (Jvm.Cond.selects "RecordLocksModel" ({ cls := "RecordLocksModel", name := "ahead", desc := "(I)I" } : Jvm.MethodName) ({ cls := "RecordLocksModel", name := "ahead", desc := "(I)I" } : Jvm.MethodName)) ∈ lw_all := lw_g (lw_at lw_m2 59 rfl) rfl
theorem q328 : (Jvm.Cond.code ({ cls := "RecordLocksModel", name := "ahead", desc := "(I)I" } : Jvm.MethodName) prog_3_method_23_code (3 : Nat) (Option.some Jvm.ClassFile.FieldType.int)) ∈ lw_all := lw_g (lw_at lw_m2 60 rfl) rfl
theorem q330 : (Jvm.Cond.instanceMethod ({ cls := "RecordLocksModel", name := "pieces", desc := "(I)I" } : Jvm.MethodName)) ∈ lw_all := lw_g (lw_at lw_m2 62 rfl) rfl
theorem q331 : (Jvm.Cond.selects "RecordLocksModel" ({ cls := "RecordLocksModel", name := "pieces", desc := "(I)I" } : Jvm.MethodName) ({ cls := "RecordLocksModel", name := "pieces", desc := "(I)I" } : Jvm.MethodName)) ∈ lw_all := lw_g (lw_at lw_m2 63 rfl) rfl
theorem q332 : (Jvm.Cond.code ({ cls := "RecordLocksModel", name := "pieces", desc := "(I)I" } : Jvm.MethodName) prog_3_method_25_code (4 : Nat) (Option.some Jvm.ClassFile.FieldType.int)) ∈ lw_all := lw_g (lw_at lw_m2 64 rfl) rfl
theorem q333 : (Jvm.Cond.methodLink "RecordLocksModel" (72 : Nat) ({ cls := "RecordLocksModel", name := "begins", desc := "(II)Z" } : Jvm.MethodName)) ∈ lw_all := lw_g (lw_at lw_m2 65 rfl) rfl
theorem q334 : (Jvm.Cond.privateMethod ({ cls := "RecordLocksModel", name := "begins", desc := "(II)Z" } : Jvm.MethodName)) ∈ lw_tbl := lw_at lw_m2 66 rfl
theorem q335 : (Jvm.Cond.instanceMethod ({ cls := "RecordLocksModel", name := "begins", desc := "(II)Z" } : Jvm.MethodName)) ∈ lw_all := lw_g (lw_at lw_m2 67 rfl) rfl
theorem q336 : (Jvm.Cond.code ({ cls := "RecordLocksModel", name := "begins", desc := "(II)Z" } : Jvm.MethodName) prog_3_method_24_code (3 : Nat) (Option.some Jvm.ClassFile.FieldType.boolean)) ∈ lw_all := lw_g (lw_at lw_m2 68 rfl) rfl
theorem q338 : (Jvm.Cond.instanceMethod ({ cls := "RecordLocksModel", name := "pieceStart", desc := "(II)I" } : Jvm.MethodName)) ∈ lw_all := lw_g (lw_at lw_m2 70 rfl) rfl
theorem q339 : (Jvm.Cond.selects "RecordLocksModel" ({ cls := "RecordLocksModel", name := "pieceStart", desc := "(II)I" } : Jvm.MethodName) ({ cls := "RecordLocksModel", name := "pieceStart", desc := "(II)I" } : Jvm.MethodName)) ∈ lw_all := lw_g (lw_at lw_m2 71 rfl) rfl
theorem q340 : (Jvm.Cond.code ({ cls := "RecordLocksModel", name := "pieceStart", desc := "(II)I" } : Jvm.MethodName) prog_3_method_27_code (3 : Nat) (Option.some Jvm.ClassFile.FieldType.int)) ∈ lw_all := lw_g (lw_at lw_m2 72 rfl) rfl
theorem q341 : (Jvm.Cond.methodLink "RecordLocksModel" (75 : Nat) ({ cls := "RecordLocksModel", name := "startOf", desc := "(II)I" } : Jvm.MethodName)) ∈ lw_all := lw_g (lw_at lw_m2 73 rfl) rfl
theorem q342 : (Jvm.Cond.privateMethod ({ cls := "RecordLocksModel", name := "startOf", desc := "(II)I" } : Jvm.MethodName)) ∈ lw_tbl := lw_at lw_m2 74 rfl
theorem q343 : (Jvm.Cond.instanceMethod ({ cls := "RecordLocksModel", name := "startOf", desc := "(II)I" } : Jvm.MethodName)) ∈ lw_all := lw_g (lw_at lw_m2 75 rfl) rfl
theorem q344 : (Jvm.Cond.code ({ cls := "RecordLocksModel", name := "startOf", desc := "(II)I" } : Jvm.MethodName) prog_3_method_26_code (5 : Nat) (Option.some Jvm.ClassFile.FieldType.int)) ∈ lw_all := lw_g (lw_at lw_m2 76 rfl) rfl
theorem q346 : (Jvm.Cond.instanceMethod ({ cls := "RecordLocksModel", name := "pieceEnd", desc := "(II)I" } : Jvm.MethodName)) ∈ lw_all := lw_g (lw_at lw_m2 78 rfl) rfl
theorem q347 : (Jvm.Cond.selects "RecordLocksModel" ({ cls := "RecordLocksModel", name := "pieceEnd", desc := "(II)I" } : Jvm.MethodName) ({ cls := "RecordLocksModel", name := "pieceEnd", desc := "(II)I" } : Jvm.MethodName)) ∈ lw_all := lw_g (lw_at lw_m2 79 rfl) rfl
theorem q348 : (Jvm.Cond.code ({ cls := "RecordLocksModel", name := "pieceEnd", desc := "(II)I" } : Jvm.MethodName) prog_3_method_28_code (4 : Nat) (Option.some Jvm.ClassFile.FieldType.int)) ∈ lw_all := lw_g (lw_at lw_m2 80 rfl) rfl
theorem q350 : (Jvm.Cond.instanceMethod ({ cls := "RecordLocksModel", name := "pieceType", desc := "(II)I" } : Jvm.MethodName)) ∈ lw_all := lw_g (lw_at lw_m2 82 rfl) rfl
theorem q351 : (Jvm.Cond.selects "RecordLocksModel" ({ cls := "RecordLocksModel", name := "pieceType", desc := "(II)I" } : Jvm.MethodName) ({ cls := "RecordLocksModel", name := "pieceType", desc := "(II)I" } : Jvm.MethodName)) ∈ lw_all := lw_g (lw_at lw_m2 83 rfl) rfl
theorem q352 : (Jvm.Cond.code ({ cls := "RecordLocksModel", name := "pieceType", desc := "(II)I" } : Jvm.MethodName) prog_3_method_29_code (4 : Nat) (Option.some Jvm.ClassFile.FieldType.int)) ∈ lw_all := lw_g (lw_at lw_m2 84 rfl) rfl
theorem q354 : (Jvm.Cond.instanceMethod ({ cls := "RecordLocksModel", name := "count", desc := "(II)I" } : Jvm.MethodName)) ∈ lw_all := lw_g (lw_at lw_m2 86 rfl) rfl
theorem q355 : (Jvm.Cond.selects "RecordLocksModel" ({ cls := "RecordLocksModel", name := "count", desc := "(II)I" } : Jvm.MethodName) ({ cls := "RecordLocksModel", name := "count", desc := "(II)I" } : Jvm.MethodName)) ∈ lw_all := lw_g (lw_at lw_m2 87 rfl) rfl
theorem q356 : (Jvm.Cond.code ({ cls := "RecordLocksModel", name := "count", desc := "(II)I" } : Jvm.MethodName) prog_3_method_30_code (5 : Nat) (Option.some Jvm.ClassFile.FieldType.int)) ∈ lw_all := lw_g (lw_at lw_m2 88 rfl) rfl
theorem q358 : (Jvm.Cond.instanceMethod ({ cls := "RecordLocksModel", name := "free", desc := "()I" } : Jvm.MethodName)) ∈ lw_all := lw_g (lw_at lw_m2 90 rfl) rfl
theorem q359 : (Jvm.Cond.selects "RecordLocksModel" ({ cls := "RecordLocksModel", name := "free", desc := "()I" } : Jvm.MethodName) ({ cls := "RecordLocksModel", name := "free", desc := "()I" } : Jvm.MethodName)) ∈ lw_all := lw_g (lw_at lw_m2 91 rfl) rfl
theorem q360 : (Jvm.Cond.code ({ cls := "RecordLocksModel", name := "free", desc := "()I" } : Jvm.MethodName) prog_3_method_31_code (3 : Nat) (Option.some Jvm.ClassFile.FieldType.int)) ∈ lw_all := lw_g (lw_at lw_m2 92 rfl) rfl
theorem q361 : (Jvm.Cond.methodLink "RecordLocksModel" (79 : Nat) ({ cls := "RecordLocksModel", name := "holders", desc := "(I)I" } : Jvm.MethodName)) ∈ lw_all := lw_g (lw_at lw_m2 93 rfl) rfl
theorem in_X1 : ∀ w ∈ wsX10, w ∈ lw_all := lw_in wsX10 [226, 228, 230, 232, 234, 236, 238] (by decide +kernel) (by decide +kernel)
/-! java/lang/Object -/
def RJ0 : String := "java/lang/Object"
abbrev cJ0_init : ByteArray := object_method_1_code
def yJ0_init : MethodName := ⟨RJ0, "<init>", "()V"⟩
theorem q37 : (Jvm.Cond.instanceMethod ({ cls := "java/lang/Object", name := "<init>", desc := "()V" } : Jvm.MethodName)) ∈ lw_all := lw_g (lw_at lw_m1 9 rfl) rfl
theorem q38 : (Jvm.Cond.code ({ cls := "java/lang/Object", name := "<init>", desc := "()V" } : Jvm.MethodName) object_method_1_code (1 : Nat) (Option.none : Option Jvm.ClassFile.FieldType)) ∈ lw_all := lw_g (lw_at lw_m1 10 rfl) rfl
/-! the law's own entry -/
abbrev cL_law : ByteArray := code
theorem q28 : (Jvm.Cond.initialized "RecordLocksLaw") ∈ lw_all := lw_g (lw_at lw_m1 0 rfl) rfl
theorem q31 : (Jvm.Cond.classLink "RecordLocksLaw" (7 : Nat) "RecordLocks") ∈ lw_all := lw_g (lw_at lw_m1 3 rfl) rfl
theorem q33 : (Jvm.Cond.methodLink "RecordLocksLaw" (9 : Nat) ({ cls := "RecordLocks", name := "<init>", desc := "()V" } : Jvm.MethodName)) ∈ lw_all := lw_g (lw_at lw_m1 5 rfl) rfl
theorem q75 : (Jvm.Cond.methodLink "RecordLocksLaw" (13 : Nat) ({ cls := "RecordLocks", name := "lock", desc := "(IIII)I" } : Jvm.MethodName)) ∈ lw_all := lw_g (lw_at lw_m1 47 rfl) rfl
theorem q133 : (Jvm.Cond.methodLink "RecordLocksLaw" (18 : Nat) ({ cls := "RecordLocks", name := "await", desc := "(IIII)I" } : Jvm.MethodName)) ∈ lw_all := lw_g (lw_at lw_m1 105 rfl) rfl
theorem q141 : (Jvm.Cond.methodLink "RecordLocksLaw" (22 : Nat) ({ cls := "RecordLocks", name := "cancel", desc := "(I)I" } : Jvm.MethodName)) ∈ lw_all := lw_g (lw_at lw_m1 113 rfl) rfl
theorem q145 : (Jvm.Cond.methodLink "RecordLocksLaw" (27 : Nat) ({ cls := "RecordLocks", name := "close", desc := "(I)I" } : Jvm.MethodName)) ∈ lw_all := lw_g (lw_at lw_m1 117 rfl) rfl
theorem q153 : (Jvm.Cond.methodLink "RecordLocksLaw" (31 : Nat) ({ cls := "RecordLocks", name := "lockAt", desc := "(II)I" } : Jvm.MethodName)) ∈ lw_all := lw_g (lw_at lw_m1 125 rfl) rfl
theorem q164 : (Jvm.Cond.methodLink "RecordLocksLaw" (36 : Nat) ({ cls := "RecordLocks", name := "holders", desc := "(I)I" } : Jvm.MethodName)) ∈ lw_all := lw_g (lw_at lw_m1 136 rfl) rfl
theorem q168 : (Jvm.Cond.methodLink "RecordLocksLaw" (40 : Nat) ({ cls := "RecordLocks", name := "obstacle", desc := "(IIII)I" } : Jvm.MethodName)) ∈ lw_all := lw_g (lw_at lw_m1 140 rfl) rfl
theorem q172 : (Jvm.Cond.methodLink "RecordLocksLaw" (44 : Nat) ({ cls := "RecordLocks", name := "wouldCircle", desc := "(IIII)I" } : Jvm.MethodName)) ∈ lw_all := lw_g (lw_at lw_m1 144 rfl) rfl
theorem q176 : (Jvm.Cond.methodLink "RecordLocksLaw" (48 : Nat) ({ cls := "RecordLocks", name := "waiting", desc := "(I)I" } : Jvm.MethodName)) ∈ lw_all := lw_g (lw_at lw_m1 148 rfl) rfl
theorem q180 : (Jvm.Cond.methodLink "RecordLocksLaw" (52 : Nat) ({ cls := "RecordLocks", name := "waitsFor", desc := "(I)I" } : Jvm.MethodName)) ∈ lw_all := lw_g (lw_at lw_m1 152 rfl) rfl
theorem q184 : (Jvm.Cond.methodLink "RecordLocksLaw" (56 : Nat) ({ cls := "RecordLocks", name := "ahead", desc := "(I)I" } : Jvm.MethodName)) ∈ lw_all := lw_g (lw_at lw_m1 156 rfl) rfl
theorem q188 : (Jvm.Cond.methodLink "RecordLocksLaw" (60 : Nat) ({ cls := "RecordLocks", name := "pieces", desc := "(I)I" } : Jvm.MethodName)) ∈ lw_all := lw_g (lw_at lw_m1 160 rfl) rfl
theorem q192 : (Jvm.Cond.methodLink "RecordLocksLaw" (64 : Nat) ({ cls := "RecordLocks", name := "pieceStart", desc := "(II)I" } : Jvm.MethodName)) ∈ lw_all := lw_g (lw_at lw_m1 164 rfl) rfl
theorem q200 : (Jvm.Cond.methodLink "RecordLocksLaw" (68 : Nat) ({ cls := "RecordLocks", name := "pieceEnd", desc := "(II)I" } : Jvm.MethodName)) ∈ lw_all := lw_g (lw_at lw_m1 172 rfl) rfl
theorem q204 : (Jvm.Cond.methodLink "RecordLocksLaw" (72 : Nat) ({ cls := "RecordLocks", name := "pieceType", desc := "(II)I" } : Jvm.MethodName)) ∈ lw_all := lw_g (lw_at lw_m1 176 rfl) rfl
theorem q208 : (Jvm.Cond.methodLink "RecordLocksLaw" (76 : Nat) ({ cls := "RecordLocks", name := "count", desc := "(II)I" } : Jvm.MethodName)) ∈ lw_all := lw_g (lw_at lw_m1 180 rfl) rfl
theorem q209 : (Jvm.Cond.methodLink "RecordLocksLaw" (80 : Nat) ({ cls := "RecordLocks", name := "free", desc := "()I" } : Jvm.MethodName)) ∈ lw_all := lw_g (lw_at lw_m1 181 rfl) rfl
theorem q213 : (Jvm.Cond.classLink "RecordLocksLaw" (10 : Nat) "RecordLocksModel") ∈ lw_all := lw_g (lw_at lw_m1 185 rfl) rfl
theorem q215 : (Jvm.Cond.methodLink "RecordLocksLaw" (12 : Nat) ({ cls := "RecordLocksModel", name := "<init>", desc := "()V" } : Jvm.MethodName)) ∈ lw_all := lw_g (lw_at lw_m1 187 rfl) rfl
theorem q241 : (Jvm.Cond.methodLink "RecordLocksLaw" (17 : Nat) ({ cls := "RecordLocksModel", name := "lock", desc := "(IIII)I" } : Jvm.MethodName)) ∈ lw_all := lw_g (lw_at lw_m1 213 rfl) rfl
theorem q281 : (Jvm.Cond.methodLink "RecordLocksLaw" (21 : Nat) ({ cls := "RecordLocksModel", name := "await", desc := "(IIII)I" } : Jvm.MethodName)) ∈ lw_all := lw_g (lw_at lw_m2 13 rfl) rfl
theorem q289 : (Jvm.Cond.methodLink "RecordLocksLaw" (26 : Nat) ({ cls := "RecordLocksModel", name := "cancel", desc := "(I)I" } : Jvm.MethodName)) ∈ lw_all := lw_g (lw_at lw_m2 21 rfl) rfl
theorem q293 : (Jvm.Cond.methodLink "RecordLocksLaw" (30 : Nat) ({ cls := "RecordLocksModel", name := "close", desc := "(I)I" } : Jvm.MethodName)) ∈ lw_all := lw_g (lw_at lw_m2 25 rfl) rfl
theorem q297 : (Jvm.Cond.methodLink "RecordLocksLaw" (35 : Nat) ({ cls := "RecordLocksModel", name := "lockAt", desc := "(II)I" } : Jvm.MethodName)) ∈ lw_all := lw_g (lw_at lw_m2 29 rfl) rfl
theorem q305 : (Jvm.Cond.methodLink "RecordLocksLaw" (39 : Nat) ({ cls := "RecordLocksModel", name := "holders", desc := "(I)I" } : Jvm.MethodName)) ∈ lw_all := lw_g (lw_at lw_m2 37 rfl) rfl
theorem q309 : (Jvm.Cond.methodLink "RecordLocksLaw" (43 : Nat) ({ cls := "RecordLocksModel", name := "obstacle", desc := "(IIII)I" } : Jvm.MethodName)) ∈ lw_all := lw_g (lw_at lw_m2 41 rfl) rfl
theorem q313 : (Jvm.Cond.methodLink "RecordLocksLaw" (47 : Nat) ({ cls := "RecordLocksModel", name := "wouldCircle", desc := "(IIII)I" } : Jvm.MethodName)) ∈ lw_all := lw_g (lw_at lw_m2 45 rfl) rfl
theorem q317 : (Jvm.Cond.methodLink "RecordLocksLaw" (51 : Nat) ({ cls := "RecordLocksModel", name := "waiting", desc := "(I)I" } : Jvm.MethodName)) ∈ lw_all := lw_g (lw_at lw_m2 49 rfl) rfl
theorem q321 : (Jvm.Cond.methodLink "RecordLocksLaw" (55 : Nat) ({ cls := "RecordLocksModel", name := "waitsFor", desc := "(I)I" } : Jvm.MethodName)) ∈ lw_all := lw_g (lw_at lw_m2 53 rfl) rfl
theorem q325 : (Jvm.Cond.methodLink "RecordLocksLaw" (59 : Nat) ({ cls := "RecordLocksModel", name := "ahead", desc := "(I)I" } : Jvm.MethodName)) ∈ lw_all := lw_g (lw_at lw_m2 57 rfl) rfl
theorem q329 : (Jvm.Cond.methodLink "RecordLocksLaw" (63 : Nat) ({ cls := "RecordLocksModel", name := "pieces", desc := "(I)I" } : Jvm.MethodName)) ∈ lw_all := lw_g (lw_at lw_m2 61 rfl) rfl
theorem q337 : (Jvm.Cond.methodLink "RecordLocksLaw" (67 : Nat) ({ cls := "RecordLocksModel", name := "pieceStart", desc := "(II)I" } : Jvm.MethodName)) ∈ lw_all := lw_g (lw_at lw_m2 69 rfl) rfl
theorem q345 : (Jvm.Cond.methodLink "RecordLocksLaw" (71 : Nat) ({ cls := "RecordLocksModel", name := "pieceEnd", desc := "(II)I" } : Jvm.MethodName)) ∈ lw_all := lw_g (lw_at lw_m2 77 rfl) rfl
theorem q349 : (Jvm.Cond.methodLink "RecordLocksLaw" (75 : Nat) ({ cls := "RecordLocksModel", name := "pieceType", desc := "(II)I" } : Jvm.MethodName)) ∈ lw_all := lw_g (lw_at lw_m2 81 rfl) rfl
theorem q353 : (Jvm.Cond.methodLink "RecordLocksLaw" (79 : Nat) ({ cls := "RecordLocksModel", name := "count", desc := "(II)I" } : Jvm.MethodName)) ∈ lw_all := lw_g (lw_at lw_m2 85 rfl) rfl
theorem q357 : (Jvm.Cond.methodLink "RecordLocksLaw" (84 : Nat) ({ cls := "RecordLocksModel", name := "free", desc := "()I" } : Jvm.MethodName)) ∈ lw_all := lw_g (lw_at lw_m2 89 rfl) rfl
theorem q73 : (Jvm.Cond.arrayClass Jvm.ClassFile.FieldType.int) ∈ lw_all := lw_g (lw_at lw_m1 45 rfl) rfl
theorem q74 : (Jvm.Cond.arrayClass Jvm.ClassFile.FieldType.boolean) ∈ lw_all := lw_g (lw_at lw_m1 46 rfl) rfl
end
section
set_option maxRecDepth 100000
theorem dX0_init_0 : decode cX0_init 0 = .ok (.aload_n 0, 1) := by decide +kernel
theorem dX0_init_1 : decode cX0_init 1 = .ok (.invokespecial 1, 3) := by decide +kernel
theorem dX0_init_4 : decode cX0_init 4 = .ok (.aload_n 0, 1) := by decide +kernel
theorem dX0_init_5 : decode cX0_init 5 = .ok (.sipush 204, 3) := by decide +kernel
theorem dX0_init_8 : decode cX0_init 8 = .ok (.newarray .int, 2) := by decide +kernel
theorem dX0_init_10 : decode cX0_init 10 = .ok (.putfield 7, 3) := by decide +kernel
theorem dX0_init_13 : decode cX0_init 13 = .ok (.aload_n 0, 1) := by decide +kernel
theorem dX0_init_14 : decode cX0_init 14 = .ok (.sipush 204, 3) := by decide +kernel
theorem dX0_init_17 : decode cX0_init 17 = .ok (.newarray .int, 2) := by decide +kernel
theorem dX0_init_19 : decode cX0_init 19 = .ok (.putfield 13, 3) := by decide +kernel
theorem dX0_init_22 : decode cX0_init 22 = .ok (.aload_n 0, 1) := by decide +kernel
theorem dX0_init_23 : decode cX0_init 23 = .ok (.sipush 204, 3) := by decide +kernel
theorem dX0_init_26 : decode cX0_init 26 = .ok (.newarray .int, 2) := by decide +kernel
theorem dX0_init_28 : decode cX0_init 28 = .ok (.putfield 16, 3) := by decide +kernel
theorem dX0_init_31 : decode cX0_init 31 = .ok (.aload_n 0, 1) := by decide +kernel
theorem dX0_init_32 : decode cX0_init 32 = .ok (.sipush 204, 3) := by decide +kernel
theorem dX0_init_35 : decode cX0_init 35 = .ok (.newarray .int, 2) := by decide +kernel
theorem dX0_init_37 : decode cX0_init 37 = .ok (.putfield 19, 3) := by decide +kernel
theorem dX0_init_40 : decode cX0_init 40 = .ok (.aload_n 0, 1) := by decide +kernel
theorem dX0_init_41 : decode cX0_init 41 = .ok (.iconst 5, 1) := by decide +kernel
theorem dX0_init_42 : decode cX0_init 42 = .ok (.newarray .boolean, 2) := by decide +kernel
theorem dX0_init_44 : decode cX0_init 44 = .ok (.putfield 22, 3) := by decide +kernel
theorem dX0_init_47 : decode cX0_init 47 = .ok (.aload_n 0, 1) := by decide +kernel
theorem dX0_init_48 : decode cX0_init 48 = .ok (.iconst 5, 1) := by decide +kernel
theorem dX0_init_49 : decode cX0_init 49 = .ok (.newarray .int, 2) := by decide +kernel
theorem dX0_init_51 : decode cX0_init 51 = .ok (.putfield 26, 3) := by decide +kernel
theorem dX0_init_54 : decode cX0_init 54 = .ok (.aload_n 0, 1) := by decide +kernel
theorem dX0_init_55 : decode cX0_init 55 = .ok (.iconst 5, 1) := by decide +kernel
theorem dX0_init_56 : decode cX0_init 56 = .ok (.newarray .int, 2) := by decide +kernel
theorem dX0_init_58 : decode cX0_init 58 = .ok (.putfield 29, 3) := by decide +kernel
theorem dX0_init_61 : decode cX0_init 61 = .ok (.aload_n 0, 1) := by decide +kernel
theorem dX0_init_62 : decode cX0_init 62 = .ok (.iconst 5, 1) := by decide +kernel
theorem dX0_init_63 : decode cX0_init 63 = .ok (.newarray .int, 2) := by decide +kernel
theorem dX0_init_65 : decode cX0_init 65 = .ok (.putfield 32, 3) := by decide +kernel
theorem dX0_init_68 : decode cX0_init 68 = .ok (.aload_n 0, 1) := by decide +kernel
theorem dX0_init_69 : decode cX0_init 69 = .ok (.iconst 5, 1) := by decide +kernel
theorem dX0_init_70 : decode cX0_init 70 = .ok (.newarray .int, 2) := by decide +kernel
theorem dX0_init_72 : decode cX0_init 72 = .ok (.putfield 35, 3) := by decide +kernel
theorem dX0_init_75 : decode cX0_init 75 = .ok (.aload_n 0, 1) := by decide +kernel
theorem dX0_init_76 : decode cX0_init 76 = .ok (.iconst 0, 1) := by decide +kernel
theorem dX0_init_77 : decode cX0_init 77 = .ok (.putfield 38, 3) := by decide +kernel
theorem dX0_init_80 : decode cX0_init 80 = .ok (.return_, 1) := by decide +kernel
theorem dX0_lock_0 : decode cX0_lock 0 = .ok (.aload_n 0, 1) := by decide +kernel
theorem dX0_lock_1 : decode cX0_lock 1 = .ok (.iload_n 1, 1) := by decide +kernel
theorem dX0_lock_2 : decode cX0_lock 2 = .ok (.iload_n 2, 1) := by decide +kernel
theorem dX0_lock_3 : decode cX0_lock 3 = .ok (.iload_n 3, 1) := by decide +kernel
theorem dX0_lock_4 : decode cX0_lock 4 = .ok (.iload 4, 2) := by decide +kernel
theorem dX0_lock_6 : decode cX0_lock 6 = .ok (.iconst 0, 1) := by decide +kernel
theorem dX0_lock_7 : decode cX0_lock 7 = .ok (.invokevirtual 42, 3) := by decide +kernel
theorem dX0_lock_10 : decode cX0_lock 10 = .ok (.istore 5, 2) := by decide +kernel
theorem dX0_lock_12 : decode cX0_lock 12 = .ok (.iload 5, 2) := by decide +kernel
theorem dX0_lock_14 : decode cX0_lock 14 = .ok (.ifCond .ge 6, 3) := by decide +kernel
theorem dX0_lock_17 : decode cX0_lock 17 = .ok (.iload 5, 2) := by decide +kernel
theorem dX0_lock_19 : decode cX0_lock 19 = .ok (.ireturn, 1) := by decide +kernel
theorem dX0_lock_20 : decode cX0_lock 20 = .ok (.iload_n 2, 1) := by decide +kernel
theorem dX0_lock_21 : decode cX0_lock 21 = .ok (.iload_n 3, 1) := by decide +kernel
theorem dX0_lock_22 : decode cX0_lock 22 = .ok (.iadd, 1) := by decide +kernel
theorem dX0_lock_23 : decode cX0_lock 23 = .ok (.iconst 1, 1) := by decide +kernel
theorem dX0_lock_24 : decode cX0_lock 24 = .ok (.isub, 1) := by decide +kernel
theorem dX0_lock_25 : decode cX0_lock 25 = .ok (.istore 6, 2) := by decide +kernel
theorem dX0_lock_27 : decode cX0_lock 27 = .ok (.iload 4, 2) := by decide +kernel
theorem dX0_lock_29 : decode cX0_lock 29 = .ok (.ifCond .eq 19, 3) := by decide +kernel
theorem dX0_lock_32 : decode cX0_lock 32 = .ok (.aload_n 0, 1) := by decide +kernel
theorem dX0_lock_33 : decode cX0_lock 33 = .ok (.iload_n 1, 1) := by decide +kernel
theorem dX0_lock_34 : decode cX0_lock 34 = .ok (.iload_n 2, 1) := by decide +kernel
theorem dX0_lock_35 : decode cX0_lock 35 = .ok (.iload 6, 2) := by decide +kernel
theorem dX0_lock_37 : decode cX0_lock 37 = .ok (.iload 4, 2) := by decide +kernel
theorem dX0_lock_39 : decode cX0_lock 39 = .ok (.invokevirtual 46, 3) := by decide +kernel
theorem dX0_lock_42 : decode cX0_lock 42 = .ok (.ifCond .eq 6, 3) := by decide +kernel
theorem dX0_lock_45 : decode cX0_lock 45 = .ok (.bipush (-5), 2) := by decide +kernel
theorem dX0_lock_47 : decode cX0_lock 47 = .ok (.ireturn, 1) := by decide +kernel
theorem dX0_lock_48 : decode cX0_lock 48 = .ok (.aload_n 0, 1) := by decide +kernel
theorem dX0_lock_49 : decode cX0_lock 49 = .ok (.iload_n 1, 1) := by decide +kernel
theorem dX0_lock_50 : decode cX0_lock 50 = .ok (.iload_n 2, 1) := by decide +kernel
theorem dX0_lock_51 : decode cX0_lock 51 = .ok (.iload 6, 2) := by decide +kernel
theorem dX0_lock_53 : decode cX0_lock 53 = .ok (.iload 4, 2) := by decide +kernel
theorem dX0_lock_55 : decode cX0_lock 55 = .ok (.invokevirtual 50, 3) := by decide +kernel
theorem dX0_lock_58 : decode cX0_lock 58 = .ok (.aload_n 0, 1) := by decide +kernel
theorem dX0_lock_59 : decode cX0_lock 59 = .ok (.invokevirtual 54, 3) := by decide +kernel
theorem dX0_lock_62 : decode cX0_lock 62 = .ok (.ireturn, 1) := by decide +kernel
theorem dX0_refused_0 : decode cX0_refused 0 = .ok (.iload_n 1, 1) := by decide +kernel
theorem dX0_refused_1 : decode cX0_refused 1 = .ok (.invokestatic 65, 3) := by decide +kernel
theorem dX0_refused_4 : decode cX0_refused 4 = .ok (.ifCond .ne 5, 3) := by decide +kernel
theorem dX0_refused_7 : decode cX0_refused 7 = .ok (.iconst (-1), 1) := by decide +kernel
theorem dX0_refused_8 : decode cX0_refused 8 = .ok (.ireturn, 1) := by decide +kernel
theorem dX0_refused_9 : decode cX0_refused 9 = .ok (.iload_n 2, 1) := by decide +kernel
theorem dX0_refused_10 : decode cX0_refused 10 = .ok (.iload_n 3, 1) := by decide +kernel
theorem dX0_refused_11 : decode cX0_refused 11 = .ok (.invokestatic 78, 3) := by decide +kernel
theorem dX0_refused_14 : decode cX0_refused 14 = .ok (.ifCond .ne 6, 3) := by decide +kernel
theorem dX0_refused_17 : decode cX0_refused 17 = .ok (.bipush (-2), 2) := by decide +kernel
theorem dX0_refused_19 : decode cX0_refused 19 = .ok (.ireturn, 1) := by decide +kernel
theorem dX0_refused_20 : decode cX0_refused 20 = .ok (.iload 4, 2) := by decide +kernel
theorem dX0_refused_22 : decode cX0_refused 22 = .ok (.iload 5, 2) := by decide +kernel
theorem dX0_refused_24 : decode cX0_refused 24 = .ok (.if_icmp .lt 9, 3) := by decide +kernel
theorem dX0_refused_27 : decode cX0_refused 27 = .ok (.iload 4, 2) := by decide +kernel
theorem dX0_refused_29 : decode cX0_refused 29 = .ok (.iconst 2, 1) := by decide +kernel
theorem dX0_refused_30 : decode cX0_refused 30 = .ok (.if_icmp .le 6, 3) := by decide +kernel
theorem dX0_refused_33 : decode cX0_refused 33 = .ok (.bipush (-3), 2) := by decide +kernel
theorem dX0_refused_35 : decode cX0_refused 35 = .ok (.ireturn, 1) := by decide +kernel
theorem dX0_refused_36 : decode cX0_refused 36 = .ok (.aload_n 0, 1) := by decide +kernel
theorem dX0_refused_37 : decode cX0_refused 37 = .ok (.getfield 22, 3) := by decide +kernel
theorem dX0_refused_40 : decode cX0_refused 40 = .ok (.iload_n 1, 1) := by decide +kernel
theorem dX0_refused_41 : decode cX0_refused 41 = .ok (.baload, 1) := by decide +kernel
theorem dX0_refused_42 : decode cX0_refused 42 = .ok (.ifCond .eq 8, 3) := by decide +kernel
theorem dX0_refused_45 : decode cX0_refused 45 = .ok (.bipush (-4), 2) := by decide +kernel
theorem dX0_refused_47 : decode cX0_refused 47 = .ok (.goto 4, 3) := by decide +kernel
theorem dX0_refused_50 : decode cX0_refused 50 = .ok (.iconst 0, 1) := by decide +kernel
theorem dX0_refused_51 : decode cX0_refused 51 = .ok (.ireturn, 1) := by decide +kernel
theorem dX0_isOwner_0 : decode cX0_isOwner 0 = .ok (.iload_n 0, 1) := by decide +kernel
theorem dX0_isOwner_1 : decode cX0_isOwner 1 = .ok (.ifCond .lt 12, 3) := by decide +kernel
theorem dX0_isOwner_4 : decode cX0_isOwner 4 = .ok (.iload_n 0, 1) := by decide +kernel
theorem dX0_isOwner_5 : decode cX0_isOwner 5 = .ok (.iconst 5, 1) := by decide +kernel
theorem dX0_isOwner_6 : decode cX0_isOwner 6 = .ok (.if_icmp .ge 7, 3) := by decide +kernel
theorem dX0_isOwner_9 : decode cX0_isOwner 9 = .ok (.iconst 1, 1) := by decide +kernel
theorem dX0_isOwner_10 : decode cX0_isOwner 10 = .ok (.goto 4, 3) := by decide +kernel
theorem dX0_isOwner_13 : decode cX0_isOwner 13 = .ok (.iconst 0, 1) := by decide +kernel
theorem dX0_isOwner_14 : decode cX0_isOwner 14 = .ok (.ireturn, 1) := by decide +kernel
theorem dX0_isRange_0 : decode cX0_isRange 0 = .ok (.iload_n 1, 1) := by decide +kernel
theorem dX0_isRange_1 : decode cX0_isRange 1 = .ok (.iconst 1, 1) := by decide +kernel
theorem dX0_isRange_2 : decode cX0_isRange 2 = .ok (.if_icmp .lt 25, 3) := by decide +kernel
theorem dX0_isRange_5 : decode cX0_isRange 5 = .ok (.iload_n 1, 1) := by decide +kernel
theorem dX0_isRange_6 : decode cX0_isRange 6 = .ok (.bipush 40, 2) := by decide +kernel
theorem dX0_isRange_8 : decode cX0_isRange 8 = .ok (.if_icmp .gt 19, 3) := by decide +kernel
theorem dX0_isRange_11 : decode cX0_isRange 11 = .ok (.iload_n 0, 1) := by decide +kernel
theorem dX0_isRange_12 : decode cX0_isRange 12 = .ok (.ifCond .lt 15, 3) := by decide +kernel
theorem dX0_isRange_15 : decode cX0_isRange 15 = .ok (.iload_n 0, 1) := by decide +kernel
theorem dX0_isRange_16 : decode cX0_isRange 16 = .ok (.bipush 40, 2) := by decide +kernel
theorem dX0_isRange_18 : decode cX0_isRange 18 = .ok (.iload_n 1, 1) := by decide +kernel
theorem dX0_isRange_19 : decode cX0_isRange 19 = .ok (.isub, 1) := by decide +kernel
theorem dX0_isRange_20 : decode cX0_isRange 20 = .ok (.if_icmp .gt 7, 3) := by decide +kernel
theorem dX0_isRange_23 : decode cX0_isRange 23 = .ok (.iconst 1, 1) := by decide +kernel
theorem dX0_isRange_24 : decode cX0_isRange 24 = .ok (.goto 4, 3) := by decide +kernel
theorem dX0_isRange_27 : decode cX0_isRange 27 = .ok (.iconst 0, 1) := by decide +kernel
theorem dX0_isRange_28 : decode cX0_isRange 28 = .ok (.ireturn, 1) := by decide +kernel
theorem dX0_rivals_0 : decode cX0_rivals 0 = .ok (.iconst 0, 1) := by decide +kernel
theorem dX0_rivals_1 : decode cX0_rivals 1 = .ok (.istore 5, 2) := by decide +kernel
theorem dX0_rivals_3 : decode cX0_rivals 3 = .ok (.iconst 0, 1) := by decide +kernel
theorem dX0_rivals_4 : decode cX0_rivals 4 = .ok (.istore 6, 2) := by decide +kernel
theorem dX0_rivals_6 : decode cX0_rivals 6 = .ok (.iload 6, 2) := by decide +kernel
theorem dX0_rivals_8 : decode cX0_rivals 8 = .ok (.aload_n 0, 1) := by decide +kernel
theorem dX0_rivals_9 : decode cX0_rivals 9 = .ok (.getfield 38, 3) := by decide +kernel
theorem dX0_rivals_12 : decode cX0_rivals 12 = .ok (.if_icmp .ge 37, 3) := by decide +kernel
theorem dX0_rivals_15 : decode cX0_rivals 15 = .ok (.aload_n 0, 1) := by decide +kernel
theorem dX0_rivals_16 : decode cX0_rivals 16 = .ok (.iload 6, 2) := by decide +kernel
theorem dX0_rivals_18 : decode cX0_rivals 18 = .ok (.iload_n 1, 1) := by decide +kernel
theorem dX0_rivals_19 : decode cX0_rivals 19 = .ok (.iload_n 2, 1) := by decide +kernel
theorem dX0_rivals_20 : decode cX0_rivals 20 = .ok (.iload_n 3, 1) := by decide +kernel
theorem dX0_rivals_21 : decode cX0_rivals 21 = .ok (.iload 4, 2) := by decide +kernel
theorem dX0_rivals_23 : decode cX0_rivals 23 = .ok (.invokevirtual 81, 3) := by decide +kernel
theorem dX0_rivals_26 : decode cX0_rivals 26 = .ok (.ifCond .eq 17, 3) := by decide +kernel
theorem dX0_rivals_29 : decode cX0_rivals 29 = .ok (.iload 5, 2) := by decide +kernel
theorem dX0_rivals_31 : decode cX0_rivals 31 = .ok (.iconst 1, 1) := by decide +kernel
theorem dX0_rivals_32 : decode cX0_rivals 32 = .ok (.aload_n 0, 1) := by decide +kernel
theorem dX0_rivals_33 : decode cX0_rivals 33 = .ok (.getfield 7, 3) := by decide +kernel
theorem dX0_rivals_36 : decode cX0_rivals 36 = .ok (.iload 6, 2) := by decide +kernel
theorem dX0_rivals_38 : decode cX0_rivals 38 = .ok (.iaload, 1) := by decide +kernel
theorem dX0_rivals_39 : decode cX0_rivals 39 = .ok (.ishl, 1) := by decide +kernel
theorem dX0_rivals_40 : decode cX0_rivals 40 = .ok (.ior, 1) := by decide +kernel
theorem dX0_rivals_41 : decode cX0_rivals 41 = .ok (.istore 5, 2) := by decide +kernel
theorem dX0_rivals_43 : decode cX0_rivals 43 = .ok (.iinc 6 1, 3) := by decide +kernel
theorem dX0_rivals_46 : decode cX0_rivals 46 = .ok (.goto (-40), 3) := by decide +kernel
theorem dX0_rivals_49 : decode cX0_rivals 49 = .ok (.iload 5, 2) := by decide +kernel
theorem dX0_rivals_51 : decode cX0_rivals 51 = .ok (.ireturn, 1) := by decide +kernel
theorem dX0_stands_0 : decode cX0_stands 0 = .ok (.aload_n 0, 1) := by decide +kernel
theorem dX0_stands_1 : decode cX0_stands 1 = .ok (.getfield 13, 3) := by decide +kernel
theorem dX0_stands_4 : decode cX0_stands 4 = .ok (.iload_n 1, 1) := by decide +kernel
theorem dX0_stands_5 : decode cX0_stands 5 = .ok (.iaload, 1) := by decide +kernel
theorem dX0_stands_6 : decode cX0_stands 6 = .ok (.iload 4, 2) := by decide +kernel
theorem dX0_stands_8 : decode cX0_stands 8 = .ok (.if_icmp .gt 17, 3) := by decide +kernel
theorem dX0_stands_11 : decode cX0_stands 11 = .ok (.iload_n 3, 1) := by decide +kernel
theorem dX0_stands_12 : decode cX0_stands 12 = .ok (.aload_n 0, 1) := by decide +kernel
theorem dX0_stands_13 : decode cX0_stands 13 = .ok (.getfield 16, 3) := by decide +kernel
theorem dX0_stands_16 : decode cX0_stands 16 = .ok (.iload_n 1, 1) := by decide +kernel
theorem dX0_stands_17 : decode cX0_stands 17 = .ok (.iaload, 1) := by decide +kernel
theorem dX0_stands_18 : decode cX0_stands 18 = .ok (.if_icmp .gt 7, 3) := by decide +kernel
theorem dX0_stands_21 : decode cX0_stands 21 = .ok (.iconst 1, 1) := by decide +kernel
theorem dX0_stands_22 : decode cX0_stands 22 = .ok (.goto 4, 3) := by decide +kernel
theorem dX0_stands_25 : decode cX0_stands 25 = .ok (.iconst 0, 1) := by decide +kernel
theorem dX0_stands_26 : decode cX0_stands 26 = .ok (.istore 6, 2) := by decide +kernel
theorem dX0_stands_28 : decode cX0_stands 28 = .ok (.iload 6, 2) := by decide +kernel
theorem dX0_stands_30 : decode cX0_stands 30 = .ok (.ifCond .eq 33, 3) := by decide +kernel
theorem dX0_stands_33 : decode cX0_stands 33 = .ok (.aload_n 0, 1) := by decide +kernel
theorem dX0_stands_34 : decode cX0_stands 34 = .ok (.getfield 7, 3) := by decide +kernel
theorem dX0_stands_37 : decode cX0_stands 37 = .ok (.iload_n 1, 1) := by decide +kernel
theorem dX0_stands_38 : decode cX0_stands 38 = .ok (.iaload, 1) := by decide +kernel
theorem dX0_stands_39 : decode cX0_stands 39 = .ok (.iload_n 2, 1) := by decide +kernel
theorem dX0_stands_40 : decode cX0_stands 40 = .ok (.if_icmp .eq 23, 3) := by decide +kernel
theorem dX0_stands_43 : decode cX0_stands 43 = .ok (.iload 5, 2) := by decide +kernel
theorem dX0_stands_45 : decode cX0_stands 45 = .ok (.iconst 2, 1) := by decide +kernel
theorem dX0_stands_46 : decode cX0_stands 46 = .ok (.if_icmp .eq 13, 3) := by decide +kernel
theorem dX0_stands_49 : decode cX0_stands 49 = .ok (.aload_n 0, 1) := by decide +kernel
theorem dX0_stands_50 : decode cX0_stands 50 = .ok (.getfield 19, 3) := by decide +kernel
theorem dX0_stands_53 : decode cX0_stands 53 = .ok (.iload_n 1, 1) := by decide +kernel
theorem dX0_stands_54 : decode cX0_stands 54 = .ok (.iaload, 1) := by decide +kernel
theorem dX0_stands_55 : decode cX0_stands 55 = .ok (.iconst 2, 1) := by decide +kernel
theorem dX0_stands_56 : decode cX0_stands 56 = .ok (.if_icmp .ne 7, 3) := by decide +kernel
theorem dX0_stands_59 : decode cX0_stands 59 = .ok (.iconst 1, 1) := by decide +kernel
theorem dX0_stands_60 : decode cX0_stands 60 = .ok (.goto 4, 3) := by decide +kernel
theorem dX0_stands_63 : decode cX0_stands 63 = .ok (.iconst 0, 1) := by decide +kernel
theorem dX0_stands_64 : decode cX0_stands 64 = .ok (.ireturn, 1) := by decide +kernel
theorem dX0_paint_0 : decode cX0_paint 0 = .ok (.aload_n 0, 1) := by decide +kernel
theorem dX0_paint_1 : decode cX0_paint 1 = .ok (.iload_n 1, 1) := by decide +kernel
theorem dX0_paint_2 : decode cX0_paint 2 = .ok (.iload_n 2, 1) := by decide +kernel
theorem dX0_paint_3 : decode cX0_paint 3 = .ok (.iload_n 3, 1) := by decide +kernel
theorem dX0_paint_4 : decode cX0_paint 4 = .ok (.invokevirtual 95, 3) := by decide +kernel
theorem dX0_paint_7 : decode cX0_paint 7 = .ok (.iload 4, 2) := by decide +kernel
theorem dX0_paint_9 : decode cX0_paint 9 = .ok (.ifCond .ne 4, 3) := by decide +kernel
theorem dX0_paint_12 : decode cX0_paint 12 = .ok (.return_, 1) := by decide +kernel
theorem dX0_paint_13 : decode cX0_paint 13 = .ok (.aload_n 0, 1) := by decide +kernel
theorem dX0_paint_14 : decode cX0_paint 14 = .ok (.iload_n 1, 1) := by decide +kernel
theorem dX0_paint_15 : decode cX0_paint 15 = .ok (.invokevirtual 89, 3) := by decide +kernel
theorem dX0_paint_18 : decode cX0_paint 18 = .ok (.istore 5, 2) := by decide +kernel
theorem dX0_paint_20 : decode cX0_paint 20 = .ok (.aload_n 0, 1) := by decide +kernel
theorem dX0_paint_21 : decode cX0_paint 21 = .ok (.iload_n 1, 1) := by decide +kernel
theorem dX0_paint_22 : decode cX0_paint 22 = .ok (.iconst 1, 1) := by decide +kernel
theorem dX0_paint_23 : decode cX0_paint 23 = .ok (.iadd, 1) := by decide +kernel
theorem dX0_paint_24 : decode cX0_paint 24 = .ok (.invokevirtual 89, 3) := by decide +kernel
theorem dX0_paint_27 : decode cX0_paint 27 = .ok (.istore 6, 2) := by decide +kernel
theorem dX0_paint_29 : decode cX0_paint 29 = .ok (.iload 5, 2) := by decide +kernel
theorem dX0_paint_31 : decode cX0_paint 31 = .ok (.iload 6, 2) := by decide +kernel
theorem dX0_paint_33 : decode cX0_paint 33 = .ok (.if_icmp .ge 20, 3) := by decide +kernel
theorem dX0_paint_36 : decode cX0_paint 36 = .ok (.aload_n 0, 1) := by decide +kernel
theorem dX0_paint_37 : decode cX0_paint 37 = .ok (.getfield 13, 3) := by decide +kernel
theorem dX0_paint_40 : decode cX0_paint 40 = .ok (.iload 5, 2) := by decide +kernel
theorem dX0_paint_42 : decode cX0_paint 42 = .ok (.iaload, 1) := by decide +kernel
theorem dX0_paint_43 : decode cX0_paint 43 = .ok (.iload_n 2, 1) := by decide +kernel
theorem dX0_paint_44 : decode cX0_paint 44 = .ok (.if_icmp .ge 9, 3) := by decide +kernel
theorem dX0_paint_47 : decode cX0_paint 47 = .ok (.iinc 5 1, 3) := by decide +kernel
theorem dX0_paint_50 : decode cX0_paint 50 = .ok (.goto (-21), 3) := by decide +kernel
theorem dX0_paint_53 : decode cX0_paint 53 = .ok (.aload_n 0, 1) := by decide +kernel
theorem dX0_paint_54 : decode cX0_paint 54 = .ok (.iload 5, 2) := by decide +kernel
theorem dX0_paint_56 : decode cX0_paint 56 = .ok (.invokevirtual 99, 3) := by decide +kernel
theorem dX0_paint_59 : decode cX0_paint 59 = .ok (.aload_n 0, 1) := by decide +kernel
theorem dX0_paint_60 : decode cX0_paint 60 = .ok (.getfield 7, 3) := by decide +kernel
theorem dX0_paint_63 : decode cX0_paint 63 = .ok (.iload 5, 2) := by decide +kernel
theorem dX0_paint_65 : decode cX0_paint 65 = .ok (.iload_n 1, 1) := by decide +kernel
theorem dX0_paint_66 : decode cX0_paint 66 = .ok (.iastore, 1) := by decide +kernel
theorem dX0_paint_67 : decode cX0_paint 67 = .ok (.aload_n 0, 1) := by decide +kernel
theorem dX0_paint_68 : decode cX0_paint 68 = .ok (.getfield 13, 3) := by decide +kernel
theorem dX0_paint_71 : decode cX0_paint 71 = .ok (.iload 5, 2) := by decide +kernel
theorem dX0_paint_73 : decode cX0_paint 73 = .ok (.iload_n 2, 1) := by decide +kernel
theorem dX0_paint_74 : decode cX0_paint 74 = .ok (.iastore, 1) := by decide +kernel
theorem dX0_paint_75 : decode cX0_paint 75 = .ok (.aload_n 0, 1) := by decide +kernel
theorem dX0_paint_76 : decode cX0_paint 76 = .ok (.getfield 16, 3) := by decide +kernel
theorem dX0_paint_79 : decode cX0_paint 79 = .ok (.iload 5, 2) := by decide +kernel
theorem dX0_paint_81 : decode cX0_paint 81 = .ok (.iload_n 3, 1) := by decide +kernel
theorem dX0_paint_82 : decode cX0_paint 82 = .ok (.iastore, 1) := by decide +kernel
theorem dX0_paint_83 : decode cX0_paint 83 = .ok (.aload_n 0, 1) := by decide +kernel
theorem dX0_paint_84 : decode cX0_paint 84 = .ok (.getfield 19, 3) := by decide +kernel
theorem dX0_paint_87 : decode cX0_paint 87 = .ok (.iload 5, 2) := by decide +kernel
theorem dX0_paint_89 : decode cX0_paint 89 = .ok (.iload 4, 2) := by decide +kernel
theorem dX0_paint_91 : decode cX0_paint 91 = .ok (.iastore, 1) := by decide +kernel
theorem dX0_paint_92 : decode cX0_paint 92 = .ok (.aload_n 0, 1) := by decide +kernel
theorem dX0_paint_93 : decode cX0_paint 93 = .ok (.iload 5, 2) := by decide +kernel
theorem dX0_paint_95 : decode cX0_paint 95 = .ok (.invokevirtual 103, 3) := by decide +kernel
theorem dX0_paint_98 : decode cX0_paint 98 = .ok (.iload 5, 2) := by decide +kernel
theorem dX0_paint_100 : decode cX0_paint 100 = .ok (.ifCond .le 11, 3) := by decide +kernel
theorem dX0_paint_103 : decode cX0_paint 103 = .ok (.aload_n 0, 1) := by decide +kernel
theorem dX0_paint_104 : decode cX0_paint 104 = .ok (.iload 5, 2) := by decide +kernel
theorem dX0_paint_106 : decode cX0_paint 106 = .ok (.iconst 1, 1) := by decide +kernel
theorem dX0_paint_107 : decode cX0_paint 107 = .ok (.isub, 1) := by decide +kernel
theorem dX0_paint_108 : decode cX0_paint 108 = .ok (.invokevirtual 103, 3) := by decide +kernel
theorem dX0_paint_111 : decode cX0_paint 111 = .ok (.return_, 1) := by decide +kernel
theorem dX0_cutOut_0 : decode cX0_cutOut 0 = .ok (.aload_n 0, 1) := by decide +kernel
theorem dX0_cutOut_1 : decode cX0_cutOut 1 = .ok (.iload_n 1, 1) := by decide +kernel
theorem dX0_cutOut_2 : decode cX0_cutOut 2 = .ok (.invokevirtual 89, 3) := by decide +kernel
theorem dX0_cutOut_5 : decode cX0_cutOut 5 = .ok (.istore 4, 2) := by decide +kernel
theorem dX0_cutOut_7 : decode cX0_cutOut 7 = .ok (.iconst 0, 1) := by decide +kernel
theorem dX0_cutOut_8 : decode cX0_cutOut 8 = .ok (.istore 5, 2) := by decide +kernel
theorem dX0_cutOut_10 : decode cX0_cutOut 10 = .ok (.iload 5, 2) := by decide +kernel
theorem dX0_cutOut_12 : decode cX0_cutOut 12 = .ok (.bipush 80, 2) := by decide +kernel
theorem dX0_cutOut_14 : decode cX0_cutOut 14 = .ok (.if_icmp .ge 213, 3) := by decide +kernel
theorem dX0_cutOut_17 : decode cX0_cutOut 17 = .ok (.iload 4, 2) := by decide +kernel
theorem dX0_cutOut_19 : decode cX0_cutOut 19 = .ok (.aload_n 0, 1) := by decide +kernel
theorem dX0_cutOut_20 : decode cX0_cutOut 20 = .ok (.getfield 38, 3) := by decide +kernel
theorem dX0_cutOut_23 : decode cX0_cutOut 23 = .ok (.if_icmp .ge 14, 3) := by decide +kernel
theorem dX0_cutOut_26 : decode cX0_cutOut 26 = .ok (.aload_n 0, 1) := by decide +kernel
theorem dX0_cutOut_27 : decode cX0_cutOut 27 = .ok (.getfield 7, 3) := by decide +kernel
theorem dX0_cutOut_30 : decode cX0_cutOut 30 = .ok (.iload 4, 2) := by decide +kernel
theorem dX0_cutOut_32 : decode cX0_cutOut 32 = .ok (.iaload, 1) := by decide +kernel
theorem dX0_cutOut_33 : decode cX0_cutOut 33 = .ok (.iload_n 1, 1) := by decide +kernel
theorem dX0_cutOut_34 : decode cX0_cutOut 34 = .ok (.if_icmp .eq 4, 3) := by decide +kernel
theorem dX0_cutOut_37 : decode cX0_cutOut 37 = .ok (.return_, 1) := by decide +kernel
theorem dX0_cutOut_38 : decode cX0_cutOut 38 = .ok (.aload_n 0, 1) := by decide +kernel
theorem dX0_cutOut_39 : decode cX0_cutOut 39 = .ok (.getfield 16, 3) := by decide +kernel
theorem dX0_cutOut_42 : decode cX0_cutOut 42 = .ok (.iload 4, 2) := by decide +kernel
theorem dX0_cutOut_44 : decode cX0_cutOut 44 = .ok (.iaload, 1) := by decide +kernel
theorem dX0_cutOut_45 : decode cX0_cutOut 45 = .ok (.iload_n 2, 1) := by decide +kernel
theorem dX0_cutOut_46 : decode cX0_cutOut 46 = .ok (.if_icmp .lt 14, 3) := by decide +kernel
theorem dX0_cutOut_49 : decode cX0_cutOut 49 = .ok (.aload_n 0, 1) := by decide +kernel
theorem dX0_cutOut_50 : decode cX0_cutOut 50 = .ok (.getfield 13, 3) := by decide +kernel
theorem dX0_cutOut_53 : decode cX0_cutOut 53 = .ok (.iload 4, 2) := by decide +kernel
theorem dX0_cutOut_55 : decode cX0_cutOut 55 = .ok (.iaload, 1) := by decide +kernel
theorem dX0_cutOut_56 : decode cX0_cutOut 56 = .ok (.iload_n 3, 1) := by decide +kernel
theorem dX0_cutOut_57 : decode cX0_cutOut 57 = .ok (.if_icmp .le 9, 3) := by decide +kernel
theorem dX0_cutOut_60 : decode cX0_cutOut 60 = .ok (.iinc 4 1, 3) := by decide +kernel
theorem dX0_cutOut_63 : decode cX0_cutOut 63 = .ok (.goto 158, 3) := by decide +kernel
theorem dX0_cutOut_66 : decode cX0_cutOut 66 = .ok (.aload_n 0, 1) := by decide +kernel
theorem dX0_cutOut_67 : decode cX0_cutOut 67 = .ok (.getfield 13, 3) := by decide +kernel
theorem dX0_cutOut_70 : decode cX0_cutOut 70 = .ok (.iload 4, 2) := by decide +kernel
theorem dX0_cutOut_72 : decode cX0_cutOut 72 = .ok (.iaload, 1) := by decide +kernel
theorem dX0_cutOut_73 : decode cX0_cutOut 73 = .ok (.iload_n 2, 1) := by decide +kernel
theorem dX0_cutOut_74 : decode cX0_cutOut 74 = .ok (.if_icmp .ge 87, 3) := by decide +kernel
theorem dX0_cutOut_77 : decode cX0_cutOut 77 = .ok (.aload_n 0, 1) := by decide +kernel
theorem dX0_cutOut_78 : decode cX0_cutOut 78 = .ok (.getfield 16, 3) := by decide +kernel
theorem dX0_cutOut_81 : decode cX0_cutOut 81 = .ok (.iload 4, 2) := by decide +kernel
theorem dX0_cutOut_83 : decode cX0_cutOut 83 = .ok (.iaload, 1) := by decide +kernel
theorem dX0_cutOut_84 : decode cX0_cutOut 84 = .ok (.iload_n 3, 1) := by decide +kernel
theorem dX0_cutOut_85 : decode cX0_cutOut 85 = .ok (.if_icmp .le 76, 3) := by decide +kernel
theorem dX0_cutOut_88 : decode cX0_cutOut 88 = .ok (.aload_n 0, 1) := by decide +kernel
theorem dX0_cutOut_89 : decode cX0_cutOut 89 = .ok (.iload 4, 2) := by decide +kernel
theorem dX0_cutOut_91 : decode cX0_cutOut 91 = .ok (.iconst 1, 1) := by decide +kernel
theorem dX0_cutOut_92 : decode cX0_cutOut 92 = .ok (.iadd, 1) := by decide +kernel
theorem dX0_cutOut_93 : decode cX0_cutOut 93 = .ok (.invokevirtual 99, 3) := by decide +kernel
theorem dX0_cutOut_96 : decode cX0_cutOut 96 = .ok (.aload_n 0, 1) := by decide +kernel
theorem dX0_cutOut_97 : decode cX0_cutOut 97 = .ok (.getfield 7, 3) := by decide +kernel
theorem dX0_cutOut_100 : decode cX0_cutOut 100 = .ok (.iload 4, 2) := by decide +kernel
theorem dX0_cutOut_102 : decode cX0_cutOut 102 = .ok (.iconst 1, 1) := by decide +kernel
theorem dX0_cutOut_103 : decode cX0_cutOut 103 = .ok (.iadd, 1) := by decide +kernel
theorem dX0_cutOut_104 : decode cX0_cutOut 104 = .ok (.iload_n 1, 1) := by decide +kernel
theorem dX0_cutOut_105 : decode cX0_cutOut 105 = .ok (.iastore, 1) := by decide +kernel
theorem dX0_cutOut_106 : decode cX0_cutOut 106 = .ok (.aload_n 0, 1) := by decide +kernel
theorem dX0_cutOut_107 : decode cX0_cutOut 107 = .ok (.getfield 13, 3) := by decide +kernel
theorem dX0_cutOut_110 : decode cX0_cutOut 110 = .ok (.iload 4, 2) := by decide +kernel
theorem dX0_cutOut_112 : decode cX0_cutOut 112 = .ok (.iconst 1, 1) := by decide +kernel
theorem dX0_cutOut_113 : decode cX0_cutOut 113 = .ok (.iadd, 1) := by decide +kernel
theorem dX0_cutOut_114 : decode cX0_cutOut 114 = .ok (.iload_n 3, 1) := by decide +kernel
theorem dX0_cutOut_115 : decode cX0_cutOut 115 = .ok (.iconst 1, 1) := by decide +kernel
theorem dX0_cutOut_116 : decode cX0_cutOut 116 = .ok (.iadd, 1) := by decide +kernel
theorem dX0_cutOut_117 : decode cX0_cutOut 117 = .ok (.iastore, 1) := by decide +kernel
theorem dX0_cutOut_118 : decode cX0_cutOut 118 = .ok (.aload_n 0, 1) := by decide +kernel
theorem dX0_cutOut_119 : decode cX0_cutOut 119 = .ok (.getfield 16, 3) := by decide +kernel
theorem dX0_cutOut_122 : decode cX0_cutOut 122 = .ok (.iload 4, 2) := by decide +kernel
theorem dX0_cutOut_124 : decode cX0_cutOut 124 = .ok (.iconst 1, 1) := by decide +kernel
theorem dX0_cutOut_125 : decode cX0_cutOut 125 = .ok (.iadd, 1) := by decide +kernel
theorem dX0_cutOut_126 : decode cX0_cutOut 126 = .ok (.aload_n 0, 1) := by decide +kernel
theorem dX0_cutOut_127 : decode cX0_cutOut 127 = .ok (.getfield 16, 3) := by decide +kernel
theorem dX0_cutOut_130 : decode cX0_cutOut 130 = .ok (.iload 4, 2) := by decide +kernel
theorem dX0_cutOut_132 : decode cX0_cutOut 132 = .ok (.iaload, 1) := by decide +kernel
theorem dX0_cutOut_133 : decode cX0_cutOut 133 = .ok (.iastore, 1) := by decide +kernel
theorem dX0_cutOut_134 : decode cX0_cutOut 134 = .ok (.aload_n 0, 1) := by decide +kernel
theorem dX0_cutOut_135 : decode cX0_cutOut 135 = .ok (.getfield 19, 3) := by decide +kernel
theorem dX0_cutOut_138 : decode cX0_cutOut 138 = .ok (.iload 4, 2) := by decide +kernel
theorem dX0_cutOut_140 : decode cX0_cutOut 140 = .ok (.iconst 1, 1) := by decide +kernel
theorem dX0_cutOut_141 : decode cX0_cutOut 141 = .ok (.iadd, 1) := by decide +kernel
theorem dX0_cutOut_142 : decode cX0_cutOut 142 = .ok (.aload_n 0, 1) := by decide +kernel
theorem dX0_cutOut_143 : decode cX0_cutOut 143 = .ok (.getfield 19, 3) := by decide +kernel
theorem dX0_cutOut_146 : decode cX0_cutOut 146 = .ok (.iload 4, 2) := by decide +kernel
theorem dX0_cutOut_148 : decode cX0_cutOut 148 = .ok (.iaload, 1) := by decide +kernel
theorem dX0_cutOut_149 : decode cX0_cutOut 149 = .ok (.iastore, 1) := by decide +kernel
theorem dX0_cutOut_150 : decode cX0_cutOut 150 = .ok (.aload_n 0, 1) := by decide +kernel
theorem dX0_cutOut_151 : decode cX0_cutOut 151 = .ok (.getfield 16, 3) := by decide +kernel
theorem dX0_cutOut_154 : decode cX0_cutOut 154 = .ok (.iload 4, 2) := by decide +kernel
theorem dX0_cutOut_156 : decode cX0_cutOut 156 = .ok (.iload_n 2, 1) := by decide +kernel
theorem dX0_cutOut_157 : decode cX0_cutOut 157 = .ok (.iconst 1, 1) := by decide +kernel
theorem dX0_cutOut_158 : decode cX0_cutOut 158 = .ok (.isub, 1) := by decide +kernel
theorem dX0_cutOut_159 : decode cX0_cutOut 159 = .ok (.iastore, 1) := by decide +kernel
theorem dX0_cutOut_160 : decode cX0_cutOut 160 = .ok (.return_, 1) := by decide +kernel
theorem dX0_cutOut_161 : decode cX0_cutOut 161 = .ok (.aload_n 0, 1) := by decide +kernel
theorem dX0_cutOut_162 : decode cX0_cutOut 162 = .ok (.getfield 13, 3) := by decide +kernel
theorem dX0_cutOut_165 : decode cX0_cutOut 165 = .ok (.iload 4, 2) := by decide +kernel
theorem dX0_cutOut_167 : decode cX0_cutOut 167 = .ok (.iaload, 1) := by decide +kernel
theorem dX0_cutOut_168 : decode cX0_cutOut 168 = .ok (.iload_n 2, 1) := by decide +kernel
theorem dX0_cutOut_169 : decode cX0_cutOut 169 = .ok (.if_icmp .ge 19, 3) := by decide +kernel
theorem dX0_cutOut_172 : decode cX0_cutOut 172 = .ok (.aload_n 0, 1) := by decide +kernel
theorem dX0_cutOut_173 : decode cX0_cutOut 173 = .ok (.getfield 16, 3) := by decide +kernel
theorem dX0_cutOut_176 : decode cX0_cutOut 176 = .ok (.iload 4, 2) := by decide +kernel
theorem dX0_cutOut_178 : decode cX0_cutOut 178 = .ok (.iload_n 2, 1) := by decide +kernel
theorem dX0_cutOut_179 : decode cX0_cutOut 179 = .ok (.iconst 1, 1) := by decide +kernel
theorem dX0_cutOut_180 : decode cX0_cutOut 180 = .ok (.isub, 1) := by decide +kernel
theorem dX0_cutOut_181 : decode cX0_cutOut 181 = .ok (.iastore, 1) := by decide +kernel
theorem dX0_cutOut_182 : decode cX0_cutOut 182 = .ok (.iinc 4 1, 3) := by decide +kernel
theorem dX0_cutOut_185 : decode cX0_cutOut 185 = .ok (.goto 36, 3) := by decide +kernel
theorem dX0_cutOut_188 : decode cX0_cutOut 188 = .ok (.aload_n 0, 1) := by decide +kernel
theorem dX0_cutOut_189 : decode cX0_cutOut 189 = .ok (.getfield 16, 3) := by decide +kernel
theorem dX0_cutOut_192 : decode cX0_cutOut 192 = .ok (.iload 4, 2) := by decide +kernel
theorem dX0_cutOut_194 : decode cX0_cutOut 194 = .ok (.iaload, 1) := by decide +kernel
theorem dX0_cutOut_195 : decode cX0_cutOut 195 = .ok (.iload_n 3, 1) := by decide +kernel
theorem dX0_cutOut_196 : decode cX0_cutOut 196 = .ok (.if_icmp .le 19, 3) := by decide +kernel
theorem dX0_cutOut_199 : decode cX0_cutOut 199 = .ok (.aload_n 0, 1) := by decide +kernel
theorem dX0_cutOut_200 : decode cX0_cutOut 200 = .ok (.getfield 13, 3) := by decide +kernel
theorem dX0_cutOut_203 : decode cX0_cutOut 203 = .ok (.iload 4, 2) := by decide +kernel
theorem dX0_cutOut_205 : decode cX0_cutOut 205 = .ok (.iload_n 3, 1) := by decide +kernel
theorem dX0_cutOut_206 : decode cX0_cutOut 206 = .ok (.iconst 1, 1) := by decide +kernel
theorem dX0_cutOut_207 : decode cX0_cutOut 207 = .ok (.iadd, 1) := by decide +kernel
theorem dX0_cutOut_208 : decode cX0_cutOut 208 = .ok (.iastore, 1) := by decide +kernel
theorem dX0_cutOut_209 : decode cX0_cutOut 209 = .ok (.iinc 4 1, 3) := by decide +kernel
theorem dX0_cutOut_212 : decode cX0_cutOut 212 = .ok (.goto 9, 3) := by decide +kernel
theorem dX0_cutOut_215 : decode cX0_cutOut 215 = .ok (.aload_n 0, 1) := by decide +kernel
theorem dX0_cutOut_216 : decode cX0_cutOut 216 = .ok (.iload 4, 2) := by decide +kernel
theorem dX0_cutOut_218 : decode cX0_cutOut 218 = .ok (.invokevirtual 106, 3) := by decide +kernel
theorem dX0_cutOut_221 : decode cX0_cutOut 221 = .ok (.iinc 5 1, 3) := by decide +kernel
theorem dX0_cutOut_224 : decode cX0_cutOut 224 = .ok (.goto (-214), 3) := by decide +kernel
theorem dX0_cutOut_227 : decode cX0_cutOut 227 = .ok (.return_, 1) := by decide +kernel
theorem dX0_begin_0 : decode cX0_begin 0 = .ok (.iconst 0, 1) := by decide +kernel
theorem dX0_begin_1 : decode cX0_begin 1 = .ok (.istore_n 2, 1) := by decide +kernel
theorem dX0_begin_2 : decode cX0_begin 2 = .ok (.aload_n 0, 1) := by decide +kernel
theorem dX0_begin_3 : decode cX0_begin 3 = .ok (.getfield 38, 3) := by decide +kernel
theorem dX0_begin_6 : decode cX0_begin 6 = .ok (.istore_n 3, 1) := by decide +kernel
theorem dX0_begin_7 : decode cX0_begin 7 = .ok (.iconst 0, 1) := by decide +kernel
theorem dX0_begin_8 : decode cX0_begin 8 = .ok (.istore 4, 2) := by decide +kernel
theorem dX0_begin_10 : decode cX0_begin 10 = .ok (.iload 4, 2) := by decide +kernel
theorem dX0_begin_12 : decode cX0_begin 12 = .ok (.bipush 9, 2) := by decide +kernel
theorem dX0_begin_14 : decode cX0_begin 14 = .ok (.if_icmp .ge 43, 3) := by decide +kernel
theorem dX0_begin_17 : decode cX0_begin 17 = .ok (.iload_n 2, 1) := by decide +kernel
theorem dX0_begin_18 : decode cX0_begin 18 = .ok (.iload_n 3, 1) := by decide +kernel
theorem dX0_begin_19 : decode cX0_begin 19 = .ok (.if_icmp .ge 38, 3) := by decide +kernel
theorem dX0_begin_22 : decode cX0_begin 22 = .ok (.iload_n 2, 1) := by decide +kernel
theorem dX0_begin_23 : decode cX0_begin 23 = .ok (.iload_n 3, 1) := by decide +kernel
theorem dX0_begin_24 : decode cX0_begin 24 = .ok (.iadd, 1) := by decide +kernel
theorem dX0_begin_25 : decode cX0_begin 25 = .ok (.iconst 1, 1) := by decide +kernel
theorem dX0_begin_26 : decode cX0_begin 26 = .ok (.ishr, 1) := by decide +kernel
theorem dX0_begin_27 : decode cX0_begin 27 = .ok (.istore 5, 2) := by decide +kernel
theorem dX0_begin_29 : decode cX0_begin 29 = .ok (.aload_n 0, 1) := by decide +kernel
theorem dX0_begin_30 : decode cX0_begin 30 = .ok (.getfield 7, 3) := by decide +kernel
theorem dX0_begin_33 : decode cX0_begin 33 = .ok (.iload 5, 2) := by decide +kernel
theorem dX0_begin_35 : decode cX0_begin 35 = .ok (.iaload, 1) := by decide +kernel
theorem dX0_begin_36 : decode cX0_begin 36 = .ok (.iload_n 1, 1) := by decide +kernel
theorem dX0_begin_37 : decode cX0_begin 37 = .ok (.if_icmp .ge 11, 3) := by decide +kernel
theorem dX0_begin_40 : decode cX0_begin 40 = .ok (.iload 5, 2) := by decide +kernel
theorem dX0_begin_42 : decode cX0_begin 42 = .ok (.iconst 1, 1) := by decide +kernel
theorem dX0_begin_43 : decode cX0_begin 43 = .ok (.iadd, 1) := by decide +kernel
theorem dX0_begin_44 : decode cX0_begin 44 = .ok (.istore_n 2, 1) := by decide +kernel
theorem dX0_begin_45 : decode cX0_begin 45 = .ok (.goto 6, 3) := by decide +kernel
theorem dX0_begin_48 : decode cX0_begin 48 = .ok (.iload 5, 2) := by decide +kernel
theorem dX0_begin_50 : decode cX0_begin 50 = .ok (.istore_n 3, 1) := by decide +kernel
theorem dX0_begin_51 : decode cX0_begin 51 = .ok (.iinc 4 1, 3) := by decide +kernel
theorem dX0_begin_54 : decode cX0_begin 54 = .ok (.goto (-44), 3) := by decide +kernel
theorem dX0_begin_57 : decode cX0_begin 57 = .ok (.iload_n 2, 1) := by decide +kernel
theorem dX0_begin_58 : decode cX0_begin 58 = .ok (.ireturn, 1) := by decide +kernel
end
section
set_option maxRecDepth 100000
theorem dX0_open_0 : decode cX0_open 0 = .ok (.aload_n 0, 1) := by decide +kernel
theorem dX0_open_1 : decode cX0_open 1 = .ok (.getfield 38, 3) := by decide +kernel
theorem dX0_open_4 : decode cX0_open 4 = .ok (.istore_n 2, 1) := by decide +kernel
theorem dX0_open_5 : decode cX0_open 5 = .ok (.iload_n 2, 1) := by decide +kernel
theorem dX0_open_6 : decode cX0_open 6 = .ok (.iload_n 1, 1) := by decide +kernel
theorem dX0_open_7 : decode cX0_open 7 = .ok (.if_icmp .le 17, 3) := by decide +kernel
theorem dX0_open_10 : decode cX0_open 10 = .ok (.aload_n 0, 1) := by decide +kernel
theorem dX0_open_11 : decode cX0_open 11 = .ok (.iload_n 2, 1) := by decide +kernel
theorem dX0_open_12 : decode cX0_open 12 = .ok (.iconst 1, 1) := by decide +kernel
theorem dX0_open_13 : decode cX0_open 13 = .ok (.isub, 1) := by decide +kernel
theorem dX0_open_14 : decode cX0_open 14 = .ok (.iload_n 2, 1) := by decide +kernel
theorem dX0_open_15 : decode cX0_open 15 = .ok (.invokevirtual 109, 3) := by decide +kernel
theorem dX0_open_18 : decode cX0_open 18 = .ok (.iinc 2 (-1), 3) := by decide +kernel
theorem dX0_open_21 : decode cX0_open 21 = .ok (.goto (-16), 3) := by decide +kernel
theorem dX0_open_24 : decode cX0_open 24 = .ok (.aload_n 0, 1) := by decide +kernel
theorem dX0_open_25 : decode cX0_open 25 = .ok (.dup, 1) := by decide +kernel
theorem dX0_open_26 : decode cX0_open 26 = .ok (.getfield 38, 3) := by decide +kernel
theorem dX0_open_29 : decode cX0_open 29 = .ok (.iconst 1, 1) := by decide +kernel
theorem dX0_open_30 : decode cX0_open 30 = .ok (.iadd, 1) := by decide +kernel
theorem dX0_open_31 : decode cX0_open 31 = .ok (.putfield 38, 3) := by decide +kernel
theorem dX0_open_34 : decode cX0_open 34 = .ok (.return_, 1) := by decide +kernel
theorem dX0_copyPiece_0 : decode cX0_copyPiece 0 = .ok (.aload_n 0, 1) := by decide +kernel
theorem dX0_copyPiece_1 : decode cX0_copyPiece 1 = .ok (.getfield 7, 3) := by decide +kernel
theorem dX0_copyPiece_4 : decode cX0_copyPiece 4 = .ok (.iload_n 2, 1) := by decide +kernel
theorem dX0_copyPiece_5 : decode cX0_copyPiece 5 = .ok (.aload_n 0, 1) := by decide +kernel
theorem dX0_copyPiece_6 : decode cX0_copyPiece 6 = .ok (.getfield 7, 3) := by decide +kernel
theorem dX0_copyPiece_9 : decode cX0_copyPiece 9 = .ok (.iload_n 1, 1) := by decide +kernel
theorem dX0_copyPiece_10 : decode cX0_copyPiece 10 = .ok (.iaload, 1) := by decide +kernel
theorem dX0_copyPiece_11 : decode cX0_copyPiece 11 = .ok (.iastore, 1) := by decide +kernel
theorem dX0_copyPiece_12 : decode cX0_copyPiece 12 = .ok (.aload_n 0, 1) := by decide +kernel
theorem dX0_copyPiece_13 : decode cX0_copyPiece 13 = .ok (.getfield 13, 3) := by decide +kernel
theorem dX0_copyPiece_16 : decode cX0_copyPiece 16 = .ok (.iload_n 2, 1) := by decide +kernel
theorem dX0_copyPiece_17 : decode cX0_copyPiece 17 = .ok (.aload_n 0, 1) := by decide +kernel
theorem dX0_copyPiece_18 : decode cX0_copyPiece 18 = .ok (.getfield 13, 3) := by decide +kernel
theorem dX0_copyPiece_21 : decode cX0_copyPiece 21 = .ok (.iload_n 1, 1) := by decide +kernel
theorem dX0_copyPiece_22 : decode cX0_copyPiece 22 = .ok (.iaload, 1) := by decide +kernel
theorem dX0_copyPiece_23 : decode cX0_copyPiece 23 = .ok (.iastore, 1) := by decide +kernel
theorem dX0_copyPiece_24 : decode cX0_copyPiece 24 = .ok (.aload_n 0, 1) := by decide +kernel
theorem dX0_copyPiece_25 : decode cX0_copyPiece 25 = .ok (.getfield 16, 3) := by decide +kernel
theorem dX0_copyPiece_28 : decode cX0_copyPiece 28 = .ok (.iload_n 2, 1) := by decide +kernel
theorem dX0_copyPiece_29 : decode cX0_copyPiece 29 = .ok (.aload_n 0, 1) := by decide +kernel
theorem dX0_copyPiece_30 : decode cX0_copyPiece 30 = .ok (.getfield 16, 3) := by decide +kernel
theorem dX0_copyPiece_33 : decode cX0_copyPiece 33 = .ok (.iload_n 1, 1) := by decide +kernel
theorem dX0_copyPiece_34 : decode cX0_copyPiece 34 = .ok (.iaload, 1) := by decide +kernel
theorem dX0_copyPiece_35 : decode cX0_copyPiece 35 = .ok (.iastore, 1) := by decide +kernel
theorem dX0_copyPiece_36 : decode cX0_copyPiece 36 = .ok (.aload_n 0, 1) := by decide +kernel
theorem dX0_copyPiece_37 : decode cX0_copyPiece 37 = .ok (.getfield 19, 3) := by decide +kernel
theorem dX0_copyPiece_40 : decode cX0_copyPiece 40 = .ok (.iload_n 2, 1) := by decide +kernel
theorem dX0_copyPiece_41 : decode cX0_copyPiece 41 = .ok (.aload_n 0, 1) := by decide +kernel
theorem dX0_copyPiece_42 : decode cX0_copyPiece 42 = .ok (.getfield 19, 3) := by decide +kernel
theorem dX0_copyPiece_45 : decode cX0_copyPiece 45 = .ok (.iload_n 1, 1) := by decide +kernel
theorem dX0_copyPiece_46 : decode cX0_copyPiece 46 = .ok (.iaload, 1) := by decide +kernel
theorem dX0_copyPiece_47 : decode cX0_copyPiece 47 = .ok (.iastore, 1) := by decide +kernel
theorem dX0_copyPiece_48 : decode cX0_copyPiece 48 = .ok (.return_, 1) := by decide +kernel
theorem dX0_shut_0 : decode cX0_shut 0 = .ok (.iload_n 1, 1) := by decide +kernel
theorem dX0_shut_1 : decode cX0_shut 1 = .ok (.iconst 1, 1) := by decide +kernel
theorem dX0_shut_2 : decode cX0_shut 2 = .ok (.iadd, 1) := by decide +kernel
theorem dX0_shut_3 : decode cX0_shut 3 = .ok (.istore_n 2, 1) := by decide +kernel
theorem dX0_shut_4 : decode cX0_shut 4 = .ok (.iload_n 2, 1) := by decide +kernel
theorem dX0_shut_5 : decode cX0_shut 5 = .ok (.aload_n 0, 1) := by decide +kernel
theorem dX0_shut_6 : decode cX0_shut 6 = .ok (.getfield 38, 3) := by decide +kernel
theorem dX0_shut_9 : decode cX0_shut 9 = .ok (.if_icmp .ge 17, 3) := by decide +kernel
theorem dX0_shut_12 : decode cX0_shut 12 = .ok (.aload_n 0, 1) := by decide +kernel
theorem dX0_shut_13 : decode cX0_shut 13 = .ok (.iload_n 2, 1) := by decide +kernel
theorem dX0_shut_14 : decode cX0_shut 14 = .ok (.iload_n 2, 1) := by decide +kernel
theorem dX0_shut_15 : decode cX0_shut 15 = .ok (.iconst 1, 1) := by decide +kernel
theorem dX0_shut_16 : decode cX0_shut 16 = .ok (.isub, 1) := by decide +kernel
theorem dX0_shut_17 : decode cX0_shut 17 = .ok (.invokevirtual 109, 3) := by decide +kernel
theorem dX0_shut_20 : decode cX0_shut 20 = .ok (.iinc 2 1, 3) := by decide +kernel
theorem dX0_shut_23 : decode cX0_shut 23 = .ok (.goto (-19), 3) := by decide +kernel
theorem dX0_shut_26 : decode cX0_shut 26 = .ok (.aload_n 0, 1) := by decide +kernel
theorem dX0_shut_27 : decode cX0_shut 27 = .ok (.dup, 1) := by decide +kernel
theorem dX0_shut_28 : decode cX0_shut 28 = .ok (.getfield 38, 3) := by decide +kernel
theorem dX0_shut_31 : decode cX0_shut 31 = .ok (.iconst 1, 1) := by decide +kernel
theorem dX0_shut_32 : decode cX0_shut 32 = .ok (.isub, 1) := by decide +kernel
theorem dX0_shut_33 : decode cX0_shut 33 = .ok (.putfield 38, 3) := by decide +kernel
theorem dX0_shut_36 : decode cX0_shut 36 = .ok (.return_, 1) := by decide +kernel
theorem dX0_joinNext_0 : decode cX0_joinNext 0 = .ok (.iload_n 1, 1) := by decide +kernel
theorem dX0_joinNext_1 : decode cX0_joinNext 1 = .ok (.iconst 1, 1) := by decide +kernel
theorem dX0_joinNext_2 : decode cX0_joinNext 2 = .ok (.iadd, 1) := by decide +kernel
theorem dX0_joinNext_3 : decode cX0_joinNext 3 = .ok (.aload_n 0, 1) := by decide +kernel
theorem dX0_joinNext_4 : decode cX0_joinNext 4 = .ok (.getfield 38, 3) := by decide +kernel
theorem dX0_joinNext_7 : decode cX0_joinNext 7 = .ok (.if_icmp .ge 77, 3) := by decide +kernel
theorem dX0_joinNext_10 : decode cX0_joinNext 10 = .ok (.aload_n 0, 1) := by decide +kernel
theorem dX0_joinNext_11 : decode cX0_joinNext 11 = .ok (.getfield 7, 3) := by decide +kernel
theorem dX0_joinNext_14 : decode cX0_joinNext 14 = .ok (.iload_n 1, 1) := by decide +kernel
theorem dX0_joinNext_15 : decode cX0_joinNext 15 = .ok (.iaload, 1) := by decide +kernel
theorem dX0_joinNext_16 : decode cX0_joinNext 16 = .ok (.aload_n 0, 1) := by decide +kernel
theorem dX0_joinNext_17 : decode cX0_joinNext 17 = .ok (.getfield 7, 3) := by decide +kernel
theorem dX0_joinNext_20 : decode cX0_joinNext 20 = .ok (.iload_n 1, 1) := by decide +kernel
theorem dX0_joinNext_21 : decode cX0_joinNext 21 = .ok (.iconst 1, 1) := by decide +kernel
theorem dX0_joinNext_22 : decode cX0_joinNext 22 = .ok (.iadd, 1) := by decide +kernel
theorem dX0_joinNext_23 : decode cX0_joinNext 23 = .ok (.iaload, 1) := by decide +kernel
theorem dX0_joinNext_24 : decode cX0_joinNext 24 = .ok (.if_icmp .ne 60, 3) := by decide +kernel
theorem dX0_joinNext_27 : decode cX0_joinNext 27 = .ok (.aload_n 0, 1) := by decide +kernel
theorem dX0_joinNext_28 : decode cX0_joinNext 28 = .ok (.getfield 19, 3) := by decide +kernel
theorem dX0_joinNext_31 : decode cX0_joinNext 31 = .ok (.iload_n 1, 1) := by decide +kernel
theorem dX0_joinNext_32 : decode cX0_joinNext 32 = .ok (.iaload, 1) := by decide +kernel
theorem dX0_joinNext_33 : decode cX0_joinNext 33 = .ok (.aload_n 0, 1) := by decide +kernel
theorem dX0_joinNext_34 : decode cX0_joinNext 34 = .ok (.getfield 19, 3) := by decide +kernel
theorem dX0_joinNext_37 : decode cX0_joinNext 37 = .ok (.iload_n 1, 1) := by decide +kernel
theorem dX0_joinNext_38 : decode cX0_joinNext 38 = .ok (.iconst 1, 1) := by decide +kernel
theorem dX0_joinNext_39 : decode cX0_joinNext 39 = .ok (.iadd, 1) := by decide +kernel
theorem dX0_joinNext_40 : decode cX0_joinNext 40 = .ok (.iaload, 1) := by decide +kernel
theorem dX0_joinNext_41 : decode cX0_joinNext 41 = .ok (.if_icmp .ne 43, 3) := by decide +kernel
theorem dX0_joinNext_44 : decode cX0_joinNext 44 = .ok (.aload_n 0, 1) := by decide +kernel
theorem dX0_joinNext_45 : decode cX0_joinNext 45 = .ok (.getfield 16, 3) := by decide +kernel
theorem dX0_joinNext_48 : decode cX0_joinNext 48 = .ok (.iload_n 1, 1) := by decide +kernel
theorem dX0_joinNext_49 : decode cX0_joinNext 49 = .ok (.iaload, 1) := by decide +kernel
theorem dX0_joinNext_50 : decode cX0_joinNext 50 = .ok (.iconst 1, 1) := by decide +kernel
theorem dX0_joinNext_51 : decode cX0_joinNext 51 = .ok (.iadd, 1) := by decide +kernel
theorem dX0_joinNext_52 : decode cX0_joinNext 52 = .ok (.aload_n 0, 1) := by decide +kernel
theorem dX0_joinNext_53 : decode cX0_joinNext 53 = .ok (.getfield 13, 3) := by decide +kernel
theorem dX0_joinNext_56 : decode cX0_joinNext 56 = .ok (.iload_n 1, 1) := by decide +kernel
theorem dX0_joinNext_57 : decode cX0_joinNext 57 = .ok (.iconst 1, 1) := by decide +kernel
theorem dX0_joinNext_58 : decode cX0_joinNext 58 = .ok (.iadd, 1) := by decide +kernel
theorem dX0_joinNext_59 : decode cX0_joinNext 59 = .ok (.iaload, 1) := by decide +kernel
theorem dX0_joinNext_60 : decode cX0_joinNext 60 = .ok (.if_icmp .ne 24, 3) := by decide +kernel
theorem dX0_joinNext_63 : decode cX0_joinNext 63 = .ok (.aload_n 0, 1) := by decide +kernel
theorem dX0_joinNext_64 : decode cX0_joinNext 64 = .ok (.getfield 16, 3) := by decide +kernel
theorem dX0_joinNext_67 : decode cX0_joinNext 67 = .ok (.iload_n 1, 1) := by decide +kernel
theorem dX0_joinNext_68 : decode cX0_joinNext 68 = .ok (.aload_n 0, 1) := by decide +kernel
theorem dX0_joinNext_69 : decode cX0_joinNext 69 = .ok (.getfield 16, 3) := by decide +kernel
theorem dX0_joinNext_72 : decode cX0_joinNext 72 = .ok (.iload_n 1, 1) := by decide +kernel
theorem dX0_joinNext_73 : decode cX0_joinNext 73 = .ok (.iconst 1, 1) := by decide +kernel
theorem dX0_joinNext_74 : decode cX0_joinNext 74 = .ok (.iadd, 1) := by decide +kernel
theorem dX0_joinNext_75 : decode cX0_joinNext 75 = .ok (.iaload, 1) := by decide +kernel
theorem dX0_joinNext_76 : decode cX0_joinNext 76 = .ok (.iastore, 1) := by decide +kernel
theorem dX0_joinNext_77 : decode cX0_joinNext 77 = .ok (.aload_n 0, 1) := by decide +kernel
theorem dX0_joinNext_78 : decode cX0_joinNext 78 = .ok (.iload_n 1, 1) := by decide +kernel
theorem dX0_joinNext_79 : decode cX0_joinNext 79 = .ok (.iconst 1, 1) := by decide +kernel
theorem dX0_joinNext_80 : decode cX0_joinNext 80 = .ok (.iadd, 1) := by decide +kernel
theorem dX0_joinNext_81 : decode cX0_joinNext 81 = .ok (.invokevirtual 106, 3) := by decide +kernel
theorem dX0_joinNext_84 : decode cX0_joinNext 84 = .ok (.return_, 1) := by decide +kernel
theorem dX0_settle_0 : decode cX0_settle 0 = .ok (.iconst 0, 1) := by decide +kernel
theorem dX0_settle_1 : decode cX0_settle 1 = .ok (.istore_n 1, 1) := by decide +kernel
theorem dX0_settle_2 : decode cX0_settle 2 = .ok (.iconst 0, 1) := by decide +kernel
theorem dX0_settle_3 : decode cX0_settle 3 = .ok (.istore_n 2, 1) := by decide +kernel
theorem dX0_settle_4 : decode cX0_settle 4 = .ok (.iload_n 2, 1) := by decide +kernel
theorem dX0_settle_5 : decode cX0_settle 5 = .ok (.iconst 5, 1) := by decide +kernel
theorem dX0_settle_6 : decode cX0_settle 6 = .ok (.if_icmp .gt 108, 3) := by decide +kernel
theorem dX0_settle_9 : decode cX0_settle 9 = .ok (.iconst (-1), 1) := by decide +kernel
theorem dX0_settle_10 : decode cX0_settle 10 = .ok (.istore_n 3, 1) := by decide +kernel
theorem dX0_settle_11 : decode cX0_settle 11 = .ok (.iconst 0, 1) := by decide +kernel
theorem dX0_settle_12 : decode cX0_settle 12 = .ok (.istore 4, 2) := by decide +kernel
theorem dX0_settle_14 : decode cX0_settle 14 = .ok (.iload 4, 2) := by decide +kernel
theorem dX0_settle_16 : decode cX0_settle 16 = .ok (.iconst 5, 1) := by decide +kernel
theorem dX0_settle_17 : decode cX0_settle 17 = .ok (.if_icmp .ge 51, 3) := by decide +kernel
theorem dX0_settle_20 : decode cX0_settle 20 = .ok (.aload_n 0, 1) := by decide +kernel
theorem dX0_settle_21 : decode cX0_settle 21 = .ok (.getfield 22, 3) := by decide +kernel
theorem dX0_settle_24 : decode cX0_settle 24 = .ok (.iload 4, 2) := by decide +kernel
theorem dX0_settle_26 : decode cX0_settle 26 = .ok (.baload, 1) := by decide +kernel
theorem dX0_settle_27 : decode cX0_settle 27 = .ok (.ifCond .eq 35, 3) := by decide +kernel
theorem dX0_settle_30 : decode cX0_settle 30 = .ok (.aload_n 0, 1) := by decide +kernel
theorem dX0_settle_31 : decode cX0_settle 31 = .ok (.iload 4, 2) := by decide +kernel
theorem dX0_settle_33 : decode cX0_settle 33 = .ok (.invokevirtual 85, 3) := by decide +kernel
theorem dX0_settle_36 : decode cX0_settle 36 = .ok (.ifCond .ne 26, 3) := by decide +kernel
theorem dX0_settle_39 : decode cX0_settle 39 = .ok (.iload_n 3, 1) := by decide +kernel
theorem dX0_settle_40 : decode cX0_settle 40 = .ok (.ifCond .lt 19, 3) := by decide +kernel
theorem dX0_settle_43 : decode cX0_settle 43 = .ok (.aload_n 0, 1) := by decide +kernel
theorem dX0_settle_44 : decode cX0_settle 44 = .ok (.getfield 35, 3) := by decide +kernel
theorem dX0_settle_47 : decode cX0_settle 47 = .ok (.iload 4, 2) := by decide +kernel
theorem dX0_settle_49 : decode cX0_settle 49 = .ok (.iaload, 1) := by decide +kernel
theorem dX0_settle_50 : decode cX0_settle 50 = .ok (.aload_n 0, 1) := by decide +kernel
theorem dX0_settle_51 : decode cX0_settle 51 = .ok (.getfield 35, 3) := by decide +kernel
theorem dX0_settle_54 : decode cX0_settle 54 = .ok (.iload_n 3, 1) := by decide +kernel
theorem dX0_settle_55 : decode cX0_settle 55 = .ok (.iaload, 1) := by decide +kernel
theorem dX0_settle_56 : decode cX0_settle 56 = .ok (.if_icmp .ge 6, 3) := by decide +kernel
theorem dX0_settle_59 : decode cX0_settle 59 = .ok (.iload 4, 2) := by decide +kernel
theorem dX0_settle_61 : decode cX0_settle 61 = .ok (.istore_n 3, 1) := by decide +kernel
theorem dX0_settle_62 : decode cX0_settle 62 = .ok (.iinc 4 1, 3) := by decide +kernel
theorem dX0_settle_65 : decode cX0_settle 65 = .ok (.goto (-51), 3) := by decide +kernel
theorem dX0_settle_68 : decode cX0_settle 68 = .ok (.iload_n 3, 1) := by decide +kernel
theorem dX0_settle_69 : decode cX0_settle 69 = .ok (.ifCond .ge 6, 3) := by decide +kernel
theorem dX0_settle_72 : decode cX0_settle 72 = .ok (.goto 42, 3) := by decide +kernel
theorem dX0_settle_75 : decode cX0_settle 75 = .ok (.aload_n 0, 1) := by decide +kernel
theorem dX0_settle_76 : decode cX0_settle 76 = .ok (.getfield 22, 3) := by decide +kernel
theorem dX0_settle_79 : decode cX0_settle 79 = .ok (.iload_n 3, 1) := by decide +kernel
theorem dX0_settle_80 : decode cX0_settle 80 = .ok (.iconst 0, 1) := by decide +kernel
theorem dX0_settle_81 : decode cX0_settle 81 = .ok (.bastore, 1) := by decide +kernel
theorem dX0_settle_82 : decode cX0_settle 82 = .ok (.aload_n 0, 1) := by decide +kernel
theorem dX0_settle_83 : decode cX0_settle 83 = .ok (.iload_n 3, 1) := by decide +kernel
theorem dX0_settle_84 : decode cX0_settle 84 = .ok (.aload_n 0, 1) := by decide +kernel
theorem dX0_settle_85 : decode cX0_settle 85 = .ok (.getfield 26, 3) := by decide +kernel
theorem dX0_settle_88 : decode cX0_settle 88 = .ok (.iload_n 3, 1) := by decide +kernel
theorem dX0_settle_89 : decode cX0_settle 89 = .ok (.iaload, 1) := by decide +kernel
theorem dX0_settle_90 : decode cX0_settle 90 = .ok (.aload_n 0, 1) := by decide +kernel
theorem dX0_settle_91 : decode cX0_settle 91 = .ok (.getfield 29, 3) := by decide +kernel
theorem dX0_settle_94 : decode cX0_settle 94 = .ok (.iload_n 3, 1) := by decide +kernel
theorem dX0_settle_95 : decode cX0_settle 95 = .ok (.iaload, 1) := by decide +kernel
theorem dX0_settle_96 : decode cX0_settle 96 = .ok (.aload_n 0, 1) := by decide +kernel
theorem dX0_settle_97 : decode cX0_settle 97 = .ok (.getfield 32, 3) := by decide +kernel
theorem dX0_settle_100 : decode cX0_settle 100 = .ok (.iload_n 3, 1) := by decide +kernel
theorem dX0_settle_101 : decode cX0_settle 101 = .ok (.iaload, 1) := by decide +kernel
theorem dX0_settle_102 : decode cX0_settle 102 = .ok (.invokevirtual 50, 3) := by decide +kernel
theorem dX0_settle_105 : decode cX0_settle 105 = .ok (.iinc 1 1, 3) := by decide +kernel
theorem dX0_settle_108 : decode cX0_settle 108 = .ok (.iinc 2 1, 3) := by decide +kernel
theorem dX0_settle_111 : decode cX0_settle 111 = .ok (.goto (-107), 3) := by decide +kernel
theorem dX0_settle_114 : decode cX0_settle 114 = .ok (.iload_n 1, 1) := by decide +kernel
theorem dX0_settle_115 : decode cX0_settle 115 = .ok (.ireturn, 1) := by decide +kernel
theorem dX0_blockers_0 : decode cX0_blockers 0 = .ok (.aload_n 0, 1) := by decide +kernel
theorem dX0_blockers_1 : decode cX0_blockers 1 = .ok (.getfield 22, 3) := by decide +kernel
theorem dX0_blockers_4 : decode cX0_blockers 4 = .ok (.iload_n 1, 1) := by decide +kernel
theorem dX0_blockers_5 : decode cX0_blockers 5 = .ok (.baload, 1) := by decide +kernel
theorem dX0_blockers_6 : decode cX0_blockers 6 = .ok (.ifCond .ne 5, 3) := by decide +kernel
theorem dX0_blockers_9 : decode cX0_blockers 9 = .ok (.iconst 0, 1) := by decide +kernel
theorem dX0_blockers_10 : decode cX0_blockers 10 = .ok (.ireturn, 1) := by decide +kernel
theorem dX0_blockers_11 : decode cX0_blockers 11 = .ok (.aload_n 0, 1) := by decide +kernel
theorem dX0_blockers_12 : decode cX0_blockers 12 = .ok (.iload_n 1, 1) := by decide +kernel
theorem dX0_blockers_13 : decode cX0_blockers 13 = .ok (.aload_n 0, 1) := by decide +kernel
theorem dX0_blockers_14 : decode cX0_blockers 14 = .ok (.getfield 26, 3) := by decide +kernel
theorem dX0_blockers_17 : decode cX0_blockers 17 = .ok (.iload_n 1, 1) := by decide +kernel
theorem dX0_blockers_18 : decode cX0_blockers 18 = .ok (.iaload, 1) := by decide +kernel
theorem dX0_blockers_19 : decode cX0_blockers 19 = .ok (.aload_n 0, 1) := by decide +kernel
theorem dX0_blockers_20 : decode cX0_blockers 20 = .ok (.getfield 29, 3) := by decide +kernel
theorem dX0_blockers_23 : decode cX0_blockers 23 = .ok (.iload_n 1, 1) := by decide +kernel
theorem dX0_blockers_24 : decode cX0_blockers 24 = .ok (.iaload, 1) := by decide +kernel
theorem dX0_blockers_25 : decode cX0_blockers 25 = .ok (.aload_n 0, 1) := by decide +kernel
theorem dX0_blockers_26 : decode cX0_blockers 26 = .ok (.getfield 32, 3) := by decide +kernel
theorem dX0_blockers_29 : decode cX0_blockers 29 = .ok (.iload_n 1, 1) := by decide +kernel
theorem dX0_blockers_30 : decode cX0_blockers 30 = .ok (.iaload, 1) := by decide +kernel
theorem dX0_blockers_31 : decode cX0_blockers 31 = .ok (.invokevirtual 46, 3) := by decide +kernel
theorem dX0_blockers_34 : decode cX0_blockers 34 = .ok (.ireturn, 1) := by decide +kernel
theorem dX0_await_0 : decode cX0_await 0 = .ok (.aload_n 0, 1) := by decide +kernel
theorem dX0_await_1 : decode cX0_await 1 = .ok (.iload_n 1, 1) := by decide +kernel
theorem dX0_await_2 : decode cX0_await 2 = .ok (.iload_n 2, 1) := by decide +kernel
theorem dX0_await_3 : decode cX0_await 3 = .ok (.iload_n 3, 1) := by decide +kernel
theorem dX0_await_4 : decode cX0_await 4 = .ok (.iload 4, 2) := by decide +kernel
theorem dX0_await_6 : decode cX0_await 6 = .ok (.iconst 1, 1) := by decide +kernel
theorem dX0_await_7 : decode cX0_await 7 = .ok (.invokevirtual 42, 3) := by decide +kernel
theorem dX0_await_10 : decode cX0_await 10 = .ok (.istore 5, 2) := by decide +kernel
theorem dX0_await_12 : decode cX0_await 12 = .ok (.iload 5, 2) := by decide +kernel
theorem dX0_await_14 : decode cX0_await 14 = .ok (.ifCond .ge 6, 3) := by decide +kernel
theorem dX0_await_17 : decode cX0_await 17 = .ok (.iload 5, 2) := by decide +kernel
theorem dX0_await_19 : decode cX0_await 19 = .ok (.ireturn, 1) := by decide +kernel
theorem dX0_await_20 : decode cX0_await 20 = .ok (.iload_n 2, 1) := by decide +kernel
theorem dX0_await_21 : decode cX0_await 21 = .ok (.iload_n 3, 1) := by decide +kernel
theorem dX0_await_22 : decode cX0_await 22 = .ok (.iadd, 1) := by decide +kernel
theorem dX0_await_23 : decode cX0_await 23 = .ok (.iconst 1, 1) := by decide +kernel
theorem dX0_await_24 : decode cX0_await 24 = .ok (.isub, 1) := by decide +kernel
theorem dX0_await_25 : decode cX0_await 25 = .ok (.istore 6, 2) := by decide +kernel
theorem dX0_await_27 : decode cX0_await 27 = .ok (.aload_n 0, 1) := by decide +kernel
theorem dX0_await_28 : decode cX0_await 28 = .ok (.iload_n 1, 1) := by decide +kernel
theorem dX0_await_29 : decode cX0_await 29 = .ok (.iload_n 2, 1) := by decide +kernel
theorem dX0_await_30 : decode cX0_await 30 = .ok (.iload 6, 2) := by decide +kernel
theorem dX0_await_32 : decode cX0_await 32 = .ok (.iload 4, 2) := by decide +kernel
theorem dX0_await_34 : decode cX0_await 34 = .ok (.invokevirtual 46, 3) := by decide +kernel
theorem dX0_await_37 : decode cX0_await 37 = .ok (.istore 7, 2) := by decide +kernel
theorem dX0_await_39 : decode cX0_await 39 = .ok (.iload 7, 2) := by decide +kernel
theorem dX0_await_41 : decode cX0_await 41 = .ok (.ifCond .ne 20, 3) := by decide +kernel
theorem dX0_await_44 : decode cX0_await 44 = .ok (.aload_n 0, 1) := by decide +kernel
theorem dX0_await_45 : decode cX0_await 45 = .ok (.iload_n 1, 1) := by decide +kernel
theorem dX0_await_46 : decode cX0_await 46 = .ok (.iload_n 2, 1) := by decide +kernel
theorem dX0_await_47 : decode cX0_await 47 = .ok (.iload 6, 2) := by decide +kernel
theorem dX0_await_49 : decode cX0_await 49 = .ok (.iload 4, 2) := by decide +kernel
theorem dX0_await_51 : decode cX0_await 51 = .ok (.invokevirtual 50, 3) := by decide +kernel
theorem dX0_await_54 : decode cX0_await 54 = .ok (.aload_n 0, 1) := by decide +kernel
theorem dX0_await_55 : decode cX0_await 55 = .ok (.invokevirtual 54, 3) := by decide +kernel
theorem dX0_await_58 : decode cX0_await 58 = .ok (.pop, 1) := by decide +kernel
theorem dX0_await_59 : decode cX0_await 59 = .ok (.iconst 0, 1) := by decide +kernel
theorem dX0_await_60 : decode cX0_await 60 = .ok (.ireturn, 1) := by decide +kernel
theorem dX0_await_61 : decode cX0_await 61 = .ok (.aload_n 0, 1) := by decide +kernel
theorem dX0_await_62 : decode cX0_await 62 = .ok (.iload 7, 2) := by decide +kernel
theorem dX0_await_64 : decode cX0_await 64 = .ok (.iload_n 1, 1) := by decide +kernel
theorem dX0_await_65 : decode cX0_await 65 = .ok (.invokevirtual 58, 3) := by decide +kernel
theorem dX0_await_68 : decode cX0_await 68 = .ok (.ifCond .eq 6, 3) := by decide +kernel
theorem dX0_await_71 : decode cX0_await 71 = .ok (.bipush (-5), 2) := by decide +kernel
theorem dX0_await_73 : decode cX0_await 73 = .ok (.ireturn, 1) := by decide +kernel
theorem dX0_await_74 : decode cX0_await 74 = .ok (.aload_n 0, 1) := by decide +kernel
theorem dX0_await_75 : decode cX0_await 75 = .ok (.getfield 22, 3) := by decide +kernel
theorem dX0_await_78 : decode cX0_await 78 = .ok (.iload_n 1, 1) := by decide +kernel
theorem dX0_await_79 : decode cX0_await 79 = .ok (.iconst 1, 1) := by decide +kernel
theorem dX0_await_80 : decode cX0_await 80 = .ok (.bastore, 1) := by decide +kernel
theorem dX0_await_81 : decode cX0_await 81 = .ok (.aload_n 0, 1) := by decide +kernel
theorem dX0_await_82 : decode cX0_await 82 = .ok (.getfield 26, 3) := by decide +kernel
theorem dX0_await_85 : decode cX0_await 85 = .ok (.iload_n 1, 1) := by decide +kernel
theorem dX0_await_86 : decode cX0_await 86 = .ok (.iload_n 2, 1) := by decide +kernel
theorem dX0_await_87 : decode cX0_await 87 = .ok (.iastore, 1) := by decide +kernel
theorem dX0_await_88 : decode cX0_await 88 = .ok (.aload_n 0, 1) := by decide +kernel
theorem dX0_await_89 : decode cX0_await 89 = .ok (.getfield 29, 3) := by decide +kernel
theorem dX0_await_92 : decode cX0_await 92 = .ok (.iload_n 1, 1) := by decide +kernel
theorem dX0_await_93 : decode cX0_await 93 = .ok (.iload 6, 2) := by decide +kernel
theorem dX0_await_95 : decode cX0_await 95 = .ok (.iastore, 1) := by decide +kernel
theorem dX0_await_96 : decode cX0_await 96 = .ok (.aload_n 0, 1) := by decide +kernel
theorem dX0_await_97 : decode cX0_await 97 = .ok (.getfield 32, 3) := by decide +kernel
theorem dX0_await_100 : decode cX0_await 100 = .ok (.iload_n 1, 1) := by decide +kernel
theorem dX0_await_101 : decode cX0_await 101 = .ok (.iload 4, 2) := by decide +kernel
theorem dX0_await_103 : decode cX0_await 103 = .ok (.iastore, 1) := by decide +kernel
theorem dX0_await_104 : decode cX0_await 104 = .ok (.aload_n 0, 1) := by decide +kernel
theorem dX0_await_105 : decode cX0_await 105 = .ok (.dup, 1) := by decide +kernel
theorem dX0_await_106 : decode cX0_await 106 = .ok (.getfield 62, 3) := by decide +kernel
theorem dX0_await_109 : decode cX0_await 109 = .ok (.iconst 1, 1) := by decide +kernel
theorem dX0_await_110 : decode cX0_await 110 = .ok (.iadd, 1) := by decide +kernel
theorem dX0_await_111 : decode cX0_await 111 = .ok (.putfield 62, 3) := by decide +kernel
theorem dX0_await_114 : decode cX0_await 114 = .ok (.aload_n 0, 1) := by decide +kernel
theorem dX0_await_115 : decode cX0_await 115 = .ok (.getfield 35, 3) := by decide +kernel
theorem dX0_await_118 : decode cX0_await 118 = .ok (.iload_n 1, 1) := by decide +kernel
theorem dX0_await_119 : decode cX0_await 119 = .ok (.aload_n 0, 1) := by decide +kernel
theorem dX0_await_120 : decode cX0_await 120 = .ok (.getfield 62, 3) := by decide +kernel
theorem dX0_await_123 : decode cX0_await 123 = .ok (.iastore, 1) := by decide +kernel
theorem dX0_await_124 : decode cX0_await 124 = .ok (.iconst 1, 1) := by decide +kernel
theorem dX0_await_125 : decode cX0_await 125 = .ok (.ireturn, 1) := by decide +kernel
theorem dX0_leadsTo_0 : decode cX0_leadsTo 0 = .ok (.iload_n 1, 1) := by decide +kernel
theorem dX0_leadsTo_1 : decode cX0_leadsTo 1 = .ok (.istore_n 3, 1) := by decide +kernel
theorem dX0_leadsTo_2 : decode cX0_leadsTo 2 = .ok (.iconst 0, 1) := by decide +kernel
theorem dX0_leadsTo_3 : decode cX0_leadsTo 3 = .ok (.istore 4, 2) := by decide +kernel
theorem dX0_leadsTo_5 : decode cX0_leadsTo 5 = .ok (.iload 4, 2) := by decide +kernel
theorem dX0_leadsTo_7 : decode cX0_leadsTo 7 = .ok (.iconst 5, 1) := by decide +kernel
theorem dX0_leadsTo_8 : decode cX0_leadsTo 8 = .ok (.if_icmp .ge 43, 3) := by decide +kernel
theorem dX0_leadsTo_11 : decode cX0_leadsTo 11 = .ok (.iconst 0, 1) := by decide +kernel
theorem dX0_leadsTo_12 : decode cX0_leadsTo 12 = .ok (.istore 5, 2) := by decide +kernel
theorem dX0_leadsTo_14 : decode cX0_leadsTo 14 = .ok (.iload 5, 2) := by decide +kernel
theorem dX0_leadsTo_16 : decode cX0_leadsTo 16 = .ok (.iconst 5, 1) := by decide +kernel
theorem dX0_leadsTo_17 : decode cX0_leadsTo 17 = .ok (.if_icmp .ge 28, 3) := by decide +kernel
theorem dX0_leadsTo_20 : decode cX0_leadsTo 20 = .ok (.iload_n 3, 1) := by decide +kernel
theorem dX0_leadsTo_21 : decode cX0_leadsTo 21 = .ok (.iload 5, 2) := by decide +kernel
theorem dX0_leadsTo_23 : decode cX0_leadsTo 23 = .ok (.ishr, 1) := by decide +kernel
theorem dX0_leadsTo_24 : decode cX0_leadsTo 24 = .ok (.iconst 1, 1) := by decide +kernel
theorem dX0_leadsTo_25 : decode cX0_leadsTo 25 = .ok (.iand, 1) := by decide +kernel
theorem dX0_leadsTo_26 : decode cX0_leadsTo 26 = .ok (.iconst 1, 1) := by decide +kernel
theorem dX0_leadsTo_27 : decode cX0_leadsTo 27 = .ok (.if_icmp .ne 12, 3) := by decide +kernel
theorem dX0_leadsTo_30 : decode cX0_leadsTo 30 = .ok (.iload_n 3, 1) := by decide +kernel
theorem dX0_leadsTo_31 : decode cX0_leadsTo 31 = .ok (.aload_n 0, 1) := by decide +kernel
theorem dX0_leadsTo_32 : decode cX0_leadsTo 32 = .ok (.iload 5, 2) := by decide +kernel
theorem dX0_leadsTo_34 : decode cX0_leadsTo 34 = .ok (.invokevirtual 85, 3) := by decide +kernel
theorem dX0_leadsTo_37 : decode cX0_leadsTo 37 = .ok (.ior, 1) := by decide +kernel
theorem dX0_leadsTo_38 : decode cX0_leadsTo 38 = .ok (.istore_n 3, 1) := by decide +kernel
theorem dX0_leadsTo_39 : decode cX0_leadsTo 39 = .ok (.iinc 5 1, 3) := by decide +kernel
theorem dX0_leadsTo_42 : decode cX0_leadsTo 42 = .ok (.goto (-28), 3) := by decide +kernel
theorem dX0_leadsTo_45 : decode cX0_leadsTo 45 = .ok (.iinc 4 1, 3) := by decide +kernel
theorem dX0_leadsTo_48 : decode cX0_leadsTo 48 = .ok (.goto (-43), 3) := by decide +kernel
theorem dX0_leadsTo_51 : decode cX0_leadsTo 51 = .ok (.iload_n 3, 1) := by decide +kernel
theorem dX0_leadsTo_52 : decode cX0_leadsTo 52 = .ok (.iload_n 2, 1) := by decide +kernel
theorem dX0_leadsTo_53 : decode cX0_leadsTo 53 = .ok (.ishr, 1) := by decide +kernel
theorem dX0_leadsTo_54 : decode cX0_leadsTo 54 = .ok (.iconst 1, 1) := by decide +kernel
theorem dX0_leadsTo_55 : decode cX0_leadsTo 55 = .ok (.iand, 1) := by decide +kernel
theorem dX0_leadsTo_56 : decode cX0_leadsTo 56 = .ok (.iconst 1, 1) := by decide +kernel
theorem dX0_leadsTo_57 : decode cX0_leadsTo 57 = .ok (.if_icmp .ne 7, 3) := by decide +kernel
theorem dX0_leadsTo_60 : decode cX0_leadsTo 60 = .ok (.iconst 1, 1) := by decide +kernel
theorem dX0_leadsTo_61 : decode cX0_leadsTo 61 = .ok (.goto 4, 3) := by decide +kernel
theorem dX0_leadsTo_64 : decode cX0_leadsTo 64 = .ok (.iconst 0, 1) := by decide +kernel
theorem dX0_leadsTo_65 : decode cX0_leadsTo 65 = .ok (.ireturn, 1) := by decide +kernel
theorem dX0_cancel_0 : decode cX0_cancel 0 = .ok (.iload_n 1, 1) := by decide +kernel
theorem dX0_cancel_1 : decode cX0_cancel 1 = .ok (.invokestatic 65, 3) := by decide +kernel
theorem dX0_cancel_4 : decode cX0_cancel 4 = .ok (.ifCond .ne 5, 3) := by decide +kernel
theorem dX0_cancel_7 : decode cX0_cancel 7 = .ok (.iconst (-1), 1) := by decide +kernel
theorem dX0_cancel_8 : decode cX0_cancel 8 = .ok (.ireturn, 1) := by decide +kernel
theorem dX0_cancel_9 : decode cX0_cancel 9 = .ok (.aload_n 0, 1) := by decide +kernel
theorem dX0_cancel_10 : decode cX0_cancel 10 = .ok (.getfield 22, 3) := by decide +kernel
theorem dX0_cancel_13 : decode cX0_cancel 13 = .ok (.iload_n 1, 1) := by decide +kernel
theorem dX0_cancel_14 : decode cX0_cancel 14 = .ok (.baload, 1) := by decide +kernel
theorem dX0_cancel_15 : decode cX0_cancel 15 = .ok (.ifCond .ne 6, 3) := by decide +kernel
theorem dX0_cancel_18 : decode cX0_cancel 18 = .ok (.bipush (-2), 2) := by decide +kernel
theorem dX0_cancel_20 : decode cX0_cancel 20 = .ok (.ireturn, 1) := by decide +kernel
theorem dX0_cancel_21 : decode cX0_cancel 21 = .ok (.aload_n 0, 1) := by decide +kernel
theorem dX0_cancel_22 : decode cX0_cancel 22 = .ok (.getfield 22, 3) := by decide +kernel
theorem dX0_cancel_25 : decode cX0_cancel 25 = .ok (.iload_n 1, 1) := by decide +kernel
theorem dX0_cancel_26 : decode cX0_cancel 26 = .ok (.iconst 0, 1) := by decide +kernel
theorem dX0_cancel_27 : decode cX0_cancel 27 = .ok (.bastore, 1) := by decide +kernel
theorem dX0_cancel_28 : decode cX0_cancel 28 = .ok (.iconst 0, 1) := by decide +kernel
theorem dX0_cancel_29 : decode cX0_cancel 29 = .ok (.ireturn, 1) := by decide +kernel
theorem dX0_close_0 : decode cX0_close 0 = .ok (.iload_n 1, 1) := by decide +kernel
theorem dX0_close_1 : decode cX0_close 1 = .ok (.invokestatic 65, 3) := by decide +kernel
theorem dX0_close_4 : decode cX0_close 4 = .ok (.ifCond .ne 5, 3) := by decide +kernel
theorem dX0_close_7 : decode cX0_close 7 = .ok (.iconst (-1), 1) := by decide +kernel
theorem dX0_close_8 : decode cX0_close 8 = .ok (.ireturn, 1) := by decide +kernel
theorem dX0_close_9 : decode cX0_close 9 = .ok (.bipush 40, 2) := by decide +kernel
theorem dX0_close_11 : decode cX0_close 11 = .ok (.aload_n 0, 1) := by decide +kernel
theorem dX0_close_12 : decode cX0_close 12 = .ok (.iload_n 1, 1) := by decide +kernel
theorem dX0_close_13 : decode cX0_close 13 = .ok (.iconst 0, 1) := by decide +kernel
theorem dX0_close_14 : decode cX0_close 14 = .ok (.invokevirtual 69, 3) := by decide +kernel
theorem dX0_close_17 : decode cX0_close 17 = .ok (.isub, 1) := by decide +kernel
theorem dX0_close_18 : decode cX0_close 18 = .ok (.istore_n 2, 1) := by decide +kernel
theorem dX0_close_19 : decode cX0_close 19 = .ok (.aload_n 0, 1) := by decide +kernel
theorem dX0_close_20 : decode cX0_close 20 = .ok (.getfield 22, 3) := by decide +kernel
theorem dX0_close_23 : decode cX0_close 23 = .ok (.iload_n 1, 1) := by decide +kernel
theorem dX0_close_24 : decode cX0_close 24 = .ok (.iconst 0, 1) := by decide +kernel
theorem dX0_close_25 : decode cX0_close 25 = .ok (.bastore, 1) := by decide +kernel
theorem dX0_close_26 : decode cX0_close 26 = .ok (.aload_n 0, 1) := by decide +kernel
theorem dX0_close_27 : decode cX0_close 27 = .ok (.iload_n 1, 1) := by decide +kernel
theorem dX0_close_28 : decode cX0_close 28 = .ok (.iconst 0, 1) := by decide +kernel
theorem dX0_close_29 : decode cX0_close 29 = .ok (.bipush 39, 2) := by decide +kernel
theorem dX0_close_31 : decode cX0_close 31 = .ok (.iconst 0, 1) := by decide +kernel
theorem dX0_close_32 : decode cX0_close 32 = .ok (.invokevirtual 50, 3) := by decide +kernel
theorem dX0_close_35 : decode cX0_close 35 = .ok (.aload_n 0, 1) := by decide +kernel
theorem dX0_close_36 : decode cX0_close 36 = .ok (.invokevirtual 54, 3) := by decide +kernel
theorem dX0_close_39 : decode cX0_close 39 = .ok (.pop, 1) := by decide +kernel
theorem dX0_close_40 : decode cX0_close 40 = .ok (.iload_n 2, 1) := by decide +kernel
theorem dX0_close_41 : decode cX0_close 41 = .ok (.ireturn, 1) := by decide +kernel
theorem dX0_count_0 : decode cX0_count 0 = .ok (.iload_n 1, 1) := by decide +kernel
theorem dX0_count_1 : decode cX0_count 1 = .ok (.invokestatic 65, 3) := by decide +kernel
theorem dX0_count_4 : decode cX0_count 4 = .ok (.ifCond .ne 5, 3) := by decide +kernel
theorem dX0_count_7 : decode cX0_count 7 = .ok (.iconst (-1), 1) := by decide +kernel
theorem dX0_count_8 : decode cX0_count 8 = .ok (.ireturn, 1) := by decide +kernel
theorem dX0_count_9 : decode cX0_count 9 = .ok (.iload_n 2, 1) := by decide +kernel
theorem dX0_count_10 : decode cX0_count 10 = .ok (.ifCond .lt 8, 3) := by decide +kernel
theorem dX0_count_13 : decode cX0_count 13 = .ok (.iload_n 2, 1) := by decide +kernel
theorem dX0_count_14 : decode cX0_count 14 = .ok (.iconst 2, 1) := by decide +kernel
theorem dX0_count_15 : decode cX0_count 15 = .ok (.if_icmp .le 6, 3) := by decide +kernel
theorem dX0_count_18 : decode cX0_count 18 = .ok (.bipush (-2), 2) := by decide +kernel
theorem dX0_count_20 : decode cX0_count 20 = .ok (.ireturn, 1) := by decide +kernel
theorem dX0_count_21 : decode cX0_count 21 = .ok (.iconst 0, 1) := by decide +kernel
theorem dX0_count_22 : decode cX0_count 22 = .ok (.istore_n 3, 1) := by decide +kernel
theorem dX0_count_23 : decode cX0_count 23 = .ok (.iconst 0, 1) := by decide +kernel
theorem dX0_count_24 : decode cX0_count 24 = .ok (.istore 4, 2) := by decide +kernel
theorem dX0_count_26 : decode cX0_count 26 = .ok (.aload_n 0, 1) := by decide +kernel
theorem dX0_count_27 : decode cX0_count 27 = .ok (.iload_n 1, 1) := by decide +kernel
theorem dX0_count_28 : decode cX0_count 28 = .ok (.iconst 1, 1) := by decide +kernel
theorem dX0_count_29 : decode cX0_count 29 = .ok (.iadd, 1) := by decide +kernel
theorem dX0_count_30 : decode cX0_count 30 = .ok (.invokevirtual 89, 3) := by decide +kernel
theorem dX0_count_33 : decode cX0_count 33 = .ok (.istore 5, 2) := by decide +kernel
theorem dX0_count_35 : decode cX0_count 35 = .ok (.aload_n 0, 1) := by decide +kernel
theorem dX0_count_36 : decode cX0_count 36 = .ok (.iload_n 1, 1) := by decide +kernel
theorem dX0_count_37 : decode cX0_count 37 = .ok (.invokevirtual 89, 3) := by decide +kernel
theorem dX0_count_40 : decode cX0_count 40 = .ok (.istore 6, 2) := by decide +kernel
theorem dX0_count_42 : decode cX0_count 42 = .ok (.iload 6, 2) := by decide +kernel
theorem dX0_count_44 : decode cX0_count 44 = .ok (.iload 5, 2) := by decide +kernel
theorem dX0_count_46 : decode cX0_count 46 = .ok (.if_icmp .ge 55, 3) := by decide +kernel
theorem dX0_count_49 : decode cX0_count 49 = .ok (.aload_n 0, 1) := by decide +kernel
theorem dX0_count_50 : decode cX0_count 50 = .ok (.getfield 16, 3) := by decide +kernel
theorem dX0_count_53 : decode cX0_count 53 = .ok (.iload 6, 2) := by decide +kernel
theorem dX0_count_55 : decode cX0_count 55 = .ok (.iaload, 1) := by decide +kernel
theorem dX0_count_56 : decode cX0_count 56 = .ok (.aload_n 0, 1) := by decide +kernel
theorem dX0_count_57 : decode cX0_count 57 = .ok (.getfield 13, 3) := by decide +kernel
theorem dX0_count_60 : decode cX0_count 60 = .ok (.iload 6, 2) := by decide +kernel
theorem dX0_count_62 : decode cX0_count 62 = .ok (.iaload, 1) := by decide +kernel
theorem dX0_count_63 : decode cX0_count 63 = .ok (.isub, 1) := by decide +kernel
theorem dX0_count_64 : decode cX0_count 64 = .ok (.iconst 1, 1) := by decide +kernel
theorem dX0_count_65 : decode cX0_count 65 = .ok (.iadd, 1) := by decide +kernel
theorem dX0_count_66 : decode cX0_count 66 = .ok (.istore 7, 2) := by decide +kernel
end
section
set_option maxRecDepth 100000
theorem dX0_count_68 : decode cX0_count 68 = .ok (.iload 4, 2) := by decide +kernel
theorem dX0_count_70 : decode cX0_count 70 = .ok (.iload 7, 2) := by decide +kernel
theorem dX0_count_72 : decode cX0_count 72 = .ok (.iadd, 1) := by decide +kernel
theorem dX0_count_73 : decode cX0_count 73 = .ok (.istore 4, 2) := by decide +kernel
theorem dX0_count_75 : decode cX0_count 75 = .ok (.iload_n 3, 1) := by decide +kernel
theorem dX0_count_76 : decode cX0_count 76 = .ok (.aload_n 0, 1) := by decide +kernel
theorem dX0_count_77 : decode cX0_count 77 = .ok (.getfield 19, 3) := by decide +kernel
theorem dX0_count_80 : decode cX0_count 80 = .ok (.iload 6, 2) := by decide +kernel
theorem dX0_count_82 : decode cX0_count 82 = .ok (.iaload, 1) := by decide +kernel
theorem dX0_count_83 : decode cX0_count 83 = .ok (.iload_n 2, 1) := by decide +kernel
theorem dX0_count_84 : decode cX0_count 84 = .ok (.if_icmp .ne 8, 3) := by decide +kernel
theorem dX0_count_87 : decode cX0_count 87 = .ok (.iload 7, 2) := by decide +kernel
theorem dX0_count_89 : decode cX0_count 89 = .ok (.goto 4, 3) := by decide +kernel
theorem dX0_count_92 : decode cX0_count 92 = .ok (.iconst 0, 1) := by decide +kernel
theorem dX0_count_93 : decode cX0_count 93 = .ok (.iadd, 1) := by decide +kernel
theorem dX0_count_94 : decode cX0_count 94 = .ok (.istore_n 3, 1) := by decide +kernel
theorem dX0_count_95 : decode cX0_count 95 = .ok (.iinc 6 1, 3) := by decide +kernel
theorem dX0_count_98 : decode cX0_count 98 = .ok (.goto (-56), 3) := by decide +kernel
theorem dX0_count_101 : decode cX0_count 101 = .ok (.iload_n 2, 1) := by decide +kernel
theorem dX0_count_102 : decode cX0_count 102 = .ok (.ifCond .ne 11, 3) := by decide +kernel
theorem dX0_count_105 : decode cX0_count 105 = .ok (.bipush 40, 2) := by decide +kernel
theorem dX0_count_107 : decode cX0_count 107 = .ok (.iload 4, 2) := by decide +kernel
theorem dX0_count_109 : decode cX0_count 109 = .ok (.isub, 1) := by decide +kernel
theorem dX0_count_110 : decode cX0_count 110 = .ok (.goto 4, 3) := by decide +kernel
theorem dX0_count_113 : decode cX0_count 113 = .ok (.iload_n 3, 1) := by decide +kernel
theorem dX0_count_114 : decode cX0_count 114 = .ok (.ireturn, 1) := by decide +kernel
theorem dX0_lockAt_0 : decode cX0_lockAt 0 = .ok (.iload_n 1, 1) := by decide +kernel
theorem dX0_lockAt_1 : decode cX0_lockAt 1 = .ok (.invokestatic 65, 3) := by decide +kernel
theorem dX0_lockAt_4 : decode cX0_lockAt 4 = .ok (.ifCond .ne 5, 3) := by decide +kernel
theorem dX0_lockAt_7 : decode cX0_lockAt 7 = .ok (.iconst (-1), 1) := by decide +kernel
theorem dX0_lockAt_8 : decode cX0_lockAt 8 = .ok (.ireturn, 1) := by decide +kernel
theorem dX0_lockAt_9 : decode cX0_lockAt 9 = .ok (.iload_n 2, 1) := by decide +kernel
theorem dX0_lockAt_10 : decode cX0_lockAt 10 = .ok (.invokestatic 72, 3) := by decide +kernel
theorem dX0_lockAt_13 : decode cX0_lockAt 13 = .ok (.ifCond .ne 6, 3) := by decide +kernel
theorem dX0_lockAt_16 : decode cX0_lockAt 16 = .ok (.bipush (-2), 2) := by decide +kernel
theorem dX0_lockAt_18 : decode cX0_lockAt 18 = .ok (.ireturn, 1) := by decide +kernel
theorem dX0_lockAt_19 : decode cX0_lockAt 19 = .ok (.aload_n 0, 1) := by decide +kernel
theorem dX0_lockAt_20 : decode cX0_lockAt 20 = .ok (.iload_n 1, 1) := by decide +kernel
theorem dX0_lockAt_21 : decode cX0_lockAt 21 = .ok (.iload_n 2, 1) := by decide +kernel
theorem dX0_lockAt_22 : decode cX0_lockAt 22 = .ok (.invokevirtual 75, 3) := by decide +kernel
theorem dX0_lockAt_25 : decode cX0_lockAt 25 = .ok (.istore_n 3, 1) := by decide +kernel
theorem dX0_lockAt_26 : decode cX0_lockAt 26 = .ok (.iload_n 3, 1) := by decide +kernel
theorem dX0_lockAt_27 : decode cX0_lockAt 27 = .ok (.ifCond .ge 7, 3) := by decide +kernel
theorem dX0_lockAt_30 : decode cX0_lockAt 30 = .ok (.iconst 0, 1) := by decide +kernel
theorem dX0_lockAt_31 : decode cX0_lockAt 31 = .ok (.goto 9, 3) := by decide +kernel
theorem dX0_lockAt_34 : decode cX0_lockAt 34 = .ok (.aload_n 0, 1) := by decide +kernel
theorem dX0_lockAt_35 : decode cX0_lockAt 35 = .ok (.getfield 19, 3) := by decide +kernel
theorem dX0_lockAt_38 : decode cX0_lockAt 38 = .ok (.iload_n 3, 1) := by decide +kernel
theorem dX0_lockAt_39 : decode cX0_lockAt 39 = .ok (.iaload, 1) := by decide +kernel
theorem dX0_lockAt_40 : decode cX0_lockAt 40 = .ok (.ireturn, 1) := by decide +kernel
theorem dX0_isByte_0 : decode cX0_isByte 0 = .ok (.iload_n 0, 1) := by decide +kernel
theorem dX0_isByte_1 : decode cX0_isByte 1 = .ok (.ifCond .lt 13, 3) := by decide +kernel
theorem dX0_isByte_4 : decode cX0_isByte 4 = .ok (.iload_n 0, 1) := by decide +kernel
theorem dX0_isByte_5 : decode cX0_isByte 5 = .ok (.bipush 40, 2) := by decide +kernel
theorem dX0_isByte_7 : decode cX0_isByte 7 = .ok (.if_icmp .ge 7, 3) := by decide +kernel
theorem dX0_isByte_10 : decode cX0_isByte 10 = .ok (.iconst 1, 1) := by decide +kernel
theorem dX0_isByte_11 : decode cX0_isByte 11 = .ok (.goto 4, 3) := by decide +kernel
theorem dX0_isByte_14 : decode cX0_isByte 14 = .ok (.iconst 0, 1) := by decide +kernel
theorem dX0_isByte_15 : decode cX0_isByte 15 = .ok (.ireturn, 1) := by decide +kernel
theorem dX0_pieceAt_0 : decode cX0_pieceAt 0 = .ok (.aload_n 0, 1) := by decide +kernel
theorem dX0_pieceAt_1 : decode cX0_pieceAt 1 = .ok (.iload_n 1, 1) := by decide +kernel
theorem dX0_pieceAt_2 : decode cX0_pieceAt 2 = .ok (.iconst 1, 1) := by decide +kernel
theorem dX0_pieceAt_3 : decode cX0_pieceAt 3 = .ok (.iadd, 1) := by decide +kernel
theorem dX0_pieceAt_4 : decode cX0_pieceAt 4 = .ok (.invokevirtual 89, 3) := by decide +kernel
theorem dX0_pieceAt_7 : decode cX0_pieceAt 7 = .ok (.istore_n 3, 1) := by decide +kernel
theorem dX0_pieceAt_8 : decode cX0_pieceAt 8 = .ok (.aload_n 0, 1) := by decide +kernel
theorem dX0_pieceAt_9 : decode cX0_pieceAt 9 = .ok (.iload_n 1, 1) := by decide +kernel
theorem dX0_pieceAt_10 : decode cX0_pieceAt 10 = .ok (.invokevirtual 89, 3) := by decide +kernel
theorem dX0_pieceAt_13 : decode cX0_pieceAt 13 = .ok (.istore 4, 2) := by decide +kernel
theorem dX0_pieceAt_15 : decode cX0_pieceAt 15 = .ok (.iload 4, 2) := by decide +kernel
theorem dX0_pieceAt_17 : decode cX0_pieceAt 17 = .ok (.iload_n 3, 1) := by decide +kernel
theorem dX0_pieceAt_18 : decode cX0_pieceAt 18 = .ok (.if_icmp .ge 34, 3) := by decide +kernel
theorem dX0_pieceAt_21 : decode cX0_pieceAt 21 = .ok (.aload_n 0, 1) := by decide +kernel
theorem dX0_pieceAt_22 : decode cX0_pieceAt 22 = .ok (.getfield 13, 3) := by decide +kernel
theorem dX0_pieceAt_25 : decode cX0_pieceAt 25 = .ok (.iload 4, 2) := by decide +kernel
theorem dX0_pieceAt_27 : decode cX0_pieceAt 27 = .ok (.iaload, 1) := by decide +kernel
theorem dX0_pieceAt_28 : decode cX0_pieceAt 28 = .ok (.iload_n 2, 1) := by decide +kernel
theorem dX0_pieceAt_29 : decode cX0_pieceAt 29 = .ok (.if_icmp .gt 17, 3) := by decide +kernel
theorem dX0_pieceAt_32 : decode cX0_pieceAt 32 = .ok (.iload_n 2, 1) := by decide +kernel
theorem dX0_pieceAt_33 : decode cX0_pieceAt 33 = .ok (.aload_n 0, 1) := by decide +kernel
theorem dX0_pieceAt_34 : decode cX0_pieceAt 34 = .ok (.getfield 16, 3) := by decide +kernel
theorem dX0_pieceAt_37 : decode cX0_pieceAt 37 = .ok (.iload 4, 2) := by decide +kernel
theorem dX0_pieceAt_39 : decode cX0_pieceAt 39 = .ok (.iaload, 1) := by decide +kernel
theorem dX0_pieceAt_40 : decode cX0_pieceAt 40 = .ok (.if_icmp .gt 6, 3) := by decide +kernel
theorem dX0_pieceAt_43 : decode cX0_pieceAt 43 = .ok (.iload 4, 2) := by decide +kernel
theorem dX0_pieceAt_45 : decode cX0_pieceAt 45 = .ok (.ireturn, 1) := by decide +kernel
theorem dX0_pieceAt_46 : decode cX0_pieceAt 46 = .ok (.iinc 4 1, 3) := by decide +kernel
theorem dX0_pieceAt_49 : decode cX0_pieceAt 49 = .ok (.goto (-34), 3) := by decide +kernel
theorem dX0_pieceAt_52 : decode cX0_pieceAt 52 = .ok (.iconst (-1), 1) := by decide +kernel
theorem dX0_pieceAt_53 : decode cX0_pieceAt 53 = .ok (.ireturn, 1) := by decide +kernel
theorem dX0_holders_0 : decode cX0_holders 0 = .ok (.iload_n 1, 1) := by decide +kernel
theorem dX0_holders_1 : decode cX0_holders 1 = .ok (.invokestatic 72, 3) := by decide +kernel
theorem dX0_holders_4 : decode cX0_holders 4 = .ok (.ifCond .ne 5, 3) := by decide +kernel
theorem dX0_holders_7 : decode cX0_holders 7 = .ok (.iconst (-1), 1) := by decide +kernel
theorem dX0_holders_8 : decode cX0_holders 8 = .ok (.ireturn, 1) := by decide +kernel
theorem dX0_holders_9 : decode cX0_holders 9 = .ok (.iconst 0, 1) := by decide +kernel
theorem dX0_holders_10 : decode cX0_holders 10 = .ok (.istore_n 2, 1) := by decide +kernel
theorem dX0_holders_11 : decode cX0_holders 11 = .ok (.iconst 0, 1) := by decide +kernel
theorem dX0_holders_12 : decode cX0_holders 12 = .ok (.istore_n 3, 1) := by decide +kernel
theorem dX0_holders_13 : decode cX0_holders 13 = .ok (.iload_n 3, 1) := by decide +kernel
theorem dX0_holders_14 : decode cX0_holders 14 = .ok (.iconst 5, 1) := by decide +kernel
theorem dX0_holders_15 : decode cX0_holders 15 = .ok (.if_icmp .ge 24, 3) := by decide +kernel
theorem dX0_holders_18 : decode cX0_holders 18 = .ok (.aload_n 0, 1) := by decide +kernel
theorem dX0_holders_19 : decode cX0_holders 19 = .ok (.iload_n 3, 1) := by decide +kernel
theorem dX0_holders_20 : decode cX0_holders 20 = .ok (.iload_n 1, 1) := by decide +kernel
theorem dX0_holders_21 : decode cX0_holders 21 = .ok (.invokevirtual 75, 3) := by decide +kernel
theorem dX0_holders_24 : decode cX0_holders 24 = .ok (.ifCond .lt 9, 3) := by decide +kernel
theorem dX0_holders_27 : decode cX0_holders 27 = .ok (.iload_n 2, 1) := by decide +kernel
theorem dX0_holders_28 : decode cX0_holders 28 = .ok (.iconst 1, 1) := by decide +kernel
theorem dX0_holders_29 : decode cX0_holders 29 = .ok (.iload_n 3, 1) := by decide +kernel
theorem dX0_holders_30 : decode cX0_holders 30 = .ok (.ishl, 1) := by decide +kernel
theorem dX0_holders_31 : decode cX0_holders 31 = .ok (.ior, 1) := by decide +kernel
theorem dX0_holders_32 : decode cX0_holders 32 = .ok (.istore_n 2, 1) := by decide +kernel
theorem dX0_holders_33 : decode cX0_holders 33 = .ok (.iinc 3 1, 3) := by decide +kernel
theorem dX0_holders_36 : decode cX0_holders 36 = .ok (.goto (-23), 3) := by decide +kernel
theorem dX0_holders_39 : decode cX0_holders 39 = .ok (.iload_n 2, 1) := by decide +kernel
theorem dX0_holders_40 : decode cX0_holders 40 = .ok (.ireturn, 1) := by decide +kernel
theorem dX0_obstacle_0 : decode cX0_obstacle 0 = .ok (.iload_n 1, 1) := by decide +kernel
theorem dX0_obstacle_1 : decode cX0_obstacle 1 = .ok (.invokestatic 65, 3) := by decide +kernel
theorem dX0_obstacle_4 : decode cX0_obstacle 4 = .ok (.ifCond .ne 5, 3) := by decide +kernel
theorem dX0_obstacle_7 : decode cX0_obstacle 7 = .ok (.iconst (-1), 1) := by decide +kernel
theorem dX0_obstacle_8 : decode cX0_obstacle 8 = .ok (.ireturn, 1) := by decide +kernel
theorem dX0_obstacle_9 : decode cX0_obstacle 9 = .ok (.iload_n 2, 1) := by decide +kernel
theorem dX0_obstacle_10 : decode cX0_obstacle 10 = .ok (.iload_n 3, 1) := by decide +kernel
theorem dX0_obstacle_11 : decode cX0_obstacle 11 = .ok (.invokestatic 78, 3) := by decide +kernel
theorem dX0_obstacle_14 : decode cX0_obstacle 14 = .ok (.ifCond .ne 6, 3) := by decide +kernel
theorem dX0_obstacle_17 : decode cX0_obstacle 17 = .ok (.bipush (-2), 2) := by decide +kernel
theorem dX0_obstacle_19 : decode cX0_obstacle 19 = .ok (.ireturn, 1) := by decide +kernel
theorem dX0_obstacle_20 : decode cX0_obstacle 20 = .ok (.iload 4, 2) := by decide +kernel
theorem dX0_obstacle_22 : decode cX0_obstacle 22 = .ok (.iconst 1, 1) := by decide +kernel
theorem dX0_obstacle_23 : decode cX0_obstacle 23 = .ok (.if_icmp .eq 12, 3) := by decide +kernel
theorem dX0_obstacle_26 : decode cX0_obstacle 26 = .ok (.iload 4, 2) := by decide +kernel
theorem dX0_obstacle_28 : decode cX0_obstacle 28 = .ok (.iconst 2, 1) := by decide +kernel
theorem dX0_obstacle_29 : decode cX0_obstacle 29 = .ok (.if_icmp .eq 6, 3) := by decide +kernel
theorem dX0_obstacle_32 : decode cX0_obstacle 32 = .ok (.bipush (-3), 2) := by decide +kernel
theorem dX0_obstacle_34 : decode cX0_obstacle 34 = .ok (.ireturn, 1) := by decide +kernel
theorem dX0_obstacle_35 : decode cX0_obstacle 35 = .ok (.bipush 40, 2) := by decide +kernel
theorem dX0_obstacle_37 : decode cX0_obstacle 37 = .ok (.istore 5, 2) := by decide +kernel
theorem dX0_obstacle_39 : decode cX0_obstacle 39 = .ok (.iconst 0, 1) := by decide +kernel
theorem dX0_obstacle_40 : decode cX0_obstacle 40 = .ok (.istore 6, 2) := by decide +kernel
theorem dX0_obstacle_42 : decode cX0_obstacle 42 = .ok (.iload 6, 2) := by decide +kernel
theorem dX0_obstacle_44 : decode cX0_obstacle 44 = .ok (.aload_n 0, 1) := by decide +kernel
theorem dX0_obstacle_45 : decode cX0_obstacle 45 = .ok (.getfield 38, 3) := by decide +kernel
theorem dX0_obstacle_48 : decode cX0_obstacle 48 = .ok (.if_icmp .ge 67, 3) := by decide +kernel
theorem dX0_obstacle_51 : decode cX0_obstacle 51 = .ok (.aload_n 0, 1) := by decide +kernel
theorem dX0_obstacle_52 : decode cX0_obstacle 52 = .ok (.iload 6, 2) := by decide +kernel
theorem dX0_obstacle_54 : decode cX0_obstacle 54 = .ok (.iload_n 1, 1) := by decide +kernel
theorem dX0_obstacle_55 : decode cX0_obstacle 55 = .ok (.iload_n 2, 1) := by decide +kernel
theorem dX0_obstacle_56 : decode cX0_obstacle 56 = .ok (.iload_n 2, 1) := by decide +kernel
theorem dX0_obstacle_57 : decode cX0_obstacle 57 = .ok (.iload_n 3, 1) := by decide +kernel
theorem dX0_obstacle_58 : decode cX0_obstacle 58 = .ok (.iadd, 1) := by decide +kernel
theorem dX0_obstacle_59 : decode cX0_obstacle 59 = .ok (.iconst 1, 1) := by decide +kernel
theorem dX0_obstacle_60 : decode cX0_obstacle 60 = .ok (.isub, 1) := by decide +kernel
theorem dX0_obstacle_61 : decode cX0_obstacle 61 = .ok (.iload 4, 2) := by decide +kernel
theorem dX0_obstacle_63 : decode cX0_obstacle 63 = .ok (.invokevirtual 81, 3) := by decide +kernel
theorem dX0_obstacle_66 : decode cX0_obstacle 66 = .ok (.ifCond .eq 43, 3) := by decide +kernel
theorem dX0_obstacle_69 : decode cX0_obstacle 69 = .ok (.aload_n 0, 1) := by decide +kernel
theorem dX0_obstacle_70 : decode cX0_obstacle 70 = .ok (.getfield 13, 3) := by decide +kernel
theorem dX0_obstacle_73 : decode cX0_obstacle 73 = .ok (.iload 6, 2) := by decide +kernel
theorem dX0_obstacle_75 : decode cX0_obstacle 75 = .ok (.iaload, 1) := by decide +kernel
theorem dX0_obstacle_76 : decode cX0_obstacle 76 = .ok (.iload_n 2, 1) := by decide +kernel
theorem dX0_obstacle_77 : decode cX0_obstacle 77 = .ok (.if_icmp .le 13, 3) := by decide +kernel
theorem dX0_obstacle_80 : decode cX0_obstacle 80 = .ok (.aload_n 0, 1) := by decide +kernel
theorem dX0_obstacle_81 : decode cX0_obstacle 81 = .ok (.getfield 13, 3) := by decide +kernel
theorem dX0_obstacle_84 : decode cX0_obstacle 84 = .ok (.iload 6, 2) := by decide +kernel
theorem dX0_obstacle_86 : decode cX0_obstacle 86 = .ok (.iaload, 1) := by decide +kernel
theorem dX0_obstacle_87 : decode cX0_obstacle 87 = .ok (.goto 4, 3) := by decide +kernel
theorem dX0_obstacle_90 : decode cX0_obstacle 90 = .ok (.iload_n 2, 1) := by decide +kernel
theorem dX0_obstacle_91 : decode cX0_obstacle 91 = .ok (.istore 7, 2) := by decide +kernel
theorem dX0_obstacle_93 : decode cX0_obstacle 93 = .ok (.iload 7, 2) := by decide +kernel
theorem dX0_obstacle_95 : decode cX0_obstacle 95 = .ok (.iload 5, 2) := by decide +kernel
theorem dX0_obstacle_97 : decode cX0_obstacle 97 = .ok (.if_icmp .ge 8, 3) := by decide +kernel
theorem dX0_obstacle_100 : decode cX0_obstacle 100 = .ok (.iload 7, 2) := by decide +kernel
theorem dX0_obstacle_102 : decode cX0_obstacle 102 = .ok (.goto 5, 3) := by decide +kernel
theorem dX0_obstacle_105 : decode cX0_obstacle 105 = .ok (.iload 5, 2) := by decide +kernel
theorem dX0_obstacle_107 : decode cX0_obstacle 107 = .ok (.istore 5, 2) := by decide +kernel
theorem dX0_obstacle_109 : decode cX0_obstacle 109 = .ok (.iinc 6 1, 3) := by decide +kernel
theorem dX0_obstacle_112 : decode cX0_obstacle 112 = .ok (.goto (-70), 3) := by decide +kernel
theorem dX0_obstacle_115 : decode cX0_obstacle 115 = .ok (.iload 5, 2) := by decide +kernel
theorem dX0_obstacle_117 : decode cX0_obstacle 117 = .ok (.bipush 40, 2) := by decide +kernel
theorem dX0_obstacle_119 : decode cX0_obstacle 119 = .ok (.if_icmp .ne 8, 3) := by decide +kernel
theorem dX0_obstacle_122 : decode cX0_obstacle 122 = .ok (.bipush (-4), 2) := by decide +kernel
theorem dX0_obstacle_124 : decode cX0_obstacle 124 = .ok (.goto 5, 3) := by decide +kernel
theorem dX0_obstacle_127 : decode cX0_obstacle 127 = .ok (.iload 5, 2) := by decide +kernel
theorem dX0_obstacle_129 : decode cX0_obstacle 129 = .ok (.ireturn, 1) := by decide +kernel
theorem dX0_wouldCircle_0 : decode cX0_wouldCircle 0 = .ok (.aload_n 0, 1) := by decide +kernel
theorem dX0_wouldCircle_1 : decode cX0_wouldCircle 1 = .ok (.iload_n 1, 1) := by decide +kernel
theorem dX0_wouldCircle_2 : decode cX0_wouldCircle 2 = .ok (.iload_n 2, 1) := by decide +kernel
theorem dX0_wouldCircle_3 : decode cX0_wouldCircle 3 = .ok (.iload_n 3, 1) := by decide +kernel
theorem dX0_wouldCircle_4 : decode cX0_wouldCircle 4 = .ok (.iload 4, 2) := by decide +kernel
theorem dX0_wouldCircle_6 : decode cX0_wouldCircle 6 = .ok (.iconst 1, 1) := by decide +kernel
theorem dX0_wouldCircle_7 : decode cX0_wouldCircle 7 = .ok (.invokevirtual 42, 3) := by decide +kernel
theorem dX0_wouldCircle_10 : decode cX0_wouldCircle 10 = .ok (.istore 5, 2) := by decide +kernel
theorem dX0_wouldCircle_12 : decode cX0_wouldCircle 12 = .ok (.iload 5, 2) := by decide +kernel
theorem dX0_wouldCircle_14 : decode cX0_wouldCircle 14 = .ok (.ifCond .ge 5, 3) := by decide +kernel
theorem dX0_wouldCircle_17 : decode cX0_wouldCircle 17 = .ok (.iconst 0, 1) := by decide +kernel
theorem dX0_wouldCircle_18 : decode cX0_wouldCircle 18 = .ok (.ireturn, 1) := by decide +kernel
theorem dX0_wouldCircle_19 : decode cX0_wouldCircle 19 = .ok (.aload_n 0, 1) := by decide +kernel
theorem dX0_wouldCircle_20 : decode cX0_wouldCircle 20 = .ok (.iload_n 1, 1) := by decide +kernel
theorem dX0_wouldCircle_21 : decode cX0_wouldCircle 21 = .ok (.iload_n 2, 1) := by decide +kernel
theorem dX0_wouldCircle_22 : decode cX0_wouldCircle 22 = .ok (.iload_n 2, 1) := by decide +kernel
theorem dX0_wouldCircle_23 : decode cX0_wouldCircle 23 = .ok (.iload_n 3, 1) := by decide +kernel
theorem dX0_wouldCircle_24 : decode cX0_wouldCircle 24 = .ok (.iadd, 1) := by decide +kernel
theorem dX0_wouldCircle_25 : decode cX0_wouldCircle 25 = .ok (.iconst 1, 1) := by decide +kernel
theorem dX0_wouldCircle_26 : decode cX0_wouldCircle 26 = .ok (.isub, 1) := by decide +kernel
theorem dX0_wouldCircle_27 : decode cX0_wouldCircle 27 = .ok (.iload 4, 2) := by decide +kernel
theorem dX0_wouldCircle_29 : decode cX0_wouldCircle 29 = .ok (.invokevirtual 46, 3) := by decide +kernel
theorem dX0_wouldCircle_32 : decode cX0_wouldCircle 32 = .ok (.istore 6, 2) := by decide +kernel
theorem dX0_wouldCircle_34 : decode cX0_wouldCircle 34 = .ok (.iload 6, 2) := by decide +kernel
theorem dX0_wouldCircle_36 : decode cX0_wouldCircle 36 = .ok (.ifCond .eq 17, 3) := by decide +kernel
theorem dX0_wouldCircle_39 : decode cX0_wouldCircle 39 = .ok (.aload_n 0, 1) := by decide +kernel
theorem dX0_wouldCircle_40 : decode cX0_wouldCircle 40 = .ok (.iload 6, 2) := by decide +kernel
theorem dX0_wouldCircle_42 : decode cX0_wouldCircle 42 = .ok (.iload_n 1, 1) := by decide +kernel
theorem dX0_wouldCircle_43 : decode cX0_wouldCircle 43 = .ok (.invokevirtual 58, 3) := by decide +kernel
theorem dX0_wouldCircle_46 : decode cX0_wouldCircle 46 = .ok (.ifCond .eq 7, 3) := by decide +kernel
theorem dX0_wouldCircle_49 : decode cX0_wouldCircle 49 = .ok (.iconst 1, 1) := by decide +kernel
theorem dX0_wouldCircle_50 : decode cX0_wouldCircle 50 = .ok (.goto 4, 3) := by decide +kernel
theorem dX0_wouldCircle_53 : decode cX0_wouldCircle 53 = .ok (.iconst 0, 1) := by decide +kernel
theorem dX0_wouldCircle_54 : decode cX0_wouldCircle 54 = .ok (.ireturn, 1) := by decide +kernel
theorem dX0_waiting_0 : decode cX0_waiting 0 = .ok (.iload_n 1, 1) := by decide +kernel
theorem dX0_waiting_1 : decode cX0_waiting 1 = .ok (.invokestatic 65, 3) := by decide +kernel
theorem dX0_waiting_4 : decode cX0_waiting 4 = .ok (.ifCond .ne 5, 3) := by decide +kernel
theorem dX0_waiting_7 : decode cX0_waiting 7 = .ok (.iconst (-1), 1) := by decide +kernel
theorem dX0_waiting_8 : decode cX0_waiting 8 = .ok (.ireturn, 1) := by decide +kernel
theorem dX0_waiting_9 : decode cX0_waiting 9 = .ok (.aload_n 0, 1) := by decide +kernel
theorem dX0_waiting_10 : decode cX0_waiting 10 = .ok (.getfield 22, 3) := by decide +kernel
theorem dX0_waiting_13 : decode cX0_waiting 13 = .ok (.iload_n 1, 1) := by decide +kernel
theorem dX0_waiting_14 : decode cX0_waiting 14 = .ok (.baload, 1) := by decide +kernel
theorem dX0_waiting_15 : decode cX0_waiting 15 = .ok (.ifCond .eq 7, 3) := by decide +kernel
theorem dX0_waiting_18 : decode cX0_waiting 18 = .ok (.iconst 1, 1) := by decide +kernel
theorem dX0_waiting_19 : decode cX0_waiting 19 = .ok (.goto 4, 3) := by decide +kernel
theorem dX0_waiting_22 : decode cX0_waiting 22 = .ok (.iconst 0, 1) := by decide +kernel
theorem dX0_waiting_23 : decode cX0_waiting 23 = .ok (.ireturn, 1) := by decide +kernel
theorem dX0_waitsFor_0 : decode cX0_waitsFor 0 = .ok (.iload_n 1, 1) := by decide +kernel
theorem dX0_waitsFor_1 : decode cX0_waitsFor 1 = .ok (.invokestatic 65, 3) := by decide +kernel
theorem dX0_waitsFor_4 : decode cX0_waitsFor 4 = .ok (.ifCond .eq 11, 3) := by decide +kernel
theorem dX0_waitsFor_7 : decode cX0_waitsFor 7 = .ok (.aload_n 0, 1) := by decide +kernel
theorem dX0_waitsFor_8 : decode cX0_waitsFor 8 = .ok (.iload_n 1, 1) := by decide +kernel
theorem dX0_waitsFor_9 : decode cX0_waitsFor 9 = .ok (.invokevirtual 85, 3) := by decide +kernel
theorem dX0_waitsFor_12 : decode cX0_waitsFor 12 = .ok (.goto 4, 3) := by decide +kernel
theorem dX0_waitsFor_15 : decode cX0_waitsFor 15 = .ok (.iconst (-1), 1) := by decide +kernel
theorem dX0_waitsFor_16 : decode cX0_waitsFor 16 = .ok (.ireturn, 1) := by decide +kernel
theorem dX0_ahead_0 : decode cX0_ahead 0 = .ok (.iload_n 1, 1) := by decide +kernel
theorem dX0_ahead_1 : decode cX0_ahead 1 = .ok (.invokestatic 65, 3) := by decide +kernel
theorem dX0_ahead_4 : decode cX0_ahead 4 = .ok (.ifCond .ne 5, 3) := by decide +kernel
theorem dX0_ahead_7 : decode cX0_ahead 7 = .ok (.iconst (-1), 1) := by decide +kernel
theorem dX0_ahead_8 : decode cX0_ahead 8 = .ok (.ireturn, 1) := by decide +kernel
theorem dX0_ahead_9 : decode cX0_ahead 9 = .ok (.aload_n 0, 1) := by decide +kernel
theorem dX0_ahead_10 : decode cX0_ahead 10 = .ok (.getfield 22, 3) := by decide +kernel
theorem dX0_ahead_13 : decode cX0_ahead 13 = .ok (.iload_n 1, 1) := by decide +kernel
theorem dX0_ahead_14 : decode cX0_ahead 14 = .ok (.baload, 1) := by decide +kernel
theorem dX0_ahead_15 : decode cX0_ahead 15 = .ok (.ifCond .ne 6, 3) := by decide +kernel
theorem dX0_ahead_18 : decode cX0_ahead 18 = .ok (.bipush (-2), 2) := by decide +kernel
theorem dX0_ahead_20 : decode cX0_ahead 20 = .ok (.ireturn, 1) := by decide +kernel
theorem dX0_ahead_21 : decode cX0_ahead 21 = .ok (.iconst 0, 1) := by decide +kernel
theorem dX0_ahead_22 : decode cX0_ahead 22 = .ok (.istore_n 2, 1) := by decide +kernel
theorem dX0_ahead_23 : decode cX0_ahead 23 = .ok (.iconst 0, 1) := by decide +kernel
theorem dX0_ahead_24 : decode cX0_ahead 24 = .ok (.istore_n 3, 1) := by decide +kernel
theorem dX0_ahead_25 : decode cX0_ahead 25 = .ok (.iload_n 3, 1) := by decide +kernel
theorem dX0_ahead_26 : decode cX0_ahead 26 = .ok (.iconst 5, 1) := by decide +kernel
theorem dX0_ahead_27 : decode cX0_ahead 27 = .ok (.if_icmp .ge 41, 3) := by decide +kernel
theorem dX0_ahead_30 : decode cX0_ahead 30 = .ok (.iload_n 2, 1) := by decide +kernel
theorem dX0_ahead_31 : decode cX0_ahead 31 = .ok (.aload_n 0, 1) := by decide +kernel
theorem dX0_ahead_32 : decode cX0_ahead 32 = .ok (.getfield 22, 3) := by decide +kernel
theorem dX0_ahead_35 : decode cX0_ahead 35 = .ok (.iload_n 3, 1) := by decide +kernel
theorem dX0_ahead_36 : decode cX0_ahead 36 = .ok (.baload, 1) := by decide +kernel
theorem dX0_ahead_37 : decode cX0_ahead 37 = .ok (.ifCond .eq 22, 3) := by decide +kernel
theorem dX0_ahead_40 : decode cX0_ahead 40 = .ok (.aload_n 0, 1) := by decide +kernel
theorem dX0_ahead_41 : decode cX0_ahead 41 = .ok (.getfield 35, 3) := by decide +kernel
theorem dX0_ahead_44 : decode cX0_ahead 44 = .ok (.iload_n 3, 1) := by decide +kernel
theorem dX0_ahead_45 : decode cX0_ahead 45 = .ok (.iaload, 1) := by decide +kernel
theorem dX0_ahead_46 : decode cX0_ahead 46 = .ok (.aload_n 0, 1) := by decide +kernel
theorem dX0_ahead_47 : decode cX0_ahead 47 = .ok (.getfield 35, 3) := by decide +kernel
theorem dX0_ahead_50 : decode cX0_ahead 50 = .ok (.iload_n 1, 1) := by decide +kernel
theorem dX0_ahead_51 : decode cX0_ahead 51 = .ok (.iaload, 1) := by decide +kernel
theorem dX0_ahead_52 : decode cX0_ahead 52 = .ok (.if_icmp .ge 7, 3) := by decide +kernel
theorem dX0_ahead_55 : decode cX0_ahead 55 = .ok (.iconst 1, 1) := by decide +kernel
theorem dX0_ahead_56 : decode cX0_ahead 56 = .ok (.goto 4, 3) := by decide +kernel
theorem dX0_ahead_59 : decode cX0_ahead 59 = .ok (.iconst 0, 1) := by decide +kernel
theorem dX0_ahead_60 : decode cX0_ahead 60 = .ok (.iadd, 1) := by decide +kernel
theorem dX0_ahead_61 : decode cX0_ahead 61 = .ok (.istore_n 2, 1) := by decide +kernel
theorem dX0_ahead_62 : decode cX0_ahead 62 = .ok (.iinc 3 1, 3) := by decide +kernel
theorem dX0_ahead_65 : decode cX0_ahead 65 = .ok (.goto (-40), 3) := by decide +kernel
theorem dX0_ahead_68 : decode cX0_ahead 68 = .ok (.iload_n 2, 1) := by decide +kernel
theorem dX0_ahead_69 : decode cX0_ahead 69 = .ok (.ireturn, 1) := by decide +kernel
theorem dX0_pieces_0 : decode cX0_pieces 0 = .ok (.iload_n 1, 1) := by decide +kernel
theorem dX0_pieces_1 : decode cX0_pieces 1 = .ok (.invokestatic 65, 3) := by decide +kernel
theorem dX0_pieces_4 : decode cX0_pieces 4 = .ok (.ifCond .eq 19, 3) := by decide +kernel
theorem dX0_pieces_7 : decode cX0_pieces 7 = .ok (.aload_n 0, 1) := by decide +kernel
theorem dX0_pieces_8 : decode cX0_pieces 8 = .ok (.iload_n 1, 1) := by decide +kernel
theorem dX0_pieces_9 : decode cX0_pieces 9 = .ok (.iconst 1, 1) := by decide +kernel
theorem dX0_pieces_10 : decode cX0_pieces 10 = .ok (.iadd, 1) := by decide +kernel
theorem dX0_pieces_11 : decode cX0_pieces 11 = .ok (.invokevirtual 89, 3) := by decide +kernel
theorem dX0_pieces_14 : decode cX0_pieces 14 = .ok (.aload_n 0, 1) := by decide +kernel
theorem dX0_pieces_15 : decode cX0_pieces 15 = .ok (.iload_n 1, 1) := by decide +kernel
theorem dX0_pieces_16 : decode cX0_pieces 16 = .ok (.invokevirtual 89, 3) := by decide +kernel
theorem dX0_pieces_19 : decode cX0_pieces 19 = .ok (.isub, 1) := by decide +kernel
theorem dX0_pieces_20 : decode cX0_pieces 20 = .ok (.goto 4, 3) := by decide +kernel
theorem dX0_pieces_23 : decode cX0_pieces 23 = .ok (.iconst (-1), 1) := by decide +kernel
theorem dX0_pieces_24 : decode cX0_pieces 24 = .ok (.ireturn, 1) := by decide +kernel
theorem dX0_pieceStart_0 : decode cX0_pieceStart 0 = .ok (.aload_n 0, 1) := by decide +kernel
theorem dX0_pieceStart_1 : decode cX0_pieceStart 1 = .ok (.iload_n 1, 1) := by decide +kernel
theorem dX0_pieceStart_2 : decode cX0_pieceStart 2 = .ok (.iload_n 2, 1) := by decide +kernel
theorem dX0_pieceStart_3 : decode cX0_pieceStart 3 = .ok (.invokevirtual 92, 3) := by decide +kernel
theorem dX0_pieceStart_6 : decode cX0_pieceStart 6 = .ok (.istore_n 3, 1) := by decide +kernel
theorem dX0_pieceStart_7 : decode cX0_pieceStart 7 = .ok (.iload_n 3, 1) := by decide +kernel
theorem dX0_pieceStart_8 : decode cX0_pieceStart 8 = .ok (.ifCond .ge 7, 3) := by decide +kernel
theorem dX0_pieceStart_11 : decode cX0_pieceStart 11 = .ok (.iload_n 3, 1) := by decide +kernel
theorem dX0_pieceStart_12 : decode cX0_pieceStart 12 = .ok (.goto 9, 3) := by decide +kernel
theorem dX0_pieceStart_15 : decode cX0_pieceStart 15 = .ok (.aload_n 0, 1) := by decide +kernel
theorem dX0_pieceStart_16 : decode cX0_pieceStart 16 = .ok (.getfield 13, 3) := by decide +kernel
theorem dX0_pieceStart_19 : decode cX0_pieceStart 19 = .ok (.iload_n 3, 1) := by decide +kernel
theorem dX0_pieceStart_20 : decode cX0_pieceStart 20 = .ok (.iaload, 1) := by decide +kernel
theorem dX0_pieceStart_21 : decode cX0_pieceStart 21 = .ok (.ireturn, 1) := by decide +kernel
theorem dX0_find_0 : decode cX0_find 0 = .ok (.iload_n 1, 1) := by decide +kernel
theorem dX0_find_1 : decode cX0_find 1 = .ok (.invokestatic 65, 3) := by decide +kernel
theorem dX0_find_4 : decode cX0_find 4 = .ok (.ifCond .ne 5, 3) := by decide +kernel
theorem dX0_find_7 : decode cX0_find 7 = .ok (.iconst (-1), 1) := by decide +kernel
theorem dX0_find_8 : decode cX0_find 8 = .ok (.ireturn, 1) := by decide +kernel
theorem dX0_find_9 : decode cX0_find 9 = .ok (.aload_n 0, 1) := by decide +kernel
theorem dX0_find_10 : decode cX0_find 10 = .ok (.iload_n 1, 1) := by decide +kernel
theorem dX0_find_11 : decode cX0_find 11 = .ok (.invokevirtual 89, 3) := by decide +kernel
theorem dX0_find_14 : decode cX0_find 14 = .ok (.istore_n 3, 1) := by decide +kernel
theorem dX0_find_15 : decode cX0_find 15 = .ok (.aload_n 0, 1) := by decide +kernel
theorem dX0_find_16 : decode cX0_find 16 = .ok (.iload_n 1, 1) := by decide +kernel
theorem dX0_find_17 : decode cX0_find 17 = .ok (.iconst 1, 1) := by decide +kernel
theorem dX0_find_18 : decode cX0_find 18 = .ok (.iadd, 1) := by decide +kernel
theorem dX0_find_19 : decode cX0_find 19 = .ok (.invokevirtual 89, 3) := by decide +kernel
theorem dX0_find_22 : decode cX0_find 22 = .ok (.iload_n 3, 1) := by decide +kernel
theorem dX0_find_23 : decode cX0_find 23 = .ok (.isub, 1) := by decide +kernel
theorem dX0_find_24 : decode cX0_find 24 = .ok (.istore 4, 2) := by decide +kernel
theorem dX0_find_26 : decode cX0_find 26 = .ok (.iload_n 2, 1) := by decide +kernel
theorem dX0_find_27 : decode cX0_find 27 = .ok (.ifCond .lt 9, 3) := by decide +kernel
theorem dX0_find_30 : decode cX0_find 30 = .ok (.iload_n 2, 1) := by decide +kernel
theorem dX0_find_31 : decode cX0_find 31 = .ok (.iload 4, 2) := by decide +kernel
theorem dX0_find_33 : decode cX0_find 33 = .ok (.if_icmp .lt 8, 3) := by decide +kernel
theorem dX0_find_36 : decode cX0_find 36 = .ok (.bipush (-2), 2) := by decide +kernel
theorem dX0_find_38 : decode cX0_find 38 = .ok (.goto 6, 3) := by decide +kernel
theorem dX0_find_41 : decode cX0_find 41 = .ok (.iload_n 3, 1) := by decide +kernel
theorem dX0_find_42 : decode cX0_find 42 = .ok (.iload_n 2, 1) := by decide +kernel
theorem dX0_find_43 : decode cX0_find 43 = .ok (.iadd, 1) := by decide +kernel
theorem dX0_find_44 : decode cX0_find 44 = .ok (.ireturn, 1) := by decide +kernel
theorem dX0_pieceEnd_0 : decode cX0_pieceEnd 0 = .ok (.aload_n 0, 1) := by decide +kernel
theorem dX0_pieceEnd_1 : decode cX0_pieceEnd 1 = .ok (.iload_n 1, 1) := by decide +kernel
theorem dX0_pieceEnd_2 : decode cX0_pieceEnd 2 = .ok (.iload_n 2, 1) := by decide +kernel
theorem dX0_pieceEnd_3 : decode cX0_pieceEnd 3 = .ok (.invokevirtual 92, 3) := by decide +kernel
theorem dX0_pieceEnd_6 : decode cX0_pieceEnd 6 = .ok (.istore_n 3, 1) := by decide +kernel
theorem dX0_pieceEnd_7 : decode cX0_pieceEnd 7 = .ok (.iload_n 3, 1) := by decide +kernel
theorem dX0_pieceEnd_8 : decode cX0_pieceEnd 8 = .ok (.ifCond .ge 7, 3) := by decide +kernel
theorem dX0_pieceEnd_11 : decode cX0_pieceEnd 11 = .ok (.iload_n 3, 1) := by decide +kernel
theorem dX0_pieceEnd_12 : decode cX0_pieceEnd 12 = .ok (.goto 9, 3) := by decide +kernel
theorem dX0_pieceEnd_15 : decode cX0_pieceEnd 15 = .ok (.aload_n 0, 1) := by decide +kernel
theorem dX0_pieceEnd_16 : decode cX0_pieceEnd 16 = .ok (.getfield 16, 3) := by decide +kernel
theorem dX0_pieceEnd_19 : decode cX0_pieceEnd 19 = .ok (.iload_n 3, 1) := by decide +kernel
theorem dX0_pieceEnd_20 : decode cX0_pieceEnd 20 = .ok (.iaload, 1) := by decide +kernel
theorem dX0_pieceEnd_21 : decode cX0_pieceEnd 21 = .ok (.ireturn, 1) := by decide +kernel
theorem dX0_pieceType_0 : decode cX0_pieceType 0 = .ok (.aload_n 0, 1) := by decide +kernel
theorem dX0_pieceType_1 : decode cX0_pieceType 1 = .ok (.iload_n 1, 1) := by decide +kernel
theorem dX0_pieceType_2 : decode cX0_pieceType 2 = .ok (.iload_n 2, 1) := by decide +kernel
theorem dX0_pieceType_3 : decode cX0_pieceType 3 = .ok (.invokevirtual 92, 3) := by decide +kernel
theorem dX0_pieceType_6 : decode cX0_pieceType 6 = .ok (.istore_n 3, 1) := by decide +kernel
theorem dX0_pieceType_7 : decode cX0_pieceType 7 = .ok (.iload_n 3, 1) := by decide +kernel
theorem dX0_pieceType_8 : decode cX0_pieceType 8 = .ok (.ifCond .ge 7, 3) := by decide +kernel
theorem dX0_pieceType_11 : decode cX0_pieceType 11 = .ok (.iload_n 3, 1) := by decide +kernel
theorem dX0_pieceType_12 : decode cX0_pieceType 12 = .ok (.goto 9, 3) := by decide +kernel
theorem dX0_pieceType_15 : decode cX0_pieceType 15 = .ok (.aload_n 0, 1) := by decide +kernel
theorem dX0_pieceType_16 : decode cX0_pieceType 16 = .ok (.getfield 19, 3) := by decide +kernel
theorem dX0_pieceType_19 : decode cX0_pieceType 19 = .ok (.iload_n 3, 1) := by decide +kernel
theorem dX0_pieceType_20 : decode cX0_pieceType 20 = .ok (.iaload, 1) := by decide +kernel
theorem dX0_pieceType_21 : decode cX0_pieceType 21 = .ok (.ireturn, 1) := by decide +kernel
theorem dX0_free_0 : decode cX0_free 0 = .ok (.lconst 0, 1) := by decide +kernel
theorem dX0_free_1 : decode cX0_free 1 = .ok (.lstore_n 1, 1) := by decide +kernel
theorem dX0_free_2 : decode cX0_free 2 = .ok (.iconst 0, 1) := by decide +kernel
theorem dX0_free_3 : decode cX0_free 3 = .ok (.istore_n 3, 1) := by decide +kernel
theorem dX0_free_4 : decode cX0_free 4 = .ok (.iload_n 3, 1) := by decide +kernel
theorem dX0_free_5 : decode cX0_free 5 = .ok (.aload_n 0, 1) := by decide +kernel
theorem dX0_free_6 : decode cX0_free 6 = .ok (.getfield 38, 3) := by decide +kernel
theorem dX0_free_9 : decode cX0_free 9 = .ok (.if_icmp .ge 41, 3) := by decide +kernel
theorem dX0_free_12 : decode cX0_free 12 = .ok (.aload_n 0, 1) := by decide +kernel
theorem dX0_free_13 : decode cX0_free 13 = .ok (.getfield 13, 3) := by decide +kernel
theorem dX0_free_16 : decode cX0_free 16 = .ok (.iload_n 3, 1) := by decide +kernel
theorem dX0_free_17 : decode cX0_free 17 = .ok (.iaload, 1) := by decide +kernel
theorem dX0_free_18 : decode cX0_free 18 = .ok (.istore 4, 2) := by decide +kernel
theorem dX0_free_20 : decode cX0_free 20 = .ok (.iload 4, 2) := by decide +kernel
theorem dX0_free_22 : decode cX0_free 22 = .ok (.aload_n 0, 1) := by decide +kernel
theorem dX0_free_23 : decode cX0_free 23 = .ok (.getfield 16, 3) := by decide +kernel
theorem dX0_free_26 : decode cX0_free 26 = .ok (.iload_n 3, 1) := by decide +kernel
theorem dX0_free_27 : decode cX0_free 27 = .ok (.iaload, 1) := by decide +kernel
theorem dX0_free_28 : decode cX0_free 28 = .ok (.if_icmp .gt 16, 3) := by decide +kernel
theorem dX0_free_31 : decode cX0_free 31 = .ok (.lload_n 1, 1) := by decide +kernel
theorem dX0_free_32 : decode cX0_free 32 = .ok (.lconst 1, 1) := by decide +kernel
theorem dX0_free_33 : decode cX0_free 33 = .ok (.iload 4, 2) := by decide +kernel
theorem dX0_free_35 : decode cX0_free 35 = .ok (.lshl, 1) := by decide +kernel
theorem dX0_free_36 : decode cX0_free 36 = .ok (.lor, 1) := by decide +kernel
theorem dX0_free_37 : decode cX0_free 37 = .ok (.lstore_n 1, 1) := by decide +kernel
theorem dX0_free_38 : decode cX0_free 38 = .ok (.iinc 4 1, 3) := by decide +kernel
theorem dX0_free_41 : decode cX0_free 41 = .ok (.goto (-21), 3) := by decide +kernel
theorem dX0_free_44 : decode cX0_free 44 = .ok (.iinc 3 1, 3) := by decide +kernel
theorem dX0_free_47 : decode cX0_free 47 = .ok (.goto (-43), 3) := by decide +kernel
theorem dX0_free_50 : decode cX0_free 50 = .ok (.iconst 0, 1) := by decide +kernel
theorem dX0_free_51 : decode cX0_free 51 = .ok (.istore_n 3, 1) := by decide +kernel
theorem dX0_free_52 : decode cX0_free 52 = .ok (.iconst 0, 1) := by decide +kernel
theorem dX0_free_53 : decode cX0_free 53 = .ok (.istore 4, 2) := by decide +kernel
theorem dX0_free_55 : decode cX0_free 55 = .ok (.iload 4, 2) := by decide +kernel
theorem dX0_free_57 : decode cX0_free 57 = .ok (.bipush 40, 2) := by decide +kernel
theorem dX0_free_59 : decode cX0_free 59 = .ok (.if_icmp .ge 28, 3) := by decide +kernel
theorem dX0_free_62 : decode cX0_free 62 = .ok (.iload_n 3, 1) := by decide +kernel
theorem dX0_free_63 : decode cX0_free 63 = .ok (.lload_n 1, 1) := by decide +kernel
theorem dX0_free_64 : decode cX0_free 64 = .ok (.iload 4, 2) := by decide +kernel
theorem dX0_free_66 : decode cX0_free 66 = .ok (.lushr, 1) := by decide +kernel
theorem dX0_free_67 : decode cX0_free 67 = .ok (.lconst 1, 1) := by decide +kernel
theorem dX0_free_68 : decode cX0_free 68 = .ok (.land, 1) := by decide +kernel
theorem dX0_free_69 : decode cX0_free 69 = .ok (.lconst 0, 1) := by decide +kernel
theorem dX0_free_70 : decode cX0_free 70 = .ok (.lcmp, 1) := by decide +kernel
theorem dX0_free_71 : decode cX0_free 71 = .ok (.ifCond .ne 7, 3) := by decide +kernel
theorem dX0_free_74 : decode cX0_free 74 = .ok (.iconst 1, 1) := by decide +kernel
theorem dX0_free_75 : decode cX0_free 75 = .ok (.goto 4, 3) := by decide +kernel
theorem dX0_free_78 : decode cX0_free 78 = .ok (.iconst 0, 1) := by decide +kernel
theorem dX0_free_79 : decode cX0_free 79 = .ok (.iadd, 1) := by decide +kernel
theorem dX0_free_80 : decode cX0_free 80 = .ok (.istore_n 3, 1) := by decide +kernel
theorem dX0_free_81 : decode cX0_free 81 = .ok (.iinc 4 1, 3) := by decide +kernel
theorem dX0_free_84 : decode cX0_free 84 = .ok (.goto (-29), 3) := by decide +kernel
theorem dX0_free_87 : decode cX0_free 87 = .ok (.iload_n 3, 1) := by decide +kernel
theorem dX0_free_88 : decode cX0_free 88 = .ok (.ireturn, 1) := by decide +kernel
end
section
set_option maxRecDepth 100000
theorem dX1_init_0 : decode cX1_init 0 = .ok (.aload_n 0, 1) := by decide +kernel
theorem dX1_init_1 : decode cX1_init 1 = .ok (.invokespecial 1, 3) := by decide +kernel
theorem dX1_init_4 : decode cX1_init 4 = .ok (.aload_n 0, 1) := by decide +kernel
theorem dX1_init_5 : decode cX1_init 5 = .ok (.sipush 200, 3) := by decide +kernel
theorem dX1_init_8 : decode cX1_init 8 = .ok (.newarray .int, 2) := by decide +kernel
theorem dX1_init_10 : decode cX1_init 10 = .ok (.putfield 7, 3) := by decide +kernel
theorem dX1_init_13 : decode cX1_init 13 = .ok (.aload_n 0, 1) := by decide +kernel
theorem dX1_init_14 : decode cX1_init 14 = .ok (.bipush 8, 2) := by decide +kernel
theorem dX1_init_16 : decode cX1_init 16 = .ok (.newarray .int, 2) := by decide +kernel
theorem dX1_init_18 : decode cX1_init 18 = .ok (.putfield 13, 3) := by decide +kernel
theorem dX1_init_21 : decode cX1_init 21 = .ok (.aload_n 0, 1) := by decide +kernel
theorem dX1_init_22 : decode cX1_init 22 = .ok (.bipush 8, 2) := by decide +kernel
theorem dX1_init_24 : decode cX1_init 24 = .ok (.newarray .int, 2) := by decide +kernel
theorem dX1_init_26 : decode cX1_init 26 = .ok (.putfield 16, 3) := by decide +kernel
theorem dX1_init_29 : decode cX1_init 29 = .ok (.aload_n 0, 1) := by decide +kernel
theorem dX1_init_30 : decode cX1_init 30 = .ok (.bipush 8, 2) := by decide +kernel
theorem dX1_init_32 : decode cX1_init 32 = .ok (.newarray .int, 2) := by decide +kernel
theorem dX1_init_34 : decode cX1_init 34 = .ok (.putfield 19, 3) := by decide +kernel
theorem dX1_init_37 : decode cX1_init 37 = .ok (.aload_n 0, 1) := by decide +kernel
theorem dX1_init_38 : decode cX1_init 38 = .ok (.bipush 8, 2) := by decide +kernel
theorem dX1_init_40 : decode cX1_init 40 = .ok (.newarray .int, 2) := by decide +kernel
theorem dX1_init_42 : decode cX1_init 42 = .ok (.putfield 22, 3) := by decide +kernel
theorem dX1_init_45 : decode cX1_init 45 = .ok (.aload_n 0, 1) := by decide +kernel
theorem dX1_init_46 : decode cX1_init 46 = .ok (.bipush 8, 2) := by decide +kernel
theorem dX1_init_48 : decode cX1_init 48 = .ok (.newarray .int, 2) := by decide +kernel
theorem dX1_init_50 : decode cX1_init 50 = .ok (.putfield 25, 3) := by decide +kernel
theorem dX1_init_53 : decode cX1_init 53 = .ok (.return_, 1) := by decide +kernel
theorem dX1_lock_0 : decode cX1_lock 0 = .ok (.aload_n 0, 1) := by decide +kernel
theorem dX1_lock_1 : decode cX1_lock 1 = .ok (.iload_n 1, 1) := by decide +kernel
theorem dX1_lock_2 : decode cX1_lock 2 = .ok (.invokevirtual 52, 3) := by decide +kernel
theorem dX1_lock_5 : decode cX1_lock 5 = .ok (.ifCond .eq 5, 3) := by decide +kernel
theorem dX1_lock_8 : decode cX1_lock 8 = .ok (.iconst (-1), 1) := by decide +kernel
theorem dX1_lock_9 : decode cX1_lock 9 = .ok (.ireturn, 1) := by decide +kernel
theorem dX1_lock_10 : decode cX1_lock 10 = .ok (.aload_n 0, 1) := by decide +kernel
theorem dX1_lock_11 : decode cX1_lock 11 = .ok (.iload_n 2, 1) := by decide +kernel
theorem dX1_lock_12 : decode cX1_lock 12 = .ok (.iload_n 3, 1) := by decide +kernel
theorem dX1_lock_13 : decode cX1_lock 13 = .ok (.invokevirtual 56, 3) := by decide +kernel
theorem dX1_lock_16 : decode cX1_lock 16 = .ok (.ifCond .eq 6, 3) := by decide +kernel
theorem dX1_lock_19 : decode cX1_lock 19 = .ok (.bipush (-2), 2) := by decide +kernel
theorem dX1_lock_21 : decode cX1_lock 21 = .ok (.ireturn, 1) := by decide +kernel
theorem dX1_lock_22 : decode cX1_lock 22 = .ok (.iload 4, 2) := by decide +kernel
theorem dX1_lock_24 : decode cX1_lock 24 = .ok (.ifCond .lt 9, 3) := by decide +kernel
theorem dX1_lock_27 : decode cX1_lock 27 = .ok (.iload 4, 2) := by decide +kernel
theorem dX1_lock_29 : decode cX1_lock 29 = .ok (.iconst 2, 1) := by decide +kernel
theorem dX1_lock_30 : decode cX1_lock 30 = .ok (.if_icmp .le 6, 3) := by decide +kernel
theorem dX1_lock_33 : decode cX1_lock 33 = .ok (.bipush (-3), 2) := by decide +kernel
theorem dX1_lock_35 : decode cX1_lock 35 = .ok (.ireturn, 1) := by decide +kernel
theorem dX1_lock_36 : decode cX1_lock 36 = .ok (.aload_n 0, 1) := by decide +kernel
theorem dX1_lock_37 : decode cX1_lock 37 = .ok (.iload_n 1, 1) := by decide +kernel
theorem dX1_lock_38 : decode cX1_lock 38 = .ok (.invokevirtual 59, 3) := by decide +kernel
theorem dX1_lock_41 : decode cX1_lock 41 = .ok (.ifCond .lt 6, 3) := by decide +kernel
theorem dX1_lock_44 : decode cX1_lock 44 = .ok (.bipush (-4), 2) := by decide +kernel
theorem dX1_lock_46 : decode cX1_lock 46 = .ok (.ireturn, 1) := by decide +kernel
theorem dX1_lock_47 : decode cX1_lock 47 = .ok (.aload_n 0, 1) := by decide +kernel
theorem dX1_lock_48 : decode cX1_lock 48 = .ok (.iload_n 1, 1) := by decide +kernel
theorem dX1_lock_49 : decode cX1_lock 49 = .ok (.iload_n 2, 1) := by decide +kernel
theorem dX1_lock_50 : decode cX1_lock 50 = .ok (.iload_n 3, 1) := by decide +kernel
theorem dX1_lock_51 : decode cX1_lock 51 = .ok (.iload 4, 2) := by decide +kernel
theorem dX1_lock_53 : decode cX1_lock 53 = .ok (.invokevirtual 36, 3) := by decide +kernel
theorem dX1_lock_56 : decode cX1_lock 56 = .ok (.ifCond .eq 6, 3) := by decide +kernel
theorem dX1_lock_59 : decode cX1_lock 59 = .ok (.bipush (-5), 2) := by decide +kernel
theorem dX1_lock_61 : decode cX1_lock 61 = .ok (.ireturn, 1) := by decide +kernel
theorem dX1_lock_62 : decode cX1_lock 62 = .ok (.aload_n 0, 1) := by decide +kernel
theorem dX1_lock_63 : decode cX1_lock 63 = .ok (.iload_n 1, 1) := by decide +kernel
theorem dX1_lock_64 : decode cX1_lock 64 = .ok (.iload_n 2, 1) := by decide +kernel
theorem dX1_lock_65 : decode cX1_lock 65 = .ok (.iload_n 3, 1) := by decide +kernel
theorem dX1_lock_66 : decode cX1_lock 66 = .ok (.iload 4, 2) := by decide +kernel
theorem dX1_lock_68 : decode cX1_lock 68 = .ok (.invokevirtual 44, 3) := by decide +kernel
theorem dX1_lock_71 : decode cX1_lock 71 = .ok (.aload_n 0, 1) := by decide +kernel
theorem dX1_lock_72 : decode cX1_lock 72 = .ok (.invokevirtual 63, 3) := by decide +kernel
theorem dX1_lock_75 : decode cX1_lock 75 = .ok (.ireturn, 1) := by decide +kernel
theorem dX1_bad_0 : decode cX1_bad 0 = .ok (.iload_n 1, 1) := by decide +kernel
theorem dX1_bad_1 : decode cX1_bad 1 = .ok (.ifCond .lt 8, 3) := by decide +kernel
theorem dX1_bad_4 : decode cX1_bad 4 = .ok (.iload_n 1, 1) := by decide +kernel
theorem dX1_bad_5 : decode cX1_bad 5 = .ok (.iconst 4, 1) := by decide +kernel
theorem dX1_bad_6 : decode cX1_bad 6 = .ok (.if_icmp .le 7, 3) := by decide +kernel
theorem dX1_bad_9 : decode cX1_bad 9 = .ok (.iconst 1, 1) := by decide +kernel
theorem dX1_bad_10 : decode cX1_bad 10 = .ok (.goto 4, 3) := by decide +kernel
theorem dX1_bad_13 : decode cX1_bad 13 = .ok (.iconst 0, 1) := by decide +kernel
theorem dX1_bad_14 : decode cX1_bad 14 = .ok (.ireturn, 1) := by decide +kernel
theorem dX1_badRange_0 : decode cX1_badRange 0 = .ok (.iload_n 2, 1) := by decide +kernel
theorem dX1_badRange_1 : decode cX1_badRange 1 = .ok (.iconst 1, 1) := by decide +kernel
theorem dX1_badRange_2 : decode cX1_badRange 2 = .ok (.if_icmp .lt 21, 3) := by decide +kernel
theorem dX1_badRange_5 : decode cX1_badRange 5 = .ok (.iload_n 2, 1) := by decide +kernel
theorem dX1_badRange_6 : decode cX1_badRange 6 = .ok (.bipush 40, 2) := by decide +kernel
theorem dX1_badRange_8 : decode cX1_badRange 8 = .ok (.if_icmp .gt 15, 3) := by decide +kernel
theorem dX1_badRange_11 : decode cX1_badRange 11 = .ok (.iload_n 1, 1) := by decide +kernel
theorem dX1_badRange_12 : decode cX1_badRange 12 = .ok (.ifCond .lt 11, 3) := by decide +kernel
theorem dX1_badRange_15 : decode cX1_badRange 15 = .ok (.iload_n 1, 1) := by decide +kernel
theorem dX1_badRange_16 : decode cX1_badRange 16 = .ok (.bipush 40, 2) := by decide +kernel
theorem dX1_badRange_18 : decode cX1_badRange 18 = .ok (.iload_n 2, 1) := by decide +kernel
theorem dX1_badRange_19 : decode cX1_badRange 19 = .ok (.isub, 1) := by decide +kernel
theorem dX1_badRange_20 : decode cX1_badRange 20 = .ok (.if_icmp .le 7, 3) := by decide +kernel
theorem dX1_badRange_23 : decode cX1_badRange 23 = .ok (.iconst 1, 1) := by decide +kernel
theorem dX1_badRange_24 : decode cX1_badRange 24 = .ok (.goto 4, 3) := by decide +kernel
theorem dX1_badRange_27 : decode cX1_badRange 27 = .ok (.iconst 0, 1) := by decide +kernel
theorem dX1_badRange_28 : decode cX1_badRange 28 = .ok (.ireturn, 1) := by decide +kernel
theorem dX1_placeOf_0 : decode cX1_placeOf 0 = .ok (.iconst 0, 1) := by decide +kernel
theorem dX1_placeOf_1 : decode cX1_placeOf 1 = .ok (.istore_n 2, 1) := by decide +kernel
theorem dX1_placeOf_2 : decode cX1_placeOf 2 = .ok (.iload_n 2, 1) := by decide +kernel
theorem dX1_placeOf_3 : decode cX1_placeOf 3 = .ok (.aload_n 0, 1) := by decide +kernel
theorem dX1_placeOf_4 : decode cX1_placeOf 4 = .ok (.getfield 28, 3) := by decide +kernel
theorem dX1_placeOf_7 : decode cX1_placeOf 7 = .ok (.if_icmp .ge 27, 3) := by decide +kernel
theorem dX1_placeOf_10 : decode cX1_placeOf 10 = .ok (.iload_n 2, 1) := by decide +kernel
theorem dX1_placeOf_11 : decode cX1_placeOf 11 = .ok (.bipush 8, 2) := by decide +kernel
theorem dX1_placeOf_13 : decode cX1_placeOf 13 = .ok (.if_icmp .ge 21, 3) := by decide +kernel
theorem dX1_placeOf_16 : decode cX1_placeOf 16 = .ok (.aload_n 0, 1) := by decide +kernel
theorem dX1_placeOf_17 : decode cX1_placeOf 17 = .ok (.getfield 13, 3) := by decide +kernel
theorem dX1_placeOf_20 : decode cX1_placeOf 20 = .ok (.iload_n 2, 1) := by decide +kernel
theorem dX1_placeOf_21 : decode cX1_placeOf 21 = .ok (.iaload, 1) := by decide +kernel
theorem dX1_placeOf_22 : decode cX1_placeOf 22 = .ok (.iload_n 1, 1) := by decide +kernel
theorem dX1_placeOf_23 : decode cX1_placeOf 23 = .ok (.if_icmp .ne 5, 3) := by decide +kernel
theorem dX1_placeOf_26 : decode cX1_placeOf 26 = .ok (.iload_n 2, 1) := by decide +kernel
theorem dX1_placeOf_27 : decode cX1_placeOf 27 = .ok (.ireturn, 1) := by decide +kernel
theorem dX1_placeOf_28 : decode cX1_placeOf 28 = .ok (.iinc 2 1, 3) := by decide +kernel
theorem dX1_placeOf_31 : decode cX1_placeOf 31 = .ok (.goto (-29), 3) := by decide +kernel
theorem dX1_placeOf_34 : decode cX1_placeOf 34 = .ok (.iconst (-1), 1) := by decide +kernel
theorem dX1_placeOf_35 : decode cX1_placeOf 35 = .ok (.ireturn, 1) := by decide +kernel
theorem dX1_against_0 : decode cX1_against 0 = .ok (.iconst 0, 1) := by decide +kernel
theorem dX1_against_1 : decode cX1_against 1 = .ok (.istore 5, 2) := by decide +kernel
theorem dX1_against_3 : decode cX1_against 3 = .ok (.iconst 0, 1) := by decide +kernel
theorem dX1_against_4 : decode cX1_against 4 = .ok (.istore 6, 2) := by decide +kernel
theorem dX1_against_6 : decode cX1_against 6 = .ok (.iload 6, 2) := by decide +kernel
theorem dX1_against_8 : decode cX1_against 8 = .ok (.iconst 5, 1) := by decide +kernel
theorem dX1_against_9 : decode cX1_against 9 = .ok (.if_icmp .ge 63, 3) := by decide +kernel
theorem dX1_against_12 : decode cX1_against 12 = .ok (.iload_n 2, 1) := by decide +kernel
theorem dX1_against_13 : decode cX1_against 13 = .ok (.istore 7, 2) := by decide +kernel
theorem dX1_against_15 : decode cX1_against 15 = .ok (.iload 7, 2) := by decide +kernel
theorem dX1_against_17 : decode cX1_against 17 = .ok (.iload_n 2, 1) := by decide +kernel
theorem dX1_against_18 : decode cX1_against 18 = .ok (.iload_n 3, 1) := by decide +kernel
theorem dX1_against_19 : decode cX1_against 19 = .ok (.iadd, 1) := by decide +kernel
theorem dX1_against_20 : decode cX1_against 20 = .ok (.if_icmp .ge 46, 3) := by decide +kernel
theorem dX1_against_23 : decode cX1_against 23 = .ok (.iload 6, 2) := by decide +kernel
theorem dX1_against_25 : decode cX1_against 25 = .ok (.iload_n 1, 1) := by decide +kernel
theorem dX1_against_26 : decode cX1_against 26 = .ok (.if_icmp .eq 34, 3) := by decide +kernel
theorem dX1_against_29 : decode cX1_against 29 = .ok (.aload_n 0, 1) := by decide +kernel
theorem dX1_against_30 : decode cX1_against 30 = .ok (.iload 4, 2) := by decide +kernel
theorem dX1_against_32 : decode cX1_against 32 = .ok (.aload_n 0, 1) := by decide +kernel
theorem dX1_against_33 : decode cX1_against 33 = .ok (.getfield 7, 3) := by decide +kernel
theorem dX1_against_36 : decode cX1_against 36 = .ok (.bipush 40, 2) := by decide +kernel
theorem dX1_against_38 : decode cX1_against 38 = .ok (.iload 6, 2) := by decide +kernel
theorem dX1_against_40 : decode cX1_against 40 = .ok (.imul, 1) := by decide +kernel
theorem dX1_against_41 : decode cX1_against 41 = .ok (.iload 7, 2) := by decide +kernel
theorem dX1_against_43 : decode cX1_against 43 = .ok (.iadd, 1) := by decide +kernel
theorem dX1_against_44 : decode cX1_against 44 = .ok (.iaload, 1) := by decide +kernel
theorem dX1_against_45 : decode cX1_against 45 = .ok (.invokevirtual 32, 3) := by decide +kernel
theorem dX1_against_48 : decode cX1_against 48 = .ok (.ifCond .eq 12, 3) := by decide +kernel
theorem dX1_against_51 : decode cX1_against 51 = .ok (.iload 5, 2) := by decide +kernel
theorem dX1_against_53 : decode cX1_against 53 = .ok (.iconst 1, 1) := by decide +kernel
theorem dX1_against_54 : decode cX1_against 54 = .ok (.iload 6, 2) := by decide +kernel
theorem dX1_against_56 : decode cX1_against 56 = .ok (.ishl, 1) := by decide +kernel
theorem dX1_against_57 : decode cX1_against 57 = .ok (.ior, 1) := by decide +kernel
theorem dX1_against_58 : decode cX1_against 58 = .ok (.istore 5, 2) := by decide +kernel
theorem dX1_against_60 : decode cX1_against 60 = .ok (.iinc 7 1, 3) := by decide +kernel
theorem dX1_against_63 : decode cX1_against 63 = .ok (.goto (-48), 3) := by decide +kernel
theorem dX1_against_66 : decode cX1_against 66 = .ok (.iinc 6 1, 3) := by decide +kernel
theorem dX1_against_69 : decode cX1_against 69 = .ok (.goto (-63), 3) := by decide +kernel
theorem dX1_against_72 : decode cX1_against 72 = .ok (.iload 5, 2) := by decide +kernel
theorem dX1_against_74 : decode cX1_against 74 = .ok (.ireturn, 1) := by decide +kernel
theorem dX1_clash_0 : decode cX1_clash 0 = .ok (.iload_n 1, 1) := by decide +kernel
theorem dX1_clash_1 : decode cX1_clash 1 = .ok (.iconst 2, 1) := by decide +kernel
theorem dX1_clash_2 : decode cX1_clash 2 = .ok (.if_icmp .ne 7, 3) := by decide +kernel
theorem dX1_clash_5 : decode cX1_clash 5 = .ok (.iload_n 2, 1) := by decide +kernel
theorem dX1_clash_6 : decode cX1_clash 6 = .ok (.ifCond .ne 13, 3) := by decide +kernel
theorem dX1_clash_9 : decode cX1_clash 9 = .ok (.iload_n 1, 1) := by decide +kernel
theorem dX1_clash_10 : decode cX1_clash 10 = .ok (.iconst 1, 1) := by decide +kernel
theorem dX1_clash_11 : decode cX1_clash 11 = .ok (.if_icmp .ne 12, 3) := by decide +kernel
theorem dX1_clash_14 : decode cX1_clash 14 = .ok (.iload_n 2, 1) := by decide +kernel
theorem dX1_clash_15 : decode cX1_clash 15 = .ok (.iconst 2, 1) := by decide +kernel
theorem dX1_clash_16 : decode cX1_clash 16 = .ok (.if_icmp .ne 7, 3) := by decide +kernel
theorem dX1_clash_19 : decode cX1_clash 19 = .ok (.iconst 1, 1) := by decide +kernel
theorem dX1_clash_20 : decode cX1_clash 20 = .ok (.goto 4, 3) := by decide +kernel
theorem dX1_clash_23 : decode cX1_clash 23 = .ok (.iconst 0, 1) := by decide +kernel
theorem dX1_clash_24 : decode cX1_clash 24 = .ok (.ireturn, 1) := by decide +kernel
theorem dX1_grant_0 : decode cX1_grant 0 = .ok (.iload_n 2, 1) := by decide +kernel
theorem dX1_grant_1 : decode cX1_grant 1 = .ok (.istore 5, 2) := by decide +kernel
theorem dX1_grant_3 : decode cX1_grant 3 = .ok (.iload 5, 2) := by decide +kernel
theorem dX1_grant_5 : decode cX1_grant 5 = .ok (.iload_n 2, 1) := by decide +kernel
theorem dX1_grant_6 : decode cX1_grant 6 = .ok (.iload_n 3, 1) := by decide +kernel
theorem dX1_grant_7 : decode cX1_grant 7 = .ok (.iadd, 1) := by decide +kernel
theorem dX1_grant_8 : decode cX1_grant 8 = .ok (.if_icmp .ge 23, 3) := by decide +kernel
theorem dX1_grant_11 : decode cX1_grant 11 = .ok (.aload_n 0, 1) := by decide +kernel
theorem dX1_grant_12 : decode cX1_grant 12 = .ok (.getfield 7, 3) := by decide +kernel
theorem dX1_grant_15 : decode cX1_grant 15 = .ok (.bipush 40, 2) := by decide +kernel
theorem dX1_grant_17 : decode cX1_grant 17 = .ok (.iload_n 1, 1) := by decide +kernel
theorem dX1_grant_18 : decode cX1_grant 18 = .ok (.imul, 1) := by decide +kernel
theorem dX1_grant_19 : decode cX1_grant 19 = .ok (.iload 5, 2) := by decide +kernel
theorem dX1_grant_21 : decode cX1_grant 21 = .ok (.iadd, 1) := by decide +kernel
theorem dX1_grant_22 : decode cX1_grant 22 = .ok (.iload 4, 2) := by decide +kernel
theorem dX1_grant_24 : decode cX1_grant 24 = .ok (.iastore, 1) := by decide +kernel
theorem dX1_grant_25 : decode cX1_grant 25 = .ok (.iinc 5 1, 3) := by decide +kernel
theorem dX1_grant_28 : decode cX1_grant 28 = .ok (.goto (-25), 3) := by decide +kernel
theorem dX1_grant_31 : decode cX1_grant 31 = .ok (.return_, 1) := by decide +kernel
theorem dX1_settle_0 : decode cX1_settle 0 = .ok (.iconst 0, 1) := by decide +kernel
theorem dX1_settle_1 : decode cX1_settle 1 = .ok (.istore_n 1, 1) := by decide +kernel
theorem dX1_settle_2 : decode cX1_settle 2 = .ok (.iconst 0, 1) := by decide +kernel
theorem dX1_settle_3 : decode cX1_settle 3 = .ok (.istore_n 2, 1) := by decide +kernel
theorem dX1_settle_4 : decode cX1_settle 4 = .ok (.iload_n 2, 1) := by decide +kernel
theorem dX1_settle_5 : decode cX1_settle 5 = .ok (.iconst 5, 1) := by decide +kernel
theorem dX1_settle_6 : decode cX1_settle 6 = .ok (.if_icmp .ge 54, 3) := by decide +kernel
theorem dX1_settle_9 : decode cX1_settle 9 = .ok (.aload_n 0, 1) := by decide +kernel
theorem dX1_settle_10 : decode cX1_settle 10 = .ok (.invokevirtual 40, 3) := by decide +kernel
theorem dX1_settle_13 : decode cX1_settle 13 = .ok (.istore_n 3, 1) := by decide +kernel
theorem dX1_settle_14 : decode cX1_settle 14 = .ok (.iload_n 3, 1) := by decide +kernel
theorem dX1_settle_15 : decode cX1_settle 15 = .ok (.ifCond .lt 39, 3) := by decide +kernel
theorem dX1_settle_18 : decode cX1_settle 18 = .ok (.aload_n 0, 1) := by decide +kernel
theorem dX1_settle_19 : decode cX1_settle 19 = .ok (.aload_n 0, 1) := by decide +kernel
theorem dX1_settle_20 : decode cX1_settle 20 = .ok (.getfield 13, 3) := by decide +kernel
theorem dX1_settle_23 : decode cX1_settle 23 = .ok (.iload_n 3, 1) := by decide +kernel
theorem dX1_settle_24 : decode cX1_settle 24 = .ok (.iaload, 1) := by decide +kernel
theorem dX1_settle_25 : decode cX1_settle 25 = .ok (.aload_n 0, 1) := by decide +kernel
theorem dX1_settle_26 : decode cX1_settle 26 = .ok (.getfield 16, 3) := by decide +kernel
theorem dX1_settle_29 : decode cX1_settle 29 = .ok (.iload_n 3, 1) := by decide +kernel
theorem dX1_settle_30 : decode cX1_settle 30 = .ok (.iaload, 1) := by decide +kernel
theorem dX1_settle_31 : decode cX1_settle 31 = .ok (.aload_n 0, 1) := by decide +kernel
theorem dX1_settle_32 : decode cX1_settle 32 = .ok (.getfield 19, 3) := by decide +kernel
theorem dX1_settle_35 : decode cX1_settle 35 = .ok (.iload_n 3, 1) := by decide +kernel
theorem dX1_settle_36 : decode cX1_settle 36 = .ok (.iaload, 1) := by decide +kernel
theorem dX1_settle_37 : decode cX1_settle 37 = .ok (.aload_n 0, 1) := by decide +kernel
theorem dX1_settle_38 : decode cX1_settle 38 = .ok (.getfield 22, 3) := by decide +kernel
theorem dX1_settle_41 : decode cX1_settle 41 = .ok (.iload_n 3, 1) := by decide +kernel
theorem dX1_settle_42 : decode cX1_settle 42 = .ok (.iaload, 1) := by decide +kernel
theorem dX1_settle_43 : decode cX1_settle 43 = .ok (.invokevirtual 44, 3) := by decide +kernel
theorem dX1_settle_46 : decode cX1_settle 46 = .ok (.aload_n 0, 1) := by decide +kernel
theorem dX1_settle_47 : decode cX1_settle 47 = .ok (.iload_n 3, 1) := by decide +kernel
theorem dX1_settle_48 : decode cX1_settle 48 = .ok (.invokevirtual 48, 3) := by decide +kernel
theorem dX1_settle_51 : decode cX1_settle 51 = .ok (.iinc 1 1, 3) := by decide +kernel
theorem dX1_settle_54 : decode cX1_settle 54 = .ok (.iinc 2 1, 3) := by decide +kernel
theorem dX1_settle_57 : decode cX1_settle 57 = .ok (.goto (-53), 3) := by decide +kernel
theorem dX1_settle_60 : decode cX1_settle 60 = .ok (.iload_n 1, 1) := by decide +kernel
theorem dX1_settle_61 : decode cX1_settle 61 = .ok (.ireturn, 1) := by decide +kernel
theorem dX1_ready_0 : decode cX1_ready 0 = .ok (.iconst 0, 1) := by decide +kernel
theorem dX1_ready_1 : decode cX1_ready 1 = .ok (.istore_n 1, 1) := by decide +kernel
theorem dX1_ready_2 : decode cX1_ready 2 = .ok (.iload_n 1, 1) := by decide +kernel
theorem dX1_ready_3 : decode cX1_ready 3 = .ok (.aload_n 0, 1) := by decide +kernel
theorem dX1_ready_4 : decode cX1_ready 4 = .ok (.getfield 28, 3) := by decide +kernel
theorem dX1_ready_7 : decode cX1_ready 7 = .ok (.if_icmp .ge 48, 3) := by decide +kernel
theorem dX1_ready_10 : decode cX1_ready 10 = .ok (.iload_n 1, 1) := by decide +kernel
theorem dX1_ready_11 : decode cX1_ready 11 = .ok (.bipush 8, 2) := by decide +kernel
theorem dX1_ready_13 : decode cX1_ready 13 = .ok (.if_icmp .ge 42, 3) := by decide +kernel
theorem dX1_ready_16 : decode cX1_ready 16 = .ok (.aload_n 0, 1) := by decide +kernel
theorem dX1_ready_17 : decode cX1_ready 17 = .ok (.aload_n 0, 1) := by decide +kernel
theorem dX1_ready_18 : decode cX1_ready 18 = .ok (.getfield 13, 3) := by decide +kernel
theorem dX1_ready_21 : decode cX1_ready 21 = .ok (.iload_n 1, 1) := by decide +kernel
theorem dX1_ready_22 : decode cX1_ready 22 = .ok (.iaload, 1) := by decide +kernel
theorem dX1_ready_23 : decode cX1_ready 23 = .ok (.aload_n 0, 1) := by decide +kernel
theorem dX1_ready_24 : decode cX1_ready 24 = .ok (.getfield 16, 3) := by decide +kernel
theorem dX1_ready_27 : decode cX1_ready 27 = .ok (.iload_n 1, 1) := by decide +kernel
theorem dX1_ready_28 : decode cX1_ready 28 = .ok (.iaload, 1) := by decide +kernel
theorem dX1_ready_29 : decode cX1_ready 29 = .ok (.aload_n 0, 1) := by decide +kernel
theorem dX1_ready_30 : decode cX1_ready 30 = .ok (.getfield 19, 3) := by decide +kernel
theorem dX1_ready_33 : decode cX1_ready 33 = .ok (.iload_n 1, 1) := by decide +kernel
theorem dX1_ready_34 : decode cX1_ready 34 = .ok (.iaload, 1) := by decide +kernel
theorem dX1_ready_35 : decode cX1_ready 35 = .ok (.aload_n 0, 1) := by decide +kernel
theorem dX1_ready_36 : decode cX1_ready 36 = .ok (.getfield 22, 3) := by decide +kernel
theorem dX1_ready_39 : decode cX1_ready 39 = .ok (.iload_n 1, 1) := by decide +kernel
theorem dX1_ready_40 : decode cX1_ready 40 = .ok (.iaload, 1) := by decide +kernel
theorem dX1_ready_41 : decode cX1_ready 41 = .ok (.invokevirtual 36, 3) := by decide +kernel
theorem dX1_ready_44 : decode cX1_ready 44 = .ok (.ifCond .ne 5, 3) := by decide +kernel
theorem dX1_ready_47 : decode cX1_ready 47 = .ok (.iload_n 1, 1) := by decide +kernel
theorem dX1_ready_48 : decode cX1_ready 48 = .ok (.ireturn, 1) := by decide +kernel
theorem dX1_ready_49 : decode cX1_ready 49 = .ok (.iinc 1 1, 3) := by decide +kernel
theorem dX1_ready_52 : decode cX1_ready 52 = .ok (.goto (-50), 3) := by decide +kernel
theorem dX1_ready_55 : decode cX1_ready 55 = .ok (.iconst (-1), 1) := by decide +kernel
theorem dX1_ready_56 : decode cX1_ready 56 = .ok (.ireturn, 1) := by decide +kernel
theorem dX1_leave_0 : decode cX1_leave 0 = .ok (.iload_n 1, 1) := by decide +kernel
theorem dX1_leave_1 : decode cX1_leave 1 = .ok (.istore_n 2, 1) := by decide +kernel
theorem dX1_leave_2 : decode cX1_leave 2 = .ok (.iload_n 2, 1) := by decide +kernel
theorem dX1_leave_3 : decode cX1_leave 3 = .ok (.aload_n 0, 1) := by decide +kernel
theorem dX1_leave_4 : decode cX1_leave 4 = .ok (.getfield 28, 3) := by decide +kernel
theorem dX1_leave_7 : decode cX1_leave 7 = .ok (.iconst 1, 1) := by decide +kernel
theorem dX1_leave_8 : decode cX1_leave 8 = .ok (.isub, 1) := by decide +kernel
theorem dX1_leave_9 : decode cX1_leave 9 = .ok (.if_icmp .ge 71, 3) := by decide +kernel
theorem dX1_leave_12 : decode cX1_leave 12 = .ok (.iload_n 2, 1) := by decide +kernel
theorem dX1_leave_13 : decode cX1_leave 13 = .ok (.bipush 7, 2) := by decide +kernel
theorem dX1_leave_15 : decode cX1_leave 15 = .ok (.if_icmp .ge 65, 3) := by decide +kernel
theorem dX1_leave_18 : decode cX1_leave 18 = .ok (.aload_n 0, 1) := by decide +kernel
theorem dX1_leave_19 : decode cX1_leave 19 = .ok (.getfield 13, 3) := by decide +kernel
theorem dX1_leave_22 : decode cX1_leave 22 = .ok (.iload_n 2, 1) := by decide +kernel
theorem dX1_leave_23 : decode cX1_leave 23 = .ok (.aload_n 0, 1) := by decide +kernel
theorem dX1_leave_24 : decode cX1_leave 24 = .ok (.getfield 13, 3) := by decide +kernel
theorem dX1_leave_27 : decode cX1_leave 27 = .ok (.iload_n 2, 1) := by decide +kernel
theorem dX1_leave_28 : decode cX1_leave 28 = .ok (.iconst 1, 1) := by decide +kernel
theorem dX1_leave_29 : decode cX1_leave 29 = .ok (.iadd, 1) := by decide +kernel
theorem dX1_leave_30 : decode cX1_leave 30 = .ok (.iaload, 1) := by decide +kernel
theorem dX1_leave_31 : decode cX1_leave 31 = .ok (.iastore, 1) := by decide +kernel
theorem dX1_leave_32 : decode cX1_leave 32 = .ok (.aload_n 0, 1) := by decide +kernel
theorem dX1_leave_33 : decode cX1_leave 33 = .ok (.getfield 16, 3) := by decide +kernel
theorem dX1_leave_36 : decode cX1_leave 36 = .ok (.iload_n 2, 1) := by decide +kernel
theorem dX1_leave_37 : decode cX1_leave 37 = .ok (.aload_n 0, 1) := by decide +kernel
theorem dX1_leave_38 : decode cX1_leave 38 = .ok (.getfield 16, 3) := by decide +kernel
theorem dX1_leave_41 : decode cX1_leave 41 = .ok (.iload_n 2, 1) := by decide +kernel
theorem dX1_leave_42 : decode cX1_leave 42 = .ok (.iconst 1, 1) := by decide +kernel
theorem dX1_leave_43 : decode cX1_leave 43 = .ok (.iadd, 1) := by decide +kernel
theorem dX1_leave_44 : decode cX1_leave 44 = .ok (.iaload, 1) := by decide +kernel
theorem dX1_leave_45 : decode cX1_leave 45 = .ok (.iastore, 1) := by decide +kernel
theorem dX1_leave_46 : decode cX1_leave 46 = .ok (.aload_n 0, 1) := by decide +kernel
theorem dX1_leave_47 : decode cX1_leave 47 = .ok (.getfield 19, 3) := by decide +kernel
theorem dX1_leave_50 : decode cX1_leave 50 = .ok (.iload_n 2, 1) := by decide +kernel
theorem dX1_leave_51 : decode cX1_leave 51 = .ok (.aload_n 0, 1) := by decide +kernel
theorem dX1_leave_52 : decode cX1_leave 52 = .ok (.getfield 19, 3) := by decide +kernel
theorem dX1_leave_55 : decode cX1_leave 55 = .ok (.iload_n 2, 1) := by decide +kernel
theorem dX1_leave_56 : decode cX1_leave 56 = .ok (.iconst 1, 1) := by decide +kernel
theorem dX1_leave_57 : decode cX1_leave 57 = .ok (.iadd, 1) := by decide +kernel
theorem dX1_leave_58 : decode cX1_leave 58 = .ok (.iaload, 1) := by decide +kernel
theorem dX1_leave_59 : decode cX1_leave 59 = .ok (.iastore, 1) := by decide +kernel
theorem dX1_leave_60 : decode cX1_leave 60 = .ok (.aload_n 0, 1) := by decide +kernel
theorem dX1_leave_61 : decode cX1_leave 61 = .ok (.getfield 22, 3) := by decide +kernel
theorem dX1_leave_64 : decode cX1_leave 64 = .ok (.iload_n 2, 1) := by decide +kernel
theorem dX1_leave_65 : decode cX1_leave 65 = .ok (.aload_n 0, 1) := by decide +kernel
theorem dX1_leave_66 : decode cX1_leave 66 = .ok (.getfield 22, 3) := by decide +kernel
theorem dX1_leave_69 : decode cX1_leave 69 = .ok (.iload_n 2, 1) := by decide +kernel
theorem dX1_leave_70 : decode cX1_leave 70 = .ok (.iconst 1, 1) := by decide +kernel
theorem dX1_leave_71 : decode cX1_leave 71 = .ok (.iadd, 1) := by decide +kernel
theorem dX1_leave_72 : decode cX1_leave 72 = .ok (.iaload, 1) := by decide +kernel
theorem dX1_leave_73 : decode cX1_leave 73 = .ok (.iastore, 1) := by decide +kernel
theorem dX1_leave_74 : decode cX1_leave 74 = .ok (.iinc 2 1, 3) := by decide +kernel
theorem dX1_leave_77 : decode cX1_leave 77 = .ok (.goto (-75), 3) := by decide +kernel
theorem dX1_leave_80 : decode cX1_leave 80 = .ok (.aload_n 0, 1) := by decide +kernel
theorem dX1_leave_81 : decode cX1_leave 81 = .ok (.dup, 1) := by decide +kernel
theorem dX1_leave_82 : decode cX1_leave 82 = .ok (.getfield 28, 3) := by decide +kernel
theorem dX1_leave_85 : decode cX1_leave 85 = .ok (.iconst 1, 1) := by decide +kernel
theorem dX1_leave_86 : decode cX1_leave 86 = .ok (.isub, 1) := by decide +kernel
theorem dX1_leave_87 : decode cX1_leave 87 = .ok (.putfield 28, 3) := by decide +kernel
theorem dX1_leave_90 : decode cX1_leave 90 = .ok (.return_, 1) := by decide +kernel
theorem dX1_await_0 : decode cX1_await 0 = .ok (.aload_n 0, 1) := by decide +kernel
theorem dX1_await_1 : decode cX1_await 1 = .ok (.iload_n 1, 1) := by decide +kernel
theorem dX1_await_2 : decode cX1_await 2 = .ok (.invokevirtual 52, 3) := by decide +kernel
theorem dX1_await_5 : decode cX1_await 5 = .ok (.ifCond .eq 5, 3) := by decide +kernel
theorem dX1_await_8 : decode cX1_await 8 = .ok (.iconst (-1), 1) := by decide +kernel
theorem dX1_await_9 : decode cX1_await 9 = .ok (.ireturn, 1) := by decide +kernel
theorem dX1_await_10 : decode cX1_await 10 = .ok (.aload_n 0, 1) := by decide +kernel
theorem dX1_await_11 : decode cX1_await 11 = .ok (.iload_n 2, 1) := by decide +kernel
theorem dX1_await_12 : decode cX1_await 12 = .ok (.iload_n 3, 1) := by decide +kernel
theorem dX1_await_13 : decode cX1_await 13 = .ok (.invokevirtual 56, 3) := by decide +kernel
theorem dX1_await_16 : decode cX1_await 16 = .ok (.ifCond .eq 6, 3) := by decide +kernel
theorem dX1_await_19 : decode cX1_await 19 = .ok (.bipush (-2), 2) := by decide +kernel
theorem dX1_await_21 : decode cX1_await 21 = .ok (.ireturn, 1) := by decide +kernel
theorem dX1_await_22 : decode cX1_await 22 = .ok (.iload 4, 2) := by decide +kernel
theorem dX1_await_24 : decode cX1_await 24 = .ok (.iconst 1, 1) := by decide +kernel
end
section
set_option maxRecDepth 100000
theorem dX1_await_25 : decode cX1_await 25 = .ok (.if_icmp .eq 12, 3) := by decide +kernel
theorem dX1_await_28 : decode cX1_await 28 = .ok (.iload 4, 2) := by decide +kernel
theorem dX1_await_30 : decode cX1_await 30 = .ok (.iconst 2, 1) := by decide +kernel
theorem dX1_await_31 : decode cX1_await 31 = .ok (.if_icmp .eq 6, 3) := by decide +kernel
theorem dX1_await_34 : decode cX1_await 34 = .ok (.bipush (-3), 2) := by decide +kernel
theorem dX1_await_36 : decode cX1_await 36 = .ok (.ireturn, 1) := by decide +kernel
theorem dX1_await_37 : decode cX1_await 37 = .ok (.aload_n 0, 1) := by decide +kernel
theorem dX1_await_38 : decode cX1_await 38 = .ok (.iload_n 1, 1) := by decide +kernel
theorem dX1_await_39 : decode cX1_await 39 = .ok (.invokevirtual 59, 3) := by decide +kernel
theorem dX1_await_42 : decode cX1_await 42 = .ok (.ifCond .lt 6, 3) := by decide +kernel
theorem dX1_await_45 : decode cX1_await 45 = .ok (.bipush (-4), 2) := by decide +kernel
theorem dX1_await_47 : decode cX1_await 47 = .ok (.ireturn, 1) := by decide +kernel
theorem dX1_await_48 : decode cX1_await 48 = .ok (.aload_n 0, 1) := by decide +kernel
theorem dX1_await_49 : decode cX1_await 49 = .ok (.iload_n 1, 1) := by decide +kernel
theorem dX1_await_50 : decode cX1_await 50 = .ok (.iload_n 2, 1) := by decide +kernel
theorem dX1_await_51 : decode cX1_await 51 = .ok (.iload_n 3, 1) := by decide +kernel
theorem dX1_await_52 : decode cX1_await 52 = .ok (.iload 4, 2) := by decide +kernel
theorem dX1_await_54 : decode cX1_await 54 = .ok (.invokevirtual 36, 3) := by decide +kernel
theorem dX1_await_57 : decode cX1_await 57 = .ok (.istore 5, 2) := by decide +kernel
theorem dX1_await_59 : decode cX1_await 59 = .ok (.iload 5, 2) := by decide +kernel
theorem dX1_await_61 : decode cX1_await 61 = .ok (.ifCond .ne 19, 3) := by decide +kernel
theorem dX1_await_64 : decode cX1_await 64 = .ok (.aload_n 0, 1) := by decide +kernel
theorem dX1_await_65 : decode cX1_await 65 = .ok (.iload_n 1, 1) := by decide +kernel
theorem dX1_await_66 : decode cX1_await 66 = .ok (.iload_n 2, 1) := by decide +kernel
theorem dX1_await_67 : decode cX1_await 67 = .ok (.iload_n 3, 1) := by decide +kernel
theorem dX1_await_68 : decode cX1_await 68 = .ok (.iload 4, 2) := by decide +kernel
theorem dX1_await_70 : decode cX1_await 70 = .ok (.invokevirtual 44, 3) := by decide +kernel
theorem dX1_await_73 : decode cX1_await 73 = .ok (.aload_n 0, 1) := by decide +kernel
theorem dX1_await_74 : decode cX1_await 74 = .ok (.invokevirtual 63, 3) := by decide +kernel
theorem dX1_await_77 : decode cX1_await 77 = .ok (.pop, 1) := by decide +kernel
theorem dX1_await_78 : decode cX1_await 78 = .ok (.iconst 0, 1) := by decide +kernel
theorem dX1_await_79 : decode cX1_await 79 = .ok (.ireturn, 1) := by decide +kernel
theorem dX1_await_80 : decode cX1_await 80 = .ok (.aload_n 0, 1) := by decide +kernel
theorem dX1_await_81 : decode cX1_await 81 = .ok (.iload_n 1, 1) := by decide +kernel
theorem dX1_await_82 : decode cX1_await 82 = .ok (.iload 5, 2) := by decide +kernel
theorem dX1_await_84 : decode cX1_await 84 = .ok (.invokevirtual 66, 3) := by decide +kernel
theorem dX1_await_87 : decode cX1_await 87 = .ok (.ifCond .eq 6, 3) := by decide +kernel
theorem dX1_await_90 : decode cX1_await 90 = .ok (.bipush (-5), 2) := by decide +kernel
theorem dX1_await_92 : decode cX1_await 92 = .ok (.ireturn, 1) := by decide +kernel
theorem dX1_await_93 : decode cX1_await 93 = .ok (.aload_n 0, 1) := by decide +kernel
theorem dX1_await_94 : decode cX1_await 94 = .ok (.getfield 28, 3) := by decide +kernel
theorem dX1_await_97 : decode cX1_await 97 = .ok (.istore 6, 2) := by decide +kernel
theorem dX1_await_99 : decode cX1_await 99 = .ok (.iload 6, 2) := by decide +kernel
theorem dX1_await_101 : decode cX1_await 101 = .ok (.bipush 8, 2) := by decide +kernel
theorem dX1_await_103 : decode cX1_await 103 = .ok (.if_icmp .ge 44, 3) := by decide +kernel
theorem dX1_await_106 : decode cX1_await 106 = .ok (.aload_n 0, 1) := by decide +kernel
theorem dX1_await_107 : decode cX1_await 107 = .ok (.getfield 13, 3) := by decide +kernel
theorem dX1_await_110 : decode cX1_await 110 = .ok (.iload 6, 2) := by decide +kernel
theorem dX1_await_112 : decode cX1_await 112 = .ok (.iload_n 1, 1) := by decide +kernel
theorem dX1_await_113 : decode cX1_await 113 = .ok (.iastore, 1) := by decide +kernel
theorem dX1_await_114 : decode cX1_await 114 = .ok (.aload_n 0, 1) := by decide +kernel
theorem dX1_await_115 : decode cX1_await 115 = .ok (.getfield 16, 3) := by decide +kernel
theorem dX1_await_118 : decode cX1_await 118 = .ok (.iload 6, 2) := by decide +kernel
theorem dX1_await_120 : decode cX1_await 120 = .ok (.iload_n 2, 1) := by decide +kernel
theorem dX1_await_121 : decode cX1_await 121 = .ok (.iastore, 1) := by decide +kernel
theorem dX1_await_122 : decode cX1_await 122 = .ok (.aload_n 0, 1) := by decide +kernel
theorem dX1_await_123 : decode cX1_await 123 = .ok (.getfield 19, 3) := by decide +kernel
theorem dX1_await_126 : decode cX1_await 126 = .ok (.iload 6, 2) := by decide +kernel
theorem dX1_await_128 : decode cX1_await 128 = .ok (.iload_n 3, 1) := by decide +kernel
theorem dX1_await_129 : decode cX1_await 129 = .ok (.iastore, 1) := by decide +kernel
theorem dX1_await_130 : decode cX1_await 130 = .ok (.aload_n 0, 1) := by decide +kernel
theorem dX1_await_131 : decode cX1_await 131 = .ok (.getfield 22, 3) := by decide +kernel
theorem dX1_await_134 : decode cX1_await 134 = .ok (.iload 6, 2) := by decide +kernel
theorem dX1_await_136 : decode cX1_await 136 = .ok (.iload 4, 2) := by decide +kernel
theorem dX1_await_138 : decode cX1_await 138 = .ok (.iastore, 1) := by decide +kernel
theorem dX1_await_139 : decode cX1_await 139 = .ok (.aload_n 0, 1) := by decide +kernel
theorem dX1_await_140 : decode cX1_await 140 = .ok (.iload 6, 2) := by decide +kernel
theorem dX1_await_142 : decode cX1_await 142 = .ok (.iconst 1, 1) := by decide +kernel
theorem dX1_await_143 : decode cX1_await 143 = .ok (.iadd, 1) := by decide +kernel
theorem dX1_await_144 : decode cX1_await 144 = .ok (.putfield 28, 3) := by decide +kernel
theorem dX1_await_147 : decode cX1_await 147 = .ok (.iconst 1, 1) := by decide +kernel
theorem dX1_await_148 : decode cX1_await 148 = .ok (.ireturn, 1) := by decide +kernel
theorem dX1_circles_0 : decode cX1_circles 0 = .ok (.iconst 0, 1) := by decide +kernel
theorem dX1_circles_1 : decode cX1_circles 1 = .ok (.istore_n 3, 1) := by decide +kernel
theorem dX1_circles_2 : decode cX1_circles 2 = .ok (.iconst 0, 1) := by decide +kernel
theorem dX1_circles_3 : decode cX1_circles 3 = .ok (.istore 4, 2) := by decide +kernel
theorem dX1_circles_5 : decode cX1_circles 5 = .ok (.iload 4, 2) := by decide +kernel
theorem dX1_circles_7 : decode cX1_circles 7 = .ok (.bipush 8, 2) := by decide +kernel
theorem dX1_circles_9 : decode cX1_circles 9 = .ok (.if_icmp .ge 17, 3) := by decide +kernel
theorem dX1_circles_12 : decode cX1_circles 12 = .ok (.aload_n 0, 1) := by decide +kernel
theorem dX1_circles_13 : decode cX1_circles 13 = .ok (.getfield 25, 3) := by decide +kernel
theorem dX1_circles_16 : decode cX1_circles 16 = .ok (.iload 4, 2) := by decide +kernel
theorem dX1_circles_18 : decode cX1_circles 18 = .ok (.iconst 0, 1) := by decide +kernel
theorem dX1_circles_19 : decode cX1_circles 19 = .ok (.iastore, 1) := by decide +kernel
theorem dX1_circles_20 : decode cX1_circles 20 = .ok (.iinc 4 1, 3) := by decide +kernel
theorem dX1_circles_23 : decode cX1_circles 23 = .ok (.goto (-18), 3) := by decide +kernel
theorem dX1_circles_26 : decode cX1_circles 26 = .ok (.iconst 0, 1) := by decide +kernel
theorem dX1_circles_27 : decode cX1_circles 27 = .ok (.istore 4, 2) := by decide +kernel
theorem dX1_circles_29 : decode cX1_circles 29 = .ok (.iload 4, 2) := by decide +kernel
theorem dX1_circles_31 : decode cX1_circles 31 = .ok (.aload_n 0, 1) := by decide +kernel
theorem dX1_circles_32 : decode cX1_circles 32 = .ok (.getfield 28, 3) := by decide +kernel
theorem dX1_circles_35 : decode cX1_circles 35 = .ok (.if_icmp .ge 63, 3) := by decide +kernel
theorem dX1_circles_38 : decode cX1_circles 38 = .ok (.iload 4, 2) := by decide +kernel
theorem dX1_circles_40 : decode cX1_circles 40 = .ok (.bipush 8, 2) := by decide +kernel
theorem dX1_circles_42 : decode cX1_circles 42 = .ok (.if_icmp .ge 56, 3) := by decide +kernel
theorem dX1_circles_45 : decode cX1_circles 45 = .ok (.aload_n 0, 1) := by decide +kernel
theorem dX1_circles_46 : decode cX1_circles 46 = .ok (.getfield 25, 3) := by decide +kernel
theorem dX1_circles_49 : decode cX1_circles 49 = .ok (.aload_n 0, 1) := by decide +kernel
theorem dX1_circles_50 : decode cX1_circles 50 = .ok (.getfield 13, 3) := by decide +kernel
theorem dX1_circles_53 : decode cX1_circles 53 = .ok (.iload 4, 2) := by decide +kernel
theorem dX1_circles_55 : decode cX1_circles 55 = .ok (.iaload, 1) := by decide +kernel
theorem dX1_circles_56 : decode cX1_circles 56 = .ok (.bipush 7, 2) := by decide +kernel
theorem dX1_circles_58 : decode cX1_circles 58 = .ok (.iand, 1) := by decide +kernel
theorem dX1_circles_59 : decode cX1_circles 59 = .ok (.aload_n 0, 1) := by decide +kernel
theorem dX1_circles_60 : decode cX1_circles 60 = .ok (.aload_n 0, 1) := by decide +kernel
theorem dX1_circles_61 : decode cX1_circles 61 = .ok (.getfield 13, 3) := by decide +kernel
theorem dX1_circles_64 : decode cX1_circles 64 = .ok (.iload 4, 2) := by decide +kernel
theorem dX1_circles_66 : decode cX1_circles 66 = .ok (.iaload, 1) := by decide +kernel
theorem dX1_circles_67 : decode cX1_circles 67 = .ok (.aload_n 0, 1) := by decide +kernel
theorem dX1_circles_68 : decode cX1_circles 68 = .ok (.getfield 16, 3) := by decide +kernel
theorem dX1_circles_71 : decode cX1_circles 71 = .ok (.iload 4, 2) := by decide +kernel
theorem dX1_circles_73 : decode cX1_circles 73 = .ok (.iaload, 1) := by decide +kernel
theorem dX1_circles_74 : decode cX1_circles 74 = .ok (.aload_n 0, 1) := by decide +kernel
theorem dX1_circles_75 : decode cX1_circles 75 = .ok (.getfield 19, 3) := by decide +kernel
theorem dX1_circles_78 : decode cX1_circles 78 = .ok (.iload 4, 2) := by decide +kernel
theorem dX1_circles_80 : decode cX1_circles 80 = .ok (.iaload, 1) := by decide +kernel
theorem dX1_circles_81 : decode cX1_circles 81 = .ok (.aload_n 0, 1) := by decide +kernel
theorem dX1_circles_82 : decode cX1_circles 82 = .ok (.getfield 22, 3) := by decide +kernel
theorem dX1_circles_85 : decode cX1_circles 85 = .ok (.iload 4, 2) := by decide +kernel
theorem dX1_circles_87 : decode cX1_circles 87 = .ok (.iaload, 1) := by decide +kernel
theorem dX1_circles_88 : decode cX1_circles 88 = .ok (.invokevirtual 36, 3) := by decide +kernel
theorem dX1_circles_91 : decode cX1_circles 91 = .ok (.iastore, 1) := by decide +kernel
theorem dX1_circles_92 : decode cX1_circles 92 = .ok (.iinc 4 1, 3) := by decide +kernel
theorem dX1_circles_95 : decode cX1_circles 95 = .ok (.goto (-66), 3) := by decide +kernel
theorem dX1_circles_98 : decode cX1_circles 98 = .ok (.iconst 0, 1) := by decide +kernel
theorem dX1_circles_99 : decode cX1_circles 99 = .ok (.istore 4, 2) := by decide +kernel
theorem dX1_circles_101 : decode cX1_circles 101 = .ok (.iload 4, 2) := by decide +kernel
theorem dX1_circles_103 : decode cX1_circles 103 = .ok (.iconst 5, 1) := by decide +kernel
theorem dX1_circles_104 : decode cX1_circles 104 = .ok (.if_icmp .ge 29, 3) := by decide +kernel
theorem dX1_circles_107 : decode cX1_circles 107 = .ok (.iload_n 2, 1) := by decide +kernel
theorem dX1_circles_108 : decode cX1_circles 108 = .ok (.iload 4, 2) := by decide +kernel
theorem dX1_circles_110 : decode cX1_circles 110 = .ok (.ishr, 1) := by decide +kernel
theorem dX1_circles_111 : decode cX1_circles 111 = .ok (.iconst 1, 1) := by decide +kernel
theorem dX1_circles_112 : decode cX1_circles 112 = .ok (.iand, 1) := by decide +kernel
theorem dX1_circles_113 : decode cX1_circles 113 = .ok (.iconst 1, 1) := by decide +kernel
theorem dX1_circles_114 : decode cX1_circles 114 = .ok (.if_icmp .ne 13, 3) := by decide +kernel
theorem dX1_circles_117 : decode cX1_circles 117 = .ok (.iload_n 3, 1) := by decide +kernel
theorem dX1_circles_118 : decode cX1_circles 118 = .ok (.aload_n 0, 1) := by decide +kernel
theorem dX1_circles_119 : decode cX1_circles 119 = .ok (.getfield 25, 3) := by decide +kernel
theorem dX1_circles_122 : decode cX1_circles 122 = .ok (.iload 4, 2) := by decide +kernel
theorem dX1_circles_124 : decode cX1_circles 124 = .ok (.iaload, 1) := by decide +kernel
theorem dX1_circles_125 : decode cX1_circles 125 = .ok (.ior, 1) := by decide +kernel
theorem dX1_circles_126 : decode cX1_circles 126 = .ok (.istore_n 3, 1) := by decide +kernel
theorem dX1_circles_127 : decode cX1_circles 127 = .ok (.iinc 4 1, 3) := by decide +kernel
theorem dX1_circles_130 : decode cX1_circles 130 = .ok (.goto (-29), 3) := by decide +kernel
theorem dX1_circles_133 : decode cX1_circles 133 = .ok (.iconst 0, 1) := by decide +kernel
theorem dX1_circles_134 : decode cX1_circles 134 = .ok (.istore 4, 2) := by decide +kernel
theorem dX1_circles_136 : decode cX1_circles 136 = .ok (.iload 4, 2) := by decide +kernel
theorem dX1_circles_138 : decode cX1_circles 138 = .ok (.iconst 5, 1) := by decide +kernel
theorem dX1_circles_139 : decode cX1_circles 139 = .ok (.if_icmp .ge 52, 3) := by decide +kernel
theorem dX1_circles_142 : decode cX1_circles 142 = .ok (.iload_n 3, 1) := by decide +kernel
theorem dX1_circles_143 : decode cX1_circles 143 = .ok (.istore 5, 2) := by decide +kernel
theorem dX1_circles_145 : decode cX1_circles 145 = .ok (.iconst 0, 1) := by decide +kernel
theorem dX1_circles_146 : decode cX1_circles 146 = .ok (.istore 6, 2) := by decide +kernel
theorem dX1_circles_148 : decode cX1_circles 148 = .ok (.iload 6, 2) := by decide +kernel
theorem dX1_circles_150 : decode cX1_circles 150 = .ok (.iconst 5, 1) := by decide +kernel
theorem dX1_circles_151 : decode cX1_circles 151 = .ok (.if_icmp .ge 31, 3) := by decide +kernel
theorem dX1_circles_154 : decode cX1_circles 154 = .ok (.iload_n 3, 1) := by decide +kernel
theorem dX1_circles_155 : decode cX1_circles 155 = .ok (.iload 6, 2) := by decide +kernel
theorem dX1_circles_157 : decode cX1_circles 157 = .ok (.ishr, 1) := by decide +kernel
theorem dX1_circles_158 : decode cX1_circles 158 = .ok (.iconst 1, 1) := by decide +kernel
theorem dX1_circles_159 : decode cX1_circles 159 = .ok (.iand, 1) := by decide +kernel
theorem dX1_circles_160 : decode cX1_circles 160 = .ok (.iconst 1, 1) := by decide +kernel
theorem dX1_circles_161 : decode cX1_circles 161 = .ok (.if_icmp .ne 15, 3) := by decide +kernel
theorem dX1_circles_164 : decode cX1_circles 164 = .ok (.iload 5, 2) := by decide +kernel
theorem dX1_circles_166 : decode cX1_circles 166 = .ok (.aload_n 0, 1) := by decide +kernel
theorem dX1_circles_167 : decode cX1_circles 167 = .ok (.getfield 25, 3) := by decide +kernel
theorem dX1_circles_170 : decode cX1_circles 170 = .ok (.iload 6, 2) := by decide +kernel
theorem dX1_circles_172 : decode cX1_circles 172 = .ok (.iaload, 1) := by decide +kernel
theorem dX1_circles_173 : decode cX1_circles 173 = .ok (.ior, 1) := by decide +kernel
theorem dX1_circles_174 : decode cX1_circles 174 = .ok (.istore 5, 2) := by decide +kernel
theorem dX1_circles_176 : decode cX1_circles 176 = .ok (.iinc 6 1, 3) := by decide +kernel
theorem dX1_circles_179 : decode cX1_circles 179 = .ok (.goto (-31), 3) := by decide +kernel
theorem dX1_circles_182 : decode cX1_circles 182 = .ok (.iload 5, 2) := by decide +kernel
theorem dX1_circles_184 : decode cX1_circles 184 = .ok (.istore_n 3, 1) := by decide +kernel
theorem dX1_circles_185 : decode cX1_circles 185 = .ok (.iinc 4 1, 3) := by decide +kernel
theorem dX1_circles_188 : decode cX1_circles 188 = .ok (.goto (-52), 3) := by decide +kernel
theorem dX1_circles_191 : decode cX1_circles 191 = .ok (.iload_n 3, 1) := by decide +kernel
theorem dX1_circles_192 : decode cX1_circles 192 = .ok (.iload_n 1, 1) := by decide +kernel
theorem dX1_circles_193 : decode cX1_circles 193 = .ok (.ishr, 1) := by decide +kernel
theorem dX1_circles_194 : decode cX1_circles 194 = .ok (.iconst 1, 1) := by decide +kernel
theorem dX1_circles_195 : decode cX1_circles 195 = .ok (.iand, 1) := by decide +kernel
theorem dX1_circles_196 : decode cX1_circles 196 = .ok (.iconst 1, 1) := by decide +kernel
theorem dX1_circles_197 : decode cX1_circles 197 = .ok (.if_icmp .ne 7, 3) := by decide +kernel
theorem dX1_circles_200 : decode cX1_circles 200 = .ok (.iconst 1, 1) := by decide +kernel
theorem dX1_circles_201 : decode cX1_circles 201 = .ok (.goto 4, 3) := by decide +kernel
theorem dX1_circles_204 : decode cX1_circles 204 = .ok (.iconst 0, 1) := by decide +kernel
theorem dX1_circles_205 : decode cX1_circles 205 = .ok (.ireturn, 1) := by decide +kernel
theorem dX1_cancel_0 : decode cX1_cancel 0 = .ok (.aload_n 0, 1) := by decide +kernel
theorem dX1_cancel_1 : decode cX1_cancel 1 = .ok (.iload_n 1, 1) := by decide +kernel
theorem dX1_cancel_2 : decode cX1_cancel 2 = .ok (.invokevirtual 52, 3) := by decide +kernel
theorem dX1_cancel_5 : decode cX1_cancel 5 = .ok (.ifCond .eq 5, 3) := by decide +kernel
theorem dX1_cancel_8 : decode cX1_cancel 8 = .ok (.iconst (-1), 1) := by decide +kernel
theorem dX1_cancel_9 : decode cX1_cancel 9 = .ok (.ireturn, 1) := by decide +kernel
theorem dX1_cancel_10 : decode cX1_cancel 10 = .ok (.aload_n 0, 1) := by decide +kernel
theorem dX1_cancel_11 : decode cX1_cancel 11 = .ok (.iload_n 1, 1) := by decide +kernel
theorem dX1_cancel_12 : decode cX1_cancel 12 = .ok (.invokevirtual 59, 3) := by decide +kernel
theorem dX1_cancel_15 : decode cX1_cancel 15 = .ok (.istore_n 2, 1) := by decide +kernel
theorem dX1_cancel_16 : decode cX1_cancel 16 = .ok (.iload_n 2, 1) := by decide +kernel
theorem dX1_cancel_17 : decode cX1_cancel 17 = .ok (.ifCond .ge 6, 3) := by decide +kernel
theorem dX1_cancel_20 : decode cX1_cancel 20 = .ok (.bipush (-2), 2) := by decide +kernel
theorem dX1_cancel_22 : decode cX1_cancel 22 = .ok (.ireturn, 1) := by decide +kernel
theorem dX1_cancel_23 : decode cX1_cancel 23 = .ok (.aload_n 0, 1) := by decide +kernel
theorem dX1_cancel_24 : decode cX1_cancel 24 = .ok (.iload_n 2, 1) := by decide +kernel
theorem dX1_cancel_25 : decode cX1_cancel 25 = .ok (.invokevirtual 48, 3) := by decide +kernel
theorem dX1_cancel_28 : decode cX1_cancel 28 = .ok (.iconst 0, 1) := by decide +kernel
theorem dX1_cancel_29 : decode cX1_cancel 29 = .ok (.ireturn, 1) := by decide +kernel
theorem dX1_close_0 : decode cX1_close 0 = .ok (.aload_n 0, 1) := by decide +kernel
theorem dX1_close_1 : decode cX1_close 1 = .ok (.iload_n 1, 1) := by decide +kernel
theorem dX1_close_2 : decode cX1_close 2 = .ok (.invokevirtual 52, 3) := by decide +kernel
theorem dX1_close_5 : decode cX1_close 5 = .ok (.ifCond .eq 5, 3) := by decide +kernel
theorem dX1_close_8 : decode cX1_close 8 = .ok (.iconst (-1), 1) := by decide +kernel
theorem dX1_close_9 : decode cX1_close 9 = .ok (.ireturn, 1) := by decide +kernel
theorem dX1_close_10 : decode cX1_close 10 = .ok (.iconst 0, 1) := by decide +kernel
theorem dX1_close_11 : decode cX1_close 11 = .ok (.istore_n 2, 1) := by decide +kernel
theorem dX1_close_12 : decode cX1_close 12 = .ok (.iconst 0, 1) := by decide +kernel
theorem dX1_close_13 : decode cX1_close 13 = .ok (.istore_n 3, 1) := by decide +kernel
theorem dX1_close_14 : decode cX1_close 14 = .ok (.iload_n 3, 1) := by decide +kernel
theorem dX1_close_15 : decode cX1_close 15 = .ok (.bipush 40, 2) := by decide +kernel
theorem dX1_close_17 : decode cX1_close 17 = .ok (.if_icmp .ge 26, 3) := by decide +kernel
theorem dX1_close_20 : decode cX1_close 20 = .ok (.aload_n 0, 1) := by decide +kernel
theorem dX1_close_21 : decode cX1_close 21 = .ok (.getfield 7, 3) := by decide +kernel
theorem dX1_close_24 : decode cX1_close 24 = .ok (.bipush 40, 2) := by decide +kernel
theorem dX1_close_26 : decode cX1_close 26 = .ok (.iload_n 1, 1) := by decide +kernel
theorem dX1_close_27 : decode cX1_close 27 = .ok (.imul, 1) := by decide +kernel
theorem dX1_close_28 : decode cX1_close 28 = .ok (.iload_n 3, 1) := by decide +kernel
theorem dX1_close_29 : decode cX1_close 29 = .ok (.iadd, 1) := by decide +kernel
theorem dX1_close_30 : decode cX1_close 30 = .ok (.iaload, 1) := by decide +kernel
theorem dX1_close_31 : decode cX1_close 31 = .ok (.ifCond .eq 6, 3) := by decide +kernel
theorem dX1_close_34 : decode cX1_close 34 = .ok (.iinc 2 1, 3) := by decide +kernel
theorem dX1_close_37 : decode cX1_close 37 = .ok (.iinc 3 1, 3) := by decide +kernel
theorem dX1_close_40 : decode cX1_close 40 = .ok (.goto (-26), 3) := by decide +kernel
theorem dX1_close_43 : decode cX1_close 43 = .ok (.aload_n 0, 1) := by decide +kernel
theorem dX1_close_44 : decode cX1_close 44 = .ok (.iload_n 1, 1) := by decide +kernel
theorem dX1_close_45 : decode cX1_close 45 = .ok (.invokevirtual 59, 3) := by decide +kernel
theorem dX1_close_48 : decode cX1_close 48 = .ok (.istore_n 3, 1) := by decide +kernel
theorem dX1_close_49 : decode cX1_close 49 = .ok (.iload_n 3, 1) := by decide +kernel
theorem dX1_close_50 : decode cX1_close 50 = .ok (.ifCond .lt 8, 3) := by decide +kernel
theorem dX1_close_53 : decode cX1_close 53 = .ok (.aload_n 0, 1) := by decide +kernel
theorem dX1_close_54 : decode cX1_close 54 = .ok (.iload_n 3, 1) := by decide +kernel
theorem dX1_close_55 : decode cX1_close 55 = .ok (.invokevirtual 48, 3) := by decide +kernel
theorem dX1_close_58 : decode cX1_close 58 = .ok (.aload_n 0, 1) := by decide +kernel
theorem dX1_close_59 : decode cX1_close 59 = .ok (.iload_n 1, 1) := by decide +kernel
theorem dX1_close_60 : decode cX1_close 60 = .ok (.iconst 0, 1) := by decide +kernel
theorem dX1_close_61 : decode cX1_close 61 = .ok (.bipush 40, 2) := by decide +kernel
theorem dX1_close_63 : decode cX1_close 63 = .ok (.iconst 0, 1) := by decide +kernel
theorem dX1_close_64 : decode cX1_close 64 = .ok (.invokevirtual 44, 3) := by decide +kernel
theorem dX1_close_67 : decode cX1_close 67 = .ok (.aload_n 0, 1) := by decide +kernel
theorem dX1_close_68 : decode cX1_close 68 = .ok (.invokevirtual 63, 3) := by decide +kernel
theorem dX1_close_71 : decode cX1_close 71 = .ok (.pop, 1) := by decide +kernel
theorem dX1_close_72 : decode cX1_close 72 = .ok (.iload_n 2, 1) := by decide +kernel
theorem dX1_close_73 : decode cX1_close 73 = .ok (.ireturn, 1) := by decide +kernel
theorem dX1_lockAt_0 : decode cX1_lockAt 0 = .ok (.aload_n 0, 1) := by decide +kernel
theorem dX1_lockAt_1 : decode cX1_lockAt 1 = .ok (.iload_n 1, 1) := by decide +kernel
theorem dX1_lockAt_2 : decode cX1_lockAt 2 = .ok (.invokevirtual 52, 3) := by decide +kernel
theorem dX1_lockAt_5 : decode cX1_lockAt 5 = .ok (.ifCond .eq 5, 3) := by decide +kernel
theorem dX1_lockAt_8 : decode cX1_lockAt 8 = .ok (.iconst (-1), 1) := by decide +kernel
theorem dX1_lockAt_9 : decode cX1_lockAt 9 = .ok (.ireturn, 1) := by decide +kernel
theorem dX1_lockAt_10 : decode cX1_lockAt 10 = .ok (.aload_n 0, 1) := by decide +kernel
theorem dX1_lockAt_11 : decode cX1_lockAt 11 = .ok (.iload_n 2, 1) := by decide +kernel
theorem dX1_lockAt_12 : decode cX1_lockAt 12 = .ok (.invokevirtual 69, 3) := by decide +kernel
theorem dX1_lockAt_15 : decode cX1_lockAt 15 = .ok (.ifCond .eq 6, 3) := by decide +kernel
theorem dX1_lockAt_18 : decode cX1_lockAt 18 = .ok (.bipush (-2), 2) := by decide +kernel
theorem dX1_lockAt_20 : decode cX1_lockAt 20 = .ok (.ireturn, 1) := by decide +kernel
theorem dX1_lockAt_21 : decode cX1_lockAt 21 = .ok (.aload_n 0, 1) := by decide +kernel
theorem dX1_lockAt_22 : decode cX1_lockAt 22 = .ok (.getfield 7, 3) := by decide +kernel
theorem dX1_lockAt_25 : decode cX1_lockAt 25 = .ok (.bipush 40, 2) := by decide +kernel
theorem dX1_lockAt_27 : decode cX1_lockAt 27 = .ok (.iload_n 1, 1) := by decide +kernel
theorem dX1_lockAt_28 : decode cX1_lockAt 28 = .ok (.imul, 1) := by decide +kernel
theorem dX1_lockAt_29 : decode cX1_lockAt 29 = .ok (.iload_n 2, 1) := by decide +kernel
theorem dX1_lockAt_30 : decode cX1_lockAt 30 = .ok (.iadd, 1) := by decide +kernel
theorem dX1_lockAt_31 : decode cX1_lockAt 31 = .ok (.iaload, 1) := by decide +kernel
theorem dX1_lockAt_32 : decode cX1_lockAt 32 = .ok (.ireturn, 1) := by decide +kernel
theorem dX1_badByte_0 : decode cX1_badByte 0 = .ok (.iload_n 1, 1) := by decide +kernel
theorem dX1_badByte_1 : decode cX1_badByte 1 = .ok (.ifCond .lt 9, 3) := by decide +kernel
theorem dX1_badByte_4 : decode cX1_badByte 4 = .ok (.iload_n 1, 1) := by decide +kernel
theorem dX1_badByte_5 : decode cX1_badByte 5 = .ok (.bipush 39, 2) := by decide +kernel
theorem dX1_badByte_7 : decode cX1_badByte 7 = .ok (.if_icmp .le 7, 3) := by decide +kernel
theorem dX1_badByte_10 : decode cX1_badByte 10 = .ok (.iconst 1, 1) := by decide +kernel
theorem dX1_badByte_11 : decode cX1_badByte 11 = .ok (.goto 4, 3) := by decide +kernel
theorem dX1_badByte_14 : decode cX1_badByte 14 = .ok (.iconst 0, 1) := by decide +kernel
theorem dX1_badByte_15 : decode cX1_badByte 15 = .ok (.ireturn, 1) := by decide +kernel
theorem dX1_holders_0 : decode cX1_holders 0 = .ok (.aload_n 0, 1) := by decide +kernel
theorem dX1_holders_1 : decode cX1_holders 1 = .ok (.iload_n 1, 1) := by decide +kernel
theorem dX1_holders_2 : decode cX1_holders 2 = .ok (.invokevirtual 69, 3) := by decide +kernel
theorem dX1_holders_5 : decode cX1_holders 5 = .ok (.ifCond .eq 5, 3) := by decide +kernel
theorem dX1_holders_8 : decode cX1_holders 8 = .ok (.iconst (-1), 1) := by decide +kernel
theorem dX1_holders_9 : decode cX1_holders 9 = .ok (.ireturn, 1) := by decide +kernel
theorem dX1_holders_10 : decode cX1_holders 10 = .ok (.iconst 0, 1) := by decide +kernel
theorem dX1_holders_11 : decode cX1_holders 11 = .ok (.istore_n 2, 1) := by decide +kernel
theorem dX1_holders_12 : decode cX1_holders 12 = .ok (.iconst 0, 1) := by decide +kernel
theorem dX1_holders_13 : decode cX1_holders 13 = .ok (.istore_n 3, 1) := by decide +kernel
theorem dX1_holders_14 : decode cX1_holders 14 = .ok (.iload_n 3, 1) := by decide +kernel
theorem dX1_holders_15 : decode cX1_holders 15 = .ok (.iconst 5, 1) := by decide +kernel
theorem dX1_holders_16 : decode cX1_holders 16 = .ok (.if_icmp .ge 29, 3) := by decide +kernel
theorem dX1_holders_19 : decode cX1_holders 19 = .ok (.aload_n 0, 1) := by decide +kernel
theorem dX1_holders_20 : decode cX1_holders 20 = .ok (.getfield 7, 3) := by decide +kernel
theorem dX1_holders_23 : decode cX1_holders 23 = .ok (.bipush 40, 2) := by decide +kernel
theorem dX1_holders_25 : decode cX1_holders 25 = .ok (.iload_n 3, 1) := by decide +kernel
theorem dX1_holders_26 : decode cX1_holders 26 = .ok (.imul, 1) := by decide +kernel
theorem dX1_holders_27 : decode cX1_holders 27 = .ok (.iload_n 1, 1) := by decide +kernel
theorem dX1_holders_28 : decode cX1_holders 28 = .ok (.iadd, 1) := by decide +kernel
theorem dX1_holders_29 : decode cX1_holders 29 = .ok (.iaload, 1) := by decide +kernel
theorem dX1_holders_30 : decode cX1_holders 30 = .ok (.ifCond .eq 9, 3) := by decide +kernel
theorem dX1_holders_33 : decode cX1_holders 33 = .ok (.iload_n 2, 1) := by decide +kernel
theorem dX1_holders_34 : decode cX1_holders 34 = .ok (.iconst 1, 1) := by decide +kernel
theorem dX1_holders_35 : decode cX1_holders 35 = .ok (.iload_n 3, 1) := by decide +kernel
theorem dX1_holders_36 : decode cX1_holders 36 = .ok (.ishl, 1) := by decide +kernel
theorem dX1_holders_37 : decode cX1_holders 37 = .ok (.ior, 1) := by decide +kernel
theorem dX1_holders_38 : decode cX1_holders 38 = .ok (.istore_n 2, 1) := by decide +kernel
theorem dX1_holders_39 : decode cX1_holders 39 = .ok (.iinc 3 1, 3) := by decide +kernel
theorem dX1_holders_42 : decode cX1_holders 42 = .ok (.goto (-28), 3) := by decide +kernel
theorem dX1_holders_45 : decode cX1_holders 45 = .ok (.iload_n 2, 1) := by decide +kernel
theorem dX1_holders_46 : decode cX1_holders 46 = .ok (.ireturn, 1) := by decide +kernel
theorem dX1_obstacle_0 : decode cX1_obstacle 0 = .ok (.aload_n 0, 1) := by decide +kernel
theorem dX1_obstacle_1 : decode cX1_obstacle 1 = .ok (.iload_n 1, 1) := by decide +kernel
theorem dX1_obstacle_2 : decode cX1_obstacle 2 = .ok (.invokevirtual 52, 3) := by decide +kernel
theorem dX1_obstacle_5 : decode cX1_obstacle 5 = .ok (.ifCond .eq 5, 3) := by decide +kernel
theorem dX1_obstacle_8 : decode cX1_obstacle 8 = .ok (.iconst (-1), 1) := by decide +kernel
theorem dX1_obstacle_9 : decode cX1_obstacle 9 = .ok (.ireturn, 1) := by decide +kernel
theorem dX1_obstacle_10 : decode cX1_obstacle 10 = .ok (.aload_n 0, 1) := by decide +kernel
theorem dX1_obstacle_11 : decode cX1_obstacle 11 = .ok (.iload_n 2, 1) := by decide +kernel
theorem dX1_obstacle_12 : decode cX1_obstacle 12 = .ok (.iload_n 3, 1) := by decide +kernel
theorem dX1_obstacle_13 : decode cX1_obstacle 13 = .ok (.invokevirtual 56, 3) := by decide +kernel
theorem dX1_obstacle_16 : decode cX1_obstacle 16 = .ok (.ifCond .eq 6, 3) := by decide +kernel
theorem dX1_obstacle_19 : decode cX1_obstacle 19 = .ok (.bipush (-2), 2) := by decide +kernel
theorem dX1_obstacle_21 : decode cX1_obstacle 21 = .ok (.ireturn, 1) := by decide +kernel
theorem dX1_obstacle_22 : decode cX1_obstacle 22 = .ok (.iload 4, 2) := by decide +kernel
theorem dX1_obstacle_24 : decode cX1_obstacle 24 = .ok (.iconst 1, 1) := by decide +kernel
theorem dX1_obstacle_25 : decode cX1_obstacle 25 = .ok (.if_icmp .eq 12, 3) := by decide +kernel
theorem dX1_obstacle_28 : decode cX1_obstacle 28 = .ok (.iload 4, 2) := by decide +kernel
theorem dX1_obstacle_30 : decode cX1_obstacle 30 = .ok (.iconst 2, 1) := by decide +kernel
theorem dX1_obstacle_31 : decode cX1_obstacle 31 = .ok (.if_icmp .eq 6, 3) := by decide +kernel
theorem dX1_obstacle_34 : decode cX1_obstacle 34 = .ok (.bipush (-3), 2) := by decide +kernel
theorem dX1_obstacle_36 : decode cX1_obstacle 36 = .ok (.ireturn, 1) := by decide +kernel
theorem dX1_obstacle_37 : decode cX1_obstacle 37 = .ok (.iload_n 2, 1) := by decide +kernel
theorem dX1_obstacle_38 : decode cX1_obstacle 38 = .ok (.istore 5, 2) := by decide +kernel
theorem dX1_obstacle_40 : decode cX1_obstacle 40 = .ok (.iload 5, 2) := by decide +kernel
theorem dX1_obstacle_42 : decode cX1_obstacle 42 = .ok (.iload_n 2, 1) := by decide +kernel
theorem dX1_obstacle_43 : decode cX1_obstacle 43 = .ok (.iload_n 3, 1) := by decide +kernel
end
section
set_option maxRecDepth 100000
theorem dX1_obstacle_44 : decode cX1_obstacle 44 = .ok (.iadd, 1) := by decide +kernel
theorem dX1_obstacle_45 : decode cX1_obstacle 45 = .ok (.if_icmp .ge 25, 3) := by decide +kernel
theorem dX1_obstacle_48 : decode cX1_obstacle 48 = .ok (.aload_n 0, 1) := by decide +kernel
theorem dX1_obstacle_49 : decode cX1_obstacle 49 = .ok (.iload_n 1, 1) := by decide +kernel
theorem dX1_obstacle_50 : decode cX1_obstacle 50 = .ok (.iload 5, 2) := by decide +kernel
theorem dX1_obstacle_52 : decode cX1_obstacle 52 = .ok (.iconst 1, 1) := by decide +kernel
theorem dX1_obstacle_53 : decode cX1_obstacle 53 = .ok (.iload 4, 2) := by decide +kernel
theorem dX1_obstacle_55 : decode cX1_obstacle 55 = .ok (.invokevirtual 36, 3) := by decide +kernel
theorem dX1_obstacle_58 : decode cX1_obstacle 58 = .ok (.ifCond .eq 6, 3) := by decide +kernel
theorem dX1_obstacle_61 : decode cX1_obstacle 61 = .ok (.iload 5, 2) := by decide +kernel
theorem dX1_obstacle_63 : decode cX1_obstacle 63 = .ok (.ireturn, 1) := by decide +kernel
theorem dX1_obstacle_64 : decode cX1_obstacle 64 = .ok (.iinc 5 1, 3) := by decide +kernel
theorem dX1_obstacle_67 : decode cX1_obstacle 67 = .ok (.goto (-27), 3) := by decide +kernel
theorem dX1_obstacle_70 : decode cX1_obstacle 70 = .ok (.bipush (-4), 2) := by decide +kernel
theorem dX1_obstacle_72 : decode cX1_obstacle 72 = .ok (.ireturn, 1) := by decide +kernel
theorem dX1_wouldCircle_0 : decode cX1_wouldCircle 0 = .ok (.aload_n 0, 1) := by decide +kernel
theorem dX1_wouldCircle_1 : decode cX1_wouldCircle 1 = .ok (.iload_n 1, 1) := by decide +kernel
theorem dX1_wouldCircle_2 : decode cX1_wouldCircle 2 = .ok (.invokevirtual 52, 3) := by decide +kernel
theorem dX1_wouldCircle_5 : decode cX1_wouldCircle 5 = .ok (.ifCond .ne 24, 3) := by decide +kernel
theorem dX1_wouldCircle_8 : decode cX1_wouldCircle 8 = .ok (.aload_n 0, 1) := by decide +kernel
theorem dX1_wouldCircle_9 : decode cX1_wouldCircle 9 = .ok (.iload_n 2, 1) := by decide +kernel
theorem dX1_wouldCircle_10 : decode cX1_wouldCircle 10 = .ok (.iload_n 3, 1) := by decide +kernel
theorem dX1_wouldCircle_11 : decode cX1_wouldCircle 11 = .ok (.invokevirtual 56, 3) := by decide +kernel
theorem dX1_wouldCircle_14 : decode cX1_wouldCircle 14 = .ok (.ifCond .ne 15, 3) := by decide +kernel
theorem dX1_wouldCircle_17 : decode cX1_wouldCircle 17 = .ok (.iload 4, 2) := by decide +kernel
theorem dX1_wouldCircle_19 : decode cX1_wouldCircle 19 = .ok (.iconst 1, 1) := by decide +kernel
theorem dX1_wouldCircle_20 : decode cX1_wouldCircle 20 = .ok (.if_icmp .eq 11, 3) := by decide +kernel
theorem dX1_wouldCircle_23 : decode cX1_wouldCircle 23 = .ok (.iload 4, 2) := by decide +kernel
theorem dX1_wouldCircle_25 : decode cX1_wouldCircle 25 = .ok (.iconst 2, 1) := by decide +kernel
theorem dX1_wouldCircle_26 : decode cX1_wouldCircle 26 = .ok (.if_icmp .eq 5, 3) := by decide +kernel
theorem dX1_wouldCircle_29 : decode cX1_wouldCircle 29 = .ok (.iconst 0, 1) := by decide +kernel
theorem dX1_wouldCircle_30 : decode cX1_wouldCircle 30 = .ok (.ireturn, 1) := by decide +kernel
theorem dX1_wouldCircle_31 : decode cX1_wouldCircle 31 = .ok (.aload_n 0, 1) := by decide +kernel
theorem dX1_wouldCircle_32 : decode cX1_wouldCircle 32 = .ok (.iload_n 1, 1) := by decide +kernel
theorem dX1_wouldCircle_33 : decode cX1_wouldCircle 33 = .ok (.invokevirtual 59, 3) := by decide +kernel
theorem dX1_wouldCircle_36 : decode cX1_wouldCircle 36 = .ok (.ifCond .lt 5, 3) := by decide +kernel
theorem dX1_wouldCircle_39 : decode cX1_wouldCircle 39 = .ok (.iconst 0, 1) := by decide +kernel
theorem dX1_wouldCircle_40 : decode cX1_wouldCircle 40 = .ok (.ireturn, 1) := by decide +kernel
theorem dX1_wouldCircle_41 : decode cX1_wouldCircle 41 = .ok (.aload_n 0, 1) := by decide +kernel
theorem dX1_wouldCircle_42 : decode cX1_wouldCircle 42 = .ok (.iload_n 1, 1) := by decide +kernel
theorem dX1_wouldCircle_43 : decode cX1_wouldCircle 43 = .ok (.iload_n 2, 1) := by decide +kernel
theorem dX1_wouldCircle_44 : decode cX1_wouldCircle 44 = .ok (.iload_n 3, 1) := by decide +kernel
theorem dX1_wouldCircle_45 : decode cX1_wouldCircle 45 = .ok (.iload 4, 2) := by decide +kernel
theorem dX1_wouldCircle_47 : decode cX1_wouldCircle 47 = .ok (.invokevirtual 36, 3) := by decide +kernel
theorem dX1_wouldCircle_50 : decode cX1_wouldCircle 50 = .ok (.istore 5, 2) := by decide +kernel
theorem dX1_wouldCircle_52 : decode cX1_wouldCircle 52 = .ok (.iload 5, 2) := by decide +kernel
theorem dX1_wouldCircle_54 : decode cX1_wouldCircle 54 = .ok (.ifCond .eq 17, 3) := by decide +kernel
theorem dX1_wouldCircle_57 : decode cX1_wouldCircle 57 = .ok (.aload_n 0, 1) := by decide +kernel
theorem dX1_wouldCircle_58 : decode cX1_wouldCircle 58 = .ok (.iload_n 1, 1) := by decide +kernel
theorem dX1_wouldCircle_59 : decode cX1_wouldCircle 59 = .ok (.iload 5, 2) := by decide +kernel
theorem dX1_wouldCircle_61 : decode cX1_wouldCircle 61 = .ok (.invokevirtual 66, 3) := by decide +kernel
theorem dX1_wouldCircle_64 : decode cX1_wouldCircle 64 = .ok (.ifCond .eq 7, 3) := by decide +kernel
theorem dX1_wouldCircle_67 : decode cX1_wouldCircle 67 = .ok (.iconst 1, 1) := by decide +kernel
theorem dX1_wouldCircle_68 : decode cX1_wouldCircle 68 = .ok (.goto 4, 3) := by decide +kernel
theorem dX1_wouldCircle_71 : decode cX1_wouldCircle 71 = .ok (.iconst 0, 1) := by decide +kernel
theorem dX1_wouldCircle_72 : decode cX1_wouldCircle 72 = .ok (.ireturn, 1) := by decide +kernel
theorem dX1_waiting_0 : decode cX1_waiting 0 = .ok (.aload_n 0, 1) := by decide +kernel
theorem dX1_waiting_1 : decode cX1_waiting 1 = .ok (.iload_n 1, 1) := by decide +kernel
theorem dX1_waiting_2 : decode cX1_waiting 2 = .ok (.invokevirtual 52, 3) := by decide +kernel
theorem dX1_waiting_5 : decode cX1_waiting 5 = .ok (.ifCond .eq 5, 3) := by decide +kernel
theorem dX1_waiting_8 : decode cX1_waiting 8 = .ok (.iconst (-1), 1) := by decide +kernel
theorem dX1_waiting_9 : decode cX1_waiting 9 = .ok (.ireturn, 1) := by decide +kernel
theorem dX1_waiting_10 : decode cX1_waiting 10 = .ok (.aload_n 0, 1) := by decide +kernel
theorem dX1_waiting_11 : decode cX1_waiting 11 = .ok (.iload_n 1, 1) := by decide +kernel
theorem dX1_waiting_12 : decode cX1_waiting 12 = .ok (.invokevirtual 59, 3) := by decide +kernel
theorem dX1_waiting_15 : decode cX1_waiting 15 = .ok (.ifCond .lt 7, 3) := by decide +kernel
theorem dX1_waiting_18 : decode cX1_waiting 18 = .ok (.iconst 1, 1) := by decide +kernel
theorem dX1_waiting_19 : decode cX1_waiting 19 = .ok (.goto 4, 3) := by decide +kernel
theorem dX1_waiting_22 : decode cX1_waiting 22 = .ok (.iconst 0, 1) := by decide +kernel
theorem dX1_waiting_23 : decode cX1_waiting 23 = .ok (.ireturn, 1) := by decide +kernel
theorem dX1_waitsFor_0 : decode cX1_waitsFor 0 = .ok (.aload_n 0, 1) := by decide +kernel
theorem dX1_waitsFor_1 : decode cX1_waitsFor 1 = .ok (.iload_n 1, 1) := by decide +kernel
theorem dX1_waitsFor_2 : decode cX1_waitsFor 2 = .ok (.invokevirtual 52, 3) := by decide +kernel
theorem dX1_waitsFor_5 : decode cX1_waitsFor 5 = .ok (.ifCond .eq 5, 3) := by decide +kernel
theorem dX1_waitsFor_8 : decode cX1_waitsFor 8 = .ok (.iconst (-1), 1) := by decide +kernel
theorem dX1_waitsFor_9 : decode cX1_waitsFor 9 = .ok (.ireturn, 1) := by decide +kernel
theorem dX1_waitsFor_10 : decode cX1_waitsFor 10 = .ok (.aload_n 0, 1) := by decide +kernel
theorem dX1_waitsFor_11 : decode cX1_waitsFor 11 = .ok (.iload_n 1, 1) := by decide +kernel
theorem dX1_waitsFor_12 : decode cX1_waitsFor 12 = .ok (.invokevirtual 59, 3) := by decide +kernel
theorem dX1_waitsFor_15 : decode cX1_waitsFor 15 = .ok (.istore_n 2, 1) := by decide +kernel
theorem dX1_waitsFor_16 : decode cX1_waitsFor 16 = .ok (.iload_n 2, 1) := by decide +kernel
theorem dX1_waitsFor_17 : decode cX1_waitsFor 17 = .ok (.ifCond .ge 7, 3) := by decide +kernel
theorem dX1_waitsFor_20 : decode cX1_waitsFor 20 = .ok (.iconst 0, 1) := by decide +kernel
theorem dX1_waitsFor_21 : decode cX1_waitsFor 21 = .ok (.goto 26, 3) := by decide +kernel
theorem dX1_waitsFor_24 : decode cX1_waitsFor 24 = .ok (.aload_n 0, 1) := by decide +kernel
theorem dX1_waitsFor_25 : decode cX1_waitsFor 25 = .ok (.iload_n 1, 1) := by decide +kernel
theorem dX1_waitsFor_26 : decode cX1_waitsFor 26 = .ok (.aload_n 0, 1) := by decide +kernel
theorem dX1_waitsFor_27 : decode cX1_waitsFor 27 = .ok (.getfield 16, 3) := by decide +kernel
theorem dX1_waitsFor_30 : decode cX1_waitsFor 30 = .ok (.iload_n 2, 1) := by decide +kernel
theorem dX1_waitsFor_31 : decode cX1_waitsFor 31 = .ok (.iaload, 1) := by decide +kernel
theorem dX1_waitsFor_32 : decode cX1_waitsFor 32 = .ok (.aload_n 0, 1) := by decide +kernel
theorem dX1_waitsFor_33 : decode cX1_waitsFor 33 = .ok (.getfield 19, 3) := by decide +kernel
theorem dX1_waitsFor_36 : decode cX1_waitsFor 36 = .ok (.iload_n 2, 1) := by decide +kernel
theorem dX1_waitsFor_37 : decode cX1_waitsFor 37 = .ok (.iaload, 1) := by decide +kernel
theorem dX1_waitsFor_38 : decode cX1_waitsFor 38 = .ok (.aload_n 0, 1) := by decide +kernel
theorem dX1_waitsFor_39 : decode cX1_waitsFor 39 = .ok (.getfield 22, 3) := by decide +kernel
theorem dX1_waitsFor_42 : decode cX1_waitsFor 42 = .ok (.iload_n 2, 1) := by decide +kernel
theorem dX1_waitsFor_43 : decode cX1_waitsFor 43 = .ok (.iaload, 1) := by decide +kernel
theorem dX1_waitsFor_44 : decode cX1_waitsFor 44 = .ok (.invokevirtual 36, 3) := by decide +kernel
theorem dX1_waitsFor_47 : decode cX1_waitsFor 47 = .ok (.ireturn, 1) := by decide +kernel
theorem dX1_ahead_0 : decode cX1_ahead 0 = .ok (.aload_n 0, 1) := by decide +kernel
theorem dX1_ahead_1 : decode cX1_ahead 1 = .ok (.iload_n 1, 1) := by decide +kernel
theorem dX1_ahead_2 : decode cX1_ahead 2 = .ok (.invokevirtual 52, 3) := by decide +kernel
theorem dX1_ahead_5 : decode cX1_ahead 5 = .ok (.ifCond .eq 5, 3) := by decide +kernel
theorem dX1_ahead_8 : decode cX1_ahead 8 = .ok (.iconst (-1), 1) := by decide +kernel
theorem dX1_ahead_9 : decode cX1_ahead 9 = .ok (.ireturn, 1) := by decide +kernel
theorem dX1_ahead_10 : decode cX1_ahead 10 = .ok (.aload_n 0, 1) := by decide +kernel
theorem dX1_ahead_11 : decode cX1_ahead 11 = .ok (.iload_n 1, 1) := by decide +kernel
theorem dX1_ahead_12 : decode cX1_ahead 12 = .ok (.invokevirtual 59, 3) := by decide +kernel
theorem dX1_ahead_15 : decode cX1_ahead 15 = .ok (.istore_n 2, 1) := by decide +kernel
theorem dX1_ahead_16 : decode cX1_ahead 16 = .ok (.iload_n 2, 1) := by decide +kernel
theorem dX1_ahead_17 : decode cX1_ahead 17 = .ok (.ifCond .ge 8, 3) := by decide +kernel
theorem dX1_ahead_20 : decode cX1_ahead 20 = .ok (.bipush (-2), 2) := by decide +kernel
theorem dX1_ahead_22 : decode cX1_ahead 22 = .ok (.goto 4, 3) := by decide +kernel
theorem dX1_ahead_25 : decode cX1_ahead 25 = .ok (.iload_n 2, 1) := by decide +kernel
theorem dX1_ahead_26 : decode cX1_ahead 26 = .ok (.ireturn, 1) := by decide +kernel
theorem dX1_pieces_0 : decode cX1_pieces 0 = .ok (.aload_n 0, 1) := by decide +kernel
theorem dX1_pieces_1 : decode cX1_pieces 1 = .ok (.iload_n 1, 1) := by decide +kernel
theorem dX1_pieces_2 : decode cX1_pieces 2 = .ok (.invokevirtual 52, 3) := by decide +kernel
theorem dX1_pieces_5 : decode cX1_pieces 5 = .ok (.ifCond .eq 5, 3) := by decide +kernel
theorem dX1_pieces_8 : decode cX1_pieces 8 = .ok (.iconst (-1), 1) := by decide +kernel
theorem dX1_pieces_9 : decode cX1_pieces 9 = .ok (.ireturn, 1) := by decide +kernel
theorem dX1_pieces_10 : decode cX1_pieces 10 = .ok (.iconst 0, 1) := by decide +kernel
theorem dX1_pieces_11 : decode cX1_pieces 11 = .ok (.istore_n 2, 1) := by decide +kernel
theorem dX1_pieces_12 : decode cX1_pieces 12 = .ok (.iconst 0, 1) := by decide +kernel
theorem dX1_pieces_13 : decode cX1_pieces 13 = .ok (.istore_n 3, 1) := by decide +kernel
theorem dX1_pieces_14 : decode cX1_pieces 14 = .ok (.iload_n 3, 1) := by decide +kernel
theorem dX1_pieces_15 : decode cX1_pieces 15 = .ok (.bipush 40, 2) := by decide +kernel
theorem dX1_pieces_17 : decode cX1_pieces 17 = .ok (.if_icmp .ge 21, 3) := by decide +kernel
theorem dX1_pieces_20 : decode cX1_pieces 20 = .ok (.aload_n 0, 1) := by decide +kernel
theorem dX1_pieces_21 : decode cX1_pieces 21 = .ok (.iload_n 1, 1) := by decide +kernel
theorem dX1_pieces_22 : decode cX1_pieces 22 = .ok (.iload_n 3, 1) := by decide +kernel
theorem dX1_pieces_23 : decode cX1_pieces 23 = .ok (.invokevirtual 72, 3) := by decide +kernel
theorem dX1_pieces_26 : decode cX1_pieces 26 = .ok (.ifCond .eq 6, 3) := by decide +kernel
theorem dX1_pieces_29 : decode cX1_pieces 29 = .ok (.iinc 2 1, 3) := by decide +kernel
theorem dX1_pieces_32 : decode cX1_pieces 32 = .ok (.iinc 3 1, 3) := by decide +kernel
theorem dX1_pieces_35 : decode cX1_pieces 35 = .ok (.goto (-21), 3) := by decide +kernel
theorem dX1_pieces_38 : decode cX1_pieces 38 = .ok (.iload_n 2, 1) := by decide +kernel
theorem dX1_pieces_39 : decode cX1_pieces 39 = .ok (.ireturn, 1) := by decide +kernel
theorem dX1_begins_0 : decode cX1_begins 0 = .ok (.aload_n 0, 1) := by decide +kernel
theorem dX1_begins_1 : decode cX1_begins 1 = .ok (.getfield 7, 3) := by decide +kernel
theorem dX1_begins_4 : decode cX1_begins 4 = .ok (.bipush 40, 2) := by decide +kernel
theorem dX1_begins_6 : decode cX1_begins 6 = .ok (.iload_n 1, 1) := by decide +kernel
theorem dX1_begins_7 : decode cX1_begins 7 = .ok (.imul, 1) := by decide +kernel
theorem dX1_begins_8 : decode cX1_begins 8 = .ok (.iload_n 2, 1) := by decide +kernel
theorem dX1_begins_9 : decode cX1_begins 9 = .ok (.iadd, 1) := by decide +kernel
theorem dX1_begins_10 : decode cX1_begins 10 = .ok (.iaload, 1) := by decide +kernel
theorem dX1_begins_11 : decode cX1_begins 11 = .ok (.ifCond .ne 5, 3) := by decide +kernel
theorem dX1_begins_14 : decode cX1_begins 14 = .ok (.iconst 0, 1) := by decide +kernel
theorem dX1_begins_15 : decode cX1_begins 15 = .ok (.ireturn, 1) := by decide +kernel
theorem dX1_begins_16 : decode cX1_begins 16 = .ok (.iload_n 2, 1) := by decide +kernel
theorem dX1_begins_17 : decode cX1_begins 17 = .ok (.ifCond .eq 30, 3) := by decide +kernel
theorem dX1_begins_20 : decode cX1_begins 20 = .ok (.aload_n 0, 1) := by decide +kernel
theorem dX1_begins_21 : decode cX1_begins 21 = .ok (.getfield 7, 3) := by decide +kernel
theorem dX1_begins_24 : decode cX1_begins 24 = .ok (.bipush 40, 2) := by decide +kernel
theorem dX1_begins_26 : decode cX1_begins 26 = .ok (.iload_n 1, 1) := by decide +kernel
theorem dX1_begins_27 : decode cX1_begins 27 = .ok (.imul, 1) := by decide +kernel
theorem dX1_begins_28 : decode cX1_begins 28 = .ok (.iload_n 2, 1) := by decide +kernel
theorem dX1_begins_29 : decode cX1_begins 29 = .ok (.iadd, 1) := by decide +kernel
theorem dX1_begins_30 : decode cX1_begins 30 = .ok (.iconst 1, 1) := by decide +kernel
theorem dX1_begins_31 : decode cX1_begins 31 = .ok (.isub, 1) := by decide +kernel
theorem dX1_begins_32 : decode cX1_begins 32 = .ok (.iaload, 1) := by decide +kernel
theorem dX1_begins_33 : decode cX1_begins 33 = .ok (.aload_n 0, 1) := by decide +kernel
theorem dX1_begins_34 : decode cX1_begins 34 = .ok (.getfield 7, 3) := by decide +kernel
theorem dX1_begins_37 : decode cX1_begins 37 = .ok (.bipush 40, 2) := by decide +kernel
theorem dX1_begins_39 : decode cX1_begins 39 = .ok (.iload_n 1, 1) := by decide +kernel
theorem dX1_begins_40 : decode cX1_begins 40 = .ok (.imul, 1) := by decide +kernel
theorem dX1_begins_41 : decode cX1_begins 41 = .ok (.iload_n 2, 1) := by decide +kernel
theorem dX1_begins_42 : decode cX1_begins 42 = .ok (.iadd, 1) := by decide +kernel
theorem dX1_begins_43 : decode cX1_begins 43 = .ok (.iaload, 1) := by decide +kernel
theorem dX1_begins_44 : decode cX1_begins 44 = .ok (.if_icmp .eq 7, 3) := by decide +kernel
theorem dX1_begins_47 : decode cX1_begins 47 = .ok (.iconst 1, 1) := by decide +kernel
theorem dX1_begins_48 : decode cX1_begins 48 = .ok (.goto 4, 3) := by decide +kernel
theorem dX1_begins_51 : decode cX1_begins 51 = .ok (.iconst 0, 1) := by decide +kernel
theorem dX1_begins_52 : decode cX1_begins 52 = .ok (.ireturn, 1) := by decide +kernel
theorem dX1_pieceStart_0 : decode cX1_pieceStart 0 = .ok (.aload_n 0, 1) := by decide +kernel
theorem dX1_pieceStart_1 : decode cX1_pieceStart 1 = .ok (.iload_n 1, 1) := by decide +kernel
theorem dX1_pieceStart_2 : decode cX1_pieceStart 2 = .ok (.invokevirtual 52, 3) := by decide +kernel
theorem dX1_pieceStart_5 : decode cX1_pieceStart 5 = .ok (.ifCond .eq 7, 3) := by decide +kernel
theorem dX1_pieceStart_8 : decode cX1_pieceStart 8 = .ok (.iconst (-1), 1) := by decide +kernel
theorem dX1_pieceStart_9 : decode cX1_pieceStart 9 = .ok (.goto 9, 3) := by decide +kernel
theorem dX1_pieceStart_12 : decode cX1_pieceStart 12 = .ok (.aload_n 0, 1) := by decide +kernel
theorem dX1_pieceStart_13 : decode cX1_pieceStart 13 = .ok (.iload_n 1, 1) := by decide +kernel
theorem dX1_pieceStart_14 : decode cX1_pieceStart 14 = .ok (.iload_n 2, 1) := by decide +kernel
theorem dX1_pieceStart_15 : decode cX1_pieceStart 15 = .ok (.invokevirtual 75, 3) := by decide +kernel
theorem dX1_pieceStart_18 : decode cX1_pieceStart 18 = .ok (.ireturn, 1) := by decide +kernel
theorem dX1_startOf_0 : decode cX1_startOf 0 = .ok (.iconst 0, 1) := by decide +kernel
theorem dX1_startOf_1 : decode cX1_startOf 1 = .ok (.istore_n 3, 1) := by decide +kernel
theorem dX1_startOf_2 : decode cX1_startOf 2 = .ok (.iconst 0, 1) := by decide +kernel
theorem dX1_startOf_3 : decode cX1_startOf 3 = .ok (.istore 4, 2) := by decide +kernel
theorem dX1_startOf_5 : decode cX1_startOf 5 = .ok (.iload 4, 2) := by decide +kernel
theorem dX1_startOf_7 : decode cX1_startOf 7 = .ok (.bipush 40, 2) := by decide +kernel
theorem dX1_startOf_9 : decode cX1_startOf 9 = .ok (.if_icmp .ge 30, 3) := by decide +kernel
theorem dX1_startOf_12 : decode cX1_startOf 12 = .ok (.aload_n 0, 1) := by decide +kernel
theorem dX1_startOf_13 : decode cX1_startOf 13 = .ok (.iload_n 1, 1) := by decide +kernel
theorem dX1_startOf_14 : decode cX1_startOf 14 = .ok (.iload 4, 2) := by decide +kernel
theorem dX1_startOf_16 : decode cX1_startOf 16 = .ok (.invokevirtual 72, 3) := by decide +kernel
theorem dX1_startOf_19 : decode cX1_startOf 19 = .ok (.ifCond .eq 14, 3) := by decide +kernel
theorem dX1_startOf_22 : decode cX1_startOf 22 = .ok (.iload_n 3, 1) := by decide +kernel
theorem dX1_startOf_23 : decode cX1_startOf 23 = .ok (.iload_n 2, 1) := by decide +kernel
theorem dX1_startOf_24 : decode cX1_startOf 24 = .ok (.if_icmp .ne 6, 3) := by decide +kernel
theorem dX1_startOf_27 : decode cX1_startOf 27 = .ok (.iload 4, 2) := by decide +kernel
theorem dX1_startOf_29 : decode cX1_startOf 29 = .ok (.ireturn, 1) := by decide +kernel
theorem dX1_startOf_30 : decode cX1_startOf 30 = .ok (.iinc 3 1, 3) := by decide +kernel
theorem dX1_startOf_33 : decode cX1_startOf 33 = .ok (.iinc 4 1, 3) := by decide +kernel
theorem dX1_startOf_36 : decode cX1_startOf 36 = .ok (.goto (-31), 3) := by decide +kernel
theorem dX1_startOf_39 : decode cX1_startOf 39 = .ok (.bipush (-2), 2) := by decide +kernel
theorem dX1_startOf_41 : decode cX1_startOf 41 = .ok (.ireturn, 1) := by decide +kernel
theorem dX1_pieceEnd_0 : decode cX1_pieceEnd 0 = .ok (.aload_n 0, 1) := by decide +kernel
theorem dX1_pieceEnd_1 : decode cX1_pieceEnd 1 = .ok (.iload_n 1, 1) := by decide +kernel
theorem dX1_pieceEnd_2 : decode cX1_pieceEnd 2 = .ok (.invokevirtual 52, 3) := by decide +kernel
theorem dX1_pieceEnd_5 : decode cX1_pieceEnd 5 = .ok (.ifCond .eq 5, 3) := by decide +kernel
theorem dX1_pieceEnd_8 : decode cX1_pieceEnd 8 = .ok (.iconst (-1), 1) := by decide +kernel
theorem dX1_pieceEnd_9 : decode cX1_pieceEnd 9 = .ok (.ireturn, 1) := by decide +kernel
theorem dX1_pieceEnd_10 : decode cX1_pieceEnd 10 = .ok (.aload_n 0, 1) := by decide +kernel
theorem dX1_pieceEnd_11 : decode cX1_pieceEnd 11 = .ok (.iload_n 1, 1) := by decide +kernel
theorem dX1_pieceEnd_12 : decode cX1_pieceEnd 12 = .ok (.iload_n 2, 1) := by decide +kernel
theorem dX1_pieceEnd_13 : decode cX1_pieceEnd 13 = .ok (.invokevirtual 75, 3) := by decide +kernel
theorem dX1_pieceEnd_16 : decode cX1_pieceEnd 16 = .ok (.istore_n 3, 1) := by decide +kernel
theorem dX1_pieceEnd_17 : decode cX1_pieceEnd 17 = .ok (.iload_n 3, 1) := by decide +kernel
theorem dX1_pieceEnd_18 : decode cX1_pieceEnd 18 = .ok (.ifCond .ge 6, 3) := by decide +kernel
theorem dX1_pieceEnd_21 : decode cX1_pieceEnd 21 = .ok (.bipush (-2), 2) := by decide +kernel
theorem dX1_pieceEnd_23 : decode cX1_pieceEnd 23 = .ok (.ireturn, 1) := by decide +kernel
theorem dX1_pieceEnd_24 : decode cX1_pieceEnd 24 = .ok (.iload_n 3, 1) := by decide +kernel
theorem dX1_pieceEnd_25 : decode cX1_pieceEnd 25 = .ok (.bipush 39, 2) := by decide +kernel
theorem dX1_pieceEnd_27 : decode cX1_pieceEnd 27 = .ok (.if_icmp .ge 36, 3) := by decide +kernel
theorem dX1_pieceEnd_30 : decode cX1_pieceEnd 30 = .ok (.aload_n 0, 1) := by decide +kernel
theorem dX1_pieceEnd_31 : decode cX1_pieceEnd 31 = .ok (.getfield 7, 3) := by decide +kernel
theorem dX1_pieceEnd_34 : decode cX1_pieceEnd 34 = .ok (.bipush 40, 2) := by decide +kernel
theorem dX1_pieceEnd_36 : decode cX1_pieceEnd 36 = .ok (.iload_n 1, 1) := by decide +kernel
theorem dX1_pieceEnd_37 : decode cX1_pieceEnd 37 = .ok (.imul, 1) := by decide +kernel
theorem dX1_pieceEnd_38 : decode cX1_pieceEnd 38 = .ok (.iload_n 3, 1) := by decide +kernel
theorem dX1_pieceEnd_39 : decode cX1_pieceEnd 39 = .ok (.iadd, 1) := by decide +kernel
theorem dX1_pieceEnd_40 : decode cX1_pieceEnd 40 = .ok (.iconst 1, 1) := by decide +kernel
theorem dX1_pieceEnd_41 : decode cX1_pieceEnd 41 = .ok (.iadd, 1) := by decide +kernel
theorem dX1_pieceEnd_42 : decode cX1_pieceEnd 42 = .ok (.iaload, 1) := by decide +kernel
theorem dX1_pieceEnd_43 : decode cX1_pieceEnd 43 = .ok (.aload_n 0, 1) := by decide +kernel
theorem dX1_pieceEnd_44 : decode cX1_pieceEnd 44 = .ok (.getfield 7, 3) := by decide +kernel
theorem dX1_pieceEnd_47 : decode cX1_pieceEnd 47 = .ok (.bipush 40, 2) := by decide +kernel
theorem dX1_pieceEnd_49 : decode cX1_pieceEnd 49 = .ok (.iload_n 1, 1) := by decide +kernel
theorem dX1_pieceEnd_50 : decode cX1_pieceEnd 50 = .ok (.imul, 1) := by decide +kernel
theorem dX1_pieceEnd_51 : decode cX1_pieceEnd 51 = .ok (.iload_n 3, 1) := by decide +kernel
theorem dX1_pieceEnd_52 : decode cX1_pieceEnd 52 = .ok (.iadd, 1) := by decide +kernel
theorem dX1_pieceEnd_53 : decode cX1_pieceEnd 53 = .ok (.iaload, 1) := by decide +kernel
theorem dX1_pieceEnd_54 : decode cX1_pieceEnd 54 = .ok (.if_icmp .ne 9, 3) := by decide +kernel
theorem dX1_pieceEnd_57 : decode cX1_pieceEnd 57 = .ok (.iinc 3 1, 3) := by decide +kernel
theorem dX1_pieceEnd_60 : decode cX1_pieceEnd 60 = .ok (.goto (-36), 3) := by decide +kernel
theorem dX1_pieceEnd_63 : decode cX1_pieceEnd 63 = .ok (.iload_n 3, 1) := by decide +kernel
theorem dX1_pieceEnd_64 : decode cX1_pieceEnd 64 = .ok (.ireturn, 1) := by decide +kernel
theorem dX1_pieceType_0 : decode cX1_pieceType 0 = .ok (.aload_n 0, 1) := by decide +kernel
theorem dX1_pieceType_1 : decode cX1_pieceType 1 = .ok (.iload_n 1, 1) := by decide +kernel
theorem dX1_pieceType_2 : decode cX1_pieceType 2 = .ok (.invokevirtual 52, 3) := by decide +kernel
theorem dX1_pieceType_5 : decode cX1_pieceType 5 = .ok (.ifCond .eq 5, 3) := by decide +kernel
theorem dX1_pieceType_8 : decode cX1_pieceType 8 = .ok (.iconst (-1), 1) := by decide +kernel
theorem dX1_pieceType_9 : decode cX1_pieceType 9 = .ok (.ireturn, 1) := by decide +kernel
theorem dX1_pieceType_10 : decode cX1_pieceType 10 = .ok (.aload_n 0, 1) := by decide +kernel
theorem dX1_pieceType_11 : decode cX1_pieceType 11 = .ok (.iload_n 1, 1) := by decide +kernel
theorem dX1_pieceType_12 : decode cX1_pieceType 12 = .ok (.iload_n 2, 1) := by decide +kernel
theorem dX1_pieceType_13 : decode cX1_pieceType 13 = .ok (.invokevirtual 75, 3) := by decide +kernel
theorem dX1_pieceType_16 : decode cX1_pieceType 16 = .ok (.istore_n 3, 1) := by decide +kernel
theorem dX1_pieceType_17 : decode cX1_pieceType 17 = .ok (.iload_n 3, 1) := by decide +kernel
theorem dX1_pieceType_18 : decode cX1_pieceType 18 = .ok (.ifCond .ge 8, 3) := by decide +kernel
theorem dX1_pieceType_21 : decode cX1_pieceType 21 = .ok (.bipush (-2), 2) := by decide +kernel
theorem dX1_pieceType_23 : decode cX1_pieceType 23 = .ok (.goto 14, 3) := by decide +kernel
theorem dX1_pieceType_26 : decode cX1_pieceType 26 = .ok (.aload_n 0, 1) := by decide +kernel
theorem dX1_pieceType_27 : decode cX1_pieceType 27 = .ok (.getfield 7, 3) := by decide +kernel
theorem dX1_pieceType_30 : decode cX1_pieceType 30 = .ok (.bipush 40, 2) := by decide +kernel
theorem dX1_pieceType_32 : decode cX1_pieceType 32 = .ok (.iload_n 1, 1) := by decide +kernel
theorem dX1_pieceType_33 : decode cX1_pieceType 33 = .ok (.imul, 1) := by decide +kernel
theorem dX1_pieceType_34 : decode cX1_pieceType 34 = .ok (.iload_n 3, 1) := by decide +kernel
theorem dX1_pieceType_35 : decode cX1_pieceType 35 = .ok (.iadd, 1) := by decide +kernel
theorem dX1_pieceType_36 : decode cX1_pieceType 36 = .ok (.iaload, 1) := by decide +kernel
theorem dX1_pieceType_37 : decode cX1_pieceType 37 = .ok (.ireturn, 1) := by decide +kernel
theorem dX1_count_0 : decode cX1_count 0 = .ok (.aload_n 0, 1) := by decide +kernel
theorem dX1_count_1 : decode cX1_count 1 = .ok (.iload_n 1, 1) := by decide +kernel
theorem dX1_count_2 : decode cX1_count 2 = .ok (.invokevirtual 52, 3) := by decide +kernel
theorem dX1_count_5 : decode cX1_count 5 = .ok (.ifCond .eq 5, 3) := by decide +kernel
theorem dX1_count_8 : decode cX1_count 8 = .ok (.iconst (-1), 1) := by decide +kernel
theorem dX1_count_9 : decode cX1_count 9 = .ok (.ireturn, 1) := by decide +kernel
theorem dX1_count_10 : decode cX1_count 10 = .ok (.iload_n 2, 1) := by decide +kernel
theorem dX1_count_11 : decode cX1_count 11 = .ok (.ifCond .lt 8, 3) := by decide +kernel
theorem dX1_count_14 : decode cX1_count 14 = .ok (.iload_n 2, 1) := by decide +kernel
theorem dX1_count_15 : decode cX1_count 15 = .ok (.iconst 2, 1) := by decide +kernel
theorem dX1_count_16 : decode cX1_count 16 = .ok (.if_icmp .le 6, 3) := by decide +kernel
theorem dX1_count_19 : decode cX1_count 19 = .ok (.bipush (-2), 2) := by decide +kernel
theorem dX1_count_21 : decode cX1_count 21 = .ok (.ireturn, 1) := by decide +kernel
theorem dX1_count_22 : decode cX1_count 22 = .ok (.iconst 0, 1) := by decide +kernel
theorem dX1_count_23 : decode cX1_count 23 = .ok (.istore_n 3, 1) := by decide +kernel
theorem dX1_count_24 : decode cX1_count 24 = .ok (.iconst 0, 1) := by decide +kernel
theorem dX1_count_25 : decode cX1_count 25 = .ok (.istore 4, 2) := by decide +kernel
theorem dX1_count_27 : decode cX1_count 27 = .ok (.iload 4, 2) := by decide +kernel
theorem dX1_count_29 : decode cX1_count 29 = .ok (.bipush 40, 2) := by decide +kernel
theorem dX1_count_31 : decode cX1_count 31 = .ok (.if_icmp .ge 28, 3) := by decide +kernel
theorem dX1_count_34 : decode cX1_count 34 = .ok (.aload_n 0, 1) := by decide +kernel
theorem dX1_count_35 : decode cX1_count 35 = .ok (.getfield 7, 3) := by decide +kernel
theorem dX1_count_38 : decode cX1_count 38 = .ok (.bipush 40, 2) := by decide +kernel
theorem dX1_count_40 : decode cX1_count 40 = .ok (.iload_n 1, 1) := by decide +kernel
theorem dX1_count_41 : decode cX1_count 41 = .ok (.imul, 1) := by decide +kernel
theorem dX1_count_42 : decode cX1_count 42 = .ok (.iload 4, 2) := by decide +kernel
theorem dX1_count_44 : decode cX1_count 44 = .ok (.iadd, 1) := by decide +kernel
theorem dX1_count_45 : decode cX1_count 45 = .ok (.iaload, 1) := by decide +kernel
theorem dX1_count_46 : decode cX1_count 46 = .ok (.iload_n 2, 1) := by decide +kernel
theorem dX1_count_47 : decode cX1_count 47 = .ok (.if_icmp .ne 6, 3) := by decide +kernel
theorem dX1_count_50 : decode cX1_count 50 = .ok (.iinc 3 1, 3) := by decide +kernel
theorem dX1_count_53 : decode cX1_count 53 = .ok (.iinc 4 1, 3) := by decide +kernel
theorem dX1_count_56 : decode cX1_count 56 = .ok (.goto (-29), 3) := by decide +kernel
theorem dX1_count_59 : decode cX1_count 59 = .ok (.iload_n 3, 1) := by decide +kernel
theorem dX1_count_60 : decode cX1_count 60 = .ok (.ireturn, 1) := by decide +kernel
theorem dX1_free_0 : decode cX1_free 0 = .ok (.iconst 0, 1) := by decide +kernel
theorem dX1_free_1 : decode cX1_free 1 = .ok (.istore_n 1, 1) := by decide +kernel
theorem dX1_free_2 : decode cX1_free 2 = .ok (.iconst 0, 1) := by decide +kernel
theorem dX1_free_3 : decode cX1_free 3 = .ok (.istore_n 2, 1) := by decide +kernel
theorem dX1_free_4 : decode cX1_free 4 = .ok (.iload_n 2, 1) := by decide +kernel
theorem dX1_free_5 : decode cX1_free 5 = .ok (.bipush 40, 2) := by decide +kernel
theorem dX1_free_7 : decode cX1_free 7 = .ok (.if_icmp .ge 20, 3) := by decide +kernel
theorem dX1_free_10 : decode cX1_free 10 = .ok (.aload_n 0, 1) := by decide +kernel
theorem dX1_free_11 : decode cX1_free 11 = .ok (.iload_n 2, 1) := by decide +kernel
theorem dX1_free_12 : decode cX1_free 12 = .ok (.invokevirtual 79, 3) := by decide +kernel
theorem dX1_free_15 : decode cX1_free 15 = .ok (.ifCond .ne 6, 3) := by decide +kernel
theorem dX1_free_18 : decode cX1_free 18 = .ok (.iinc 1 1, 3) := by decide +kernel
theorem dX1_free_21 : decode cX1_free 21 = .ok (.iinc 2 1, 3) := by decide +kernel
theorem dX1_free_24 : decode cX1_free 24 = .ok (.goto (-20), 3) := by decide +kernel
theorem dX1_free_27 : decode cX1_free 27 = .ok (.iload_n 1, 1) := by decide +kernel
theorem dX1_free_28 : decode cX1_free 28 = .ok (.ireturn, 1) := by decide +kernel
end
section
set_option maxRecDepth 100000
theorem dL_law_0 : decode cL_law 0 = .ok (.new 7, 3) := by decide +kernel
theorem dL_law_3 : decode cL_law 3 = .ok (.dup, 1) := by decide +kernel
theorem dL_law_4 : decode cL_law 4 = .ok (.invokespecial 9, 3) := by decide +kernel
theorem dL_law_7 : decode cL_law 7 = .ok (.astore_n 1, 1) := by decide +kernel
theorem dL_law_8 : decode cL_law 8 = .ok (.new 10, 3) := by decide +kernel
theorem dL_law_11 : decode cL_law 11 = .ok (.dup, 1) := by decide +kernel
theorem dL_law_12 : decode cL_law 12 = .ok (.invokespecial 12, 3) := by decide +kernel
theorem dL_law_15 : decode cL_law 15 = .ok (.astore_n 2, 1) := by decide +kernel
theorem dL_law_16 : decode cL_law 16 = .ok (.iconst 0, 1) := by decide +kernel
theorem dL_law_17 : decode cL_law 17 = .ok (.istore_n 3, 1) := by decide +kernel
theorem dL_law_18 : decode cL_law 18 = .ok (.iload_n 3, 1) := by decide +kernel
theorem dL_law_19 : decode cL_law 19 = .ok (.aload_n 0, 1) := by decide +kernel
theorem dL_law_20 : decode cL_law 20 = .ok (.arraylength, 1) := by decide +kernel
theorem dL_law_21 : decode cL_law 21 = .ok (.iconst 5, 1) := by decide +kernel
theorem dL_law_22 : decode cL_law 22 = .ok (.isub, 1) := by decide +kernel
theorem dL_law_23 : decode cL_law 23 = .ok (.if_icmp .gt 650, 3) := by decide +kernel
theorem dL_law_26 : decode cL_law 26 = .ok (.aload_n 0, 1) := by decide +kernel
theorem dL_law_27 : decode cL_law 27 = .ok (.iload_n 3, 1) := by decide +kernel
theorem dL_law_28 : decode cL_law 28 = .ok (.iaload, 1) := by decide +kernel
theorem dL_law_29 : decode cL_law 29 = .ok (.bipush 31, 2) := by decide +kernel
theorem dL_law_31 : decode cL_law 31 = .ok (.iand, 1) := by decide +kernel
theorem dL_law_32 : decode cL_law 32 = .ok (.tableswitch 635 0 16 #[84, 137, 190, 213, 236, 269, 292, 345, 398, 421, 444, 467, 490, 523, 556, 589, 622], 84) := by decide +kernel
theorem dL_law_116 : decode cL_law 116 = .ok (.aload_n 1, 1) := by decide +kernel
theorem dL_law_117 : decode cL_law 117 = .ok (.aload_n 0, 1) := by decide +kernel
theorem dL_law_118 : decode cL_law 118 = .ok (.iload_n 3, 1) := by decide +kernel
theorem dL_law_119 : decode cL_law 119 = .ok (.iconst 1, 1) := by decide +kernel
theorem dL_law_120 : decode cL_law 120 = .ok (.iadd, 1) := by decide +kernel
theorem dL_law_121 : decode cL_law 121 = .ok (.iaload, 1) := by decide +kernel
theorem dL_law_122 : decode cL_law 122 = .ok (.aload_n 0, 1) := by decide +kernel
theorem dL_law_123 : decode cL_law 123 = .ok (.iload_n 3, 1) := by decide +kernel
theorem dL_law_124 : decode cL_law 124 = .ok (.iconst 2, 1) := by decide +kernel
theorem dL_law_125 : decode cL_law 125 = .ok (.iadd, 1) := by decide +kernel
theorem dL_law_126 : decode cL_law 126 = .ok (.iaload, 1) := by decide +kernel
theorem dL_law_127 : decode cL_law 127 = .ok (.aload_n 0, 1) := by decide +kernel
theorem dL_law_128 : decode cL_law 128 = .ok (.iload_n 3, 1) := by decide +kernel
theorem dL_law_129 : decode cL_law 129 = .ok (.iconst 3, 1) := by decide +kernel
theorem dL_law_130 : decode cL_law 130 = .ok (.iadd, 1) := by decide +kernel
theorem dL_law_131 : decode cL_law 131 = .ok (.iaload, 1) := by decide +kernel
theorem dL_law_132 : decode cL_law 132 = .ok (.aload_n 0, 1) := by decide +kernel
theorem dL_law_133 : decode cL_law 133 = .ok (.iload_n 3, 1) := by decide +kernel
theorem dL_law_134 : decode cL_law 134 = .ok (.iconst 4, 1) := by decide +kernel
theorem dL_law_135 : decode cL_law 135 = .ok (.iadd, 1) := by decide +kernel
theorem dL_law_136 : decode cL_law 136 = .ok (.iaload, 1) := by decide +kernel
theorem dL_law_137 : decode cL_law 137 = .ok (.invokevirtual 13, 3) := by decide +kernel
theorem dL_law_140 : decode cL_law 140 = .ok (.aload_n 2, 1) := by decide +kernel
theorem dL_law_141 : decode cL_law 141 = .ok (.aload_n 0, 1) := by decide +kernel
theorem dL_law_142 : decode cL_law 142 = .ok (.iload_n 3, 1) := by decide +kernel
theorem dL_law_143 : decode cL_law 143 = .ok (.iconst 1, 1) := by decide +kernel
theorem dL_law_144 : decode cL_law 144 = .ok (.iadd, 1) := by decide +kernel
theorem dL_law_145 : decode cL_law 145 = .ok (.iaload, 1) := by decide +kernel
theorem dL_law_146 : decode cL_law 146 = .ok (.aload_n 0, 1) := by decide +kernel
theorem dL_law_147 : decode cL_law 147 = .ok (.iload_n 3, 1) := by decide +kernel
theorem dL_law_148 : decode cL_law 148 = .ok (.iconst 2, 1) := by decide +kernel
theorem dL_law_149 : decode cL_law 149 = .ok (.iadd, 1) := by decide +kernel
theorem dL_law_150 : decode cL_law 150 = .ok (.iaload, 1) := by decide +kernel
theorem dL_law_151 : decode cL_law 151 = .ok (.aload_n 0, 1) := by decide +kernel
theorem dL_law_152 : decode cL_law 152 = .ok (.iload_n 3, 1) := by decide +kernel
theorem dL_law_153 : decode cL_law 153 = .ok (.iconst 3, 1) := by decide +kernel
theorem dL_law_154 : decode cL_law 154 = .ok (.iadd, 1) := by decide +kernel
theorem dL_law_155 : decode cL_law 155 = .ok (.iaload, 1) := by decide +kernel
theorem dL_law_156 : decode cL_law 156 = .ok (.aload_n 0, 1) := by decide +kernel
theorem dL_law_157 : decode cL_law 157 = .ok (.iload_n 3, 1) := by decide +kernel
theorem dL_law_158 : decode cL_law 158 = .ok (.iconst 4, 1) := by decide +kernel
theorem dL_law_159 : decode cL_law 159 = .ok (.iadd, 1) := by decide +kernel
theorem dL_law_160 : decode cL_law 160 = .ok (.iaload, 1) := by decide +kernel
theorem dL_law_161 : decode cL_law 161 = .ok (.invokevirtual 17, 3) := by decide +kernel
theorem dL_law_164 : decode cL_law 164 = .ok (.if_icmp .eq 503, 3) := by decide +kernel
theorem dL_law_167 : decode cL_law 167 = .ok (.iconst 0, 1) := by decide +kernel
theorem dL_law_168 : decode cL_law 168 = .ok (.ireturn, 1) := by decide +kernel
theorem dL_law_169 : decode cL_law 169 = .ok (.aload_n 1, 1) := by decide +kernel
theorem dL_law_170 : decode cL_law 170 = .ok (.aload_n 0, 1) := by decide +kernel
theorem dL_law_171 : decode cL_law 171 = .ok (.iload_n 3, 1) := by decide +kernel
theorem dL_law_172 : decode cL_law 172 = .ok (.iconst 1, 1) := by decide +kernel
theorem dL_law_173 : decode cL_law 173 = .ok (.iadd, 1) := by decide +kernel
theorem dL_law_174 : decode cL_law 174 = .ok (.iaload, 1) := by decide +kernel
theorem dL_law_175 : decode cL_law 175 = .ok (.aload_n 0, 1) := by decide +kernel
theorem dL_law_176 : decode cL_law 176 = .ok (.iload_n 3, 1) := by decide +kernel
theorem dL_law_177 : decode cL_law 177 = .ok (.iconst 2, 1) := by decide +kernel
theorem dL_law_178 : decode cL_law 178 = .ok (.iadd, 1) := by decide +kernel
theorem dL_law_179 : decode cL_law 179 = .ok (.iaload, 1) := by decide +kernel
theorem dL_law_180 : decode cL_law 180 = .ok (.aload_n 0, 1) := by decide +kernel
theorem dL_law_181 : decode cL_law 181 = .ok (.iload_n 3, 1) := by decide +kernel
theorem dL_law_182 : decode cL_law 182 = .ok (.iconst 3, 1) := by decide +kernel
theorem dL_law_183 : decode cL_law 183 = .ok (.iadd, 1) := by decide +kernel
theorem dL_law_184 : decode cL_law 184 = .ok (.iaload, 1) := by decide +kernel
theorem dL_law_185 : decode cL_law 185 = .ok (.aload_n 0, 1) := by decide +kernel
theorem dL_law_186 : decode cL_law 186 = .ok (.iload_n 3, 1) := by decide +kernel
theorem dL_law_187 : decode cL_law 187 = .ok (.iconst 4, 1) := by decide +kernel
theorem dL_law_188 : decode cL_law 188 = .ok (.iadd, 1) := by decide +kernel
theorem dL_law_189 : decode cL_law 189 = .ok (.iaload, 1) := by decide +kernel
theorem dL_law_190 : decode cL_law 190 = .ok (.invokevirtual 18, 3) := by decide +kernel
theorem dL_law_193 : decode cL_law 193 = .ok (.aload_n 2, 1) := by decide +kernel
theorem dL_law_194 : decode cL_law 194 = .ok (.aload_n 0, 1) := by decide +kernel
theorem dL_law_195 : decode cL_law 195 = .ok (.iload_n 3, 1) := by decide +kernel
theorem dL_law_196 : decode cL_law 196 = .ok (.iconst 1, 1) := by decide +kernel
theorem dL_law_197 : decode cL_law 197 = .ok (.iadd, 1) := by decide +kernel
theorem dL_law_198 : decode cL_law 198 = .ok (.iaload, 1) := by decide +kernel
theorem dL_law_199 : decode cL_law 199 = .ok (.aload_n 0, 1) := by decide +kernel
theorem dL_law_200 : decode cL_law 200 = .ok (.iload_n 3, 1) := by decide +kernel
theorem dL_law_201 : decode cL_law 201 = .ok (.iconst 2, 1) := by decide +kernel
theorem dL_law_202 : decode cL_law 202 = .ok (.iadd, 1) := by decide +kernel
theorem dL_law_203 : decode cL_law 203 = .ok (.iaload, 1) := by decide +kernel
theorem dL_law_204 : decode cL_law 204 = .ok (.aload_n 0, 1) := by decide +kernel
theorem dL_law_205 : decode cL_law 205 = .ok (.iload_n 3, 1) := by decide +kernel
theorem dL_law_206 : decode cL_law 206 = .ok (.iconst 3, 1) := by decide +kernel
theorem dL_law_207 : decode cL_law 207 = .ok (.iadd, 1) := by decide +kernel
theorem dL_law_208 : decode cL_law 208 = .ok (.iaload, 1) := by decide +kernel
theorem dL_law_209 : decode cL_law 209 = .ok (.aload_n 0, 1) := by decide +kernel
theorem dL_law_210 : decode cL_law 210 = .ok (.iload_n 3, 1) := by decide +kernel
theorem dL_law_211 : decode cL_law 211 = .ok (.iconst 4, 1) := by decide +kernel
theorem dL_law_212 : decode cL_law 212 = .ok (.iadd, 1) := by decide +kernel
theorem dL_law_213 : decode cL_law 213 = .ok (.iaload, 1) := by decide +kernel
theorem dL_law_214 : decode cL_law 214 = .ok (.invokevirtual 21, 3) := by decide +kernel
theorem dL_law_217 : decode cL_law 217 = .ok (.if_icmp .eq 450, 3) := by decide +kernel
theorem dL_law_220 : decode cL_law 220 = .ok (.iconst 0, 1) := by decide +kernel
theorem dL_law_221 : decode cL_law 221 = .ok (.ireturn, 1) := by decide +kernel
theorem dL_law_222 : decode cL_law 222 = .ok (.aload_n 1, 1) := by decide +kernel
theorem dL_law_223 : decode cL_law 223 = .ok (.aload_n 0, 1) := by decide +kernel
theorem dL_law_224 : decode cL_law 224 = .ok (.iload_n 3, 1) := by decide +kernel
theorem dL_law_225 : decode cL_law 225 = .ok (.iconst 1, 1) := by decide +kernel
theorem dL_law_226 : decode cL_law 226 = .ok (.iadd, 1) := by decide +kernel
theorem dL_law_227 : decode cL_law 227 = .ok (.iaload, 1) := by decide +kernel
theorem dL_law_228 : decode cL_law 228 = .ok (.invokevirtual 22, 3) := by decide +kernel
theorem dL_law_231 : decode cL_law 231 = .ok (.aload_n 2, 1) := by decide +kernel
theorem dL_law_232 : decode cL_law 232 = .ok (.aload_n 0, 1) := by decide +kernel
theorem dL_law_233 : decode cL_law 233 = .ok (.iload_n 3, 1) := by decide +kernel
theorem dL_law_234 : decode cL_law 234 = .ok (.iconst 1, 1) := by decide +kernel
theorem dL_law_235 : decode cL_law 235 = .ok (.iadd, 1) := by decide +kernel
theorem dL_law_236 : decode cL_law 236 = .ok (.iaload, 1) := by decide +kernel
theorem dL_law_237 : decode cL_law 237 = .ok (.invokevirtual 26, 3) := by decide +kernel
theorem dL_law_240 : decode cL_law 240 = .ok (.if_icmp .eq 427, 3) := by decide +kernel
theorem dL_law_243 : decode cL_law 243 = .ok (.iconst 0, 1) := by decide +kernel
theorem dL_law_244 : decode cL_law 244 = .ok (.ireturn, 1) := by decide +kernel
theorem dL_law_245 : decode cL_law 245 = .ok (.aload_n 1, 1) := by decide +kernel
theorem dL_law_246 : decode cL_law 246 = .ok (.aload_n 0, 1) := by decide +kernel
theorem dL_law_247 : decode cL_law 247 = .ok (.iload_n 3, 1) := by decide +kernel
theorem dL_law_248 : decode cL_law 248 = .ok (.iconst 1, 1) := by decide +kernel
theorem dL_law_249 : decode cL_law 249 = .ok (.iadd, 1) := by decide +kernel
theorem dL_law_250 : decode cL_law 250 = .ok (.iaload, 1) := by decide +kernel
theorem dL_law_251 : decode cL_law 251 = .ok (.invokevirtual 27, 3) := by decide +kernel
theorem dL_law_254 : decode cL_law 254 = .ok (.aload_n 2, 1) := by decide +kernel
theorem dL_law_255 : decode cL_law 255 = .ok (.aload_n 0, 1) := by decide +kernel
theorem dL_law_256 : decode cL_law 256 = .ok (.iload_n 3, 1) := by decide +kernel
theorem dL_law_257 : decode cL_law 257 = .ok (.iconst 1, 1) := by decide +kernel
theorem dL_law_258 : decode cL_law 258 = .ok (.iadd, 1) := by decide +kernel
theorem dL_law_259 : decode cL_law 259 = .ok (.iaload, 1) := by decide +kernel
theorem dL_law_260 : decode cL_law 260 = .ok (.invokevirtual 30, 3) := by decide +kernel
theorem dL_law_263 : decode cL_law 263 = .ok (.if_icmp .eq 404, 3) := by decide +kernel
theorem dL_law_266 : decode cL_law 266 = .ok (.iconst 0, 1) := by decide +kernel
theorem dL_law_267 : decode cL_law 267 = .ok (.ireturn, 1) := by decide +kernel
theorem dL_law_268 : decode cL_law 268 = .ok (.aload_n 1, 1) := by decide +kernel
theorem dL_law_269 : decode cL_law 269 = .ok (.aload_n 0, 1) := by decide +kernel
theorem dL_law_270 : decode cL_law 270 = .ok (.iload_n 3, 1) := by decide +kernel
theorem dL_law_271 : decode cL_law 271 = .ok (.iconst 1, 1) := by decide +kernel
theorem dL_law_272 : decode cL_law 272 = .ok (.iadd, 1) := by decide +kernel
theorem dL_law_273 : decode cL_law 273 = .ok (.iaload, 1) := by decide +kernel
theorem dL_law_274 : decode cL_law 274 = .ok (.aload_n 0, 1) := by decide +kernel
theorem dL_law_275 : decode cL_law 275 = .ok (.iload_n 3, 1) := by decide +kernel
theorem dL_law_276 : decode cL_law 276 = .ok (.iconst 2, 1) := by decide +kernel
theorem dL_law_277 : decode cL_law 277 = .ok (.iadd, 1) := by decide +kernel
theorem dL_law_278 : decode cL_law 278 = .ok (.iaload, 1) := by decide +kernel
theorem dL_law_279 : decode cL_law 279 = .ok (.invokevirtual 31, 3) := by decide +kernel
theorem dL_law_282 : decode cL_law 282 = .ok (.aload_n 2, 1) := by decide +kernel
theorem dL_law_283 : decode cL_law 283 = .ok (.aload_n 0, 1) := by decide +kernel
theorem dL_law_284 : decode cL_law 284 = .ok (.iload_n 3, 1) := by decide +kernel
theorem dL_law_285 : decode cL_law 285 = .ok (.iconst 1, 1) := by decide +kernel
theorem dL_law_286 : decode cL_law 286 = .ok (.iadd, 1) := by decide +kernel
theorem dL_law_287 : decode cL_law 287 = .ok (.iaload, 1) := by decide +kernel
theorem dL_law_288 : decode cL_law 288 = .ok (.aload_n 0, 1) := by decide +kernel
theorem dL_law_289 : decode cL_law 289 = .ok (.iload_n 3, 1) := by decide +kernel
theorem dL_law_290 : decode cL_law 290 = .ok (.iconst 2, 1) := by decide +kernel
theorem dL_law_291 : decode cL_law 291 = .ok (.iadd, 1) := by decide +kernel
theorem dL_law_292 : decode cL_law 292 = .ok (.iaload, 1) := by decide +kernel
theorem dL_law_293 : decode cL_law 293 = .ok (.invokevirtual 35, 3) := by decide +kernel
theorem dL_law_296 : decode cL_law 296 = .ok (.if_icmp .eq 371, 3) := by decide +kernel
theorem dL_law_299 : decode cL_law 299 = .ok (.iconst 0, 1) := by decide +kernel
theorem dL_law_300 : decode cL_law 300 = .ok (.ireturn, 1) := by decide +kernel
theorem dL_law_301 : decode cL_law 301 = .ok (.aload_n 1, 1) := by decide +kernel
theorem dL_law_302 : decode cL_law 302 = .ok (.aload_n 0, 1) := by decide +kernel
theorem dL_law_303 : decode cL_law 303 = .ok (.iload_n 3, 1) := by decide +kernel
theorem dL_law_304 : decode cL_law 304 = .ok (.iconst 1, 1) := by decide +kernel
theorem dL_law_305 : decode cL_law 305 = .ok (.iadd, 1) := by decide +kernel
theorem dL_law_306 : decode cL_law 306 = .ok (.iaload, 1) := by decide +kernel
theorem dL_law_307 : decode cL_law 307 = .ok (.invokevirtual 36, 3) := by decide +kernel
theorem dL_law_310 : decode cL_law 310 = .ok (.aload_n 2, 1) := by decide +kernel
theorem dL_law_311 : decode cL_law 311 = .ok (.aload_n 0, 1) := by decide +kernel
theorem dL_law_312 : decode cL_law 312 = .ok (.iload_n 3, 1) := by decide +kernel
theorem dL_law_313 : decode cL_law 313 = .ok (.iconst 1, 1) := by decide +kernel
theorem dL_law_314 : decode cL_law 314 = .ok (.iadd, 1) := by decide +kernel
theorem dL_law_315 : decode cL_law 315 = .ok (.iaload, 1) := by decide +kernel
theorem dL_law_316 : decode cL_law 316 = .ok (.invokevirtual 39, 3) := by decide +kernel
theorem dL_law_319 : decode cL_law 319 = .ok (.if_icmp .eq 348, 3) := by decide +kernel
theorem dL_law_322 : decode cL_law 322 = .ok (.iconst 0, 1) := by decide +kernel
theorem dL_law_323 : decode cL_law 323 = .ok (.ireturn, 1) := by decide +kernel
theorem dL_law_324 : decode cL_law 324 = .ok (.aload_n 1, 1) := by decide +kernel
theorem dL_law_325 : decode cL_law 325 = .ok (.aload_n 0, 1) := by decide +kernel
theorem dL_law_326 : decode cL_law 326 = .ok (.iload_n 3, 1) := by decide +kernel
theorem dL_law_327 : decode cL_law 327 = .ok (.iconst 1, 1) := by decide +kernel
theorem dL_law_328 : decode cL_law 328 = .ok (.iadd, 1) := by decide +kernel
theorem dL_law_329 : decode cL_law 329 = .ok (.iaload, 1) := by decide +kernel
theorem dL_law_330 : decode cL_law 330 = .ok (.aload_n 0, 1) := by decide +kernel
theorem dL_law_331 : decode cL_law 331 = .ok (.iload_n 3, 1) := by decide +kernel
theorem dL_law_332 : decode cL_law 332 = .ok (.iconst 2, 1) := by decide +kernel
theorem dL_law_333 : decode cL_law 333 = .ok (.iadd, 1) := by decide +kernel
theorem dL_law_334 : decode cL_law 334 = .ok (.iaload, 1) := by decide +kernel
theorem dL_law_335 : decode cL_law 335 = .ok (.aload_n 0, 1) := by decide +kernel
theorem dL_law_336 : decode cL_law 336 = .ok (.iload_n 3, 1) := by decide +kernel
theorem dL_law_337 : decode cL_law 337 = .ok (.iconst 3, 1) := by decide +kernel
theorem dL_law_338 : decode cL_law 338 = .ok (.iadd, 1) := by decide +kernel
theorem dL_law_339 : decode cL_law 339 = .ok (.iaload, 1) := by decide +kernel
theorem dL_law_340 : decode cL_law 340 = .ok (.aload_n 0, 1) := by decide +kernel
theorem dL_law_341 : decode cL_law 341 = .ok (.iload_n 3, 1) := by decide +kernel
theorem dL_law_342 : decode cL_law 342 = .ok (.iconst 4, 1) := by decide +kernel
theorem dL_law_343 : decode cL_law 343 = .ok (.iadd, 1) := by decide +kernel
theorem dL_law_344 : decode cL_law 344 = .ok (.iaload, 1) := by decide +kernel
theorem dL_law_345 : decode cL_law 345 = .ok (.invokevirtual 40, 3) := by decide +kernel
theorem dL_law_348 : decode cL_law 348 = .ok (.aload_n 2, 1) := by decide +kernel
theorem dL_law_349 : decode cL_law 349 = .ok (.aload_n 0, 1) := by decide +kernel
theorem dL_law_350 : decode cL_law 350 = .ok (.iload_n 3, 1) := by decide +kernel
theorem dL_law_351 : decode cL_law 351 = .ok (.iconst 1, 1) := by decide +kernel
theorem dL_law_352 : decode cL_law 352 = .ok (.iadd, 1) := by decide +kernel
theorem dL_law_353 : decode cL_law 353 = .ok (.iaload, 1) := by decide +kernel
theorem dL_law_354 : decode cL_law 354 = .ok (.aload_n 0, 1) := by decide +kernel
theorem dL_law_355 : decode cL_law 355 = .ok (.iload_n 3, 1) := by decide +kernel
theorem dL_law_356 : decode cL_law 356 = .ok (.iconst 2, 1) := by decide +kernel
theorem dL_law_357 : decode cL_law 357 = .ok (.iadd, 1) := by decide +kernel
theorem dL_law_358 : decode cL_law 358 = .ok (.iaload, 1) := by decide +kernel
theorem dL_law_359 : decode cL_law 359 = .ok (.aload_n 0, 1) := by decide +kernel
theorem dL_law_360 : decode cL_law 360 = .ok (.iload_n 3, 1) := by decide +kernel
theorem dL_law_361 : decode cL_law 361 = .ok (.iconst 3, 1) := by decide +kernel
theorem dL_law_362 : decode cL_law 362 = .ok (.iadd, 1) := by decide +kernel
theorem dL_law_363 : decode cL_law 363 = .ok (.iaload, 1) := by decide +kernel
theorem dL_law_364 : decode cL_law 364 = .ok (.aload_n 0, 1) := by decide +kernel
theorem dL_law_365 : decode cL_law 365 = .ok (.iload_n 3, 1) := by decide +kernel
theorem dL_law_366 : decode cL_law 366 = .ok (.iconst 4, 1) := by decide +kernel
theorem dL_law_367 : decode cL_law 367 = .ok (.iadd, 1) := by decide +kernel
theorem dL_law_368 : decode cL_law 368 = .ok (.iaload, 1) := by decide +kernel
theorem dL_law_369 : decode cL_law 369 = .ok (.invokevirtual 43, 3) := by decide +kernel
theorem dL_law_372 : decode cL_law 372 = .ok (.if_icmp .eq 295, 3) := by decide +kernel
theorem dL_law_375 : decode cL_law 375 = .ok (.iconst 0, 1) := by decide +kernel
end
section
set_option maxRecDepth 100000
theorem dL_law_376 : decode cL_law 376 = .ok (.ireturn, 1) := by decide +kernel
theorem dL_law_377 : decode cL_law 377 = .ok (.aload_n 1, 1) := by decide +kernel
theorem dL_law_378 : decode cL_law 378 = .ok (.aload_n 0, 1) := by decide +kernel
theorem dL_law_379 : decode cL_law 379 = .ok (.iload_n 3, 1) := by decide +kernel
theorem dL_law_380 : decode cL_law 380 = .ok (.iconst 1, 1) := by decide +kernel
theorem dL_law_381 : decode cL_law 381 = .ok (.iadd, 1) := by decide +kernel
theorem dL_law_382 : decode cL_law 382 = .ok (.iaload, 1) := by decide +kernel
theorem dL_law_383 : decode cL_law 383 = .ok (.aload_n 0, 1) := by decide +kernel
theorem dL_law_384 : decode cL_law 384 = .ok (.iload_n 3, 1) := by decide +kernel
theorem dL_law_385 : decode cL_law 385 = .ok (.iconst 2, 1) := by decide +kernel
theorem dL_law_386 : decode cL_law 386 = .ok (.iadd, 1) := by decide +kernel
theorem dL_law_387 : decode cL_law 387 = .ok (.iaload, 1) := by decide +kernel
theorem dL_law_388 : decode cL_law 388 = .ok (.aload_n 0, 1) := by decide +kernel
theorem dL_law_389 : decode cL_law 389 = .ok (.iload_n 3, 1) := by decide +kernel
theorem dL_law_390 : decode cL_law 390 = .ok (.iconst 3, 1) := by decide +kernel
theorem dL_law_391 : decode cL_law 391 = .ok (.iadd, 1) := by decide +kernel
theorem dL_law_392 : decode cL_law 392 = .ok (.iaload, 1) := by decide +kernel
theorem dL_law_393 : decode cL_law 393 = .ok (.aload_n 0, 1) := by decide +kernel
theorem dL_law_394 : decode cL_law 394 = .ok (.iload_n 3, 1) := by decide +kernel
theorem dL_law_395 : decode cL_law 395 = .ok (.iconst 4, 1) := by decide +kernel
theorem dL_law_396 : decode cL_law 396 = .ok (.iadd, 1) := by decide +kernel
theorem dL_law_397 : decode cL_law 397 = .ok (.iaload, 1) := by decide +kernel
theorem dL_law_398 : decode cL_law 398 = .ok (.invokevirtual 44, 3) := by decide +kernel
theorem dL_law_401 : decode cL_law 401 = .ok (.aload_n 2, 1) := by decide +kernel
theorem dL_law_402 : decode cL_law 402 = .ok (.aload_n 0, 1) := by decide +kernel
theorem dL_law_403 : decode cL_law 403 = .ok (.iload_n 3, 1) := by decide +kernel
theorem dL_law_404 : decode cL_law 404 = .ok (.iconst 1, 1) := by decide +kernel
theorem dL_law_405 : decode cL_law 405 = .ok (.iadd, 1) := by decide +kernel
theorem dL_law_406 : decode cL_law 406 = .ok (.iaload, 1) := by decide +kernel
theorem dL_law_407 : decode cL_law 407 = .ok (.aload_n 0, 1) := by decide +kernel
theorem dL_law_408 : decode cL_law 408 = .ok (.iload_n 3, 1) := by decide +kernel
theorem dL_law_409 : decode cL_law 409 = .ok (.iconst 2, 1) := by decide +kernel
theorem dL_law_410 : decode cL_law 410 = .ok (.iadd, 1) := by decide +kernel
theorem dL_law_411 : decode cL_law 411 = .ok (.iaload, 1) := by decide +kernel
theorem dL_law_412 : decode cL_law 412 = .ok (.aload_n 0, 1) := by decide +kernel
theorem dL_law_413 : decode cL_law 413 = .ok (.iload_n 3, 1) := by decide +kernel
theorem dL_law_414 : decode cL_law 414 = .ok (.iconst 3, 1) := by decide +kernel
theorem dL_law_415 : decode cL_law 415 = .ok (.iadd, 1) := by decide +kernel
theorem dL_law_416 : decode cL_law 416 = .ok (.iaload, 1) := by decide +kernel
theorem dL_law_417 : decode cL_law 417 = .ok (.aload_n 0, 1) := by decide +kernel
theorem dL_law_418 : decode cL_law 418 = .ok (.iload_n 3, 1) := by decide +kernel
theorem dL_law_419 : decode cL_law 419 = .ok (.iconst 4, 1) := by decide +kernel
theorem dL_law_420 : decode cL_law 420 = .ok (.iadd, 1) := by decide +kernel
theorem dL_law_421 : decode cL_law 421 = .ok (.iaload, 1) := by decide +kernel
theorem dL_law_422 : decode cL_law 422 = .ok (.invokevirtual 47, 3) := by decide +kernel
theorem dL_law_425 : decode cL_law 425 = .ok (.if_icmp .eq 242, 3) := by decide +kernel
theorem dL_law_428 : decode cL_law 428 = .ok (.iconst 0, 1) := by decide +kernel
theorem dL_law_429 : decode cL_law 429 = .ok (.ireturn, 1) := by decide +kernel
theorem dL_law_430 : decode cL_law 430 = .ok (.aload_n 1, 1) := by decide +kernel
theorem dL_law_431 : decode cL_law 431 = .ok (.aload_n 0, 1) := by decide +kernel
theorem dL_law_432 : decode cL_law 432 = .ok (.iload_n 3, 1) := by decide +kernel
theorem dL_law_433 : decode cL_law 433 = .ok (.iconst 1, 1) := by decide +kernel
theorem dL_law_434 : decode cL_law 434 = .ok (.iadd, 1) := by decide +kernel
theorem dL_law_435 : decode cL_law 435 = .ok (.iaload, 1) := by decide +kernel
theorem dL_law_436 : decode cL_law 436 = .ok (.invokevirtual 48, 3) := by decide +kernel
theorem dL_law_439 : decode cL_law 439 = .ok (.aload_n 2, 1) := by decide +kernel
theorem dL_law_440 : decode cL_law 440 = .ok (.aload_n 0, 1) := by decide +kernel
theorem dL_law_441 : decode cL_law 441 = .ok (.iload_n 3, 1) := by decide +kernel
theorem dL_law_442 : decode cL_law 442 = .ok (.iconst 1, 1) := by decide +kernel
theorem dL_law_443 : decode cL_law 443 = .ok (.iadd, 1) := by decide +kernel
theorem dL_law_444 : decode cL_law 444 = .ok (.iaload, 1) := by decide +kernel
theorem dL_law_445 : decode cL_law 445 = .ok (.invokevirtual 51, 3) := by decide +kernel
theorem dL_law_448 : decode cL_law 448 = .ok (.if_icmp .eq 219, 3) := by decide +kernel
theorem dL_law_451 : decode cL_law 451 = .ok (.iconst 0, 1) := by decide +kernel
theorem dL_law_452 : decode cL_law 452 = .ok (.ireturn, 1) := by decide +kernel
theorem dL_law_453 : decode cL_law 453 = .ok (.aload_n 1, 1) := by decide +kernel
theorem dL_law_454 : decode cL_law 454 = .ok (.aload_n 0, 1) := by decide +kernel
theorem dL_law_455 : decode cL_law 455 = .ok (.iload_n 3, 1) := by decide +kernel
theorem dL_law_456 : decode cL_law 456 = .ok (.iconst 1, 1) := by decide +kernel
theorem dL_law_457 : decode cL_law 457 = .ok (.iadd, 1) := by decide +kernel
theorem dL_law_458 : decode cL_law 458 = .ok (.iaload, 1) := by decide +kernel
theorem dL_law_459 : decode cL_law 459 = .ok (.invokevirtual 52, 3) := by decide +kernel
theorem dL_law_462 : decode cL_law 462 = .ok (.aload_n 2, 1) := by decide +kernel
theorem dL_law_463 : decode cL_law 463 = .ok (.aload_n 0, 1) := by decide +kernel
theorem dL_law_464 : decode cL_law 464 = .ok (.iload_n 3, 1) := by decide +kernel
theorem dL_law_465 : decode cL_law 465 = .ok (.iconst 1, 1) := by decide +kernel
theorem dL_law_466 : decode cL_law 466 = .ok (.iadd, 1) := by decide +kernel
theorem dL_law_467 : decode cL_law 467 = .ok (.iaload, 1) := by decide +kernel
theorem dL_law_468 : decode cL_law 468 = .ok (.invokevirtual 55, 3) := by decide +kernel
theorem dL_law_471 : decode cL_law 471 = .ok (.if_icmp .eq 196, 3) := by decide +kernel
theorem dL_law_474 : decode cL_law 474 = .ok (.iconst 0, 1) := by decide +kernel
theorem dL_law_475 : decode cL_law 475 = .ok (.ireturn, 1) := by decide +kernel
theorem dL_law_476 : decode cL_law 476 = .ok (.aload_n 1, 1) := by decide +kernel
theorem dL_law_477 : decode cL_law 477 = .ok (.aload_n 0, 1) := by decide +kernel
theorem dL_law_478 : decode cL_law 478 = .ok (.iload_n 3, 1) := by decide +kernel
theorem dL_law_479 : decode cL_law 479 = .ok (.iconst 1, 1) := by decide +kernel
theorem dL_law_480 : decode cL_law 480 = .ok (.iadd, 1) := by decide +kernel
theorem dL_law_481 : decode cL_law 481 = .ok (.iaload, 1) := by decide +kernel
theorem dL_law_482 : decode cL_law 482 = .ok (.invokevirtual 56, 3) := by decide +kernel
theorem dL_law_485 : decode cL_law 485 = .ok (.aload_n 2, 1) := by decide +kernel
theorem dL_law_486 : decode cL_law 486 = .ok (.aload_n 0, 1) := by decide +kernel
theorem dL_law_487 : decode cL_law 487 = .ok (.iload_n 3, 1) := by decide +kernel
theorem dL_law_488 : decode cL_law 488 = .ok (.iconst 1, 1) := by decide +kernel
theorem dL_law_489 : decode cL_law 489 = .ok (.iadd, 1) := by decide +kernel
theorem dL_law_490 : decode cL_law 490 = .ok (.iaload, 1) := by decide +kernel
theorem dL_law_491 : decode cL_law 491 = .ok (.invokevirtual 59, 3) := by decide +kernel
theorem dL_law_494 : decode cL_law 494 = .ok (.if_icmp .eq 173, 3) := by decide +kernel
theorem dL_law_497 : decode cL_law 497 = .ok (.iconst 0, 1) := by decide +kernel
theorem dL_law_498 : decode cL_law 498 = .ok (.ireturn, 1) := by decide +kernel
theorem dL_law_499 : decode cL_law 499 = .ok (.aload_n 1, 1) := by decide +kernel
theorem dL_law_500 : decode cL_law 500 = .ok (.aload_n 0, 1) := by decide +kernel
theorem dL_law_501 : decode cL_law 501 = .ok (.iload_n 3, 1) := by decide +kernel
theorem dL_law_502 : decode cL_law 502 = .ok (.iconst 1, 1) := by decide +kernel
theorem dL_law_503 : decode cL_law 503 = .ok (.iadd, 1) := by decide +kernel
theorem dL_law_504 : decode cL_law 504 = .ok (.iaload, 1) := by decide +kernel
theorem dL_law_505 : decode cL_law 505 = .ok (.invokevirtual 60, 3) := by decide +kernel
theorem dL_law_508 : decode cL_law 508 = .ok (.aload_n 2, 1) := by decide +kernel
theorem dL_law_509 : decode cL_law 509 = .ok (.aload_n 0, 1) := by decide +kernel
theorem dL_law_510 : decode cL_law 510 = .ok (.iload_n 3, 1) := by decide +kernel
theorem dL_law_511 : decode cL_law 511 = .ok (.iconst 1, 1) := by decide +kernel
theorem dL_law_512 : decode cL_law 512 = .ok (.iadd, 1) := by decide +kernel
theorem dL_law_513 : decode cL_law 513 = .ok (.iaload, 1) := by decide +kernel
theorem dL_law_514 : decode cL_law 514 = .ok (.invokevirtual 63, 3) := by decide +kernel
theorem dL_law_517 : decode cL_law 517 = .ok (.if_icmp .eq 150, 3) := by decide +kernel
theorem dL_law_520 : decode cL_law 520 = .ok (.iconst 0, 1) := by decide +kernel
theorem dL_law_521 : decode cL_law 521 = .ok (.ireturn, 1) := by decide +kernel
theorem dL_law_522 : decode cL_law 522 = .ok (.aload_n 1, 1) := by decide +kernel
theorem dL_law_523 : decode cL_law 523 = .ok (.aload_n 0, 1) := by decide +kernel
theorem dL_law_524 : decode cL_law 524 = .ok (.iload_n 3, 1) := by decide +kernel
theorem dL_law_525 : decode cL_law 525 = .ok (.iconst 1, 1) := by decide +kernel
theorem dL_law_526 : decode cL_law 526 = .ok (.iadd, 1) := by decide +kernel
theorem dL_law_527 : decode cL_law 527 = .ok (.iaload, 1) := by decide +kernel
theorem dL_law_528 : decode cL_law 528 = .ok (.aload_n 0, 1) := by decide +kernel
theorem dL_law_529 : decode cL_law 529 = .ok (.iload_n 3, 1) := by decide +kernel
theorem dL_law_530 : decode cL_law 530 = .ok (.iconst 2, 1) := by decide +kernel
theorem dL_law_531 : decode cL_law 531 = .ok (.iadd, 1) := by decide +kernel
theorem dL_law_532 : decode cL_law 532 = .ok (.iaload, 1) := by decide +kernel
theorem dL_law_533 : decode cL_law 533 = .ok (.invokevirtual 64, 3) := by decide +kernel
theorem dL_law_536 : decode cL_law 536 = .ok (.aload_n 2, 1) := by decide +kernel
theorem dL_law_537 : decode cL_law 537 = .ok (.aload_n 0, 1) := by decide +kernel
theorem dL_law_538 : decode cL_law 538 = .ok (.iload_n 3, 1) := by decide +kernel
theorem dL_law_539 : decode cL_law 539 = .ok (.iconst 1, 1) := by decide +kernel
theorem dL_law_540 : decode cL_law 540 = .ok (.iadd, 1) := by decide +kernel
theorem dL_law_541 : decode cL_law 541 = .ok (.iaload, 1) := by decide +kernel
theorem dL_law_542 : decode cL_law 542 = .ok (.aload_n 0, 1) := by decide +kernel
theorem dL_law_543 : decode cL_law 543 = .ok (.iload_n 3, 1) := by decide +kernel
theorem dL_law_544 : decode cL_law 544 = .ok (.iconst 2, 1) := by decide +kernel
theorem dL_law_545 : decode cL_law 545 = .ok (.iadd, 1) := by decide +kernel
theorem dL_law_546 : decode cL_law 546 = .ok (.iaload, 1) := by decide +kernel
theorem dL_law_547 : decode cL_law 547 = .ok (.invokevirtual 67, 3) := by decide +kernel
theorem dL_law_550 : decode cL_law 550 = .ok (.if_icmp .eq 117, 3) := by decide +kernel
theorem dL_law_553 : decode cL_law 553 = .ok (.iconst 0, 1) := by decide +kernel
theorem dL_law_554 : decode cL_law 554 = .ok (.ireturn, 1) := by decide +kernel
theorem dL_law_555 : decode cL_law 555 = .ok (.aload_n 1, 1) := by decide +kernel
theorem dL_law_556 : decode cL_law 556 = .ok (.aload_n 0, 1) := by decide +kernel
theorem dL_law_557 : decode cL_law 557 = .ok (.iload_n 3, 1) := by decide +kernel
theorem dL_law_558 : decode cL_law 558 = .ok (.iconst 1, 1) := by decide +kernel
theorem dL_law_559 : decode cL_law 559 = .ok (.iadd, 1) := by decide +kernel
theorem dL_law_560 : decode cL_law 560 = .ok (.iaload, 1) := by decide +kernel
theorem dL_law_561 : decode cL_law 561 = .ok (.aload_n 0, 1) := by decide +kernel
theorem dL_law_562 : decode cL_law 562 = .ok (.iload_n 3, 1) := by decide +kernel
theorem dL_law_563 : decode cL_law 563 = .ok (.iconst 2, 1) := by decide +kernel
theorem dL_law_564 : decode cL_law 564 = .ok (.iadd, 1) := by decide +kernel
theorem dL_law_565 : decode cL_law 565 = .ok (.iaload, 1) := by decide +kernel
theorem dL_law_566 : decode cL_law 566 = .ok (.invokevirtual 68, 3) := by decide +kernel
theorem dL_law_569 : decode cL_law 569 = .ok (.aload_n 2, 1) := by decide +kernel
theorem dL_law_570 : decode cL_law 570 = .ok (.aload_n 0, 1) := by decide +kernel
theorem dL_law_571 : decode cL_law 571 = .ok (.iload_n 3, 1) := by decide +kernel
theorem dL_law_572 : decode cL_law 572 = .ok (.iconst 1, 1) := by decide +kernel
theorem dL_law_573 : decode cL_law 573 = .ok (.iadd, 1) := by decide +kernel
theorem dL_law_574 : decode cL_law 574 = .ok (.iaload, 1) := by decide +kernel
theorem dL_law_575 : decode cL_law 575 = .ok (.aload_n 0, 1) := by decide +kernel
theorem dL_law_576 : decode cL_law 576 = .ok (.iload_n 3, 1) := by decide +kernel
theorem dL_law_577 : decode cL_law 577 = .ok (.iconst 2, 1) := by decide +kernel
theorem dL_law_578 : decode cL_law 578 = .ok (.iadd, 1) := by decide +kernel
theorem dL_law_579 : decode cL_law 579 = .ok (.iaload, 1) := by decide +kernel
theorem dL_law_580 : decode cL_law 580 = .ok (.invokevirtual 71, 3) := by decide +kernel
theorem dL_law_583 : decode cL_law 583 = .ok (.if_icmp .eq 84, 3) := by decide +kernel
theorem dL_law_586 : decode cL_law 586 = .ok (.iconst 0, 1) := by decide +kernel
theorem dL_law_587 : decode cL_law 587 = .ok (.ireturn, 1) := by decide +kernel
theorem dL_law_588 : decode cL_law 588 = .ok (.aload_n 1, 1) := by decide +kernel
theorem dL_law_589 : decode cL_law 589 = .ok (.aload_n 0, 1) := by decide +kernel
theorem dL_law_590 : decode cL_law 590 = .ok (.iload_n 3, 1) := by decide +kernel
theorem dL_law_591 : decode cL_law 591 = .ok (.iconst 1, 1) := by decide +kernel
theorem dL_law_592 : decode cL_law 592 = .ok (.iadd, 1) := by decide +kernel
theorem dL_law_593 : decode cL_law 593 = .ok (.iaload, 1) := by decide +kernel
theorem dL_law_594 : decode cL_law 594 = .ok (.aload_n 0, 1) := by decide +kernel
theorem dL_law_595 : decode cL_law 595 = .ok (.iload_n 3, 1) := by decide +kernel
theorem dL_law_596 : decode cL_law 596 = .ok (.iconst 2, 1) := by decide +kernel
theorem dL_law_597 : decode cL_law 597 = .ok (.iadd, 1) := by decide +kernel
theorem dL_law_598 : decode cL_law 598 = .ok (.iaload, 1) := by decide +kernel
theorem dL_law_599 : decode cL_law 599 = .ok (.invokevirtual 72, 3) := by decide +kernel
theorem dL_law_602 : decode cL_law 602 = .ok (.aload_n 2, 1) := by decide +kernel
theorem dL_law_603 : decode cL_law 603 = .ok (.aload_n 0, 1) := by decide +kernel
theorem dL_law_604 : decode cL_law 604 = .ok (.iload_n 3, 1) := by decide +kernel
theorem dL_law_605 : decode cL_law 605 = .ok (.iconst 1, 1) := by decide +kernel
theorem dL_law_606 : decode cL_law 606 = .ok (.iadd, 1) := by decide +kernel
theorem dL_law_607 : decode cL_law 607 = .ok (.iaload, 1) := by decide +kernel
theorem dL_law_608 : decode cL_law 608 = .ok (.aload_n 0, 1) := by decide +kernel
theorem dL_law_609 : decode cL_law 609 = .ok (.iload_n 3, 1) := by decide +kernel
theorem dL_law_610 : decode cL_law 610 = .ok (.iconst 2, 1) := by decide +kernel
theorem dL_law_611 : decode cL_law 611 = .ok (.iadd, 1) := by decide +kernel
theorem dL_law_612 : decode cL_law 612 = .ok (.iaload, 1) := by decide +kernel
theorem dL_law_613 : decode cL_law 613 = .ok (.invokevirtual 75, 3) := by decide +kernel
theorem dL_law_616 : decode cL_law 616 = .ok (.if_icmp .eq 51, 3) := by decide +kernel
theorem dL_law_619 : decode cL_law 619 = .ok (.iconst 0, 1) := by decide +kernel
theorem dL_law_620 : decode cL_law 620 = .ok (.ireturn, 1) := by decide +kernel
theorem dL_law_621 : decode cL_law 621 = .ok (.aload_n 1, 1) := by decide +kernel
theorem dL_law_622 : decode cL_law 622 = .ok (.aload_n 0, 1) := by decide +kernel
theorem dL_law_623 : decode cL_law 623 = .ok (.iload_n 3, 1) := by decide +kernel
theorem dL_law_624 : decode cL_law 624 = .ok (.iconst 1, 1) := by decide +kernel
theorem dL_law_625 : decode cL_law 625 = .ok (.iadd, 1) := by decide +kernel
theorem dL_law_626 : decode cL_law 626 = .ok (.iaload, 1) := by decide +kernel
theorem dL_law_627 : decode cL_law 627 = .ok (.aload_n 0, 1) := by decide +kernel
theorem dL_law_628 : decode cL_law 628 = .ok (.iload_n 3, 1) := by decide +kernel
theorem dL_law_629 : decode cL_law 629 = .ok (.iconst 2, 1) := by decide +kernel
theorem dL_law_630 : decode cL_law 630 = .ok (.iadd, 1) := by decide +kernel
theorem dL_law_631 : decode cL_law 631 = .ok (.iaload, 1) := by decide +kernel
theorem dL_law_632 : decode cL_law 632 = .ok (.invokevirtual 76, 3) := by decide +kernel
theorem dL_law_635 : decode cL_law 635 = .ok (.aload_n 2, 1) := by decide +kernel
theorem dL_law_636 : decode cL_law 636 = .ok (.aload_n 0, 1) := by decide +kernel
theorem dL_law_637 : decode cL_law 637 = .ok (.iload_n 3, 1) := by decide +kernel
theorem dL_law_638 : decode cL_law 638 = .ok (.iconst 1, 1) := by decide +kernel
theorem dL_law_639 : decode cL_law 639 = .ok (.iadd, 1) := by decide +kernel
theorem dL_law_640 : decode cL_law 640 = .ok (.iaload, 1) := by decide +kernel
theorem dL_law_641 : decode cL_law 641 = .ok (.aload_n 0, 1) := by decide +kernel
theorem dL_law_642 : decode cL_law 642 = .ok (.iload_n 3, 1) := by decide +kernel
theorem dL_law_643 : decode cL_law 643 = .ok (.iconst 2, 1) := by decide +kernel
theorem dL_law_644 : decode cL_law 644 = .ok (.iadd, 1) := by decide +kernel
theorem dL_law_645 : decode cL_law 645 = .ok (.iaload, 1) := by decide +kernel
theorem dL_law_646 : decode cL_law 646 = .ok (.invokevirtual 79, 3) := by decide +kernel
theorem dL_law_649 : decode cL_law 649 = .ok (.if_icmp .eq 18, 3) := by decide +kernel
theorem dL_law_652 : decode cL_law 652 = .ok (.iconst 0, 1) := by decide +kernel
theorem dL_law_653 : decode cL_law 653 = .ok (.ireturn, 1) := by decide +kernel
theorem dL_law_654 : decode cL_law 654 = .ok (.aload_n 1, 1) := by decide +kernel
theorem dL_law_655 : decode cL_law 655 = .ok (.invokevirtual 80, 3) := by decide +kernel
theorem dL_law_658 : decode cL_law 658 = .ok (.aload_n 2, 1) := by decide +kernel
theorem dL_law_659 : decode cL_law 659 = .ok (.invokevirtual 84, 3) := by decide +kernel
theorem dL_law_662 : decode cL_law 662 = .ok (.if_icmp .eq 5, 3) := by decide +kernel
theorem dL_law_665 : decode cL_law 665 = .ok (.iconst 0, 1) := by decide +kernel
theorem dL_law_666 : decode cL_law 666 = .ok (.ireturn, 1) := by decide +kernel
theorem dL_law_667 : decode cL_law 667 = .ok (.iinc 3 5, 3) := by decide +kernel
theorem dL_law_670 : decode cL_law 670 = .ok (.goto (-652), 3) := by decide +kernel
theorem dL_law_673 : decode cL_law 673 = .ok (.iconst 1, 1) := by decide +kernel
theorem dL_law_674 : decode cL_law 674 = .ok (.ireturn, 1) := by decide +kernel
end
section
/-! THE ROW LAYER. G: from any heap that holds the state u (world w u), with the locals lv and the stack st at pc, the method comes to an end that Ri (an int answer) or Rv (void) allows. A row an instruction; ints are nI n wherever they can be. -/
set_option maxRecDepth 100000
abbrev vwCl : List vw_C := [(RX0, TX0, 11), (RX1, TX1, 7)]
abbrev Gx : Type := Program × Launch × Env × State × MethodId × Array Value × List Frame × Method × Code × (State → Prop) × (Nat → Prop) × va_G × Nat × Nat
def lvh (ls : Array Slot) (nL : Nat) (lv : List (Option Value)) : Prop := ls.size = nL ∧ lv_wf ls ∧ ∀ (i : Nat) (v : Value), lv[i]? = some (some v) → ls[i]? = some (.val v)
def CxG {S : Type} (g : Gx) (R : Room) (cc : ByteArray) (own : String) (nL : Nat) (ty : List (ClassId × FieldType)) (w : S → va_W) (Ri : Int32 → S → Prop) (Rv : S → Prop) : Prop :=
  match g with
  | (p, l, e, s, m, args, below, meth, c, Q, A, D, cells, slots) =>
    p.tables.exec = Jvm.exec ∧ c.code = cc ∧ c.maxLocals = nL ∧ s.vm.findClass own = some m.cls ∧ (∀ w ∈ lw_all, w.before args s = true) ∧ va_K D vwCl ty s ∧ (∀ q : Nat, s.heap.size ≤ q → A q) ∧ (cells ≤ R.cells ∧ slots ≤ R.slots) ∧
    (∀ (v : Int32) (u : S) (H : Heap) (locs : List Loc) (pc : Nat) (ls : Array Slot), Ri v u → va_P D vwCl (w u) H → va_D A (w u) → va_S A s.heap H locs → decode cc pc = .ok (.ireturn, 1) → W p l e R s m args below meth c H locs cells slots Q (F0 m pc ls [.int v])) ∧
    (∀ (u : S) (H : Heap) (locs : List Loc) (pc : Nat) (ls : Array Slot), Rv u → va_P D vwCl (w u) H → va_D A (w u) → va_S A s.heap H locs → decode cc pc = .ok (.return_, 1) → W p l e R s m args below meth c H locs cells slots Q (F0 m pc ls []))
def G {S : Type} (g : Gx) (R : Room) (cc : ByteArray) (own : String) (nL : Nat) (ty : List (ClassId × FieldType)) (w : S → va_W) (Ri : Int32 → S → Prop) (Rv : S → Prop) (u : S) (pc : Nat) (lv : List (Option Value)) (st : List Value) : Prop :=
  CxG g R cc own nL ty w Ri Rv → match g with
  | (p, l, e, s, m, args, below, meth, c, Q, A, D, cells, slots) => ∀ (H : Heap) (locs : List Loc) (ls : Array Slot), va_P D vwCl (w u) H → va_D A (w u) → va_S A s.heap H locs → lvh ls nL lv → W p l e R s m args below meth c H locs cells slots Q (F0 m pc ls st)
/-- the pairs of a list of locals -/
def lv_prs : Nat → List (Option Value) → List (Nat × Value)
  | _, [] => []
  | i, none :: r => lv_prs (i + 1) r
  | i, some v :: r => (i, v) :: lv_prs (i + 1) r
theorem lv_prs_mem : ∀ (lv : List (Option Value)) (k : Nat) (q : Nat × Value), q ∈ lv_prs k lv → ∃ i : Nat, q.1 = k + i ∧ lv[i]? = some (some q.2)
  | [], k, q, h => by cases h
  | none :: r, k, q, h => by
    obtain ⟨i, h1, h2⟩ := lv_prs_mem r (k + 1) q h
    exact ⟨i + 1, by omega, by simpa using h2⟩
  | some v :: r, k, q, h => by
    rcases List.mem_cons.mp h with e | e
    · exact ⟨0, by rw [e]; rfl, by rw [e]; rfl⟩
    · obtain ⟨i, h1, h2⟩ := lv_prs_mem r (k + 1) q e
      exact ⟨i + 1, by omega, by simpa using h2⟩
theorem lv_prs_of : ∀ (lv : List (Option Value)) (k i : Nat) (v : Value), lv[i]? = some (some v) → (k + i, v) ∈ lv_prs k lv
  | [], k, i, v, h => by simp at h
  | none :: r, k, 0, v, h => by simp at h
  | none :: r, k, i + 1, v, h => by
    have := lv_prs_of r (k + 1) i v (by simpa using h)
    rw [show k + (i + 1) = k + 1 + i by omega]
    exact this
  | some x :: r, k, 0, v, h => by
    have : x = v := by simpa using h
    rw [this]
    exact List.mem_cons_self
  | some x :: r, k, i + 1, v, h => by
    have := lv_prs_of r (k + 1) i v (by simpa using h)
    rw [show k + (i + 1) = k + 1 + i by omega]
    exact List.mem_cons_of_mem _ this
theorem lvh.prs {ls : Array Slot} {nL : Nat} {lv : List (Option Value)} (h : lvh ls nL lv) : lv_has ls nL (lv_prs 0 lv) := ⟨h.1, h.2.1, fun q hq => by
  obtain ⟨i, h1, h2⟩ := lv_prs_mem lv 0 q hq
  rw [h1, Nat.zero_add]
  exact h.2.2 i q.2 h2⟩
/-- no long ends at the place i -/
def lv_ok (lv : List (Option Value)) (i : Nat) : Prop := ∀ (j : Nat) (v : Value), lv[j]? = some (some v) → j + 1 = i → v.category ≠ 2
def lv_okb (lv : List (Option Value)) (i : Nat) : Bool := match i with
  | 0 => true
  | j + 1 => match lv[j]? with
    | some (some v) => v.category != 2
    | _ => true
theorem lv_ok_of {lv : List (Option Value)} {i : Nat} (h : lv_okb lv i = true) : lv_ok lv i := by
  intro j v hj e
  subst e
  simp only [lv_okb, hj] at h
  simpa using h
theorem lvh.put {ls ls' : Array Slot} {nL : Nat} {lv : List (Option Value)} {i : Nat} {v : Value} (hok : lv_ok lv i) (h : lv_has ls' nL ((i, v) :: (lv_prs 0 lv).filter (fun q => !(q.1 == i) && !(q.1 + 1 == i && q.2.category == 2)))) : lvh ls' nL (lv.set i (some v)) := by
  refine ⟨h.1, h.2.1, fun j x hj => ?_⟩
  rw [List.getElem?_set] at hj
  by_cases e : i = j
  · subst e
    by_cases hl : i < lv.length
    · simp [hl] at hj
      subst hj
      exact h.2.2 (i, v) List.mem_cons_self
    · simp [hl] at hj
  · simp [e] at hj
    refine h.2.2 (j, x) (List.mem_cons_of_mem _ (List.mem_filter.mpr ⟨?_, ?_⟩))
    · have := lv_prs_of lv 0 j x hj
      rwa [Nat.zero_add] at this
    · have h1 : ¬ j = i := fun z => e z.symm
      by_cases h2 : j + 1 = i
      · have h3 := hok j x hj h2
        simp [h1, h3]
      · simp [h1, h2]
theorem lvh_args : ∀ (vs : List Value) (k : Nat), (∀ v ∈ vs, v.category = 1) → ∀ (i : Nat) (v : Value), vs[i]? = some v → (k + i, v) ∈ lv_args k vs
  | [], k, hc, i, v, h => by simp at h
  | x :: r, k, hc, 0, v, h => by
    have : x = v := by simpa using h
    rw [this]
    exact List.mem_cons_self
  | x :: r, k, hc, i + 1, v, h => by
    have h1 : x.category = 1 := hc x List.mem_cons_self
    have := lvh_args r (k + 1) (fun y hy => hc y (List.mem_cons_of_mem _ hy)) i v (by simpa using h)
    rw [show k + (i + 1) = k + 1 + i by omega]
    show _ ∈ (k, x) :: lv_args (if x.category = 2 then k + 2 else k + 1) r
    rw [h1]
    exact List.mem_cons_of_mem _ this
/-- the locals at a method's entry -/
def lv_ent (vs : List Value) (n : Nat) : List (Option Value) := vs.map some ++ List.replicate (n - vs.length) none
theorem lvh_ent {ls : Array Slot} {n : Nat} {vs : List Value} (hc : ∀ v ∈ vs, v.category = 1) (h : lv_has ls n (lv_args 0 vs)) : lvh ls n (lv_ent vs n) := by
  refine ⟨h.1, h.2.1, fun i v hi => ?_⟩
  refine h.2.2 (i, v) ?_
  have : vs[i]? = some v := by
    unfold lv_ent at hi
    by_cases hl : i < vs.length
    · rw [List.getElem?_append_left (by simpa using hl)] at hi
      simpa using hi
    · rw [List.getElem?_append_right (by simpa using hl)] at hi
      rw [List.getElem?_replicate] at hi
      split at hi <;> simp at hi
  have h2 := lvh_args vs 0 hc i v this
  rwa [Nat.zero_add] at h2
section
variable {S : Type} {g : Gx} {R : Room} {cc : ByteArray} {own : String} {nL : Nat} {ty : List (ClassId × FieldType)} {w : S → va_W} {Ri : Int32 → S → Prop} {Rv : S → Prop} {u : S} {pc : Nat} {lv : List (Option Value)} {st : List Value}
theorem ro_iload {i : Nat} {x : Int32} (hd : decode cc pc = .ok (.iload i, 2)) (hl : lv[i]? = some (some (.int x))) (k : G g R cc own nL ty w Ri Rv u (pc + 2) lv (.int x :: st)) : G g R cc own nL ty w Ri Rv u pc lv st := by
  obtain ⟨p, l, e, s, m, args, below, meth, c, Q, A, D, cells, slots⟩ := g
  intro C H locs ls hP hD hS hv
  have ⟨hx, hb, hml, hown, hts, hK, hA, hroom, hRi, hRv⟩ := C
  exact lv_iload hx hb hd (hv.2.2 _ _ hl) (k C H locs ls hP hD hS hv)
theorem ro_iload_n {j : Fin 4} {x : Int32} (hd : decode cc pc = .ok (.iload_n j, 1)) (hl : lv[(j : Nat)]? = some (some (.int x))) (k : G g R cc own nL ty w Ri Rv u (pc + 1) lv (.int x :: st)) : G g R cc own nL ty w Ri Rv u pc lv st := by
  obtain ⟨p, l, e, s, m, args, below, meth, c, Q, A, D, cells, slots⟩ := g
  intro C H locs ls hP hD hS hv
  have ⟨hx, hb, hml, hown, hts, hK, hA, hroom, hRi, hRv⟩ := C
  exact lv_iload_n hx hb hd rfl (hv.2.2 _ _ hl) (k C H locs ls hP hD hS hv)
theorem ro_aload_n {j : Fin 4} {x : Nat} (hd : decode cc pc = .ok (.aload_n j, 1)) (hl : lv[(j : Nat)]? = some (some (.ref x))) (k : G g R cc own nL ty w Ri Rv u (pc + 1) lv (.ref x :: st)) : G g R cc own nL ty w Ri Rv u pc lv st := by
  obtain ⟨p, l, e, s, m, args, below, meth, c, Q, A, D, cells, slots⟩ := g
  intro C H locs ls hP hD hS hv
  have ⟨hx, hb, hml, hown, hts, hK, hA, hroom, hRi, hRv⟩ := C
  exact lv_aload_n hx hb hd rfl (hv.2.2 _ _ hl) (k C H locs ls hP hD hS hv)
theorem ro_lload_n {j : Fin 4} {x : Int64} (hd : decode cc pc = .ok (.lload_n j, 1)) (hl : lv[(j : Nat)]? = some (some (.long x))) (k : G g R cc own nL ty w Ri Rv u (pc + 1) lv (.long x :: st)) : G g R cc own nL ty w Ri Rv u pc lv st := by
  obtain ⟨p, l, e, s, m, args, below, meth, c, Q, A, D, cells, slots⟩ := g
  intro C H locs ls hP hD hS hv
  have ⟨hx, hb, hml, hown, hts, hK, hA, hroom, hRi, hRv⟩ := C
  exact lv_lload_n hx hb hd rfl (hv.2.2 _ _ hl) (k C H locs ls hP hD hS hv)
theorem ro_istore {i : Nat} {x : Int32} {lv1 : List (Option Value)} (hd : decode cc pc = .ok (.istore i, 2)) (hi : Nat.blt i nL = true) (hok : lv_okb lv i = true) (h1 : lv.set i (some (.int x)) = lv1) (k : G g R cc own nL ty w Ri Rv u (pc + 2) lv1 st) : G g R cc own nL ty w Ri Rv u pc lv (.int x :: st) := by
  obtain ⟨p, l, e, s, m, args, below, meth, c, Q, A, D, cells, slots⟩ := g
  intro C H locs ls hP hD hS hv
  have ⟨hx, hb, hml, hown, hts, hK, hA, hroom, hRi, hRv⟩ := C
  exact lv_istore hx hb hd hv.prs (Nat.le_of_ble_eq_true hi) rfl (fun ls1 h2 => k C H locs ls1 hP hD hS (h1 ▸ lvh.put (ls := ls) (lv_ok_of hok) h2))
theorem ro_istore_n {j : Fin 4} {x : Int32} {lv1 : List (Option Value)} (hd : decode cc pc = .ok (.istore_n j, 1)) (hi : Nat.blt (j : Nat) nL = true) (hok : lv_okb lv (j : Nat) = true) (h1 : lv.set (j : Nat) (some (.int x)) = lv1) (k : G g R cc own nL ty w Ri Rv u (pc + 1) lv1 st) : G g R cc own nL ty w Ri Rv u pc lv (.int x :: st) := by
  obtain ⟨p, l, e, s, m, args, below, meth, c, Q, A, D, cells, slots⟩ := g
  intro C H locs ls hP hD hS hv
  have ⟨hx, hb, hml, hown, hts, hK, hA, hroom, hRi, hRv⟩ := C
  exact lv_istore_n hx hb hd rfl hv.prs (Nat.le_of_ble_eq_true hi) rfl (fun ls1 h2 => k C H locs ls1 hP hD hS (h1 ▸ lvh.put (ls := ls) (lv_ok_of hok) h2))
theorem ro_astore_n {j : Fin 4} {x : Nat} {lv1 : List (Option Value)} (hd : decode cc pc = .ok (.astore_n j, 1)) (hi : Nat.blt (j : Nat) nL = true) (hok : lv_okb lv (j : Nat) = true) (h1 : lv.set (j : Nat) (some (.ref x)) = lv1) (k : G g R cc own nL ty w Ri Rv u (pc + 1) lv1 st) : G g R cc own nL ty w Ri Rv u pc lv (.ref x :: st) := by
  obtain ⟨p, l, e, s, m, args, below, meth, c, Q, A, D, cells, slots⟩ := g
  intro C H locs ls hP hD hS hv
  have ⟨hx, hb, hml, hown, hts, hK, hA, hroom, hRi, hRv⟩ := C
  exact lv_astore_n hx hb hd rfl hv.prs (Nat.le_of_ble_eq_true hi) rfl (fun ls1 h2 => k C H locs ls1 hP hD hS (h1 ▸ lvh.put (ls := ls) (lv_ok_of hok) h2))
theorem ro_iinc {i a : Nat} {lv1 : List (Option Value)} (hd : decode cc pc = .ok (.iinc i 1, 3)) (hl : lv[i]? = some (some (.int (nI a)))) (hi : Nat.blt i nL = true) (hok : lv_okb lv i = true) (h1 : lv.set i (some (.int (nI (a + 1)))) = lv1) (k : G g R cc own nL ty w Ri Rv u (pc + 3) lv1 st) : G g R cc own nL ty w Ri Rv u pc lv st := by
  obtain ⟨p, l, e, s, m, args, below, meth, c, Q, A, D, cells, slots⟩ := g
  intro C H locs ls hP hD hS hv
  have ⟨hx, hb, hml, hown, hts, hK, hA, hroom, hRi, hRv⟩ := C
  obtain ⟨kk, hkk⟩ := List.getElem?_of_mem (lv_prs_of lv 0 i _ hl)
  rw [Nat.zero_add] at hkk
  exact lv_iinc hx hb hd hv.prs hkk (v := nI (a + 1)) (nI_1 a) (Nat.le_of_ble_eq_true hi) rfl (fun ls1 h2 => k C H locs ls1 hP hD hS (h1 ▸ lvh.put (ls := ls) (lv_ok_of hok) h2))
theorem ro_iincR {i : Nat} {n : Int} {x y : Int32} {lv1 : List (Option Value)} (hd : decode cc pc = .ok (.iinc i n, 3)) (hl : lv[i]? = some (some (.int x))) (hy : x + Int32.ofInt n = y) (hi : Nat.blt i nL = true) (hok : lv_okb lv i = true) (h1 : lv.set i (some (.int y)) = lv1) (k : G g R cc own nL ty w Ri Rv u (pc + 3) lv1 st) : G g R cc own nL ty w Ri Rv u pc lv st := by
  obtain ⟨p, l, e, s, m, args, below, meth, c, Q, A, D, cells, slots⟩ := g
  intro C H locs ls hP hD hS hv
  have ⟨hx, hb, hml, hown, hts, hK, hA, hroom, hRi, hRv⟩ := C
  obtain ⟨kk, hkk⟩ := List.getElem?_of_mem (lv_prs_of lv 0 i _ hl)
  rw [Nat.zero_add] at hkk
  exact lv_iinc hx hb hd hv.prs hkk (v := y) hy (Nat.le_of_ble_eq_true hi) rfl (fun ls1 h2 => k C H locs ls1 hP hD hS (h1 ▸ lvh.put (ls := ls) (lv_ok_of hok) h2))
theorem ro_iconst {n : Int} {x : Int32} (hd : decode cc pc = .ok (.iconst n, 1)) (hn : Int32.ofInt n = x) (k : G g R cc own nL ty w Ri Rv u (pc + 1) lv (.int x :: st)) : G g R cc own nL ty w Ri Rv u pc lv st := by
  obtain ⟨p, l, e, s, m, args, below, meth, c, Q, A, D, cells, slots⟩ := g
  intro C H locs ls hP hD hS hv
  have ⟨hx, hb, hml, hown, hts, hK, hA, hroom, hRi, hRv⟩ := C
  exact lv_iconst hx hb hd hn (k C H locs ls hP hD hS hv)
theorem ro_bipush {n : Int} {x : Int32} (hd : decode cc pc = .ok (.bipush n, 2)) (hn : (Int8.ofInt n).toInt32 = x) (k : G g R cc own nL ty w Ri Rv u (pc + 2) lv (.int x :: st)) : G g R cc own nL ty w Ri Rv u pc lv st := by
  obtain ⟨p, l, e, s, m, args, below, meth, c, Q, A, D, cells, slots⟩ := g
  intro C H locs ls hP hD hS hv
  have ⟨hx, hb, hml, hown, hts, hK, hA, hroom, hRi, hRv⟩ := C
  exact lv_bipush hx hb hd hn (k C H locs ls hP hD hS hv)
theorem ro_sipush {n : Int} {x : Int32} (hd : decode cc pc = .ok (.sipush n, 3)) (hn : (Int16.ofInt n).toInt32 = x) (k : G g R cc own nL ty w Ri Rv u (pc + 3) lv (.int x :: st)) : G g R cc own nL ty w Ri Rv u pc lv st := by
  obtain ⟨p, l, e, s, m, args, below, meth, c, Q, A, D, cells, slots⟩ := g
  intro C H locs ls hP hD hS hv
  have ⟨hx, hb, hml, hown, hts, hK, hA, hroom, hRi, hRv⟩ := C
  exact lv_sipush hx hb hd hn (k C H locs ls hP hD hS hv)
theorem ro_lconst {n : Fin 2} (hd : decode cc pc = .ok (.lconst n, 1)) (k : G g R cc own nL ty w Ri Rv u (pc + 1) lv (.long (lN (n : Nat)) :: st)) : G g R cc own nL ty w Ri Rv u pc lv st := by
  obtain ⟨p, l, e, s, m, args, below, meth, c, Q, A, D, cells, slots⟩ := g
  intro C H locs ls hP hD hS hv
  have ⟨hx, hb, hml, hown, hts, hK, hA, hroom, hRi, hRv⟩ := C
  exact lv_lconst hx hb hd rfl (k C H locs ls hP hD hS hv)
theorem ro_dup {x : Value} (hd : decode cc pc = .ok (.dup, 1)) (hc : x.category = 1) (k : G g R cc own nL ty w Ri Rv u (pc + 1) lv (x :: x :: st)) : G g R cc own nL ty w Ri Rv u pc lv (x :: st) := by
  obtain ⟨p, l, e, s, m, args, below, meth, c, Q, A, D, cells, slots⟩ := g
  intro C H locs ls hP hD hS hv
  have ⟨hx, hb, hml, hown, hts, hK, hA, hroom, hRi, hRv⟩ := C
  exact lv_dup hx hb hd hc (k C H locs ls hP hD hS hv)
theorem ro_pop {x : Value} (hd : decode cc pc = .ok (.pop, 1)) (hc : x.category = 1) (k : G g R cc own nL ty w Ri Rv u (pc + 1) lv st) : G g R cc own nL ty w Ri Rv u pc lv (x :: st) := by
  obtain ⟨p, l, e, s, m, args, below, meth, c, Q, A, D, cells, slots⟩ := g
  intro C H locs ls hP hD hS hv
  have ⟨hx, hb, hml, hown, hts, hK, hA, hroom, hRi, hRv⟩ := C
  exact lv_pop hx hb hd hc (k C H locs ls hP hD hS hv)
theorem ro_iadd {a b : Nat} (hd : decode cc pc = .ok (.iadd, 1))  (k : G g R cc own nL ty w Ri Rv u (pc + 1) lv (.int (nI (a + b)) :: st)) : G g R cc own nL ty w Ri Rv u pc lv (.int (nI b) :: .int (nI a) :: st) := by
  obtain ⟨p, l, e, s, m, args, below, meth, c, Q, A, D, cells, slots⟩ := g
  intro C H locs ls hP hD hS hv
  have ⟨hx, hb, hml, hown, hts, hK, hA, hroom, hRi, hRv⟩ := C
  refine lv_iadd hx hb hd ?_
  rw [nI_add]
  exact (k C H locs ls hP hD hS hv)
theorem ro_isub {a b : Nat} (hd : decode cc pc = .ok (.isub, 1)) (h : b ≤ a) (k : G g R cc own nL ty w Ri Rv u (pc + 1) lv (.int (nI (a - b)) :: st)) : G g R cc own nL ty w Ri Rv u pc lv (.int (nI b) :: .int (nI a) :: st) := by
  obtain ⟨p, l, e, s, m, args, below, meth, c, Q, A, D, cells, slots⟩ := g
  intro C H locs ls hP hD hS hv
  have ⟨hx, hb, hml, hown, hts, hK, hA, hroom, hRi, hRv⟩ := C
  refine lv_isub hx hb hd ?_
  rw [pk_sub h]
  exact (k C H locs ls hP hD hS hv)
theorem ro_imul {a b : Nat} (hd : decode cc pc = .ok (.imul, 1))  (k : G g R cc own nL ty w Ri Rv u (pc + 1) lv (.int (nI (a * b)) :: st)) : G g R cc own nL ty w Ri Rv u pc lv (.int (nI b) :: .int (nI a) :: st) := by
  obtain ⟨p, l, e, s, m, args, below, meth, c, Q, A, D, cells, slots⟩ := g
  intro C H locs ls hP hD hS hv
  have ⟨hx, hb, hml, hown, hts, hK, hA, hroom, hRi, hRv⟩ := C
  refine lv_imul hx hb hd ?_
  rw [pk_mul]
  exact (k C H locs ls hP hD hS hv)
theorem ro_iaddR {x y : Int32} (hd : decode cc pc = .ok (.iadd, 1)) (k : G g R cc own nL ty w Ri Rv u (pc + 1) lv (.int (x + y) :: st)) : G g R cc own nL ty w Ri Rv u pc lv (.int y :: .int x :: st) := by
  obtain ⟨p, l, e, s, m, args, below, meth, c, Q, A, D, cells, slots⟩ := g
  intro C H locs ls hP hD hS hv
  have ⟨hx, hb, hml, hown, hts, hK, hA, hroom, hRi, hRv⟩ := C
  exact lv_iadd hx hb hd (k C H locs ls hP hD hS hv)
theorem ro_isubR {x y : Int32} (hd : decode cc pc = .ok (.isub, 1)) (k : G g R cc own nL ty w Ri Rv u (pc + 1) lv (.int (x - y) :: st)) : G g R cc own nL ty w Ri Rv u pc lv (.int y :: .int x :: st) := by
  obtain ⟨p, l, e, s, m, args, below, meth, c, Q, A, D, cells, slots⟩ := g
  intro C H locs ls hP hD hS hv
  have ⟨hx, hb, hml, hown, hts, hK, hA, hroom, hRi, hRv⟩ := C
  exact lv_isub hx hb hd (k C H locs ls hP hD hS hv)
theorem ro_iorR {x y : Int32} (hd : decode cc pc = .ok (.ior, 1)) (k : G g R cc own nL ty w Ri Rv u (pc + 1) lv (.int (x ||| y) :: st)) : G g R cc own nL ty w Ri Rv u pc lv (.int y :: .int x :: st) := by
  obtain ⟨p, l, e, s, m, args, below, meth, c, Q, A, D, cells, slots⟩ := g
  intro C H locs ls hP hD hS hv
  have ⟨hx, hb, hml, hown, hts, hK, hA, hroom, hRi, hRv⟩ := C
  exact lv_ior hx hb hd (k C H locs ls hP hD hS hv)
theorem ro_iandR {x y : Int32} (hd : decode cc pc = .ok (.iand, 1)) (k : G g R cc own nL ty w Ri Rv u (pc + 1) lv (.int (x &&& y) :: st)) : G g R cc own nL ty w Ri Rv u pc lv (.int y :: .int x :: st) := by
  obtain ⟨p, l, e, s, m, args, below, meth, c, Q, A, D, cells, slots⟩ := g
  intro C H locs ls hP hD hS hv
  have ⟨hx, hb, hml, hown, hts, hK, hA, hroom, hRi, hRv⟩ := C
  exact lv_iand hx hb hd (k C H locs ls hP hD hS hv)
theorem ro_ishlR {x y : Int32} (hd : decode cc pc = .ok (.ishl, 1)) (k : G g R cc own nL ty w Ri Rv u (pc + 1) lv (.int (x <<< (y &&& 31)) :: st)) : G g R cc own nL ty w Ri Rv u pc lv (.int y :: .int x :: st) := by
  obtain ⟨p, l, e, s, m, args, below, meth, c, Q, A, D, cells, slots⟩ := g
  intro C H locs ls hP hD hS hv
  have ⟨hx, hb, hml, hown, hts, hK, hA, hroom, hRi, hRv⟩ := C
  exact lv_ishl hx hb hd (k C H locs ls hP hD hS hv)
theorem ro_ishrR {x y : Int32} (hd : decode cc pc = .ok (.ishr, 1)) (k : G g R cc own nL ty w Ri Rv u (pc + 1) lv (.int (x >>> (y &&& 31)) :: st)) : G g R cc own nL ty w Ri Rv u pc lv (.int y :: .int x :: st) := by
  obtain ⟨p, l, e, s, m, args, below, meth, c, Q, A, D, cells, slots⟩ := g
  intro C H locs ls hP hD hS hv
  have ⟨hx, hb, hml, hown, hts, hK, hA, hroom, hRi, hRv⟩ := C
  exact lv_ishr hx hb hd (k C H locs ls hP hD hS hv)
theorem ro_top {x y : Int32} (e1 : x = y) (k : G g R cc own nL ty w Ri Rv u pc lv (.int y :: st)) : G g R cc own nL ty w Ri Rv u pc lv (.int x :: st) := by
  obtain ⟨p, l, e, s, m, args, below, meth, c, Q, A, D, cells, slots⟩ := g
  intro C H locs ls hP hD hS hv
  have ⟨hx, hb, hml, hown, hts, hK, hA, hroom, hRi, hRv⟩ := C
  rw [e1]
  exact (k C H locs ls hP hD hS hv)
theorem ro_topl {x y : Int64} (e1 : x = y) (k : G g R cc own nL ty w Ri Rv u pc lv (.long y :: st)) : G g R cc own nL ty w Ri Rv u pc lv (.long x :: st) := by
  obtain ⟨p, l, e, s, m, args, below, meth, c, Q, A, D, cells, slots⟩ := g
  intro C H locs ls hP hD hS hv
  have ⟨hx, hb, hml, hown, hts, hK, hA, hroom, hRi, hRv⟩ := C
  rw [e1]
  exact (k C H locs ls hP hD hS hv)
theorem ro_lor {x y : Int64} (hd : decode cc pc = .ok (.lor, 1)) (k : G g R cc own nL ty w Ri Rv u (pc + 1) lv (.long (x ||| y) :: st)) : G g R cc own nL ty w Ri Rv u pc lv (.long y :: .long x :: st) := by
  obtain ⟨p, l, e, s, m, args, below, meth, c, Q, A, D, cells, slots⟩ := g
  intro C H locs ls hP hD hS hv
  have ⟨hx, hb, hml, hown, hts, hK, hA, hroom, hRi, hRv⟩ := C
  exact lv_lor hx hb hd (k C H locs ls hP hD hS hv)
theorem ro_land {x y : Int64} (hd : decode cc pc = .ok (.land, 1)) (k : G g R cc own nL ty w Ri Rv u (pc + 1) lv (.long (x &&& y) :: st)) : G g R cc own nL ty w Ri Rv u pc lv (.long y :: .long x :: st) := by
  obtain ⟨p, l, e, s, m, args, below, meth, c, Q, A, D, cells, slots⟩ := g
  intro C H locs ls hP hD hS hv
  have ⟨hx, hb, hml, hown, hts, hK, hA, hroom, hRi, hRv⟩ := C
  exact lv_land hx hb hd (k C H locs ls hP hD hS hv)
theorem ro_lshl {x v : Int64} {y : Int32} (hd : decode cc pc = .ok (.lshl, 1)) (hv2 : x <<< (y.toInt64 &&& 63) = v) (k : G g R cc own nL ty w Ri Rv u (pc + 1) lv (.long v :: st)) : G g R cc own nL ty w Ri Rv u pc lv (.int y :: .long x :: st) := by
  obtain ⟨p, l, e, s, m, args, below, meth, c, Q, A, D, cells, slots⟩ := g
  intro C H locs ls hP hD hS hv
  have ⟨hx, hb, hml, hown, hts, hK, hA, hroom, hRi, hRv⟩ := C
  exact lv_lshl hx hb hd hv2 (k C H locs ls hP hD hS hv)
theorem ro_lushr {x v : Int64} {y : Int32} (hd : decode cc pc = .ok (.lushr, 1)) (hv2 : (x.toUInt64 >>> (y.toInt64.toUInt64 &&& Int64.toUInt64 63)).toInt64 = v) (k : G g R cc own nL ty w Ri Rv u (pc + 1) lv (.long v :: st)) : G g R cc own nL ty w Ri Rv u pc lv (.int y :: .long x :: st) := by
  obtain ⟨p, l, e, s, m, args, below, meth, c, Q, A, D, cells, slots⟩ := g
  intro C H locs ls hP hD hS hv
  have ⟨hx, hb, hml, hown, hts, hK, hA, hroom, hRi, hRv⟩ := C
  exact lv_lushr hx hb hd hv2 (k C H locs ls hP hD hS hv)
theorem ro_lcmp {x y : Int64} (hd : decode cc pc = .ok (.lcmp, 1)) (k : G g R cc own nL ty w Ri Rv u (pc + 1) lv (.int (lg_cmp x y) :: st)) : G g R cc own nL ty w Ri Rv u pc lv (.long y :: .long x :: st) := by
  obtain ⟨p, l, e, s, m, args, below, meth, c, Q, A, D, cells, slots⟩ := g
  intro C H locs ls hP hD hS hv
  have ⟨hx, hb, hml, hown, hts, hK, hA, hroom, hRi, hRv⟩ := C
  exact W.lcmp hx hb hd (k C H locs ls hP hD hS hv)
theorem ro_goto {off : Int} (tgt : Nat) (hd : decode cc pc = .ok (.goto off, 3)) (ht : (pc : Int) + off = (tgt : Int)) (k : G g R cc own nL ty w Ri Rv u tgt lv st) : G g R cc own nL ty w Ri Rv u pc lv st := by
  obtain ⟨p, l, e, s, m, args, below, meth, c, Q, A, D, cells, slots⟩ := g
  intro C H locs ls hP hD hS hv
  have ⟨hx, hb, hml, hown, hts, hK, hA, hroom, hRi, hRv⟩ := C
  exact lv_goto hx hb hd ht (k C H locs ls hP hD hS hv)
theorem ro_icmp_eq {a b : Nat} {off : Int} (tgt : Nat) (hd : decode cc pc = .ok (.if_icmp .eq off, 3)) (ht : (pc : Int) + off = (tgt : Int)) (h1 : a < 2 ^ 31) (h2 : b < 2 ^ 31) (kt : a = b → G g R cc own nL ty w Ri Rv u tgt lv st) (kf : a ≠ b → G g R cc own nL ty w Ri Rv u (pc + 3) lv st) : G g R cc own nL ty w Ri Rv u pc lv (.int (nI b) :: .int (nI a) :: st) := by
  obtain ⟨p, l, e, s, m, args, below, meth, c, Q, A, D, cells, slots⟩ := g
  intro C H locs ls hP hD hS hv
  have ⟨hx, hb, hml, hown, hts, hK, hA, hroom, hRi, hRv⟩ := C
  exact lv_icmp_eq hx hb hd ht (fun h => kt ((nI_eq h1 h2).mp h) C H locs ls hP hD hS hv) (fun h => kf (fun z => h ((nI_eq h1 h2).mpr z)) C H locs ls hP hD hS hv)
theorem ro_icmp_eqR {x y : Int32} {off : Int} (tgt : Nat) (hd : decode cc pc = .ok (.if_icmp .eq off, 3)) (ht : (pc : Int) + off = (tgt : Int)) (kt : x = y → G g R cc own nL ty w Ri Rv u tgt lv st) (kf : ¬ x = y → G g R cc own nL ty w Ri Rv u (pc + 3) lv st) : G g R cc own nL ty w Ri Rv u pc lv (.int y :: .int x :: st) := by
  obtain ⟨p, l, e, s, m, args, below, meth, c, Q, A, D, cells, slots⟩ := g
  intro C H locs ls hP hD hS hv
  have ⟨hx, hb, hml, hown, hts, hK, hA, hroom, hRi, hRv⟩ := C
  exact lv_icmp_eq hx hb hd ht (fun h => kt h C H locs ls hP hD hS hv) (fun h => kf h C H locs ls hP hD hS hv)
theorem ro_if_eqR {x : Int32} {off : Int} (tgt : Nat) (hd : decode cc pc = .ok (.ifCond .eq off, 3)) (ht : (pc : Int) + off = (tgt : Int)) (kt : x = 0 → G g R cc own nL ty w Ri Rv u tgt lv st) (kf : ¬ x = 0 → G g R cc own nL ty w Ri Rv u (pc + 3) lv st) : G g R cc own nL ty w Ri Rv u pc lv (.int x :: st) := by
  obtain ⟨p, l, e, s, m, args, below, meth, c, Q, A, D, cells, slots⟩ := g
  intro C H locs ls hP hD hS hv
  have ⟨hx, hb, hml, hown, hts, hK, hA, hroom, hRi, hRv⟩ := C
  exact lv_if_eq hx hb hd ht (fun h => kt h C H locs ls hP hD hS hv) (fun h => kf h C H locs ls hP hD hS hv)
theorem ro_icmp_ne {a b : Nat} {off : Int} (tgt : Nat) (hd : decode cc pc = .ok (.if_icmp .ne off, 3)) (ht : (pc : Int) + off = (tgt : Int)) (h1 : a < 2 ^ 31) (h2 : b < 2 ^ 31) (kt : a ≠ b → G g R cc own nL ty w Ri Rv u tgt lv st) (kf : a = b → G g R cc own nL ty w Ri Rv u (pc + 3) lv st) : G g R cc own nL ty w Ri Rv u pc lv (.int (nI b) :: .int (nI a) :: st) := by
  obtain ⟨p, l, e, s, m, args, below, meth, c, Q, A, D, cells, slots⟩ := g
  intro C H locs ls hP hD hS hv
  have ⟨hx, hb, hml, hown, hts, hK, hA, hroom, hRi, hRv⟩ := C
  exact lv_icmp_ne hx hb hd ht (fun h => kt (fun z => h ((nI_eq h1 h2).mpr z)) C H locs ls hP hD hS hv) (fun h => kf ((nI_eq h1 h2).mp h) C H locs ls hP hD hS hv)
theorem ro_icmp_neR {x y : Int32} {off : Int} (tgt : Nat) (hd : decode cc pc = .ok (.if_icmp .ne off, 3)) (ht : (pc : Int) + off = (tgt : Int)) (kt : ¬ x = y → G g R cc own nL ty w Ri Rv u tgt lv st) (kf : x = y → G g R cc own nL ty w Ri Rv u (pc + 3) lv st) : G g R cc own nL ty w Ri Rv u pc lv (.int y :: .int x :: st) := by
  obtain ⟨p, l, e, s, m, args, below, meth, c, Q, A, D, cells, slots⟩ := g
  intro C H locs ls hP hD hS hv
  have ⟨hx, hb, hml, hown, hts, hK, hA, hroom, hRi, hRv⟩ := C
  exact lv_icmp_ne hx hb hd ht (fun h => kt h C H locs ls hP hD hS hv) (fun h => kf h C H locs ls hP hD hS hv)
theorem ro_if_neR {x : Int32} {off : Int} (tgt : Nat) (hd : decode cc pc = .ok (.ifCond .ne off, 3)) (ht : (pc : Int) + off = (tgt : Int)) (kt : ¬ x = 0 → G g R cc own nL ty w Ri Rv u tgt lv st) (kf : x = 0 → G g R cc own nL ty w Ri Rv u (pc + 3) lv st) : G g R cc own nL ty w Ri Rv u pc lv (.int x :: st) := by
  obtain ⟨p, l, e, s, m, args, below, meth, c, Q, A, D, cells, slots⟩ := g
  intro C H locs ls hP hD hS hv
  have ⟨hx, hb, hml, hown, hts, hK, hA, hroom, hRi, hRv⟩ := C
  exact lv_if_ne hx hb hd ht (fun h => kt h C H locs ls hP hD hS hv) (fun h => kf h C H locs ls hP hD hS hv)
theorem ro_icmp_lt {a b : Nat} {off : Int} (tgt : Nat) (hd : decode cc pc = .ok (.if_icmp .lt off, 3)) (ht : (pc : Int) + off = (tgt : Int)) (h1 : a < 2 ^ 31) (h2 : b < 2 ^ 31) (kt : a < b → G g R cc own nL ty w Ri Rv u tgt lv st) (kf : b ≤ a → G g R cc own nL ty w Ri Rv u (pc + 3) lv st) : G g R cc own nL ty w Ri Rv u pc lv (.int (nI b) :: .int (nI a) :: st) := by
  obtain ⟨p, l, e, s, m, args, below, meth, c, Q, A, D, cells, slots⟩ := g
  intro C H locs ls hP hD hS hv
  have ⟨hx, hb, hml, hown, hts, hK, hA, hroom, hRi, hRv⟩ := C
  exact lv_icmp_lt hx hb hd ht (fun h => kt ((nI_ltI h1 h2).mp h) C H locs ls hP hD hS hv) (fun h => kf (Nat.le_of_not_lt (fun z => h ((nI_ltI h1 h2).mpr z))) C H locs ls hP hD hS hv)
theorem ro_icmp_ltR {x y : Int32} {off : Int} (tgt : Nat) (hd : decode cc pc = .ok (.if_icmp .lt off, 3)) (ht : (pc : Int) + off = (tgt : Int)) (kt : x < y → G g R cc own nL ty w Ri Rv u tgt lv st) (kf : ¬ x < y → G g R cc own nL ty w Ri Rv u (pc + 3) lv st) : G g R cc own nL ty w Ri Rv u pc lv (.int y :: .int x :: st) := by
  obtain ⟨p, l, e, s, m, args, below, meth, c, Q, A, D, cells, slots⟩ := g
  intro C H locs ls hP hD hS hv
  have ⟨hx, hb, hml, hown, hts, hK, hA, hroom, hRi, hRv⟩ := C
  exact lv_icmp_lt hx hb hd ht (fun h => kt h C H locs ls hP hD hS hv) (fun h => kf h C H locs ls hP hD hS hv)
theorem ro_if_ltR {x : Int32} {off : Int} (tgt : Nat) (hd : decode cc pc = .ok (.ifCond .lt off, 3)) (ht : (pc : Int) + off = (tgt : Int)) (kt : x < 0 → G g R cc own nL ty w Ri Rv u tgt lv st) (kf : ¬ x < 0 → G g R cc own nL ty w Ri Rv u (pc + 3) lv st) : G g R cc own nL ty w Ri Rv u pc lv (.int x :: st) := by
  obtain ⟨p, l, e, s, m, args, below, meth, c, Q, A, D, cells, slots⟩ := g
  intro C H locs ls hP hD hS hv
  have ⟨hx, hb, hml, hown, hts, hK, hA, hroom, hRi, hRv⟩ := C
  exact lv_if_lt hx hb hd ht (fun h => kt h C H locs ls hP hD hS hv) (fun h => kf h C H locs ls hP hD hS hv)
theorem ro_icmp_ge {a b : Nat} {off : Int} (tgt : Nat) (hd : decode cc pc = .ok (.if_icmp .ge off, 3)) (ht : (pc : Int) + off = (tgt : Int)) (h1 : a < 2 ^ 31) (h2 : b < 2 ^ 31) (kt : b ≤ a → G g R cc own nL ty w Ri Rv u tgt lv st) (kf : a < b → G g R cc own nL ty w Ri Rv u (pc + 3) lv st) : G g R cc own nL ty w Ri Rv u pc lv (.int (nI b) :: .int (nI a) :: st) := by
  obtain ⟨p, l, e, s, m, args, below, meth, c, Q, A, D, cells, slots⟩ := g
  intro C H locs ls hP hD hS hv
  have ⟨hx, hb, hml, hown, hts, hK, hA, hroom, hRi, hRv⟩ := C
  exact lv_icmp_ge hx hb hd ht (fun h => kt ((nI_leI h2 h1).mp h) C H locs ls hP hD hS hv) (fun h => kf (Nat.lt_of_not_le (fun z => h ((nI_leI h2 h1).mpr z))) C H locs ls hP hD hS hv)
theorem ro_icmp_geR {x y : Int32} {off : Int} (tgt : Nat) (hd : decode cc pc = .ok (.if_icmp .ge off, 3)) (ht : (pc : Int) + off = (tgt : Int)) (kt : y ≤ x → G g R cc own nL ty w Ri Rv u tgt lv st) (kf : ¬ y ≤ x → G g R cc own nL ty w Ri Rv u (pc + 3) lv st) : G g R cc own nL ty w Ri Rv u pc lv (.int y :: .int x :: st) := by
  obtain ⟨p, l, e, s, m, args, below, meth, c, Q, A, D, cells, slots⟩ := g
  intro C H locs ls hP hD hS hv
  have ⟨hx, hb, hml, hown, hts, hK, hA, hroom, hRi, hRv⟩ := C
  exact lv_icmp_ge hx hb hd ht (fun h => kt h C H locs ls hP hD hS hv) (fun h => kf h C H locs ls hP hD hS hv)
theorem ro_if_geR {x : Int32} {off : Int} (tgt : Nat) (hd : decode cc pc = .ok (.ifCond .ge off, 3)) (ht : (pc : Int) + off = (tgt : Int)) (kt : 0 ≤ x → G g R cc own nL ty w Ri Rv u tgt lv st) (kf : ¬ 0 ≤ x → G g R cc own nL ty w Ri Rv u (pc + 3) lv st) : G g R cc own nL ty w Ri Rv u pc lv (.int x :: st) := by
  obtain ⟨p, l, e, s, m, args, below, meth, c, Q, A, D, cells, slots⟩ := g
  intro C H locs ls hP hD hS hv
  have ⟨hx, hb, hml, hown, hts, hK, hA, hroom, hRi, hRv⟩ := C
  exact lv_if_ge hx hb hd ht (fun h => kt h C H locs ls hP hD hS hv) (fun h => kf h C H locs ls hP hD hS hv)
theorem ro_icmp_gt {a b : Nat} {off : Int} (tgt : Nat) (hd : decode cc pc = .ok (.if_icmp .gt off, 3)) (ht : (pc : Int) + off = (tgt : Int)) (h1 : a < 2 ^ 31) (h2 : b < 2 ^ 31) (kt : b < a → G g R cc own nL ty w Ri Rv u tgt lv st) (kf : a ≤ b → G g R cc own nL ty w Ri Rv u (pc + 3) lv st) : G g R cc own nL ty w Ri Rv u pc lv (.int (nI b) :: .int (nI a) :: st) := by
  obtain ⟨p, l, e, s, m, args, below, meth, c, Q, A, D, cells, slots⟩ := g
  intro C H locs ls hP hD hS hv
  have ⟨hx, hb, hml, hown, hts, hK, hA, hroom, hRi, hRv⟩ := C
  exact lv_icmp_gt hx hb hd ht (fun h => kt ((nI_ltI h2 h1).mp h) C H locs ls hP hD hS hv) (fun h => kf (Nat.le_of_not_lt (fun z => h ((nI_ltI h2 h1).mpr z))) C H locs ls hP hD hS hv)
theorem ro_icmp_gtR {x y : Int32} {off : Int} (tgt : Nat) (hd : decode cc pc = .ok (.if_icmp .gt off, 3)) (ht : (pc : Int) + off = (tgt : Int)) (kt : y < x → G g R cc own nL ty w Ri Rv u tgt lv st) (kf : ¬ y < x → G g R cc own nL ty w Ri Rv u (pc + 3) lv st) : G g R cc own nL ty w Ri Rv u pc lv (.int y :: .int x :: st) := by
  obtain ⟨p, l, e, s, m, args, below, meth, c, Q, A, D, cells, slots⟩ := g
  intro C H locs ls hP hD hS hv
  have ⟨hx, hb, hml, hown, hts, hK, hA, hroom, hRi, hRv⟩ := C
  exact lv_icmp_gt hx hb hd ht (fun h => kt h C H locs ls hP hD hS hv) (fun h => kf h C H locs ls hP hD hS hv)
theorem ro_if_gtR {x : Int32} {off : Int} (tgt : Nat) (hd : decode cc pc = .ok (.ifCond .gt off, 3)) (ht : (pc : Int) + off = (tgt : Int)) (kt : 0 < x → G g R cc own nL ty w Ri Rv u tgt lv st) (kf : ¬ 0 < x → G g R cc own nL ty w Ri Rv u (pc + 3) lv st) : G g R cc own nL ty w Ri Rv u pc lv (.int x :: st) := by
  obtain ⟨p, l, e, s, m, args, below, meth, c, Q, A, D, cells, slots⟩ := g
  intro C H locs ls hP hD hS hv
  have ⟨hx, hb, hml, hown, hts, hK, hA, hroom, hRi, hRv⟩ := C
  exact lv_if_gt hx hb hd ht (fun h => kt h C H locs ls hP hD hS hv) (fun h => kf h C H locs ls hP hD hS hv)
theorem ro_icmp_le {a b : Nat} {off : Int} (tgt : Nat) (hd : decode cc pc = .ok (.if_icmp .le off, 3)) (ht : (pc : Int) + off = (tgt : Int)) (h1 : a < 2 ^ 31) (h2 : b < 2 ^ 31) (kt : a ≤ b → G g R cc own nL ty w Ri Rv u tgt lv st) (kf : b < a → G g R cc own nL ty w Ri Rv u (pc + 3) lv st) : G g R cc own nL ty w Ri Rv u pc lv (.int (nI b) :: .int (nI a) :: st) := by
  obtain ⟨p, l, e, s, m, args, below, meth, c, Q, A, D, cells, slots⟩ := g
  intro C H locs ls hP hD hS hv
  have ⟨hx, hb, hml, hown, hts, hK, hA, hroom, hRi, hRv⟩ := C
  exact lv_icmp_le hx hb hd ht (fun h => kt ((nI_leI h1 h2).mp h) C H locs ls hP hD hS hv) (fun h => kf (Nat.lt_of_not_le (fun z => h ((nI_leI h1 h2).mpr z))) C H locs ls hP hD hS hv)
theorem ro_icmp_leR {x y : Int32} {off : Int} (tgt : Nat) (hd : decode cc pc = .ok (.if_icmp .le off, 3)) (ht : (pc : Int) + off = (tgt : Int)) (kt : x ≤ y → G g R cc own nL ty w Ri Rv u tgt lv st) (kf : ¬ x ≤ y → G g R cc own nL ty w Ri Rv u (pc + 3) lv st) : G g R cc own nL ty w Ri Rv u pc lv (.int y :: .int x :: st) := by
  obtain ⟨p, l, e, s, m, args, below, meth, c, Q, A, D, cells, slots⟩ := g
  intro C H locs ls hP hD hS hv
  have ⟨hx, hb, hml, hown, hts, hK, hA, hroom, hRi, hRv⟩ := C
  exact lv_icmp_le hx hb hd ht (fun h => kt h C H locs ls hP hD hS hv) (fun h => kf h C H locs ls hP hD hS hv)
theorem ro_if_leR {x : Int32} {off : Int} (tgt : Nat) (hd : decode cc pc = .ok (.ifCond .le off, 3)) (ht : (pc : Int) + off = (tgt : Int)) (kt : x ≤ 0 → G g R cc own nL ty w Ri Rv u tgt lv st) (kf : ¬ x ≤ 0 → G g R cc own nL ty w Ri Rv u (pc + 3) lv st) : G g R cc own nL ty w Ri Rv u pc lv (.int x :: st) := by
  obtain ⟨p, l, e, s, m, args, below, meth, c, Q, A, D, cells, slots⟩ := g
  intro C H locs ls hP hD hS hv
  have ⟨hx, hb, hml, hown, hts, hK, hA, hroom, hRi, hRv⟩ := C
  exact lv_if_le hx hb hd ht (fun h => kt h C H locs ls hP hD hS hv) (fun h => kf h C H locs ls hP hD hS hv)
theorem ro_if_eq {a : Nat} {off : Int} (tgt : Nat) (hd : decode cc pc = .ok (.ifCond .eq off, 3)) (ht : (pc : Int) + off = (tgt : Int)) (h1 : a < 2 ^ 31) (kt : a = 0 → G g R cc own nL ty w Ri Rv u tgt lv st) (kf : a ≠ 0 → G g R cc own nL ty w Ri Rv u (pc + 3) lv st) : G g R cc own nL ty w Ri Rv u pc lv (.int (nI a) :: st) := by
  obtain ⟨p, l, e, s, m, args, below, meth, c, Q, A, D, cells, slots⟩ := g
  intro C H locs ls hP hD hS hv
  have ⟨hx, hb, hml, hown, hts, hK, hA, hroom, hRi, hRv⟩ := C
  exact lv_if_eq hx hb hd ht (fun h => kt ((nI_eq h1 (by decide : (0 : Nat) < 2 ^ 31)).mp (h.trans nI_0.symm)) C H locs ls hP hD hS hv) (fun h => kf (fun z => h (by rw [z]; exact nI_0)) C H locs ls hP hD hS hv)
theorem ro_if_ne {a : Nat} {off : Int} (tgt : Nat) (hd : decode cc pc = .ok (.ifCond .ne off, 3)) (ht : (pc : Int) + off = (tgt : Int)) (h1 : a < 2 ^ 31) (kt : a ≠ 0 → G g R cc own nL ty w Ri Rv u tgt lv st) (kf : a = 0 → G g R cc own nL ty w Ri Rv u (pc + 3) lv st) : G g R cc own nL ty w Ri Rv u pc lv (.int (nI a) :: st) := by
  obtain ⟨p, l, e, s, m, args, below, meth, c, Q, A, D, cells, slots⟩ := g
  intro C H locs ls hP hD hS hv
  have ⟨hx, hb, hml, hown, hts, hK, hA, hroom, hRi, hRv⟩ := C
  exact lv_if_ne hx hb hd ht (fun h => kt (fun z => h (by rw [z]; exact nI_0)) C H locs ls hP hD hS hv) (fun h => kf ((nI_eq h1 (by decide : (0 : Nat) < 2 ^ 31)).mp (h.trans nI_0.symm)) C H locs ls hP hD hS hv)
theorem ro_if_lt {a : Nat} {off : Int} (tgt : Nat) (hd : decode cc pc = .ok (.ifCond .lt off, 3)) (ht : (pc : Int) + off = (tgt : Int)) (h1 : a < 2 ^ 31) (kf : G g R cc own nL ty w Ri Rv u (pc + 3) lv st) : G g R cc own nL ty w Ri Rv u pc lv (.int (nI a) :: st) := by
  obtain ⟨p, l, e, s, m, args, below, meth, c, Q, A, D, cells, slots⟩ := g
  intro C H locs ls hP hD hS hv
  have ⟨hx, hb, hml, hown, hts, hK, hA, hroom, hRi, hRv⟩ := C
  exact lv_if_lt hx hb hd ht (fun h => absurd h (nI_pos h1)) (fun _ => kf C H locs ls hP hD hS hv)
theorem ro_if_ge {a : Nat} {off : Int} (tgt : Nat) (hd : decode cc pc = .ok (.ifCond .ge off, 3)) (ht : (pc : Int) + off = (tgt : Int)) (h1 : a < 2 ^ 31) (kt : G g R cc own nL ty w Ri Rv u tgt lv st) : G g R cc own nL ty w Ri Rv u pc lv (.int (nI a) :: st) := by
  obtain ⟨p, l, e, s, m, args, below, meth, c, Q, A, D, cells, slots⟩ := g
  intro C H locs ls hP hD hS hv
  have ⟨hx, hb, hml, hown, hts, hK, hA, hroom, hRi, hRv⟩ := C
  exact lv_if_ge hx hb hd ht (fun _ => kt C H locs ls hP hD hS hv) (fun h => absurd (nI_pos' h1) h)
theorem ro_iald {q a n i : Nat} {cA : ClassId} {f : Nat → Nat} (hd : decode cc pc = .ok (.iaload, 1)) (t0 : Nat) (ht : ty[t0]? = some (cA, .int)) (ha : (w u)[q]? = some (a, .inl (cA, n, .inl (fun j => nI (f j))))) (hn : n < 2 ^ 31) (hi : i < n) (k : G g R cc own nL ty w Ri Rv u (pc + 1) lv (.int (nI (f i)) :: st)) : G g R cc own nL ty w Ri Rv u pc lv (.int (nI i) :: .ref a :: st) := by
  obtain ⟨p, l, e, s, m, args, below, meth, c, Q, A, D, cells, slots⟩ := g
  intro C H locs ls hP hD hS hv
  have ⟨hx, hb, hml, hown, hts, hK, hA, hroom, hRi, hRv⟩ := C
  refine va_iald hx hb hK hP q t0 ha ht (vp_in_nI hi hn) hd ?_
  rw [nI_clamp (Nat.lt_trans hi hn)]
  exact (k C H locs ls hP hD hS hv)
theorem ro_zald {q a n i : Nat} {cA : ClassId} {f : Nat → Nat} (hd : decode cc pc = .ok (.baload, 1)) (t0 : Nat) (ht : ty[t0]? = some (cA, .boolean)) (ha : (w u)[q]? = some (a, .inl (cA, n, .inl (fun j => nI (f j))))) (hn : n < 2 ^ 31) (hi : i < n) (k : G g R cc own nL ty w Ri Rv u (pc + 1) lv (.int (nI (f i)) :: st)) : G g R cc own nL ty w Ri Rv u pc lv (.int (nI i) :: .ref a :: st) := by
  obtain ⟨p, l, e, s, m, args, below, meth, c, Q, A, D, cells, slots⟩ := g
  intro C H locs ls hP hD hS hv
  have ⟨hx, hb, hml, hown, hts, hK, hA, hroom, hRi, hRv⟩ := C
  refine va_zald hx hb hK hP q t0 ha ht (vp_in_nI hi hn) hd ?_
  rw [nI_clamp (Nat.lt_trans hi hn)]
  exact (k C H locs ls hP hD hS hv)
end
/-- a function changed at a place -/
def up (f : Nat → Nat) (k x : Nat) : Nat → Nat := fun j => if j = k then x else f j
theorem up_s (f : Nat → Nat) (k x : Nat) : up f k x k = x := by simp [up]
theorem up_n {f : Nat → Nat} {k x j : Nat} (h : j ≠ k) : up f k x j = f j := by simp [up, h]
theorem up_upd (f : Nat → Nat) (k x : Nat) : upd (fun j => nI (f j)) k (nI x) = fun j => nI (up f k x j) := by
  funext j
  unfold upd up
  split <;> rfl
theorem nar_bool {x : Nat} (h : x ≤ 1) : vp_nar .boolean (nI x) = nI x := by
  rcases (show x = 0 ∨ x = 1 by omega) with e | e <;> subst e <;> rfl
section
variable {S : Type} {g : Gx} {R : Room} {cc : ByteArray} {own : String} {nL : Nat} {ty : List (ClassId × FieldType)} {w : S → va_W} {Ri : Int32 → S → Prop} {Rv : S → Prop} {u : S} {pc : Nat} {lv : List (Option Value)} {st : List Value}
theorem ro_iast {q a n i x : Nat} {cA : ClassId} {f : Nat → Nat} {u1 : S} (hd : decode cc pc = .ok (.iastore, 1)) (t0 : Nat) (ht : ty[t0]? = some (cA, .int)) (ha : (w u)[q]? = some (a, .inl (cA, n, .inl (fun j => nI (f j))))) (hu : (w u).set q (a, .inl (cA, n, .inl (fun j => nI (up f i x j)))) = w u1) (hn : n < 2 ^ 31) (hi : i < n) (k : G g R cc own nL ty w Ri Rv u1 (pc + 1) lv st) : G g R cc own nL ty w Ri Rv u pc lv (.int (nI x) :: .int (nI i) :: .ref a :: st) := by
  obtain ⟨p, l, e, s, m, args, below, meth, c, Q, A, D, cells, slots⟩ := g
  intro C H locs ls hP hD hS hv
  have ⟨hx, hb, hml, hown, hts, hK, hA, hroom, hRi, hRv⟩ := C
  refine va_iast hx hb hK hP hD hS q t0 ha ht (vp_in_nI hi hn) hd (fun H1 locs1 hP1 hD1 hS1 => ?_)
  rw [nI_clamp (Nat.lt_trans hi hn), up_upd, hu] at hP1 hD1
  exact k C H1 locs1 ls hP1 hD1 hS1 hv
theorem ro_zast {q a n i x : Nat} {cA : ClassId} {f : Nat → Nat} {u1 : S} (hd : decode cc pc = .ok (.bastore, 1)) (t0 : Nat) (ht : ty[t0]? = some (cA, .boolean)) (ha : (w u)[q]? = some (a, .inl (cA, n, .inl (fun j => nI (f j))))) (hu : (w u).set q (a, .inl (cA, n, .inl (fun j => nI (up f i x j)))) = w u1) (hn : n < 2 ^ 31) (hi : i < n) (hb1 : x ≤ 1) (k : G g R cc own nL ty w Ri Rv u1 (pc + 1) lv st) : G g R cc own nL ty w Ri Rv u pc lv (.int (nI x) :: .int (nI i) :: .ref a :: st) := by
  obtain ⟨p, l, e, s, m, args, below, meth, c, Q, A, D, cells, slots⟩ := g
  intro C H locs ls hP hD hS hv
  have ⟨hx, hb, hml, hown, hts, hK, hA, hroom, hRi, hRv⟩ := C
  refine va_zast hx hb hK hP hD hS q t0 ha ht (vp_in_nI hi hn) hd (fun H1 locs1 hP1 hD1 hS1 => ?_)
  rw [nI_clamp (Nat.lt_trans hi hn), nar_bool hb1, up_upd, hu] at hP1 hD1
  exact k C H1 locs1 ls hP1 hD1 hS1 hv
theorem ro_iret {x : Int32} (hd : decode cc pc = .ok (.ireturn, 1)) (h : Ri x u) : G g R cc own nL ty w Ri Rv u pc lv [.int x] := by
  obtain ⟨p, l, e, s, m, args, below, meth, c, Q, A, D, cells, slots⟩ := g
  intro C H locs ls hP hD hS hv
  have ⟨hx, hb, hml, hown, hts, hK, hA, hroom, hRi, hRv⟩ := C
  exact hRi x u H locs pc ls h hP hD hS hd
theorem ro_vret (hd : decode cc pc = .ok (.return_, 1)) (h : Rv u) : G g R cc own nL ty w Ri Rv u pc lv [] := by
  obtain ⟨p, l, e, s, m, args, below, meth, c, Q, A, D, cells, slots⟩ := g
  intro C H locs ls hP hD hS hv
  have ⟨hx, hb, hml, hown, hts, hK, hA, hroom, hRi, hRv⟩ := C
  exact hRv u H locs pc ls h hP hD hS hd
end
end
section
/-! THE TWO WORLDS: X0 (RecordLocks): ad 0 the object, ad 1 .. ad 9 its arrays; X1 (RecordLocksModel): ad 0 the object, ad 1 .. ad 6 its arrays -/
set_option maxRecDepth 100000
abbrev Fn : Type := Nat → Nat
/-- ownerOf, firsts, lasts, types, waits, wantFirst, wantLast, wantType, since, count, clock -/
abbrev S0 : Type := Fn × Fn × Fn × Fn × Fn × Fn × Fn × Fn × Fn × Nat × Nat
/-- table, queue, who, first, many, kind, out -/
abbrev S1 : Type := Fn × Nat × Fn × Fn × Fn × Fn × Fn
def w0 (ad : Fn) (cI cZ : ClassId) (u : S0) : va_W := match u with
  | (O, F, L, T, V, P, X, Y, Z, n, c) => [(ad 0, .inr (0, [.ref (ad 1), .ref (ad 2), .ref (ad 3), .ref (ad 4), .ref (ad 5), .ref (ad 6), .ref (ad 7), .ref (ad 8), .ref (ad 9), .int (nI n), .int (nI c)])), (ad 1, .inl (cI, 204, .inl (fun j => nI (O j)))), (ad 2, .inl (cI, 204, .inl (fun j => nI (F j)))), (ad 3, .inl (cI, 204, .inl (fun j => nI (L j)))), (ad 4, .inl (cI, 204, .inl (fun j => nI (T j)))), (ad 5, .inl (cZ, 5, .inl (fun j => nI (V j)))), (ad 6, .inl (cI, 5, .inl (fun j => nI (P j)))), (ad 7, .inl (cI, 5, .inl (fun j => nI (X j)))), (ad 8, .inl (cI, 5, .inl (fun j => nI (Y j)))), (ad 9, .inl (cI, 5, .inl (fun j => nI (Z j))))]
def w1 (ad : Fn) (cI cZ : ClassId) (u : S1) : va_W := match u with
  | (B, q, Wh, Fi, Ma, Ki, Ou) => [(ad 0, .inr (1, [.ref (ad 1), .int (nI q), .ref (ad 2), .ref (ad 3), .ref (ad 4), .ref (ad 5), .ref (ad 6)])), (ad 1, .inl (cI, 200, .inl (fun j => nI (B j)))), (ad 2, .inl (cI, 8, .inl (fun j => nI (Wh j)))), (ad 3, .inl (cI, 8, .inl (fun j => nI (Fi j)))), (ad 4, .inl (cI, 8, .inl (fun j => nI (Ma j)))), (ad 5, .inl (cI, 8, .inl (fun j => nI (Ki j)))), (ad 6, .inl (cI, 8, .inl (fun j => nI (Ou j))))]
section
variable {S : Type} {g : Gx} {R : Room} {cc : ByteArray} {own : String} {nL : Nat} {ty : List (ClassId × FieldType)} {w : S → va_W} {Ri : Int32 → S → Prop} {Rv : S → Prop} {u : S} {pc : Nat} {lv : List (Option Value)} {st : List Value}
theorem ro_get {C : String} {T : u_T} {N ci k q index a : Nat} {fs : List Value} {v : Value} (hin : ∀ x ∈ u_ws C T N, x ∈ lw_all) (he : (w u)[q]? = some (a, .inr (ci, fs))) (hc : vwCl[ci]? = some (C, T, N)) (hk : k < N) (hlink : Cond.fieldLink own index C (T k).2.1 (T k).2.2.1 ∈ lw_all) (hT : (T k).1 = C) (hfv : fs[k]? = some v) (hd : decode cc pc = .ok (.getfield index, 3)) (kk : G g R cc own nL ty w Ri Rv u (pc + 3) lv (v :: st)) : G g R cc own nL ty w Ri Rv u pc lv (.ref a :: st) := by
  obtain ⟨p, l, e, s, m, args, below, meth, c, Q, A, D, cells, slots⟩ := g
  intro Cx H locs ls hP hD hS hv
  have ⟨hx, hb, hml, hown, hts, hK, hA, hroom, hRi, hRv⟩ := Cx
  exact va_get (C := C) (T := T) (N := N) (ci := ci) hx hb hts hin hown hK hP q he hc k hk (hts _ hlink) (fun _ h9 => by rw [hT] at h9; exact h9) hfv hd (kk Cx H locs ls hP hD hS hv)
theorem ro_put {C : String} {T : u_T} {N ci k q index a x : Nat} {fs : List Value} {u1 : S} (hin : ∀ x ∈ u_ws C T N, x ∈ lw_all) (ty0 : Nat → FieldType) (hty : ∀ k, k < N → parseFieldDescriptor (T k).2.2.1 = some (ty0 k)) (hnm : ∀ a, a < N → ∀ b, b < N → a ≠ b → (T a).2.1 ≠ (T b).2.1) (he : (w u)[q]? = some (a, .inr (ci, fs))) (hu : (w u).set q (a, .inr (ci, fs.set k (.int (nI x)))) = w u1) (hc : vwCl[ci]? = some (C, T, N)) (hk : k < N) (hlink : Cond.fieldLink own index C (T k).2.1 (T k).2.2.1 ∈ lw_all) (hT : (T k).1 = C) (hfin : (T k).2.2.2 = false) (hpd : parseFieldDescriptor (T k).2.2.1 = some .int) (hl : k < fs.length) (hd : decode cc pc = .ok (.putfield index, 3)) (kk : G g R cc own nL ty w Ri Rv u1 (pc + 3) lv st) : G g R cc own nL ty w Ri Rv u pc lv (.int (nI x) :: .ref a :: st) := by
  obtain ⟨p, l, e, s, m, args, below, meth, c, Q, A, D, cells, slots⟩ := g
  intro Cx H locs ls hP hD hS hv
  have ⟨hx, hb, hml, hown, hts, hK, hA, hroom, hRi, hRv⟩ := Cx
  refine va_put (C := C) (T := T) (N := N) (ci := ci) (ty := .int) hx hb hts hin ty0 hty hnm hown hK hP hD hS q he hc k hk (hts _ hlink) (fun _ h9 => by rw [hT] at h9; exact h9) hfin hpd rfl rfl hl hd (fun H1 locs1 hP1 hD1 hS1 => ?_)
  rw [hu] at hP1 hD1
  exact kk Cx H1 locs1 ls hP1 hD1 hS1 hv
end
section
variable {g : Gx} {R : Room} {cc : ByteArray} {nL : Nat} {ad : Fn} {cI cZ : ClassId} {Ri : Int32 → S0 → Prop} {Rv : S0 → Prop} {O F L T V P X Y Z : Fn} {n c : Nat} {pc : Nat} {lv : List (Option Value)} {st : List Value}
theorem f0_ownerOf (hd : decode cc pc = .ok (.getfield 7, 3)) (kk : G g R cc RX0 nL [(cI, .int), (cZ, .boolean)] (w0 ad cI cZ) Ri Rv (O, F, L, T, V, P, X, Y, Z, n, c) (pc + 3) lv (.ref (ad 1) :: st)) : G g R cc RX0 nL [(cI, .int), (cZ, .boolean)] (w0 ad cI cZ) Ri Rv (O, F, L, T, V, P, X, Y, Z, n, c) pc lv (.ref (ad 0) :: st) := ro_get (C := RX0) (T := TX0) (N := 11) (ci := 0) (k := 0) (q := 0) in_X0 rfl rfl (by decide) q39 rfl rfl hd kk
theorem l0_ownerOf {i : Nat} (hd : decode cc pc = .ok (.iaload, 1)) (hi : i < 204) (kk : G g R cc RX0 nL [(cI, .int), (cZ, .boolean)] (w0 ad cI cZ) Ri Rv (O, F, L, T, V, P, X, Y, Z, n, c) (pc + 1) lv (.int (nI (O i)) :: st)) : G g R cc RX0 nL [(cI, .int), (cZ, .boolean)] (w0 ad cI cZ) Ri Rv (O, F, L, T, V, P, X, Y, Z, n, c) pc lv (.int (nI i) :: .ref (ad 1) :: st) := ro_iald (q := 1) hd 0 rfl rfl (by decide) hi kk
theorem s0_ownerOf {i x : Nat} (hd : decode cc pc = .ok (.iastore, 1)) (hi : i < 204) (kk : G g R cc RX0 nL [(cI, .int), (cZ, .boolean)] (w0 ad cI cZ) Ri Rv (up O i x, F, L, T, V, P, X, Y, Z, n, c) (pc + 1) lv st) : G g R cc RX0 nL [(cI, .int), (cZ, .boolean)] (w0 ad cI cZ) Ri Rv (O, F, L, T, V, P, X, Y, Z, n, c) pc lv (.int (nI x) :: .int (nI i) :: .ref (ad 1) :: st) := ro_iast (q := 1) (u1 := (up O i x, F, L, T, V, P, X, Y, Z, n, c)) hd 0 rfl rfl rfl (by decide) hi kk
theorem f0_firsts (hd : decode cc pc = .ok (.getfield 13, 3)) (kk : G g R cc RX0 nL [(cI, .int), (cZ, .boolean)] (w0 ad cI cZ) Ri Rv (O, F, L, T, V, P, X, Y, Z, n, c) (pc + 3) lv (.ref (ad 2) :: st)) : G g R cc RX0 nL [(cI, .int), (cZ, .boolean)] (w0 ad cI cZ) Ri Rv (O, F, L, T, V, P, X, Y, Z, n, c) pc lv (.ref (ad 0) :: st) := ro_get (C := RX0) (T := TX0) (N := 11) (ci := 0) (k := 1) (q := 0) in_X0 rfl rfl (by decide) q40 rfl rfl hd kk
theorem l0_firsts {i : Nat} (hd : decode cc pc = .ok (.iaload, 1)) (hi : i < 204) (kk : G g R cc RX0 nL [(cI, .int), (cZ, .boolean)] (w0 ad cI cZ) Ri Rv (O, F, L, T, V, P, X, Y, Z, n, c) (pc + 1) lv (.int (nI (F i)) :: st)) : G g R cc RX0 nL [(cI, .int), (cZ, .boolean)] (w0 ad cI cZ) Ri Rv (O, F, L, T, V, P, X, Y, Z, n, c) pc lv (.int (nI i) :: .ref (ad 2) :: st) := ro_iald (q := 2) hd 0 rfl rfl (by decide) hi kk
theorem s0_firsts {i x : Nat} (hd : decode cc pc = .ok (.iastore, 1)) (hi : i < 204) (kk : G g R cc RX0 nL [(cI, .int), (cZ, .boolean)] (w0 ad cI cZ) Ri Rv (O, up F i x, L, T, V, P, X, Y, Z, n, c) (pc + 1) lv st) : G g R cc RX0 nL [(cI, .int), (cZ, .boolean)] (w0 ad cI cZ) Ri Rv (O, F, L, T, V, P, X, Y, Z, n, c) pc lv (.int (nI x) :: .int (nI i) :: .ref (ad 2) :: st) := ro_iast (q := 2) (u1 := (O, up F i x, L, T, V, P, X, Y, Z, n, c)) hd 0 rfl rfl rfl (by decide) hi kk
theorem f0_lasts (hd : decode cc pc = .ok (.getfield 16, 3)) (kk : G g R cc RX0 nL [(cI, .int), (cZ, .boolean)] (w0 ad cI cZ) Ri Rv (O, F, L, T, V, P, X, Y, Z, n, c) (pc + 3) lv (.ref (ad 3) :: st)) : G g R cc RX0 nL [(cI, .int), (cZ, .boolean)] (w0 ad cI cZ) Ri Rv (O, F, L, T, V, P, X, Y, Z, n, c) pc lv (.ref (ad 0) :: st) := ro_get (C := RX0) (T := TX0) (N := 11) (ci := 0) (k := 2) (q := 0) in_X0 rfl rfl (by decide) q41 rfl rfl hd kk
theorem l0_lasts {i : Nat} (hd : decode cc pc = .ok (.iaload, 1)) (hi : i < 204) (kk : G g R cc RX0 nL [(cI, .int), (cZ, .boolean)] (w0 ad cI cZ) Ri Rv (O, F, L, T, V, P, X, Y, Z, n, c) (pc + 1) lv (.int (nI (L i)) :: st)) : G g R cc RX0 nL [(cI, .int), (cZ, .boolean)] (w0 ad cI cZ) Ri Rv (O, F, L, T, V, P, X, Y, Z, n, c) pc lv (.int (nI i) :: .ref (ad 3) :: st) := ro_iald (q := 3) hd 0 rfl rfl (by decide) hi kk
theorem s0_lasts {i x : Nat} (hd : decode cc pc = .ok (.iastore, 1)) (hi : i < 204) (kk : G g R cc RX0 nL [(cI, .int), (cZ, .boolean)] (w0 ad cI cZ) Ri Rv (O, F, up L i x, T, V, P, X, Y, Z, n, c) (pc + 1) lv st) : G g R cc RX0 nL [(cI, .int), (cZ, .boolean)] (w0 ad cI cZ) Ri Rv (O, F, L, T, V, P, X, Y, Z, n, c) pc lv (.int (nI x) :: .int (nI i) :: .ref (ad 3) :: st) := ro_iast (q := 3) (u1 := (O, F, up L i x, T, V, P, X, Y, Z, n, c)) hd 0 rfl rfl rfl (by decide) hi kk
theorem f0_types (hd : decode cc pc = .ok (.getfield 19, 3)) (kk : G g R cc RX0 nL [(cI, .int), (cZ, .boolean)] (w0 ad cI cZ) Ri Rv (O, F, L, T, V, P, X, Y, Z, n, c) (pc + 3) lv (.ref (ad 4) :: st)) : G g R cc RX0 nL [(cI, .int), (cZ, .boolean)] (w0 ad cI cZ) Ri Rv (O, F, L, T, V, P, X, Y, Z, n, c) pc lv (.ref (ad 0) :: st) := ro_get (C := RX0) (T := TX0) (N := 11) (ci := 0) (k := 3) (q := 0) in_X0 rfl rfl (by decide) q42 rfl rfl hd kk
theorem l0_types {i : Nat} (hd : decode cc pc = .ok (.iaload, 1)) (hi : i < 204) (kk : G g R cc RX0 nL [(cI, .int), (cZ, .boolean)] (w0 ad cI cZ) Ri Rv (O, F, L, T, V, P, X, Y, Z, n, c) (pc + 1) lv (.int (nI (T i)) :: st)) : G g R cc RX0 nL [(cI, .int), (cZ, .boolean)] (w0 ad cI cZ) Ri Rv (O, F, L, T, V, P, X, Y, Z, n, c) pc lv (.int (nI i) :: .ref (ad 4) :: st) := ro_iald (q := 4) hd 0 rfl rfl (by decide) hi kk
theorem s0_types {i x : Nat} (hd : decode cc pc = .ok (.iastore, 1)) (hi : i < 204) (kk : G g R cc RX0 nL [(cI, .int), (cZ, .boolean)] (w0 ad cI cZ) Ri Rv (O, F, L, up T i x, V, P, X, Y, Z, n, c) (pc + 1) lv st) : G g R cc RX0 nL [(cI, .int), (cZ, .boolean)] (w0 ad cI cZ) Ri Rv (O, F, L, T, V, P, X, Y, Z, n, c) pc lv (.int (nI x) :: .int (nI i) :: .ref (ad 4) :: st) := ro_iast (q := 4) (u1 := (O, F, L, up T i x, V, P, X, Y, Z, n, c)) hd 0 rfl rfl rfl (by decide) hi kk
theorem f0_waits (hd : decode cc pc = .ok (.getfield 22, 3)) (kk : G g R cc RX0 nL [(cI, .int), (cZ, .boolean)] (w0 ad cI cZ) Ri Rv (O, F, L, T, V, P, X, Y, Z, n, c) (pc + 3) lv (.ref (ad 5) :: st)) : G g R cc RX0 nL [(cI, .int), (cZ, .boolean)] (w0 ad cI cZ) Ri Rv (O, F, L, T, V, P, X, Y, Z, n, c) pc lv (.ref (ad 0) :: st) := ro_get (C := RX0) (T := TX0) (N := 11) (ci := 0) (k := 4) (q := 0) in_X0 rfl rfl (by decide) q43 rfl rfl hd kk
theorem l0_waits {i : Nat} (hd : decode cc pc = .ok (.baload, 1)) (hi : i < 5) (kk : G g R cc RX0 nL [(cI, .int), (cZ, .boolean)] (w0 ad cI cZ) Ri Rv (O, F, L, T, V, P, X, Y, Z, n, c) (pc + 1) lv (.int (nI (V i)) :: st)) : G g R cc RX0 nL [(cI, .int), (cZ, .boolean)] (w0 ad cI cZ) Ri Rv (O, F, L, T, V, P, X, Y, Z, n, c) pc lv (.int (nI i) :: .ref (ad 5) :: st) := ro_zald (q := 5) hd 1 rfl rfl (by decide) hi kk
theorem s0_waits {i x : Nat} (hd : decode cc pc = .ok (.bastore, 1)) (hi : i < 5) (hx : x ≤ 1) (kk : G g R cc RX0 nL [(cI, .int), (cZ, .boolean)] (w0 ad cI cZ) Ri Rv (O, F, L, T, up V i x, P, X, Y, Z, n, c) (pc + 1) lv st) : G g R cc RX0 nL [(cI, .int), (cZ, .boolean)] (w0 ad cI cZ) Ri Rv (O, F, L, T, V, P, X, Y, Z, n, c) pc lv (.int (nI x) :: .int (nI i) :: .ref (ad 5) :: st) := ro_zast (q := 5) (u1 := (O, F, L, T, up V i x, P, X, Y, Z, n, c)) hd 1 rfl rfl rfl (by decide) hi hx kk
theorem f0_wantFirst (hd : decode cc pc = .ok (.getfield 26, 3)) (kk : G g R cc RX0 nL [(cI, .int), (cZ, .boolean)] (w0 ad cI cZ) Ri Rv (O, F, L, T, V, P, X, Y, Z, n, c) (pc + 3) lv (.ref (ad 6) :: st)) : G g R cc RX0 nL [(cI, .int), (cZ, .boolean)] (w0 ad cI cZ) Ri Rv (O, F, L, T, V, P, X, Y, Z, n, c) pc lv (.ref (ad 0) :: st) := ro_get (C := RX0) (T := TX0) (N := 11) (ci := 0) (k := 5) (q := 0) in_X0 rfl rfl (by decide) q44 rfl rfl hd kk
theorem l0_wantFirst {i : Nat} (hd : decode cc pc = .ok (.iaload, 1)) (hi : i < 5) (kk : G g R cc RX0 nL [(cI, .int), (cZ, .boolean)] (w0 ad cI cZ) Ri Rv (O, F, L, T, V, P, X, Y, Z, n, c) (pc + 1) lv (.int (nI (P i)) :: st)) : G g R cc RX0 nL [(cI, .int), (cZ, .boolean)] (w0 ad cI cZ) Ri Rv (O, F, L, T, V, P, X, Y, Z, n, c) pc lv (.int (nI i) :: .ref (ad 6) :: st) := ro_iald (q := 6) hd 0 rfl rfl (by decide) hi kk
theorem s0_wantFirst {i x : Nat} (hd : decode cc pc = .ok (.iastore, 1)) (hi : i < 5) (kk : G g R cc RX0 nL [(cI, .int), (cZ, .boolean)] (w0 ad cI cZ) Ri Rv (O, F, L, T, V, up P i x, X, Y, Z, n, c) (pc + 1) lv st) : G g R cc RX0 nL [(cI, .int), (cZ, .boolean)] (w0 ad cI cZ) Ri Rv (O, F, L, T, V, P, X, Y, Z, n, c) pc lv (.int (nI x) :: .int (nI i) :: .ref (ad 6) :: st) := ro_iast (q := 6) (u1 := (O, F, L, T, V, up P i x, X, Y, Z, n, c)) hd 0 rfl rfl rfl (by decide) hi kk
theorem f0_wantLast (hd : decode cc pc = .ok (.getfield 29, 3)) (kk : G g R cc RX0 nL [(cI, .int), (cZ, .boolean)] (w0 ad cI cZ) Ri Rv (O, F, L, T, V, P, X, Y, Z, n, c) (pc + 3) lv (.ref (ad 7) :: st)) : G g R cc RX0 nL [(cI, .int), (cZ, .boolean)] (w0 ad cI cZ) Ri Rv (O, F, L, T, V, P, X, Y, Z, n, c) pc lv (.ref (ad 0) :: st) := ro_get (C := RX0) (T := TX0) (N := 11) (ci := 0) (k := 6) (q := 0) in_X0 rfl rfl (by decide) q45 rfl rfl hd kk
theorem l0_wantLast {i : Nat} (hd : decode cc pc = .ok (.iaload, 1)) (hi : i < 5) (kk : G g R cc RX0 nL [(cI, .int), (cZ, .boolean)] (w0 ad cI cZ) Ri Rv (O, F, L, T, V, P, X, Y, Z, n, c) (pc + 1) lv (.int (nI (X i)) :: st)) : G g R cc RX0 nL [(cI, .int), (cZ, .boolean)] (w0 ad cI cZ) Ri Rv (O, F, L, T, V, P, X, Y, Z, n, c) pc lv (.int (nI i) :: .ref (ad 7) :: st) := ro_iald (q := 7) hd 0 rfl rfl (by decide) hi kk
theorem s0_wantLast {i x : Nat} (hd : decode cc pc = .ok (.iastore, 1)) (hi : i < 5) (kk : G g R cc RX0 nL [(cI, .int), (cZ, .boolean)] (w0 ad cI cZ) Ri Rv (O, F, L, T, V, P, up X i x, Y, Z, n, c) (pc + 1) lv st) : G g R cc RX0 nL [(cI, .int), (cZ, .boolean)] (w0 ad cI cZ) Ri Rv (O, F, L, T, V, P, X, Y, Z, n, c) pc lv (.int (nI x) :: .int (nI i) :: .ref (ad 7) :: st) := ro_iast (q := 7) (u1 := (O, F, L, T, V, P, up X i x, Y, Z, n, c)) hd 0 rfl rfl rfl (by decide) hi kk
theorem f0_wantType (hd : decode cc pc = .ok (.getfield 32, 3)) (kk : G g R cc RX0 nL [(cI, .int), (cZ, .boolean)] (w0 ad cI cZ) Ri Rv (O, F, L, T, V, P, X, Y, Z, n, c) (pc + 3) lv (.ref (ad 8) :: st)) : G g R cc RX0 nL [(cI, .int), (cZ, .boolean)] (w0 ad cI cZ) Ri Rv (O, F, L, T, V, P, X, Y, Z, n, c) pc lv (.ref (ad 0) :: st) := ro_get (C := RX0) (T := TX0) (N := 11) (ci := 0) (k := 7) (q := 0) in_X0 rfl rfl (by decide) q46 rfl rfl hd kk
theorem l0_wantType {i : Nat} (hd : decode cc pc = .ok (.iaload, 1)) (hi : i < 5) (kk : G g R cc RX0 nL [(cI, .int), (cZ, .boolean)] (w0 ad cI cZ) Ri Rv (O, F, L, T, V, P, X, Y, Z, n, c) (pc + 1) lv (.int (nI (Y i)) :: st)) : G g R cc RX0 nL [(cI, .int), (cZ, .boolean)] (w0 ad cI cZ) Ri Rv (O, F, L, T, V, P, X, Y, Z, n, c) pc lv (.int (nI i) :: .ref (ad 8) :: st) := ro_iald (q := 8) hd 0 rfl rfl (by decide) hi kk
theorem s0_wantType {i x : Nat} (hd : decode cc pc = .ok (.iastore, 1)) (hi : i < 5) (kk : G g R cc RX0 nL [(cI, .int), (cZ, .boolean)] (w0 ad cI cZ) Ri Rv (O, F, L, T, V, P, X, up Y i x, Z, n, c) (pc + 1) lv st) : G g R cc RX0 nL [(cI, .int), (cZ, .boolean)] (w0 ad cI cZ) Ri Rv (O, F, L, T, V, P, X, Y, Z, n, c) pc lv (.int (nI x) :: .int (nI i) :: .ref (ad 8) :: st) := ro_iast (q := 8) (u1 := (O, F, L, T, V, P, X, up Y i x, Z, n, c)) hd 0 rfl rfl rfl (by decide) hi kk
theorem f0_since (hd : decode cc pc = .ok (.getfield 35, 3)) (kk : G g R cc RX0 nL [(cI, .int), (cZ, .boolean)] (w0 ad cI cZ) Ri Rv (O, F, L, T, V, P, X, Y, Z, n, c) (pc + 3) lv (.ref (ad 9) :: st)) : G g R cc RX0 nL [(cI, .int), (cZ, .boolean)] (w0 ad cI cZ) Ri Rv (O, F, L, T, V, P, X, Y, Z, n, c) pc lv (.ref (ad 0) :: st) := ro_get (C := RX0) (T := TX0) (N := 11) (ci := 0) (k := 8) (q := 0) in_X0 rfl rfl (by decide) q47 rfl rfl hd kk
theorem l0_since {i : Nat} (hd : decode cc pc = .ok (.iaload, 1)) (hi : i < 5) (kk : G g R cc RX0 nL [(cI, .int), (cZ, .boolean)] (w0 ad cI cZ) Ri Rv (O, F, L, T, V, P, X, Y, Z, n, c) (pc + 1) lv (.int (nI (Z i)) :: st)) : G g R cc RX0 nL [(cI, .int), (cZ, .boolean)] (w0 ad cI cZ) Ri Rv (O, F, L, T, V, P, X, Y, Z, n, c) pc lv (.int (nI i) :: .ref (ad 9) :: st) := ro_iald (q := 9) hd 0 rfl rfl (by decide) hi kk
theorem s0_since {i x : Nat} (hd : decode cc pc = .ok (.iastore, 1)) (hi : i < 5) (kk : G g R cc RX0 nL [(cI, .int), (cZ, .boolean)] (w0 ad cI cZ) Ri Rv (O, F, L, T, V, P, X, Y, up Z i x, n, c) (pc + 1) lv st) : G g R cc RX0 nL [(cI, .int), (cZ, .boolean)] (w0 ad cI cZ) Ri Rv (O, F, L, T, V, P, X, Y, Z, n, c) pc lv (.int (nI x) :: .int (nI i) :: .ref (ad 9) :: st) := ro_iast (q := 9) (u1 := (O, F, L, T, V, P, X, Y, up Z i x, n, c)) hd 0 rfl rfl rfl (by decide) hi kk
theorem f0_count (hd : decode cc pc = .ok (.getfield 38, 3)) (kk : G g R cc RX0 nL [(cI, .int), (cZ, .boolean)] (w0 ad cI cZ) Ri Rv (O, F, L, T, V, P, X, Y, Z, n, c) (pc + 3) lv (.int (nI n) :: st)) : G g R cc RX0 nL [(cI, .int), (cZ, .boolean)] (w0 ad cI cZ) Ri Rv (O, F, L, T, V, P, X, Y, Z, n, c) pc lv (.ref (ad 0) :: st) := ro_get (C := RX0) (T := TX0) (N := 11) (ci := 0) (k := 9) (q := 0) in_X0 rfl rfl (by decide) q48 rfl rfl hd kk
theorem p0_count {x : Nat} (hd : decode cc pc = .ok (.putfield 38, 3)) (kk : G g R cc RX0 nL [(cI, .int), (cZ, .boolean)] (w0 ad cI cZ) Ri Rv (O, F, L, T, V, P, X, Y, Z, x, c) (pc + 3) lv st) : G g R cc RX0 nL [(cI, .int), (cZ, .boolean)] (w0 ad cI cZ) Ri Rv (O, F, L, T, V, P, X, Y, Z, n, c) pc lv (.int (nI x) :: .ref (ad 0) :: st) := ro_put (C := RX0) (T := TX0) (N := 11) (ci := 0) (k := 9) (q := 0) (u1 := (O, F, L, T, V, P, X, Y, Z, x, c)) in_X0 tyX0 tyX0_ok nmX0 rfl rfl rfl (by decide) q48 rfl rfl (by decide +kernel) (Nat.le_of_ble_eq_true rfl) hd kk
theorem f0_clock (hd : decode cc pc = .ok (.getfield 62, 3)) (kk : G g R cc RX0 nL [(cI, .int), (cZ, .boolean)] (w0 ad cI cZ) Ri Rv (O, F, L, T, V, P, X, Y, Z, n, c) (pc + 3) lv (.int (nI c) :: st)) : G g R cc RX0 nL [(cI, .int), (cZ, .boolean)] (w0 ad cI cZ) Ri Rv (O, F, L, T, V, P, X, Y, Z, n, c) pc lv (.ref (ad 0) :: st) := ro_get (C := RX0) (T := TX0) (N := 11) (ci := 0) (k := 10) (q := 0) in_X0 rfl rfl (by decide) q49 rfl rfl hd kk
theorem p0_clock {x : Nat} (hd : decode cc pc = .ok (.putfield 62, 3)) (kk : G g R cc RX0 nL [(cI, .int), (cZ, .boolean)] (w0 ad cI cZ) Ri Rv (O, F, L, T, V, P, X, Y, Z, n, x) (pc + 3) lv st) : G g R cc RX0 nL [(cI, .int), (cZ, .boolean)] (w0 ad cI cZ) Ri Rv (O, F, L, T, V, P, X, Y, Z, n, c) pc lv (.int (nI x) :: .ref (ad 0) :: st) := ro_put (C := RX0) (T := TX0) (N := 11) (ci := 0) (k := 10) (q := 0) (u1 := (O, F, L, T, V, P, X, Y, Z, n, x)) in_X0 tyX0 tyX0_ok nmX0 rfl rfl rfl (by decide) q49 rfl rfl (by decide +kernel) (Nat.le_of_ble_eq_true rfl) hd kk
end
section
variable {g : Gx} {R : Room} {cc : ByteArray} {nL : Nat} {ad : Fn} {cI cZ : ClassId} {Ri : Int32 → S1 → Prop} {Rv : S1 → Prop} {B : Fn} {q : Nat} {Wh Fi Ma Ki Ou : Fn} {pc : Nat} {lv : List (Option Value)} {st : List Value}
theorem f1_table (hd : decode cc pc = .ok (.getfield 7, 3)) (kk : G g R cc RX1 nL [(cI, .int), (cZ, .boolean)] (w1 ad cI cZ) Ri Rv (B, q, Wh, Fi, Ma, Ki, Ou) (pc + 3) lv (.ref (ad 1) :: st)) : G g R cc RX1 nL [(cI, .int), (cZ, .boolean)] (w1 ad cI cZ) Ri Rv (B, q, Wh, Fi, Ma, Ki, Ou) pc lv (.ref (ad 0) :: st) := ro_get (C := RX1) (T := TX1) (N := 7) (ci := 1) (k := 0) (q := 0) in_X1 rfl rfl (by decide) q219 rfl rfl hd kk
theorem l1_table {i : Nat} (hd : decode cc pc = .ok (.iaload, 1)) (hi : i < 200) (kk : G g R cc RX1 nL [(cI, .int), (cZ, .boolean)] (w1 ad cI cZ) Ri Rv (B, q, Wh, Fi, Ma, Ki, Ou) (pc + 1) lv (.int (nI (B i)) :: st)) : G g R cc RX1 nL [(cI, .int), (cZ, .boolean)] (w1 ad cI cZ) Ri Rv (B, q, Wh, Fi, Ma, Ki, Ou) pc lv (.int (nI i) :: .ref (ad 1) :: st) := ro_iald (q := 1) hd 0 rfl rfl (by decide) hi kk
theorem s1_table {i x : Nat} (hd : decode cc pc = .ok (.iastore, 1)) (hi : i < 200) (kk : G g R cc RX1 nL [(cI, .int), (cZ, .boolean)] (w1 ad cI cZ) Ri Rv (up B i x, q, Wh, Fi, Ma, Ki, Ou) (pc + 1) lv st) : G g R cc RX1 nL [(cI, .int), (cZ, .boolean)] (w1 ad cI cZ) Ri Rv (B, q, Wh, Fi, Ma, Ki, Ou) pc lv (.int (nI x) :: .int (nI i) :: .ref (ad 1) :: st) := ro_iast (q := 1) (u1 := (up B i x, q, Wh, Fi, Ma, Ki, Ou)) hd 0 rfl rfl rfl (by decide) hi kk
theorem f1_queue (hd : decode cc pc = .ok (.getfield 28, 3)) (kk : G g R cc RX1 nL [(cI, .int), (cZ, .boolean)] (w1 ad cI cZ) Ri Rv (B, q, Wh, Fi, Ma, Ki, Ou) (pc + 3) lv (.int (nI q) :: st)) : G g R cc RX1 nL [(cI, .int), (cZ, .boolean)] (w1 ad cI cZ) Ri Rv (B, q, Wh, Fi, Ma, Ki, Ou) pc lv (.ref (ad 0) :: st) := ro_get (C := RX1) (T := TX1) (N := 7) (ci := 1) (k := 1) (q := 0) in_X1 rfl rfl (by decide) q220 rfl rfl hd kk
theorem p1_queue {x : Nat} (hd : decode cc pc = .ok (.putfield 28, 3)) (kk : G g R cc RX1 nL [(cI, .int), (cZ, .boolean)] (w1 ad cI cZ) Ri Rv (B, x, Wh, Fi, Ma, Ki, Ou) (pc + 3) lv st) : G g R cc RX1 nL [(cI, .int), (cZ, .boolean)] (w1 ad cI cZ) Ri Rv (B, q, Wh, Fi, Ma, Ki, Ou) pc lv (.int (nI x) :: .ref (ad 0) :: st) := ro_put (C := RX1) (T := TX1) (N := 7) (ci := 1) (k := 1) (q := 0) (u1 := (B, x, Wh, Fi, Ma, Ki, Ou)) in_X1 tyX1 tyX1_ok nmX1 rfl rfl rfl (by decide) q220 rfl rfl (by decide +kernel) (Nat.le_of_ble_eq_true rfl) hd kk
theorem f1_who (hd : decode cc pc = .ok (.getfield 13, 3)) (kk : G g R cc RX1 nL [(cI, .int), (cZ, .boolean)] (w1 ad cI cZ) Ri Rv (B, q, Wh, Fi, Ma, Ki, Ou) (pc + 3) lv (.ref (ad 2) :: st)) : G g R cc RX1 nL [(cI, .int), (cZ, .boolean)] (w1 ad cI cZ) Ri Rv (B, q, Wh, Fi, Ma, Ki, Ou) pc lv (.ref (ad 0) :: st) := ro_get (C := RX1) (T := TX1) (N := 7) (ci := 1) (k := 2) (q := 0) in_X1 rfl rfl (by decide) q221 rfl rfl hd kk
theorem l1_who {i : Nat} (hd : decode cc pc = .ok (.iaload, 1)) (hi : i < 8) (kk : G g R cc RX1 nL [(cI, .int), (cZ, .boolean)] (w1 ad cI cZ) Ri Rv (B, q, Wh, Fi, Ma, Ki, Ou) (pc + 1) lv (.int (nI (Wh i)) :: st)) : G g R cc RX1 nL [(cI, .int), (cZ, .boolean)] (w1 ad cI cZ) Ri Rv (B, q, Wh, Fi, Ma, Ki, Ou) pc lv (.int (nI i) :: .ref (ad 2) :: st) := ro_iald (q := 2) hd 0 rfl rfl (by decide) hi kk
theorem s1_who {i x : Nat} (hd : decode cc pc = .ok (.iastore, 1)) (hi : i < 8) (kk : G g R cc RX1 nL [(cI, .int), (cZ, .boolean)] (w1 ad cI cZ) Ri Rv (B, q, up Wh i x, Fi, Ma, Ki, Ou) (pc + 1) lv st) : G g R cc RX1 nL [(cI, .int), (cZ, .boolean)] (w1 ad cI cZ) Ri Rv (B, q, Wh, Fi, Ma, Ki, Ou) pc lv (.int (nI x) :: .int (nI i) :: .ref (ad 2) :: st) := ro_iast (q := 2) (u1 := (B, q, up Wh i x, Fi, Ma, Ki, Ou)) hd 0 rfl rfl rfl (by decide) hi kk
theorem f1_first (hd : decode cc pc = .ok (.getfield 16, 3)) (kk : G g R cc RX1 nL [(cI, .int), (cZ, .boolean)] (w1 ad cI cZ) Ri Rv (B, q, Wh, Fi, Ma, Ki, Ou) (pc + 3) lv (.ref (ad 3) :: st)) : G g R cc RX1 nL [(cI, .int), (cZ, .boolean)] (w1 ad cI cZ) Ri Rv (B, q, Wh, Fi, Ma, Ki, Ou) pc lv (.ref (ad 0) :: st) := ro_get (C := RX1) (T := TX1) (N := 7) (ci := 1) (k := 3) (q := 0) in_X1 rfl rfl (by decide) q222 rfl rfl hd kk
theorem l1_first {i : Nat} (hd : decode cc pc = .ok (.iaload, 1)) (hi : i < 8) (kk : G g R cc RX1 nL [(cI, .int), (cZ, .boolean)] (w1 ad cI cZ) Ri Rv (B, q, Wh, Fi, Ma, Ki, Ou) (pc + 1) lv (.int (nI (Fi i)) :: st)) : G g R cc RX1 nL [(cI, .int), (cZ, .boolean)] (w1 ad cI cZ) Ri Rv (B, q, Wh, Fi, Ma, Ki, Ou) pc lv (.int (nI i) :: .ref (ad 3) :: st) := ro_iald (q := 3) hd 0 rfl rfl (by decide) hi kk
theorem s1_first {i x : Nat} (hd : decode cc pc = .ok (.iastore, 1)) (hi : i < 8) (kk : G g R cc RX1 nL [(cI, .int), (cZ, .boolean)] (w1 ad cI cZ) Ri Rv (B, q, Wh, up Fi i x, Ma, Ki, Ou) (pc + 1) lv st) : G g R cc RX1 nL [(cI, .int), (cZ, .boolean)] (w1 ad cI cZ) Ri Rv (B, q, Wh, Fi, Ma, Ki, Ou) pc lv (.int (nI x) :: .int (nI i) :: .ref (ad 3) :: st) := ro_iast (q := 3) (u1 := (B, q, Wh, up Fi i x, Ma, Ki, Ou)) hd 0 rfl rfl rfl (by decide) hi kk
theorem f1_many (hd : decode cc pc = .ok (.getfield 19, 3)) (kk : G g R cc RX1 nL [(cI, .int), (cZ, .boolean)] (w1 ad cI cZ) Ri Rv (B, q, Wh, Fi, Ma, Ki, Ou) (pc + 3) lv (.ref (ad 4) :: st)) : G g R cc RX1 nL [(cI, .int), (cZ, .boolean)] (w1 ad cI cZ) Ri Rv (B, q, Wh, Fi, Ma, Ki, Ou) pc lv (.ref (ad 0) :: st) := ro_get (C := RX1) (T := TX1) (N := 7) (ci := 1) (k := 4) (q := 0) in_X1 rfl rfl (by decide) q223 rfl rfl hd kk
theorem l1_many {i : Nat} (hd : decode cc pc = .ok (.iaload, 1)) (hi : i < 8) (kk : G g R cc RX1 nL [(cI, .int), (cZ, .boolean)] (w1 ad cI cZ) Ri Rv (B, q, Wh, Fi, Ma, Ki, Ou) (pc + 1) lv (.int (nI (Ma i)) :: st)) : G g R cc RX1 nL [(cI, .int), (cZ, .boolean)] (w1 ad cI cZ) Ri Rv (B, q, Wh, Fi, Ma, Ki, Ou) pc lv (.int (nI i) :: .ref (ad 4) :: st) := ro_iald (q := 4) hd 0 rfl rfl (by decide) hi kk
theorem s1_many {i x : Nat} (hd : decode cc pc = .ok (.iastore, 1)) (hi : i < 8) (kk : G g R cc RX1 nL [(cI, .int), (cZ, .boolean)] (w1 ad cI cZ) Ri Rv (B, q, Wh, Fi, up Ma i x, Ki, Ou) (pc + 1) lv st) : G g R cc RX1 nL [(cI, .int), (cZ, .boolean)] (w1 ad cI cZ) Ri Rv (B, q, Wh, Fi, Ma, Ki, Ou) pc lv (.int (nI x) :: .int (nI i) :: .ref (ad 4) :: st) := ro_iast (q := 4) (u1 := (B, q, Wh, Fi, up Ma i x, Ki, Ou)) hd 0 rfl rfl rfl (by decide) hi kk
theorem f1_kind (hd : decode cc pc = .ok (.getfield 22, 3)) (kk : G g R cc RX1 nL [(cI, .int), (cZ, .boolean)] (w1 ad cI cZ) Ri Rv (B, q, Wh, Fi, Ma, Ki, Ou) (pc + 3) lv (.ref (ad 5) :: st)) : G g R cc RX1 nL [(cI, .int), (cZ, .boolean)] (w1 ad cI cZ) Ri Rv (B, q, Wh, Fi, Ma, Ki, Ou) pc lv (.ref (ad 0) :: st) := ro_get (C := RX1) (T := TX1) (N := 7) (ci := 1) (k := 5) (q := 0) in_X1 rfl rfl (by decide) q224 rfl rfl hd kk
theorem l1_kind {i : Nat} (hd : decode cc pc = .ok (.iaload, 1)) (hi : i < 8) (kk : G g R cc RX1 nL [(cI, .int), (cZ, .boolean)] (w1 ad cI cZ) Ri Rv (B, q, Wh, Fi, Ma, Ki, Ou) (pc + 1) lv (.int (nI (Ki i)) :: st)) : G g R cc RX1 nL [(cI, .int), (cZ, .boolean)] (w1 ad cI cZ) Ri Rv (B, q, Wh, Fi, Ma, Ki, Ou) pc lv (.int (nI i) :: .ref (ad 5) :: st) := ro_iald (q := 5) hd 0 rfl rfl (by decide) hi kk
theorem s1_kind {i x : Nat} (hd : decode cc pc = .ok (.iastore, 1)) (hi : i < 8) (kk : G g R cc RX1 nL [(cI, .int), (cZ, .boolean)] (w1 ad cI cZ) Ri Rv (B, q, Wh, Fi, Ma, up Ki i x, Ou) (pc + 1) lv st) : G g R cc RX1 nL [(cI, .int), (cZ, .boolean)] (w1 ad cI cZ) Ri Rv (B, q, Wh, Fi, Ma, Ki, Ou) pc lv (.int (nI x) :: .int (nI i) :: .ref (ad 5) :: st) := ro_iast (q := 5) (u1 := (B, q, Wh, Fi, Ma, up Ki i x, Ou)) hd 0 rfl rfl rfl (by decide) hi kk
theorem f1_out (hd : decode cc pc = .ok (.getfield 25, 3)) (kk : G g R cc RX1 nL [(cI, .int), (cZ, .boolean)] (w1 ad cI cZ) Ri Rv (B, q, Wh, Fi, Ma, Ki, Ou) (pc + 3) lv (.ref (ad 6) :: st)) : G g R cc RX1 nL [(cI, .int), (cZ, .boolean)] (w1 ad cI cZ) Ri Rv (B, q, Wh, Fi, Ma, Ki, Ou) pc lv (.ref (ad 0) :: st) := ro_get (C := RX1) (T := TX1) (N := 7) (ci := 1) (k := 6) (q := 0) in_X1 rfl rfl (by decide) q225 rfl rfl hd kk
theorem l1_out {i : Nat} (hd : decode cc pc = .ok (.iaload, 1)) (hi : i < 8) (kk : G g R cc RX1 nL [(cI, .int), (cZ, .boolean)] (w1 ad cI cZ) Ri Rv (B, q, Wh, Fi, Ma, Ki, Ou) (pc + 1) lv (.int (nI (Ou i)) :: st)) : G g R cc RX1 nL [(cI, .int), (cZ, .boolean)] (w1 ad cI cZ) Ri Rv (B, q, Wh, Fi, Ma, Ki, Ou) pc lv (.int (nI i) :: .ref (ad 6) :: st) := ro_iald (q := 6) hd 0 rfl rfl (by decide) hi kk
theorem s1_out {i x : Nat} (hd : decode cc pc = .ok (.iastore, 1)) (hi : i < 8) (kk : G g R cc RX1 nL [(cI, .int), (cZ, .boolean)] (w1 ad cI cZ) Ri Rv (B, q, Wh, Fi, Ma, Ki, up Ou i x) (pc + 1) lv st) : G g R cc RX1 nL [(cI, .int), (cZ, .boolean)] (w1 ad cI cZ) Ri Rv (B, q, Wh, Fi, Ma, Ki, Ou) pc lv (.int (nI x) :: .int (nI i) :: .ref (ad 6) :: st) := ro_iast (q := 6) (u1 := (B, q, Wh, Fi, Ma, Ki, up Ou i x)) hd 0 rfl rfl rfl (by decide) hi kk
end
/-! CONTRACTS -/
abbrev WF : Type := Fn → ClassId → ClassId → S0 → va_W
/-- at a contract's start the heap holds the world -/
def PW {S : Type} (w : Fn → ClassId → ClassId → S → va_W) (D : va_G) (ad : Fn) (cI cZ : ClassId) (sz : Nat) (u : S) (U : State) : Prop := U.heap.size = sz ∧ va_P D vwCl (w ad cI cZ u) U.heap ∧ va_K D vwCl [(cI, .int), (cZ, .boolean)] U ∧ va_D (fun _ => True) (w ad cI cZ u)
def BW {S : Type} (w : Fn → ClassId → ClassId → S → va_W) (D : va_G) (ad : Fn) (cI cZ : ClassId) (A : Nat → Prop) (u : S) (t : State) : Prop := va_P D vwCl (w ad cI cZ u) t.heap ∧ va_K D vwCl [(cI, .int), (cZ, .boolean)] t ∧ va_D A (w ad cI cZ u)
/-- a contract of a method with an int answer: from the state u with the arguments As it returns, and post holds of answer and new state -/
def MCi {S : Type} (w : Fn → ClassId → ClassId → S → va_W) (y : MethodName) (cc : ByteArray) (nL : Nat) (ret : Option FieldType) (fr lo : Nat) (As : List Value) (u : S) (post : Int32 → S → Prop) : Prop := ∀ (l : Launch) (D : va_G) (ad : Fn) (cI cZ : ClassId) (sz : Nat), Met l y (ws_ y cc nL ret) ({ frames := fr, cells := 0, slots := 0, locals := lo }) (va_Pc (.ref (ad 0) :: As) (PW w D ad cI cZ sz u)) (va_Qi post (BW w D ad cI cZ (va_A (w ad cI cZ u) sz)) (va_A (w ad cI cZ u) sz)) 0 0 (va_A (w ad cI cZ u) sz)
def MCv {S : Type} (w : Fn → ClassId → ClassId → S → va_W) (y : MethodName) (cc : ByteArray) (nL : Nat) (fr lo : Nat) (As : List Value) (u : S) (post : S → Prop) : Prop := ∀ (l : Launch) (D : va_G) (ad : Fn) (cI cZ : ClassId) (sz : Nat), Met l y (ws_ y cc nL none) ({ frames := fr, cells := 0, slots := 0, locals := lo }) (va_Pc (.ref (ad 0) :: As) (PW w D ad cI cZ sz u)) (va_Qv post (BW w D ad cI cZ (va_A (w ad cI cZ u) sz)) (va_A (w ad cI cZ u) sz)) 0 0 (va_A (w ad cI cZ u) sz)
theorem cats_of {As : List Value} (h : As.all (fun v => v.category == 1) = true) (a : Nat) : ∀ v ∈ (Value.ref a :: As), v.category = 1 := by
  intro v hv
  rcases List.mem_cons.mp hv with e | e
  · rw [e]; rfl
  · have := List.all_eq_true.mp h v e
    simpa using this
theorem nar_b01 {v : Int32} (h : v = 0 ∨ v = 1) : narrow .boolean (.int v) = .int v := by
  rcases h with e | e <;> subst e <;> rfl
set_option maxHeartbeats 4000000 in
theorem MCi_of {S : Type} {w : Fn → ClassId → ClassId → S → va_W} {y : MethodName} {cc : ByteArray} {nL : Nat} {ret : Option FieldType} {fr lo : Nat} {As : List Value} {u : S} {post : Int32 → S → Prop} {lv : Fn → List (Option Value)} (hy : plainName y.cls = true) (hret : ret = some .int ∨ ret = some .boolean ∧ ∀ v u1, post v u1 → v = 0 ∨ v = 1) (hAs : As.all (fun v => v.category == 1) = true) (hlen : ∀ a, (lg_sl (.ref a :: As)).length ≤ nL) (hlv : ∀ ad : Fn, lv_ent (.ref (ad 0) :: As) nL = lv ad)
    (body : ∀ (g : Gx) (ad : Fn) (cI cZ : ClassId), G g ({ frames := fr, cells := 0, slots := 0, locals := lo }) cc y.cls nL [(cI, .int), (cZ, .boolean)] (w ad cI cZ) post (fun _ => False) u 0 (lv ad) []) : MCi w y cc nL ret fr lo As u post := by
  intro l D ad cI cZ sz
  refine Met.ofW (cc := cc) (maxL := nL) (ret := ret) hy rfl ?_
  intro p e s m args below meth c s₁ B hml hv
  obtain ⟨rfl, hsz, hP, hK, hD0⟩ := hv
  have hx := B.exec
  have hb := B.bytes
  have hr := B.returns
  have hts := atoms_spec (ws := ws_ y cc nL ret) B.pre
  have hts : ∀ w ∈ lw_all, w.before _ s = true := fun w h => hts w (List.mem_cons_of_mem _ h)
  have hown : s.vm.findClass y.cls = some m.cls := findClass_of_methodNamed B.named
  have hlocks := B.notSynchronized
  subst hsz
  have hD := hD0.self (sz := s.heap.size)
  generalize hAe : va_A (w ad cI cZ u) s.heap.size = A at hD ⊢
  have hA : ∀ q : Nat, s.heap.size ≤ q → A q := fun q h => by rw [← hAe]; exact Or.inr h
  have hl := lv_entry (.ref (ad 0) :: As) (n := nL) (hlen (ad 0))
  rw [lg_entry_eq]
  generalize (lg_sl (.ref (ad 0) :: As) ++ List.replicate (nL - (lg_sl (.ref (ad 0) :: As)).length) Slot.unset).toArray = ls at hl ⊢
  have hl1 := lvh_ent (cats_of hAs (ad 0)) hl
  rw [hlv ad] at hl1
  refine body (p, l, e, s, m, _, below, meth, c, _, A, D, 0, 0) ad cI cZ ⟨hx, hb, hml, hown, hts, hK, hA, ⟨Nat.le_refl _, Nat.le_refl _⟩, ?_, fun _ _ _ _ _ h => h.elim⟩ s.heap [] ls hP hD va_S.rf hl1
  intro v u1 H locs pc ls1 hpost hP1 hD1 hS1 hd
  rcases hret with e | ⟨e, hbool⟩
  · rw [e] at hr
    exact W.iret (v := v) hx hb hr (fun t ht hW => ⟨⟨v, u1, rfl, hpost, by rw [ht]; exact hP1, va_K.moved hW.alike hK, hD1⟩, hS1.F ht⟩) hS1.2.2 hd
  · rw [e] at hr
    exact W.zret (v := v) hx hb hr (nar_b01 (hbool v u1 hpost)) (fun t ht hW => ⟨⟨v, u1, rfl, hpost, by rw [ht]; exact hP1, va_K.moved hW.alike hK, hD1⟩, hS1.F ht⟩) hS1.2.2 hd
set_option maxHeartbeats 4000000 in
theorem MCv_of {S : Type} {w : Fn → ClassId → ClassId → S → va_W} {y : MethodName} {cc : ByteArray} {nL : Nat} {fr lo : Nat} {As : List Value} {u : S} {post : S → Prop} {lv : Fn → List (Option Value)} (hy : plainName y.cls = true) (hAs : As.all (fun v => v.category == 1) = true) (hlen : ∀ a, (lg_sl (.ref a :: As)).length ≤ nL) (hlv : ∀ ad : Fn, lv_ent (.ref (ad 0) :: As) nL = lv ad)
    (body : ∀ (g : Gx) (ad : Fn) (cI cZ : ClassId), G g ({ frames := fr, cells := 0, slots := 0, locals := lo }) cc y.cls nL [(cI, .int), (cZ, .boolean)] (w ad cI cZ) (fun _ _ => False) post u 0 (lv ad) []) : MCv w y cc nL fr lo As u post := by
  intro l D ad cI cZ sz
  refine Met.ofW (cc := cc) (maxL := nL) (ret := none) hy rfl ?_
  intro p e s m args below meth c s₁ B hml hv
  obtain ⟨rfl, hsz, hP, hK, hD0⟩ := hv
  have hx := B.exec
  have hb := B.bytes
  have hr := B.returns
  have hts := atoms_spec (ws := ws_ y cc nL none) B.pre
  have hts : ∀ w ∈ lw_all, w.before _ s = true := fun w h => hts w (List.mem_cons_of_mem _ h)
  have hown : s.vm.findClass y.cls = some m.cls := findClass_of_methodNamed B.named
  have hlocks := B.notSynchronized
  subst hsz
  have hD := hD0.self (sz := s.heap.size)
  generalize hAe : va_A (w ad cI cZ u) s.heap.size = A at hD ⊢
  have hA : ∀ q : Nat, s.heap.size ≤ q → A q := fun q h => by rw [← hAe]; exact Or.inr h
  have hl := lv_entry (.ref (ad 0) :: As) (n := nL) (hlen (ad 0))
  rw [lg_entry_eq]
  generalize (lg_sl (.ref (ad 0) :: As) ++ List.replicate (nL - (lg_sl (.ref (ad 0) :: As)).length) Slot.unset).toArray = ls at hl ⊢
  have hl1 := lvh_ent (cats_of hAs (ad 0)) hl
  rw [hlv ad] at hl1
  refine body (p, l, e, s, m, _, below, meth, c, _, A, D, 0, 0) ad cI cZ ⟨hx, hb, hml, hown, hts, hK, hA, ⟨Nat.le_refl _, Nat.le_refl _⟩, fun _ _ _ _ _ _ h => h.elim, ?_⟩ s.heap [] ls hP hD va_S.rf hl1
  intro u1 H locs pc ls1 hpost hP1 hD1 hS1 hd
  exact W.vret hx hb hr (fun t ht hW => ⟨⟨u1, rfl, hpost, by rw [ht]; exact hP1, va_K.moved hW.alike hK, hD1⟩, hS1.F ht⟩) hS1.2.2 hd
/-- the start of a contract doesn't look at frames -/
theorem PW_blind {S : Type} {w : Fn → ClassId → ClassId → S → va_W} {D : va_G} {ad : Fn} {cI cZ : ClassId} {sz : Nat} {u : S} {av : List Value} : FrameBlind (va_Pc av (PW w D ad cI cZ sz u)) := fun a U g mk q => by
  obtain ⟨q0, q1, qP, qK, qD⟩ := q
  exact ⟨q0, q1, qP, va_K.moved (u := U) (U := U.calling g mk a) (Vm.Alike.refl U.vm) qK, qD⟩
section
variable {S S2 : Type} {g : Gx} {R : Room} {cc : ByteArray} {own : String} {nL : Nat} {ty : List (ClassId × FieldType)} {w : S → va_W} {Ri : Int32 → S → Prop} {Rv : S → Prop} {u : S} {pc : Nat} {lv : List (Option Value)} {st stk : List Value} {w2 : Fn → ClassId → ClassId → S2 → va_W} {y : MethodName} {bytes : ByteArray} {maxL : Nat} {ret : Option FieldType} {fr lo : Nat} {As : List Value} {v : S2} {ad : Fn} {cI cZ : ClassId} {idx : Nat} {C : String}
set_option maxHeartbeats 4000000 in
/-- a call on an object of the world: the callee's cells by places isC, the rest by isR, the way back by isB -/
theorem ro_call {post : Int32 → S2 → Prop} (n : Nat) (hM : MCi w2 y bytes maxL ret fr lo As v post) (bk : S2 → S) (isC isR isB isK : List Nat) (wr : va_W) {ci : Nat} {fs : List Value} {q : vw_C}
    (hC : isC.map (fun i => (w u)[i]?) = (w2 ad cI cZ v).map some) (hC2 : isC.filterMap (fun i => (w u)[i]?) = w2 ad cI cZ v) (hnC : va_nd isC = true) (hR : isR.map (fun i => (w u)[i]?) = wr.map some) (hnR : va_nd isR = true) (hdis : ∀ i ∈ isR, i ∉ isC)
    (hB : ∀ v2, isB.filterMap (fun i => (wr ++ w2 ad cI cZ v2)[i]?) = w (bk v2) ∧ isB.map (fun i => (wr ++ w2 ad cI cZ v2)[i]?) = (w (bk v2)).map some) (hnB : va_nd isB = true) (hKs : isK.filterMap (fun i => ty[i]?) = [(cI, .int), (cZ, .boolean)])
    (hrc : (w2 ad cI cZ v)[0]? = some (ad 0, .inr (ci, fs))) (hci : vwCl[ci]? = some q) (hq : q.1 = C)
    (hg : GoodIn lw_all (wsV own idx C y (ws_ y bytes maxL ret))) (hdn : y.cls = C ∧ y.cls ≠ "java/lang/invoke/MethodHandle" ∧ y.cls ≠ "java/lang/invoke/VarHandle" ∧ (parseMethodDescriptor y.desc).map (fun d => d.parameters.length) = some n) (hlen : As.length = n)
    (hR1 : fr + 1 ≤ R.frames ∧ 8 + (maxL + 11) + lo ≤ R.locals) (hst : stk = As.reverse ++ .ref (ad 0) :: st) (hrm : (st.map fun v => v.category).sum ≤ 8) (hd : decode cc pc = .ok (.invokevirtual idx, 3))
    (k : ∀ r v2, post r v2 → G g R cc own nL ty w Ri Rv (bk v2) (pc + 3) lv (.int r :: st)) : G g R cc own nL ty w Ri Rv u pc lv stk := by
  obtain ⟨p, l, e, s, m, args, below, meth, c, Q, A, D, cells, slots⟩ := g
  intro Cx H locs ls hP hD hS hv
  have ⟨hx, hb, hml, hown, hts, hK, hA, hroom, hRi, hRv⟩ := Cx
  have hPc := hP.sub (ws' := w2 ad cI cZ v) isC hC2
  have hDc := hD.sub (ws' := w2 ad cI cZ v) isC hnC hC
  have hKc := hK.sub (tys' := [(cI, .int), (cZ, .boolean)]) isK hKs
  have hFc := va_free (wc := w2 ad cI cZ v) hD hS hA isC hC
  have hrv := va_recv (s := s) hKc hPc hci hrc
  rw [hq] at hrv
  refine va_calli (va_runV (As := As) (rest := st) ⟨hx, hb, hml, hown, hts⟩ (hM l D ad cI cZ H.size) (cwV n hts hg rfl rfl rfl hdn hR1) ⟨PW_blind, hrv, fun U hU hW => ⟨rfl, by rw [hU], by rw [hU]; exact hPc, va_K.moved hW.alike hKc, hDc.weaken (fun _ _ _ _ => trivial)⟩⟩ rfl hlen hv.1 hst (lv_room hrm) hd ⟨hroom.1, hroom.2⟩) hS (fun q _ h => hFc q h) hFc (fun r v2 t H1 locs1 ht hvm hpost hBB hz1 hk1 hS1 => ?_)
  obtain ⟨hP1, hK1, hD1⟩ := hBB
  rw [ht] at hP1
  obtain ⟨hPj, hDj⟩ := va_join (wr := wr) (w1 := w2 ad cI cZ v2) hP hD isC isR hC hR hnR hdis hk1 hFc hP1 hD1
  exact k r v2 hpost Cx H1 locs1 ls (hPj.sub isB (hB v2).1) (hDj.sub isB hnB (hB v2).2) hS1 hv
set_option maxHeartbeats 4000000 in
theorem ro_callv {post : S2 → Prop} (n : Nat) (hM : MCv w2 y bytes maxL fr lo As v post) (bk : S2 → S) (isC isR isB isK : List Nat) (wr : va_W) {ci : Nat} {fs : List Value} {q : vw_C}
    (hC : isC.map (fun i => (w u)[i]?) = (w2 ad cI cZ v).map some) (hC2 : isC.filterMap (fun i => (w u)[i]?) = w2 ad cI cZ v) (hnC : va_nd isC = true) (hR : isR.map (fun i => (w u)[i]?) = wr.map some) (hnR : va_nd isR = true) (hdis : ∀ i ∈ isR, i ∉ isC)
    (hB : ∀ v2, isB.filterMap (fun i => (wr ++ w2 ad cI cZ v2)[i]?) = w (bk v2) ∧ isB.map (fun i => (wr ++ w2 ad cI cZ v2)[i]?) = (w (bk v2)).map some) (hnB : va_nd isB = true) (hKs : isK.filterMap (fun i => ty[i]?) = [(cI, .int), (cZ, .boolean)])
    (hrc : (w2 ad cI cZ v)[0]? = some (ad 0, .inr (ci, fs))) (hci : vwCl[ci]? = some q) (hq : q.1 = C)
    (hg : GoodIn lw_all (wsV own idx C y (ws_ y bytes maxL none))) (hdn : y.cls = C ∧ y.cls ≠ "java/lang/invoke/MethodHandle" ∧ y.cls ≠ "java/lang/invoke/VarHandle" ∧ (parseMethodDescriptor y.desc).map (fun d => d.parameters.length) = some n) (hlen : As.length = n)
    (hR1 : fr + 1 ≤ R.frames ∧ 8 + (maxL + 11) + lo ≤ R.locals) (hst : stk = As.reverse ++ .ref (ad 0) :: st) (hrm : (st.map fun v => v.category).sum ≤ 8) (hd : decode cc pc = .ok (.invokevirtual idx, 3))
    (k : ∀ v2, post v2 → G g R cc own nL ty w Ri Rv (bk v2) (pc + 3) lv st) : G g R cc own nL ty w Ri Rv u pc lv stk := by
  obtain ⟨p, l, e, s, m, args, below, meth, c, Q, A, D, cells, slots⟩ := g
  intro Cx H locs ls hP hD hS hv
  have ⟨hx, hb, hml, hown, hts, hK, hA, hroom, hRi, hRv⟩ := Cx
  have hPc := hP.sub (ws' := w2 ad cI cZ v) isC hC2
  have hDc := hD.sub (ws' := w2 ad cI cZ v) isC hnC hC
  have hKc := hK.sub (tys' := [(cI, .int), (cZ, .boolean)]) isK hKs
  have hFc := va_free (wc := w2 ad cI cZ v) hD hS hA isC hC
  have hrv := va_recv (s := s) hKc hPc hci hrc
  rw [hq] at hrv
  refine va_callv (va_runV (As := As) (rest := st) ⟨hx, hb, hml, hown, hts⟩ (hM l D ad cI cZ H.size) (cwV n hts hg rfl rfl rfl hdn hR1) ⟨PW_blind, hrv, fun U hU hW => ⟨rfl, by rw [hU], by rw [hU]; exact hPc, va_K.moved hW.alike hKc, hDc.weaken (fun _ _ _ _ => trivial)⟩⟩ rfl hlen hv.1 hst (lv_room hrm) hd ⟨hroom.1, hroom.2⟩) hS (fun q _ h => hFc q h) hFc (fun v2 t H1 locs1 ht hvm hpost hBB hz1 hk1 hS1 => ?_)
  obtain ⟨hP1, hK1, hD1⟩ := hBB
  rw [ht] at hP1
  obtain ⟨hPj, hDj⟩ := va_join (wr := wr) (w1 := w2 ad cI cZ v2) hP hD isC isR hC hR hnR hdis hk1 hFc hP1 hD1
  exact k v2 hpost Cx H1 locs1 ls (hPj.sub isB (hB v2).1) (hDj.sub isB hnB (hB v2).2) hS1 hv
end
set_option maxHeartbeats 4000000 in
/-- a call of a method of the own class on this -/
theorem ro_call0 {g : Gx} {R : Room} {cc : ByteArray} {nL : Nat} {ad : Fn} {cI cZ : ClassId} {Ri : Int32 → S0 → Prop} {Rv : S0 → Prop} {u : S0} {pc : Nat} {lv : List (Option Value)} {st stk : List Value} {y : MethodName} {bytes : ByteArray} {maxL : Nat} {ret : Option FieldType} {fr lo : Nat} {As : List Value} {idx : Nat} {post : Int32 → S0 → Prop} (n : Nat) (hM : MCi w0 y bytes maxL ret fr lo As u post) (hg : GoodIn lw_all (wsV RX0 idx RX0 y (ws_ y bytes maxL ret))) (hdn : y.cls = RX0 ∧ y.cls ≠ "java/lang/invoke/MethodHandle" ∧ y.cls ≠ "java/lang/invoke/VarHandle" ∧ (parseMethodDescriptor y.desc).map (fun d => d.parameters.length) = some n) (hlen : As.length = n)
    (hR1 : fr + 1 ≤ R.frames ∧ 8 + (maxL + 11) + lo ≤ R.locals) (hst : stk = As.reverse ++ .ref (ad 0) :: st) (hrm : (st.map fun v => v.category).sum ≤ 8) (hd : decode cc pc = .ok (.invokevirtual idx, 3)) (k : ∀ r u2, post r u2 → G g R cc RX0 nL [(cI, .int), (cZ, .boolean)] (w0 ad cI cZ) Ri Rv u2 (pc + 3) lv (.int r :: st)) : G g R cc RX0 nL [(cI, .int), (cZ, .boolean)] (w0 ad cI cZ) Ri Rv u pc lv stk := by
  obtain ⟨O1, F1, L1, T1, V1, P1, X1, Y1, Z1, n1, c1⟩ := u
  exact ro_call (ad := ad) (cI := cI) (cZ := cZ) n hM (fun z => z) [0, 1, 2, 3, 4, 5, 6, 7, 8, 9] [] [0, 1, 2, 3, 4, 5, 6, 7, 8, 9] [0, 1] [] rfl rfl (by decide) rfl (by decide) (fun _ h => by cases h) (fun v2 => by obtain ⟨O2, F2, L2, T2, V2, P2, X2, Y2, Z2, n2, c2⟩ := v2; exact ⟨rfl, rfl⟩) (by decide) rfl rfl rfl rfl hg hdn hlen hR1 hst hrm hd k
set_option maxHeartbeats 4000000 in
/-- a call of a method of the own class on this -/
theorem ro_call0v {g : Gx} {R : Room} {cc : ByteArray} {nL : Nat} {ad : Fn} {cI cZ : ClassId} {Ri : Int32 → S0 → Prop} {Rv : S0 → Prop} {u : S0} {pc : Nat} {lv : List (Option Value)} {st stk : List Value} {y : MethodName} {bytes : ByteArray} {maxL : Nat} {fr lo : Nat} {As : List Value} {idx : Nat} {post : S0 → Prop} (n : Nat) (hM : MCv w0 y bytes maxL fr lo As u post) (hg : GoodIn lw_all (wsV RX0 idx RX0 y (ws_ y bytes maxL none))) (hdn : y.cls = RX0 ∧ y.cls ≠ "java/lang/invoke/MethodHandle" ∧ y.cls ≠ "java/lang/invoke/VarHandle" ∧ (parseMethodDescriptor y.desc).map (fun d => d.parameters.length) = some n) (hlen : As.length = n)
    (hR1 : fr + 1 ≤ R.frames ∧ 8 + (maxL + 11) + lo ≤ R.locals) (hst : stk = As.reverse ++ .ref (ad 0) :: st) (hrm : (st.map fun v => v.category).sum ≤ 8) (hd : decode cc pc = .ok (.invokevirtual idx, 3)) (k : ∀ u2, post u2 → G g R cc RX0 nL [(cI, .int), (cZ, .boolean)] (w0 ad cI cZ) Ri Rv u2 (pc + 3) lv st) : G g R cc RX0 nL [(cI, .int), (cZ, .boolean)] (w0 ad cI cZ) Ri Rv u pc lv stk := by
  obtain ⟨O1, F1, L1, T1, V1, P1, X1, Y1, Z1, n1, c1⟩ := u
  exact ro_callv (ad := ad) (cI := cI) (cZ := cZ) n hM (fun z => z) [0, 1, 2, 3, 4, 5, 6, 7, 8, 9] [] [0, 1, 2, 3, 4, 5, 6, 7, 8, 9] [0, 1] [] rfl rfl (by decide) rfl (by decide) (fun _ h => by cases h) (fun v2 => by obtain ⟨O2, F2, L2, T2, V2, P2, X2, Y2, Z2, n2, c2⟩ := v2; exact ⟨rfl, rfl⟩) (by decide) rfl rfl rfl rfl hg hdn hlen hR1 hst hrm hd k
set_option maxHeartbeats 4000000 in
/-- a call of a method of the own class on this -/
theorem ro_call1 {g : Gx} {R : Room} {cc : ByteArray} {nL : Nat} {ad : Fn} {cI cZ : ClassId} {Ri : Int32 → S1 → Prop} {Rv : S1 → Prop} {u : S1} {pc : Nat} {lv : List (Option Value)} {st stk : List Value} {y : MethodName} {bytes : ByteArray} {maxL : Nat} {ret : Option FieldType} {fr lo : Nat} {As : List Value} {idx : Nat} {post : Int32 → S1 → Prop} (n : Nat) (hM : MCi w1 y bytes maxL ret fr lo As u post) (hg : GoodIn lw_all (wsV RX1 idx RX1 y (ws_ y bytes maxL ret))) (hdn : y.cls = RX1 ∧ y.cls ≠ "java/lang/invoke/MethodHandle" ∧ y.cls ≠ "java/lang/invoke/VarHandle" ∧ (parseMethodDescriptor y.desc).map (fun d => d.parameters.length) = some n) (hlen : As.length = n)
    (hR1 : fr + 1 ≤ R.frames ∧ 8 + (maxL + 11) + lo ≤ R.locals) (hst : stk = As.reverse ++ .ref (ad 0) :: st) (hrm : (st.map fun v => v.category).sum ≤ 8) (hd : decode cc pc = .ok (.invokevirtual idx, 3)) (k : ∀ r u2, post r u2 → G g R cc RX1 nL [(cI, .int), (cZ, .boolean)] (w1 ad cI cZ) Ri Rv u2 (pc + 3) lv (.int r :: st)) : G g R cc RX1 nL [(cI, .int), (cZ, .boolean)] (w1 ad cI cZ) Ri Rv u pc lv stk := by
  obtain ⟨B1, q1, Wh1, Fi1, Ma1, Ki1, Ou1⟩ := u
  exact ro_call (ad := ad) (cI := cI) (cZ := cZ) n hM (fun z => z) [0, 1, 2, 3, 4, 5, 6] [] [0, 1, 2, 3, 4, 5, 6] [0, 1] [] rfl rfl (by decide) rfl (by decide) (fun _ h => by cases h) (fun v2 => by obtain ⟨B2, q2, Wh2, Fi2, Ma2, Ki2, Ou2⟩ := v2; exact ⟨rfl, rfl⟩) (by decide) rfl rfl rfl rfl hg hdn hlen hR1 hst hrm hd k
set_option maxHeartbeats 4000000 in
/-- a call of a method of the own class on this -/
theorem ro_call1v {g : Gx} {R : Room} {cc : ByteArray} {nL : Nat} {ad : Fn} {cI cZ : ClassId} {Ri : Int32 → S1 → Prop} {Rv : S1 → Prop} {u : S1} {pc : Nat} {lv : List (Option Value)} {st stk : List Value} {y : MethodName} {bytes : ByteArray} {maxL : Nat} {fr lo : Nat} {As : List Value} {idx : Nat} {post : S1 → Prop} (n : Nat) (hM : MCv w1 y bytes maxL fr lo As u post) (hg : GoodIn lw_all (wsV RX1 idx RX1 y (ws_ y bytes maxL none))) (hdn : y.cls = RX1 ∧ y.cls ≠ "java/lang/invoke/MethodHandle" ∧ y.cls ≠ "java/lang/invoke/VarHandle" ∧ (parseMethodDescriptor y.desc).map (fun d => d.parameters.length) = some n) (hlen : As.length = n)
    (hR1 : fr + 1 ≤ R.frames ∧ 8 + (maxL + 11) + lo ≤ R.locals) (hst : stk = As.reverse ++ .ref (ad 0) :: st) (hrm : (st.map fun v => v.category).sum ≤ 8) (hd : decode cc pc = .ok (.invokevirtual idx, 3)) (k : ∀ u2, post u2 → G g R cc RX1 nL [(cI, .int), (cZ, .boolean)] (w1 ad cI cZ) Ri Rv u2 (pc + 3) lv st) : G g R cc RX1 nL [(cI, .int), (cZ, .boolean)] (w1 ad cI cZ) Ri Rv u pc lv stk := by
  obtain ⟨B1, q1, Wh1, Fi1, Ma1, Ki1, Ou1⟩ := u
  exact ro_callv (ad := ad) (cI := cI) (cZ := cZ) n hM (fun z => z) [0, 1, 2, 3, 4, 5, 6] [] [0, 1, 2, 3, 4, 5, 6] [0, 1] [] rfl rfl (by decide) rfl (by decide) (fun _ h => by cases h) (fun v2 => by obtain ⟨B2, q2, Wh2, Fi2, Ma2, Ki2, Ou2⟩ := v2; exact ⟨rfl, rfl⟩) (by decide) rfl rfl rfl rfl hg hdn hlen hR1 hst hrm hd k
/-! STATIC METHODS: no world -/
def MSi (y : MethodName) (cc : ByteArray) (nL : Nat) (fr lo : Nat) (As : List Value) (post : Int32 → Prop) : Prop := ∀ (l : Launch) (sz : Nat), Met l y (ws_ y cc nL (some .boolean)) ({ frames := fr, cells := 0, slots := 0, locals := lo }) (va_Pc As (fun U => U.heap.size = sz ∧ ∃ D : va_G, va_K D vwCl [] U)) (va_Qi (fun r (_ : Unit) => post r) (fun _ _ => True) (fun q => sz ≤ q)) 0 0 (fun q => sz ≤ q)
def w00 (_ : Unit) : va_W := []
set_option maxHeartbeats 4000000 in
theorem MSi_of {y : MethodName} {cc : ByteArray} {nL : Nat} {fr lo : Nat} {As : List Value} {post : Int32 → Prop} {lv : List (Option Value)} (hy : plainName y.cls = true) (hbool : ∀ v, post v → v = 0 ∨ v = 1) (hAs : As.all (fun v => v.category == 1) = true) (hlen : (lg_sl As).length ≤ nL) (hlv : lv_ent As nL = lv)
    (body : ∀ (g : Gx), G g ({ frames := fr, cells := 0, slots := 0, locals := lo }) cc y.cls nL [] w00 (fun r _ => post r) (fun _ => False) () 0 lv []) : MSi y cc nL fr lo As post := by
  intro l sz
  refine Met.ofW (cc := cc) (maxL := nL) (ret := some .boolean) hy rfl ?_
  intro p e s m args below meth c s₁ B hml hv
  obtain ⟨rfl, hsz, D, hK⟩ := hv
  have hx := B.exec
  have hb := B.bytes
  have hr := B.returns
  have hts := atoms_spec (ws := ws_ y cc nL (some .boolean)) B.pre
  have hts : ∀ w ∈ lw_all, w.before _ s = true := fun w h => hts w (List.mem_cons_of_mem _ h)
  have hown : s.vm.findClass y.cls = some m.cls := findClass_of_methodNamed B.named
  have hlocks := B.notSynchronized
  subst hsz
  have hl := lv_entry As (n := nL) hlen
  rw [lg_entry_eq]
  generalize (lg_sl As ++ List.replicate (nL - (lg_sl As).length) Slot.unset).toArray = ls at hl ⊢
  have hl1 := lvh_ent (fun v hv => by have := List.all_eq_true.mp hAs v hv; simpa using this) hl
  rw [hlv] at hl1
  refine body (p, l, e, s, m, _, below, meth, c, _, (fun q => s.heap.size ≤ q), D, 0, 0) ⟨hx, hb, hml, hown, hts, hK, fun _ h => h, ⟨Nat.le_refl _, Nat.le_refl _⟩, ?_, fun _ _ _ _ _ h => h.elim⟩ s.heap [] ls (fun k q h => by cases h) ⟨fun i j p q h => (by cases h), fun k q h => (by cases h)⟩ va_S.rf hl1
  intro v u1 H locs pc ls1 hpost hP1 hD1 hS1 hd
  exact W.zret (v := v) hx hb hr (nar_b01 (hbool v hpost)) (fun t ht hW => ⟨⟨v, (), rfl, hpost, trivial⟩, hS1.F ht⟩) hS1.2.2 hd
section
variable {S : Type} {g : Gx} {R : Room} {cc : ByteArray} {own : String} {nL : Nat} {ty : List (ClassId × FieldType)} {w : S → va_W} {Ri : Int32 → S → Prop} {Rv : S → Prop} {u : S} {pc : Nat} {lv : List (Option Value)} {st stk : List Value} {y : MethodName} {bytes : ByteArray} {maxL : Nat} {fr lo : Nat} {As : List Value} {idx : Nat}
set_option maxHeartbeats 4000000 in
/-- a static call: the world stays -/
theorem ro_calls {post : Int32 → Prop} (n : Nat) (hM : MSi y bytes maxL fr lo As post) (hg : GoodIn lw_all (va_wsS own idx y (ws_ y bytes maxL (some .boolean)))) (hdn : y.cls ≠ "java/lang/invoke/MethodHandle" ∧ y.cls ≠ "java/lang/invoke/VarHandle" ∧ (parseMethodDescriptor y.desc).map (fun d => d.parameters.length) = some n) (hlen : As.length = n)
    (hR1 : fr + 1 ≤ R.frames ∧ 8 + (maxL + 11) + lo ≤ R.locals) (hst : stk = As.reverse ++ st) (hrm : (st.map fun v => v.category).sum ≤ 8) (hd : decode cc pc = .ok (.invokestatic idx, 3))
    (k : ∀ r, post r → G g R cc own nL ty w Ri Rv u (pc + 3) lv (.int r :: st)) : G g R cc own nL ty w Ri Rv u pc lv stk := by
  obtain ⟨p, l, e, s, m, args, below, meth, c, Q, A, D, cells, slots⟩ := g
  intro Cx H locs ls hP hD hS hv
  have ⟨hx, hb, hml, hown, hts, hK, hA, hroom, hRi, hRv⟩ := Cx
  have hKc := hK.sub (tys' := []) [] rfl
  have hF : ∀ q : Nat, H.size ≤ q → A q := fun q h => hA q (Nat.le_trans hS.1 h)
  refine va_calli (va_runS (As := As) (rest := st) ⟨hx, hb, hml, hown, hts⟩ (hM l H.size) (va_cwS n hts hg rfl rfl rfl hdn hR1) ⟨fun a U g mk q => by obtain ⟨q0, q1, D1, qK⟩ := q; exact ⟨q0, q1, D1, va_K.moved (u := U) (U := U.calling g mk a) (Vm.Alike.refl U.vm) qK⟩, fun U hU hW => ⟨rfl, by rw [hU], D, va_K.moved hW.alike hKc⟩⟩ rfl hlen hv.1 hst (lv_room hrm) hd ⟨hroom.1, hroom.2⟩) hS (fun q _ h => hF q h) hF (fun r v2 t H1 locs1 ht hvm hpost hBB hz1 hk1 hS1 => ?_)
  have hP1 : va_P D vwCl (w u) H1 := hP.kept (fun k q hq => hk1 q.1 (va_at.lt (hP k q hq)) (fun h => absurd (va_at.lt (hP k q hq)) (Nat.not_lt.mpr h)))
  exact k r hpost Cx H1 locs1 ls hP1 hD hS1 hv
end
end
section
/-! the words of every call: cv_ (its list), dn_ (its descriptor) -/
set_option maxRecDepth 100000
theorem dn_X0_lock : yX0_lock.cls = RX0 ∧ yX0_lock.cls ≠ "java/lang/invoke/MethodHandle" ∧ yX0_lock.cls ≠ "java/lang/invoke/VarHandle" ∧ (parseMethodDescriptor yX0_lock.desc).map (fun d => d.parameters.length) = some 4 := by decide +kernel
theorem dn_X0_refused : yX0_refused.cls = RX0 ∧ yX0_refused.cls ≠ "java/lang/invoke/MethodHandle" ∧ yX0_refused.cls ≠ "java/lang/invoke/VarHandle" ∧ (parseMethodDescriptor yX0_refused.desc).map (fun d => d.parameters.length) = some 5 := by decide +kernel
theorem dn_X0_isOwner : yX0_isOwner.cls ≠ "java/lang/invoke/MethodHandle" ∧ yX0_isOwner.cls ≠ "java/lang/invoke/VarHandle" ∧ (parseMethodDescriptor yX0_isOwner.desc).map (fun d => d.parameters.length) = some 1 := by decide +kernel
theorem dn_X0_isRange : yX0_isRange.cls ≠ "java/lang/invoke/MethodHandle" ∧ yX0_isRange.cls ≠ "java/lang/invoke/VarHandle" ∧ (parseMethodDescriptor yX0_isRange.desc).map (fun d => d.parameters.length) = some 2 := by decide +kernel
theorem dn_X0_rivals : yX0_rivals.cls = RX0 ∧ yX0_rivals.cls ≠ "java/lang/invoke/MethodHandle" ∧ yX0_rivals.cls ≠ "java/lang/invoke/VarHandle" ∧ (parseMethodDescriptor yX0_rivals.desc).map (fun d => d.parameters.length) = some 4 := by decide +kernel
theorem dn_X0_stands : yX0_stands.cls = RX0 ∧ yX0_stands.cls ≠ "java/lang/invoke/MethodHandle" ∧ yX0_stands.cls ≠ "java/lang/invoke/VarHandle" ∧ (parseMethodDescriptor yX0_stands.desc).map (fun d => d.parameters.length) = some 5 := by decide +kernel
theorem dn_X0_paint : yX0_paint.cls = RX0 ∧ yX0_paint.cls ≠ "java/lang/invoke/MethodHandle" ∧ yX0_paint.cls ≠ "java/lang/invoke/VarHandle" ∧ (parseMethodDescriptor yX0_paint.desc).map (fun d => d.parameters.length) = some 4 := by decide +kernel
theorem dn_X0_cutOut : yX0_cutOut.cls = RX0 ∧ yX0_cutOut.cls ≠ "java/lang/invoke/MethodHandle" ∧ yX0_cutOut.cls ≠ "java/lang/invoke/VarHandle" ∧ (parseMethodDescriptor yX0_cutOut.desc).map (fun d => d.parameters.length) = some 3 := by decide +kernel
theorem dn_X0_begin : yX0_begin.cls = RX0 ∧ yX0_begin.cls ≠ "java/lang/invoke/MethodHandle" ∧ yX0_begin.cls ≠ "java/lang/invoke/VarHandle" ∧ (parseMethodDescriptor yX0_begin.desc).map (fun d => d.parameters.length) = some 1 := by decide +kernel
theorem dn_X0_open : yX0_open.cls = RX0 ∧ yX0_open.cls ≠ "java/lang/invoke/MethodHandle" ∧ yX0_open.cls ≠ "java/lang/invoke/VarHandle" ∧ (parseMethodDescriptor yX0_open.desc).map (fun d => d.parameters.length) = some 1 := by decide +kernel
theorem dn_X0_copyPiece : yX0_copyPiece.cls = RX0 ∧ yX0_copyPiece.cls ≠ "java/lang/invoke/MethodHandle" ∧ yX0_copyPiece.cls ≠ "java/lang/invoke/VarHandle" ∧ (parseMethodDescriptor yX0_copyPiece.desc).map (fun d => d.parameters.length) = some 2 := by decide +kernel
theorem dn_X0_shut : yX0_shut.cls = RX0 ∧ yX0_shut.cls ≠ "java/lang/invoke/MethodHandle" ∧ yX0_shut.cls ≠ "java/lang/invoke/VarHandle" ∧ (parseMethodDescriptor yX0_shut.desc).map (fun d => d.parameters.length) = some 1 := by decide +kernel
theorem dn_X0_joinNext : yX0_joinNext.cls = RX0 ∧ yX0_joinNext.cls ≠ "java/lang/invoke/MethodHandle" ∧ yX0_joinNext.cls ≠ "java/lang/invoke/VarHandle" ∧ (parseMethodDescriptor yX0_joinNext.desc).map (fun d => d.parameters.length) = some 1 := by decide +kernel
theorem dn_X0_settle : yX0_settle.cls = RX0 ∧ yX0_settle.cls ≠ "java/lang/invoke/MethodHandle" ∧ yX0_settle.cls ≠ "java/lang/invoke/VarHandle" ∧ (parseMethodDescriptor yX0_settle.desc).map (fun d => d.parameters.length) = some 0 := by decide +kernel
theorem dn_X0_blockers : yX0_blockers.cls = RX0 ∧ yX0_blockers.cls ≠ "java/lang/invoke/MethodHandle" ∧ yX0_blockers.cls ≠ "java/lang/invoke/VarHandle" ∧ (parseMethodDescriptor yX0_blockers.desc).map (fun d => d.parameters.length) = some 1 := by decide +kernel
theorem dn_X0_await : yX0_await.cls = RX0 ∧ yX0_await.cls ≠ "java/lang/invoke/MethodHandle" ∧ yX0_await.cls ≠ "java/lang/invoke/VarHandle" ∧ (parseMethodDescriptor yX0_await.desc).map (fun d => d.parameters.length) = some 4 := by decide +kernel
theorem dn_X0_leadsTo : yX0_leadsTo.cls = RX0 ∧ yX0_leadsTo.cls ≠ "java/lang/invoke/MethodHandle" ∧ yX0_leadsTo.cls ≠ "java/lang/invoke/VarHandle" ∧ (parseMethodDescriptor yX0_leadsTo.desc).map (fun d => d.parameters.length) = some 2 := by decide +kernel
theorem dn_X0_cancel : yX0_cancel.cls = RX0 ∧ yX0_cancel.cls ≠ "java/lang/invoke/MethodHandle" ∧ yX0_cancel.cls ≠ "java/lang/invoke/VarHandle" ∧ (parseMethodDescriptor yX0_cancel.desc).map (fun d => d.parameters.length) = some 1 := by decide +kernel
theorem dn_X0_close : yX0_close.cls = RX0 ∧ yX0_close.cls ≠ "java/lang/invoke/MethodHandle" ∧ yX0_close.cls ≠ "java/lang/invoke/VarHandle" ∧ (parseMethodDescriptor yX0_close.desc).map (fun d => d.parameters.length) = some 1 := by decide +kernel
theorem dn_X0_count : yX0_count.cls = RX0 ∧ yX0_count.cls ≠ "java/lang/invoke/MethodHandle" ∧ yX0_count.cls ≠ "java/lang/invoke/VarHandle" ∧ (parseMethodDescriptor yX0_count.desc).map (fun d => d.parameters.length) = some 2 := by decide +kernel
theorem dn_X0_lockAt : yX0_lockAt.cls = RX0 ∧ yX0_lockAt.cls ≠ "java/lang/invoke/MethodHandle" ∧ yX0_lockAt.cls ≠ "java/lang/invoke/VarHandle" ∧ (parseMethodDescriptor yX0_lockAt.desc).map (fun d => d.parameters.length) = some 2 := by decide +kernel
theorem dn_X0_isByte : yX0_isByte.cls ≠ "java/lang/invoke/MethodHandle" ∧ yX0_isByte.cls ≠ "java/lang/invoke/VarHandle" ∧ (parseMethodDescriptor yX0_isByte.desc).map (fun d => d.parameters.length) = some 1 := by decide +kernel
theorem dn_X0_pieceAt : yX0_pieceAt.cls = RX0 ∧ yX0_pieceAt.cls ≠ "java/lang/invoke/MethodHandle" ∧ yX0_pieceAt.cls ≠ "java/lang/invoke/VarHandle" ∧ (parseMethodDescriptor yX0_pieceAt.desc).map (fun d => d.parameters.length) = some 2 := by decide +kernel
theorem dn_X0_holders : yX0_holders.cls = RX0 ∧ yX0_holders.cls ≠ "java/lang/invoke/MethodHandle" ∧ yX0_holders.cls ≠ "java/lang/invoke/VarHandle" ∧ (parseMethodDescriptor yX0_holders.desc).map (fun d => d.parameters.length) = some 1 := by decide +kernel
theorem dn_X0_obstacle : yX0_obstacle.cls = RX0 ∧ yX0_obstacle.cls ≠ "java/lang/invoke/MethodHandle" ∧ yX0_obstacle.cls ≠ "java/lang/invoke/VarHandle" ∧ (parseMethodDescriptor yX0_obstacle.desc).map (fun d => d.parameters.length) = some 4 := by decide +kernel
theorem dn_X0_wouldCircle : yX0_wouldCircle.cls = RX0 ∧ yX0_wouldCircle.cls ≠ "java/lang/invoke/MethodHandle" ∧ yX0_wouldCircle.cls ≠ "java/lang/invoke/VarHandle" ∧ (parseMethodDescriptor yX0_wouldCircle.desc).map (fun d => d.parameters.length) = some 4 := by decide +kernel
theorem dn_X0_waiting : yX0_waiting.cls = RX0 ∧ yX0_waiting.cls ≠ "java/lang/invoke/MethodHandle" ∧ yX0_waiting.cls ≠ "java/lang/invoke/VarHandle" ∧ (parseMethodDescriptor yX0_waiting.desc).map (fun d => d.parameters.length) = some 1 := by decide +kernel
theorem dn_X0_waitsFor : yX0_waitsFor.cls = RX0 ∧ yX0_waitsFor.cls ≠ "java/lang/invoke/MethodHandle" ∧ yX0_waitsFor.cls ≠ "java/lang/invoke/VarHandle" ∧ (parseMethodDescriptor yX0_waitsFor.desc).map (fun d => d.parameters.length) = some 1 := by decide +kernel
theorem dn_X0_ahead : yX0_ahead.cls = RX0 ∧ yX0_ahead.cls ≠ "java/lang/invoke/MethodHandle" ∧ yX0_ahead.cls ≠ "java/lang/invoke/VarHandle" ∧ (parseMethodDescriptor yX0_ahead.desc).map (fun d => d.parameters.length) = some 1 := by decide +kernel
theorem dn_X0_pieces : yX0_pieces.cls = RX0 ∧ yX0_pieces.cls ≠ "java/lang/invoke/MethodHandle" ∧ yX0_pieces.cls ≠ "java/lang/invoke/VarHandle" ∧ (parseMethodDescriptor yX0_pieces.desc).map (fun d => d.parameters.length) = some 1 := by decide +kernel
theorem dn_X0_pieceStart : yX0_pieceStart.cls = RX0 ∧ yX0_pieceStart.cls ≠ "java/lang/invoke/MethodHandle" ∧ yX0_pieceStart.cls ≠ "java/lang/invoke/VarHandle" ∧ (parseMethodDescriptor yX0_pieceStart.desc).map (fun d => d.parameters.length) = some 2 := by decide +kernel
theorem dn_X0_find : yX0_find.cls = RX0 ∧ yX0_find.cls ≠ "java/lang/invoke/MethodHandle" ∧ yX0_find.cls ≠ "java/lang/invoke/VarHandle" ∧ (parseMethodDescriptor yX0_find.desc).map (fun d => d.parameters.length) = some 2 := by decide +kernel
theorem dn_X0_pieceEnd : yX0_pieceEnd.cls = RX0 ∧ yX0_pieceEnd.cls ≠ "java/lang/invoke/MethodHandle" ∧ yX0_pieceEnd.cls ≠ "java/lang/invoke/VarHandle" ∧ (parseMethodDescriptor yX0_pieceEnd.desc).map (fun d => d.parameters.length) = some 2 := by decide +kernel
theorem dn_X0_pieceType : yX0_pieceType.cls = RX0 ∧ yX0_pieceType.cls ≠ "java/lang/invoke/MethodHandle" ∧ yX0_pieceType.cls ≠ "java/lang/invoke/VarHandle" ∧ (parseMethodDescriptor yX0_pieceType.desc).map (fun d => d.parameters.length) = some 2 := by decide +kernel
theorem dn_X0_free : yX0_free.cls = RX0 ∧ yX0_free.cls ≠ "java/lang/invoke/MethodHandle" ∧ yX0_free.cls ≠ "java/lang/invoke/VarHandle" ∧ (parseMethodDescriptor yX0_free.desc).map (fun d => d.parameters.length) = some 0 := by decide +kernel
theorem dn_X1_lock : yX1_lock.cls = RX1 ∧ yX1_lock.cls ≠ "java/lang/invoke/MethodHandle" ∧ yX1_lock.cls ≠ "java/lang/invoke/VarHandle" ∧ (parseMethodDescriptor yX1_lock.desc).map (fun d => d.parameters.length) = some 4 := by decide +kernel
theorem dn_X1_bad : yX1_bad.cls = RX1 ∧ yX1_bad.cls ≠ "java/lang/invoke/MethodHandle" ∧ yX1_bad.cls ≠ "java/lang/invoke/VarHandle" ∧ (parseMethodDescriptor yX1_bad.desc).map (fun d => d.parameters.length) = some 1 := by decide +kernel
theorem dn_X1_badRange : yX1_badRange.cls = RX1 ∧ yX1_badRange.cls ≠ "java/lang/invoke/MethodHandle" ∧ yX1_badRange.cls ≠ "java/lang/invoke/VarHandle" ∧ (parseMethodDescriptor yX1_badRange.desc).map (fun d => d.parameters.length) = some 2 := by decide +kernel
theorem dn_X1_placeOf : yX1_placeOf.cls = RX1 ∧ yX1_placeOf.cls ≠ "java/lang/invoke/MethodHandle" ∧ yX1_placeOf.cls ≠ "java/lang/invoke/VarHandle" ∧ (parseMethodDescriptor yX1_placeOf.desc).map (fun d => d.parameters.length) = some 1 := by decide +kernel
theorem dn_X1_against : yX1_against.cls = RX1 ∧ yX1_against.cls ≠ "java/lang/invoke/MethodHandle" ∧ yX1_against.cls ≠ "java/lang/invoke/VarHandle" ∧ (parseMethodDescriptor yX1_against.desc).map (fun d => d.parameters.length) = some 4 := by decide +kernel
theorem dn_X1_clash : yX1_clash.cls = RX1 ∧ yX1_clash.cls ≠ "java/lang/invoke/MethodHandle" ∧ yX1_clash.cls ≠ "java/lang/invoke/VarHandle" ∧ (parseMethodDescriptor yX1_clash.desc).map (fun d => d.parameters.length) = some 2 := by decide +kernel
theorem dn_X1_grant : yX1_grant.cls = RX1 ∧ yX1_grant.cls ≠ "java/lang/invoke/MethodHandle" ∧ yX1_grant.cls ≠ "java/lang/invoke/VarHandle" ∧ (parseMethodDescriptor yX1_grant.desc).map (fun d => d.parameters.length) = some 4 := by decide +kernel
theorem dn_X1_settle : yX1_settle.cls = RX1 ∧ yX1_settle.cls ≠ "java/lang/invoke/MethodHandle" ∧ yX1_settle.cls ≠ "java/lang/invoke/VarHandle" ∧ (parseMethodDescriptor yX1_settle.desc).map (fun d => d.parameters.length) = some 0 := by decide +kernel
theorem dn_X1_ready : yX1_ready.cls = RX1 ∧ yX1_ready.cls ≠ "java/lang/invoke/MethodHandle" ∧ yX1_ready.cls ≠ "java/lang/invoke/VarHandle" ∧ (parseMethodDescriptor yX1_ready.desc).map (fun d => d.parameters.length) = some 0 := by decide +kernel
theorem dn_X1_leave : yX1_leave.cls = RX1 ∧ yX1_leave.cls ≠ "java/lang/invoke/MethodHandle" ∧ yX1_leave.cls ≠ "java/lang/invoke/VarHandle" ∧ (parseMethodDescriptor yX1_leave.desc).map (fun d => d.parameters.length) = some 1 := by decide +kernel
theorem dn_X1_await : yX1_await.cls = RX1 ∧ yX1_await.cls ≠ "java/lang/invoke/MethodHandle" ∧ yX1_await.cls ≠ "java/lang/invoke/VarHandle" ∧ (parseMethodDescriptor yX1_await.desc).map (fun d => d.parameters.length) = some 4 := by decide +kernel
theorem dn_X1_circles : yX1_circles.cls = RX1 ∧ yX1_circles.cls ≠ "java/lang/invoke/MethodHandle" ∧ yX1_circles.cls ≠ "java/lang/invoke/VarHandle" ∧ (parseMethodDescriptor yX1_circles.desc).map (fun d => d.parameters.length) = some 2 := by decide +kernel
theorem dn_X1_cancel : yX1_cancel.cls = RX1 ∧ yX1_cancel.cls ≠ "java/lang/invoke/MethodHandle" ∧ yX1_cancel.cls ≠ "java/lang/invoke/VarHandle" ∧ (parseMethodDescriptor yX1_cancel.desc).map (fun d => d.parameters.length) = some 1 := by decide +kernel
theorem dn_X1_close : yX1_close.cls = RX1 ∧ yX1_close.cls ≠ "java/lang/invoke/MethodHandle" ∧ yX1_close.cls ≠ "java/lang/invoke/VarHandle" ∧ (parseMethodDescriptor yX1_close.desc).map (fun d => d.parameters.length) = some 1 := by decide +kernel
theorem dn_X1_lockAt : yX1_lockAt.cls = RX1 ∧ yX1_lockAt.cls ≠ "java/lang/invoke/MethodHandle" ∧ yX1_lockAt.cls ≠ "java/lang/invoke/VarHandle" ∧ (parseMethodDescriptor yX1_lockAt.desc).map (fun d => d.parameters.length) = some 2 := by decide +kernel
theorem dn_X1_badByte : yX1_badByte.cls = RX1 ∧ yX1_badByte.cls ≠ "java/lang/invoke/MethodHandle" ∧ yX1_badByte.cls ≠ "java/lang/invoke/VarHandle" ∧ (parseMethodDescriptor yX1_badByte.desc).map (fun d => d.parameters.length) = some 1 := by decide +kernel
theorem dn_X1_holders : yX1_holders.cls = RX1 ∧ yX1_holders.cls ≠ "java/lang/invoke/MethodHandle" ∧ yX1_holders.cls ≠ "java/lang/invoke/VarHandle" ∧ (parseMethodDescriptor yX1_holders.desc).map (fun d => d.parameters.length) = some 1 := by decide +kernel
theorem dn_X1_obstacle : yX1_obstacle.cls = RX1 ∧ yX1_obstacle.cls ≠ "java/lang/invoke/MethodHandle" ∧ yX1_obstacle.cls ≠ "java/lang/invoke/VarHandle" ∧ (parseMethodDescriptor yX1_obstacle.desc).map (fun d => d.parameters.length) = some 4 := by decide +kernel
theorem dn_X1_wouldCircle : yX1_wouldCircle.cls = RX1 ∧ yX1_wouldCircle.cls ≠ "java/lang/invoke/MethodHandle" ∧ yX1_wouldCircle.cls ≠ "java/lang/invoke/VarHandle" ∧ (parseMethodDescriptor yX1_wouldCircle.desc).map (fun d => d.parameters.length) = some 4 := by decide +kernel
theorem dn_X1_waiting : yX1_waiting.cls = RX1 ∧ yX1_waiting.cls ≠ "java/lang/invoke/MethodHandle" ∧ yX1_waiting.cls ≠ "java/lang/invoke/VarHandle" ∧ (parseMethodDescriptor yX1_waiting.desc).map (fun d => d.parameters.length) = some 1 := by decide +kernel
theorem dn_X1_waitsFor : yX1_waitsFor.cls = RX1 ∧ yX1_waitsFor.cls ≠ "java/lang/invoke/MethodHandle" ∧ yX1_waitsFor.cls ≠ "java/lang/invoke/VarHandle" ∧ (parseMethodDescriptor yX1_waitsFor.desc).map (fun d => d.parameters.length) = some 1 := by decide +kernel
theorem dn_X1_ahead : yX1_ahead.cls = RX1 ∧ yX1_ahead.cls ≠ "java/lang/invoke/MethodHandle" ∧ yX1_ahead.cls ≠ "java/lang/invoke/VarHandle" ∧ (parseMethodDescriptor yX1_ahead.desc).map (fun d => d.parameters.length) = some 1 := by decide +kernel
theorem dn_X1_pieces : yX1_pieces.cls = RX1 ∧ yX1_pieces.cls ≠ "java/lang/invoke/MethodHandle" ∧ yX1_pieces.cls ≠ "java/lang/invoke/VarHandle" ∧ (parseMethodDescriptor yX1_pieces.desc).map (fun d => d.parameters.length) = some 1 := by decide +kernel
theorem dn_X1_begins : yX1_begins.cls = RX1 ∧ yX1_begins.cls ≠ "java/lang/invoke/MethodHandle" ∧ yX1_begins.cls ≠ "java/lang/invoke/VarHandle" ∧ (parseMethodDescriptor yX1_begins.desc).map (fun d => d.parameters.length) = some 2 := by decide +kernel
theorem dn_X1_pieceStart : yX1_pieceStart.cls = RX1 ∧ yX1_pieceStart.cls ≠ "java/lang/invoke/MethodHandle" ∧ yX1_pieceStart.cls ≠ "java/lang/invoke/VarHandle" ∧ (parseMethodDescriptor yX1_pieceStart.desc).map (fun d => d.parameters.length) = some 2 := by decide +kernel
theorem dn_X1_startOf : yX1_startOf.cls = RX1 ∧ yX1_startOf.cls ≠ "java/lang/invoke/MethodHandle" ∧ yX1_startOf.cls ≠ "java/lang/invoke/VarHandle" ∧ (parseMethodDescriptor yX1_startOf.desc).map (fun d => d.parameters.length) = some 2 := by decide +kernel
theorem dn_X1_pieceEnd : yX1_pieceEnd.cls = RX1 ∧ yX1_pieceEnd.cls ≠ "java/lang/invoke/MethodHandle" ∧ yX1_pieceEnd.cls ≠ "java/lang/invoke/VarHandle" ∧ (parseMethodDescriptor yX1_pieceEnd.desc).map (fun d => d.parameters.length) = some 2 := by decide +kernel
theorem dn_X1_pieceType : yX1_pieceType.cls = RX1 ∧ yX1_pieceType.cls ≠ "java/lang/invoke/MethodHandle" ∧ yX1_pieceType.cls ≠ "java/lang/invoke/VarHandle" ∧ (parseMethodDescriptor yX1_pieceType.desc).map (fun d => d.parameters.length) = some 2 := by decide +kernel
theorem dn_X1_count : yX1_count.cls = RX1 ∧ yX1_count.cls ≠ "java/lang/invoke/MethodHandle" ∧ yX1_count.cls ≠ "java/lang/invoke/VarHandle" ∧ (parseMethodDescriptor yX1_count.desc).map (fun d => d.parameters.length) = some 2 := by decide +kernel
theorem dn_X1_free : yX1_free.cls = RX1 ∧ yX1_free.cls ≠ "java/lang/invoke/MethodHandle" ∧ yX1_free.cls ≠ "java/lang/invoke/VarHandle" ∧ (parseMethodDescriptor yX1_free.desc).map (fun d => d.parameters.length) = some 0 := by decide +kernel
theorem cv_X0_X0_refused : GoodIn lw_all (wsV RX0 42 RX0 yX0_refused (ws_ yX0_refused cX0_refused 6 (some .int))) := lw_V q79 q81 qs0 q29 q82
theorem cv_X0_X0_isOwner : GoodIn lw_all (va_wsS RX0 65 yX0_isOwner (ws_ yX0_isOwner cX0_isOwner 1 (some .boolean))) := lw_S q83 q84 q29 q85
theorem cv_X0_X0_isRange : GoodIn lw_all (va_wsS RX0 78 yX0_isRange (ws_ yX0_isRange cX0_isRange 2 (some .boolean))) := lw_S q86 q87 q29 q88
theorem cv_X0_X0_rivals : GoodIn lw_all (wsV RX0 46 RX0 yX0_rivals (ws_ yX0_rivals cX0_rivals 7 (some .int))) := lw_V q89 q91 qs1 q29 q92
theorem cv_X0_X0_stands : GoodIn lw_all (wsV RX0 81 RX0 yX0_stands (ws_ yX0_stands cX0_stands 7 (some .boolean))) := lw_V q93 q95 qs2 q29 q96
theorem cv_X0_X0_paint : GoodIn lw_all (wsV RX0 50 RX0 yX0_paint (ws_ yX0_paint cX0_paint 7 none)) := lw_V q97 q99 qs3 q29 q100
theorem cv_X0_X0_cutOut : GoodIn lw_all (wsV RX0 95 RX0 yX0_cutOut (ws_ yX0_cutOut cX0_cutOut 6 none)) := lw_V q101 q103 qs4 q29 q104
theorem cv_X0_X0_begin : GoodIn lw_all (wsV RX0 89 RX0 yX0_begin (ws_ yX0_begin cX0_begin 6 (some .int))) := lw_V q105 q107 qs5 q29 q108
theorem cv_X0_X0_open : GoodIn lw_all (wsV RX0 99 RX0 yX0_open (ws_ yX0_open cX0_open 3 none)) := lw_V q109 q111 qs6 q29 q112
theorem cv_X0_X0_copyPiece : GoodIn lw_all (wsV RX0 109 RX0 yX0_copyPiece (ws_ yX0_copyPiece cX0_copyPiece 3 none)) := lw_V q113 q115 qs7 q29 q116
theorem cv_X0_X0_shut : GoodIn lw_all (wsV RX0 106 RX0 yX0_shut (ws_ yX0_shut cX0_shut 3 none)) := lw_V q117 q119 qs8 q29 q120
theorem cv_X0_X0_joinNext : GoodIn lw_all (wsV RX0 103 RX0 yX0_joinNext (ws_ yX0_joinNext cX0_joinNext 2 none)) := lw_V q121 q123 qs9 q29 q124
theorem cv_X0_X0_settle : GoodIn lw_all (wsV RX0 54 RX0 yX0_settle (ws_ yX0_settle cX0_settle 5 (some .int))) := lw_V q125 q127 qs10 q29 q128
theorem cv_X0_X0_blockers : GoodIn lw_all (wsV RX0 85 RX0 yX0_blockers (ws_ yX0_blockers cX0_blockers 2 (some .int))) := lw_V q129 q131 qs11 q29 q132
theorem cv_X0_X0_leadsTo : GoodIn lw_all (wsV RX0 58 RX0 yX0_leadsTo (ws_ yX0_leadsTo cX0_leadsTo 6 (some .boolean))) := lw_V q137 q139 qs12 q29 q140
theorem cv_X0_X0_count : GoodIn lw_all (wsV RX0 69 RX0 yX0_count (ws_ yX0_count cX0_count 8 (some .int))) := lw_V q149 q150 q151 q29 q152
theorem cv_X0_X0_isByte : GoodIn lw_all (va_wsS RX0 72 yX0_isByte (ws_ yX0_isByte cX0_isByte 1 (some .boolean))) := lw_S q157 q158 q29 q159
theorem cv_X0_X0_pieceAt : GoodIn lw_all (wsV RX0 75 RX0 yX0_pieceAt (ws_ yX0_pieceAt cX0_pieceAt 5 (some .int))) := lw_V q160 q162 qs13 q29 q163
theorem cv_X0_X0_find : GoodIn lw_all (wsV RX0 92 RX0 yX0_find (ws_ yX0_find cX0_find 5 (some .int))) := lw_V q196 q198 qs14 q29 q199
theorem cv_X1_X1_bad : GoodIn lw_all (wsV RX1 52 RX1 yX1_bad (ws_ yX1_bad cX1_bad 2 (some .boolean))) := lw_V q245 q247 qs15 q30 q248
theorem cv_X1_X1_badRange : GoodIn lw_all (wsV RX1 56 RX1 yX1_badRange (ws_ yX1_badRange cX1_badRange 3 (some .boolean))) := lw_V q249 q251 qs16 q30 q252
theorem cv_X1_X1_placeOf : GoodIn lw_all (wsV RX1 59 RX1 yX1_placeOf (ws_ yX1_placeOf cX1_placeOf 3 (some .int))) := lw_V q253 q255 qs17 q30 q256
theorem cv_X1_X1_against : GoodIn lw_all (wsV RX1 36 RX1 yX1_against (ws_ yX1_against cX1_against 8 (some .int))) := lw_V q257 q259 qs18 q30 q260
theorem cv_X1_X1_clash : GoodIn lw_all (wsV RX1 32 RX1 yX1_clash (ws_ yX1_clash cX1_clash 3 (some .boolean))) := lw_V q261 q263 qs19 q30 q264
theorem cv_X1_X1_grant : GoodIn lw_all (wsV RX1 44 RX1 yX1_grant (ws_ yX1_grant cX1_grant 6 none)) := lw_V q265 q267 qs20 q30 q268
theorem cv_X1_X1_settle : GoodIn lw_all (wsV RX1 63 RX1 yX1_settle (ws_ yX1_settle cX1_settle 4 (some .int))) := lw_V q269 q271 qs21 q30 q272
theorem cv_X1_X1_ready : GoodIn lw_all (wsV RX1 40 RX1 yX1_ready (ws_ yX1_ready cX1_ready 2 (some .int))) := lw_V q273 q275 qs22 q30 q276
theorem cv_X1_X1_leave : GoodIn lw_all (wsV RX1 48 RX1 yX1_leave (ws_ yX1_leave cX1_leave 3 none)) := lw_V q277 q279 qs23 q30 q280
theorem cv_X1_X1_circles : GoodIn lw_all (wsV RX1 66 RX1 yX1_circles (ws_ yX1_circles cX1_circles 7 (some .boolean))) := lw_V q285 q287 qs24 q30 q288
theorem cv_X1_X1_badByte : GoodIn lw_all (wsV RX1 69 RX1 yX1_badByte (ws_ yX1_badByte cX1_badByte 2 (some .boolean))) := lw_V q301 q303 qs25 q30 q304
theorem cv_X1_X1_begins : GoodIn lw_all (wsV RX1 72 RX1 yX1_begins (ws_ yX1_begins cX1_begins 3 (some .boolean))) := lw_V q333 q335 qs26 q30 q336
theorem cv_X1_X1_startOf : GoodIn lw_all (wsV RX1 75 RX1 yX1_startOf (ws_ yX1_startOf cX1_startOf 5 (some .int))) := lw_V q341 q343 qs27 q30 q344
theorem cv_X1_X1_holders : GoodIn lw_all (wsV RX1 79 RX1 yX1_holders (ws_ yX1_holders cX1_holders 4 (some .int))) := lw_V q361 q306 q307 q30 q308
theorem cv_L_X0_lock : GoodIn lw_all (wsV "RecordLocksLaw" 13 RX0 yX0_lock (ws_ yX0_lock cX0_lock 7 (some .int))) := lw_V q75 q76 q77 q29 q78
theorem cv_L_X0_await : GoodIn lw_all (wsV "RecordLocksLaw" 18 RX0 yX0_await (ws_ yX0_await cX0_await 8 (some .int))) := lw_V q133 q134 q135 q29 q136
theorem cv_L_X0_cancel : GoodIn lw_all (wsV "RecordLocksLaw" 22 RX0 yX0_cancel (ws_ yX0_cancel cX0_cancel 2 (some .int))) := lw_V q141 q142 q143 q29 q144
theorem cv_L_X0_close : GoodIn lw_all (wsV "RecordLocksLaw" 27 RX0 yX0_close (ws_ yX0_close cX0_close 3 (some .int))) := lw_V q145 q146 q147 q29 q148
theorem cv_L_X0_lockAt : GoodIn lw_all (wsV "RecordLocksLaw" 31 RX0 yX0_lockAt (ws_ yX0_lockAt cX0_lockAt 4 (some .int))) := lw_V q153 q154 q155 q29 q156
theorem cv_L_X0_holders : GoodIn lw_all (wsV "RecordLocksLaw" 36 RX0 yX0_holders (ws_ yX0_holders cX0_holders 4 (some .int))) := lw_V q164 q165 q166 q29 q167
theorem cv_L_X0_obstacle : GoodIn lw_all (wsV "RecordLocksLaw" 40 RX0 yX0_obstacle (ws_ yX0_obstacle cX0_obstacle 8 (some .int))) := lw_V q168 q169 q170 q29 q171
theorem cv_L_X0_wouldCircle : GoodIn lw_all (wsV "RecordLocksLaw" 44 RX0 yX0_wouldCircle (ws_ yX0_wouldCircle cX0_wouldCircle 7 (some .int))) := lw_V q172 q173 q174 q29 q175
theorem cv_L_X0_waiting : GoodIn lw_all (wsV "RecordLocksLaw" 48 RX0 yX0_waiting (ws_ yX0_waiting cX0_waiting 2 (some .int))) := lw_V q176 q177 q178 q29 q179
theorem cv_L_X0_waitsFor : GoodIn lw_all (wsV "RecordLocksLaw" 52 RX0 yX0_waitsFor (ws_ yX0_waitsFor cX0_waitsFor 2 (some .int))) := lw_V q180 q181 q182 q29 q183
theorem cv_L_X0_ahead : GoodIn lw_all (wsV "RecordLocksLaw" 56 RX0 yX0_ahead (ws_ yX0_ahead cX0_ahead 4 (some .int))) := lw_V q184 q185 q186 q29 q187
theorem cv_L_X0_pieces : GoodIn lw_all (wsV "RecordLocksLaw" 60 RX0 yX0_pieces (ws_ yX0_pieces cX0_pieces 2 (some .int))) := lw_V q188 q189 q190 q29 q191
theorem cv_L_X0_pieceStart : GoodIn lw_all (wsV "RecordLocksLaw" 64 RX0 yX0_pieceStart (ws_ yX0_pieceStart cX0_pieceStart 4 (some .int))) := lw_V q192 q193 q194 q29 q195
theorem cv_L_X0_pieceEnd : GoodIn lw_all (wsV "RecordLocksLaw" 68 RX0 yX0_pieceEnd (ws_ yX0_pieceEnd cX0_pieceEnd 4 (some .int))) := lw_V q200 q201 q202 q29 q203
theorem cv_L_X0_pieceType : GoodIn lw_all (wsV "RecordLocksLaw" 72 RX0 yX0_pieceType (ws_ yX0_pieceType cX0_pieceType 4 (some .int))) := lw_V q204 q205 q206 q29 q207
theorem cv_L_X0_count : GoodIn lw_all (wsV "RecordLocksLaw" 76 RX0 yX0_count (ws_ yX0_count cX0_count 8 (some .int))) := lw_V q208 q150 q151 q29 q152
theorem cv_L_X0_free : GoodIn lw_all (wsV "RecordLocksLaw" 80 RX0 yX0_free (ws_ yX0_free cX0_free 5 (some .int))) := lw_V q209 q210 q211 q29 q212
theorem cv_L_X1_lock : GoodIn lw_all (wsV "RecordLocksLaw" 17 RX1 yX1_lock (ws_ yX1_lock cX1_lock 5 (some .int))) := lw_V q241 q242 q243 q30 q244
theorem cv_L_X1_await : GoodIn lw_all (wsV "RecordLocksLaw" 21 RX1 yX1_await (ws_ yX1_await cX1_await 7 (some .int))) := lw_V q281 q282 q283 q30 q284
theorem cv_L_X1_cancel : GoodIn lw_all (wsV "RecordLocksLaw" 26 RX1 yX1_cancel (ws_ yX1_cancel cX1_cancel 3 (some .int))) := lw_V q289 q290 q291 q30 q292
theorem cv_L_X1_close : GoodIn lw_all (wsV "RecordLocksLaw" 30 RX1 yX1_close (ws_ yX1_close cX1_close 4 (some .int))) := lw_V q293 q294 q295 q30 q296
theorem cv_L_X1_lockAt : GoodIn lw_all (wsV "RecordLocksLaw" 35 RX1 yX1_lockAt (ws_ yX1_lockAt cX1_lockAt 3 (some .int))) := lw_V q297 q298 q299 q30 q300
theorem cv_L_X1_holders : GoodIn lw_all (wsV "RecordLocksLaw" 39 RX1 yX1_holders (ws_ yX1_holders cX1_holders 4 (some .int))) := lw_V q305 q306 q307 q30 q308
theorem cv_L_X1_obstacle : GoodIn lw_all (wsV "RecordLocksLaw" 43 RX1 yX1_obstacle (ws_ yX1_obstacle cX1_obstacle 6 (some .int))) := lw_V q309 q310 q311 q30 q312
theorem cv_L_X1_wouldCircle : GoodIn lw_all (wsV "RecordLocksLaw" 47 RX1 yX1_wouldCircle (ws_ yX1_wouldCircle cX1_wouldCircle 6 (some .int))) := lw_V q313 q314 q315 q30 q316
theorem cv_L_X1_waiting : GoodIn lw_all (wsV "RecordLocksLaw" 51 RX1 yX1_waiting (ws_ yX1_waiting cX1_waiting 2 (some .int))) := lw_V q317 q318 q319 q30 q320
theorem cv_L_X1_waitsFor : GoodIn lw_all (wsV "RecordLocksLaw" 55 RX1 yX1_waitsFor (ws_ yX1_waitsFor cX1_waitsFor 3 (some .int))) := lw_V q321 q322 q323 q30 q324
theorem cv_L_X1_ahead : GoodIn lw_all (wsV "RecordLocksLaw" 59 RX1 yX1_ahead (ws_ yX1_ahead cX1_ahead 3 (some .int))) := lw_V q325 q326 q327 q30 q328
theorem cv_L_X1_pieces : GoodIn lw_all (wsV "RecordLocksLaw" 63 RX1 yX1_pieces (ws_ yX1_pieces cX1_pieces 4 (some .int))) := lw_V q329 q330 q331 q30 q332
theorem cv_L_X1_pieceStart : GoodIn lw_all (wsV "RecordLocksLaw" 67 RX1 yX1_pieceStart (ws_ yX1_pieceStart cX1_pieceStart 3 (some .int))) := lw_V q337 q338 q339 q30 q340
theorem cv_L_X1_pieceEnd : GoodIn lw_all (wsV "RecordLocksLaw" 71 RX1 yX1_pieceEnd (ws_ yX1_pieceEnd cX1_pieceEnd 4 (some .int))) := lw_V q345 q346 q347 q30 q348
theorem cv_L_X1_pieceType : GoodIn lw_all (wsV "RecordLocksLaw" 75 RX1 yX1_pieceType (ws_ yX1_pieceType cX1_pieceType 4 (some .int))) := lw_V q349 q350 q351 q30 q352
theorem cv_L_X1_count : GoodIn lw_all (wsV "RecordLocksLaw" 79 RX1 yX1_count (ws_ yX1_count cX1_count 5 (some .int))) := lw_V q353 q354 q355 q30 q356
theorem cv_L_X1_free : GoodIn lw_all (wsV "RecordLocksLaw" 84 RX1 yX1_free (ws_ yX1_free cX1_free 3 (some .int))) := lw_V q357 q358 q359 q30 q360
end
section
/-! bits: masks of five owners; rows for shifts, or, and -/
set_option maxRecDepth 100000
theorem bb_sl : ∀ n, n < 32 → ((nI n &&& 31).toBitVec.smod 32).toNat = n := by decide +kernel
theorem bb_or (a b : Nat) : nI a ||| nI b = nI (a ||| b) := by
  apply Int32.toBitVec_inj.1
  show BitVec.ofNat 32 a ||| BitVec.ofNat 32 b = BitVec.ofNat 32 (a ||| b)
  apply BitVec.eq_of_getLsbD_eq
  intro i hi
  simp [hi]
theorem bb_shl {p : Nat} (h : p < 31) : nI 1 <<< (nI p &&& 31) = nI (2 ^ p) := by
  have h2 : 2 ^ p < 2 ^ 31 := Nat.pow_lt_pow_right (by decide) h
  have := pk_shlN (n := 1) (nI p &&& 31) p (bb_sl p (by omega)) (by omega)
  rw [Nat.one_mul] at this
  exact this
theorem bb_shr {a p : Nat} (ha : a < 2 ^ 31) (h : p < 31) : nI a >>> (nI p &&& 31) = nI (a / 2 ^ p) := pk_shrN ha _ p (bb_sl p (by omega))
theorem bb_and1 {a : Nat} (ha : a < 2 ^ 31) : nI a &&& nI 1 = nI (a % 2) := pk_andN (k := 1) (by omega) rfl
section
variable {S : Type} {g : Gx} {R : Room} {cc : ByteArray} {own : String} {nL : Nat} {ty : List (ClassId × FieldType)} {w : S → va_W} {Ri : Int32 → S → Prop} {Rv : S → Prop} {u : S} {pc : Nat} {lv : List (Option Value)} {st : List Value}
theorem ro_ior {a b : Nat} (hd : decode cc pc = .ok (.ior, 1)) (k : G g R cc own nL ty w Ri Rv u (pc + 1) lv (.int (nI (a ||| b)) :: st)) : G g R cc own nL ty w Ri Rv u pc lv (.int (nI b) :: .int (nI a) :: st) := ro_iorR hd (ro_top (bb_or a b) k)
theorem ro_ishl1 {p : Nat} (hd : decode cc pc = .ok (.ishl, 1)) (h : p < 31) (k : G g R cc own nL ty w Ri Rv u (pc + 1) lv (.int (nI (2 ^ p)) :: st)) : G g R cc own nL ty w Ri Rv u pc lv (.int (nI p) :: .int (nI 1) :: st) := ro_ishlR hd (ro_top (bb_shl h) k)
theorem ro_ishr {a p : Nat} (hd : decode cc pc = .ok (.ishr, 1)) (ha : a < 2 ^ 31) (h : p < 31) (k : G g R cc own nL ty w Ri Rv u (pc + 1) lv (.int (nI (a / 2 ^ p)) :: st)) : G g R cc own nL ty w Ri Rv u pc lv (.int (nI p) :: .int (nI a) :: st) := ro_ishrR hd (ro_top (bb_shr ha h) k)
theorem ro_iand1 {a : Nat} (hd : decode cc pc = .ok (.iand, 1)) (ha : a < 2 ^ 31) (k : G g R cc own nL ty w Ri Rv u (pc + 1) lv (.int (nI (a % 2)) :: st)) : G g R cc own nL ty w Ri Rv u pc lv (.int (nI 1) :: .int (nI a) :: st) := ro_iandR hd (ro_top (bb_and1 ha) k)
theorem ro_idec {i a : Nat} {lv1 : List (Option Value)} (hd : decode cc pc = .ok (.iinc i (-1), 3)) (hl : lv[i]? = some (some (.int (nI a)))) (h0 : 0 < a) (hi : Nat.blt i nL = true) (hok : lv_okb lv i = true) (h1 : lv.set i (some (.int (nI (a - 1)))) = lv1) (k : G g R cc own nL ty w Ri Rv u (pc + 3) lv1 st) : G g R cc own nL ty w Ri Rv u pc lv st := ro_iincR hd hl (sb_m1 h0) hi hok h1 k
theorem ro_iincN {i a j : Nat} {n : Int} {lv1 : List (Option Value)} (hd : decode cc pc = .ok (.iinc i n, 3)) (hl : lv[i]? = some (some (.int (nI a)))) (hn : Int32.ofInt n = nI j) (hi : Nat.blt i nL = true) (hok : lv_okb lv i = true) (h1 : lv.set i (some (.int (nI (a + j)))) = lv1) (k : G g R cc own nL ty w Ri Rv u (pc + 3) lv1 st) : G g R cc own nL ty w Ri Rv u pc lv st := ro_iincR hd hl (by rw [hn, nI_add]) hi hok h1 k
end
/-- a truth as an answer -/
def bI (P : Prop) (r : Int32) : Prop := (P ∧ r = nI 1) ∨ (¬ P ∧ r = nI 0)
theorem bI01 {P : Prop} {r : Int32} (h : bI P r) : r = 0 ∨ r = 1 := by
  rcases h with ⟨_, h⟩ | ⟨_, h⟩
  · exact Or.inr h
  · exact Or.inl h
theorem bI_t {P : Prop} (h : P) : bI P (nI 1) := Or.inl ⟨h, rfl⟩
theorem bI_f {P : Prop} (h : ¬ P) : bI P (nI 0) := Or.inr ⟨h, rfl⟩
/-- a bit of a number -/
def bit (m p : Nat) : Prop := m / 2 ^ p % 2 = 1
theorem bit_tb {m p : Nat} : bit m p ↔ m.testBit p = true := by
  rw [Nat.testBit_eq_decide_div_mod_eq, decide_eq_true_iff]
  exact Iff.rfl
theorem bit_or {a b p : Nat} : bit (a ||| b) p ↔ bit a p ∨ bit b p := by
  rw [bit_tb, bit_tb, bit_tb, Nat.testBit_or, Bool.or_eq_true]
theorem bit_pow {a p : Nat} : bit (2 ^ a) p ↔ p = a := by
  rw [bit_tb, Nat.testBit_two_pow, decide_eq_true_iff]
  exact ⟨fun h => h.symm, fun h => h.symm⟩
theorem bit_0 {p : Nat} : ¬ bit 0 p := by
  unfold bit
  simp
theorem bit_lt {m p k : Nat} (h : m < 2 ^ k) (hp : k ≤ p) : ¬ bit m p := by
  rw [bit_tb, Nat.testBit_lt_two_pow (Nat.lt_of_lt_of_le h (Nat.pow_le_pow_right (by decide) hp))]
  simp
theorem bit_ext {a b : Nat} (h : ∀ p, bit a p ↔ bit b p) : a = b := by
  apply Nat.eq_of_testBit_eq
  intro i
  have h1 := h i
  rw [bit_tb, bit_tb] at h1
  cases ha : a.testBit i <;> cases hb : b.testBit i <;> simp_all
theorem or_lt {a b k : Nat} (ha : a < 2 ^ k) (hb : b < 2 ^ k) : a ||| b < 2 ^ k := Nat.or_lt_two_pow ha hb
/-- the mask of five truths -/
noncomputable def b01 (P : Prop) : Nat := @ite Nat P (Classical.propDecidable P) 1 0
theorem b01_t {P : Prop} (h : P) : b01 P = 1 := by unfold b01; simp [h]
theorem b01_f {P : Prop} (h : ¬ P) : b01 P = 0 := by unfold b01; simp [h]
theorem b01_le (P : Prop) : b01 P ≤ 1 := by
  by_cases h : P
  · rw [b01_t h]; omega
  · rw [b01_f h]; omega
theorem b01_iff (P : Prop) : b01 P = 1 ↔ P := by
  by_cases h : P
  · rw [b01_t h]; simp [h]
  · rw [b01_f h]; simp [h]
theorem b01_congr {P Q : Prop} (h : P ↔ Q) : b01 P = b01 Q := by rw [show P = Q from propext h]
noncomputable def mk5 (P : Nat → Prop) : Nat := b01 (P 0) + 2 * b01 (P 1) + 4 * b01 (P 2) + 8 * b01 (P 3) + 16 * b01 (P 4)
theorem mk5_lt (P : Nat → Prop) : mk5 P < 32 := by
  have h0 := b01_le (P 0)
  have h1 := b01_le (P 1)
  have h2 := b01_le (P 2)
  have h3 := b01_le (P 3)
  have h4 := b01_le (P 4)
  unfold mk5
  omega
theorem mk5_bit (P : Nat → Prop) {p : Nat} (hp : p < 5) : bit (mk5 P) p ↔ P p := by
  have h0 := b01_le (P 0)
  have h1 := b01_le (P 1)
  have h2 := b01_le (P 2)
  have h3 := b01_le (P 3)
  have h4 := b01_le (P 4)
  rw [← b01_iff (P p)]
  unfold bit mk5
  rcases (show p = 0 ∨ p = 1 ∨ p = 2 ∨ p = 3 ∨ p = 4 by omega) with e | e | e | e | e <;> subst e <;> simp only [Nat.reducePow] <;> omega
theorem mk5_bit' (P : Nat → Prop) {p : Nat} : bit (mk5 P) p ↔ p < 5 ∧ P p := by
  by_cases hp : p < 5
  · rw [mk5_bit P hp]; exact ⟨fun h => ⟨hp, h⟩, fun h => h.2⟩
  · exact ⟨fun h => absurd h (bit_lt (k := 5) (mk5_lt P) (by omega)), fun h => absurd h.1 hp⟩
theorem mk5_eq {P : Nat → Prop} {m : Nat} (hm : m < 32) (h : ∀ p, p < 5 → (bit m p ↔ P p)) : m = mk5 P := by
  apply bit_ext
  intro p
  by_cases hp : p < 5
  · rw [h p hp, mk5_bit P hp]
  · exact ⟨fun h => absurd h (bit_lt (k := 5) hm (by omega)), fun h => absurd h (bit_lt (k := 5) (mk5_lt P) (by omega))⟩
theorem mk5_congr {P Q : Nat → Prop} (h : ∀ p, p < 5 → (P p ↔ Q p)) : mk5 P = mk5 Q := mk5_eq (mk5_lt P) (fun p hp => by rw [mk5_bit P hp]; exact h p hp)
theorem mk5_0 {P : Nat → Prop} : mk5 P = 0 ↔ ∀ p, p < 5 → ¬ P p := by
  constructor
  · intro h p hp hP
    rw [← mk5_bit P hp, h] at hP
    exact bit_0 hP
  · intro h
    exact (mk5_eq (P := P) (m := 0) (by omega) (fun p hp => ⟨fun z => absurd z bit_0, fun z => absurd z (h p hp)⟩)).symm
end
section
/-! more rows -/
section
variable {S : Type} {g : Gx} {R : Room} {cc : ByteArray} {own : String} {nL : Nat} {ty : List (ClassId × FieldType)} {w : S → va_W} {Ri : Int32 → S → Prop} {Rv : S → Prop} {u : S} {pc : Nat} {lv : List (Option Value)} {st : List Value}
theorem ro_if_le {a : Nat} {off : Int} (tgt : Nat) (hd : decode cc pc = .ok (.ifCond .le off, 3)) (ht : (pc : Int) + off = (tgt : Int)) (h1 : a < 2 ^ 31) (kt : a = 0 → G g R cc own nL ty w Ri Rv u tgt lv st) (kf : 0 < a → G g R cc own nL ty w Ri Rv u (pc + 3) lv st) : G g R cc own nL ty w Ri Rv u pc lv (.int (nI a) :: st) := by
  refine ro_if_leR tgt hd ht (fun h => kt ?_) (fun h => kf ?_)
  · rcases Nat.eq_zero_or_pos a with e | e
    · exact e
    · exact absurd h (nI_nle e h1)
  · rcases Nat.eq_zero_or_pos a with e | e
    · exact absurd (by rw [e]; exact (by decide : nI 0 ≤ 0)) h
    · exact e
end
/-- an int is one of n numbers from 0 on, or not -/
theorem own_of {x : Int32} {n : Nat} (hn : n < 2 ^ 31) (h0 : ¬ x < 0) (h1 : ¬ nI n ≤ x) : ∃ j : Nat, j < n ∧ x = nI j := by
  rcases pk_ix x hn with h | h | h
  · exact absurd h h0
  · exact absurd h h1
  · exact h
end
section
/-! PURE: the list of pieces (owner O, first F, last L, type T, n of them): sorted and apart (SD), neighbours of one owner don't touch with one type (MG), which bytes they hold (has) -/
def shR (A : Fn) (a n : Nat) : Fn := fun j => if a < j ∧ j ≤ n then A (j - 1) else A j
theorem shR_n (A : Fn) (n : Nat) : shR A n n = A := by
  funext j
  unfold shR
  rw [if_neg (by omega)]
theorem shR_s (A : Fn) (k n : Nat) (h : k + 1 ≤ n) : up (shR A (k + 1) n) (k + 1) (shR A (k + 1) n k) = shR A k n := by
  funext j
  unfold up shR
  by_cases h1 : j = k + 1
  · subst h1
    rw [if_pos rfl, if_neg (by omega), if_pos (by omega)]
    rfl
  · rw [if_neg h1]
    by_cases h2 : k + 1 < j ∧ j ≤ n
    · rw [if_pos h2, if_pos (by omega)]
    · rw [if_neg h2, if_neg (by omega)]
def shL (A : Fn) (a k : Nat) : Fn := fun j => if a ≤ j ∧ j + 1 < k then A (j + 1) else A j
theorem shL_0 (A : Fn) (a : Nat) : shL A a (a + 1) = A := by
  funext j
  unfold shL
  rw [if_neg (by omega)]
theorem shL_s (A : Fn) (a k : Nat) (h : a < k) : up (shL A a k) (k - 1) (shL A a k k) = shL A a (k + 1) := by
  funext j
  unfold up shL
  by_cases h1 : j = k - 1
  · subst h1
    rw [if_pos rfl, if_neg (by omega), if_pos (by omega), show k - 1 + 1 = k by omega]
  · rw [if_neg h1]
    by_cases h2 : a ≤ j ∧ j + 1 < k
    · rw [if_pos h2, if_pos (by omega)]
    · rw [if_neg h2, if_neg (by omega)]
theorem shL_lo {A : Fn} {a n j : Nat} (h : j < a) : shL A a n j = A j := by unfold shL; rw [if_neg (by omega)]
theorem shL_hi {A : Fn} {a n j : Nat} (h : a ≤ j) (h2 : j + 1 < n) : shL A a n j = A (j + 1) := by unfold shL; rw [if_pos ⟨h, h2⟩]
theorem shR_lo {A : Fn} {a n j : Nat} (h : j ≤ a) : shR A a n j = A j := by unfold shR; rw [if_neg (by omega)]
theorem shR_hi {A : Fn} {a n j : Nat} (h : a ≤ j) (h2 : j < n) : shR A a n (j + 1) = A j := by unfold shR; rw [if_pos (by omega)]; rfl
theorem shL_any {A : Fn} {a n : Nat} {Q : Nat → Prop} (h : ∀ j, Q (A j)) (j : Nat) : Q (shL A a n j) := by
  unfold shL
  split
  · exact h _
  · exact h _
theorem shR_any {A : Fn} {a n : Nat} {Q : Nat → Prop} (h : ∀ j, Q (A j)) (j : Nat) : Q (shR A a n j) := by
  unfold shR
  split
  · exact h _
  · exact h _
theorem up_any {A : Fn} {k x : Nat} {Q : Nat → Prop} (h : ∀ j, Q (A j)) (hx : Q x) (j : Nat) : Q (up A k x j) := by
  unfold up
  split
  · exact hx
  · exact h _
/-- all cells are small -/
def Bp (O F L T : Fn) : Prop := (∀ j, O j ≤ 4) ∧ (∀ j, F j ≤ 39) ∧ (∀ j, L j ≤ 39) ∧ ∀ j, T j ≤ 2
theorem Bp.shL {O F L T : Fn} {a n : Nat} (h : Bp O F L T) : Bp (shL O a n) (shL F a n) (shL L a n) (shL T a n) := ⟨fun j => shL_any (Q := fun z => z ≤ 4) h.1 j, fun j => shL_any (Q := fun z => z ≤ 39) h.2.1 j, fun j => shL_any (Q := fun z => z ≤ 39) h.2.2.1 j, fun j => shL_any (Q := fun z => z ≤ 2) h.2.2.2 j⟩
theorem Bp.shR {O F L T : Fn} {a n : Nat} (h : Bp O F L T) : Bp (shR O a n) (shR F a n) (shR L a n) (shR T a n) := ⟨fun j => shR_any (Q := fun z => z ≤ 4) h.1 j, fun j => shR_any (Q := fun z => z ≤ 39) h.2.1 j, fun j => shR_any (Q := fun z => z ≤ 39) h.2.2.1 j, fun j => shR_any (Q := fun z => z ≤ 2) h.2.2.2 j⟩
theorem Bp.upO {O F L T : Fn} {k x : Nat} (h : Bp O F L T) (hx : x ≤ 4) : Bp (up O k x) F L T := ⟨fun j => up_any (Q := fun z => z ≤ 4) h.1 hx j, h.2⟩
theorem Bp.upF {O F L T : Fn} {k x : Nat} (h : Bp O F L T) (hx : x ≤ 39) : Bp O (up F k x) L T := ⟨h.1, fun j => up_any (Q := fun z => z ≤ 39) h.2.1 hx j, h.2.2⟩
theorem Bp.upL {O F L T : Fn} {k x : Nat} (h : Bp O F L T) (hx : x ≤ 39) : Bp O F (up L k x) T := ⟨h.1, h.2.1, fun j => up_any (Q := fun z => z ≤ 39) h.2.2.1 hx j, h.2.2.2⟩
theorem Bp.upT {O F L T : Fn} {k x : Nat} (h : Bp O F L T) (hx : x ≤ 2) : Bp O F L (up T k x) := ⟨h.1, h.2.1, h.2.2.1, fun j => up_any (Q := fun z => z ≤ 2) h.2.2.2 hx j⟩
def SD (O F L T : Fn) (n : Nat) : Prop := (∀ k, k < n → F k ≤ L k ∧ L k ≤ 39 ∧ O k ≤ 4 ∧ 1 ≤ T k ∧ T k ≤ 2) ∧ ∀ k, k + 1 < n → O k < O (k + 1) ∨ (O k = O (k + 1) ∧ L k < F (k + 1))
def MGe (E : Nat → Prop) (O F L T : Fn) (n : Nat) : Prop := ∀ k, k + 1 < n → ¬ E k → O k = O (k + 1) → L k + 1 = F (k + 1) → T k ≠ T (k + 1)
abbrev MG (O F L T : Fn) (n : Nat) : Prop := MGe (fun _ => False) O F L T n
def has (O F L T : Fn) (n o b v : Nat) : Prop := ∃ k, k < n ∧ O k = o ∧ F k ≤ b ∧ b ≤ L k ∧ T k = v
theorem SD_ltd {O F L T : Fn} {n : Nat} (h : SD O F L T n) (i : Nat) : ∀ d, i + d + 1 < n → O i < O (i + d + 1) ∨ (O i = O (i + d + 1) ∧ L i < F (i + d + 1)) := by
  intro d
  induction d with
  | zero => exact h.2 i
  | succ d ih =>
    intro hd
    have h1 := ih (by omega)
    have h2 := h.2 (i + d + 1) (by omega)
    have h3 := h.1 (i + d + 1) (by omega)
    rw [show i + (d + 1) + 1 = i + d + 1 + 1 by omega]
    omega
theorem SD_lt {O F L T : Fn} {n i j : Nat} (h : SD O F L T n) (hij : i < j) (hj : j < n) : O i < O j ∨ (O i = O j ∧ L i < F j) := by
  obtain ⟨d, rfl⟩ : ∃ d, j = i + d + 1 := ⟨j - i - 1, by omega⟩
  exact SD_ltd h i d hj
theorem SD_mono {O F L T : Fn} {n : Nat} (h : SD O F L T n) : ∀ i j, i ≤ j → j < n → O i ≤ O j := by
  intro i j hij hj
  rcases Nat.eq_or_lt_of_le hij with e | e
  · rw [e]; exact Nat.le_refl _
  · have := SD_lt h e hj
    omega
theorem SD_key {O F L T : Fn} {n : Nat} (h : SD O F L T n) : ∀ k, k < n → k ≤ 40 * O k + F k := by
  intro k
  induction k with
  | zero => intro _; exact Nat.zero_le _
  | succ k ih =>
    intro hk
    have h1 := ih (by omega)
    have h2 := h.2 k hk
    have h3 := h.1 k (by omega)
    have h4 := h.1 (k + 1) hk
    omega
theorem SD_n {O F L T : Fn} {n : Nat} (h : SD O F L T n) : n ≤ 200 := by
  rcases Nat.eq_zero_or_pos n with e | e
  · omega
  · have h1 := SD_key h (n - 1) (by omega)
    have h2 := h.1 (n - 1) (by omega)
    omega
/-- the pieces of the stretch f .. l of the owner o are out of it -/
def outO (O F L : Fn) (o f l j : Nat) : Prop := O j < o ∨ (O j = o ∧ (L j < f ∨ l < F j))
/-- a last is brought forward -/
theorem SD_shrL {O F L T : Fn} {n k x : Nat} (h : SD O F L T n) (h1 : F k ≤ x) (h2 : x ≤ L k) : SD O F (up L k x) T n := by
  refine ⟨fun j hj => ?_, fun j hj => ?_⟩
  · have a := h.1 j hj
    by_cases e : j = k
    · subst e; rw [up_s]; omega
    · rw [up_n e]; exact a
  · have a := h.2 j hj
    by_cases e : j = k
    · subst e; rw [up_s]; omega
    · rw [up_n e]; exact a
theorem MG_shrL {O F L T : Fn} {n k x : Nat} {E : Nat → Prop} (h : SD O F L T n) (g : MGe E O F L T n) (h2 : x < L k) : MGe E O F (up L k x) T n := by
  intro j hj he ho ht
  by_cases e : j = k
  · subst e
    rw [up_s] at ht
    have a := h.2 j hj
    omega
  · rw [up_n e] at ht
    exact g j hj he ho ht
theorem SD_shrF {O F L T : Fn} {n k x : Nat} (h : SD O F L T n) (h1 : F k ≤ x) (h2 : x ≤ L k) : SD O (up F k x) L T n := by
  refine ⟨fun j hj => ?_, fun j hj => ?_⟩
  · have a := h.1 j hj
    by_cases e : j = k
    · subst e; rw [up_s]; omega
    · rw [up_n e]; exact a
  · have a := h.2 j hj
    by_cases e : j + 1 = k
    · subst e; rw [up_s]; omega
    · rw [up_n e]; exact a
theorem MG_shrF {O F L T : Fn} {n k x : Nat} {E : Nat → Prop} (h : SD O F L T n) (g : MGe E O F L T n) (h2 : F k < x) : MGe E O (up F k x) L T n := by
  intro j hj he ho ht
  by_cases e : j + 1 = k
  · subst e
    rw [up_s] at ht
    have a := h.2 j hj
    omega
  · rw [up_n e] at ht
    exact g j hj he ho ht
theorem SD_shL {O F L T : Fn} {n k : Nat} (h : SD O F L T n) (hk : k < n) : SD (shL O k n) (shL F k n) (shL L k n) (shL T k n) (n - 1) := by
  refine ⟨fun j hj => ?_, fun j hj => ?_⟩
  · by_cases e : j < k
    · rw [shL_lo e, shL_lo e, shL_lo e, shL_lo e]; exact h.1 j (by omega)
    · rw [shL_hi (by omega) (by omega), shL_hi (by omega) (by omega), shL_hi (by omega) (by omega), shL_hi (by omega) (by omega)]; exact h.1 (j + 1) (by omega)
  · by_cases e : j + 1 < k
    · rw [shL_lo e, shL_lo e, shL_lo (show j < k by omega), shL_lo (show j < k by omega)]; exact h.2 j (by omega)
    · by_cases e2 : j < k
      · rw [shL_hi (show k ≤ j + 1 by omega) (by omega), shL_hi (show k ≤ j + 1 by omega) (by omega), shL_lo e2, shL_lo e2]; exact SD_lt h (by omega) (by omega)
      · rw [shL_hi (show k ≤ j + 1 by omega) (by omega), shL_hi (show k ≤ j + 1 by omega) (by omega), shL_hi (show k ≤ j by omega) (by omega), shL_hi (show k ≤ j by omega) (by omega)]; exact h.2 (j + 1) (by omega)
theorem MG_shL {O F L T : Fn} {n k : Nat} (h : SD O F L T n) (g : MG O F L T n) (hk : k < n) : MG (shL O k n) (shL F k n) (shL L k n) (shL T k n) (n - 1) := by
  intro j hj _ 
  by_cases e : j + 1 < k
  · rw [shL_lo e, shL_lo e, shL_lo e, shL_lo (show j < k by omega), shL_lo (show j < k by omega), shL_lo (show j < k by omega)]; exact g j (by omega) (fun z => z)
  · by_cases e2 : j < k
    · rw [shL_hi (show k ≤ j + 1 by omega) (by omega), shL_hi (show k ≤ j + 1 by omega) (by omega), shL_hi (show k ≤ j + 1 by omega) (by omega), shL_lo e2, shL_lo e2, shL_lo e2]
      obtain rfl : k = j + 1 := by omega
      intro ho ht
      have a := h.2 j (by omega)
      have b := h.2 (j + 1) (by omega)
      have c := h.1 (j + 1) (by omega)
      omega
    · rw [shL_hi (show k ≤ j + 1 by omega) (by omega), shL_hi (show k ≤ j + 1 by omega) (by omega), shL_hi (show k ≤ j + 1 by omega) (by omega), shL_hi (show k ≤ j by omega) (by omega), shL_hi (show k ≤ j by omega) (by omega), shL_hi (show k ≤ j by omega) (by omega)]; exact g (j + 1) (by omega) (fun z => z)
theorem has_shL {O F L T : Fn} {n k p b v : Nat} (hk : k < n) : has (shL O k n) (shL F k n) (shL L k n) (shL T k n) (n - 1) p b v ↔ ∃ j, j < n ∧ j ≠ k ∧ O j = p ∧ F j ≤ b ∧ b ≤ L j ∧ T j = v := by
  constructor
  · rintro ⟨j, hj, h1, h2, h3, h4⟩
    by_cases e : j < k
    · rw [shL_lo e] at h1 h2 h3 h4
      exact ⟨j, by omega, by omega, h1, h2, h3, h4⟩
    · rw [shL_hi (by omega) (by omega)] at h1 h2 h3 h4
      exact ⟨j + 1, by omega, by omega, h1, h2, h3, h4⟩
  · rintro ⟨j, hj, hne, h1, h2, h3, h4⟩
    by_cases e : j < k
    · exact ⟨j, by omega, by rw [shL_lo e]; exact h1, by rw [shL_lo e]; exact h2, by rw [shL_lo e]; exact h3, by rw [shL_lo e]; exact h4⟩
    · obtain ⟨i, rfl⟩ : ∃ i, j = i + 1 := ⟨j - 1, by omega⟩
      exact ⟨i, by omega, by rw [shL_hi (by omega) (by omega)]; exact h1, by rw [shL_hi (by omega) (by omega)]; exact h2, by rw [shL_hi (by omega) (by omega)]; exact h3, by rw [shL_hi (by omega) (by omega)]; exact h4⟩
/-- a piece (o, f, l, t) put in at a -/
def ins (A : Fn) (a n x : Nat) : Fn := up (shR A a n) a x
theorem ins_lo {A : Fn} {a n x j : Nat} (h : j < a) : ins A a n x j = A j := by unfold ins; rw [up_n (by omega), shR_lo (by omega)]
theorem ins_at {A : Fn} {a n x : Nat} : ins A a n x a = x := up_s _ _ _
theorem ins_hi {A : Fn} {a n x j : Nat} (h : a ≤ j) (h2 : j < n) : ins A a n x (j + 1) = A j := by unfold ins; rw [up_n (by omega), shR_hi h h2]
theorem Bp.ins {O F L T : Fn} {a n o f l t : Nat} (h : Bp O F L T) (ho : o ≤ 4) (hf : f ≤ 39) (hl : l ≤ 39) (ht : t ≤ 2) : Bp (ins O a n o) (ins F a n f) (ins L a n l) (ins T a n t) := (((h.shR.upO ho).upF hf).upL hl).upT ht
theorem has_ins {O F L T : Fn} {n a o f l t p b v : Nat} (ha : a ≤ n) : has (ins O a n o) (ins F a n f) (ins L a n l) (ins T a n t) (n + 1) p b v ↔ has O F L T n p b v ∨ (p = o ∧ f ≤ b ∧ b ≤ l ∧ v = t) := by
  constructor
  · rintro ⟨j, hj, h1, h2, h3, h4⟩
    by_cases e : j < a
    · rw [ins_lo e] at h1 h2 h3 h4
      exact Or.inl ⟨j, by omega, h1, h2, h3, h4⟩
    · by_cases e2 : j = a
      · subst e2
        rw [ins_at] at h1 h2 h3 h4
        exact Or.inr ⟨h1.symm, h2, h3, h4.symm⟩
      · obtain ⟨i, rfl⟩ : ∃ i, j = i + 1 := ⟨j - 1, by omega⟩
        rw [ins_hi (by omega) (by omega)] at h1 h2 h3 h4
        exact Or.inl ⟨i, by omega, h1, h2, h3, h4⟩
  · rintro (⟨j, hj, h1, h2, h3, h4⟩ | ⟨h1, h2, h3, h4⟩)
    · by_cases e : j < a
      · exact ⟨j, by omega, by rw [ins_lo e]; exact h1, by rw [ins_lo e]; exact h2, by rw [ins_lo e]; exact h3, by rw [ins_lo e]; exact h4⟩
      · exact ⟨j + 1, by omega, by rw [ins_hi (by omega) hj]; exact h1, by rw [ins_hi (by omega) hj]; exact h2, by rw [ins_hi (by omega) hj]; exact h3, by rw [ins_hi (by omega) hj]; exact h4⟩
    · exact ⟨a, by omega, by rw [ins_at]; exact h1.symm, by rw [ins_at]; exact h2, by rw [ins_at]; exact h3, by rw [ins_at]; exact h4.symm⟩
theorem SD_ins {O F L T : Fn} {n a o f l t : Nat} (h : SD O F L T n) (ha : a ≤ n) (ho : o ≤ 4) (hf : f ≤ l) (hl : l ≤ 39) (ht : 1 ≤ t ∧ t ≤ 2) (hlo : ∀ j, j < a → O j < o ∨ (O j = o ∧ L j < f)) (hhi : ∀ j, a ≤ j → j < n → o < O j ∨ (O j = o ∧ l < F j)) : SD (ins O a n o) (ins F a n f) (ins L a n l) (ins T a n t) (n + 1) := by
  refine ⟨fun j hj => ?_, fun j hj => ?_⟩
  · by_cases e : j < a
    · rw [ins_lo e, ins_lo e, ins_lo e, ins_lo e]; exact h.1 j (by omega)
    · by_cases e2 : j = a
      · subst e2
        rw [ins_at, ins_at, ins_at, ins_at]; omega
      · obtain ⟨i, rfl⟩ : ∃ i, j = i + 1 := ⟨j - 1, by omega⟩
        rw [ins_hi (by omega) (by omega), ins_hi (by omega) (by omega), ins_hi (by omega) (by omega), ins_hi (by omega) (by omega)]; exact h.1 i (by omega)
  · by_cases e : j + 1 < a
    · rw [ins_lo e, ins_lo e, ins_lo (show j < a by omega), ins_lo (show j < a by omega)]; exact h.2 j (by omega)
    · by_cases e2 : j + 1 = a
      · subst e2
        rw [ins_at, ins_at, ins_lo (Nat.lt_succ_self j), ins_lo (Nat.lt_succ_self j)]
        exact hlo j (Nat.lt_succ_self j)
      · by_cases e3 : j = a
        · subst e3
          rw [ins_at, ins_at, ins_hi (Nat.le_refl j) (by omega), ins_hi (Nat.le_refl j) (by omega)]
          have := hhi j (Nat.le_refl j) (by omega)
          omega
        · obtain ⟨i, rfl⟩ : ∃ i, j = i + 1 := ⟨j - 1, by omega⟩
          rw [ins_hi (show a ≤ i by omega) (by omega), ins_hi (show a ≤ i by omega) (by omega), ins_hi (show a ≤ i + 1 by omega) (by omega), ins_hi (show a ≤ i + 1 by omega) (by omega)]
          exact h.2 i (by omega)
theorem MG_ins {O F L T : Fn} {n a o f l t : Nat} (g : MG O F L T n) (ha : a ≤ n) : MGe (fun i => i = a ∨ i + 1 = a) (ins O a n o) (ins F a n f) (ins L a n l) (ins T a n t) (n + 1) := by
  intro j hj he
  by_cases e : j + 1 < a
  · rw [ins_lo e, ins_lo e, ins_lo e, ins_lo (show j < a by omega), ins_lo (show j < a by omega), ins_lo (show j < a by omega)]; exact g j (by omega) (fun z => z)
  · obtain ⟨i, rfl⟩ : ∃ i, j = i + 1 := ⟨j - 1, by omega⟩
    rw [ins_hi (show a ≤ i by omega) (by omega), ins_hi (show a ≤ i by omega) (by omega), ins_hi (show a ≤ i by omega) (by omega), ins_hi (show a ≤ i + 1 by omega) (by omega), ins_hi (show a ≤ i + 1 by omega) (by omega), ins_hi (show a ≤ i + 1 by omega) (by omega)]
    exact g i (by omega) (fun z => z)
end
section
/-! PURE: cutting a stretch out, joining neighbours -/
theorem MGe_all {E : Nat → Prop} {O F L T : Fn} {n : Nat} (g : MGe E O F L T n) (h : ∀ k, k + 1 < n → E k → O k = O (k + 1) → L k + 1 = F (k + 1) → T k ≠ T (k + 1)) : MG O F L T n := by
  intro k hk _
  by_cases e : E k
  · exact h k hk e
  · exact g k hk e
def CutI (Oo Fo Lo To : Fn) (no o f l : Nat) (O F L T : Fn) (n k s : Nat) : Prop :=
  SD O F L T n ∧ MG O F L T n ∧ Bp O F L T ∧ k ≤ n ∧ (∀ j, j < k → outO O F L o f l j) ∧ (∀ j, k ≤ j → j < n → o ≤ O j) ∧ (∀ j, k ≤ j → j < n → O j = o → s ≤ F j) ∧ ∀ p b v, ¬ (p = o ∧ f ≤ b ∧ b ≤ l) → (has O F L T n p b v ↔ has Oo Fo Lo To no p b v)
def CutE (Oo Fo Lo To : Fn) (no o f l : Nat) (O F L T : Fn) (n : Nat) : Prop :=
  SD O F L T n ∧ MG O F L T n ∧ Bp O F L T ∧ (∀ j, j < n → O j = o → L j < f ∨ l < F j) ∧ ∀ p b v, ¬ (p = o ∧ f ≤ b ∧ b ≤ l) → (has O F L T n p b v ↔ has Oo Fo Lo To no p b v)
theorem cut_exit {Oo Fo Lo To : Fn} {no o f l : Nat} {O F L T : Fn} {n k s : Nat} (h : CutI Oo Fo Lo To no o f l O F L T n k s) (he : k < n → O k ≠ o) : CutE Oo Fo Lo To no o f l O F L T n := by
  obtain ⟨h1, h2, h3, h4, h5, h6, h7, h8⟩ := h
  refine ⟨h1, h2, h3, fun j hj ho => ?_, h8⟩
  by_cases e : j < k
  · have := h5 j e
    unfold outO at this
    omega
  · have a := he (by omega)
    have b := h6 k (Nat.le_refl k) (by omega)
    have c := SD_mono h1 k j (by omega) hj
    omega
theorem cut_fuel {Oo Fo Lo To : Fn} {no o f l : Nat} {O F L T : Fn} {n k s : Nat} (h : CutI Oo Fo Lo To no o f l O F L T n k s) (hs : 40 ≤ s) : k < n → O k ≠ o := by
  obtain ⟨h1, h2, h3, h4, h5, h6, h7, h8⟩ := h
  intro hk ho
  have a := h7 k (Nat.le_refl k) hk ho
  have b := h3.2.1 k
  omega
theorem cut_next {O F L T : Fn} {n k s o : Nat} (h1 : SD O F L T n) (hk : k < n) (ho : O k = o) (hs : s ≤ F k) : ∀ j, k + 1 ≤ j → j < n → O j = o → s + 1 ≤ F j := by
  intro j hj hn hoj
  have a := SD_lt h1 (show k < j by omega) hn
  have b := h1.1 k hk
  omega
theorem cut_skip {Oo Fo Lo To : Fn} {no o f l : Nat} {O F L T : Fn} {n k s : Nat} (h : CutI Oo Fo Lo To no o f l O F L T n k s) (hk : k < n) (ho : O k = o) (hm : L k < f ∨ l < F k) : CutI Oo Fo Lo To no o f l O F L T n (k + 1) (s + 1) := by
  obtain ⟨h1, h2, h3, h4, h5, h6, h7, h8⟩ := h
  refine ⟨h1, h2, h3, hk, fun j hj => ?_, fun j hj => h6 j (by omega), cut_next h1 hk ho (h7 k (Nat.le_refl k) hk ho), h8⟩
  by_cases e : j = k
  · subst e; exact Or.inr ⟨ho, hm⟩
  · exact h5 j (by omega)
theorem cut_left {Oo Fo Lo To : Fn} {no o f l : Nat} {O F L T : Fn} {n k s : Nat} (h : CutI Oo Fo Lo To no o f l O F L T n k s) (hk : k < n) (ho : O k = o) (ha : F k < f) (hb : f ≤ L k) (hc : L k ≤ l) : CutI Oo Fo Lo To no o f l O F (up L k (f - 1)) T n (k + 1) (s + 1) := by
  obtain ⟨h1, h2, h3, h4, h5, h6, h7, h8⟩ := h
  have b3 := h3.2.2.1 k
  refine ⟨SD_shrL h1 (by omega) (by omega), MG_shrL h1 h2 (by omega), h3.upL (by omega), hk, fun j hj => ?_, fun j hj => h6 j (by omega), cut_next h1 hk ho (h7 k (Nat.le_refl k) hk ho), fun p b v hp => ?_⟩
  · by_cases e : j = k
    · subst e; exact Or.inr ⟨ho, Or.inl (by rw [up_s]; omega)⟩
    · have a := h5 j (by omega)
      unfold outO at a ⊢
      rw [up_n e]; exact a
  · rw [← h8 p b v hp]
    constructor
    · rintro ⟨j, hj, a1, a2, a3, a4⟩
      by_cases e : j = k
      · subst e; rw [up_s] at a3; exact ⟨j, hj, a1, a2, by omega, a4⟩
      · rw [up_n e] at a3; exact ⟨j, hj, a1, a2, a3, a4⟩
    · rintro ⟨j, hj, a1, a2, a3, a4⟩
      by_cases e : j = k
      · subst e
        refine ⟨j, hj, a1, a2, ?_, a4⟩
        rw [up_s]
        rcases Nat.lt_or_ge b f with q | q
        · omega
        · exact absurd ⟨by omega, q, by omega⟩ hp
      · exact ⟨j, hj, a1, a2, by rw [up_n e]; exact a3, a4⟩
theorem cut_right {Oo Fo Lo To : Fn} {no o f l : Nat} {O F L T : Fn} {n k s : Nat} (h : CutI Oo Fo Lo To no o f l O F L T n k s) (hk : k < n) (ho : O k = o) (ha : f ≤ F k) (hb : F k ≤ l) (hc : l < L k) : CutI Oo Fo Lo To no o f l O (up F k (l + 1)) L T n (k + 1) (s + 1) := by
  obtain ⟨h1, h2, h3, h4, h5, h6, h7, h8⟩ := h
  have b3 := h3.2.2.1 k
  refine ⟨SD_shrF h1 (by omega) (by omega), MG_shrF h1 h2 (by omega), h3.upF (by omega), hk, fun j hj => ?_, fun j hj => h6 j (by omega), fun j hj hn hoj => ?_, fun p b v hp => ?_⟩
  · by_cases e : j = k
    · subst e; exact Or.inr ⟨ho, Or.inr (by rw [up_s]; omega)⟩
    · have a := h5 j (by omega)
      unfold outO at a ⊢
      rw [up_n e]; exact a
  · rw [up_n (by omega)]
    exact cut_next h1 hk ho (h7 k (Nat.le_refl k) hk ho) j hj hn hoj
  · rw [← h8 p b v hp]
    constructor
    · rintro ⟨j, hj, a1, a2, a3, a4⟩
      by_cases e : j = k
      · subst e; rw [up_s] at a2; exact ⟨j, hj, a1, by omega, a3, a4⟩
      · rw [up_n e] at a2; exact ⟨j, hj, a1, a2, a3, a4⟩
    · rintro ⟨j, hj, a1, a2, a3, a4⟩
      by_cases e : j = k
      · subst e
        refine ⟨j, hj, a1, ?_, a3, a4⟩
        rw [up_s]
        rcases Nat.lt_or_ge l b with q | q
        · omega
        · exact absurd ⟨by omega, by omega, q⟩ hp
      · exact ⟨j, hj, a1, by rw [up_n e]; exact a2, a3, a4⟩
theorem cut_drop {Oo Fo Lo To : Fn} {no o f l : Nat} {O F L T : Fn} {n k s : Nat} (h : CutI Oo Fo Lo To no o f l O F L T n k s) (hk : k < n) (ho : O k = o) (ha : f ≤ F k) (hc : L k ≤ l) : CutI Oo Fo Lo To no o f l (shL O k n) (shL F k n) (shL L k n) (shL T k n) (n - 1) k (s + 1) := by
  obtain ⟨h1, h2, h3, h4, h5, h6, h7, h8⟩ := h
  refine ⟨SD_shL h1 hk, MG_shL h1 h2 hk, h3.shL, by omega, fun j hj => ?_, fun j hj hn => ?_, fun j hj hn hoj => ?_, fun p b v hp => ?_⟩
  · have a := h5 j hj
    unfold outO at a ⊢
    rw [shL_lo hj, shL_lo hj, shL_lo hj]; exact a
  · rw [shL_hi hj (by omega)]; exact h6 (j + 1) (by omega) (by omega)
  · rw [shL_hi hj (by omega)] at hoj ⊢
    exact cut_next h1 hk ho (h7 k (Nat.le_refl k) hk ho) (j + 1) (by omega) (by omega) hoj
  · rw [← h8 p b v hp, has_shL hk]
    constructor
    · rintro ⟨j, hj, hne, a⟩
      exact ⟨j, hj, a⟩
    · rintro ⟨j, hj, a1, a2, a3, a4⟩
      refine ⟨j, hj, fun e => hp ?_, a1, a2, a3, a4⟩
      subst e
      exact ⟨by omega, by omega, by omega⟩
theorem ins_up {A : Fn} {k n x y : Nat} : up (ins A (k + 1) n x) k y = ins (up A k y) (k + 1) n x := by
  funext j
  by_cases e : j = k
  · subst e
    rw [up_s, ins_lo (by omega), up_s]
  · rw [up_n e]
    by_cases e1 : j < k + 1
    · rw [ins_lo e1, ins_lo e1, up_n e]
    · by_cases e2 : j = k + 1
      · subst e2; rw [ins_at, ins_at]
      · unfold ins
        rw [up_n e2, up_n e2]
        unfold shR
        split
        · rw [up_n (by omega)]
        · rw [up_n e]
theorem cut_split {Oo Fo Lo To : Fn} {no o f l : Nat} {O F L T : Fn} {n k s : Nat} (h : CutI Oo Fo Lo To no o f l O F L T n k s) (hk : k < n) (ho : O k = o) (ho4 : o ≤ 4) (hfl : f ≤ l) (ha : F k < f) (hc : l < L k) : CutE Oo Fo Lo To no o f l (ins O (k + 1) n o) (ins F (k + 1) n (l + 1)) (up (ins L (k + 1) n (L k)) k (f - 1)) (ins T (k + 1) n (T k)) (n + 1) := by
  obtain ⟨h1, h2, h3, h4, h5, h6, h7, h8⟩ := h
  have b3 := h3.2.2.1 k
  have b4 := h1.1 k hk
  rw [ins_up]
  have hS := SD_shrL (k := k) (x := f - 1) h1 (by omega) (by omega)
  have hG := MG_shrL (k := k) (x := f - 1) h1 h2 (by omega)
  have hlo : ∀ j, j < k + 1 → O j < o ∨ (O j = o ∧ up L k (f - 1) j < l + 1) := by
    intro j hj
    by_cases e : j = k
    · subst e; rw [up_s]; omega
    · rw [up_n e]
      have := SD_lt h1 (show j < k by omega) hk
      omega
  have hhi : ∀ j, k + 1 ≤ j → j < n → o < O j ∨ (O j = o ∧ L k < F j) := by
    intro j hj hn
    have := SD_lt h1 (show k < j by omega) hn
    omega
  have hS1 := SD_ins (a := k + 1) (o := o) (f := l + 1) (l := L k) (t := T k) hS (by omega) ho4 (by omega) (by omega) (by omega) hlo hhi
  have hG1 := MG_ins (a := k + 1) (o := o) (f := l + 1) (l := L k) (t := T k) hG (by omega)
  refine ⟨hS1, MGe_all hG1 ?_, (h3.upL (by omega)).ins ho4 (by omega) b3 (by omega), ?_, fun p b v hp => ?_⟩
  · intro j hj hE hoj ht
    by_cases e : j = k
    · subst e
      rw [ins_at, ins_lo (Nat.lt_succ_self j), up_s] at ht
      omega
    · obtain rfl : j = k + 1 := by omega
      rw [ins_at, ins_hi (Nat.le_refl _) (by omega)] at ht hoj ⊢
      have a := h2 k (by omega) (fun z => z)
      rw [ho] at a
      exact a hoj ht
  · intro j hj hoj
    by_cases e : j < k
    · rw [ins_lo (by omega)] at hoj
      rw [ins_lo (by omega), ins_lo (by omega), up_n (by omega)]
      have a := h5 j e
      unfold outO at a
      omega
    · by_cases e2 : j = k
      · subst e2
        rw [ins_lo (Nat.lt_succ_self j), up_s]; omega
      · by_cases e3 : j = k + 1
        · subst e3
          rw [ins_at, ins_at]; omega
        · obtain ⟨i, rfl⟩ : ∃ i, j = i + 1 := ⟨j - 1, by omega⟩
          rw [ins_hi (by omega) (by omega)] at hoj
          have a := hhi i (by omega) (by omega)
          rw [ins_hi (by omega) (by omega), ins_hi (by omega) (by omega)]
          omega
  · rw [← h8 p b v hp, has_ins (by omega)]
    constructor
    · rintro (⟨j, hj, a1, a2, a3, a4⟩ | ⟨a1, a2, a3, a4⟩)
      · by_cases e : j = k
        · subst e; rw [up_s] at a3; exact ⟨j, hj, a1, a2, by omega, a4⟩
        · rw [up_n e] at a3; exact ⟨j, hj, a1, a2, a3, a4⟩
      · exact ⟨k, hk, by omega, by omega, a3, a4.symm⟩
    · rintro ⟨j, hj, a1, a2, a3, a4⟩
      by_cases e : j = k
      · subst e
        rcases Nat.lt_or_ge b f with q | q
        · exact Or.inl ⟨j, hj, a1, a2, by rw [up_s]; omega, a4⟩
        · rcases Nat.lt_or_ge l b with q2 | q2
          · exact Or.inr ⟨by omega, by omega, a3, a4.symm⟩
          · exact absurd ⟨by omega, q, q2⟩ hp
      · exact Or.inl ⟨j, hj, a1, a2, by rw [up_n e]; exact a3, a4⟩
/-- what joinNext asks -/
def jnC (O F L T : Fn) (n k : Nat) : Prop := k + 1 < n ∧ O k = O (k + 1) ∧ T k = T (k + 1) ∧ L k + 1 = F (k + 1)
theorem join_no {E : Nat → Prop} {O F L T : Fn} {n k : Nat} (h : ¬ jnC O F L T n k) (g : MGe (fun i => i = k ∨ E i) O F L T n) : MGe E O F L T n := by
  intro j hj he ho ht hT
  by_cases e : j = k
  · subst e; exact h ⟨hj, ho, hT, ht⟩
  · exact g j hj (fun z => z.elim e he) ho ht hT
theorem jl_lo {A : Fn} {k n j x : Nat} (h : j < k) : shL (up A k x) (k + 1) n j = A j := by rw [shL_lo (by omega), up_n (by omega)]
theorem jl_at {A : Fn} {k n x : Nat} : shL (up A k x) (k + 1) n k = x := by rw [shL_lo (by omega), up_s]
theorem jl_hi {A : Fn} {k n j x : Nat} (h : k < j) (h2 : j + 1 < n) : shL (up A k x) (k + 1) n j = A (j + 1) := by rw [shL_hi (by omega) h2, up_n (by omega)]
theorem join_SD {O F L T : Fn} {n k : Nat} (h : SD O F L T n) (hc : jnC O F L T n k) : SD (shL O (k + 1) n) (shL F (k + 1) n) (shL (up L k (L (k + 1))) (k + 1) n) (shL T (k + 1) n) (n - 1) := by
  obtain ⟨c1, c2, c3, c4⟩ := hc
  refine ⟨fun j hj => ?_, fun j hj => ?_⟩
  · rcases Nat.lt_trichotomy j k with e | e | e
    · rw [jl_lo e, shL_lo (by omega), shL_lo (by omega), shL_lo (by omega)]; exact h.1 j (by omega)
    · subst e
      rw [jl_at, shL_lo (by omega), shL_lo (by omega), shL_lo (by omega)]
      have a := h.1 j (by omega)
      have b := h.1 (j + 1) (by omega)
      omega
    · rw [jl_hi e (by omega), shL_hi (by omega) (by omega), shL_hi (by omega) (by omega), shL_hi (by omega) (by omega)]; exact h.1 (j + 1) (by omega)
  · rcases Nat.lt_trichotomy j k with e | e | e
    · rw [jl_lo e, shL_lo (by omega), shL_lo (by omega), shL_lo (by omega)]; exact h.2 j (by omega)
    · subst e
      rw [jl_at, shL_lo (show j < j + 1 by omega), shL_hi (show j + 1 ≤ j + 1 by omega) (by omega), shL_hi (show j + 1 ≤ j + 1 by omega) (by omega)]
      have a := h.2 (j + 1) (by omega)
      omega
    · rw [jl_hi e (by omega), shL_hi (show k + 1 ≤ j by omega) (by omega), shL_hi (show k + 1 ≤ j + 1 by omega) (by omega), shL_hi (show k + 1 ≤ j + 1 by omega) (by omega)]; exact h.2 (j + 1) (by omega)
theorem join_MG {E : Nat → Prop} {O F L T : Fn} {n k : Nat} (hE : ∀ i, E i → i < k) (g : MGe (fun i => i = k ∨ E i) O F L T n) (hc : jnC O F L T n k) : MGe E (shL O (k + 1) n) (shL F (k + 1) n) (shL (up L k (L (k + 1))) (k + 1) n) (shL T (k + 1) n) (n - 1) := by
  obtain ⟨c1, c2, c3, c4⟩ := hc
  intro j hj he
  rcases Nat.lt_trichotomy j k with e | e | e
  · rw [jl_lo e, shL_lo (show j < k + 1 by omega), shL_lo (show j + 1 < k + 1 by omega), shL_lo (show j + 1 < k + 1 by omega), shL_lo (show j < k + 1 by omega), shL_lo (show j + 1 < k + 1 by omega)]; exact g j (by omega) (fun z => z.elim (by omega) he)
  · subst e
    rw [jl_at, shL_lo (show j < j + 1 by omega), shL_hi (show j + 1 ≤ j + 1 by omega) (by omega), shL_hi (show j + 1 ≤ j + 1 by omega) (by omega), shL_lo (show j < j + 1 by omega), shL_hi (show j + 1 ≤ j + 1 by omega) (by omega)]
    intro ho ht
    rw [c3]
    exact g (j + 1) (by omega) (fun z => z.elim (by omega) (fun q => absurd (hE _ q) (by omega))) (by omega) ht
  · rw [jl_hi e (by omega), shL_hi (show k + 1 ≤ j by omega) (by omega), shL_hi (show k + 1 ≤ j + 1 by omega) (by omega), shL_hi (show k + 1 ≤ j + 1 by omega) (by omega), shL_hi (show k + 1 ≤ j by omega) (by omega), shL_hi (show k + 1 ≤ j + 1 by omega) (by omega)]
    exact g (j + 1) (by omega) (fun z => z.elim (by omega) (fun q => absurd (hE _ q) (by omega)))
theorem join_has {O F L T : Fn} {n k p b v : Nat} (h : SD O F L T n) (hc : jnC O F L T n k) : has (shL O (k + 1) n) (shL F (k + 1) n) (shL (up L k (L (k + 1))) (k + 1) n) (shL T (k + 1) n) (n - 1) p b v ↔ has O F L T n p b v := by
  obtain ⟨c1, c2, c3, c4⟩ := hc
  have d1 := h.1 k (by omega)
  have d2 := h.1 (k + 1) (by omega)
  constructor
  · rintro ⟨j, hj, a1, a2, a3, a4⟩
    rcases Nat.lt_trichotomy j k with e | e | e
    · rw [shL_lo (by omega)] at a1 a2 a4
      rw [jl_lo e] at a3
      exact ⟨j, by omega, a1, a2, a3, a4⟩
    · subst e
      rw [shL_lo (by omega)] at a1 a2 a4
      rw [jl_at] at a3
      by_cases q : b ≤ L j
      · exact ⟨j, by omega, a1, a2, q, a4⟩
      · exact ⟨j + 1, by omega, by omega, by omega, a3, by omega⟩
    · rw [shL_hi (by omega) (by omega)] at a1 a2 a4
      rw [jl_hi e (by omega)] at a3
      exact ⟨j + 1, by omega, a1, a2, a3, a4⟩
  · rintro ⟨j, hj, a1, a2, a3, a4⟩
    rcases Nat.lt_trichotomy j k with e | e | e
    · exact ⟨j, by omega, by rw [shL_lo (by omega)]; exact a1, by rw [shL_lo (by omega)]; exact a2, by rw [jl_lo e]; exact a3, by rw [shL_lo (by omega)]; exact a4⟩
    · subst e
      exact ⟨j, by omega, by rw [shL_lo (by omega)]; exact a1, by rw [shL_lo (by omega)]; exact a2, by rw [jl_at]; omega, by rw [shL_lo (by omega)]; exact a4⟩
    · by_cases e2 : j = k + 1
      · subst e2
        exact ⟨k, by omega, by rw [shL_lo (by omega)]; omega, by rw [shL_lo (by omega)]; omega, by rw [jl_at]; exact a3, by rw [shL_lo (by omega)]; omega⟩
      · obtain ⟨i, rfl⟩ : ∃ i, j = i + 1 := ⟨j - 1, by omega⟩
        exact ⟨i, by omega, by rw [shL_hi (by omega) (by omega)]; exact a1, by rw [shL_hi (by omega) (by omega)]; exact a2, by rw [jl_hi (by omega) (by omega)]; exact a3, by rw [shL_hi (by omega) (by omega)]; exact a4⟩
end
section
/-! X0: the list of pieces: copyPiece, open, shut, begin, stands, rivals, blockers, joinNext -/
set_option maxRecDepth 100000
set_option maxHeartbeats 4000000 in
set_option maxRecDepth 100000 in
theorem mt_copyPiece (O F L T V P X Y Z : Fn) (n c a b : Nat) (ha : a < 204) (hb : b < 204) : MCv w0 yX0_copyPiece cX0_copyPiece 3 0 0 [.int (nI a), .int (nI b)] ((O, F, L, T, V, P, X, Y, Z, n, c)) (fun u2 => u2 = (up O b (O a), up F b (F a), up L b (L a), up T b (T a), V, P, X, Y, Z, n, c)) := by
  refine MCv_of (lv := fun ad => [some (.ref (ad 0)), some (.int (nI a)), some (.int (nI b))]) (by decide) rfl (fun _ => Nat.le_of_ble_eq_true rfl) (fun _ => rfl) ?_
  intro g ad cI cZ
  show G g _ cX0_copyPiece RX0 3 _ (w0 ad cI cZ) _ _ ((O, F, L, T, V, P, X, Y, Z, n, c)) 0 _ []
  refine ro_aload_n dX0_copyPiece_0 rfl ?_
  refine f0_ownerOf dX0_copyPiece_1 ?_
  refine ro_iload_n dX0_copyPiece_4 rfl ?_
  refine ro_aload_n dX0_copyPiece_5 rfl ?_
  refine f0_ownerOf dX0_copyPiece_6 ?_
  refine ro_iload_n dX0_copyPiece_9 rfl ?_
  refine l0_ownerOf dX0_copyPiece_10 (by omega) ?_
  refine s0_ownerOf dX0_copyPiece_11 (by omega) ?_
  refine ro_aload_n dX0_copyPiece_12 rfl ?_
  refine f0_firsts dX0_copyPiece_13 ?_
  refine ro_iload_n dX0_copyPiece_16 rfl ?_
  refine ro_aload_n dX0_copyPiece_17 rfl ?_
  refine f0_firsts dX0_copyPiece_18 ?_
  refine ro_iload_n dX0_copyPiece_21 rfl ?_
  refine l0_firsts dX0_copyPiece_22 (by omega) ?_
  refine s0_firsts dX0_copyPiece_23 (by omega) ?_
  refine ro_aload_n dX0_copyPiece_24 rfl ?_
  refine f0_lasts dX0_copyPiece_25 ?_
  refine ro_iload_n dX0_copyPiece_28 rfl ?_
  refine ro_aload_n dX0_copyPiece_29 rfl ?_
  refine f0_lasts dX0_copyPiece_30 ?_
  refine ro_iload_n dX0_copyPiece_33 rfl ?_
  refine l0_lasts dX0_copyPiece_34 (by omega) ?_
  refine s0_lasts dX0_copyPiece_35 (by omega) ?_
  refine ro_aload_n dX0_copyPiece_36 rfl ?_
  refine f0_types dX0_copyPiece_37 ?_
  refine ro_iload_n dX0_copyPiece_40 rfl ?_
  refine ro_aload_n dX0_copyPiece_41 rfl ?_
  refine f0_types dX0_copyPiece_42 ?_
  refine ro_iload_n dX0_copyPiece_45 rfl ?_
  refine l0_types dX0_copyPiece_46 (by omega) ?_
  refine s0_types dX0_copyPiece_47 (by omega) ?_
  refine ro_vret dX0_copyPiece_48 ?_
  rfl
set_option maxHeartbeats 4000000 in
set_option maxRecDepth 100000 in
theorem mt_open (O F L T V P X Y Z : Fn) (n c a : Nat) (ha : a ≤ n) (hn : n ≤ 202) : MCv w0 yX0_open cX0_open 3 1 22 [.int (nI a)] ((O, F, L, T, V, P, X, Y, Z, n, c)) (fun u2 => u2 = (shR O a n, shR F a n, shR L a n, shR T a n, V, P, X, Y, Z, n + 1, c)) := by
  refine MCv_of (lv := fun ad => [some (.ref (ad 0)), some (.int (nI a)), none]) (by decide) rfl (fun _ => Nat.le_of_ble_eq_true rfl) (fun _ => rfl) ?_
  intro g ad cI cZ
  show G g _ cX0_open RX0 3 _ (w0 ad cI cZ) _ _ ((O, F, L, T, V, P, X, Y, Z, n, c)) 0 _ []
  have loop : ∀ d k : Nat, k = a + d → k ≤ n → G g ({ frames := 1, cells := 0, slots := 0, locals := 22 }) cX0_open RX0 3 [(cI, .int), (cZ, .boolean)] (w0 ad cI cZ) (fun _ _ => False) (fun u2 => u2 = (shR O a n, shR F a n, shR L a n, shR T a n, V, P, X, Y, Z, n + 1, c)) (shR O k n, shR F k n, shR L k n, shR T k n, V, P, X, Y, Z, n, c) 5 [some (.ref (ad 0)), some (.int (nI a)), some (.int (nI k))] [] := by
    intro d
    induction d with
    | zero =>
      intro k hk hkn
      have hk : k = a := hk
      subst hk
      refine ro_iload_n dX0_open_5 rfl ?_
      refine ro_iload_n dX0_open_6 rfl ?_
      refine ro_icmp_le 24 dX0_open_7 (by decide) (by omega) (by omega) (fun h1 => ?_) (fun h1 => ?_)
      · refine ro_aload_n dX0_open_24 rfl ?_
        refine ro_dup dX0_open_25 rfl ?_
        refine f0_count dX0_open_26 ?_
        refine ro_iconst (x := nI 1) dX0_open_29 (by decide) ?_
        refine ro_iadd dX0_open_30 ?_
        refine p0_count dX0_open_31 ?_
        refine ro_vret dX0_open_34 ?_
        rfl
      · exact absurd h1 (by omega)
    | succ d ih =>
      intro k hk hkn
      obtain ⟨k, rfl⟩ : ∃ z, k = z + 1 := ⟨k - 1, by omega⟩
      refine ro_iload_n dX0_open_5 rfl ?_
      refine ro_iload_n dX0_open_6 rfl ?_
      refine ro_icmp_le 24 dX0_open_7 (by decide) (by omega) (by omega) (fun h1 => ?_) (fun h1 => ?_)
      · exact absurd h1 (by omega)
      · refine ro_aload_n dX0_open_10 rfl ?_
        refine ro_iload_n dX0_open_11 rfl ?_
        refine ro_iconst (x := nI 1) dX0_open_12 (by decide) ?_
        refine ro_isub dX0_open_13 (by omega) ?_
        refine ro_iload_n dX0_open_14 rfl ?_
        refine ro_call0v 2 (mt_copyPiece _ _ _ _ _ _ _ _ _ _ _ _ _ (by omega) (by omega)) cv_X0_X0_copyPiece dn_X0_copyPiece rfl ⟨by decide, by decide⟩ rfl (Nat.le_of_ble_eq_true rfl) dX0_open_15 (fun u2 hu => ?_)
        subst hu
        rw [Nat.add_sub_cancel, shR_s O k n hkn, shR_s F k n hkn, shR_s L k n hkn, shR_s T k n hkn]
        refine ro_idec (lv1 := [_, _, _]) dX0_open_18 rfl (by omega) rfl rfl rfl ?_
        refine ro_goto 5 dX0_open_21 (by decide) ?_
        exact ih k (by omega) (by omega)
  have h0 := loop (n - a) n (by omega) (Nat.le_refl n)
  rw [shR_n, shR_n, shR_n, shR_n] at h0
  refine ro_aload_n dX0_open_0 rfl ?_
  refine f0_count dX0_open_1 ?_
  refine ro_istore_n (lv1 := [_, _, _]) dX0_open_4 rfl rfl rfl ?_
  exact h0
set_option maxHeartbeats 4000000 in
set_option maxRecDepth 100000 in
theorem mt_shut (O F L T V P X Y Z : Fn) (n c a : Nat) (ha : a < n) (hn : n ≤ 203) : MCv w0 yX0_shut cX0_shut 3 1 22 [.int (nI a)] ((O, F, L, T, V, P, X, Y, Z, n, c)) (fun u2 => u2 = (shL O a n, shL F a n, shL L a n, shL T a n, V, P, X, Y, Z, n - 1, c)) := by
  refine MCv_of (lv := fun ad => [some (.ref (ad 0)), some (.int (nI a)), none]) (by decide) rfl (fun _ => Nat.le_of_ble_eq_true rfl) (fun _ => rfl) ?_
  intro g ad cI cZ
  show G g _ cX0_shut RX0 3 _ (w0 ad cI cZ) _ _ ((O, F, L, T, V, P, X, Y, Z, n, c)) 0 _ []
  have loop : ∀ d k : Nat, k + d = n → a < k → G g ({ frames := 1, cells := 0, slots := 0, locals := 22 }) cX0_shut RX0 3 [(cI, .int), (cZ, .boolean)] (w0 ad cI cZ) (fun _ _ => False) (fun u2 => u2 = (shL O a n, shL F a n, shL L a n, shL T a n, V, P, X, Y, Z, n - 1, c)) (shL O a k, shL F a k, shL L a k, shL T a k, V, P, X, Y, Z, n, c) 4 [some (.ref (ad 0)), some (.int (nI a)), some (.int (nI k))] [] := by
    intro d
    induction d with
    | zero =>
      intro k hk hkn
      have hk : k = n := hk
      subst hk
      refine ro_iload_n dX0_shut_4 rfl ?_
      refine ro_aload_n dX0_shut_5 rfl ?_
      refine f0_count dX0_shut_6 ?_
      refine ro_icmp_ge 26 dX0_shut_9 (by decide) (by omega) (by omega) (fun h1 => ?_) (fun h1 => ?_)
      · refine ro_aload_n dX0_shut_26 rfl ?_
        refine ro_dup dX0_shut_27 rfl ?_
        refine f0_count dX0_shut_28 ?_
        refine ro_iconst (x := nI 1) dX0_shut_31 (by decide) ?_
        refine ro_isub dX0_shut_32 (by omega) ?_
        refine p0_count dX0_shut_33 ?_
        refine ro_vret dX0_shut_36 ?_
        rfl
      · exact absurd h1 (by omega)
    | succ d ih =>
      intro k hk hkn
      refine ro_iload_n dX0_shut_4 rfl ?_
      refine ro_aload_n dX0_shut_5 rfl ?_
      refine f0_count dX0_shut_6 ?_
      refine ro_icmp_ge 26 dX0_shut_9 (by decide) (by omega) (by omega) (fun h1 => ?_) (fun h1 => ?_)
      · exact absurd h1 (by omega)
      · refine ro_aload_n dX0_shut_12 rfl ?_
        refine ro_iload_n dX0_shut_13 rfl ?_
        refine ro_iload_n dX0_shut_14 rfl ?_
        refine ro_iconst (x := nI 1) dX0_shut_15 (by decide) ?_
        refine ro_isub dX0_shut_16 (by omega) ?_
        refine ro_call0v 2 (mt_copyPiece _ _ _ _ _ _ _ _ _ _ _ _ _ (by omega) (by omega)) cv_X0_X0_copyPiece dn_X0_copyPiece rfl ⟨by decide, by decide⟩ rfl (Nat.le_of_ble_eq_true rfl) dX0_shut_17 (fun u2 hu => ?_)
        subst hu
        rw [shL_s O a k hkn, shL_s F a k hkn, shL_s L a k hkn, shL_s T a k hkn]
        refine ro_iinc (lv1 := [_, _, _]) dX0_shut_20 rfl rfl rfl rfl ?_
        refine ro_goto 4 dX0_shut_23 (by decide) ?_
        exact ih (k + 1) (by omega) (by omega)
  have h0 := loop (n - (a + 1)) (a + 1) (by omega) (by omega)
  rw [shL_0, shL_0, shL_0, shL_0] at h0
  refine ro_iload_n dX0_shut_0 rfl ?_
  refine ro_iconst (x := nI 1) dX0_shut_1 (by decide) ?_
  refine ro_iadd dX0_shut_2 ?_
  refine ro_istore_n (lv1 := [_, _, _]) dX0_shut_3 rfl rfl rfl ?_
  exact h0
/-- b: the first place whose owner is o or later -/
def isB (O : Fn) (n o b : Nat) : Prop := b ≤ n ∧ (∀ j, j < b → O j < o) ∧ ∀ j, b ≤ j → j < n → o ≤ O j
theorem isB_uniq {O : Fn} {n o a b : Nat} (ha : isB O n o a) (hb : isB O n o b) : a = b := by
  obtain ⟨h1, h2, h3⟩ := ha
  obtain ⟨g1, g2, g3⟩ := hb
  rcases Nat.lt_trichotomy a b with h | h | h
  · have := g2 a h
    have := h3 a (Nat.le_refl a) (by omega)
    omega
  · exact h
  · have := h2 b h
    have := g3 b (Nat.le_refl b) (by omega)
    omega
set_option maxHeartbeats 4000000 in
set_option maxRecDepth 100000 in
theorem mt_begin (O F L T V P X Y Z : Fn) (n c o : Nat) (hs : ∀ i j, i ≤ j → j < n → O i ≤ O j) (hO : ∀ j, O j ≤ 4) (ho : o ≤ 5) (hn : n ≤ 203) : MCi w0 yX0_begin cX0_begin 6 (some .int) 0 0 [.int (nI o)] ((O, F, L, T, V, P, X, Y, Z, n, c)) (fun r u2 => (∃ b, isB O n o b ∧ r = nI b) ∧ u2 = (O, F, L, T, V, P, X, Y, Z, n, c)) := by
  refine MCi_of (lv := fun ad => [some (.ref (ad 0)), some (.int (nI o)), none, none, none, none]) (by decide) (Or.inl rfl) rfl (fun _ => Nat.le_of_ble_eq_true rfl) (fun _ => rfl) ?_
  intro g ad cI cZ
  show G g _ cX0_begin RX0 6 _ (w0 ad cI cZ) _ _ ((O, F, L, T, V, P, X, Y, Z, n, c)) 0 _ []
  have loop : ∀ (d k lo hi : Nat) (z : Option Value), k + d = 9 → lo ≤ hi → hi ≤ n → hi - lo < 2 ^ d → (∀ j, j < lo → O j < o) → (∀ j, hi ≤ j → j < n → o ≤ O j) → G g ({ frames := 0, cells := 0, slots := 0, locals := 0 }) cX0_begin RX0 6 [(cI, .int), (cZ, .boolean)] (w0 ad cI cZ) (fun r u2 => (∃ b, isB O n o b ∧ r = nI b) ∧ u2 = (O, F, L, T, V, P, X, Y, Z, n, c)) (fun _ => False) (O, F, L, T, V, P, X, Y, Z, n, c) 10 [some (.ref (ad 0)), some (.int (nI o)), some (.int (nI lo)), some (.int (nI hi)), some (.int (nI k)), z] [] := by
    intro d
    induction d with
    | zero =>
      intro k lo hi z hk h1 h2 h3 h4 h5
      refine ro_iload dX0_begin_10 rfl ?_
      refine ro_bipush (x := nI 9) dX0_begin_12 (by decide) ?_
      refine ro_icmp_ge 57 dX0_begin_14 (by decide) (by omega) (by omega) (fun h6 => ?_) (fun h6 => ?_)
      · refine ro_iload_n dX0_begin_57 rfl ?_
        refine ro_iret dX0_begin_58 ?_
        exact ⟨⟨lo, ⟨by omega, h4, fun j hj => h5 j (by omega)⟩, rfl⟩, rfl⟩
      · exact absurd h6 (by omega)
    | succ d ih =>
      intro k lo hi z hk h1 h2 h3 h4 h5
      have h3 : hi - lo < 2 * 2 ^ d := by rw [Nat.pow_succ'] at h3; exact h3
      refine ro_iload dX0_begin_10 rfl ?_
      refine ro_bipush (x := nI 9) dX0_begin_12 (by decide) ?_
      refine ro_icmp_ge 57 dX0_begin_14 (by decide) (by omega) (by omega) (fun h6 => ?_) (fun h6 => ?_)
      · exact absurd h6 (by omega)
      · refine ro_iload_n dX0_begin_17 rfl ?_
        refine ro_iload_n dX0_begin_18 rfl ?_
        refine ro_icmp_ge 57 dX0_begin_19 (by decide) (by omega) (by omega) (fun h7 => ?_) (fun h7 => ?_)
        · refine ro_iload_n dX0_begin_57 rfl ?_
          refine ro_iret dX0_begin_58 ?_
          exact ⟨⟨lo, ⟨by omega, h4, fun j hj => h5 j (by omega)⟩, rfl⟩, rfl⟩
        · refine ro_iload_n dX0_begin_22 rfl ?_
          refine ro_iload_n dX0_begin_23 rfl ?_
          refine ro_iadd dX0_begin_24 ?_
          refine ro_iconst (x := nI 1) dX0_begin_25 (by decide) ?_
          refine ro_ishr dX0_begin_26 (by omega) (by omega) ?_
          obtain ⟨m, hm⟩ : ∃ m, m = (lo + hi) / 2 ^ 1 := ⟨_, rfl⟩
          rw [← hm]
          have hm1 : lo ≤ m ∧ m < hi := by omega
          refine ro_istore (lv1 := [_, _, _, _, _, _]) dX0_begin_27 rfl rfl rfl ?_
          refine ro_aload_n dX0_begin_29 rfl ?_
          refine f0_ownerOf dX0_begin_30 ?_
          refine ro_iload dX0_begin_33 rfl ?_
          refine l0_ownerOf dX0_begin_35 (by omega) ?_
          refine ro_iload_n dX0_begin_36 rfl ?_
          have b1 := hO m
          refine ro_icmp_ge 48 dX0_begin_37 (by decide) (by omega) (by omega) (fun h8 => ?_) (fun h8 => ?_)
          · refine ro_iload dX0_begin_48 rfl ?_
            refine ro_istore_n (lv1 := [_, _, _, _, _, _]) dX0_begin_50 rfl rfl rfl ?_
            refine ro_iinc (lv1 := [_, _, _, _, _, _]) dX0_begin_51 rfl rfl rfl rfl ?_
            refine ro_goto 10 dX0_begin_54 (by decide) ?_
            exact ih (k + 1) lo m _ (by omega) (by omega) (by omega) (by omega) h4 (fun j hj hj2 => Nat.le_trans h8 (hs m j hj hj2))
          · refine ro_iload dX0_begin_40 rfl ?_
            refine ro_iconst (x := nI 1) dX0_begin_42 (by decide) ?_
            refine ro_iadd dX0_begin_43 ?_
            refine ro_istore_n (lv1 := [_, _, _, _, _, _]) dX0_begin_44 rfl rfl rfl ?_
            refine ro_goto 51 dX0_begin_45 (by decide) ?_
            refine ro_iinc (lv1 := [_, _, _, _, _, _]) dX0_begin_51 rfl rfl rfl rfl ?_
            refine ro_goto 10 dX0_begin_54 (by decide) ?_
            exact ih (k + 1) (m + 1) hi _ (by omega) (by omega) (by omega) (by omega) (fun j hj => Nat.lt_of_le_of_lt (hs j m (by omega) (by omega)) h8) h5
  refine ro_iconst (x := nI 0) dX0_begin_0 (by decide) ?_
  refine ro_istore_n (lv1 := [_, _, _, _, _, _]) dX0_begin_1 rfl rfl rfl ?_
  refine ro_aload_n dX0_begin_2 rfl ?_
  refine f0_count dX0_begin_3 ?_
  refine ro_istore_n (lv1 := [_, _, _, _, _, _]) dX0_begin_6 rfl rfl rfl ?_
  refine ro_iconst (x := nI 0) dX0_begin_7 (by decide) ?_
  refine ro_istore (lv1 := [_, _, _, _, _, _]) dX0_begin_8 rfl rfl rfl ?_
  exact loop 9 0 0 n _ rfl (Nat.zero_le _) (Nat.le_refl _) (by omega) (fun j hj => absurd hj (Nat.not_lt_zero j)) (fun j h1 h2 => absurd h2 (Nat.not_lt.mpr h1))
end
section
/-! X0: stands, rivals, blockers, joinNext, cutOut, paint -/
set_option maxRecDepth 100000
/-- a piece stands in the way of a request -/
def stP (O F L T : Fn) (k o f l t : Nat) : Prop := F k ≤ l ∧ f ≤ L k ∧ O k ≠ o ∧ (t = 2 ∨ T k = 2)
set_option maxHeartbeats 4000000 in
set_option maxRecDepth 100000 in
theorem mt_stands (O F L T V P X Y Z : Fn) (n c k o f l t : Nat) (hB : Bp O F L T) (hk : k < 204) (ho : o ≤ 4) (hf : f ≤ 39) (hl : l ≤ 39) (ht : t ≤ 2) : MCi w0 yX0_stands cX0_stands 7 (some .boolean) 0 0 [.int (nI k), .int (nI o), .int (nI f), .int (nI l), .int (nI t)] ((O, F, L, T, V, P, X, Y, Z, n, c)) (fun r u2 => bI (stP O F L T k o f l t) r ∧ u2 = (O, F, L, T, V, P, X, Y, Z, n, c)) := by
  refine MCi_of (lv := fun ad => [some (.ref (ad 0)), some (.int (nI k)), some (.int (nI o)), some (.int (nI f)), some (.int (nI l)), some (.int (nI t)), none]) (by decide) (Or.inr ⟨rfl, fun v u1 h => bI01 h.1⟩) rfl (fun _ => Nat.le_of_ble_eq_true rfl) (fun _ => rfl) ?_
  intro g ad cI cZ
  show G g _ cX0_stands RX0 7 _ (w0 ad cI cZ) _ _ ((O, F, L, T, V, P, X, Y, Z, n, c)) 0 _ []
  have b1 := hB.1 k
  have b2 := hB.2.1 k
  have b3 := hB.2.2.1 k
  have b4 := hB.2.2.2 k
  refine ro_aload_n dX0_stands_0 rfl ?_
  refine f0_firsts dX0_stands_1 ?_
  refine ro_iload_n dX0_stands_4 rfl ?_
  refine l0_firsts dX0_stands_5 (by omega) ?_
  refine ro_iload dX0_stands_6 rfl ?_
  refine ro_icmp_gt 25 dX0_stands_8 (by decide) (by omega) (by omega) (fun h1 => ?_) (fun h1 => ?_)
  · refine ro_iconst (x := nI 0) dX0_stands_25 (by decide) ?_
    refine ro_istore (lv1 := [_, _, _, _, _, _, _]) dX0_stands_26 rfl rfl rfl ?_
    refine ro_iload dX0_stands_28 rfl ?_
    refine ro_if_eq 63 dX0_stands_30 (by decide) (by omega) (fun h2 => ?_) (fun h2 => ?_)
    · refine ro_iconst (x := nI 0) dX0_stands_63 (by decide) ?_
      refine ro_iret dX0_stands_64 ?_
      exact ⟨bI_f (fun h => absurd h.1 (by omega)), rfl⟩
    · exact absurd rfl h2
  · refine ro_iload_n dX0_stands_11 rfl ?_
    refine ro_aload_n dX0_stands_12 rfl ?_
    refine f0_lasts dX0_stands_13 ?_
    refine ro_iload_n dX0_stands_16 rfl ?_
    refine l0_lasts dX0_stands_17 (by omega) ?_
    refine ro_icmp_gt 25 dX0_stands_18 (by decide) (by omega) (by omega) (fun h2 => ?_) (fun h2 => ?_)
    · refine ro_iconst (x := nI 0) dX0_stands_25 (by decide) ?_
      refine ro_istore (lv1 := [_, _, _, _, _, _, _]) dX0_stands_26 rfl rfl rfl ?_
      refine ro_iload dX0_stands_28 rfl ?_
      refine ro_if_eq 63 dX0_stands_30 (by decide) (by omega) (fun h3 => ?_) (fun h3 => ?_)
      · refine ro_iconst (x := nI 0) dX0_stands_63 (by decide) ?_
        refine ro_iret dX0_stands_64 ?_
        exact ⟨bI_f (fun h => absurd h.2.1 (by omega)), rfl⟩
      · exact absurd rfl h3
    · refine ro_iconst (x := nI 1) dX0_stands_21 (by decide) ?_
      refine ro_goto 26 dX0_stands_22 (by decide) ?_
      refine ro_istore (lv1 := [_, _, _, _, _, _, _]) dX0_stands_26 rfl rfl rfl ?_
      refine ro_iload dX0_stands_28 rfl ?_
      refine ro_if_eq 63 dX0_stands_30 (by decide) (by omega) (fun h3 => ?_) (fun h3 => ?_)
      · exact absurd h3 (by decide)
      · refine ro_aload_n dX0_stands_33 rfl ?_
        refine f0_ownerOf dX0_stands_34 ?_
        refine ro_iload_n dX0_stands_37 rfl ?_
        refine l0_ownerOf dX0_stands_38 (by omega) ?_
        refine ro_iload_n dX0_stands_39 rfl ?_
        refine ro_icmp_eq 63 dX0_stands_40 (by decide) (by omega) (by omega) (fun h4 => ?_) (fun h4 => ?_)
        · refine ro_iconst (x := nI 0) dX0_stands_63 (by decide) ?_
          refine ro_iret dX0_stands_64 ?_
          exact ⟨bI_f (fun h => absurd h4 h.2.2.1), rfl⟩
        · refine ro_iload dX0_stands_43 rfl ?_
          refine ro_iconst (x := nI 2) dX0_stands_45 (by decide) ?_
          refine ro_icmp_eq 59 dX0_stands_46 (by decide) (by omega) (by omega) (fun h5 => ?_) (fun h5 => ?_)
          · refine ro_iconst (x := nI 1) dX0_stands_59 (by decide) ?_
            refine ro_goto 64 dX0_stands_60 (by decide) ?_
            refine ro_iret dX0_stands_64 ?_
            exact ⟨bI_t ⟨h1, h2, h4, Or.inl h5⟩, rfl⟩
          · refine ro_aload_n dX0_stands_49 rfl ?_
            refine f0_types dX0_stands_50 ?_
            refine ro_iload_n dX0_stands_53 rfl ?_
            refine l0_types dX0_stands_54 (by omega) ?_
            refine ro_iconst (x := nI 2) dX0_stands_55 (by decide) ?_
            refine ro_icmp_ne 63 dX0_stands_56 (by decide) (by omega) (by omega) (fun h6 => ?_) (fun h6 => ?_)
            · refine ro_iconst (x := nI 0) dX0_stands_63 (by decide) ?_
              refine ro_iret dX0_stands_64 ?_
              exact ⟨bI_f (fun h => h.2.2.2.elim h5 h6), rfl⟩
            · refine ro_iconst (x := nI 1) dX0_stands_59 (by decide) ?_
              refine ro_goto 64 dX0_stands_60 (by decide) ?_
              refine ro_iret dX0_stands_64 ?_
              exact ⟨bI_t ⟨h1, h2, h4, Or.inr h6⟩, rfl⟩
noncomputable def riv (O F L T : Fn) (n o f l t : Nat) : Nat := mk5 (fun p => ∃ k, k < n ∧ O k = p ∧ stP O F L T k o f l t)
set_option maxHeartbeats 4000000 in
set_option maxRecDepth 100000 in
theorem mt_rivals (O F L T V P X Y Z : Fn) (n c o f l t : Nat) (hB : Bp O F L T) (hn : n ≤ 203) (ho : o ≤ 4) (hf : f ≤ 39) (hl : l ≤ 39) (ht : t ≤ 2) : MCi w0 yX0_rivals cX0_rivals 7 (some .int) 1 26 [.int (nI o), .int (nI f), .int (nI l), .int (nI t)] ((O, F, L, T, V, P, X, Y, Z, n, c)) (fun r u2 => r = nI (riv O F L T n o f l t) ∧ u2 = (O, F, L, T, V, P, X, Y, Z, n, c)) := by
  refine MCi_of (lv := fun ad => [some (.ref (ad 0)), some (.int (nI o)), some (.int (nI f)), some (.int (nI l)), some (.int (nI t)), none, none]) (by decide) (Or.inl rfl) rfl (fun _ => Nat.le_of_ble_eq_true rfl) (fun _ => rfl) ?_
  intro g ad cI cZ
  show G g _ cX0_rivals RX0 7 _ (w0 ad cI cZ) _ _ ((O, F, L, T, V, P, X, Y, Z, n, c)) 0 _ []
  have loop : ∀ d k m : Nat, k + d = n → m < 32 → (∀ p, bit m p ↔ ∃ j, j < k ∧ O j = p ∧ stP O F L T j o f l t) → G g ({ frames := 1, cells := 0, slots := 0, locals := 26 }) cX0_rivals RX0 7 [(cI, .int), (cZ, .boolean)] (w0 ad cI cZ) (fun r u2 => r = nI (riv O F L T n o f l t) ∧ u2 = (O, F, L, T, V, P, X, Y, Z, n, c)) (fun _ => False) (O, F, L, T, V, P, X, Y, Z, n, c) 6 [some (.ref (ad 0)), some (.int (nI o)), some (.int (nI f)), some (.int (nI l)), some (.int (nI t)), some (.int (nI m)), some (.int (nI k))] [] := by
    intro d
    induction d with
    | zero =>
      intro k m hk hm hI
      have hk : k = n := hk
      subst hk
      refine ro_iload dX0_rivals_6 rfl ?_
      refine ro_aload_n dX0_rivals_8 rfl ?_
      refine f0_count dX0_rivals_9 ?_
      refine ro_icmp_ge 49 dX0_rivals_12 (by decide) (by omega) (by omega) (fun h1 => ?_) (fun h1 => ?_)
      · refine ro_iload dX0_rivals_49 rfl ?_
        refine ro_iret dX0_rivals_51 ?_
        exact ⟨by rw [show m = riv O F L T k o f l t from mk5_eq hm (fun p _ => hI p)], rfl⟩
      · exact absurd h1 (by omega)
    | succ d ih =>
      intro k m hk hm hI
      refine ro_iload dX0_rivals_6 rfl ?_
      refine ro_aload_n dX0_rivals_8 rfl ?_
      refine f0_count dX0_rivals_9 ?_
      refine ro_icmp_ge 49 dX0_rivals_12 (by decide) (by omega) (by omega) (fun h1 => ?_) (fun h1 => ?_)
      · exact absurd h1 (by omega)
      · refine ro_aload_n dX0_rivals_15 rfl ?_
        refine ro_iload dX0_rivals_16 rfl ?_
        refine ro_iload_n dX0_rivals_18 rfl ?_
        refine ro_iload_n dX0_rivals_19 rfl ?_
        refine ro_iload_n dX0_rivals_20 rfl ?_
        refine ro_iload dX0_rivals_21 rfl ?_
        refine ro_call0 5 (mt_stands O F L T V P X Y Z n c k o f l t hB (by omega) ho hf hl ht) cv_X0_X0_stands dn_X0_stands rfl ⟨by decide, by decide⟩ rfl (Nat.le_of_ble_eq_true rfl) dX0_rivals_23 (fun r u2 hr => ?_)
        obtain ⟨hr, rfl⟩ := hr
        have b1 := hB.1 k
        rcases hr with ⟨hs, rfl⟩ | ⟨hs, rfl⟩
        · refine ro_if_eq 43 dX0_rivals_26 (by decide) (by omega) (fun h2 => ?_) (fun h2 => ?_)
          · exact absurd h2 (by decide)
          · refine ro_iload dX0_rivals_29 rfl ?_
            refine ro_iconst (x := nI 1) dX0_rivals_31 (by decide) ?_
            refine ro_aload_n dX0_rivals_32 rfl ?_
            refine f0_ownerOf dX0_rivals_33 ?_
            refine ro_iload dX0_rivals_36 rfl ?_
            refine l0_ownerOf dX0_rivals_38 (by omega) ?_
            refine ro_ishl1 dX0_rivals_39 (by omega) ?_
            refine ro_ior dX0_rivals_40 ?_
            refine ro_istore (lv1 := [_, _, _, _, _, _, _]) dX0_rivals_41 rfl rfl rfl ?_
            refine ro_iinc (lv1 := [_, _, _, _, _, _, _]) dX0_rivals_43 rfl rfl rfl rfl ?_
            refine ro_goto 6 dX0_rivals_46 (by decide) ?_
            have hp : 2 ^ O k < 2 ^ 5 := Nat.pow_lt_pow_right (by decide) (by omega)
            refine ih (k + 1) (m ||| 2 ^ O k) (by omega) (or_lt (k := 5) hm hp) (fun p => ?_)
            rw [bit_or, bit_pow, hI p]
            constructor
            · rintro (⟨j, hj, h⟩ | h)
              · exact ⟨j, by omega, h⟩
              · exact ⟨k, by omega, h.symm, hs⟩
            · rintro ⟨j, hj, q1, q2⟩
              by_cases e : j = k
              · subst e; exact Or.inr q1.symm
              · exact Or.inl ⟨j, by omega, q1, q2⟩
        · refine ro_if_eq 43 dX0_rivals_26 (by decide) (by omega) (fun h2 => ?_) (fun h2 => ?_)
          · refine ro_iinc (lv1 := [_, _, _, _, _, _, _]) dX0_rivals_43 rfl rfl rfl rfl ?_
            refine ro_goto 6 dX0_rivals_46 (by decide) ?_
            refine ih (k + 1) m (by omega) hm (fun p => ?_)
            rw [hI p]
            constructor
            · rintro ⟨j, hj, h⟩
              exact ⟨j, by omega, h⟩
            · rintro ⟨j, hj, q1, q2⟩
              by_cases e : j = k
              · subst e; exact absurd q2 hs
              · exact ⟨j, by omega, q1, q2⟩
          · exact absurd rfl h2
  refine ro_iconst (x := nI 0) dX0_rivals_0 (by decide) ?_
  refine ro_istore (lv1 := [_, _, _, _, _, _, _]) dX0_rivals_1 rfl rfl rfl ?_
  refine ro_iconst (x := nI 0) dX0_rivals_3 (by decide) ?_
  refine ro_istore (lv1 := [_, _, _, _, _, _, _]) dX0_rivals_4 rfl rfl rfl ?_
  exact loop n 0 0 (by omega) (by omega) (fun p => ⟨fun h => absurd h bit_0, fun ⟨j, hj, _⟩ => absurd hj (Nat.not_lt_zero j)⟩)
/-- the wishes' cells are small -/
def Bw (V P X Y Z : Fn) : Prop := (∀ j, V j ≤ 1) ∧ (∀ j, P j ≤ 39) ∧ (∀ j, X j ≤ 39) ∧ (∀ j, Y j ≤ 2) ∧ ∀ j, Z j ≤ 10000
noncomputable def blk (O F L T V P X Y : Fn) (n o : Nat) : Nat := if V o = 0 then 0 else riv O F L T n o (P o) (X o) (Y o)
theorem blk_lt (O F L T V P X Y : Fn) (n o : Nat) : blk O F L T V P X Y n o < 32 := by
  unfold blk
  split
  · omega
  · exact mk5_lt _
set_option maxHeartbeats 4000000 in
set_option maxRecDepth 100000 in
theorem mt_blockers (O F L T V P X Y Z : Fn) (n c o : Nat) (hB : Bp O F L T) (hW : Bw V P X Y Z) (hn : n ≤ 203) (ho : o ≤ 4) : MCi w0 yX0_blockers cX0_blockers 2 (some .int) 2 52 [.int (nI o)] ((O, F, L, T, V, P, X, Y, Z, n, c)) (fun r u2 => r = nI (blk O F L T V P X Y n o) ∧ u2 = (O, F, L, T, V, P, X, Y, Z, n, c)) := by
  refine MCi_of (lv := fun ad => [some (.ref (ad 0)), some (.int (nI o))]) (by decide) (Or.inl rfl) rfl (fun _ => Nat.le_of_ble_eq_true rfl) (fun _ => rfl) ?_
  intro g ad cI cZ
  show G g _ cX0_blockers RX0 2 _ (w0 ad cI cZ) _ _ ((O, F, L, T, V, P, X, Y, Z, n, c)) 0 _ []
  have b1 := hW.1 o
  refine ro_aload_n dX0_blockers_0 rfl ?_
  refine f0_waits dX0_blockers_1 ?_
  refine ro_iload_n dX0_blockers_4 rfl ?_
  refine l0_waits dX0_blockers_5 (by omega) ?_
  refine ro_if_ne 11 dX0_blockers_6 (by decide) (by omega) (fun h1 => ?_) (fun h1 => ?_)
  · refine ro_aload_n dX0_blockers_11 rfl ?_
    refine ro_iload_n dX0_blockers_12 rfl ?_
    refine ro_aload_n dX0_blockers_13 rfl ?_
    refine f0_wantFirst dX0_blockers_14 ?_
    refine ro_iload_n dX0_blockers_17 rfl ?_
    refine l0_wantFirst dX0_blockers_18 (by omega) ?_
    refine ro_aload_n dX0_blockers_19 rfl ?_
    refine f0_wantLast dX0_blockers_20 ?_
    refine ro_iload_n dX0_blockers_23 rfl ?_
    refine l0_wantLast dX0_blockers_24 (by omega) ?_
    refine ro_aload_n dX0_blockers_25 rfl ?_
    refine f0_wantType dX0_blockers_26 ?_
    refine ro_iload_n dX0_blockers_29 rfl ?_
    refine l0_wantType dX0_blockers_30 (by omega) ?_
    refine ro_call0 4 (mt_rivals O F L T V P X Y Z n c o (P o) (X o) (Y o) hB hn ho (hW.2.1 o) (hW.2.2.1 o) (hW.2.2.2.1 o)) cv_X0_X0_rivals dn_X0_rivals rfl ⟨by decide, by decide⟩ rfl (Nat.le_of_ble_eq_true rfl) dX0_blockers_31 (fun r u2 hr => ?_)
    obtain ⟨rfl, rfl⟩ := hr
    refine ro_iret dX0_blockers_34 ?_
    exact ⟨by unfold blk; rw [if_neg h1], rfl⟩
  · refine ro_iconst (x := nI 0) dX0_blockers_9 (by decide) ?_
    refine ro_iret dX0_blockers_10 ?_
    exact ⟨by unfold blk; rw [if_pos h1], rfl⟩
set_option maxHeartbeats 4000000 in
set_option maxRecDepth 100000 in
theorem mt_joinNext (O F L T V P X Y Z : Fn) (n c k : Nat) (hB : Bp O F L T) (hk : k < n) (hn : n ≤ 203) : MCv w0 yX0_joinNext cX0_joinNext 2 2 44 [.int (nI k)] ((O, F, L, T, V, P, X, Y, Z, n, c)) (fun u2 => (jnC O F L T n k ∧ u2 = (shL O (k + 1) n, shL F (k + 1) n, shL (up L k (L (k + 1))) (k + 1) n, shL T (k + 1) n, V, P, X, Y, Z, n - 1, c)) ∨ (¬ jnC O F L T n k ∧ u2 = (O, F, L, T, V, P, X, Y, Z, n, c))) := by
  refine MCv_of (lv := fun ad => [some (.ref (ad 0)), some (.int (nI k))]) (by decide) rfl (fun _ => Nat.le_of_ble_eq_true rfl) (fun _ => rfl) ?_
  intro g ad cI cZ
  show G g _ cX0_joinNext RX0 2 _ (w0 ad cI cZ) _ _ ((O, F, L, T, V, P, X, Y, Z, n, c)) 0 _ []
  have b1 := hB.1 k
  have b2 := hB.1 (k + 1)
  have b3 := hB.2.2.2 k
  have b4 := hB.2.2.2 (k + 1)
  have b5 := hB.2.2.1 k
  have b6 := hB.2.1 (k + 1)
  refine ro_iload_n dX0_joinNext_0 rfl ?_
  refine ro_iconst (x := nI 1) dX0_joinNext_1 (by decide) ?_
  refine ro_iadd dX0_joinNext_2 ?_
  refine ro_aload_n dX0_joinNext_3 rfl ?_
  refine f0_count dX0_joinNext_4 ?_
  refine ro_icmp_ge 84 dX0_joinNext_7 (by decide) (by omega) (by omega) (fun h1 => ?_) (fun h1 => ?_)
  · refine ro_vret dX0_joinNext_84 ?_
    exact Or.inr ⟨fun h => absurd h.1 (by omega), rfl⟩
  · refine ro_aload_n dX0_joinNext_10 rfl ?_
    refine f0_ownerOf dX0_joinNext_11 ?_
    refine ro_iload_n dX0_joinNext_14 rfl ?_
    refine l0_ownerOf dX0_joinNext_15 (by omega) ?_
    refine ro_aload_n dX0_joinNext_16 rfl ?_
    refine f0_ownerOf dX0_joinNext_17 ?_
    refine ro_iload_n dX0_joinNext_20 rfl ?_
    refine ro_iconst (x := nI 1) dX0_joinNext_21 (by decide) ?_
    refine ro_iadd dX0_joinNext_22 ?_
    refine l0_ownerOf dX0_joinNext_23 (by omega) ?_
    refine ro_icmp_ne 84 dX0_joinNext_24 (by decide) (by omega) (by omega) (fun h2 => ?_) (fun h2 => ?_)
    · refine ro_vret dX0_joinNext_84 ?_
      exact Or.inr ⟨fun h => h2 h.2.1, rfl⟩
    · refine ro_aload_n dX0_joinNext_27 rfl ?_
      refine f0_types dX0_joinNext_28 ?_
      refine ro_iload_n dX0_joinNext_31 rfl ?_
      refine l0_types dX0_joinNext_32 (by omega) ?_
      refine ro_aload_n dX0_joinNext_33 rfl ?_
      refine f0_types dX0_joinNext_34 ?_
      refine ro_iload_n dX0_joinNext_37 rfl ?_
      refine ro_iconst (x := nI 1) dX0_joinNext_38 (by decide) ?_
      refine ro_iadd dX0_joinNext_39 ?_
      refine l0_types dX0_joinNext_40 (by omega) ?_
      refine ro_icmp_ne 84 dX0_joinNext_41 (by decide) (by omega) (by omega) (fun h3 => ?_) (fun h3 => ?_)
      · refine ro_vret dX0_joinNext_84 ?_
        exact Or.inr ⟨fun h => h3 h.2.2.1, rfl⟩
      · refine ro_aload_n dX0_joinNext_44 rfl ?_
        refine f0_lasts dX0_joinNext_45 ?_
        refine ro_iload_n dX0_joinNext_48 rfl ?_
        refine l0_lasts dX0_joinNext_49 (by omega) ?_
        refine ro_iconst (x := nI 1) dX0_joinNext_50 (by decide) ?_
        refine ro_iadd dX0_joinNext_51 ?_
        refine ro_aload_n dX0_joinNext_52 rfl ?_
        refine f0_firsts dX0_joinNext_53 ?_
        refine ro_iload_n dX0_joinNext_56 rfl ?_
        refine ro_iconst (x := nI 1) dX0_joinNext_57 (by decide) ?_
        refine ro_iadd dX0_joinNext_58 ?_
        refine l0_firsts dX0_joinNext_59 (by omega) ?_
        refine ro_icmp_ne 84 dX0_joinNext_60 (by decide) (by omega) (by omega) (fun h4 => ?_) (fun h4 => ?_)
        · refine ro_vret dX0_joinNext_84 ?_
          exact Or.inr ⟨fun h => h4 h.2.2.2, rfl⟩
        · refine ro_aload_n dX0_joinNext_63 rfl ?_
          refine f0_lasts dX0_joinNext_64 ?_
          refine ro_iload_n dX0_joinNext_67 rfl ?_
          refine ro_aload_n dX0_joinNext_68 rfl ?_
          refine f0_lasts dX0_joinNext_69 ?_
          refine ro_iload_n dX0_joinNext_72 rfl ?_
          refine ro_iconst (x := nI 1) dX0_joinNext_73 (by decide) ?_
          refine ro_iadd dX0_joinNext_74 ?_
          refine l0_lasts dX0_joinNext_75 (by omega) ?_
          refine s0_lasts dX0_joinNext_76 (by omega) ?_
          refine ro_aload_n dX0_joinNext_77 rfl ?_
          refine ro_iload_n dX0_joinNext_78 rfl ?_
          refine ro_iconst (x := nI 1) dX0_joinNext_79 (by decide) ?_
          refine ro_iadd dX0_joinNext_80 ?_
          refine ro_call0v 1 (mt_shut O F (up L k (L (k + 1))) T V P X Y Z n c (k + 1) h1 hn) cv_X0_X0_shut dn_X0_shut rfl ⟨by decide, by decide⟩ rfl (Nat.le_of_ble_eq_true rfl) dX0_joinNext_81 (fun u2 hu => ?_)
          subst hu
          refine ro_vret dX0_joinNext_84 ?_
          exact Or.inl ⟨⟨h1, h2, h3, h4⟩, rfl⟩
set_option maxHeartbeats 4000000 in
set_option maxRecDepth 100000 in
theorem mt_cutOut (O F L T V P X Y Z : Fn) (n c o f l : Nat) (hS : SD O F L T n) (hG : MG O F L T n) (hB : Bp O F L T) (ho : o ≤ 4) (hfl : f ≤ l) (hl : l ≤ 39) : MCv w0 yX0_cutOut cX0_cutOut 6 2 44 [.int (nI o), .int (nI f), .int (nI l)] ((O, F, L, T, V, P, X, Y, Z, n, c)) (fun u2 => ∃ O2 F2 L2 T2 n2, u2 = (O2, F2, L2, T2, V, P, X, Y, Z, n2, c) ∧ CutE O F L T n o f l O2 F2 L2 T2 n2) := by
  refine MCv_of (lv := fun ad => [some (.ref (ad 0)), some (.int (nI o)), some (.int (nI f)), some (.int (nI l)), none, none]) (by decide) rfl (fun _ => Nat.le_of_ble_eq_true rfl) (fun _ => rfl) ?_
  intro g ad cI cZ
  show G g _ cX0_cutOut RX0 6 _ (w0 ad cI cZ) _ _ ((O, F, L, T, V, P, X, Y, Z, n, c)) 0 _ []
  have loop : ∀ (d s : Nat) (O2 F2 L2 T2 : Fn) (n2 k : Nat), s + d = 80 → CutI O F L T n o f l O2 F2 L2 T2 n2 k s → G g ({ frames := 2, cells := 0, slots := 0, locals := 44 }) cX0_cutOut RX0 6 [(cI, .int), (cZ, .boolean)] (w0 ad cI cZ) (fun _ _ => False) (fun u2 => ∃ O2 F2 L2 T2 n2, u2 = (O2, F2, L2, T2, V, P, X, Y, Z, n2, c) ∧ CutE O F L T n o f l O2 F2 L2 T2 n2) (O2, F2, L2, T2, V, P, X, Y, Z, n2, c) 10 [some (.ref (ad 0)), some (.int (nI o)), some (.int (nI f)), some (.int (nI l)), some (.int (nI k)), some (.int (nI s))] [] := by
    intro d
    induction d with
    | zero =>
      intro s O2 F2 L2 T2 n2 k hs hI
      refine ro_iload dX0_cutOut_10 rfl ?_
      refine ro_bipush (x := nI 80) dX0_cutOut_12 (by decide) ?_
      refine ro_icmp_ge 227 dX0_cutOut_14 (by decide) (by omega) (by omega) (fun h1 => ?_) (fun h1 => ?_)
      · refine ro_vret dX0_cutOut_227 ?_
        exact ⟨O2, F2, L2, T2, n2, rfl, cut_exit hI (cut_fuel hI (by omega))⟩
      · exact absurd h1 (by omega)
    | succ d ih =>
      intro s O2 F2 L2 T2 n2 k hs hI
      have hn := SD_n hI.1
      have hkn := hI.2.2.2.1
      have bO := hI.2.2.1.1 k
      have bF := hI.2.2.1.2.1 k
      have bL := hI.2.2.1.2.2.1 k
      refine ro_iload dX0_cutOut_10 rfl ?_
      refine ro_bipush (x := nI 80) dX0_cutOut_12 (by decide) ?_
      refine ro_icmp_ge 227 dX0_cutOut_14 (by decide) (by omega) (by omega) (fun h1 => ?_) (fun h1 => ?_)
      · exact absurd h1 (by omega)
      · refine ro_iload dX0_cutOut_17 rfl ?_
        refine ro_aload_n dX0_cutOut_19 rfl ?_
        refine f0_count dX0_cutOut_20 ?_
        refine ro_icmp_ge 37 dX0_cutOut_23 (by decide) (by omega) (by omega) (fun h2 => ?_) (fun h2 => ?_)
        · refine ro_vret dX0_cutOut_37 ?_
          exact ⟨O2, F2, L2, T2, n2, rfl, cut_exit hI (fun h => absurd h (by omega))⟩
        · refine ro_aload_n dX0_cutOut_26 rfl ?_
          refine f0_ownerOf dX0_cutOut_27 ?_
          refine ro_iload dX0_cutOut_30 rfl ?_
          refine l0_ownerOf dX0_cutOut_32 (by omega) ?_
          refine ro_iload_n dX0_cutOut_33 rfl ?_
          refine ro_icmp_eq 38 dX0_cutOut_34 (by decide) (by omega) (by omega) (fun h3 => ?_) (fun h3 => ?_)
          · refine ro_aload_n dX0_cutOut_38 rfl ?_
            refine f0_lasts dX0_cutOut_39 ?_
            refine ro_iload dX0_cutOut_42 rfl ?_
            refine l0_lasts dX0_cutOut_44 (by omega) ?_
            refine ro_iload_n dX0_cutOut_45 rfl ?_
            refine ro_icmp_lt 60 dX0_cutOut_46 (by decide) (by omega) (by omega) (fun h4 => ?_) (fun h4 => ?_)
            · refine ro_iinc (lv1 := [_, _, _, _, _, _]) dX0_cutOut_60 rfl rfl rfl rfl ?_
              refine ro_goto 221 dX0_cutOut_63 (by decide) ?_
              refine ro_iinc (lv1 := [_, _, _, _, _, _]) dX0_cutOut_221 rfl rfl rfl rfl ?_
              refine ro_goto 10 dX0_cutOut_224 (by decide) ?_
              exact ih (s + 1) O2 F2 L2 T2 n2 (k + 1) (by omega) (cut_skip hI h2 h3 (Or.inl h4))
            · refine ro_aload_n dX0_cutOut_49 rfl ?_
              refine f0_firsts dX0_cutOut_50 ?_
              refine ro_iload dX0_cutOut_53 rfl ?_
              refine l0_firsts dX0_cutOut_55 (by omega) ?_
              refine ro_iload_n dX0_cutOut_56 rfl ?_
              refine ro_icmp_le 66 dX0_cutOut_57 (by decide) (by omega) (by omega) (fun h5 => ?_) (fun h5 => ?_)
              · refine ro_aload_n dX0_cutOut_66 rfl ?_
                refine f0_firsts dX0_cutOut_67 ?_
                refine ro_iload dX0_cutOut_70 rfl ?_
                refine l0_firsts dX0_cutOut_72 (by omega) ?_
                refine ro_iload_n dX0_cutOut_73 rfl ?_
                refine ro_icmp_ge 161 dX0_cutOut_74 (by decide) (by omega) (by omega) (fun h6 => ?_) (fun h6 => ?_)
                · refine ro_aload_n dX0_cutOut_161 rfl ?_
                  refine f0_firsts dX0_cutOut_162 ?_
                  refine ro_iload dX0_cutOut_165 rfl ?_
                  refine l0_firsts dX0_cutOut_167 (by omega) ?_
                  refine ro_iload_n dX0_cutOut_168 rfl ?_
                  refine ro_icmp_ge 188 dX0_cutOut_169 (by decide) (by omega) (by omega) (fun h7 => ?_) (fun h7 => ?_)
                  · refine ro_aload_n dX0_cutOut_188 rfl ?_
                    refine f0_lasts dX0_cutOut_189 ?_
                    refine ro_iload dX0_cutOut_192 rfl ?_
                    refine l0_lasts dX0_cutOut_194 (by omega) ?_
                    refine ro_iload_n dX0_cutOut_195 rfl ?_
                    refine ro_icmp_le 215 dX0_cutOut_196 (by decide) (by omega) (by omega) (fun h8 => ?_) (fun h8 => ?_)
                    · refine ro_aload_n dX0_cutOut_215 rfl ?_
                      refine ro_iload dX0_cutOut_216 rfl ?_
                      refine ro_call0v 1 (mt_shut O2 F2 L2 T2 V P X Y Z n2 c k h2 (by omega)) cv_X0_X0_shut dn_X0_shut rfl ⟨by decide, by decide⟩ rfl (Nat.le_of_ble_eq_true rfl) dX0_cutOut_218 (fun u2 hu => ?_)
                      subst hu
                      refine ro_iinc (lv1 := [_, _, _, _, _, _]) dX0_cutOut_221 rfl rfl rfl rfl ?_
                      refine ro_goto 10 dX0_cutOut_224 (by decide) ?_
                      exact ih (s + 1) _ _ _ _ (n2 - 1) k (by omega) (cut_drop hI h2 h3 h6 h8)
                    · refine ro_aload_n dX0_cutOut_199 rfl ?_
                      refine f0_firsts dX0_cutOut_200 ?_
                      refine ro_iload dX0_cutOut_203 rfl ?_
                      refine ro_iload_n dX0_cutOut_205 rfl ?_
                      refine ro_iconst (x := nI 1) dX0_cutOut_206 (by decide) ?_
                      refine ro_iadd dX0_cutOut_207 ?_
                      refine s0_firsts dX0_cutOut_208 (by omega) ?_
                      refine ro_iinc (lv1 := [_, _, _, _, _, _]) dX0_cutOut_209 rfl rfl rfl rfl ?_
                      refine ro_goto 221 dX0_cutOut_212 (by decide) ?_
                      refine ro_iinc (lv1 := [_, _, _, _, _, _]) dX0_cutOut_221 rfl rfl rfl rfl ?_
                      refine ro_goto 10 dX0_cutOut_224 (by decide) ?_
                      exact ih (s + 1) O2 _ L2 T2 n2 (k + 1) (by omega) (cut_right hI h2 h3 h6 h5 h8)
                  · exact absurd h7 (by omega)
                · refine ro_aload_n dX0_cutOut_77 rfl ?_
                  refine f0_lasts dX0_cutOut_78 ?_
                  refine ro_iload dX0_cutOut_81 rfl ?_
                  refine l0_lasts dX0_cutOut_83 (by omega) ?_
                  refine ro_iload_n dX0_cutOut_84 rfl ?_
                  refine ro_icmp_le 161 dX0_cutOut_85 (by decide) (by omega) (by omega) (fun h7 => ?_) (fun h7 => ?_)
                  · refine ro_aload_n dX0_cutOut_161 rfl ?_
                    refine f0_firsts dX0_cutOut_162 ?_
                    refine ro_iload dX0_cutOut_165 rfl ?_
                    refine l0_firsts dX0_cutOut_167 (by omega) ?_
                    refine ro_iload_n dX0_cutOut_168 rfl ?_
                    refine ro_icmp_ge 188 dX0_cutOut_169 (by decide) (by omega) (by omega) (fun h8 => ?_) (fun h8 => ?_)
                    · exact absurd h8 (by omega)
                    · refine ro_aload_n dX0_cutOut_172 rfl ?_
                      refine f0_lasts dX0_cutOut_173 ?_
                      refine ro_iload dX0_cutOut_176 rfl ?_
                      refine ro_iload_n dX0_cutOut_178 rfl ?_
                      refine ro_iconst (x := nI 1) dX0_cutOut_179 (by decide) ?_
                      refine ro_isub dX0_cutOut_180 (by omega) ?_
                      refine s0_lasts dX0_cutOut_181 (by omega) ?_
                      refine ro_iinc (lv1 := [_, _, _, _, _, _]) dX0_cutOut_182 rfl rfl rfl rfl ?_
                      refine ro_goto 221 dX0_cutOut_185 (by decide) ?_
                      refine ro_iinc (lv1 := [_, _, _, _, _, _]) dX0_cutOut_221 rfl rfl rfl rfl ?_
                      refine ro_goto 10 dX0_cutOut_224 (by decide) ?_
                      exact ih (s + 1) O2 F2 _ T2 n2 (k + 1) (by omega) (cut_left hI h2 h3 h6 h4 h7)
                  · refine ro_aload_n dX0_cutOut_88 rfl ?_
                    refine ro_iload dX0_cutOut_89 rfl ?_
                    refine ro_iconst (x := nI 1) dX0_cutOut_91 (by decide) ?_
                    refine ro_iadd dX0_cutOut_92 ?_
                    refine ro_call0v 1 (mt_open O2 F2 L2 T2 V P X Y Z n2 c (k + 1) h2 (by omega)) cv_X0_X0_open dn_X0_open rfl ⟨by decide, by decide⟩ rfl (Nat.le_of_ble_eq_true rfl) dX0_cutOut_93 (fun u2 hu => ?_)
                    subst hu
                    refine ro_aload_n dX0_cutOut_96 rfl ?_
                    refine f0_ownerOf dX0_cutOut_97 ?_
                    refine ro_iload dX0_cutOut_100 rfl ?_
                    refine ro_iconst (x := nI 1) dX0_cutOut_102 (by decide) ?_
                    refine ro_iadd dX0_cutOut_103 ?_
                    refine ro_iload_n dX0_cutOut_104 rfl ?_
                    refine s0_ownerOf dX0_cutOut_105 (by omega) ?_
                    refine ro_aload_n dX0_cutOut_106 rfl ?_
                    refine f0_firsts dX0_cutOut_107 ?_
                    refine ro_iload dX0_cutOut_110 rfl ?_
                    refine ro_iconst (x := nI 1) dX0_cutOut_112 (by decide) ?_
                    refine ro_iadd dX0_cutOut_113 ?_
                    refine ro_iload_n dX0_cutOut_114 rfl ?_
                    refine ro_iconst (x := nI 1) dX0_cutOut_115 (by decide) ?_
                    refine ro_iadd dX0_cutOut_116 ?_
                    refine s0_firsts dX0_cutOut_117 (by omega) ?_
                    refine ro_aload_n dX0_cutOut_118 rfl ?_
                    refine f0_lasts dX0_cutOut_119 ?_
                    refine ro_iload dX0_cutOut_122 rfl ?_
                    refine ro_iconst (x := nI 1) dX0_cutOut_124 (by decide) ?_
                    refine ro_iadd dX0_cutOut_125 ?_
                    refine ro_aload_n dX0_cutOut_126 rfl ?_
                    refine f0_lasts dX0_cutOut_127 ?_
                    refine ro_iload dX0_cutOut_130 rfl ?_
                    refine l0_lasts dX0_cutOut_132 (by omega) ?_
                    refine s0_lasts dX0_cutOut_133 (by omega) ?_
                    refine ro_aload_n dX0_cutOut_134 rfl ?_
                    refine f0_types dX0_cutOut_135 ?_
                    refine ro_iload dX0_cutOut_138 rfl ?_
                    refine ro_iconst (x := nI 1) dX0_cutOut_140 (by decide) ?_
                    refine ro_iadd dX0_cutOut_141 ?_
                    refine ro_aload_n dX0_cutOut_142 rfl ?_
                    refine f0_types dX0_cutOut_143 ?_
                    refine ro_iload dX0_cutOut_146 rfl ?_
                    refine l0_types dX0_cutOut_148 (by omega) ?_
                    refine s0_types dX0_cutOut_149 (by omega) ?_
                    refine ro_aload_n dX0_cutOut_150 rfl ?_
                    refine f0_lasts dX0_cutOut_151 ?_
                    refine ro_iload dX0_cutOut_154 rfl ?_
                    refine ro_iload_n dX0_cutOut_156 rfl ?_
                    refine ro_iconst (x := nI 1) dX0_cutOut_157 (by decide) ?_
                    refine ro_isub dX0_cutOut_158 (by omega) ?_
                    refine s0_lasts dX0_cutOut_159 (by omega) ?_
                    refine ro_vret dX0_cutOut_160 ?_
                    refine ⟨_, _, _, _, _, rfl, ?_⟩
                    have hc := cut_split hI h2 h3 ho hfl h6 h7
                    rw [shR_lo (show k ≤ k + 1 by omega), shR_lo (show k ≤ k + 1 by omega)]
                    exact hc
              · refine ro_iinc (lv1 := [_, _, _, _, _, _]) dX0_cutOut_60 rfl rfl rfl rfl ?_
                refine ro_goto 221 dX0_cutOut_63 (by decide) ?_
                refine ro_iinc (lv1 := [_, _, _, _, _, _]) dX0_cutOut_221 rfl rfl rfl rfl ?_
                refine ro_goto 10 dX0_cutOut_224 (by decide) ?_
                exact ih (s + 1) O2 F2 L2 T2 n2 (k + 1) (by omega) (cut_skip hI h2 h3 (Or.inr h5))
          · refine ro_vret dX0_cutOut_37 ?_
            exact ⟨O2, F2, L2, T2, n2, rfl, cut_exit hI (fun _ => h3)⟩
  refine ro_aload_n dX0_cutOut_0 rfl ?_
  refine ro_iload_n dX0_cutOut_1 rfl ?_
  refine ro_call0 1 (mt_begin O F L T V P X Y Z n c o (SD_mono hS) hB.1 (by omega) (by have := SD_n hS; omega)) cv_X0_X0_begin dn_X0_begin rfl ⟨by decide, by decide⟩ rfl (Nat.le_of_ble_eq_true rfl) dX0_cutOut_2 (fun r u2 hr => ?_)
  obtain ⟨⟨b, hb, rfl⟩, rfl⟩ := hr
  refine ro_istore (lv1 := [_, _, _, _, _, _]) dX0_cutOut_5 rfl rfl rfl ?_
  refine ro_iconst (x := nI 0) dX0_cutOut_7 (by decide) ?_
  refine ro_istore (lv1 := [_, _, _, _, _, _]) dX0_cutOut_8 rfl rfl rfl ?_
  exact loop 80 0 O F L T n b rfl ⟨hS, hG, hB, hb.1, fun j hj => Or.inl (hb.2.1 j hj), hb.2.2, fun _ _ _ _ => Nat.zero_le _, fun _ _ _ _ => Iff.rfl⟩
end
section
/-! X0: paint -/
set_option maxRecDepth 100000
/-- the stretch f .. l of the owner o painted with t -/
def PntH (O F L T : Fn) (n o f l t : Nat) (O2 F2 L2 T2 : Fn) (n2 : Nat) : Prop := ∀ p b v, has O2 F2 L2 T2 n2 p b v ↔ (((p = o ∧ f ≤ b ∧ b ≤ l) ∧ v = t ∧ t ≠ 0) ∨ (¬ (p = o ∧ f ≤ b ∧ b ≤ l) ∧ has O F L T n p b v))
def PntE (O F L T : Fn) (n o f l t : Nat) (O2 F2 L2 T2 : Fn) (n2 : Nat) : Prop := SD O2 F2 L2 T2 n2 ∧ MG O2 F2 L2 T2 n2 ∧ Bp O2 F2 L2 T2 ∧ PntH O F L T n o f l t O2 F2 L2 T2 n2
theorem CutE_none {Oo Fo Lo To : Fn} {no o f l : Nat} {O F L T : Fn} {n p b v : Nat} (h : CutE Oo Fo Lo To no o f l O F L T n) (hp : p = o ∧ f ≤ b ∧ b ≤ l) : ¬ has O F L T n p b v := by
  rintro ⟨j, hj, a1, a2, a3, a4⟩
  have := h.2.2.2.1 j hj (by omega)
  omega
theorem pnt_0 {Oo Fo Lo To : Fn} {no o f l : Nat} {O F L T : Fn} {n : Nat} (h : CutE Oo Fo Lo To no o f l O F L T n) : PntE Oo Fo Lo To no o f l 0 O F L T n := by
  refine ⟨h.1, h.2.1, h.2.2.1, fun p b v => ?_⟩
  by_cases hp : p = o ∧ f ≤ b ∧ b ≤ l
  · exact ⟨fun q => absurd q (CutE_none h hp), fun q => q.elim (fun z => absurd rfl z.2.2) (fun z => absurd hp z.1)⟩
  · rw [h.2.2.2.2 p b v hp]
    exact ⟨fun q => Or.inr ⟨hp, q⟩, fun q => q.elim (fun z => absurd z.1 hp) (fun z => z.2)⟩
theorem pnt_ins {Oo Fo Lo To : Fn} {no o f l t : Nat} {O F L T : Fn} {n a : Nat} (h : CutE Oo Fo Lo To no o f l O F L T n) (ha : a ≤ n) (ht : t ≠ 0) : PntH Oo Fo Lo To no o f l t (ins O a n o) (ins F a n f) (ins L a n l) (ins T a n t) (n + 1) := by
  intro p b v
  rw [has_ins ha]
  by_cases hp : p = o ∧ f ≤ b ∧ b ≤ l
  · have hn := CutE_none (v := v) h hp
    exact ⟨fun q => q.elim (fun z => absurd z hn) (fun z => Or.inl ⟨hp, z.2.2.2, ht⟩), fun q => q.elim (fun z => Or.inr ⟨hp.1, hp.2.1, hp.2.2, z.2.1⟩) (fun z => absurd hp z.1)⟩
  · rw [h.2.2.2.2 p b v hp]
    exact ⟨fun q => q.elim (fun z => Or.inr ⟨hp, z⟩) (fun z => absurd ⟨z.1, z.2.1, z.2.2.1⟩ hp), fun q => q.elim (fun z => absurd z.1 hp) (fun z => Or.inl z.2)⟩
set_option maxHeartbeats 4000000 in
set_option maxRecDepth 100000 in
theorem mt_paint (O F L T V P X Y Z : Fn) (n c o f l t : Nat) (hS : SD O F L T n) (hG : MG O F L T n) (hB : Bp O F L T) (ho : o ≤ 4) (hfl : f ≤ l) (hl : l ≤ 39) (ht : t ≤ 2) : MCv w0 yX0_paint cX0_paint 7 3 69 [.int (nI o), .int (nI f), .int (nI l), .int (nI t)] ((O, F, L, T, V, P, X, Y, Z, n, c)) (fun u2 => ∃ O2 F2 L2 T2 n2, u2 = (O2, F2, L2, T2, V, P, X, Y, Z, n2, c) ∧ PntE O F L T n o f l t O2 F2 L2 T2 n2) := by
  refine MCv_of (lv := fun ad => [some (.ref (ad 0)), some (.int (nI o)), some (.int (nI f)), some (.int (nI l)), some (.int (nI t)), none, none]) (by decide) rfl (fun _ => Nat.le_of_ble_eq_true rfl) (fun _ => rfl) ?_
  intro g ad cI cZ
  show G g _ cX0_paint RX0 7 _ (w0 ad cI cZ) _ _ ((O, F, L, T, V, P, X, Y, Z, n, c)) 0 _ []
  refine ro_aload_n dX0_paint_0 rfl ?_
  refine ro_iload_n dX0_paint_1 rfl ?_
  refine ro_iload_n dX0_paint_2 rfl ?_
  refine ro_iload_n dX0_paint_3 rfl ?_
  refine ro_call0v 3 (mt_cutOut O F L T V P X Y Z n c o f l hS hG hB ho hfl hl) cv_X0_X0_cutOut dn_X0_cutOut rfl ⟨by decide, by decide⟩ rfl (Nat.le_of_ble_eq_true rfl) dX0_paint_4 (fun u2 hu => ?_)
  obtain ⟨O1, F1, L1, T1, n1, rfl, hE⟩ := hu
  refine ro_iload dX0_paint_7 rfl ?_
  refine ro_if_ne 13 dX0_paint_9 (by decide) (by omega) (fun h1 => ?_) (fun h1 => ?_)
  · have hn := SD_n hE.1
    have hBt : Bp O1 F1 L1 T1 := hE.2.2.1
    refine ro_aload_n dX0_paint_13 rfl ?_
    refine ro_iload_n dX0_paint_14 rfl ?_
    refine ro_call0 1 (mt_begin O1 F1 L1 T1 V P X Y Z n1 c o (SD_mono hE.1) hBt.1 (by omega) (by omega)) cv_X0_X0_begin dn_X0_begin rfl ⟨by decide, by decide⟩ rfl (Nat.le_of_ble_eq_true rfl) dX0_paint_15 (fun r u2 hr => ?_)
    obtain ⟨⟨b, hb, rfl⟩, rfl⟩ := hr
    refine ro_istore (lv1 := [_, _, _, _, _, _, _]) dX0_paint_18 rfl rfl rfl ?_
    refine ro_aload_n dX0_paint_20 rfl ?_
    refine ro_iload_n dX0_paint_21 rfl ?_
    refine ro_iconst (x := nI 1) dX0_paint_22 (by decide) ?_
    refine ro_iadd dX0_paint_23 ?_
    refine ro_call0 1 (mt_begin O1 F1 L1 T1 V P X Y Z n1 c (o + 1) (SD_mono hE.1) hBt.1 (by omega) (by omega)) cv_X0_X0_begin dn_X0_begin rfl ⟨by decide, by decide⟩ rfl (Nat.le_of_ble_eq_true rfl) dX0_paint_24 (fun r u2 hr => ?_)
    obtain ⟨⟨e, he, rfl⟩, rfl⟩ := hr
    have hbn := hb.1
    have hen := he.1
    -- behind the first join
    have fin : ∀ (a : Nat) (z : Option Value) (O4 F4 L4 T4 : Fn) (n4 : Nat), a < n4 → SD O4 F4 L4 T4 n4 → MGe (fun i => i + 1 = a) O4 F4 L4 T4 n4 → Bp O4 F4 L4 T4 → PntH O F L T n o f l t O4 F4 L4 T4 n4 → G g ({ frames := 3, cells := 0, slots := 0, locals := 69 }) cX0_paint RX0 7 [(cI, .int), (cZ, .boolean)] (w0 ad cI cZ) (fun _ _ => False) (fun u2 => ∃ O2 F2 L2 T2 n2, u2 = (O2, F2, L2, T2, V, P, X, Y, Z, n2, c) ∧ PntE O F L T n o f l t O2 F2 L2 T2 n2) (O4, F4, L4, T4, V, P, X, Y, Z, n4, c) 98 [some (.ref (ad 0)), some (.int (nI o)), some (.int (nI f)), some (.int (nI l)), some (.int (nI t)), some (.int (nI a)), z] [] := by
      intro a z O4 F4 L4 T4 n4 ha4 hS4 hG4 hB4 hH4
      have hn4 := SD_n hS4
      refine ro_iload dX0_paint_98 rfl ?_
      refine ro_if_le 111 dX0_paint_100 (by decide) (by omega) (fun h5 => ?_) (fun h5 => ?_)
      · refine ro_vret dX0_paint_111 ?_
        exact ⟨O4, F4, L4, T4, n4, rfl, hS4, fun j hj _ => hG4 j hj (by omega), hB4, hH4⟩
      · refine ro_aload_n dX0_paint_103 rfl ?_
        refine ro_iload dX0_paint_104 rfl ?_
        refine ro_iconst (x := nI 1) dX0_paint_106 (by decide) ?_
        refine ro_isub dX0_paint_107 (by omega) ?_
        refine ro_call0v 1 (mt_joinNext O4 F4 L4 T4 V P X Y Z n4 c (a - 1) hB4 (by omega) (by omega)) cv_X0_X0_joinNext dn_X0_joinNext rfl ⟨by decide, by decide⟩ rfl (Nat.le_of_ble_eq_true rfl) dX0_paint_108 (fun u2 hu => ?_)
        have hG5 : MGe (fun i => i = a - 1 ∨ False) O4 F4 L4 T4 n4 := fun j hj hne => hG4 j hj (fun q => hne (Or.inl (by omega)))
        rcases hu with ⟨hc, rfl⟩ | ⟨hc, rfl⟩
        · refine ro_vret dX0_paint_111 ?_
          exact ⟨_, _, _, _, _, rfl, join_SD hS4 hc, join_MG (fun _ q => q.elim) hG5 hc, (hB4.upL (hB4.2.2.1 _)).shL, fun p b v => (join_has hS4 hc).trans (hH4 p b v)⟩
        · refine ro_vret dX0_paint_111 ?_
          exact ⟨_, _, _, _, _, rfl, hS4, join_no hc hG5, hB4, hH4⟩
    -- at the place a
    have put : ∀ (a : Nat) (z : Option Value), a ≤ n1 → (∀ j, j < a → O1 j < o ∨ (O1 j = o ∧ L1 j < f)) → (∀ j, a ≤ j → j < n1 → o < O1 j ∨ (O1 j = o ∧ l < F1 j)) → G g ({ frames := 3, cells := 0, slots := 0, locals := 69 }) cX0_paint RX0 7 [(cI, .int), (cZ, .boolean)] (w0 ad cI cZ) (fun _ _ => False) (fun u2 => ∃ O2 F2 L2 T2 n2, u2 = (O2, F2, L2, T2, V, P, X, Y, Z, n2, c) ∧ PntE O F L T n o f l t O2 F2 L2 T2 n2) (O1, F1, L1, T1, V, P, X, Y, Z, n1, c) 53 [some (.ref (ad 0)), some (.int (nI o)), some (.int (nI f)), some (.int (nI l)), some (.int (nI t)), some (.int (nI a)), z] [] := by
      intro a z ha hlo hhi
      refine ro_aload_n dX0_paint_53 rfl ?_
      refine ro_iload dX0_paint_54 rfl ?_
      refine ro_call0v 1 (mt_open O1 F1 L1 T1 V P X Y Z n1 c a ha (by omega)) cv_X0_X0_open dn_X0_open rfl ⟨by decide, by decide⟩ rfl (Nat.le_of_ble_eq_true rfl) dX0_paint_56 (fun u2 hu => ?_)
      subst hu
      refine ro_aload_n dX0_paint_59 rfl ?_
      refine f0_ownerOf dX0_paint_60 ?_
      refine ro_iload dX0_paint_63 rfl ?_
      refine ro_iload_n dX0_paint_65 rfl ?_
      refine s0_ownerOf dX0_paint_66 (by omega) ?_
      refine ro_aload_n dX0_paint_67 rfl ?_
      refine f0_firsts dX0_paint_68 ?_
      refine ro_iload dX0_paint_71 rfl ?_
      refine ro_iload_n dX0_paint_73 rfl ?_
      refine s0_firsts dX0_paint_74 (by omega) ?_
      refine ro_aload_n dX0_paint_75 rfl ?_
      refine f0_lasts dX0_paint_76 ?_
      refine ro_iload dX0_paint_79 rfl ?_
      refine ro_iload_n dX0_paint_81 rfl ?_
      refine s0_lasts dX0_paint_82 (by omega) ?_
      refine ro_aload_n dX0_paint_83 rfl ?_
      refine f0_types dX0_paint_84 ?_
      refine ro_iload dX0_paint_87 rfl ?_
      refine ro_iload dX0_paint_89 rfl ?_
      refine s0_types dX0_paint_91 (by omega) ?_
      refine ro_aload_n dX0_paint_92 rfl ?_
      refine ro_iload dX0_paint_93 rfl ?_
      have hS3 := SD_ins (a := a) (o := o) (f := f) (l := l) (t := t) hE.1 ha ho hfl hl (by omega) hlo hhi
      have hG3 := MG_ins (a := a) (o := o) (f := f) (l := l) (t := t) hE.2.1 ha
      have hB3 : Bp (ins O1 a n1 o) (ins F1 a n1 f) (ins L1 a n1 l) (ins T1 a n1 t) := hBt.ins ho (by omega) hl ht
      have hH3 := pnt_ins (a := a) (t := t) hE ha h1
      have hn3 := SD_n hS3
      refine ro_call0v 1 (mt_joinNext (ins O1 a n1 o) (ins F1 a n1 f) (ins L1 a n1 l) (ins T1 a n1 t) V P X Y Z (n1 + 1) c a hB3 (by omega) (by omega)) cv_X0_X0_joinNext dn_X0_joinNext rfl ⟨by decide, by decide⟩ rfl (Nat.le_of_ble_eq_true rfl) dX0_paint_95 (fun u2 hu => ?_)
      rcases hu with ⟨hc, rfl⟩ | ⟨hc, rfl⟩
      · exact fin a z _ _ _ _ _ (by have := hc.1; omega) (join_SD hS3 hc) (join_MG (fun _ q => by omega) hG3 hc) (hB3.upL (hB3.2.2.1 _)).shL (fun p b v => (join_has hS3 hc).trans (hH3 p b v))
      · exact fin a z _ _ _ _ _ (by omega) hS3 (join_no hc hG3) hB3 hH3
    have loop : ∀ d a : Nat, a + d = e → b ≤ a → (∀ j, j < a → O1 j < o ∨ (O1 j = o ∧ L1 j < f)) → G g ({ frames := 3, cells := 0, slots := 0, locals := 69 }) cX0_paint RX0 7 [(cI, .int), (cZ, .boolean)] (w0 ad cI cZ) (fun _ _ => False) (fun u2 => ∃ O2 F2 L2 T2 n2, u2 = (O2, F2, L2, T2, V, P, X, Y, Z, n2, c) ∧ PntE O F L T n o f l t O2 F2 L2 T2 n2) (O1, F1, L1, T1, V, P, X, Y, Z, n1, c) 29 [some (.ref (ad 0)), some (.int (nI o)), some (.int (nI f)), some (.int (nI l)), some (.int (nI t)), some (.int (nI a)), some (.int (nI e))] [] := by
      intro d
      induction d with
      | zero =>
        intro a hae hba hlo
        have hae : a = e := hae
        subst hae
        refine ro_iload dX0_paint_29 rfl ?_
        refine ro_iload dX0_paint_31 rfl ?_
        refine ro_icmp_ge 53 dX0_paint_33 (by decide) (by omega) (by omega) (fun h2 => ?_) (fun h2 => ?_)
        · exact put a _ hen hlo (fun j hj hjn => Or.inl (he.2.2 j hj hjn))
        · exact absurd h2 (by omega)
      | succ d ih =>
        intro a hae hba hlo
        have bF := hBt.2.1 a
        refine ro_iload dX0_paint_29 rfl ?_
        refine ro_iload dX0_paint_31 rfl ?_
        refine ro_icmp_ge 53 dX0_paint_33 (by decide) (by omega) (by omega) (fun h2 => ?_) (fun h2 => ?_)
        · exact absurd h2 (by omega)
        · refine ro_aload_n dX0_paint_36 rfl ?_
          refine f0_firsts dX0_paint_37 ?_
          refine ro_iload dX0_paint_40 rfl ?_
          refine l0_firsts dX0_paint_42 (by omega) ?_
          refine ro_iload_n dX0_paint_43 rfl ?_
          have hoa : O1 a = o := by
            have q1 := hb.2.2 a hba (by omega)
            have q2 := he.2.1 a (by omega)
            omega
          have ha1 := hE.1.1 a (by omega)
          have ha2 := hE.2.2.2.1 a (by omega) hoa
          refine ro_icmp_ge 53 dX0_paint_44 (by decide) (by omega) (by omega) (fun h3 => ?_) (fun h3 => ?_)
          · refine put a _ (by omega) hlo (fun j hj hjn => ?_)
            have q0 := hb.2.2 j (by omega) hjn
            have q1 := hE.1.1 j hjn
            have q2 := hE.2.2.2.1 j hjn
            rcases Nat.eq_or_lt_of_le hj with q | q
            · subst q; omega
            · have q3 := SD_lt hE.1 q hjn
              omega
          · refine ro_iinc (lv1 := [_, _, _, _, _, _, _]) dX0_paint_47 rfl rfl rfl rfl ?_
            refine ro_goto 29 dX0_paint_50 (by decide) ?_
            refine ih (a + 1) (by omega) (by omega) (fun j hj => ?_)
            by_cases q : j = a
            · subst q; omega
            · exact hlo j (by omega)
    refine ro_istore (lv1 := [_, _, _, _, _, _, _]) dX0_paint_27 rfl rfl rfl ?_
    have hbe : b ≤ e := by
      rcases Nat.lt_or_ge e b with q | q
      · have q1 := hb.2.1 e q
        have q2 := he.2.2 e (Nat.le_refl e) (by omega)
        omega
      · exact q
    exact loop (e - b) b (by omega) (Nat.le_refl b) (fun j hj => Or.inl (hb.2.1 j hj))
  · refine ro_vret dX0_paint_12 ?_
    subst h1
    exact ⟨O1, F1, L1, T1, n1, rfl, pnt_0 hE⟩
end
section
/-! PURE: what the reference computes, over its cells: table B (owner p, byte b at 40 p + b), queue q with Wh, Fi, Ma, Ki -/
noncomputable def cif {α : Type} (P : Prop) (a b : α) : α := @ite α P (Classical.propDecidable P) a b
theorem cif_t {α : Type} {P : Prop} {a b : α} (h : P) : cif P a b = a := by unfold cif; simp [h]
theorem cif_f {α : Type} {P : Prop} {a b : α} (h : ¬ P) : cif P a b = b := by unfold cif; simp [h]
/-- the least of the first k numbers with P -/
noncomputable def srch (P : Nat → Prop) : Nat → Option Nat
  | 0 => none
  | k + 1 => match srch P k with
    | some i => some i
    | none => cif (P k) (some k) none
theorem srch_none {P : Nat → Prop} {k : Nat} (h : ∀ j, j < k → ¬ P j) : srch P k = none := by
  induction k with
  | zero => rfl
  | succ k ih =>
    unfold srch
    rw [ih (fun j hj => h j (by omega))]
    exact cif_f (h k (by omega))
theorem srch_some {P : Nat → Prop} {k i : Nat} (h1 : i < k) (h2 : P i) (h3 : ∀ j, j < i → ¬ P j) : srch P k = some i := by
  induction k with
  | zero => omega
  | succ k ih =>
    unfold srch
    by_cases e : i = k
    · subst e
      rw [srch_none h3]
      exact cif_t h2
    · rw [ih (by omega)]
theorem srch_cases (P : Nat → Prop) (k : Nat) : (srch P k = none ∧ ∀ j, j < k → ¬ P j) ∨ ∃ i, srch P k = some i ∧ i < k ∧ P i ∧ ∀ j, j < i → ¬ P j := by
  induction k with
  | zero => exact Or.inl ⟨rfl, fun j hj => absurd hj (Nat.not_lt_zero j)⟩
  | succ k ih =>
    rcases ih with ⟨h1, h2⟩ | ⟨i, h1, h2, h3, h4⟩
    · by_cases e : P k
      · exact Or.inr ⟨k, srch_some (by omega) e h2, by omega, e, h2⟩
      · refine Or.inl ⟨srch_none ?_, ?_⟩ <;>
        · intro j hj
          by_cases q : j = k
          · rw [q]; exact e
          · exact h2 j (by omega)
    · exact Or.inr ⟨i, srch_some (by omega) h3 h4, by omega, h3, h4⟩
/-- a lock of type v stands against a request of type t -/
def cf (t v : Nat) : Prop := (t = 2 ∧ v ≠ 0) ∨ (t = 1 ∧ v = 2)
def clP (B : Fn) (o a m t p : Nat) : Prop := p ≠ o ∧ ∃ b, a ≤ b ∧ b < a + m ∧ cf t (B (40 * p + b))
noncomputable def agst (B : Fn) (o a m t : Nat) : Nat := mk5 (clP B o a m t)
def grB (B : Fn) (o a m t : Nat) : Fn := fun j => if 40 * o + a ≤ j ∧ j < 40 * o + a + m then t else B j
abbrev Q6 : Type := Fn × Nat × Fn × Fn × Fn × Fn
def rdy (v : Q6) (i : Nat) : Prop := match v with
  | (B, _, Wh, Fi, Ma, Ki) => agst B (Wh i) (Fi i) (Ma i) (Ki i) = 0
def stp (v : Q6) (i : Nat) : Q6 := match v with
  | (B, q, Wh, Fi, Ma, Ki) => (grB B (Wh i) (Fi i) (Ma i) (Ki i), q - 1, shL Wh i q, shL Fi i q, shL Ma i q, shL Ki i q)
/-- at most k grants: how many, and what then stands -/
noncomputable def setN : Nat → Q6 → Nat × Q6
  | 0, v => (0, v)
  | k + 1, v => match srch (rdy v) v.2.1 with
    | none => (0, v)
    | some i => ((setN k (stp v i)).1 + 1, (setN k (stp v i)).2)
theorem setN_none {v : Q6} (h : srch (rdy v) v.2.1 = none) : ∀ k, setN k v = (0, v) := by
  intro k
  cases k with
  | zero => rfl
  | succ k =>
    show (match srch (rdy v) v.2.1 with | none => (0, v) | some i => ((setN k (stp v i)).1 + 1, (setN k (stp v i)).2)) = _
    rw [h]
theorem setN_some {v : Q6} {i k : Nat} (h : srch (rdy v) v.2.1 = some i) : setN (k + 1) v = ((setN k (stp v i)).1 + 1, (setN k (stp v i)).2) := by
  show (match srch (rdy v) v.2.1 with | none => (0, v) | some i => ((setN k (stp v i)).1 + 1, (setN k (stp v i)).2)) = _
  rw [h]
/-- the reference's cells are small -/
def B1 (B Wh Fi Ma Ki : Fn) : Prop := (∀ j, B j ≤ 2) ∧ (∀ j, Wh j ≤ 4) ∧ (∀ j, Fi j + Ma j ≤ 40) ∧ ∀ j, Ki j ≤ 2
theorem grB_le {B : Fn} {o a m t : Nat} (h : ∀ j, B j ≤ 2) (ht : t ≤ 2) (j : Nat) : grB B o a m t j ≤ 2 := by
  unfold grB
  split
  · exact ht
  · exact h j
theorem sh2_le {A C : Fn} {i q : Nat} (h : ∀ j, A j + C j ≤ 40) (j : Nat) : shL A i q j + shL C i q j ≤ 40 := by
  unfold shL
  split
  · exact h _
  · exact h _
theorem B1.stp {B Wh Fi Ma Ki : Fn} {i q : Nat} (h : B1 B Wh Fi Ma Ki) : B1 (grB B (Wh i) (Fi i) (Ma i) (Ki i)) (shL Wh i q) (shL Fi i q) (shL Ma i q) (shL Ki i q) := ⟨grB_le h.1 (h.2.2.2 i), fun j => shL_any (Q := fun z => z ≤ 4) h.2.1 j, sh2_le h.2.2.1, fun j => shL_any (Q := fun z => z ≤ 2) h.2.2.2 j⟩
/-- arguments -/
def okO (x : Int32) : Prop := ∃ o : Nat, o < 5 ∧ x = nI o
def okB (x : Int32) : Prop := ∃ b : Nat, b < 40 ∧ x = nI b
def okR (s n : Int32) : Prop := ∃ a m : Nat, 1 ≤ m ∧ a + m ≤ 40 ∧ s = nI a ∧ n = nI m
def okT (k : Nat) (t : Int32) : Prop := ∃ j : Nat, k ≤ j ∧ j ≤ 2 ∧ t = nI j
theorem rng_of {x : Int32} {lo hi : Nat} (hh : hi < 2 ^ 31) (hlh : lo < 2 ^ 31) (h1 : ¬ x < nI lo) (h2 : ¬ nI hi < x) : ∃ j : Nat, lo ≤ j ∧ j ≤ hi ∧ x = nI j := by
  rw [Int32.lt_iff_toInt_lt, nI_toInt hlh] at h1
  rw [Int32.lt_iff_toInt_lt, nI_toInt hh] at h2
  refine ⟨x.toInt.toNat, by omega, by omega, ?_⟩
  apply Int32.toInt_inj.mp
  rw [nI_toInt (by omega)]
  omega
theorem neg_of {x : Int32} {j : Nat} (hj : j < 2 ^ 31) (h : x < 0) : x ≠ nI j := fun e => nI_pos hj (e ▸ h)
/-- a place as an answer -/
def opI (x : Option Nat) : Int32 := match x with
  | none => -1
  | some i => nI i
end
section
/-! PURE: who is reached from a set of owners -/
def lds (out : Fn) (m o : Nat) : Prop := ∀ C : Nat → Prop, (∀ p, bit m p → C p) → (∀ p q, p < 5 → C p → bit (out p) q → C q) → C o
def cyc (out : Fn) (m o : Nat) : Prop := ∀ C : Nat → Prop, (∀ p q, p < 5 → bit m p → bit (out p) q → C q) → (∀ p q, p < 5 → C p → bit (out p) q → C q) → C o
theorem lds_cyc {out : Fn} {m o : Nat} (hm : m < 32) (h : ¬ bit m o) : lds out m o ↔ cyc out m o := by
  constructor
  · intro hl C h1 h2
    have := hl (fun x => bit m x ∨ C x) (fun p hp => Or.inl hp) (fun p q hp hC hb => Or.inr (hC.elim (fun z => h1 p q hp z hb) (fun z => h2 p q hp z hb)))
    exact this.elim (fun z => absurd z h) (fun z => z)
  · intro hc C h1 h2
    exact hc C (fun p q hp hb hq => h2 p q hp (h1 p hb) hq) h2
def clo (out : Fn) (M : Nat) : Prop := ∀ p q, p < 5 → bit M p → bit (out p) q → bit M q
def crd (m : Nat) : Nat := m % 2 + m / 2 % 2 + m / 4 % 2 + m / 8 % 2 + m / 16 % 2
theorem crd_tab : ∀ a : Fin 32, ∀ b : Fin 32, a.val % 2 ≤ b.val % 2 → a.val / 2 % 2 ≤ b.val / 2 % 2 → a.val / 4 % 2 ≤ b.val / 4 % 2 → a.val / 8 % 2 ≤ b.val / 8 % 2 → a.val / 16 % 2 ≤ b.val / 16 % 2 → a.val ≠ b.val → crd a.val < crd b.val := by decide +kernel
theorem crd_tab5 : ∀ a : Fin 32, 5 ≤ crd a.val → a.val = 31 := by decide +kernel
theorem le01 {x y : Nat} (h : x % 2 = 1 → y % 2 = 1) : x % 2 ≤ y % 2 := by omega
theorem crd_lt {a b : Nat} (ha : a < 32) (hb : b < 32) (h : ∀ p, bit a p → bit b p) (hne : a ≠ b) : crd a < crd b := by
  have h0 := h 0
  have h1 := h 1
  have h2 := h 2
  have h3 := h 3
  have h4 := h 4
  unfold bit at h0 h1 h2 h3 h4
  simp only [Nat.reducePow, Nat.div_one] at h0 h1 h2 h3 h4
  exact crd_tab ⟨a, ha⟩ ⟨b, hb⟩ (le01 h0) (le01 h1) (le01 h2) (le01 h3) (le01 h4) hne
theorem crd_5 {a : Nat} (ha : a < 32) (h : 5 ≤ crd a) : a = 31 := crd_tab5 ⟨a, ha⟩ h
theorem bit_31 {p : Nat} (h : p < 5) : bit 31 p := by
  rcases (show p = 0 ∨ p = 1 ∨ p = 2 ∨ p = 3 ∨ p = 4 by omega) with e | e | e | e | e <;> subst e <;> rfl
/-- a round: all that one step reaches is in, and no more than can be reached -/
def Rd (out : Fn) (M M2 : Nat) : Prop := M2 < 32 ∧ (∀ p, bit M p → bit M2 p) ∧ (∀ p q, p < 5 → bit M p → bit (out p) q → bit M2 q) ∧ ∀ C : Nat → Prop, (∀ p, bit M p → C p) → (∀ p q, p < 5 → C p → bit (out p) q → C q) → ∀ p, bit M2 p → C p
theorem Rd_next {out : Fn} {M M2 r : Nat} (hM : M < 32) (h : Rd out M M2) (hr : clo out M ∨ r ≤ crd M) : clo out M2 ∨ r + 1 ≤ crd M2 := by
  obtain ⟨h1, h2, h3, h4⟩ := h
  by_cases e : M = M2
  · subst e; exact Or.inl h3
  · rcases hr with hr | hr
    · exact absurd (bit_ext (fun p => ⟨h2 p, h4 (fun x => bit M x) (fun _ z => z) hr p⟩)) e
    · have := crd_lt hM h1 h2 e
      exact Or.inr (by omega)
theorem clo_5 {out : Fn} {M : Nat} (ho : ∀ p, out p < 32) (hM : M < 32) (h : clo out M ∨ 5 ≤ crd M) : clo out M := by
  rcases h with h | h
  · exact h
  · have e := crd_5 hM h
    subst e
    intro p q hp _ hq
    rcases Nat.lt_or_ge q 5 with z | z
    · exact bit_31 z
    · exact absurd hq (bit_lt (k := 5) (ho p) z)
/-- what stands while a set grows -/
def Gw (out : Fn) (M0 M : Nat) : Prop := M < 32 ∧ (∀ p, bit M0 p → bit M p) ∧ ∀ C : Nat → Prop, (∀ p, bit M0 p → C p) → (∀ p q, p < 5 → C p → bit (out p) q → C q) → ∀ p, bit M p → C p
theorem Gw_rf {out : Fn} {M : Nat} (h : M < 32) : Gw out M M := ⟨h, fun _ z => z, fun _ z _ => z⟩
theorem Gw_rd {out : Fn} {M0 M M2 : Nat} (h : Gw out M0 M) (hr : Rd out M M2) : Gw out M0 M2 := ⟨hr.1, fun p z => hr.2.1 p (h.2.1 p z), fun C c1 c2 => hr.2.2.2 C (h.2.2 C c1 c2) c2⟩
/-- the set at its end answers -/
theorem Gw_lds {out : Fn} {M0 M o : Nat} (h : Gw out M0 M) (hc : clo out M) : bit M o ↔ lds out M0 o := ⟨fun hb C c1 c2 => h.2.2 C c1 c2 o hb, fun hl => hl (fun x => bit M x) h.2.1 hc⟩
theorem Gw_cyc {out : Fn} {m M0 M o : Nat} (h0 : ∀ q, bit M0 q ↔ ∃ p, p < 5 ∧ bit m p ∧ bit (out p) q) (h : Gw out M0 M) (hc : clo out M) : bit M o ↔ cyc out m o := by
  constructor
  · intro hb C c1 c2
    exact h.2.2 C (fun q hq => by obtain ⟨p, a, b, c⟩ := (h0 q).mp hq; exact c1 p q a b c) c2 o hb
  · intro hl
    exact hl (fun x => bit M x) (fun p q hp hb hq => h.2.1 q ((h0 q).mpr ⟨p, hp, hb, hq⟩)) hc
/-- within a round, the owners below o are done -/
def Rw (out : Fn) (M o K : Nat) : Prop := K < 32 ∧ (∀ p, bit M p → bit K p) ∧ (∀ p q, p < o → bit M p → bit (out p) q → bit K q) ∧ ∀ C : Nat → Prop, (∀ p, bit M p → C p) → (∀ p q, p < 5 → C p → bit (out p) q → C q) → ∀ p, bit K p → C p
theorem Rw_0 {out : Fn} {M : Nat} (h : M < 32) : Rw out M 0 M := ⟨h, fun _ z => z, fun p q hp => absurd hp (Nat.not_lt_zero p), fun _ z _ => z⟩
theorem Rw_yes {out : Fn} {M o K : Nat} (h : Rw out M o K) (ho : o < 5) (h5 : out o < 32) (hb : bit K o) : Rw out M (o + 1) (K ||| out o) := by
  obtain ⟨h1, h2, h3, h4⟩ := h
  refine ⟨or_lt (k := 5) h1 h5, fun p z => bit_or.mpr (Or.inl (h2 p z)), fun p q hp z hq => ?_, fun C c1 c2 p z => ?_⟩
  · by_cases e : p = o
    · subst e; exact bit_or.mpr (Or.inr hq)
    · exact bit_or.mpr (Or.inl (h3 p q (by omega) z hq))
  · rcases bit_or.mp z with y | y
    · exact h4 C c1 c2 p y
    · exact c2 o p ho (h4 C c1 c2 o hb) y
theorem Rw_yesM {out : Fn} {M o K : Nat} (h : Rw out M o K) (ho : o < 5) (h5 : out o < 32) (hb : bit M o) : Rw out M (o + 1) (K ||| out o) := Rw_yes h ho h5 (h.2.1 o hb)
theorem Rw_no {out : Fn} {M o K : Nat} (h : Rw out M o K) (hb : ¬ bit M o) : Rw out M (o + 1) K := by
  obtain ⟨h1, h2, h3, h4⟩ := h
  refine ⟨h1, h2, fun p q hp z hq => ?_, h4⟩
  by_cases e : p = o
  · subst e; exact absurd z hb
  · exact h3 p q (by omega) z hq
theorem Rw_noK {out : Fn} {M o K : Nat} (h : Rw out M o K) (hb : ¬ bit K o) : Rw out M (o + 1) K := Rw_no h (fun z => hb (h.2.1 o z))
theorem Rw_5 {out : Fn} {M K : Nat} (h : Rw out M 5 K) : Rd out M K := h
theorem bit_le {m p : Nat} (h : m < 32) : m / 2 ^ p < 2 ^ 31 := by
  have := Nat.div_le_self m (2 ^ p)
  omega
noncomputable def outM (v : Q6) (p : Nat) : Nat := match v with
  | (B, q, Wh, Fi, Ma, Ki) => match srch (fun i => Wh i = p) q with
    | none => 0
    | some i => agst B p (Fi i) (Ma i) (Ki i)
theorem outM_lt (v : Q6) (p : Nat) : outM v p < 32 := by
  obtain ⟨B, q, Wh, Fi, Ma, Ki⟩ := v
  show (match srch (fun i => Wh i = p) q with | none => 0 | some i => agst B p (Fi i) (Ma i) (Ki i)) < 32
  split
  · omega
  · exact mk5_lt _
/-- an owner waits in one place alone -/
def Ds (q : Nat) (Wh : Fn) : Prop := ∀ i j, i < q → j < q → Wh i = Wh j → i = j
theorem nI_and7 {n : Nat} (h : n ≤ 4) : nI n &&& nI 7 = nI n := by
  rcases (show n = 0 ∨ n = 1 ∨ n = 2 ∨ n = 3 ∨ n = 4 by omega) with e | e | e | e | e <;> subst e <;> rfl
end
section
/-! PURE: how many of the first n numbers have P; drawers -/
noncomputable def cnt (P : Nat → Prop) : Nat → Nat
  | 0 => 0
  | n + 1 => cnt P n + b01 (P n)
theorem cnt_s (P : Nat → Prop) (n : Nat) : cnt P (n + 1) = cnt P n + b01 (P n) := rfl
theorem cnt_y {P : Nat → Prop} {n : Nat} (h : P n) : cnt P (n + 1) = cnt P n + 1 := by rw [cnt_s, b01_t h]
theorem cnt_n {P : Nat → Prop} {n : Nat} (h : ¬ P n) : cnt P (n + 1) = cnt P n := by rw [cnt_s, b01_f h]; rfl
theorem cnt_le (P : Nat → Prop) (n : Nat) : cnt P n ≤ n := by
  induction n with
  | zero => exact Nat.le_refl _
  | succ n ih =>
    have := b01_le (P n)
    rw [cnt_s]
    omega
theorem cnt_cong {P Q : Nat → Prop} {n : Nat} (h : ∀ k, k < n → (P k ↔ Q k)) : cnt P n = cnt Q n := by
  induction n with
  | zero => rfl
  | succ n ih => rw [cnt_s, cnt_s, ih (fun k hk => h k (by omega)), b01_congr (h n (by omega))]
theorem cnt_0 {P : Nat → Prop} {n : Nat} (h : ∀ k, k < n → ¬ P k) : cnt P n = 0 := by
  induction n with
  | zero => rfl
  | succ n ih => rw [cnt_n (h n (by omega)), ih (fun k hk => h k (by omega))]
theorem cnt_or {P Q : Nat → Prop} {n : Nat} (h : ∀ k, k < n → P k → ¬ Q k) : cnt (fun k => P k ∨ Q k) n = cnt P n + cnt Q n := by
  induction n with
  | zero => rfl
  | succ n ih =>
    rw [cnt_s, cnt_s, cnt_s, ih (fun k hk => h k (by omega))]
    by_cases a : P n
    · have b := h n (by omega) a
      rw [b01_t a, b01_f b, b01_t (Or.inl a)]
      omega
    · by_cases b : Q n
      · rw [b01_f a, b01_t b, b01_t (Or.inr b)]
        omega
      · rw [b01_f a, b01_f b, b01_f (fun z => z.elim a b)]
        omega
theorem cnt_not (P : Nat → Prop) (n : Nat) : cnt P n + cnt (fun k => ¬ P k) n = n := by
  induction n with
  | zero => rfl
  | succ n ih =>
    rw [cnt_s, cnt_s]
    by_cases a : P n
    · rw [b01_t a, b01_f (fun z => z a)]
      omega
    · rw [b01_f a, b01_t a]
      omega
/-- a stretch -/
theorem cnt_rng (f l : Nat) : ∀ n, l ≤ n → cnt (fun k => f ≤ k ∧ k < l) n = l - f := by
  intro n
  induction n with
  | zero => intro h; show 0 = _; omega
  | succ n ih =>
    intro h
    by_cases e : l = n + 1
    · subst e
      by_cases e2 : f ≤ n
      · rw [cnt_y (P := fun k => f ≤ k ∧ k < n + 1) ⟨e2, by omega⟩]
        have : ∀ m, m ≤ n → cnt (fun k => f ≤ k ∧ k < n + 1) m = m - f := by
          intro m
          induction m with
          | zero => intro _; show 0 = _; omega
          | succ m im =>
            intro hm
            have i1 := im (by omega)
            by_cases e3 : f ≤ m
            · rw [cnt_y (P := fun k => f ≤ k ∧ k < n + 1) ⟨e3, by omega⟩, i1]; omega
            · rw [cnt_n (P := fun k => f ≤ k ∧ k < n + 1) (fun z => e3 z.1), i1]; omega
        rw [this n (Nat.le_refl n)]
        omega
      · rw [cnt_0 (fun k hk z => by omega)]
        omega
    · rw [cnt_n (P := fun k => f ≤ k ∧ k < l) (fun z => by omega)]
      exact ih (by omega)
theorem cnt_one {a n : Nat} (h : a < n) : cnt (fun k => k = a) n = 1 := by
  have := cnt_rng a (a + 1) n (by omega)
  rw [cnt_cong (Q := fun k => a ≤ k ∧ k < a + 1) (fun k _ => by omega), this]
  omega
/-- the places that d different numbers take -/
theorem cnt_img {f : Nat → Nat} {N a : Nat} : ∀ d, (∀ i, a ≤ i → i < a + d → f i < N) → (∀ i j, a ≤ i → i < j → j < a + d → f i ≠ f j) → cnt (fun y => ∃ i, a ≤ i ∧ i < a + d ∧ f i = y) N = d := by
  intro d
  induction d with
  | zero =>
    intro _ _
    exact cnt_0 (fun k _ ⟨i, h1, h2, _⟩ => by omega)
  | succ d ih =>
    intro h1 h2
    have i1 := ih (fun i a1 a2 => h1 i a1 (by omega)) (fun i j a1 a2 a3 => h2 i j a1 a2 (by omega))
    have i2 := cnt_one (h1 (a + d) (by omega) (by omega))
    have i3 := cnt_or (P := fun y => ∃ i, a ≤ i ∧ i < a + d ∧ f i = y) (Q := fun y => y = f (a + d)) (n := N) (fun k _ ⟨i, b1, b2, b3⟩ e => h2 i (a + d) b1 b2 (by omega) (b3.trans e))
    rw [i1, i2] at i3
    rw [← i3]
    refine cnt_cong (fun y _ => ⟨?_, ?_⟩)
    · rintro ⟨i, b1, b2, b3⟩
      by_cases e : i = a + d
      · subst e; exact Or.inr b3.symm
      · exact Or.inl ⟨i, b1, by omega, b3⟩
    · rintro (⟨i, b1, b2, b3⟩ | b)
      · exact ⟨i, b1, by omega, b3⟩
      · exact ⟨a + d, by omega, by omega, b.symm⟩
theorem cnt_mono {P : Nat → Prop} {a b : Nat} (h : a ≤ b) : cnt P a ≤ cnt P b := by
  induction b with
  | zero => rw [show a = 0 by omega]; exact Nat.le_refl _
  | succ b ih =>
    by_cases e : a = b + 1
    · rw [e]; exact Nat.le_refl _
    · have := ih (by omega)
      rw [cnt_s]
      omega
/-- more things than places: q different owners are five at most -/
theorem holes5 {q : Nat} {Wh : Fn} (hW : ∀ j, Wh j ≤ 4) (hD : ∀ i j, i < j → j < q → Wh i ≠ Wh j) : q ≤ 5 := by
  have h := cnt_img (f := Wh) (N := 5) (a := 0) q (fun i _ _ => by have := hW i; omega) (fun i j _ a b => hD i j a (by omega))
  have h2 := cnt_le (fun y => ∃ i, 0 ≤ i ∧ i < 0 + q ∧ Wh i = y) 5
  omega
end
section
/-! PURE: what each method answers, over the reference's cells v : Q6 = (B, q, Wh, Fi, Ma, Ki) -/
def nn (x : Int32) : Nat := x.toNatClampNeg
theorem nn_nI {n : Nat} (h : n < 2 ^ 31) : nn (nI n) = n := nI_clamp h
def vB (v : Q6) : Fn := v.1
/-- the place of an owner in the queue -/
noncomputable def wt (v : Q6) (o : Nat) : Option Nat := match v with
  | (_, q, Wh, _, _, _) => srch (fun i => Wh i = o) q
def grV (v : Q6) (o a m t : Nat) : Q6 := match v with
  | (B, q, Wh, Fi, Ma, Ki) => (grB B o a m t, q, Wh, Fi, Ma, Ki)
def lvV (v : Q6) (i : Nat) : Q6 := match v with
  | (B, q, Wh, Fi, Ma, Ki) => (B, q - 1, shL Wh i q, shL Fi i q, shL Ma i q, shL Ki i q)
def enq (v : Q6) (o a m t : Nat) : Q6 := match v with
  | (B, q, Wh, Fi, Ma, Ki) => (B, q + 1, up Wh q o, up Fi q a, up Ma q m, up Ki q t)
def cat (v : Q6) (Ou : Fn) : S1 := match v with
  | (B, q, Wh, Fi, Ma, Ki) => (B, q, Wh, Fi, Ma, Ki, Ou)
theorem okO_nI {o : Nat} (h : o < 5) : okO (nI o) := ⟨o, h, rfl⟩
theorem okB_nI {o : Nat} (h : o < 40) : okB (nI o) := ⟨o, h, rfl⟩
theorem okR_nI {a m : Nat} (h1 : 1 ≤ m) (h2 : a + m ≤ 40) : okR (nI a) (nI m) := ⟨a, m, h1, h2, rfl, rfl⟩
theorem okT_nI {k t : Nat} (h1 : k ≤ t) (h2 : t ≤ 2) : okT k (nI t) := ⟨t, h1, h2, rfl⟩
/-- the refusals -/
noncomputable def rfs (k : Nat) (v : Q6) (x y z w : Int32) : Int32 := cif (okO x) (cif (okR y z) (cif (okT k w) (cif (wt v (nn x) = none) 0 (-4)) (-3)) (-2)) (-1)
theorem rfs_1 {k : Nat} {v : Q6} {x y z w : Int32} (h : ¬ okO x) : rfs k v x y z w = -1 := cif_f h
theorem rfs_2 {k : Nat} {v : Q6} {x y z w : Int32} (h : okO x) (h2 : ¬ okR y z) : rfs k v x y z w = -2 := by unfold rfs; rw [cif_t h, cif_f h2]
theorem rfs_3 {k : Nat} {v : Q6} {x y z w : Int32} (h : okO x) (h2 : okR y z) (h3 : ¬ okT k w) : rfs k v x y z w = -3 := by unfold rfs; rw [cif_t h, cif_t h2, cif_f h3]
theorem rfs_4 {k o : Nat} {v : Q6} {y z w : Int32} (h : o < 5) (h2 : okR y z) (h3 : okT k w) (h4 : wt v o ≠ none) : rfs k v (nI o) y z w = -4 := by unfold rfs; rw [cif_t (okO_nI h), cif_t h2, cif_t h3, nn_nI (by omega), cif_f h4]
theorem rfs_0 {k o : Nat} {v : Q6} {y z w : Int32} (h : o < 5) (h2 : okR y z) (h3 : okT k w) (h4 : wt v o = none) : rfs k v (nI o) y z w = 0 := by unfold rfs; rw [cif_t (okO_nI h), cif_t h2, cif_t h3, nn_nI (by omega), cif_t h4]
theorem rfs_cases (k : Nat) (v : Q6) (x y z w : Int32) : (rfs k v x y z w < 0 ∧ rfs k v x y z w ≠ 0) ∨ (rfs k v x y z w = 0 ∧ ∃ o a m t : Nat, o < 5 ∧ 1 ≤ m ∧ a + m ≤ 40 ∧ k ≤ t ∧ t ≤ 2 ∧ x = nI o ∧ y = nI a ∧ z = nI m ∧ w = nI t ∧ wt v o = none) := by
  by_cases h1 : okO x
  · by_cases h2 : okR y z
    · by_cases h3 : okT k w
      · obtain ⟨o, ho, rfl⟩ := h1
        by_cases h4 : wt v o = none
        · refine Or.inr ⟨rfs_0 ho h2 h3 h4, ?_⟩
          obtain ⟨a, m, g1, g2, g3, g4⟩ := h2
          obtain ⟨t, g5, g6, g7⟩ := h3
          exact ⟨o, a, m, t, ho, g1, g2, g5, g6, rfl, g3, g4, g7, h4⟩
        · rw [rfs_4 ho h2 h3 h4]; exact Or.inl ⟨by decide, by decide⟩
      · rw [rfs_3 h1 h2 h3]; exact Or.inl ⟨by decide, by decide⟩
    · rw [rfs_2 h1 h2]; exact Or.inl ⟨by decide, by decide⟩
  · rw [rfs_1 h1]; exact Or.inl ⟨by decide, by decide⟩
noncomputable def cLock (v : Q6) (o a m t : Nat) : Int32 × Q6 := cif (agst (vB v) o a m t = 0) (nI (setN 5 (grV v o a m t)).1, (setN 5 (grV v o a m t)).2) (-5, v)
noncomputable def fLock (v : Q6) (x y z w : Int32) : Int32 × Q6 := cif (rfs 0 v x y z w = 0) (cLock v (nn x) (nn y) (nn z) (nn w)) (rfs 0 v x y z w, v)
noncomputable def cAwait (v : Q6) (o a m t : Nat) : Int32 × Q6 := cif (agst (vB v) o a m t = 0) (0, (setN 5 (grV v o a m t)).2) (cif (cyc (outM v) (agst (vB v) o a m t) o) (-5, v) (1, enq v o a m t))
noncomputable def fAwait (v : Q6) (x y z w : Int32) : Int32 × Q6 := cif (rfs 1 v x y z w = 0) (cAwait v (nn x) (nn y) (nn z) (nn w)) (rfs 1 v x y z w, v)
noncomputable def cCirc (v : Q6) (o a m t : Nat) : Int32 := cif (agst (vB v) o a m t ≠ 0 ∧ cyc (outM v) (agst (vB v) o a m t) o) 1 0
noncomputable def fCirc (v : Q6) (x y z w : Int32) : Int32 := cif (rfs 1 v x y z w = 0) (cCirc v (nn x) (nn y) (nn z) (nn w)) 0
theorem fLock_r {v : Q6} {x y z w : Int32} (h : rfs 0 v x y z w ≠ 0) : fLock v x y z w = (rfs 0 v x y z w, v) := cif_f h
theorem fAwait_r {v : Q6} {x y z w : Int32} (h : rfs 1 v x y z w ≠ 0) : fAwait v x y z w = (rfs 1 v x y z w, v) := cif_f h
theorem fCirc_r {v : Q6} {x y z w : Int32} (h : rfs 1 v x y z w ≠ 0) : fCirc v x y z w = 0 := cif_f h
theorem fLock_c {v : Q6} {o a m t : Nat} (ho : o < 5) (hm : 1 ≤ m) (ham : a + m ≤ 40) (ht : t ≤ 2) (hw : wt v o = none) : fLock v (nI o) (nI a) (nI m) (nI t) = cLock v o a m t := by
  unfold fLock
  rw [cif_t (rfs_0 ho (okR_nI hm ham) (okT_nI (Nat.zero_le t) ht) hw), nn_nI (by omega), nn_nI (by omega), nn_nI (by omega), nn_nI (by omega)]
theorem fAwait_c {v : Q6} {o a m t : Nat} (ho : o < 5) (hm : 1 ≤ m) (ham : a + m ≤ 40) (h1 : 1 ≤ t) (ht : t ≤ 2) (hw : wt v o = none) : fAwait v (nI o) (nI a) (nI m) (nI t) = cAwait v o a m t := by
  unfold fAwait
  rw [cif_t (rfs_0 ho (okR_nI hm ham) (okT_nI h1 ht) hw), nn_nI (by omega), nn_nI (by omega), nn_nI (by omega), nn_nI (by omega)]
theorem fCirc_c {v : Q6} {o a m t : Nat} (ho : o < 5) (hm : 1 ≤ m) (ham : a + m ≤ 40) (h1 : 1 ≤ t) (ht : t ≤ 2) (hw : wt v o = none) : fCirc v (nI o) (nI a) (nI m) (nI t) = cCirc v o a m t := by
  unfold fCirc
  rw [cif_t (rfs_0 ho (okR_nI hm ham) (okT_nI h1 ht) hw), nn_nI (by omega), nn_nI (by omega), nn_nI (by omega), nn_nI (by omega)]
/-- an answer that asks for an owner first -/
noncomputable def fO {α : Type} (x : Int32) (bad : α) (core : Nat → α) : α := cif (okO x) (core (nn x)) bad
theorem fO_bad {α : Type} {x : Int32} {bad : α} {core : Nat → α} (h : ¬ okO x) : fO x bad core = bad := cif_f h
theorem fO_c {α : Type} {o : Nat} {bad : α} {core : Nat → α} (h : o < 5) : fO (nI o) bad core = core o := by unfold fO; rw [cif_t (okO_nI h), nn_nI (by omega)]
noncomputable def fB {α : Type} (x : Int32) (bad : α) (core : Nat → α) : α := cif (okB x) (core (nn x)) bad
theorem fB_bad {α : Type} {x : Int32} {bad : α} {core : Nat → α} (h : ¬ okB x) : fB x bad core = bad := cif_f h
theorem fB_c {α : Type} {o : Nat} {bad : α} {core : Nat → α} (h : o < 40) : fB (nI o) bad core = core o := by unfold fB; rw [cif_t (okB_nI h), nn_nI (by omega)]
noncomputable def fR {α : Type} (y z : Int32) (bad : α) (core : Nat → Nat → α) : α := cif (okR y z) (core (nn y) (nn z)) bad
theorem fR_bad {α : Type} {y z : Int32} {bad : α} {core : Nat → Nat → α} (h : ¬ okR y z) : fR y z bad core = bad := cif_f h
theorem fR_c {α : Type} {a m : Nat} {bad : α} {core : Nat → Nat → α} (h : 1 ≤ m) (h2 : a + m ≤ 40) : fR (nI a) (nI m) bad core = core a m := by unfold fR; rw [cif_t (okR_nI h h2), nn_nI (by omega), nn_nI (by omega)]
noncomputable def fT {α : Type} (k : Nat) (w : Int32) (bad : α) (core : Nat → α) : α := cif (okT k w) (core (nn w)) bad
theorem fT_bad {α : Type} {k : Nat} {w : Int32} {bad : α} {core : Nat → α} (h : ¬ okT k w) : fT k w bad core = bad := cif_f h
theorem fT_c {α : Type} {k t : Nat} {bad : α} {core : Nat → α} (h : k ≤ t) (h2 : t ≤ 2) : fT k (nI t) bad core = core t := by unfold fT; rw [cif_t (okT_nI h h2), nn_nI (by omega)]
noncomputable def cCancel (v : Q6) (o : Nat) : Int32 × Q6 := match wt v o with
  | none => (-2, v)
  | some i => (0, lvV v i)
noncomputable def fCancel (v : Q6) (x : Int32) : Int32 × Q6 := fO x (-1, v) (cCancel v)
noncomputable def lvO (v : Q6) (o : Nat) : Q6 := match wt v o with
  | none => v
  | some i => lvV v i
noncomputable def held (B : Fn) (o : Nat) : Nat := cnt (fun b => B (40 * o + b) ≠ 0) 40
noncomputable def cClose (v : Q6) (o : Nat) : Int32 × Q6 := (nI (held (vB v) o), (setN 5 (grV (lvO v o) o 0 40 0)).2)
noncomputable def fClose (v : Q6) (x : Int32) : Int32 × Q6 := fO x (-1, v) (cClose v)
noncomputable def fLockAt (v : Q6) (x y : Int32) : Int32 := fO x (-1) (fun o => fB y (-2) (fun b => nI (vB v (40 * o + b))))
noncomputable def hld (B : Fn) (b : Nat) : Nat := mk5 (fun p => B (40 * p + b) ≠ 0)
noncomputable def fHolders (v : Q6) (y : Int32) : Int32 := fB y (-1) (fun b => nI (hld (vB v) b))
noncomputable def cObst (B : Fn) (o a m t : Nat) : Int32 := match srch (fun j => agst B o (a + j) 1 t ≠ 0) m with
  | none => -4
  | some j => nI (a + j)
noncomputable def fObst (v : Q6) (x y z w : Int32) : Int32 := fO x (-1) (fun o => fR y z (-2) (fun a m => fT 1 w (-3) (fun t => cObst (vB v) o a m t)))
noncomputable def fWaiting (v : Q6) (x : Int32) : Int32 := fO x (-1) (fun o => cif (wt v o = none) 0 1)
noncomputable def fWaitsFor (v : Q6) (x : Int32) : Int32 := fO x (-1) (fun o => nI (outM v o))
noncomputable def cAhead (v : Q6) (o : Nat) : Int32 := match wt v o with
  | none => -2
  | some i => nI i
noncomputable def fAhead (v : Q6) (x : Int32) : Int32 := fO x (-1) (cAhead v)
/-- a piece of the owner o begins at b -/
def bgn (B : Fn) (o b : Nat) : Prop := B (40 * o + b) ≠ 0 ∧ (b = 0 ∨ B (40 * o + b - 1) ≠ B (40 * o + b))
noncomputable def fPieces (v : Q6) (x : Int32) : Int32 := fO x (-1) (fun o => nI (cnt (bgn (vB v) o) 40))
noncomputable def stO (B : Fn) (o : Nat) (y : Int32) : Option Nat := srch (fun b => bgn B o b ∧ nI (cnt (bgn B o) b) = y) 40
def op2 (x : Option Nat) (f : Nat → Int32) : Int32 := match x with
  | none => -2
  | some b => f b
/-- the last byte of the piece that begins at b -/
noncomputable def endB (B : Fn) (o b : Nat) : Nat := match srch (fun j => b ≤ j ∧ (39 ≤ j ∨ B (40 * o + j + 1) ≠ B (40 * o + j))) 40 with
  | none => 0
  | some j => j
theorem endB_eq {B : Fn} {o b e : Nat} (he : e < 40) (hbe : b ≤ e) (h1 : 39 ≤ e ∨ B (40 * o + e + 1) ≠ B (40 * o + e)) (h2 : ∀ j, b ≤ j → j < e → B (40 * o + j + 1) = B (40 * o + j)) : endB B o b = e := by
  unfold endB
  rw [srch_some (P := fun j => b ≤ j ∧ (39 ≤ j ∨ B (40 * o + j + 1) ≠ B (40 * o + j))) he ⟨hbe, h1⟩ (fun j hj z => by
    rcases z.2 with y | y
    · omega
    · exact y (h2 j z.1 hj))]
noncomputable def fPStart (v : Q6) (x y : Int32) : Int32 := fO x (-1) (fun o => op2 (stO (vB v) o y) nI)
noncomputable def fPEnd (v : Q6) (x y : Int32) : Int32 := fO x (-1) (fun o => op2 (stO (vB v) o y) (fun b => nI (endB (vB v) o b)))
noncomputable def fPType (v : Q6) (x y : Int32) : Int32 := fO x (-1) (fun o => op2 (stO (vB v) o y) (fun b => nI (vB v (40 * o + b))))
noncomputable def fCount (v : Q6) (x w : Int32) : Int32 := fO x (-1) (fun o => fT 0 w (-2) (fun t => nI (cnt (fun b => vB v (40 * o + b) = t) 40)))
noncomputable def fFree (v : Q6) : Int32 := nI (cnt (fun b => hld (vB v) b = 0) 40)
theorem lvO_none {v : Q6} {o : Nat} (h : wt v o = none) : lvO v o = v := by
  unfold lvO
  rw [h]
theorem lvO_some {v : Q6} {o i : Nat} (h : wt v o = some i) : lvO v o = lvV v i := by
  unfold lvO
  rw [h]
end
section
/-! PURE: the tie between RecordLocks' cells and the reference's -/
def RT (O F L T : Fn) (n : Nat) (B : Fn) : Prop := SD O F L T n ∧ MG O F L T n ∧ Bp O F L T ∧ (∀ j, B j ≤ 2) ∧ ∀ p b w, p < 5 → b < 40 → w ≠ 0 → (has O F L T n p b w ↔ B (40 * p + b) = w)
def RQ (V P X Y Z : Fn) (c q : Nat) (Wh Fi Ma Ki : Fn) : Prop := Bw V P X Y Z ∧ (∀ j, Wh j ≤ 4) ∧ (∀ j, Fi j + Ma j ≤ 40) ∧ (∀ j, Ki j ≤ 2) ∧ (∀ o, o < 5 → (V o ≠ 0 ↔ ∃ i, i < q ∧ Wh i = o)) ∧ (∀ i, i < q → P (Wh i) = Fi i ∧ X (Wh i) + 1 = Fi i + Ma i ∧ Y (Wh i) = Ki i ∧ 1 ≤ Ma i ∧ 1 ≤ Ki i) ∧ (∀ i j, i < j → j < q → Z (Wh i) < Z (Wh j)) ∧ ∀ o, Z o ≤ c
def Rel (k : Nat) (u : S0) (v : Q6) : Prop := match u, v with
  | (O, F, L, T, V, P, X, Y, Z, n, c), (B, q, Wh, Fi, Ma, Ki) => RT O F L T n B ∧ RQ V P X Y Z c q Wh Fi Ma Ki ∧ c ≤ k
theorem Rel.mono {k k2 : Nat} {u : S0} {v : Q6} (h : Rel k u v) (hk : k ≤ k2) : Rel k2 u v := by
  obtain ⟨O, F, L, T, V, P, X, Y, Z, n, c⟩ := u
  obtain ⟨B, q, Wh, Fi, Ma, Ki⟩ := v
  exact ⟨h.1, h.2.1, Nat.le_trans h.2.2 hk⟩
theorem RQ_ne {V P X Y Z : Fn} {c q : Nat} {Wh Fi Ma Ki : Fn} (h : RQ V P X Y Z c q Wh Fi Ma Ki) : ∀ i j, i < j → j < q → Wh i ≠ Wh j := by
  intro i j hij hj e
  have := h.2.2.2.2.2.2.1 i j hij hj
  rw [e] at this
  omega
theorem RQ_Ds {V P X Y Z : Fn} {c q : Nat} {Wh Fi Ma Ki : Fn} (h : RQ V P X Y Z c q Wh Fi Ma Ki) : Ds q Wh := by
  intro i j hi hj e
  rcases Nat.lt_trichotomy i j with a | a | a
  · exact absurd e (RQ_ne h i j a hj)
  · exact a
  · exact absurd e.symm (RQ_ne h j i a hi)
theorem RQ_q {V P X Y Z : Fn} {c q : Nat} {Wh Fi Ma Ki : Fn} (h : RQ V P X Y Z c q Wh Fi Ma Ki) : q ≤ 5 := holes5 h.2.1 (RQ_ne h)
theorem RQ_B1 {V P X Y Z : Fn} {c q : Nat} {Wh Fi Ma Ki B : Fn} (h : RQ V P X Y Z c q Wh Fi Ma Ki) (hB : ∀ j, B j ≤ 2) : B1 B Wh Fi Ma Ki := ⟨hB, h.2.1, h.2.2.1, h.2.2.2.1⟩
/-- what the reference's cells are, whatever they are tied to -/
def Gd (v : Q6) : Prop := match v with
  | (B, q, Wh, Fi, Ma, Ki) => q ≤ 5 ∧ B1 B Wh Fi Ma Ki ∧ Ds q Wh
theorem Rel.gd {k : Nat} {u : S0} {v : Q6} (h : Rel k u v) : Gd v := by
  obtain ⟨O, F, L, T, V, P, X, Y, Z, n, c⟩ := u
  obtain ⟨B, q, Wh, Fi, Ma, Ki⟩ := v
  exact ⟨RQ_q h.2.1, RQ_B1 h.2.1 h.1.2.2.2.1, RQ_Ds h.2.1⟩
/-- the rivals -/
theorem riv_agst {O F L T : Fn} {n : Nat} {B : Fn} {o f l m t : Nat} (h : RT O F L T n B) (hfl : f ≤ l) (hl : l ≤ 39) (hm : f + m = l + 1) (ht : 1 ≤ t) (ht2 : t ≤ 2) : riv O F L T n o f l t = agst B o f m t := by
  obtain ⟨hS, hG, hB, hb, hI⟩ := h
  refine mk5_congr (fun p hp => ⟨?_, ?_⟩)
  · rintro ⟨k, hk, hO, h1, h2, h3, h4⟩
    have hk1 := hS.1 k hk
    refine ⟨by omega, ?_⟩
    by_cases e : F k ≤ f
    · refine ⟨f, Nat.le_refl f, by omega, ?_⟩
      have e2 := (hI p f (T k) hp (by omega) (by omega)).mp ⟨k, hk, hO, e, h2, rfl⟩
      rw [e2]
      unfold cf
      omega
    · refine ⟨F k, by omega, by omega, ?_⟩
      have e2 := (hI p (F k) (T k) hp (by omega) (by omega)).mp ⟨k, hk, hO, Nat.le_refl _, by omega, rfl⟩
      rw [e2]
      unfold cf
      omega
  · rintro ⟨h1, b, h2, h3, h4⟩
    unfold cf at h4
    obtain ⟨k, hk, g1, g2, g3, g4⟩ := (hI p b (B (40 * p + b)) hp (by omega) (by omega)).mpr rfl
    exact ⟨k, hk, g1, by omega, by omega, by omega, by omega⟩
theorem agst_0 {B : Fn} {o a m : Nat} : agst B o a m 0 = 0 := mk5_0.mpr (fun p _ h => by
  obtain ⟨_, b, _, _, h4⟩ := h
  unfold cf at h4
  omega)
theorem agst_lt (B : Fn) (o a m t : Nat) : agst B o a m t < 32 := mk5_lt _
theorem agst_self {B : Fn} {o a m t : Nat} (ho : o < 5) : ¬ bit (agst B o a m t) o := by
  unfold agst
  rw [mk5_bit _ ho]
  exact fun h => h.1 rfl
theorem outM_at {B : Fn} {q : Nat} {Wh Fi Ma Ki : Fn} {i : Nat} (hD : Ds q Wh) (hi : i < q) : outM (B, q, Wh, Fi, Ma, Ki) (Wh i) = agst B (Wh i) (Fi i) (Ma i) (Ki i) := by
  show (match srch (fun j => Wh j = Wh i) q with | none => 0 | some j => agst B (Wh i) (Fi j) (Ma j) (Ki j)) = _
  rw [srch_some (P := fun j => Wh j = Wh i) hi rfl (fun j hj e => by have := hD j i (by omega) hi e; omega)]
theorem outM_no {B : Fn} {q : Nat} {Wh Fi Ma Ki : Fn} {o : Nat} (h : ∀ i, i < q → Wh i ≠ o) : outM (B, q, Wh, Fi, Ma, Ki) o = 0 := by
  show (match srch (fun j => Wh j = o) q with | none => 0 | some j => agst B o (Fi j) (Ma j) (Ki j)) = _
  rw [srch_none (P := fun j => Wh j = o) h]
theorem blk_outM {O F L T V P X Y Z : Fn} {n c : Nat} {B : Fn} {q : Nat} {Wh Fi Ma Ki : Fn} {o : Nat} (hT : RT O F L T n B) (hQ : RQ V P X Y Z c q Wh Fi Ma Ki) (ho : o < 5) : blk O F L T V P X Y n o = outM (B, q, Wh, Fi, Ma, Ki) o := by
  have hV := hQ.2.2.2.2.1 o ho
  unfold blk
  by_cases e : V o = 0
  · rw [if_pos e, outM_no (fun i hi z => (hV.mpr ⟨i, hi, z⟩) e)]
  · rw [if_neg e]
    obtain ⟨i, hi, rfl⟩ := hV.mp e
    rw [outM_at (RQ_Ds hQ) hi]
    obtain ⟨a1, a2, a3, a4, a5⟩ := hQ.2.2.2.2.2.1 i hi
    have b1 := hQ.2.2.1 i
    have b2 := hQ.2.2.2.1 i
    rw [a1, a3]
    exact riv_agst hT (by omega) (by omega) (by omega) a5 b2
/-- painting -/
theorem RT_paint {O F L T : Fn} {n : Nat} {B O2 F2 L2 T2 : Fn} {n2 o f l m t : Nat} (h : RT O F L T n B) (hE : PntE O F L T n o f l t O2 F2 L2 T2 n2) (hfl : f ≤ l) (hl : l ≤ 39) (hm : f + m = l + 1) (ht : t ≤ 2) : RT O2 F2 L2 T2 n2 (grB B o f m t) := by
  obtain ⟨hS, hG, hB, hb, hI⟩ := h
  obtain ⟨e1, e2, e3, e4⟩ := hE
  refine ⟨e1, e2, e3, grB_le hb ht, fun p b w hp hb2 hw => ?_⟩
  rw [e4 p b w]
  unfold grB
  by_cases hc : p = o ∧ f ≤ b ∧ b ≤ l
  · rw [if_pos (by omega)]
    exact ⟨fun z => z.elim (fun y => y.2.1.symm) (fun y => absurd hc y.1), fun z => Or.inl ⟨hc, z.symm, by omega⟩⟩
  · rw [if_neg (by omega), ← hI p b w hp hb2 hw]
    exact ⟨fun z => z.elim (fun y => absurd y.1 hc) (fun y => y.2), fun z => Or.inr ⟨hc, z⟩⟩
theorem up_same {A : Fn} {k x : Nat} (h : A k = x) : up A k x = A := by
  funext j
  unfold up
  split
  · next e => rw [e, h]
  · rfl
theorem Bw.upV {V P X Y Z : Fn} {k x : Nat} (h : Bw V P X Y Z) (hx : x ≤ 1) : Bw (up V k x) P X Y Z := ⟨fun j => up_any (Q := fun z => z ≤ 1) h.1 hx j, h.2⟩
/-- one leaves the queue -/
theorem RQ_leave {V P X Y Z : Fn} {c q : Nat} {Wh Fi Ma Ki : Fn} {i : Nat} (h : RQ V P X Y Z c q Wh Fi Ma Ki) (hi : i < q) : RQ (up V (Wh i) 0) P X Y Z c (q - 1) (shL Wh i q) (shL Fi i q) (shL Ma i q) (shL Ki i q) := by
  have hne := RQ_Ds h
  obtain ⟨h1, h2, h3, h4, h5, h6, h7, h8⟩ := h
  refine ⟨h1.upV (by omega), fun j => shL_any (Q := fun z => z ≤ 4) h2 j, sh2_le h3, fun j => shL_any (Q := fun z => z ≤ 2) h4 j, fun o ho => ?_, fun j hj => ?_, fun j k hjk hk => ?_, h8⟩
  · by_cases e : o = Wh i
    · subst e
      rw [up_s]
      refine ⟨fun z => absurd rfl z, fun ⟨j, hj, z⟩ => ?_⟩
      by_cases e2 : j < i
      · rw [shL_lo e2] at z
        have := hne j i (by omega) hi z
        omega
      · rw [shL_hi (by omega) (by omega)] at z
        have := hne (j + 1) i (by omega) hi z
        omega
    · rw [up_n e, h5 o ho]
      constructor
      · rintro ⟨j, hj, z⟩
        by_cases e2 : j < i
        · exact ⟨j, by omega, by rw [shL_lo e2]; exact z⟩
        · have : j ≠ i := fun y => e (by rw [← z, y])
          obtain ⟨d, rfl⟩ : ∃ d, j = d + 1 := ⟨j - 1, by omega⟩
          exact ⟨d, by omega, by rw [shL_hi (by omega) (by omega)]; exact z⟩
      · rintro ⟨j, hj, z⟩
        by_cases e2 : j < i
        · rw [shL_lo e2] at z
          exact ⟨j, by omega, z⟩
        · rw [shL_hi (by omega) (by omega)] at z
          exact ⟨j + 1, by omega, z⟩
  · by_cases e2 : j < i
    · rw [shL_lo e2, shL_lo e2, shL_lo e2, shL_lo e2]; exact h6 j (by omega)
    · rw [shL_hi (by omega) (by omega), shL_hi (by omega) (by omega), shL_hi (by omega) (by omega), shL_hi (by omega) (by omega)]; exact h6 (j + 1) (by omega)
  · by_cases e2 : k < i
    · rw [shL_lo e2, shL_lo (show j < i by omega)]; exact h7 j k hjk (by omega)
    · rw [shL_hi (show i ≤ k by omega) (by omega)]
      by_cases e3 : j < i
      · rw [shL_lo e3]; exact h7 j (k + 1) (by omega) (by omega)
      · rw [shL_hi (show i ≤ j by omega) (by omega)]; exact h7 (j + 1) (k + 1) (by omega) (by omega)
/-- one joins the queue -/
theorem RQ_enq {V P X Y Z : Fn} {c q : Nat} {Wh Fi Ma Ki : Fn} {o a m t : Nat} (h : RQ V P X Y Z c q Wh Fi Ma Ki) (hc : c + 1 ≤ 10000) (ho : o < 5) (hV : V o = 0) (hm : 1 ≤ m) (ham : a + m ≤ 40) (ht : 1 ≤ t) (ht2 : t ≤ 2) : RQ (up V o 1) (up P o a) (up X o (a + m - 1)) (up Y o t) (up Z o (c + 1)) (c + 1) (q + 1) (up Wh q o) (up Fi q a) (up Ma q m) (up Ki q t) := by
  obtain ⟨h1, h2, h3, h4, h5, h6, h7, h8⟩ := h
  obtain ⟨b1, b2, b3, b4, b5⟩ := h1
  have hno : ∀ i, i < q → Wh i ≠ o := fun i hi z => (h5 o ho).mpr ⟨i, hi, z⟩ hV
  refine ⟨⟨fun j => up_any (Q := fun z => z ≤ 1) b1 (by omega) j, fun j => up_any (Q := fun z => z ≤ 39) b2 (by omega) j, fun j => up_any (Q := fun z => z ≤ 39) b3 (by omega) j, fun j => up_any (Q := fun z => z ≤ 2) b4 ht2 j, fun j => up_any (Q := fun z => z ≤ 10000) b5 hc j⟩, fun j => up_any (Q := fun z => z ≤ 4) h2 (by omega) j, fun j => ?_, fun j => up_any (Q := fun z => z ≤ 2) h4 ht2 j, fun p hp => ?_, fun i hi => ?_, fun i j hij hj => ?_, fun p => ?_⟩
  · by_cases e : j = q
    · subst e; rw [up_s, up_s]; exact ham
    · rw [up_n e, up_n e]; exact h3 j
  · by_cases e : p = o
    · subst e
      rw [up_s]
      exact ⟨fun _ => ⟨q, by omega, up_s _ _ _⟩, fun _ => by omega⟩
    · rw [up_n e, h5 p hp]
      constructor
      · rintro ⟨i, hi, z⟩
        exact ⟨i, by omega, by rw [up_n (by omega)]; exact z⟩
      · rintro ⟨i, hi, z⟩
        by_cases e2 : i = q
        · subst e2; rw [up_s] at z; exact absurd z.symm e
        · rw [up_n e2] at z; exact ⟨i, by omega, z⟩
  · by_cases e : i = q
    · subst e
      rw [up_s, up_s, up_s, up_s, up_s, up_s, up_s]
      omega
    · rw [up_n e, up_n e, up_n e, up_n e, up_n (hno i (by omega)), up_n (hno i (by omega)), up_n (hno i (by omega))]
      exact h6 i (by omega)
  · rw [up_n (show i ≠ q by omega), up_n (hno i (by omega))]
    by_cases e : j = q
    · subst e
      rw [up_s, up_s]
      have := h8 (Wh i)
      omega
    · rw [up_n e, up_n (hno j (by omega))]
      exact h7 i j hij (by omega)
  · by_cases e : p = o
    · subst e; rw [up_s]; exact Nat.le_refl _
    · rw [up_n e]
      have := h8 p
      omega
/-- who waits -/
theorem wt_none {V P X Y Z : Fn} {c q : Nat} {B Wh Fi Ma Ki : Fn} {o : Nat} (h : RQ V P X Y Z c q Wh Fi Ma Ki) (ho : o < 5) : wt (B, q, Wh, Fi, Ma, Ki) o = none ↔ V o = 0 := by
  have hV := h.2.2.2.2.1 o ho
  show srch (fun i => Wh i = o) q = none ↔ _
  rcases srch_cases (fun i => Wh i = o) q with ⟨e, h2⟩ | ⟨i, e, hi, h2, _⟩
  · rw [e]
    refine ⟨fun _ => ?_, fun _ => rfl⟩
    rcases Nat.eq_zero_or_pos (V o) with z | z
    · exact z
    · obtain ⟨i, hi, y⟩ := hV.mp (by omega)
      exact absurd y (h2 i hi)
  · rw [e]
    exact ⟨fun z => (by cases z), fun z => absurd z (hV.mpr ⟨i, hi, h2⟩)⟩
theorem wt_some {V P X Y Z : Fn} {c q : Nat} {B Wh Fi Ma Ki : Fn} {o : Nat} (h : RQ V P X Y Z c q Wh Fi Ma Ki) (ho : o < 5) (hV : V o ≠ 0) : ∃ i, wt (B, q, Wh, Fi, Ma, Ki) o = some i ∧ i < q ∧ Wh i = o := by
  rcases srch_cases (fun i => Wh i = o) q with ⟨e, h2⟩ | ⟨i, e, hi, h2, _⟩
  · obtain ⟨i, hi, y⟩ := (h.2.2.2.2.1 o ho).mp hV
    exact absurd y (h2 i hi)
  · exact ⟨i, e, hi, h2⟩
/-- whom settle picks -/
def nxI (V Z : Fn) (out : Fn) (o : Nat) (nx : Option Nat) : Prop := match nx with
  | none => ∀ p, p < o → V p ≠ 0 → out p ≠ 0
  | some p => p < o ∧ V p ≠ 0 ∧ out p = 0 ∧ ∀ r, r < o → V r ≠ 0 → out r = 0 → Z p ≤ Z r
theorem nx_end {V P X Y Z : Fn} {c : Nat} {B : Fn} {q : Nat} {Wh Fi Ma Ki : Fn} {nx : Option Nat} (hQ : RQ V P X Y Z c q Wh Fi Ma Ki) (h : nxI V Z (outM (B, q, Wh, Fi, Ma, Ki)) 5 nx) : (nx = none ∧ srch (rdy (B, q, Wh, Fi, Ma, Ki)) q = none) ∨ ∃ i, i < q ∧ nx = some (Wh i) ∧ srch (rdy (B, q, Wh, Fi, Ma, Ki)) q = some i := by
  have hD := RQ_Ds hQ
  have hw : ∀ i, i < q → V (Wh i) ≠ 0 := fun i hi => (hQ.2.2.2.2.1 (Wh i) (by have := hQ.2.1 i; omega)).mpr ⟨i, hi, rfl⟩
  have hr : ∀ i, i < q → (rdy (B, q, Wh, Fi, Ma, Ki) i ↔ outM (B, q, Wh, Fi, Ma, Ki) (Wh i) = 0) := fun i hi => by rw [outM_at hD hi]; exact Iff.rfl
  cases nx with
  | none =>
    refine Or.inl ⟨rfl, srch_none (fun i hi z => ?_)⟩
    have b := hQ.2.1 i
    exact h (Wh i) (by omega) (hw i hi) ((hr i hi).mp z)
  | some p =>
    obtain ⟨h1, h2, h3, h4⟩ := h
    obtain ⟨i, hi, rfl⟩ := (hQ.2.2.2.2.1 p h1).mp h2
    refine Or.inr ⟨i, hi, rfl, srch_some hi ((hr i hi).mpr h3) (fun j hj z => ?_)⟩
    have b := hQ.2.1 j
    have a := h4 (Wh j) (by omega) (hw j (by omega)) ((hr j (by omega)).mp z)
    have e := hQ.2.2.2.2.2.2.1 j i hj hi
    omega
/-- one is granted -/
theorem Rel_stp {k : Nat} {O F L T V P X Y Z : Fn} {n c : Nat} {B : Fn} {q : Nat} {Wh Fi Ma Ki : Fn} {i : Nat} {O2 F2 L2 T2 : Fn} {n2 : Nat} (h : Rel k (O, F, L, T, V, P, X, Y, Z, n, c) (B, q, Wh, Fi, Ma, Ki)) (hi : i < q) (hE : PntE O F L T n (Wh i) (P (Wh i)) (X (Wh i)) (Y (Wh i)) O2 F2 L2 T2 n2) : Rel k (O2, F2, L2, T2, up V (Wh i) 0, P, X, Y, Z, n2, c) (stp (B, q, Wh, Fi, Ma, Ki) i) := by
  obtain ⟨hT, hQ, hk⟩ := h
  obtain ⟨a1, a2, a3, a4, a5⟩ := hQ.2.2.2.2.2.1 i hi
  have b1 := hQ.2.2.1 i
  have b2 := hQ.2.2.2.1 i
  refine ⟨?_, RQ_leave hQ hi, hk⟩
  have := RT_paint (m := Ma i) hT hE (by omega) (by omega) (by omega) (by omega)
  rw [a1, a3] at this
  exact this
end
section
/-! PURE: what the questions answer, from the pieces -/
theorem own_in {O : Fn} {n o b e : Nat} (hb : isB O n o b) (he : isB O n (o + 1) e) : b ≤ e ∧ e ≤ n ∧ ∀ j, j < n → (O j = o ↔ b ≤ j ∧ j < e) := by
  refine ⟨?_, he.1, fun j hj => ⟨fun h => ⟨?_, ?_⟩, fun h => ?_⟩⟩
  · rcases Nat.lt_or_ge e b with q | q
    · have q1 := hb.2.1 e q
      have q2 := he.2.2 e (Nat.le_refl e) (by have := hb.1; omega)
      omega
    · exact q
  · rcases Nat.lt_or_ge j b with q | q
    · have := hb.2.1 j q
      omega
    · exact q
  · rcases Nat.lt_or_ge j e with q | q
    · exact q
    · have := he.2.2 j q hj
      omega
  · have q1 := hb.2.2 j h.1 hj
    have q2 := he.2.1 j h.2
    omega
/-- the byte x of the owner o: a piece holds it, or none -/
theorem tb_in {O F L T : Fn} {n : Nat} {B : Fn} {o x j : Nat} (h : RT O F L T n B) (ho : o < 5) (hj : j < n) (hO : O j = o) (h1 : F j ≤ x) (h2 : x ≤ L j) : B (40 * o + x) = T j := by
  have hj1 := h.1.1 j hj
  exact (h.2.2.2.2 o x (T j) ho (by omega) (by omega)).mp ⟨j, hj, hO, h1, h2, rfl⟩
theorem tb_of {O F L T : Fn} {n : Nat} {B : Fn} {o x : Nat} (h : RT O F L T n B) (ho : o < 5) (hx : x < 40) (hz : B (40 * o + x) ≠ 0) : ∃ j, j < n ∧ O j = o ∧ F j ≤ x ∧ x ≤ L j ∧ T j = B (40 * o + x) := (h.2.2.2.2 o x (B (40 * o + x)) ho hx hz).mpr rfl
theorem tb_0 {O F L T : Fn} {n : Nat} {B : Fn} {o x : Nat} (h : RT O F L T n B) (ho : o < 5) (hx : x < 40) (hz : ∀ j, j < n → O j = o → ¬ (F j ≤ x ∧ x ≤ L j)) : B (40 * o + x) = 0 := by
  rcases Nat.eq_zero_or_pos (B (40 * o + x)) with e | e
  · exact e
  · obtain ⟨j, hj, h1, h2, h3, _⟩ := tb_of h ho hx (by omega)
    exact absurd ⟨h2, h3⟩ (hz j hj h1)
/-- the bytes of the pieces b .. k - 1 that have Q -/
def pcs (F L : Fn) (Q : Nat → Prop) (b k x : Nat) : Prop := ∃ j, b ≤ j ∧ j < k ∧ Q j ∧ F j ≤ x ∧ x ≤ L j
theorem pcs_n {F L : Fn} {Q : Nat → Prop} {b k N : Nat} (h : ¬ Q k) : cnt (pcs F L Q b (k + 1)) N = cnt (pcs F L Q b k) N := by
  refine cnt_cong (fun x _ => ⟨?_, ?_⟩)
  · rintro ⟨j, h1, h2, h3, h4⟩
    by_cases e : j = k
    · subst e; exact absurd h3 h
    · exact ⟨j, h1, by omega, h3, h4⟩
  · rintro ⟨j, h1, h2, h3⟩
    exact ⟨j, h1, by omega, h3⟩
theorem pcs_y {F L : Fn} {Q : Nat → Prop} {b k N : Nat} (h : Q k) (hb : b ≤ k) (hfl : F k ≤ L k) (hl : L k < N) (hd : ∀ j, b ≤ j → j < k → L j < F k) : cnt (pcs F L Q b (k + 1)) N = cnt (pcs F L Q b k) N + (L k - F k + 1) := by
  have h1 := cnt_rng (F k) (L k + 1) N (by omega)
  have h2 := cnt_or (P := pcs F L Q b k) (Q := fun x => F k ≤ x ∧ x < L k + 1) (n := N) (fun x _ ⟨j, a1, a2, a3, a4, a5⟩ z => by
    have := hd j a1 a2
    omega)
  rw [h1] at h2
  rw [show L k - F k + 1 = L k + 1 - F k by omega, ← h2]
  refine cnt_cong (fun x _ => ⟨?_, ?_⟩)
  · rintro ⟨j, a1, a2, a3, a4, a5⟩
    by_cases e : j = k
    · subst e; exact Or.inr ⟨a4, by omega⟩
    · exact Or.inl ⟨j, a1, by omega, a3, a4, a5⟩
  · rintro (⟨j, a1, a2, a3⟩ | ⟨a1, a2⟩)
    · exact ⟨j, a1, by omega, a3⟩
    · exact ⟨k, hb, by omega, h, a1, by omega⟩
theorem pcs_0 {F L : Fn} {Q : Nat → Prop} {b N : Nat} : cnt (pcs F L Q b b) N = 0 := cnt_0 (fun x _ ⟨j, a1, a2, _⟩ => by omega)
theorem pcs_any {O F L T : Fn} {n : Nat} {B : Fn} {o b e : Nat} (h : RT O F L T n B) (ho : o < 5) (hb : isB O n o b) (he : isB O n (o + 1) e) : cnt (pcs F L (fun _ => True) b e) 40 = held B o := by
  obtain ⟨_, hen, hO⟩ := own_in hb he
  refine cnt_cong (fun x hx => ⟨?_, ?_⟩)
  · rintro ⟨j, a1, a2, _, a4, a5⟩
    have q1 := (hO j (by omega)).mpr ⟨a1, a2⟩
    have q2 := tb_in h ho (by omega) q1 a4 a5
    have q3 := h.1.1 j (by omega)
    omega
  · intro hz
    obtain ⟨j, hj, h1, h2, h3, _⟩ := tb_of h ho hx hz
    have q1 := (hO j hj).mp h1
    exact ⟨j, q1.1, q1.2, trivial, h2, h3⟩
theorem pcs_typ {O F L T : Fn} {n : Nat} {B : Fn} {o b e t : Nat} (h : RT O F L T n B) (ho : o < 5) (hb : isB O n o b) (he : isB O n (o + 1) e) (ht : t ≠ 0) : cnt (pcs F L (fun j => T j = t) b e) 40 = cnt (fun x => B (40 * o + x) = t) 40 := by
  obtain ⟨_, hen, hO⟩ := own_in hb he
  refine cnt_cong (fun x hx => ⟨?_, ?_⟩)
  · rintro ⟨j, a1, a2, a3, a4, a5⟩
    have q1 := (hO j (by omega)).mpr ⟨a1, a2⟩
    have q2 := tb_in h ho (by omega) q1 a4 a5
    omega
  · intro hz
    obtain ⟨j, hj, h1, h2, h3, h4⟩ := tb_of h ho hx (by omega)
    have q1 := (hO j hj).mp h1
    exact ⟨j, q1.1, q1.2, by omega, h2, h3⟩
theorem held_0 (B : Fn) (o : Nat) : cnt (fun x => B (40 * o + x) = 0) 40 = 40 - held B o := by
  have h := cnt_not (fun x => B (40 * o + x) = 0) 40
  unfold held
  have e : cnt (fun b => B (40 * o + b) ≠ 0) 40 = cnt (fun k => ¬ B (40 * o + k) = 0) 40 := rfl
  rw [e]
  omega
theorem held_le (B : Fn) (o : Nat) : held B o ≤ 40 := cnt_le _ _
/-- where pieces begin -/
theorem bgn_iff {O F L T : Fn} {n : Nat} {B : Fn} {o b e x : Nat} (h : RT O F L T n B) (ho : o < 5) (hb : isB O n o b) (he : isB O n (o + 1) e) (hx : x < 40) : bgn B o x ↔ ∃ j, b ≤ j ∧ j < e ∧ F j = x := by
  obtain ⟨_, hen, hO⟩ := own_in hb he
  have hS := h.1
  constructor
  · rintro ⟨h1, h2⟩
    obtain ⟨j, hj, a1, a2, a3, a4⟩ := tb_of h ho hx h1
    have q1 := (hO j hj).mp a1
    refine ⟨j, q1.1, q1.2, ?_⟩
    rcases Nat.eq_or_lt_of_le a2 with z | z
    · exact z
    · have q2 := tb_in (x := x - 1) h ho hj a1 (by omega) (by omega)
      rw [show 40 * o + (x - 1) = 40 * o + x - 1 by omega] at q2
      rcases h2 with y | y
      · omega
      · exact absurd (q2.trans a4) y
  · rintro ⟨j, a1, a2, rfl⟩
    have hj : j < n := by omega
    have q1 := (hO j hj).mpr ⟨a1, a2⟩
    have q2 := hS.1 j hj
    have q3 := tb_in (x := F j) h ho hj q1 (Nat.le_refl _) q2.1
    refine ⟨by omega, ?_⟩
    rcases Nat.eq_zero_or_pos (F j) with z | z
    · exact Or.inl z
    · refine Or.inr (fun y => ?_)
      rw [q3, show 40 * o + F j - 1 = 40 * o + (F j - 1) by omega] at y
      obtain ⟨i, hi, c1, c2, c3, c4⟩ := tb_of (x := F j - 1) h ho (by omega) (by omega)
      rcases Nat.lt_trichotomy i j with s | s | s
      · have d1 := SD_lt hS s hj
        by_cases s2 : i + 1 = j
        · subst s2
          exact h.2.1 i (by omega) (fun z => z) (by omega) (by omega) (by omega)
        · have d2 := SD_lt hS (show i < i + 1 by omega) (by omega)
          have d3 := SD_lt hS (show i + 1 < j by omega) hj
          have d4 := hS.1 (i + 1) (by omega)
          omega
      · subst s; omega
      · have d1 := SD_lt hS s hi
        omega
theorem F_lt {O F L T : Fn} {n o b e i j : Nat} (hS : SD O F L T n) (hb : isB O n o b) (he : isB O n (o + 1) e) (h1 : b ≤ i) (h2 : i < j) (h3 : j < e) : F i ≤ L i ∧ L i < F j := by
  obtain ⟨_, hen, hO⟩ := own_in hb he
  have q1 := (hO i (by omega)).mpr ⟨h1, by omega⟩
  have q2 := (hO j (by omega)).mpr ⟨by omega, h3⟩
  have q3 := SD_lt hS h2 (by omega)
  have q4 := hS.1 i (by omega)
  omega
theorem cnt_pieces {O F L T : Fn} {n : Nat} {B : Fn} {o b e : Nat} (h : RT O F L T n B) (ho : o < 5) (hb : isB O n o b) (he : isB O n (o + 1) e) : cnt (bgn B o) 40 = e - b := by
  obtain ⟨hbe, hen, hO⟩ := own_in hb he
  have h1 := cnt_img (f := F) (N := 40) (a := b) (e - b) (fun i a1 a2 => by have := h.2.2.1.2.1 i; omega) (fun i j a1 a2 a3 => by have := F_lt h.1 hb he a1 a2 (show j < e by omega); omega)
  rw [← h1]
  refine cnt_cong (fun x hx => ?_)
  rw [bgn_iff h ho hb he hx, show b + (e - b) = e by omega]
theorem cnt_bgn {O F L T : Fn} {n : Nat} {B : Fn} {o b e p : Nat} (h : RT O F L T n B) (ho : o < 5) (hb : isB O n o b) (he : isB O n (o + 1) e) (hp : b + p < e) : cnt (bgn B o) (F (b + p)) = p := by
  obtain ⟨hbe, hen, hO⟩ := own_in hb he
  have h0 := h.2.2.1.2.1 (b + p)
  have h1 := cnt_img (f := F) (N := F (b + p)) (a := b) p (fun i a1 a2 => by have := F_lt h.1 hb he a1 a2 hp; omega) (fun i j a1 a2 a3 => by have := F_lt h.1 hb he a1 a2 (show j < e by omega); omega)
  have hb3 : cnt (bgn B o) (F (b + p)) = cnt (fun y => ∃ i, b ≤ i ∧ i < b + p ∧ F i = y) (F (b + p)) := by
    refine cnt_cong (fun x hx => ?_)
    rw [bgn_iff h ho hb he (by omega)]
    constructor
    · rintro ⟨j, a1, a2, a3⟩
      refine ⟨j, a1, ?_, a3⟩
      rcases Nat.lt_trichotomy j (b + p) with s | s | s
      · exact s
      · subst s; omega
      · have := F_lt h.1 hb he (show b ≤ b + p by omega) s a2
        omega
    · rintro ⟨j, a1, a2, a3⟩
      exact ⟨j, a1, by omega, a3⟩
  exact hb3.trans h1
theorem stO_in {O F L T : Fn} {n : Nat} {B : Fn} {o b e p : Nat} (h : RT O F L T n B) (ho : o < 5) (hb : isB O n o b) (he : isB O n (o + 1) e) (hp : b + p < e) : stO B o (nI p) = some (F (b + p)) := by
  have h0 := h.2.2.1.2.1 (b + p)
  have hn := SD_n h.1
  have hen := he.1
  refine srch_some (by omega) ⟨(bgn_iff h ho hb he (by omega)).mpr ⟨b + p, by omega, hp, rfl⟩, by rw [cnt_bgn h ho hb he hp]⟩ (fun x hx z => ?_)
  obtain ⟨j, a1, a2, a3⟩ := (bgn_iff h ho hb he (by omega)).mp z.1
  obtain ⟨i, rfl⟩ : ∃ i, j = b + i := ⟨j - b, by omega⟩
  have q := z.2
  rw [← a3, cnt_bgn h ho hb he a2, nI_eq (by omega) (by omega)] at q
  subst q
  omega
theorem stO_out {O F L T : Fn} {n : Nat} {B : Fn} {o b e : Nat} {y : Int32} (h : RT O F L T n B) (ho : o < 5) (hb : isB O n o b) (he : isB O n (o + 1) e) (hy : ∀ p, b + p < e → y ≠ nI p) : stO B o y = none := by
  refine srch_none (fun x hx z => ?_)
  obtain ⟨j, a1, a2, a3⟩ := (bgn_iff h ho hb he hx).mp z.1
  obtain ⟨i, rfl⟩ : ∃ i, j = b + i := ⟨j - b, by omega⟩
  have q := z.2
  rw [← a3, cnt_bgn h ho hb he a2] at q
  exact hy i a2 q.symm
theorem endB_in {O F L T : Fn} {n : Nat} {B : Fn} {o j : Nat} (h : RT O F L T n B) (ho : o < 5) (hj : j < n) (hO : O j = o) : endB B o (F j) = L j := by
  have q := h.1.1 j hj
  refine endB_eq (by omega) q.1 ?_ (fun i a1 a2 => ?_)
  · rcases Nat.lt_or_ge (L j) 39 with s | s
    · refine Or.inr (fun y => ?_)
      have q1 := tb_in (x := L j) h ho hj hO q.1 (Nat.le_refl _)
      rw [q1, show 40 * o + L j + 1 = 40 * o + (L j + 1) by omega] at y
      obtain ⟨i, hi, c1, c2, c3, c4⟩ := tb_of (x := L j + 1) h ho (by omega) (by omega)
      rcases Nat.lt_trichotomy i j with r | r | r
      · have d := SD_lt h.1 r hj
        omega
      · subst r; omega
      · have d1 := SD_lt h.1 r hi
        by_cases s2 : j + 1 = i
        · subst s2
          exact h.2.1 j (by omega) (fun z => z) (by omega) (by omega) (by omega)
        · have d2 := SD_lt h.1 (show j < j + 1 by omega) (by omega)
          have d3 := SD_lt h.1 (show j + 1 < i by omega) hi
          have d4 := h.1.1 (j + 1) (by omega)
          omega
    · exact Or.inl s
  · have q1 := tb_in (x := i) h ho hj hO a1 (by omega)
    have q2 := tb_in (x := i + 1) h ho hj hO (by omega) (by omega)
    rw [q1, show 40 * o + i + 1 = 40 * o + (i + 1) by omega, q2]
/-- the obstacle -/
def bsI (O F L T : Fn) (o a l t k best : Nat) : Prop := best ≤ 40 ∧ (best < 40 → ∃ j, j < k ∧ stP O F L T j o a l t ∧ (best = F j ∧ a ≤ F j ∨ best = a ∧ F j ≤ a)) ∧ ∀ j, j < k → stP O F L T j o a l t → best ≤ F j ∨ best ≤ a
theorem agst_1 {O F L T : Fn} {n : Nat} {B : Fn} {o x t : Nat} (h : RT O F L T n B) (hx : x ≤ 39) (ht : 1 ≤ t) (ht2 : t ≤ 2) : agst B o x 1 t ≠ 0 ↔ ∃ j, j < n ∧ stP O F L T j o x x t := by
  rw [← riv_agst h (Nat.le_refl x) hx rfl ht ht2]
  unfold riv
  constructor
  · intro z
    rcases Classical.em (∃ j, j < n ∧ stP O F L T j o x x t) with y | y
    · exact y
    · exact absurd (mk5_0.mpr (fun p _ ⟨k, a1, a2, a3⟩ => y ⟨k, a1, a3⟩)) z
  · rintro ⟨j, hj, hs⟩ z
    have q := h.1.1 j hj
    exact mk5_0.mp z (O j) (by omega) ⟨j, hj, rfl, hs⟩
theorem bs_end {O F L T : Fn} {n : Nat} {B : Fn} {o a l m t best : Nat} (h : RT O F L T n B) (hm : 1 ≤ m) (hl : a + m = l + 1) (hl2 : l ≤ 39) (ht : 1 ≤ t) (ht2 : t ≤ 2) (hI : bsI O F L T o a l t n best) : (best = 40 ∧ cObst B o a m t = -4) ∨ (best ≠ 40 ∧ cObst B o a m t = nI best) := by
  obtain ⟨h1, h2, h3⟩ := hI
  have key : ∀ i, i < m → (agst B o (a + i) 1 t ≠ 0 ↔ ∃ j, j < n ∧ stP O F L T j o (a + i) (a + i) t) := fun i hi => agst_1 h (by omega) ht ht2
  rcases Nat.lt_or_ge best 40 with s | s
  · refine Or.inr ⟨by omega, ?_⟩
    obtain ⟨j, hj, hs, hb⟩ := h2 s
    have q := h.1.1 j hj
    have hs0 := hs
    obtain ⟨s1, s2, s3, s4⟩ := hs
    have e : srch (fun i => agst B o (a + i) 1 t ≠ 0) m = some (best - a) := by
      refine srch_some (by omega) ((key _ (by omega)).mpr ⟨j, hj, ?_, ?_, s3, s4⟩) (fun i hi z => ?_)
      · omega
      · omega
      · obtain ⟨k, hk, c1, c2, c3, c4⟩ := (key i (by omega)).mp z
        have := h3 k hk ⟨by omega, by omega, c3, c4⟩
        omega
    unfold cObst
    rw [e]
    show nI (a + (best - a)) = _
    rw [show a + (best - a) = best by omega]
  · refine Or.inl ⟨by omega, ?_⟩
    have e : srch (fun i => agst B o (a + i) 1 t ≠ 0) m = none := by
      refine srch_none (fun i hi z => ?_)
      obtain ⟨k, hk, c1, c2, c3, c4⟩ := (key i (by omega)).mp z
      have := h3 k hk ⟨by omega, by omega, c3, c4⟩
      omega
    unfold cObst
    rw [e]
/-- who waits longer -/
theorem ahead_n {V P X Y Z : Fn} {c q : Nat} {Wh Fi Ma Ki : Fn} {i : Nat} (h : RQ V P X Y Z c q Wh Fi Ma Ki) (hi : i < q) : cnt (fun p => V p ≠ 0 ∧ Z p < Z (Wh i)) 5 = i := by
  have h1 := cnt_img (f := Wh) (N := 5) (a := 0) i (fun j _ _ => by have := h.2.1 j; omega) (fun j k _ a b => RQ_ne h j k a (by omega))
  have h2 : cnt (fun p => V p ≠ 0 ∧ Z p < Z (Wh i)) 5 = cnt (fun y => ∃ j, 0 ≤ j ∧ j < 0 + i ∧ Wh j = y) 5 := by
    refine cnt_cong (fun p hp => ⟨?_, ?_⟩)
    · rintro ⟨a, b⟩
      obtain ⟨j, hj, rfl⟩ := (h.2.2.2.2.1 p hp).mp a
      refine ⟨j, Nat.zero_le _, ?_, rfl⟩
      rcases Nat.lt_trichotomy j i with s | s | s
      · omega
      · subst s; omega
      · have := h.2.2.2.2.2.2.1 i j s hj
        omega
    · rintro ⟨j, _, a, rfl⟩
      exact ⟨(h.2.2.2.2.1 _ hp).mpr ⟨j, by omega, rfl⟩, h.2.2.2.2.2.2.1 j i (by omega) hi⟩
  rw [h2, h1]
/-- which bytes nobody holds -/
theorem hld_0 {O F L T : Fn} {n : Nat} {B : Fn} {x : Nat} (h : RT O F L T n B) (hx : x < 40) : hld B x = 0 ↔ ∀ j, j < n → ¬ (F j ≤ x ∧ x ≤ L j) := by
  unfold hld
  rw [mk5_0]
  constructor
  · intro z j hj y
    have q := h.1.1 j hj
    have q1 := tb_in (o := O j) h (by omega) hj rfl y.1 y.2
    exact z (O j) (by omega) (by omega)
  · intro z p hp y
    obtain ⟨j, hj, _, a, b, _⟩ := tb_of h hp hx y
    exact z j hj ⟨a, b⟩
end
section
/-! X1: bad, badByte, badRange, placeOf, clash, against, grant, leave, ready, settle -/
set_option maxRecDepth 100000
set_option maxHeartbeats 4000000 in
set_option maxRecDepth 100000 in
theorem m1_bad (B : Fn) (q : Nat) (Wh Fi Ma Ki Ou : Fn) (x : Int32) : MCi w1 yX1_bad cX1_bad 2 (some .boolean) 0 0 [.int x] ((B, q, Wh, Fi, Ma, Ki, Ou)) (fun r u2 => bI (¬ okO x) r ∧ u2 = (B, q, Wh, Fi, Ma, Ki, Ou)) := by
  refine MCi_of (lv := fun ad => [some (.ref (ad 0)), some (.int x)]) (by decide) (Or.inr ⟨rfl, fun v u1 h => bI01 h.1⟩) rfl (fun _ => Nat.le_of_ble_eq_true rfl) (fun _ => rfl) ?_
  intro g ad cI cZ
  show G g _ cX1_bad RX1 2 _ (w1 ad cI cZ) _ _ ((B, q, Wh, Fi, Ma, Ki, Ou)) 0 _ []
  refine ro_iload_n dX1_bad_0 rfl ?_
  refine ro_if_ltR 9 dX1_bad_1 (by decide) (fun h1 => ?_) (fun h1 => ?_)
  · refine ro_iconst (x := nI 1) dX1_bad_9 (by decide) ?_
    refine ro_goto 14 dX1_bad_10 (by decide) ?_
    refine ro_iret dX1_bad_14 ?_
    exact ⟨bI_t (fun ⟨o, ho, e⟩ => neg_of (by omega) h1 e), rfl⟩
  · refine ro_iload_n dX1_bad_4 rfl ?_
    refine ro_iconst (x := nI 4) dX1_bad_5 (by decide) ?_
    refine ro_icmp_leR 13 dX1_bad_6 (by decide) (fun h2 => ?_) (fun h2 => ?_)
    · refine ro_iconst (x := nI 0) dX1_bad_13 (by decide) ?_
      refine ro_iret dX1_bad_14 ?_
      obtain ⟨o, _, ho, e⟩ := rng_of (lo := 0) (hi := 4) (by decide) (by decide) h1 (fun z => absurd (Int32.lt_of_lt_of_le z h2) (by decide))
      exact ⟨bI_f (fun h => h ⟨o, by omega, e⟩), rfl⟩
    · refine ro_iconst (x := nI 1) dX1_bad_9 (by decide) ?_
      refine ro_goto 14 dX1_bad_10 (by decide) ?_
      refine ro_iret dX1_bad_14 ?_
      exact ⟨bI_t (fun ⟨o, ho, e⟩ => h2 (by rw [e]; exact nI_le (by omega) (by decide))), rfl⟩
set_option maxHeartbeats 4000000 in
set_option maxRecDepth 100000 in
theorem m1_badByte (B : Fn) (q : Nat) (Wh Fi Ma Ki Ou : Fn) (x : Int32) : MCi w1 yX1_badByte cX1_badByte 2 (some .boolean) 0 0 [.int x] ((B, q, Wh, Fi, Ma, Ki, Ou)) (fun r u2 => bI (¬ okB x) r ∧ u2 = (B, q, Wh, Fi, Ma, Ki, Ou)) := by
  refine MCi_of (lv := fun ad => [some (.ref (ad 0)), some (.int x)]) (by decide) (Or.inr ⟨rfl, fun v u1 h => bI01 h.1⟩) rfl (fun _ => Nat.le_of_ble_eq_true rfl) (fun _ => rfl) ?_
  intro g ad cI cZ
  show G g _ cX1_badByte RX1 2 _ (w1 ad cI cZ) _ _ ((B, q, Wh, Fi, Ma, Ki, Ou)) 0 _ []
  refine ro_iload_n dX1_badByte_0 rfl ?_
  refine ro_if_ltR 10 dX1_badByte_1 (by decide) (fun h1 => ?_) (fun h1 => ?_)
  · refine ro_iconst (x := nI 1) dX1_badByte_10 (by decide) ?_
    refine ro_goto 15 dX1_badByte_11 (by decide) ?_
    refine ro_iret dX1_badByte_15 ?_
    exact ⟨bI_t (fun ⟨o, ho, e⟩ => neg_of (by omega) h1 e), rfl⟩
  · refine ro_iload_n dX1_badByte_4 rfl ?_
    refine ro_bipush (x := nI 39) dX1_badByte_5 (by decide) ?_
    refine ro_icmp_leR 14 dX1_badByte_7 (by decide) (fun h2 => ?_) (fun h2 => ?_)
    · refine ro_iconst (x := nI 0) dX1_badByte_14 (by decide) ?_
      refine ro_iret dX1_badByte_15 ?_
      obtain ⟨o, _, ho, e⟩ := rng_of (lo := 0) (hi := 39) (by decide) (by decide) h1 (fun z => absurd (Int32.lt_of_lt_of_le z h2) (by decide))
      exact ⟨bI_f (fun h => h ⟨o, by omega, e⟩), rfl⟩
    · refine ro_iconst (x := nI 1) dX1_badByte_10 (by decide) ?_
      refine ro_goto 15 dX1_badByte_11 (by decide) ?_
      refine ro_iret dX1_badByte_15 ?_
      exact ⟨bI_t (fun ⟨o, ho, e⟩ => h2 (by rw [e]; exact nI_le (by omega) (by decide))), rfl⟩
set_option maxHeartbeats 4000000 in
set_option maxRecDepth 100000 in
theorem m1_badRange (B : Fn) (q : Nat) (Wh Fi Ma Ki Ou : Fn) (x y : Int32) : MCi w1 yX1_badRange cX1_badRange 3 (some .boolean) 0 0 [.int x, .int y] ((B, q, Wh, Fi, Ma, Ki, Ou)) (fun r u2 => bI (¬ okR x y) r ∧ u2 = (B, q, Wh, Fi, Ma, Ki, Ou)) := by
  refine MCi_of (lv := fun ad => [some (.ref (ad 0)), some (.int x), some (.int y)]) (by decide) (Or.inr ⟨rfl, fun v u1 h => bI01 h.1⟩) rfl (fun _ => Nat.le_of_ble_eq_true rfl) (fun _ => rfl) ?_
  intro g ad cI cZ
  show G g _ cX1_badRange RX1 3 _ (w1 ad cI cZ) _ _ ((B, q, Wh, Fi, Ma, Ki, Ou)) 0 _ []
  refine ro_iload_n dX1_badRange_0 rfl ?_
  refine ro_iconst (x := nI 1) dX1_badRange_1 (by decide) ?_
  refine ro_icmp_ltR 23 dX1_badRange_2 (by decide) (fun h1 => ?_) (fun h1 => ?_)
  · refine ro_iconst (x := nI 1) dX1_badRange_23 (by decide) ?_
    refine ro_goto 28 dX1_badRange_24 (by decide) ?_
    refine ro_iret dX1_badRange_28 ?_
    exact ⟨bI_t (fun ⟨a, m, g1, g2, g3, g4⟩ => nI_nlt g1 (by omega) (g4 ▸ h1)), rfl⟩
  · refine ro_iload_n dX1_badRange_5 rfl ?_
    refine ro_bipush (x := nI 40) dX1_badRange_6 (by decide) ?_
    refine ro_icmp_gtR 23 dX1_badRange_8 (by decide) (fun h2 => ?_) (fun h2 => ?_)
    · refine ro_iconst (x := nI 1) dX1_badRange_23 (by decide) ?_
      refine ro_goto 28 dX1_badRange_24 (by decide) ?_
      refine ro_iret dX1_badRange_28 ?_
      exact ⟨bI_t (fun ⟨a, m, g1, g2, g3, g4⟩ => nI_nlt (show m ≤ 40 by omega) (by omega) (g4 ▸ h2)), rfl⟩
    · obtain ⟨m, hm1, hm2, rfl⟩ := rng_of (lo := 1) (hi := 40) (by decide) (by decide) h1 h2
      refine ro_iload_n dX1_badRange_11 rfl ?_
      refine ro_if_ltR 23 dX1_badRange_12 (by decide) (fun h3 => ?_) (fun h3 => ?_)
      · refine ro_iconst (x := nI 1) dX1_badRange_23 (by decide) ?_
        refine ro_goto 28 dX1_badRange_24 (by decide) ?_
        refine ro_iret dX1_badRange_28 ?_
        exact ⟨bI_t (fun ⟨a, m, g1, g2, g3, g4⟩ => neg_of (by omega) h3 g3), rfl⟩
      · refine ro_iload_n dX1_badRange_15 rfl ?_
        refine ro_bipush (x := nI 40) dX1_badRange_16 (by decide) ?_
        refine ro_iload_n dX1_badRange_18 rfl ?_
        refine ro_isub dX1_badRange_19 (by omega) ?_
        refine ro_icmp_leR 27 dX1_badRange_20 (by decide) (fun h4 => ?_) (fun h4 => ?_)
        · refine ro_iconst (x := nI 0) dX1_badRange_27 (by decide) ?_
          refine ro_iret dX1_badRange_28 ?_
          obtain ⟨a, _, ha, rfl⟩ := rng_of (lo := 0) (hi := 40 - m) (by omega) (by decide) h3 (fun z => absurd (Int32.lt_of_lt_of_le z h4) (Int32.lt_irrefl))
          exact ⟨bI_f (fun h => h ⟨a, m, hm1, by omega, rfl, rfl⟩), rfl⟩
        · refine ro_iconst (x := nI 1) dX1_badRange_23 (by decide) ?_
          refine ro_goto 28 dX1_badRange_24 (by decide) ?_
          refine ro_iret dX1_badRange_28 ?_
          exact ⟨bI_t (fun ⟨a, m2, g1, g2, g3, g4⟩ => h4 (by rw [g3]; exact nI_le (by have := (nI_eq (by omega) (by omega)).mp g4; omega) (by omega))), rfl⟩
set_option maxHeartbeats 4000000 in
set_option maxRecDepth 100000 in
theorem m1_placeOf (B : Fn) (q : Nat) (Wh Fi Ma Ki Ou : Fn) (o : Nat) (hq : q ≤ 8) (ho : o ≤ 4) (hW : ∀ j, Wh j ≤ 4) : MCi w1 yX1_placeOf cX1_placeOf 3 (some .int) 0 0 [.int (nI o)] ((B, q, Wh, Fi, Ma, Ki, Ou)) (fun r u2 => r = opI (srch (fun i => Wh i = o) q) ∧ u2 = (B, q, Wh, Fi, Ma, Ki, Ou)) := by
  refine MCi_of (lv := fun ad => [some (.ref (ad 0)), some (.int (nI o)), none]) (by decide) (Or.inl rfl) rfl (fun _ => Nat.le_of_ble_eq_true rfl) (fun _ => rfl) ?_
  intro g ad cI cZ
  show G g _ cX1_placeOf RX1 3 _ (w1 ad cI cZ) _ _ ((B, q, Wh, Fi, Ma, Ki, Ou)) 0 _ []
  have loop : ∀ d i : Nat, i + d = q → (∀ j, j < i → Wh j ≠ o) → G g ({ frames := 0, cells := 0, slots := 0, locals := 0 }) cX1_placeOf RX1 3 [(cI, .int), (cZ, .boolean)] (w1 ad cI cZ) (fun r u2 => r = opI (srch (fun i => Wh i = o) q) ∧ u2 = (B, q, Wh, Fi, Ma, Ki, Ou)) (fun _ => False) (B, q, Wh, Fi, Ma, Ki, Ou) 2 [some (.ref (ad 0)), some (.int (nI o)), some (.int (nI i))] [] := by
    intro d
    induction d with
    | zero =>
      intro i hi hn
      have hi : i = q := hi
      subst hi
      refine ro_iload_n dX1_placeOf_2 rfl ?_
      refine ro_aload_n dX1_placeOf_3 rfl ?_
      refine f1_queue dX1_placeOf_4 ?_
      refine ro_icmp_ge 34 dX1_placeOf_7 (by decide) (by omega) (by omega) (fun h1 => ?_) (fun h1 => ?_)
      · refine ro_iconst (x := -1) dX1_placeOf_34 (by decide) ?_
        refine ro_iret dX1_placeOf_35 ?_
        rw [srch_none hn]
        exact ⟨rfl, rfl⟩
      · exact absurd h1 (by omega)
    | succ d ih =>
      intro i hi hn
      have b1 := hW i
      refine ro_iload_n dX1_placeOf_2 rfl ?_
      refine ro_aload_n dX1_placeOf_3 rfl ?_
      refine f1_queue dX1_placeOf_4 ?_
      refine ro_icmp_ge 34 dX1_placeOf_7 (by decide) (by omega) (by omega) (fun h1 => ?_) (fun h1 => ?_)
      · exact absurd h1 (by omega)
      · refine ro_iload_n dX1_placeOf_10 rfl ?_
        refine ro_bipush (x := nI 8) dX1_placeOf_11 (by decide) ?_
        refine ro_icmp_ge 34 dX1_placeOf_13 (by decide) (by omega) (by omega) (fun h2 => ?_) (fun h2 => ?_)
        · exact absurd h2 (by omega)
        · refine ro_aload_n dX1_placeOf_16 rfl ?_
          refine f1_who dX1_placeOf_17 ?_
          refine ro_iload_n dX1_placeOf_20 rfl ?_
          refine l1_who dX1_placeOf_21 (by omega) ?_
          refine ro_iload_n dX1_placeOf_22 rfl ?_
          refine ro_icmp_ne 28 dX1_placeOf_23 (by decide) (by omega) (by omega) (fun h3 => ?_) (fun h3 => ?_)
          · refine ro_iinc (lv1 := [_, _, _]) dX1_placeOf_28 rfl rfl rfl rfl ?_
            refine ro_goto 2 dX1_placeOf_31 (by decide) ?_
            exact ih (i + 1) (by omega) (fun j hj => by
              by_cases e : j = i
              · rw [e]; exact h3
              · exact hn j (by omega))
          · refine ro_iload_n dX1_placeOf_26 rfl ?_
            refine ro_iret dX1_placeOf_27 ?_
            rw [srch_some (P := fun i => Wh i = o) h1 h3 hn]
            exact ⟨rfl, rfl⟩
  refine ro_iconst (x := nI 0) dX1_placeOf_0 (by decide) ?_
  refine ro_istore_n (lv1 := [_, _, _]) dX1_placeOf_1 rfl rfl rfl ?_
  exact loop q 0 (by omega) (fun j hj => absurd hj (Nat.not_lt_zero j))
set_option maxHeartbeats 4000000 in
set_option maxRecDepth 100000 in
theorem m1_clash (B : Fn) (q : Nat) (Wh Fi Ma Ki Ou : Fn) (t v : Nat) (ht : t ≤ 2) (hv : v ≤ 2) : MCi w1 yX1_clash cX1_clash 3 (some .boolean) 0 0 [.int (nI t), .int (nI v)] ((B, q, Wh, Fi, Ma, Ki, Ou)) (fun r u2 => bI (cf t v) r ∧ u2 = (B, q, Wh, Fi, Ma, Ki, Ou)) := by
  refine MCi_of (lv := fun ad => [some (.ref (ad 0)), some (.int (nI t)), some (.int (nI v))]) (by decide) (Or.inr ⟨rfl, fun v u1 h => bI01 h.1⟩) rfl (fun _ => Nat.le_of_ble_eq_true rfl) (fun _ => rfl) ?_
  intro g ad cI cZ
  show G g _ cX1_clash RX1 3 _ (w1 ad cI cZ) _ _ ((B, q, Wh, Fi, Ma, Ki, Ou)) 0 _ []
  refine ro_iload_n dX1_clash_0 rfl ?_
  refine ro_iconst (x := nI 2) dX1_clash_1 (by decide) ?_
  refine ro_icmp_ne 9 dX1_clash_2 (by decide) (by omega) (by omega) (fun h1 => ?_) (fun h1 => ?_)
  · refine ro_iload_n dX1_clash_9 rfl ?_
    refine ro_iconst (x := nI 1) dX1_clash_10 (by decide) ?_
    refine ro_icmp_ne 23 dX1_clash_11 (by decide) (by omega) (by omega) (fun h2 => ?_) (fun h2 => ?_)
    · refine ro_iconst (x := nI 0) dX1_clash_23 (by decide) ?_
      refine ro_iret dX1_clash_24 ?_
      exact ⟨bI_f (fun h => h.elim (fun z => h1 z.1) (fun z => h2 z.1)), rfl⟩
    · refine ro_iload_n dX1_clash_14 rfl ?_
      refine ro_iconst (x := nI 2) dX1_clash_15 (by decide) ?_
      refine ro_icmp_ne 23 dX1_clash_16 (by decide) (by omega) (by omega) (fun h3 => ?_) (fun h3 => ?_)
      · refine ro_iconst (x := nI 0) dX1_clash_23 (by decide) ?_
        refine ro_iret dX1_clash_24 ?_
        exact ⟨bI_f (fun h => h.elim (fun z => h1 z.1) (fun z => h3 z.2)), rfl⟩
      · refine ro_iconst (x := nI 1) dX1_clash_19 (by decide) ?_
        refine ro_goto 24 dX1_clash_20 (by decide) ?_
        refine ro_iret dX1_clash_24 ?_
        exact ⟨bI_t (Or.inr ⟨h2, h3⟩), rfl⟩
  · refine ro_iload_n dX1_clash_5 rfl ?_
    refine ro_if_ne 19 dX1_clash_6 (by decide) (by omega) (fun h2 => ?_) (fun h2 => ?_)
    · refine ro_iconst (x := nI 1) dX1_clash_19 (by decide) ?_
      refine ro_goto 24 dX1_clash_20 (by decide) ?_
      refine ro_iret dX1_clash_24 ?_
      exact ⟨bI_t (Or.inl ⟨h1, h2⟩), rfl⟩
    · refine ro_iload_n dX1_clash_9 rfl ?_
      refine ro_iconst (x := nI 1) dX1_clash_10 (by decide) ?_
      refine ro_icmp_ne 23 dX1_clash_11 (by decide) (by omega) (by omega) (fun h3 => ?_) (fun h3 => ?_)
      · refine ro_iconst (x := nI 0) dX1_clash_23 (by decide) ?_
        refine ro_iret dX1_clash_24 ?_
        exact ⟨bI_f (fun h => h.elim (fun z => z.2 h2) (fun z => h3 z.1)), rfl⟩
      · exact absurd h3 (by omega)
set_option maxHeartbeats 4000000 in
set_option maxRecDepth 100000 in
theorem m1_against (B : Fn) (q : Nat) (Wh Fi Ma Ki Ou : Fn) (o a m t : Nat) (hB : ∀ j, B j ≤ 2) (ho : o ≤ 4) (ham : a + m ≤ 40) (ht : t ≤ 2) : MCi w1 yX1_against cX1_against 8 (some .int) 1 22 [.int (nI o), .int (nI a), .int (nI m), .int (nI t)] ((B, q, Wh, Fi, Ma, Ki, Ou)) (fun r u2 => r = nI (agst B o a m t) ∧ u2 = (B, q, Wh, Fi, Ma, Ki, Ou)) := by
  refine MCi_of (lv := fun ad => [some (.ref (ad 0)), some (.int (nI o)), some (.int (nI a)), some (.int (nI m)), some (.int (nI t)), none, none, none]) (by decide) (Or.inl rfl) rfl (fun _ => Nat.le_of_ble_eq_true rfl) (fun _ => rfl) ?_
  intro g ad cI cZ
  show G g _ cX1_against RX1 8 _ (w1 ad cI cZ) _ _ ((B, q, Wh, Fi, Ma, Ki, Ou)) 0 _ []
  have inner : ∀ (p : Nat), p < 5 → ∀ (K : ∀ (k : Nat) (z : Option Value), k < 32 → (∀ x, bit k x ↔ x < p + 1 ∧ clP B o a m t x) → G g ({ frames := 1, cells := 0, slots := 0, locals := 22 }) cX1_against RX1 8 [(cI, .int), (cZ, .boolean)] (w1 ad cI cZ) (fun r u2 => r = nI (agst B o a m t) ∧ u2 = (B, q, Wh, Fi, Ma, Ki, Ou)) (fun _ => False) (B, q, Wh, Fi, Ma, Ki, Ou) 66 [some (.ref (ad 0)), some (.int (nI o)), some (.int (nI a)), some (.int (nI m)), some (.int (nI t)), some (.int (nI k)), some (.int (nI p)), z] []) (d b k : Nat), b + d = a + m → a ≤ b → k < 32 → (∀ x, bit k x ↔ (x < p ∧ clP B o a m t x) ∨ (x = p ∧ p ≠ o ∧ ∃ c, a ≤ c ∧ c < b ∧ cf t (B (40 * p + c)))) → G g ({ frames := 1, cells := 0, slots := 0, locals := 22 }) cX1_against RX1 8 [(cI, .int), (cZ, .boolean)] (w1 ad cI cZ) (fun r u2 => r = nI (agst B o a m t) ∧ u2 = (B, q, Wh, Fi, Ma, Ki, Ou)) (fun _ => False) (B, q, Wh, Fi, Ma, Ki, Ou) 15 [some (.ref (ad 0)), some (.int (nI o)), some (.int (nI a)), some (.int (nI m)), some (.int (nI t)), some (.int (nI k)), some (.int (nI p)), some (.int (nI b))] [] := by
    intro p hp K d
    induction d with
    | zero =>
      intro b k hb hab hk hI
      refine ro_iload dX1_against_15 rfl ?_
      refine ro_iload_n dX1_against_17 rfl ?_
      refine ro_iload_n dX1_against_18 rfl ?_
      refine ro_iadd dX1_against_19 ?_
      refine ro_icmp_ge 66 dX1_against_20 (by decide) (by omega) (by omega) (fun h1 => ?_) (fun h1 => ?_)
      · refine K k _ hk (fun x => ?_)
        rw [hI x]
        have hb : b = a + m := hb
        subst hb
        constructor
        · rintro (⟨z1, z2⟩ | ⟨z1, z2⟩)
          · exact ⟨by omega, z2⟩
          · subst z1; exact ⟨by omega, z2⟩
        · rintro ⟨z1, z2⟩
          by_cases e : x = p
          · subst e; exact Or.inr ⟨rfl, z2⟩
          · exact Or.inl ⟨by omega, z2⟩
      · exact absurd h1 (by omega)
    | succ d ih =>
      intro b k hb hab hk hI
      refine ro_iload dX1_against_15 rfl ?_
      refine ro_iload_n dX1_against_17 rfl ?_
      refine ro_iload_n dX1_against_18 rfl ?_
      refine ro_iadd dX1_against_19 ?_
      refine ro_icmp_ge 66 dX1_against_20 (by decide) (by omega) (by omega) (fun h1 => ?_) (fun h1 => ?_)
      · exact absurd h1 (by omega)
      · refine ro_iload dX1_against_23 rfl ?_
        refine ro_iload_n dX1_against_25 rfl ?_
        refine ro_icmp_eq 60 dX1_against_26 (by decide) (by omega) (by omega) (fun h2 => ?_) (fun h2 => ?_)
        · refine ro_iinc (lv1 := [_, _, _, _, _, _, _, _]) dX1_against_60 rfl rfl rfl rfl ?_
          refine ro_goto 15 dX1_against_63 (by decide) ?_
          refine ih (b + 1) k (by omega) (by omega) hk (fun x => ?_)
          rw [hI x]
          exact ⟨fun z => z.elim Or.inl (fun y => absurd h2 y.2.1), fun z => z.elim Or.inl (fun y => absurd h2 y.2.1)⟩
        · have b1 := hB (40 * p + b)
          refine ro_aload_n dX1_against_29 rfl ?_
          refine ro_iload dX1_against_30 rfl ?_
          refine ro_aload_n dX1_against_32 rfl ?_
          refine f1_table dX1_against_33 ?_
          refine ro_bipush (x := nI 40) dX1_against_36 (by decide) ?_
          refine ro_iload dX1_against_38 rfl ?_
          refine ro_imul dX1_against_40 ?_
          refine ro_iload dX1_against_41 rfl ?_
          refine ro_iadd dX1_against_43 ?_
          refine l1_table dX1_against_44 (by omega) ?_
          refine ro_call1 2 (m1_clash B q Wh Fi Ma Ki Ou t (B (40 * p + b)) ht b1) cv_X1_X1_clash dn_X1_clash rfl ⟨by decide, by decide⟩ rfl (Nat.le_of_ble_eq_true rfl) dX1_against_45 (fun r u2 hr => ?_)
          obtain ⟨hr, rfl⟩ := hr
          rcases hr with ⟨hs, rfl⟩ | ⟨hs, rfl⟩
          · refine ro_if_eq 60 dX1_against_48 (by decide) (by omega) (fun h3 => ?_) (fun h3 => ?_)
            · exact absurd h3 (by decide)
            · refine ro_iload dX1_against_51 rfl ?_
              refine ro_iconst (x := nI 1) dX1_against_53 (by decide) ?_
              refine ro_iload dX1_against_54 rfl ?_
              refine ro_ishl1 dX1_against_56 (by omega) ?_
              refine ro_ior dX1_against_57 ?_
              refine ro_istore (lv1 := [_, _, _, _, _, _, _, _]) dX1_against_58 rfl rfl rfl ?_
              refine ro_iinc (lv1 := [_, _, _, _, _, _, _, _]) dX1_against_60 rfl rfl rfl rfl ?_
              refine ro_goto 15 dX1_against_63 (by decide) ?_
              have hpw : 2 ^ p < 2 ^ 5 := Nat.pow_lt_pow_right (by decide) hp
              refine ih (b + 1) (k ||| 2 ^ p) (by omega) (by omega) (or_lt (k := 5) hk hpw) (fun x => ?_)
              rw [bit_or, bit_pow, hI x]
              constructor
              · rintro ((z | ⟨z1, z2, c, z3, z4, z5⟩) | z)
                · exact Or.inl z
                · exact Or.inr ⟨z1, z2, c, z3, by omega, z5⟩
                · exact Or.inr ⟨z, h2, b, hab, by omega, hs⟩
              · rintro (z | ⟨z1, z2⟩)
                · exact Or.inl (Or.inl z)
                · exact Or.inr z1
          · refine ro_if_eq 60 dX1_against_48 (by decide) (by omega) (fun h3 => ?_) (fun h3 => ?_)
            · refine ro_iinc (lv1 := [_, _, _, _, _, _, _, _]) dX1_against_60 rfl rfl rfl rfl ?_
              refine ro_goto 15 dX1_against_63 (by decide) ?_
              refine ih (b + 1) k (by omega) (by omega) hk (fun x => ?_)
              rw [hI x]
              constructor
              · rintro (z | ⟨z1, z2, c, z3, z4, z5⟩)
                · exact Or.inl z
                · exact Or.inr ⟨z1, z2, c, z3, by omega, z5⟩
              · rintro (z | ⟨z1, z2, c, z3, z4, z5⟩)
                · exact Or.inl z
                · by_cases e : c = b
                  · subst e; exact absurd z5 hs
                  · exact Or.inr ⟨z1, z2, c, z3, by omega, z5⟩
            · exact absurd rfl h3
  have outer : ∀ (d p k : Nat) (z : Option Value), p + d = 5 → k < 32 → (∀ x, bit k x ↔ x < p ∧ clP B o a m t x) → G g ({ frames := 1, cells := 0, slots := 0, locals := 22 }) cX1_against RX1 8 [(cI, .int), (cZ, .boolean)] (w1 ad cI cZ) (fun r u2 => r = nI (agst B o a m t) ∧ u2 = (B, q, Wh, Fi, Ma, Ki, Ou)) (fun _ => False) (B, q, Wh, Fi, Ma, Ki, Ou) 6 [some (.ref (ad 0)), some (.int (nI o)), some (.int (nI a)), some (.int (nI m)), some (.int (nI t)), some (.int (nI k)), some (.int (nI p)), z] [] := by
    intro d
    induction d with
    | zero =>
      intro p k z hp hk hI
      have hp : p = 5 := hp
      subst hp
      refine ro_iload dX1_against_6 rfl ?_
      refine ro_iconst (x := nI 5) dX1_against_8 (by decide) ?_
      refine ro_icmp_ge 72 dX1_against_9 (by decide) (by omega) (by omega) (fun h1 => ?_) (fun h1 => ?_)
      · refine ro_iload dX1_against_72 rfl ?_
        refine ro_iret dX1_against_74 ?_
        exact ⟨by rw [show k = agst B o a m t from mk5_eq hk (fun x hx => by rw [hI x]; exact ⟨fun y => y.2, fun y => ⟨hx, y⟩⟩)], rfl⟩
      · exact absurd h1 (by omega)
    | succ d ih =>
      intro p k z hp hk hI
      refine ro_iload dX1_against_6 rfl ?_
      refine ro_iconst (x := nI 5) dX1_against_8 (by decide) ?_
      refine ro_icmp_ge 72 dX1_against_9 (by decide) (by omega) (by omega) (fun h1 => ?_) (fun h1 => ?_)
      · exact absurd h1 (by omega)
      · refine ro_iload_n dX1_against_12 rfl ?_
        refine ro_istore (lv1 := [_, _, _, _, _, _, _, _]) dX1_against_13 rfl rfl rfl ?_
        refine inner p (by omega) (fun k2 z2 hk2 hI2 => ?_) m a k rfl (Nat.le_refl a) hk (fun x => ?_)
        · refine ro_iinc (lv1 := [_, _, _, _, _, _, _, _]) dX1_against_66 rfl rfl rfl rfl ?_
          refine ro_goto 6 dX1_against_69 (by decide) ?_
          exact ih (p + 1) k2 z2 (by omega) hk2 hI2
        · rw [hI x]
          exact ⟨fun y => Or.inl y, fun y => y.elim (fun w => w) (fun ⟨_, _, c, g1, g2, _⟩ => absurd g2 (by omega))⟩
  refine ro_iconst (x := nI 0) dX1_against_0 (by decide) ?_
  refine ro_istore (lv1 := [_, _, _, _, _, _, _, _]) dX1_against_1 rfl rfl rfl ?_
  refine ro_iconst (x := nI 0) dX1_against_3 (by decide) ?_
  refine ro_istore (lv1 := [_, _, _, _, _, _, _, _]) dX1_against_4 rfl rfl rfl ?_
  exact outer 5 0 0 _ rfl (by omega) (fun x => ⟨fun h => absurd h bit_0, fun h => absurd h.1 (Nat.not_lt_zero x)⟩)
set_option maxHeartbeats 4000000 in
set_option maxRecDepth 100000 in
theorem m1_grant (B : Fn) (q : Nat) (Wh Fi Ma Ki Ou : Fn) (o a m t : Nat) (ho : o ≤ 4) (ham : a + m ≤ 40) (ht : t ≤ 2) : MCv w1 yX1_grant cX1_grant 6 0 0 [.int (nI o), .int (nI a), .int (nI m), .int (nI t)] ((B, q, Wh, Fi, Ma, Ki, Ou)) (fun u2 => u2 = (grB B o a m t, q, Wh, Fi, Ma, Ki, Ou)) := by
  refine MCv_of (lv := fun ad => [some (.ref (ad 0)), some (.int (nI o)), some (.int (nI a)), some (.int (nI m)), some (.int (nI t)), none]) (by decide) rfl (fun _ => Nat.le_of_ble_eq_true rfl) (fun _ => rfl) ?_
  intro g ad cI cZ
  show G g _ cX1_grant RX1 6 _ (w1 ad cI cZ) _ _ ((B, q, Wh, Fi, Ma, Ki, Ou)) 0 _ []
  have loop : ∀ d j : Nat, j + d = m → G g ({ frames := 0, cells := 0, slots := 0, locals := 0 }) cX1_grant RX1 6 [(cI, .int), (cZ, .boolean)] (w1 ad cI cZ) (fun _ _ => False) (fun u2 => u2 = (grB B o a m t, q, Wh, Fi, Ma, Ki, Ou)) (grB B o a j t, q, Wh, Fi, Ma, Ki, Ou) 3 [some (.ref (ad 0)), some (.int (nI o)), some (.int (nI a)), some (.int (nI m)), some (.int (nI t)), some (.int (nI (a + j)))] [] := by
    intro d
    induction d with
    | zero =>
      intro j hj
      have hj : j = m := hj
      subst hj
      refine ro_iload dX1_grant_3 rfl ?_
      refine ro_iload_n dX1_grant_5 rfl ?_
      refine ro_iload_n dX1_grant_6 rfl ?_
      refine ro_iadd dX1_grant_7 ?_
      refine ro_icmp_ge 31 dX1_grant_8 (by decide) (by omega) (by omega) (fun h1 => ?_) (fun h1 => ?_)
      · refine ro_vret dX1_grant_31 ?_
        rfl
      · exact absurd h1 (by omega)
    | succ d ih =>
      intro j hj
      refine ro_iload dX1_grant_3 rfl ?_
      refine ro_iload_n dX1_grant_5 rfl ?_
      refine ro_iload_n dX1_grant_6 rfl ?_
      refine ro_iadd dX1_grant_7 ?_
      refine ro_icmp_ge 31 dX1_grant_8 (by decide) (by omega) (by omega) (fun h1 => ?_) (fun h1 => ?_)
      · exact absurd h1 (by omega)
      · refine ro_aload_n dX1_grant_11 rfl ?_
        refine f1_table dX1_grant_12 ?_
        refine ro_bipush (x := nI 40) dX1_grant_15 (by decide) ?_
        refine ro_iload_n dX1_grant_17 rfl ?_
        refine ro_imul dX1_grant_18 ?_
        refine ro_iload dX1_grant_19 rfl ?_
        refine ro_iadd dX1_grant_21 ?_
        refine ro_iload dX1_grant_22 rfl ?_
        refine s1_table dX1_grant_24 (by omega) ?_
        refine ro_iinc (lv1 := [_, _, _, _, _, _]) dX1_grant_25 rfl rfl rfl rfl ?_
        refine ro_goto 3 dX1_grant_28 (by decide) ?_
        have e : up (grB B o a j t) (40 * o + (a + j)) t = grB B o a (j + 1) t := by
          funext x
          unfold up grB
          by_cases h2 : x = 40 * o + (a + j)
          · rw [if_pos h2, if_pos (by omega)]
          · rw [if_neg h2]
            by_cases h3 : 40 * o + a ≤ x ∧ x < 40 * o + a + j
            · rw [if_pos h3, if_pos (by omega)]
            · rw [if_neg h3, if_neg (by omega)]
        rw [e]
        exact ih (j + 1) (by omega)
  have e0 : grB B o a 0 t = B := by
    funext x
    unfold grB
    rw [if_neg (by omega)]
  have h0 := loop m 0 (by omega)
  rw [e0] at h0
  refine ro_iload_n dX1_grant_0 rfl ?_
  refine ro_istore (lv1 := [_, _, _, _, _, _]) dX1_grant_1 rfl rfl rfl ?_
  exact h0
set_option maxHeartbeats 4000000 in
set_option maxRecDepth 100000 in
theorem m1_leave (B : Fn) (q : Nat) (Wh Fi Ma Ki Ou : Fn) (i : Nat) (hq : q ≤ 8) (hi : i < q) : MCv w1 yX1_leave cX1_leave 3 0 0 [.int (nI i)] ((B, q, Wh, Fi, Ma, Ki, Ou)) (fun u2 => u2 = (B, q - 1, shL Wh i q, shL Fi i q, shL Ma i q, shL Ki i q, Ou)) := by
  refine MCv_of (lv := fun ad => [some (.ref (ad 0)), some (.int (nI i)), none]) (by decide) rfl (fun _ => Nat.le_of_ble_eq_true rfl) (fun _ => rfl) ?_
  intro g ad cI cZ
  show G g _ cX1_leave RX1 3 _ (w1 ad cI cZ) _ _ ((B, q, Wh, Fi, Ma, Ki, Ou)) 0 _ []
  have loop : ∀ d j : Nat, j + 1 + d = q → i ≤ j → G g ({ frames := 0, cells := 0, slots := 0, locals := 0 }) cX1_leave RX1 3 [(cI, .int), (cZ, .boolean)] (w1 ad cI cZ) (fun _ _ => False) (fun u2 => u2 = (B, q - 1, shL Wh i q, shL Fi i q, shL Ma i q, shL Ki i q, Ou)) (B, q, shL Wh i (j + 1), shL Fi i (j + 1), shL Ma i (j + 1), shL Ki i (j + 1), Ou) 2 [some (.ref (ad 0)), some (.int (nI i)), some (.int (nI j))] [] := by
    intro d
    induction d with
    | zero =>
      intro j hj hij
      have hj : q = j + 1 := hj.symm
      subst hj
      refine ro_iload_n dX1_leave_2 rfl ?_
      refine ro_aload_n dX1_leave_3 rfl ?_
      refine f1_queue dX1_leave_4 ?_
      refine ro_iconst (x := nI 1) dX1_leave_7 (by decide) ?_
      refine ro_isub dX1_leave_8 (by omega) ?_
      refine ro_icmp_ge 80 dX1_leave_9 (by decide) (by omega) (by omega) (fun h1 => ?_) (fun h1 => ?_)
      · refine ro_aload_n dX1_leave_80 rfl ?_
        refine ro_dup dX1_leave_81 rfl ?_
        refine f1_queue dX1_leave_82 ?_
        refine ro_iconst (x := nI 1) dX1_leave_85 (by decide) ?_
        refine ro_isub dX1_leave_86 (by omega) ?_
        refine p1_queue dX1_leave_87 ?_
        refine ro_vret dX1_leave_90 ?_
        rfl
      · exact absurd h1 (by omega)
    | succ d ih =>
      intro j hj hij
      refine ro_iload_n dX1_leave_2 rfl ?_
      refine ro_aload_n dX1_leave_3 rfl ?_
      refine f1_queue dX1_leave_4 ?_
      refine ro_iconst (x := nI 1) dX1_leave_7 (by decide) ?_
      refine ro_isub dX1_leave_8 (by omega) ?_
      refine ro_icmp_ge 80 dX1_leave_9 (by decide) (by omega) (by omega) (fun h1 => ?_) (fun h1 => ?_)
      · exact absurd h1 (by omega)
      · refine ro_iload_n dX1_leave_12 rfl ?_
        refine ro_bipush (x := nI 7) dX1_leave_13 (by decide) ?_
        refine ro_icmp_ge 80 dX1_leave_15 (by decide) (by omega) (by omega) (fun h2 => ?_) (fun h2 => ?_)
        · exact absurd h2 (by omega)
        · refine ro_aload_n dX1_leave_18 rfl ?_
          refine f1_who dX1_leave_19 ?_
          refine ro_iload_n dX1_leave_22 rfl ?_
          refine ro_aload_n dX1_leave_23 rfl ?_
          refine f1_who dX1_leave_24 ?_
          refine ro_iload_n dX1_leave_27 rfl ?_
          refine ro_iconst (x := nI 1) dX1_leave_28 (by decide) ?_
          refine ro_iadd dX1_leave_29 ?_
          refine l1_who dX1_leave_30 (by omega) ?_
          refine s1_who dX1_leave_31 (by omega) ?_
          refine ro_aload_n dX1_leave_32 rfl ?_
          refine f1_first dX1_leave_33 ?_
          refine ro_iload_n dX1_leave_36 rfl ?_
          refine ro_aload_n dX1_leave_37 rfl ?_
          refine f1_first dX1_leave_38 ?_
          refine ro_iload_n dX1_leave_41 rfl ?_
          refine ro_iconst (x := nI 1) dX1_leave_42 (by decide) ?_
          refine ro_iadd dX1_leave_43 ?_
          refine l1_first dX1_leave_44 (by omega) ?_
          refine s1_first dX1_leave_45 (by omega) ?_
          refine ro_aload_n dX1_leave_46 rfl ?_
          refine f1_many dX1_leave_47 ?_
          refine ro_iload_n dX1_leave_50 rfl ?_
          refine ro_aload_n dX1_leave_51 rfl ?_
          refine f1_many dX1_leave_52 ?_
          refine ro_iload_n dX1_leave_55 rfl ?_
          refine ro_iconst (x := nI 1) dX1_leave_56 (by decide) ?_
          refine ro_iadd dX1_leave_57 ?_
          refine l1_many dX1_leave_58 (by omega) ?_
          refine s1_many dX1_leave_59 (by omega) ?_
          refine ro_aload_n dX1_leave_60 rfl ?_
          refine f1_kind dX1_leave_61 ?_
          refine ro_iload_n dX1_leave_64 rfl ?_
          refine ro_aload_n dX1_leave_65 rfl ?_
          refine f1_kind dX1_leave_66 ?_
          refine ro_iload_n dX1_leave_69 rfl ?_
          refine ro_iconst (x := nI 1) dX1_leave_70 (by decide) ?_
          refine ro_iadd dX1_leave_71 ?_
          refine l1_kind dX1_leave_72 (by omega) ?_
          refine s1_kind dX1_leave_73 (by omega) ?_
          refine ro_iinc (lv1 := [_, _, _]) dX1_leave_74 rfl rfl rfl rfl ?_
          refine ro_goto 2 dX1_leave_77 (by decide) ?_
          have e1 := shL_s Wh i (j + 1) (by omega)
          have e2 := shL_s Fi i (j + 1) (by omega)
          have e3 := shL_s Ma i (j + 1) (by omega)
          have e4 := shL_s Ki i (j + 1) (by omega)
          rw [Nat.add_sub_cancel] at e1 e2 e3 e4
          rw [e1, e2, e3, e4]
          exact ih (j + 1) (by omega) (by omega)
  have h0 := loop (q - (i + 1)) i (by omega) (Nat.le_refl i)
  rw [shL_0, shL_0, shL_0, shL_0] at h0
  refine ro_iload_n dX1_leave_0 rfl ?_
  refine ro_istore_n (lv1 := [_, _, _]) dX1_leave_1 rfl rfl rfl ?_
  exact h0
set_option maxHeartbeats 4000000 in
set_option maxRecDepth 100000 in
theorem m1_ready (B : Fn) (q : Nat) (Wh Fi Ma Ki Ou : Fn) (hq : q ≤ 8) (hB : B1 B Wh Fi Ma Ki) : MCi w1 yX1_ready cX1_ready 2 (some .int) 2 49 [] ((B, q, Wh, Fi, Ma, Ki, Ou)) (fun r u2 => r = opI (srch (rdy (B, q, Wh, Fi, Ma, Ki)) q) ∧ u2 = (B, q, Wh, Fi, Ma, Ki, Ou)) := by
  refine MCi_of (lv := fun ad => [some (.ref (ad 0)), none]) (by decide) (Or.inl rfl) rfl (fun _ => Nat.le_of_ble_eq_true rfl) (fun _ => rfl) ?_
  intro g ad cI cZ
  show G g _ cX1_ready RX1 2 _ (w1 ad cI cZ) _ _ ((B, q, Wh, Fi, Ma, Ki, Ou)) 0 _ []
  have loop : ∀ d i : Nat, i + d = q → (∀ j, j < i → ¬ rdy (B, q, Wh, Fi, Ma, Ki) j) → G g ({ frames := 2, cells := 0, slots := 0, locals := 49 }) cX1_ready RX1 2 [(cI, .int), (cZ, .boolean)] (w1 ad cI cZ) (fun r u2 => r = opI (srch (rdy (B, q, Wh, Fi, Ma, Ki)) q) ∧ u2 = (B, q, Wh, Fi, Ma, Ki, Ou)) (fun _ => False) (B, q, Wh, Fi, Ma, Ki, Ou) 2 [some (.ref (ad 0)), some (.int (nI i))] [] := by
    intro d
    induction d with
    | zero =>
      intro i hi hn
      have hi : i = q := hi
      refine ro_iload_n dX1_ready_2 rfl ?_
      refine ro_aload_n dX1_ready_3 rfl ?_
      refine f1_queue dX1_ready_4 ?_
      refine ro_icmp_ge 55 dX1_ready_7 (by decide) (by omega) (by omega) (fun h1 => ?_) (fun h1 => ?_)
      · refine ro_iconst (x := -1) dX1_ready_55 (by decide) ?_
        refine ro_iret dX1_ready_56 ?_
        rw [← hi] at hn ⊢
        rw [srch_none hn]
        exact ⟨rfl, rfl⟩
      · exact absurd h1 (by omega)
    | succ d ih =>
      intro i hi hn
      refine ro_iload_n dX1_ready_2 rfl ?_
      refine ro_aload_n dX1_ready_3 rfl ?_
      refine f1_queue dX1_ready_4 ?_
      refine ro_icmp_ge 55 dX1_ready_7 (by decide) (by omega) (by omega) (fun h1 => ?_) (fun h1 => ?_)
      · exact absurd h1 (by omega)
      · refine ro_iload_n dX1_ready_10 rfl ?_
        refine ro_bipush (x := nI 8) dX1_ready_11 (by decide) ?_
        refine ro_icmp_ge 55 dX1_ready_13 (by decide) (by omega) (by omega) (fun h2 => ?_) (fun h2 => ?_)
        · exact absurd h2 (by omega)
        · refine ro_aload_n dX1_ready_16 rfl ?_
          refine ro_aload_n dX1_ready_17 rfl ?_
          refine f1_who dX1_ready_18 ?_
          refine ro_iload_n dX1_ready_21 rfl ?_
          refine l1_who dX1_ready_22 (by omega) ?_
          refine ro_aload_n dX1_ready_23 rfl ?_
          refine f1_first dX1_ready_24 ?_
          refine ro_iload_n dX1_ready_27 rfl ?_
          refine l1_first dX1_ready_28 (by omega) ?_
          refine ro_aload_n dX1_ready_29 rfl ?_
          refine f1_many dX1_ready_30 ?_
          refine ro_iload_n dX1_ready_33 rfl ?_
          refine l1_many dX1_ready_34 (by omega) ?_
          refine ro_aload_n dX1_ready_35 rfl ?_
          refine f1_kind dX1_ready_36 ?_
          refine ro_iload_n dX1_ready_39 rfl ?_
          refine l1_kind dX1_ready_40 (by omega) ?_
          refine ro_call1 4 (m1_against B q Wh Fi Ma Ki Ou (Wh i) (Fi i) (Ma i) (Ki i) hB.1 (hB.2.1 i) (hB.2.2.1 i) (hB.2.2.2 i)) cv_X1_X1_against dn_X1_against rfl ⟨by decide, by decide⟩ rfl (Nat.le_of_ble_eq_true rfl) dX1_ready_41 (fun r u2 hr => ?_)
          obtain ⟨rfl, rfl⟩ := hr
          have b1 := mk5_lt (clP B (Wh i) (Fi i) (Ma i) (Ki i))
          have b2 : agst B (Wh i) (Fi i) (Ma i) (Ki i) < 32 := b1
          refine ro_if_ne 49 dX1_ready_44 (by decide) (by omega) (fun h3 => ?_) (fun h3 => ?_)
          · refine ro_iinc (lv1 := [_, _]) dX1_ready_49 rfl rfl rfl rfl ?_
            refine ro_goto 2 dX1_ready_52 (by decide) ?_
            exact ih (i + 1) (by omega) (fun j hj => by
              by_cases e : j = i
              · rw [e]; exact h3
              · exact hn j (by omega))
          · refine ro_iload_n dX1_ready_47 rfl ?_
            refine ro_iret dX1_ready_48 ?_
            rw [srch_some (P := rdy (B, q, Wh, Fi, Ma, Ki)) h1 h3 hn]
            exact ⟨rfl, rfl⟩
  refine ro_iconst (x := nI 0) dX1_ready_0 (by decide) ?_
  refine ro_istore_n (lv1 := [_, _]) dX1_ready_1 rfl rfl rfl ?_
  exact loop q 0 (by omega) (fun j hj => absurd hj (Nat.not_lt_zero j))
set_option maxHeartbeats 4000000 in
set_option maxRecDepth 100000 in
theorem m1_settle (B : Fn) (q : Nat) (Wh Fi Ma Ki Ou : Fn) (hq : q ≤ 8) (hB : B1 B Wh Fi Ma Ki) : MCi w1 yX1_settle cX1_settle 4 (some .int) 3 70 [] ((B, q, Wh, Fi, Ma, Ki, Ou)) (fun r u2 => ∃ B2 q2 Wh2 Fi2 Ma2 Ki2, setN 5 (B, q, Wh, Fi, Ma, Ki) = ((setN 5 (B, q, Wh, Fi, Ma, Ki)).1, (B2, q2, Wh2, Fi2, Ma2, Ki2)) ∧ B1 B2 Wh2 Fi2 Ma2 Ki2 ∧ q2 ≤ q ∧ r = nI (setN 5 (B, q, Wh, Fi, Ma, Ki)).1 ∧ u2 = (B2, q2, Wh2, Fi2, Ma2, Ki2, Ou)) := by
  refine MCi_of (lv := fun ad => [some (.ref (ad 0)), none, none, none]) (by decide) (Or.inl rfl) rfl (fun _ => Nat.le_of_ble_eq_true rfl) (fun _ => rfl) ?_
  intro g ad cI cZ
  show G g _ cX1_settle RX1 4 _ (w1 ad cI cZ) _ _ ((B, q, Wh, Fi, Ma, Ki, Ou)) 0 _ []
  have loop : ∀ (d k gr : Nat) (z : Option Value) (B2 : Fn) (q2 : Nat) (Wh2 Fi2 Ma2 Ki2 : Fn), k + d = 5 → gr ≤ k → q2 ≤ q → B1 B2 Wh2 Fi2 Ma2 Ki2 → setN 5 (B, q, Wh, Fi, Ma, Ki) = (gr + (setN d (B2, q2, Wh2, Fi2, Ma2, Ki2)).1, (setN d (B2, q2, Wh2, Fi2, Ma2, Ki2)).2) → G g ({ frames := 3, cells := 0, slots := 0, locals := 70 }) cX1_settle RX1 4 [(cI, .int), (cZ, .boolean)] (w1 ad cI cZ) (fun r u2 => ∃ B2 q2 Wh2 Fi2 Ma2 Ki2, setN 5 (B, q, Wh, Fi, Ma, Ki) = ((setN 5 (B, q, Wh, Fi, Ma, Ki)).1, (B2, q2, Wh2, Fi2, Ma2, Ki2)) ∧ B1 B2 Wh2 Fi2 Ma2 Ki2 ∧ q2 ≤ q ∧ r = nI (setN 5 (B, q, Wh, Fi, Ma, Ki)).1 ∧ u2 = (B2, q2, Wh2, Fi2, Ma2, Ki2, Ou)) (fun _ => False) (B2, q2, Wh2, Fi2, Ma2, Ki2, Ou) 4 [some (.ref (ad 0)), some (.int (nI gr)), some (.int (nI k)), z] [] := by
    intro d
    induction d with
    | zero =>
      intro k gr z B2 q2 Wh2 Fi2 Ma2 Ki2 hk hg hq2 hB2 hI
      have hk : k = 5 := hk
      subst hk
      refine ro_iload_n dX1_settle_4 rfl ?_
      refine ro_iconst (x := nI 5) dX1_settle_5 (by decide) ?_
      refine ro_icmp_ge 60 dX1_settle_6 (by decide) (by omega) (by omega) (fun h1 => ?_) (fun h1 => ?_)
      · refine ro_iload_n dX1_settle_60 rfl ?_
        refine ro_iret dX1_settle_61 ?_
        refine ⟨B2, q2, Wh2, Fi2, Ma2, Ki2, ?_, hB2, hq2, ?_, rfl⟩
        · rw [hI]; rfl
        · rw [hI]; rfl
      · exact absurd h1 (by omega)
    | succ d ih =>
      intro k gr z B2 q2 Wh2 Fi2 Ma2 Ki2 hk hg hq2 hB2 hI
      refine ro_iload_n dX1_settle_4 rfl ?_
      refine ro_iconst (x := nI 5) dX1_settle_5 (by decide) ?_
      refine ro_icmp_ge 60 dX1_settle_6 (by decide) (by omega) (by omega) (fun h1 => ?_) (fun h1 => ?_)
      · exact absurd h1 (by omega)
      · refine ro_aload_n dX1_settle_9 rfl ?_
        refine ro_call1 0 (m1_ready B2 q2 Wh2 Fi2 Ma2 Ki2 Ou (by omega) hB2) cv_X1_X1_ready dn_X1_ready rfl ⟨by decide, by decide⟩ rfl (Nat.le_of_ble_eq_true rfl) dX1_settle_10 (fun r u2 hr => ?_)
        obtain ⟨rfl, rfl⟩ := hr
        rcases srch_cases (rdy (B2, q2, Wh2, Fi2, Ma2, Ki2)) q2 with ⟨e, _⟩ | ⟨i, e, hi, _, _⟩
        · rw [e]
          show G g ({ frames := 3, cells := 0, slots := 0, locals := 70 }) cX1_settle RX1 4 [(cI, .int), (cZ, .boolean)] (w1 ad cI cZ) (fun r u2 => ∃ B2 q2 Wh2 Fi2 Ma2 Ki2, setN 5 (B, q, Wh, Fi, Ma, Ki) = ((setN 5 (B, q, Wh, Fi, Ma, Ki)).1, (B2, q2, Wh2, Fi2, Ma2, Ki2)) ∧ B1 B2 Wh2 Fi2 Ma2 Ki2 ∧ q2 ≤ q ∧ r = nI (setN 5 (B, q, Wh, Fi, Ma, Ki)).1 ∧ u2 = (B2, q2, Wh2, Fi2, Ma2, Ki2, Ou)) (fun _ => False) (B2, q2, Wh2, Fi2, Ma2, Ki2, Ou) (10 + 3) [some (.ref (ad 0)), some (.int (nI gr)), some (.int (nI k)), z] [.int (-1)]
          refine ro_istore_n (lv1 := [_, _, _, _]) dX1_settle_13 rfl rfl rfl ?_
          refine ro_iload_n dX1_settle_14 rfl ?_
          refine ro_if_ltR 54 dX1_settle_15 (by decide) (fun h2 => ?_) (fun h2 => ?_)
          · refine ro_iinc (lv1 := [_, _, _, _]) dX1_settle_54 rfl rfl rfl rfl ?_
            refine ro_goto 4 dX1_settle_57 (by decide) ?_
            refine ih (k + 1) gr _ B2 q2 Wh2 Fi2 Ma2 Ki2 (by omega) (by omega) hq2 hB2 ?_
            rw [hI, setN_none e, setN_none e]
          · exact absurd (by decide) h2
        · rw [e]
          show G g ({ frames := 3, cells := 0, slots := 0, locals := 70 }) cX1_settle RX1 4 [(cI, .int), (cZ, .boolean)] (w1 ad cI cZ) (fun r u2 => ∃ B2 q2 Wh2 Fi2 Ma2 Ki2, setN 5 (B, q, Wh, Fi, Ma, Ki) = ((setN 5 (B, q, Wh, Fi, Ma, Ki)).1, (B2, q2, Wh2, Fi2, Ma2, Ki2)) ∧ B1 B2 Wh2 Fi2 Ma2 Ki2 ∧ q2 ≤ q ∧ r = nI (setN 5 (B, q, Wh, Fi, Ma, Ki)).1 ∧ u2 = (B2, q2, Wh2, Fi2, Ma2, Ki2, Ou)) (fun _ => False) (B2, q2, Wh2, Fi2, Ma2, Ki2, Ou) (10 + 3) [some (.ref (ad 0)), some (.int (nI gr)), some (.int (nI k)), z] [.int (nI i)]
          refine ro_istore_n (lv1 := [_, _, _, _]) dX1_settle_13 rfl rfl rfl ?_
          refine ro_iload_n dX1_settle_14 rfl ?_
          refine ro_if_lt 54 dX1_settle_15 (by decide) (by omega) ?_
          refine ro_aload_n dX1_settle_18 rfl ?_
          refine ro_aload_n dX1_settle_19 rfl ?_
          refine f1_who dX1_settle_20 ?_
          refine ro_iload_n dX1_settle_23 rfl ?_
          refine l1_who dX1_settle_24 (by omega) ?_
          refine ro_aload_n dX1_settle_25 rfl ?_
          refine f1_first dX1_settle_26 ?_
          refine ro_iload_n dX1_settle_29 rfl ?_
          refine l1_first dX1_settle_30 (by omega) ?_
          refine ro_aload_n dX1_settle_31 rfl ?_
          refine f1_many dX1_settle_32 ?_
          refine ro_iload_n dX1_settle_35 rfl ?_
          refine l1_many dX1_settle_36 (by omega) ?_
          refine ro_aload_n dX1_settle_37 rfl ?_
          refine f1_kind dX1_settle_38 ?_
          refine ro_iload_n dX1_settle_41 rfl ?_
          refine l1_kind dX1_settle_42 (by omega) ?_
          refine ro_call1v 4 (m1_grant B2 q2 Wh2 Fi2 Ma2 Ki2 Ou (Wh2 i) (Fi2 i) (Ma2 i) (Ki2 i) (hB2.2.1 i) (hB2.2.2.1 i) (hB2.2.2.2 i)) cv_X1_X1_grant dn_X1_grant rfl ⟨by decide, by decide⟩ rfl (Nat.le_of_ble_eq_true rfl) dX1_settle_43 (fun u2 hu => ?_)
          subst hu
          refine ro_aload_n dX1_settle_46 rfl ?_
          refine ro_iload_n dX1_settle_47 rfl ?_
          refine ro_call1v 1 (m1_leave (grB B2 (Wh2 i) (Fi2 i) (Ma2 i) (Ki2 i)) q2 Wh2 Fi2 Ma2 Ki2 Ou i (by omega) hi) cv_X1_X1_leave dn_X1_leave rfl ⟨by decide, by decide⟩ rfl (Nat.le_of_ble_eq_true rfl) dX1_settle_48 (fun u2 hu => ?_)
          subst hu
          refine ro_iinc (lv1 := [_, _, _, _]) dX1_settle_51 rfl rfl rfl rfl ?_
          refine ro_iinc (lv1 := [_, _, _, _]) dX1_settle_54 rfl rfl rfl rfl ?_
          refine ro_goto 4 dX1_settle_57 (by decide) ?_
          refine ih (k + 1) (gr + 1) _ _ _ _ _ _ _ (by omega) (by omega) (by omega) hB2.stp ?_
          rw [hI, setN_some e]
          show (gr + (_ + 1), _) = (gr + 1 + _, _)
          rw [Nat.add_assoc, Nat.add_comm 1]
          rfl
  refine ro_iconst (x := nI 0) dX1_settle_0 (by decide) ?_
  refine ro_istore_n (lv1 := [_, _, _, _]) dX1_settle_1 rfl rfl rfl ?_
  refine ro_iconst (x := nI 0) dX1_settle_2 (by decide) ?_
  refine ro_istore_n (lv1 := [_, _, _, _]) dX1_settle_3 rfl rfl rfl ?_
  refine loop 5 0 0 _ B q Wh Fi Ma Ki rfl (Nat.le_refl _) (Nat.le_refl _) hB ?_
  rw [Nat.zero_add]
end
section
/-! X1: circles -/
set_option maxRecDepth 100000
/-- out as circles fills it, the first i of the queue done -/
def ouI (B : Fn) (Wh Fi Ma Ki : Fn) (i : Nat) (Ou : Fn) : Prop := ∀ p, p < 5 → ((∃ j, j < i ∧ Wh j = p ∧ Ou p = agst B p (Fi j) (Ma j) (Ki j)) ∨ ((∀ j, j < i → Wh j ≠ p) ∧ Ou p = 0))
theorem ouI_end {B : Fn} {q : Nat} {Wh Fi Ma Ki Ou : Fn} (hD : Ds q Wh) (h : ouI B Wh Fi Ma Ki q Ou) : ∀ p, p < 5 → Ou p = outM (B, q, Wh, Fi, Ma, Ki) p := by
  intro p hp
  show _ = (match srch (fun i => Wh i = p) q with | none => 0 | some i => agst B p (Fi i) (Ma i) (Ki i))
  rcases h p hp with ⟨j, h1, h2, h3⟩ | ⟨h1, h2⟩
  · rw [srch_some (P := fun i => Wh i = p) h1 h2 (fun k hk e => by have := hD k j (by omega) h1 (e.trans h2.symm); omega)]
    exact h3
  · rw [srch_none (P := fun i => Wh i = p) h1]
    exact h2
set_option maxHeartbeats 4000000 in
set_option maxRecDepth 100000 in
theorem m1_circles (B : Fn) (q : Nat) (Wh Fi Ma Ki Ou : Fn) (o m : Nat) (hq : q ≤ 8) (hB : B1 B Wh Fi Ma Ki) (hD : Ds q Wh) (ho : o ≤ 4) (hm : m < 32) : MCi w1 yX1_circles cX1_circles 7 (some .boolean) 2 49 [.int (nI o), .int (nI m)] ((B, q, Wh, Fi, Ma, Ki, Ou)) (fun r u2 => bI (cyc (outM (B, q, Wh, Fi, Ma, Ki)) m o) r ∧ ∃ Ou2, u2 = (B, q, Wh, Fi, Ma, Ki, Ou2)) := by
  refine MCi_of (lv := fun ad => [some (.ref (ad 0)), some (.int (nI o)), some (.int (nI m)), none, none, none, none]) (by decide) (Or.inr ⟨rfl, fun v u1 h => bI01 h.1⟩) rfl (fun _ => Nat.le_of_ble_eq_true rfl) (fun _ => rfl) ?_
  intro g ad cI cZ
  show G g _ cX1_circles RX1 7 _ (w1 ad cI cZ) _ _ ((B, q, Wh, Fi, Ma, Ki, Ou)) 0 _ []
  have oL := outM_lt (B, q, Wh, Fi, Ma, Ki)
  -- the end
  have fin : ∀ (Ou2 : Fn) (M : Nat) (z4 z5 z6 : Option Value), M < 32 → (bit M o ↔ cyc (outM (B, q, Wh, Fi, Ma, Ki)) m o) → G g ({ frames := 2, cells := 0, slots := 0, locals := 49 }) cX1_circles RX1 7 [(cI, .int), (cZ, .boolean)] (w1 ad cI cZ) (fun r u2 => bI (cyc (outM (B, q, Wh, Fi, Ma, Ki)) m o) r ∧ ∃ Ou2, u2 = (B, q, Wh, Fi, Ma, Ki, Ou2)) (fun _ => False) (B, q, Wh, Fi, Ma, Ki, Ou2) 191 [some (.ref (ad 0)), some (.int (nI o)), some (.int (nI m)), some (.int (nI M)), z4, z5, z6] [] := by
    intro Ou2 M z4 z5 z6 hM hI
    have b1 := bit_le (p := o) hM
    refine ro_iload_n dX1_circles_191 rfl ?_
    refine ro_iload_n dX1_circles_192 rfl ?_
    refine ro_ishr dX1_circles_193 (by omega) (by omega) ?_
    refine ro_iconst (x := nI 1) dX1_circles_194 (by decide) ?_
    refine ro_iand1 dX1_circles_195 (by omega) ?_
    refine ro_iconst (x := nI 1) dX1_circles_196 (by decide) ?_
    refine ro_icmp_ne 204 dX1_circles_197 (by decide) (by omega) (by omega) (fun h1 => ?_) (fun h1 => ?_)
    · refine ro_iconst (x := nI 0) dX1_circles_204 (by decide) ?_
      refine ro_iret dX1_circles_205 ?_
      exact ⟨bI_f (fun h => h1 (hI.mpr h)), Ou2, rfl⟩
    · refine ro_iconst (x := nI 1) dX1_circles_200 (by decide) ?_
      refine ro_goto 205 dX1_circles_201 (by decide) ?_
      refine ro_iret dX1_circles_205 ?_
      exact ⟨bI_t (hI.mp h1), Ou2, rfl⟩
  -- the rounds
  have inner : ∀ (Ou2 : Fn) (M k : Nat), M < 32 → k < 5 → (∀ p, p < 5 → Ou2 p = outM (B, q, Wh, Fi, Ma, Ki) p) → (∀ (K : Nat) (z6 : Option Value), Rd (outM (B, q, Wh, Fi, Ma, Ki)) M K → G g ({ frames := 2, cells := 0, slots := 0, locals := 49 }) cX1_circles RX1 7 [(cI, .int), (cZ, .boolean)] (w1 ad cI cZ) (fun r u2 => bI (cyc (outM (B, q, Wh, Fi, Ma, Ki)) m o) r ∧ ∃ Ou2, u2 = (B, q, Wh, Fi, Ma, Ki, Ou2)) (fun _ => False) (B, q, Wh, Fi, Ma, Ki, Ou2) 182 [some (.ref (ad 0)), some (.int (nI o)), some (.int (nI m)), some (.int (nI M)), some (.int (nI k)), some (.int (nI K)), z6] []) → ∀ d p K : Nat, p + d = 5 → Rw (outM (B, q, Wh, Fi, Ma, Ki)) M p K → G g ({ frames := 2, cells := 0, slots := 0, locals := 49 }) cX1_circles RX1 7 [(cI, .int), (cZ, .boolean)] (w1 ad cI cZ) (fun r u2 => bI (cyc (outM (B, q, Wh, Fi, Ma, Ki)) m o) r ∧ ∃ Ou2, u2 = (B, q, Wh, Fi, Ma, Ki, Ou2)) (fun _ => False) (B, q, Wh, Fi, Ma, Ki, Ou2) 148 [some (.ref (ad 0)), some (.int (nI o)), some (.int (nI m)), some (.int (nI M)), some (.int (nI k)), some (.int (nI K)), some (.int (nI p))] [] := by
    intro Ou2 M k hM hk hOu KK d
    induction d with
    | zero =>
      intro p K hp hR
      have hp : p = 5 := hp
      subst hp
      refine ro_iload dX1_circles_148 rfl ?_
      refine ro_iconst (x := nI 5) dX1_circles_150 (by decide) ?_
      refine ro_icmp_ge 182 dX1_circles_151 (by decide) (by omega) (by omega) (fun h1 => ?_) (fun h1 => ?_)
      · exact KK K _ hR
      · exact absurd h1 (by omega)
    | succ d ih =>
      intro p K hp hR
      have b1 := bit_le (p := p) hM
      refine ro_iload dX1_circles_148 rfl ?_
      refine ro_iconst (x := nI 5) dX1_circles_150 (by decide) ?_
      refine ro_icmp_ge 182 dX1_circles_151 (by decide) (by omega) (by omega) (fun h1 => ?_) (fun h1 => ?_)
      · exact absurd h1 (by omega)
      · refine ro_iload_n dX1_circles_154 rfl ?_
        refine ro_iload dX1_circles_155 rfl ?_
        refine ro_ishr dX1_circles_157 (by omega) (by omega) ?_
        refine ro_iconst (x := nI 1) dX1_circles_158 (by decide) ?_
        refine ro_iand1 dX1_circles_159 (by omega) ?_
        refine ro_iconst (x := nI 1) dX1_circles_160 (by decide) ?_
        refine ro_icmp_ne 176 dX1_circles_161 (by decide) (by omega) (by omega) (fun h2 => ?_) (fun h2 => ?_)
        · refine ro_iinc (lv1 := [_, _, _, _, _, _, _]) dX1_circles_176 rfl rfl rfl rfl ?_
          refine ro_goto 148 dX1_circles_179 (by decide) ?_
          exact ih (p + 1) K (by omega) (Rw_no hR h2)
        · refine ro_iload dX1_circles_164 rfl ?_
          refine ro_aload_n dX1_circles_166 rfl ?_
          refine f1_out dX1_circles_167 ?_
          refine ro_iload dX1_circles_170 rfl ?_
          refine l1_out dX1_circles_172 (by omega) ?_
          refine ro_ior dX1_circles_173 ?_
          refine ro_istore (lv1 := [_, _, _, _, _, _, _]) dX1_circles_174 rfl rfl rfl ?_
          refine ro_iinc (lv1 := [_, _, _, _, _, _, _]) dX1_circles_176 rfl rfl rfl rfl ?_
          refine ro_goto 148 dX1_circles_179 (by decide) ?_
          rw [hOu p h1]
          exact ih (p + 1) _ (by omega) (Rw_yesM hR h1 (oL p) h2)
  have rounds : ∀ (Ou2 : Fn) (M0 : Nat), (∀ p, p < 5 → Ou2 p = outM (B, q, Wh, Fi, Ma, Ki) p) → (∀ x, bit M0 x ↔ ∃ p, p < 5 ∧ bit m p ∧ bit (outM (B, q, Wh, Fi, Ma, Ki) p) x) → ∀ (d k M : Nat) (z5 z6 : Option Value), k + d = 5 → Gw (outM (B, q, Wh, Fi, Ma, Ki)) M0 M → (clo (outM (B, q, Wh, Fi, Ma, Ki)) M ∨ k ≤ crd M) → G g ({ frames := 2, cells := 0, slots := 0, locals := 49 }) cX1_circles RX1 7 [(cI, .int), (cZ, .boolean)] (w1 ad cI cZ) (fun r u2 => bI (cyc (outM (B, q, Wh, Fi, Ma, Ki)) m o) r ∧ ∃ Ou2, u2 = (B, q, Wh, Fi, Ma, Ki, Ou2)) (fun _ => False) (B, q, Wh, Fi, Ma, Ki, Ou2) 136 [some (.ref (ad 0)), some (.int (nI o)), some (.int (nI m)), some (.int (nI M)), some (.int (nI k)), z5, z6] [] := by
    intro Ou2 M0 hOu h0 d
    induction d with
    | zero =>
      intro k M z5 z6 hk hG hc
      have hk : k = 5 := hk
      subst hk
      refine ro_iload dX1_circles_136 rfl ?_
      refine ro_iconst (x := nI 5) dX1_circles_138 (by decide) ?_
      refine ro_icmp_ge 191 dX1_circles_139 (by decide) (by omega) (by omega) (fun h1 => ?_) (fun h1 => ?_)
      · exact fin Ou2 M _ _ _ hG.1 (Gw_cyc h0 hG (clo_5 oL hG.1 hc))
      · exact absurd h1 (by omega)
    | succ d ih =>
      intro k M z5 z6 hk hG hc
      refine ro_iload dX1_circles_136 rfl ?_
      refine ro_iconst (x := nI 5) dX1_circles_138 (by decide) ?_
      refine ro_icmp_ge 191 dX1_circles_139 (by decide) (by omega) (by omega) (fun h1 => ?_) (fun h1 => ?_)
      · exact absurd h1 (by omega)
      · refine ro_iload_n dX1_circles_142 rfl ?_
        refine ro_istore (lv1 := [_, _, _, _, _, _, _]) dX1_circles_143 rfl rfl rfl ?_
        refine ro_iconst (x := nI 0) dX1_circles_145 (by decide) ?_
        refine ro_istore (lv1 := [_, _, _, _, _, _, _]) dX1_circles_146 rfl rfl rfl ?_
        refine inner Ou2 M k hG.1 h1 hOu (fun K z hR => ?_) 5 0 M rfl (Rw_0 hG.1)
        refine ro_iload dX1_circles_182 rfl ?_
        refine ro_istore_n (lv1 := [_, _, _, _, _, _, _]) dX1_circles_184 rfl rfl rfl ?_
        refine ro_iinc (lv1 := [_, _, _, _, _, _, _]) dX1_circles_185 rfl rfl rfl rfl ?_
        refine ro_goto 136 dX1_circles_188 (by decide) ?_
        exact ih (k + 1) K _ _ (by omega) (Gw_rd hG hR) (Rd_next hG.1 hR hc)
  -- the first step
  have first : ∀ (Ou2 : Fn), (∀ p, p < 5 → Ou2 p = outM (B, q, Wh, Fi, Ma, Ki) p) → ∀ (d p K : Nat) (z5 z6 : Option Value), p + d = 5 → K < 32 → (∀ x, bit K x ↔ ∃ y, y < p ∧ bit m y ∧ bit (outM (B, q, Wh, Fi, Ma, Ki) y) x) → G g ({ frames := 2, cells := 0, slots := 0, locals := 49 }) cX1_circles RX1 7 [(cI, .int), (cZ, .boolean)] (w1 ad cI cZ) (fun r u2 => bI (cyc (outM (B, q, Wh, Fi, Ma, Ki)) m o) r ∧ ∃ Ou2, u2 = (B, q, Wh, Fi, Ma, Ki, Ou2)) (fun _ => False) (B, q, Wh, Fi, Ma, Ki, Ou2) 101 [some (.ref (ad 0)), some (.int (nI o)), some (.int (nI m)), some (.int (nI K)), some (.int (nI p)), z5, z6] [] := by
    intro Ou2 hOu d
    induction d with
    | zero =>
      intro p K z5 z6 hp hK hI
      have hp : p = 5 := hp
      subst hp
      refine ro_iload dX1_circles_101 rfl ?_
      refine ro_iconst (x := nI 5) dX1_circles_103 (by decide) ?_
      refine ro_icmp_ge 133 dX1_circles_104 (by decide) (by omega) (by omega) (fun h1 => ?_) (fun h1 => ?_)
      · refine ro_iconst (x := nI 0) dX1_circles_133 (by decide) ?_
        refine ro_istore (lv1 := [_, _, _, _, _, _, _]) dX1_circles_134 rfl rfl rfl ?_
        exact rounds Ou2 K hOu hI 5 0 K _ _ rfl (Gw_rf hK) (Or.inr (Nat.zero_le _))
      · exact absurd h1 (by omega)
    | succ d ih =>
      intro p K z5 z6 hp hK hI
      have b1 := bit_le (p := p) hm
      refine ro_iload dX1_circles_101 rfl ?_
      refine ro_iconst (x := nI 5) dX1_circles_103 (by decide) ?_
      refine ro_icmp_ge 133 dX1_circles_104 (by decide) (by omega) (by omega) (fun h1 => ?_) (fun h1 => ?_)
      · exact absurd h1 (by omega)
      · refine ro_iload_n dX1_circles_107 rfl ?_
        refine ro_iload dX1_circles_108 rfl ?_
        refine ro_ishr dX1_circles_110 (by omega) (by omega) ?_
        refine ro_iconst (x := nI 1) dX1_circles_111 (by decide) ?_
        refine ro_iand1 dX1_circles_112 (by omega) ?_
        refine ro_iconst (x := nI 1) dX1_circles_113 (by decide) ?_
        refine ro_icmp_ne 127 dX1_circles_114 (by decide) (by omega) (by omega) (fun h2 => ?_) (fun h2 => ?_)
        · refine ro_iinc (lv1 := [_, _, _, _, _, _, _]) dX1_circles_127 rfl rfl rfl rfl ?_
          refine ro_goto 101 dX1_circles_130 (by decide) ?_
          refine ih (p + 1) K _ _ (by omega) hK (fun x => ?_)
          rw [hI x]
          constructor
          · rintro ⟨y, g1, g2⟩
            exact ⟨y, by omega, g2⟩
          · rintro ⟨y, g1, g2, g3⟩
            by_cases e : y = p
            · subst e; exact absurd g2 h2
            · exact ⟨y, by omega, g2, g3⟩
        · refine ro_iload_n dX1_circles_117 rfl ?_
          refine ro_aload_n dX1_circles_118 rfl ?_
          refine f1_out dX1_circles_119 ?_
          refine ro_iload dX1_circles_122 rfl ?_
          refine l1_out dX1_circles_124 (by omega) ?_
          refine ro_ior dX1_circles_125 ?_
          refine ro_istore_n (lv1 := [_, _, _, _, _, _, _]) dX1_circles_126 rfl rfl rfl ?_
          refine ro_iinc (lv1 := [_, _, _, _, _, _, _]) dX1_circles_127 rfl rfl rfl rfl ?_
          refine ro_goto 101 dX1_circles_130 (by decide) ?_
          rw [hOu p h1]
          refine ih (p + 1) _ _ _ (by omega) (or_lt (k := 5) hK (oL p)) (fun x => ?_)
          rw [bit_or, hI x]
          constructor
          · rintro (⟨y, g1, g2⟩ | g)
            · exact ⟨y, by omega, g2⟩
            · exact ⟨p, by omega, h2, g⟩
          · rintro ⟨y, g1, g2, g3⟩
            by_cases e : y = p
            · subst e; exact Or.inr g3
            · exact Or.inl ⟨y, by omega, g2, g3⟩
  -- out is filled
  have fill : ∀ (d i : Nat) (Ou2 : Fn) (z5 z6 : Option Value), i + d = q → ouI B Wh Fi Ma Ki i Ou2 → G g ({ frames := 2, cells := 0, slots := 0, locals := 49 }) cX1_circles RX1 7 [(cI, .int), (cZ, .boolean)] (w1 ad cI cZ) (fun r u2 => bI (cyc (outM (B, q, Wh, Fi, Ma, Ki)) m o) r ∧ ∃ Ou2, u2 = (B, q, Wh, Fi, Ma, Ki, Ou2)) (fun _ => False) (B, q, Wh, Fi, Ma, Ki, Ou2) 29 [some (.ref (ad 0)), some (.int (nI o)), some (.int (nI m)), some (.int (nI 0)), some (.int (nI i)), z5, z6] [] := by
    intro d
    induction d with
    | zero =>
      intro i Ou2 z5 z6 hi hI
      have hi : i = q := hi
      refine ro_iload dX1_circles_29 rfl ?_
      refine ro_aload_n dX1_circles_31 rfl ?_
      refine f1_queue dX1_circles_32 ?_
      refine ro_icmp_ge 98 dX1_circles_35 (by decide) (by omega) (by omega) (fun h1 => ?_) (fun h1 => ?_)
      · refine ro_iconst (x := nI 0) dX1_circles_98 (by decide) ?_
        refine ro_istore (lv1 := [_, _, _, _, _, _, _]) dX1_circles_99 rfl rfl rfl ?_
        exact first Ou2 (ouI_end hD (hi ▸ hI)) 5 0 0 _ _ rfl (by omega) (fun x => ⟨fun h => absurd h bit_0, fun ⟨y, g, _⟩ => absurd g (Nat.not_lt_zero y)⟩)
      · exact absurd h1 (by omega)
    | succ d ih =>
      intro i Ou2 z5 z6 hi hI
      have w4 := hB.2.1 i
      refine ro_iload dX1_circles_29 rfl ?_
      refine ro_aload_n dX1_circles_31 rfl ?_
      refine f1_queue dX1_circles_32 ?_
      refine ro_icmp_ge 98 dX1_circles_35 (by decide) (by omega) (by omega) (fun h1 => ?_) (fun h1 => ?_)
      · exact absurd h1 (by omega)
      · refine ro_iload dX1_circles_38 rfl ?_
        refine ro_bipush (x := nI 8) dX1_circles_40 (by decide) ?_
        refine ro_icmp_ge 98 dX1_circles_42 (by decide) (by omega) (by omega) (fun h2 => ?_) (fun h2 => ?_)
        · exact absurd h2 (by omega)
        · refine ro_aload_n dX1_circles_45 rfl ?_
          refine f1_out dX1_circles_46 ?_
          refine ro_aload_n dX1_circles_49 rfl ?_
          refine f1_who dX1_circles_50 ?_
          refine ro_iload dX1_circles_53 rfl ?_
          refine l1_who dX1_circles_55 (by omega) ?_
          refine ro_bipush (x := nI 7) dX1_circles_56 (by decide) ?_
          refine ro_iandR dX1_circles_58 ?_
          refine ro_top (nI_and7 w4) ?_
          refine ro_aload_n dX1_circles_59 rfl ?_
          refine ro_aload_n dX1_circles_60 rfl ?_
          refine f1_who dX1_circles_61 ?_
          refine ro_iload dX1_circles_64 rfl ?_
          refine l1_who dX1_circles_66 (by omega) ?_
          refine ro_aload_n dX1_circles_67 rfl ?_
          refine f1_first dX1_circles_68 ?_
          refine ro_iload dX1_circles_71 rfl ?_
          refine l1_first dX1_circles_73 (by omega) ?_
          refine ro_aload_n dX1_circles_74 rfl ?_
          refine f1_many dX1_circles_75 ?_
          refine ro_iload dX1_circles_78 rfl ?_
          refine l1_many dX1_circles_80 (by omega) ?_
          refine ro_aload_n dX1_circles_81 rfl ?_
          refine f1_kind dX1_circles_82 ?_
          refine ro_iload dX1_circles_85 rfl ?_
          refine l1_kind dX1_circles_87 (by omega) ?_
          refine ro_call1 4 (m1_against B q Wh Fi Ma Ki Ou2 (Wh i) (Fi i) (Ma i) (Ki i) hB.1 w4 (hB.2.2.1 i) (hB.2.2.2 i)) cv_X1_X1_against dn_X1_against rfl ⟨by decide, by decide⟩ rfl (Nat.le_of_ble_eq_true rfl) dX1_circles_88 (fun r u2 hr => ?_)
          obtain ⟨rfl, rfl⟩ := hr
          refine s1_out dX1_circles_91 (by omega) ?_
          refine ro_iinc (lv1 := [_, _, _, _, _, _, _]) dX1_circles_92 rfl rfl rfl rfl ?_
          refine ro_goto 29 dX1_circles_95 (by decide) ?_
          refine ih (i + 1) _ _ _ (by omega) (fun p hp => ?_)
          by_cases e : Wh i = p
          · subst e
            exact Or.inl ⟨i, by omega, rfl, up_s _ _ _⟩
          · rw [up_n (fun z => e z.symm)]
            rcases hI p hp with ⟨j, g1, g2, g3⟩ | ⟨g1, g2⟩
            · exact Or.inl ⟨j, by omega, g2, g3⟩
            · refine Or.inr ⟨fun j hj => ?_, g2⟩
              by_cases e2 : j = i
              · subst e2; exact e
              · exact g1 j (by omega)
  have zero : ∀ (d i : Nat) (Ou2 : Fn) (z5 z6 : Option Value), i + d = 8 → (∀ j, j < i → Ou2 j = 0) → G g ({ frames := 2, cells := 0, slots := 0, locals := 49 }) cX1_circles RX1 7 [(cI, .int), (cZ, .boolean)] (w1 ad cI cZ) (fun r u2 => bI (cyc (outM (B, q, Wh, Fi, Ma, Ki)) m o) r ∧ ∃ Ou2, u2 = (B, q, Wh, Fi, Ma, Ki, Ou2)) (fun _ => False) (B, q, Wh, Fi, Ma, Ki, Ou2) 5 [some (.ref (ad 0)), some (.int (nI o)), some (.int (nI m)), some (.int (nI 0)), some (.int (nI i)), z5, z6] [] := by
    intro d
    induction d with
    | zero =>
      intro i Ou2 z5 z6 hi hI
      have hi : i = 8 := hi
      subst hi
      refine ro_iload dX1_circles_5 rfl ?_
      refine ro_bipush (x := nI 8) dX1_circles_7 (by decide) ?_
      refine ro_icmp_ge 26 dX1_circles_9 (by decide) (by omega) (by omega) (fun h1 => ?_) (fun h1 => ?_)
      · refine ro_iconst (x := nI 0) dX1_circles_26 (by decide) ?_
        refine ro_istore (lv1 := [_, _, _, _, _, _, _]) dX1_circles_27 rfl rfl rfl ?_
        exact fill q 0 Ou2 _ _ (by omega) (fun p hp => Or.inr ⟨fun j hj => absurd hj (Nat.not_lt_zero j), hI p (by omega)⟩)
      · exact absurd h1 (by omega)
    | succ d ih =>
      intro i Ou2 z5 z6 hi hI
      refine ro_iload dX1_circles_5 rfl ?_
      refine ro_bipush (x := nI 8) dX1_circles_7 (by decide) ?_
      refine ro_icmp_ge 26 dX1_circles_9 (by decide) (by omega) (by omega) (fun h1 => ?_) (fun h1 => ?_)
      · exact absurd h1 (by omega)
      · refine ro_aload_n dX1_circles_12 rfl ?_
        refine f1_out dX1_circles_13 ?_
        refine ro_iload dX1_circles_16 rfl ?_
        refine ro_iconst (x := nI 0) dX1_circles_18 (by decide) ?_
        refine s1_out dX1_circles_19 (by omega) ?_
        refine ro_iinc (lv1 := [_, _, _, _, _, _, _]) dX1_circles_20 rfl rfl rfl rfl ?_
        refine ro_goto 5 dX1_circles_23 (by decide) ?_
        refine ih (i + 1) _ _ _ (by omega) (fun j hj => ?_)
        by_cases e : j = i
        · subst e; exact up_s _ _ _
        · rw [up_n e]; exact hI j (by omega)
  refine ro_iconst (x := nI 0) dX1_circles_0 (by decide) ?_
  refine ro_istore_n (lv1 := [_, _, _, _, _, _, _]) dX1_circles_1 rfl rfl rfl ?_
  refine ro_iconst (x := nI 0) dX1_circles_2 (by decide) ?_
  refine ro_istore (lv1 := [_, _, _, _, _, _, _]) dX1_circles_3 rfl rfl rfl ?_
  exact zero 8 0 Ou _ _ rfl (fun j hj => absurd hj (Nat.not_lt_zero j))
end
section
/-! X1: lock, await, cancel, close, lockAt, holders, obstacle, wouldCircle, waiting, waitsFor, ahead -/
set_option maxRecDepth 100000
theorem opI_wt {B : Fn} {q : Nat} {Wh Fi Ma Ki : Fn} {o : Nat} {r : Int32} (h : r = opI (srch (fun i => Wh i = o) q)) : (wt (B, q, Wh, Fi, Ma, Ki) o = none ∧ r = -1) ∨ ∃ i, wt (B, q, Wh, Fi, Ma, Ki) o = some i ∧ i < q ∧ Wh i = o ∧ r = nI i := by
  rcases srch_cases (fun i => Wh i = o) q with ⟨e, h2⟩ | ⟨i, e, hi, h2, _⟩
  · rw [e] at h
    exact Or.inl ⟨e, h⟩
  · rw [e] at h
    exact Or.inr ⟨i, e, hi, h2, h⟩
theorem setN_cat {v : Q6} {B2 : Fn} {q2 : Nat} {W2 F2 M2 K2 : Fn} (e : setN 5 v = ((setN 5 v).1, (B2, q2, W2, F2, M2, K2))) (Ou : Fn) : (B2, q2, W2, F2, M2, K2, Ou) = cat (setN 5 v).2 Ou := by
  have h : (setN 5 v).2 = (B2, q2, W2, F2, M2, K2) := congrArg Prod.snd e
  rw [h]
  rfl
theorem okT_of {w : Int32} (h3 : ¬ w < 0) (h4 : w ≤ nI 2) : okT 0 w := rng_of (lo := 0) (hi := 2) (by decide) (by decide) h3 (fun z => absurd (Int32.lt_of_lt_of_le z h4) (Int32.lt_irrefl))
theorem okT_neg {k : Nat} {w : Int32} (h : w < 0) : ¬ okT k w := fun ⟨j, _, h2, e⟩ => neg_of (by omega) h e
theorem okT_big {k : Nat} {w : Int32} (h : ¬ w ≤ nI 2) : ¬ okT k w := fun ⟨j, _, h2, e⟩ => h (by rw [e]; exact nI_le h2 (by decide))
theorem okT_no {w : Int32} (h1 : ¬ w = nI 1) (h2 : ¬ w = nI 2) : ¬ okT 1 w := fun ⟨j, a, b, e⟩ => by
  rcases (show j = 1 ∨ j = 2 by omega) with z | z
  · subst z; exact h1 e
  · subst z; exact h2 e
theorem ne_of_some {x : Option Nat} {i : Nat} (h : x = some i) : x ≠ none := fun e => by rw [e] at h; cases h
set_option maxHeartbeats 4000000 in
set_option maxRecDepth 100000 in
theorem m1_lock (B : Fn) (q : Nat) (Wh Fi Ma Ki Ou : Fn) (hG : Gd (B, q, Wh, Fi, Ma, Ki)) (x y z w : Int32) : MCi w1 yX1_lock cX1_lock 5 (some .int) 4 93 [.int x, .int y, .int z, .int w] ((B, q, Wh, Fi, Ma, Ki, Ou)) (fun r u2 => r = (fLock (B, q, Wh, Fi, Ma, Ki) x y z w).1 ∧ ∃ Ou2, u2 = cat (fLock (B, q, Wh, Fi, Ma, Ki) x y z w).2 Ou2) := by
  refine MCi_of (lv := fun ad => [some (.ref (ad 0)), some (.int x), some (.int y), some (.int z), some (.int w)]) (by decide) (Or.inl rfl) rfl (fun _ => Nat.le_of_ble_eq_true rfl) (fun _ => rfl) ?_
  intro g ad cI cZ
  show G g _ cX1_lock RX1 5 _ (w1 ad cI cZ) _ _ ((B, q, Wh, Fi, Ma, Ki, Ou)) 0 _ []
  obtain ⟨hq, hB, hD⟩ := hG
  refine ro_aload_n dX1_lock_0 rfl ?_
  refine ro_iload_n dX1_lock_1 rfl ?_
  refine ro_call1 1 (m1_bad B q Wh Fi Ma Ki Ou x) cv_X1_X1_bad dn_X1_bad rfl ⟨by decide, by decide⟩ rfl (Nat.le_of_ble_eq_true rfl) dX1_lock_2 (fun r u2 hr => ?_)
  obtain ⟨hr, rfl⟩ := hr
  rcases hr with ⟨h1, rfl⟩ | ⟨h1, rfl⟩
  · refine ro_if_eq 10 dX1_lock_5 (by decide) (by omega) (fun e => absurd e (by decide)) (fun _ => ?_)
    refine ro_iconst (x := -1) dX1_lock_8 (by decide) ?_
    refine ro_iret dX1_lock_9 ?_
    rw [fLock_r (show rfs 0 (B, q, Wh, Fi, Ma, Ki) _ _ _ _ ≠ 0 by rw [rfs_1 h1]; decide), rfs_1 h1]
    exact ⟨rfl, Ou, rfl⟩
  obtain ⟨o, ho, rfl⟩ : okO x := Classical.not_not.mp h1
  refine ro_if_eq 10 dX1_lock_5 (by decide) (by omega) (fun _ => ?_) (fun e => absurd rfl e)
  refine ro_aload_n dX1_lock_10 rfl ?_
  refine ro_iload_n dX1_lock_11 rfl ?_
  refine ro_iload_n dX1_lock_12 rfl ?_
  refine ro_call1 2 (m1_badRange B q Wh Fi Ma Ki Ou y z) cv_X1_X1_badRange dn_X1_badRange rfl ⟨by decide, by decide⟩ rfl (Nat.le_of_ble_eq_true rfl) dX1_lock_13 (fun r u2 hr => ?_)
  obtain ⟨hr, rfl⟩ := hr
  rcases hr with ⟨h2, rfl⟩ | ⟨h2, rfl⟩
  · refine ro_if_eq 22 dX1_lock_16 (by decide) (by omega) (fun e => absurd e (by decide)) (fun _ => ?_)
    refine ro_bipush (x := -2) dX1_lock_19 (by decide) ?_
    refine ro_iret dX1_lock_21 ?_
    rw [fLock_r (show rfs 0 (B, q, Wh, Fi, Ma, Ki) _ _ _ _ ≠ 0 by rw [rfs_2 (okO_nI ho) h2]; decide), rfs_2 (okO_nI ho) h2]
    exact ⟨rfl, Ou, rfl⟩
  obtain ⟨a, m, hm, ham, rfl, rfl⟩ : okR y z := Classical.not_not.mp h2
  refine ro_if_eq 22 dX1_lock_16 (by decide) (by omega) (fun _ => ?_) (fun e => absurd rfl e)
  refine ro_iload dX1_lock_22 rfl ?_
  refine ro_if_ltR 33 dX1_lock_24 (by decide) (fun h3 => ?_) (fun h3 => ?_)
  · refine ro_bipush (x := -3) dX1_lock_33 (by decide) ?_
    refine ro_iret dX1_lock_35 ?_
    rw [fLock_r (show rfs 0 (B, q, Wh, Fi, Ma, Ki) _ _ _ _ ≠ 0 by rw [rfs_3 (okO_nI ho) (okR_nI hm ham) (okT_neg h3)]; decide), rfs_3 (okO_nI ho) (okR_nI hm ham) (okT_neg h3)]
    exact ⟨rfl, Ou, rfl⟩
  refine ro_iload dX1_lock_27 rfl ?_
  refine ro_iconst (x := nI 2) dX1_lock_29 (by decide) ?_
  refine ro_icmp_leR 36 dX1_lock_30 (by decide) (fun h4 => ?_) (fun h4 => ?_)
  rotate_left
  · refine ro_bipush (x := -3) dX1_lock_33 (by decide) ?_
    refine ro_iret dX1_lock_35 ?_
    rw [fLock_r (show rfs 0 (B, q, Wh, Fi, Ma, Ki) _ _ _ _ ≠ 0 by rw [rfs_3 (okO_nI ho) (okR_nI hm ham) (okT_big h4)]; decide), rfs_3 (okO_nI ho) (okR_nI hm ham) (okT_big h4)]
    exact ⟨rfl, Ou, rfl⟩
  obtain ⟨t, ht0, ht, rfl⟩ := okT_of h3 h4
  refine ro_aload_n dX1_lock_36 rfl ?_
  refine ro_iload_n dX1_lock_37 rfl ?_
  refine ro_call1 1 (m1_placeOf B q Wh Fi Ma Ki Ou o (by omega) (by omega) hB.2.1) cv_X1_X1_placeOf dn_X1_placeOf rfl ⟨by decide, by decide⟩ rfl (Nat.le_of_ble_eq_true rfl) dX1_lock_38 (fun r u2 hr => ?_)
  obtain ⟨hr, rfl⟩ := hr
  rcases opI_wt (B := B) (Fi := Fi) (Ma := Ma) (Ki := Ki) hr with ⟨hw, rfl⟩ | ⟨i, hw, hi, hwi, rfl⟩
  rotate_left
  · refine ro_if_lt 47 dX1_lock_41 (by decide) (by omega) ?_
    refine ro_bipush (x := -4) dX1_lock_44 (by decide) ?_
    refine ro_iret dX1_lock_46 ?_
    rw [fLock_r (show rfs 0 (B, q, Wh, Fi, Ma, Ki) _ _ _ _ ≠ 0 by rw [rfs_4 ho (okR_nI hm ham) (okT_nI (Nat.zero_le t) ht) (ne_of_some hw)]; decide), rfs_4 ho (okR_nI hm ham) (okT_nI (Nat.zero_le t) ht) (ne_of_some hw)]
    exact ⟨rfl, Ou, rfl⟩
  refine ro_if_ltR 47 dX1_lock_41 (by decide) (fun _ => ?_) (fun e => absurd (by decide) e)
  refine ro_aload_n dX1_lock_47 rfl ?_
  refine ro_iload_n dX1_lock_48 rfl ?_
  refine ro_iload_n dX1_lock_49 rfl ?_
  refine ro_iload_n dX1_lock_50 rfl ?_
  refine ro_iload dX1_lock_51 rfl ?_
  refine ro_call1 4 (m1_against B q Wh Fi Ma Ki Ou o a m t hB.1 (by omega) ham ht) cv_X1_X1_against dn_X1_against rfl ⟨by decide, by decide⟩ rfl (Nat.le_of_ble_eq_true rfl) dX1_lock_53 (fun r u2 hr => ?_)
  obtain ⟨rfl, rfl⟩ := hr
  have hlt := agst_lt B o a m t
  refine ro_if_eq 62 dX1_lock_56 (by decide) (by omega) (fun h5 => ?_) (fun h5 => ?_)
  · refine ro_aload_n dX1_lock_62 rfl ?_
    refine ro_iload_n dX1_lock_63 rfl ?_
    refine ro_iload_n dX1_lock_64 rfl ?_
    refine ro_iload_n dX1_lock_65 rfl ?_
    refine ro_iload dX1_lock_66 rfl ?_
    refine ro_call1v 4 (m1_grant B q Wh Fi Ma Ki Ou o a m t (by omega) ham ht) cv_X1_X1_grant dn_X1_grant rfl ⟨by decide, by decide⟩ rfl (Nat.le_of_ble_eq_true rfl) dX1_lock_68 (fun u2 hu => ?_)
    subst hu
    refine ro_aload_n dX1_lock_71 rfl ?_
    refine ro_call1 0 (m1_settle (grB B o a m t) q Wh Fi Ma Ki Ou (by omega) ⟨grB_le hB.1 ht, hB.2⟩) cv_X1_X1_settle dn_X1_settle rfl ⟨by decide, by decide⟩ rfl (Nat.le_of_ble_eq_true rfl) dX1_lock_72 (fun r u2 hr => ?_)
    obtain ⟨B2, q2, W2, F2, M2, K2, e1, e2, e3, rfl, rfl⟩ := hr
    refine ro_iret dX1_lock_75 ?_
    rw [fLock_c ho hm ham ht hw]
    unfold cLock
    rw [cif_t (show agst (vB (B, q, Wh, Fi, Ma, Ki)) o a m t = 0 from h5)]
    exact ⟨rfl, Ou, setN_cat e1 Ou⟩
  · refine ro_bipush (x := -5) dX1_lock_59 (by decide) ?_
    refine ro_iret dX1_lock_61 ?_
    rw [fLock_c ho hm ham ht hw]
    unfold cLock
    rw [cif_f (show ¬ agst (vB (B, q, Wh, Fi, Ma, Ki)) o a m t = 0 from h5)]
    exact ⟨rfl, Ou, rfl⟩
set_option maxHeartbeats 4000000 in
set_option maxRecDepth 100000 in
theorem m1_await (B : Fn) (q : Nat) (Wh Fi Ma Ki Ou : Fn) (hG : Gd (B, q, Wh, Fi, Ma, Ki)) (x y z w : Int32) : MCi w1 yX1_await cX1_await 7 (some .int) 4 93 [.int x, .int y, .int z, .int w] ((B, q, Wh, Fi, Ma, Ki, Ou)) (fun r u2 => r = (fAwait (B, q, Wh, Fi, Ma, Ki) x y z w).1 ∧ ∃ Ou2, u2 = cat (fAwait (B, q, Wh, Fi, Ma, Ki) x y z w).2 Ou2) := by
  refine MCi_of (lv := fun ad => [some (.ref (ad 0)), some (.int x), some (.int y), some (.int z), some (.int w), none, none]) (by decide) (Or.inl rfl) rfl (fun _ => Nat.le_of_ble_eq_true rfl) (fun _ => rfl) ?_
  intro g ad cI cZ
  show G g _ cX1_await RX1 7 _ (w1 ad cI cZ) _ _ ((B, q, Wh, Fi, Ma, Ki, Ou)) 0 _ []
  obtain ⟨hq, hB, hD⟩ := hG
  refine ro_aload_n dX1_await_0 rfl ?_
  refine ro_iload_n dX1_await_1 rfl ?_
  refine ro_call1 1 (m1_bad B q Wh Fi Ma Ki Ou x) cv_X1_X1_bad dn_X1_bad rfl ⟨by decide, by decide⟩ rfl (Nat.le_of_ble_eq_true rfl) dX1_await_2 (fun r u2 hr => ?_)
  obtain ⟨hr, rfl⟩ := hr
  rcases hr with ⟨h1, rfl⟩ | ⟨h1, rfl⟩
  · refine ro_if_eq 10 dX1_await_5 (by decide) (by omega) (fun e => absurd e (by decide)) (fun _ => ?_)
    refine ro_iconst (x := -1) dX1_await_8 (by decide) ?_
    refine ro_iret dX1_await_9 ?_
    rw [fAwait_r (show rfs 1 (B, q, Wh, Fi, Ma, Ki) _ _ _ _ ≠ 0 by rw [rfs_1 h1]; decide), rfs_1 h1]
    exact ⟨rfl, Ou, rfl⟩
  obtain ⟨o, ho, rfl⟩ : okO x := Classical.not_not.mp h1
  refine ro_if_eq 10 dX1_await_5 (by decide) (by omega) (fun _ => ?_) (fun e => absurd rfl e)
  refine ro_aload_n dX1_await_10 rfl ?_
  refine ro_iload_n dX1_await_11 rfl ?_
  refine ro_iload_n dX1_await_12 rfl ?_
  refine ro_call1 2 (m1_badRange B q Wh Fi Ma Ki Ou y z) cv_X1_X1_badRange dn_X1_badRange rfl ⟨by decide, by decide⟩ rfl (Nat.le_of_ble_eq_true rfl) dX1_await_13 (fun r u2 hr => ?_)
  obtain ⟨hr, rfl⟩ := hr
  rcases hr with ⟨h2, rfl⟩ | ⟨h2, rfl⟩
  · refine ro_if_eq 22 dX1_await_16 (by decide) (by omega) (fun e => absurd e (by decide)) (fun _ => ?_)
    refine ro_bipush (x := -2) dX1_await_19 (by decide) ?_
    refine ro_iret dX1_await_21 ?_
    rw [fAwait_r (show rfs 1 (B, q, Wh, Fi, Ma, Ki) _ _ _ _ ≠ 0 by rw [rfs_2 (okO_nI ho) h2]; decide), rfs_2 (okO_nI ho) h2]
    exact ⟨rfl, Ou, rfl⟩
  obtain ⟨a, m, hm, ham, rfl, rfl⟩ : okR y z := Classical.not_not.mp h2
  refine ro_if_eq 22 dX1_await_16 (by decide) (by omega) (fun _ => ?_) (fun e => absurd rfl e)
  have cont : ∀ t : Nat, 1 ≤ t → t ≤ 2 → w = nI t → G g ({ frames := 4, cells := 0, slots := 0, locals := 93 }) cX1_await RX1 7 [(cI, .int), (cZ, .boolean)] (w1 ad cI cZ) (fun r u2 => r = (fAwait (B, q, Wh, Fi, Ma, Ki) (nI o) (nI a) (nI m) w).1 ∧ ∃ Ou2, u2 = cat (fAwait (B, q, Wh, Fi, Ma, Ki) (nI o) (nI a) (nI m) w).2 Ou2) (fun _ => False) (B, q, Wh, Fi, Ma, Ki, Ou) 37 [some (.ref (ad 0)), some (.int (nI o)), some (.int (nI a)), some (.int (nI m)), some (.int (nI t)), none, none] [] := by
    intro t ht1 ht2 hwt
    subst hwt
    refine ro_aload_n dX1_await_37 rfl ?_
    refine ro_iload_n dX1_await_38 rfl ?_
    refine ro_call1 1 (m1_placeOf B q Wh Fi Ma Ki Ou o (by omega) (by omega) hB.2.1) cv_X1_X1_placeOf dn_X1_placeOf rfl ⟨by decide, by decide⟩ rfl (Nat.le_of_ble_eq_true rfl) dX1_await_39 (fun r u2 hr => ?_)
    obtain ⟨hr, rfl⟩ := hr
    rcases opI_wt (B := B) (Fi := Fi) (Ma := Ma) (Ki := Ki) hr with ⟨hw, rfl⟩ | ⟨i, hw, hi, hwi, rfl⟩
    rotate_left
    · refine ro_if_lt 48 dX1_await_42 (by decide) (by omega) ?_
      refine ro_bipush (x := -4) dX1_await_45 (by decide) ?_
      refine ro_iret dX1_await_47 ?_
      rw [fAwait_r (show rfs 1 (B, q, Wh, Fi, Ma, Ki) _ _ _ _ ≠ 0 by rw [rfs_4 ho (okR_nI hm ham) (okT_nI ht1 ht2) (ne_of_some hw)]; decide), rfs_4 ho (okR_nI hm ham) (okT_nI ht1 ht2) (ne_of_some hw)]
      exact ⟨rfl, Ou, rfl⟩
    refine ro_if_ltR 48 dX1_await_42 (by decide) (fun _ => ?_) (fun e => absurd (by decide) e)
    refine ro_aload_n dX1_await_48 rfl ?_
    refine ro_iload_n dX1_await_49 rfl ?_
    refine ro_iload_n dX1_await_50 rfl ?_
    refine ro_iload_n dX1_await_51 rfl ?_
    refine ro_iload dX1_await_52 rfl ?_
    refine ro_call1 4 (m1_against B q Wh Fi Ma Ki Ou o a m t hB.1 (by omega) ham ht2) cv_X1_X1_against dn_X1_against rfl ⟨by decide, by decide⟩ rfl (Nat.le_of_ble_eq_true rfl) dX1_await_54 (fun r u2 hr => ?_)
    obtain ⟨rfl, rfl⟩ := hr
    have hlt := agst_lt B o a m t
    refine ro_istore (lv1 := [_, _, _, _, _, _, _]) dX1_await_57 rfl rfl rfl ?_
    refine ro_iload dX1_await_59 rfl ?_
    refine ro_if_ne 80 dX1_await_61 (by decide) (by omega) (fun h5 => ?_) (fun h5 => ?_)
    rotate_left
    · refine ro_aload_n dX1_await_64 rfl ?_
      refine ro_iload_n dX1_await_65 rfl ?_
      refine ro_iload_n dX1_await_66 rfl ?_
      refine ro_iload_n dX1_await_67 rfl ?_
      refine ro_iload dX1_await_68 rfl ?_
      refine ro_call1v 4 (m1_grant B q Wh Fi Ma Ki Ou o a m t (by omega) ham ht2) cv_X1_X1_grant dn_X1_grant rfl ⟨by decide, by decide⟩ rfl (Nat.le_of_ble_eq_true rfl) dX1_await_70 (fun u2 hu => ?_)
      subst hu
      refine ro_aload_n dX1_await_73 rfl ?_
      refine ro_call1 0 (m1_settle (grB B o a m t) q Wh Fi Ma Ki Ou (by omega) ⟨grB_le hB.1 ht2, hB.2⟩) cv_X1_X1_settle dn_X1_settle rfl ⟨by decide, by decide⟩ rfl (Nat.le_of_ble_eq_true rfl) dX1_await_74 (fun r u2 hr => ?_)
      obtain ⟨B2, q2, W2, F2, M2, K2, e1, e2, e3, rfl, rfl⟩ := hr
      refine ro_pop dX1_await_77 rfl ?_
      refine ro_iconst (x := nI 0) dX1_await_78 (by decide) ?_
      refine ro_iret dX1_await_79 ?_
      rw [fAwait_c ho hm ham ht1 ht2 hw]
      unfold cAwait
      rw [cif_t (show agst (vB (B, q, Wh, Fi, Ma, Ki)) o a m t = 0 from h5)]
      exact ⟨rfl, Ou, setN_cat e1 Ou⟩
    refine ro_aload_n dX1_await_80 rfl ?_
    refine ro_iload_n dX1_await_81 rfl ?_
    refine ro_iload dX1_await_82 rfl ?_
    refine ro_call1 2 (m1_circles B q Wh Fi Ma Ki Ou o (agst B o a m t) (by omega) hB hD (by omega) hlt) cv_X1_X1_circles dn_X1_circles rfl ⟨by decide, by decide⟩ rfl (Nat.le_of_ble_eq_true rfl) dX1_await_84 (fun r u2 hr => ?_)
    obtain ⟨hr, Ou3, rfl⟩ := hr
    rcases hr with ⟨h6, rfl⟩ | ⟨h6, rfl⟩
    · refine ro_if_eq 93 dX1_await_87 (by decide) (by omega) (fun e => absurd e (by decide)) (fun _ => ?_)
      refine ro_bipush (x := -5) dX1_await_90 (by decide) ?_
      refine ro_iret dX1_await_92 ?_
      rw [fAwait_c ho hm ham ht1 ht2 hw]
      unfold cAwait
      rw [cif_f (show ¬ agst (vB (B, q, Wh, Fi, Ma, Ki)) o a m t = 0 from h5), cif_t (show cyc (outM (B, q, Wh, Fi, Ma, Ki)) (agst (vB (B, q, Wh, Fi, Ma, Ki)) o a m t) o from h6)]
      exact ⟨rfl, Ou3, rfl⟩
    refine ro_if_eq 93 dX1_await_87 (by decide) (by omega) (fun _ => ?_) (fun e => absurd rfl e)
    refine ro_aload_n dX1_await_93 rfl ?_
    refine f1_queue dX1_await_94 ?_
    refine ro_istore (lv1 := [_, _, _, _, _, _, _]) dX1_await_97 rfl rfl rfl ?_
    refine ro_iload dX1_await_99 rfl ?_
    refine ro_bipush (x := nI 8) dX1_await_101 (by decide) ?_
    refine ro_icmp_ge 147 dX1_await_103 (by decide) (by omega) (by omega) (fun h7 => absurd h7 (by omega)) (fun h7 => ?_)
    refine ro_aload_n dX1_await_106 rfl ?_
    refine f1_who dX1_await_107 ?_
    refine ro_iload dX1_await_110 rfl ?_
    refine ro_iload_n dX1_await_112 rfl ?_
    refine s1_who dX1_await_113 (by omega) ?_
    refine ro_aload_n dX1_await_114 rfl ?_
    refine f1_first dX1_await_115 ?_
    refine ro_iload dX1_await_118 rfl ?_
    refine ro_iload_n dX1_await_120 rfl ?_
    refine s1_first dX1_await_121 (by omega) ?_
    refine ro_aload_n dX1_await_122 rfl ?_
    refine f1_many dX1_await_123 ?_
    refine ro_iload dX1_await_126 rfl ?_
    refine ro_iload_n dX1_await_128 rfl ?_
    refine s1_many dX1_await_129 (by omega) ?_
    refine ro_aload_n dX1_await_130 rfl ?_
    refine f1_kind dX1_await_131 ?_
    refine ro_iload dX1_await_134 rfl ?_
    refine ro_iload dX1_await_136 rfl ?_
    refine s1_kind dX1_await_138 (by omega) ?_
    refine ro_aload_n dX1_await_139 rfl ?_
    refine ro_iload dX1_await_140 rfl ?_
    refine ro_iconst (x := nI 1) dX1_await_142 (by decide) ?_
    refine ro_iadd dX1_await_143 ?_
    refine p1_queue dX1_await_144 ?_
    refine ro_iconst (x := nI 1) dX1_await_147 (by decide) ?_
    refine ro_iret dX1_await_148 ?_
    rw [fAwait_c ho hm ham ht1 ht2 hw]
    unfold cAwait
    rw [cif_f (show ¬ agst (vB (B, q, Wh, Fi, Ma, Ki)) o a m t = 0 from h5), cif_f (show ¬ cyc (outM (B, q, Wh, Fi, Ma, Ki)) (agst (vB (B, q, Wh, Fi, Ma, Ki)) o a m t) o from h6)]
    exact ⟨rfl, Ou3, rfl⟩
  refine ro_iload dX1_await_22 rfl ?_
  refine ro_iconst (x := nI 1) dX1_await_24 (by decide) ?_
  refine ro_icmp_eqR 37 dX1_await_25 (by decide) (fun h3 => ?_) (fun h3 => ?_)
  · subst h3
    exact cont 1 (by omega) (by omega) rfl
  refine ro_iload dX1_await_28 rfl ?_
  refine ro_iconst (x := nI 2) dX1_await_30 (by decide) ?_
  refine ro_icmp_eqR 37 dX1_await_31 (by decide) (fun h4 => ?_) (fun h4 => ?_)
  · subst h4
    exact cont 2 (by omega) (by omega) rfl
  refine ro_bipush (x := -3) dX1_await_34 (by decide) ?_
  refine ro_iret dX1_await_36 ?_
  rw [fAwait_r (show rfs 1 (B, q, Wh, Fi, Ma, Ki) _ _ _ _ ≠ 0 by rw [rfs_3 (okO_nI ho) (okR_nI hm ham) (okT_no h3 h4)]; decide), rfs_3 (okO_nI ho) (okR_nI hm ham) (okT_no h3 h4)]
  exact ⟨rfl, Ou, rfl⟩
set_option maxHeartbeats 4000000 in
set_option maxRecDepth 100000 in
theorem m1_wouldCircle (B : Fn) (q : Nat) (Wh Fi Ma Ki Ou : Fn) (hG : Gd (B, q, Wh, Fi, Ma, Ki)) (x y z w : Int32) : MCi w1 yX1_wouldCircle cX1_wouldCircle 6 (some .int) 3 75 [.int x, .int y, .int z, .int w] ((B, q, Wh, Fi, Ma, Ki, Ou)) (fun r u2 => r = fCirc (B, q, Wh, Fi, Ma, Ki) x y z w ∧ ∃ Ou2, u2 = cat (B, q, Wh, Fi, Ma, Ki) Ou2) := by
  refine MCi_of (lv := fun ad => [some (.ref (ad 0)), some (.int x), some (.int y), some (.int z), some (.int w), none]) (by decide) (Or.inl rfl) rfl (fun _ => Nat.le_of_ble_eq_true rfl) (fun _ => rfl) ?_
  intro g ad cI cZ
  show G g _ cX1_wouldCircle RX1 6 _ (w1 ad cI cZ) _ _ ((B, q, Wh, Fi, Ma, Ki, Ou)) 0 _ []
  obtain ⟨hq, hB, hD⟩ := hG
  refine ro_aload_n dX1_wouldCircle_0 rfl ?_
  refine ro_iload_n dX1_wouldCircle_1 rfl ?_
  refine ro_call1 1 (m1_bad B q Wh Fi Ma Ki Ou x) cv_X1_X1_bad dn_X1_bad rfl ⟨by decide, by decide⟩ rfl (Nat.le_of_ble_eq_true rfl) dX1_wouldCircle_2 (fun r u2 hr => ?_)
  obtain ⟨hr, rfl⟩ := hr
  rcases hr with ⟨h1, rfl⟩ | ⟨h1, rfl⟩
  · refine ro_if_ne 29 dX1_wouldCircle_5 (by decide) (by omega) (fun _ => ?_) (fun e => absurd e (by decide))
    refine ro_iconst (x := nI 0) dX1_wouldCircle_29 (by decide) ?_
    refine ro_iret dX1_wouldCircle_30 ?_
    rw [fCirc_r (show rfs 1 (B, q, Wh, Fi, Ma, Ki) _ _ _ _ ≠ 0 by rw [rfs_1 h1]; decide)]
    exact ⟨rfl, Ou, rfl⟩
  obtain ⟨o, ho, rfl⟩ : okO x := Classical.not_not.mp h1
  refine ro_if_ne 29 dX1_wouldCircle_5 (by decide) (by omega) (fun e => absurd rfl e) (fun _ => ?_)
  refine ro_aload_n dX1_wouldCircle_8 rfl ?_
  refine ro_iload_n dX1_wouldCircle_9 rfl ?_
  refine ro_iload_n dX1_wouldCircle_10 rfl ?_
  refine ro_call1 2 (m1_badRange B q Wh Fi Ma Ki Ou y z) cv_X1_X1_badRange dn_X1_badRange rfl ⟨by decide, by decide⟩ rfl (Nat.le_of_ble_eq_true rfl) dX1_wouldCircle_11 (fun r u2 hr => ?_)
  obtain ⟨hr, rfl⟩ := hr
  rcases hr with ⟨h2, rfl⟩ | ⟨h2, rfl⟩
  · refine ro_if_ne 29 dX1_wouldCircle_14 (by decide) (by omega) (fun _ => ?_) (fun e => absurd e (by decide))
    refine ro_iconst (x := nI 0) dX1_wouldCircle_29 (by decide) ?_
    refine ro_iret dX1_wouldCircle_30 ?_
    rw [fCirc_r (show rfs 1 (B, q, Wh, Fi, Ma, Ki) _ _ _ _ ≠ 0 by rw [rfs_2 (okO_nI ho) h2]; decide)]
    exact ⟨rfl, Ou, rfl⟩
  obtain ⟨a, m, hm, ham, rfl, rfl⟩ : okR y z := Classical.not_not.mp h2
  refine ro_if_ne 29 dX1_wouldCircle_14 (by decide) (by omega) (fun e => absurd rfl e) (fun _ => ?_)
  have cont : ∀ t : Nat, 1 ≤ t → t ≤ 2 → w = nI t → G g ({ frames := 3, cells := 0, slots := 0, locals := 75 }) cX1_wouldCircle RX1 6 [(cI, .int), (cZ, .boolean)] (w1 ad cI cZ) (fun r u2 => r = fCirc (B, q, Wh, Fi, Ma, Ki) (nI o) (nI a) (nI m) w ∧ ∃ Ou2, u2 = cat (B, q, Wh, Fi, Ma, Ki) Ou2) (fun _ => False) (B, q, Wh, Fi, Ma, Ki, Ou) 31 [some (.ref (ad 0)), some (.int (nI o)), some (.int (nI a)), some (.int (nI m)), some (.int (nI t)), none] [] := by
    intro t ht1 ht2 hwt
    subst hwt
    refine ro_aload_n dX1_wouldCircle_31 rfl ?_
    refine ro_iload_n dX1_wouldCircle_32 rfl ?_
    refine ro_call1 1 (m1_placeOf B q Wh Fi Ma Ki Ou o (by omega) (by omega) hB.2.1) cv_X1_X1_placeOf dn_X1_placeOf rfl ⟨by decide, by decide⟩ rfl (Nat.le_of_ble_eq_true rfl) dX1_wouldCircle_33 (fun r u2 hr => ?_)
    obtain ⟨hr, rfl⟩ := hr
    rcases opI_wt (B := B) (Fi := Fi) (Ma := Ma) (Ki := Ki) hr with ⟨hw, rfl⟩ | ⟨i, hw, hi, hwi, rfl⟩
    rotate_left
    · refine ro_if_lt 41 dX1_wouldCircle_36 (by decide) (by omega) ?_
      refine ro_iconst (x := nI 0) dX1_wouldCircle_39 (by decide) ?_
      refine ro_iret dX1_wouldCircle_40 ?_
      rw [fCirc_r (show rfs 1 (B, q, Wh, Fi, Ma, Ki) _ _ _ _ ≠ 0 by rw [rfs_4 ho (okR_nI hm ham) (okT_nI ht1 ht2) (ne_of_some hw)]; decide)]
      exact ⟨rfl, Ou, rfl⟩
    refine ro_if_ltR 41 dX1_wouldCircle_36 (by decide) (fun _ => ?_) (fun e => absurd (by decide) e)
    refine ro_aload_n dX1_wouldCircle_41 rfl ?_
    refine ro_iload_n dX1_wouldCircle_42 rfl ?_
    refine ro_iload_n dX1_wouldCircle_43 rfl ?_
    refine ro_iload_n dX1_wouldCircle_44 rfl ?_
    refine ro_iload dX1_wouldCircle_45 rfl ?_
    refine ro_call1 4 (m1_against B q Wh Fi Ma Ki Ou o a m t hB.1 (by omega) ham ht2) cv_X1_X1_against dn_X1_against rfl ⟨by decide, by decide⟩ rfl (Nat.le_of_ble_eq_true rfl) dX1_wouldCircle_47 (fun r u2 hr => ?_)
    obtain ⟨rfl, rfl⟩ := hr
    have hlt := agst_lt B o a m t
    refine ro_istore (lv1 := [_, _, _, _, _, _]) dX1_wouldCircle_50 rfl rfl rfl ?_
    refine ro_iload dX1_wouldCircle_52 rfl ?_
    refine ro_if_eq 71 dX1_wouldCircle_54 (by decide) (by omega) (fun h5 => ?_) (fun h5 => ?_)
    · refine ro_iconst (x := nI 0) dX1_wouldCircle_71 (by decide) ?_
      refine ro_iret dX1_wouldCircle_72 ?_
      rw [fCirc_c ho hm ham ht1 ht2 hw]
      unfold cCirc
      rw [cif_f (fun z => z.1 h5)]
      exact ⟨rfl, Ou, rfl⟩
    refine ro_aload_n dX1_wouldCircle_57 rfl ?_
    refine ro_iload_n dX1_wouldCircle_58 rfl ?_
    refine ro_iload dX1_wouldCircle_59 rfl ?_
    refine ro_call1 2 (m1_circles B q Wh Fi Ma Ki Ou o (agst B o a m t) (by omega) hB hD (by omega) hlt) cv_X1_X1_circles dn_X1_circles rfl ⟨by decide, by decide⟩ rfl (Nat.le_of_ble_eq_true rfl) dX1_wouldCircle_61 (fun r u2 hr => ?_)
    obtain ⟨hr, Ou3, rfl⟩ := hr
    rcases hr with ⟨h6, rfl⟩ | ⟨h6, rfl⟩
    · refine ro_if_eq 71 dX1_wouldCircle_64 (by decide) (by omega) (fun e => absurd e (by decide)) (fun _ => ?_)
      refine ro_iconst (x := nI 1) dX1_wouldCircle_67 (by decide) ?_
      refine ro_goto 72 dX1_wouldCircle_68 (by decide) ?_
      refine ro_iret dX1_wouldCircle_72 ?_
      rw [fCirc_c ho hm ham ht1 ht2 hw]
      unfold cCirc
      rw [cif_t ⟨h5, h6⟩]
      exact ⟨rfl, Ou3, rfl⟩
    refine ro_if_eq 71 dX1_wouldCircle_64 (by decide) (by omega) (fun _ => ?_) (fun e => absurd rfl e)
    refine ro_iconst (x := nI 0) dX1_wouldCircle_71 (by decide) ?_
    refine ro_iret dX1_wouldCircle_72 ?_
    rw [fCirc_c ho hm ham ht1 ht2 hw]
    unfold cCirc
    rw [cif_f (fun z => h6 z.2)]
    exact ⟨rfl, Ou3, rfl⟩
  refine ro_iload dX1_wouldCircle_17 rfl ?_
  refine ro_iconst (x := nI 1) dX1_wouldCircle_19 (by decide) ?_
  refine ro_icmp_eqR 31 dX1_wouldCircle_20 (by decide) (fun h3 => ?_) (fun h3 => ?_)
  · subst h3
    exact cont 1 (by omega) (by omega) rfl
  refine ro_iload dX1_wouldCircle_23 rfl ?_
  refine ro_iconst (x := nI 2) dX1_wouldCircle_25 (by decide) ?_
  refine ro_icmp_eqR 31 dX1_wouldCircle_26 (by decide) (fun h4 => ?_) (fun h4 => ?_)
  · subst h4
    exact cont 2 (by omega) (by omega) rfl
  refine ro_iconst (x := nI 0) dX1_wouldCircle_29 (by decide) ?_
  refine ro_iret dX1_wouldCircle_30 ?_
  rw [fCirc_r (show rfs 1 (B, q, Wh, Fi, Ma, Ki) _ _ _ _ ≠ 0 by rw [rfs_3 (okO_nI ho) (okR_nI hm ham) (okT_no h3 h4)]; decide)]
  exact ⟨rfl, Ou, rfl⟩
set_option maxHeartbeats 4000000 in
set_option maxRecDepth 100000 in
theorem m1_cancel (B : Fn) (q : Nat) (Wh Fi Ma Ki Ou : Fn) (hG : Gd (B, q, Wh, Fi, Ma, Ki)) (x : Int32) : MCi w1 yX1_cancel cX1_cancel 3 (some .int) 1 22 [.int x] ((B, q, Wh, Fi, Ma, Ki, Ou)) (fun r u2 => r = (fCancel (B, q, Wh, Fi, Ma, Ki) x).1 ∧ ∃ Ou2, u2 = cat (fCancel (B, q, Wh, Fi, Ma, Ki) x).2 Ou2) := by
  refine MCi_of (lv := fun ad => [some (.ref (ad 0)), some (.int x), none]) (by decide) (Or.inl rfl) rfl (fun _ => Nat.le_of_ble_eq_true rfl) (fun _ => rfl) ?_
  intro g ad cI cZ
  show G g _ cX1_cancel RX1 3 _ (w1 ad cI cZ) _ _ ((B, q, Wh, Fi, Ma, Ki, Ou)) 0 _ []
  obtain ⟨hq, hB, hD⟩ := hG
  refine ro_aload_n dX1_cancel_0 rfl ?_
  refine ro_iload_n dX1_cancel_1 rfl ?_
  refine ro_call1 1 (m1_bad B q Wh Fi Ma Ki Ou x) cv_X1_X1_bad dn_X1_bad rfl ⟨by decide, by decide⟩ rfl (Nat.le_of_ble_eq_true rfl) dX1_cancel_2 (fun r u2 hr => ?_)
  obtain ⟨hr, rfl⟩ := hr
  rcases hr with ⟨h1, rfl⟩ | ⟨h1, rfl⟩
  · refine ro_if_eq 10 dX1_cancel_5 (by decide) (by omega) (fun e => absurd e (by decide)) (fun _ => ?_)
    refine ro_iconst (x := -1) dX1_cancel_8 (by decide) ?_
    refine ro_iret dX1_cancel_9 ?_
    rw [fCancel, fO_bad h1]
    exact ⟨rfl, Ou, rfl⟩
  obtain ⟨o, ho, rfl⟩ : okO x := Classical.not_not.mp h1
  refine ro_if_eq 10 dX1_cancel_5 (by decide) (by omega) (fun _ => ?_) (fun e => absurd rfl e)
  refine ro_aload_n dX1_cancel_10 rfl ?_
  refine ro_iload_n dX1_cancel_11 rfl ?_
  refine ro_call1 1 (m1_placeOf B q Wh Fi Ma Ki Ou o (by omega) (by omega) hB.2.1) cv_X1_X1_placeOf dn_X1_placeOf rfl ⟨by decide, by decide⟩ rfl (Nat.le_of_ble_eq_true rfl) dX1_cancel_12 (fun r u2 hr => ?_)
  obtain ⟨hr, rfl⟩ := hr
  rcases opI_wt (B := B) (Fi := Fi) (Ma := Ma) (Ki := Ki) hr with ⟨hw, rfl⟩ | ⟨i, hw, hi, hwi, rfl⟩
  · refine ro_istore_n (lv1 := [_, _, _]) dX1_cancel_15 rfl rfl rfl ?_
    refine ro_iload_n dX1_cancel_16 rfl ?_
    refine ro_if_geR 23 dX1_cancel_17 (by decide) (fun e => absurd e (by decide)) (fun _ => ?_)
    refine ro_bipush (x := -2) dX1_cancel_20 (by decide) ?_
    refine ro_iret dX1_cancel_22 ?_
    rw [fCancel, fO_c ho, cCancel, hw]
    exact ⟨rfl, Ou, rfl⟩
  refine ro_istore_n (lv1 := [_, _, _]) dX1_cancel_15 rfl rfl rfl ?_
  refine ro_iload_n dX1_cancel_16 rfl ?_
  refine ro_if_ge 23 dX1_cancel_17 (by decide) (by omega) ?_
  refine ro_aload_n dX1_cancel_23 rfl ?_
  refine ro_iload_n dX1_cancel_24 rfl ?_
  refine ro_call1v 1 (m1_leave B q Wh Fi Ma Ki Ou i (by omega) hi) cv_X1_X1_leave dn_X1_leave rfl ⟨by decide, by decide⟩ rfl (Nat.le_of_ble_eq_true rfl) dX1_cancel_25 (fun u2 hu => ?_)
  subst hu
  refine ro_iconst (x := nI 0) dX1_cancel_28 (by decide) ?_
  refine ro_iret dX1_cancel_29 ?_
  rw [fCancel, fO_c ho, cCancel, hw]
  exact ⟨rfl, Ou, rfl⟩
set_option maxHeartbeats 4000000 in
set_option maxRecDepth 100000 in
theorem m1_close (B : Fn) (q : Nat) (Wh Fi Ma Ki Ou : Fn) (hG : Gd (B, q, Wh, Fi, Ma, Ki)) (x : Int32) : MCi w1 yX1_close cX1_close 4 (some .int) 4 93 [.int x] ((B, q, Wh, Fi, Ma, Ki, Ou)) (fun r u2 => r = (fClose (B, q, Wh, Fi, Ma, Ki) x).1 ∧ ∃ Ou2, u2 = cat (fClose (B, q, Wh, Fi, Ma, Ki) x).2 Ou2) := by
  refine MCi_of (lv := fun ad => [some (.ref (ad 0)), some (.int x), none, none]) (by decide) (Or.inl rfl) rfl (fun _ => Nat.le_of_ble_eq_true rfl) (fun _ => rfl) ?_
  intro g ad cI cZ
  show G g _ cX1_close RX1 4 _ (w1 ad cI cZ) _ _ ((B, q, Wh, Fi, Ma, Ki, Ou)) 0 _ []
  obtain ⟨hq, hB, hD⟩ := hG
  refine ro_aload_n dX1_close_0 rfl ?_
  refine ro_iload_n dX1_close_1 rfl ?_
  refine ro_call1 1 (m1_bad B q Wh Fi Ma Ki Ou x) cv_X1_X1_bad dn_X1_bad rfl ⟨by decide, by decide⟩ rfl (Nat.le_of_ble_eq_true rfl) dX1_close_2 (fun r u2 hr => ?_)
  obtain ⟨hr, rfl⟩ := hr
  rcases hr with ⟨h1, rfl⟩ | ⟨h1, rfl⟩
  · refine ro_if_eq 10 dX1_close_5 (by decide) (by omega) (fun e => absurd e (by decide)) (fun _ => ?_)
    refine ro_iconst (x := -1) dX1_close_8 (by decide) ?_
    refine ro_iret dX1_close_9 ?_
    rw [fClose, fO_bad h1]
    exact ⟨rfl, Ou, rfl⟩
  obtain ⟨o, ho, rfl⟩ : okO x := Classical.not_not.mp h1
  refine ro_if_eq 10 dX1_close_5 (by decide) (by omega) (fun _ => ?_) (fun e => absurd rfl e)
  have fin : ∀ (q2 : Nat) (W2 F2 M2 K2 : Fn) (z : Option Value), q2 ≤ 5 → B1 B W2 F2 M2 K2 → lvO (B, q, Wh, Fi, Ma, Ki) o = (B, q2, W2, F2, M2, K2) → G g ({ frames := 4, cells := 0, slots := 0, locals := 93 }) cX1_close RX1 4 [(cI, .int), (cZ, .boolean)] (w1 ad cI cZ) (fun r u2 => r = (fClose (B, q, Wh, Fi, Ma, Ki) (nI o)).1 ∧ ∃ Ou2, u2 = cat (fClose (B, q, Wh, Fi, Ma, Ki) (nI o)).2 Ou2) (fun _ => False) (B, q2, W2, F2, M2, K2, Ou) 58 [some (.ref (ad 0)), some (.int (nI o)), some (.int (nI (held B o))), z] [] := by
    intro q2 W2 F2 M2 K2 z hq2 hB2 hl
    refine ro_aload_n dX1_close_58 rfl ?_
    refine ro_iload_n dX1_close_59 rfl ?_
    refine ro_iconst (x := nI 0) dX1_close_60 (by decide) ?_
    refine ro_bipush (x := nI 40) dX1_close_61 (by decide) ?_
    refine ro_iconst (x := nI 0) dX1_close_63 (by decide) ?_
    refine ro_call1v 4 (m1_grant B q2 W2 F2 M2 K2 Ou o 0 40 0 (by omega) (by omega) (by omega)) cv_X1_X1_grant dn_X1_grant rfl ⟨by decide, by decide⟩ rfl (Nat.le_of_ble_eq_true rfl) dX1_close_64 (fun u2 hu => ?_)
    subst hu
    refine ro_aload_n dX1_close_67 rfl ?_
    refine ro_call1 0 (m1_settle (grB B o 0 40 0) q2 W2 F2 M2 K2 Ou (by omega) ⟨grB_le hB2.1 (by omega), hB2.2⟩) cv_X1_X1_settle dn_X1_settle rfl ⟨by decide, by decide⟩ rfl (Nat.le_of_ble_eq_true rfl) dX1_close_68 (fun r u2 hr => ?_)
    obtain ⟨B3, q3, W3, F3, M3, K3, e1, e2, e3, rfl, rfl⟩ := hr
    refine ro_pop dX1_close_71 rfl ?_
    refine ro_iload_n dX1_close_72 rfl ?_
    refine ro_iret dX1_close_73 ?_
    rw [fClose, fO_c ho, cClose, hl]
    exact ⟨rfl, Ou, setN_cat e1 Ou⟩
  have loop : ∀ d b : Nat, b + d = 40 → G g ({ frames := 4, cells := 0, slots := 0, locals := 93 }) cX1_close RX1 4 [(cI, .int), (cZ, .boolean)] (w1 ad cI cZ) (fun r u2 => r = (fClose (B, q, Wh, Fi, Ma, Ki) (nI o)).1 ∧ ∃ Ou2, u2 = cat (fClose (B, q, Wh, Fi, Ma, Ki) (nI o)).2 Ou2) (fun _ => False) (B, q, Wh, Fi, Ma, Ki, Ou) 14 [some (.ref (ad 0)), some (.int (nI o)), some (.int (nI (cnt (fun b => B (40 * o + b) ≠ 0) b))), some (.int (nI b))] [] := by
    intro d
    induction d with
    | zero =>
      intro b hb
      have hb : b = 40 := hb
      subst hb
      refine ro_iload_n dX1_close_14 rfl ?_
      refine ro_bipush (x := nI 40) dX1_close_15 (by decide) ?_
      refine ro_icmp_ge 43 dX1_close_17 (by decide) (by omega) (by omega) (fun h2 => ?_) (fun h2 => absurd h2 (by omega))
      refine ro_aload_n dX1_close_43 rfl ?_
      refine ro_iload_n dX1_close_44 rfl ?_
      refine ro_call1 1 (m1_placeOf B q Wh Fi Ma Ki Ou o (by omega) (by omega) hB.2.1) cv_X1_X1_placeOf dn_X1_placeOf rfl ⟨by decide, by decide⟩ rfl (Nat.le_of_ble_eq_true rfl) dX1_close_45 (fun r u2 hr => ?_)
      obtain ⟨hr, rfl⟩ := hr
      rcases opI_wt (B := B) (Fi := Fi) (Ma := Ma) (Ki := Ki) hr with ⟨hw, rfl⟩ | ⟨i, hw, hi, hwi, rfl⟩
      · refine ro_istore_n (lv1 := [_, _, _, _]) dX1_close_48 rfl rfl rfl ?_
        refine ro_iload_n dX1_close_49 rfl ?_
        refine ro_if_ltR 58 dX1_close_50 (by decide) (fun _ => ?_) (fun e => absurd (by decide) e)
        exact fin q Wh Fi Ma Ki _ hq hB (lvO_none hw)
      · refine ro_istore_n (lv1 := [_, _, _, _]) dX1_close_48 rfl rfl rfl ?_
        refine ro_iload_n dX1_close_49 rfl ?_
        refine ro_if_lt 58 dX1_close_50 (by decide) (by omega) ?_
        refine ro_aload_n dX1_close_53 rfl ?_
        refine ro_iload_n dX1_close_54 rfl ?_
        refine ro_call1v 1 (m1_leave B q Wh Fi Ma Ki Ou i (by omega) hi) cv_X1_X1_leave dn_X1_leave rfl ⟨by decide, by decide⟩ rfl (Nat.le_of_ble_eq_true rfl) dX1_close_55 (fun u2 hu => ?_)
        subst hu
        exact fin _ _ _ _ _ _ (by omega) ⟨hB.1, fun j => shL_any (Q := fun z => z ≤ 4) hB.2.1 j, sh2_le hB.2.2.1, fun j => shL_any (Q := fun z => z ≤ 2) hB.2.2.2 j⟩ (lvO_some hw)
    | succ d ih =>
      intro b hb
      have b1 := hB.1 (40 * o + b)
      refine ro_iload_n dX1_close_14 rfl ?_
      refine ro_bipush (x := nI 40) dX1_close_15 (by decide) ?_
      refine ro_icmp_ge 43 dX1_close_17 (by decide) (by omega) (by omega) (fun h2 => absurd h2 (by omega)) (fun h2 => ?_)
      refine ro_aload_n dX1_close_20 rfl ?_
      refine f1_table dX1_close_21 ?_
      refine ro_bipush (x := nI 40) dX1_close_24 (by decide) ?_
      refine ro_iload_n dX1_close_26 rfl ?_
      refine ro_imul dX1_close_27 ?_
      refine ro_iload_n dX1_close_28 rfl ?_
      refine ro_iadd dX1_close_29 ?_
      refine l1_table dX1_close_30 (by omega) ?_
      refine ro_if_eq 37 dX1_close_31 (by decide) (by omega) (fun h3 => ?_) (fun h3 => ?_)
      · refine ro_iinc (lv1 := [_, _, _, _]) dX1_close_37 rfl rfl rfl rfl ?_
        refine ro_goto 14 dX1_close_40 (by decide) ?_
        have := ih (b + 1) (by omega)
        rw [cnt_n (fun z => z h3)] at this
        exact this
      · refine ro_iinc (lv1 := [_, _, _, _]) dX1_close_34 rfl rfl rfl rfl ?_
        refine ro_iinc (lv1 := [_, _, _, _]) dX1_close_37 rfl rfl rfl rfl ?_
        refine ro_goto 14 dX1_close_40 (by decide) ?_
        have := ih (b + 1) (by omega)
        rw [cnt_y (P := fun b => B (40 * o + b) ≠ 0) h3] at this
        exact this
  refine ro_iconst (x := nI 0) dX1_close_10 (by decide) ?_
  refine ro_istore_n (lv1 := [_, _, _, _]) dX1_close_11 rfl rfl rfl ?_
  refine ro_iconst (x := nI 0) dX1_close_12 (by decide) ?_
  refine ro_istore_n (lv1 := [_, _, _, _]) dX1_close_13 rfl rfl rfl ?_
  exact loop 40 0 rfl
set_option maxHeartbeats 4000000 in
set_option maxRecDepth 100000 in
theorem m1_lockAt (B : Fn) (q : Nat) (Wh Fi Ma Ki Ou : Fn) (hG : Gd (B, q, Wh, Fi, Ma, Ki)) (x y : Int32) : MCi w1 yX1_lockAt cX1_lockAt 3 (some .int) 1 21 [.int x, .int y] ((B, q, Wh, Fi, Ma, Ki, Ou)) (fun r u2 => r = fLockAt (B, q, Wh, Fi, Ma, Ki) x y ∧ u2 = (B, q, Wh, Fi, Ma, Ki, Ou)) := by
  refine MCi_of (lv := fun ad => [some (.ref (ad 0)), some (.int x), some (.int y)]) (by decide) (Or.inl rfl) rfl (fun _ => Nat.le_of_ble_eq_true rfl) (fun _ => rfl) ?_
  intro g ad cI cZ
  show G g _ cX1_lockAt RX1 3 _ (w1 ad cI cZ) _ _ ((B, q, Wh, Fi, Ma, Ki, Ou)) 0 _ []
  obtain ⟨hq, hB, hD⟩ := hG
  refine ro_aload_n dX1_lockAt_0 rfl ?_
  refine ro_iload_n dX1_lockAt_1 rfl ?_
  refine ro_call1 1 (m1_bad B q Wh Fi Ma Ki Ou x) cv_X1_X1_bad dn_X1_bad rfl ⟨by decide, by decide⟩ rfl (Nat.le_of_ble_eq_true rfl) dX1_lockAt_2 (fun r u2 hr => ?_)
  obtain ⟨hr, rfl⟩ := hr
  rcases hr with ⟨h1, rfl⟩ | ⟨h1, rfl⟩
  · refine ro_if_eq 10 dX1_lockAt_5 (by decide) (by omega) (fun e => absurd e (by decide)) (fun _ => ?_)
    refine ro_iconst (x := -1) dX1_lockAt_8 (by decide) ?_
    refine ro_iret dX1_lockAt_9 ?_
    rw [fLockAt, fO_bad h1]
    exact ⟨rfl, rfl⟩
  obtain ⟨o, ho, rfl⟩ : okO x := Classical.not_not.mp h1
  refine ro_if_eq 10 dX1_lockAt_5 (by decide) (by omega) (fun _ => ?_) (fun e => absurd rfl e)
  refine ro_aload_n dX1_lockAt_10 rfl ?_
  refine ro_iload_n dX1_lockAt_11 rfl ?_
  refine ro_call1 1 (m1_badByte B q Wh Fi Ma Ki Ou y) cv_X1_X1_badByte dn_X1_badByte rfl ⟨by decide, by decide⟩ rfl (Nat.le_of_ble_eq_true rfl) dX1_lockAt_12 (fun r u2 hr => ?_)
  obtain ⟨hr, rfl⟩ := hr
  rcases hr with ⟨h2, rfl⟩ | ⟨h2, rfl⟩
  · refine ro_if_eq 21 dX1_lockAt_15 (by decide) (by omega) (fun e => absurd e (by decide)) (fun _ => ?_)
    refine ro_bipush (x := -2) dX1_lockAt_18 (by decide) ?_
    refine ro_iret dX1_lockAt_20 ?_
    rw [fLockAt, fO_c ho, fB_bad h2]
    exact ⟨rfl, rfl⟩
  obtain ⟨b, hb, rfl⟩ : okB y := Classical.not_not.mp h2
  refine ro_if_eq 21 dX1_lockAt_15 (by decide) (by omega) (fun _ => ?_) (fun e => absurd rfl e)
  refine ro_aload_n dX1_lockAt_21 rfl ?_
  refine f1_table dX1_lockAt_22 ?_
  refine ro_bipush (x := nI 40) dX1_lockAt_25 (by decide) ?_
  refine ro_iload_n dX1_lockAt_27 rfl ?_
  refine ro_imul dX1_lockAt_28 ?_
  refine ro_iload_n dX1_lockAt_29 rfl ?_
  refine ro_iadd dX1_lockAt_30 ?_
  refine l1_table dX1_lockAt_31 (by omega) ?_
  refine ro_iret dX1_lockAt_32 ?_
  rw [fLockAt, fO_c ho, fB_c hb]
  exact ⟨rfl, rfl⟩
set_option maxHeartbeats 4000000 in
set_option maxRecDepth 100000 in
theorem m1_holders (B : Fn) (q : Nat) (Wh Fi Ma Ki Ou : Fn) (hG : Gd (B, q, Wh, Fi, Ma, Ki)) (y : Int32) : MCi w1 yX1_holders cX1_holders 4 (some .int) 1 21 [.int y] ((B, q, Wh, Fi, Ma, Ki, Ou)) (fun r u2 => r = fHolders (B, q, Wh, Fi, Ma, Ki) y ∧ u2 = (B, q, Wh, Fi, Ma, Ki, Ou)) := by
  refine MCi_of (lv := fun ad => [some (.ref (ad 0)), some (.int y), none, none]) (by decide) (Or.inl rfl) rfl (fun _ => Nat.le_of_ble_eq_true rfl) (fun _ => rfl) ?_
  intro g ad cI cZ
  show G g _ cX1_holders RX1 4 _ (w1 ad cI cZ) _ _ ((B, q, Wh, Fi, Ma, Ki, Ou)) 0 _ []
  obtain ⟨hq, hB, hD⟩ := hG
  refine ro_aload_n dX1_holders_0 rfl ?_
  refine ro_iload_n dX1_holders_1 rfl ?_
  refine ro_call1 1 (m1_badByte B q Wh Fi Ma Ki Ou y) cv_X1_X1_badByte dn_X1_badByte rfl ⟨by decide, by decide⟩ rfl (Nat.le_of_ble_eq_true rfl) dX1_holders_2 (fun r u2 hr => ?_)
  obtain ⟨hr, rfl⟩ := hr
  rcases hr with ⟨h2, rfl⟩ | ⟨h2, rfl⟩
  · refine ro_if_eq 10 dX1_holders_5 (by decide) (by omega) (fun e => absurd e (by decide)) (fun _ => ?_)
    refine ro_iconst (x := -1) dX1_holders_8 (by decide) ?_
    refine ro_iret dX1_holders_9 ?_
    rw [fHolders, fB_bad h2]
    exact ⟨rfl, rfl⟩
  obtain ⟨b, hb, rfl⟩ : okB y := Classical.not_not.mp h2
  refine ro_if_eq 10 dX1_holders_5 (by decide) (by omega) (fun _ => ?_) (fun e => absurd rfl e)
  have loop : ∀ d p k : Nat, p + d = 5 → k < 32 → (∀ x, bit k x ↔ x < p ∧ B (40 * x + b) ≠ 0) → G g ({ frames := 1, cells := 0, slots := 0, locals := 21 }) cX1_holders RX1 4 [(cI, .int), (cZ, .boolean)] (w1 ad cI cZ) (fun r u2 => r = fHolders (B, q, Wh, Fi, Ma, Ki) (nI b) ∧ u2 = (B, q, Wh, Fi, Ma, Ki, Ou)) (fun _ => False) (B, q, Wh, Fi, Ma, Ki, Ou) 14 [some (.ref (ad 0)), some (.int (nI b)), some (.int (nI k)), some (.int (nI p))] [] := by
    intro d
    induction d with
    | zero =>
      intro p k hp hk hI
      have hp : p = 5 := hp
      subst hp
      refine ro_iload_n dX1_holders_14 rfl ?_
      refine ro_iconst (x := nI 5) dX1_holders_15 (by decide) ?_
      refine ro_icmp_ge 45 dX1_holders_16 (by decide) (by omega) (by omega) (fun h3 => ?_) (fun h3 => absurd h3 (by omega))
      refine ro_iload_n dX1_holders_45 rfl ?_
      refine ro_iret dX1_holders_46 ?_
      rw [fHolders, fB_c hb]
      exact ⟨by rw [show k = hld (vB (B, q, Wh, Fi, Ma, Ki)) b from mk5_eq hk (fun x hx => by rw [hI x]; exact ⟨fun y => y.2, fun y => ⟨hx, y⟩⟩)], rfl⟩
    | succ d ih =>
      intro p k hp hk hI
      have b1 := hB.1 (40 * p + b)
      refine ro_iload_n dX1_holders_14 rfl ?_
      refine ro_iconst (x := nI 5) dX1_holders_15 (by decide) ?_
      refine ro_icmp_ge 45 dX1_holders_16 (by decide) (by omega) (by omega) (fun h3 => absurd h3 (by omega)) (fun h3 => ?_)
      refine ro_aload_n dX1_holders_19 rfl ?_
      refine f1_table dX1_holders_20 ?_
      refine ro_bipush (x := nI 40) dX1_holders_23 (by decide) ?_
      refine ro_iload_n dX1_holders_25 rfl ?_
      refine ro_imul dX1_holders_26 ?_
      refine ro_iload_n dX1_holders_27 rfl ?_
      refine ro_iadd dX1_holders_28 ?_
      refine l1_table dX1_holders_29 (by omega) ?_
      refine ro_if_eq 39 dX1_holders_30 (by decide) (by omega) (fun h4 => ?_) (fun h4 => ?_)
      · refine ro_iinc (lv1 := [_, _, _, _]) dX1_holders_39 rfl rfl rfl rfl ?_
        refine ro_goto 14 dX1_holders_42 (by decide) ?_
        refine ih (p + 1) k (by omega) hk (fun x => ?_)
        rw [hI x]
        refine ⟨fun z => ⟨by omega, z.2⟩, fun z => ⟨?_, z.2⟩⟩
        rcases Nat.lt_or_ge x p with e | e
        · exact e
        · obtain rfl : x = p := by omega
          exact absurd h4 z.2
      · refine ro_iload_n dX1_holders_33 rfl ?_
        refine ro_iconst (x := nI 1) dX1_holders_34 (by decide) ?_
        refine ro_iload_n dX1_holders_35 rfl ?_
        refine ro_ishl1 dX1_holders_36 (by omega) ?_
        refine ro_ior dX1_holders_37 ?_
        refine ro_istore_n (lv1 := [_, _, _, _]) dX1_holders_38 rfl rfl rfl ?_
        refine ro_iinc (lv1 := [_, _, _, _]) dX1_holders_39 rfl rfl rfl rfl ?_
        refine ro_goto 14 dX1_holders_42 (by decide) ?_
        have hpw : 2 ^ p < 2 ^ 5 := Nat.pow_lt_pow_right (by decide) h3
        refine ih (p + 1) (k ||| 2 ^ p) (by omega) (or_lt (k := 5) hk hpw) (fun x => ?_)
        rw [bit_or, bit_pow, hI x]
        constructor
        · rintro (⟨z1, z2⟩ | z)
          · exact ⟨by omega, z2⟩
          · subst z; exact ⟨by omega, h4⟩
        · rintro ⟨z1, z2⟩
          by_cases e : x = p
          · exact Or.inr e
          · exact Or.inl ⟨by omega, z2⟩
  refine ro_iconst (x := nI 0) dX1_holders_10 (by decide) ?_
  refine ro_istore_n (lv1 := [_, _, _, _]) dX1_holders_11 rfl rfl rfl ?_
  refine ro_iconst (x := nI 0) dX1_holders_12 (by decide) ?_
  refine ro_istore_n (lv1 := [_, _, _, _]) dX1_holders_13 rfl rfl rfl ?_
  exact loop 5 0 0 rfl (by omega) (fun x => ⟨fun h => absurd h bit_0, fun h => absurd h.1 (Nat.not_lt_zero x)⟩)
set_option maxHeartbeats 4000000 in
set_option maxRecDepth 100000 in
theorem m1_obstacle (B : Fn) (q : Nat) (Wh Fi Ma Ki Ou : Fn) (hG : Gd (B, q, Wh, Fi, Ma, Ki)) (x y z w : Int32) : MCi w1 yX1_obstacle cX1_obstacle 6 (some .int) 2 49 [.int x, .int y, .int z, .int w] ((B, q, Wh, Fi, Ma, Ki, Ou)) (fun r u2 => r = fObst (B, q, Wh, Fi, Ma, Ki) x y z w ∧ u2 = (B, q, Wh, Fi, Ma, Ki, Ou)) := by
  refine MCi_of (lv := fun ad => [some (.ref (ad 0)), some (.int x), some (.int y), some (.int z), some (.int w), none]) (by decide) (Or.inl rfl) rfl (fun _ => Nat.le_of_ble_eq_true rfl) (fun _ => rfl) ?_
  intro g ad cI cZ
  show G g _ cX1_obstacle RX1 6 _ (w1 ad cI cZ) _ _ ((B, q, Wh, Fi, Ma, Ki, Ou)) 0 _ []
  obtain ⟨hq, hB, hD⟩ := hG
  refine ro_aload_n dX1_obstacle_0 rfl ?_
  refine ro_iload_n dX1_obstacle_1 rfl ?_
  refine ro_call1 1 (m1_bad B q Wh Fi Ma Ki Ou x) cv_X1_X1_bad dn_X1_bad rfl ⟨by decide, by decide⟩ rfl (Nat.le_of_ble_eq_true rfl) dX1_obstacle_2 (fun r u2 hr => ?_)
  obtain ⟨hr, rfl⟩ := hr
  rcases hr with ⟨h1, rfl⟩ | ⟨h1, rfl⟩
  · refine ro_if_eq 10 dX1_obstacle_5 (by decide) (by omega) (fun e => absurd e (by decide)) (fun _ => ?_)
    refine ro_iconst (x := -1) dX1_obstacle_8 (by decide) ?_
    refine ro_iret dX1_obstacle_9 ?_
    rw [fObst, fO_bad h1]
    exact ⟨rfl, rfl⟩
  obtain ⟨o, ho, rfl⟩ : okO x := Classical.not_not.mp h1
  refine ro_if_eq 10 dX1_obstacle_5 (by decide) (by omega) (fun _ => ?_) (fun e => absurd rfl e)
  refine ro_aload_n dX1_obstacle_10 rfl ?_
  refine ro_iload_n dX1_obstacle_11 rfl ?_
  refine ro_iload_n dX1_obstacle_12 rfl ?_
  refine ro_call1 2 (m1_badRange B q Wh Fi Ma Ki Ou y z) cv_X1_X1_badRange dn_X1_badRange rfl ⟨by decide, by decide⟩ rfl (Nat.le_of_ble_eq_true rfl) dX1_obstacle_13 (fun r u2 hr => ?_)
  obtain ⟨hr, rfl⟩ := hr
  rcases hr with ⟨h2, rfl⟩ | ⟨h2, rfl⟩
  · refine ro_if_eq 22 dX1_obstacle_16 (by decide) (by omega) (fun e => absurd e (by decide)) (fun _ => ?_)
    refine ro_bipush (x := -2) dX1_obstacle_19 (by decide) ?_
    refine ro_iret dX1_obstacle_21 ?_
    rw [fObst, fO_c ho, fR_bad h2]
    exact ⟨rfl, rfl⟩
  obtain ⟨a, m, hm, ham, rfl, rfl⟩ : okR y z := Classical.not_not.mp h2
  refine ro_if_eq 22 dX1_obstacle_16 (by decide) (by omega) (fun _ => ?_) (fun e => absurd rfl e)
  have cont : ∀ t : Nat, 1 ≤ t → t ≤ 2 → w = nI t → G g ({ frames := 2, cells := 0, slots := 0, locals := 49 }) cX1_obstacle RX1 6 [(cI, .int), (cZ, .boolean)] (w1 ad cI cZ) (fun r u2 => r = fObst (B, q, Wh, Fi, Ma, Ki) (nI o) (nI a) (nI m) w ∧ u2 = (B, q, Wh, Fi, Ma, Ki, Ou)) (fun _ => False) (B, q, Wh, Fi, Ma, Ki, Ou) 37 [some (.ref (ad 0)), some (.int (nI o)), some (.int (nI a)), some (.int (nI m)), some (.int (nI t)), none] [] := by
    intro t ht1 ht2 hwt
    subst hwt
    have loop : ∀ d j : Nat, j + d = m → (∀ i, i < j → ¬ agst B o (a + i) 1 t ≠ 0) → G g ({ frames := 2, cells := 0, slots := 0, locals := 49 }) cX1_obstacle RX1 6 [(cI, .int), (cZ, .boolean)] (w1 ad cI cZ) (fun r u2 => r = fObst (B, q, Wh, Fi, Ma, Ki) (nI o) (nI a) (nI m) (nI t) ∧ u2 = (B, q, Wh, Fi, Ma, Ki, Ou)) (fun _ => False) (B, q, Wh, Fi, Ma, Ki, Ou) 40 [some (.ref (ad 0)), some (.int (nI o)), some (.int (nI a)), some (.int (nI m)), some (.int (nI t)), some (.int (nI (a + j)))] [] := by
      intro d
      induction d with
      | zero =>
        intro j hj hI
        have hj : j = m := hj
        subst hj
        refine ro_iload dX1_obstacle_40 rfl ?_
        refine ro_iload_n dX1_obstacle_42 rfl ?_
        refine ro_iload_n dX1_obstacle_43 rfl ?_
        refine ro_iadd dX1_obstacle_44 ?_
        refine ro_icmp_ge 70 dX1_obstacle_45 (by decide) (by omega) (by omega) (fun h3 => ?_) (fun h3 => absurd h3 (by omega))
        refine ro_bipush (x := -4) dX1_obstacle_70 (by decide) ?_
        refine ro_iret dX1_obstacle_72 ?_
        rw [fObst, fO_c ho, fR_c hm ham, fT_c ht1 ht2, cObst]
        rw [srch_none (P := fun i => agst (vB (B, q, Wh, Fi, Ma, Ki)) o (a + i) 1 t ≠ 0) hI]
        exact ⟨rfl, rfl⟩
      | succ d ih =>
        intro j hj hI
        refine ro_iload dX1_obstacle_40 rfl ?_
        refine ro_iload_n dX1_obstacle_42 rfl ?_
        refine ro_iload_n dX1_obstacle_43 rfl ?_
        refine ro_iadd dX1_obstacle_44 ?_
        refine ro_icmp_ge 70 dX1_obstacle_45 (by decide) (by omega) (by omega) (fun h3 => absurd h3 (by omega)) (fun h3 => ?_)
        refine ro_aload_n dX1_obstacle_48 rfl ?_
        refine ro_iload_n dX1_obstacle_49 rfl ?_
        refine ro_iload dX1_obstacle_50 rfl ?_
        refine ro_iconst (x := nI 1) dX1_obstacle_52 (by decide) ?_
        refine ro_iload dX1_obstacle_53 rfl ?_
        refine ro_call1 4 (m1_against B q Wh Fi Ma Ki Ou o (a + j) 1 t hB.1 (by omega) (by omega) ht2) cv_X1_X1_against dn_X1_against rfl ⟨by decide, by decide⟩ rfl (Nat.le_of_ble_eq_true rfl) dX1_obstacle_55 (fun r u2 hr => ?_)
        obtain ⟨rfl, rfl⟩ := hr
        have hlt := agst_lt B o (a + j) 1 t
        refine ro_if_eq 64 dX1_obstacle_58 (by decide) (by omega) (fun h5 => ?_) (fun h5 => ?_)
        · refine ro_iinc (lv1 := [_, _, _, _, _, _]) dX1_obstacle_64 rfl rfl rfl rfl ?_
          refine ro_goto 40 dX1_obstacle_67 (by decide) ?_
          exact ih (j + 1) (by omega) (fun i hi => by
            by_cases e : i = j
            · rw [e]; exact fun z => z h5
            · exact hI i (by omega))
        · refine ro_iload dX1_obstacle_61 rfl ?_
          refine ro_iret dX1_obstacle_63 ?_
          rw [fObst, fO_c ho, fR_c hm ham, fT_c ht1 ht2, cObst]
          rw [srch_some (P := fun i => agst (vB (B, q, Wh, Fi, Ma, Ki)) o (a + i) 1 t ≠ 0) (show j < m by omega) h5 hI]
          exact ⟨rfl, rfl⟩
    refine ro_iload_n dX1_obstacle_37 rfl ?_
    refine ro_istore (lv1 := [_, _, _, _, _, _]) dX1_obstacle_38 rfl rfl rfl ?_
    exact loop m 0 (by omega) (fun i hi => absurd hi (Nat.not_lt_zero i))
  refine ro_iload dX1_obstacle_22 rfl ?_
  refine ro_iconst (x := nI 1) dX1_obstacle_24 (by decide) ?_
  refine ro_icmp_eqR 37 dX1_obstacle_25 (by decide) (fun h3 => ?_) (fun h3 => ?_)
  · subst h3
    exact cont 1 (by omega) (by omega) rfl
  refine ro_iload dX1_obstacle_28 rfl ?_
  refine ro_iconst (x := nI 2) dX1_obstacle_30 (by decide) ?_
  refine ro_icmp_eqR 37 dX1_obstacle_31 (by decide) (fun h4 => ?_) (fun h4 => ?_)
  · subst h4
    exact cont 2 (by omega) (by omega) rfl
  refine ro_bipush (x := -3) dX1_obstacle_34 (by decide) ?_
  refine ro_iret dX1_obstacle_36 ?_
  rw [fObst, fO_c ho, fR_c hm ham, fT_bad (okT_no h3 h4)]
  exact ⟨rfl, rfl⟩
set_option maxHeartbeats 4000000 in
set_option maxRecDepth 100000 in
theorem m1_waiting (B : Fn) (q : Nat) (Wh Fi Ma Ki Ou : Fn) (hG : Gd (B, q, Wh, Fi, Ma, Ki)) (x : Int32) : MCi w1 yX1_waiting cX1_waiting 2 (some .int) 1 22 [.int x] ((B, q, Wh, Fi, Ma, Ki, Ou)) (fun r u2 => r = fWaiting (B, q, Wh, Fi, Ma, Ki) x ∧ u2 = (B, q, Wh, Fi, Ma, Ki, Ou)) := by
  refine MCi_of (lv := fun ad => [some (.ref (ad 0)), some (.int x)]) (by decide) (Or.inl rfl) rfl (fun _ => Nat.le_of_ble_eq_true rfl) (fun _ => rfl) ?_
  intro g ad cI cZ
  show G g _ cX1_waiting RX1 2 _ (w1 ad cI cZ) _ _ ((B, q, Wh, Fi, Ma, Ki, Ou)) 0 _ []
  obtain ⟨hq, hB, hD⟩ := hG
  refine ro_aload_n dX1_waiting_0 rfl ?_
  refine ro_iload_n dX1_waiting_1 rfl ?_
  refine ro_call1 1 (m1_bad B q Wh Fi Ma Ki Ou x) cv_X1_X1_bad dn_X1_bad rfl ⟨by decide, by decide⟩ rfl (Nat.le_of_ble_eq_true rfl) dX1_waiting_2 (fun r u2 hr => ?_)
  obtain ⟨hr, rfl⟩ := hr
  rcases hr with ⟨h1, rfl⟩ | ⟨h1, rfl⟩
  · refine ro_if_eq 10 dX1_waiting_5 (by decide) (by omega) (fun e => absurd e (by decide)) (fun _ => ?_)
    refine ro_iconst (x := -1) dX1_waiting_8 (by decide) ?_
    refine ro_iret dX1_waiting_9 ?_
    rw [fWaiting, fO_bad h1]
    exact ⟨rfl, rfl⟩
  obtain ⟨o, ho, rfl⟩ : okO x := Classical.not_not.mp h1
  refine ro_if_eq 10 dX1_waiting_5 (by decide) (by omega) (fun _ => ?_) (fun e => absurd rfl e)
  refine ro_aload_n dX1_waiting_10 rfl ?_
  refine ro_iload_n dX1_waiting_11 rfl ?_
  refine ro_call1 1 (m1_placeOf B q Wh Fi Ma Ki Ou o (by omega) (by omega) hB.2.1) cv_X1_X1_placeOf dn_X1_placeOf rfl ⟨by decide, by decide⟩ rfl (Nat.le_of_ble_eq_true rfl) dX1_waiting_12 (fun r u2 hr => ?_)
  obtain ⟨hr, rfl⟩ := hr
  rcases opI_wt (B := B) (Fi := Fi) (Ma := Ma) (Ki := Ki) hr with ⟨hw, rfl⟩ | ⟨i, hw, hi, hwi, rfl⟩
  · refine ro_if_ltR 22 dX1_waiting_15 (by decide) (fun _ => ?_) (fun e => absurd (by decide) e)
    refine ro_iconst (x := nI 0) dX1_waiting_22 (by decide) ?_
    refine ro_iret dX1_waiting_23 ?_
    rw [fWaiting, fO_c ho, cif_t hw]
    exact ⟨rfl, rfl⟩
  refine ro_if_lt 22 dX1_waiting_15 (by decide) (by omega) ?_
  refine ro_iconst (x := nI 1) dX1_waiting_18 (by decide) ?_
  refine ro_goto 23 dX1_waiting_19 (by decide) ?_
  refine ro_iret dX1_waiting_23 ?_
  rw [fWaiting, fO_c ho, cif_f (ne_of_some hw)]
  exact ⟨rfl, rfl⟩
set_option maxHeartbeats 4000000 in
set_option maxRecDepth 100000 in
theorem m1_waitsFor (B : Fn) (q : Nat) (Wh Fi Ma Ki Ou : Fn) (hG : Gd (B, q, Wh, Fi, Ma, Ki)) (x : Int32) : MCi w1 yX1_waitsFor cX1_waitsFor 3 (some .int) 2 49 [.int x] ((B, q, Wh, Fi, Ma, Ki, Ou)) (fun r u2 => r = fWaitsFor (B, q, Wh, Fi, Ma, Ki) x ∧ u2 = (B, q, Wh, Fi, Ma, Ki, Ou)) := by
  refine MCi_of (lv := fun ad => [some (.ref (ad 0)), some (.int x), none]) (by decide) (Or.inl rfl) rfl (fun _ => Nat.le_of_ble_eq_true rfl) (fun _ => rfl) ?_
  intro g ad cI cZ
  show G g _ cX1_waitsFor RX1 3 _ (w1 ad cI cZ) _ _ ((B, q, Wh, Fi, Ma, Ki, Ou)) 0 _ []
  obtain ⟨hq, hB, hD⟩ := hG
  refine ro_aload_n dX1_waitsFor_0 rfl ?_
  refine ro_iload_n dX1_waitsFor_1 rfl ?_
  refine ro_call1 1 (m1_bad B q Wh Fi Ma Ki Ou x) cv_X1_X1_bad dn_X1_bad rfl ⟨by decide, by decide⟩ rfl (Nat.le_of_ble_eq_true rfl) dX1_waitsFor_2 (fun r u2 hr => ?_)
  obtain ⟨hr, rfl⟩ := hr
  rcases hr with ⟨h1, rfl⟩ | ⟨h1, rfl⟩
  · refine ro_if_eq 10 dX1_waitsFor_5 (by decide) (by omega) (fun e => absurd e (by decide)) (fun _ => ?_)
    refine ro_iconst (x := -1) dX1_waitsFor_8 (by decide) ?_
    refine ro_iret dX1_waitsFor_9 ?_
    rw [fWaitsFor, fO_bad h1]
    exact ⟨rfl, rfl⟩
  obtain ⟨o, ho, rfl⟩ : okO x := Classical.not_not.mp h1
  refine ro_if_eq 10 dX1_waitsFor_5 (by decide) (by omega) (fun _ => ?_) (fun e => absurd rfl e)
  refine ro_aload_n dX1_waitsFor_10 rfl ?_
  refine ro_iload_n dX1_waitsFor_11 rfl ?_
  refine ro_call1 1 (m1_placeOf B q Wh Fi Ma Ki Ou o (by omega) (by omega) hB.2.1) cv_X1_X1_placeOf dn_X1_placeOf rfl ⟨by decide, by decide⟩ rfl (Nat.le_of_ble_eq_true rfl) dX1_waitsFor_12 (fun r u2 hr => ?_)
  obtain ⟨hr, rfl⟩ := hr
  rcases opI_wt (B := B) (Fi := Fi) (Ma := Ma) (Ki := Ki) hr with ⟨hw, rfl⟩ | ⟨i, hw, hi, hwi, rfl⟩
  · refine ro_istore_n (lv1 := [_, _, _]) dX1_waitsFor_15 rfl rfl rfl ?_
    refine ro_iload_n dX1_waitsFor_16 rfl ?_
    refine ro_if_geR 24 dX1_waitsFor_17 (by decide) (fun e => absurd e (by decide)) (fun _ => ?_)
    refine ro_iconst (x := nI 0) dX1_waitsFor_20 (by decide) ?_
    refine ro_goto 47 dX1_waitsFor_21 (by decide) ?_
    refine ro_iret dX1_waitsFor_47 ?_
    rw [fWaitsFor, fO_c ho]
    refine ⟨?_, rfl⟩
    show _ = nI (match srch (fun i => Wh i = o) q with | none => 0 | some i => agst B o (Fi i) (Ma i) (Ki i))
    rw [show srch (fun i => Wh i = o) q = none from hw]
  refine ro_istore_n (lv1 := [_, _, _]) dX1_waitsFor_15 rfl rfl rfl ?_
  refine ro_iload_n dX1_waitsFor_16 rfl ?_
  refine ro_if_ge 24 dX1_waitsFor_17 (by decide) (by omega) ?_
  refine ro_aload_n dX1_waitsFor_24 rfl ?_
  refine ro_iload_n dX1_waitsFor_25 rfl ?_
  refine ro_aload_n dX1_waitsFor_26 rfl ?_
  refine f1_first dX1_waitsFor_27 ?_
  refine ro_iload_n dX1_waitsFor_30 rfl ?_
  refine l1_first dX1_waitsFor_31 (by omega) ?_
  refine ro_aload_n dX1_waitsFor_32 rfl ?_
  refine f1_many dX1_waitsFor_33 ?_
  refine ro_iload_n dX1_waitsFor_36 rfl ?_
  refine l1_many dX1_waitsFor_37 (by omega) ?_
  refine ro_aload_n dX1_waitsFor_38 rfl ?_
  refine f1_kind dX1_waitsFor_39 ?_
  refine ro_iload_n dX1_waitsFor_42 rfl ?_
  refine l1_kind dX1_waitsFor_43 (by omega) ?_
  refine ro_call1 4 (m1_against B q Wh Fi Ma Ki Ou o (Fi i) (Ma i) (Ki i) hB.1 (by omega) (hB.2.2.1 i) (hB.2.2.2 i)) cv_X1_X1_against dn_X1_against rfl ⟨by decide, by decide⟩ rfl (Nat.le_of_ble_eq_true rfl) dX1_waitsFor_44 (fun r u2 hr => ?_)
  obtain ⟨rfl, rfl⟩ := hr
  refine ro_iret dX1_waitsFor_47 ?_
  rw [fWaitsFor, fO_c ho]
  refine ⟨?_, rfl⟩
  show _ = nI (match srch (fun i => Wh i = o) q with | none => 0 | some i => agst B o (Fi i) (Ma i) (Ki i))
  rw [show srch (fun i => Wh i = o) q = some i from hw]
set_option maxHeartbeats 4000000 in
set_option maxRecDepth 100000 in
theorem m1_ahead (B : Fn) (q : Nat) (Wh Fi Ma Ki Ou : Fn) (hG : Gd (B, q, Wh, Fi, Ma, Ki)) (x : Int32) : MCi w1 yX1_ahead cX1_ahead 3 (some .int) 1 22 [.int x] ((B, q, Wh, Fi, Ma, Ki, Ou)) (fun r u2 => r = fAhead (B, q, Wh, Fi, Ma, Ki) x ∧ u2 = (B, q, Wh, Fi, Ma, Ki, Ou)) := by
  refine MCi_of (lv := fun ad => [some (.ref (ad 0)), some (.int x), none]) (by decide) (Or.inl rfl) rfl (fun _ => Nat.le_of_ble_eq_true rfl) (fun _ => rfl) ?_
  intro g ad cI cZ
  show G g _ cX1_ahead RX1 3 _ (w1 ad cI cZ) _ _ ((B, q, Wh, Fi, Ma, Ki, Ou)) 0 _ []
  obtain ⟨hq, hB, hD⟩ := hG
  refine ro_aload_n dX1_ahead_0 rfl ?_
  refine ro_iload_n dX1_ahead_1 rfl ?_
  refine ro_call1 1 (m1_bad B q Wh Fi Ma Ki Ou x) cv_X1_X1_bad dn_X1_bad rfl ⟨by decide, by decide⟩ rfl (Nat.le_of_ble_eq_true rfl) dX1_ahead_2 (fun r u2 hr => ?_)
  obtain ⟨hr, rfl⟩ := hr
  rcases hr with ⟨h1, rfl⟩ | ⟨h1, rfl⟩
  · refine ro_if_eq 10 dX1_ahead_5 (by decide) (by omega) (fun e => absurd e (by decide)) (fun _ => ?_)
    refine ro_iconst (x := -1) dX1_ahead_8 (by decide) ?_
    refine ro_iret dX1_ahead_9 ?_
    rw [fAhead, fO_bad h1]
    exact ⟨rfl, rfl⟩
  obtain ⟨o, ho, rfl⟩ : okO x := Classical.not_not.mp h1
  refine ro_if_eq 10 dX1_ahead_5 (by decide) (by omega) (fun _ => ?_) (fun e => absurd rfl e)
  refine ro_aload_n dX1_ahead_10 rfl ?_
  refine ro_iload_n dX1_ahead_11 rfl ?_
  refine ro_call1 1 (m1_placeOf B q Wh Fi Ma Ki Ou o (by omega) (by omega) hB.2.1) cv_X1_X1_placeOf dn_X1_placeOf rfl ⟨by decide, by decide⟩ rfl (Nat.le_of_ble_eq_true rfl) dX1_ahead_12 (fun r u2 hr => ?_)
  obtain ⟨hr, rfl⟩ := hr
  rcases opI_wt (B := B) (Fi := Fi) (Ma := Ma) (Ki := Ki) hr with ⟨hw, rfl⟩ | ⟨i, hw, hi, hwi, rfl⟩
  · refine ro_istore_n (lv1 := [_, _, _]) dX1_ahead_15 rfl rfl rfl ?_
    refine ro_iload_n dX1_ahead_16 rfl ?_
    refine ro_if_geR 25 dX1_ahead_17 (by decide) (fun e => absurd e (by decide)) (fun _ => ?_)
    refine ro_bipush (x := -2) dX1_ahead_20 (by decide) ?_
    refine ro_goto 26 dX1_ahead_22 (by decide) ?_
    refine ro_iret dX1_ahead_26 ?_
    rw [fAhead, fO_c ho, cAhead, hw]
    exact ⟨rfl, rfl⟩
  refine ro_istore_n (lv1 := [_, _, _]) dX1_ahead_15 rfl rfl rfl ?_
  refine ro_iload_n dX1_ahead_16 rfl ?_
  refine ro_if_ge 25 dX1_ahead_17 (by decide) (by omega) ?_
  refine ro_iload_n dX1_ahead_25 rfl ?_
  refine ro_iret dX1_ahead_26 ?_
  rw [fAhead, fO_c ho, cAhead, hw]
  exact ⟨rfl, rfl⟩
end
section
/-! X1: begins, pieces, startOf, pieceStart, pieceEnd, pieceType, count, free -/
set_option maxRecDepth 100000
set_option maxHeartbeats 4000000 in
set_option maxRecDepth 100000 in
theorem m1_begins (B : Fn) (q : Nat) (Wh Fi Ma Ki Ou : Fn) (o b : Nat) (hB : ∀ j, B j ≤ 2) (ho : o < 5) (hb : b < 40) : MCi w1 yX1_begins cX1_begins 3 (some .boolean) 0 0 [.int (nI o), .int (nI b)] ((B, q, Wh, Fi, Ma, Ki, Ou)) (fun r u2 => bI (bgn B o b) r ∧ u2 = (B, q, Wh, Fi, Ma, Ki, Ou)) := by
  refine MCi_of (lv := fun ad => [some (.ref (ad 0)), some (.int (nI o)), some (.int (nI b))]) (by decide) (Or.inr ⟨rfl, fun v u1 h => bI01 h.1⟩) rfl (fun _ => Nat.le_of_ble_eq_true rfl) (fun _ => rfl) ?_
  intro g ad cI cZ
  show G g _ cX1_begins RX1 3 _ (w1 ad cI cZ) _ _ ((B, q, Wh, Fi, Ma, Ki, Ou)) 0 _ []
  have b1 := hB (40 * o + b)
  have b2 := hB (40 * o + b - 1)
  refine ro_aload_n dX1_begins_0 rfl ?_
  refine f1_table dX1_begins_1 ?_
  refine ro_bipush (x := nI 40) dX1_begins_4 (by decide) ?_
  refine ro_iload_n dX1_begins_6 rfl ?_
  refine ro_imul dX1_begins_7 ?_
  refine ro_iload_n dX1_begins_8 rfl ?_
  refine ro_iadd dX1_begins_9 ?_
  refine l1_table dX1_begins_10 (by omega) ?_
  refine ro_if_ne 16 dX1_begins_11 (by decide) (by omega) (fun h1 => ?_) (fun h1 => ?_)
  rotate_left
  · refine ro_iconst (x := nI 0) dX1_begins_14 (by decide) ?_
    refine ro_iret dX1_begins_15 ?_
    exact ⟨bI_f (fun h => h.1 h1), rfl⟩
  refine ro_iload_n dX1_begins_16 rfl ?_
  refine ro_if_eq 47 dX1_begins_17 (by decide) (by omega) (fun h2 => ?_) (fun h2 => ?_)
  · refine ro_iconst (x := nI 1) dX1_begins_47 (by decide) ?_
    refine ro_goto 52 dX1_begins_48 (by decide) ?_
    refine ro_iret dX1_begins_52 ?_
    exact ⟨bI_t ⟨h1, Or.inl h2⟩, rfl⟩
  refine ro_aload_n dX1_begins_20 rfl ?_
  refine f1_table dX1_begins_21 ?_
  refine ro_bipush (x := nI 40) dX1_begins_24 (by decide) ?_
  refine ro_iload_n dX1_begins_26 rfl ?_
  refine ro_imul dX1_begins_27 ?_
  refine ro_iload_n dX1_begins_28 rfl ?_
  refine ro_iadd dX1_begins_29 ?_
  refine ro_iconst (x := nI 1) dX1_begins_30 (by decide) ?_
  refine ro_isub dX1_begins_31 (by omega) ?_
  refine l1_table dX1_begins_32 (by omega) ?_
  refine ro_aload_n dX1_begins_33 rfl ?_
  refine f1_table dX1_begins_34 ?_
  refine ro_bipush (x := nI 40) dX1_begins_37 (by decide) ?_
  refine ro_iload_n dX1_begins_39 rfl ?_
  refine ro_imul dX1_begins_40 ?_
  refine ro_iload_n dX1_begins_41 rfl ?_
  refine ro_iadd dX1_begins_42 ?_
  refine l1_table dX1_begins_43 (by omega) ?_
  refine ro_icmp_eq 51 dX1_begins_44 (by decide) (by omega) (by omega) (fun h3 => ?_) (fun h3 => ?_)
  · refine ro_iconst (x := nI 0) dX1_begins_51 (by decide) ?_
    refine ro_iret dX1_begins_52 ?_
    exact ⟨bI_f (fun h => h.2.elim h2 (fun z => z h3)), rfl⟩
  · refine ro_iconst (x := nI 1) dX1_begins_47 (by decide) ?_
    refine ro_goto 52 dX1_begins_48 (by decide) ?_
    refine ro_iret dX1_begins_52 ?_
    exact ⟨bI_t ⟨h1, Or.inr h3⟩, rfl⟩
set_option maxHeartbeats 4000000 in
set_option maxRecDepth 100000 in
theorem m1_pieces (B : Fn) (q : Nat) (Wh Fi Ma Ki Ou : Fn) (hG : Gd (B, q, Wh, Fi, Ma, Ki)) (x : Int32) : MCi w1 yX1_pieces cX1_pieces 4 (some .int) 1 22 [.int x] ((B, q, Wh, Fi, Ma, Ki, Ou)) (fun r u2 => r = fPieces (B, q, Wh, Fi, Ma, Ki) x ∧ u2 = (B, q, Wh, Fi, Ma, Ki, Ou)) := by
  refine MCi_of (lv := fun ad => [some (.ref (ad 0)), some (.int x), none, none]) (by decide) (Or.inl rfl) rfl (fun _ => Nat.le_of_ble_eq_true rfl) (fun _ => rfl) ?_
  intro g ad cI cZ
  show G g _ cX1_pieces RX1 4 _ (w1 ad cI cZ) _ _ ((B, q, Wh, Fi, Ma, Ki, Ou)) 0 _ []
  obtain ⟨hq, hB, hD⟩ := hG
  refine ro_aload_n dX1_pieces_0 rfl ?_
  refine ro_iload_n dX1_pieces_1 rfl ?_
  refine ro_call1 1 (m1_bad B q Wh Fi Ma Ki Ou x) cv_X1_X1_bad dn_X1_bad rfl ⟨by decide, by decide⟩ rfl (Nat.le_of_ble_eq_true rfl) dX1_pieces_2 (fun r u2 hr => ?_)
  obtain ⟨hr, rfl⟩ := hr
  rcases hr with ⟨h1, rfl⟩ | ⟨h1, rfl⟩
  · refine ro_if_eq 10 dX1_pieces_5 (by decide) (by omega) (fun e => absurd e (by decide)) (fun _ => ?_)
    refine ro_iconst (x := -1) dX1_pieces_8 (by decide) ?_
    refine ro_iret dX1_pieces_9 ?_
    rw [fPieces, fO_bad h1]
    exact ⟨rfl, rfl⟩
  obtain ⟨o, ho, rfl⟩ : okO x := Classical.not_not.mp h1
  refine ro_if_eq 10 dX1_pieces_5 (by decide) (by omega) (fun _ => ?_) (fun e => absurd rfl e)
  have loop : ∀ d b : Nat, b + d = 40 → G g ({ frames := 1, cells := 0, slots := 0, locals := 22 }) cX1_pieces RX1 4 [(cI, .int), (cZ, .boolean)] (w1 ad cI cZ) (fun r u2 => r = fPieces (B, q, Wh, Fi, Ma, Ki) (nI o) ∧ u2 = (B, q, Wh, Fi, Ma, Ki, Ou)) (fun _ => False) (B, q, Wh, Fi, Ma, Ki, Ou) 14 [some (.ref (ad 0)), some (.int (nI o)), some (.int (nI (cnt (bgn B o) b))), some (.int (nI b))] [] := by
    intro d
    induction d with
    | zero =>
      intro b hb
      have hb : b = 40 := hb
      subst hb
      refine ro_iload_n dX1_pieces_14 rfl ?_
      refine ro_bipush (x := nI 40) dX1_pieces_15 (by decide) ?_
      refine ro_icmp_ge 38 dX1_pieces_17 (by decide) (by omega) (by omega) (fun h2 => ?_) (fun h2 => absurd h2 (by omega))
      refine ro_iload_n dX1_pieces_38 rfl ?_
      refine ro_iret dX1_pieces_39 ?_
      rw [fPieces, fO_c ho]
      exact ⟨rfl, rfl⟩
    | succ d ih =>
      intro b hb
      have := ih (b + 1) (by omega)
      refine ro_iload_n dX1_pieces_14 rfl ?_
      refine ro_bipush (x := nI 40) dX1_pieces_15 (by decide) ?_
      refine ro_icmp_ge 38 dX1_pieces_17 (by decide) (by omega) (by omega) (fun h2 => absurd h2 (by omega)) (fun h2 => ?_)
      refine ro_aload_n dX1_pieces_20 rfl ?_
      refine ro_iload_n dX1_pieces_21 rfl ?_
      refine ro_iload_n dX1_pieces_22 rfl ?_
      refine ro_call1 2 (m1_begins B q Wh Fi Ma Ki Ou o b hB.1 ho h2) cv_X1_X1_begins dn_X1_begins rfl ⟨by decide, by decide⟩ rfl (Nat.le_of_ble_eq_true rfl) dX1_pieces_23 (fun r u2 hr => ?_)
      obtain ⟨hr, rfl⟩ := hr
      rcases hr with ⟨h3, rfl⟩ | ⟨h3, rfl⟩
      · refine ro_if_eq 32 dX1_pieces_26 (by decide) (by omega) (fun e => absurd e (by decide)) (fun _ => ?_)
        refine ro_iinc (lv1 := [_, _, _, _]) dX1_pieces_29 rfl rfl rfl rfl ?_
        refine ro_iinc (lv1 := [_, _, _, _]) dX1_pieces_32 rfl rfl rfl rfl ?_
        refine ro_goto 14 dX1_pieces_35 (by decide) ?_
        rw [cnt_y h3] at this
        exact this
      · refine ro_if_eq 32 dX1_pieces_26 (by decide) (by omega) (fun _ => ?_) (fun e => absurd rfl e)
        refine ro_iinc (lv1 := [_, _, _, _]) dX1_pieces_32 rfl rfl rfl rfl ?_
        refine ro_goto 14 dX1_pieces_35 (by decide) ?_
        rw [cnt_n h3] at this
        exact this
  refine ro_iconst (x := nI 0) dX1_pieces_10 (by decide) ?_
  refine ro_istore_n (lv1 := [_, _, _, _]) dX1_pieces_11 rfl rfl rfl ?_
  refine ro_iconst (x := nI 0) dX1_pieces_12 (by decide) ?_
  refine ro_istore_n (lv1 := [_, _, _, _]) dX1_pieces_13 rfl rfl rfl ?_
  exact loop 40 0 rfl
set_option maxHeartbeats 4000000 in
set_option maxRecDepth 100000 in
theorem m1_startOf (B : Fn) (q : Nat) (Wh Fi Ma Ki Ou : Fn) (hG : Gd (B, q, Wh, Fi, Ma, Ki)) (o : Nat) (ho : o < 5) (y : Int32) : MCi w1 yX1_startOf cX1_startOf 5 (some .int) 1 22 [.int (nI o), .int y] ((B, q, Wh, Fi, Ma, Ki, Ou)) (fun r u2 => r = op2 (stO B o y) nI ∧ u2 = (B, q, Wh, Fi, Ma, Ki, Ou)) := by
  refine MCi_of (lv := fun ad => [some (.ref (ad 0)), some (.int (nI o)), some (.int y), none, none]) (by decide) (Or.inl rfl) rfl (fun _ => Nat.le_of_ble_eq_true rfl) (fun _ => rfl) ?_
  intro g ad cI cZ
  show G g _ cX1_startOf RX1 5 _ (w1 ad cI cZ) _ _ ((B, q, Wh, Fi, Ma, Ki, Ou)) 0 _ []
  obtain ⟨hq, hB, hD⟩ := hG
  have loop : ∀ d b : Nat, b + d = 40 → (∀ j, j < b → ¬ (bgn B o j ∧ nI (cnt (bgn B o) j) = y)) → G g ({ frames := 1, cells := 0, slots := 0, locals := 22 }) cX1_startOf RX1 5 [(cI, .int), (cZ, .boolean)] (w1 ad cI cZ) (fun r u2 => r = op2 (stO B o y) nI ∧ u2 = (B, q, Wh, Fi, Ma, Ki, Ou)) (fun _ => False) (B, q, Wh, Fi, Ma, Ki, Ou) 5 [some (.ref (ad 0)), some (.int (nI o)), some (.int y), some (.int (nI (cnt (bgn B o) b))), some (.int (nI b))] [] := by
    intro d
    induction d with
    | zero =>
      intro b hb hI
      have hb : b = 40 := hb
      subst hb
      refine ro_iload dX1_startOf_5 rfl ?_
      refine ro_bipush (x := nI 40) dX1_startOf_7 (by decide) ?_
      refine ro_icmp_ge 39 dX1_startOf_9 (by decide) (by omega) (by omega) (fun h2 => ?_) (fun h2 => absurd h2 (by omega))
      refine ro_bipush (x := -2) dX1_startOf_39 (by decide) ?_
      refine ro_iret dX1_startOf_41 ?_
      rw [stO, srch_none hI]
      exact ⟨rfl, rfl⟩
    | succ d ih =>
      intro b hb hI
      have := ih (b + 1) (by omega)
      refine ro_iload dX1_startOf_5 rfl ?_
      refine ro_bipush (x := nI 40) dX1_startOf_7 (by decide) ?_
      refine ro_icmp_ge 39 dX1_startOf_9 (by decide) (by omega) (by omega) (fun h2 => absurd h2 (by omega)) (fun h2 => ?_)
      refine ro_aload_n dX1_startOf_12 rfl ?_
      refine ro_iload_n dX1_startOf_13 rfl ?_
      refine ro_iload dX1_startOf_14 rfl ?_
      refine ro_call1 2 (m1_begins B q Wh Fi Ma Ki Ou o b hB.1 ho h2) cv_X1_X1_begins dn_X1_begins rfl ⟨by decide, by decide⟩ rfl (Nat.le_of_ble_eq_true rfl) dX1_startOf_16 (fun r u2 hr => ?_)
      obtain ⟨hr, rfl⟩ := hr
      rcases hr with ⟨h3, rfl⟩ | ⟨h3, rfl⟩
      · refine ro_if_eq 33 dX1_startOf_19 (by decide) (by omega) (fun e => absurd e (by decide)) (fun _ => ?_)
        refine ro_iload_n dX1_startOf_22 rfl ?_
        refine ro_iload_n dX1_startOf_23 rfl ?_
        refine ro_icmp_neR 30 dX1_startOf_24 (by decide) (fun h4 => ?_) (fun h4 => ?_)
        · refine ro_iinc (lv1 := [_, _, _, _, _]) dX1_startOf_30 rfl rfl rfl rfl ?_
          refine ro_iinc (lv1 := [_, _, _, _, _]) dX1_startOf_33 rfl rfl rfl rfl ?_
          refine ro_goto 5 dX1_startOf_36 (by decide) ?_
          rw [cnt_y h3] at this
          exact this (fun j hj z => by
            by_cases e : j = b
            · subst e; exact h4 z.2
            · exact hI j (by omega) z)
        · refine ro_iload dX1_startOf_27 rfl ?_
          refine ro_iret dX1_startOf_29 ?_
          rw [stO, srch_some (P := fun b => bgn B o b ∧ nI (cnt (bgn B o) b) = y) h2 ⟨h3, h4⟩ hI]
          exact ⟨rfl, rfl⟩
      · refine ro_if_eq 33 dX1_startOf_19 (by decide) (by omega) (fun _ => ?_) (fun e => absurd rfl e)
        refine ro_iinc (lv1 := [_, _, _, _, _]) dX1_startOf_33 rfl rfl rfl rfl ?_
        refine ro_goto 5 dX1_startOf_36 (by decide) ?_
        rw [cnt_n h3] at this
        exact this (fun j hj z => by
          by_cases e : j = b
          · subst e; exact h3 z.1
          · exact hI j (by omega) z)
  refine ro_iconst (x := nI 0) dX1_startOf_0 (by decide) ?_
  refine ro_istore_n (lv1 := [_, _, _, _, _]) dX1_startOf_1 rfl rfl rfl ?_
  refine ro_iconst (x := nI 0) dX1_startOf_2 (by decide) ?_
  refine ro_istore (lv1 := [_, _, _, _, _]) dX1_startOf_3 rfl rfl rfl ?_
  exact loop 40 0 rfl (fun j hj => absurd hj (Nat.not_lt_zero j))
theorem stO_cases (B : Fn) (o : Nat) (y : Int32) : stO B o y = none ∨ ∃ b, stO B o y = some b ∧ b < 40 := by
  rcases srch_cases (fun b => bgn B o b ∧ nI (cnt (bgn B o) b) = y) 40 with ⟨h, _⟩ | ⟨i, h, h2, _, _⟩
  · exact Or.inl h
  · exact Or.inr ⟨i, h, h2⟩
set_option maxHeartbeats 4000000 in
set_option maxRecDepth 100000 in
theorem m1_pieceStart (B : Fn) (q : Nat) (Wh Fi Ma Ki Ou : Fn) (hG : Gd (B, q, Wh, Fi, Ma, Ki)) (x y : Int32) : MCi w1 yX1_pieceStart cX1_pieceStart 3 (some .int) 2 46 [.int x, .int y] ((B, q, Wh, Fi, Ma, Ki, Ou)) (fun r u2 => r = fPStart (B, q, Wh, Fi, Ma, Ki) x y ∧ u2 = (B, q, Wh, Fi, Ma, Ki, Ou)) := by
  refine MCi_of (lv := fun ad => [some (.ref (ad 0)), some (.int x), some (.int y)]) (by decide) (Or.inl rfl) rfl (fun _ => Nat.le_of_ble_eq_true rfl) (fun _ => rfl) ?_
  intro g ad cI cZ
  show G g _ cX1_pieceStart RX1 3 _ (w1 ad cI cZ) _ _ ((B, q, Wh, Fi, Ma, Ki, Ou)) 0 _ []
  refine ro_aload_n dX1_pieceStart_0 rfl ?_
  refine ro_iload_n dX1_pieceStart_1 rfl ?_
  refine ro_call1 1 (m1_bad B q Wh Fi Ma Ki Ou x) cv_X1_X1_bad dn_X1_bad rfl ⟨by decide, by decide⟩ rfl (Nat.le_of_ble_eq_true rfl) dX1_pieceStart_2 (fun r u2 hr => ?_)
  obtain ⟨hr, rfl⟩ := hr
  rcases hr with ⟨h1, rfl⟩ | ⟨h1, rfl⟩
  · refine ro_if_eq 12 dX1_pieceStart_5 (by decide) (by omega) (fun e => absurd e (by decide)) (fun _ => ?_)
    refine ro_iconst (x := -1) dX1_pieceStart_8 (by decide) ?_
    refine ro_goto 18 dX1_pieceStart_9 (by decide) ?_
    refine ro_iret dX1_pieceStart_18 ?_
    rw [fPStart, fO_bad h1]
    exact ⟨rfl, rfl⟩
  obtain ⟨o, ho, rfl⟩ : okO x := Classical.not_not.mp h1
  refine ro_if_eq 12 dX1_pieceStart_5 (by decide) (by omega) (fun _ => ?_) (fun e => absurd rfl e)
  refine ro_aload_n dX1_pieceStart_12 rfl ?_
  refine ro_iload_n dX1_pieceStart_13 rfl ?_
  refine ro_iload_n dX1_pieceStart_14 rfl ?_
  refine ro_call1 2 (m1_startOf B q Wh Fi Ma Ki Ou hG o ho y) cv_X1_X1_startOf dn_X1_startOf rfl ⟨by decide, by decide⟩ rfl (Nat.le_of_ble_eq_true rfl) dX1_pieceStart_15 (fun r u2 hr => ?_)
  obtain ⟨rfl, rfl⟩ := hr
  refine ro_iret dX1_pieceStart_18 ?_
  rw [fPStart, fO_c ho]
  exact ⟨rfl, rfl⟩
set_option maxHeartbeats 4000000 in
set_option maxRecDepth 100000 in
theorem m1_pieceEnd (B : Fn) (q : Nat) (Wh Fi Ma Ki Ou : Fn) (hG : Gd (B, q, Wh, Fi, Ma, Ki)) (x y : Int32) : MCi w1 yX1_pieceEnd cX1_pieceEnd 4 (some .int) 2 46 [.int x, .int y] ((B, q, Wh, Fi, Ma, Ki, Ou)) (fun r u2 => r = fPEnd (B, q, Wh, Fi, Ma, Ki) x y ∧ u2 = (B, q, Wh, Fi, Ma, Ki, Ou)) := by
  refine MCi_of (lv := fun ad => [some (.ref (ad 0)), some (.int x), some (.int y), none]) (by decide) (Or.inl rfl) rfl (fun _ => Nat.le_of_ble_eq_true rfl) (fun _ => rfl) ?_
  intro g ad cI cZ
  show G g _ cX1_pieceEnd RX1 4 _ (w1 ad cI cZ) _ _ ((B, q, Wh, Fi, Ma, Ki, Ou)) 0 _ []
  obtain ⟨hq, hB, hD⟩ := hG
  refine ro_aload_n dX1_pieceEnd_0 rfl ?_
  refine ro_iload_n dX1_pieceEnd_1 rfl ?_
  refine ro_call1 1 (m1_bad B q Wh Fi Ma Ki Ou x) cv_X1_X1_bad dn_X1_bad rfl ⟨by decide, by decide⟩ rfl (Nat.le_of_ble_eq_true rfl) dX1_pieceEnd_2 (fun r u2 hr => ?_)
  obtain ⟨hr, rfl⟩ := hr
  rcases hr with ⟨h1, rfl⟩ | ⟨h1, rfl⟩
  · refine ro_if_eq 10 dX1_pieceEnd_5 (by decide) (by omega) (fun e => absurd e (by decide)) (fun _ => ?_)
    refine ro_iconst (x := -1) dX1_pieceEnd_8 (by decide) ?_
    refine ro_iret dX1_pieceEnd_9 ?_
    rw [fPEnd, fO_bad h1]
    exact ⟨rfl, rfl⟩
  obtain ⟨o, ho, rfl⟩ : okO x := Classical.not_not.mp h1
  refine ro_if_eq 10 dX1_pieceEnd_5 (by decide) (by omega) (fun _ => ?_) (fun e => absurd rfl e)
  refine ro_aload_n dX1_pieceEnd_10 rfl ?_
  refine ro_iload_n dX1_pieceEnd_11 rfl ?_
  refine ro_iload_n dX1_pieceEnd_12 rfl ?_
  refine ro_call1 2 (m1_startOf B q Wh Fi Ma Ki Ou ⟨hq, hB, hD⟩ o ho y) cv_X1_X1_startOf dn_X1_startOf rfl ⟨by decide, by decide⟩ rfl (Nat.le_of_ble_eq_true rfl) dX1_pieceEnd_13 (fun r u2 hr => ?_)
  obtain ⟨hr, rfl⟩ := hr
  rcases stO_cases B o y with e | ⟨b, e, hb⟩
  · rw [e] at hr
    have hr : r = -2 := hr
    subst hr
    refine ro_istore_n (lv1 := [_, _, _, _]) dX1_pieceEnd_16 rfl rfl rfl ?_
    refine ro_iload_n dX1_pieceEnd_17 rfl ?_
    refine ro_if_geR 24 dX1_pieceEnd_18 (by decide) (fun e => absurd e (by decide)) (fun _ => ?_)
    refine ro_bipush (x := -2) dX1_pieceEnd_21 (by decide) ?_
    refine ro_iret dX1_pieceEnd_23 ?_
    rw [fPEnd, fO_c ho, show stO (vB (B, q, Wh, Fi, Ma, Ki)) o y = none from e]
    exact ⟨rfl, rfl⟩
  rw [e] at hr
  have hr : r = nI b := hr
  subst hr
  refine ro_istore_n (lv1 := [_, _, _, _]) dX1_pieceEnd_16 rfl rfl rfl ?_
  refine ro_iload_n dX1_pieceEnd_17 rfl ?_
  refine ro_if_ge 24 dX1_pieceEnd_18 (by decide) (by omega) ?_
  have loop : ∀ d j : Nat, j + d = 39 → b ≤ j → (∀ i, b ≤ i → i < j → B (40 * o + i + 1) = B (40 * o + i)) → G g ({ frames := 2, cells := 0, slots := 0, locals := 46 }) cX1_pieceEnd RX1 4 [(cI, .int), (cZ, .boolean)] (w1 ad cI cZ) (fun r u2 => r = fPEnd (B, q, Wh, Fi, Ma, Ki) (nI o) y ∧ u2 = (B, q, Wh, Fi, Ma, Ki, Ou)) (fun _ => False) (B, q, Wh, Fi, Ma, Ki, Ou) 24 [some (.ref (ad 0)), some (.int (nI o)), some (.int y), some (.int (nI j))] [] := by
    intro d
    induction d with
    | zero =>
      intro j hj hbj hI
      have hj : j = 39 := hj
      subst hj
      refine ro_iload_n dX1_pieceEnd_24 rfl ?_
      refine ro_bipush (x := nI 39) dX1_pieceEnd_25 (by decide) ?_
      refine ro_icmp_ge 63 dX1_pieceEnd_27 (by decide) (by omega) (by omega) (fun h2 => ?_) (fun h2 => absurd h2 (by omega))
      refine ro_iload_n dX1_pieceEnd_63 rfl ?_
      refine ro_iret dX1_pieceEnd_64 ?_
      rw [fPEnd, fO_c ho, show stO (vB (B, q, Wh, Fi, Ma, Ki)) o y = some b from e]
      show nI 39 = nI (endB B o b) ∧ _
      rw [endB_eq (by omega) hbj (Or.inl (Nat.le_refl _)) hI]
      exact ⟨rfl, rfl⟩
    | succ d ih =>
      intro j hj hbj hI
      have b1 := hB.1 (40 * o + j + 1)
      have b2 := hB.1 (40 * o + j)
      refine ro_iload_n dX1_pieceEnd_24 rfl ?_
      refine ro_bipush (x := nI 39) dX1_pieceEnd_25 (by decide) ?_
      refine ro_icmp_ge 63 dX1_pieceEnd_27 (by decide) (by omega) (by omega) (fun h2 => absurd h2 (by omega)) (fun h2 => ?_)
      refine ro_aload_n dX1_pieceEnd_30 rfl ?_
      refine f1_table dX1_pieceEnd_31 ?_
      refine ro_bipush (x := nI 40) dX1_pieceEnd_34 (by decide) ?_
      refine ro_iload_n dX1_pieceEnd_36 rfl ?_
      refine ro_imul dX1_pieceEnd_37 ?_
      refine ro_iload_n dX1_pieceEnd_38 rfl ?_
      refine ro_iadd dX1_pieceEnd_39 ?_
      refine ro_iconst (x := nI 1) dX1_pieceEnd_40 (by decide) ?_
      refine ro_iadd dX1_pieceEnd_41 ?_
      refine l1_table dX1_pieceEnd_42 (by omega) ?_
      refine ro_aload_n dX1_pieceEnd_43 rfl ?_
      refine f1_table dX1_pieceEnd_44 ?_
      refine ro_bipush (x := nI 40) dX1_pieceEnd_47 (by decide) ?_
      refine ro_iload_n dX1_pieceEnd_49 rfl ?_
      refine ro_imul dX1_pieceEnd_50 ?_
      refine ro_iload_n dX1_pieceEnd_51 rfl ?_
      refine ro_iadd dX1_pieceEnd_52 ?_
      refine l1_table dX1_pieceEnd_53 (by omega) ?_
      refine ro_icmp_ne 63 dX1_pieceEnd_54 (by decide) (by omega) (by omega) (fun h3 => ?_) (fun h3 => ?_)
      · refine ro_iload_n dX1_pieceEnd_63 rfl ?_
        refine ro_iret dX1_pieceEnd_64 ?_
        rw [fPEnd, fO_c ho, show stO (vB (B, q, Wh, Fi, Ma, Ki)) o y = some b from e]
        show nI j = nI (endB B o b) ∧ _
        rw [endB_eq (by omega) hbj (Or.inr h3) hI]
        exact ⟨rfl, rfl⟩
      · refine ro_iinc (lv1 := [_, _, _, _]) dX1_pieceEnd_57 rfl rfl rfl rfl ?_
        refine ro_goto 24 dX1_pieceEnd_60 (by decide) ?_
        exact ih (j + 1) (by omega) (by omega) (fun i hi1 hi2 => by
          by_cases e : i = j
          · subst e; exact h3
          · exact hI i hi1 (by omega))
  exact loop (39 - b) b (by omega) (Nat.le_refl b) (fun i h1 h2 => absurd h2 (by omega))
set_option maxHeartbeats 4000000 in
set_option maxRecDepth 100000 in
theorem m1_pieceType (B : Fn) (q : Nat) (Wh Fi Ma Ki Ou : Fn) (hG : Gd (B, q, Wh, Fi, Ma, Ki)) (x y : Int32) : MCi w1 yX1_pieceType cX1_pieceType 4 (some .int) 2 46 [.int x, .int y] ((B, q, Wh, Fi, Ma, Ki, Ou)) (fun r u2 => r = fPType (B, q, Wh, Fi, Ma, Ki) x y ∧ u2 = (B, q, Wh, Fi, Ma, Ki, Ou)) := by
  refine MCi_of (lv := fun ad => [some (.ref (ad 0)), some (.int x), some (.int y), none]) (by decide) (Or.inl rfl) rfl (fun _ => Nat.le_of_ble_eq_true rfl) (fun _ => rfl) ?_
  intro g ad cI cZ
  show G g _ cX1_pieceType RX1 4 _ (w1 ad cI cZ) _ _ ((B, q, Wh, Fi, Ma, Ki, Ou)) 0 _ []
  obtain ⟨hq, hB, hD⟩ := hG
  refine ro_aload_n dX1_pieceType_0 rfl ?_
  refine ro_iload_n dX1_pieceType_1 rfl ?_
  refine ro_call1 1 (m1_bad B q Wh Fi Ma Ki Ou x) cv_X1_X1_bad dn_X1_bad rfl ⟨by decide, by decide⟩ rfl (Nat.le_of_ble_eq_true rfl) dX1_pieceType_2 (fun r u2 hr => ?_)
  obtain ⟨hr, rfl⟩ := hr
  rcases hr with ⟨h1, rfl⟩ | ⟨h1, rfl⟩
  · refine ro_if_eq 10 dX1_pieceType_5 (by decide) (by omega) (fun e => absurd e (by decide)) (fun _ => ?_)
    refine ro_iconst (x := -1) dX1_pieceType_8 (by decide) ?_
    refine ro_iret dX1_pieceType_9 ?_
    rw [fPType, fO_bad h1]
    exact ⟨rfl, rfl⟩
  obtain ⟨o, ho, rfl⟩ : okO x := Classical.not_not.mp h1
  refine ro_if_eq 10 dX1_pieceType_5 (by decide) (by omega) (fun _ => ?_) (fun e => absurd rfl e)
  refine ro_aload_n dX1_pieceType_10 rfl ?_
  refine ro_iload_n dX1_pieceType_11 rfl ?_
  refine ro_iload_n dX1_pieceType_12 rfl ?_
  refine ro_call1 2 (m1_startOf B q Wh Fi Ma Ki Ou ⟨hq, hB, hD⟩ o ho y) cv_X1_X1_startOf dn_X1_startOf rfl ⟨by decide, by decide⟩ rfl (Nat.le_of_ble_eq_true rfl) dX1_pieceType_13 (fun r u2 hr => ?_)
  obtain ⟨hr, rfl⟩ := hr
  rcases stO_cases B o y with e | ⟨b, e, hb⟩
  · rw [e] at hr
    have hr : r = -2 := hr
    subst hr
    refine ro_istore_n (lv1 := [_, _, _, _]) dX1_pieceType_16 rfl rfl rfl ?_
    refine ro_iload_n dX1_pieceType_17 rfl ?_
    refine ro_if_geR 26 dX1_pieceType_18 (by decide) (fun e => absurd e (by decide)) (fun _ => ?_)
    refine ro_bipush (x := -2) dX1_pieceType_21 (by decide) ?_
    refine ro_goto 37 dX1_pieceType_23 (by decide) ?_
    refine ro_iret dX1_pieceType_37 ?_
    rw [fPType, fO_c ho, show stO (vB (B, q, Wh, Fi, Ma, Ki)) o y = none from e]
    exact ⟨rfl, rfl⟩
  rw [e] at hr
  have hr : r = nI b := hr
  subst hr
  refine ro_istore_n (lv1 := [_, _, _, _]) dX1_pieceType_16 rfl rfl rfl ?_
  refine ro_iload_n dX1_pieceType_17 rfl ?_
  refine ro_if_ge 26 dX1_pieceType_18 (by decide) (by omega) ?_
  refine ro_aload_n dX1_pieceType_26 rfl ?_
  refine f1_table dX1_pieceType_27 ?_
  refine ro_bipush (x := nI 40) dX1_pieceType_30 (by decide) ?_
  refine ro_iload_n dX1_pieceType_32 rfl ?_
  refine ro_imul dX1_pieceType_33 ?_
  refine ro_iload_n dX1_pieceType_34 rfl ?_
  refine ro_iadd dX1_pieceType_35 ?_
  refine l1_table dX1_pieceType_36 (by omega) ?_
  refine ro_iret dX1_pieceType_37 ?_
  rw [fPType, fO_c ho, show stO (vB (B, q, Wh, Fi, Ma, Ki)) o y = some b from e]
  exact ⟨rfl, rfl⟩
set_option maxHeartbeats 4000000 in
set_option maxRecDepth 100000 in
theorem m1_count (B : Fn) (q : Nat) (Wh Fi Ma Ki Ou : Fn) (hG : Gd (B, q, Wh, Fi, Ma, Ki)) (x w : Int32) : MCi w1 yX1_count cX1_count 5 (some .int) 1 21 [.int x, .int w] ((B, q, Wh, Fi, Ma, Ki, Ou)) (fun r u2 => r = fCount (B, q, Wh, Fi, Ma, Ki) x w ∧ u2 = (B, q, Wh, Fi, Ma, Ki, Ou)) := by
  refine MCi_of (lv := fun ad => [some (.ref (ad 0)), some (.int x), some (.int w), none, none]) (by decide) (Or.inl rfl) rfl (fun _ => Nat.le_of_ble_eq_true rfl) (fun _ => rfl) ?_
  intro g ad cI cZ
  show G g _ cX1_count RX1 5 _ (w1 ad cI cZ) _ _ ((B, q, Wh, Fi, Ma, Ki, Ou)) 0 _ []
  obtain ⟨hq, hB, hD⟩ := hG
  refine ro_aload_n dX1_count_0 rfl ?_
  refine ro_iload_n dX1_count_1 rfl ?_
  refine ro_call1 1 (m1_bad B q Wh Fi Ma Ki Ou x) cv_X1_X1_bad dn_X1_bad rfl ⟨by decide, by decide⟩ rfl (Nat.le_of_ble_eq_true rfl) dX1_count_2 (fun r u2 hr => ?_)
  obtain ⟨hr, rfl⟩ := hr
  rcases hr with ⟨h1, rfl⟩ | ⟨h1, rfl⟩
  · refine ro_if_eq 10 dX1_count_5 (by decide) (by omega) (fun e => absurd e (by decide)) (fun _ => ?_)
    refine ro_iconst (x := -1) dX1_count_8 (by decide) ?_
    refine ro_iret dX1_count_9 ?_
    rw [fCount, fO_bad h1]
    exact ⟨rfl, rfl⟩
  obtain ⟨o, ho, rfl⟩ : okO x := Classical.not_not.mp h1
  refine ro_if_eq 10 dX1_count_5 (by decide) (by omega) (fun _ => ?_) (fun e => absurd rfl e)
  refine ro_iload_n dX1_count_10 rfl ?_
  refine ro_if_ltR 19 dX1_count_11 (by decide) (fun h3 => ?_) (fun h3 => ?_)
  · refine ro_bipush (x := -2) dX1_count_19 (by decide) ?_
    refine ro_iret dX1_count_21 ?_
    rw [fCount, fO_c ho, fT_bad (okT_neg h3)]
    exact ⟨rfl, rfl⟩
  refine ro_iload_n dX1_count_14 rfl ?_
  refine ro_iconst (x := nI 2) dX1_count_15 (by decide) ?_
  refine ro_icmp_leR 22 dX1_count_16 (by decide) (fun h4 => ?_) (fun h4 => ?_)
  rotate_left
  · refine ro_bipush (x := -2) dX1_count_19 (by decide) ?_
    refine ro_iret dX1_count_21 ?_
    rw [fCount, fO_c ho, fT_bad (okT_big h4)]
    exact ⟨rfl, rfl⟩
  obtain ⟨t, ht0, ht, rfl⟩ := okT_of h3 h4
  have loop : ∀ d b : Nat, b + d = 40 → G g ({ frames := 1, cells := 0, slots := 0, locals := 21 }) cX1_count RX1 5 [(cI, .int), (cZ, .boolean)] (w1 ad cI cZ) (fun r u2 => r = fCount (B, q, Wh, Fi, Ma, Ki) (nI o) (nI t) ∧ u2 = (B, q, Wh, Fi, Ma, Ki, Ou)) (fun _ => False) (B, q, Wh, Fi, Ma, Ki, Ou) 27 [some (.ref (ad 0)), some (.int (nI o)), some (.int (nI t)), some (.int (nI (cnt (fun b => B (40 * o + b) = t) b))), some (.int (nI b))] [] := by
    intro d
    induction d with
    | zero =>
      intro b hb
      have hb : b = 40 := hb
      subst hb
      refine ro_iload dX1_count_27 rfl ?_
      refine ro_bipush (x := nI 40) dX1_count_29 (by decide) ?_
      refine ro_icmp_ge 59 dX1_count_31 (by decide) (by omega) (by omega) (fun h2 => ?_) (fun h2 => absurd h2 (by omega))
      refine ro_iload_n dX1_count_59 rfl ?_
      refine ro_iret dX1_count_60 ?_
      rw [fCount, fO_c ho, fT_c ht0 ht]
      exact ⟨rfl, rfl⟩
    | succ d ih =>
      intro b hb
      have := ih (b + 1) (by omega)
      have b1 := hB.1 (40 * o + b)
      refine ro_iload dX1_count_27 rfl ?_
      refine ro_bipush (x := nI 40) dX1_count_29 (by decide) ?_
      refine ro_icmp_ge 59 dX1_count_31 (by decide) (by omega) (by omega) (fun h2 => absurd h2 (by omega)) (fun h2 => ?_)
      refine ro_aload_n dX1_count_34 rfl ?_
      refine f1_table dX1_count_35 ?_
      refine ro_bipush (x := nI 40) dX1_count_38 (by decide) ?_
      refine ro_iload_n dX1_count_40 rfl ?_
      refine ro_imul dX1_count_41 ?_
      refine ro_iload dX1_count_42 rfl ?_
      refine ro_iadd dX1_count_44 ?_
      refine l1_table dX1_count_45 (by omega) ?_
      refine ro_iload_n dX1_count_46 rfl ?_
      refine ro_icmp_ne 53 dX1_count_47 (by decide) (by omega) (by omega) (fun h3 => ?_) (fun h3 => ?_)
      · refine ro_iinc (lv1 := [_, _, _, _, _]) dX1_count_53 rfl rfl rfl rfl ?_
        refine ro_goto 27 dX1_count_56 (by decide) ?_
        rw [cnt_n (P := fun b => B (40 * o + b) = t) h3] at this
        exact this
      · refine ro_iinc (lv1 := [_, _, _, _, _]) dX1_count_50 rfl rfl rfl rfl ?_
        refine ro_iinc (lv1 := [_, _, _, _, _]) dX1_count_53 rfl rfl rfl rfl ?_
        refine ro_goto 27 dX1_count_56 (by decide) ?_
        rw [cnt_y (P := fun b => B (40 * o + b) = t) h3] at this
        exact this
  refine ro_iconst (x := nI 0) dX1_count_22 (by decide) ?_
  refine ro_istore_n (lv1 := [_, _, _, _, _]) dX1_count_23 rfl rfl rfl ?_
  refine ro_iconst (x := nI 0) dX1_count_24 (by decide) ?_
  refine ro_istore (lv1 := [_, _, _, _, _]) dX1_count_25 rfl rfl rfl ?_
  exact loop 40 0 rfl
set_option maxHeartbeats 4000000 in
set_option maxRecDepth 100000 in
theorem m1_free (B : Fn) (q : Nat) (Wh Fi Ma Ki Ou : Fn) (hG : Gd (B, q, Wh, Fi, Ma, Ki)) : MCi w1 yX1_free cX1_free 3 (some .int) 2 44 [] ((B, q, Wh, Fi, Ma, Ki, Ou)) (fun r u2 => r = fFree (B, q, Wh, Fi, Ma, Ki) ∧ u2 = (B, q, Wh, Fi, Ma, Ki, Ou)) := by
  refine MCi_of (lv := fun ad => [some (.ref (ad 0)), none, none]) (by decide) (Or.inl rfl) rfl (fun _ => Nat.le_of_ble_eq_true rfl) (fun _ => rfl) ?_
  intro g ad cI cZ
  show G g _ cX1_free RX1 3 _ (w1 ad cI cZ) _ _ ((B, q, Wh, Fi, Ma, Ki, Ou)) 0 _ []
  have loop : ∀ d b : Nat, b + d = 40 → G g ({ frames := 2, cells := 0, slots := 0, locals := 44 }) cX1_free RX1 3 [(cI, .int), (cZ, .boolean)] (w1 ad cI cZ) (fun r u2 => r = fFree (B, q, Wh, Fi, Ma, Ki) ∧ u2 = (B, q, Wh, Fi, Ma, Ki, Ou)) (fun _ => False) (B, q, Wh, Fi, Ma, Ki, Ou) 4 [some (.ref (ad 0)), some (.int (nI (cnt (fun b => hld B b = 0) b))), some (.int (nI b))] [] := by
    intro d
    induction d with
    | zero =>
      intro b hb
      have hb : b = 40 := hb
      subst hb
      refine ro_iload_n dX1_free_4 rfl ?_
      refine ro_bipush (x := nI 40) dX1_free_5 (by decide) ?_
      refine ro_icmp_ge 27 dX1_free_7 (by decide) (by omega) (by omega) (fun h2 => ?_) (fun h2 => absurd h2 (by omega))
      refine ro_iload_n dX1_free_27 rfl ?_
      refine ro_iret dX1_free_28 ?_
      exact ⟨rfl, rfl⟩
    | succ d ih =>
      intro b hb
      have := ih (b + 1) (by omega)
      refine ro_iload_n dX1_free_4 rfl ?_
      refine ro_bipush (x := nI 40) dX1_free_5 (by decide) ?_
      refine ro_icmp_ge 27 dX1_free_7 (by decide) (by omega) (by omega) (fun h2 => absurd h2 (by omega)) (fun h2 => ?_)
      refine ro_aload_n dX1_free_10 rfl ?_
      refine ro_iload_n dX1_free_11 rfl ?_
      refine ro_call1 1 (m1_holders B q Wh Fi Ma Ki Ou hG (nI b)) cv_X1_X1_holders dn_X1_holders rfl ⟨by decide, by decide⟩ rfl (Nat.le_of_ble_eq_true rfl) dX1_free_12 (fun r u2 hr => ?_)
      obtain ⟨hr, rfl⟩ := hr
      rw [fHolders, fB_c h2] at hr
      have hr : r = nI (hld B b) := hr
      subst hr
      have hlt : hld B b < 32 := mk5_lt _
      refine ro_if_ne 21 dX1_free_15 (by decide) (by omega) (fun h3 => ?_) (fun h3 => ?_)
      · refine ro_iinc (lv1 := [_, _, _]) dX1_free_21 rfl rfl rfl rfl ?_
        refine ro_goto 4 dX1_free_24 (by decide) ?_
        rw [cnt_n (P := fun b => hld B b = 0) h3] at this
        exact this
      · refine ro_iinc (lv1 := [_, _, _]) dX1_free_18 rfl rfl rfl rfl ?_
        refine ro_iinc (lv1 := [_, _, _]) dX1_free_21 rfl rfl rfl rfl ?_
        refine ro_goto 4 dX1_free_24 (by decide) ?_
        rw [cnt_y (P := fun b => hld B b = 0) h3] at this
        exact this
  refine ro_iconst (x := nI 0) dX1_free_0 (by decide) ?_
  refine ro_istore_n (lv1 := [_, _, _]) dX1_free_1 rfl rfl rfl ?_
  refine ro_iconst (x := nI 0) dX1_free_2 (by decide) ?_
  refine ro_istore_n (lv1 := [_, _, _]) dX1_free_3 rfl rfl rfl ?_
  exact loop 40 0 rfl
end
section
/-! STARTING TEXT (kit/laws/BITS.to-paste): longs that aren't negative -/
set_option maxRecDepth 100000
theorem wb_tb (n : Nat) : (lN n).toBitVec = BitVec.ofNat 64 n := rfl
theorem wb_inj {a b : Int64} (h : a.toBitVec = b.toBitVec) : a = b := Int64.toBitVec_inj.mp h
theorem wb_tn {n : Nat} (h : n < 2 ^ 64) : (lN n).toBitVec.toNat = n := by rw [wb_tb, BitVec.toNat_ofNat, Nat.mod_eq_of_lt h]
theorem wb_c : ∀ k, k < 64 → ((nI k).toInt64 &&& 63) = lN k := by decide +kernel
theorem wb_cu : ∀ k, k < 64 → ((nI k).toInt64.toUInt64 &&& Int64.toUInt64 63) = UInt64.ofNat k := by decide +kernel
theorem wb_sm : ∀ k, k < 64 → (BitVec.ofNat 64 k).smod 64 = BitVec.ofNat 64 k := by decide +kernel
theorem wb_lt2 {a b : Nat} (h : a < b) : 2 ^ a < 2 ^ b := Nat.pow_lt_pow_right (by decide) h
theorem wb_shr {n k : Nat} (hn : n < 2 ^ 64) (hk : k < 64) : ((lN n).toUInt64 >>> ((nI k).toInt64.toUInt64 &&& Int64.toUInt64 63)).toInt64 = lN (n / 2 ^ k) := by
  rw [wb_cu k hk]
  apply wb_inj
  apply BitVec.eq_of_toNat_eq
  show ((lN n).toUInt64 >>> UInt64.ofNat k).toNat = (BitVec.ofNat 64 _).toNat
  have h1 : (UInt64.ofNat k).toNat = k := by
    show (BitVec.ofNat 64 k).toNat = k
    rw [BitVec.toNat_ofNat, Nat.mod_eq_of_lt (by omega)]
  have h2 : (lN n).toUInt64.toNat = n := wb_tn hn
  rw [UInt64.toNat_shiftRight, h1, h2, Nat.mod_eq_of_lt hk, Nat.shiftRight_eq_div_pow, BitVec.toNat_ofNat, Nat.mod_eq_of_lt (Nat.lt_of_le_of_lt (Nat.div_le_self _ _) hn)]
theorem wb_shl (n : Nat) {k : Nat} (hk : k < 64) : lN n <<< ((nI k).toInt64 &&& 63) = lN (n * 2 ^ k) := by
  rw [wb_c k hk]
  apply wb_inj
  rw [Int64.toBitVec_shiftLeft, wb_tb, wb_tb, wb_tb, wb_sm k hk]
  apply BitVec.eq_of_toNat_eq
  rw [BitVec.shiftLeft_eq', BitVec.toNat_shiftLeft, BitVec.toNat_ofNat, BitVec.toNat_ofNat, BitVec.toNat_ofNat, Nat.mod_eq_of_lt (show k < 2 ^ 64 by omega), Nat.shiftLeft_eq, Nat.mul_mod, Nat.mod_mod, ← Nat.mul_mod]
theorem wb_and {a b : Nat} (ha : a < 2 ^ 64) (hb : b < 2 ^ 64) : lN a &&& lN b = lN (a &&& b) := by
  apply wb_inj
  rw [Int64.toBitVec_and, wb_tb, wb_tb, wb_tb]
  apply BitVec.eq_of_toNat_eq
  rw [BitVec.toNat_and, BitVec.toNat_ofNat, BitVec.toNat_ofNat, BitVec.toNat_ofNat, Nat.mod_eq_of_lt ha, Nat.mod_eq_of_lt hb, Nat.mod_eq_of_lt (Nat.and_lt_two_pow _ hb)]
theorem wb_or {a b : Nat} (ha : a < 2 ^ 64) (hb : b < 2 ^ 64) : lN a ||| lN b = lN (a ||| b) := by
  apply wb_inj
  rw [Int64.toBitVec_or, wb_tb, wb_tb, wb_tb]
  apply BitVec.eq_of_toNat_eq
  rw [BitVec.toNat_or, BitVec.toNat_ofNat, BitVec.toNat_ofNat, BitVec.toNat_ofNat, Nat.mod_eq_of_lt ha, Nat.mod_eq_of_lt hb, Nat.mod_eq_of_lt (Nat.or_lt_two_pow ha hb)]
theorem wb_mask {n k : Nat} (hn : n < 2 ^ 64) (hk : k < 64) : lN n &&& lN (2 ^ k - 1) = lN (n % 2 ^ k) := by
  rw [wb_and hn (by have := wb_lt2 hk; omega), Nat.and_two_pow_sub_one_eq_mod]
theorem wb_a1 {n : Nat} (hn : n < 2 ^ 64) : lN n &&& 1 = lN (n % 2) := wb_mask (k := 1) hn (by decide)
theorem wb_bit {n k : Nat} (hn : n < 2 ^ 64) (hk : k < 64) : ((lN n).toUInt64 >>> ((nI k).toInt64.toUInt64 &&& Int64.toUInt64 63)).toInt64 &&& 1 = lN (n / 2 ^ k % 2) := by
  rw [wb_shr hn hk, wb_a1 (Nat.lt_of_le_of_lt (Nat.div_le_self _ _) hn)]
end
section
/-! X0: isOwner, isByte, isRange, refused, leadsTo, settle -/
set_option maxRecDepth 100000
set_option maxHeartbeats 4000000 in
set_option maxRecDepth 100000 in
theorem mt_isOwner (x : Int32) : MSi yX0_isOwner cX0_isOwner 1 0 0 [.int x] (fun r => bI (okO x) r) := by
  refine MSi_of (lv := [some (.int x)]) (by decide) (fun v h => bI01 h) rfl (Nat.le_of_ble_eq_true rfl) rfl ?_
  intro g
  refine ro_iload_n dX0_isOwner_0 rfl ?_
  refine ro_if_ltR 13 dX0_isOwner_1 (by decide) (fun h1 => ?_) (fun h1 => ?_)
  · refine ro_iconst (x := nI 0) dX0_isOwner_13 (by decide) ?_
    refine ro_iret dX0_isOwner_14 ?_
    exact bI_f (fun ⟨o, ho, e⟩ => neg_of (by omega) h1 e)
  refine ro_iload_n dX0_isOwner_4 rfl ?_
  refine ro_iconst (x := nI 5) dX0_isOwner_5 (by decide) ?_
  refine ro_icmp_geR 13 dX0_isOwner_6 (by decide) (fun h2 => ?_) (fun h2 => ?_)
  · refine ro_iconst (x := nI 0) dX0_isOwner_13 (by decide) ?_
    refine ro_iret dX0_isOwner_14 ?_
    exact bI_f (fun ⟨o, ho, e⟩ => by rw [e] at h2; exact nI_ge ho (by decide) h2)
  refine ro_iconst (x := nI 1) dX0_isOwner_9 (by decide) ?_
  refine ro_goto 14 dX0_isOwner_10 (by decide) ?_
  refine ro_iret dX0_isOwner_14 ?_
  exact bI_t (own_of (by decide) h1 h2)
set_option maxHeartbeats 4000000 in
set_option maxRecDepth 100000 in
theorem mt_isByte (x : Int32) : MSi yX0_isByte cX0_isByte 1 0 0 [.int x] (fun r => bI (okB x) r) := by
  refine MSi_of (lv := [some (.int x)]) (by decide) (fun v h => bI01 h) rfl (Nat.le_of_ble_eq_true rfl) rfl ?_
  intro g
  refine ro_iload_n dX0_isByte_0 rfl ?_
  refine ro_if_ltR 14 dX0_isByte_1 (by decide) (fun h1 => ?_) (fun h1 => ?_)
  · refine ro_iconst (x := nI 0) dX0_isByte_14 (by decide) ?_
    refine ro_iret dX0_isByte_15 ?_
    exact bI_f (fun ⟨o, ho, e⟩ => neg_of (by omega) h1 e)
  refine ro_iload_n dX0_isByte_4 rfl ?_
  refine ro_bipush (x := nI 40) dX0_isByte_5 (by decide) ?_
  refine ro_icmp_geR 14 dX0_isByte_7 (by decide) (fun h2 => ?_) (fun h2 => ?_)
  · refine ro_iconst (x := nI 0) dX0_isByte_14 (by decide) ?_
    refine ro_iret dX0_isByte_15 ?_
    exact bI_f (fun ⟨o, ho, e⟩ => by rw [e] at h2; exact nI_ge ho (by decide) h2)
  refine ro_iconst (x := nI 1) dX0_isByte_10 (by decide) ?_
  refine ro_goto 15 dX0_isByte_11 (by decide) ?_
  refine ro_iret dX0_isByte_15 ?_
  exact bI_t (own_of (by decide) h1 h2)
set_option maxHeartbeats 4000000 in
set_option maxRecDepth 100000 in
theorem mt_isRange (x y : Int32) : MSi yX0_isRange cX0_isRange 2 0 0 [.int x, .int y] (fun r => bI (okR x y) r) := by
  refine MSi_of (lv := [some (.int x), some (.int y)]) (by decide) (fun v h => bI01 h) rfl (Nat.le_of_ble_eq_true rfl) rfl ?_
  intro g
  refine ro_iload_n dX0_isRange_0 rfl ?_
  refine ro_iconst (x := nI 1) dX0_isRange_1 (by decide) ?_
  refine ro_icmp_ltR 27 dX0_isRange_2 (by decide) (fun h1 => ?_) (fun h1 => ?_)
  · refine ro_iconst (x := nI 0) dX0_isRange_27 (by decide) ?_
    refine ro_iret dX0_isRange_28 ?_
    exact bI_f (fun ⟨a, m, g1, g2, g3, g4⟩ => nI_nlt g1 (by omega) (g4 ▸ h1))
  refine ro_iload_n dX0_isRange_5 rfl ?_
  refine ro_bipush (x := nI 40) dX0_isRange_6 (by decide) ?_
  refine ro_icmp_gtR 27 dX0_isRange_8 (by decide) (fun h2 => ?_) (fun h2 => ?_)
  · refine ro_iconst (x := nI 0) dX0_isRange_27 (by decide) ?_
    refine ro_iret dX0_isRange_28 ?_
    exact bI_f (fun ⟨a, m, g1, g2, g3, g4⟩ => nI_nlt (show m ≤ 40 by omega) (by omega) (g4 ▸ h2))
  obtain ⟨m, hm1, hm2, rfl⟩ := rng_of (lo := 1) (hi := 40) (by decide) (by decide) h1 h2
  refine ro_iload_n dX0_isRange_11 rfl ?_
  refine ro_if_ltR 27 dX0_isRange_12 (by decide) (fun h3 => ?_) (fun h3 => ?_)
  · refine ro_iconst (x := nI 0) dX0_isRange_27 (by decide) ?_
    refine ro_iret dX0_isRange_28 ?_
    exact bI_f (fun ⟨a, m, g1, g2, g3, g4⟩ => neg_of (by omega) h3 g3)
  refine ro_iload_n dX0_isRange_15 rfl ?_
  refine ro_bipush (x := nI 40) dX0_isRange_16 (by decide) ?_
  refine ro_iload_n dX0_isRange_18 rfl ?_
  refine ro_isub dX0_isRange_19 (by omega) ?_
  refine ro_icmp_gtR 27 dX0_isRange_20 (by decide) (fun h4 => ?_) (fun h4 => ?_)
  · refine ro_iconst (x := nI 0) dX0_isRange_27 (by decide) ?_
    refine ro_iret dX0_isRange_28 ?_
    refine bI_f (fun ⟨a, m2, g1, g2, g3, g4⟩ => ?_)
    rw [g3] at h4
    exact nI_nlt (show a ≤ 40 - m by have := (nI_eq (by omega) (by omega)).mp g4; omega) (by omega) h4
  refine ro_iconst (x := nI 1) dX0_isRange_23 (by decide) ?_
  refine ro_goto 28 dX0_isRange_24 (by decide) ?_
  refine ro_iret dX0_isRange_28 ?_
  obtain ⟨a, _, ha, rfl⟩ := rng_of (lo := 0) (hi := 40 - m) (by omega) (by decide) h3 h4
  exact bI_t ⟨a, m, hm1, by omega, rfl, rfl⟩
set_option maxHeartbeats 4000000 in
set_option maxRecDepth 100000 in
theorem mt_refused (O F L T V P X Y Z : Fn) (n c : Nat) (B : Fn) (q : Nat) (Wh Fi Ma Ki : Fn) (K : Nat) (hR : Rel K (O, F, L, T, V, P, X, Y, Z, n, c) (B, q, Wh, Fi, Ma, Ki)) (x y z w : Int32) (k : Nat) (hk : k ≤ 1) : MCi w0 yX0_refused cX0_refused 6 (some .int) 1 21 [.int x, .int y, .int z, .int w, .int (nI k)] ((O, F, L, T, V, P, X, Y, Z, n, c)) (fun r u2 => r = rfs k (B, q, Wh, Fi, Ma, Ki) x y z w ∧ u2 = (O, F, L, T, V, P, X, Y, Z, n, c)) := by
  refine MCi_of (lv := fun ad => [some (.ref (ad 0)), some (.int x), some (.int y), some (.int z), some (.int w), some (.int (nI k))]) (by decide) (Or.inl rfl) rfl (fun _ => Nat.le_of_ble_eq_true rfl) (fun _ => rfl) ?_
  intro g ad cI cZ
  show G g _ cX0_refused RX0 6 _ (w0 ad cI cZ) _ _ ((O, F, L, T, V, P, X, Y, Z, n, c)) 0 _ []
  obtain ⟨hT, hQ, hck⟩ := id hR
  have hn := SD_n hT.1
  have hB := hT.2.2.1
  have hW := hQ.1
  refine ro_iload_n dX0_refused_0 rfl ?_
  refine ro_calls 1 (mt_isOwner x) cv_X0_X0_isOwner dn_X0_isOwner rfl ⟨by decide, by decide⟩ rfl (Nat.le_of_ble_eq_true rfl) dX0_refused_1 (fun r hr => ?_)
  rcases hr with ⟨h1, rfl⟩ | ⟨h1, rfl⟩
  rotate_left
  · refine ro_if_ne 9 dX0_refused_4 (by decide) (by omega) (fun e => absurd rfl e) (fun _ => ?_)
    refine ro_iconst (x := -1) dX0_refused_7 (by decide) ?_
    refine ro_iret dX0_refused_8 ?_
    rw [rfs_1 h1]
    exact ⟨rfl, rfl⟩
  obtain ⟨o, ho, rfl⟩ := h1
  refine ro_if_ne 9 dX0_refused_4 (by decide) (by omega) (fun _ => ?_) (fun e => absurd e (by decide))
  refine ro_iload_n dX0_refused_9 rfl ?_
  refine ro_iload_n dX0_refused_10 rfl ?_
  refine ro_calls 2 (mt_isRange y z) cv_X0_X0_isRange dn_X0_isRange rfl ⟨by decide, by decide⟩ rfl (Nat.le_of_ble_eq_true rfl) dX0_refused_11 (fun r hr => ?_)
  rcases hr with ⟨h2, rfl⟩ | ⟨h2, rfl⟩
  rotate_left
  · refine ro_if_ne 20 dX0_refused_14 (by decide) (by omega) (fun e => absurd rfl e) (fun _ => ?_)
    refine ro_bipush (x := -2) dX0_refused_17 (by decide) ?_
    refine ro_iret dX0_refused_19 ?_
    rw [rfs_2 (okO_nI ho) h2]
    exact ⟨rfl, rfl⟩
  refine ro_if_ne 20 dX0_refused_14 (by decide) (by omega) (fun _ => ?_) (fun e => absurd e (by decide))
  refine ro_iload dX0_refused_20 rfl ?_
  refine ro_iload dX0_refused_22 rfl ?_
  refine ro_icmp_ltR 33 dX0_refused_24 (by decide) (fun h3 => ?_) (fun h3 => ?_)
  · refine ro_bipush (x := -3) dX0_refused_33 (by decide) ?_
    refine ro_iret dX0_refused_35 ?_
    rw [rfs_3 (okO_nI ho) h2 (fun ⟨j, a, b, e⟩ => by rw [e] at h3; exact nI_nlt a (by omega) h3)]
    exact ⟨rfl, rfl⟩
  refine ro_iload dX0_refused_27 rfl ?_
  refine ro_iconst (x := nI 2) dX0_refused_29 (by decide) ?_
  refine ro_icmp_leR 36 dX0_refused_30 (by decide) (fun h4 => ?_) (fun h4 => ?_)
  rotate_left
  · refine ro_bipush (x := -3) dX0_refused_33 (by decide) ?_
    refine ro_iret dX0_refused_35 ?_
    rw [rfs_3 (okO_nI ho) h2 (okT_big h4)]
    exact ⟨rfl, rfl⟩
  have hok : okT k w := rng_of (lo := k) (hi := 2) (by decide) (by omega) h3 (fun z => absurd (Int32.lt_of_lt_of_le z h4) (Int32.lt_irrefl))
  have b1 := hW.1 o
  refine ro_aload_n dX0_refused_36 rfl ?_
  refine f0_waits dX0_refused_37 ?_
  refine ro_iload_n dX0_refused_40 rfl ?_
  refine l0_waits dX0_refused_41 (by omega) ?_
  refine ro_if_eq 50 dX0_refused_42 (by decide) (by omega) (fun h5 => ?_) (fun h5 => ?_)
  · refine ro_iconst (x := nI 0) dX0_refused_50 (by decide) ?_
    refine ro_iret dX0_refused_51 ?_
    rw [rfs_0 ho h2 hok ((wt_none hQ ho).mpr h5)]
    exact ⟨rfl, rfl⟩
  · refine ro_bipush (x := -4) dX0_refused_45 (by decide) ?_
    refine ro_goto 51 dX0_refused_47 (by decide) ?_
    refine ro_iret dX0_refused_51 ?_
    rw [rfs_4 ho h2 hok (fun z => h5 ((wt_none hQ ho).mp z))]
    exact ⟨rfl, rfl⟩
set_option maxHeartbeats 4000000 in
set_option maxRecDepth 100000 in
theorem mt_leadsTo (O F L T V P X Y Z : Fn) (n c : Nat) (B : Fn) (q : Nat) (Wh Fi Ma Ki : Fn) (K : Nat) (hR : Rel K (O, F, L, T, V, P, X, Y, Z, n, c) (B, q, Wh, Fi, Ma, Ki)) (m o : Nat) (hm : m < 32) (ho : o < 5) : MCi w0 yX0_leadsTo cX0_leadsTo 6 (some .boolean) 3 73 [.int (nI m), .int (nI o)] ((O, F, L, T, V, P, X, Y, Z, n, c)) (fun r u2 => bI (lds (outM (B, q, Wh, Fi, Ma, Ki)) m o) r ∧ u2 = (O, F, L, T, V, P, X, Y, Z, n, c)) := by
  refine MCi_of (lv := fun ad => [some (.ref (ad 0)), some (.int (nI m)), some (.int (nI o)), none, none, none]) (by decide) (Or.inr ⟨rfl, fun v u1 h => bI01 h.1⟩) rfl (fun _ => Nat.le_of_ble_eq_true rfl) (fun _ => rfl) ?_
  intro g ad cI cZ
  show G g _ cX0_leadsTo RX0 6 _ (w0 ad cI cZ) _ _ ((O, F, L, T, V, P, X, Y, Z, n, c)) 0 _ []
  obtain ⟨hT, hQ, hck⟩ := id hR
  have hn := SD_n hT.1
  have hB := hT.2.2.1
  have hW := hQ.1
  have oL := outM_lt (B, q, Wh, Fi, Ma, Ki)
  have inner : ∀ (M k : Nat), M < 32 → k < 5 → (∀ (J : Nat) (z : Option Value), Rd (outM (B, q, Wh, Fi, Ma, Ki)) M J → G g ({ frames := 3, cells := 0, slots := 0, locals := 73 }) cX0_leadsTo RX0 6 [(cI, .int), (cZ, .boolean)] (w0 ad cI cZ) (fun r u2 => bI (lds (outM (B, q, Wh, Fi, Ma, Ki)) m o) r ∧ u2 = (O, F, L, T, V, P, X, Y, Z, n, c)) (fun _ => False) (O, F, L, T, V, P, X, Y, Z, n, c) 45 [some (.ref (ad 0)), some (.int (nI m)), some (.int (nI o)), some (.int (nI J)), some (.int (nI k)), z] []) → ∀ d p J : Nat, p + d = 5 → Rw (outM (B, q, Wh, Fi, Ma, Ki)) M p J → G g ({ frames := 3, cells := 0, slots := 0, locals := 73 }) cX0_leadsTo RX0 6 [(cI, .int), (cZ, .boolean)] (w0 ad cI cZ) (fun r u2 => bI (lds (outM (B, q, Wh, Fi, Ma, Ki)) m o) r ∧ u2 = (O, F, L, T, V, P, X, Y, Z, n, c)) (fun _ => False) (O, F, L, T, V, P, X, Y, Z, n, c) 14 [some (.ref (ad 0)), some (.int (nI m)), some (.int (nI o)), some (.int (nI J)), some (.int (nI k)), some (.int (nI p))] [] := by
    intro M k hM hk KK d
    induction d with
    | zero =>
      intro p J hp hw
      have hp : p = 5 := hp
      subst hp
      refine ro_iload dX0_leadsTo_14 rfl ?_
      refine ro_iconst (x := nI 5) dX0_leadsTo_16 (by decide) ?_
      refine ro_icmp_ge 45 dX0_leadsTo_17 (by decide) (by omega) (by omega) (fun h1 => ?_) (fun h1 => absurd h1 (by omega))
      exact KK J _ hw
    | succ d ih =>
      intro p J hp hw
      have hJ := hw.1
      have b1 := bit_le (p := p) hJ
      refine ro_iload dX0_leadsTo_14 rfl ?_
      refine ro_iconst (x := nI 5) dX0_leadsTo_16 (by decide) ?_
      refine ro_icmp_ge 45 dX0_leadsTo_17 (by decide) (by omega) (by omega) (fun h1 => absurd h1 (by omega)) (fun h1 => ?_)
      refine ro_iload_n dX0_leadsTo_20 rfl ?_
      refine ro_iload dX0_leadsTo_21 rfl ?_
      refine ro_ishr dX0_leadsTo_23 (by omega) (by omega) ?_
      refine ro_iconst (x := nI 1) dX0_leadsTo_24 (by decide) ?_
      refine ro_iand1 dX0_leadsTo_25 (by omega) ?_
      refine ro_iconst (x := nI 1) dX0_leadsTo_26 (by decide) ?_
      refine ro_icmp_ne 39 dX0_leadsTo_27 (by decide) (by omega) (by omega) (fun h2 => ?_) (fun h2 => ?_)
      · refine ro_iinc (lv1 := [_, _, _, _, _, _]) dX0_leadsTo_39 rfl rfl rfl rfl ?_
        refine ro_goto 14 dX0_leadsTo_42 (by decide) ?_
        exact ih (p + 1) J (by omega) (Rw_noK hw h2)
      · refine ro_iload_n dX0_leadsTo_30 rfl ?_
        refine ro_aload_n dX0_leadsTo_31 rfl ?_
        refine ro_iload dX0_leadsTo_32 rfl ?_
        refine ro_call0 1 (mt_blockers O F L T V P X Y Z n c p hB hW (by omega) (by omega)) cv_X0_X0_blockers dn_X0_blockers rfl ⟨by decide, by decide⟩ rfl (Nat.le_of_ble_eq_true rfl) dX0_leadsTo_34 (fun r u2 hr => ?_)
        obtain ⟨rfl, rfl⟩ := hr
        rw [blk_outM hT hQ h1]
        refine ro_ior dX0_leadsTo_37 ?_
        refine ro_istore_n (lv1 := [_, _, _, _, _, _]) dX0_leadsTo_38 rfl rfl rfl ?_
        refine ro_iinc (lv1 := [_, _, _, _, _, _]) dX0_leadsTo_39 rfl rfl rfl rfl ?_
        refine ro_goto 14 dX0_leadsTo_42 (by decide) ?_
        exact ih (p + 1) _ (by omega) (Rw_yes hw h1 (oL p) h2)
  have rounds : ∀ (d k M : Nat) (z : Option Value), k + d = 5 → Gw (outM (B, q, Wh, Fi, Ma, Ki)) m M → (clo (outM (B, q, Wh, Fi, Ma, Ki)) M ∨ k ≤ crd M) → G g ({ frames := 3, cells := 0, slots := 0, locals := 73 }) cX0_leadsTo RX0 6 [(cI, .int), (cZ, .boolean)] (w0 ad cI cZ) (fun r u2 => bI (lds (outM (B, q, Wh, Fi, Ma, Ki)) m o) r ∧ u2 = (O, F, L, T, V, P, X, Y, Z, n, c)) (fun _ => False) (O, F, L, T, V, P, X, Y, Z, n, c) 5 [some (.ref (ad 0)), some (.int (nI m)), some (.int (nI o)), some (.int (nI M)), some (.int (nI k)), z] [] := by
    intro d
    induction d with
    | zero =>
      intro k M z hk hG hc
      have hk : k = 5 := hk
      subst hk
      have hI := Gw_lds (o := o) hG (clo_5 oL hG.1 hc)
      have hM := hG.1
      have b1 := bit_le (p := o) hM
      refine ro_iload dX0_leadsTo_5 rfl ?_
      refine ro_iconst (x := nI 5) dX0_leadsTo_7 (by decide) ?_
      refine ro_icmp_ge 51 dX0_leadsTo_8 (by decide) (by omega) (by omega) (fun h1 => ?_) (fun h1 => absurd h1 (by omega))
      refine ro_iload_n dX0_leadsTo_51 rfl ?_
      refine ro_iload_n dX0_leadsTo_52 rfl ?_
      refine ro_ishr dX0_leadsTo_53 (by omega) (by omega) ?_
      refine ro_iconst (x := nI 1) dX0_leadsTo_54 (by decide) ?_
      refine ro_iand1 dX0_leadsTo_55 (by omega) ?_
      refine ro_iconst (x := nI 1) dX0_leadsTo_56 (by decide) ?_
      refine ro_icmp_ne 64 dX0_leadsTo_57 (by decide) (by omega) (by omega) (fun h2 => ?_) (fun h2 => ?_)
      · refine ro_iconst (x := nI 0) dX0_leadsTo_64 (by decide) ?_
        refine ro_iret dX0_leadsTo_65 ?_
        exact ⟨bI_f (fun h => h2 (hI.mpr h)), rfl⟩
      · refine ro_iconst (x := nI 1) dX0_leadsTo_60 (by decide) ?_
        refine ro_goto 65 dX0_leadsTo_61 (by decide) ?_
        refine ro_iret dX0_leadsTo_65 ?_
        exact ⟨bI_t (hI.mp h2), rfl⟩
    | succ d ih =>
      intro k M z hk hG hc
      refine ro_iload dX0_leadsTo_5 rfl ?_
      refine ro_iconst (x := nI 5) dX0_leadsTo_7 (by decide) ?_
      refine ro_icmp_ge 51 dX0_leadsTo_8 (by decide) (by omega) (by omega) (fun h1 => absurd h1 (by omega)) (fun h1 => ?_)
      refine ro_iconst (x := nI 0) dX0_leadsTo_11 (by decide) ?_
      refine ro_istore (lv1 := [_, _, _, _, _, _]) dX0_leadsTo_12 rfl rfl rfl ?_
      refine inner M k hG.1 h1 (fun J z hw => ?_) 5 0 M rfl (Rw_0 hG.1)
      refine ro_iinc (lv1 := [_, _, _, _, _, _]) dX0_leadsTo_45 rfl rfl rfl rfl ?_
      refine ro_goto 5 dX0_leadsTo_48 (by decide) ?_
      exact ih (k + 1) J _ (by omega) (Gw_rd hG hw) (Rd_next hG.1 hw hc)
  refine ro_iload_n dX0_leadsTo_0 rfl ?_
  refine ro_istore_n (lv1 := [_, _, _, _, _, _]) dX0_leadsTo_1 rfl rfl rfl ?_
  refine ro_iconst (x := nI 0) dX0_leadsTo_2 (by decide) ?_
  refine ro_istore (lv1 := [_, _, _, _, _, _]) dX0_leadsTo_3 rfl rfl rfl ?_
  exact rounds 5 0 m _ rfl (Gw_rf hm) (Or.inr (Nat.zero_le _))
theorem nx_skip {V Z out : Fn} {p : Nat} {nx : Option Nat} (h : nxI V Z out p nx) (hs : V p ≠ 0 → out p ≠ 0) : nxI V Z out (p + 1) nx := by
  cases nx with
  | none =>
    intro r hr h1
    by_cases e : r = p
    · subst e; exact hs h1
    · exact h r (by omega) h1
  | some s =>
    obtain ⟨h1, h2, h3, h4⟩ := h
    refine ⟨by omega, h2, h3, fun r hr a b => ?_⟩
    by_cases e : r = p
    · subst e; exact absurd b (hs a)
    · exact h4 r (by omega) a b
theorem nx_none {V Z out : Fn} {p : Nat} (h : nxI V Z out p none) (h1 : V p ≠ 0) (h2 : out p = 0) : nxI V Z out (p + 1) (some p) := by
  refine ⟨by omega, h1, h2, fun r hr a b => ?_⟩
  by_cases e : r = p
  · subst e; exact Nat.le_refl _
  · exact absurd b (h r (by omega) a)
theorem nx_keep {V Z out : Fn} {p s : Nat} (h : nxI V Z out p (some s)) (hz : Z s ≤ Z p) : nxI V Z out (p + 1) (some s) := by
  obtain ⟨h1, h2, h3, h4⟩ := h
  refine ⟨by omega, h2, h3, fun r hr a b => ?_⟩
  by_cases e : r = p
  · subst e; exact hz
  · exact h4 r (by omega) a b
theorem nx_new {V Z out : Fn} {p s : Nat} (h : nxI V Z out p (some s)) (hz : Z p < Z s) (a1 : V p ≠ 0) (a2 : out p = 0) : nxI V Z out (p + 1) (some p) := by
  obtain ⟨h1, h2, h3, h4⟩ := h
  refine ⟨by omega, a1, a2, fun r hr a b => ?_⟩
  by_cases e : r = p
  · subst e; exact Nat.le_refl _
  · have := h4 r (by omega) a b
    omega
set_option maxHeartbeats 4000000 in
set_option maxRecDepth 100000 in
theorem mt_settle (O F L T V P X Y Z : Fn) (n c : Nat) (B : Fn) (q : Nat) (Wh Fi Ma Ki : Fn) (K : Nat) (hR : Rel K (O, F, L, T, V, P, X, Y, Z, n, c) (B, q, Wh, Fi, Ma, Ki)) : MCi w0 yX0_settle cX0_settle 5 (some .int) 4 95 [] ((O, F, L, T, V, P, X, Y, Z, n, c)) (fun r u2 => r = nI (setN 5 (B, q, Wh, Fi, Ma, Ki)).1 ∧ Rel K u2 (setN 5 (B, q, Wh, Fi, Ma, Ki)).2) := by
  refine MCi_of (lv := fun ad => [some (.ref (ad 0)), none, none, none, none]) (by decide) (Or.inl rfl) rfl (fun _ => Nat.le_of_ble_eq_true rfl) (fun _ => rfl) ?_
  intro g ad cI cZ
  show G g _ cX0_settle RX0 5 _ (w0 ad cI cZ) _ _ ((O, F, L, T, V, P, X, Y, Z, n, c)) 0 _ []
  obtain ⟨hT, hQ, hck⟩ := id hR
  have hn := SD_n hT.1
  have hB := hT.2.2.1
  have hW := hQ.1
  have scan : ∀ (O2 F2 L2 T2 V2 : Fn) (n2 : Nat) (B2 : Fn) (q2 : Nat) (W2 G2 M2 K2 : Fn) (gr k : Nat), RT O2 F2 L2 T2 n2 B2 → RQ V2 P X Y Z c q2 W2 G2 M2 K2 → (∀ (nx : Option Nat) (z : Option Value), nxI V2 Z (outM (B2, q2, W2, G2, M2, K2)) 5 nx → G g ({ frames := 4, cells := 0, slots := 0, locals := 95 }) cX0_settle RX0 5 [(cI, .int), (cZ, .boolean)] (w0 ad cI cZ) (fun r u2 => r = nI (setN 5 (B, q, Wh, Fi, Ma, Ki)).1 ∧ Rel K u2 (setN 5 (B, q, Wh, Fi, Ma, Ki)).2) (fun _ => False) (O2, F2, L2, T2, V2, P, X, Y, Z, n2, c) 68 [some (.ref (ad 0)), some (.int (nI gr)), some (.int (nI k)), some (.int (opI nx)), z] []) → ∀ (d p : Nat) (nx : Option Nat), p + d = 5 → nxI V2 Z (outM (B2, q2, W2, G2, M2, K2)) p nx → G g ({ frames := 4, cells := 0, slots := 0, locals := 95 }) cX0_settle RX0 5 [(cI, .int), (cZ, .boolean)] (w0 ad cI cZ) (fun r u2 => r = nI (setN 5 (B, q, Wh, Fi, Ma, Ki)).1 ∧ Rel K u2 (setN 5 (B, q, Wh, Fi, Ma, Ki)).2) (fun _ => False) (O2, F2, L2, T2, V2, P, X, Y, Z, n2, c) 14 [some (.ref (ad 0)), some (.int (nI gr)), some (.int (nI k)), some (.int (opI nx)), some (.int (nI p))] [] := by
    intro O2 F2 L2 T2 V2 n2 B2 q2 W2 G2 M2 K2 gr k hT2 hQ2 KK d
    have hn2 := SD_n hT2.1
    have hB2 := hT2.2.2.1
    have hW2 := hQ2.1
    induction d with
    | zero =>
      intro p nx hp hI
      have hp : p = 5 := hp
      subst hp
      refine ro_iload dX0_settle_14 rfl ?_
      refine ro_iconst (x := nI 5) dX0_settle_16 (by decide) ?_
      refine ro_icmp_ge 68 dX0_settle_17 (by decide) (by omega) (by omega) (fun h1 => ?_) (fun h1 => absurd h1 (by omega))
      exact KK nx _ hI
    | succ d ih =>
      intro p nx hp hI
      have bv := hW2.1 p
      have bz := hW2.2.2.2.2 p
      refine ro_iload dX0_settle_14 rfl ?_
      refine ro_iconst (x := nI 5) dX0_settle_16 (by decide) ?_
      refine ro_icmp_ge 68 dX0_settle_17 (by decide) (by omega) (by omega) (fun h1 => absurd h1 (by omega)) (fun h1 => ?_)
      refine ro_aload_n dX0_settle_20 rfl ?_
      refine f0_waits dX0_settle_21 ?_
      refine ro_iload dX0_settle_24 rfl ?_
      refine l0_waits dX0_settle_26 (by omega) ?_
      refine ro_if_eq 62 dX0_settle_27 (by decide) (by omega) (fun h2 => ?_) (fun h2 => ?_)
      · refine ro_iinc (lv1 := [_, _, _, _, _]) dX0_settle_62 rfl rfl rfl rfl ?_
        refine ro_goto 14 dX0_settle_65 (by decide) ?_
        exact ih (p + 1) nx (by omega) (nx_skip hI (fun z => absurd h2 z))
      refine ro_aload_n dX0_settle_30 rfl ?_
      refine ro_iload dX0_settle_31 rfl ?_
      refine ro_call0 1 (mt_blockers O2 F2 L2 T2 V2 P X Y Z n2 c p hB2 hW2 (by omega) (by omega)) cv_X0_X0_blockers dn_X0_blockers rfl ⟨by decide, by decide⟩ rfl (Nat.le_of_ble_eq_true rfl) dX0_settle_33 (fun r u2 hr => ?_)
      obtain ⟨rfl, rfl⟩ := hr
      rw [blk_outM hT2 hQ2 h1]
      have oL := outM_lt (B2, q2, W2, G2, M2, K2) p
      refine ro_if_ne 62 dX0_settle_36 (by decide) (by omega) (fun h3 => ?_) (fun h3 => ?_)
      · refine ro_iinc (lv1 := [_, _, _, _, _]) dX0_settle_62 rfl rfl rfl rfl ?_
        refine ro_goto 14 dX0_settle_65 (by decide) ?_
        exact ih (p + 1) nx (by omega) (nx_skip hI (fun _ => h3))
      cases nx with
      | none =>
        refine ro_iload_n dX0_settle_39 rfl ?_
        refine ro_if_ltR 59 dX0_settle_40 (by decide) (fun _ => ?_) (fun e => absurd (by decide) e)
        refine ro_iload dX0_settle_59 rfl ?_
        refine ro_istore_n (lv1 := [_, _, _, _, _]) dX0_settle_61 rfl rfl rfl ?_
        refine ro_iinc (lv1 := [_, _, _, _, _]) dX0_settle_62 rfl rfl rfl rfl ?_
        refine ro_goto 14 dX0_settle_65 (by decide) ?_
        exact ih (p + 1) (some p) (by omega) (nx_none hI h2 h3)
      | some s =>
        have hs := hI.1
        have bz2 := hW2.2.2.2.2 s
        show G g ({ frames := 4, cells := 0, slots := 0, locals := 95 }) cX0_settle RX0 5 [(cI, .int), (cZ, .boolean)] (w0 ad cI cZ) (fun r u2 => r = nI (setN 5 (B, q, Wh, Fi, Ma, Ki)).1 ∧ Rel K u2 (setN 5 (B, q, Wh, Fi, Ma, Ki)).2) (fun _ => False) (O2, F2, L2, T2, V2, P, X, Y, Z, n2, c) (36 + 3) [some (.ref (ad 0)), some (.int (nI gr)), some (.int (nI k)), some (.int (nI s)), some (.int (nI p))] []
        refine ro_iload_n dX0_settle_39 rfl ?_
        refine ro_if_lt 59 dX0_settle_40 (by decide) (by omega) ?_
        refine ro_aload_n dX0_settle_43 rfl ?_
        refine f0_since dX0_settle_44 ?_
        refine ro_iload dX0_settle_47 rfl ?_
        refine l0_since dX0_settle_49 (by omega) ?_
        refine ro_aload_n dX0_settle_50 rfl ?_
        refine f0_since dX0_settle_51 ?_
        refine ro_iload_n dX0_settle_54 rfl ?_
        refine l0_since dX0_settle_55 (by omega) ?_
        refine ro_icmp_ge 62 dX0_settle_56 (by decide) (by omega) (by omega) (fun h4 => ?_) (fun h4 => ?_)
        · refine ro_iinc (lv1 := [_, _, _, _, _]) dX0_settle_62 rfl rfl rfl rfl ?_
          refine ro_goto 14 dX0_settle_65 (by decide) ?_
          exact ih (p + 1) (some s) (by omega) (nx_keep hI h4)
        · refine ro_iload dX0_settle_59 rfl ?_
          refine ro_istore_n (lv1 := [_, _, _, _, _]) dX0_settle_61 rfl rfl rfl ?_
          refine ro_iinc (lv1 := [_, _, _, _, _]) dX0_settle_62 rfl rfl rfl rfl ?_
          refine ro_goto 14 dX0_settle_65 (by decide) ?_
          exact ih (p + 1) (some p) (by omega) (nx_new hI h4 h2 h3)
  have outer : ∀ (d k : Nat) (z3 z4 : Option Value) (O2 F2 L2 T2 V2 : Fn) (n2 : Nat) (B2 : Fn) (q2 : Nat) (W2 G2 M2 K2 : Fn), k + d = 5 → q2 ≤ d → Rel K (O2, F2, L2, T2, V2, P, X, Y, Z, n2, c) (B2, q2, W2, G2, M2, K2) → setN 5 (B, q, Wh, Fi, Ma, Ki) = (k + (setN d (B2, q2, W2, G2, M2, K2)).1, (setN d (B2, q2, W2, G2, M2, K2)).2) → G g ({ frames := 4, cells := 0, slots := 0, locals := 95 }) cX0_settle RX0 5 [(cI, .int), (cZ, .boolean)] (w0 ad cI cZ) (fun r u2 => r = nI (setN 5 (B, q, Wh, Fi, Ma, Ki)).1 ∧ Rel K u2 (setN 5 (B, q, Wh, Fi, Ma, Ki)).2) (fun _ => False) (O2, F2, L2, T2, V2, P, X, Y, Z, n2, c) 4 [some (.ref (ad 0)), some (.int (nI k)), some (.int (nI k)), z3, z4] [] := by
    intro d
    induction d with
    | zero =>
      intro k z3 z4 O2 F2 L2 T2 V2 n2 B2 q2 W2 G2 M2 K2 hk hq2 hR2 hI
      refine ro_iload_n dX0_settle_4 rfl ?_
      refine ro_iconst (x := nI 5) dX0_settle_5 (by decide) ?_
      refine ro_icmp_gt 114 dX0_settle_6 (by decide) (by omega) (by omega) (fun h1 => absurd h1 (by omega)) (fun h1 => ?_)
      refine ro_iconst (x := -1) dX0_settle_9 (by decide) ?_
      refine ro_istore_n (lv1 := [_, _, _, _, _]) dX0_settle_10 rfl rfl rfl ?_
      refine ro_iconst (x := nI 0) dX0_settle_11 (by decide) ?_
      refine ro_istore (lv1 := [_, _, _, _, _]) dX0_settle_12 rfl rfl rfl ?_
      refine scan O2 F2 L2 T2 V2 n2 B2 q2 W2 G2 M2 K2 k k hR2.1 hR2.2.1 (fun nx z hx => ?_) 5 0 none rfl (fun p hp => absurd hp (Nat.not_lt_zero p))
      rcases nx_end hR2.2.1 hx with ⟨rfl, he⟩ | ⟨i, hi, rfl, he⟩
      · refine ro_iload_n dX0_settle_68 rfl ?_
        refine ro_if_geR 75 dX0_settle_69 (by decide) (fun e => absurd e (by decide)) (fun _ => ?_)
        refine ro_goto 114 dX0_settle_72 (by decide) ?_
        refine ro_iload_n dX0_settle_114 rfl ?_
        refine ro_iret dX0_settle_115 ?_
        rw [hI]
        exact ⟨rfl, hR2⟩
      · exact absurd hi (by omega)
    | succ d ih =>
      intro k z3 z4 O2 F2 L2 T2 V2 n2 B2 q2 W2 G2 M2 K2 hk hq2 hR2 hI
      refine ro_iload_n dX0_settle_4 rfl ?_
      refine ro_iconst (x := nI 5) dX0_settle_5 (by decide) ?_
      refine ro_icmp_gt 114 dX0_settle_6 (by decide) (by omega) (by omega) (fun h1 => absurd h1 (by omega)) (fun h1 => ?_)
      refine ro_iconst (x := -1) dX0_settle_9 (by decide) ?_
      refine ro_istore_n (lv1 := [_, _, _, _, _]) dX0_settle_10 rfl rfl rfl ?_
      refine ro_iconst (x := nI 0) dX0_settle_11 (by decide) ?_
      refine ro_istore (lv1 := [_, _, _, _, _]) dX0_settle_12 rfl rfl rfl ?_
      refine scan O2 F2 L2 T2 V2 n2 B2 q2 W2 G2 M2 K2 k k hR2.1 hR2.2.1 (fun nx z hx => ?_) 5 0 none rfl (fun p hp => absurd hp (Nat.not_lt_zero p))
      rcases nx_end hR2.2.1 hx with ⟨rfl, he⟩ | ⟨i, hi, rfl, he⟩
      · refine ro_iload_n dX0_settle_68 rfl ?_
        refine ro_if_geR 75 dX0_settle_69 (by decide) (fun e => absurd e (by decide)) (fun _ => ?_)
        refine ro_goto 114 dX0_settle_72 (by decide) ?_
        refine ro_iload_n dX0_settle_114 rfl ?_
        refine ro_iret dX0_settle_115 ?_
        rw [hI, setN_none he]
        exact ⟨rfl, hR2⟩
      · have hQ2 := hR2.2.1
        have hT2 := hR2.1
        have bw := hQ2.2.1 i
        obtain ⟨a1, a2, a3, a4, a5⟩ := hQ2.2.2.2.2.2.1 i hi
        have c1 := hQ2.1.2.2.1 (W2 i)
        have c2 := hQ2.1.2.2.2.1 (W2 i)
        show G g ({ frames := 4, cells := 0, slots := 0, locals := 95 }) cX0_settle RX0 5 [(cI, .int), (cZ, .boolean)] (w0 ad cI cZ) (fun r u2 => r = nI (setN 5 (B, q, Wh, Fi, Ma, Ki)).1 ∧ Rel K u2 (setN 5 (B, q, Wh, Fi, Ma, Ki)).2) (fun _ => False) (O2, F2, L2, T2, V2, P, X, Y, Z, n2, c) 68 [some (.ref (ad 0)), some (.int (nI k)), some (.int (nI k)), some (.int (nI (W2 i))), z] []
        refine ro_iload_n dX0_settle_68 rfl ?_
        refine ro_if_ge 75 dX0_settle_69 (by decide) (by omega) ?_
        refine ro_aload_n dX0_settle_75 rfl ?_
        refine f0_waits dX0_settle_76 ?_
        refine ro_iload_n dX0_settle_79 rfl ?_
        refine ro_iconst (x := nI 0) dX0_settle_80 (by decide) ?_
        refine s0_waits dX0_settle_81 (by omega) (by omega) ?_
        refine ro_aload_n dX0_settle_82 rfl ?_
        refine ro_iload_n dX0_settle_83 rfl ?_
        refine ro_aload_n dX0_settle_84 rfl ?_
        refine f0_wantFirst dX0_settle_85 ?_
        refine ro_iload_n dX0_settle_88 rfl ?_
        refine l0_wantFirst dX0_settle_89 (by omega) ?_
        refine ro_aload_n dX0_settle_90 rfl ?_
        refine f0_wantLast dX0_settle_91 ?_
        refine ro_iload_n dX0_settle_94 rfl ?_
        refine l0_wantLast dX0_settle_95 (by omega) ?_
        refine ro_aload_n dX0_settle_96 rfl ?_
        refine f0_wantType dX0_settle_97 ?_
        refine ro_iload_n dX0_settle_100 rfl ?_
        refine l0_wantType dX0_settle_101 (by omega) ?_
        refine ro_call0v 4 (mt_paint O2 F2 L2 T2 (up V2 (W2 i) 0) P X Y Z n2 c (W2 i) (P (W2 i)) (X (W2 i)) (Y (W2 i)) hT2.1 hT2.2.1 hT2.2.2.1 (by omega) (by omega) c1 c2) cv_X0_X0_paint dn_X0_paint rfl ⟨by decide, by decide⟩ rfl (Nat.le_of_ble_eq_true rfl) dX0_settle_102 (fun u2 hu => ?_)
        obtain ⟨O3, F3, L3, T3, n3, rfl, hE⟩ := hu
        refine ro_iinc (lv1 := [_, _, _, _, _]) dX0_settle_105 rfl rfl rfl rfl ?_
        refine ro_iinc (lv1 := [_, _, _, _, _]) dX0_settle_108 rfl rfl rfl rfl ?_
        refine ro_goto 4 dX0_settle_111 (by decide) ?_
        refine ih (k + 1) _ _ O3 F3 L3 T3 (up V2 (W2 i) 0) n3 _ _ _ _ _ _ (by omega) (show q2 - 1 ≤ d by omega) (Rel_stp hR2 hi hE) ?_
        rw [hI, setN_some he]
        show (k + (_ + 1), _) = (k + 1 + _, _)
        rw [Nat.add_assoc, Nat.add_comm 1]
        rfl
  refine ro_iconst (x := nI 0) dX0_settle_0 (by decide) ?_
  refine ro_istore_n (lv1 := [_, _, _, _, _]) dX0_settle_1 rfl rfl rfl ?_
  refine ro_iconst (x := nI 0) dX0_settle_2 (by decide) ?_
  refine ro_istore_n (lv1 := [_, _, _, _, _]) dX0_settle_3 rfl rfl rfl ?_
  refine outer 5 0 _ _ O F L T V n B q Wh Fi Ma Ki rfl (RQ_q hQ) hR ?_
  rw [Nat.zero_add]
end
section
/-! X0: lock, await, wouldCircle, cancel, waiting, waitsFor, ahead -/
set_option maxRecDepth 100000
theorem Rel_paint {k : Nat} {O F L T V P X Y Z : Fn} {n c : Nat} {v : Q6} {O2 F2 L2 T2 : Fn} {n2 o a l m t : Nat} (h : Rel k (O, F, L, T, V, P, X, Y, Z, n, c) v) (hE : PntE O F L T n o a l t O2 F2 L2 T2 n2) (hal : a ≤ l) (hl : l ≤ 39) (hm : a + m = l + 1) (ht : t ≤ 2) : Rel k (O2, F2, L2, T2, V, P, X, Y, Z, n2, c) (grV v o a m t) := by
  obtain ⟨B, q, Wh, Fi, Ma, Ki⟩ := v
  exact ⟨RT_paint h.1 hE hal hl hm ht, h.2.1, h.2.2⟩
theorem n0_of {x : Int32} (h : x < 0) : ¬ 0 ≤ x := fun e => absurd (Int32.lt_of_lt_of_le h e) Int32.lt_irrefl
set_option maxHeartbeats 4000000 in
set_option maxRecDepth 100000 in
theorem mt_lock (O F L T V P X Y Z : Fn) (n c : Nat) (B : Fn) (q : Nat) (Wh Fi Ma Ki : Fn) (K : Nat) (hR : Rel K (O, F, L, T, V, P, X, Y, Z, n, c) (B, q, Wh, Fi, Ma, Ki)) (x y z w : Int32) : MCi w0 yX0_lock cX0_lock 7 (some .int) 5 119 [.int x, .int y, .int z, .int w] ((O, F, L, T, V, P, X, Y, Z, n, c)) (fun r u2 => r = (fLock (B, q, Wh, Fi, Ma, Ki) x y z w).1 ∧ Rel K u2 (fLock (B, q, Wh, Fi, Ma, Ki) x y z w).2) := by
  refine MCi_of (lv := fun ad => [some (.ref (ad 0)), some (.int x), some (.int y), some (.int z), some (.int w), none, none]) (by decide) (Or.inl rfl) rfl (fun _ => Nat.le_of_ble_eq_true rfl) (fun _ => rfl) ?_
  intro g ad cI cZ
  show G g _ cX0_lock RX0 7 _ (w0 ad cI cZ) _ _ ((O, F, L, T, V, P, X, Y, Z, n, c)) 0 _ []
  obtain ⟨hT, hQ, hck⟩ := id hR
  have hn := SD_n hT.1
  have hB := hT.2.2.1
  have hW := hQ.1
  refine ro_aload_n dX0_lock_0 rfl ?_
  refine ro_iload_n dX0_lock_1 rfl ?_
  refine ro_iload_n dX0_lock_2 rfl ?_
  refine ro_iload_n dX0_lock_3 rfl ?_
  refine ro_iload dX0_lock_4 rfl ?_
  refine ro_iconst (x := nI 0) dX0_lock_6 (by decide) ?_
  refine ro_call0 5 (mt_refused O F L T V P X Y Z n c B q Wh Fi Ma Ki K hR x y z w 0 (by omega)) cv_X0_X0_refused dn_X0_refused rfl ⟨by decide, by decide⟩ rfl (Nat.le_of_ble_eq_true rfl) dX0_lock_7 (fun r u2 hr => ?_)
  obtain ⟨rfl, rfl⟩ := hr
  refine ro_istore (lv1 := [_, _, _, _, _, _, _]) dX0_lock_10 rfl rfl rfl ?_
  refine ro_iload dX0_lock_12 rfl ?_
  rcases rfs_cases 0 (B, q, Wh, Fi, Ma, Ki) x y z w with ⟨h1, h2⟩ | ⟨h1, o, a, m, t, ho, hm, ham, ht0, ht, rfl, rfl, rfl, rfl, hw⟩
  · refine ro_if_geR 20 dX0_lock_14 (by decide) (fun e => absurd e (n0_of h1)) (fun _ => ?_)
    refine ro_iload dX0_lock_17 rfl ?_
    refine ro_iret dX0_lock_19 ?_
    rw [fLock_r h2]
    exact ⟨rfl, hR⟩
  rw [h1]
  refine ro_if_geR 20 dX0_lock_14 (by decide) (fun _ => ?_) (fun e => absurd (by decide) e)
  have fin : agst B o a m t = 0 → ∀ z5 : Option Value, G g ({ frames := 5, cells := 0, slots := 0, locals := 119 }) cX0_lock RX0 7 [(cI, .int), (cZ, .boolean)] (w0 ad cI cZ) (fun r u2 => r = (fLock (B, q, Wh, Fi, Ma, Ki) (nI o) (nI a) (nI m) (nI t)).1 ∧ Rel K u2 (fLock (B, q, Wh, Fi, Ma, Ki) (nI o) (nI a) (nI m) (nI t)).2) (fun _ => False) (O, F, L, T, V, P, X, Y, Z, n, c) 48 [some (.ref (ad 0)), some (.int (nI o)), some (.int (nI a)), some (.int (nI m)), some (.int (nI t)), z5, some (.int (nI (a + m - 1)))] [] := by
    intro h5 z5
    refine ro_aload_n dX0_lock_48 rfl ?_
    refine ro_iload_n dX0_lock_49 rfl ?_
    refine ro_iload_n dX0_lock_50 rfl ?_
    refine ro_iload dX0_lock_51 rfl ?_
    refine ro_iload dX0_lock_53 rfl ?_
    refine ro_call0v 4 (mt_paint O F L T V P X Y Z n c o a (a + m - 1) t hT.1 hT.2.1 hB (by omega) (by omega) (by omega) ht) cv_X0_X0_paint dn_X0_paint rfl ⟨by decide, by decide⟩ rfl (Nat.le_of_ble_eq_true rfl) dX0_lock_55 (fun u2 hu => ?_)
    obtain ⟨O2, F2, L2, T2, n2, rfl, hE⟩ := hu
    have hR2 := Rel_paint (m := m) hR hE (by omega) (by omega) (by omega) ht
    refine ro_aload_n dX0_lock_58 rfl ?_
    refine ro_call0 0 (mt_settle O2 F2 L2 T2 V P X Y Z n2 c (grB B o a m t) q Wh Fi Ma Ki K hR2) cv_X0_X0_settle dn_X0_settle rfl ⟨by decide, by decide⟩ rfl (Nat.le_of_ble_eq_true rfl) dX0_lock_59 (fun r u2 hr => ?_)
    obtain ⟨rfl, hR3⟩ := hr
    refine ro_iret dX0_lock_62 ?_
    rw [fLock_c ho hm ham ht hw]
    unfold cLock
    rw [cif_t (show agst (vB (B, q, Wh, Fi, Ma, Ki)) o a m t = 0 from h5)]
    exact ⟨rfl, hR3⟩
  refine ro_iload_n dX0_lock_20 rfl ?_
  refine ro_iload_n dX0_lock_21 rfl ?_
  refine ro_iadd dX0_lock_22 ?_
  refine ro_iconst (x := nI 1) dX0_lock_23 (by decide) ?_
  refine ro_isub dX0_lock_24 (by omega) ?_
  refine ro_istore (lv1 := [_, _, _, _, _, _, _]) dX0_lock_25 rfl rfl rfl ?_
  refine ro_iload dX0_lock_27 rfl ?_
  refine ro_if_eq 48 dX0_lock_29 (by decide) (by omega) (fun h5 => ?_) (fun h5 => ?_)
  · subst h5
    exact fin agst_0 _
  refine ro_aload_n dX0_lock_32 rfl ?_
  refine ro_iload_n dX0_lock_33 rfl ?_
  refine ro_iload_n dX0_lock_34 rfl ?_
  refine ro_iload dX0_lock_35 rfl ?_
  refine ro_iload dX0_lock_37 rfl ?_
  refine ro_call0 4 (mt_rivals O F L T V P X Y Z n c o a (a + m - 1) t hB (by omega) (by omega) (by omega) (by omega) ht) cv_X0_X0_rivals dn_X0_rivals rfl ⟨by decide, by decide⟩ rfl (Nat.le_of_ble_eq_true rfl) dX0_lock_39 (fun r u2 hr => ?_)
  obtain ⟨rfl, rfl⟩ := hr
  rw [riv_agst (m := m) hT (by omega) (by omega) (by omega) (by omega) ht]
  have hlt := agst_lt B o a m t
  refine ro_if_eq 48 dX0_lock_42 (by decide) (by omega) (fun h6 => ?_) (fun h6 => ?_)
  · exact fin h6 _
  · refine ro_bipush (x := -5) dX0_lock_45 (by decide) ?_
    refine ro_iret dX0_lock_47 ?_
    rw [fLock_c ho hm ham ht hw]
    unfold cLock
    rw [cif_f (show ¬ agst (vB (B, q, Wh, Fi, Ma, Ki)) o a m t = 0 from h6)]
    exact ⟨rfl, hR⟩
set_option maxHeartbeats 4000000 in
set_option maxRecDepth 100000 in
theorem mt_await (O F L T V P X Y Z : Fn) (n c : Nat) (B : Fn) (q : Nat) (Wh Fi Ma Ki : Fn) (K : Nat) (hR : Rel K (O, F, L, T, V, P, X, Y, Z, n, c) (B, q, Wh, Fi, Ma, Ki)) (hK : K < 9000) (x y z w : Int32) : MCi w0 yX0_await cX0_await 8 (some .int) 5 119 [.int x, .int y, .int z, .int w] ((O, F, L, T, V, P, X, Y, Z, n, c)) (fun r u2 => r = (fAwait (B, q, Wh, Fi, Ma, Ki) x y z w).1 ∧ Rel (K + 1) u2 (fAwait (B, q, Wh, Fi, Ma, Ki) x y z w).2) := by
  refine MCi_of (lv := fun ad => [some (.ref (ad 0)), some (.int x), some (.int y), some (.int z), some (.int w), none, none, none]) (by decide) (Or.inl rfl) rfl (fun _ => Nat.le_of_ble_eq_true rfl) (fun _ => rfl) ?_
  intro g ad cI cZ
  show G g _ cX0_await RX0 8 _ (w0 ad cI cZ) _ _ ((O, F, L, T, V, P, X, Y, Z, n, c)) 0 _ []
  obtain ⟨hT, hQ, hck⟩ := id hR
  have hn := SD_n hT.1
  have hB := hT.2.2.1
  have hW := hQ.1
  refine ro_aload_n dX0_await_0 rfl ?_
  refine ro_iload_n dX0_await_1 rfl ?_
  refine ro_iload_n dX0_await_2 rfl ?_
  refine ro_iload_n dX0_await_3 rfl ?_
  refine ro_iload dX0_await_4 rfl ?_
  refine ro_iconst (x := nI 1) dX0_await_6 (by decide) ?_
  refine ro_call0 5 (mt_refused O F L T V P X Y Z n c B q Wh Fi Ma Ki K hR x y z w 1 (by omega)) cv_X0_X0_refused dn_X0_refused rfl ⟨by decide, by decide⟩ rfl (Nat.le_of_ble_eq_true rfl) dX0_await_7 (fun r u2 hr => ?_)
  obtain ⟨rfl, rfl⟩ := hr
  refine ro_istore (lv1 := [_, _, _, _, _, _, _, _]) dX0_await_10 rfl rfl rfl ?_
  refine ro_iload dX0_await_12 rfl ?_
  rcases rfs_cases 1 (B, q, Wh, Fi, Ma, Ki) x y z w with ⟨h1, h2⟩ | ⟨h1, o, a, m, t, ho, hm, ham, ht0, ht, rfl, rfl, rfl, rfl, hw⟩
  · refine ro_if_geR 20 dX0_await_14 (by decide) (fun e => absurd e (n0_of h1)) (fun _ => ?_)
    refine ro_iload dX0_await_17 rfl ?_
    refine ro_iret dX0_await_19 ?_
    rw [fAwait_r h2]
    exact ⟨rfl, hR.mono (by omega)⟩
  rw [h1]
  refine ro_if_geR 20 dX0_await_14 (by decide) (fun _ => ?_) (fun e => absurd (by decide) e)
  refine ro_iload_n dX0_await_20 rfl ?_
  refine ro_iload_n dX0_await_21 rfl ?_
  refine ro_iadd dX0_await_22 ?_
  refine ro_iconst (x := nI 1) dX0_await_23 (by decide) ?_
  refine ro_isub dX0_await_24 (by omega) ?_
  refine ro_istore (lv1 := [_, _, _, _, _, _, _, _]) dX0_await_25 rfl rfl rfl ?_
  refine ro_aload_n dX0_await_27 rfl ?_
  refine ro_iload_n dX0_await_28 rfl ?_
  refine ro_iload_n dX0_await_29 rfl ?_
  refine ro_iload dX0_await_30 rfl ?_
  refine ro_iload dX0_await_32 rfl ?_
  refine ro_call0 4 (mt_rivals O F L T V P X Y Z n c o a (a + m - 1) t hB (by omega) (by omega) (by omega) (by omega) ht) cv_X0_X0_rivals dn_X0_rivals rfl ⟨by decide, by decide⟩ rfl (Nat.le_of_ble_eq_true rfl) dX0_await_34 (fun r u2 hr => ?_)
  obtain ⟨rfl, rfl⟩ := hr
  rw [riv_agst (m := m) hT (by omega) (by omega) (by omega) (by omega) ht]
  have hlt := agst_lt B o a m t
  refine ro_istore (lv1 := [_, _, _, _, _, _, _, _]) dX0_await_37 rfl rfl rfl ?_
  refine ro_iload dX0_await_39 rfl ?_
  refine ro_if_ne 61 dX0_await_41 (by decide) (by omega) (fun h5 => ?_) (fun h5 => ?_)
  rotate_left
  · refine ro_aload_n dX0_await_44 rfl ?_
    refine ro_iload_n dX0_await_45 rfl ?_
    refine ro_iload_n dX0_await_46 rfl ?_
    refine ro_iload dX0_await_47 rfl ?_
    refine ro_iload dX0_await_49 rfl ?_
    refine ro_call0v 4 (mt_paint O F L T V P X Y Z n c o a (a + m - 1) t hT.1 hT.2.1 hB (by omega) (by omega) (by omega) ht) cv_X0_X0_paint dn_X0_paint rfl ⟨by decide, by decide⟩ rfl (Nat.le_of_ble_eq_true rfl) dX0_await_51 (fun u2 hu => ?_)
    obtain ⟨O2, F2, L2, T2, n2, rfl, hE⟩ := hu
    have hR2 := Rel_paint (m := m) hR hE (by omega) (by omega) (by omega) ht
    refine ro_aload_n dX0_await_54 rfl ?_
    refine ro_call0 0 (mt_settle O2 F2 L2 T2 V P X Y Z n2 c (grB B o a m t) q Wh Fi Ma Ki K hR2) cv_X0_X0_settle dn_X0_settle rfl ⟨by decide, by decide⟩ rfl (Nat.le_of_ble_eq_true rfl) dX0_await_55 (fun r u2 hr => ?_)
    obtain ⟨rfl, hR3⟩ := hr
    refine ro_pop dX0_await_58 rfl ?_
    refine ro_iconst (x := nI 0) dX0_await_59 (by decide) ?_
    refine ro_iret dX0_await_60 ?_
    rw [fAwait_c ho hm ham ht0 ht hw]
    unfold cAwait
    rw [cif_t (show agst (vB (B, q, Wh, Fi, Ma, Ki)) o a m t = 0 from h5)]
    exact ⟨rfl, hR3.mono (by omega)⟩
  refine ro_aload_n dX0_await_61 rfl ?_
  refine ro_iload dX0_await_62 rfl ?_
  refine ro_iload_n dX0_await_64 rfl ?_
  refine ro_call0 2 (mt_leadsTo O F L T V P X Y Z n c B q Wh Fi Ma Ki K hR (agst B o a m t) o hlt ho) cv_X0_X0_leadsTo dn_X0_leadsTo rfl ⟨by decide, by decide⟩ rfl (Nat.le_of_ble_eq_true rfl) dX0_await_65 (fun r u2 hr => ?_)
  obtain ⟨hr, rfl⟩ := hr
  rw [lds_cyc hlt (agst_self ho)] at hr
  rcases hr with ⟨h6, rfl⟩ | ⟨h6, rfl⟩
  · refine ro_if_eq 74 dX0_await_68 (by decide) (by omega) (fun e => absurd e (by decide)) (fun _ => ?_)
    refine ro_bipush (x := -5) dX0_await_71 (by decide) ?_
    refine ro_iret dX0_await_73 ?_
    rw [fAwait_c ho hm ham ht0 ht hw]
    unfold cAwait
    rw [cif_f (show ¬ agst (vB (B, q, Wh, Fi, Ma, Ki)) o a m t = 0 from h5), cif_t (show cyc (outM (B, q, Wh, Fi, Ma, Ki)) (agst (vB (B, q, Wh, Fi, Ma, Ki)) o a m t) o from h6)]
    exact ⟨rfl, hR.mono (by omega)⟩
  refine ro_if_eq 74 dX0_await_68 (by decide) (by omega) (fun _ => ?_) (fun e => absurd rfl e)
  refine ro_aload_n dX0_await_74 rfl ?_
  refine f0_waits dX0_await_75 ?_
  refine ro_iload_n dX0_await_78 rfl ?_
  refine ro_iconst (x := nI 1) dX0_await_79 (by decide) ?_
  refine s0_waits dX0_await_80 (by omega) (by omega) ?_
  refine ro_aload_n dX0_await_81 rfl ?_
  refine f0_wantFirst dX0_await_82 ?_
  refine ro_iload_n dX0_await_85 rfl ?_
  refine ro_iload_n dX0_await_86 rfl ?_
  refine s0_wantFirst dX0_await_87 (by omega) ?_
  refine ro_aload_n dX0_await_88 rfl ?_
  refine f0_wantLast dX0_await_89 ?_
  refine ro_iload_n dX0_await_92 rfl ?_
  refine ro_iload dX0_await_93 rfl ?_
  refine s0_wantLast dX0_await_95 (by omega) ?_
  refine ro_aload_n dX0_await_96 rfl ?_
  refine f0_wantType dX0_await_97 ?_
  refine ro_iload_n dX0_await_100 rfl ?_
  refine ro_iload dX0_await_101 rfl ?_
  refine s0_wantType dX0_await_103 (by omega) ?_
  refine ro_aload_n dX0_await_104 rfl ?_
  refine ro_dup dX0_await_105 rfl ?_
  refine f0_clock dX0_await_106 ?_
  refine ro_iconst (x := nI 1) dX0_await_109 (by decide) ?_
  refine ro_iadd dX0_await_110 ?_
  refine p0_clock dX0_await_111 ?_
  refine ro_aload_n dX0_await_114 rfl ?_
  refine f0_since dX0_await_115 ?_
  refine ro_iload_n dX0_await_118 rfl ?_
  refine ro_aload_n dX0_await_119 rfl ?_
  refine f0_clock dX0_await_120 ?_
  refine s0_since dX0_await_123 (by omega) ?_
  refine ro_iconst (x := nI 1) dX0_await_124 (by decide) ?_
  refine ro_iret dX0_await_125 ?_
  rw [fAwait_c ho hm ham ht0 ht hw]
  unfold cAwait
  rw [cif_f (show ¬ agst (vB (B, q, Wh, Fi, Ma, Ki)) o a m t = 0 from h5), cif_f (show ¬ cyc (outM (B, q, Wh, Fi, Ma, Ki)) (agst (vB (B, q, Wh, Fi, Ma, Ki)) o a m t) o from h6)]
  exact ⟨rfl, hT, RQ_enq hQ (by omega) ho ((wt_none hQ ho).mp hw) hm ham ht0 ht, by omega⟩
set_option maxHeartbeats 4000000 in
set_option maxRecDepth 100000 in
theorem mt_wouldCircle (O F L T V P X Y Z : Fn) (n c : Nat) (B : Fn) (q : Nat) (Wh Fi Ma Ki : Fn) (K : Nat) (hR : Rel K (O, F, L, T, V, P, X, Y, Z, n, c) (B, q, Wh, Fi, Ma, Ki)) (x y z w : Int32) : MCi w0 yX0_wouldCircle cX0_wouldCircle 7 (some .int) 4 98 [.int x, .int y, .int z, .int w] ((O, F, L, T, V, P, X, Y, Z, n, c)) (fun r u2 => r = fCirc (B, q, Wh, Fi, Ma, Ki) x y z w ∧ u2 = (O, F, L, T, V, P, X, Y, Z, n, c)) := by
  refine MCi_of (lv := fun ad => [some (.ref (ad 0)), some (.int x), some (.int y), some (.int z), some (.int w), none, none]) (by decide) (Or.inl rfl) rfl (fun _ => Nat.le_of_ble_eq_true rfl) (fun _ => rfl) ?_
  intro g ad cI cZ
  show G g _ cX0_wouldCircle RX0 7 _ (w0 ad cI cZ) _ _ ((O, F, L, T, V, P, X, Y, Z, n, c)) 0 _ []
  obtain ⟨hT, hQ, hck⟩ := id hR
  have hn := SD_n hT.1
  have hB := hT.2.2.1
  have hW := hQ.1
  refine ro_aload_n dX0_wouldCircle_0 rfl ?_
  refine ro_iload_n dX0_wouldCircle_1 rfl ?_
  refine ro_iload_n dX0_wouldCircle_2 rfl ?_
  refine ro_iload_n dX0_wouldCircle_3 rfl ?_
  refine ro_iload dX0_wouldCircle_4 rfl ?_
  refine ro_iconst (x := nI 1) dX0_wouldCircle_6 (by decide) ?_
  refine ro_call0 5 (mt_refused O F L T V P X Y Z n c B q Wh Fi Ma Ki K hR x y z w 1 (by omega)) cv_X0_X0_refused dn_X0_refused rfl ⟨by decide, by decide⟩ rfl (Nat.le_of_ble_eq_true rfl) dX0_wouldCircle_7 (fun r u2 hr => ?_)
  obtain ⟨rfl, rfl⟩ := hr
  refine ro_istore (lv1 := [_, _, _, _, _, _, _]) dX0_wouldCircle_10 rfl rfl rfl ?_
  refine ro_iload dX0_wouldCircle_12 rfl ?_
  rcases rfs_cases 1 (B, q, Wh, Fi, Ma, Ki) x y z w with ⟨h1, h2⟩ | ⟨h1, o, a, m, t, ho, hm, ham, ht0, ht, rfl, rfl, rfl, rfl, hw⟩
  · refine ro_if_geR 19 dX0_wouldCircle_14 (by decide) (fun e => absurd e (n0_of h1)) (fun _ => ?_)
    refine ro_iconst (x := nI 0) dX0_wouldCircle_17 (by decide) ?_
    refine ro_iret dX0_wouldCircle_18 ?_
    rw [fCirc_r h2]
    exact ⟨rfl, rfl⟩
  rw [h1]
  refine ro_if_geR 19 dX0_wouldCircle_14 (by decide) (fun _ => ?_) (fun e => absurd (by decide) e)
  refine ro_aload_n dX0_wouldCircle_19 rfl ?_
  refine ro_iload_n dX0_wouldCircle_20 rfl ?_
  refine ro_iload_n dX0_wouldCircle_21 rfl ?_
  refine ro_iload_n dX0_wouldCircle_22 rfl ?_
  refine ro_iload_n dX0_wouldCircle_23 rfl ?_
  refine ro_iadd dX0_wouldCircle_24 ?_
  refine ro_iconst (x := nI 1) dX0_wouldCircle_25 (by decide) ?_
  refine ro_isub dX0_wouldCircle_26 (by omega) ?_
  refine ro_iload dX0_wouldCircle_27 rfl ?_
  refine ro_call0 4 (mt_rivals O F L T V P X Y Z n c o a (a + m - 1) t hB (by omega) (by omega) (by omega) (by omega) ht) cv_X0_X0_rivals dn_X0_rivals rfl ⟨by decide, by decide⟩ rfl (Nat.le_of_ble_eq_true rfl) dX0_wouldCircle_29 (fun r u2 hr => ?_)
  obtain ⟨rfl, rfl⟩ := hr
  rw [riv_agst (m := m) hT (by omega) (by omega) (by omega) (by omega) ht]
  have hlt := agst_lt B o a m t
  refine ro_istore (lv1 := [_, _, _, _, _, _, _]) dX0_wouldCircle_32 rfl rfl rfl ?_
  refine ro_iload dX0_wouldCircle_34 rfl ?_
  refine ro_if_eq 53 dX0_wouldCircle_36 (by decide) (by omega) (fun h5 => ?_) (fun h5 => ?_)
  · refine ro_iconst (x := nI 0) dX0_wouldCircle_53 (by decide) ?_
    refine ro_iret dX0_wouldCircle_54 ?_
    rw [fCirc_c ho hm ham ht0 ht hw]
    unfold cCirc
    rw [cif_f (fun z => z.1 h5)]
    exact ⟨rfl, rfl⟩
  refine ro_aload_n dX0_wouldCircle_39 rfl ?_
  refine ro_iload dX0_wouldCircle_40 rfl ?_
  refine ro_iload_n dX0_wouldCircle_42 rfl ?_
  refine ro_call0 2 (mt_leadsTo O F L T V P X Y Z n c B q Wh Fi Ma Ki K hR (agst B o a m t) o hlt ho) cv_X0_X0_leadsTo dn_X0_leadsTo rfl ⟨by decide, by decide⟩ rfl (Nat.le_of_ble_eq_true rfl) dX0_wouldCircle_43 (fun r u2 hr => ?_)
  obtain ⟨hr, rfl⟩ := hr
  rw [lds_cyc hlt (agst_self ho)] at hr
  rcases hr with ⟨h6, rfl⟩ | ⟨h6, rfl⟩
  · refine ro_if_eq 53 dX0_wouldCircle_46 (by decide) (by omega) (fun e => absurd e (by decide)) (fun _ => ?_)
    refine ro_iconst (x := nI 1) dX0_wouldCircle_49 (by decide) ?_
    refine ro_goto 54 dX0_wouldCircle_50 (by decide) ?_
    refine ro_iret dX0_wouldCircle_54 ?_
    rw [fCirc_c ho hm ham ht0 ht hw]
    unfold cCirc
    rw [cif_t ⟨h5, h6⟩]
    exact ⟨rfl, rfl⟩
  refine ro_if_eq 53 dX0_wouldCircle_46 (by decide) (by omega) (fun _ => ?_) (fun e => absurd rfl e)
  refine ro_iconst (x := nI 0) dX0_wouldCircle_53 (by decide) ?_
  refine ro_iret dX0_wouldCircle_54 ?_
  rw [fCirc_c ho hm ham ht0 ht hw]
  unfold cCirc
  rw [cif_f (fun z => h6 z.2)]
  exact ⟨rfl, rfl⟩
set_option maxHeartbeats 4000000 in
set_option maxRecDepth 100000 in
theorem mt_cancel (O F L T V P X Y Z : Fn) (n c : Nat) (B : Fn) (q : Nat) (Wh Fi Ma Ki : Fn) (K : Nat) (hR : Rel K (O, F, L, T, V, P, X, Y, Z, n, c) (B, q, Wh, Fi, Ma, Ki)) (x : Int32) : MCi w0 yX0_cancel cX0_cancel 2 (some .int) 1 20 [.int x] ((O, F, L, T, V, P, X, Y, Z, n, c)) (fun r u2 => r = (fCancel (B, q, Wh, Fi, Ma, Ki) x).1 ∧ Rel K u2 (fCancel (B, q, Wh, Fi, Ma, Ki) x).2) := by
  refine MCi_of (lv := fun ad => [some (.ref (ad 0)), some (.int x)]) (by decide) (Or.inl rfl) rfl (fun _ => Nat.le_of_ble_eq_true rfl) (fun _ => rfl) ?_
  intro g ad cI cZ
  show G g _ cX0_cancel RX0 2 _ (w0 ad cI cZ) _ _ ((O, F, L, T, V, P, X, Y, Z, n, c)) 0 _ []
  obtain ⟨hT, hQ, hck⟩ := id hR
  have hn := SD_n hT.1
  have hB := hT.2.2.1
  have hW := hQ.1
  refine ro_iload_n dX0_cancel_0 rfl ?_
  refine ro_calls 1 (mt_isOwner x) cv_X0_X0_isOwner dn_X0_isOwner rfl ⟨by decide, by decide⟩ rfl (Nat.le_of_ble_eq_true rfl) dX0_cancel_1 (fun r hr => ?_)
  rcases hr with ⟨h1, rfl⟩ | ⟨h1, rfl⟩
  rotate_left
  · refine ro_if_ne 9 dX0_cancel_4 (by decide) (by omega) (fun e => absurd rfl e) (fun _ => ?_)
    refine ro_iconst (x := -1) dX0_cancel_7 (by decide) ?_
    refine ro_iret dX0_cancel_8 ?_
    rw [fCancel, fO_bad h1]
    exact ⟨rfl, hR⟩
  obtain ⟨o, ho, rfl⟩ := h1
  refine ro_if_ne 9 dX0_cancel_4 (by decide) (by omega) (fun _ => ?_) (fun e => absurd e (by decide))
  have b1 := hW.1 o
  refine ro_aload_n dX0_cancel_9 rfl ?_
  refine f0_waits dX0_cancel_10 ?_
  refine ro_iload_n dX0_cancel_13 rfl ?_
  refine l0_waits dX0_cancel_14 (by omega) ?_
  refine ro_if_ne 21 dX0_cancel_15 (by decide) (by omega) (fun h2 => ?_) (fun h2 => ?_)
  rotate_left
  · refine ro_bipush (x := -2) dX0_cancel_18 (by decide) ?_
    refine ro_iret dX0_cancel_20 ?_
    rw [fCancel, fO_c ho, cCancel, (wt_none hQ ho).mpr h2]
    exact ⟨rfl, hR⟩
  refine ro_aload_n dX0_cancel_21 rfl ?_
  refine f0_waits dX0_cancel_22 ?_
  refine ro_iload_n dX0_cancel_25 rfl ?_
  refine ro_iconst (x := nI 0) dX0_cancel_26 (by decide) ?_
  refine s0_waits dX0_cancel_27 (by omega) (by omega) ?_
  refine ro_iconst (x := nI 0) dX0_cancel_28 (by decide) ?_
  refine ro_iret dX0_cancel_29 ?_
  obtain ⟨i, hw, hi, rfl⟩ := wt_some (B := B) hQ ho h2
  rw [fCancel, fO_c ho, cCancel, hw]
  exact ⟨rfl, hT, RQ_leave hQ hi, hck⟩
set_option maxHeartbeats 4000000 in
set_option maxRecDepth 100000 in
theorem mt_waiting (O F L T V P X Y Z : Fn) (n c : Nat) (B : Fn) (q : Nat) (Wh Fi Ma Ki : Fn) (K : Nat) (hR : Rel K (O, F, L, T, V, P, X, Y, Z, n, c) (B, q, Wh, Fi, Ma, Ki)) (x : Int32) : MCi w0 yX0_waiting cX0_waiting 2 (some .int) 1 20 [.int x] ((O, F, L, T, V, P, X, Y, Z, n, c)) (fun r u2 => r = fWaiting (B, q, Wh, Fi, Ma, Ki) x ∧ u2 = (O, F, L, T, V, P, X, Y, Z, n, c)) := by
  refine MCi_of (lv := fun ad => [some (.ref (ad 0)), some (.int x)]) (by decide) (Or.inl rfl) rfl (fun _ => Nat.le_of_ble_eq_true rfl) (fun _ => rfl) ?_
  intro g ad cI cZ
  show G g _ cX0_waiting RX0 2 _ (w0 ad cI cZ) _ _ ((O, F, L, T, V, P, X, Y, Z, n, c)) 0 _ []
  obtain ⟨hT, hQ, hck⟩ := id hR
  have hn := SD_n hT.1
  have hB := hT.2.2.1
  have hW := hQ.1
  refine ro_iload_n dX0_waiting_0 rfl ?_
  refine ro_calls 1 (mt_isOwner x) cv_X0_X0_isOwner dn_X0_isOwner rfl ⟨by decide, by decide⟩ rfl (Nat.le_of_ble_eq_true rfl) dX0_waiting_1 (fun r hr => ?_)
  rcases hr with ⟨h1, rfl⟩ | ⟨h1, rfl⟩
  rotate_left
  · refine ro_if_ne 9 dX0_waiting_4 (by decide) (by omega) (fun e => absurd rfl e) (fun _ => ?_)
    refine ro_iconst (x := -1) dX0_waiting_7 (by decide) ?_
    refine ro_iret dX0_waiting_8 ?_
    rw [fWaiting, fO_bad h1]
    exact ⟨rfl, rfl⟩
  obtain ⟨o, ho, rfl⟩ := h1
  refine ro_if_ne 9 dX0_waiting_4 (by decide) (by omega) (fun _ => ?_) (fun e => absurd e (by decide))
  have b1 := hW.1 o
  refine ro_aload_n dX0_waiting_9 rfl ?_
  refine f0_waits dX0_waiting_10 ?_
  refine ro_iload_n dX0_waiting_13 rfl ?_
  refine l0_waits dX0_waiting_14 (by omega) ?_
  refine ro_if_eq 22 dX0_waiting_15 (by decide) (by omega) (fun h2 => ?_) (fun h2 => ?_)
  · refine ro_iconst (x := nI 0) dX0_waiting_22 (by decide) ?_
    refine ro_iret dX0_waiting_23 ?_
    rw [fWaiting, fO_c ho, cif_t ((wt_none hQ ho).mpr h2)]
    exact ⟨rfl, rfl⟩
  refine ro_iconst (x := nI 1) dX0_waiting_18 (by decide) ?_
  refine ro_goto 23 dX0_waiting_19 (by decide) ?_
  refine ro_iret dX0_waiting_23 ?_
  rw [fWaiting, fO_c ho, cif_f (fun z => h2 ((wt_none hQ ho).mp z))]
  exact ⟨rfl, rfl⟩
set_option maxHeartbeats 4000000 in
set_option maxRecDepth 100000 in
theorem mt_waitsFor (O F L T V P X Y Z : Fn) (n c : Nat) (B : Fn) (q : Nat) (Wh Fi Ma Ki : Fn) (K : Nat) (hR : Rel K (O, F, L, T, V, P, X, Y, Z, n, c) (B, q, Wh, Fi, Ma, Ki)) (x : Int32) : MCi w0 yX0_waitsFor cX0_waitsFor 2 (some .int) 3 73 [.int x] ((O, F, L, T, V, P, X, Y, Z, n, c)) (fun r u2 => r = fWaitsFor (B, q, Wh, Fi, Ma, Ki) x ∧ u2 = (O, F, L, T, V, P, X, Y, Z, n, c)) := by
  refine MCi_of (lv := fun ad => [some (.ref (ad 0)), some (.int x)]) (by decide) (Or.inl rfl) rfl (fun _ => Nat.le_of_ble_eq_true rfl) (fun _ => rfl) ?_
  intro g ad cI cZ
  show G g _ cX0_waitsFor RX0 2 _ (w0 ad cI cZ) _ _ ((O, F, L, T, V, P, X, Y, Z, n, c)) 0 _ []
  obtain ⟨hT, hQ, hck⟩ := id hR
  have hn := SD_n hT.1
  have hB := hT.2.2.1
  have hW := hQ.1
  refine ro_iload_n dX0_waitsFor_0 rfl ?_
  refine ro_calls 1 (mt_isOwner x) cv_X0_X0_isOwner dn_X0_isOwner rfl ⟨by decide, by decide⟩ rfl (Nat.le_of_ble_eq_true rfl) dX0_waitsFor_1 (fun r hr => ?_)
  rcases hr with ⟨h1, rfl⟩ | ⟨h1, rfl⟩
  rotate_left
  · refine ro_if_eq 15 dX0_waitsFor_4 (by decide) (by omega) (fun _ => ?_) (fun e => absurd rfl e)
    refine ro_iconst (x := -1) dX0_waitsFor_15 (by decide) ?_
    refine ro_iret dX0_waitsFor_16 ?_
    rw [fWaitsFor, fO_bad h1]
    exact ⟨rfl, rfl⟩
  obtain ⟨o, ho, rfl⟩ := h1
  refine ro_if_eq 15 dX0_waitsFor_4 (by decide) (by omega) (fun e => absurd e (by decide)) (fun _ => ?_)
  refine ro_aload_n dX0_waitsFor_7 rfl ?_
  refine ro_iload_n dX0_waitsFor_8 rfl ?_
  refine ro_call0 1 (mt_blockers O F L T V P X Y Z n c o hB hW (by omega) (by omega)) cv_X0_X0_blockers dn_X0_blockers rfl ⟨by decide, by decide⟩ rfl (Nat.le_of_ble_eq_true rfl) dX0_waitsFor_9 (fun r u2 hr => ?_)
  obtain ⟨rfl, rfl⟩ := hr
  refine ro_goto 16 dX0_waitsFor_12 (by decide) ?_
  refine ro_iret dX0_waitsFor_16 ?_
  rw [fWaitsFor, fO_c ho, blk_outM hT hQ ho]
  exact ⟨rfl, rfl⟩
set_option maxHeartbeats 4000000 in
set_option maxRecDepth 100000 in
theorem mt_ahead (O F L T V P X Y Z : Fn) (n c : Nat) (B : Fn) (q : Nat) (Wh Fi Ma Ki : Fn) (K : Nat) (hR : Rel K (O, F, L, T, V, P, X, Y, Z, n, c) (B, q, Wh, Fi, Ma, Ki)) (x : Int32) : MCi w0 yX0_ahead cX0_ahead 4 (some .int) 1 20 [.int x] ((O, F, L, T, V, P, X, Y, Z, n, c)) (fun r u2 => r = fAhead (B, q, Wh, Fi, Ma, Ki) x ∧ u2 = (O, F, L, T, V, P, X, Y, Z, n, c)) := by
  refine MCi_of (lv := fun ad => [some (.ref (ad 0)), some (.int x), none, none]) (by decide) (Or.inl rfl) rfl (fun _ => Nat.le_of_ble_eq_true rfl) (fun _ => rfl) ?_
  intro g ad cI cZ
  show G g _ cX0_ahead RX0 4 _ (w0 ad cI cZ) _ _ ((O, F, L, T, V, P, X, Y, Z, n, c)) 0 _ []
  obtain ⟨hT, hQ, hck⟩ := id hR
  have hn := SD_n hT.1
  have hB := hT.2.2.1
  have hW := hQ.1
  refine ro_iload_n dX0_ahead_0 rfl ?_
  refine ro_calls 1 (mt_isOwner x) cv_X0_X0_isOwner dn_X0_isOwner rfl ⟨by decide, by decide⟩ rfl (Nat.le_of_ble_eq_true rfl) dX0_ahead_1 (fun r hr => ?_)
  rcases hr with ⟨h1, rfl⟩ | ⟨h1, rfl⟩
  rotate_left
  · refine ro_if_ne 9 dX0_ahead_4 (by decide) (by omega) (fun e => absurd rfl e) (fun _ => ?_)
    refine ro_iconst (x := -1) dX0_ahead_7 (by decide) ?_
    refine ro_iret dX0_ahead_8 ?_
    rw [fAhead, fO_bad h1]
    exact ⟨rfl, rfl⟩
  obtain ⟨o, ho, rfl⟩ := h1
  refine ro_if_ne 9 dX0_ahead_4 (by decide) (by omega) (fun _ => ?_) (fun e => absurd e (by decide))
  have b1 := hW.1 o
  refine ro_aload_n dX0_ahead_9 rfl ?_
  refine f0_waits dX0_ahead_10 ?_
  refine ro_iload_n dX0_ahead_13 rfl ?_
  refine l0_waits dX0_ahead_14 (by omega) ?_
  refine ro_if_ne 21 dX0_ahead_15 (by decide) (by omega) (fun h2 => ?_) (fun h2 => ?_)
  rotate_left
  · refine ro_bipush (x := -2) dX0_ahead_18 (by decide) ?_
    refine ro_iret dX0_ahead_20 ?_
    rw [fAhead, fO_c ho, cAhead, (wt_none hQ ho).mpr h2]
    exact ⟨rfl, rfl⟩
  have bo := hW.2.2.2.2 o
  have loop : ∀ d p : Nat, p + d = 5 → G g ({ frames := 1, cells := 0, slots := 0, locals := 20 }) cX0_ahead RX0 4 [(cI, .int), (cZ, .boolean)] (w0 ad cI cZ) (fun r u2 => r = fAhead (B, q, Wh, Fi, Ma, Ki) (nI o) ∧ u2 = (O, F, L, T, V, P, X, Y, Z, n, c)) (fun _ => False) (O, F, L, T, V, P, X, Y, Z, n, c) 25 [some (.ref (ad 0)), some (.int (nI o)), some (.int (nI (cnt (fun p => V p ≠ 0 ∧ Z p < Z o) p))), some (.int (nI p))] [] := by
    intro d
    induction d with
    | zero =>
      intro p hp
      have hp : p = 5 := hp
      subst hp
      refine ro_iload_n dX0_ahead_25 rfl ?_
      refine ro_iconst (x := nI 5) dX0_ahead_26 (by decide) ?_
      refine ro_icmp_ge 68 dX0_ahead_27 (by decide) (by omega) (by omega) (fun h3 => ?_) (fun h3 => absurd h3 (by omega))
      refine ro_iload_n dX0_ahead_68 rfl ?_
      refine ro_iret dX0_ahead_69 ?_
      obtain ⟨i, hw, hi, hwi⟩ := wt_some (B := B) hQ ho h2
      rw [fAhead, fO_c ho, cAhead, hw, ← hwi, ahead_n hQ hi]
      exact ⟨rfl, rfl⟩
    | succ d ih =>
      intro p hp
      have bv := hW.1 p
      have bz := hW.2.2.2.2 p
      have := ih (p + 1) (by omega)
      refine ro_iload_n dX0_ahead_25 rfl ?_
      refine ro_iconst (x := nI 5) dX0_ahead_26 (by decide) ?_
      refine ro_icmp_ge 68 dX0_ahead_27 (by decide) (by omega) (by omega) (fun h3 => absurd h3 (by omega)) (fun h3 => ?_)
      refine ro_iload_n dX0_ahead_30 rfl ?_
      refine ro_aload_n dX0_ahead_31 rfl ?_
      refine f0_waits dX0_ahead_32 ?_
      refine ro_iload_n dX0_ahead_35 rfl ?_
      refine l0_waits dX0_ahead_36 (by omega) ?_
      refine ro_if_eq 59 dX0_ahead_37 (by decide) (by omega) (fun h4 => ?_) (fun h4 => ?_)
      · refine ro_iconst (x := nI 0) dX0_ahead_59 (by decide) ?_
        refine ro_iadd dX0_ahead_60 ?_
        refine ro_istore_n (lv1 := [_, _, _, _]) dX0_ahead_61 rfl rfl rfl ?_
        refine ro_iinc (lv1 := [_, _, _, _]) dX0_ahead_62 rfl rfl rfl rfl ?_
        refine ro_goto 25 dX0_ahead_65 (by decide) ?_
        rw [cnt_n (P := fun p => V p ≠ 0 ∧ Z p < Z o) (fun z => z.1 h4)] at this
        exact this
      refine ro_aload_n dX0_ahead_40 rfl ?_
      refine f0_since dX0_ahead_41 ?_
      refine ro_iload_n dX0_ahead_44 rfl ?_
      refine l0_since dX0_ahead_45 (by omega) ?_
      refine ro_aload_n dX0_ahead_46 rfl ?_
      refine f0_since dX0_ahead_47 ?_
      refine ro_iload_n dX0_ahead_50 rfl ?_
      refine l0_since dX0_ahead_51 (by omega) ?_
      refine ro_icmp_ge 59 dX0_ahead_52 (by decide) (by omega) (by omega) (fun h5 => ?_) (fun h5 => ?_)
      · refine ro_iconst (x := nI 0) dX0_ahead_59 (by decide) ?_
        refine ro_iadd dX0_ahead_60 ?_
        refine ro_istore_n (lv1 := [_, _, _, _]) dX0_ahead_61 rfl rfl rfl ?_
        refine ro_iinc (lv1 := [_, _, _, _]) dX0_ahead_62 rfl rfl rfl rfl ?_
        refine ro_goto 25 dX0_ahead_65 (by decide) ?_
        rw [cnt_n (P := fun p => V p ≠ 0 ∧ Z p < Z o) (fun z => by have := z.2; omega)] at this
        exact this
      · refine ro_iconst (x := nI 1) dX0_ahead_55 (by decide) ?_
        refine ro_goto 60 dX0_ahead_56 (by decide) ?_
        refine ro_iadd dX0_ahead_60 ?_
        refine ro_istore_n (lv1 := [_, _, _, _]) dX0_ahead_61 rfl rfl rfl ?_
        refine ro_iinc (lv1 := [_, _, _, _]) dX0_ahead_62 rfl rfl rfl rfl ?_
        refine ro_goto 25 dX0_ahead_65 (by decide) ?_
        rw [cnt_y (P := fun p => V p ≠ 0 ∧ Z p < Z o) ⟨h4, h5⟩] at this
        exact this
  refine ro_iconst (x := nI 0) dX0_ahead_21 (by decide) ?_
  refine ro_istore_n (lv1 := [_, _, _, _]) dX0_ahead_22 rfl rfl rfl ?_
  refine ro_iconst (x := nI 0) dX0_ahead_23 (by decide) ?_
  refine ro_istore_n (lv1 := [_, _, _, _]) dX0_ahead_24 rfl rfl rfl ?_
  exact loop 5 0 rfl
end
section
/-! X0: pieceAt, find, lockAt, holders, obstacle, pieces, pieceStart, pieceEnd, pieceType, count, close -/
set_option maxRecDepth 100000
set_option maxHeartbeats 4000000 in
set_option maxRecDepth 100000 in
theorem mt_pieceAt (O F L T V P X Y Z : Fn) (n c : Nat) (B : Fn) (q : Nat) (Wh Fi Ma Ki : Fn) (K : Nat) (hR : Rel K (O, F, L, T, V, P, X, Y, Z, n, c) (B, q, Wh, Fi, Ma, Ki)) (o x : Nat) (ho : o < 5) (hx : x < 40) : MCi w0 yX0_pieceAt cX0_pieceAt 5 (some .int) 1 25 [.int (nI o), .int (nI x)] ((O, F, L, T, V, P, X, Y, Z, n, c)) (fun r u2 => ((∃ k, k < n ∧ O k = o ∧ F k ≤ x ∧ x ≤ L k ∧ r = nI k) ∨ (r = -1 ∧ ∀ k, k < n → O k = o → ¬ (F k ≤ x ∧ x ≤ L k))) ∧ u2 = (O, F, L, T, V, P, X, Y, Z, n, c)) := by
  refine MCi_of (lv := fun ad => [some (.ref (ad 0)), some (.int (nI o)), some (.int (nI x)), none, none]) (by decide) (Or.inl rfl) rfl (fun _ => Nat.le_of_ble_eq_true rfl) (fun _ => rfl) ?_
  intro g ad cI cZ
  show G g _ cX0_pieceAt RX0 5 _ (w0 ad cI cZ) _ _ ((O, F, L, T, V, P, X, Y, Z, n, c)) 0 _ []
  obtain ⟨hT, hQ, hck⟩ := id hR
  have hn := SD_n hT.1
  have hB := hT.2.2.1
  have hW := hQ.1
  refine ro_aload_n dX0_pieceAt_0 rfl ?_
  refine ro_iload_n dX0_pieceAt_1 rfl ?_
  refine ro_iconst (x := nI 1) dX0_pieceAt_2 (by decide) ?_
  refine ro_iadd dX0_pieceAt_3 ?_
  refine ro_call0 1 (mt_begin O F L T V P X Y Z n c (o + 1) (SD_mono hT.1) hB.1 (by omega) (by omega)) cv_X0_X0_begin dn_X0_begin rfl ⟨by decide, by decide⟩ rfl (Nat.le_of_ble_eq_true rfl) dX0_pieceAt_4 (fun r u2 hr => ?_)
  obtain ⟨⟨e, he, rfl⟩, rfl⟩ := hr
  refine ro_istore_n (lv1 := [_, _, _, _, _]) dX0_pieceAt_7 rfl rfl rfl ?_
  refine ro_aload_n dX0_pieceAt_8 rfl ?_
  refine ro_iload_n dX0_pieceAt_9 rfl ?_
  refine ro_call0 1 (mt_begin O F L T V P X Y Z n c o (SD_mono hT.1) hB.1 (by omega) (by omega)) cv_X0_X0_begin dn_X0_begin rfl ⟨by decide, by decide⟩ rfl (Nat.le_of_ble_eq_true rfl) dX0_pieceAt_10 (fun r u2 hr => ?_)
  obtain ⟨⟨b, hb, rfl⟩, rfl⟩ := hr
  obtain ⟨hbe, hen, hO⟩ := own_in hb he
  have loop : ∀ d k : Nat, k + d = e → b ≤ k → (∀ j, b ≤ j → j < k → ¬ (F j ≤ x ∧ x ≤ L j)) → G g ({ frames := 1, cells := 0, slots := 0, locals := 25 }) cX0_pieceAt RX0 5 [(cI, .int), (cZ, .boolean)] (w0 ad cI cZ) (fun r u2 => ((∃ k, k < n ∧ O k = o ∧ F k ≤ x ∧ x ≤ L k ∧ r = nI k) ∨ (r = -1 ∧ ∀ k, k < n → O k = o → ¬ (F k ≤ x ∧ x ≤ L k))) ∧ u2 = (O, F, L, T, V, P, X, Y, Z, n, c)) (fun _ => False) (O, F, L, T, V, P, X, Y, Z, n, c) 15 [some (.ref (ad 0)), some (.int (nI o)), some (.int (nI x)), some (.int (nI e)), some (.int (nI k))] [] := by
    intro d
    induction d with
    | zero =>
      intro k hk hbk hI
      have hk : k = e := hk
      subst hk
      refine ro_iload dX0_pieceAt_15 rfl ?_
      refine ro_iload_n dX0_pieceAt_17 rfl ?_
      refine ro_icmp_ge 52 dX0_pieceAt_18 (by decide) (by omega) (by omega) (fun h1 => ?_) (fun h1 => absurd h1 (by omega))
      refine ro_iconst (x := -1) dX0_pieceAt_52 (by decide) ?_
      refine ro_iret dX0_pieceAt_53 ?_
      exact ⟨Or.inr ⟨rfl, fun j hj z => hI j ((hO j hj).mp z).1 ((hO j hj).mp z).2⟩, rfl⟩
    | succ d ih =>
      intro k hk hbk hI
      have bf := hB.2.1 k
      have bl := hB.2.2.1 k
      refine ro_iload dX0_pieceAt_15 rfl ?_
      refine ro_iload_n dX0_pieceAt_17 rfl ?_
      refine ro_icmp_ge 52 dX0_pieceAt_18 (by decide) (by omega) (by omega) (fun h1 => absurd h1 (by omega)) (fun h1 => ?_)
      refine ro_aload_n dX0_pieceAt_21 rfl ?_
      refine f0_firsts dX0_pieceAt_22 ?_
      refine ro_iload dX0_pieceAt_25 rfl ?_
      refine l0_firsts dX0_pieceAt_27 (by omega) ?_
      refine ro_iload_n dX0_pieceAt_28 rfl ?_
      refine ro_icmp_gt 46 dX0_pieceAt_29 (by decide) (by omega) (by omega) (fun h2 => ?_) (fun h2 => ?_)
      · refine ro_iinc (lv1 := [_, _, _, _, _]) dX0_pieceAt_46 rfl rfl rfl rfl ?_
        refine ro_goto 15 dX0_pieceAt_49 (by decide) ?_
        refine ih (k + 1) (by omega) (by omega) (fun j a1 a2 z => ?_)
        by_cases q : j = k
        · subst q; omega
        · exact hI j a1 (by omega) z
      refine ro_iload_n dX0_pieceAt_32 rfl ?_
      refine ro_aload_n dX0_pieceAt_33 rfl ?_
      refine f0_lasts dX0_pieceAt_34 ?_
      refine ro_iload dX0_pieceAt_37 rfl ?_
      refine l0_lasts dX0_pieceAt_39 (by omega) ?_
      refine ro_icmp_gt 46 dX0_pieceAt_40 (by decide) (by omega) (by omega) (fun h3 => ?_) (fun h3 => ?_)
      · refine ro_iinc (lv1 := [_, _, _, _, _]) dX0_pieceAt_46 rfl rfl rfl rfl ?_
        refine ro_goto 15 dX0_pieceAt_49 (by decide) ?_
        refine ih (k + 1) (by omega) (by omega) (fun j a1 a2 z => ?_)
        by_cases q : j = k
        · subst q; omega
        · exact hI j a1 (by omega) z
      · refine ro_iload dX0_pieceAt_43 rfl ?_
        refine ro_iret dX0_pieceAt_45 ?_
        exact ⟨Or.inl ⟨k, by omega, (hO k (by omega)).mpr ⟨hbk, h1⟩, h2, h3, rfl⟩, rfl⟩
  refine ro_istore (lv1 := [_, _, _, _, _]) dX0_pieceAt_13 rfl rfl rfl ?_
  exact loop (e - b) b (by omega) (Nat.le_refl b) (fun j a1 a2 => absurd a2 (by omega))
set_option maxHeartbeats 4000000 in
set_option maxRecDepth 100000 in
theorem mt_find (O F L T V P X Y Z : Fn) (n c : Nat) (B : Fn) (q : Nat) (Wh Fi Ma Ki : Fn) (K : Nat) (hR : Rel K (O, F, L, T, V, P, X, Y, Z, n, c) (B, q, Wh, Fi, Ma, Ki)) (x y : Int32) : MCi w0 yX0_find cX0_find 5 (some .int) 1 25 [.int x, .int y] ((O, F, L, T, V, P, X, Y, Z, n, c)) (fun r u2 => ((¬ okO x ∧ r = -1) ∨ ∃ o b e, o < 5 ∧ x = nI o ∧ isB O n o b ∧ isB O n (o + 1) e ∧ ((∃ p, b + p < e ∧ y = nI p ∧ r = nI (b + p)) ∨ ((∀ p, b + p < e → y ≠ nI p) ∧ r = -2))) ∧ u2 = (O, F, L, T, V, P, X, Y, Z, n, c)) := by
  refine MCi_of (lv := fun ad => [some (.ref (ad 0)), some (.int x), some (.int y), none, none]) (by decide) (Or.inl rfl) rfl (fun _ => Nat.le_of_ble_eq_true rfl) (fun _ => rfl) ?_
  intro g ad cI cZ
  show G g _ cX0_find RX0 5 _ (w0 ad cI cZ) _ _ ((O, F, L, T, V, P, X, Y, Z, n, c)) 0 _ []
  obtain ⟨hT, hQ, hck⟩ := id hR
  have hn := SD_n hT.1
  have hB := hT.2.2.1
  have hW := hQ.1
  refine ro_iload_n dX0_find_0 rfl ?_
  refine ro_calls 1 (mt_isOwner x) cv_X0_X0_isOwner dn_X0_isOwner rfl ⟨by decide, by decide⟩ rfl (Nat.le_of_ble_eq_true rfl) dX0_find_1 (fun r hr => ?_)
  rcases hr with ⟨h1, rfl⟩ | ⟨h1, rfl⟩
  rotate_left
  · refine ro_if_ne 9 dX0_find_4 (by decide) (by omega) (fun e => absurd rfl e) (fun _ => ?_)
    refine ro_iconst (x := -1) dX0_find_7 (by decide) ?_
    refine ro_iret dX0_find_8 ?_
    exact ⟨Or.inl ⟨h1, rfl⟩, rfl⟩
  obtain ⟨o, ho, rfl⟩ := h1
  refine ro_if_ne 9 dX0_find_4 (by decide) (by omega) (fun _ => ?_) (fun e => absurd e (by decide))
  refine ro_aload_n dX0_find_9 rfl ?_
  refine ro_iload_n dX0_find_10 rfl ?_
  refine ro_call0 1 (mt_begin O F L T V P X Y Z n c o (SD_mono hT.1) hB.1 (by omega) (by omega)) cv_X0_X0_begin dn_X0_begin rfl ⟨by decide, by decide⟩ rfl (Nat.le_of_ble_eq_true rfl) dX0_find_11 (fun r u2 hr => ?_)
  obtain ⟨⟨b, hb, rfl⟩, rfl⟩ := hr
  refine ro_istore_n (lv1 := [_, _, _, _, _]) dX0_find_14 rfl rfl rfl ?_
  refine ro_aload_n dX0_find_15 rfl ?_
  refine ro_iload_n dX0_find_16 rfl ?_
  refine ro_iconst (x := nI 1) dX0_find_17 (by decide) ?_
  refine ro_iadd dX0_find_18 ?_
  refine ro_call0 1 (mt_begin O F L T V P X Y Z n c (o + 1) (SD_mono hT.1) hB.1 (by omega) (by omega)) cv_X0_X0_begin dn_X0_begin rfl ⟨by decide, by decide⟩ rfl (Nat.le_of_ble_eq_true rfl) dX0_find_19 (fun r u2 hr => ?_)
  obtain ⟨⟨e, he, rfl⟩, rfl⟩ := hr
  obtain ⟨hbe, hen, hO⟩ := own_in hb he
  refine ro_iload_n dX0_find_22 rfl ?_
  refine ro_isub dX0_find_23 (by omega) ?_
  refine ro_istore (lv1 := [_, _, _, _, _]) dX0_find_24 rfl rfl rfl ?_
  refine ro_iload_n dX0_find_26 rfl ?_
  refine ro_if_ltR 36 dX0_find_27 (by decide) (fun h2 => ?_) (fun h2 => ?_)
  · refine ro_bipush (x := -2) dX0_find_36 (by decide) ?_
    refine ro_goto 44 dX0_find_38 (by decide) ?_
    refine ro_iret dX0_find_44 ?_
    exact ⟨Or.inr ⟨o, b, e, ho, rfl, hb, he, Or.inr ⟨fun p hp z => neg_of (by omega) h2 z, rfl⟩⟩, rfl⟩
  refine ro_iload_n dX0_find_30 rfl ?_
  refine ro_iload dX0_find_31 rfl ?_
  refine ro_icmp_ltR 41 dX0_find_33 (by decide) (fun h3 => ?_) (fun h3 => ?_)
  rotate_left
  · refine ro_bipush (x := -2) dX0_find_36 (by decide) ?_
    refine ro_goto 44 dX0_find_38 (by decide) ?_
    refine ro_iret dX0_find_44 ?_
    exact ⟨Or.inr ⟨o, b, e, ho, rfl, hb, he, Or.inr ⟨fun p hp z => h3 (by rw [z]; exact nI_lt (by omega) (by omega)), rfl⟩⟩, rfl⟩
  obtain ⟨p, hp, rfl⟩ := own_of (x := y) (n := e - b) (by omega) h2 (fun z => absurd (Int32.lt_of_lt_of_le h3 z) Int32.lt_irrefl)
  refine ro_iload_n dX0_find_41 rfl ?_
  refine ro_iload_n dX0_find_42 rfl ?_
  refine ro_iadd dX0_find_43 ?_
  refine ro_iret dX0_find_44 ?_
  exact ⟨Or.inr ⟨o, b, e, ho, rfl, hb, he, Or.inl ⟨p, by omega, rfl, rfl⟩⟩, rfl⟩
set_option maxHeartbeats 4000000 in
set_option maxRecDepth 100000 in
theorem mt_pieceStart (O F L T V P X Y Z : Fn) (n c : Nat) (B : Fn) (q : Nat) (Wh Fi Ma Ki : Fn) (K : Nat) (hR : Rel K (O, F, L, T, V, P, X, Y, Z, n, c) (B, q, Wh, Fi, Ma, Ki)) (x y : Int32) : MCi w0 yX0_pieceStart cX0_pieceStart 4 (some .int) 2 49 [.int x, .int y] ((O, F, L, T, V, P, X, Y, Z, n, c)) (fun r u2 => r = fPStart (B, q, Wh, Fi, Ma, Ki) x y ∧ u2 = (O, F, L, T, V, P, X, Y, Z, n, c)) := by
  refine MCi_of (lv := fun ad => [some (.ref (ad 0)), some (.int x), some (.int y), none]) (by decide) (Or.inl rfl) rfl (fun _ => Nat.le_of_ble_eq_true rfl) (fun _ => rfl) ?_
  intro g ad cI cZ
  show G g _ cX0_pieceStart RX0 4 _ (w0 ad cI cZ) _ _ ((O, F, L, T, V, P, X, Y, Z, n, c)) 0 _ []
  obtain ⟨hT, hQ, hck⟩ := id hR
  have hn := SD_n hT.1
  have hB := hT.2.2.1
  have hW := hQ.1
  refine ro_aload_n dX0_pieceStart_0 rfl ?_
  refine ro_iload_n dX0_pieceStart_1 rfl ?_
  refine ro_iload_n dX0_pieceStart_2 rfl ?_
  refine ro_call0 2 (mt_find O F L T V P X Y Z n c B q Wh Fi Ma Ki K hR x y) cv_X0_X0_find dn_X0_find rfl ⟨by decide, by decide⟩ rfl (Nat.le_of_ble_eq_true rfl) dX0_pieceStart_3 (fun r u2 hr => ?_)
  obtain ⟨hr, rfl⟩ := hr
  rcases hr with ⟨h1, rfl⟩ | ⟨o, b, e, ho, rfl, hb, he, hr⟩
  · refine ro_istore_n (lv1 := [_, _, _, _]) dX0_pieceStart_6 rfl rfl rfl ?_
    refine ro_iload_n dX0_pieceStart_7 rfl ?_
    refine ro_if_geR 15 dX0_pieceStart_8 (by decide) (fun e => absurd e (by decide)) (fun _ => ?_)
    refine ro_iload_n dX0_pieceStart_11 rfl ?_
    refine ro_goto 21 dX0_pieceStart_12 (by decide) ?_
    refine ro_iret dX0_pieceStart_21 ?_
    rw [fPStart, fO_bad h1]
    exact ⟨rfl, rfl⟩
  obtain ⟨hbe, hen, hO⟩ := own_in hb he
  rcases hr with ⟨p, hp, rfl, rfl⟩ | ⟨hno, rfl⟩
  · refine ro_istore_n (lv1 := [_, _, _, _]) dX0_pieceStart_6 rfl rfl rfl ?_
    refine ro_iload_n dX0_pieceStart_7 rfl ?_
    refine ro_if_ge 15 dX0_pieceStart_8 (by decide) (by omega) ?_
    refine ro_aload_n dX0_pieceStart_15 rfl ?_
    refine f0_firsts dX0_pieceStart_16 ?_
    refine ro_iload_n dX0_pieceStart_19 rfl ?_
    refine l0_firsts dX0_pieceStart_20 (by omega) ?_
    refine ro_iret dX0_pieceStart_21 ?_
    rw [fPStart, fO_c ho, show stO (vB (B, q, Wh, Fi, Ma, Ki)) o (nI p) = some (F (b + p)) from stO_in hT ho hb he hp]
    exact ⟨rfl, rfl⟩
  · refine ro_istore_n (lv1 := [_, _, _, _]) dX0_pieceStart_6 rfl rfl rfl ?_
    refine ro_iload_n dX0_pieceStart_7 rfl ?_
    refine ro_if_geR 15 dX0_pieceStart_8 (by decide) (fun e => absurd e (by decide)) (fun _ => ?_)
    refine ro_iload_n dX0_pieceStart_11 rfl ?_
    refine ro_goto 21 dX0_pieceStart_12 (by decide) ?_
    refine ro_iret dX0_pieceStart_21 ?_
    rw [fPStart, fO_c ho, show stO (vB (B, q, Wh, Fi, Ma, Ki)) o y = none from stO_out hT ho hb he hno]
    exact ⟨rfl, rfl⟩
set_option maxHeartbeats 4000000 in
set_option maxRecDepth 100000 in
theorem mt_pieceEnd (O F L T V P X Y Z : Fn) (n c : Nat) (B : Fn) (q : Nat) (Wh Fi Ma Ki : Fn) (K : Nat) (hR : Rel K (O, F, L, T, V, P, X, Y, Z, n, c) (B, q, Wh, Fi, Ma, Ki)) (x y : Int32) : MCi w0 yX0_pieceEnd cX0_pieceEnd 4 (some .int) 2 49 [.int x, .int y] ((O, F, L, T, V, P, X, Y, Z, n, c)) (fun r u2 => r = fPEnd (B, q, Wh, Fi, Ma, Ki) x y ∧ u2 = (O, F, L, T, V, P, X, Y, Z, n, c)) := by
  refine MCi_of (lv := fun ad => [some (.ref (ad 0)), some (.int x), some (.int y), none]) (by decide) (Or.inl rfl) rfl (fun _ => Nat.le_of_ble_eq_true rfl) (fun _ => rfl) ?_
  intro g ad cI cZ
  show G g _ cX0_pieceEnd RX0 4 _ (w0 ad cI cZ) _ _ ((O, F, L, T, V, P, X, Y, Z, n, c)) 0 _ []
  obtain ⟨hT, hQ, hck⟩ := id hR
  have hn := SD_n hT.1
  have hB := hT.2.2.1
  have hW := hQ.1
  refine ro_aload_n dX0_pieceEnd_0 rfl ?_
  refine ro_iload_n dX0_pieceEnd_1 rfl ?_
  refine ro_iload_n dX0_pieceEnd_2 rfl ?_
  refine ro_call0 2 (mt_find O F L T V P X Y Z n c B q Wh Fi Ma Ki K hR x y) cv_X0_X0_find dn_X0_find rfl ⟨by decide, by decide⟩ rfl (Nat.le_of_ble_eq_true rfl) dX0_pieceEnd_3 (fun r u2 hr => ?_)
  obtain ⟨hr, rfl⟩ := hr
  rcases hr with ⟨h1, rfl⟩ | ⟨o, b, e, ho, rfl, hb, he, hr⟩
  · refine ro_istore_n (lv1 := [_, _, _, _]) dX0_pieceEnd_6 rfl rfl rfl ?_
    refine ro_iload_n dX0_pieceEnd_7 rfl ?_
    refine ro_if_geR 15 dX0_pieceEnd_8 (by decide) (fun e => absurd e (by decide)) (fun _ => ?_)
    refine ro_iload_n dX0_pieceEnd_11 rfl ?_
    refine ro_goto 21 dX0_pieceEnd_12 (by decide) ?_
    refine ro_iret dX0_pieceEnd_21 ?_
    rw [fPEnd, fO_bad h1]
    exact ⟨rfl, rfl⟩
  obtain ⟨hbe, hen, hO⟩ := own_in hb he
  rcases hr with ⟨p, hp, rfl, rfl⟩ | ⟨hno, rfl⟩
  · refine ro_istore_n (lv1 := [_, _, _, _]) dX0_pieceEnd_6 rfl rfl rfl ?_
    refine ro_iload_n dX0_pieceEnd_7 rfl ?_
    refine ro_if_ge 15 dX0_pieceEnd_8 (by decide) (by omega) ?_
    refine ro_aload_n dX0_pieceEnd_15 rfl ?_
    refine f0_lasts dX0_pieceEnd_16 ?_
    refine ro_iload_n dX0_pieceEnd_19 rfl ?_
    refine l0_lasts dX0_pieceEnd_20 (by omega) ?_
    refine ro_iret dX0_pieceEnd_21 ?_
    rw [fPEnd, fO_c ho, show stO (vB (B, q, Wh, Fi, Ma, Ki)) o (nI p) = some (F (b + p)) from stO_in hT ho hb he hp]
    show nI (L (b + p)) = nI (endB B o (F (b + p))) ∧ _
    rw [endB_in hT ho (by omega) ((hO (b + p) (by omega)).mpr ⟨by omega, hp⟩)]
    exact ⟨rfl, rfl⟩
  · refine ro_istore_n (lv1 := [_, _, _, _]) dX0_pieceEnd_6 rfl rfl rfl ?_
    refine ro_iload_n dX0_pieceEnd_7 rfl ?_
    refine ro_if_geR 15 dX0_pieceEnd_8 (by decide) (fun e => absurd e (by decide)) (fun _ => ?_)
    refine ro_iload_n dX0_pieceEnd_11 rfl ?_
    refine ro_goto 21 dX0_pieceEnd_12 (by decide) ?_
    refine ro_iret dX0_pieceEnd_21 ?_
    rw [fPEnd, fO_c ho, show stO (vB (B, q, Wh, Fi, Ma, Ki)) o y = none from stO_out hT ho hb he hno]
    exact ⟨rfl, rfl⟩
set_option maxHeartbeats 4000000 in
set_option maxRecDepth 100000 in
theorem mt_pieceType (O F L T V P X Y Z : Fn) (n c : Nat) (B : Fn) (q : Nat) (Wh Fi Ma Ki : Fn) (K : Nat) (hR : Rel K (O, F, L, T, V, P, X, Y, Z, n, c) (B, q, Wh, Fi, Ma, Ki)) (x y : Int32) : MCi w0 yX0_pieceType cX0_pieceType 4 (some .int) 2 49 [.int x, .int y] ((O, F, L, T, V, P, X, Y, Z, n, c)) (fun r u2 => r = fPType (B, q, Wh, Fi, Ma, Ki) x y ∧ u2 = (O, F, L, T, V, P, X, Y, Z, n, c)) := by
  refine MCi_of (lv := fun ad => [some (.ref (ad 0)), some (.int x), some (.int y), none]) (by decide) (Or.inl rfl) rfl (fun _ => Nat.le_of_ble_eq_true rfl) (fun _ => rfl) ?_
  intro g ad cI cZ
  show G g _ cX0_pieceType RX0 4 _ (w0 ad cI cZ) _ _ ((O, F, L, T, V, P, X, Y, Z, n, c)) 0 _ []
  obtain ⟨hT, hQ, hck⟩ := id hR
  have hn := SD_n hT.1
  have hB := hT.2.2.1
  have hW := hQ.1
  refine ro_aload_n dX0_pieceType_0 rfl ?_
  refine ro_iload_n dX0_pieceType_1 rfl ?_
  refine ro_iload_n dX0_pieceType_2 rfl ?_
  refine ro_call0 2 (mt_find O F L T V P X Y Z n c B q Wh Fi Ma Ki K hR x y) cv_X0_X0_find dn_X0_find rfl ⟨by decide, by decide⟩ rfl (Nat.le_of_ble_eq_true rfl) dX0_pieceType_3 (fun r u2 hr => ?_)
  obtain ⟨hr, rfl⟩ := hr
  rcases hr with ⟨h1, rfl⟩ | ⟨o, b, e, ho, rfl, hb, he, hr⟩
  · refine ro_istore_n (lv1 := [_, _, _, _]) dX0_pieceType_6 rfl rfl rfl ?_
    refine ro_iload_n dX0_pieceType_7 rfl ?_
    refine ro_if_geR 15 dX0_pieceType_8 (by decide) (fun e => absurd e (by decide)) (fun _ => ?_)
    refine ro_iload_n dX0_pieceType_11 rfl ?_
    refine ro_goto 21 dX0_pieceType_12 (by decide) ?_
    refine ro_iret dX0_pieceType_21 ?_
    rw [fPType, fO_bad h1]
    exact ⟨rfl, rfl⟩
  obtain ⟨hbe, hen, hO⟩ := own_in hb he
  rcases hr with ⟨p, hp, rfl, rfl⟩ | ⟨hno, rfl⟩
  · refine ro_istore_n (lv1 := [_, _, _, _]) dX0_pieceType_6 rfl rfl rfl ?_
    refine ro_iload_n dX0_pieceType_7 rfl ?_
    refine ro_if_ge 15 dX0_pieceType_8 (by decide) (by omega) ?_
    refine ro_aload_n dX0_pieceType_15 rfl ?_
    refine f0_types dX0_pieceType_16 ?_
    refine ro_iload_n dX0_pieceType_19 rfl ?_
    refine l0_types dX0_pieceType_20 (by omega) ?_
    refine ro_iret dX0_pieceType_21 ?_
    rw [fPType, fO_c ho, show stO (vB (B, q, Wh, Fi, Ma, Ki)) o (nI p) = some (F (b + p)) from stO_in hT ho hb he hp]
    show nI (T (b + p)) = nI (B (40 * o + F (b + p))) ∧ _
    rw [tb_in hT ho (by omega) ((hO (b + p) (by omega)).mpr ⟨by omega, hp⟩) (Nat.le_refl _) (hT.1.1 (b + p) (by omega)).1]
    exact ⟨rfl, rfl⟩
  · refine ro_istore_n (lv1 := [_, _, _, _]) dX0_pieceType_6 rfl rfl rfl ?_
    refine ro_iload_n dX0_pieceType_7 rfl ?_
    refine ro_if_geR 15 dX0_pieceType_8 (by decide) (fun e => absurd e (by decide)) (fun _ => ?_)
    refine ro_iload_n dX0_pieceType_11 rfl ?_
    refine ro_goto 21 dX0_pieceType_12 (by decide) ?_
    refine ro_iret dX0_pieceType_21 ?_
    rw [fPType, fO_c ho, show stO (vB (B, q, Wh, Fi, Ma, Ki)) o y = none from stO_out hT ho hb he hno]
    exact ⟨rfl, rfl⟩
set_option maxHeartbeats 4000000 in
set_option maxRecDepth 100000 in
theorem mt_lockAt (O F L T V P X Y Z : Fn) (n c : Nat) (B : Fn) (q : Nat) (Wh Fi Ma Ki : Fn) (K : Nat) (hR : Rel K (O, F, L, T, V, P, X, Y, Z, n, c) (B, q, Wh, Fi, Ma, Ki)) (x y : Int32) : MCi w0 yX0_lockAt cX0_lockAt 4 (some .int) 2 49 [.int x, .int y] ((O, F, L, T, V, P, X, Y, Z, n, c)) (fun r u2 => r = fLockAt (B, q, Wh, Fi, Ma, Ki) x y ∧ u2 = (O, F, L, T, V, P, X, Y, Z, n, c)) := by
  refine MCi_of (lv := fun ad => [some (.ref (ad 0)), some (.int x), some (.int y), none]) (by decide) (Or.inl rfl) rfl (fun _ => Nat.le_of_ble_eq_true rfl) (fun _ => rfl) ?_
  intro g ad cI cZ
  show G g _ cX0_lockAt RX0 4 _ (w0 ad cI cZ) _ _ ((O, F, L, T, V, P, X, Y, Z, n, c)) 0 _ []
  obtain ⟨hT, hQ, hck⟩ := id hR
  have hn := SD_n hT.1
  have hB := hT.2.2.1
  have hW := hQ.1
  refine ro_iload_n dX0_lockAt_0 rfl ?_
  refine ro_calls 1 (mt_isOwner x) cv_X0_X0_isOwner dn_X0_isOwner rfl ⟨by decide, by decide⟩ rfl (Nat.le_of_ble_eq_true rfl) dX0_lockAt_1 (fun r hr => ?_)
  rcases hr with ⟨h1, rfl⟩ | ⟨h1, rfl⟩
  rotate_left
  · refine ro_if_ne 9 dX0_lockAt_4 (by decide) (by omega) (fun e => absurd rfl e) (fun _ => ?_)
    refine ro_iconst (x := -1) dX0_lockAt_7 (by decide) ?_
    refine ro_iret dX0_lockAt_8 ?_
    rw [fLockAt, fO_bad h1]
    exact ⟨rfl, rfl⟩
  obtain ⟨o, ho, rfl⟩ := h1
  refine ro_if_ne 9 dX0_lockAt_4 (by decide) (by omega) (fun _ => ?_) (fun e => absurd e (by decide))
  refine ro_iload_n dX0_lockAt_9 rfl ?_
  refine ro_calls 1 (mt_isByte y) cv_X0_X0_isByte dn_X0_isByte rfl ⟨by decide, by decide⟩ rfl (Nat.le_of_ble_eq_true rfl) dX0_lockAt_10 (fun r hr => ?_)
  rcases hr with ⟨h2, rfl⟩ | ⟨h2, rfl⟩
  rotate_left
  · refine ro_if_ne 19 dX0_lockAt_13 (by decide) (by omega) (fun e => absurd rfl e) (fun _ => ?_)
    refine ro_bipush (x := -2) dX0_lockAt_16 (by decide) ?_
    refine ro_iret dX0_lockAt_18 ?_
    rw [fLockAt, fO_c ho, fB_bad h2]
    exact ⟨rfl, rfl⟩
  obtain ⟨b, hb, rfl⟩ := h2
  refine ro_if_ne 19 dX0_lockAt_13 (by decide) (by omega) (fun _ => ?_) (fun e => absurd e (by decide))
  refine ro_aload_n dX0_lockAt_19 rfl ?_
  refine ro_iload_n dX0_lockAt_20 rfl ?_
  refine ro_iload_n dX0_lockAt_21 rfl ?_
  refine ro_call0 2 (mt_pieceAt O F L T V P X Y Z n c B q Wh Fi Ma Ki K hR o b ho hb) cv_X0_X0_pieceAt dn_X0_pieceAt rfl ⟨by decide, by decide⟩ rfl (Nat.le_of_ble_eq_true rfl) dX0_lockAt_22 (fun r u2 hr => ?_)
  obtain ⟨hr, rfl⟩ := hr
  rcases hr with ⟨k, hk, g1, g2, g3, rfl⟩ | ⟨rfl, hno⟩
  · refine ro_istore_n (lv1 := [_, _, _, _]) dX0_lockAt_25 rfl rfl rfl ?_
    refine ro_iload_n dX0_lockAt_26 rfl ?_
    refine ro_if_ge 34 dX0_lockAt_27 (by decide) (by omega) ?_
    refine ro_aload_n dX0_lockAt_34 rfl ?_
    refine f0_types dX0_lockAt_35 ?_
    refine ro_iload_n dX0_lockAt_38 rfl ?_
    refine l0_types dX0_lockAt_39 (by omega) ?_
    refine ro_iret dX0_lockAt_40 ?_
    rw [fLockAt, fO_c ho, fB_c hb, show vB (B, q, Wh, Fi, Ma, Ki) (40 * o + b) = T k from tb_in hT ho hk g1 g2 g3]
    exact ⟨rfl, rfl⟩
  · refine ro_istore_n (lv1 := [_, _, _, _]) dX0_lockAt_25 rfl rfl rfl ?_
    refine ro_iload_n dX0_lockAt_26 rfl ?_
    refine ro_if_geR 34 dX0_lockAt_27 (by decide) (fun e => absurd e (by decide)) (fun _ => ?_)
    refine ro_iconst (x := nI 0) dX0_lockAt_30 (by decide) ?_
    refine ro_goto 40 dX0_lockAt_31 (by decide) ?_
    refine ro_iret dX0_lockAt_40 ?_
    rw [fLockAt, fO_c ho, fB_c hb, show vB (B, q, Wh, Fi, Ma, Ki) (40 * o + b) = 0 from tb_0 hT ho hb hno]
    exact ⟨rfl, rfl⟩
set_option maxHeartbeats 4000000 in
set_option maxRecDepth 100000 in
theorem mt_holders (O F L T V P X Y Z : Fn) (n c : Nat) (B : Fn) (q : Nat) (Wh Fi Ma Ki : Fn) (K : Nat) (hR : Rel K (O, F, L, T, V, P, X, Y, Z, n, c) (B, q, Wh, Fi, Ma, Ki)) (y : Int32) : MCi w0 yX0_holders cX0_holders 4 (some .int) 2 49 [.int y] ((O, F, L, T, V, P, X, Y, Z, n, c)) (fun r u2 => r = fHolders (B, q, Wh, Fi, Ma, Ki) y ∧ u2 = (O, F, L, T, V, P, X, Y, Z, n, c)) := by
  refine MCi_of (lv := fun ad => [some (.ref (ad 0)), some (.int y), none, none]) (by decide) (Or.inl rfl) rfl (fun _ => Nat.le_of_ble_eq_true rfl) (fun _ => rfl) ?_
  intro g ad cI cZ
  show G g _ cX0_holders RX0 4 _ (w0 ad cI cZ) _ _ ((O, F, L, T, V, P, X, Y, Z, n, c)) 0 _ []
  obtain ⟨hT, hQ, hck⟩ := id hR
  have hn := SD_n hT.1
  have hB := hT.2.2.1
  have hW := hQ.1
  refine ro_iload_n dX0_holders_0 rfl ?_
  refine ro_calls 1 (mt_isByte y) cv_X0_X0_isByte dn_X0_isByte rfl ⟨by decide, by decide⟩ rfl (Nat.le_of_ble_eq_true rfl) dX0_holders_1 (fun r hr => ?_)
  rcases hr with ⟨h2, rfl⟩ | ⟨h2, rfl⟩
  rotate_left
  · refine ro_if_ne 9 dX0_holders_4 (by decide) (by omega) (fun e => absurd rfl e) (fun _ => ?_)
    refine ro_iconst (x := -1) dX0_holders_7 (by decide) ?_
    refine ro_iret dX0_holders_8 ?_
    rw [fHolders, fB_bad h2]
    exact ⟨rfl, rfl⟩
  obtain ⟨b, hb, rfl⟩ := h2
  refine ro_if_ne 9 dX0_holders_4 (by decide) (by omega) (fun _ => ?_) (fun e => absurd e (by decide))
  have loop : ∀ d p k : Nat, p + d = 5 → k < 32 → (∀ x, bit k x ↔ x < p ∧ B (40 * x + b) ≠ 0) → G g ({ frames := 2, cells := 0, slots := 0, locals := 49 }) cX0_holders RX0 4 [(cI, .int), (cZ, .boolean)] (w0 ad cI cZ) (fun r u2 => r = fHolders (B, q, Wh, Fi, Ma, Ki) (nI b) ∧ u2 = (O, F, L, T, V, P, X, Y, Z, n, c)) (fun _ => False) (O, F, L, T, V, P, X, Y, Z, n, c) 13 [some (.ref (ad 0)), some (.int (nI b)), some (.int (nI k)), some (.int (nI p))] [] := by
    intro d
    induction d with
    | zero =>
      intro p k hp hk hI
      have hp : p = 5 := hp
      subst hp
      refine ro_iload_n dX0_holders_13 rfl ?_
      refine ro_iconst (x := nI 5) dX0_holders_14 (by decide) ?_
      refine ro_icmp_ge 39 dX0_holders_15 (by decide) (by omega) (by omega) (fun h3 => ?_) (fun h3 => absurd h3 (by omega))
      refine ro_iload_n dX0_holders_39 rfl ?_
      refine ro_iret dX0_holders_40 ?_
      rw [fHolders, fB_c hb]
      exact ⟨by rw [show k = hld (vB (B, q, Wh, Fi, Ma, Ki)) b from mk5_eq hk (fun x hx => by rw [hI x]; exact ⟨fun y => y.2, fun y => ⟨hx, y⟩⟩)], rfl⟩
    | succ d ih =>
      intro p k hp hk hI
      refine ro_iload_n dX0_holders_13 rfl ?_
      refine ro_iconst (x := nI 5) dX0_holders_14 (by decide) ?_
      refine ro_icmp_ge 39 dX0_holders_15 (by decide) (by omega) (by omega) (fun h3 => absurd h3 (by omega)) (fun h3 => ?_)
      refine ro_aload_n dX0_holders_18 rfl ?_
      refine ro_iload_n dX0_holders_19 rfl ?_
      refine ro_iload_n dX0_holders_20 rfl ?_
      refine ro_call0 2 (mt_pieceAt O F L T V P X Y Z n c B q Wh Fi Ma Ki K hR p b h3 hb) cv_X0_X0_pieceAt dn_X0_pieceAt rfl ⟨by decide, by decide⟩ rfl (Nat.le_of_ble_eq_true rfl) dX0_holders_21 (fun r u2 hr => ?_)
      obtain ⟨hr, rfl⟩ := hr
      rcases hr with ⟨j, hj, g1, g2, g3, rfl⟩ | ⟨rfl, hno⟩
      · refine ro_if_lt 33 dX0_holders_24 (by decide) (by omega) ?_
        refine ro_iload_n dX0_holders_27 rfl ?_
        refine ro_iconst (x := nI 1) dX0_holders_28 (by decide) ?_
        refine ro_iload_n dX0_holders_29 rfl ?_
        refine ro_ishl1 dX0_holders_30 (by omega) ?_
        refine ro_ior dX0_holders_31 ?_
        refine ro_istore_n (lv1 := [_, _, _, _]) dX0_holders_32 rfl rfl rfl ?_
        refine ro_iinc (lv1 := [_, _, _, _]) dX0_holders_33 rfl rfl rfl rfl ?_
        refine ro_goto 13 dX0_holders_36 (by decide) ?_
        have hpw : 2 ^ p < 2 ^ 5 := Nat.pow_lt_pow_right (by decide) h3
        have h4 := tb_in hT h3 hj g1 g2 g3
        have h5 := hT.1.1 j hj
        refine ih (p + 1) (k ||| 2 ^ p) (by omega) (or_lt (k := 5) hk hpw) (fun x => ?_)
        rw [bit_or, bit_pow, hI x]
        constructor
        · rintro (⟨z1, z2⟩ | z)
          · exact ⟨by omega, z2⟩
          · subst z; exact ⟨by omega, by omega⟩
        · rintro ⟨z1, z2⟩
          by_cases e : x = p
          · exact Or.inr e
          · exact Or.inl ⟨by omega, z2⟩
      · refine ro_if_ltR 33 dX0_holders_24 (by decide) (fun _ => ?_) (fun e => absurd (by decide) e)
        refine ro_iinc (lv1 := [_, _, _, _]) dX0_holders_33 rfl rfl rfl rfl ?_
        refine ro_goto 13 dX0_holders_36 (by decide) ?_
        have h4 := tb_0 hT h3 hb hno
        refine ih (p + 1) k (by omega) hk (fun x => ?_)
        rw [hI x]
        refine ⟨fun z => ⟨by omega, z.2⟩, fun z => ⟨?_, z.2⟩⟩
        rcases Nat.lt_or_ge x p with e | e
        · exact e
        · obtain rfl : x = p := by omega
          exact absurd h4 z.2
  refine ro_iconst (x := nI 0) dX0_holders_9 (by decide) ?_
  refine ro_istore_n (lv1 := [_, _, _, _]) dX0_holders_10 rfl rfl rfl ?_
  refine ro_iconst (x := nI 0) dX0_holders_11 (by decide) ?_
  refine ro_istore_n (lv1 := [_, _, _, _]) dX0_holders_12 rfl rfl rfl ?_
  exact loop 5 0 0 rfl (by omega) (fun x => ⟨fun h => absurd h bit_0, fun h => absurd h.1 (Nat.not_lt_zero x)⟩)
set_option maxHeartbeats 4000000 in
set_option maxRecDepth 100000 in
theorem mt_obstacle (O F L T V P X Y Z : Fn) (n c : Nat) (B : Fn) (q : Nat) (Wh Fi Ma Ki : Fn) (K : Nat) (hR : Rel K (O, F, L, T, V, P, X, Y, Z, n, c) (B, q, Wh, Fi, Ma, Ki)) (x y z w : Int32) : MCi w0 yX0_obstacle cX0_obstacle 8 (some .int) 1 26 [.int x, .int y, .int z, .int w] ((O, F, L, T, V, P, X, Y, Z, n, c)) (fun r u2 => r = fObst (B, q, Wh, Fi, Ma, Ki) x y z w ∧ u2 = (O, F, L, T, V, P, X, Y, Z, n, c)) := by
  refine MCi_of (lv := fun ad => [some (.ref (ad 0)), some (.int x), some (.int y), some (.int z), some (.int w), none, none, none]) (by decide) (Or.inl rfl) rfl (fun _ => Nat.le_of_ble_eq_true rfl) (fun _ => rfl) ?_
  intro g ad cI cZ
  show G g _ cX0_obstacle RX0 8 _ (w0 ad cI cZ) _ _ ((O, F, L, T, V, P, X, Y, Z, n, c)) 0 _ []
  obtain ⟨hT, hQ, hck⟩ := id hR
  have hn := SD_n hT.1
  have hB := hT.2.2.1
  have hW := hQ.1
  refine ro_iload_n dX0_obstacle_0 rfl ?_
  refine ro_calls 1 (mt_isOwner x) cv_X0_X0_isOwner dn_X0_isOwner rfl ⟨by decide, by decide⟩ rfl (Nat.le_of_ble_eq_true rfl) dX0_obstacle_1 (fun r hr => ?_)
  rcases hr with ⟨h1, rfl⟩ | ⟨h1, rfl⟩
  rotate_left
  · refine ro_if_ne 9 dX0_obstacle_4 (by decide) (by omega) (fun e => absurd rfl e) (fun _ => ?_)
    refine ro_iconst (x := -1) dX0_obstacle_7 (by decide) ?_
    refine ro_iret dX0_obstacle_8 ?_
    rw [fObst, fO_bad h1]
    exact ⟨rfl, rfl⟩
  obtain ⟨o, ho, rfl⟩ := h1
  refine ro_if_ne 9 dX0_obstacle_4 (by decide) (by omega) (fun _ => ?_) (fun e => absurd e (by decide))
  refine ro_iload_n dX0_obstacle_9 rfl ?_
  refine ro_iload_n dX0_obstacle_10 rfl ?_
  refine ro_calls 2 (mt_isRange y z) cv_X0_X0_isRange dn_X0_isRange rfl ⟨by decide, by decide⟩ rfl (Nat.le_of_ble_eq_true rfl) dX0_obstacle_11 (fun r hr => ?_)
  rcases hr with ⟨h2, rfl⟩ | ⟨h2, rfl⟩
  rotate_left
  · refine ro_if_ne 20 dX0_obstacle_14 (by decide) (by omega) (fun e => absurd rfl e) (fun _ => ?_)
    refine ro_bipush (x := -2) dX0_obstacle_17 (by decide) ?_
    refine ro_iret dX0_obstacle_19 ?_
    rw [fObst, fO_c ho, fR_bad h2]
    exact ⟨rfl, rfl⟩
  obtain ⟨a, m, hm, ham, rfl, rfl⟩ := h2
  refine ro_if_ne 20 dX0_obstacle_14 (by decide) (by omega) (fun _ => ?_) (fun e => absurd e (by decide))
  have cont : ∀ t : Nat, 1 ≤ t → t ≤ 2 → w = nI t → G g ({ frames := 1, cells := 0, slots := 0, locals := 26 }) cX0_obstacle RX0 8 [(cI, .int), (cZ, .boolean)] (w0 ad cI cZ) (fun r u2 => r = fObst (B, q, Wh, Fi, Ma, Ki) (nI o) (nI a) (nI m) w ∧ u2 = (O, F, L, T, V, P, X, Y, Z, n, c)) (fun _ => False) (O, F, L, T, V, P, X, Y, Z, n, c) 35 [some (.ref (ad 0)), some (.int (nI o)), some (.int (nI a)), some (.int (nI m)), some (.int (nI t)), none, none, none] [] := by
    intro t ht1 ht2 hwt
    subst hwt
    have loop : ∀ (d k best : Nat) (z : Option Value), k + d = n → bsI O F L T o a (a + m - 1) t k best → G g ({ frames := 1, cells := 0, slots := 0, locals := 26 }) cX0_obstacle RX0 8 [(cI, .int), (cZ, .boolean)] (w0 ad cI cZ) (fun r u2 => r = fObst (B, q, Wh, Fi, Ma, Ki) (nI o) (nI a) (nI m) (nI t) ∧ u2 = (O, F, L, T, V, P, X, Y, Z, n, c)) (fun _ => False) (O, F, L, T, V, P, X, Y, Z, n, c) 42 [some (.ref (ad 0)), some (.int (nI o)), some (.int (nI a)), some (.int (nI m)), some (.int (nI t)), some (.int (nI best)), some (.int (nI k)), z] [] := by
      intro d
      induction d with
      | zero =>
        intro k best z hk hI
        have hk : k = n := hk
        subst hk
        have hb40 := hI.1
        refine ro_iload dX0_obstacle_42 rfl ?_
        refine ro_aload_n dX0_obstacle_44 rfl ?_
        refine f0_count dX0_obstacle_45 ?_
        refine ro_icmp_ge 115 dX0_obstacle_48 (by decide) (by omega) (by omega) (fun h3 => ?_) (fun h3 => absurd h3 (by omega))
        refine ro_iload dX0_obstacle_115 rfl ?_
        refine ro_bipush (x := nI 40) dX0_obstacle_117 (by decide) ?_
        rcases bs_end hT hm (show a + m = a + m - 1 + 1 by omega) (by omega) ht1 ht2 hI with ⟨h4, h5⟩ | ⟨h4, h5⟩
        · refine ro_icmp_ne 127 dX0_obstacle_119 (by decide) (by omega) (by omega) (fun h6 => absurd h6 (by omega)) (fun h6 => ?_)
          refine ro_bipush (x := -4) dX0_obstacle_122 (by decide) ?_
          refine ro_goto 129 dX0_obstacle_124 (by decide) ?_
          refine ro_iret dX0_obstacle_129 ?_
          rw [fObst, fO_c ho, fR_c hm ham, fT_c ht1 ht2, show cObst (vB (B, q, Wh, Fi, Ma, Ki)) o a m t = -4 from h5]
          exact ⟨rfl, rfl⟩
        · refine ro_icmp_ne 127 dX0_obstacle_119 (by decide) (by omega) (by omega) (fun h6 => ?_) (fun h6 => absurd h6 (by omega))
          refine ro_iload dX0_obstacle_127 rfl ?_
          refine ro_iret dX0_obstacle_129 ?_
          rw [fObst, fO_c ho, fR_c hm ham, fT_c ht1 ht2, show cObst (vB (B, q, Wh, Fi, Ma, Ki)) o a m t = nI best from h5]
          exact ⟨rfl, rfl⟩
      | succ d ih =>
        intro k best z hk hI
        have hb40 := hI.1
        have bf := hB.2.1 k
        have hbs : ∀ w, (w = F k ∧ a ≤ F k ∨ w = a ∧ F k ≤ a) → stP O F L T k o a (a + m - 1) t → bsI O F L T o a (a + m - 1) t (k + 1) (if w < best then w else best) := by
          intro w hw hs
          obtain ⟨i1, i2, i3⟩ := hI
          have hs1 := hs.1
          refine ⟨by split <;> omega, fun h => ?_, fun j hj hj2 => ?_⟩
          · by_cases e : w < best
            · rw [if_pos e]; exact ⟨k, by omega, hs, hw⟩
            · rw [if_neg e] at h ⊢
              obtain ⟨j, g1, g2⟩ := i2 h
              exact ⟨j, by omega, g2⟩
          · by_cases e : j = k
            · subst e; split <;> omega
            · have := i3 j (by omega) hj2
              split <;> omega
        refine ro_iload dX0_obstacle_42 rfl ?_
        refine ro_aload_n dX0_obstacle_44 rfl ?_
        refine f0_count dX0_obstacle_45 ?_
        refine ro_icmp_ge 115 dX0_obstacle_48 (by decide) (by omega) (by omega) (fun h3 => absurd h3 (by omega)) (fun h3 => ?_)
        refine ro_aload_n dX0_obstacle_51 rfl ?_
        refine ro_iload dX0_obstacle_52 rfl ?_
        refine ro_iload_n dX0_obstacle_54 rfl ?_
        refine ro_iload_n dX0_obstacle_55 rfl ?_
        refine ro_iload_n dX0_obstacle_56 rfl ?_
        refine ro_iload_n dX0_obstacle_57 rfl ?_
        refine ro_iadd dX0_obstacle_58 ?_
        refine ro_iconst (x := nI 1) dX0_obstacle_59 (by decide) ?_
        refine ro_isub dX0_obstacle_60 (by omega) ?_
        refine ro_iload dX0_obstacle_61 rfl ?_
        refine ro_call0 5 (mt_stands O F L T V P X Y Z n c k o a (a + m - 1) t hB (by omega) (by omega) (by omega) (by omega) ht2) cv_X0_X0_stands dn_X0_stands rfl ⟨by decide, by decide⟩ rfl (Nat.le_of_ble_eq_true rfl) dX0_obstacle_63 (fun r u2 hr => ?_)
        obtain ⟨hr, rfl⟩ := hr
        rcases hr with ⟨hs, rfl⟩ | ⟨hs, rfl⟩
        · refine ro_if_eq 109 dX0_obstacle_66 (by decide) (by omega) (fun e => absurd e (by decide)) (fun _ => ?_)
          refine ro_aload_n dX0_obstacle_69 rfl ?_
          refine f0_firsts dX0_obstacle_70 ?_
          refine ro_iload dX0_obstacle_73 rfl ?_
          refine l0_firsts dX0_obstacle_75 (by omega) ?_
          refine ro_iload_n dX0_obstacle_76 rfl ?_
          refine ro_icmp_le 90 dX0_obstacle_77 (by decide) (by omega) (by omega) (fun h4 => ?_) (fun h4 => ?_)
          · refine ro_iload_n dX0_obstacle_90 rfl ?_
            refine ro_istore (lv1 := [_, _, _, _, _, _, _, _]) dX0_obstacle_91 rfl rfl rfl ?_
            refine ro_iload dX0_obstacle_93 rfl ?_
            refine ro_iload dX0_obstacle_95 rfl ?_
            have hq := hbs a (Or.inr ⟨rfl, h4⟩) hs
            refine ro_icmp_ge 105 dX0_obstacle_97 (by decide) (by omega) (by omega) (fun h5 => ?_) (fun h5 => ?_)
            · refine ro_iload dX0_obstacle_105 rfl ?_
              refine ro_istore (lv1 := [_, _, _, _, _, _, _, _]) dX0_obstacle_107 rfl rfl rfl ?_
              refine ro_iinc (lv1 := [_, _, _, _, _, _, _, _]) dX0_obstacle_109 rfl rfl rfl rfl ?_
              refine ro_goto 42 dX0_obstacle_112 (by decide) ?_
              rw [if_neg (by omega)] at hq
              exact ih (k + 1) best _ (by omega) hq
            · refine ro_iload dX0_obstacle_100 rfl ?_
              refine ro_goto 107 dX0_obstacle_102 (by decide) ?_
              refine ro_istore (lv1 := [_, _, _, _, _, _, _, _]) dX0_obstacle_107 rfl rfl rfl ?_
              refine ro_iinc (lv1 := [_, _, _, _, _, _, _, _]) dX0_obstacle_109 rfl rfl rfl rfl ?_
              refine ro_goto 42 dX0_obstacle_112 (by decide) ?_
              rw [if_pos h5] at hq
              exact ih (k + 1) a _ (by omega) hq
          · refine ro_aload_n dX0_obstacle_80 rfl ?_
            refine f0_firsts dX0_obstacle_81 ?_
            refine ro_iload dX0_obstacle_84 rfl ?_
            refine l0_firsts dX0_obstacle_86 (by omega) ?_
            refine ro_goto 91 dX0_obstacle_87 (by decide) ?_
            refine ro_istore (lv1 := [_, _, _, _, _, _, _, _]) dX0_obstacle_91 rfl rfl rfl ?_
            refine ro_iload dX0_obstacle_93 rfl ?_
            refine ro_iload dX0_obstacle_95 rfl ?_
            have hq := hbs (F k) (Or.inl ⟨rfl, by omega⟩) hs
            refine ro_icmp_ge 105 dX0_obstacle_97 (by decide) (by omega) (by omega) (fun h5 => ?_) (fun h5 => ?_)
            · refine ro_iload dX0_obstacle_105 rfl ?_
              refine ro_istore (lv1 := [_, _, _, _, _, _, _, _]) dX0_obstacle_107 rfl rfl rfl ?_
              refine ro_iinc (lv1 := [_, _, _, _, _, _, _, _]) dX0_obstacle_109 rfl rfl rfl rfl ?_
              refine ro_goto 42 dX0_obstacle_112 (by decide) ?_
              rw [if_neg (by omega)] at hq
              exact ih (k + 1) best _ (by omega) hq
            · refine ro_iload dX0_obstacle_100 rfl ?_
              refine ro_goto 107 dX0_obstacle_102 (by decide) ?_
              refine ro_istore (lv1 := [_, _, _, _, _, _, _, _]) dX0_obstacle_107 rfl rfl rfl ?_
              refine ro_iinc (lv1 := [_, _, _, _, _, _, _, _]) dX0_obstacle_109 rfl rfl rfl rfl ?_
              refine ro_goto 42 dX0_obstacle_112 (by decide) ?_
              rw [if_pos h5] at hq
              exact ih (k + 1) (F k) _ (by omega) hq
        · refine ro_if_eq 109 dX0_obstacle_66 (by decide) (by omega) (fun _ => ?_) (fun e => absurd rfl e)
          refine ro_iinc (lv1 := [_, _, _, _, _, _, _, _]) dX0_obstacle_109 rfl rfl rfl rfl ?_
          refine ro_goto 42 dX0_obstacle_112 (by decide) ?_
          refine ih (k + 1) best z (by omega) ⟨hI.1, fun h => ?_, fun j hj hj2 => ?_⟩
          · obtain ⟨j, g1, g2⟩ := hI.2.1 h
            exact ⟨j, by omega, g2⟩
          · by_cases e : j = k
            · subst e; exact absurd hj2 hs
            · exact hI.2.2 j (by omega) hj2
    refine ro_bipush (x := nI 40) dX0_obstacle_35 (by decide) ?_
    refine ro_istore (lv1 := [_, _, _, _, _, _, _, _]) dX0_obstacle_37 rfl rfl rfl ?_
    refine ro_iconst (x := nI 0) dX0_obstacle_39 (by decide) ?_
    refine ro_istore (lv1 := [_, _, _, _, _, _, _, _]) dX0_obstacle_40 rfl rfl rfl ?_
    exact loop n 0 40 _ (by omega) ⟨Nat.le_refl _, fun h => absurd h (by omega), fun j hj => absurd hj (Nat.not_lt_zero j)⟩
  refine ro_iload dX0_obstacle_20 rfl ?_
  refine ro_iconst (x := nI 1) dX0_obstacle_22 (by decide) ?_
  refine ro_icmp_eqR 35 dX0_obstacle_23 (by decide) (fun h3 => ?_) (fun h3 => ?_)
  · subst h3
    exact cont 1 (by omega) (by omega) rfl
  refine ro_iload dX0_obstacle_26 rfl ?_
  refine ro_iconst (x := nI 2) dX0_obstacle_28 (by decide) ?_
  refine ro_icmp_eqR 35 dX0_obstacle_29 (by decide) (fun h4 => ?_) (fun h4 => ?_)
  · subst h4
    exact cont 2 (by omega) (by omega) rfl
  refine ro_bipush (x := -3) dX0_obstacle_32 (by decide) ?_
  refine ro_iret dX0_obstacle_34 ?_
  rw [fObst, fO_c ho, fR_c hm ham, fT_bad (okT_no h3 h4)]
  exact ⟨rfl, rfl⟩
set_option maxHeartbeats 4000000 in
set_option maxRecDepth 100000 in
theorem mt_pieces (O F L T V P X Y Z : Fn) (n c : Nat) (B : Fn) (q : Nat) (Wh Fi Ma Ki : Fn) (K : Nat) (hR : Rel K (O, F, L, T, V, P, X, Y, Z, n, c) (B, q, Wh, Fi, Ma, Ki)) (x : Int32) : MCi w0 yX0_pieces cX0_pieces 2 (some .int) 1 25 [.int x] ((O, F, L, T, V, P, X, Y, Z, n, c)) (fun r u2 => r = fPieces (B, q, Wh, Fi, Ma, Ki) x ∧ u2 = (O, F, L, T, V, P, X, Y, Z, n, c)) := by
  refine MCi_of (lv := fun ad => [some (.ref (ad 0)), some (.int x)]) (by decide) (Or.inl rfl) rfl (fun _ => Nat.le_of_ble_eq_true rfl) (fun _ => rfl) ?_
  intro g ad cI cZ
  show G g _ cX0_pieces RX0 2 _ (w0 ad cI cZ) _ _ ((O, F, L, T, V, P, X, Y, Z, n, c)) 0 _ []
  obtain ⟨hT, hQ, hck⟩ := id hR
  have hn := SD_n hT.1
  have hB := hT.2.2.1
  have hW := hQ.1
  refine ro_iload_n dX0_pieces_0 rfl ?_
  refine ro_calls 1 (mt_isOwner x) cv_X0_X0_isOwner dn_X0_isOwner rfl ⟨by decide, by decide⟩ rfl (Nat.le_of_ble_eq_true rfl) dX0_pieces_1 (fun r hr => ?_)
  rcases hr with ⟨h1, rfl⟩ | ⟨h1, rfl⟩
  rotate_left
  · refine ro_if_eq 23 dX0_pieces_4 (by decide) (by omega) (fun _ => ?_) (fun e => absurd rfl e)
    refine ro_iconst (x := -1) dX0_pieces_23 (by decide) ?_
    refine ro_iret dX0_pieces_24 ?_
    rw [fPieces, fO_bad h1]
    exact ⟨rfl, rfl⟩
  obtain ⟨o, ho, rfl⟩ := h1
  refine ro_if_eq 23 dX0_pieces_4 (by decide) (by omega) (fun e => absurd e (by decide)) (fun _ => ?_)
  refine ro_aload_n dX0_pieces_7 rfl ?_
  refine ro_iload_n dX0_pieces_8 rfl ?_
  refine ro_iconst (x := nI 1) dX0_pieces_9 (by decide) ?_
  refine ro_iadd dX0_pieces_10 ?_
  refine ro_call0 1 (mt_begin O F L T V P X Y Z n c (o + 1) (SD_mono hT.1) hB.1 (by omega) (by omega)) cv_X0_X0_begin dn_X0_begin rfl ⟨by decide, by decide⟩ rfl (Nat.le_of_ble_eq_true rfl) dX0_pieces_11 (fun r u2 hr => ?_)
  obtain ⟨⟨e, he, rfl⟩, rfl⟩ := hr
  refine ro_aload_n dX0_pieces_14 rfl ?_
  refine ro_iload_n dX0_pieces_15 rfl ?_
  refine ro_call0 1 (mt_begin O F L T V P X Y Z n c o (SD_mono hT.1) hB.1 (by omega) (by omega)) cv_X0_X0_begin dn_X0_begin rfl ⟨by decide, by decide⟩ rfl (Nat.le_of_ble_eq_true rfl) dX0_pieces_16 (fun r u2 hr => ?_)
  obtain ⟨⟨b, hb, rfl⟩, rfl⟩ := hr
  obtain ⟨hbe, hen, hO⟩ := own_in hb he
  refine ro_isub dX0_pieces_19 (by omega) ?_
  refine ro_goto 24 dX0_pieces_20 (by decide) ?_
  refine ro_iret dX0_pieces_24 ?_
  rw [fPieces, fO_c ho, show cnt (bgn (vB (B, q, Wh, Fi, Ma, Ki)) o) 40 = e - b from cnt_pieces hT ho hb he]
  exact ⟨rfl, rfl⟩
set_option maxHeartbeats 4000000 in
set_option maxRecDepth 100000 in
theorem mt_count (O F L T V P X Y Z : Fn) (n c : Nat) (B : Fn) (q : Nat) (Wh Fi Ma Ki : Fn) (K : Nat) (hR : Rel K (O, F, L, T, V, P, X, Y, Z, n, c) (B, q, Wh, Fi, Ma, Ki)) (x w : Int32) : MCi w0 yX0_count cX0_count 8 (some .int) 1 25 [.int x, .int w] ((O, F, L, T, V, P, X, Y, Z, n, c)) (fun r u2 => r = fCount (B, q, Wh, Fi, Ma, Ki) x w ∧ u2 = (O, F, L, T, V, P, X, Y, Z, n, c)) := by
  refine MCi_of (lv := fun ad => [some (.ref (ad 0)), some (.int x), some (.int w), none, none, none, none, none]) (by decide) (Or.inl rfl) rfl (fun _ => Nat.le_of_ble_eq_true rfl) (fun _ => rfl) ?_
  intro g ad cI cZ
  show G g _ cX0_count RX0 8 _ (w0 ad cI cZ) _ _ ((O, F, L, T, V, P, X, Y, Z, n, c)) 0 _ []
  obtain ⟨hT, hQ, hck⟩ := id hR
  have hn := SD_n hT.1
  have hB := hT.2.2.1
  have hW := hQ.1
  refine ro_iload_n dX0_count_0 rfl ?_
  refine ro_calls 1 (mt_isOwner x) cv_X0_X0_isOwner dn_X0_isOwner rfl ⟨by decide, by decide⟩ rfl (Nat.le_of_ble_eq_true rfl) dX0_count_1 (fun r hr => ?_)
  rcases hr with ⟨h1, rfl⟩ | ⟨h1, rfl⟩
  rotate_left
  · refine ro_if_ne 9 dX0_count_4 (by decide) (by omega) (fun e => absurd rfl e) (fun _ => ?_)
    refine ro_iconst (x := -1) dX0_count_7 (by decide) ?_
    refine ro_iret dX0_count_8 ?_
    rw [fCount, fO_bad h1]
    exact ⟨rfl, rfl⟩
  obtain ⟨o, ho, rfl⟩ := h1
  refine ro_if_ne 9 dX0_count_4 (by decide) (by omega) (fun _ => ?_) (fun e => absurd e (by decide))
  refine ro_iload_n dX0_count_9 rfl ?_
  refine ro_if_ltR 18 dX0_count_10 (by decide) (fun h3 => ?_) (fun h3 => ?_)
  · refine ro_bipush (x := -2) dX0_count_18 (by decide) ?_
    refine ro_iret dX0_count_20 ?_
    rw [fCount, fO_c ho, fT_bad (okT_neg h3)]
    exact ⟨rfl, rfl⟩
  refine ro_iload_n dX0_count_13 rfl ?_
  refine ro_iconst (x := nI 2) dX0_count_14 (by decide) ?_
  refine ro_icmp_leR 21 dX0_count_15 (by decide) (fun h4 => ?_) (fun h4 => ?_)
  rotate_left
  · refine ro_bipush (x := -2) dX0_count_18 (by decide) ?_
    refine ro_iret dX0_count_20 ?_
    rw [fCount, fO_c ho, fT_bad (okT_big h4)]
    exact ⟨rfl, rfl⟩
  obtain ⟨t, ht0, ht, rfl⟩ := okT_of h3 h4
  refine ro_iconst (x := nI 0) dX0_count_21 (by decide) ?_
  refine ro_istore_n (lv1 := [_, _, _, _, _, _, _, _]) dX0_count_22 rfl rfl rfl ?_
  refine ro_iconst (x := nI 0) dX0_count_23 (by decide) ?_
  refine ro_istore (lv1 := [_, _, _, _, _, _, _, _]) dX0_count_24 rfl rfl rfl ?_
  refine ro_aload_n dX0_count_26 rfl ?_
  refine ro_iload_n dX0_count_27 rfl ?_
  refine ro_iconst (x := nI 1) dX0_count_28 (by decide) ?_
  refine ro_iadd dX0_count_29 ?_
  refine ro_call0 1 (mt_begin O F L T V P X Y Z n c (o + 1) (SD_mono hT.1) hB.1 (by omega) (by omega)) cv_X0_X0_begin dn_X0_begin rfl ⟨by decide, by decide⟩ rfl (Nat.le_of_ble_eq_true rfl) dX0_count_30 (fun r u2 hr => ?_)
  obtain ⟨⟨e, he, rfl⟩, rfl⟩ := hr
  refine ro_istore (lv1 := [_, _, _, _, _, _, _, _]) dX0_count_33 rfl rfl rfl ?_
  refine ro_aload_n dX0_count_35 rfl ?_
  refine ro_iload_n dX0_count_36 rfl ?_
  refine ro_call0 1 (mt_begin O F L T V P X Y Z n c o (SD_mono hT.1) hB.1 (by omega) (by omega)) cv_X0_X0_begin dn_X0_begin rfl ⟨by decide, by decide⟩ rfl (Nat.le_of_ble_eq_true rfl) dX0_count_37 (fun r u2 hr => ?_)
  obtain ⟨⟨b, hb, rfl⟩, rfl⟩ := hr
  obtain ⟨hbe, hen, hO⟩ := own_in hb he
  have loop : ∀ (d k : Nat) (z : Option Value), k + d = e → b ≤ k → G g ({ frames := 1, cells := 0, slots := 0, locals := 25 }) cX0_count RX0 8 [(cI, .int), (cZ, .boolean)] (w0 ad cI cZ) (fun r u2 => r = fCount (B, q, Wh, Fi, Ma, Ki) (nI o) (nI t) ∧ u2 = (O, F, L, T, V, P, X, Y, Z, n, c)) (fun _ => False) (O, F, L, T, V, P, X, Y, Z, n, c) 42 [some (.ref (ad 0)), some (.int (nI o)), some (.int (nI t)), some (.int (nI (cnt (pcs F L (fun j => T j = t) b k) 40))), some (.int (nI (cnt (pcs F L (fun _ => True) b k) 40))), some (.int (nI e)), some (.int (nI k)), z] [] := by
    intro d
    induction d with
    | zero =>
      intro k z hk hbk
      have hk : k = e := hk
      subst hk
      refine ro_iload dX0_count_42 rfl ?_
      refine ro_iload dX0_count_44 rfl ?_
      refine ro_icmp_ge 101 dX0_count_46 (by decide) (by omega) (by omega) (fun h1 => ?_) (fun h1 => absurd h1 (by omega))
      refine ro_iload_n dX0_count_101 rfl ?_
      refine ro_if_ne 113 dX0_count_102 (by decide) (by omega) (fun h2 => ?_) (fun h2 => ?_)
      rotate_left
      · subst h2
        rw [pcs_any hT ho hb he]
        have hle := held_le B o
        refine ro_bipush (x := nI 40) dX0_count_105 (by decide) ?_
        refine ro_iload dX0_count_107 rfl ?_
        refine ro_isub dX0_count_109 (by omega) ?_
        refine ro_goto 114 dX0_count_110 (by decide) ?_
        refine ro_iret dX0_count_114 ?_
        rw [fCount, fO_c ho, fT_c ht0 ht, show cnt (fun x => vB (B, q, Wh, Fi, Ma, Ki) (40 * o + x) = 0) 40 = 40 - held B o from held_0 B o]
        exact ⟨rfl, rfl⟩
      refine ro_iload_n dX0_count_113 rfl ?_
      refine ro_iret dX0_count_114 ?_
      rw [pcs_typ hT ho hb he h2, fCount, fO_c ho, fT_c ht0 ht]
      exact ⟨rfl, rfl⟩
    | succ d ih =>
      intro k z hk hbk
      have hk1 := hT.1.1 k (by omega)
      have bt := hB.2.2.2 k
      have hd : ∀ j, b ≤ j → j < k → L j < F k := fun j a1 a2 => (F_lt hT.1 hb he a1 a2 (by omega)).2
      have e1 := pcs_y (F := F) (L := L) (Q := fun _ => True) (N := 40) trivial hbk hk1.1 (by omega) hd
      have ih := ih (k + 1) (some (.int (nI (L k - F k + 1)))) (by omega) (by omega)
      rw [e1] at ih
      refine ro_iload dX0_count_42 rfl ?_
      refine ro_iload dX0_count_44 rfl ?_
      refine ro_icmp_ge 101 dX0_count_46 (by decide) (by omega) (by omega) (fun h1 => absurd h1 (by omega)) (fun h1 => ?_)
      refine ro_aload_n dX0_count_49 rfl ?_
      refine f0_lasts dX0_count_50 ?_
      refine ro_iload dX0_count_53 rfl ?_
      refine l0_lasts dX0_count_55 (by omega) ?_
      refine ro_aload_n dX0_count_56 rfl ?_
      refine f0_firsts dX0_count_57 ?_
      refine ro_iload dX0_count_60 rfl ?_
      refine l0_firsts dX0_count_62 (by omega) ?_
      refine ro_isub dX0_count_63 (by omega) ?_
      refine ro_iconst (x := nI 1) dX0_count_64 (by decide) ?_
      refine ro_iadd dX0_count_65 ?_
      refine ro_istore (lv1 := [_, _, _, _, _, _, _, _]) dX0_count_66 rfl rfl rfl ?_
      refine ro_iload dX0_count_68 rfl ?_
      refine ro_iload dX0_count_70 rfl ?_
      refine ro_iadd dX0_count_72 ?_
      refine ro_istore (lv1 := [_, _, _, _, _, _, _, _]) dX0_count_73 rfl rfl rfl ?_
      refine ro_iload_n dX0_count_75 rfl ?_
      refine ro_aload_n dX0_count_76 rfl ?_
      refine f0_types dX0_count_77 ?_
      refine ro_iload dX0_count_80 rfl ?_
      refine l0_types dX0_count_82 (by omega) ?_
      refine ro_iload_n dX0_count_83 rfl ?_
      refine ro_icmp_ne 92 dX0_count_84 (by decide) (by omega) (by omega) (fun h2 => ?_) (fun h2 => ?_)
      · rw [pcs_n (F := F) (L := L) (Q := fun j => T j = t) h2] at ih
        refine ro_iconst (x := nI 0) dX0_count_92 (by decide) ?_
        refine ro_iadd dX0_count_93 ?_
        refine ro_istore_n (lv1 := [_, _, _, _, _, _, _, _]) dX0_count_94 rfl rfl rfl ?_
        refine ro_iinc (lv1 := [_, _, _, _, _, _, _, _]) dX0_count_95 rfl rfl rfl rfl ?_
        refine ro_goto 42 dX0_count_98 (by decide) ?_
        exact ih
      · rw [pcs_y (F := F) (L := L) (Q := fun j => T j = t) (N := 40) h2 hbk hk1.1 (by omega) hd] at ih
        refine ro_iload dX0_count_87 rfl ?_
        refine ro_goto 93 dX0_count_89 (by decide) ?_
        refine ro_iadd dX0_count_93 ?_
        refine ro_istore_n (lv1 := [_, _, _, _, _, _, _, _]) dX0_count_94 rfl rfl rfl ?_
        refine ro_iinc (lv1 := [_, _, _, _, _, _, _, _]) dX0_count_95 rfl rfl rfl rfl ?_
        refine ro_goto 42 dX0_count_98 (by decide) ?_
        exact ih
  refine ro_istore (lv1 := [_, _, _, _, _, _, _, _]) dX0_count_40 rfl rfl rfl ?_
  have h0 := loop (e - b) b none (by omega) (Nat.le_refl b)
  rw [pcs_0, pcs_0] at h0
  exact h0
set_option maxHeartbeats 4000000 in
set_option maxRecDepth 100000 in
theorem mt_close (O F L T V P X Y Z : Fn) (n c : Nat) (B : Fn) (q : Nat) (Wh Fi Ma Ki : Fn) (K : Nat) (hR : Rel K (O, F, L, T, V, P, X, Y, Z, n, c) (B, q, Wh, Fi, Ma, Ki)) (x : Int32) : MCi w0 yX0_close cX0_close 3 (some .int) 5 119 [.int x] ((O, F, L, T, V, P, X, Y, Z, n, c)) (fun r u2 => r = (fClose (B, q, Wh, Fi, Ma, Ki) x).1 ∧ Rel K u2 (fClose (B, q, Wh, Fi, Ma, Ki) x).2) := by
  refine MCi_of (lv := fun ad => [some (.ref (ad 0)), some (.int x), none]) (by decide) (Or.inl rfl) rfl (fun _ => Nat.le_of_ble_eq_true rfl) (fun _ => rfl) ?_
  intro g ad cI cZ
  show G g _ cX0_close RX0 3 _ (w0 ad cI cZ) _ _ ((O, F, L, T, V, P, X, Y, Z, n, c)) 0 _ []
  obtain ⟨hT, hQ, hck⟩ := id hR
  have hn := SD_n hT.1
  have hB := hT.2.2.1
  have hW := hQ.1
  refine ro_iload_n dX0_close_0 rfl ?_
  refine ro_calls 1 (mt_isOwner x) cv_X0_X0_isOwner dn_X0_isOwner rfl ⟨by decide, by decide⟩ rfl (Nat.le_of_ble_eq_true rfl) dX0_close_1 (fun r hr => ?_)
  rcases hr with ⟨h1, rfl⟩ | ⟨h1, rfl⟩
  rotate_left
  · refine ro_if_ne 9 dX0_close_4 (by decide) (by omega) (fun e => absurd rfl e) (fun _ => ?_)
    refine ro_iconst (x := -1) dX0_close_7 (by decide) ?_
    refine ro_iret dX0_close_8 ?_
    rw [fClose, fO_bad h1]
    exact ⟨rfl, hR⟩
  obtain ⟨o, ho, rfl⟩ := h1
  refine ro_if_ne 9 dX0_close_4 (by decide) (by omega) (fun _ => ?_) (fun e => absurd e (by decide))
  refine ro_bipush (x := nI 40) dX0_close_9 (by decide) ?_
  refine ro_aload_n dX0_close_11 rfl ?_
  refine ro_iload_n dX0_close_12 rfl ?_
  refine ro_iconst (x := nI 0) dX0_close_13 (by decide) ?_
  refine ro_call0 2 (mt_count O F L T V P X Y Z n c B q Wh Fi Ma Ki K hR (nI o) (nI 0)) cv_X0_X0_count dn_X0_count rfl ⟨by decide, by decide⟩ rfl (Nat.le_of_ble_eq_true rfl) dX0_close_14 (fun r u2 hr => ?_)
  obtain ⟨hr, rfl⟩ := hr
  rw [fCount, fO_c ho, fT_c (Nat.le_refl 0) (by omega), show cnt (fun x => vB (B, q, Wh, Fi, Ma, Ki) (40 * o + x) = 0) 40 = 40 - held B o from held_0 B o] at hr
  subst hr
  have hle := held_le B o
  have e40 : 40 - (40 - held B o) = held B o := by omega
  refine ro_isub dX0_close_17 (by omega) ?_
  rw [e40]
  have fin : ∀ (V2 : Fn) (q2 : Nat) (W2 G2 M2 K2 : Fn), Rel K (O, F, L, T, V2, P, X, Y, Z, n, c) (B, q2, W2, G2, M2, K2) → lvO (B, q, Wh, Fi, Ma, Ki) o = (B, q2, W2, G2, M2, K2) → G g ({ frames := 5, cells := 0, slots := 0, locals := 119 }) cX0_close RX0 3 [(cI, .int), (cZ, .boolean)] (w0 ad cI cZ) (fun r u2 => r = (fClose (B, q, Wh, Fi, Ma, Ki) (nI o)).1 ∧ Rel K u2 (fClose (B, q, Wh, Fi, Ma, Ki) (nI o)).2) (fun _ => False) (O, F, L, T, V2, P, X, Y, Z, n, c) 26 [some (.ref (ad 0)), some (.int (nI o)), some (.int (nI (held B o)))] [] := by
    intro V2 q2 W2 G2 M2 K2 hR2 hl
    refine ro_aload_n dX0_close_26 rfl ?_
    refine ro_iload_n dX0_close_27 rfl ?_
    refine ro_iconst (x := nI 0) dX0_close_28 (by decide) ?_
    refine ro_bipush (x := nI 39) dX0_close_29 (by decide) ?_
    refine ro_iconst (x := nI 0) dX0_close_31 (by decide) ?_
    refine ro_call0v 4 (mt_paint O F L T V2 P X Y Z n c o 0 39 0 hT.1 hT.2.1 hB (by omega) (by omega) (by omega) (by omega)) cv_X0_X0_paint dn_X0_paint rfl ⟨by decide, by decide⟩ rfl (Nat.le_of_ble_eq_true rfl) dX0_close_32 (fun u2 hu => ?_)
    obtain ⟨O2, F2, L2, T2, n2, rfl, hE⟩ := hu
    have hR3 := Rel_paint (m := 40) hR2 hE (by omega) (by omega) (by omega) (by omega)
    refine ro_aload_n dX0_close_35 rfl ?_
    refine ro_call0 0 (mt_settle O2 F2 L2 T2 V2 P X Y Z n2 c (grB B o 0 40 0) q2 W2 G2 M2 K2 K hR3) cv_X0_X0_settle dn_X0_settle rfl ⟨by decide, by decide⟩ rfl (Nat.le_of_ble_eq_true rfl) dX0_close_36 (fun r u2 hr => ?_)
    obtain ⟨rfl, hR4⟩ := hr
    refine ro_pop dX0_close_39 rfl ?_
    refine ro_iload_n dX0_close_40 rfl ?_
    refine ro_iret dX0_close_41 ?_
    rw [fClose, fO_c ho, cClose, hl]
    exact ⟨rfl, hR4⟩
  refine ro_istore_n (lv1 := [_, _, _]) dX0_close_18 rfl rfl rfl ?_
  refine ro_aload_n dX0_close_19 rfl ?_
  refine f0_waits dX0_close_20 ?_
  refine ro_iload_n dX0_close_23 rfl ?_
  refine ro_iconst (x := nI 0) dX0_close_24 (by decide) ?_
  refine s0_waits dX0_close_25 (by omega) (by omega) ?_
  rcases Nat.eq_zero_or_pos (V o) with h2 | h2
  · rw [up_same h2]
    exact fin V q Wh Fi Ma Ki hR (lvO_none ((wt_none hQ ho).mpr h2))
  · obtain ⟨i, hw, hi, rfl⟩ := wt_some (B := B) hQ ho (by omega)
    exact fin _ _ _ _ _ _ ⟨hT, RQ_leave hQ hi, hck⟩ (lvO_some hw)
end
section
/-! X0: free (longs) -/
set_option maxRecDepth 100000
theorem wb_orL (a b : Nat) : lN a ||| lN b = lN (a ||| b) := by
  apply wb_inj
  rw [Int64.toBitVec_or, wb_tb, wb_tb, wb_tb]
  apply BitVec.eq_of_getLsbD_eq
  intro i hi
  simp [hi]
theorem lvh.put2 {ls' : Array Slot} {nL : Nat} {lv : List (Option Value)} {i : Nat} {v : Value} (hok : lv_ok lv i) (h : lv_has ls' nL ((i, v) :: (lv_prs 0 lv).filter (fun q => !(q.1 == i) && (!(q.1 == i + 1) && !(q.1 + 1 == i && q.2.category == 2))))) : lvh ls' nL ((lv.set i (some v)).set (i + 1) none) := by
  refine ⟨h.1, h.2.1, fun j x hj => ?_⟩
  rw [List.getElem?_set] at hj
  by_cases e1 : i + 1 = j
  · subst e1
    by_cases hl : i + 1 < (lv.set i (some v)).length
    · simp [hl] at hj
    · simp [hl] at hj
  · rw [if_neg e1, List.getElem?_set] at hj
    by_cases e : i = j
    · subst e
      by_cases hl : i < lv.length
      · simp [hl] at hj
        subst hj
        exact h.2.2 (i, v) List.mem_cons_self
      · simp [hl] at hj
    · rw [if_neg e] at hj
      refine h.2.2 (j, x) (List.mem_cons_of_mem _ (List.mem_filter.mpr ⟨?_, ?_⟩))
      · have := lv_prs_of lv 0 j x hj
        rwa [Nat.zero_add] at this
      · have h1 : ¬ j = i := fun z => e z.symm
        have h0 : ¬ j = i + 1 := fun z => e1 z.symm
        by_cases h2 : j + 1 = i
        · have h3 := hok j x hj h2
          simp [h1, h0, h3]
        · simp [h1, h0, h2]
section
variable {S : Type} {g : Gx} {R : Room} {cc : ByteArray} {own : String} {nL : Nat} {ty : List (ClassId × FieldType)} {w : S → va_W} {Ri : Int32 → S → Prop} {Rv : S → Prop} {u : S} {pc : Nat} {lv : List (Option Value)} {st : List Value}
theorem ro_lstore_n {j : Fin 4} {x : Int64} {lv1 : List (Option Value)} (hd : decode cc pc = .ok (.lstore_n j, 1)) (hi : Nat.blt ((j : Nat) + 1) nL = true) (hok : lv_okb lv (j : Nat) = true) (h1 : (lv.set (j : Nat) (some (.long x))).set ((j : Nat) + 1) none = lv1) (k : G g R cc own nL ty w Ri Rv u (pc + 1) lv1 st) : G g R cc own nL ty w Ri Rv u pc lv (.long x :: st) := by
  obtain ⟨p, l, e, s, m, args, below, meth, c, Q, A, D, cells, slots⟩ := g
  intro C H locs ls hP hD hS hv
  have ⟨hx, hb, hml, hown, hts, hK, hA, hroom, hRi, hRv⟩ := C
  exact lv_lstore_n hx hb hd rfl hv.prs (Nat.le_of_ble_eq_true hi) rfl (fun ls1 h2 => k C H locs ls1 hP hD hS (h1 ▸ lvh.put2 (lv_ok_of hok) h2))
end
set_option maxHeartbeats 4000000 in
set_option maxRecDepth 100000 in
theorem mt_free (O F L T V P X Y Z : Fn) (n c : Nat) (B : Fn) (q : Nat) (Wh Fi Ma Ki : Fn) (K : Nat) (hR : Rel K (O, F, L, T, V, P, X, Y, Z, n, c) (B, q, Wh, Fi, Ma, Ki)) : MCi w0 yX0_free cX0_free 5 (some .int) 0 0 [] ((O, F, L, T, V, P, X, Y, Z, n, c)) (fun r u2 => r = fFree (B, q, Wh, Fi, Ma, Ki) ∧ u2 = (O, F, L, T, V, P, X, Y, Z, n, c)) := by
  refine MCi_of (lv := fun ad => [some (.ref (ad 0)), none, none, none, none]) (by decide) (Or.inl rfl) rfl (fun _ => Nat.le_of_ble_eq_true rfl) (fun _ => rfl) ?_
  intro g ad cI cZ
  show G g _ cX0_free RX0 5 _ (w0 ad cI cZ) _ _ ((O, F, L, T, V, P, X, Y, Z, n, c)) 0 _ []
  obtain ⟨hT, hQ, hck⟩ := id hR
  have hn := SD_n hT.1
  have hB := hT.2.2.1
  have ctl : ∀ M : Nat, M < 2 ^ 40 → (∀ x, x < 40 → (bit M x ↔ ¬ hld B x = 0)) → ∀ d x : Nat, x + d = 40 → G g ({ frames := 0, cells := 0, slots := 0, locals := 0 }) cX0_free RX0 5 [(cI, .int), (cZ, .boolean)] (w0 ad cI cZ) (fun r u2 => r = fFree (B, q, Wh, Fi, Ma, Ki) ∧ u2 = (O, F, L, T, V, P, X, Y, Z, n, c)) (fun _ => False) (O, F, L, T, V, P, X, Y, Z, n, c) 55 [some (.ref (ad 0)), some (.long (lN M)), none, some (.int (nI (cnt (fun b => hld B b = 0) x))), some (.int (nI x))] [] := by
    intro M hM hb d
    induction d with
    | zero =>
      intro x hx
      have hx : x = 40 := hx
      subst hx
      refine ro_iload dX0_free_55 rfl ?_
      refine ro_bipush (x := nI 40) dX0_free_57 (by decide) ?_
      refine ro_icmp_ge 87 dX0_free_59 (by decide) (by omega) (by omega) (fun h1 => ?_) (fun h1 => absurd h1 (by omega))
      refine ro_iload_n dX0_free_87 rfl ?_
      refine ro_iret dX0_free_88 ?_
      exact ⟨rfl, rfl⟩
    | succ d ih =>
      intro x hx
      have ih := ih (x + 1) (by omega)
      have hdv : M / 2 ^ x < 2 ^ 64 := Nat.lt_of_le_of_lt (Nat.div_le_self _ _) (by omega)
      refine ro_iload dX0_free_55 rfl ?_
      refine ro_bipush (x := nI 40) dX0_free_57 (by decide) ?_
      refine ro_icmp_ge 87 dX0_free_59 (by decide) (by omega) (by omega) (fun h1 => absurd h1 (by omega)) (fun h1 => ?_)
      refine ro_iload_n dX0_free_62 rfl ?_
      refine ro_lload_n dX0_free_63 rfl ?_
      refine ro_iload dX0_free_64 rfl ?_
      refine ro_lushr dX0_free_66 (wb_shr (show M < 2 ^ 64 by omega) (by omega)) ?_
      refine ro_lconst dX0_free_67 ?_
      refine ro_land dX0_free_68 ?_
      refine ro_topl (wb_a1 hdv) ?_
      refine ro_lconst dX0_free_69 ?_
      refine ro_lcmp dX0_free_70 ?_
      refine ro_if_neR 78 dX0_free_71 (by decide) (fun h => ?_) (fun h => ?_)
      · have hbit : bit M x := by
          rcases (show M / 2 ^ x % 2 = 0 ∨ M / 2 ^ x % 2 = 1 by omega) with z | z
          · exact absurd ((lg_cmp_eq _ _).mpr (by rw [z]; rfl)) h
          · exact z
        rw [cnt_n (P := fun b => hld B b = 0) ((hb x h1).mp hbit)] at ih
        refine ro_iconst (x := nI 0) dX0_free_78 (by decide) ?_
        refine ro_iadd dX0_free_79 ?_
        refine ro_istore_n (lv1 := [_, _, _, _, _]) dX0_free_80 rfl rfl rfl ?_
        refine ro_iinc (lv1 := [_, _, _, _, _]) dX0_free_81 rfl rfl rfl rfl ?_
        refine ro_goto 55 dX0_free_84 (by decide) ?_
        exact ih
      · have hbit : ¬ bit M x := by
          intro z
          have z : M / 2 ^ x % 2 = 1 := z
          rw [z] at h
          exact absurd ((lg_cmp_eq _ _).mp h) (by decide)
        rw [cnt_y (P := fun b => hld B b = 0) (Classical.not_not.mp (fun z => hbit ((hb x h1).mpr z)))] at ih
        refine ro_iconst (x := nI 1) dX0_free_74 (by decide) ?_
        refine ro_goto 79 dX0_free_75 (by decide) ?_
        refine ro_iadd dX0_free_79 ?_
        refine ro_istore_n (lv1 := [_, _, _, _, _]) dX0_free_80 rfl rfl rfl ?_
        refine ro_iinc (lv1 := [_, _, _, _, _]) dX0_free_81 rfl rfl rfl rfl ?_
        refine ro_goto 55 dX0_free_84 (by decide) ?_
        exact ih
  have inner : ∀ k : Nat, k < n → (∀ (M : Nat) (z : Option Value), M < 2 ^ 40 → (∀ y, bit M y ↔ ∃ j, j < k + 1 ∧ F j ≤ y ∧ y ≤ L j) → G g ({ frames := 0, cells := 0, slots := 0, locals := 0 }) cX0_free RX0 5 [(cI, .int), (cZ, .boolean)] (w0 ad cI cZ) (fun r u2 => r = fFree (B, q, Wh, Fi, Ma, Ki) ∧ u2 = (O, F, L, T, V, P, X, Y, Z, n, c)) (fun _ => False) (O, F, L, T, V, P, X, Y, Z, n, c) 44 [some (.ref (ad 0)), some (.long (lN M)), none, some (.int (nI k)), z] []) → ∀ d x M : Nat, x + d = L k + 1 → F k ≤ x → M < 2 ^ 40 → (∀ y, bit M y ↔ (∃ j, j < k ∧ F j ≤ y ∧ y ≤ L j) ∨ (F k ≤ y ∧ y < x)) → G g ({ frames := 0, cells := 0, slots := 0, locals := 0 }) cX0_free RX0 5 [(cI, .int), (cZ, .boolean)] (w0 ad cI cZ) (fun r u2 => r = fFree (B, q, Wh, Fi, Ma, Ki) ∧ u2 = (O, F, L, T, V, P, X, Y, Z, n, c)) (fun _ => False) (O, F, L, T, V, P, X, Y, Z, n, c) 20 [some (.ref (ad 0)), some (.long (lN M)), none, some (.int (nI k)), some (.int (nI x))] [] := by
    intro k hk KK d
    have hk1 := hT.1.1 k hk
    induction d with
    | zero =>
      intro x M hx hfx hM hI
      have hx : x = L k + 1 := hx
      subst hx
      refine ro_iload dX0_free_20 rfl ?_
      refine ro_aload_n dX0_free_22 rfl ?_
      refine f0_lasts dX0_free_23 ?_
      refine ro_iload_n dX0_free_26 rfl ?_
      refine l0_lasts dX0_free_27 (by omega) ?_
      refine ro_icmp_gt 44 dX0_free_28 (by decide) (by omega) (by omega) (fun h1 => ?_) (fun h1 => absurd h1 (by omega))
      refine KK M _ hM (fun y => ?_)
      rw [hI y]
      constructor
      · rintro (⟨j, a1, a2⟩ | ⟨a1, a2⟩)
        · exact ⟨j, by omega, a2⟩
        · exact ⟨k, by omega, a1, by omega⟩
      · rintro ⟨j, a1, a2, a3⟩
        by_cases e : j = k
        · subst e; exact Or.inr ⟨a2, by omega⟩
        · exact Or.inl ⟨j, by omega, a2, a3⟩
    | succ d ih =>
      intro x M hx hfx hM hI
      refine ro_iload dX0_free_20 rfl ?_
      refine ro_aload_n dX0_free_22 rfl ?_
      refine f0_lasts dX0_free_23 ?_
      refine ro_iload_n dX0_free_26 rfl ?_
      refine l0_lasts dX0_free_27 (by omega) ?_
      refine ro_icmp_gt 44 dX0_free_28 (by decide) (by omega) (by omega) (fun h1 => absurd h1 (by omega)) (fun h1 => ?_)
      refine ro_lload_n dX0_free_31 rfl ?_
      refine ro_lconst dX0_free_32 ?_
      refine ro_iload dX0_free_33 rfl ?_
      refine ro_lshl dX0_free_35 (wb_shl 1 (show x < 64 by omega)) ?_
      refine ro_lor dX0_free_36 ?_
      refine ro_topl (wb_orL M (1 * 2 ^ x)) ?_
      rw [Nat.one_mul]
      refine ro_lstore_n (lv1 := [_, _, _, _, _]) dX0_free_37 rfl rfl rfl ?_
      refine ro_iinc (lv1 := [_, _, _, _, _]) dX0_free_38 rfl rfl rfl rfl ?_
      refine ro_goto 20 dX0_free_41 (by decide) ?_
      have hp : 2 ^ x < 2 ^ 40 := Nat.pow_lt_pow_right (by decide) (by omega)
      refine ih (x + 1) (M ||| 2 ^ x) (by omega) (by omega) (or_lt (k := 40) hM hp) (fun y => ?_)
      rw [bit_or, bit_pow, hI y]
      constructor
      · rintro ((a | ⟨a1, a2⟩) | a)
        · exact Or.inl a
        · exact Or.inr ⟨a1, by omega⟩
        · exact Or.inr ⟨by omega, by omega⟩
      · rintro (a | ⟨a1, a2⟩)
        · exact Or.inl (Or.inl a)
        · by_cases e : y = x
          · exact Or.inr e
          · exact Or.inl (Or.inr ⟨a1, by omega⟩)
  have outer : ∀ (d k M : Nat) (z : Option Value), k + d = n → M < 2 ^ 40 → (∀ y, bit M y ↔ ∃ j, j < k ∧ F j ≤ y ∧ y ≤ L j) → G g ({ frames := 0, cells := 0, slots := 0, locals := 0 }) cX0_free RX0 5 [(cI, .int), (cZ, .boolean)] (w0 ad cI cZ) (fun r u2 => r = fFree (B, q, Wh, Fi, Ma, Ki) ∧ u2 = (O, F, L, T, V, P, X, Y, Z, n, c)) (fun _ => False) (O, F, L, T, V, P, X, Y, Z, n, c) 4 [some (.ref (ad 0)), some (.long (lN M)), none, some (.int (nI k)), z] [] := by
    intro d
    induction d with
    | zero =>
      intro k M z hk hM hI
      have hk : k = n := hk
      subst hk
      refine ro_iload_n dX0_free_4 rfl ?_
      refine ro_aload_n dX0_free_5 rfl ?_
      refine f0_count dX0_free_6 ?_
      refine ro_icmp_ge 50 dX0_free_9 (by decide) (by omega) (by omega) (fun h1 => ?_) (fun h1 => absurd h1 (by omega))
      refine ro_iconst (x := nI 0) dX0_free_50 (by decide) ?_
      refine ro_istore_n (lv1 := [_, _, _, _, _]) dX0_free_51 rfl rfl rfl ?_
      refine ro_iconst (x := nI 0) dX0_free_52 (by decide) ?_
      refine ro_istore (lv1 := [_, _, _, _, _]) dX0_free_53 rfl rfl rfl ?_
      refine ctl M hM (fun x hx => ?_) 40 0 rfl
      rw [hI x, hld_0 hT hx]
      constructor
      · rintro ⟨j, a1, a2⟩ z
        exact z j a1 a2
      · intro z
        rcases Classical.em (∃ j, j < k ∧ F j ≤ x ∧ x ≤ L j) with y | y
        · exact y
        · exact absurd (fun j hj w => y ⟨j, hj, w⟩) z
    | succ d ih =>
      intro k M z hk hM hI
      have bf := hB.2.1 k
      refine ro_iload_n dX0_free_4 rfl ?_
      refine ro_aload_n dX0_free_5 rfl ?_
      refine f0_count dX0_free_6 ?_
      refine ro_icmp_ge 50 dX0_free_9 (by decide) (by omega) (by omega) (fun h1 => absurd h1 (by omega)) (fun h1 => ?_)
      refine ro_aload_n dX0_free_12 rfl ?_
      refine f0_firsts dX0_free_13 ?_
      refine ro_iload_n dX0_free_16 rfl ?_
      refine l0_firsts dX0_free_17 (by omega) ?_
      refine ro_istore (lv1 := [_, _, _, _, _]) dX0_free_18 rfl rfl rfl ?_
      refine inner k h1 (fun M2 z2 hM2 hI2 => ?_) (L k + 1 - F k) (F k) M (by have := hT.1.1 k h1; omega) (Nat.le_refl _) hM (fun y => ?_)
      · refine ro_iinc (lv1 := [_, _, _, _, _]) dX0_free_44 rfl rfl rfl rfl ?_
        refine ro_goto 4 dX0_free_47 (by decide) ?_
        exact ih (k + 1) M2 z2 (by omega) hM2 hI2
      · rw [hI y]
        exact ⟨Or.inl, fun h => h.elim (fun a => a) (fun a => absurd a.2 (by omega))⟩
  refine ro_lconst dX0_free_0 ?_
  refine ro_lstore_n (lv1 := [_, _, _, _, _]) dX0_free_1 rfl rfl rfl ?_
  refine ro_iconst (x := nI 0) dX0_free_2 (by decide) ?_
  refine ro_istore_n (lv1 := [_, _, _, _, _]) dX0_free_3 rfl rfl rfl ?_
  exact outer n 0 0 none (by omega) (by omega) (fun y => ⟨fun h => absurd h bit_0, fun ⟨j, hj, _⟩ => absurd hj (Nat.not_lt_zero j)⟩)
end
section
/-! the two constructors -/
set_option maxRecDepth 100000
def adL (l : List Nat) : Fn := fun k => l.getD k 0
theorem ra_uniq {U : State} {c1 c2 : ClassId} (h1 : va_RA U c1 .int) (h2 : va_RA U c2 .int) : c1 = c2 := by
  have h1 : U.vm.findClass ("[" ++ FieldType.int.toString) = some c1 := h1
  have h2 : U.vm.findClass ("[" ++ FieldType.int.toString) = some c2 := h2
  exact Option.some.inj (h1.symm.trans h2)
abbrev zF : Fn := fun _ => 0
abbrev Z0 : S0 := (zF, zF, zF, zF, zF, zF, zF, zF, zF, 0, 0)
abbrev Z1 : S1 := (zF, 0, zF, zF, zF, zF, zF)
abbrev E0 (h0 : Nat) : va_W := [(h0, .inr (0, [.null, .null, .null, .null, .null, .null, .null, .null, .null, .int 0, .int 0]))]
abbrev E1 (h0 : Nat) : va_W := [(h0, .inr (1, [.null, .int 0, .null, .null, .null, .null, .null]))]
set_option maxHeartbeats 4000000 in
theorem mt_init (l : Launch) (D : va_G) (h0 sz : Nat) : Met l yX0_init (ws_ yX0_init cX0_init 1 none) ({ frames := 1, cells := 9, slots := 841, locals := 12 }) (va_Pc [.ref h0] (fun U => U.heap.size = sz ∧ va_P D vwCl (E0 h0) U.heap ∧ va_K D vwCl [] U ∧ va_D (fun _ => True) (E0 h0))) (va_Qv (fun _ : Fn × ClassId × ClassId => True) (fun x t => x.1 0 = h0 ∧ BW w0 D x.1 x.2.1 x.2.2 (va_A (E0 h0) sz) Z0 t) (va_A (E0 h0) sz)) 9 841 (va_A (E0 h0) sz) := by
  refine Met.ofW (cc := cX0_init) (maxL := 1) (ret := none) (by decide) rfl ?_
  intro p e s m args below meth c s₁ B hml hv
  obtain ⟨rfl, hsz, hP, hK, hD0⟩ := hv
  have hx := B.exec
  have hb := B.bytes
  have hr := B.returns
  have hts := atoms_spec (ws := ws_ yX0_init cX0_init 1 none) B.pre
  have hts : ∀ w ∈ lw_all, w.before _ s = true := fun w h => hts w (List.mem_cons_of_mem _ h)
  have hown : s.vm.findClass RX0 = some m.cls := findClass_of_methodNamed B.named
  have hlocks := B.notSynchronized
  have hin : meth.name = "<init>" := (name_of_methodNamed B.named B.method).1
  subst hsz
  have hD := hD0.self (sz := s.heap.size)
  generalize hAe : va_A (E0 h0) s.heap.size = A at hD ⊢
  have hA : ∀ q : Nat, s.heap.size ≤ q → A q := fun q h => by rw [← hAe]; exact Or.inr h
  have hS : va_S A s.heap s.heap [] := va_S.rf
  have hP : va_P D vwCl (E0 h0) s.heap := hP
  have hl := lv_entry ([.ref h0]) (n := 1) (Nat.le_of_ble_eq_true rfl)
  rw [lg_entry_eq]
  generalize (lg_sl ([.ref h0]) ++ List.replicate (1 - (lg_sl ([.ref h0])).length) Slot.unset).toArray = ls at hl ⊢
  have hl : lv_has ls 1 [(0, .ref h0)] := hl
  refine lv_aload_n hx hb dX0_init_0 rfl (lv_at hl 0 rfl) ?_
  refine W.objInit hx hb hown (hts _ q36) (hts _ q37) (hts _ q38) rfl (by rw [hml]; exact hl.1) rfl dX0_init_1 (Nat.le_of_ble_eq_true rfl) (Nat.le_of_ble_eq_true rfl) ?_
  refine W.eq (g2 := F0 m 4 ls []) rfl ?_
  refine lv_aload_n hx hb dX0_init_4 rfl (lv_at hl 0 rfl) ?_
  refine lv_sipush (v := nI 204) hx hb dX0_init_5 (by decide) ?_
  refine va_newa (atype := .int) (ty := .int) (N' := 204) (a0 := (204, .inl (fun _ => nI 0))) hx hb (hts _ q73) rfl hK hP hD hS hA (fun _ => rfl) (by decide) (by decide) (by decide) (Nat.le_of_ble_eq_true rfl) (Nat.le_of_ble_eq_true rfl) dX0_init_8 (fun a1 k1 H hK hP hD hS => ?_)
  have hK : va_K D vwCl [(k1, .int)] s := hK
  obtain ⟨cI, rfl⟩ : ∃ z, z = k1 := ⟨_, rfl⟩
  have hP : va_P D vwCl [(h0, .inr (0, [.null, .null, .null, .null, .null, .null, .null, .null, .null, .int 0, .int 0])), (a1, .inl (cI, 204, .inl (fun _ => nI 0)))] H := hP
  have hD : va_D A [(h0, .inr (0, [.null, .null, .null, .null, .null, .null, .null, .null, .null, .int 0, .int 0])), (a1, .inl (cI, 204, .inl (fun _ => nI 0)))] := hD
  refine va_putF (D := D) (ci := 0) (v := .ref a1) (ty := .array .int) (C := RX0) (T := TX0) (N := 11) hx hb hts in_X0 tyX0 tyX0_ok nmX0 hown hK hP hD hS 0 rfl rfl 0 (by decide) (hts _ q39) (fun _ h9 => h9) rfl hin rfl (by decide +kernel) rfl rfl (Nat.le_of_ble_eq_true rfl) dX0_init_10 (fun H locs hP hD hS => ?_)
  have hP : va_P D vwCl [(h0, .inr (0, [.ref a1, .null, .null, .null, .null, .null, .null, .null, .null, .int 0, .int 0])), (a1, .inl (cI, 204, .inl (fun _ => nI 0)))] H := hP
  have hD : va_D A [(h0, .inr (0, [.ref a1, .null, .null, .null, .null, .null, .null, .null, .null, .int 0, .int 0])), (a1, .inl (cI, 204, .inl (fun _ => nI 0)))] := hD
  refine lv_aload_n hx hb dX0_init_13 rfl (lv_at hl 0 rfl) ?_
  refine lv_sipush (v := nI 204) hx hb dX0_init_14 (by decide) ?_
  refine va_newa (atype := .int) (ty := .int) (N' := 204) (a0 := (204, .inl (fun _ => nI 0))) hx hb (hts _ q73) rfl hK hP hD hS hA (fun _ => rfl) (by decide) (by decide) (by decide) (Nat.le_of_ble_eq_true rfl) (Nat.le_of_ble_eq_true rfl) dX0_init_17 (fun a2 k2 H hK hP hD hS => ?_)
  have hK : va_K D vwCl [(cI, .int), (k2, .int)] s := hK
  obtain rfl : cI = k2 := ra_uniq (hK.2 0 _ rfl).2 (hK.2 1 _ rfl).2
  have hK := hK.sub (tys' := [(cI, .int)]) [0] rfl
  have hP : va_P D vwCl [(h0, .inr (0, [.ref a1, .null, .null, .null, .null, .null, .null, .null, .null, .int 0, .int 0])), (a1, .inl (cI, 204, .inl (fun _ => nI 0))), (a2, .inl (cI, 204, .inl (fun _ => nI 0)))] H := hP
  have hD : va_D A [(h0, .inr (0, [.ref a1, .null, .null, .null, .null, .null, .null, .null, .null, .int 0, .int 0])), (a1, .inl (cI, 204, .inl (fun _ => nI 0))), (a2, .inl (cI, 204, .inl (fun _ => nI 0)))] := hD
  refine va_putF (D := D) (ci := 0) (v := .ref a2) (ty := .array .int) (C := RX0) (T := TX0) (N := 11) hx hb hts in_X0 tyX0 tyX0_ok nmX0 hown hK hP hD hS 0 rfl rfl 1 (by decide) (hts _ q40) (fun _ h9 => h9) rfl hin rfl (by decide +kernel) rfl rfl (Nat.le_of_ble_eq_true rfl) dX0_init_19 (fun H locs hP hD hS => ?_)
  have hP : va_P D vwCl [(h0, .inr (0, [.ref a1, .ref a2, .null, .null, .null, .null, .null, .null, .null, .int 0, .int 0])), (a1, .inl (cI, 204, .inl (fun _ => nI 0))), (a2, .inl (cI, 204, .inl (fun _ => nI 0)))] H := hP
  have hD : va_D A [(h0, .inr (0, [.ref a1, .ref a2, .null, .null, .null, .null, .null, .null, .null, .int 0, .int 0])), (a1, .inl (cI, 204, .inl (fun _ => nI 0))), (a2, .inl (cI, 204, .inl (fun _ => nI 0)))] := hD
  refine lv_aload_n hx hb dX0_init_22 rfl (lv_at hl 0 rfl) ?_
  refine lv_sipush (v := nI 204) hx hb dX0_init_23 (by decide) ?_
  refine va_newa (atype := .int) (ty := .int) (N' := 204) (a0 := (204, .inl (fun _ => nI 0))) hx hb (hts _ q73) rfl hK hP hD hS hA (fun _ => rfl) (by decide) (by decide) (by decide) (Nat.le_of_ble_eq_true rfl) (Nat.le_of_ble_eq_true rfl) dX0_init_26 (fun a3 k3 H hK hP hD hS => ?_)
  have hK : va_K D vwCl [(cI, .int), (k3, .int)] s := hK
  obtain rfl : cI = k3 := ra_uniq (hK.2 0 _ rfl).2 (hK.2 1 _ rfl).2
  have hK := hK.sub (tys' := [(cI, .int)]) [0] rfl
  have hP : va_P D vwCl [(h0, .inr (0, [.ref a1, .ref a2, .null, .null, .null, .null, .null, .null, .null, .int 0, .int 0])), (a1, .inl (cI, 204, .inl (fun _ => nI 0))), (a2, .inl (cI, 204, .inl (fun _ => nI 0))), (a3, .inl (cI, 204, .inl (fun _ => nI 0)))] H := hP
  have hD : va_D A [(h0, .inr (0, [.ref a1, .ref a2, .null, .null, .null, .null, .null, .null, .null, .int 0, .int 0])), (a1, .inl (cI, 204, .inl (fun _ => nI 0))), (a2, .inl (cI, 204, .inl (fun _ => nI 0))), (a3, .inl (cI, 204, .inl (fun _ => nI 0)))] := hD
  refine va_putF (D := D) (ci := 0) (v := .ref a3) (ty := .array .int) (C := RX0) (T := TX0) (N := 11) hx hb hts in_X0 tyX0 tyX0_ok nmX0 hown hK hP hD hS 0 rfl rfl 2 (by decide) (hts _ q41) (fun _ h9 => h9) rfl hin rfl (by decide +kernel) rfl rfl (Nat.le_of_ble_eq_true rfl) dX0_init_28 (fun H locs hP hD hS => ?_)
  have hP : va_P D vwCl [(h0, .inr (0, [.ref a1, .ref a2, .ref a3, .null, .null, .null, .null, .null, .null, .int 0, .int 0])), (a1, .inl (cI, 204, .inl (fun _ => nI 0))), (a2, .inl (cI, 204, .inl (fun _ => nI 0))), (a3, .inl (cI, 204, .inl (fun _ => nI 0)))] H := hP
  have hD : va_D A [(h0, .inr (0, [.ref a1, .ref a2, .ref a3, .null, .null, .null, .null, .null, .null, .int 0, .int 0])), (a1, .inl (cI, 204, .inl (fun _ => nI 0))), (a2, .inl (cI, 204, .inl (fun _ => nI 0))), (a3, .inl (cI, 204, .inl (fun _ => nI 0)))] := hD
  refine lv_aload_n hx hb dX0_init_31 rfl (lv_at hl 0 rfl) ?_
  refine lv_sipush (v := nI 204) hx hb dX0_init_32 (by decide) ?_
  refine va_newa (atype := .int) (ty := .int) (N' := 204) (a0 := (204, .inl (fun _ => nI 0))) hx hb (hts _ q73) rfl hK hP hD hS hA (fun _ => rfl) (by decide) (by decide) (by decide) (Nat.le_of_ble_eq_true rfl) (Nat.le_of_ble_eq_true rfl) dX0_init_35 (fun a4 k4 H hK hP hD hS => ?_)
  have hK : va_K D vwCl [(cI, .int), (k4, .int)] s := hK
  obtain rfl : cI = k4 := ra_uniq (hK.2 0 _ rfl).2 (hK.2 1 _ rfl).2
  have hK := hK.sub (tys' := [(cI, .int)]) [0] rfl
  have hP : va_P D vwCl [(h0, .inr (0, [.ref a1, .ref a2, .ref a3, .null, .null, .null, .null, .null, .null, .int 0, .int 0])), (a1, .inl (cI, 204, .inl (fun _ => nI 0))), (a2, .inl (cI, 204, .inl (fun _ => nI 0))), (a3, .inl (cI, 204, .inl (fun _ => nI 0))), (a4, .inl (cI, 204, .inl (fun _ => nI 0)))] H := hP
  have hD : va_D A [(h0, .inr (0, [.ref a1, .ref a2, .ref a3, .null, .null, .null, .null, .null, .null, .int 0, .int 0])), (a1, .inl (cI, 204, .inl (fun _ => nI 0))), (a2, .inl (cI, 204, .inl (fun _ => nI 0))), (a3, .inl (cI, 204, .inl (fun _ => nI 0))), (a4, .inl (cI, 204, .inl (fun _ => nI 0)))] := hD
  refine va_putF (D := D) (ci := 0) (v := .ref a4) (ty := .array .int) (C := RX0) (T := TX0) (N := 11) hx hb hts in_X0 tyX0 tyX0_ok nmX0 hown hK hP hD hS 0 rfl rfl 3 (by decide) (hts _ q42) (fun _ h9 => h9) rfl hin rfl (by decide +kernel) rfl rfl (Nat.le_of_ble_eq_true rfl) dX0_init_37 (fun H locs hP hD hS => ?_)
  have hP : va_P D vwCl [(h0, .inr (0, [.ref a1, .ref a2, .ref a3, .ref a4, .null, .null, .null, .null, .null, .int 0, .int 0])), (a1, .inl (cI, 204, .inl (fun _ => nI 0))), (a2, .inl (cI, 204, .inl (fun _ => nI 0))), (a3, .inl (cI, 204, .inl (fun _ => nI 0))), (a4, .inl (cI, 204, .inl (fun _ => nI 0)))] H := hP
  have hD : va_D A [(h0, .inr (0, [.ref a1, .ref a2, .ref a3, .ref a4, .null, .null, .null, .null, .null, .int 0, .int 0])), (a1, .inl (cI, 204, .inl (fun _ => nI 0))), (a2, .inl (cI, 204, .inl (fun _ => nI 0))), (a3, .inl (cI, 204, .inl (fun _ => nI 0))), (a4, .inl (cI, 204, .inl (fun _ => nI 0)))] := hD
  refine lv_aload_n hx hb dX0_init_40 rfl (lv_at hl 0 rfl) ?_
  refine lv_iconst (v := nI 5) hx hb dX0_init_41 (by decide) ?_
  refine va_newa (atype := .boolean) (ty := .boolean) (N' := 5) (a0 := (5, .inl (fun _ => nI 0))) hx hb (hts _ q74) rfl hK hP hD hS hA (fun _ => rfl) (by decide) (by decide) (by decide) (Nat.le_of_ble_eq_true rfl) (Nat.le_of_ble_eq_true rfl) dX0_init_42 (fun a5 k5 H hK hP hD hS => ?_)
  have hK : va_K D vwCl [(cI, .int), (k5, .boolean)] s := hK
  obtain ⟨cZ, rfl⟩ : ∃ z, z = k5 := ⟨_, rfl⟩
  have hP : va_P D vwCl [(h0, .inr (0, [.ref a1, .ref a2, .ref a3, .ref a4, .null, .null, .null, .null, .null, .int 0, .int 0])), (a1, .inl (cI, 204, .inl (fun _ => nI 0))), (a2, .inl (cI, 204, .inl (fun _ => nI 0))), (a3, .inl (cI, 204, .inl (fun _ => nI 0))), (a4, .inl (cI, 204, .inl (fun _ => nI 0))), (a5, .inl (cZ, 5, .inl (fun _ => nI 0)))] H := hP
  have hD : va_D A [(h0, .inr (0, [.ref a1, .ref a2, .ref a3, .ref a4, .null, .null, .null, .null, .null, .int 0, .int 0])), (a1, .inl (cI, 204, .inl (fun _ => nI 0))), (a2, .inl (cI, 204, .inl (fun _ => nI 0))), (a3, .inl (cI, 204, .inl (fun _ => nI 0))), (a4, .inl (cI, 204, .inl (fun _ => nI 0))), (a5, .inl (cZ, 5, .inl (fun _ => nI 0)))] := hD
  refine va_putF (D := D) (ci := 0) (v := .ref a5) (ty := .array .boolean) (C := RX0) (T := TX0) (N := 11) hx hb hts in_X0 tyX0 tyX0_ok nmX0 hown hK hP hD hS 0 rfl rfl 4 (by decide) (hts _ q43) (fun _ h9 => h9) rfl hin rfl (by decide +kernel) rfl rfl (Nat.le_of_ble_eq_true rfl) dX0_init_44 (fun H locs hP hD hS => ?_)
  have hP : va_P D vwCl [(h0, .inr (0, [.ref a1, .ref a2, .ref a3, .ref a4, .ref a5, .null, .null, .null, .null, .int 0, .int 0])), (a1, .inl (cI, 204, .inl (fun _ => nI 0))), (a2, .inl (cI, 204, .inl (fun _ => nI 0))), (a3, .inl (cI, 204, .inl (fun _ => nI 0))), (a4, .inl (cI, 204, .inl (fun _ => nI 0))), (a5, .inl (cZ, 5, .inl (fun _ => nI 0)))] H := hP
  have hD : va_D A [(h0, .inr (0, [.ref a1, .ref a2, .ref a3, .ref a4, .ref a5, .null, .null, .null, .null, .int 0, .int 0])), (a1, .inl (cI, 204, .inl (fun _ => nI 0))), (a2, .inl (cI, 204, .inl (fun _ => nI 0))), (a3, .inl (cI, 204, .inl (fun _ => nI 0))), (a4, .inl (cI, 204, .inl (fun _ => nI 0))), (a5, .inl (cZ, 5, .inl (fun _ => nI 0)))] := hD
  refine lv_aload_n hx hb dX0_init_47 rfl (lv_at hl 0 rfl) ?_
  refine lv_iconst (v := nI 5) hx hb dX0_init_48 (by decide) ?_
  refine va_newa (atype := .int) (ty := .int) (N' := 5) (a0 := (5, .inl (fun _ => nI 0))) hx hb (hts _ q73) rfl hK hP hD hS hA (fun _ => rfl) (by decide) (by decide) (by decide) (Nat.le_of_ble_eq_true rfl) (Nat.le_of_ble_eq_true rfl) dX0_init_49 (fun a6 k6 H hK hP hD hS => ?_)
  have hK : va_K D vwCl [(cI, .int), (cZ, .boolean), (k6, .int)] s := hK
  obtain rfl : cI = k6 := ra_uniq (hK.2 0 _ rfl).2 (hK.2 2 _ rfl).2
  have hK := hK.sub (tys' := [(cI, .int), (cZ, .boolean)]) [0, 1] rfl
  have hP : va_P D vwCl [(h0, .inr (0, [.ref a1, .ref a2, .ref a3, .ref a4, .ref a5, .null, .null, .null, .null, .int 0, .int 0])), (a1, .inl (cI, 204, .inl (fun _ => nI 0))), (a2, .inl (cI, 204, .inl (fun _ => nI 0))), (a3, .inl (cI, 204, .inl (fun _ => nI 0))), (a4, .inl (cI, 204, .inl (fun _ => nI 0))), (a5, .inl (cZ, 5, .inl (fun _ => nI 0))), (a6, .inl (cI, 5, .inl (fun _ => nI 0)))] H := hP
  have hD : va_D A [(h0, .inr (0, [.ref a1, .ref a2, .ref a3, .ref a4, .ref a5, .null, .null, .null, .null, .int 0, .int 0])), (a1, .inl (cI, 204, .inl (fun _ => nI 0))), (a2, .inl (cI, 204, .inl (fun _ => nI 0))), (a3, .inl (cI, 204, .inl (fun _ => nI 0))), (a4, .inl (cI, 204, .inl (fun _ => nI 0))), (a5, .inl (cZ, 5, .inl (fun _ => nI 0))), (a6, .inl (cI, 5, .inl (fun _ => nI 0)))] := hD
  refine va_putF (D := D) (ci := 0) (v := .ref a6) (ty := .array .int) (C := RX0) (T := TX0) (N := 11) hx hb hts in_X0 tyX0 tyX0_ok nmX0 hown hK hP hD hS 0 rfl rfl 5 (by decide) (hts _ q44) (fun _ h9 => h9) rfl hin rfl (by decide +kernel) rfl rfl (Nat.le_of_ble_eq_true rfl) dX0_init_51 (fun H locs hP hD hS => ?_)
  have hP : va_P D vwCl [(h0, .inr (0, [.ref a1, .ref a2, .ref a3, .ref a4, .ref a5, .ref a6, .null, .null, .null, .int 0, .int 0])), (a1, .inl (cI, 204, .inl (fun _ => nI 0))), (a2, .inl (cI, 204, .inl (fun _ => nI 0))), (a3, .inl (cI, 204, .inl (fun _ => nI 0))), (a4, .inl (cI, 204, .inl (fun _ => nI 0))), (a5, .inl (cZ, 5, .inl (fun _ => nI 0))), (a6, .inl (cI, 5, .inl (fun _ => nI 0)))] H := hP
  have hD : va_D A [(h0, .inr (0, [.ref a1, .ref a2, .ref a3, .ref a4, .ref a5, .ref a6, .null, .null, .null, .int 0, .int 0])), (a1, .inl (cI, 204, .inl (fun _ => nI 0))), (a2, .inl (cI, 204, .inl (fun _ => nI 0))), (a3, .inl (cI, 204, .inl (fun _ => nI 0))), (a4, .inl (cI, 204, .inl (fun _ => nI 0))), (a5, .inl (cZ, 5, .inl (fun _ => nI 0))), (a6, .inl (cI, 5, .inl (fun _ => nI 0)))] := hD
  refine lv_aload_n hx hb dX0_init_54 rfl (lv_at hl 0 rfl) ?_
  refine lv_iconst (v := nI 5) hx hb dX0_init_55 (by decide) ?_
  refine va_newa (atype := .int) (ty := .int) (N' := 5) (a0 := (5, .inl (fun _ => nI 0))) hx hb (hts _ q73) rfl hK hP hD hS hA (fun _ => rfl) (by decide) (by decide) (by decide) (Nat.le_of_ble_eq_true rfl) (Nat.le_of_ble_eq_true rfl) dX0_init_56 (fun a7 k7 H hK hP hD hS => ?_)
  have hK : va_K D vwCl [(cI, .int), (cZ, .boolean), (k7, .int)] s := hK
  obtain rfl : cI = k7 := ra_uniq (hK.2 0 _ rfl).2 (hK.2 2 _ rfl).2
  have hK := hK.sub (tys' := [(cI, .int), (cZ, .boolean)]) [0, 1] rfl
  have hP : va_P D vwCl [(h0, .inr (0, [.ref a1, .ref a2, .ref a3, .ref a4, .ref a5, .ref a6, .null, .null, .null, .int 0, .int 0])), (a1, .inl (cI, 204, .inl (fun _ => nI 0))), (a2, .inl (cI, 204, .inl (fun _ => nI 0))), (a3, .inl (cI, 204, .inl (fun _ => nI 0))), (a4, .inl (cI, 204, .inl (fun _ => nI 0))), (a5, .inl (cZ, 5, .inl (fun _ => nI 0))), (a6, .inl (cI, 5, .inl (fun _ => nI 0))), (a7, .inl (cI, 5, .inl (fun _ => nI 0)))] H := hP
  have hD : va_D A [(h0, .inr (0, [.ref a1, .ref a2, .ref a3, .ref a4, .ref a5, .ref a6, .null, .null, .null, .int 0, .int 0])), (a1, .inl (cI, 204, .inl (fun _ => nI 0))), (a2, .inl (cI, 204, .inl (fun _ => nI 0))), (a3, .inl (cI, 204, .inl (fun _ => nI 0))), (a4, .inl (cI, 204, .inl (fun _ => nI 0))), (a5, .inl (cZ, 5, .inl (fun _ => nI 0))), (a6, .inl (cI, 5, .inl (fun _ => nI 0))), (a7, .inl (cI, 5, .inl (fun _ => nI 0)))] := hD
  refine va_putF (D := D) (ci := 0) (v := .ref a7) (ty := .array .int) (C := RX0) (T := TX0) (N := 11) hx hb hts in_X0 tyX0 tyX0_ok nmX0 hown hK hP hD hS 0 rfl rfl 6 (by decide) (hts _ q45) (fun _ h9 => h9) rfl hin rfl (by decide +kernel) rfl rfl (Nat.le_of_ble_eq_true rfl) dX0_init_58 (fun H locs hP hD hS => ?_)
  have hP : va_P D vwCl [(h0, .inr (0, [.ref a1, .ref a2, .ref a3, .ref a4, .ref a5, .ref a6, .ref a7, .null, .null, .int 0, .int 0])), (a1, .inl (cI, 204, .inl (fun _ => nI 0))), (a2, .inl (cI, 204, .inl (fun _ => nI 0))), (a3, .inl (cI, 204, .inl (fun _ => nI 0))), (a4, .inl (cI, 204, .inl (fun _ => nI 0))), (a5, .inl (cZ, 5, .inl (fun _ => nI 0))), (a6, .inl (cI, 5, .inl (fun _ => nI 0))), (a7, .inl (cI, 5, .inl (fun _ => nI 0)))] H := hP
  have hD : va_D A [(h0, .inr (0, [.ref a1, .ref a2, .ref a3, .ref a4, .ref a5, .ref a6, .ref a7, .null, .null, .int 0, .int 0])), (a1, .inl (cI, 204, .inl (fun _ => nI 0))), (a2, .inl (cI, 204, .inl (fun _ => nI 0))), (a3, .inl (cI, 204, .inl (fun _ => nI 0))), (a4, .inl (cI, 204, .inl (fun _ => nI 0))), (a5, .inl (cZ, 5, .inl (fun _ => nI 0))), (a6, .inl (cI, 5, .inl (fun _ => nI 0))), (a7, .inl (cI, 5, .inl (fun _ => nI 0)))] := hD
  refine lv_aload_n hx hb dX0_init_61 rfl (lv_at hl 0 rfl) ?_
  refine lv_iconst (v := nI 5) hx hb dX0_init_62 (by decide) ?_
  refine va_newa (atype := .int) (ty := .int) (N' := 5) (a0 := (5, .inl (fun _ => nI 0))) hx hb (hts _ q73) rfl hK hP hD hS hA (fun _ => rfl) (by decide) (by decide) (by decide) (Nat.le_of_ble_eq_true rfl) (Nat.le_of_ble_eq_true rfl) dX0_init_63 (fun a8 k8 H hK hP hD hS => ?_)
  have hK : va_K D vwCl [(cI, .int), (cZ, .boolean), (k8, .int)] s := hK
  obtain rfl : cI = k8 := ra_uniq (hK.2 0 _ rfl).2 (hK.2 2 _ rfl).2
  have hK := hK.sub (tys' := [(cI, .int), (cZ, .boolean)]) [0, 1] rfl
  have hP : va_P D vwCl [(h0, .inr (0, [.ref a1, .ref a2, .ref a3, .ref a4, .ref a5, .ref a6, .ref a7, .null, .null, .int 0, .int 0])), (a1, .inl (cI, 204, .inl (fun _ => nI 0))), (a2, .inl (cI, 204, .inl (fun _ => nI 0))), (a3, .inl (cI, 204, .inl (fun _ => nI 0))), (a4, .inl (cI, 204, .inl (fun _ => nI 0))), (a5, .inl (cZ, 5, .inl (fun _ => nI 0))), (a6, .inl (cI, 5, .inl (fun _ => nI 0))), (a7, .inl (cI, 5, .inl (fun _ => nI 0))), (a8, .inl (cI, 5, .inl (fun _ => nI 0)))] H := hP
  have hD : va_D A [(h0, .inr (0, [.ref a1, .ref a2, .ref a3, .ref a4, .ref a5, .ref a6, .ref a7, .null, .null, .int 0, .int 0])), (a1, .inl (cI, 204, .inl (fun _ => nI 0))), (a2, .inl (cI, 204, .inl (fun _ => nI 0))), (a3, .inl (cI, 204, .inl (fun _ => nI 0))), (a4, .inl (cI, 204, .inl (fun _ => nI 0))), (a5, .inl (cZ, 5, .inl (fun _ => nI 0))), (a6, .inl (cI, 5, .inl (fun _ => nI 0))), (a7, .inl (cI, 5, .inl (fun _ => nI 0))), (a8, .inl (cI, 5, .inl (fun _ => nI 0)))] := hD
  refine va_putF (D := D) (ci := 0) (v := .ref a8) (ty := .array .int) (C := RX0) (T := TX0) (N := 11) hx hb hts in_X0 tyX0 tyX0_ok nmX0 hown hK hP hD hS 0 rfl rfl 7 (by decide) (hts _ q46) (fun _ h9 => h9) rfl hin rfl (by decide +kernel) rfl rfl (Nat.le_of_ble_eq_true rfl) dX0_init_65 (fun H locs hP hD hS => ?_)
  have hP : va_P D vwCl [(h0, .inr (0, [.ref a1, .ref a2, .ref a3, .ref a4, .ref a5, .ref a6, .ref a7, .ref a8, .null, .int 0, .int 0])), (a1, .inl (cI, 204, .inl (fun _ => nI 0))), (a2, .inl (cI, 204, .inl (fun _ => nI 0))), (a3, .inl (cI, 204, .inl (fun _ => nI 0))), (a4, .inl (cI, 204, .inl (fun _ => nI 0))), (a5, .inl (cZ, 5, .inl (fun _ => nI 0))), (a6, .inl (cI, 5, .inl (fun _ => nI 0))), (a7, .inl (cI, 5, .inl (fun _ => nI 0))), (a8, .inl (cI, 5, .inl (fun _ => nI 0)))] H := hP
  have hD : va_D A [(h0, .inr (0, [.ref a1, .ref a2, .ref a3, .ref a4, .ref a5, .ref a6, .ref a7, .ref a8, .null, .int 0, .int 0])), (a1, .inl (cI, 204, .inl (fun _ => nI 0))), (a2, .inl (cI, 204, .inl (fun _ => nI 0))), (a3, .inl (cI, 204, .inl (fun _ => nI 0))), (a4, .inl (cI, 204, .inl (fun _ => nI 0))), (a5, .inl (cZ, 5, .inl (fun _ => nI 0))), (a6, .inl (cI, 5, .inl (fun _ => nI 0))), (a7, .inl (cI, 5, .inl (fun _ => nI 0))), (a8, .inl (cI, 5, .inl (fun _ => nI 0)))] := hD
  refine lv_aload_n hx hb dX0_init_68 rfl (lv_at hl 0 rfl) ?_
  refine lv_iconst (v := nI 5) hx hb dX0_init_69 (by decide) ?_
  refine va_newa (atype := .int) (ty := .int) (N' := 5) (a0 := (5, .inl (fun _ => nI 0))) hx hb (hts _ q73) rfl hK hP hD hS hA (fun _ => rfl) (by decide) (by decide) (by decide) (Nat.le_of_ble_eq_true rfl) (Nat.le_of_ble_eq_true rfl) dX0_init_70 (fun a9 k9 H hK hP hD hS => ?_)
  have hK : va_K D vwCl [(cI, .int), (cZ, .boolean), (k9, .int)] s := hK
  obtain rfl : cI = k9 := ra_uniq (hK.2 0 _ rfl).2 (hK.2 2 _ rfl).2
  have hK := hK.sub (tys' := [(cI, .int), (cZ, .boolean)]) [0, 1] rfl
  have hP : va_P D vwCl [(h0, .inr (0, [.ref a1, .ref a2, .ref a3, .ref a4, .ref a5, .ref a6, .ref a7, .ref a8, .null, .int 0, .int 0])), (a1, .inl (cI, 204, .inl (fun _ => nI 0))), (a2, .inl (cI, 204, .inl (fun _ => nI 0))), (a3, .inl (cI, 204, .inl (fun _ => nI 0))), (a4, .inl (cI, 204, .inl (fun _ => nI 0))), (a5, .inl (cZ, 5, .inl (fun _ => nI 0))), (a6, .inl (cI, 5, .inl (fun _ => nI 0))), (a7, .inl (cI, 5, .inl (fun _ => nI 0))), (a8, .inl (cI, 5, .inl (fun _ => nI 0))), (a9, .inl (cI, 5, .inl (fun _ => nI 0)))] H := hP
  have hD : va_D A [(h0, .inr (0, [.ref a1, .ref a2, .ref a3, .ref a4, .ref a5, .ref a6, .ref a7, .ref a8, .null, .int 0, .int 0])), (a1, .inl (cI, 204, .inl (fun _ => nI 0))), (a2, .inl (cI, 204, .inl (fun _ => nI 0))), (a3, .inl (cI, 204, .inl (fun _ => nI 0))), (a4, .inl (cI, 204, .inl (fun _ => nI 0))), (a5, .inl (cZ, 5, .inl (fun _ => nI 0))), (a6, .inl (cI, 5, .inl (fun _ => nI 0))), (a7, .inl (cI, 5, .inl (fun _ => nI 0))), (a8, .inl (cI, 5, .inl (fun _ => nI 0))), (a9, .inl (cI, 5, .inl (fun _ => nI 0)))] := hD
  refine va_putF (D := D) (ci := 0) (v := .ref a9) (ty := .array .int) (C := RX0) (T := TX0) (N := 11) hx hb hts in_X0 tyX0 tyX0_ok nmX0 hown hK hP hD hS 0 rfl rfl 8 (by decide) (hts _ q47) (fun _ h9 => h9) rfl hin rfl (by decide +kernel) rfl rfl (Nat.le_of_ble_eq_true rfl) dX0_init_72 (fun H locs hP hD hS => ?_)
  have hP : va_P D vwCl [(h0, .inr (0, [.ref a1, .ref a2, .ref a3, .ref a4, .ref a5, .ref a6, .ref a7, .ref a8, .ref a9, .int 0, .int 0])), (a1, .inl (cI, 204, .inl (fun _ => nI 0))), (a2, .inl (cI, 204, .inl (fun _ => nI 0))), (a3, .inl (cI, 204, .inl (fun _ => nI 0))), (a4, .inl (cI, 204, .inl (fun _ => nI 0))), (a5, .inl (cZ, 5, .inl (fun _ => nI 0))), (a6, .inl (cI, 5, .inl (fun _ => nI 0))), (a7, .inl (cI, 5, .inl (fun _ => nI 0))), (a8, .inl (cI, 5, .inl (fun _ => nI 0))), (a9, .inl (cI, 5, .inl (fun _ => nI 0)))] H := hP
  have hD : va_D A [(h0, .inr (0, [.ref a1, .ref a2, .ref a3, .ref a4, .ref a5, .ref a6, .ref a7, .ref a8, .ref a9, .int 0, .int 0])), (a1, .inl (cI, 204, .inl (fun _ => nI 0))), (a2, .inl (cI, 204, .inl (fun _ => nI 0))), (a3, .inl (cI, 204, .inl (fun _ => nI 0))), (a4, .inl (cI, 204, .inl (fun _ => nI 0))), (a5, .inl (cZ, 5, .inl (fun _ => nI 0))), (a6, .inl (cI, 5, .inl (fun _ => nI 0))), (a7, .inl (cI, 5, .inl (fun _ => nI 0))), (a8, .inl (cI, 5, .inl (fun _ => nI 0))), (a9, .inl (cI, 5, .inl (fun _ => nI 0)))] := hD
  refine lv_aload_n hx hb dX0_init_75 rfl (lv_at hl 0 rfl) ?_
  refine lv_iconst (v := 0) hx hb dX0_init_76 (by decide) ?_
  refine va_put (D := D) (ci := 0) (v := .int 0) (ty := .int) (C := RX0) (T := TX0) (N := 11) hx hb hts in_X0 tyX0 tyX0_ok nmX0 hown hK hP hD hS 0 rfl rfl 9 (by decide) (hts _ q48) (fun _ h9 => h9) rfl (by decide +kernel) rfl rfl (Nat.le_of_ble_eq_true rfl) dX0_init_77 (fun H locs hP hD hS => ?_)
  have hP : va_P D vwCl [(h0, .inr (0, [.ref a1, .ref a2, .ref a3, .ref a4, .ref a5, .ref a6, .ref a7, .ref a8, .ref a9, .int 0, .int 0])), (a1, .inl (cI, 204, .inl (fun _ => nI 0))), (a2, .inl (cI, 204, .inl (fun _ => nI 0))), (a3, .inl (cI, 204, .inl (fun _ => nI 0))), (a4, .inl (cI, 204, .inl (fun _ => nI 0))), (a5, .inl (cZ, 5, .inl (fun _ => nI 0))), (a6, .inl (cI, 5, .inl (fun _ => nI 0))), (a7, .inl (cI, 5, .inl (fun _ => nI 0))), (a8, .inl (cI, 5, .inl (fun _ => nI 0))), (a9, .inl (cI, 5, .inl (fun _ => nI 0)))] H := hP
  have hD : va_D A [(h0, .inr (0, [.ref a1, .ref a2, .ref a3, .ref a4, .ref a5, .ref a6, .ref a7, .ref a8, .ref a9, .int 0, .int 0])), (a1, .inl (cI, 204, .inl (fun _ => nI 0))), (a2, .inl (cI, 204, .inl (fun _ => nI 0))), (a3, .inl (cI, 204, .inl (fun _ => nI 0))), (a4, .inl (cI, 204, .inl (fun _ => nI 0))), (a5, .inl (cZ, 5, .inl (fun _ => nI 0))), (a6, .inl (cI, 5, .inl (fun _ => nI 0))), (a7, .inl (cI, 5, .inl (fun _ => nI 0))), (a8, .inl (cI, 5, .inl (fun _ => nI 0))), (a9, .inl (cI, 5, .inl (fun _ => nI 0)))] := hD
  refine W.widen (k := 9) (n := 841) (Nat.le_of_ble_eq_true rfl) (Nat.le_of_ble_eq_true rfl) ?_
  exact W.vret hx hb hr (fun t ht hW => ⟨⟨((adL [h0, a1, a2, a3, a4, a5, a6, a7, a8, a9]), cI, cZ), rfl, trivial, rfl, by rw [ht]; exact hP, va_K.moved hW.alike hK, hD⟩, hS.F ht⟩) hS.2.2 dX0_init_80
set_option maxHeartbeats 4000000 in
theorem m1_init (l : Launch) (D : va_G) (cI cZ : ClassId) (h0 sz : Nat) : Met l yX1_init (ws_ yX1_init cX1_init 1 none) ({ frames := 1, cells := 6, slots := 240, locals := 12 }) (va_Pc [.ref h0] (fun U => U.heap.size = sz ∧ va_P D vwCl (E1 h0) U.heap ∧ va_K D vwCl [(cI, .int), (cZ, .boolean)] U ∧ va_D (fun _ => True) (E1 h0))) (va_Qv (fun _ : Fn => True) (fun x t => x 0 = h0 ∧ BW w1 D x cI cZ (va_A (E1 h0) sz) Z1 t) (va_A (E1 h0) sz)) 6 240 (va_A (E1 h0) sz) := by
  refine Met.ofW (cc := cX1_init) (maxL := 1) (ret := none) (by decide) rfl ?_
  intro p e s m args below meth c s₁ B hml hv
  obtain ⟨rfl, hsz, hP, hK, hD0⟩ := hv
  have hx := B.exec
  have hb := B.bytes
  have hr := B.returns
  have hts := atoms_spec (ws := ws_ yX1_init cX1_init 1 none) B.pre
  have hts : ∀ w ∈ lw_all, w.before _ s = true := fun w h => hts w (List.mem_cons_of_mem _ h)
  have hown : s.vm.findClass RX1 = some m.cls := findClass_of_methodNamed B.named
  have hlocks := B.notSynchronized
  have hin : meth.name = "<init>" := (name_of_methodNamed B.named B.method).1
  subst hsz
  have hD := hD0.self (sz := s.heap.size)
  generalize hAe : va_A (E1 h0) s.heap.size = A at hD ⊢
  have hA : ∀ q : Nat, s.heap.size ≤ q → A q := fun q h => by rw [← hAe]; exact Or.inr h
  have hS : va_S A s.heap s.heap [] := va_S.rf
  have hP : va_P D vwCl (E1 h0) s.heap := hP
  have hl := lv_entry ([.ref h0]) (n := 1) (Nat.le_of_ble_eq_true rfl)
  rw [lg_entry_eq]
  generalize (lg_sl ([.ref h0]) ++ List.replicate (1 - (lg_sl ([.ref h0])).length) Slot.unset).toArray = ls at hl ⊢
  have hl : lv_has ls 1 [(0, .ref h0)] := hl
  refine lv_aload_n hx hb dX1_init_0 rfl (lv_at hl 0 rfl) ?_
  refine W.objInit hx hb hown (hts _ q218) (hts _ q37) (hts _ q38) rfl (by rw [hml]; exact hl.1) rfl dX1_init_1 (Nat.le_of_ble_eq_true rfl) (Nat.le_of_ble_eq_true rfl) ?_
  refine W.eq (g2 := F0 m 4 ls []) rfl ?_
  refine lv_aload_n hx hb dX1_init_4 rfl (lv_at hl 0 rfl) ?_
  refine lv_sipush (v := nI 200) hx hb dX1_init_5 (by decide) ?_
  refine va_newa (atype := .int) (ty := .int) (N' := 200) (a0 := (200, .inl (fun _ => nI 0))) hx hb (hts _ q73) rfl hK hP hD hS hA (fun _ => rfl) (by decide) (by decide) (by decide) (Nat.le_of_ble_eq_true rfl) (Nat.le_of_ble_eq_true rfl) dX1_init_8 (fun a1 k1 H hK hP hD hS => ?_)
  have hK : va_K D vwCl [(cI, .int), (cZ, .boolean), (k1, .int)] s := hK
  obtain rfl : cI = k1 := ra_uniq (hK.2 0 _ rfl).2 (hK.2 2 _ rfl).2
  have hK := hK.sub (tys' := [(cI, .int), (cZ, .boolean)]) [0, 1] rfl
  have hP : va_P D vwCl [(h0, .inr (1, [.null, .int 0, .null, .null, .null, .null, .null])), (a1, .inl (cI, 200, .inl (fun _ => nI 0)))] H := hP
  have hD : va_D A [(h0, .inr (1, [.null, .int 0, .null, .null, .null, .null, .null])), (a1, .inl (cI, 200, .inl (fun _ => nI 0)))] := hD
  refine va_put (D := D) (ci := 1) (v := .ref a1) (ty := .array .int) (C := RX1) (T := TX1) (N := 7) hx hb hts in_X1 tyX1 tyX1_ok nmX1 hown hK hP hD hS 0 rfl rfl 0 (by decide) (hts _ q219) (fun _ h9 => h9) rfl (by decide +kernel) rfl rfl (Nat.le_of_ble_eq_true rfl) dX1_init_10 (fun H locs hP hD hS => ?_)
  have hP : va_P D vwCl [(h0, .inr (1, [.ref a1, .int 0, .null, .null, .null, .null, .null])), (a1, .inl (cI, 200, .inl (fun _ => nI 0)))] H := hP
  have hD : va_D A [(h0, .inr (1, [.ref a1, .int 0, .null, .null, .null, .null, .null])), (a1, .inl (cI, 200, .inl (fun _ => nI 0)))] := hD
  refine lv_aload_n hx hb dX1_init_13 rfl (lv_at hl 0 rfl) ?_
  refine lv_bipush (v := nI 8) hx hb dX1_init_14 (by decide) ?_
  refine va_newa (atype := .int) (ty := .int) (N' := 8) (a0 := (8, .inl (fun _ => nI 0))) hx hb (hts _ q73) rfl hK hP hD hS hA (fun _ => rfl) (by decide) (by decide) (by decide) (Nat.le_of_ble_eq_true rfl) (Nat.le_of_ble_eq_true rfl) dX1_init_16 (fun a2 k2 H hK hP hD hS => ?_)
  have hK : va_K D vwCl [(cI, .int), (cZ, .boolean), (k2, .int)] s := hK
  obtain rfl : cI = k2 := ra_uniq (hK.2 0 _ rfl).2 (hK.2 2 _ rfl).2
  have hK := hK.sub (tys' := [(cI, .int), (cZ, .boolean)]) [0, 1] rfl
  have hP : va_P D vwCl [(h0, .inr (1, [.ref a1, .int 0, .null, .null, .null, .null, .null])), (a1, .inl (cI, 200, .inl (fun _ => nI 0))), (a2, .inl (cI, 8, .inl (fun _ => nI 0)))] H := hP
  have hD : va_D A [(h0, .inr (1, [.ref a1, .int 0, .null, .null, .null, .null, .null])), (a1, .inl (cI, 200, .inl (fun _ => nI 0))), (a2, .inl (cI, 8, .inl (fun _ => nI 0)))] := hD
  refine va_put (D := D) (ci := 1) (v := .ref a2) (ty := .array .int) (C := RX1) (T := TX1) (N := 7) hx hb hts in_X1 tyX1 tyX1_ok nmX1 hown hK hP hD hS 0 rfl rfl 2 (by decide) (hts _ q221) (fun _ h9 => h9) rfl (by decide +kernel) rfl rfl (Nat.le_of_ble_eq_true rfl) dX1_init_18 (fun H locs hP hD hS => ?_)
  have hP : va_P D vwCl [(h0, .inr (1, [.ref a1, .int 0, .ref a2, .null, .null, .null, .null])), (a1, .inl (cI, 200, .inl (fun _ => nI 0))), (a2, .inl (cI, 8, .inl (fun _ => nI 0)))] H := hP
  have hD : va_D A [(h0, .inr (1, [.ref a1, .int 0, .ref a2, .null, .null, .null, .null])), (a1, .inl (cI, 200, .inl (fun _ => nI 0))), (a2, .inl (cI, 8, .inl (fun _ => nI 0)))] := hD
  refine lv_aload_n hx hb dX1_init_21 rfl (lv_at hl 0 rfl) ?_
  refine lv_bipush (v := nI 8) hx hb dX1_init_22 (by decide) ?_
  refine va_newa (atype := .int) (ty := .int) (N' := 8) (a0 := (8, .inl (fun _ => nI 0))) hx hb (hts _ q73) rfl hK hP hD hS hA (fun _ => rfl) (by decide) (by decide) (by decide) (Nat.le_of_ble_eq_true rfl) (Nat.le_of_ble_eq_true rfl) dX1_init_24 (fun a3 k3 H hK hP hD hS => ?_)
  have hK : va_K D vwCl [(cI, .int), (cZ, .boolean), (k3, .int)] s := hK
  obtain rfl : cI = k3 := ra_uniq (hK.2 0 _ rfl).2 (hK.2 2 _ rfl).2
  have hK := hK.sub (tys' := [(cI, .int), (cZ, .boolean)]) [0, 1] rfl
  have hP : va_P D vwCl [(h0, .inr (1, [.ref a1, .int 0, .ref a2, .null, .null, .null, .null])), (a1, .inl (cI, 200, .inl (fun _ => nI 0))), (a2, .inl (cI, 8, .inl (fun _ => nI 0))), (a3, .inl (cI, 8, .inl (fun _ => nI 0)))] H := hP
  have hD : va_D A [(h0, .inr (1, [.ref a1, .int 0, .ref a2, .null, .null, .null, .null])), (a1, .inl (cI, 200, .inl (fun _ => nI 0))), (a2, .inl (cI, 8, .inl (fun _ => nI 0))), (a3, .inl (cI, 8, .inl (fun _ => nI 0)))] := hD
  refine va_put (D := D) (ci := 1) (v := .ref a3) (ty := .array .int) (C := RX1) (T := TX1) (N := 7) hx hb hts in_X1 tyX1 tyX1_ok nmX1 hown hK hP hD hS 0 rfl rfl 3 (by decide) (hts _ q222) (fun _ h9 => h9) rfl (by decide +kernel) rfl rfl (Nat.le_of_ble_eq_true rfl) dX1_init_26 (fun H locs hP hD hS => ?_)
  have hP : va_P D vwCl [(h0, .inr (1, [.ref a1, .int 0, .ref a2, .ref a3, .null, .null, .null])), (a1, .inl (cI, 200, .inl (fun _ => nI 0))), (a2, .inl (cI, 8, .inl (fun _ => nI 0))), (a3, .inl (cI, 8, .inl (fun _ => nI 0)))] H := hP
  have hD : va_D A [(h0, .inr (1, [.ref a1, .int 0, .ref a2, .ref a3, .null, .null, .null])), (a1, .inl (cI, 200, .inl (fun _ => nI 0))), (a2, .inl (cI, 8, .inl (fun _ => nI 0))), (a3, .inl (cI, 8, .inl (fun _ => nI 0)))] := hD
  refine lv_aload_n hx hb dX1_init_29 rfl (lv_at hl 0 rfl) ?_
  refine lv_bipush (v := nI 8) hx hb dX1_init_30 (by decide) ?_
  refine va_newa (atype := .int) (ty := .int) (N' := 8) (a0 := (8, .inl (fun _ => nI 0))) hx hb (hts _ q73) rfl hK hP hD hS hA (fun _ => rfl) (by decide) (by decide) (by decide) (Nat.le_of_ble_eq_true rfl) (Nat.le_of_ble_eq_true rfl) dX1_init_32 (fun a4 k4 H hK hP hD hS => ?_)
  have hK : va_K D vwCl [(cI, .int), (cZ, .boolean), (k4, .int)] s := hK
  obtain rfl : cI = k4 := ra_uniq (hK.2 0 _ rfl).2 (hK.2 2 _ rfl).2
  have hK := hK.sub (tys' := [(cI, .int), (cZ, .boolean)]) [0, 1] rfl
  have hP : va_P D vwCl [(h0, .inr (1, [.ref a1, .int 0, .ref a2, .ref a3, .null, .null, .null])), (a1, .inl (cI, 200, .inl (fun _ => nI 0))), (a2, .inl (cI, 8, .inl (fun _ => nI 0))), (a3, .inl (cI, 8, .inl (fun _ => nI 0))), (a4, .inl (cI, 8, .inl (fun _ => nI 0)))] H := hP
  have hD : va_D A [(h0, .inr (1, [.ref a1, .int 0, .ref a2, .ref a3, .null, .null, .null])), (a1, .inl (cI, 200, .inl (fun _ => nI 0))), (a2, .inl (cI, 8, .inl (fun _ => nI 0))), (a3, .inl (cI, 8, .inl (fun _ => nI 0))), (a4, .inl (cI, 8, .inl (fun _ => nI 0)))] := hD
  refine va_put (D := D) (ci := 1) (v := .ref a4) (ty := .array .int) (C := RX1) (T := TX1) (N := 7) hx hb hts in_X1 tyX1 tyX1_ok nmX1 hown hK hP hD hS 0 rfl rfl 4 (by decide) (hts _ q223) (fun _ h9 => h9) rfl (by decide +kernel) rfl rfl (Nat.le_of_ble_eq_true rfl) dX1_init_34 (fun H locs hP hD hS => ?_)
  have hP : va_P D vwCl [(h0, .inr (1, [.ref a1, .int 0, .ref a2, .ref a3, .ref a4, .null, .null])), (a1, .inl (cI, 200, .inl (fun _ => nI 0))), (a2, .inl (cI, 8, .inl (fun _ => nI 0))), (a3, .inl (cI, 8, .inl (fun _ => nI 0))), (a4, .inl (cI, 8, .inl (fun _ => nI 0)))] H := hP
  have hD : va_D A [(h0, .inr (1, [.ref a1, .int 0, .ref a2, .ref a3, .ref a4, .null, .null])), (a1, .inl (cI, 200, .inl (fun _ => nI 0))), (a2, .inl (cI, 8, .inl (fun _ => nI 0))), (a3, .inl (cI, 8, .inl (fun _ => nI 0))), (a4, .inl (cI, 8, .inl (fun _ => nI 0)))] := hD
  refine lv_aload_n hx hb dX1_init_37 rfl (lv_at hl 0 rfl) ?_
  refine lv_bipush (v := nI 8) hx hb dX1_init_38 (by decide) ?_
  refine va_newa (atype := .int) (ty := .int) (N' := 8) (a0 := (8, .inl (fun _ => nI 0))) hx hb (hts _ q73) rfl hK hP hD hS hA (fun _ => rfl) (by decide) (by decide) (by decide) (Nat.le_of_ble_eq_true rfl) (Nat.le_of_ble_eq_true rfl) dX1_init_40 (fun a5 k5 H hK hP hD hS => ?_)
  have hK : va_K D vwCl [(cI, .int), (cZ, .boolean), (k5, .int)] s := hK
  obtain rfl : cI = k5 := ra_uniq (hK.2 0 _ rfl).2 (hK.2 2 _ rfl).2
  have hK := hK.sub (tys' := [(cI, .int), (cZ, .boolean)]) [0, 1] rfl
  have hP : va_P D vwCl [(h0, .inr (1, [.ref a1, .int 0, .ref a2, .ref a3, .ref a4, .null, .null])), (a1, .inl (cI, 200, .inl (fun _ => nI 0))), (a2, .inl (cI, 8, .inl (fun _ => nI 0))), (a3, .inl (cI, 8, .inl (fun _ => nI 0))), (a4, .inl (cI, 8, .inl (fun _ => nI 0))), (a5, .inl (cI, 8, .inl (fun _ => nI 0)))] H := hP
  have hD : va_D A [(h0, .inr (1, [.ref a1, .int 0, .ref a2, .ref a3, .ref a4, .null, .null])), (a1, .inl (cI, 200, .inl (fun _ => nI 0))), (a2, .inl (cI, 8, .inl (fun _ => nI 0))), (a3, .inl (cI, 8, .inl (fun _ => nI 0))), (a4, .inl (cI, 8, .inl (fun _ => nI 0))), (a5, .inl (cI, 8, .inl (fun _ => nI 0)))] := hD
  refine va_put (D := D) (ci := 1) (v := .ref a5) (ty := .array .int) (C := RX1) (T := TX1) (N := 7) hx hb hts in_X1 tyX1 tyX1_ok nmX1 hown hK hP hD hS 0 rfl rfl 5 (by decide) (hts _ q224) (fun _ h9 => h9) rfl (by decide +kernel) rfl rfl (Nat.le_of_ble_eq_true rfl) dX1_init_42 (fun H locs hP hD hS => ?_)
  have hP : va_P D vwCl [(h0, .inr (1, [.ref a1, .int 0, .ref a2, .ref a3, .ref a4, .ref a5, .null])), (a1, .inl (cI, 200, .inl (fun _ => nI 0))), (a2, .inl (cI, 8, .inl (fun _ => nI 0))), (a3, .inl (cI, 8, .inl (fun _ => nI 0))), (a4, .inl (cI, 8, .inl (fun _ => nI 0))), (a5, .inl (cI, 8, .inl (fun _ => nI 0)))] H := hP
  have hD : va_D A [(h0, .inr (1, [.ref a1, .int 0, .ref a2, .ref a3, .ref a4, .ref a5, .null])), (a1, .inl (cI, 200, .inl (fun _ => nI 0))), (a2, .inl (cI, 8, .inl (fun _ => nI 0))), (a3, .inl (cI, 8, .inl (fun _ => nI 0))), (a4, .inl (cI, 8, .inl (fun _ => nI 0))), (a5, .inl (cI, 8, .inl (fun _ => nI 0)))] := hD
  refine lv_aload_n hx hb dX1_init_45 rfl (lv_at hl 0 rfl) ?_
  refine lv_bipush (v := nI 8) hx hb dX1_init_46 (by decide) ?_
  refine va_newa (atype := .int) (ty := .int) (N' := 8) (a0 := (8, .inl (fun _ => nI 0))) hx hb (hts _ q73) rfl hK hP hD hS hA (fun _ => rfl) (by decide) (by decide) (by decide) (Nat.le_of_ble_eq_true rfl) (Nat.le_of_ble_eq_true rfl) dX1_init_48 (fun a6 k6 H hK hP hD hS => ?_)
  have hK : va_K D vwCl [(cI, .int), (cZ, .boolean), (k6, .int)] s := hK
  obtain rfl : cI = k6 := ra_uniq (hK.2 0 _ rfl).2 (hK.2 2 _ rfl).2
  have hK := hK.sub (tys' := [(cI, .int), (cZ, .boolean)]) [0, 1] rfl
  have hP : va_P D vwCl [(h0, .inr (1, [.ref a1, .int 0, .ref a2, .ref a3, .ref a4, .ref a5, .null])), (a1, .inl (cI, 200, .inl (fun _ => nI 0))), (a2, .inl (cI, 8, .inl (fun _ => nI 0))), (a3, .inl (cI, 8, .inl (fun _ => nI 0))), (a4, .inl (cI, 8, .inl (fun _ => nI 0))), (a5, .inl (cI, 8, .inl (fun _ => nI 0))), (a6, .inl (cI, 8, .inl (fun _ => nI 0)))] H := hP
  have hD : va_D A [(h0, .inr (1, [.ref a1, .int 0, .ref a2, .ref a3, .ref a4, .ref a5, .null])), (a1, .inl (cI, 200, .inl (fun _ => nI 0))), (a2, .inl (cI, 8, .inl (fun _ => nI 0))), (a3, .inl (cI, 8, .inl (fun _ => nI 0))), (a4, .inl (cI, 8, .inl (fun _ => nI 0))), (a5, .inl (cI, 8, .inl (fun _ => nI 0))), (a6, .inl (cI, 8, .inl (fun _ => nI 0)))] := hD
  refine va_put (D := D) (ci := 1) (v := .ref a6) (ty := .array .int) (C := RX1) (T := TX1) (N := 7) hx hb hts in_X1 tyX1 tyX1_ok nmX1 hown hK hP hD hS 0 rfl rfl 6 (by decide) (hts _ q225) (fun _ h9 => h9) rfl (by decide +kernel) rfl rfl (Nat.le_of_ble_eq_true rfl) dX1_init_50 (fun H locs hP hD hS => ?_)
  have hP : va_P D vwCl [(h0, .inr (1, [.ref a1, .int 0, .ref a2, .ref a3, .ref a4, .ref a5, .ref a6])), (a1, .inl (cI, 200, .inl (fun _ => nI 0))), (a2, .inl (cI, 8, .inl (fun _ => nI 0))), (a3, .inl (cI, 8, .inl (fun _ => nI 0))), (a4, .inl (cI, 8, .inl (fun _ => nI 0))), (a5, .inl (cI, 8, .inl (fun _ => nI 0))), (a6, .inl (cI, 8, .inl (fun _ => nI 0)))] H := hP
  have hD : va_D A [(h0, .inr (1, [.ref a1, .int 0, .ref a2, .ref a3, .ref a4, .ref a5, .ref a6])), (a1, .inl (cI, 200, .inl (fun _ => nI 0))), (a2, .inl (cI, 8, .inl (fun _ => nI 0))), (a3, .inl (cI, 8, .inl (fun _ => nI 0))), (a4, .inl (cI, 8, .inl (fun _ => nI 0))), (a5, .inl (cI, 8, .inl (fun _ => nI 0))), (a6, .inl (cI, 8, .inl (fun _ => nI 0)))] := hD
  refine W.widen (k := 6) (n := 240) (Nat.le_of_ble_eq_true rfl) (Nat.le_of_ble_eq_true rfl) ?_
  exact W.vret hx hb hr (fun t ht hW => ⟨⟨(adL [h0, a1, a2, a3, a4, a5, a6]), rfl, trivial, rfl, by rw [ht]; exact hP, va_K.moved hW.alike hK, hD⟩, hS.F ht⟩) hS.2.2 dX1_init_53
end
section
set_option maxRecDepth 100000
/-! THE CLAIM OUT OF ONE WALK OF THE LAW'S BODY. Your part is whole_start (and what it stands on); all else here is the same for every law, but numbers. -/
def R_law : String := "RecordLocksLaw"
def lw_P (b : Addr) (xs : List Int32) (args : Array Value) (s : State) : Prop := args = #[.ref b] ∧ s.IntsAt b xs ∧ xs.length ≤ 320 ∧ (Jvm.Cond.and given_1 narrow_1).before args s = true
def lw_Q (_ : Array Value) (s : State) (o : Outcome) (t : State) : Prop := o = .returned (some (.int 1)) ∧ Framed s o t [] 600000 7290000
def lw_Z (below : List Frame) (a : Array Value) (s : State) : State → Prop := fun t => ∃ o, t.status = .running ∧ Ended t below o ∧ lw_Q a s o t
/-- the law's own end, with 1 on the stack, nothing written that was there before, its room as the claim has it -/
theorem lw_ret {p : Program} {l : Launch} {e : Env} {s : State} {m : MethodId} {below : List Frame} {meth : Method} {c : Code} {b : Nat} (hx : p.tables.exec = Jvm.exec) (hb : c.code = code) (hr : meth.sig.returnType = ret) (hlocks : meth.locks = false) {pc : Nat} {H : Heap} {ls : Array Slot} (hdg : decode code pc = .ok (.ireturn, 1)) : W p l e room_1 s m #[Value.ref b] below meth c H [] 600000 7290000 (lw_Z below #[Value.ref b] s) (F0 m pc ls [.int 1]) := by
  intro T hT X
  obtain ⟨fs, hret, hrun, hended, hW, hframe⟩ := X.leave (v := some (.int 1)) (hlocks := hlocks) (fun h => by rw [hr] at h; cases h)
  have hmeth' : T.vm.method? m = some meth := X.method'
  refine ⟨T.setFrames fs, ?_, .returned (some (.int 1)), hrun, hended, rfl, ⟨_, rfl⟩, hW, hframe⟩
  jvm_step X.here [X.here.top, hx, hb, hdg, hmeth', hr, ret, narrow_b1]
  (try refine ⟨rfl, ?_⟩); (try refine ⟨rfl, ?_⟩)
  first | (intro acts; rw [hret _ acts rfl rfl rfl]) | rw [hret _ _ rfl rfl rfl]
  exact Steps.refl _
/-- what holds at the law's entry: the machine, the code, the tables' words (any of lw_tbl by 'hts w (by decide +kernel)'), the script of L ints xs at the cell b, what the Statement gives of the start (any of its parts by flat_of_before) -/
def lw_At (p : Program) (s : State) (m : MethodId) (meth : Method) (c : Code) (b L : Nat) (xs : Nat → Int32) : Prop :=
  p.tables.exec = Jvm.exec ∧ c.code = code ∧ meth.sig.returnType = ret ∧ c.maxLocals = 4 ∧ s.vm.findClass R_law = some m.cls ∧ (∀ w ∈ lw_tbl, w.before #[Value.ref b] s = true) ∧ va_X b L xs s s.heap ∧ b < s.heap.size ∧ meth.locks = false ∧ (Jvm.Cond.and given_1 narrow_1).before #[Value.ref b] s = true
end
section
set_option maxRecDepth 100000
/-! the law's world: both objects; the script; the switch -/
def wL (ad ad1 : Fn) (cI cZ : ClassId) (x : S0 × S1) : va_W := w0 ad cI cZ x.1 ++ w1 ad1 cI cZ x.2
def LX (g : Gx) (b L : Nat) (xs : Nat → Int32) : Prop := match g with
  | (_, _, _, s, _, _, _, _, _, _, A, _, _, _) => va_X b L xs s s.heap ∧ b < s.heap.size ∧ ¬ A b
section
variable {S : Type} {g : Gx} {R : Room} {cc : ByteArray} {own : String} {nL : Nat} {ty : List (ClassId × FieldType)} {w : S → va_W} {Ri : Int32 → S → Prop} {Rv : S → Prop} {u : S} {pc : Nat} {lv : List (Option Value)} {st : List Value}
theorem ro_sld {b L i : Nat} {xs : Nat → Int32} (hX : LX g b L xs) (hd : decode cc pc = .ok (.iaload, 1)) (hi : i < L) (hL : L < 2 ^ 31) (k : G g R cc own nL ty w Ri Rv u (pc + 1) lv (.int (xs i) :: st)) : G g R cc own nL ty w Ri Rv u pc lv (.int (nI i) :: .ref b :: st) := by
  obtain ⟨p, l, e, s, m, args, below, meth, c, Q, A, D, cells, slots⟩ := g
  intro C H locs ls hP hD hS hv
  have ⟨hx, hb, hml, hown, hts, hK, hA, hroom, hRi, hRv⟩ := C
  obtain ⟨hX1, hbl, hbA⟩ := hX
  refine va_sld hx hb hX1 hbl hbA hS (vp_in_nI hi hL) hd ?_
  rw [nI_clamp (Nat.lt_trans hi hL)]
  exact k C H locs ls hP hD hS hv
theorem ro_slen {b L : Nat} {xs : Nat → Int32} (hX : LX g b L xs) (hd : decode cc pc = .ok (.arraylength, 1)) (k : G g R cc own nL ty w Ri Rv u (pc + 1) lv (.int (nI L) :: st)) : G g R cc own nL ty w Ri Rv u pc lv (.ref b :: st) := by
  obtain ⟨p, l, e, s, m, args, below, meth, c, Q, A, D, cells, slots⟩ := g
  intro C H locs ls hP hD hS hv
  have ⟨hx, hb, hml, hown, hts, hK, hA, hroom, hRi, hRv⟩ := C
  obtain ⟨hX1, hbl, hbA⟩ := hX
  exact va_slen hx hb hX1 hbl hbA hS hd (k C H locs ls hP hD hS hv)
theorem ro_tabIn {dflt lo hi : Int} {offs : Array Int} {len j : Nat} {off : Int} (tgt : Nat) (hd : decode cc pc = .ok (.tableswitch dflt lo hi offs, len)) (hj : j < 2 ^ 31) (h1 : ¬ (j : Int) < lo) (h2 : ¬ hi < (j : Int)) (ho : offs[((j : Int) - lo).toNat]? = some off) (ht : (pc : Int) + off = (tgt : Int)) (k : G g R cc own nL ty w Ri Rv u tgt lv st) : G g R cc own nL ty w Ri Rv u pc lv (.int (nI j) :: st) := by
  obtain ⟨p, l, e, s, m, args, below, meth, c, Q, A, D, cells, slots⟩ := g
  intro C H locs ls hP hD hS hv
  have ⟨hx, hb, hml, hown, hts, hK, hA, hroom, hRi, hRv⟩ := C
  exact lv_tableIn hx hb hd (by rw [nI_toInt hj]; exact h1) (by rw [nI_toInt hj]; exact h2) (by rw [nI_toInt hj]; exact ho) ht (k C H locs ls hP hD hS hv)
theorem ro_tabOut {dflt lo hi : Int} {offs : Array Int} {len j : Nat} (tgt : Nat) (hd : decode cc pc = .ok (.tableswitch dflt lo hi offs, len)) (hj : j < 2 ^ 31) (h : (j : Int) < lo ∨ hi < (j : Int)) (ht : (pc : Int) + dflt = (tgt : Int)) (k : G g R cc own nL ty w Ri Rv u tgt lv st) : G g R cc own nL ty w Ri Rv u pc lv (.int (nI j) :: st) := by
  obtain ⟨p, l, e, s, m, args, below, meth, c, Q, A, D, cells, slots⟩ := g
  intro C H locs ls hP hD hS hv
  have ⟨hx, hb, hml, hown, hts, hK, hA, hroom, hRi, hRv⟩ := C
  exact lv_tableOut hx hb hd (by rw [nI_toInt hj]; exact h) ht (k C H locs ls hP hD hS hv)
end
section
variable {g : Gx} {R : Room} {cc : ByteArray} {own : String} {nL : Nat} {ad ad1 : Fn} {cI cZ : ClassId} {Ri : Int32 → S0 × S1 → Prop} {Rv : S0 × S1 → Prop} {u : S0} {v : S1} {pc : Nat} {lv : List (Option Value)} {st stk : List Value} {y : MethodName} {bytes : ByteArray} {maxL : Nat} {ret : Option FieldType} {fr lo : Nat} {As : List Value} {idx : Nat}
set_option maxHeartbeats 4000000 in
theorem ro_callL0 {post : Int32 → S0 → Prop} (n : Nat) (hM : MCi w0 y bytes maxL ret fr lo As u post) (hg : GoodIn lw_all (wsV own idx RX0 y (ws_ y bytes maxL ret))) (hdn : y.cls = RX0 ∧ y.cls ≠ "java/lang/invoke/MethodHandle" ∧ y.cls ≠ "java/lang/invoke/VarHandle" ∧ (parseMethodDescriptor y.desc).map (fun d => d.parameters.length) = some n) (hlen : As.length = n)
    (hR1 : fr + 1 ≤ R.frames ∧ 8 + (maxL + 11) + lo ≤ R.locals) (hst : stk = As.reverse ++ .ref (ad 0) :: st) (hrm : (st.map fun v => v.category).sum ≤ 8) (hd : decode cc pc = .ok (.invokevirtual idx, 3)) (k : ∀ r u2, post r u2 → G g R cc own nL [(cI, .int), (cZ, .boolean)] (wL ad ad1 cI cZ) Ri Rv (u2, v) (pc + 3) lv (.int r :: st)) : G g R cc own nL [(cI, .int), (cZ, .boolean)] (wL ad ad1 cI cZ) Ri Rv (u, v) pc lv stk := by
  obtain ⟨O1, F1, L1, T1, V1, P1, X1, Y1, Z1, n1, c1⟩ := u
  obtain ⟨B1, q1, W1, F3, M1, K1, U1⟩ := v
  exact ro_call (ad := ad) (cI := cI) (cZ := cZ) n hM (fun z => (z, (B1, q1, W1, F3, M1, K1, U1))) [0, 1, 2, 3, 4, 5, 6, 7, 8, 9] [10, 11, 12, 13, 14, 15, 16] [7, 8, 9, 10, 11, 12, 13, 14, 15, 16, 0, 1, 2, 3, 4, 5, 6] [0, 1] (w1 ad1 cI cZ (B1, q1, W1, F3, M1, K1, U1)) rfl rfl (by decide) rfl (by decide) (by decide) (fun v2 => by obtain ⟨O2, F2, L2, T2, V2, P2, X2, Y2, Z2, n2, c2⟩ := v2; exact ⟨rfl, rfl⟩) (by decide) rfl rfl rfl rfl hg hdn hlen hR1 hst hrm hd k
set_option maxHeartbeats 4000000 in
theorem ro_callL1 {post : Int32 → S1 → Prop} (n : Nat) (hM : MCi w1 y bytes maxL ret fr lo As v post) (hg : GoodIn lw_all (wsV own idx RX1 y (ws_ y bytes maxL ret))) (hdn : y.cls = RX1 ∧ y.cls ≠ "java/lang/invoke/MethodHandle" ∧ y.cls ≠ "java/lang/invoke/VarHandle" ∧ (parseMethodDescriptor y.desc).map (fun d => d.parameters.length) = some n) (hlen : As.length = n)
    (hR1 : fr + 1 ≤ R.frames ∧ 8 + (maxL + 11) + lo ≤ R.locals) (hst : stk = As.reverse ++ .ref (ad1 0) :: st) (hrm : (st.map fun v => v.category).sum ≤ 8) (hd : decode cc pc = .ok (.invokevirtual idx, 3)) (k : ∀ r u2, post r u2 → G g R cc own nL [(cI, .int), (cZ, .boolean)] (wL ad ad1 cI cZ) Ri Rv (u, u2) (pc + 3) lv (.int r :: st)) : G g R cc own nL [(cI, .int), (cZ, .boolean)] (wL ad ad1 cI cZ) Ri Rv (u, v) pc lv stk := by
  obtain ⟨B1, q1, W1, F3, M1, K1, U1⟩ := v
  obtain ⟨O1, F1, L1, T1, V1, P1, X1, Y1, Z1, n1, c1⟩ := u
  exact ro_call (ad := ad1) (cI := cI) (cZ := cZ) n hM (fun z => ((O1, F1, L1, T1, V1, P1, X1, Y1, Z1, n1, c1), z)) [10, 11, 12, 13, 14, 15, 16] [0, 1, 2, 3, 4, 5, 6, 7, 8, 9] [0, 1, 2, 3, 4, 5, 6, 7, 8, 9, 10, 11, 12, 13, 14, 15, 16] [0, 1] (w0 ad cI cZ (O1, F1, L1, T1, V1, P1, X1, Y1, Z1, n1, c1)) rfl rfl (by decide) rfl (by decide) (by decide) (fun v2 => by obtain ⟨B2, q2, W2, F4, M2, K2, U2⟩ := v2; exact ⟨rfl, rfl⟩) (by decide) rfl rfl rfl rfl hg hdn hlen hR1 hst hrm hd k
end
abbrev LSt (g : Gx) (ad ad1 : Fn) (cI cZ : ClassId) (b i : Nat) (u : S0) (w : S1) (pc : Nat) : Prop := G g room_1 cL_law "RecordLocksLaw" 4 [(cI, .int), (cZ, .boolean)] (wL ad ad1 cI cZ) (fun r _ => r = 1) (fun _ => False) (u, w) pc [some (.ref b), some (.ref (ad 0)), some (.ref (ad1 0)), some (.int (nI i))] []
end
section
set_option maxRecDepth 100000
/-! the law's cases -/
set_option maxHeartbeats 4000000 in
theorem law_lock {g : Gx} {ad ad1 : Fn} {cI cZ : ClassId} {b L0 i : Nat} {xs : Nat → Int32} (hX : LX g b L0 xs) (hL : L0 ≤ 320) (hi : i + 5 ≤ L0) (u : S0) (v : Q6) (Ou : Fn) (hR : Rel i u v) (KK : ∀ (u2 : S0) (v2 : Q6) (Ou2 : Fn), Rel (i + 1) u2 v2 → LSt g ad ad1 cI cZ b i u2 (cat v2 Ou2) 667) : LSt g ad ad1 cI cZ b i u (cat v Ou) 116 := by
  obtain ⟨O, F, L, T, V, P, X, Y, Z, n, c⟩ := u
  obtain ⟨B, q, Wh, Fi, Ma, Ki⟩ := v
  have hG := hR.gd
  refine ro_aload_n dL_law_116 rfl ?_
  refine ro_aload_n dL_law_117 rfl ?_
  refine ro_iload_n dL_law_118 rfl ?_
  refine ro_iconst (x := nI 1) dL_law_119 (by decide) ?_
  refine ro_iadd dL_law_120 ?_
  refine ro_sld hX dL_law_121 (by omega) (by omega) ?_
  refine ro_aload_n dL_law_122 rfl ?_
  refine ro_iload_n dL_law_123 rfl ?_
  refine ro_iconst (x := nI 2) dL_law_124 (by decide) ?_
  refine ro_iadd dL_law_125 ?_
  refine ro_sld hX dL_law_126 (by omega) (by omega) ?_
  refine ro_aload_n dL_law_127 rfl ?_
  refine ro_iload_n dL_law_128 rfl ?_
  refine ro_iconst (x := nI 3) dL_law_129 (by decide) ?_
  refine ro_iadd dL_law_130 ?_
  refine ro_sld hX dL_law_131 (by omega) (by omega) ?_
  refine ro_aload_n dL_law_132 rfl ?_
  refine ro_iload_n dL_law_133 rfl ?_
  refine ro_iconst (x := nI 4) dL_law_134 (by decide) ?_
  refine ro_iadd dL_law_135 ?_
  refine ro_sld hX dL_law_136 (by omega) (by omega) ?_
  refine ro_callL0 4 (mt_lock O F L T V P X Y Z n c B q Wh Fi Ma Ki i hR (xs (i + 1)) (xs (i + 2)) (xs (i + 3)) (xs (i + 4))) cv_L_X0_lock dn_X0_lock rfl ⟨by decide, by decide⟩ rfl (Nat.le_of_ble_eq_true rfl) dL_law_137 (fun r u2 hr => ?_)
  obtain ⟨rfl, hR2⟩ := hr
  refine ro_aload_n dL_law_140 rfl ?_
  refine ro_aload_n dL_law_141 rfl ?_
  refine ro_iload_n dL_law_142 rfl ?_
  refine ro_iconst (x := nI 1) dL_law_143 (by decide) ?_
  refine ro_iadd dL_law_144 ?_
  refine ro_sld hX dL_law_145 (by omega) (by omega) ?_
  refine ro_aload_n dL_law_146 rfl ?_
  refine ro_iload_n dL_law_147 rfl ?_
  refine ro_iconst (x := nI 2) dL_law_148 (by decide) ?_
  refine ro_iadd dL_law_149 ?_
  refine ro_sld hX dL_law_150 (by omega) (by omega) ?_
  refine ro_aload_n dL_law_151 rfl ?_
  refine ro_iload_n dL_law_152 rfl ?_
  refine ro_iconst (x := nI 3) dL_law_153 (by decide) ?_
  refine ro_iadd dL_law_154 ?_
  refine ro_sld hX dL_law_155 (by omega) (by omega) ?_
  refine ro_aload_n dL_law_156 rfl ?_
  refine ro_iload_n dL_law_157 rfl ?_
  refine ro_iconst (x := nI 4) dL_law_158 (by decide) ?_
  refine ro_iadd dL_law_159 ?_
  refine ro_sld hX dL_law_160 (by omega) (by omega) ?_
  refine ro_callL1 4 (m1_lock B q Wh Fi Ma Ki Ou hG (xs (i + 1)) (xs (i + 2)) (xs (i + 3)) (xs (i + 4))) cv_L_X1_lock dn_X1_lock rfl ⟨by decide, by decide⟩ rfl (Nat.le_of_ble_eq_true rfl) dL_law_161 (fun r u3 hr => ?_)
  obtain ⟨rfl, Ou2, rfl⟩ := hr
  refine ro_icmp_eqR 667 dL_law_164 (by decide) (fun _ => ?_) (fun e => absurd rfl e)
  exact KK _ _ Ou2 (hR2.mono (by omega))
set_option maxHeartbeats 4000000 in
theorem law_await {g : Gx} {ad ad1 : Fn} {cI cZ : ClassId} {b L0 i : Nat} {xs : Nat → Int32} (hX : LX g b L0 xs) (hL : L0 ≤ 320) (hi : i + 5 ≤ L0) (u : S0) (v : Q6) (Ou : Fn) (hR : Rel i u v) (KK : ∀ (u2 : S0) (v2 : Q6) (Ou2 : Fn), Rel (i + 1) u2 v2 → LSt g ad ad1 cI cZ b i u2 (cat v2 Ou2) 667) : LSt g ad ad1 cI cZ b i u (cat v Ou) 169 := by
  obtain ⟨O, F, L, T, V, P, X, Y, Z, n, c⟩ := u
  obtain ⟨B, q, Wh, Fi, Ma, Ki⟩ := v
  have hG := hR.gd
  refine ro_aload_n dL_law_169 rfl ?_
  refine ro_aload_n dL_law_170 rfl ?_
  refine ro_iload_n dL_law_171 rfl ?_
  refine ro_iconst (x := nI 1) dL_law_172 (by decide) ?_
  refine ro_iadd dL_law_173 ?_
  refine ro_sld hX dL_law_174 (by omega) (by omega) ?_
  refine ro_aload_n dL_law_175 rfl ?_
  refine ro_iload_n dL_law_176 rfl ?_
  refine ro_iconst (x := nI 2) dL_law_177 (by decide) ?_
  refine ro_iadd dL_law_178 ?_
  refine ro_sld hX dL_law_179 (by omega) (by omega) ?_
  refine ro_aload_n dL_law_180 rfl ?_
  refine ro_iload_n dL_law_181 rfl ?_
  refine ro_iconst (x := nI 3) dL_law_182 (by decide) ?_
  refine ro_iadd dL_law_183 ?_
  refine ro_sld hX dL_law_184 (by omega) (by omega) ?_
  refine ro_aload_n dL_law_185 rfl ?_
  refine ro_iload_n dL_law_186 rfl ?_
  refine ro_iconst (x := nI 4) dL_law_187 (by decide) ?_
  refine ro_iadd dL_law_188 ?_
  refine ro_sld hX dL_law_189 (by omega) (by omega) ?_
  refine ro_callL0 4 (mt_await O F L T V P X Y Z n c B q Wh Fi Ma Ki i hR (by omega) (xs (i + 1)) (xs (i + 2)) (xs (i + 3)) (xs (i + 4))) cv_L_X0_await dn_X0_await rfl ⟨by decide, by decide⟩ rfl (Nat.le_of_ble_eq_true rfl) dL_law_190 (fun r u2 hr => ?_)
  obtain ⟨rfl, hR2⟩ := hr
  refine ro_aload_n dL_law_193 rfl ?_
  refine ro_aload_n dL_law_194 rfl ?_
  refine ro_iload_n dL_law_195 rfl ?_
  refine ro_iconst (x := nI 1) dL_law_196 (by decide) ?_
  refine ro_iadd dL_law_197 ?_
  refine ro_sld hX dL_law_198 (by omega) (by omega) ?_
  refine ro_aload_n dL_law_199 rfl ?_
  refine ro_iload_n dL_law_200 rfl ?_
  refine ro_iconst (x := nI 2) dL_law_201 (by decide) ?_
  refine ro_iadd dL_law_202 ?_
  refine ro_sld hX dL_law_203 (by omega) (by omega) ?_
  refine ro_aload_n dL_law_204 rfl ?_
  refine ro_iload_n dL_law_205 rfl ?_
  refine ro_iconst (x := nI 3) dL_law_206 (by decide) ?_
  refine ro_iadd dL_law_207 ?_
  refine ro_sld hX dL_law_208 (by omega) (by omega) ?_
  refine ro_aload_n dL_law_209 rfl ?_
  refine ro_iload_n dL_law_210 rfl ?_
  refine ro_iconst (x := nI 4) dL_law_211 (by decide) ?_
  refine ro_iadd dL_law_212 ?_
  refine ro_sld hX dL_law_213 (by omega) (by omega) ?_
  refine ro_callL1 4 (m1_await B q Wh Fi Ma Ki Ou hG (xs (i + 1)) (xs (i + 2)) (xs (i + 3)) (xs (i + 4))) cv_L_X1_await dn_X1_await rfl ⟨by decide, by decide⟩ rfl (Nat.le_of_ble_eq_true rfl) dL_law_214 (fun r u3 hr => ?_)
  obtain ⟨rfl, Ou2, rfl⟩ := hr
  refine ro_icmp_eqR 667 dL_law_217 (by decide) (fun _ => ?_) (fun e => absurd rfl e)
  exact KK _ _ Ou2 hR2
set_option maxHeartbeats 4000000 in
theorem law_cancel {g : Gx} {ad ad1 : Fn} {cI cZ : ClassId} {b L0 i : Nat} {xs : Nat → Int32} (hX : LX g b L0 xs) (hL : L0 ≤ 320) (hi : i + 5 ≤ L0) (u : S0) (v : Q6) (Ou : Fn) (hR : Rel i u v) (KK : ∀ (u2 : S0) (v2 : Q6) (Ou2 : Fn), Rel (i + 1) u2 v2 → LSt g ad ad1 cI cZ b i u2 (cat v2 Ou2) 667) : LSt g ad ad1 cI cZ b i u (cat v Ou) 222 := by
  obtain ⟨O, F, L, T, V, P, X, Y, Z, n, c⟩ := u
  obtain ⟨B, q, Wh, Fi, Ma, Ki⟩ := v
  have hG := hR.gd
  refine ro_aload_n dL_law_222 rfl ?_
  refine ro_aload_n dL_law_223 rfl ?_
  refine ro_iload_n dL_law_224 rfl ?_
  refine ro_iconst (x := nI 1) dL_law_225 (by decide) ?_
  refine ro_iadd dL_law_226 ?_
  refine ro_sld hX dL_law_227 (by omega) (by omega) ?_
  refine ro_callL0 1 (mt_cancel O F L T V P X Y Z n c B q Wh Fi Ma Ki i hR (xs (i + 1))) cv_L_X0_cancel dn_X0_cancel rfl ⟨by decide, by decide⟩ rfl (Nat.le_of_ble_eq_true rfl) dL_law_228 (fun r u2 hr => ?_)
  obtain ⟨rfl, hR2⟩ := hr
  refine ro_aload_n dL_law_231 rfl ?_
  refine ro_aload_n dL_law_232 rfl ?_
  refine ro_iload_n dL_law_233 rfl ?_
  refine ro_iconst (x := nI 1) dL_law_234 (by decide) ?_
  refine ro_iadd dL_law_235 ?_
  refine ro_sld hX dL_law_236 (by omega) (by omega) ?_
  refine ro_callL1 1 (m1_cancel B q Wh Fi Ma Ki Ou hG (xs (i + 1))) cv_L_X1_cancel dn_X1_cancel rfl ⟨by decide, by decide⟩ rfl (Nat.le_of_ble_eq_true rfl) dL_law_237 (fun r u3 hr => ?_)
  obtain ⟨rfl, Ou2, rfl⟩ := hr
  refine ro_icmp_eqR 667 dL_law_240 (by decide) (fun _ => ?_) (fun e => absurd rfl e)
  exact KK _ _ Ou2 (hR2.mono (by omega))
set_option maxHeartbeats 4000000 in
theorem law_close {g : Gx} {ad ad1 : Fn} {cI cZ : ClassId} {b L0 i : Nat} {xs : Nat → Int32} (hX : LX g b L0 xs) (hL : L0 ≤ 320) (hi : i + 5 ≤ L0) (u : S0) (v : Q6) (Ou : Fn) (hR : Rel i u v) (KK : ∀ (u2 : S0) (v2 : Q6) (Ou2 : Fn), Rel (i + 1) u2 v2 → LSt g ad ad1 cI cZ b i u2 (cat v2 Ou2) 667) : LSt g ad ad1 cI cZ b i u (cat v Ou) 245 := by
  obtain ⟨O, F, L, T, V, P, X, Y, Z, n, c⟩ := u
  obtain ⟨B, q, Wh, Fi, Ma, Ki⟩ := v
  have hG := hR.gd
  refine ro_aload_n dL_law_245 rfl ?_
  refine ro_aload_n dL_law_246 rfl ?_
  refine ro_iload_n dL_law_247 rfl ?_
  refine ro_iconst (x := nI 1) dL_law_248 (by decide) ?_
  refine ro_iadd dL_law_249 ?_
  refine ro_sld hX dL_law_250 (by omega) (by omega) ?_
  refine ro_callL0 1 (mt_close O F L T V P X Y Z n c B q Wh Fi Ma Ki i hR (xs (i + 1))) cv_L_X0_close dn_X0_close rfl ⟨by decide, by decide⟩ rfl (Nat.le_of_ble_eq_true rfl) dL_law_251 (fun r u2 hr => ?_)
  obtain ⟨rfl, hR2⟩ := hr
  refine ro_aload_n dL_law_254 rfl ?_
  refine ro_aload_n dL_law_255 rfl ?_
  refine ro_iload_n dL_law_256 rfl ?_
  refine ro_iconst (x := nI 1) dL_law_257 (by decide) ?_
  refine ro_iadd dL_law_258 ?_
  refine ro_sld hX dL_law_259 (by omega) (by omega) ?_
  refine ro_callL1 1 (m1_close B q Wh Fi Ma Ki Ou hG (xs (i + 1))) cv_L_X1_close dn_X1_close rfl ⟨by decide, by decide⟩ rfl (Nat.le_of_ble_eq_true rfl) dL_law_260 (fun r u3 hr => ?_)
  obtain ⟨rfl, Ou2, rfl⟩ := hr
  refine ro_icmp_eqR 667 dL_law_263 (by decide) (fun _ => ?_) (fun e => absurd rfl e)
  exact KK _ _ Ou2 (hR2.mono (by omega))
set_option maxHeartbeats 4000000 in
theorem law_lockAt {g : Gx} {ad ad1 : Fn} {cI cZ : ClassId} {b L0 i : Nat} {xs : Nat → Int32} (hX : LX g b L0 xs) (hL : L0 ≤ 320) (hi : i + 5 ≤ L0) (u : S0) (v : Q6) (Ou : Fn) (hR : Rel i u v) (KK : ∀ (u2 : S0) (v2 : Q6) (Ou2 : Fn), Rel (i + 1) u2 v2 → LSt g ad ad1 cI cZ b i u2 (cat v2 Ou2) 667) : LSt g ad ad1 cI cZ b i u (cat v Ou) 268 := by
  obtain ⟨O, F, L, T, V, P, X, Y, Z, n, c⟩ := u
  obtain ⟨B, q, Wh, Fi, Ma, Ki⟩ := v
  have hG := hR.gd
  refine ro_aload_n dL_law_268 rfl ?_
  refine ro_aload_n dL_law_269 rfl ?_
  refine ro_iload_n dL_law_270 rfl ?_
  refine ro_iconst (x := nI 1) dL_law_271 (by decide) ?_
  refine ro_iadd dL_law_272 ?_
  refine ro_sld hX dL_law_273 (by omega) (by omega) ?_
  refine ro_aload_n dL_law_274 rfl ?_
  refine ro_iload_n dL_law_275 rfl ?_
  refine ro_iconst (x := nI 2) dL_law_276 (by decide) ?_
  refine ro_iadd dL_law_277 ?_
  refine ro_sld hX dL_law_278 (by omega) (by omega) ?_
  refine ro_callL0 2 (mt_lockAt O F L T V P X Y Z n c B q Wh Fi Ma Ki i hR (xs (i + 1)) (xs (i + 2))) cv_L_X0_lockAt dn_X0_lockAt rfl ⟨by decide, by decide⟩ rfl (Nat.le_of_ble_eq_true rfl) dL_law_279 (fun r u2 hr => ?_)
  obtain ⟨rfl, rfl⟩ := hr
  refine ro_aload_n dL_law_282 rfl ?_
  refine ro_aload_n dL_law_283 rfl ?_
  refine ro_iload_n dL_law_284 rfl ?_
  refine ro_iconst (x := nI 1) dL_law_285 (by decide) ?_
  refine ro_iadd dL_law_286 ?_
  refine ro_sld hX dL_law_287 (by omega) (by omega) ?_
  refine ro_aload_n dL_law_288 rfl ?_
  refine ro_iload_n dL_law_289 rfl ?_
  refine ro_iconst (x := nI 2) dL_law_290 (by decide) ?_
  refine ro_iadd dL_law_291 ?_
  refine ro_sld hX dL_law_292 (by omega) (by omega) ?_
  refine ro_callL1 2 (m1_lockAt B q Wh Fi Ma Ki Ou hG (xs (i + 1)) (xs (i + 2))) cv_L_X1_lockAt dn_X1_lockAt rfl ⟨by decide, by decide⟩ rfl (Nat.le_of_ble_eq_true rfl) dL_law_293 (fun r u3 hr => ?_)
  obtain ⟨rfl, rfl⟩ := hr
  refine ro_icmp_eqR 667 dL_law_296 (by decide) (fun _ => ?_) (fun e => absurd rfl e)
  exact KK _ (B, q, Wh, Fi, Ma, Ki) Ou (hR.mono (by omega))
set_option maxHeartbeats 4000000 in
theorem law_holders {g : Gx} {ad ad1 : Fn} {cI cZ : ClassId} {b L0 i : Nat} {xs : Nat → Int32} (hX : LX g b L0 xs) (hL : L0 ≤ 320) (hi : i + 5 ≤ L0) (u : S0) (v : Q6) (Ou : Fn) (hR : Rel i u v) (KK : ∀ (u2 : S0) (v2 : Q6) (Ou2 : Fn), Rel (i + 1) u2 v2 → LSt g ad ad1 cI cZ b i u2 (cat v2 Ou2) 667) : LSt g ad ad1 cI cZ b i u (cat v Ou) 301 := by
  obtain ⟨O, F, L, T, V, P, X, Y, Z, n, c⟩ := u
  obtain ⟨B, q, Wh, Fi, Ma, Ki⟩ := v
  have hG := hR.gd
  refine ro_aload_n dL_law_301 rfl ?_
  refine ro_aload_n dL_law_302 rfl ?_
  refine ro_iload_n dL_law_303 rfl ?_
  refine ro_iconst (x := nI 1) dL_law_304 (by decide) ?_
  refine ro_iadd dL_law_305 ?_
  refine ro_sld hX dL_law_306 (by omega) (by omega) ?_
  refine ro_callL0 1 (mt_holders O F L T V P X Y Z n c B q Wh Fi Ma Ki i hR (xs (i + 1))) cv_L_X0_holders dn_X0_holders rfl ⟨by decide, by decide⟩ rfl (Nat.le_of_ble_eq_true rfl) dL_law_307 (fun r u2 hr => ?_)
  obtain ⟨rfl, rfl⟩ := hr
  refine ro_aload_n dL_law_310 rfl ?_
  refine ro_aload_n dL_law_311 rfl ?_
  refine ro_iload_n dL_law_312 rfl ?_
  refine ro_iconst (x := nI 1) dL_law_313 (by decide) ?_
  refine ro_iadd dL_law_314 ?_
  refine ro_sld hX dL_law_315 (by omega) (by omega) ?_
  refine ro_callL1 1 (m1_holders B q Wh Fi Ma Ki Ou hG (xs (i + 1))) cv_L_X1_holders dn_X1_holders rfl ⟨by decide, by decide⟩ rfl (Nat.le_of_ble_eq_true rfl) dL_law_316 (fun r u3 hr => ?_)
  obtain ⟨rfl, rfl⟩ := hr
  refine ro_icmp_eqR 667 dL_law_319 (by decide) (fun _ => ?_) (fun e => absurd rfl e)
  exact KK _ (B, q, Wh, Fi, Ma, Ki) Ou (hR.mono (by omega))
set_option maxHeartbeats 4000000 in
theorem law_obstacle {g : Gx} {ad ad1 : Fn} {cI cZ : ClassId} {b L0 i : Nat} {xs : Nat → Int32} (hX : LX g b L0 xs) (hL : L0 ≤ 320) (hi : i + 5 ≤ L0) (u : S0) (v : Q6) (Ou : Fn) (hR : Rel i u v) (KK : ∀ (u2 : S0) (v2 : Q6) (Ou2 : Fn), Rel (i + 1) u2 v2 → LSt g ad ad1 cI cZ b i u2 (cat v2 Ou2) 667) : LSt g ad ad1 cI cZ b i u (cat v Ou) 324 := by
  obtain ⟨O, F, L, T, V, P, X, Y, Z, n, c⟩ := u
  obtain ⟨B, q, Wh, Fi, Ma, Ki⟩ := v
  have hG := hR.gd
  refine ro_aload_n dL_law_324 rfl ?_
  refine ro_aload_n dL_law_325 rfl ?_
  refine ro_iload_n dL_law_326 rfl ?_
  refine ro_iconst (x := nI 1) dL_law_327 (by decide) ?_
  refine ro_iadd dL_law_328 ?_
  refine ro_sld hX dL_law_329 (by omega) (by omega) ?_
  refine ro_aload_n dL_law_330 rfl ?_
  refine ro_iload_n dL_law_331 rfl ?_
  refine ro_iconst (x := nI 2) dL_law_332 (by decide) ?_
  refine ro_iadd dL_law_333 ?_
  refine ro_sld hX dL_law_334 (by omega) (by omega) ?_
  refine ro_aload_n dL_law_335 rfl ?_
  refine ro_iload_n dL_law_336 rfl ?_
  refine ro_iconst (x := nI 3) dL_law_337 (by decide) ?_
  refine ro_iadd dL_law_338 ?_
  refine ro_sld hX dL_law_339 (by omega) (by omega) ?_
  refine ro_aload_n dL_law_340 rfl ?_
  refine ro_iload_n dL_law_341 rfl ?_
  refine ro_iconst (x := nI 4) dL_law_342 (by decide) ?_
  refine ro_iadd dL_law_343 ?_
  refine ro_sld hX dL_law_344 (by omega) (by omega) ?_
  refine ro_callL0 4 (mt_obstacle O F L T V P X Y Z n c B q Wh Fi Ma Ki i hR (xs (i + 1)) (xs (i + 2)) (xs (i + 3)) (xs (i + 4))) cv_L_X0_obstacle dn_X0_obstacle rfl ⟨by decide, by decide⟩ rfl (Nat.le_of_ble_eq_true rfl) dL_law_345 (fun r u2 hr => ?_)
  obtain ⟨rfl, rfl⟩ := hr
  refine ro_aload_n dL_law_348 rfl ?_
  refine ro_aload_n dL_law_349 rfl ?_
  refine ro_iload_n dL_law_350 rfl ?_
  refine ro_iconst (x := nI 1) dL_law_351 (by decide) ?_
  refine ro_iadd dL_law_352 ?_
  refine ro_sld hX dL_law_353 (by omega) (by omega) ?_
  refine ro_aload_n dL_law_354 rfl ?_
  refine ro_iload_n dL_law_355 rfl ?_
  refine ro_iconst (x := nI 2) dL_law_356 (by decide) ?_
  refine ro_iadd dL_law_357 ?_
  refine ro_sld hX dL_law_358 (by omega) (by omega) ?_
  refine ro_aload_n dL_law_359 rfl ?_
  refine ro_iload_n dL_law_360 rfl ?_
  refine ro_iconst (x := nI 3) dL_law_361 (by decide) ?_
  refine ro_iadd dL_law_362 ?_
  refine ro_sld hX dL_law_363 (by omega) (by omega) ?_
  refine ro_aload_n dL_law_364 rfl ?_
  refine ro_iload_n dL_law_365 rfl ?_
  refine ro_iconst (x := nI 4) dL_law_366 (by decide) ?_
  refine ro_iadd dL_law_367 ?_
  refine ro_sld hX dL_law_368 (by omega) (by omega) ?_
  refine ro_callL1 4 (m1_obstacle B q Wh Fi Ma Ki Ou hG (xs (i + 1)) (xs (i + 2)) (xs (i + 3)) (xs (i + 4))) cv_L_X1_obstacle dn_X1_obstacle rfl ⟨by decide, by decide⟩ rfl (Nat.le_of_ble_eq_true rfl) dL_law_369 (fun r u3 hr => ?_)
  obtain ⟨rfl, rfl⟩ := hr
  refine ro_icmp_eqR 667 dL_law_372 (by decide) (fun _ => ?_) (fun e => absurd rfl e)
  exact KK _ (B, q, Wh, Fi, Ma, Ki) Ou (hR.mono (by omega))
set_option maxHeartbeats 4000000 in
theorem law_wouldCircle {g : Gx} {ad ad1 : Fn} {cI cZ : ClassId} {b L0 i : Nat} {xs : Nat → Int32} (hX : LX g b L0 xs) (hL : L0 ≤ 320) (hi : i + 5 ≤ L0) (u : S0) (v : Q6) (Ou : Fn) (hR : Rel i u v) (KK : ∀ (u2 : S0) (v2 : Q6) (Ou2 : Fn), Rel (i + 1) u2 v2 → LSt g ad ad1 cI cZ b i u2 (cat v2 Ou2) 667) : LSt g ad ad1 cI cZ b i u (cat v Ou) 377 := by
  obtain ⟨O, F, L, T, V, P, X, Y, Z, n, c⟩ := u
  obtain ⟨B, q, Wh, Fi, Ma, Ki⟩ := v
  have hG := hR.gd
  refine ro_aload_n dL_law_377 rfl ?_
  refine ro_aload_n dL_law_378 rfl ?_
  refine ro_iload_n dL_law_379 rfl ?_
  refine ro_iconst (x := nI 1) dL_law_380 (by decide) ?_
  refine ro_iadd dL_law_381 ?_
  refine ro_sld hX dL_law_382 (by omega) (by omega) ?_
  refine ro_aload_n dL_law_383 rfl ?_
  refine ro_iload_n dL_law_384 rfl ?_
  refine ro_iconst (x := nI 2) dL_law_385 (by decide) ?_
  refine ro_iadd dL_law_386 ?_
  refine ro_sld hX dL_law_387 (by omega) (by omega) ?_
  refine ro_aload_n dL_law_388 rfl ?_
  refine ro_iload_n dL_law_389 rfl ?_
  refine ro_iconst (x := nI 3) dL_law_390 (by decide) ?_
  refine ro_iadd dL_law_391 ?_
  refine ro_sld hX dL_law_392 (by omega) (by omega) ?_
  refine ro_aload_n dL_law_393 rfl ?_
  refine ro_iload_n dL_law_394 rfl ?_
  refine ro_iconst (x := nI 4) dL_law_395 (by decide) ?_
  refine ro_iadd dL_law_396 ?_
  refine ro_sld hX dL_law_397 (by omega) (by omega) ?_
  refine ro_callL0 4 (mt_wouldCircle O F L T V P X Y Z n c B q Wh Fi Ma Ki i hR (xs (i + 1)) (xs (i + 2)) (xs (i + 3)) (xs (i + 4))) cv_L_X0_wouldCircle dn_X0_wouldCircle rfl ⟨by decide, by decide⟩ rfl (Nat.le_of_ble_eq_true rfl) dL_law_398 (fun r u2 hr => ?_)
  obtain ⟨rfl, rfl⟩ := hr
  refine ro_aload_n dL_law_401 rfl ?_
  refine ro_aload_n dL_law_402 rfl ?_
  refine ro_iload_n dL_law_403 rfl ?_
  refine ro_iconst (x := nI 1) dL_law_404 (by decide) ?_
  refine ro_iadd dL_law_405 ?_
  refine ro_sld hX dL_law_406 (by omega) (by omega) ?_
  refine ro_aload_n dL_law_407 rfl ?_
  refine ro_iload_n dL_law_408 rfl ?_
  refine ro_iconst (x := nI 2) dL_law_409 (by decide) ?_
  refine ro_iadd dL_law_410 ?_
  refine ro_sld hX dL_law_411 (by omega) (by omega) ?_
  refine ro_aload_n dL_law_412 rfl ?_
  refine ro_iload_n dL_law_413 rfl ?_
  refine ro_iconst (x := nI 3) dL_law_414 (by decide) ?_
  refine ro_iadd dL_law_415 ?_
  refine ro_sld hX dL_law_416 (by omega) (by omega) ?_
  refine ro_aload_n dL_law_417 rfl ?_
  refine ro_iload_n dL_law_418 rfl ?_
  refine ro_iconst (x := nI 4) dL_law_419 (by decide) ?_
  refine ro_iadd dL_law_420 ?_
  refine ro_sld hX dL_law_421 (by omega) (by omega) ?_
  refine ro_callL1 4 (m1_wouldCircle B q Wh Fi Ma Ki Ou hG (xs (i + 1)) (xs (i + 2)) (xs (i + 3)) (xs (i + 4))) cv_L_X1_wouldCircle dn_X1_wouldCircle rfl ⟨by decide, by decide⟩ rfl (Nat.le_of_ble_eq_true rfl) dL_law_422 (fun r u3 hr => ?_)
  obtain ⟨rfl, Ou2, rfl⟩ := hr
  refine ro_icmp_eqR 667 dL_law_425 (by decide) (fun _ => ?_) (fun e => absurd rfl e)
  exact KK _ _ Ou2 (hR.mono (by omega))
set_option maxHeartbeats 4000000 in
theorem law_waiting {g : Gx} {ad ad1 : Fn} {cI cZ : ClassId} {b L0 i : Nat} {xs : Nat → Int32} (hX : LX g b L0 xs) (hL : L0 ≤ 320) (hi : i + 5 ≤ L0) (u : S0) (v : Q6) (Ou : Fn) (hR : Rel i u v) (KK : ∀ (u2 : S0) (v2 : Q6) (Ou2 : Fn), Rel (i + 1) u2 v2 → LSt g ad ad1 cI cZ b i u2 (cat v2 Ou2) 667) : LSt g ad ad1 cI cZ b i u (cat v Ou) 430 := by
  obtain ⟨O, F, L, T, V, P, X, Y, Z, n, c⟩ := u
  obtain ⟨B, q, Wh, Fi, Ma, Ki⟩ := v
  have hG := hR.gd
  refine ro_aload_n dL_law_430 rfl ?_
  refine ro_aload_n dL_law_431 rfl ?_
  refine ro_iload_n dL_law_432 rfl ?_
  refine ro_iconst (x := nI 1) dL_law_433 (by decide) ?_
  refine ro_iadd dL_law_434 ?_
  refine ro_sld hX dL_law_435 (by omega) (by omega) ?_
  refine ro_callL0 1 (mt_waiting O F L T V P X Y Z n c B q Wh Fi Ma Ki i hR (xs (i + 1))) cv_L_X0_waiting dn_X0_waiting rfl ⟨by decide, by decide⟩ rfl (Nat.le_of_ble_eq_true rfl) dL_law_436 (fun r u2 hr => ?_)
  obtain ⟨rfl, rfl⟩ := hr
  refine ro_aload_n dL_law_439 rfl ?_
  refine ro_aload_n dL_law_440 rfl ?_
  refine ro_iload_n dL_law_441 rfl ?_
  refine ro_iconst (x := nI 1) dL_law_442 (by decide) ?_
  refine ro_iadd dL_law_443 ?_
  refine ro_sld hX dL_law_444 (by omega) (by omega) ?_
  refine ro_callL1 1 (m1_waiting B q Wh Fi Ma Ki Ou hG (xs (i + 1))) cv_L_X1_waiting dn_X1_waiting rfl ⟨by decide, by decide⟩ rfl (Nat.le_of_ble_eq_true rfl) dL_law_445 (fun r u3 hr => ?_)
  obtain ⟨rfl, rfl⟩ := hr
  refine ro_icmp_eqR 667 dL_law_448 (by decide) (fun _ => ?_) (fun e => absurd rfl e)
  exact KK _ (B, q, Wh, Fi, Ma, Ki) Ou (hR.mono (by omega))
set_option maxHeartbeats 4000000 in
theorem law_waitsFor {g : Gx} {ad ad1 : Fn} {cI cZ : ClassId} {b L0 i : Nat} {xs : Nat → Int32} (hX : LX g b L0 xs) (hL : L0 ≤ 320) (hi : i + 5 ≤ L0) (u : S0) (v : Q6) (Ou : Fn) (hR : Rel i u v) (KK : ∀ (u2 : S0) (v2 : Q6) (Ou2 : Fn), Rel (i + 1) u2 v2 → LSt g ad ad1 cI cZ b i u2 (cat v2 Ou2) 667) : LSt g ad ad1 cI cZ b i u (cat v Ou) 453 := by
  obtain ⟨O, F, L, T, V, P, X, Y, Z, n, c⟩ := u
  obtain ⟨B, q, Wh, Fi, Ma, Ki⟩ := v
  have hG := hR.gd
  refine ro_aload_n dL_law_453 rfl ?_
  refine ro_aload_n dL_law_454 rfl ?_
  refine ro_iload_n dL_law_455 rfl ?_
  refine ro_iconst (x := nI 1) dL_law_456 (by decide) ?_
  refine ro_iadd dL_law_457 ?_
  refine ro_sld hX dL_law_458 (by omega) (by omega) ?_
  refine ro_callL0 1 (mt_waitsFor O F L T V P X Y Z n c B q Wh Fi Ma Ki i hR (xs (i + 1))) cv_L_X0_waitsFor dn_X0_waitsFor rfl ⟨by decide, by decide⟩ rfl (Nat.le_of_ble_eq_true rfl) dL_law_459 (fun r u2 hr => ?_)
  obtain ⟨rfl, rfl⟩ := hr
  refine ro_aload_n dL_law_462 rfl ?_
  refine ro_aload_n dL_law_463 rfl ?_
  refine ro_iload_n dL_law_464 rfl ?_
  refine ro_iconst (x := nI 1) dL_law_465 (by decide) ?_
  refine ro_iadd dL_law_466 ?_
  refine ro_sld hX dL_law_467 (by omega) (by omega) ?_
  refine ro_callL1 1 (m1_waitsFor B q Wh Fi Ma Ki Ou hG (xs (i + 1))) cv_L_X1_waitsFor dn_X1_waitsFor rfl ⟨by decide, by decide⟩ rfl (Nat.le_of_ble_eq_true rfl) dL_law_468 (fun r u3 hr => ?_)
  obtain ⟨rfl, rfl⟩ := hr
  refine ro_icmp_eqR 667 dL_law_471 (by decide) (fun _ => ?_) (fun e => absurd rfl e)
  exact KK _ (B, q, Wh, Fi, Ma, Ki) Ou (hR.mono (by omega))
set_option maxHeartbeats 4000000 in
theorem law_ahead {g : Gx} {ad ad1 : Fn} {cI cZ : ClassId} {b L0 i : Nat} {xs : Nat → Int32} (hX : LX g b L0 xs) (hL : L0 ≤ 320) (hi : i + 5 ≤ L0) (u : S0) (v : Q6) (Ou : Fn) (hR : Rel i u v) (KK : ∀ (u2 : S0) (v2 : Q6) (Ou2 : Fn), Rel (i + 1) u2 v2 → LSt g ad ad1 cI cZ b i u2 (cat v2 Ou2) 667) : LSt g ad ad1 cI cZ b i u (cat v Ou) 476 := by
  obtain ⟨O, F, L, T, V, P, X, Y, Z, n, c⟩ := u
  obtain ⟨B, q, Wh, Fi, Ma, Ki⟩ := v
  have hG := hR.gd
  refine ro_aload_n dL_law_476 rfl ?_
  refine ro_aload_n dL_law_477 rfl ?_
  refine ro_iload_n dL_law_478 rfl ?_
  refine ro_iconst (x := nI 1) dL_law_479 (by decide) ?_
  refine ro_iadd dL_law_480 ?_
  refine ro_sld hX dL_law_481 (by omega) (by omega) ?_
  refine ro_callL0 1 (mt_ahead O F L T V P X Y Z n c B q Wh Fi Ma Ki i hR (xs (i + 1))) cv_L_X0_ahead dn_X0_ahead rfl ⟨by decide, by decide⟩ rfl (Nat.le_of_ble_eq_true rfl) dL_law_482 (fun r u2 hr => ?_)
  obtain ⟨rfl, rfl⟩ := hr
  refine ro_aload_n dL_law_485 rfl ?_
  refine ro_aload_n dL_law_486 rfl ?_
  refine ro_iload_n dL_law_487 rfl ?_
  refine ro_iconst (x := nI 1) dL_law_488 (by decide) ?_
  refine ro_iadd dL_law_489 ?_
  refine ro_sld hX dL_law_490 (by omega) (by omega) ?_
  refine ro_callL1 1 (m1_ahead B q Wh Fi Ma Ki Ou hG (xs (i + 1))) cv_L_X1_ahead dn_X1_ahead rfl ⟨by decide, by decide⟩ rfl (Nat.le_of_ble_eq_true rfl) dL_law_491 (fun r u3 hr => ?_)
  obtain ⟨rfl, rfl⟩ := hr
  refine ro_icmp_eqR 667 dL_law_494 (by decide) (fun _ => ?_) (fun e => absurd rfl e)
  exact KK _ (B, q, Wh, Fi, Ma, Ki) Ou (hR.mono (by omega))
set_option maxHeartbeats 4000000 in
theorem law_pieces {g : Gx} {ad ad1 : Fn} {cI cZ : ClassId} {b L0 i : Nat} {xs : Nat → Int32} (hX : LX g b L0 xs) (hL : L0 ≤ 320) (hi : i + 5 ≤ L0) (u : S0) (v : Q6) (Ou : Fn) (hR : Rel i u v) (KK : ∀ (u2 : S0) (v2 : Q6) (Ou2 : Fn), Rel (i + 1) u2 v2 → LSt g ad ad1 cI cZ b i u2 (cat v2 Ou2) 667) : LSt g ad ad1 cI cZ b i u (cat v Ou) 499 := by
  obtain ⟨O, F, L, T, V, P, X, Y, Z, n, c⟩ := u
  obtain ⟨B, q, Wh, Fi, Ma, Ki⟩ := v
  have hG := hR.gd
  refine ro_aload_n dL_law_499 rfl ?_
  refine ro_aload_n dL_law_500 rfl ?_
  refine ro_iload_n dL_law_501 rfl ?_
  refine ro_iconst (x := nI 1) dL_law_502 (by decide) ?_
  refine ro_iadd dL_law_503 ?_
  refine ro_sld hX dL_law_504 (by omega) (by omega) ?_
  refine ro_callL0 1 (mt_pieces O F L T V P X Y Z n c B q Wh Fi Ma Ki i hR (xs (i + 1))) cv_L_X0_pieces dn_X0_pieces rfl ⟨by decide, by decide⟩ rfl (Nat.le_of_ble_eq_true rfl) dL_law_505 (fun r u2 hr => ?_)
  obtain ⟨rfl, rfl⟩ := hr
  refine ro_aload_n dL_law_508 rfl ?_
  refine ro_aload_n dL_law_509 rfl ?_
  refine ro_iload_n dL_law_510 rfl ?_
  refine ro_iconst (x := nI 1) dL_law_511 (by decide) ?_
  refine ro_iadd dL_law_512 ?_
  refine ro_sld hX dL_law_513 (by omega) (by omega) ?_
  refine ro_callL1 1 (m1_pieces B q Wh Fi Ma Ki Ou hG (xs (i + 1))) cv_L_X1_pieces dn_X1_pieces rfl ⟨by decide, by decide⟩ rfl (Nat.le_of_ble_eq_true rfl) dL_law_514 (fun r u3 hr => ?_)
  obtain ⟨rfl, rfl⟩ := hr
  refine ro_icmp_eqR 667 dL_law_517 (by decide) (fun _ => ?_) (fun e => absurd rfl e)
  exact KK _ (B, q, Wh, Fi, Ma, Ki) Ou (hR.mono (by omega))
set_option maxHeartbeats 4000000 in
theorem law_pieceStart {g : Gx} {ad ad1 : Fn} {cI cZ : ClassId} {b L0 i : Nat} {xs : Nat → Int32} (hX : LX g b L0 xs) (hL : L0 ≤ 320) (hi : i + 5 ≤ L0) (u : S0) (v : Q6) (Ou : Fn) (hR : Rel i u v) (KK : ∀ (u2 : S0) (v2 : Q6) (Ou2 : Fn), Rel (i + 1) u2 v2 → LSt g ad ad1 cI cZ b i u2 (cat v2 Ou2) 667) : LSt g ad ad1 cI cZ b i u (cat v Ou) 522 := by
  obtain ⟨O, F, L, T, V, P, X, Y, Z, n, c⟩ := u
  obtain ⟨B, q, Wh, Fi, Ma, Ki⟩ := v
  have hG := hR.gd
  refine ro_aload_n dL_law_522 rfl ?_
  refine ro_aload_n dL_law_523 rfl ?_
  refine ro_iload_n dL_law_524 rfl ?_
  refine ro_iconst (x := nI 1) dL_law_525 (by decide) ?_
  refine ro_iadd dL_law_526 ?_
  refine ro_sld hX dL_law_527 (by omega) (by omega) ?_
  refine ro_aload_n dL_law_528 rfl ?_
  refine ro_iload_n dL_law_529 rfl ?_
  refine ro_iconst (x := nI 2) dL_law_530 (by decide) ?_
  refine ro_iadd dL_law_531 ?_
  refine ro_sld hX dL_law_532 (by omega) (by omega) ?_
  refine ro_callL0 2 (mt_pieceStart O F L T V P X Y Z n c B q Wh Fi Ma Ki i hR (xs (i + 1)) (xs (i + 2))) cv_L_X0_pieceStart dn_X0_pieceStart rfl ⟨by decide, by decide⟩ rfl (Nat.le_of_ble_eq_true rfl) dL_law_533 (fun r u2 hr => ?_)
  obtain ⟨rfl, rfl⟩ := hr
  refine ro_aload_n dL_law_536 rfl ?_
  refine ro_aload_n dL_law_537 rfl ?_
  refine ro_iload_n dL_law_538 rfl ?_
  refine ro_iconst (x := nI 1) dL_law_539 (by decide) ?_
  refine ro_iadd dL_law_540 ?_
  refine ro_sld hX dL_law_541 (by omega) (by omega) ?_
  refine ro_aload_n dL_law_542 rfl ?_
  refine ro_iload_n dL_law_543 rfl ?_
  refine ro_iconst (x := nI 2) dL_law_544 (by decide) ?_
  refine ro_iadd dL_law_545 ?_
  refine ro_sld hX dL_law_546 (by omega) (by omega) ?_
  refine ro_callL1 2 (m1_pieceStart B q Wh Fi Ma Ki Ou hG (xs (i + 1)) (xs (i + 2))) cv_L_X1_pieceStart dn_X1_pieceStart rfl ⟨by decide, by decide⟩ rfl (Nat.le_of_ble_eq_true rfl) dL_law_547 (fun r u3 hr => ?_)
  obtain ⟨rfl, rfl⟩ := hr
  refine ro_icmp_eqR 667 dL_law_550 (by decide) (fun _ => ?_) (fun e => absurd rfl e)
  exact KK _ (B, q, Wh, Fi, Ma, Ki) Ou (hR.mono (by omega))
set_option maxHeartbeats 4000000 in
theorem law_pieceEnd {g : Gx} {ad ad1 : Fn} {cI cZ : ClassId} {b L0 i : Nat} {xs : Nat → Int32} (hX : LX g b L0 xs) (hL : L0 ≤ 320) (hi : i + 5 ≤ L0) (u : S0) (v : Q6) (Ou : Fn) (hR : Rel i u v) (KK : ∀ (u2 : S0) (v2 : Q6) (Ou2 : Fn), Rel (i + 1) u2 v2 → LSt g ad ad1 cI cZ b i u2 (cat v2 Ou2) 667) : LSt g ad ad1 cI cZ b i u (cat v Ou) 555 := by
  obtain ⟨O, F, L, T, V, P, X, Y, Z, n, c⟩ := u
  obtain ⟨B, q, Wh, Fi, Ma, Ki⟩ := v
  have hG := hR.gd
  refine ro_aload_n dL_law_555 rfl ?_
  refine ro_aload_n dL_law_556 rfl ?_
  refine ro_iload_n dL_law_557 rfl ?_
  refine ro_iconst (x := nI 1) dL_law_558 (by decide) ?_
  refine ro_iadd dL_law_559 ?_
  refine ro_sld hX dL_law_560 (by omega) (by omega) ?_
  refine ro_aload_n dL_law_561 rfl ?_
  refine ro_iload_n dL_law_562 rfl ?_
  refine ro_iconst (x := nI 2) dL_law_563 (by decide) ?_
  refine ro_iadd dL_law_564 ?_
  refine ro_sld hX dL_law_565 (by omega) (by omega) ?_
  refine ro_callL0 2 (mt_pieceEnd O F L T V P X Y Z n c B q Wh Fi Ma Ki i hR (xs (i + 1)) (xs (i + 2))) cv_L_X0_pieceEnd dn_X0_pieceEnd rfl ⟨by decide, by decide⟩ rfl (Nat.le_of_ble_eq_true rfl) dL_law_566 (fun r u2 hr => ?_)
  obtain ⟨rfl, rfl⟩ := hr
  refine ro_aload_n dL_law_569 rfl ?_
  refine ro_aload_n dL_law_570 rfl ?_
  refine ro_iload_n dL_law_571 rfl ?_
  refine ro_iconst (x := nI 1) dL_law_572 (by decide) ?_
  refine ro_iadd dL_law_573 ?_
  refine ro_sld hX dL_law_574 (by omega) (by omega) ?_
  refine ro_aload_n dL_law_575 rfl ?_
  refine ro_iload_n dL_law_576 rfl ?_
  refine ro_iconst (x := nI 2) dL_law_577 (by decide) ?_
  refine ro_iadd dL_law_578 ?_
  refine ro_sld hX dL_law_579 (by omega) (by omega) ?_
  refine ro_callL1 2 (m1_pieceEnd B q Wh Fi Ma Ki Ou hG (xs (i + 1)) (xs (i + 2))) cv_L_X1_pieceEnd dn_X1_pieceEnd rfl ⟨by decide, by decide⟩ rfl (Nat.le_of_ble_eq_true rfl) dL_law_580 (fun r u3 hr => ?_)
  obtain ⟨rfl, rfl⟩ := hr
  refine ro_icmp_eqR 667 dL_law_583 (by decide) (fun _ => ?_) (fun e => absurd rfl e)
  exact KK _ (B, q, Wh, Fi, Ma, Ki) Ou (hR.mono (by omega))
set_option maxHeartbeats 4000000 in
theorem law_pieceType {g : Gx} {ad ad1 : Fn} {cI cZ : ClassId} {b L0 i : Nat} {xs : Nat → Int32} (hX : LX g b L0 xs) (hL : L0 ≤ 320) (hi : i + 5 ≤ L0) (u : S0) (v : Q6) (Ou : Fn) (hR : Rel i u v) (KK : ∀ (u2 : S0) (v2 : Q6) (Ou2 : Fn), Rel (i + 1) u2 v2 → LSt g ad ad1 cI cZ b i u2 (cat v2 Ou2) 667) : LSt g ad ad1 cI cZ b i u (cat v Ou) 588 := by
  obtain ⟨O, F, L, T, V, P, X, Y, Z, n, c⟩ := u
  obtain ⟨B, q, Wh, Fi, Ma, Ki⟩ := v
  have hG := hR.gd
  refine ro_aload_n dL_law_588 rfl ?_
  refine ro_aload_n dL_law_589 rfl ?_
  refine ro_iload_n dL_law_590 rfl ?_
  refine ro_iconst (x := nI 1) dL_law_591 (by decide) ?_
  refine ro_iadd dL_law_592 ?_
  refine ro_sld hX dL_law_593 (by omega) (by omega) ?_
  refine ro_aload_n dL_law_594 rfl ?_
  refine ro_iload_n dL_law_595 rfl ?_
  refine ro_iconst (x := nI 2) dL_law_596 (by decide) ?_
  refine ro_iadd dL_law_597 ?_
  refine ro_sld hX dL_law_598 (by omega) (by omega) ?_
  refine ro_callL0 2 (mt_pieceType O F L T V P X Y Z n c B q Wh Fi Ma Ki i hR (xs (i + 1)) (xs (i + 2))) cv_L_X0_pieceType dn_X0_pieceType rfl ⟨by decide, by decide⟩ rfl (Nat.le_of_ble_eq_true rfl) dL_law_599 (fun r u2 hr => ?_)
  obtain ⟨rfl, rfl⟩ := hr
  refine ro_aload_n dL_law_602 rfl ?_
  refine ro_aload_n dL_law_603 rfl ?_
  refine ro_iload_n dL_law_604 rfl ?_
  refine ro_iconst (x := nI 1) dL_law_605 (by decide) ?_
  refine ro_iadd dL_law_606 ?_
  refine ro_sld hX dL_law_607 (by omega) (by omega) ?_
  refine ro_aload_n dL_law_608 rfl ?_
  refine ro_iload_n dL_law_609 rfl ?_
  refine ro_iconst (x := nI 2) dL_law_610 (by decide) ?_
  refine ro_iadd dL_law_611 ?_
  refine ro_sld hX dL_law_612 (by omega) (by omega) ?_
  refine ro_callL1 2 (m1_pieceType B q Wh Fi Ma Ki Ou hG (xs (i + 1)) (xs (i + 2))) cv_L_X1_pieceType dn_X1_pieceType rfl ⟨by decide, by decide⟩ rfl (Nat.le_of_ble_eq_true rfl) dL_law_613 (fun r u3 hr => ?_)
  obtain ⟨rfl, rfl⟩ := hr
  refine ro_icmp_eqR 667 dL_law_616 (by decide) (fun _ => ?_) (fun e => absurd rfl e)
  exact KK _ (B, q, Wh, Fi, Ma, Ki) Ou (hR.mono (by omega))
set_option maxHeartbeats 4000000 in
theorem law_count {g : Gx} {ad ad1 : Fn} {cI cZ : ClassId} {b L0 i : Nat} {xs : Nat → Int32} (hX : LX g b L0 xs) (hL : L0 ≤ 320) (hi : i + 5 ≤ L0) (u : S0) (v : Q6) (Ou : Fn) (hR : Rel i u v) (KK : ∀ (u2 : S0) (v2 : Q6) (Ou2 : Fn), Rel (i + 1) u2 v2 → LSt g ad ad1 cI cZ b i u2 (cat v2 Ou2) 667) : LSt g ad ad1 cI cZ b i u (cat v Ou) 621 := by
  obtain ⟨O, F, L, T, V, P, X, Y, Z, n, c⟩ := u
  obtain ⟨B, q, Wh, Fi, Ma, Ki⟩ := v
  have hG := hR.gd
  refine ro_aload_n dL_law_621 rfl ?_
  refine ro_aload_n dL_law_622 rfl ?_
  refine ro_iload_n dL_law_623 rfl ?_
  refine ro_iconst (x := nI 1) dL_law_624 (by decide) ?_
  refine ro_iadd dL_law_625 ?_
  refine ro_sld hX dL_law_626 (by omega) (by omega) ?_
  refine ro_aload_n dL_law_627 rfl ?_
  refine ro_iload_n dL_law_628 rfl ?_
  refine ro_iconst (x := nI 2) dL_law_629 (by decide) ?_
  refine ro_iadd dL_law_630 ?_
  refine ro_sld hX dL_law_631 (by omega) (by omega) ?_
  refine ro_callL0 2 (mt_count O F L T V P X Y Z n c B q Wh Fi Ma Ki i hR (xs (i + 1)) (xs (i + 2))) cv_L_X0_count dn_X0_count rfl ⟨by decide, by decide⟩ rfl (Nat.le_of_ble_eq_true rfl) dL_law_632 (fun r u2 hr => ?_)
  obtain ⟨rfl, rfl⟩ := hr
  refine ro_aload_n dL_law_635 rfl ?_
  refine ro_aload_n dL_law_636 rfl ?_
  refine ro_iload_n dL_law_637 rfl ?_
  refine ro_iconst (x := nI 1) dL_law_638 (by decide) ?_
  refine ro_iadd dL_law_639 ?_
  refine ro_sld hX dL_law_640 (by omega) (by omega) ?_
  refine ro_aload_n dL_law_641 rfl ?_
  refine ro_iload_n dL_law_642 rfl ?_
  refine ro_iconst (x := nI 2) dL_law_643 (by decide) ?_
  refine ro_iadd dL_law_644 ?_
  refine ro_sld hX dL_law_645 (by omega) (by omega) ?_
  refine ro_callL1 2 (m1_count B q Wh Fi Ma Ki Ou hG (xs (i + 1)) (xs (i + 2))) cv_L_X1_count dn_X1_count rfl ⟨by decide, by decide⟩ rfl (Nat.le_of_ble_eq_true rfl) dL_law_646 (fun r u3 hr => ?_)
  obtain ⟨rfl, rfl⟩ := hr
  refine ro_icmp_eqR 667 dL_law_649 (by decide) (fun _ => ?_) (fun e => absurd rfl e)
  exact KK _ (B, q, Wh, Fi, Ma, Ki) Ou (hR.mono (by omega))
set_option maxHeartbeats 4000000 in
theorem law_free {g : Gx} {ad ad1 : Fn} {cI cZ : ClassId} {b L0 i : Nat} {xs : Nat → Int32} (hX : LX g b L0 xs) (hL : L0 ≤ 320) (hi : i + 5 ≤ L0) (u : S0) (v : Q6) (Ou : Fn) (hR : Rel i u v) (KK : ∀ (u2 : S0) (v2 : Q6) (Ou2 : Fn), Rel (i + 1) u2 v2 → LSt g ad ad1 cI cZ b i u2 (cat v2 Ou2) 667) : LSt g ad ad1 cI cZ b i u (cat v Ou) 654 := by
  obtain ⟨O, F, L, T, V, P, X, Y, Z, n, c⟩ := u
  obtain ⟨B, q, Wh, Fi, Ma, Ki⟩ := v
  have hG := hR.gd
  refine ro_aload_n dL_law_654 rfl ?_
  refine ro_callL0 0 (mt_free O F L T V P X Y Z n c B q Wh Fi Ma Ki i hR ) cv_L_X0_free dn_X0_free rfl ⟨by decide, by decide⟩ rfl (Nat.le_of_ble_eq_true rfl) dL_law_655 (fun r u2 hr => ?_)
  obtain ⟨rfl, rfl⟩ := hr
  refine ro_aload_n dL_law_658 rfl ?_
  refine ro_callL1 0 (m1_free B q Wh Fi Ma Ki Ou hG ) cv_L_X1_free dn_X1_free rfl ⟨by decide, by decide⟩ rfl (Nat.le_of_ble_eq_true rfl) dL_law_659 (fun r u3 hr => ?_)
  obtain ⟨rfl, rfl⟩ := hr
  refine ro_icmp_eqR 667 dL_law_662 (by decide) (fun _ => ?_) (fun e => absurd rfl e)
  exact KK _ (B, q, Wh, Fi, Ma, Ki) Ou (hR.mono (by omega))
end
section
set_option maxRecDepth 100000
/-! the law's loop -/
set_option maxHeartbeats 4000000 in
theorem law_loop {g : Gx} {ad ad1 : Fn} {cI cZ : ClassId} {b L0 : Nat} {xs : Nat → Int32} (hX : LX g b L0 xs) (hL : L0 ≤ 320) : ∀ (d i : Nat) (u : S0) (v : Q6) (Ou : Fn), i ≤ L0 → L0 + 1 ≤ i + d → Rel i u v → LSt g ad ad1 cI cZ b i u (cat v Ou) 18 := by
  intro d
  induction d with
  | zero =>
    intro i u v Ou h1 h2
    exact absurd h2 (by omega)
  | succ d ih =>
    intro i u v Ou h1 h2 hR
    refine ro_iload_n dL_law_18 rfl ?_
    refine ro_aload_n dL_law_19 rfl ?_
    refine ro_slen hX dL_law_20 ?_
    refine ro_iconst (x := nI 5) dL_law_21 (by decide) ?_
    refine ro_isubR dL_law_22 ?_
    refine ro_icmp_gtR 673 dL_law_23 (by decide) (fun h3 => ?_) (fun h3 => ?_)
    · refine ro_iconst (x := nI 1) dL_law_673 (by decide) ?_
      refine ro_iret dL_law_674 ?_
      rfl
    rw [Int32.lt_iff_toInt_lt, pk_sub_toInt (by omega) (by decide), nI_toInt (by omega)] at h3
    have hi : i + 5 ≤ L0 := by omega
    have KK : ∀ (u2 : S0) (v2 : Q6) (Ou2 : Fn), Rel (i + 1) u2 v2 → LSt g ad ad1 cI cZ b i u2 (cat v2 Ou2) 667 := by
      intro u2 v2 Ou2 hR2
      refine ro_iincN (j := 5) (lv1 := [_, _, _, _]) dL_law_667 rfl (by decide) rfl rfl rfl ?_
      refine ro_goto 18 dL_law_670 (by decide) ?_
      exact ih (i + 5) u2 v2 Ou2 hi (by omega) (hR2.mono (by omega))
    refine ro_aload_n dL_law_26 rfl ?_
    refine ro_iload_n dL_law_27 rfl ?_
    refine ro_sld hX dL_law_28 (by omega) (by omega) ?_
    refine ro_bipush (x := nI 31) dL_law_29 (by decide) ?_
    refine ro_iandR dL_law_31 ?_
    obtain ⟨j, hj, ej⟩ := pk_andE (xs i) (m := nI 31) 5 rfl
    refine ro_top ej ?_
    rcases (show j = 0 ∨ j = 1 ∨ j = 2 ∨ j = 3 ∨ j = 4 ∨ j = 5 ∨ j = 6 ∨ j = 7 ∨ j = 8 ∨ j = 9 ∨ j = 10 ∨ j = 11 ∨ j = 12 ∨ j = 13 ∨ j = 14 ∨ j = 15 ∨ j = 16 ∨ 17 ≤ j by omega) with rfl | rfl | rfl | rfl | rfl | rfl | rfl | rfl | rfl | rfl | rfl | rfl | rfl | rfl | rfl | rfl | rfl | h5
    · refine ro_tabIn (off := 84) 116 dL_law_32 (by decide) (by decide) (by decide) rfl (by decide) ?_
      exact law_lock hX hL hi u v Ou hR KK
    · refine ro_tabIn (off := 137) 169 dL_law_32 (by decide) (by decide) (by decide) rfl (by decide) ?_
      exact law_await hX hL hi u v Ou hR KK
    · refine ro_tabIn (off := 190) 222 dL_law_32 (by decide) (by decide) (by decide) rfl (by decide) ?_
      exact law_cancel hX hL hi u v Ou hR KK
    · refine ro_tabIn (off := 213) 245 dL_law_32 (by decide) (by decide) (by decide) rfl (by decide) ?_
      exact law_close hX hL hi u v Ou hR KK
    · refine ro_tabIn (off := 236) 268 dL_law_32 (by decide) (by decide) (by decide) rfl (by decide) ?_
      exact law_lockAt hX hL hi u v Ou hR KK
    · refine ro_tabIn (off := 269) 301 dL_law_32 (by decide) (by decide) (by decide) rfl (by decide) ?_
      exact law_holders hX hL hi u v Ou hR KK
    · refine ro_tabIn (off := 292) 324 dL_law_32 (by decide) (by decide) (by decide) rfl (by decide) ?_
      exact law_obstacle hX hL hi u v Ou hR KK
    · refine ro_tabIn (off := 345) 377 dL_law_32 (by decide) (by decide) (by decide) rfl (by decide) ?_
      exact law_wouldCircle hX hL hi u v Ou hR KK
    · refine ro_tabIn (off := 398) 430 dL_law_32 (by decide) (by decide) (by decide) rfl (by decide) ?_
      exact law_waiting hX hL hi u v Ou hR KK
    · refine ro_tabIn (off := 421) 453 dL_law_32 (by decide) (by decide) (by decide) rfl (by decide) ?_
      exact law_waitsFor hX hL hi u v Ou hR KK
    · refine ro_tabIn (off := 444) 476 dL_law_32 (by decide) (by decide) (by decide) rfl (by decide) ?_
      exact law_ahead hX hL hi u v Ou hR KK
    · refine ro_tabIn (off := 467) 499 dL_law_32 (by decide) (by decide) (by decide) rfl (by decide) ?_
      exact law_pieces hX hL hi u v Ou hR KK
    · refine ro_tabIn (off := 490) 522 dL_law_32 (by decide) (by decide) (by decide) rfl (by decide) ?_
      exact law_pieceStart hX hL hi u v Ou hR KK
    · refine ro_tabIn (off := 523) 555 dL_law_32 (by decide) (by decide) (by decide) rfl (by decide) ?_
      exact law_pieceEnd hX hL hi u v Ou hR KK
    · refine ro_tabIn (off := 556) 588 dL_law_32 (by decide) (by decide) (by decide) rfl (by decide) ?_
      exact law_pieceType hX hL hi u v Ou hR KK
    · refine ro_tabIn (off := 589) 621 dL_law_32 (by decide) (by decide) (by decide) rfl (by decide) ?_
      exact law_count hX hL hi u v Ou hR KK
    · refine ro_tabIn (off := 622) 654 dL_law_32 (by decide) (by decide) (by decide) rfl (by decide) ?_
      exact law_free hX hL hi u v Ou hR KK
    · refine ro_tabOut 667 dL_law_32 (by omega) (Or.inr (by omega)) (by decide) ?_
      exact KK u v Ou (hR.mono (by omega))
end
section
set_option maxRecDepth 100000
/-! from the law's entry to its loop -/
theorem Rel_0 : Rel 0 Z0 (zF, 0, zF, zF, zF, zF) := by
  refine ⟨⟨⟨fun k hk => absurd hk (Nat.not_lt_zero k), fun k hk => absurd hk (by omega)⟩, fun k hk => absurd hk (by omega), ⟨fun _ => Nat.zero_le _, fun _ => Nat.zero_le _, fun _ => Nat.zero_le _, fun _ => Nat.zero_le _⟩, fun _ => Nat.zero_le _, fun p b w _ _ hw => ⟨fun ⟨k, hk, _⟩ => absurd hk (Nat.not_lt_zero k), fun e => absurd e.symm hw⟩⟩, ⟨⟨fun _ => Nat.zero_le _, fun _ => Nat.zero_le _, fun _ => Nat.zero_le _, fun _ => Nat.zero_le _, fun _ => Nat.zero_le _⟩, fun _ => Nat.zero_le _, fun _ => Nat.zero_le _, fun _ => Nat.zero_le _, fun o _ => ⟨fun h => absurd rfl h, fun ⟨i, hi, _⟩ => absurd hi (Nat.not_lt_zero i)⟩, fun i hi => absurd hi (Nat.not_lt_zero i), fun i j _ hj => absurd hj (Nat.not_lt_zero j), fun _ => Nat.zero_le _⟩, Nat.zero_le _⟩
theorem lvh4 {ls : Array Slot} {a b c d : Value} (h : lv_has ls 4 [(0, a), (1, b), (2, c), (3, d)]) : lvh ls 4 [some a, some b, some c, some d] := by
  refine ⟨h.1, h.2.1, fun i v hi => ?_⟩
  match i, hi with
  | 0, hi =>
    have e : a = v := by simpa using hi
    subst e
    exact lv_at h 0 rfl
  | 1, hi =>
    have e : b = v := by simpa using hi
    subst e
    exact lv_at h 1 rfl
  | 2, hi =>
    have e : c = v := by simpa using hi
    subst e
    exact lv_at h 2 rfl
  | 3, hi =>
    have e : d = v := by simpa using hi
    subst e
    exact lv_at h 3 rfl
  | i + 4, hi => simp at hi
set_option maxHeartbeats 4000000 in
/-- THE LAW, from its entry -/
theorem whole_start {p : Program} {e : Env} {s : State} {m : MethodId} {below : List Frame} {meth : Method} {c : Code} (l : Launch) {b L : Nat} {xs : Nat → Int32} (hL : L ≤ 320) (C0 : lw_At p s m meth c b L xs) : W p l e room_1 s m #[Value.ref b] below meth c s.heap [] 0 0 (lw_Z below #[Value.ref b] s) (entryFrame m ([Value.ref b] : List Value).toArray 4) := by
  obtain ⟨hx, hb, hr, hml, hown, hts0, hX, hbl, hlocks, hgv⟩ := id C0
  have hts : ∀ w ∈ lw_all, w.before #[Value.ref b] s = true := fun w h => hts0 w (lw_all_tbl h)
  have hA : ∀ q : Nat, s.heap.size ≤ q → (fun q : Nat => s.heap.size ≤ q) q := fun _ h => h
  have hbA : ¬ (fun q : Nat => s.heap.size ≤ q) b := Nat.not_le.mpr hbl
  obtain ⟨c0, iS0, hKn0⟩ := u_known (C := RX0) (T := TX0) (N := 11) (n := 11) hts0 (fun w h => lw_all_tbl (in_X0 w h)) (hts _ q32)
  obtain ⟨c1, iS1, hKn1⟩ := u_known (C := RX1) (T := TX1) (N := 7) (n := 7) hts0 (fun w h => lw_all_tbl (in_X1 w h)) (hts _ q214)
  obtain ⟨D, hKc⟩ : ∃ D : va_G, ∀ (k : Nat) (q : vw_C), vwCl[k]? = some q → u_Kn s q.1 q.2.1 q.2.2 (D.1 k) (D.2 k) := by
    refine ⟨(fun k => if k = 0 then c0 else c1, fun k => if k = 0 then iS0 else iS1), ?_⟩
    intro k q hq
    match k, hq with
    | 0, hq => cases hq; exact hKn0
    | 1, hq => cases hq; exact hKn1
    | k + 2, hq => simp [vwCl] at hq
  have hS : va_S (fun q : Nat => s.heap.size ≤ q) s.heap s.heap [] := va_S.rf
  have hK : va_K D vwCl [] s := ⟨hKc, fun k q h => by simp at h⟩
  have hP : va_P D vwCl [] s.heap := fun k q h => by simp at h
  have hD : va_D (fun q : Nat => s.heap.size ≤ q) [] := ⟨fun i j p q h => by simp at h, fun k q h => by simp at h⟩
  have hl := lv_entry ([.ref b]) (n := 4) (Nat.le_of_ble_eq_true rfl)
  rw [lg_entry_eq]
  generalize (lg_sl ([.ref b]) ++ List.replicate (4 - (lg_sl ([.ref b])).length) Slot.unset).toArray = ls at hl ⊢
  have hl : lv_has ls 4 [(0, .ref b)] := hl
  refine va_new (ci := 0) (fs := [.null, .null, .null, .null, .null, .null, .null, .null, .null, .int 0, .int 0]) (C := RX0) (T := TX0) (N := 11) hx hb hts in_X0 tyX0 tyX0_ok hown (hts _ q31) (hts _ q32) (hts _ q29) hK hP hD hS hA rfl (fun j hj => by rcases (show j = 0 ∨ j = 1 ∨ j = 2 ∨ j = 3 ∨ j = 4 ∨ j = 5 ∨ j = 6 ∨ j = 7 ∨ j = 8 ∨ j = 9 ∨ j = 10 by omega) with rfl | rfl | rfl | rfl | rfl | rfl | rfl | rfl | rfl | rfl | rfl <;> rfl) (Nat.le_of_ble_eq_true rfl) (Nat.le_of_ble_eq_true rfl) dL_law_0 (fun o0 H hP hD hS => ?_)
  have hP : va_P D vwCl (E0 o0) H := hP
  have hD : va_D (fun q : Nat => s.heap.size ≤ q) (E0 o0) := hD
  refine lv_dup hx hb dL_law_3 rfl ?_
  have hPc := hP.sub (ws' := (E0 o0)) [0] rfl
  have hDc := hD.sub (ws' := (E0 o0)) [0] (by decide) rfl
  have hKc := hK.sub (tys' := []) [] rfl
  have hFc := va_free (wc := (E0 o0)) hD hS hA [0] rfl
  refine va_callv (va_runI (As := []) (rest := [.ref o0]) ⟨hx, hb, hml, hown, hts⟩ (mt_init l D o0 H.size) (cwI 0 hts (lw_meth q35) rfl rfl rfl (hts _ q29) (hts _ q33) (hts _ q34) rfl (by decide +kernel) ⟨Nat.le_of_ble_eq_true rfl, Nat.le_of_ble_eq_true rfl⟩) ⟨fun a U g mk q => by obtain ⟨q0, q1, qP, qK, qD⟩ := q; exact ⟨q0, q1, qP, va_K.moved (u := U) (U := U.calling g mk a) (Vm.Alike.refl U.vm) qK, qD⟩, fun U hU hW => ⟨rfl, by rw [hU], by rw [hU]; exact hPc, va_K.moved hW.alike hKc, hDc.weaken (fun _ _ _ _ => trivial)⟩⟩ rfl rfl hl.1 rfl (lv_room (Nat.le_of_ble_eq_true rfl)) dL_law_4 ⟨Nat.le_of_ble_eq_true rfl, Nat.le_of_ble_eq_true rfl⟩) hS (fun q _ h => hFc q h) hFc (fun x t H1 locs ht hvm hw hB hz1 hk1 hS => ?_)
  obtain ⟨ad, cI, cZ⟩ := x
  obtain ⟨h0, hP1, hK1, hD1⟩ := hB
  have h0 : ad 0 = o0 := h0
  subst h0
  rw [ht] at hP1
  have hK1 := va_K.moved hvm.symm hK1
  have hK1 : va_K D vwCl [(cI, .int), (cZ, .boolean)] s := hK1
  obtain ⟨hP, hD⟩ := va_join (wr := []) (w1 := w0 ad cI cZ Z0) hP hD [0] [] rfl rfl (by decide) (by decide) hk1 hFc hP1 hD1
  have hK := hK1
  generalize H1 = H at hP hS ⊢
  have hP : va_P D vwCl (w0 ad cI cZ Z0) H := hP
  have hD : va_D (fun q : Nat => s.heap.size ≤ q) (w0 ad cI cZ Z0) := hD
  refine lv_astore_n (lv' := [(1, .ref (ad 0)), (0, .ref b)]) hx hb dL_law_7 rfl hl (by decide) rfl (fun ls hl => ?_)
  refine va_new (ci := 1) (fs := [.null, .int 0, .null, .null, .null, .null, .null]) (C := RX1) (T := TX1) (N := 7) hx hb hts in_X1 tyX1 tyX1_ok hown (hts _ q213) (hts _ q214) (hts _ q30) hK hP hD hS hA rfl (fun j hj => by rcases (show j = 0 ∨ j = 1 ∨ j = 2 ∨ j = 3 ∨ j = 4 ∨ j = 5 ∨ j = 6 by omega) with rfl | rfl | rfl | rfl | rfl | rfl | rfl <;> rfl) (Nat.le_of_ble_eq_true rfl) (Nat.le_of_ble_eq_true rfl) dL_law_8 (fun o1 H hP hD hS => ?_)
  have hP : va_P D vwCl (w0 ad cI cZ Z0 ++ E1 o1) H := hP
  have hD : va_D (fun q : Nat => s.heap.size ≤ q) (w0 ad cI cZ Z0 ++ E1 o1) := hD
  refine lv_dup hx hb dL_law_11 rfl ?_
  have hPc := hP.sub (ws' := (E1 o1)) [10] rfl
  have hDc := hD.sub (ws' := (E1 o1)) [10] (by decide) rfl
  have hKc := hK.sub (tys' := [(cI, .int), (cZ, .boolean)]) [0, 1] rfl
  have hFc := va_free (wc := (E1 o1)) hD hS hA [10] rfl
  refine va_callv (va_runI (As := []) (rest := [.ref o1]) ⟨hx, hb, hml, hown, hts⟩ (m1_init l D cI cZ o1 H.size) (cwI 0 hts (lw_meth q217) rfl rfl rfl (hts _ q30) (hts _ q215) (hts _ q216) rfl (by decide +kernel) ⟨Nat.le_of_ble_eq_true rfl, Nat.le_of_ble_eq_true rfl⟩) ⟨fun a U g mk q => by obtain ⟨q0, q1, qP, qK, qD⟩ := q; exact ⟨q0, q1, qP, va_K.moved (u := U) (U := U.calling g mk a) (Vm.Alike.refl U.vm) qK, qD⟩, fun U hU hW => ⟨rfl, by rw [hU], by rw [hU]; exact hPc, va_K.moved hW.alike hKc, hDc.weaken (fun _ _ _ _ => trivial)⟩⟩ rfl rfl hl.1 rfl (lv_room (Nat.le_of_ble_eq_true rfl)) dL_law_12 ⟨Nat.le_of_ble_eq_true rfl, Nat.le_of_ble_eq_true rfl⟩) hS (fun q _ h => hFc q h) hFc (fun x t H1 locs ht hvm hw hB hz1 hk1 hS => ?_)
  obtain ⟨ad1, rfl⟩ : ∃ z, z = x := ⟨_, rfl⟩
  obtain ⟨h0, hP1, hK1, hD1⟩ := hB
  have h0 : ad1 0 = o1 := h0
  subst h0
  rw [ht] at hP1
  obtain ⟨hP, hD⟩ := va_join (wr := w0 ad cI cZ Z0) (w1 := w1 ad1 cI cZ Z1) hP hD [10] [0, 1, 2, 3, 4, 5, 6, 7, 8, 9] rfl rfl (by decide) (by decide) hk1 hFc hP1 hD1
  generalize H1 = H at hP hS ⊢
  refine lv_astore_n (lv' := [(2, .ref (ad1 0)), (1, .ref (ad 0)), (0, .ref b)]) hx hb dL_law_15 rfl hl (by decide) rfl (fun ls hl => ?_)
  refine lv_iconst (v := nI 0) hx hb dL_law_16 (by decide) ?_
  refine lv_istore_n (lv' := [(3, .int (nI 0)), (2, .ref (ad1 0)), (1, .ref (ad 0)), (0, .ref b)]) hx hb dL_law_17 rfl hl (by decide) rfl (fun ls hl => ?_)
  have hv := lvh4 (lv_sub hl [3, 2, 1, 0] rfl)
  refine W.widen (k := 17) (n := 1099) (Nat.le_of_ble_eq_true rfl) (Nat.le_of_ble_eq_true rfl) ?_
  have hX2 : LX (p, l, e, s, m, #[Value.ref b], below, meth, c, lw_Z below #[Value.ref b] s, (fun q : Nat => s.heap.size ≤ q), D, 17, 1099) b L xs := ⟨hX, hbl, hbA⟩
  refine law_loop (ad := ad) (ad1 := ad1) (cI := cI) (cZ := cZ) hX2 hL (L + 1) 0 Z0 (zF, 0, zF, zF, zF, zF) zF (Nat.zero_le L) (by omega) Rel_0 ⟨hx, hb, hml, hown, hts, hK, hA, ⟨by decide, by decide⟩, ?_, fun _ _ _ _ _ h => h.elim⟩ H locs ls hP hD hS hv
  intro r x H locs pc ls hr1 hP hD hS hd
  have hr1 : r = 1 := hr1
  subst hr1
  refine va_forget (fun q hq => hS.2.2 q hq) ?_
  refine W.widen (k := 600000) (n := 7290000) (by decide) (by decide) ?_
  exact lw_ret hx hb hr hlocks hd
end
section
set_option maxRecDepth 100000
set_option maxHeartbeats 4000000 in
theorem lw_walk (l : Launch) (b : Addr) (xs : List Int32) : MetFree l x (headSpec (Jvm.Cond.code x code maxLocals ret :: tables_1) room_1) (lw_P b xs) (fun _ _ _ _ _ => True) lw_Q := by
  refine MetFree.of_bodyS (code := code) (maxLocals := maxLocals) (ret := ret) (by decide) ?_ ?_
  · intro args s m h hn
    obtain ⟨meth, c, h1, h2, h3, h4, h5, h6, -, -⟩ := Cond.code_spec hn (atoms_spec (ws := Jvm.Cond.code x code maxLocals ret :: tables_1) h _ List.mem_cons_self)
    exact ⟨meth, c, h1, h2, h3, h4, h5, h6⟩
  · intro p e s m args below meth c s₁ B hml0 hP _
    obtain ⟨rfl, hx, hbd, hgv⟩ := hP
    obtain ⟨scr, harrAt, hlist, hof, hsmall⟩ := hx
    obtain ⟨hcb, hkn, -, -⟩ := State.arrayAt?_spec harrAt
    have hown : s.vm.findClass R_law = some m.cls := findClass_of_methodNamed B.named
    have hts0 : ∀ c ∈ (Jvm.Cond.code x code maxLocals ret :: tables_1), c.before #[Value.ref b] s = true := atoms_spec (ws := Jvm.Cond.code x code maxLocals ret :: tables_1) B.pre
    have hts : ∀ w ∈ lw_tbl, w.before #[Value.ref b] s = true := k2_hts_sels lw_privs (fun w hw => hts0 w (List.mem_cons_of_mem _ hw)) lw_privs_ok
    have hml : c.maxLocals = 4 := B.maxLocals_eq (hts0 _ List.mem_cons_self)
    have X₀ : Stand p l e room_1 s m #[Value.ref b] below meth c s₁ [] 0 0 := Stand.of_body B
    have hh0 : s₁.heap = s.heap := by rw [B.state]; rfl
    have hsz : scr.slots.size = xs.length := by rw [← Array.length_toList, hlist, List.length_map]
    have hval : ∀ j : Nat, j < xs.length → scr.slots[j]? = some (.int (xs.getD j 0)) := fun j hj => by
      rw [← Array.getElem?_toList, hlist]
      simp [hj]
    have hbl : b < s.heap.size := (Array.getElem?_eq_some_iff.mp hcb).1
    have hX : va_X b xs.length (fun j => xs.getD j 0) s s.heap := ⟨scr, hcb, hof, hkn, hsz, hval⟩
    have K : W p l e room_1 s m #[Value.ref b] below meth c s₁.heap [] 0 0 (lw_Z below #[Value.ref b] s) (entryFrame m ([Value.ref b] : List Value).toArray 4) := by
      rw [hh0]
      exact whole_start l hbd ⟨B.exec, B.bytes, B.returns, hml, hown, hts, hX, hbl, B.notSynchronized, hgv⟩
    obtain ⟨t, a1, o, b1, b2, b3⟩ := K s₁ rfl X₀
    exact ⟨t, o, a1, b1, b2, b3⟩
theorem lw_pre_spec {args : Array Value} {s : State} (h : (Jvm.Cond.and given_1 narrow_1).before args s = true) (hr : rest_1_c.before args s = true) : ∃ (b : Addr) (xs : List Int32), lw_P b xs args s := by
  have hs := flat_of_before _ h
  have hq := flat_of_before _ hr
  have hc : (Cond.count 1).before args s = true := hs _ (by decide +kernel)
  have harr : (Cond.arrayOf (.arg 0) .int).before args s = true := hs _ (by decide +kernel)
  have hle : (Cond.le (.length (.arg 0)) (.int 320)).before args s = true := hs _ (by decide +kernel)
  have hlen : (Cond.isInt (.length (.arg 0))).before args s = true := hq _ (by decide +kernel)
  have hall : (Cond.all (.arg 0) (.isInt (.elem (.arg 0) (.index 0)))).before args s = true := hq _ (by decide +kernel)
  obtain ⟨b, xs, hb, hx⟩ := State.ints_of_pre rfl harr hlen hall
  have hsm : xs.length < 2 ^ 31 := hx.choose_spec.2.2.2
  have hev : (Term.length (.arg 0)).eval args s none [] s = some (.int xs.length.toInt32) := hx.length_eval hb
  have hv := Cond.le_ints hev (show (Term.int 320).eval args s none [] s = some (.int 320) from rfl)
  have hd : xs.length.toInt32 ≤ 320 := by
    simpa [Cond.before, Cond.holds, hv] using hle
  have hN : xs.length ≤ 320 := (Int32.ofNat_le_ofNat hsm (by decide)).mp (show Int32.ofNat xs.length ≤ Int32.ofNat 320 from hd)
  exact ⟨b, xs, Cond.one_arg hc (show args[0]? = some (.ref b) from hb), hx, hN, h⟩
theorem lw_comes (l : Launch) : Comes l x (Jvm.Cond.code x code maxLocals ret :: tables_1) room_1 (fun tb e args s => Calls_1 tb e args s ∧ rest_1 tb e args s ∧ Pre_1 tb e args s)
    (fun _ _ args s o t => lw_Q args s o t) := by
  intro p e ha hc hk s m args below hf hfit hheap happ hpre
  obtain ⟨b, xs, hP⟩ := lw_pre_spec hpre.2.2 hpre.2.1
  obtain ⟨k, o, h1, h2, h3, hQ⟩ := lw_walk l b xs p e ha hc hk s m args below hf ((Spec.applies_iff_loose hf).mp happ).1 hP trivial
  exact ⟨k, o, h1, h2, h3, hQ⟩
theorem lw_frame {s t : State} {o : Outcome} {args : Array Value} (h : Framed s o t [] 600000 7290000) :
    Framed s o t (fieldLocs frame_1_writes args s ++ arrayLocs frame_1_arrays args s ++ staticLocs frame_1_statics s) 600000 7290000 := h
theorem lw_limb (L : Cond) (hL : ∀ (args : Array Value) (s t : State), L.after args s (.returned (some (.int 1))) t = true) :
    ArmFor flags0 classFile x code maxLocals ret World_1 tables_1 room_1 Calls_1 rest_1 Pre_1
      (fun tb e a s o t => postC L tb e a s o t ∧ Framed s o t (fieldLocs frame_1_writes a s ++ arrayLocs frame_1_arrays a s ++ staticLocs frame_1_statics s) 600000 7290000) := by
  intro l _ _ _ p e ha hc hk s m args below hf hfit hheap happ hpre
  obtain ⟨k, o, h1, h2, h3, rfl, hF⟩ := lw_comes l p e ha hc hk s m args below hf hfit hheap happ hpre
  exact ⟨k, _, h1, h2, h3, hL args s _, lw_frame hF⟩
theorem i_vc : Claimed_1_1 ∧ Claimed_1_2 := ⟨lw_limb limb_1_1 (fun args s t => by simp [limb_1_1, Cond.after, Cond.holds, Cond.value]), lw_limb limb_1_2 (fun args s t => Cond.after_iff.mpr (by
  first | (rw [show limb_1_2 = Cond.eq .result (.int 1) from rfl, Cond.eq_ints (x := 1) (y := 1) rfl rfl]; simp; done) | (simp [limb_1_2, Cond.value, Term.eval]; done)))⟩
end
