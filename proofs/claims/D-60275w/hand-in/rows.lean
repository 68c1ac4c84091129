section
-- ===== PART A: goes FIRST, ahead of the names: the tables' words, and 'selects' of the private methods out of them =====
/-- a private method of a class that the tables say can be made, by its rows of tables_1 -/
def lw_okq (q : MethodName × Nat) : Prop := (q.1.cls ≠ "java/lang/invoke/MethodHandle" ∧ q.1.cls ≠ "java/lang/invoke/VarHandle") ∧ Cond.instantiable q.1.cls q.2 ∈ tables_1 ∧ Cond.privateMethod q.1 ∈ tables_1 ∧ Cond.instanceMethod q.1 ∈ tables_1
set_option maxRecDepth 100000
theorem lw_t1 {w : Cond} (h : w ∈ tables_1_1) : w ∈ tables_1 := List.mem_append_left _ h
theorem lw_t2 {w : Cond} (h : w ∈ tables_1_2) : w ∈ tables_1 := List.mem_append_right _ h
theorem lw_p0 : lw_okq (⟨"BellRows", "isChange", "(I)Z"⟩, 13) := ⟨⟨by decide +kernel, by decide +kernel⟩, lw_t1 (List.mem_of_getElem? (i := 4) rfl), lw_t1 (List.mem_of_getElem? (i := 58) rfl), lw_t1 (List.mem_of_getElem? (i := 59) rfl)⟩
theorem lw_p1 : lw_okq (⟨"BellRows", "badCall", "(I)Z"⟩, 13) := ⟨⟨by decide +kernel, by decide +kernel⟩, lw_t1 (List.mem_of_getElem? (i := 4) rfl), lw_t1 (List.mem_of_getElem? (i := 74) rfl), lw_t1 (List.mem_of_getElem? (i := 75) rfl)⟩
theorem lw_p2 : lw_okq (⟨"BellRows", "noRow", "(I)Z"⟩, 13) := ⟨⟨by decide +kernel, by decide +kernel⟩, lw_t1 (List.mem_of_getElem? (i := 4) rfl), lw_t1 (List.mem_of_getElem? (i := 94) rfl), lw_t1 (List.mem_of_getElem? (i := 95) rfl)⟩
theorem lw_p3 : lw_okq (⟨"BellRows", "findHeads", "()V"⟩, 13) := ⟨⟨by decide +kernel, by decide +kernel⟩, lw_t1 (List.mem_of_getElem? (i := 4) rfl), lw_t1 (List.mem_of_getElem? (i := 98) rfl), lw_t1 (List.mem_of_getElem? (i := 99) rfl)⟩
theorem lw_p4 : lw_okq (⟨"BellRows", "find", "()V"⟩, 13) := ⟨⟨by decide +kernel, by decide +kernel⟩, lw_t1 (List.mem_of_getElem? (i := 4) rfl), lw_t1 (List.mem_of_getElem? (i := 102) rfl), lw_t1 (List.mem_of_getElem? (i := 103) rfl)⟩
theorem lw_p5 : lw_okq (⟨"BellRows", "findOffsets", "(I)V"⟩, 13) := ⟨⟨by decide +kernel, by decide +kernel⟩, lw_t1 (List.mem_of_getElem? (i := 4) rfl), lw_t1 (List.mem_of_getElem? (i := 106) rfl), lw_t1 (List.mem_of_getElem? (i := 107) rfl)⟩
theorem lw_p6 : lw_okq (⟨"BellRows", "step", "(II)V"⟩, 13) := ⟨⟨by decide +kernel, by decide +kernel⟩, lw_t1 (List.mem_of_getElem? (i := 4) rfl), lw_t1 (List.mem_of_getElem? (i := 110) rfl), lw_t1 (List.mem_of_getElem? (i := 111) rfl)⟩
theorem lw_p7 : lw_okq (⟨"BellRows", "offsetAt", "(II)I"⟩, 13) := ⟨⟨by decide +kernel, by decide +kernel⟩, lw_t1 (List.mem_of_getElem? (i := 4) rfl), lw_t1 (List.mem_of_getElem? (i := 114) rfl), lw_t1 (List.mem_of_getElem? (i := 115) rfl)⟩
theorem lw_p8 : lw_okq (⟨"BellRows", "findFalse", "(II)V"⟩, 13) := ⟨⟨by decide +kernel, by decide +kernel⟩, lw_t1 (List.mem_of_getElem? (i := 4) rfl), lw_t1 (List.mem_of_getElem? (i := 118) rfl), lw_t1 (List.mem_of_getElem? (i := 119) rfl)⟩
theorem lw_p9 : lw_okq (⟨"BellRows", "rankMade", "()I"⟩, 13) := ⟨⟨by decide +kernel, by decide +kernel⟩, lw_t1 (List.mem_of_getElem? (i := 4) rfl), lw_t1 (List.mem_of_getElem? (i := 122) rfl), lw_t1 (List.mem_of_getElem? (i := 123) rfl)⟩
theorem lw_p10 : lw_okq (⟨"BellRows", "bellAt", "(II)I"⟩, 13) := ⟨⟨by decide +kernel, by decide +kernel⟩, lw_t1 (List.mem_of_getElem? (i := 4) rfl), lw_t1 (List.mem_of_getElem? (i := 126) rfl), lw_t1 (List.mem_of_getElem? (i := 127) rfl)⟩
theorem lw_p11 : lw_okq (⟨"BellRows", "allTrue", "()Z"⟩, 13) := ⟨⟨by decide +kernel, by decide +kernel⟩, lw_t1 (List.mem_of_getElem? (i := 4) rfl), lw_t1 (List.mem_of_getElem? (i := 138) rfl), lw_t1 (List.mem_of_getElem? (i := 139) rfl)⟩
theorem lw_p12 : lw_okq (⟨"BellRows", "aloneFalse", "(I)Z"⟩, 13) := ⟨⟨by decide +kernel, by decide +kernel⟩, lw_t1 (List.mem_of_getElem? (i := 4) rfl), lw_t1 (List.mem_of_getElem? (i := 142) rfl), lw_t1 (List.mem_of_getElem? (i := 143) rfl)⟩
theorem lw_p13 : lw_okq (⟨"BellRows", "clearMet", "()V"⟩, 13) := ⟨⟨by decide +kernel, by decide +kernel⟩, lw_t1 (List.mem_of_getElem? (i := 4) rfl), lw_t1 (List.mem_of_getElem? (i := 146) rfl), lw_t1 (List.mem_of_getElem? (i := 147) rfl)⟩
theorem lw_p14 : lw_okq (⟨"BellRows", "meetMade", "()Z"⟩, 13) := ⟨⟨by decide +kernel, by decide +kernel⟩, lw_t1 (List.mem_of_getElem? (i := 4) rfl), lw_t1 (List.mem_of_getElem? (i := 150) rfl), lw_t1 (List.mem_of_getElem? (i := 151) rfl)⟩
theorem lw_p15 : lw_okq (⟨"BellRows", "countFalse", "()I"⟩, 13) := ⟨⟨by decide +kernel, by decide +kernel⟩, lw_t1 (List.mem_of_getElem? (i := 4) rfl), lw_t1 (List.mem_of_getElem? (i := 154) rfl), lw_t1 (List.mem_of_getElem? (i := 155) rfl)⟩
def lw_privs_1 : List (MethodName × Nat) := [(⟨"BellRows", "isChange", "(I)Z"⟩, 13), (⟨"BellRows", "badCall", "(I)Z"⟩, 13), (⟨"BellRows", "noRow", "(I)Z"⟩, 13), (⟨"BellRows", "findHeads", "()V"⟩, 13), (⟨"BellRows", "find", "()V"⟩, 13), (⟨"BellRows", "findOffsets", "(I)V"⟩, 13), (⟨"BellRows", "step", "(II)V"⟩, 13), (⟨"BellRows", "offsetAt", "(II)I"⟩, 13), (⟨"BellRows", "findFalse", "(II)V"⟩, 13), (⟨"BellRows", "rankMade", "()I"⟩, 13), (⟨"BellRows", "bellAt", "(II)I"⟩, 13), (⟨"BellRows", "allTrue", "()Z"⟩, 13), (⟨"BellRows", "aloneFalse", "(I)Z"⟩, 13), (⟨"BellRows", "clearMet", "()V"⟩, 13), (⟨"BellRows", "meetMade", "()Z"⟩, 13), (⟨"BellRows", "countFalse", "()I"⟩, 13)]
theorem lw_r1 : ∀ q ∈ lw_privs_1, lw_okq q := List.forall_mem_cons.mpr ⟨lw_p0, List.forall_mem_cons.mpr ⟨lw_p1, List.forall_mem_cons.mpr ⟨lw_p2, List.forall_mem_cons.mpr ⟨lw_p3, List.forall_mem_cons.mpr ⟨lw_p4, List.forall_mem_cons.mpr ⟨lw_p5, List.forall_mem_cons.mpr ⟨lw_p6, List.forall_mem_cons.mpr ⟨lw_p7, List.forall_mem_cons.mpr ⟨lw_p8, List.forall_mem_cons.mpr ⟨lw_p9, List.forall_mem_cons.mpr ⟨lw_p10, List.forall_mem_cons.mpr ⟨lw_p11, List.forall_mem_cons.mpr ⟨lw_p12, List.forall_mem_cons.mpr ⟨lw_p13, List.forall_mem_cons.mpr ⟨lw_p14, List.forall_mem_cons.mpr ⟨lw_p15, fun _ h => absurd h List.not_mem_nil⟩⟩⟩⟩⟩⟩⟩⟩⟩⟩⟩⟩⟩⟩⟩⟩
theorem lw_p16 : lw_okq (⟨"BellRows", "pairFalse", "(III)Z"⟩, 13) := ⟨⟨by decide +kernel, by decide +kernel⟩, lw_t1 (List.mem_of_getElem? (i := 4) rfl), lw_t1 (List.mem_of_getElem? (i := 158) rfl), lw_t1 (List.mem_of_getElem? (i := 159) rfl)⟩
theorem lw_p17 : lw_okq (⟨"BellRows", "greatest", "(II)I"⟩, 13) := ⟨⟨by decide +kernel, by decide +kernel⟩, lw_t1 (List.mem_of_getElem? (i := 4) rfl), lw_t1 (List.mem_of_getElem? (i := 178) rfl), lw_t1 (List.mem_of_getElem? (i := 179) rfl)⟩
theorem lw_p18 : lw_okq (⟨"BellRowsModel", "isChange", "(I)Z"⟩, 9) := ⟨⟨by decide +kernel, by decide +kernel⟩, lw_t1 (List.mem_of_getElem? (i := 197) rfl), lw_t1 (List.mem_of_getElem? (i := 235) rfl), lw_t1 (List.mem_of_getElem? (i := 236) rfl)⟩
theorem lw_p19 : lw_okq (⟨"BellRowsModel", "noCall", "(I)Z"⟩, 9) := ⟨⟨by decide +kernel, by decide +kernel⟩, lw_t1 (List.mem_of_getElem? (i := 197) rfl), lw_t2 (List.mem_of_getElem? (i := 11) rfl), lw_t2 (List.mem_of_getElem? (i := 12) rfl)⟩
theorem lw_p20 : lw_okq (⟨"BellRowsModel", "write", "()V"⟩, 9) := ⟨⟨by decide +kernel, by decide +kernel⟩, lw_t1 (List.mem_of_getElem? (i := 197) rfl), lw_t2 (List.mem_of_getElem? (i := 31) rfl), lw_t2 (List.mem_of_getElem? (i := 32) rfl)⟩
theorem lw_p21 : lw_okq (⟨"BellRowsModel", "round", "()V"⟩, 9) := ⟨⟨by decide +kernel, by decide +kernel⟩, lw_t1 (List.mem_of_getElem? (i := 197) rfl), lw_t2 (List.mem_of_getElem? (i := 35) rfl), lw_t2 (List.mem_of_getElem? (i := 36) rfl)⟩
theorem lw_p22 : lw_okq (⟨"BellRowsModel", "code", "()I"⟩, 9) := ⟨⟨by decide +kernel, by decide +kernel⟩, lw_t1 (List.mem_of_getElem? (i := 197) rfl), lw_t2 (List.mem_of_getElem? (i := 39) rfl), lw_t2 (List.mem_of_getElem? (i := 40) rfl)⟩
theorem lw_p23 : lw_okq (⟨"BellRowsModel", "ring", "(I)V"⟩, 9) := ⟨⟨by decide +kernel, by decide +kernel⟩, lw_t1 (List.mem_of_getElem? (i := 197) rfl), lw_t2 (List.mem_of_getElem? (i := 43) rfl), lw_t2 (List.mem_of_getElem? (i := 44) rfl)⟩
theorem lw_p24 : lw_okq (⟨"BellRowsModel", "exchange", "(I)V"⟩, 9) := ⟨⟨by decide +kernel, by decide +kernel⟩, lw_t1 (List.mem_of_getElem? (i := 197) rfl), lw_t2 (List.mem_of_getElem? (i := 47) rfl), lw_t2 (List.mem_of_getElem? (i := 48) rfl)⟩
theorem lw_p25 : lw_okq (⟨"BellRowsModel", "find", "(I)I"⟩, 9) := ⟨⟨by decide +kernel, by decide +kernel⟩, lw_t1 (List.mem_of_getElem? (i := 197) rfl), lw_t2 (List.mem_of_getElem? (i := 51) rfl), lw_t2 (List.mem_of_getElem? (i := 52) rfl)⟩
theorem lw_p26 : lw_okq (⟨"BellRowsModel", "noBell", "(I)Z"⟩, 9) := ⟨⟨by decide +kernel, by decide +kernel⟩, lw_t1 (List.mem_of_getElem? (i := 197) rfl), lw_t2 (List.mem_of_getElem? (i := 59) rfl), lw_t2 (List.mem_of_getElem? (i := 60) rfl)⟩
theorem lw_p27 : lw_okq (⟨"BellRowsModel", "countDifferent", "()I"⟩, 9) := ⟨⟨by decide +kernel, by decide +kernel⟩, lw_t1 (List.mem_of_getElem? (i := 197) rfl), lw_t2 (List.mem_of_getElem? (i := 67) rfl), lw_t2 (List.mem_of_getElem? (i := 68) rfl)⟩
theorem lw_p28 : lw_okq (⟨"BellRowsModel", "share", "(II)Z"⟩, 9) := ⟨⟨by decide +kernel, by decide +kernel⟩, lw_t1 (List.mem_of_getElem? (i := 197) rfl), lw_t2 (List.mem_of_getElem? (i := 79) rfl), lw_t2 (List.mem_of_getElem? (i := 80) rfl)⟩
def lw_privs_2 : List (MethodName × Nat) := [(⟨"BellRows", "pairFalse", "(III)Z"⟩, 13), (⟨"BellRows", "greatest", "(II)I"⟩, 13), (⟨"BellRowsModel", "isChange", "(I)Z"⟩, 9), (⟨"BellRowsModel", "noCall", "(I)Z"⟩, 9), (⟨"BellRowsModel", "write", "()V"⟩, 9), (⟨"BellRowsModel", "round", "()V"⟩, 9), (⟨"BellRowsModel", "code", "()I"⟩, 9), (⟨"BellRowsModel", "ring", "(I)V"⟩, 9), (⟨"BellRowsModel", "exchange", "(I)V"⟩, 9), (⟨"BellRowsModel", "find", "(I)I"⟩, 9), (⟨"BellRowsModel", "noBell", "(I)Z"⟩, 9), (⟨"BellRowsModel", "countDifferent", "()I"⟩, 9), (⟨"BellRowsModel", "share", "(II)Z"⟩, 9)]
theorem lw_r2 : ∀ q ∈ lw_privs_2, lw_okq q := List.forall_mem_cons.mpr ⟨lw_p16, List.forall_mem_cons.mpr ⟨lw_p17, List.forall_mem_cons.mpr ⟨lw_p18, List.forall_mem_cons.mpr ⟨lw_p19, List.forall_mem_cons.mpr ⟨lw_p20, List.forall_mem_cons.mpr ⟨lw_p21, List.forall_mem_cons.mpr ⟨lw_p22, List.forall_mem_cons.mpr ⟨lw_p23, List.forall_mem_cons.mpr ⟨lw_p24, List.forall_mem_cons.mpr ⟨lw_p25, List.forall_mem_cons.mpr ⟨lw_p26, List.forall_mem_cons.mpr ⟨lw_p27, List.forall_mem_cons.mpr ⟨lw_p28, fun _ h => absurd h List.not_mem_nil⟩⟩⟩⟩⟩⟩⟩⟩⟩⟩⟩⟩⟩
def lw_privs : List (MethodName × Nat) := lw_privs_1 ++ (lw_privs_2)
def lw_tbl : List Cond := k2_sels lw_privs ++ tables_1
theorem lw_privs_ok : ∀ q ∈ lw_privs, lw_okq q := by
  show ∀ q ∈ lw_privs_1 ++ (lw_privs_2), lw_okq q
  exact List.forall_mem_append.mpr ⟨lw_r1, lw_r2⟩
-- ===== ONE list of words for every method: the tables' words that hold all through a run =====
def lw_all : List Cond := lw_tbl.filter goodWord
/-- a word of the tables by its place: claim/WORDS.tsv -/
theorem lw_w {w : Cond} (i : Nat) (h : lw_tbl[i]? = some w) (g : goodWord w = true) : w ∈ lw_all := List.mem_filter.mpr ⟨List.mem_of_getElem? h, g⟩
theorem lw_all_tbl {w : Cond} (h : w ∈ lw_all) : w ∈ lw_tbl := (List.mem_filter.mp h).1
theorem lw_self : GoodIn lw_all lw_all := fun w h => ⟨h, good_of_word (List.mem_filter.mp h).2⟩
/-- a class's field words, by their places -/
theorem lw_in (ws : List Cond) (ps : List Nat) (hp : ws = ps.filterMap (fun i => lw_tbl[i]?)) (hg : ws.all goodWord = true) : ∀ w ∈ ws, w ∈ lw_all := by
  intro w h
  have h1 := List.all_eq_true.mp hg w h
  rw [hp] at h
  obtain ⟨i, -, hi⟩ := List.mem_filterMap.mp h
  exact lw_w i hi h1
/-- the words of a contract for the method y with code b, L locals, answer r -/
abbrev ws_ (y : MethodName) (b : ByteArray) (L : Nat) (r : Option FieldType) : List Cond := Cond.code y b L r :: lw_all
theorem lw_meth {y : MethodName} {b : ByteArray} {L : Nat} {r : Option FieldType} (h : Cond.code y b L r ∈ lw_all) : GoodIn lw_all (ws_ y b L r) := by
  intro w hw
  rcases List.mem_cons.mp hw with e | e
  · rw [e]
    exact lw_self _ h
  · exact lw_self _ e
theorem lw_app {a c : List Cond} (ha : ∀ w ∈ a, w ∈ lw_all) (hc : GoodIn lw_all c) : GoodIn lw_all (a ++ c) := by
  intro w hw
  rcases List.mem_append.mp hw with e | e
  · exact lw_self w (ha w e)
  · exact hc w e
/-- what a call through an object asks: cwV n hts (lw_V ..) -/
theorem lw_V {own : String} {idx : Nat} {C : String} {y : MethodName} {b : ByteArray} {L : Nat} {r : Option FieldType} (h1 : Cond.methodLink own idx y ∈ lw_all) (h2 : Cond.instanceMethod y ∈ lw_all) (h3 : Cond.selects C y y ∈ lw_all) (h4 : Cond.initialized C ∈ lw_all) (h5 : Cond.code y b L r ∈ lw_all) : GoodIn lw_all (wsV own idx C y (ws_ y b L r)) := by
  refine lw_app ?_ (lw_meth h5)
  intro w hw
  simp only [List.mem_cons, List.not_mem_nil, or_false] at hw
  rcases hw with e | e | e | e
  · rw [e]; exact h1
  · rw [e]; exact h2
  · rw [e]; exact h3
  · rw [e]; exact h4
/-- what a static call asks: va_cwS n hts (lw_S ..) -/
theorem lw_S {own : String} {idx : Nat} {y : MethodName} {b : ByteArray} {L : Nat} {r : Option FieldType} (h1 : Cond.methodLink own idx y ∈ lw_all) (h2 : Cond.static y ∈ lw_all) (h3 : Cond.initialized y.cls ∈ lw_all) (h4 : Cond.code y b L r ∈ lw_all) : GoodIn lw_all (va_wsS own idx y (ws_ y b L r)) := by
  refine lw_app ?_ (lw_meth h4)
  intro w hw
  simp only [List.mem_cons, List.not_mem_nil, or_false] at hw
  rcases hw with e | e | e
  · rw [e]; exact h1
  · rw [e]; exact h2
  · rw [e]; exact h3
/-- the words of a contract for a method WITH HANDLERS (hh: its table) -/
abbrev wsW_ (y : MethodName) (b : ByteArray) (L : Nat) (r : Option FieldType) (hh : List (Nat × Nat × Nat × Nat)) : List Cond := Cond.codeWith y b L r hh :: lw_all
theorem lw_methW {y : MethodName} {b : ByteArray} {L : Nat} {r : Option FieldType} {hh : List (Nat × Nat × Nat × Nat)} (h : Cond.codeWith y b L r hh ∈ lw_all) : GoodIn lw_all (wsW_ y b L r hh) := by
  intro w hw
  rcases List.mem_cons.mp hw with e | e
  · rw [e]
    exact lw_self _ h
  · exact lw_self _ e
/-- any list of words by their places (lw_in), good -/
theorem lw_good {ws : List Cond} (h : ∀ w ∈ ws, w ∈ lw_all) : GoodIn lw_all ws := fun w hw => lw_self w (h w hw)
/-- what a call of a method with handlers asks: vx_cwVW n hts (lw_VW ..), vx_cwSW n hts (lw_SW ..) -/
theorem lw_VW {own : String} {idx : Nat} {C : String} {y : MethodName} {b : ByteArray} {L : Nat} {r : Option FieldType} {hh : List (Nat × Nat × Nat × Nat)} (h1 : Cond.methodLink own idx y ∈ lw_all) (h2 : Cond.instanceMethod y ∈ lw_all) (h3 : Cond.selects C y y ∈ lw_all) (h4 : Cond.initialized C ∈ lw_all) (h5 : Cond.codeWith y b L r hh ∈ lw_all) : GoodIn lw_all (wsV own idx C y (wsW_ y b L r hh)) := by
  refine lw_app ?_ (lw_methW h5)
  intro w hw
  simp only [List.mem_cons, List.not_mem_nil, or_false] at hw
  rcases hw with e | e | e | e
  · rw [e]; exact h1
  · rw [e]; exact h2
  · rw [e]; exact h3
  · rw [e]; exact h4
theorem lw_SW {own : String} {idx : Nat} {y : MethodName} {b : ByteArray} {L : Nat} {r : Option FieldType} {hh : List (Nat × Nat × Nat × Nat)} (h1 : Cond.methodLink own idx y ∈ lw_all) (h2 : Cond.static y ∈ lw_all) (h3 : Cond.initialized y.cls ∈ lw_all) (h4 : Cond.codeWith y b L r hh ∈ lw_all) : GoodIn lw_all (va_wsS own idx y (wsW_ y b L r hh)) := by
  refine lw_app ?_ (lw_methW h4)
  intro w hw
  simp only [List.mem_cons, List.not_mem_nil, or_false] at hw
  rcases hw with e | e | e
  · rw [e]; exact h1
  · rw [e]; exact h2
  · rw [e]; exact h3
/-- a word by its place in its run of the tables -/
theorem lw_at {r : List Cond} (hr : ∀ w ∈ r, w ∈ lw_tbl) {w : Cond} (i : Nat) (h : r[i]? = some w) : w ∈ lw_tbl := hr w (List.mem_of_getElem? h)
theorem lw_g {w : Cond} (h : w ∈ lw_tbl) (g : goodWord w = true) : w ∈ lw_all := List.mem_filter.mpr ⟨h, g⟩
theorem lw_ms : ∀ w ∈ k2_sels lw_privs, w ∈ lw_tbl := fun w h => show w ∈ k2_sels lw_privs ++ tables_1 from List.mem_append_left _ h
theorem lw_m1 : ∀ w ∈ tables_1_1, w ∈ lw_tbl := fun w h => show w ∈ k2_sels lw_privs ++ tables_1 from List.mem_append_right (k2_sels lw_privs) (show w ∈ tables_1 from List.mem_append_left _ h)
theorem lw_m2 : ∀ w ∈ tables_1_2, w ∈ lw_tbl := fun w h => show w ∈ k2_sels lw_privs ++ tables_1 from List.mem_append_right (k2_sels lw_privs) (show w ∈ tables_1 from List.mem_append_right _ h)
theorem qs0 : (Cond.selects "BellRows" ⟨"BellRows", "isChange", "(I)Z"⟩ ⟨"BellRows", "isChange", "(I)Z"⟩) ∈ lw_all := lw_g (lw_at lw_ms 0 rfl) rfl
theorem qs1 : (Cond.selects "BellRows" ⟨"BellRows", "badCall", "(I)Z"⟩ ⟨"BellRows", "badCall", "(I)Z"⟩) ∈ lw_all := lw_g (lw_at lw_ms 1 rfl) rfl
theorem qs2 : (Cond.selects "BellRows" ⟨"BellRows", "noRow", "(I)Z"⟩ ⟨"BellRows", "noRow", "(I)Z"⟩) ∈ lw_all := lw_g (lw_at lw_ms 2 rfl) rfl
theorem qs3 : (Cond.selects "BellRows" ⟨"BellRows", "findHeads", "()V"⟩ ⟨"BellRows", "findHeads", "()V"⟩) ∈ lw_all := lw_g (lw_at lw_ms 3 rfl) rfl
theorem qs4 : (Cond.selects "BellRows" ⟨"BellRows", "find", "()V"⟩ ⟨"BellRows", "find", "()V"⟩) ∈ lw_all := lw_g (lw_at lw_ms 4 rfl) rfl
theorem qs5 : (Cond.selects "BellRows" ⟨"BellRows", "findOffsets", "(I)V"⟩ ⟨"BellRows", "findOffsets", "(I)V"⟩) ∈ lw_all := lw_g (lw_at lw_ms 5 rfl) rfl
theorem qs6 : (Cond.selects "BellRows" ⟨"BellRows", "step", "(II)V"⟩ ⟨"BellRows", "step", "(II)V"⟩) ∈ lw_all := lw_g (lw_at lw_ms 6 rfl) rfl
theorem qs7 : (Cond.selects "BellRows" ⟨"BellRows", "offsetAt", "(II)I"⟩ ⟨"BellRows", "offsetAt", "(II)I"⟩) ∈ lw_all := lw_g (lw_at lw_ms 7 rfl) rfl
theorem qs8 : (Cond.selects "BellRows" ⟨"BellRows", "findFalse", "(II)V"⟩ ⟨"BellRows", "findFalse", "(II)V"⟩) ∈ lw_all := lw_g (lw_at lw_ms 8 rfl) rfl
theorem qs9 : (Cond.selects "BellRows" ⟨"BellRows", "rankMade", "()I"⟩ ⟨"BellRows", "rankMade", "()I"⟩) ∈ lw_all := lw_g (lw_at lw_ms 9 rfl) rfl
theorem qs10 : (Cond.selects "BellRows" ⟨"BellRows", "bellAt", "(II)I"⟩ ⟨"BellRows", "bellAt", "(II)I"⟩) ∈ lw_all := lw_g (lw_at lw_ms 10 rfl) rfl
theorem qs11 : (Cond.selects "BellRows" ⟨"BellRows", "allTrue", "()Z"⟩ ⟨"BellRows", "allTrue", "()Z"⟩) ∈ lw_all := lw_g (lw_at lw_ms 11 rfl) rfl
theorem qs12 : (Cond.selects "BellRows" ⟨"BellRows", "aloneFalse", "(I)Z"⟩ ⟨"BellRows", "aloneFalse", "(I)Z"⟩) ∈ lw_all := lw_g (lw_at lw_ms 12 rfl) rfl
theorem qs13 : (Cond.selects "BellRows" ⟨"BellRows", "clearMet", "()V"⟩ ⟨"BellRows", "clearMet", "()V"⟩) ∈ lw_all := lw_g (lw_at lw_ms 13 rfl) rfl
theorem qs14 : (Cond.selects "BellRows" ⟨"BellRows", "meetMade", "()Z"⟩ ⟨"BellRows", "meetMade", "()Z"⟩) ∈ lw_all := lw_g (lw_at lw_ms 14 rfl) rfl
theorem qs15 : (Cond.selects "BellRows" ⟨"BellRows", "countFalse", "()I"⟩ ⟨"BellRows", "countFalse", "()I"⟩) ∈ lw_all := lw_g (lw_at lw_ms 15 rfl) rfl
theorem qs16 : (Cond.selects "BellRows" ⟨"BellRows", "pairFalse", "(III)Z"⟩ ⟨"BellRows", "pairFalse", "(III)Z"⟩) ∈ lw_all := lw_g (lw_at lw_ms 16 rfl) rfl
theorem qs17 : (Cond.selects "BellRows" ⟨"BellRows", "greatest", "(II)I"⟩ ⟨"BellRows", "greatest", "(II)I"⟩) ∈ lw_all := lw_g (lw_at lw_ms 17 rfl) rfl
theorem qs18 : (Cond.selects "BellRowsModel" ⟨"BellRowsModel", "isChange", "(I)Z"⟩ ⟨"BellRowsModel", "isChange", "(I)Z"⟩) ∈ lw_all := lw_g (lw_at lw_ms 18 rfl) rfl
theorem qs19 : (Cond.selects "BellRowsModel" ⟨"BellRowsModel", "noCall", "(I)Z"⟩ ⟨"BellRowsModel", "noCall", "(I)Z"⟩) ∈ lw_all := lw_g (lw_at lw_ms 19 rfl) rfl
theorem qs20 : (Cond.selects "BellRowsModel" ⟨"BellRowsModel", "write", "()V"⟩ ⟨"BellRowsModel", "write", "()V"⟩) ∈ lw_all := lw_g (lw_at lw_ms 20 rfl) rfl
theorem qs21 : (Cond.selects "BellRowsModel" ⟨"BellRowsModel", "round", "()V"⟩ ⟨"BellRowsModel", "round", "()V"⟩) ∈ lw_all := lw_g (lw_at lw_ms 21 rfl) rfl
theorem qs22 : (Cond.selects "BellRowsModel" ⟨"BellRowsModel", "code", "()I"⟩ ⟨"BellRowsModel", "code", "()I"⟩) ∈ lw_all := lw_g (lw_at lw_ms 22 rfl) rfl
theorem qs23 : (Cond.selects "BellRowsModel" ⟨"BellRowsModel", "ring", "(I)V"⟩ ⟨"BellRowsModel", "ring", "(I)V"⟩) ∈ lw_all := lw_g (lw_at lw_ms 23 rfl) rfl
theorem qs24 : (Cond.selects "BellRowsModel" ⟨"BellRowsModel", "exchange", "(I)V"⟩ ⟨"BellRowsModel", "exchange", "(I)V"⟩) ∈ lw_all := lw_g (lw_at lw_ms 24 rfl) rfl
theorem qs25 : (Cond.selects "BellRowsModel" ⟨"BellRowsModel", "find", "(I)I"⟩ ⟨"BellRowsModel", "find", "(I)I"⟩) ∈ lw_all := lw_g (lw_at lw_ms 25 rfl) rfl
theorem qs26 : (Cond.selects "BellRowsModel" ⟨"BellRowsModel", "noBell", "(I)Z"⟩ ⟨"BellRowsModel", "noBell", "(I)Z"⟩) ∈ lw_all := lw_g (lw_at lw_ms 26 rfl) rfl
theorem qs27 : (Cond.selects "BellRowsModel" ⟨"BellRowsModel", "countDifferent", "()I"⟩ ⟨"BellRowsModel", "countDifferent", "()I"⟩) ∈ lw_all := lw_g (lw_at lw_ms 27 rfl) rfl
theorem qs28 : (Cond.selects "BellRowsModel" ⟨"BellRowsModel", "share", "(II)Z"⟩ ⟨"BellRowsModel", "share", "(II)Z"⟩) ∈ lw_all := lw_g (lw_at lw_ms 28 rfl) rfl
end
section
set_option maxRecDepth 100000
/-! BellRows -/
def RX1 : String := "BellRows"
def TX1 : u_T := fun k => match k with
  | 0 => ("BellRows", "n", "I", true)
  | 1 => ("BellRows", "size", "I", false)
  | 2 => ("BellRows", "method", "[B", true)
  | 3 => ("BellRows", "callChange", "[B", true)
  | 4 => ("BellRows", "count", "I", false)
  | 5 => ("BellRows", "calls", "[B", true)
  | 6 => ("BellRows", "known", "Z", false)
  | 7 => ("BellRows", "offset", "[B", true)
  | 8 => ("BellRows", "head", "[B", true)
  | 9 => ("BellRows", "falseSet", "[I", true)
  | 10 => ("BellRows", "met", "[I", true)
  | 11 => ("BellRows", "inverse", "[B", true)
  | _ => ("BellRows", "made", "[B", true)
def tyX1 : Nat → FieldType := fun k => match k with
  | 0 => .int
  | 1 => .int
  | 2 => .array .byte
  | 3 => .array .byte
  | 4 => .int
  | 5 => .array .byte
  | 6 => .boolean
  | 7 => .array .byte
  | 8 => .array .byte
  | 9 => .array .int
  | 10 => .array .int
  | 11 => .array .byte
  | _ => .array .byte
abbrev wsX10 : List Cond := u_ws RX1 TX1 13
set_option maxRecDepth 100000 in
theorem nmX1 : ∀ a, a < 13 → ∀ b, b < 13 → a ≠ b → (TX1 a).2.1 ≠ (TX1 b).2.1 := by decide +kernel
set_option maxRecDepth 100000 in
theorem tyX1_ok : ∀ k, k < 13 → parseFieldDescriptor (TX1 k).2.2.1 = some (tyX1 k) := by decide +kernel
abbrev cX1_init : ByteArray := prog_1_method_1_code
def yX1_init : MethodName := ⟨RX1, "<init>", "(I)V"⟩
abbrev cX1_change : ByteArray := prog_1_method_3_code
def yX1_change : MethodName := ⟨RX1, "change", "(I)I"⟩
abbrev cX1_isChange : ByteArray := prog_1_method_2_code
def yX1_isChange : MethodName := ⟨RX1, "isChange", "(I)Z"⟩
abbrev cX1_drop : ByteArray := prog_1_method_4_code
def yX1_drop : MethodName := ⟨RX1, "drop", "()I"⟩
abbrev cX1_call : ByteArray := prog_1_method_5_code
def yX1_call : MethodName := ⟨RX1, "call", "(II)I"⟩
abbrev cX1_lead : ByteArray := prog_1_method_7_code
def yX1_lead : MethodName := ⟨RX1, "lead", "(I)I"⟩
abbrev cX1_badCall : ByteArray := prog_1_method_6_code
def yX1_badCall : MethodName := ⟨RX1, "badCall", "(I)Z"⟩
abbrev cX1_back : ByteArray := prog_1_method_8_code
def yX1_back : MethodName := ⟨RX1, "back", "()I"⟩
abbrev cX1_turn : ByteArray := prog_1_method_9_code
def yX1_turn : MethodName := ⟨RX1, "turn", "()I"⟩
abbrev cX1_last : ByteArray := prog_1_method_18_code
def yX1_last : MethodName := ⟨RX1, "last", "()I"⟩
abbrev cX1_row : ByteArray := prog_1_method_20_code
def yX1_row : MethodName := ⟨RX1, "row", "(I)I"⟩
abbrev cX1_noRow : ByteArray := prog_1_method_19_code
def yX1_noRow : MethodName := ⟨RX1, "noRow", "(I)Z"⟩
abbrev cX1_findHeads : ByteArray := prog_1_method_16_code
def yX1_findHeads : MethodName := ⟨RX1, "findHeads", "()V"⟩
abbrev cX1_find : ByteArray := prog_1_method_15_code
def yX1_find : MethodName := ⟨RX1, "find", "()V"⟩
abbrev cX1_findOffsets : ByteArray := prog_1_method_12_code
def yX1_findOffsets : MethodName := ⟨RX1, "findOffsets", "(I)V"⟩
abbrev cX1_step : ByteArray := prog_1_method_11_code
def yX1_step : MethodName := ⟨RX1, "step", "(II)V"⟩
abbrev cX1_offsetAt : ByteArray := prog_1_method_10_code
def yX1_offsetAt : MethodName := ⟨RX1, "offsetAt", "(II)I"⟩
abbrev cX1_findFalse : ByteArray := prog_1_method_14_code
def yX1_findFalse : MethodName := ⟨RX1, "findFalse", "(II)V"⟩
abbrev cX1_rankMade : ByteArray := prog_1_method_13_code
def yX1_rankMade : MethodName := ⟨RX1, "rankMade", "()I"⟩
abbrev cX1_bellAt : ByteArray := prog_1_method_17_code
def yX1_bellAt : MethodName := ⟨RX1, "bellAt", "(II)I"⟩
abbrev cX1_place : ByteArray := prog_1_method_21_code
def yX1_place : MethodName := ⟨RX1, "place", "(II)I"⟩
abbrev cX1_isTrue : ByteArray := prog_1_method_28_code
def yX1_isTrue : MethodName := ⟨RX1, "isTrue", "()I"⟩
abbrev cX1_allTrue : ByteArray := prog_1_method_27_code
def yX1_allTrue : MethodName := ⟨RX1, "allTrue", "()Z"⟩
abbrev cX1_aloneFalse : ByteArray := prog_1_method_23_code
def yX1_aloneFalse : MethodName := ⟨RX1, "aloneFalse", "(I)Z"⟩
abbrev cX1_clearMet : ByteArray := prog_1_method_24_code
def yX1_clearMet : MethodName := ⟨RX1, "clearMet", "()V"⟩
abbrev cX1_meetMade : ByteArray := prog_1_method_25_code
def yX1_meetMade : MethodName := ⟨RX1, "meetMade", "()Z"⟩
abbrev cX1_countFalse : ByteArray := prog_1_method_26_code
def yX1_countFalse : MethodName := ⟨RX1, "countFalse", "()I"⟩
abbrev cX1_pairFalse : ByteArray := prog_1_method_22_code
def yX1_pairFalse : MethodName := ⟨RX1, "pairFalse", "(III)Z"⟩
abbrev cX1_different : ByteArray := prog_1_method_29_code
def yX1_different : MethodName := ⟨RX1, "different", "()I"⟩
abbrev cX1_falsePairs : ByteArray := prog_1_method_30_code
def yX1_falsePairs : MethodName := ⟨RX1, "falsePairs", "()I"⟩
abbrev cX1_falseAlone : ByteArray := prog_1_method_31_code
def yX1_falseAlone : MethodName := ⟨RX1, "falseAlone", "(I)I"⟩
abbrev cX1_order : ByteArray := prog_1_method_33_code
def yX1_order : MethodName := ⟨RX1, "order", "(I)I"⟩
abbrev cX1_greatest : ByteArray := prog_1_method_32_code
def yX1_greatest : MethodName := ⟨RX1, "greatest", "(II)I"⟩
abbrev cX1_home : ByteArray := prog_1_method_34_code
def yX1_home : MethodName := ⟨RX1, "home", "()I"⟩
abbrev cX1_leads : ByteArray := prog_1_method_35_code
def yX1_leads : MethodName := ⟨RX1, "leads", "(I)I"⟩
abbrev cX1_choices : ByteArray := prog_1_method_36_code
def yX1_choices : MethodName := ⟨RX1, "choices", "()I"⟩
theorem q30 : (Jvm.Cond.initialized "BellRows") ∈ lw_all := lw_g (lw_at lw_m1 1 rfl) rfl
theorem q33 : (Jvm.Cond.instantiable "BellRows" (13 : Nat)) ∈ lw_all := lw_g (lw_at lw_m1 4 rfl) rfl
theorem q35 : (Jvm.Cond.instanceMethod ({ cls := "BellRows", name := "<init>", desc := "(I)V" } : Jvm.MethodName)) ∈ lw_all := lw_g (lw_at lw_m1 6 rfl) rfl
theorem q36 : (Jvm.Cond.code ({ cls := "BellRows", name := "<init>", desc := "(I)V" } : Jvm.MethodName) prog_1_method_1_code (2 : Nat) (Option.none : Option Jvm.ClassFile.FieldType)) ∈ lw_all := lw_g (lw_at lw_m1 7 rfl) rfl
theorem q37 : (Jvm.Cond.methodLink "BellRows" (1 : Nat) ({ cls := "java/lang/Object", name := "<init>", desc := "()V" } : Jvm.MethodName)) ∈ lw_all := lw_g (lw_at lw_m1 8 rfl) rfl
theorem q40 : (Jvm.Cond.fieldLink "BellRows" (38 : Nat) "BellRows" "n" "I") ∈ lw_all := lw_g (lw_at lw_m1 11 rfl) rfl
theorem q41 : (Jvm.Cond.fieldLink "BellRows" (42 : Nat) "BellRows" "size" "I") ∈ lw_all := lw_g (lw_at lw_m1 12 rfl) rfl
theorem q42 : (Jvm.Cond.fieldLink "BellRows" (7 : Nat) "BellRows" "method" "[B") ∈ lw_all := lw_g (lw_at lw_m1 13 rfl) rfl
theorem q43 : (Jvm.Cond.fieldLink "BellRows" (13 : Nat) "BellRows" "callChange" "[B") ∈ lw_all := lw_g (lw_at lw_m1 14 rfl) rfl
theorem q44 : (Jvm.Cond.fieldLink "BellRows" (56 : Nat) "BellRows" "count" "I") ∈ lw_all := lw_g (lw_at lw_m1 15 rfl) rfl
theorem q45 : (Jvm.Cond.fieldLink "BellRows" (16 : Nat) "BellRows" "calls" "[B") ∈ lw_all := lw_g (lw_at lw_m1 16 rfl) rfl
theorem q46 : (Jvm.Cond.fieldLink "BellRows" (49 : Nat) "BellRows" "known" "Z") ∈ lw_all := lw_g (lw_at lw_m1 17 rfl) rfl
theorem q47 : (Jvm.Cond.fieldLink "BellRows" (19 : Nat) "BellRows" "offset" "[B") ∈ lw_all := lw_g (lw_at lw_m1 18 rfl) rfl
theorem q48 : (Jvm.Cond.fieldLink "BellRows" (22 : Nat) "BellRows" "head" "[B") ∈ lw_all := lw_g (lw_at lw_m1 19 rfl) rfl
theorem q49 : (Jvm.Cond.fieldLink "BellRows" (25 : Nat) "BellRows" "falseSet" "[I") ∈ lw_all := lw_g (lw_at lw_m1 20 rfl) rfl
theorem q50 : (Jvm.Cond.fieldLink "BellRows" (29 : Nat) "BellRows" "met" "[I") ∈ lw_all := lw_g (lw_at lw_m1 21 rfl) rfl
theorem q51 : (Jvm.Cond.fieldLink "BellRows" (32 : Nat) "BellRows" "inverse" "[B") ∈ lw_all := lw_g (lw_at lw_m1 22 rfl) rfl
theorem q52 : (Jvm.Cond.fieldLink "BellRows" (35 : Nat) "BellRows" "made" "[B") ∈ lw_all := lw_g (lw_at lw_m1 23 rfl) rfl
theorem q53 : (Jvm.Cond.laysFinal "BellRows" "BellRows" "n" "I") ∈ lw_all := lw_g (lw_at lw_m1 24 rfl) rfl
theorem q54 : (Jvm.Cond.soleField "BellRows" "n") ∈ lw_all := lw_g (lw_at lw_m1 25 rfl) rfl
theorem q55 : (Jvm.Cond.lays "BellRows" "BellRows" "size" "I") ∈ lw_all := lw_g (lw_at lw_m1 26 rfl) rfl
theorem q56 : (Jvm.Cond.soleField "BellRows" "size") ∈ lw_all := lw_g (lw_at lw_m1 27 rfl) rfl
theorem q57 : (Jvm.Cond.laysFinal "BellRows" "BellRows" "method" "[B") ∈ lw_all := lw_g (lw_at lw_m1 28 rfl) rfl
theorem q58 : (Jvm.Cond.soleField "BellRows" "method") ∈ lw_all := lw_g (lw_at lw_m1 29 rfl) rfl
theorem q59 : (Jvm.Cond.laysFinal "BellRows" "BellRows" "callChange" "[B") ∈ lw_all := lw_g (lw_at lw_m1 30 rfl) rfl
theorem q60 : (Jvm.Cond.soleField "BellRows" "callChange") ∈ lw_all := lw_g (lw_at lw_m1 31 rfl) rfl
theorem q61 : (Jvm.Cond.lays "BellRows" "BellRows" "count" "I") ∈ lw_all := lw_g (lw_at lw_m1 32 rfl) rfl
theorem q62 : (Jvm.Cond.soleField "BellRows" "count") ∈ lw_all := lw_g (lw_at lw_m1 33 rfl) rfl
theorem q63 : (Jvm.Cond.laysFinal "BellRows" "BellRows" "calls" "[B") ∈ lw_all := lw_g (lw_at lw_m1 34 rfl) rfl
theorem q64 : (Jvm.Cond.soleField "BellRows" "calls") ∈ lw_all := lw_g (lw_at lw_m1 35 rfl) rfl
theorem q65 : (Jvm.Cond.lays "BellRows" "BellRows" "known" "Z") ∈ lw_all := lw_g (lw_at lw_m1 36 rfl) rfl
theorem q66 : (Jvm.Cond.soleField "BellRows" "known") ∈ lw_all := lw_g (lw_at lw_m1 37 rfl) rfl
theorem q67 : (Jvm.Cond.laysFinal "BellRows" "BellRows" "offset" "[B") ∈ lw_all := lw_g (lw_at lw_m1 38 rfl) rfl
theorem q68 : (Jvm.Cond.soleField "BellRows" "offset") ∈ lw_all := lw_g (lw_at lw_m1 39 rfl) rfl
theorem q69 : (Jvm.Cond.laysFinal "BellRows" "BellRows" "head" "[B") ∈ lw_all := lw_g (lw_at lw_m1 40 rfl) rfl
theorem q70 : (Jvm.Cond.soleField "BellRows" "head") ∈ lw_all := lw_g (lw_at lw_m1 41 rfl) rfl
theorem q71 : (Jvm.Cond.laysFinal "BellRows" "BellRows" "falseSet" "[I") ∈ lw_all := lw_g (lw_at lw_m1 42 rfl) rfl
theorem q72 : (Jvm.Cond.soleField "BellRows" "falseSet") ∈ lw_all := lw_g (lw_at lw_m1 43 rfl) rfl
theorem q73 : (Jvm.Cond.laysFinal "BellRows" "BellRows" "met" "[I") ∈ lw_all := lw_g (lw_at lw_m1 44 rfl) rfl
theorem q74 : (Jvm.Cond.soleField "BellRows" "met") ∈ lw_all := lw_g (lw_at lw_m1 45 rfl) rfl
theorem q75 : (Jvm.Cond.laysFinal "BellRows" "BellRows" "inverse" "[B") ∈ lw_all := lw_g (lw_at lw_m1 46 rfl) rfl
theorem q76 : (Jvm.Cond.soleField "BellRows" "inverse") ∈ lw_all := lw_g (lw_at lw_m1 47 rfl) rfl
theorem q77 : (Jvm.Cond.laysFinal "BellRows" "BellRows" "made" "[B") ∈ lw_all := lw_g (lw_at lw_m1 48 rfl) rfl
theorem q78 : (Jvm.Cond.soleField "BellRows" "made") ∈ lw_all := lw_g (lw_at lw_m1 49 rfl) rfl
theorem q79 : (Jvm.Cond.superclass "BellRows" "java/lang/Object") ∈ lw_all := lw_g (lw_at lw_m1 50 rfl) rfl
theorem q83 : (Jvm.Cond.instanceMethod ({ cls := "BellRows", name := "change", desc := "(I)I" } : Jvm.MethodName)) ∈ lw_all := lw_g (lw_at lw_m1 54 rfl) rfl
theorem q84 : (Jvm.Cond.selects "BellRows" ({ cls := "BellRows", name := "change", desc := "(I)I" } : Jvm.MethodName) ({ cls := "BellRows", name := "change", desc := "(I)I" } : Jvm.MethodName)) ∈ lw_all := lw_g (lw_at lw_m1 55 rfl) rfl
theorem q85 : (Jvm.Cond.code ({ cls := "BellRows", name := "change", desc := "(I)I" } : Jvm.MethodName) prog_1_method_3_code (3 : Nat) (Option.some Jvm.ClassFile.FieldType.int)) ∈ lw_all := lw_g (lw_at lw_m1 56 rfl) rfl
theorem q86 : (Jvm.Cond.methodLink "BellRows" (45 : Nat) ({ cls := "BellRows", name := "isChange", desc := "(I)Z" } : Jvm.MethodName)) ∈ lw_all := lw_g (lw_at lw_m1 57 rfl) rfl
theorem q87 : (Jvm.Cond.privateMethod ({ cls := "BellRows", name := "isChange", desc := "(I)Z" } : Jvm.MethodName)) ∈ lw_tbl := lw_at lw_m1 58 rfl
theorem q88 : (Jvm.Cond.instanceMethod ({ cls := "BellRows", name := "isChange", desc := "(I)Z" } : Jvm.MethodName)) ∈ lw_all := lw_g (lw_at lw_m1 59 rfl) rfl
theorem q89 : (Jvm.Cond.code ({ cls := "BellRows", name := "isChange", desc := "(I)Z" } : Jvm.MethodName) prog_1_method_2_code (4 : Nat) (Option.some Jvm.ClassFile.FieldType.boolean)) ∈ lw_all := lw_g (lw_at lw_m1 60 rfl) rfl
theorem q91 : (Jvm.Cond.instanceMethod ({ cls := "BellRows", name := "drop", desc := "()I" } : Jvm.MethodName)) ∈ lw_all := lw_g (lw_at lw_m1 62 rfl) rfl
theorem q92 : (Jvm.Cond.selects "BellRows" ({ cls := "BellRows", name := "drop", desc := "()I" } : Jvm.MethodName) ({ cls := "BellRows", name := "drop", desc := "()I" } : Jvm.MethodName)) ∈ lw_all := lw_g (lw_at lw_m1 63 rfl) rfl
theorem q93 : (Jvm.Cond.code ({ cls := "BellRows", name := "drop", desc := "()I" } : Jvm.MethodName) prog_1_method_4_code (3 : Nat) (Option.some Jvm.ClassFile.FieldType.int)) ∈ lw_all := lw_g (lw_at lw_m1 64 rfl) rfl
theorem q95 : (Jvm.Cond.instanceMethod ({ cls := "BellRows", name := "call", desc := "(II)I" } : Jvm.MethodName)) ∈ lw_all := lw_g (lw_at lw_m1 66 rfl) rfl
theorem q96 : (Jvm.Cond.selects "BellRows" ({ cls := "BellRows", name := "call", desc := "(II)I" } : Jvm.MethodName) ({ cls := "BellRows", name := "call", desc := "(II)I" } : Jvm.MethodName)) ∈ lw_all := lw_g (lw_at lw_m1 67 rfl) rfl
theorem q97 : (Jvm.Cond.code ({ cls := "BellRows", name := "call", desc := "(II)I" } : Jvm.MethodName) prog_1_method_5_code (5 : Nat) (Option.some Jvm.ClassFile.FieldType.int)) ∈ lw_all := lw_g (lw_at lw_m1 68 rfl) rfl
theorem q99 : (Jvm.Cond.instanceMethod ({ cls := "BellRows", name := "lead", desc := "(I)I" } : Jvm.MethodName)) ∈ lw_all := lw_g (lw_at lw_m1 70 rfl) rfl
theorem q100 : (Jvm.Cond.selects "BellRows" ({ cls := "BellRows", name := "lead", desc := "(I)I" } : Jvm.MethodName) ({ cls := "BellRows", name := "lead", desc := "(I)I" } : Jvm.MethodName)) ∈ lw_all := lw_g (lw_at lw_m1 71 rfl) rfl
theorem q101 : (Jvm.Cond.code ({ cls := "BellRows", name := "lead", desc := "(I)I" } : Jvm.MethodName) prog_1_method_7_code (2 : Nat) (Option.some Jvm.ClassFile.FieldType.int)) ∈ lw_all := lw_g (lw_at lw_m1 72 rfl) rfl
theorem q102 : (Jvm.Cond.methodLink "BellRows" (53 : Nat) ({ cls := "BellRows", name := "badCall", desc := "(I)Z" } : Jvm.MethodName)) ∈ lw_all := lw_g (lw_at lw_m1 73 rfl) rfl
theorem q103 : (Jvm.Cond.privateMethod ({ cls := "BellRows", name := "badCall", desc := "(I)Z" } : Jvm.MethodName)) ∈ lw_tbl := lw_at lw_m1 74 rfl
theorem q104 : (Jvm.Cond.instanceMethod ({ cls := "BellRows", name := "badCall", desc := "(I)Z" } : Jvm.MethodName)) ∈ lw_all := lw_g (lw_at lw_m1 75 rfl) rfl
theorem q105 : (Jvm.Cond.code ({ cls := "BellRows", name := "badCall", desc := "(I)Z" } : Jvm.MethodName) prog_1_method_6_code (2 : Nat) (Option.some Jvm.ClassFile.FieldType.boolean)) ∈ lw_all := lw_g (lw_at lw_m1 76 rfl) rfl
theorem q107 : (Jvm.Cond.instanceMethod ({ cls := "BellRows", name := "back", desc := "()I" } : Jvm.MethodName)) ∈ lw_all := lw_g (lw_at lw_m1 78 rfl) rfl
theorem q108 : (Jvm.Cond.selects "BellRows" ({ cls := "BellRows", name := "back", desc := "()I" } : Jvm.MethodName) ({ cls := "BellRows", name := "back", desc := "()I" } : Jvm.MethodName)) ∈ lw_all := lw_g (lw_at lw_m1 79 rfl) rfl
theorem q109 : (Jvm.Cond.code ({ cls := "BellRows", name := "back", desc := "()I" } : Jvm.MethodName) prog_1_method_8_code (1 : Nat) (Option.some Jvm.ClassFile.FieldType.int)) ∈ lw_all := lw_g (lw_at lw_m1 80 rfl) rfl
theorem q111 : (Jvm.Cond.instanceMethod ({ cls := "BellRows", name := "turn", desc := "()I" } : Jvm.MethodName)) ∈ lw_all := lw_g (lw_at lw_m1 82 rfl) rfl
theorem q112 : (Jvm.Cond.selects "BellRows" ({ cls := "BellRows", name := "turn", desc := "()I" } : Jvm.MethodName) ({ cls := "BellRows", name := "turn", desc := "()I" } : Jvm.MethodName)) ∈ lw_all := lw_g (lw_at lw_m1 83 rfl) rfl
theorem q113 : (Jvm.Cond.code ({ cls := "BellRows", name := "turn", desc := "()I" } : Jvm.MethodName) prog_1_method_9_code (3 : Nat) (Option.some Jvm.ClassFile.FieldType.int)) ∈ lw_all := lw_g (lw_at lw_m1 84 rfl) rfl
theorem q115 : (Jvm.Cond.instanceMethod ({ cls := "BellRows", name := "last", desc := "()I" } : Jvm.MethodName)) ∈ lw_all := lw_g (lw_at lw_m1 86 rfl) rfl
theorem q116 : (Jvm.Cond.selects "BellRows" ({ cls := "BellRows", name := "last", desc := "()I" } : Jvm.MethodName) ({ cls := "BellRows", name := "last", desc := "()I" } : Jvm.MethodName)) ∈ lw_all := lw_g (lw_at lw_m1 87 rfl) rfl
theorem q117 : (Jvm.Cond.code ({ cls := "BellRows", name := "last", desc := "()I" } : Jvm.MethodName) prog_1_method_18_code (1 : Nat) (Option.some Jvm.ClassFile.FieldType.int)) ∈ lw_all := lw_g (lw_at lw_m1 88 rfl) rfl
theorem q119 : (Jvm.Cond.instanceMethod ({ cls := "BellRows", name := "row", desc := "(I)I" } : Jvm.MethodName)) ∈ lw_all := lw_g (lw_at lw_m1 90 rfl) rfl
theorem q120 : (Jvm.Cond.selects "BellRows" ({ cls := "BellRows", name := "row", desc := "(I)I" } : Jvm.MethodName) ({ cls := "BellRows", name := "row", desc := "(I)I" } : Jvm.MethodName)) ∈ lw_all := lw_g (lw_at lw_m1 91 rfl) rfl
theorem q121 : (Jvm.Cond.code ({ cls := "BellRows", name := "row", desc := "(I)I" } : Jvm.MethodName) prog_1_method_20_code (5 : Nat) (Option.some Jvm.ClassFile.FieldType.int)) ∈ lw_all := lw_g (lw_at lw_m1 92 rfl) rfl
theorem q122 : (Jvm.Cond.methodLink "BellRows" (81 : Nat) ({ cls := "BellRows", name := "noRow", desc := "(I)Z" } : Jvm.MethodName)) ∈ lw_all := lw_g (lw_at lw_m1 93 rfl) rfl
theorem q123 : (Jvm.Cond.privateMethod ({ cls := "BellRows", name := "noRow", desc := "(I)Z" } : Jvm.MethodName)) ∈ lw_tbl := lw_at lw_m1 94 rfl
theorem q124 : (Jvm.Cond.instanceMethod ({ cls := "BellRows", name := "noRow", desc := "(I)Z" } : Jvm.MethodName)) ∈ lw_all := lw_g (lw_at lw_m1 95 rfl) rfl
theorem q125 : (Jvm.Cond.code ({ cls := "BellRows", name := "noRow", desc := "(I)Z" } : Jvm.MethodName) prog_1_method_19_code (2 : Nat) (Option.some Jvm.ClassFile.FieldType.boolean)) ∈ lw_all := lw_g (lw_at lw_m1 96 rfl) rfl
theorem q126 : (Jvm.Cond.methodLink "BellRows" (84 : Nat) ({ cls := "BellRows", name := "findHeads", desc := "()V" } : Jvm.MethodName)) ∈ lw_all := lw_g (lw_at lw_m1 97 rfl) rfl
theorem q127 : (Jvm.Cond.privateMethod ({ cls := "BellRows", name := "findHeads", desc := "()V" } : Jvm.MethodName)) ∈ lw_tbl := lw_at lw_m1 98 rfl
theorem q128 : (Jvm.Cond.instanceMethod ({ cls := "BellRows", name := "findHeads", desc := "()V" } : Jvm.MethodName)) ∈ lw_all := lw_g (lw_at lw_m1 99 rfl) rfl
theorem q129 : (Jvm.Cond.code ({ cls := "BellRows", name := "findHeads", desc := "()V" } : Jvm.MethodName) prog_1_method_16_code (4 : Nat) (Option.none : Option Jvm.ClassFile.FieldType)) ∈ lw_all := lw_g (lw_at lw_m1 100 rfl) rfl
theorem q130 : (Jvm.Cond.methodLink "BellRows" (78 : Nat) ({ cls := "BellRows", name := "find", desc := "()V" } : Jvm.MethodName)) ∈ lw_all := lw_g (lw_at lw_m1 101 rfl) rfl
theorem q131 : (Jvm.Cond.privateMethod ({ cls := "BellRows", name := "find", desc := "()V" } : Jvm.MethodName)) ∈ lw_tbl := lw_at lw_m1 102 rfl
theorem q132 : (Jvm.Cond.instanceMethod ({ cls := "BellRows", name := "find", desc := "()V" } : Jvm.MethodName)) ∈ lw_all := lw_g (lw_at lw_m1 103 rfl) rfl
theorem q133 : (Jvm.Cond.code ({ cls := "BellRows", name := "find", desc := "()V" } : Jvm.MethodName) prog_1_method_15_code (2 : Nat) (Option.none : Option Jvm.ClassFile.FieldType)) ∈ lw_all := lw_g (lw_at lw_m1 104 rfl) rfl
theorem q134 : (Jvm.Cond.methodLink "BellRows" (71 : Nat) ({ cls := "BellRows", name := "findOffsets", desc := "(I)V" } : Jvm.MethodName)) ∈ lw_all := lw_g (lw_at lw_m1 105 rfl) rfl
theorem q135 : (Jvm.Cond.privateMethod ({ cls := "BellRows", name := "findOffsets", desc := "(I)V" } : Jvm.MethodName)) ∈ lw_tbl := lw_at lw_m1 106 rfl
theorem q136 : (Jvm.Cond.instanceMethod ({ cls := "BellRows", name := "findOffsets", desc := "(I)V" } : Jvm.MethodName)) ∈ lw_all := lw_g (lw_at lw_m1 107 rfl) rfl
theorem q137 : (Jvm.Cond.code ({ cls := "BellRows", name := "findOffsets", desc := "(I)V" } : Jvm.MethodName) prog_1_method_12_code (3 : Nat) (Option.none : Option Jvm.ClassFile.FieldType)) ∈ lw_all := lw_g (lw_at lw_m1 108 rfl) rfl
theorem q138 : (Jvm.Cond.methodLink "BellRows" (63 : Nat) ({ cls := "BellRows", name := "step", desc := "(II)V" } : Jvm.MethodName)) ∈ lw_all := lw_g (lw_at lw_m1 109 rfl) rfl
theorem q139 : (Jvm.Cond.privateMethod ({ cls := "BellRows", name := "step", desc := "(II)V" } : Jvm.MethodName)) ∈ lw_tbl := lw_at lw_m1 110 rfl
theorem q140 : (Jvm.Cond.instanceMethod ({ cls := "BellRows", name := "step", desc := "(II)V" } : Jvm.MethodName)) ∈ lw_all := lw_g (lw_at lw_m1 111 rfl) rfl
theorem q141 : (Jvm.Cond.code ({ cls := "BellRows", name := "step", desc := "(II)V" } : Jvm.MethodName) prog_1_method_11_code (7 : Nat) (Option.none : Option Jvm.ClassFile.FieldType)) ∈ lw_all := lw_g (lw_at lw_m1 112 rfl) rfl
theorem q142 : (Jvm.Cond.methodLink "BellRows" (59 : Nat) ({ cls := "BellRows", name := "offsetAt", desc := "(II)I" } : Jvm.MethodName)) ∈ lw_all := lw_g (lw_at lw_m1 113 rfl) rfl
theorem q143 : (Jvm.Cond.privateMethod ({ cls := "BellRows", name := "offsetAt", desc := "(II)I" } : Jvm.MethodName)) ∈ lw_tbl := lw_at lw_m1 114 rfl
theorem q144 : (Jvm.Cond.instanceMethod ({ cls := "BellRows", name := "offsetAt", desc := "(II)I" } : Jvm.MethodName)) ∈ lw_all := lw_g (lw_at lw_m1 115 rfl) rfl
theorem q145 : (Jvm.Cond.code ({ cls := "BellRows", name := "offsetAt", desc := "(II)I" } : Jvm.MethodName) prog_1_method_10_code (3 : Nat) (Option.some Jvm.ClassFile.FieldType.int)) ∈ lw_all := lw_g (lw_at lw_m1 116 rfl) rfl
theorem q146 : (Jvm.Cond.methodLink "BellRows" (75 : Nat) ({ cls := "BellRows", name := "findFalse", desc := "(II)V" } : Jvm.MethodName)) ∈ lw_all := lw_g (lw_at lw_m1 117 rfl) rfl
theorem q147 : (Jvm.Cond.privateMethod ({ cls := "BellRows", name := "findFalse", desc := "(II)V" } : Jvm.MethodName)) ∈ lw_tbl := lw_at lw_m1 118 rfl
theorem q148 : (Jvm.Cond.instanceMethod ({ cls := "BellRows", name := "findFalse", desc := "(II)V" } : Jvm.MethodName)) ∈ lw_all := lw_g (lw_at lw_m1 119 rfl) rfl
theorem q149 : (Jvm.Cond.code ({ cls := "BellRows", name := "findFalse", desc := "(II)V" } : Jvm.MethodName) prog_1_method_14_code (8 : Nat) (Option.none : Option Jvm.ClassFile.FieldType)) ∈ lw_all := lw_g (lw_at lw_m1 120 rfl) rfl
theorem q150 : (Jvm.Cond.methodLink "BellRows" (67 : Nat) ({ cls := "BellRows", name := "rankMade", desc := "()I" } : Jvm.MethodName)) ∈ lw_all := lw_g (lw_at lw_m1 121 rfl) rfl
theorem q151 : (Jvm.Cond.privateMethod ({ cls := "BellRows", name := "rankMade", desc := "()I" } : Jvm.MethodName)) ∈ lw_tbl := lw_at lw_m1 122 rfl
theorem q152 : (Jvm.Cond.instanceMethod ({ cls := "BellRows", name := "rankMade", desc := "()I" } : Jvm.MethodName)) ∈ lw_all := lw_g (lw_at lw_m1 123 rfl) rfl
theorem q153 : (Jvm.Cond.code ({ cls := "BellRows", name := "rankMade", desc := "()I" } : Jvm.MethodName) prog_1_method_13_code (5 : Nat) (Option.some Jvm.ClassFile.FieldType.int)) ∈ lw_all := lw_g (lw_at lw_m1 124 rfl) rfl
theorem q154 : (Jvm.Cond.methodLink "BellRows" (87 : Nat) ({ cls := "BellRows", name := "bellAt", desc := "(II)I" } : Jvm.MethodName)) ∈ lw_all := lw_g (lw_at lw_m1 125 rfl) rfl
theorem q155 : (Jvm.Cond.privateMethod ({ cls := "BellRows", name := "bellAt", desc := "(II)I" } : Jvm.MethodName)) ∈ lw_tbl := lw_at lw_m1 126 rfl
theorem q156 : (Jvm.Cond.instanceMethod ({ cls := "BellRows", name := "bellAt", desc := "(II)I" } : Jvm.MethodName)) ∈ lw_all := lw_g (lw_at lw_m1 127 rfl) rfl
theorem q157 : (Jvm.Cond.code ({ cls := "BellRows", name := "bellAt", desc := "(II)I" } : Jvm.MethodName) prog_1_method_17_code (5 : Nat) (Option.some Jvm.ClassFile.FieldType.int)) ∈ lw_all := lw_g (lw_at lw_m1 128 rfl) rfl
theorem q159 : (Jvm.Cond.instanceMethod ({ cls := "BellRows", name := "place", desc := "(II)I" } : Jvm.MethodName)) ∈ lw_all := lw_g (lw_at lw_m1 130 rfl) rfl
theorem q160 : (Jvm.Cond.selects "BellRows" ({ cls := "BellRows", name := "place", desc := "(II)I" } : Jvm.MethodName) ({ cls := "BellRows", name := "place", desc := "(II)I" } : Jvm.MethodName)) ∈ lw_all := lw_g (lw_at lw_m1 131 rfl) rfl
theorem q161 : (Jvm.Cond.code ({ cls := "BellRows", name := "place", desc := "(II)I" } : Jvm.MethodName) prog_1_method_21_code (6 : Nat) (Option.some Jvm.ClassFile.FieldType.int)) ∈ lw_all := lw_g (lw_at lw_m1 132 rfl) rfl
theorem q163 : (Jvm.Cond.instanceMethod ({ cls := "BellRows", name := "isTrue", desc := "()I" } : Jvm.MethodName)) ∈ lw_all := lw_g (lw_at lw_m1 134 rfl) rfl
theorem q164 : (Jvm.Cond.selects "BellRows" ({ cls := "BellRows", name := "isTrue", desc := "()I" } : Jvm.MethodName) ({ cls := "BellRows", name := "isTrue", desc := "()I" } : Jvm.MethodName)) ∈ lw_all := lw_g (lw_at lw_m1 135 rfl) rfl
theorem q165 : (Jvm.Cond.code ({ cls := "BellRows", name := "isTrue", desc := "()I" } : Jvm.MethodName) prog_1_method_28_code (2 : Nat) (Option.some Jvm.ClassFile.FieldType.int)) ∈ lw_all := lw_g (lw_at lw_m1 136 rfl) rfl
theorem q166 : (Jvm.Cond.methodLink "BellRows" (107 : Nat) ({ cls := "BellRows", name := "allTrue", desc := "()Z" } : Jvm.MethodName)) ∈ lw_all := lw_g (lw_at lw_m1 137 rfl) rfl
theorem q167 : (Jvm.Cond.privateMethod ({ cls := "BellRows", name := "allTrue", desc := "()Z" } : Jvm.MethodName)) ∈ lw_tbl := lw_at lw_m1 138 rfl
theorem q168 : (Jvm.Cond.instanceMethod ({ cls := "BellRows", name := "allTrue", desc := "()Z" } : Jvm.MethodName)) ∈ lw_all := lw_g (lw_at lw_m1 139 rfl) rfl
theorem q169 : (Jvm.Cond.code ({ cls := "BellRows", name := "allTrue", desc := "()Z" } : Jvm.MethodName) prog_1_method_27_code (4 : Nat) (Option.some Jvm.ClassFile.FieldType.boolean)) ∈ lw_all := lw_g (lw_at lw_m1 140 rfl) rfl
theorem q170 : (Jvm.Cond.methodLink "BellRows" (101 : Nat) ({ cls := "BellRows", name := "aloneFalse", desc := "(I)Z" } : Jvm.MethodName)) ∈ lw_all := lw_g (lw_at lw_m1 141 rfl) rfl
theorem q171 : (Jvm.Cond.privateMethod ({ cls := "BellRows", name := "aloneFalse", desc := "(I)Z" } : Jvm.MethodName)) ∈ lw_tbl := lw_at lw_m1 142 rfl
theorem q172 : (Jvm.Cond.instanceMethod ({ cls := "BellRows", name := "aloneFalse", desc := "(I)Z" } : Jvm.MethodName)) ∈ lw_all := lw_g (lw_at lw_m1 143 rfl) rfl
theorem q173 : (Jvm.Cond.code ({ cls := "BellRows", name := "aloneFalse", desc := "(I)Z" } : Jvm.MethodName) prog_1_method_23_code (6 : Nat) (Option.some Jvm.ClassFile.FieldType.boolean)) ∈ lw_all := lw_g (lw_at lw_m1 144 rfl) rfl
theorem q174 : (Jvm.Cond.methodLink "BellRows" (90 : Nat) ({ cls := "BellRows", name := "clearMet", desc := "()V" } : Jvm.MethodName)) ∈ lw_all := lw_g (lw_at lw_m1 145 rfl) rfl
theorem q175 : (Jvm.Cond.privateMethod ({ cls := "BellRows", name := "clearMet", desc := "()V" } : Jvm.MethodName)) ∈ lw_tbl := lw_at lw_m1 146 rfl
theorem q176 : (Jvm.Cond.instanceMethod ({ cls := "BellRows", name := "clearMet", desc := "()V" } : Jvm.MethodName)) ∈ lw_all := lw_g (lw_at lw_m1 147 rfl) rfl
theorem q177 : (Jvm.Cond.code ({ cls := "BellRows", name := "clearMet", desc := "()V" } : Jvm.MethodName) prog_1_method_24_code (2 : Nat) (Option.none : Option Jvm.ClassFile.FieldType)) ∈ lw_all := lw_g (lw_at lw_m1 148 rfl) rfl
theorem q178 : (Jvm.Cond.methodLink "BellRows" (93 : Nat) ({ cls := "BellRows", name := "meetMade", desc := "()Z" } : Jvm.MethodName)) ∈ lw_all := lw_g (lw_at lw_m1 149 rfl) rfl
theorem q179 : (Jvm.Cond.privateMethod ({ cls := "BellRows", name := "meetMade", desc := "()Z" } : Jvm.MethodName)) ∈ lw_tbl := lw_at lw_m1 150 rfl
theorem q180 : (Jvm.Cond.instanceMethod ({ cls := "BellRows", name := "meetMade", desc := "()Z" } : Jvm.MethodName)) ∈ lw_all := lw_g (lw_at lw_m1 151 rfl) rfl
theorem q181 : (Jvm.Cond.code ({ cls := "BellRows", name := "meetMade", desc := "()Z" } : Jvm.MethodName) prog_1_method_25_code (4 : Nat) (Option.some Jvm.ClassFile.FieldType.boolean)) ∈ lw_all := lw_g (lw_at lw_m1 152 rfl) rfl
theorem q182 : (Jvm.Cond.methodLink "BellRows" (104 : Nat) ({ cls := "BellRows", name := "countFalse", desc := "()I" } : Jvm.MethodName)) ∈ lw_all := lw_g (lw_at lw_m1 153 rfl) rfl
theorem q183 : (Jvm.Cond.privateMethod ({ cls := "BellRows", name := "countFalse", desc := "()I" } : Jvm.MethodName)) ∈ lw_tbl := lw_at lw_m1 154 rfl
theorem q184 : (Jvm.Cond.instanceMethod ({ cls := "BellRows", name := "countFalse", desc := "()I" } : Jvm.MethodName)) ∈ lw_all := lw_g (lw_at lw_m1 155 rfl) rfl
theorem q185 : (Jvm.Cond.code ({ cls := "BellRows", name := "countFalse", desc := "()I" } : Jvm.MethodName) prog_1_method_26_code (6 : Nat) (Option.some Jvm.ClassFile.FieldType.int)) ∈ lw_all := lw_g (lw_at lw_m1 156 rfl) rfl
theorem q186 : (Jvm.Cond.methodLink "BellRows" (97 : Nat) ({ cls := "BellRows", name := "pairFalse", desc := "(III)Z" } : Jvm.MethodName)) ∈ lw_all := lw_g (lw_at lw_m1 157 rfl) rfl
theorem q187 : (Jvm.Cond.privateMethod ({ cls := "BellRows", name := "pairFalse", desc := "(III)Z" } : Jvm.MethodName)) ∈ lw_tbl := lw_at lw_m1 158 rfl
theorem q188 : (Jvm.Cond.instanceMethod ({ cls := "BellRows", name := "pairFalse", desc := "(III)Z" } : Jvm.MethodName)) ∈ lw_all := lw_g (lw_at lw_m1 159 rfl) rfl
theorem q189 : (Jvm.Cond.code ({ cls := "BellRows", name := "pairFalse", desc := "(III)Z" } : Jvm.MethodName) prog_1_method_22_code (5 : Nat) (Option.some Jvm.ClassFile.FieldType.boolean)) ∈ lw_all := lw_g (lw_at lw_m1 160 rfl) rfl
theorem q191 : (Jvm.Cond.instanceMethod ({ cls := "BellRows", name := "different", desc := "()I" } : Jvm.MethodName)) ∈ lw_all := lw_g (lw_at lw_m1 162 rfl) rfl
theorem q192 : (Jvm.Cond.selects "BellRows" ({ cls := "BellRows", name := "different", desc := "()I" } : Jvm.MethodName) ({ cls := "BellRows", name := "different", desc := "()I" } : Jvm.MethodName)) ∈ lw_all := lw_g (lw_at lw_m1 163 rfl) rfl
theorem q193 : (Jvm.Cond.code ({ cls := "BellRows", name := "different", desc := "()I" } : Jvm.MethodName) prog_1_method_29_code (5 : Nat) (Option.some Jvm.ClassFile.FieldType.int)) ∈ lw_all := lw_g (lw_at lw_m1 164 rfl) rfl
theorem q195 : (Jvm.Cond.instanceMethod ({ cls := "BellRows", name := "falsePairs", desc := "()I" } : Jvm.MethodName)) ∈ lw_all := lw_g (lw_at lw_m1 166 rfl) rfl
theorem q196 : (Jvm.Cond.selects "BellRows" ({ cls := "BellRows", name := "falsePairs", desc := "()I" } : Jvm.MethodName) ({ cls := "BellRows", name := "falsePairs", desc := "()I" } : Jvm.MethodName)) ∈ lw_all := lw_g (lw_at lw_m1 167 rfl) rfl
theorem q197 : (Jvm.Cond.code ({ cls := "BellRows", name := "falsePairs", desc := "()I" } : Jvm.MethodName) prog_1_method_30_code (1 : Nat) (Option.some Jvm.ClassFile.FieldType.int)) ∈ lw_all := lw_g (lw_at lw_m1 168 rfl) rfl
theorem q199 : (Jvm.Cond.instanceMethod ({ cls := "BellRows", name := "falseAlone", desc := "(I)I" } : Jvm.MethodName)) ∈ lw_all := lw_g (lw_at lw_m1 170 rfl) rfl
theorem q200 : (Jvm.Cond.selects "BellRows" ({ cls := "BellRows", name := "falseAlone", desc := "(I)I" } : Jvm.MethodName) ({ cls := "BellRows", name := "falseAlone", desc := "(I)I" } : Jvm.MethodName)) ∈ lw_all := lw_g (lw_at lw_m1 171 rfl) rfl
theorem q201 : (Jvm.Cond.code ({ cls := "BellRows", name := "falseAlone", desc := "(I)I" } : Jvm.MethodName) prog_1_method_31_code (3 : Nat) (Option.some Jvm.ClassFile.FieldType.int)) ∈ lw_all := lw_g (lw_at lw_m1 172 rfl) rfl
theorem q203 : (Jvm.Cond.instanceMethod ({ cls := "BellRows", name := "order", desc := "(I)I" } : Jvm.MethodName)) ∈ lw_all := lw_g (lw_at lw_m1 174 rfl) rfl
theorem q204 : (Jvm.Cond.selects "BellRows" ({ cls := "BellRows", name := "order", desc := "(I)I" } : Jvm.MethodName) ({ cls := "BellRows", name := "order", desc := "(I)I" } : Jvm.MethodName)) ∈ lw_all := lw_g (lw_at lw_m1 175 rfl) rfl
theorem q205 : (Jvm.Cond.code ({ cls := "BellRows", name := "order", desc := "(I)I" } : Jvm.MethodName) prog_1_method_33_code (8 : Nat) (Option.some Jvm.ClassFile.FieldType.int)) ∈ lw_all := lw_g (lw_at lw_m1 176 rfl) rfl
theorem q206 : (Jvm.Cond.methodLink "BellRows" (110 : Nat) ({ cls := "BellRows", name := "greatest", desc := "(II)I" } : Jvm.MethodName)) ∈ lw_all := lw_g (lw_at lw_m1 177 rfl) rfl
theorem q207 : (Jvm.Cond.privateMethod ({ cls := "BellRows", name := "greatest", desc := "(II)I" } : Jvm.MethodName)) ∈ lw_tbl := lw_at lw_m1 178 rfl
theorem q208 : (Jvm.Cond.instanceMethod ({ cls := "BellRows", name := "greatest", desc := "(II)I" } : Jvm.MethodName)) ∈ lw_all := lw_g (lw_at lw_m1 179 rfl) rfl
theorem q209 : (Jvm.Cond.code ({ cls := "BellRows", name := "greatest", desc := "(II)I" } : Jvm.MethodName) prog_1_method_32_code (6 : Nat) (Option.some Jvm.ClassFile.FieldType.int)) ∈ lw_all := lw_g (lw_at lw_m1 180 rfl) rfl
theorem q211 : (Jvm.Cond.instanceMethod ({ cls := "BellRows", name := "home", desc := "()I" } : Jvm.MethodName)) ∈ lw_all := lw_g (lw_at lw_m1 182 rfl) rfl
theorem q212 : (Jvm.Cond.selects "BellRows" ({ cls := "BellRows", name := "home", desc := "()I" } : Jvm.MethodName) ({ cls := "BellRows", name := "home", desc := "()I" } : Jvm.MethodName)) ∈ lw_all := lw_g (lw_at lw_m1 183 rfl) rfl
theorem q213 : (Jvm.Cond.code ({ cls := "BellRows", name := "home", desc := "()I" } : Jvm.MethodName) prog_1_method_34_code (3 : Nat) (Option.some Jvm.ClassFile.FieldType.int)) ∈ lw_all := lw_g (lw_at lw_m1 184 rfl) rfl
theorem q215 : (Jvm.Cond.instanceMethod ({ cls := "BellRows", name := "leads", desc := "(I)I" } : Jvm.MethodName)) ∈ lw_all := lw_g (lw_at lw_m1 186 rfl) rfl
theorem q216 : (Jvm.Cond.selects "BellRows" ({ cls := "BellRows", name := "leads", desc := "(I)I" } : Jvm.MethodName) ({ cls := "BellRows", name := "leads", desc := "(I)I" } : Jvm.MethodName)) ∈ lw_all := lw_g (lw_at lw_m1 187 rfl) rfl
theorem q217 : (Jvm.Cond.code ({ cls := "BellRows", name := "leads", desc := "(I)I" } : Jvm.MethodName) prog_1_method_35_code (5 : Nat) (Option.some Jvm.ClassFile.FieldType.int)) ∈ lw_all := lw_g (lw_at lw_m1 188 rfl) rfl
theorem q219 : (Jvm.Cond.instanceMethod ({ cls := "BellRows", name := "choices", desc := "()I" } : Jvm.MethodName)) ∈ lw_all := lw_g (lw_at lw_m1 190 rfl) rfl
theorem q220 : (Jvm.Cond.selects "BellRows" ({ cls := "BellRows", name := "choices", desc := "()I" } : Jvm.MethodName) ({ cls := "BellRows", name := "choices", desc := "()I" } : Jvm.MethodName)) ∈ lw_all := lw_g (lw_at lw_m1 191 rfl) rfl
theorem q221 : (Jvm.Cond.code ({ cls := "BellRows", name := "choices", desc := "()I" } : Jvm.MethodName) prog_1_method_36_code (6 : Nat) (Option.some Jvm.ClassFile.FieldType.int)) ∈ lw_all := lw_g (lw_at lw_m1 192 rfl) rfl
theorem in_X1 : ∀ w ∈ wsX10, w ∈ lw_all := lw_in wsX10 [53, 55, 57, 59, 61, 63, 65, 67, 69, 71, 73, 75, 77] (by decide +kernel) (by decide +kernel)
/-! BellRowsModel -/
def RX2 : String := "BellRowsModel"
def TX2 : u_T := fun k => match k with
  | 0 => ("BellRowsModel", "n", "I", false)
  | 1 => ("BellRowsModel", "size", "I", false)
  | 2 => ("BellRowsModel", "method", "[I", false)
  | 3 => ("BellRowsModel", "calls", "[I", false)
  | 4 => ("BellRowsModel", "count", "I", false)
  | 5 => ("BellRowsModel", "leads", "[I", false)
  | 6 => ("BellRowsModel", "bells", "[I", false)
  | 7 => ("BellRowsModel", "last", "I", false)
  | _ => ("BellRowsModel", "rows", "[I", false)
def tyX2 : Nat → FieldType := fun k => match k with
  | 0 => .int
  | 1 => .int
  | 2 => .array .int
  | 3 => .array .int
  | 4 => .int
  | 5 => .array .int
  | 6 => .array .int
  | 7 => .int
  | _ => .array .int
abbrev wsX20 : List Cond := u_ws RX2 TX2 9
theorem nmX2 : ∀ a, a < 9 → ∀ b, b < 9 → a ≠ b → (TX2 a).2.1 ≠ (TX2 b).2.1 := by decide +kernel
theorem tyX2_ok : ∀ k, k < 9 → parseFieldDescriptor (TX2 k).2.2.1 = some (tyX2 k) := by decide +kernel
abbrev cX2_init : ByteArray := prog_3_method_1_code
def yX2_init : MethodName := ⟨RX2, "<init>", "(I)V"⟩
abbrev cX2_change : ByteArray := prog_3_method_3_code
def yX2_change : MethodName := ⟨RX2, "change", "(I)I"⟩
abbrev cX2_isChange : ByteArray := prog_3_method_2_code
def yX2_isChange : MethodName := ⟨RX2, "isChange", "(I)Z"⟩
abbrev cX2_drop : ByteArray := prog_3_method_4_code
def yX2_drop : MethodName := ⟨RX2, "drop", "()I"⟩
abbrev cX2_call : ByteArray := prog_3_method_5_code
def yX2_call : MethodName := ⟨RX2, "call", "(II)I"⟩
abbrev cX2_lead : ByteArray := prog_3_method_7_code
def yX2_lead : MethodName := ⟨RX2, "lead", "(I)I"⟩
abbrev cX2_noCall : ByteArray := prog_3_method_6_code
def yX2_noCall : MethodName := ⟨RX2, "noCall", "(I)Z"⟩
abbrev cX2_back : ByteArray := prog_3_method_8_code
def yX2_back : MethodName := ⟨RX2, "back", "()I"⟩
abbrev cX2_turn : ByteArray := prog_3_method_9_code
def yX2_turn : MethodName := ⟨RX2, "turn", "()I"⟩
abbrev cX2_last : ByteArray := prog_3_method_10_code
def yX2_last : MethodName := ⟨RX2, "last", "()I"⟩
abbrev cX2_row : ByteArray := prog_3_method_17_code
def yX2_row : MethodName := ⟨RX2, "row", "(I)I"⟩
abbrev cX2_write : ByteArray := prog_3_method_15_code
def yX2_write : MethodName := ⟨RX2, "write", "()V"⟩
abbrev cX2_round : ByteArray := prog_3_method_11_code
def yX2_round : MethodName := ⟨RX2, "round", "()V"⟩
abbrev cX2_code : ByteArray := prog_3_method_12_code
def yX2_code : MethodName := ⟨RX2, "code", "()I"⟩
abbrev cX2_ring : ByteArray := prog_3_method_14_code
def yX2_ring : MethodName := ⟨RX2, "ring", "(I)V"⟩
abbrev cX2_exchange : ByteArray := prog_3_method_13_code
def yX2_exchange : MethodName := ⟨RX2, "exchange", "(I)V"⟩
abbrev cX2_find : ByteArray := prog_3_method_16_code
def yX2_find : MethodName := ⟨RX2, "find", "(I)I"⟩
abbrev cX2_place : ByteArray := prog_3_method_19_code
def yX2_place : MethodName := ⟨RX2, "place", "(II)I"⟩
abbrev cX2_noBell : ByteArray := prog_3_method_18_code
def yX2_noBell : MethodName := ⟨RX2, "noBell", "(I)Z"⟩
abbrev cX2_isTrue : ByteArray := prog_3_method_21_code
def yX2_isTrue : MethodName := ⟨RX2, "isTrue", "()I"⟩
abbrev cX2_countDifferent : ByteArray := prog_3_method_20_code
def yX2_countDifferent : MethodName := ⟨RX2, "countDifferent", "()I"⟩
abbrev cX2_different : ByteArray := prog_3_method_22_code
def yX2_different : MethodName := ⟨RX2, "different", "()I"⟩
abbrev cX2_falsePairs : ByteArray := prog_3_method_24_code
def yX2_falsePairs : MethodName := ⟨RX2, "falsePairs", "()I"⟩
abbrev cX2_share : ByteArray := prog_3_method_23_code
def yX2_share : MethodName := ⟨RX2, "share", "(II)Z"⟩
abbrev cX2_falseAlone : ByteArray := prog_3_method_25_code
def yX2_falseAlone : MethodName := ⟨RX2, "falseAlone", "(I)I"⟩
abbrev cX2_order : ByteArray := prog_3_method_26_code
def yX2_order : MethodName := ⟨RX2, "order", "(I)I"⟩
abbrev cX2_home : ByteArray := prog_3_method_27_code
def yX2_home : MethodName := ⟨RX2, "home", "()I"⟩
abbrev cX2_leads : ByteArray := prog_3_method_28_code
def yX2_leads : MethodName := ⟨RX2, "leads", "(I)I"⟩
abbrev cX2_choices : ByteArray := prog_3_method_29_code
def yX2_choices : MethodName := ⟨RX2, "choices", "()I"⟩
theorem q31 : (Jvm.Cond.initialized "BellRowsModel") ∈ lw_all := lw_g (lw_at lw_m1 2 rfl) rfl
theorem q226 : (Jvm.Cond.instantiable "BellRowsModel" (9 : Nat)) ∈ lw_all := lw_g (lw_at lw_m1 197 rfl) rfl
theorem q228 : (Jvm.Cond.instanceMethod ({ cls := "BellRowsModel", name := "<init>", desc := "(I)V" } : Jvm.MethodName)) ∈ lw_all := lw_g (lw_at lw_m1 199 rfl) rfl
theorem q229 : (Jvm.Cond.code ({ cls := "BellRowsModel", name := "<init>", desc := "(I)V" } : Jvm.MethodName) prog_3_method_1_code (2 : Nat) (Option.none : Option Jvm.ClassFile.FieldType)) ∈ lw_all := lw_g (lw_at lw_m1 200 rfl) rfl
theorem q230 : (Jvm.Cond.methodLink "BellRowsModel" (1 : Nat) ({ cls := "java/lang/Object", name := "<init>", desc := "()V" } : Jvm.MethodName)) ∈ lw_all := lw_g (lw_at lw_m1 201 rfl) rfl
theorem q231 : (Jvm.Cond.fieldLink "BellRowsModel" (29 : Nat) "BellRowsModel" "n" "I") ∈ lw_all := lw_g (lw_at lw_m1 202 rfl) rfl
theorem q232 : (Jvm.Cond.fieldLink "BellRowsModel" (7 : Nat) "BellRowsModel" "size" "I") ∈ lw_all := lw_g (lw_at lw_m1 203 rfl) rfl
theorem q233 : (Jvm.Cond.fieldLink "BellRowsModel" (13 : Nat) "BellRowsModel" "method" "[I") ∈ lw_all := lw_g (lw_at lw_m1 204 rfl) rfl
theorem q234 : (Jvm.Cond.fieldLink "BellRowsModel" (17 : Nat) "BellRowsModel" "calls" "[I") ∈ lw_all := lw_g (lw_at lw_m1 205 rfl) rfl
theorem q235 : (Jvm.Cond.fieldLink "BellRowsModel" (39 : Nat) "BellRowsModel" "count" "I") ∈ lw_all := lw_g (lw_at lw_m1 206 rfl) rfl
theorem q236 : (Jvm.Cond.fieldLink "BellRowsModel" (20 : Nat) "BellRowsModel" "leads" "[I") ∈ lw_all := lw_g (lw_at lw_m1 207 rfl) rfl
theorem q237 : (Jvm.Cond.fieldLink "BellRowsModel" (23 : Nat) "BellRowsModel" "bells" "[I") ∈ lw_all := lw_g (lw_at lw_m1 208 rfl) rfl
theorem q238 : (Jvm.Cond.fieldLink "BellRowsModel" (46 : Nat) "BellRowsModel" "last" "I") ∈ lw_all := lw_g (lw_at lw_m1 209 rfl) rfl
theorem q239 : (Jvm.Cond.fieldLink "BellRowsModel" (26 : Nat) "BellRowsModel" "rows" "[I") ∈ lw_all := lw_g (lw_at lw_m1 210 rfl) rfl
theorem q240 : (Jvm.Cond.lays "BellRowsModel" "BellRowsModel" "n" "I") ∈ lw_all := lw_g (lw_at lw_m1 211 rfl) rfl
theorem q241 : (Jvm.Cond.soleField "BellRowsModel" "n") ∈ lw_all := lw_g (lw_at lw_m1 212 rfl) rfl
theorem q242 : (Jvm.Cond.lays "BellRowsModel" "BellRowsModel" "size" "I") ∈ lw_all := lw_g (lw_at lw_m1 213 rfl) rfl
theorem q243 : (Jvm.Cond.soleField "BellRowsModel" "size") ∈ lw_all := lw_g (lw_at lw_m1 214 rfl) rfl
theorem q244 : (Jvm.Cond.lays "BellRowsModel" "BellRowsModel" "method" "[I") ∈ lw_all := lw_g (lw_at lw_m1 215 rfl) rfl
theorem q245 : (Jvm.Cond.soleField "BellRowsModel" "method") ∈ lw_all := lw_g (lw_at lw_m1 216 rfl) rfl
theorem q246 : (Jvm.Cond.lays "BellRowsModel" "BellRowsModel" "calls" "[I") ∈ lw_all := lw_g (lw_at lw_m1 217 rfl) rfl
theorem q247 : (Jvm.Cond.soleField "BellRowsModel" "calls") ∈ lw_all := lw_g (lw_at lw_m1 218 rfl) rfl
theorem q248 : (Jvm.Cond.lays "BellRowsModel" "BellRowsModel" "count" "I") ∈ lw_all := lw_g (lw_at lw_m1 219 rfl) rfl
theorem q249 : (Jvm.Cond.soleField "BellRowsModel" "count") ∈ lw_all := lw_g (lw_at lw_m1 220 rfl) rfl
theorem q250 : (Jvm.Cond.lays "BellRowsModel" "BellRowsModel" "leads" "[I") ∈ lw_all := lw_g (lw_at lw_m1 221 rfl) rfl
theorem q251 : (Jvm.Cond.soleField "BellRowsModel" "leads") ∈ lw_all := lw_g (lw_at lw_m1 222 rfl) rfl
theorem q252 : (Jvm.Cond.lays "BellRowsModel" "BellRowsModel" "bells" "[I") ∈ lw_all := lw_g (lw_at lw_m1 223 rfl) rfl
theorem q253 : (Jvm.Cond.soleField "BellRowsModel" "bells") ∈ lw_all := lw_g (lw_at lw_m1 224 rfl) rfl
theorem q254 : (Jvm.Cond.lays "BellRowsModel" "BellRowsModel" "last" "I") ∈ lw_all := lw_g (lw_at lw_m1 225 rfl) rfl
theorem q255 : (Jvm.Cond.soleField "BellRowsModel" "last") ∈ lw_all := lw_g (lw_at lw_m1 226 rfl) rfl
theorem q256 : (Jvm.Cond.lays "BellRowsModel" "BellRowsModel" "rows" "[I") ∈ lw_all := lw_g (lw_at lw_m1 227 rfl) rfl
theorem q257 : (Jvm.Cond.soleField "BellRowsModel" "rows") ∈ lw_all := lw_g (lw_at lw_m1 228 rfl) rfl
theorem q258 : (Jvm.Cond.superclass "BellRowsModel" "java/lang/Object") ∈ lw_all := lw_g (lw_at lw_m1 229 rfl) rfl
theorem q260 : (Jvm.Cond.instanceMethod ({ cls := "BellRowsModel", name := "change", desc := "(I)I" } : Jvm.MethodName)) ∈ lw_all := lw_g (lw_at lw_m1 231 rfl) rfl
theorem q261 : (Jvm.Cond.selects "BellRowsModel" ({ cls := "BellRowsModel", name := "change", desc := "(I)I" } : Jvm.MethodName) ({ cls := "BellRowsModel", name := "change", desc := "(I)I" } : Jvm.MethodName)) ∈ lw_all := lw_g (lw_at lw_m1 232 rfl) rfl
theorem q262 : (Jvm.Cond.code ({ cls := "BellRowsModel", name := "change", desc := "(I)I" } : Jvm.MethodName) prog_3_method_3_code (2 : Nat) (Option.some Jvm.ClassFile.FieldType.int)) ∈ lw_all := lw_g (lw_at lw_m1 233 rfl) rfl
theorem q263 : (Jvm.Cond.methodLink "BellRowsModel" (32 : Nat) ({ cls := "BellRowsModel", name := "isChange", desc := "(I)Z" } : Jvm.MethodName)) ∈ lw_all := lw_g (lw_at lw_m1 234 rfl) rfl
theorem q264 : (Jvm.Cond.privateMethod ({ cls := "BellRowsModel", name := "isChange", desc := "(I)Z" } : Jvm.MethodName)) ∈ lw_tbl := lw_at lw_m1 235 rfl
theorem q265 : (Jvm.Cond.instanceMethod ({ cls := "BellRowsModel", name := "isChange", desc := "(I)Z" } : Jvm.MethodName)) ∈ lw_all := lw_g (lw_at lw_m1 236 rfl) rfl
theorem q266 : (Jvm.Cond.code ({ cls := "BellRowsModel", name := "isChange", desc := "(I)Z" } : Jvm.MethodName) prog_3_method_2_code (3 : Nat) (Option.some Jvm.ClassFile.FieldType.boolean)) ∈ lw_all := lw_g (lw_at lw_m1 237 rfl) rfl
theorem q268 : (Jvm.Cond.instanceMethod ({ cls := "BellRowsModel", name := "drop", desc := "()I" } : Jvm.MethodName)) ∈ lw_all := lw_g (lw_at lw_m1 239 rfl) rfl
theorem q269 : (Jvm.Cond.selects "BellRowsModel" ({ cls := "BellRowsModel", name := "drop", desc := "()I" } : Jvm.MethodName) ({ cls := "BellRowsModel", name := "drop", desc := "()I" } : Jvm.MethodName)) ∈ lw_all := lw_g (lw_at lw_m2 0 rfl) rfl
theorem q270 : (Jvm.Cond.code ({ cls := "BellRowsModel", name := "drop", desc := "()I" } : Jvm.MethodName) prog_3_method_4_code (3 : Nat) (Option.some Jvm.ClassFile.FieldType.int)) ∈ lw_all := lw_g (lw_at lw_m2 1 rfl) rfl
theorem q272 : (Jvm.Cond.instanceMethod ({ cls := "BellRowsModel", name := "call", desc := "(II)I" } : Jvm.MethodName)) ∈ lw_all := lw_g (lw_at lw_m2 3 rfl) rfl
theorem q273 : (Jvm.Cond.selects "BellRowsModel" ({ cls := "BellRowsModel", name := "call", desc := "(II)I" } : Jvm.MethodName) ({ cls := "BellRowsModel", name := "call", desc := "(II)I" } : Jvm.MethodName)) ∈ lw_all := lw_g (lw_at lw_m2 4 rfl) rfl
theorem q274 : (Jvm.Cond.code ({ cls := "BellRowsModel", name := "call", desc := "(II)I" } : Jvm.MethodName) prog_3_method_5_code (4 : Nat) (Option.some Jvm.ClassFile.FieldType.int)) ∈ lw_all := lw_g (lw_at lw_m2 5 rfl) rfl
theorem q276 : (Jvm.Cond.instanceMethod ({ cls := "BellRowsModel", name := "lead", desc := "(I)I" } : Jvm.MethodName)) ∈ lw_all := lw_g (lw_at lw_m2 7 rfl) rfl
theorem q277 : (Jvm.Cond.selects "BellRowsModel" ({ cls := "BellRowsModel", name := "lead", desc := "(I)I" } : Jvm.MethodName) ({ cls := "BellRowsModel", name := "lead", desc := "(I)I" } : Jvm.MethodName)) ∈ lw_all := lw_g (lw_at lw_m2 8 rfl) rfl
theorem q278 : (Jvm.Cond.code ({ cls := "BellRowsModel", name := "lead", desc := "(I)I" } : Jvm.MethodName) prog_3_method_7_code (2 : Nat) (Option.some Jvm.ClassFile.FieldType.int)) ∈ lw_all := lw_g (lw_at lw_m2 9 rfl) rfl
theorem q279 : (Jvm.Cond.methodLink "BellRowsModel" (36 : Nat) ({ cls := "BellRowsModel", name := "noCall", desc := "(I)Z" } : Jvm.MethodName)) ∈ lw_all := lw_g (lw_at lw_m2 10 rfl) rfl
theorem q280 : (Jvm.Cond.privateMethod ({ cls := "BellRowsModel", name := "noCall", desc := "(I)Z" } : Jvm.MethodName)) ∈ lw_tbl := lw_at lw_m2 11 rfl
theorem q281 : (Jvm.Cond.instanceMethod ({ cls := "BellRowsModel", name := "noCall", desc := "(I)Z" } : Jvm.MethodName)) ∈ lw_all := lw_g (lw_at lw_m2 12 rfl) rfl
theorem q282 : (Jvm.Cond.code ({ cls := "BellRowsModel", name := "noCall", desc := "(I)Z" } : Jvm.MethodName) prog_3_method_6_code (2 : Nat) (Option.some Jvm.ClassFile.FieldType.boolean)) ∈ lw_all := lw_g (lw_at lw_m2 13 rfl) rfl
theorem q284 : (Jvm.Cond.instanceMethod ({ cls := "BellRowsModel", name := "back", desc := "()I" } : Jvm.MethodName)) ∈ lw_all := lw_g (lw_at lw_m2 15 rfl) rfl
theorem q285 : (Jvm.Cond.selects "BellRowsModel" ({ cls := "BellRowsModel", name := "back", desc := "()I" } : Jvm.MethodName) ({ cls := "BellRowsModel", name := "back", desc := "()I" } : Jvm.MethodName)) ∈ lw_all := lw_g (lw_at lw_m2 16 rfl) rfl
theorem q286 : (Jvm.Cond.code ({ cls := "BellRowsModel", name := "back", desc := "()I" } : Jvm.MethodName) prog_3_method_8_code (1 : Nat) (Option.some Jvm.ClassFile.FieldType.int)) ∈ lw_all := lw_g (lw_at lw_m2 17 rfl) rfl
theorem q288 : (Jvm.Cond.instanceMethod ({ cls := "BellRowsModel", name := "turn", desc := "()I" } : Jvm.MethodName)) ∈ lw_all := lw_g (lw_at lw_m2 19 rfl) rfl
theorem q289 : (Jvm.Cond.selects "BellRowsModel" ({ cls := "BellRowsModel", name := "turn", desc := "()I" } : Jvm.MethodName) ({ cls := "BellRowsModel", name := "turn", desc := "()I" } : Jvm.MethodName)) ∈ lw_all := lw_g (lw_at lw_m2 20 rfl) rfl
theorem q290 : (Jvm.Cond.code ({ cls := "BellRowsModel", name := "turn", desc := "()I" } : Jvm.MethodName) prog_3_method_9_code (3 : Nat) (Option.some Jvm.ClassFile.FieldType.int)) ∈ lw_all := lw_g (lw_at lw_m2 21 rfl) rfl
theorem q292 : (Jvm.Cond.instanceMethod ({ cls := "BellRowsModel", name := "last", desc := "()I" } : Jvm.MethodName)) ∈ lw_all := lw_g (lw_at lw_m2 23 rfl) rfl
theorem q293 : (Jvm.Cond.selects "BellRowsModel" ({ cls := "BellRowsModel", name := "last", desc := "()I" } : Jvm.MethodName) ({ cls := "BellRowsModel", name := "last", desc := "()I" } : Jvm.MethodName)) ∈ lw_all := lw_g (lw_at lw_m2 24 rfl) rfl
theorem q294 : (Jvm.Cond.code ({ cls := "BellRowsModel", name := "last", desc := "()I" } : Jvm.MethodName) prog_3_method_10_code (1 : Nat) (Option.some Jvm.ClassFile.FieldType.int)) ∈ lw_all := lw_g (lw_at lw_m2 25 rfl) rfl
theorem q296 : (Jvm.Cond.instanceMethod ({ cls := "BellRowsModel", name := "row", desc := "(I)I" } : Jvm.MethodName)) ∈ lw_all := lw_g (lw_at lw_m2 27 rfl) rfl
theorem q297 : (Jvm.Cond.selects "BellRowsModel" ({ cls := "BellRowsModel", name := "row", desc := "(I)I" } : Jvm.MethodName) ({ cls := "BellRowsModel", name := "row", desc := "(I)I" } : Jvm.MethodName)) ∈ lw_all := lw_g (lw_at lw_m2 28 rfl) rfl
theorem q298 : (Jvm.Cond.code ({ cls := "BellRowsModel", name := "row", desc := "(I)I" } : Jvm.MethodName) prog_3_method_17_code (2 : Nat) (Option.some Jvm.ClassFile.FieldType.int)) ∈ lw_all := lw_g (lw_at lw_m2 29 rfl) rfl
theorem q299 : (Jvm.Cond.methodLink "BellRowsModel" (59 : Nat) ({ cls := "BellRowsModel", name := "write", desc := "()V" } : Jvm.MethodName)) ∈ lw_all := lw_g (lw_at lw_m2 30 rfl) rfl
theorem q300 : (Jvm.Cond.privateMethod ({ cls := "BellRowsModel", name := "write", desc := "()V" } : Jvm.MethodName)) ∈ lw_tbl := lw_at lw_m2 31 rfl
theorem q301 : (Jvm.Cond.instanceMethod ({ cls := "BellRowsModel", name := "write", desc := "()V" } : Jvm.MethodName)) ∈ lw_all := lw_g (lw_at lw_m2 32 rfl) rfl
theorem q302 : (Jvm.Cond.code ({ cls := "BellRowsModel", name := "write", desc := "()V" } : Jvm.MethodName) prog_3_method_15_code (2 : Nat) (Option.none : Option Jvm.ClassFile.FieldType)) ∈ lw_all := lw_g (lw_at lw_m2 33 rfl) rfl
theorem q303 : (Jvm.Cond.methodLink "BellRowsModel" (53 : Nat) ({ cls := "BellRowsModel", name := "round", desc := "()V" } : Jvm.MethodName)) ∈ lw_all := lw_g (lw_at lw_m2 34 rfl) rfl
theorem q304 : (Jvm.Cond.privateMethod ({ cls := "BellRowsModel", name := "round", desc := "()V" } : Jvm.MethodName)) ∈ lw_tbl := lw_at lw_m2 35 rfl
theorem q305 : (Jvm.Cond.instanceMethod ({ cls := "BellRowsModel", name := "round", desc := "()V" } : Jvm.MethodName)) ∈ lw_all := lw_g (lw_at lw_m2 36 rfl) rfl
theorem q306 : (Jvm.Cond.code ({ cls := "BellRowsModel", name := "round", desc := "()V" } : Jvm.MethodName) prog_3_method_11_code (2 : Nat) (Option.none : Option Jvm.ClassFile.FieldType)) ∈ lw_all := lw_g (lw_at lw_m2 37 rfl) rfl
theorem q307 : (Jvm.Cond.methodLink "BellRowsModel" (49 : Nat) ({ cls := "BellRowsModel", name := "code", desc := "()I" } : Jvm.MethodName)) ∈ lw_all := lw_g (lw_at lw_m2 38 rfl) rfl
theorem q308 : (Jvm.Cond.privateMethod ({ cls := "BellRowsModel", name := "code", desc := "()I" } : Jvm.MethodName)) ∈ lw_tbl := lw_at lw_m2 39 rfl
theorem q309 : (Jvm.Cond.instanceMethod ({ cls := "BellRowsModel", name := "code", desc := "()I" } : Jvm.MethodName)) ∈ lw_all := lw_g (lw_at lw_m2 40 rfl) rfl
theorem q310 : (Jvm.Cond.code ({ cls := "BellRowsModel", name := "code", desc := "()I" } : Jvm.MethodName) prog_3_method_12_code (3 : Nat) (Option.some Jvm.ClassFile.FieldType.int)) ∈ lw_all := lw_g (lw_at lw_m2 41 rfl) rfl
theorem q311 : (Jvm.Cond.methodLink "BellRowsModel" (56 : Nat) ({ cls := "BellRowsModel", name := "ring", desc := "(I)V" } : Jvm.MethodName)) ∈ lw_all := lw_g (lw_at lw_m2 42 rfl) rfl
theorem q312 : (Jvm.Cond.privateMethod ({ cls := "BellRowsModel", name := "ring", desc := "(I)V" } : Jvm.MethodName)) ∈ lw_tbl := lw_at lw_m2 43 rfl
theorem q313 : (Jvm.Cond.instanceMethod ({ cls := "BellRowsModel", name := "ring", desc := "(I)V" } : Jvm.MethodName)) ∈ lw_all := lw_g (lw_at lw_m2 44 rfl) rfl
theorem q314 : (Jvm.Cond.code ({ cls := "BellRowsModel", name := "ring", desc := "(I)V" } : Jvm.MethodName) prog_3_method_14_code (3 : Nat) (Option.none : Option Jvm.ClassFile.FieldType)) ∈ lw_all := lw_g (lw_at lw_m2 45 rfl) rfl
theorem q315 : (Jvm.Cond.methodLink "BellRowsModel" (42 : Nat) ({ cls := "BellRowsModel", name := "exchange", desc := "(I)V" } : Jvm.MethodName)) ∈ lw_all := lw_g (lw_at lw_m2 46 rfl) rfl
theorem q316 : (Jvm.Cond.privateMethod ({ cls := "BellRowsModel", name := "exchange", desc := "(I)V" } : Jvm.MethodName)) ∈ lw_tbl := lw_at lw_m2 47 rfl
theorem q317 : (Jvm.Cond.instanceMethod ({ cls := "BellRowsModel", name := "exchange", desc := "(I)V" } : Jvm.MethodName)) ∈ lw_all := lw_g (lw_at lw_m2 48 rfl) rfl
theorem q318 : (Jvm.Cond.code ({ cls := "BellRowsModel", name := "exchange", desc := "(I)V" } : Jvm.MethodName) prog_3_method_13_code (4 : Nat) (Option.none : Option Jvm.ClassFile.FieldType)) ∈ lw_all := lw_g (lw_at lw_m2 49 rfl) rfl
theorem q319 : (Jvm.Cond.methodLink "BellRowsModel" (62 : Nat) ({ cls := "BellRowsModel", name := "find", desc := "(I)I" } : Jvm.MethodName)) ∈ lw_all := lw_g (lw_at lw_m2 50 rfl) rfl
theorem q320 : (Jvm.Cond.privateMethod ({ cls := "BellRowsModel", name := "find", desc := "(I)I" } : Jvm.MethodName)) ∈ lw_tbl := lw_at lw_m2 51 rfl
theorem q321 : (Jvm.Cond.instanceMethod ({ cls := "BellRowsModel", name := "find", desc := "(I)I" } : Jvm.MethodName)) ∈ lw_all := lw_g (lw_at lw_m2 52 rfl) rfl
theorem q322 : (Jvm.Cond.code ({ cls := "BellRowsModel", name := "find", desc := "(I)I" } : Jvm.MethodName) prog_3_method_16_code (2 : Nat) (Option.some Jvm.ClassFile.FieldType.int)) ∈ lw_all := lw_g (lw_at lw_m2 53 rfl) rfl
theorem q324 : (Jvm.Cond.instanceMethod ({ cls := "BellRowsModel", name := "place", desc := "(II)I" } : Jvm.MethodName)) ∈ lw_all := lw_g (lw_at lw_m2 55 rfl) rfl
theorem q325 : (Jvm.Cond.selects "BellRowsModel" ({ cls := "BellRowsModel", name := "place", desc := "(II)I" } : Jvm.MethodName) ({ cls := "BellRowsModel", name := "place", desc := "(II)I" } : Jvm.MethodName)) ∈ lw_all := lw_g (lw_at lw_m2 56 rfl) rfl
theorem q326 : (Jvm.Cond.code ({ cls := "BellRowsModel", name := "place", desc := "(II)I" } : Jvm.MethodName) prog_3_method_19_code (5 : Nat) (Option.some Jvm.ClassFile.FieldType.int)) ∈ lw_all := lw_g (lw_at lw_m2 57 rfl) rfl
theorem q327 : (Jvm.Cond.methodLink "BellRowsModel" (66 : Nat) ({ cls := "BellRowsModel", name := "noBell", desc := "(I)Z" } : Jvm.MethodName)) ∈ lw_all := lw_g (lw_at lw_m2 58 rfl) rfl
theorem q328 : (Jvm.Cond.privateMethod ({ cls := "BellRowsModel", name := "noBell", desc := "(I)Z" } : Jvm.MethodName)) ∈ lw_tbl := lw_at lw_m2 59 rfl
theorem q329 : (Jvm.Cond.instanceMethod ({ cls := "BellRowsModel", name := "noBell", desc := "(I)Z" } : Jvm.MethodName)) ∈ lw_all := lw_g (lw_at lw_m2 60 rfl) rfl
theorem q330 : (Jvm.Cond.code ({ cls := "BellRowsModel", name := "noBell", desc := "(I)Z" } : Jvm.MethodName) prog_3_method_18_code (2 : Nat) (Option.some Jvm.ClassFile.FieldType.boolean)) ∈ lw_all := lw_g (lw_at lw_m2 61 rfl) rfl
theorem q332 : (Jvm.Cond.instanceMethod ({ cls := "BellRowsModel", name := "isTrue", desc := "()I" } : Jvm.MethodName)) ∈ lw_all := lw_g (lw_at lw_m2 63 rfl) rfl
theorem q333 : (Jvm.Cond.selects "BellRowsModel" ({ cls := "BellRowsModel", name := "isTrue", desc := "()I" } : Jvm.MethodName) ({ cls := "BellRowsModel", name := "isTrue", desc := "()I" } : Jvm.MethodName)) ∈ lw_all := lw_g (lw_at lw_m2 64 rfl) rfl
theorem q334 : (Jvm.Cond.code ({ cls := "BellRowsModel", name := "isTrue", desc := "()I" } : Jvm.MethodName) prog_3_method_21_code (2 : Nat) (Option.some Jvm.ClassFile.FieldType.int)) ∈ lw_all := lw_g (lw_at lw_m2 65 rfl) rfl
theorem q335 : (Jvm.Cond.methodLink "BellRowsModel" (69 : Nat) ({ cls := "BellRowsModel", name := "countDifferent", desc := "()I" } : Jvm.MethodName)) ∈ lw_all := lw_g (lw_at lw_m2 66 rfl) rfl
theorem q336 : (Jvm.Cond.privateMethod ({ cls := "BellRowsModel", name := "countDifferent", desc := "()I" } : Jvm.MethodName)) ∈ lw_tbl := lw_at lw_m2 67 rfl
theorem q337 : (Jvm.Cond.instanceMethod ({ cls := "BellRowsModel", name := "countDifferent", desc := "()I" } : Jvm.MethodName)) ∈ lw_all := lw_g (lw_at lw_m2 68 rfl) rfl
theorem q338 : (Jvm.Cond.code ({ cls := "BellRowsModel", name := "countDifferent", desc := "()I" } : Jvm.MethodName) prog_3_method_20_code (5 : Nat) (Option.some Jvm.ClassFile.FieldType.int)) ∈ lw_all := lw_g (lw_at lw_m2 69 rfl) rfl
theorem q340 : (Jvm.Cond.instanceMethod ({ cls := "BellRowsModel", name := "different", desc := "()I" } : Jvm.MethodName)) ∈ lw_all := lw_g (lw_at lw_m2 71 rfl) rfl
theorem q341 : (Jvm.Cond.selects "BellRowsModel" ({ cls := "BellRowsModel", name := "different", desc := "()I" } : Jvm.MethodName) ({ cls := "BellRowsModel", name := "different", desc := "()I" } : Jvm.MethodName)) ∈ lw_all := lw_g (lw_at lw_m2 72 rfl) rfl
theorem q342 : (Jvm.Cond.code ({ cls := "BellRowsModel", name := "different", desc := "()I" } : Jvm.MethodName) prog_3_method_22_code (1 : Nat) (Option.some Jvm.ClassFile.FieldType.int)) ∈ lw_all := lw_g (lw_at lw_m2 73 rfl) rfl
theorem q344 : (Jvm.Cond.instanceMethod ({ cls := "BellRowsModel", name := "falsePairs", desc := "()I" } : Jvm.MethodName)) ∈ lw_all := lw_g (lw_at lw_m2 75 rfl) rfl
theorem q345 : (Jvm.Cond.selects "BellRowsModel" ({ cls := "BellRowsModel", name := "falsePairs", desc := "()I" } : Jvm.MethodName) ({ cls := "BellRowsModel", name := "falsePairs", desc := "()I" } : Jvm.MethodName)) ∈ lw_all := lw_g (lw_at lw_m2 76 rfl) rfl
theorem q346 : (Jvm.Cond.code ({ cls := "BellRowsModel", name := "falsePairs", desc := "()I" } : Jvm.MethodName) prog_3_method_24_code (4 : Nat) (Option.some Jvm.ClassFile.FieldType.int)) ∈ lw_all := lw_g (lw_at lw_m2 77 rfl) rfl
theorem q347 : (Jvm.Cond.methodLink "BellRowsModel" (72 : Nat) ({ cls := "BellRowsModel", name := "share", desc := "(II)Z" } : Jvm.MethodName)) ∈ lw_all := lw_g (lw_at lw_m2 78 rfl) rfl
theorem q348 : (Jvm.Cond.privateMethod ({ cls := "BellRowsModel", name := "share", desc := "(II)Z" } : Jvm.MethodName)) ∈ lw_tbl := lw_at lw_m2 79 rfl
theorem q349 : (Jvm.Cond.instanceMethod ({ cls := "BellRowsModel", name := "share", desc := "(II)Z" } : Jvm.MethodName)) ∈ lw_all := lw_g (lw_at lw_m2 80 rfl) rfl
theorem q350 : (Jvm.Cond.code ({ cls := "BellRowsModel", name := "share", desc := "(II)Z" } : Jvm.MethodName) prog_3_method_23_code (5 : Nat) (Option.some Jvm.ClassFile.FieldType.boolean)) ∈ lw_all := lw_g (lw_at lw_m2 81 rfl) rfl
theorem q352 : (Jvm.Cond.instanceMethod ({ cls := "BellRowsModel", name := "falseAlone", desc := "(I)I" } : Jvm.MethodName)) ∈ lw_all := lw_g (lw_at lw_m2 83 rfl) rfl
theorem q353 : (Jvm.Cond.selects "BellRowsModel" ({ cls := "BellRowsModel", name := "falseAlone", desc := "(I)I" } : Jvm.MethodName) ({ cls := "BellRowsModel", name := "falseAlone", desc := "(I)I" } : Jvm.MethodName)) ∈ lw_all := lw_g (lw_at lw_m2 84 rfl) rfl
theorem q354 : (Jvm.Cond.code ({ cls := "BellRowsModel", name := "falseAlone", desc := "(I)I" } : Jvm.MethodName) prog_3_method_25_code (3 : Nat) (Option.some Jvm.ClassFile.FieldType.int)) ∈ lw_all := lw_g (lw_at lw_m2 85 rfl) rfl
theorem q356 : (Jvm.Cond.instanceMethod ({ cls := "BellRowsModel", name := "order", desc := "(I)I" } : Jvm.MethodName)) ∈ lw_all := lw_g (lw_at lw_m2 87 rfl) rfl
theorem q357 : (Jvm.Cond.selects "BellRowsModel" ({ cls := "BellRowsModel", name := "order", desc := "(I)I" } : Jvm.MethodName) ({ cls := "BellRowsModel", name := "order", desc := "(I)I" } : Jvm.MethodName)) ∈ lw_all := lw_g (lw_at lw_m2 88 rfl) rfl
theorem q358 : (Jvm.Cond.code ({ cls := "BellRowsModel", name := "order", desc := "(I)I" } : Jvm.MethodName) prog_3_method_26_code (5 : Nat) (Option.some Jvm.ClassFile.FieldType.int)) ∈ lw_all := lw_g (lw_at lw_m2 89 rfl) rfl
theorem q360 : (Jvm.Cond.instanceMethod ({ cls := "BellRowsModel", name := "home", desc := "()I" } : Jvm.MethodName)) ∈ lw_all := lw_g (lw_at lw_m2 91 rfl) rfl
theorem q361 : (Jvm.Cond.selects "BellRowsModel" ({ cls := "BellRowsModel", name := "home", desc := "()I" } : Jvm.MethodName) ({ cls := "BellRowsModel", name := "home", desc := "()I" } : Jvm.MethodName)) ∈ lw_all := lw_g (lw_at lw_m2 92 rfl) rfl
theorem q362 : (Jvm.Cond.code ({ cls := "BellRowsModel", name := "home", desc := "()I" } : Jvm.MethodName) prog_3_method_27_code (1 : Nat) (Option.some Jvm.ClassFile.FieldType.int)) ∈ lw_all := lw_g (lw_at lw_m2 93 rfl) rfl
theorem q364 : (Jvm.Cond.instanceMethod ({ cls := "BellRowsModel", name := "leads", desc := "(I)I" } : Jvm.MethodName)) ∈ lw_all := lw_g (lw_at lw_m2 95 rfl) rfl
theorem q365 : (Jvm.Cond.selects "BellRowsModel" ({ cls := "BellRowsModel", name := "leads", desc := "(I)I" } : Jvm.MethodName) ({ cls := "BellRowsModel", name := "leads", desc := "(I)I" } : Jvm.MethodName)) ∈ lw_all := lw_g (lw_at lw_m2 96 rfl) rfl
theorem q366 : (Jvm.Cond.code ({ cls := "BellRowsModel", name := "leads", desc := "(I)I" } : Jvm.MethodName) prog_3_method_28_code (5 : Nat) (Option.some Jvm.ClassFile.FieldType.int)) ∈ lw_all := lw_g (lw_at lw_m2 97 rfl) rfl
theorem q368 : (Jvm.Cond.instanceMethod ({ cls := "BellRowsModel", name := "choices", desc := "()I" } : Jvm.MethodName)) ∈ lw_all := lw_g (lw_at lw_m2 99 rfl) rfl
theorem q369 : (Jvm.Cond.selects "BellRowsModel" ({ cls := "BellRowsModel", name := "choices", desc := "()I" } : Jvm.MethodName) ({ cls := "BellRowsModel", name := "choices", desc := "()I" } : Jvm.MethodName)) ∈ lw_all := lw_g (lw_at lw_m2 100 rfl) rfl
theorem q370 : (Jvm.Cond.code ({ cls := "BellRowsModel", name := "choices", desc := "()I" } : Jvm.MethodName) prog_3_method_29_code (4 : Nat) (Option.some Jvm.ClassFile.FieldType.int)) ∈ lw_all := lw_g (lw_at lw_m2 101 rfl) rfl
theorem in_X2 : ∀ w ∈ wsX20, w ∈ lw_all := lw_in wsX20 [240, 242, 244, 246, 248, 250, 252, 254, 256] (by decide +kernel) (by decide +kernel)
/-! BellRowsLaw -/
def RX0 : String := "BellRowsLaw"
abbrev cX0_cell : ByteArray := method_2_code
def yX0_cell : MethodName := ⟨RX0, "cell", "([II)I"⟩
theorem q29 : (Jvm.Cond.initialized "BellRowsLaw") ∈ lw_all := lw_g (lw_at lw_m1 0 rfl) rfl
theorem q32 : (Jvm.Cond.classLink "BellRowsLaw" (7 : Nat) "BellRows") ∈ lw_all := lw_g (lw_at lw_m1 3 rfl) rfl
theorem q34 : (Jvm.Cond.methodLink "BellRowsLaw" (15 : Nat) ({ cls := "BellRows", name := "<init>", desc := "(I)V" } : Jvm.MethodName)) ∈ lw_all := lw_g (lw_at lw_m1 5 rfl) rfl
theorem q82 : (Jvm.Cond.methodLink "BellRowsLaw" (21 : Nat) ({ cls := "BellRows", name := "change", desc := "(I)I" } : Jvm.MethodName)) ∈ lw_all := lw_g (lw_at lw_m1 53 rfl) rfl
theorem q90 : (Jvm.Cond.methodLink "BellRowsLaw" (26 : Nat) ({ cls := "BellRows", name := "drop", desc := "()I" } : Jvm.MethodName)) ∈ lw_all := lw_g (lw_at lw_m1 61 rfl) rfl
theorem q94 : (Jvm.Cond.methodLink "BellRowsLaw" (31 : Nat) ({ cls := "BellRows", name := "call", desc := "(II)I" } : Jvm.MethodName)) ∈ lw_all := lw_g (lw_at lw_m1 65 rfl) rfl
theorem q98 : (Jvm.Cond.methodLink "BellRowsLaw" (36 : Nat) ({ cls := "BellRows", name := "lead", desc := "(I)I" } : Jvm.MethodName)) ∈ lw_all := lw_g (lw_at lw_m1 69 rfl) rfl
theorem q106 : (Jvm.Cond.methodLink "BellRowsLaw" (40 : Nat) ({ cls := "BellRows", name := "back", desc := "()I" } : Jvm.MethodName)) ∈ lw_all := lw_g (lw_at lw_m1 77 rfl) rfl
theorem q110 : (Jvm.Cond.methodLink "BellRowsLaw" (44 : Nat) ({ cls := "BellRows", name := "turn", desc := "()I" } : Jvm.MethodName)) ∈ lw_all := lw_g (lw_at lw_m1 81 rfl) rfl
theorem q114 : (Jvm.Cond.methodLink "BellRowsLaw" (48 : Nat) ({ cls := "BellRows", name := "last", desc := "()I" } : Jvm.MethodName)) ∈ lw_all := lw_g (lw_at lw_m1 85 rfl) rfl
theorem q118 : (Jvm.Cond.methodLink "BellRowsLaw" (52 : Nat) ({ cls := "BellRows", name := "row", desc := "(I)I" } : Jvm.MethodName)) ∈ lw_all := lw_g (lw_at lw_m1 89 rfl) rfl
theorem q158 : (Jvm.Cond.methodLink "BellRowsLaw" (56 : Nat) ({ cls := "BellRows", name := "place", desc := "(II)I" } : Jvm.MethodName)) ∈ lw_all := lw_g (lw_at lw_m1 129 rfl) rfl
theorem q162 : (Jvm.Cond.methodLink "BellRowsLaw" (60 : Nat) ({ cls := "BellRows", name := "isTrue", desc := "()I" } : Jvm.MethodName)) ∈ lw_all := lw_g (lw_at lw_m1 133 rfl) rfl
theorem q190 : (Jvm.Cond.methodLink "BellRowsLaw" (64 : Nat) ({ cls := "BellRows", name := "different", desc := "()I" } : Jvm.MethodName)) ∈ lw_all := lw_g (lw_at lw_m1 161 rfl) rfl
theorem q194 : (Jvm.Cond.methodLink "BellRowsLaw" (68 : Nat) ({ cls := "BellRows", name := "falsePairs", desc := "()I" } : Jvm.MethodName)) ∈ lw_all := lw_g (lw_at lw_m1 165 rfl) rfl
theorem q198 : (Jvm.Cond.methodLink "BellRowsLaw" (72 : Nat) ({ cls := "BellRows", name := "falseAlone", desc := "(I)I" } : Jvm.MethodName)) ∈ lw_all := lw_g (lw_at lw_m1 169 rfl) rfl
theorem q202 : (Jvm.Cond.methodLink "BellRowsLaw" (76 : Nat) ({ cls := "BellRows", name := "order", desc := "(I)I" } : Jvm.MethodName)) ∈ lw_all := lw_g (lw_at lw_m1 173 rfl) rfl
theorem q210 : (Jvm.Cond.methodLink "BellRowsLaw" (80 : Nat) ({ cls := "BellRows", name := "home", desc := "()I" } : Jvm.MethodName)) ∈ lw_all := lw_g (lw_at lw_m1 181 rfl) rfl
theorem q214 : (Jvm.Cond.methodLink "BellRowsLaw" (84 : Nat) ({ cls := "BellRows", name := "leads", desc := "(I)I" } : Jvm.MethodName)) ∈ lw_all := lw_g (lw_at lw_m1 185 rfl) rfl
theorem q218 : (Jvm.Cond.methodLink "BellRowsLaw" (88 : Nat) ({ cls := "BellRows", name := "choices", desc := "()I" } : Jvm.MethodName)) ∈ lw_all := lw_g (lw_at lw_m1 189 rfl) rfl
theorem q222 : (Jvm.Cond.methodLink "BellRowsLaw" (9 : Nat) ({ cls := "BellRowsLaw", name := "cell", desc := "([II)I" } : Jvm.MethodName)) ∈ lw_all := lw_g (lw_at lw_m1 193 rfl) rfl
theorem q223 : (Jvm.Cond.static ({ cls := "BellRowsLaw", name := "cell", desc := "([II)I" } : Jvm.MethodName)) ∈ lw_all := lw_g (lw_at lw_m1 194 rfl) rfl
theorem q224 : (Jvm.Cond.code ({ cls := "BellRowsLaw", name := "cell", desc := "([II)I" } : Jvm.MethodName) method_2_code (2 : Nat) (Option.some Jvm.ClassFile.FieldType.int)) ∈ lw_all := lw_g (lw_at lw_m1 195 rfl) rfl
theorem q225 : (Jvm.Cond.classLink "BellRowsLaw" (18 : Nat) "BellRowsModel") ∈ lw_all := lw_g (lw_at lw_m1 196 rfl) rfl
theorem q227 : (Jvm.Cond.methodLink "BellRowsLaw" (20 : Nat) ({ cls := "BellRowsModel", name := "<init>", desc := "(I)V" } : Jvm.MethodName)) ∈ lw_all := lw_g (lw_at lw_m1 198 rfl) rfl
theorem q259 : (Jvm.Cond.methodLink "BellRowsLaw" (25 : Nat) ({ cls := "BellRowsModel", name := "change", desc := "(I)I" } : Jvm.MethodName)) ∈ lw_all := lw_g (lw_at lw_m1 230 rfl) rfl
theorem q267 : (Jvm.Cond.methodLink "BellRowsLaw" (30 : Nat) ({ cls := "BellRowsModel", name := "drop", desc := "()I" } : Jvm.MethodName)) ∈ lw_all := lw_g (lw_at lw_m1 238 rfl) rfl
theorem q271 : (Jvm.Cond.methodLink "BellRowsLaw" (35 : Nat) ({ cls := "BellRowsModel", name := "call", desc := "(II)I" } : Jvm.MethodName)) ∈ lw_all := lw_g (lw_at lw_m2 2 rfl) rfl
theorem q275 : (Jvm.Cond.methodLink "BellRowsLaw" (39 : Nat) ({ cls := "BellRowsModel", name := "lead", desc := "(I)I" } : Jvm.MethodName)) ∈ lw_all := lw_g (lw_at lw_m2 6 rfl) rfl
theorem q283 : (Jvm.Cond.methodLink "BellRowsLaw" (43 : Nat) ({ cls := "BellRowsModel", name := "back", desc := "()I" } : Jvm.MethodName)) ∈ lw_all := lw_g (lw_at lw_m2 14 rfl) rfl
theorem q287 : (Jvm.Cond.methodLink "BellRowsLaw" (47 : Nat) ({ cls := "BellRowsModel", name := "turn", desc := "()I" } : Jvm.MethodName)) ∈ lw_all := lw_g (lw_at lw_m2 18 rfl) rfl
theorem q291 : (Jvm.Cond.methodLink "BellRowsLaw" (51 : Nat) ({ cls := "BellRowsModel", name := "last", desc := "()I" } : Jvm.MethodName)) ∈ lw_all := lw_g (lw_at lw_m2 22 rfl) rfl
theorem q295 : (Jvm.Cond.methodLink "BellRowsLaw" (55 : Nat) ({ cls := "BellRowsModel", name := "row", desc := "(I)I" } : Jvm.MethodName)) ∈ lw_all := lw_g (lw_at lw_m2 26 rfl) rfl
theorem q323 : (Jvm.Cond.methodLink "BellRowsLaw" (59 : Nat) ({ cls := "BellRowsModel", name := "place", desc := "(II)I" } : Jvm.MethodName)) ∈ lw_all := lw_g (lw_at lw_m2 54 rfl) rfl
theorem q331 : (Jvm.Cond.methodLink "BellRowsLaw" (63 : Nat) ({ cls := "BellRowsModel", name := "isTrue", desc := "()I" } : Jvm.MethodName)) ∈ lw_all := lw_g (lw_at lw_m2 62 rfl) rfl
theorem q339 : (Jvm.Cond.methodLink "BellRowsLaw" (67 : Nat) ({ cls := "BellRowsModel", name := "different", desc := "()I" } : Jvm.MethodName)) ∈ lw_all := lw_g (lw_at lw_m2 70 rfl) rfl
theorem q343 : (Jvm.Cond.methodLink "BellRowsLaw" (71 : Nat) ({ cls := "BellRowsModel", name := "falsePairs", desc := "()I" } : Jvm.MethodName)) ∈ lw_all := lw_g (lw_at lw_m2 74 rfl) rfl
theorem q351 : (Jvm.Cond.methodLink "BellRowsLaw" (75 : Nat) ({ cls := "BellRowsModel", name := "falseAlone", desc := "(I)I" } : Jvm.MethodName)) ∈ lw_all := lw_g (lw_at lw_m2 82 rfl) rfl
theorem q355 : (Jvm.Cond.methodLink "BellRowsLaw" (79 : Nat) ({ cls := "BellRowsModel", name := "order", desc := "(I)I" } : Jvm.MethodName)) ∈ lw_all := lw_g (lw_at lw_m2 86 rfl) rfl
theorem q359 : (Jvm.Cond.methodLink "BellRowsLaw" (83 : Nat) ({ cls := "BellRowsModel", name := "home", desc := "()I" } : Jvm.MethodName)) ∈ lw_all := lw_g (lw_at lw_m2 90 rfl) rfl
theorem q363 : (Jvm.Cond.methodLink "BellRowsLaw" (87 : Nat) ({ cls := "BellRowsModel", name := "leads", desc := "(I)I" } : Jvm.MethodName)) ∈ lw_all := lw_g (lw_at lw_m2 94 rfl) rfl
theorem q367 : (Jvm.Cond.methodLink "BellRowsLaw" (91 : Nat) ({ cls := "BellRowsModel", name := "choices", desc := "()I" } : Jvm.MethodName)) ∈ lw_all := lw_g (lw_at lw_m2 98 rfl) rfl
/-! java/lang/Object -/
def RJ0 : String := "java/lang/Object"
abbrev cJ0_init : ByteArray := object_method_1_code
def yJ0_init : MethodName := ⟨RJ0, "<init>", "()V"⟩
theorem q38 : (Jvm.Cond.instanceMethod ({ cls := "java/lang/Object", name := "<init>", desc := "()V" } : Jvm.MethodName)) ∈ lw_all := lw_g (lw_at lw_m1 9 rfl) rfl
theorem q39 : (Jvm.Cond.code ({ cls := "java/lang/Object", name := "<init>", desc := "()V" } : Jvm.MethodName) object_method_1_code (1 : Nat) (Option.none : Option Jvm.ClassFile.FieldType)) ∈ lw_all := lw_g (lw_at lw_m1 10 rfl) rfl
theorem q80 : (Jvm.Cond.arrayClass Jvm.ClassFile.FieldType.byte) ∈ lw_all := lw_g (lw_at lw_m1 51 rfl) rfl
theorem q81 : (Jvm.Cond.arrayClass Jvm.ClassFile.FieldType.int) ∈ lw_all := lw_g (lw_at lw_m1 52 rfl) rfl
/-! the law's own entry -/
abbrev cL_law : ByteArray := code
end
section
set_option maxRecDepth 100000
theorem dX1_init_0 : decode cX1_init 0 = .ok (.aload_n 0, 1) := by decide +kernel
theorem dX1_init_1 : decode cX1_init 1 = .ok (.invokespecial 1, 3) := by decide +kernel
theorem dX1_init_4 : decode cX1_init 4 = .ok (.aload_n 0, 1) := by decide +kernel
theorem dX1_init_5 : decode cX1_init 5 = .ok (.bipush 12, 2) := by decide +kernel
theorem dX1_init_7 : decode cX1_init 7 = .ok (.newarray .byte, 2) := by decide +kernel
theorem dX1_init_9 : decode cX1_init 9 = .ok (.putfield 7, 3) := by decide +kernel
theorem dX1_init_12 : decode cX1_init 12 = .ok (.aload_n 0, 1) := by decide +kernel
theorem dX1_init_13 : decode cX1_init 13 = .ok (.iconst 3, 1) := by decide +kernel
theorem dX1_init_14 : decode cX1_init 14 = .ok (.newarray .byte, 2) := by decide +kernel
theorem dX1_init_16 : decode cX1_init 16 = .ok (.putfield 13, 3) := by decide +kernel
theorem dX1_init_19 : decode cX1_init 19 = .ok (.aload_n 0, 1) := by decide +kernel
theorem dX1_init_20 : decode cX1_init 20 = .ok (.bipush 20, 2) := by decide +kernel
theorem dX1_init_22 : decode cX1_init 22 = .ok (.newarray .byte, 2) := by decide +kernel
theorem dX1_init_24 : decode cX1_init 24 = .ok (.putfield 16, 3) := by decide +kernel
theorem dX1_init_27 : decode cX1_init 27 = .ok (.aload_n 0, 1) := by decide +kernel
theorem dX1_init_28 : decode cX1_init 28 = .ok (.sipush 234, 3) := by decide +kernel
theorem dX1_init_31 : decode cX1_init 31 = .ok (.newarray .byte, 2) := by decide +kernel
theorem dX1_init_33 : decode cX1_init 33 = .ok (.putfield 19, 3) := by decide +kernel
theorem dX1_init_36 : decode cX1_init 36 = .ok (.aload_n 0, 1) := by decide +kernel
theorem dX1_init_37 : decode cX1_init 37 = .ok (.bipush 126, 2) := by decide +kernel
theorem dX1_init_39 : decode cX1_init 39 = .ok (.newarray .byte, 2) := by decide +kernel
theorem dX1_init_41 : decode cX1_init 41 = .ok (.putfield 22, 3) := by decide +kernel
theorem dX1_init_44 : decode cX1_init 44 = .ok (.aload_n 0, 1) := by decide +kernel
theorem dX1_init_45 : decode cX1_init 45 = .ok (.sipush 207, 3) := by decide +kernel
theorem dX1_init_48 : decode cX1_init 48 = .ok (.newarray .int, 2) := by decide +kernel
theorem dX1_init_50 : decode cX1_init 50 = .ok (.putfield 25, 3) := by decide +kernel
theorem dX1_init_53 : decode cX1_init 53 = .ok (.aload_n 0, 1) := by decide +kernel
theorem dX1_init_54 : decode cX1_init 54 = .ok (.bipush 23, 2) := by decide +kernel
theorem dX1_init_56 : decode cX1_init 56 = .ok (.newarray .int, 2) := by decide +kernel
theorem dX1_init_58 : decode cX1_init 58 = .ok (.putfield 29, 3) := by decide +kernel
theorem dX1_init_61 : decode cX1_init 61 = .ok (.aload_n 0, 1) := by decide +kernel
theorem dX1_init_62 : decode cX1_init 62 = .ok (.bipush 6, 2) := by decide +kernel
theorem dX1_init_64 : decode cX1_init 64 = .ok (.newarray .byte, 2) := by decide +kernel
theorem dX1_init_66 : decode cX1_init 66 = .ok (.putfield 32, 3) := by decide +kernel
theorem dX1_init_69 : decode cX1_init 69 = .ok (.aload_n 0, 1) := by decide +kernel
theorem dX1_init_70 : decode cX1_init 70 = .ok (.bipush 6, 2) := by decide +kernel
theorem dX1_init_72 : decode cX1_init 72 = .ok (.newarray .byte, 2) := by decide +kernel
theorem dX1_init_74 : decode cX1_init 74 = .ok (.putfield 35, 3) := by decide +kernel
theorem dX1_init_77 : decode cX1_init 77 = .ok (.aload_n 0, 1) := by decide +kernel
theorem dX1_init_78 : decode cX1_init 78 = .ok (.iload_n 1, 1) := by decide +kernel
theorem dX1_init_79 : decode cX1_init 79 = .ok (.iconst 3, 1) := by decide +kernel
theorem dX1_init_80 : decode cX1_init 80 = .ok (.if_icmp .ge 7, 3) := by decide +kernel
theorem dX1_init_83 : decode cX1_init 83 = .ok (.iconst 3, 1) := by decide +kernel
theorem dX1_init_84 : decode cX1_init 84 = .ok (.goto 15, 3) := by decide +kernel
theorem dX1_init_87 : decode cX1_init 87 = .ok (.iload_n 1, 1) := by decide +kernel
theorem dX1_init_88 : decode cX1_init 88 = .ok (.bipush 6, 2) := by decide +kernel
theorem dX1_init_90 : decode cX1_init 90 = .ok (.if_icmp .le 8, 3) := by decide +kernel
theorem dX1_init_93 : decode cX1_init 93 = .ok (.bipush 6, 2) := by decide +kernel
theorem dX1_init_95 : decode cX1_init 95 = .ok (.goto 4, 3) := by decide +kernel
theorem dX1_init_98 : decode cX1_init 98 = .ok (.iload_n 1, 1) := by decide +kernel
theorem dX1_init_99 : decode cX1_init 99 = .ok (.putfield 38, 3) := by decide +kernel
theorem dX1_init_102 : decode cX1_init 102 = .ok (.aload_n 0, 1) := by decide +kernel
theorem dX1_init_103 : decode cX1_init 103 = .ok (.iconst 1, 1) := by decide +kernel
theorem dX1_init_104 : decode cX1_init 104 = .ok (.putfield 42, 3) := by decide +kernel
theorem dX1_init_107 : decode cX1_init 107 = .ok (.aload_n 0, 1) := by decide +kernel
theorem dX1_init_108 : decode cX1_init 108 = .ok (.getfield 7, 3) := by decide +kernel
theorem dX1_init_111 : decode cX1_init 111 = .ok (.iconst 0, 1) := by decide +kernel
theorem dX1_init_112 : decode cX1_init 112 = .ok (.iconst 1, 1) := by decide +kernel
theorem dX1_init_113 : decode cX1_init 113 = .ok (.aload_n 0, 1) := by decide +kernel
theorem dX1_init_114 : decode cX1_init 114 = .ok (.getfield 38, 3) := by decide +kernel
theorem dX1_init_117 : decode cX1_init 117 = .ok (.ishl, 1) := by decide +kernel
theorem dX1_init_118 : decode cX1_init 118 = .ok (.iconst 1, 1) := by decide +kernel
theorem dX1_init_119 : decode cX1_init 119 = .ok (.isub, 1) := by decide +kernel
theorem dX1_init_120 : decode cX1_init 120 = .ok (.i2b, 1) := by decide +kernel
theorem dX1_init_121 : decode cX1_init 121 = .ok (.bastore, 1) := by decide +kernel
theorem dX1_init_122 : decode cX1_init 122 = .ok (.aload_n 0, 1) := by decide +kernel
theorem dX1_init_123 : decode cX1_init 123 = .ok (.getfield 13, 3) := by decide +kernel
theorem dX1_init_126 : decode cX1_init 126 = .ok (.iconst 1, 1) := by decide +kernel
theorem dX1_init_127 : decode cX1_init 127 = .ok (.aload_n 0, 1) := by decide +kernel
theorem dX1_init_128 : decode cX1_init 128 = .ok (.getfield 7, 3) := by decide +kernel
theorem dX1_init_131 : decode cX1_init 131 = .ok (.iconst 0, 1) := by decide +kernel
theorem dX1_init_132 : decode cX1_init 132 = .ok (.baload, 1) := by decide +kernel
theorem dX1_init_133 : decode cX1_init 133 = .ok (.bastore, 1) := by decide +kernel
theorem dX1_init_134 : decode cX1_init 134 = .ok (.aload_n 0, 1) := by decide +kernel
theorem dX1_init_135 : decode cX1_init 135 = .ok (.getfield 13, 3) := by decide +kernel
theorem dX1_init_138 : decode cX1_init 138 = .ok (.iconst 2, 1) := by decide +kernel
theorem dX1_init_139 : decode cX1_init 139 = .ok (.aload_n 0, 1) := by decide +kernel
theorem dX1_init_140 : decode cX1_init 140 = .ok (.getfield 7, 3) := by decide +kernel
theorem dX1_init_143 : decode cX1_init 143 = .ok (.iconst 0, 1) := by decide +kernel
theorem dX1_init_144 : decode cX1_init 144 = .ok (.baload, 1) := by decide +kernel
theorem dX1_init_145 : decode cX1_init 145 = .ok (.bastore, 1) := by decide +kernel
theorem dX1_init_146 : decode cX1_init 146 = .ok (.return_, 1) := by decide +kernel
theorem dX1_change_0 : decode cX1_change 0 = .ok (.aload_n 0, 1) := by decide +kernel
theorem dX1_change_1 : decode cX1_change 1 = .ok (.iload_n 1, 1) := by decide +kernel
theorem dX1_change_2 : decode cX1_change 2 = .ok (.invokevirtual 45, 3) := by decide +kernel
theorem dX1_change_5 : decode cX1_change 5 = .ok (.istore_n 2, 1) := by decide +kernel
theorem dX1_change_6 : decode cX1_change 6 = .ok (.iload_n 2, 1) := by decide +kernel
theorem dX1_change_7 : decode cX1_change 7 = .ok (.ifCond .ne 5, 3) := by decide +kernel
theorem dX1_change_10 : decode cX1_change 10 = .ok (.iconst (-1), 1) := by decide +kernel
theorem dX1_change_11 : decode cX1_change 11 = .ok (.ireturn, 1) := by decide +kernel
theorem dX1_change_12 : decode cX1_change 12 = .ok (.aload_n 0, 1) := by decide +kernel
theorem dX1_change_13 : decode cX1_change 13 = .ok (.getfield 42, 3) := by decide +kernel
theorem dX1_change_16 : decode cX1_change 16 = .ok (.bipush 12, 2) := by decide +kernel
theorem dX1_change_18 : decode cX1_change 18 = .ok (.if_icmp .ne 6, 3) := by decide +kernel
theorem dX1_change_21 : decode cX1_change 21 = .ok (.bipush (-2), 2) := by decide +kernel
theorem dX1_change_23 : decode cX1_change 23 = .ok (.ireturn, 1) := by decide +kernel
theorem dX1_change_24 : decode cX1_change 24 = .ok (.aload_n 0, 1) := by decide +kernel
theorem dX1_change_25 : decode cX1_change 25 = .ok (.getfield 7, 3) := by decide +kernel
theorem dX1_change_28 : decode cX1_change 28 = .ok (.aload_n 0, 1) := by decide +kernel
theorem dX1_change_29 : decode cX1_change 29 = .ok (.getfield 42, 3) := by decide +kernel
theorem dX1_change_32 : decode cX1_change 32 = .ok (.iload_n 1, 1) := by decide +kernel
theorem dX1_change_33 : decode cX1_change 33 = .ok (.i2b, 1) := by decide +kernel
theorem dX1_change_34 : decode cX1_change 34 = .ok (.bastore, 1) := by decide +kernel
theorem dX1_change_35 : decode cX1_change 35 = .ok (.aload_n 0, 1) := by decide +kernel
theorem dX1_change_36 : decode cX1_change 36 = .ok (.dup, 1) := by decide +kernel
theorem dX1_change_37 : decode cX1_change 37 = .ok (.getfield 42, 3) := by decide +kernel
theorem dX1_change_40 : decode cX1_change 40 = .ok (.iconst 1, 1) := by decide +kernel
theorem dX1_change_41 : decode cX1_change 41 = .ok (.iadd, 1) := by decide +kernel
theorem dX1_change_42 : decode cX1_change 42 = .ok (.putfield 42, 3) := by decide +kernel
theorem dX1_change_45 : decode cX1_change 45 = .ok (.aload_n 0, 1) := by decide +kernel
theorem dX1_change_46 : decode cX1_change 46 = .ok (.iconst 0, 1) := by decide +kernel
theorem dX1_change_47 : decode cX1_change 47 = .ok (.putfield 49, 3) := by decide +kernel
theorem dX1_change_50 : decode cX1_change 50 = .ok (.aload_n 0, 1) := by decide +kernel
theorem dX1_change_51 : decode cX1_change 51 = .ok (.getfield 42, 3) := by decide +kernel
theorem dX1_change_54 : decode cX1_change 54 = .ok (.ireturn, 1) := by decide +kernel
theorem dX1_isChange_0 : decode cX1_isChange 0 = .ok (.iload_n 1, 1) := by decide +kernel
theorem dX1_isChange_1 : decode cX1_isChange 1 = .ok (.ifCond .lt 13, 3) := by decide +kernel
theorem dX1_isChange_4 : decode cX1_isChange 4 = .ok (.iload_n 1, 1) := by decide +kernel
theorem dX1_isChange_5 : decode cX1_isChange 5 = .ok (.iconst 1, 1) := by decide +kernel
theorem dX1_isChange_6 : decode cX1_isChange 6 = .ok (.aload_n 0, 1) := by decide +kernel
theorem dX1_isChange_7 : decode cX1_isChange 7 = .ok (.getfield 38, 3) := by decide +kernel
theorem dX1_isChange_10 : decode cX1_isChange 10 = .ok (.ishl, 1) := by decide +kernel
theorem dX1_isChange_11 : decode cX1_isChange 11 = .ok (.if_icmp .lt 5, 3) := by decide +kernel
theorem dX1_isChange_14 : decode cX1_isChange 14 = .ok (.iconst 0, 1) := by decide +kernel
theorem dX1_isChange_15 : decode cX1_isChange 15 = .ok (.ireturn, 1) := by decide +kernel
theorem dX1_isChange_16 : decode cX1_isChange 16 = .ok (.iconst 1, 1) := by decide +kernel
theorem dX1_isChange_17 : decode cX1_isChange 17 = .ok (.istore_n 2, 1) := by decide +kernel
theorem dX1_isChange_18 : decode cX1_isChange 18 = .ok (.iconst 0, 1) := by decide +kernel
theorem dX1_isChange_19 : decode cX1_isChange 19 = .ok (.istore_n 3, 1) := by decide +kernel
theorem dX1_isChange_20 : decode cX1_isChange 20 = .ok (.iload_n 3, 1) := by decide +kernel
theorem dX1_isChange_21 : decode cX1_isChange 21 = .ok (.aload_n 0, 1) := by decide +kernel
theorem dX1_isChange_22 : decode cX1_isChange 22 = .ok (.getfield 38, 3) := by decide +kernel
theorem dX1_isChange_25 : decode cX1_isChange 25 = .ok (.if_icmp .ge 55, 3) := by decide +kernel
theorem dX1_isChange_28 : decode cX1_isChange 28 = .ok (.iload_n 2, 1) := by decide +kernel
theorem dX1_isChange_29 : decode cX1_isChange 29 = .ok (.ifCond .eq 51, 3) := by decide +kernel
theorem dX1_isChange_32 : decode cX1_isChange 32 = .ok (.iload_n 1, 1) := by decide +kernel
theorem dX1_isChange_33 : decode cX1_isChange 33 = .ok (.iload_n 3, 1) := by decide +kernel
theorem dX1_isChange_34 : decode cX1_isChange 34 = .ok (.ishr, 1) := by decide +kernel
theorem dX1_isChange_35 : decode cX1_isChange 35 = .ok (.iconst 1, 1) := by decide +kernel
theorem dX1_isChange_36 : decode cX1_isChange 36 = .ok (.iand, 1) := by decide +kernel
theorem dX1_isChange_37 : decode cX1_isChange 37 = .ok (.iconst 1, 1) := by decide +kernel
theorem dX1_isChange_38 : decode cX1_isChange 38 = .ok (.if_icmp .ne 9, 3) := by decide +kernel
theorem dX1_isChange_41 : decode cX1_isChange 41 = .ok (.iinc 3 1, 3) := by decide +kernel
theorem dX1_isChange_44 : decode cX1_isChange 44 = .ok (.goto (-24), 3) := by decide +kernel
theorem dX1_isChange_47 : decode cX1_isChange 47 = .ok (.iload_n 3, 1) := by decide +kernel
theorem dX1_isChange_48 : decode cX1_isChange 48 = .ok (.iconst 1, 1) := by decide +kernel
theorem dX1_isChange_49 : decode cX1_isChange 49 = .ok (.iadd, 1) := by decide +kernel
theorem dX1_isChange_50 : decode cX1_isChange 50 = .ok (.aload_n 0, 1) := by decide +kernel
theorem dX1_isChange_51 : decode cX1_isChange 51 = .ok (.getfield 38, 3) := by decide +kernel
theorem dX1_isChange_54 : decode cX1_isChange 54 = .ok (.if_icmp .ge 17, 3) := by decide +kernel
theorem dX1_isChange_57 : decode cX1_isChange 57 = .ok (.iload_n 1, 1) := by decide +kernel
theorem dX1_isChange_58 : decode cX1_isChange 58 = .ok (.iload_n 3, 1) := by decide +kernel
theorem dX1_isChange_59 : decode cX1_isChange 59 = .ok (.iconst 1, 1) := by decide +kernel
theorem dX1_isChange_60 : decode cX1_isChange 60 = .ok (.iadd, 1) := by decide +kernel
theorem dX1_isChange_61 : decode cX1_isChange 61 = .ok (.ishr, 1) := by decide +kernel
theorem dX1_isChange_62 : decode cX1_isChange 62 = .ok (.iconst 1, 1) := by decide +kernel
theorem dX1_isChange_63 : decode cX1_isChange 63 = .ok (.iand, 1) := by decide +kernel
theorem dX1_isChange_64 : decode cX1_isChange 64 = .ok (.ifCond .ne 7, 3) := by decide +kernel
theorem dX1_isChange_67 : decode cX1_isChange 67 = .ok (.iconst 1, 1) := by decide +kernel
theorem dX1_isChange_68 : decode cX1_isChange 68 = .ok (.goto 4, 3) := by decide +kernel
theorem dX1_isChange_71 : decode cX1_isChange 71 = .ok (.iconst 0, 1) := by decide +kernel
theorem dX1_isChange_72 : decode cX1_isChange 72 = .ok (.istore_n 2, 1) := by decide +kernel
theorem dX1_isChange_73 : decode cX1_isChange 73 = .ok (.iload_n 3, 1) := by decide +kernel
theorem dX1_isChange_74 : decode cX1_isChange 74 = .ok (.iconst 2, 1) := by decide +kernel
theorem dX1_isChange_75 : decode cX1_isChange 75 = .ok (.iadd, 1) := by decide +kernel
theorem dX1_isChange_76 : decode cX1_isChange 76 = .ok (.istore_n 3, 1) := by decide +kernel
theorem dX1_isChange_77 : decode cX1_isChange 77 = .ok (.goto (-57), 3) := by decide +kernel
theorem dX1_isChange_80 : decode cX1_isChange 80 = .ok (.iload_n 2, 1) := by decide +kernel
theorem dX1_isChange_81 : decode cX1_isChange 81 = .ok (.ireturn, 1) := by decide +kernel
theorem dX1_drop_0 : decode cX1_drop 0 = .ok (.aload_n 0, 1) := by decide +kernel
theorem dX1_drop_1 : decode cX1_drop 1 = .ok (.getfield 42, 3) := by decide +kernel
theorem dX1_drop_4 : decode cX1_drop 4 = .ok (.iconst 1, 1) := by decide +kernel
theorem dX1_drop_5 : decode cX1_drop 5 = .ok (.if_icmp .ne 6, 3) := by decide +kernel
theorem dX1_drop_8 : decode cX1_drop 8 = .ok (.bipush (-4), 2) := by decide +kernel
theorem dX1_drop_10 : decode cX1_drop 10 = .ok (.ireturn, 1) := by decide +kernel
theorem dX1_drop_11 : decode cX1_drop 11 = .ok (.aload_n 0, 1) := by decide +kernel
theorem dX1_drop_12 : decode cX1_drop 12 = .ok (.getfield 7, 3) := by decide +kernel
theorem dX1_drop_15 : decode cX1_drop 15 = .ok (.iconst 0, 1) := by decide +kernel
theorem dX1_drop_16 : decode cX1_drop 16 = .ok (.baload, 1) := by decide +kernel
theorem dX1_drop_17 : decode cX1_drop 17 = .ok (.istore_n 1, 1) := by decide +kernel
theorem dX1_drop_18 : decode cX1_drop 18 = .ok (.aload_n 0, 1) := by decide +kernel
theorem dX1_drop_19 : decode cX1_drop 19 = .ok (.dup, 1) := by decide +kernel
theorem dX1_drop_20 : decode cX1_drop 20 = .ok (.getfield 42, 3) := by decide +kernel
theorem dX1_drop_23 : decode cX1_drop 23 = .ok (.iconst 1, 1) := by decide +kernel
theorem dX1_drop_24 : decode cX1_drop 24 = .ok (.isub, 1) := by decide +kernel
theorem dX1_drop_25 : decode cX1_drop 25 = .ok (.putfield 42, 3) := by decide +kernel
theorem dX1_drop_28 : decode cX1_drop 28 = .ok (.iconst 0, 1) := by decide +kernel
theorem dX1_drop_29 : decode cX1_drop 29 = .ok (.istore_n 2, 1) := by decide +kernel
theorem dX1_drop_30 : decode cX1_drop 30 = .ok (.iload_n 2, 1) := by decide +kernel
theorem dX1_drop_31 : decode cX1_drop 31 = .ok (.aload_n 0, 1) := by decide +kernel
theorem dX1_drop_32 : decode cX1_drop 32 = .ok (.getfield 42, 3) := by decide +kernel
theorem dX1_drop_35 : decode cX1_drop 35 = .ok (.if_icmp .ge 23, 3) := by decide +kernel
theorem dX1_drop_38 : decode cX1_drop 38 = .ok (.aload_n 0, 1) := by decide +kernel
theorem dX1_drop_39 : decode cX1_drop 39 = .ok (.getfield 7, 3) := by decide +kernel
theorem dX1_drop_42 : decode cX1_drop 42 = .ok (.iload_n 2, 1) := by decide +kernel
theorem dX1_drop_43 : decode cX1_drop 43 = .ok (.aload_n 0, 1) := by decide +kernel
theorem dX1_drop_44 : decode cX1_drop 44 = .ok (.getfield 7, 3) := by decide +kernel
theorem dX1_drop_47 : decode cX1_drop 47 = .ok (.iload_n 2, 1) := by decide +kernel
theorem dX1_drop_48 : decode cX1_drop 48 = .ok (.iconst 1, 1) := by decide +kernel
theorem dX1_drop_49 : decode cX1_drop 49 = .ok (.iadd, 1) := by decide +kernel
theorem dX1_drop_50 : decode cX1_drop 50 = .ok (.baload, 1) := by decide +kernel
theorem dX1_drop_51 : decode cX1_drop 51 = .ok (.bastore, 1) := by decide +kernel
theorem dX1_drop_52 : decode cX1_drop 52 = .ok (.iinc 2 1, 3) := by decide +kernel
theorem dX1_drop_55 : decode cX1_drop 55 = .ok (.goto (-25), 3) := by decide +kernel
theorem dX1_drop_58 : decode cX1_drop 58 = .ok (.aload_n 0, 1) := by decide +kernel
theorem dX1_drop_59 : decode cX1_drop 59 = .ok (.iconst 0, 1) := by decide +kernel
theorem dX1_drop_60 : decode cX1_drop 60 = .ok (.putfield 49, 3) := by decide +kernel
theorem dX1_drop_63 : decode cX1_drop 63 = .ok (.iload_n 1, 1) := by decide +kernel
theorem dX1_drop_64 : decode cX1_drop 64 = .ok (.ireturn, 1) := by decide +kernel
theorem dX1_call_0 : decode cX1_call 0 = .ok (.aload_n 0, 1) := by decide +kernel
theorem dX1_call_1 : decode cX1_call 1 = .ok (.iload_n 2, 1) := by decide +kernel
theorem dX1_call_2 : decode cX1_call 2 = .ok (.invokevirtual 45, 3) := by decide +kernel
theorem dX1_call_5 : decode cX1_call 5 = .ok (.istore_n 3, 1) := by decide +kernel
theorem dX1_call_6 : decode cX1_call 6 = .ok (.iload_n 1, 1) := by decide +kernel
theorem dX1_call_7 : decode cX1_call 7 = .ok (.iconst 1, 1) := by decide +kernel
theorem dX1_call_8 : decode cX1_call 8 = .ok (.if_icmp .lt 12, 3) := by decide +kernel
theorem dX1_call_11 : decode cX1_call 11 = .ok (.iload_n 1, 1) := by decide +kernel
theorem dX1_call_12 : decode cX1_call 12 = .ok (.iconst 2, 1) := by decide +kernel
theorem dX1_call_13 : decode cX1_call 13 = .ok (.if_icmp .gt 7, 3) := by decide +kernel
theorem dX1_call_16 : decode cX1_call 16 = .ok (.iload_n 3, 1) := by decide +kernel
theorem dX1_call_17 : decode cX1_call 17 = .ok (.ifCond .ne 5, 3) := by decide +kernel
theorem dX1_call_20 : decode cX1_call 20 = .ok (.iconst (-1), 1) := by decide +kernel
theorem dX1_call_21 : decode cX1_call 21 = .ok (.ireturn, 1) := by decide +kernel
theorem dX1_call_22 : decode cX1_call 22 = .ok (.aload_n 0, 1) := by decide +kernel
theorem dX1_call_23 : decode cX1_call 23 = .ok (.getfield 13, 3) := by decide +kernel
theorem dX1_call_26 : decode cX1_call 26 = .ok (.iload_n 1, 1) := by decide +kernel
theorem dX1_call_27 : decode cX1_call 27 = .ok (.baload, 1) := by decide +kernel
theorem dX1_call_28 : decode cX1_call 28 = .ok (.istore 4, 2) := by decide +kernel
theorem dX1_call_30 : decode cX1_call 30 = .ok (.aload_n 0, 1) := by decide +kernel
theorem dX1_call_31 : decode cX1_call 31 = .ok (.getfield 13, 3) := by decide +kernel
theorem dX1_call_34 : decode cX1_call 34 = .ok (.iload_n 1, 1) := by decide +kernel
theorem dX1_call_35 : decode cX1_call 35 = .ok (.iload_n 2, 1) := by decide +kernel
theorem dX1_call_36 : decode cX1_call 36 = .ok (.i2b, 1) := by decide +kernel
theorem dX1_call_37 : decode cX1_call 37 = .ok (.bastore, 1) := by decide +kernel
theorem dX1_call_38 : decode cX1_call 38 = .ok (.aload_n 0, 1) := by decide +kernel
theorem dX1_call_39 : decode cX1_call 39 = .ok (.iconst 0, 1) := by decide +kernel
theorem dX1_call_40 : decode cX1_call 40 = .ok (.putfield 49, 3) := by decide +kernel
theorem dX1_call_43 : decode cX1_call 43 = .ok (.iload 4, 2) := by decide +kernel
theorem dX1_call_45 : decode cX1_call 45 = .ok (.ireturn, 1) := by decide +kernel
theorem dX1_lead_0 : decode cX1_lead 0 = .ok (.aload_n 0, 1) := by decide +kernel
theorem dX1_lead_1 : decode cX1_lead 1 = .ok (.iload_n 1, 1) := by decide +kernel
theorem dX1_lead_2 : decode cX1_lead 2 = .ok (.invokevirtual 53, 3) := by decide +kernel
theorem dX1_lead_5 : decode cX1_lead 5 = .ok (.ifCond .eq 5, 3) := by decide +kernel
theorem dX1_lead_8 : decode cX1_lead 8 = .ok (.iconst (-1), 1) := by decide +kernel
theorem dX1_lead_9 : decode cX1_lead 9 = .ok (.ireturn, 1) := by decide +kernel
theorem dX1_lead_10 : decode cX1_lead 10 = .ok (.aload_n 0, 1) := by decide +kernel
theorem dX1_lead_11 : decode cX1_lead 11 = .ok (.getfield 56, 3) := by decide +kernel
theorem dX1_lead_14 : decode cX1_lead 14 = .ok (.bipush 20, 2) := by decide +kernel
theorem dX1_lead_16 : decode cX1_lead 16 = .ok (.if_icmp .ne 6, 3) := by decide +kernel
theorem dX1_lead_19 : decode cX1_lead 19 = .ok (.bipush (-2), 2) := by decide +kernel
theorem dX1_lead_21 : decode cX1_lead 21 = .ok (.ireturn, 1) := by decide +kernel
theorem dX1_lead_22 : decode cX1_lead 22 = .ok (.aload_n 0, 1) := by decide +kernel
theorem dX1_lead_23 : decode cX1_lead 23 = .ok (.getfield 16, 3) := by decide +kernel
theorem dX1_lead_26 : decode cX1_lead 26 = .ok (.aload_n 0, 1) := by decide +kernel
theorem dX1_lead_27 : decode cX1_lead 27 = .ok (.getfield 56, 3) := by decide +kernel
theorem dX1_lead_30 : decode cX1_lead 30 = .ok (.iload_n 1, 1) := by decide +kernel
theorem dX1_lead_31 : decode cX1_lead 31 = .ok (.i2b, 1) := by decide +kernel
theorem dX1_lead_32 : decode cX1_lead 32 = .ok (.bastore, 1) := by decide +kernel
theorem dX1_lead_33 : decode cX1_lead 33 = .ok (.aload_n 0, 1) := by decide +kernel
theorem dX1_lead_34 : decode cX1_lead 34 = .ok (.dup, 1) := by decide +kernel
theorem dX1_lead_35 : decode cX1_lead 35 = .ok (.getfield 56, 3) := by decide +kernel
theorem dX1_lead_38 : decode cX1_lead 38 = .ok (.iconst 1, 1) := by decide +kernel
theorem dX1_lead_39 : decode cX1_lead 39 = .ok (.iadd, 1) := by decide +kernel
theorem dX1_lead_40 : decode cX1_lead 40 = .ok (.putfield 56, 3) := by decide +kernel
theorem dX1_lead_43 : decode cX1_lead 43 = .ok (.aload_n 0, 1) := by decide +kernel
theorem dX1_lead_44 : decode cX1_lead 44 = .ok (.getfield 56, 3) := by decide +kernel
theorem dX1_lead_47 : decode cX1_lead 47 = .ok (.ireturn, 1) := by decide +kernel
theorem dX1_badCall_0 : decode cX1_badCall 0 = .ok (.iload_n 1, 1) := by decide +kernel
theorem dX1_badCall_1 : decode cX1_badCall 1 = .ok (.ifCond .lt 8, 3) := by decide +kernel
theorem dX1_badCall_4 : decode cX1_badCall 4 = .ok (.iload_n 1, 1) := by decide +kernel
theorem dX1_badCall_5 : decode cX1_badCall 5 = .ok (.iconst 3, 1) := by decide +kernel
theorem dX1_badCall_6 : decode cX1_badCall 6 = .ok (.if_icmp .lt 7, 3) := by decide +kernel
theorem dX1_badCall_9 : decode cX1_badCall 9 = .ok (.iconst 1, 1) := by decide +kernel
theorem dX1_badCall_10 : decode cX1_badCall 10 = .ok (.goto 4, 3) := by decide +kernel
theorem dX1_badCall_13 : decode cX1_badCall 13 = .ok (.iconst 0, 1) := by decide +kernel
theorem dX1_badCall_14 : decode cX1_badCall 14 = .ok (.ireturn, 1) := by decide +kernel
theorem dX1_back_0 : decode cX1_back 0 = .ok (.aload_n 0, 1) := by decide +kernel
theorem dX1_back_1 : decode cX1_back 1 = .ok (.getfield 56, 3) := by decide +kernel
theorem dX1_back_4 : decode cX1_back 4 = .ok (.ifCond .ne 6, 3) := by decide +kernel
theorem dX1_back_7 : decode cX1_back 7 = .ok (.bipush (-4), 2) := by decide +kernel
theorem dX1_back_9 : decode cX1_back 9 = .ok (.ireturn, 1) := by decide +kernel
theorem dX1_back_10 : decode cX1_back 10 = .ok (.aload_n 0, 1) := by decide +kernel
theorem dX1_back_11 : decode cX1_back 11 = .ok (.dup, 1) := by decide +kernel
theorem dX1_back_12 : decode cX1_back 12 = .ok (.getfield 56, 3) := by decide +kernel
theorem dX1_back_15 : decode cX1_back 15 = .ok (.iconst 1, 1) := by decide +kernel
theorem dX1_back_16 : decode cX1_back 16 = .ok (.isub, 1) := by decide +kernel
theorem dX1_back_17 : decode cX1_back 17 = .ok (.putfield 56, 3) := by decide +kernel
theorem dX1_back_20 : decode cX1_back 20 = .ok (.aload_n 0, 1) := by decide +kernel
theorem dX1_back_21 : decode cX1_back 21 = .ok (.getfield 16, 3) := by decide +kernel
theorem dX1_back_24 : decode cX1_back 24 = .ok (.aload_n 0, 1) := by decide +kernel
theorem dX1_back_25 : decode cX1_back 25 = .ok (.getfield 56, 3) := by decide +kernel
theorem dX1_back_28 : decode cX1_back 28 = .ok (.baload, 1) := by decide +kernel
theorem dX1_back_29 : decode cX1_back 29 = .ok (.ireturn, 1) := by decide +kernel
theorem dX1_turn_0 : decode cX1_turn 0 = .ok (.aload_n 0, 1) := by decide +kernel
theorem dX1_turn_1 : decode cX1_turn 1 = .ok (.getfield 56, 3) := by decide +kernel
theorem dX1_turn_4 : decode cX1_turn 4 = .ok (.ifCond .ne 6, 3) := by decide +kernel
theorem dX1_turn_7 : decode cX1_turn 7 = .ok (.bipush (-4), 2) := by decide +kernel
theorem dX1_turn_9 : decode cX1_turn 9 = .ok (.ireturn, 1) := by decide +kernel
theorem dX1_turn_10 : decode cX1_turn 10 = .ok (.aload_n 0, 1) := by decide +kernel
theorem dX1_turn_11 : decode cX1_turn 11 = .ok (.getfield 16, 3) := by decide +kernel
theorem dX1_turn_14 : decode cX1_turn 14 = .ok (.iconst 0, 1) := by decide +kernel
theorem dX1_turn_15 : decode cX1_turn 15 = .ok (.baload, 1) := by decide +kernel
theorem dX1_turn_16 : decode cX1_turn 16 = .ok (.istore_n 1, 1) := by decide +kernel
theorem dX1_turn_17 : decode cX1_turn 17 = .ok (.iconst 1, 1) := by decide +kernel
theorem dX1_turn_18 : decode cX1_turn 18 = .ok (.istore_n 2, 1) := by decide +kernel
theorem dX1_turn_19 : decode cX1_turn 19 = .ok (.iload_n 2, 1) := by decide +kernel
theorem dX1_turn_20 : decode cX1_turn 20 = .ok (.aload_n 0, 1) := by decide +kernel
theorem dX1_turn_21 : decode cX1_turn 21 = .ok (.getfield 56, 3) := by decide +kernel
theorem dX1_turn_24 : decode cX1_turn 24 = .ok (.if_icmp .ge 23, 3) := by decide +kernel
theorem dX1_turn_27 : decode cX1_turn 27 = .ok (.aload_n 0, 1) := by decide +kernel
theorem dX1_turn_28 : decode cX1_turn 28 = .ok (.getfield 16, 3) := by decide +kernel
theorem dX1_turn_31 : decode cX1_turn 31 = .ok (.iload_n 2, 1) := by decide +kernel
theorem dX1_turn_32 : decode cX1_turn 32 = .ok (.iconst 1, 1) := by decide +kernel
theorem dX1_turn_33 : decode cX1_turn 33 = .ok (.isub, 1) := by decide +kernel
theorem dX1_turn_34 : decode cX1_turn 34 = .ok (.aload_n 0, 1) := by decide +kernel
theorem dX1_turn_35 : decode cX1_turn 35 = .ok (.getfield 16, 3) := by decide +kernel
theorem dX1_turn_38 : decode cX1_turn 38 = .ok (.iload_n 2, 1) := by decide +kernel
theorem dX1_turn_39 : decode cX1_turn 39 = .ok (.baload, 1) := by decide +kernel
theorem dX1_turn_40 : decode cX1_turn 40 = .ok (.bastore, 1) := by decide +kernel
theorem dX1_turn_41 : decode cX1_turn 41 = .ok (.iinc 2 1, 3) := by decide +kernel
theorem dX1_turn_44 : decode cX1_turn 44 = .ok (.goto (-25), 3) := by decide +kernel
theorem dX1_turn_47 : decode cX1_turn 47 = .ok (.aload_n 0, 1) := by decide +kernel
theorem dX1_turn_48 : decode cX1_turn 48 = .ok (.getfield 16, 3) := by decide +kernel
theorem dX1_turn_51 : decode cX1_turn 51 = .ok (.aload_n 0, 1) := by decide +kernel
theorem dX1_turn_52 : decode cX1_turn 52 = .ok (.getfield 56, 3) := by decide +kernel
theorem dX1_turn_55 : decode cX1_turn 55 = .ok (.iconst 1, 1) := by decide +kernel
theorem dX1_turn_56 : decode cX1_turn 56 = .ok (.isub, 1) := by decide +kernel
theorem dX1_turn_57 : decode cX1_turn 57 = .ok (.iload_n 1, 1) := by decide +kernel
theorem dX1_turn_58 : decode cX1_turn 58 = .ok (.bastore, 1) := by decide +kernel
theorem dX1_turn_59 : decode cX1_turn 59 = .ok (.iload_n 1, 1) := by decide +kernel
theorem dX1_turn_60 : decode cX1_turn 60 = .ok (.ireturn, 1) := by decide +kernel
theorem dX1_last_0 : decode cX1_last 0 = .ok (.aload_n 0, 1) := by decide +kernel
theorem dX1_last_1 : decode cX1_last 1 = .ok (.getfield 56, 3) := by decide +kernel
theorem dX1_last_4 : decode cX1_last 4 = .ok (.aload_n 0, 1) := by decide +kernel
theorem dX1_last_5 : decode cX1_last 5 = .ok (.getfield 42, 3) := by decide +kernel
theorem dX1_last_8 : decode cX1_last 8 = .ok (.imul, 1) := by decide +kernel
theorem dX1_last_9 : decode cX1_last 9 = .ok (.ireturn, 1) := by decide +kernel
theorem dX1_row_0 : decode cX1_row 0 = .ok (.aload_n 0, 1) := by decide +kernel
theorem dX1_row_1 : decode cX1_row 1 = .ok (.iload_n 1, 1) := by decide +kernel
theorem dX1_row_2 : decode cX1_row 2 = .ok (.invokevirtual 81, 3) := by decide +kernel
theorem dX1_row_5 : decode cX1_row 5 = .ok (.ifCond .eq 6, 3) := by decide +kernel
theorem dX1_row_8 : decode cX1_row 8 = .ok (.bipush (-4), 2) := by decide +kernel
theorem dX1_row_10 : decode cX1_row 10 = .ok (.ireturn, 1) := by decide +kernel
theorem dX1_row_11 : decode cX1_row 11 = .ok (.aload_n 0, 1) := by decide +kernel
theorem dX1_row_12 : decode cX1_row 12 = .ok (.invokevirtual 84, 3) := by decide +kernel
theorem dX1_row_15 : decode cX1_row 15 = .ok (.iconst 0, 1) := by decide +kernel
theorem dX1_row_16 : decode cX1_row 16 = .ok (.istore_n 2, 1) := by decide +kernel
theorem dX1_row_17 : decode cX1_row 17 = .ok (.iconst 0, 1) := by decide +kernel
theorem dX1_row_18 : decode cX1_row 18 = .ok (.istore_n 3, 1) := by decide +kernel
theorem dX1_row_19 : decode cX1_row 19 = .ok (.iload_n 3, 1) := by decide +kernel
theorem dX1_row_20 : decode cX1_row 20 = .ok (.aload_n 0, 1) := by decide +kernel
theorem dX1_row_21 : decode cX1_row 21 = .ok (.getfield 38, 3) := by decide +kernel
theorem dX1_row_24 : decode cX1_row 24 = .ok (.if_icmp .ge 27, 3) := by decide +kernel
theorem dX1_row_27 : decode cX1_row 27 = .ok (.aload_n 0, 1) := by decide +kernel
theorem dX1_row_28 : decode cX1_row 28 = .ok (.iload_n 1, 1) := by decide +kernel
theorem dX1_row_29 : decode cX1_row 29 = .ok (.iload_n 3, 1) := by decide +kernel
theorem dX1_row_30 : decode cX1_row 30 = .ok (.invokevirtual 87, 3) := by decide +kernel
theorem dX1_row_33 : decode cX1_row 33 = .ok (.istore 4, 2) := by decide +kernel
theorem dX1_row_35 : decode cX1_row 35 = .ok (.bipush 10, 2) := by decide +kernel
theorem dX1_row_37 : decode cX1_row 37 = .ok (.iload_n 2, 1) := by decide +kernel
theorem dX1_row_38 : decode cX1_row 38 = .ok (.imul, 1) := by decide +kernel
theorem dX1_row_39 : decode cX1_row 39 = .ok (.iload 4, 2) := by decide +kernel
theorem dX1_row_41 : decode cX1_row 41 = .ok (.iadd, 1) := by decide +kernel
theorem dX1_row_42 : decode cX1_row 42 = .ok (.iconst 1, 1) := by decide +kernel
theorem dX1_row_43 : decode cX1_row 43 = .ok (.iadd, 1) := by decide +kernel
theorem dX1_row_44 : decode cX1_row 44 = .ok (.istore_n 2, 1) := by decide +kernel
theorem dX1_row_45 : decode cX1_row 45 = .ok (.iinc 3 1, 3) := by decide +kernel
theorem dX1_row_48 : decode cX1_row 48 = .ok (.goto (-29), 3) := by decide +kernel
theorem dX1_row_51 : decode cX1_row 51 = .ok (.iload_n 2, 1) := by decide +kernel
theorem dX1_row_52 : decode cX1_row 52 = .ok (.ireturn, 1) := by decide +kernel
theorem dX1_noRow_0 : decode cX1_noRow 0 = .ok (.iload_n 1, 1) := by decide +kernel
theorem dX1_noRow_1 : decode cX1_noRow 1 = .ok (.ifCond .lt 16, 3) := by decide +kernel
theorem dX1_noRow_4 : decode cX1_noRow 4 = .ok (.iload_n 1, 1) := by decide +kernel
theorem dX1_noRow_5 : decode cX1_noRow 5 = .ok (.aload_n 0, 1) := by decide +kernel
theorem dX1_noRow_6 : decode cX1_noRow 6 = .ok (.getfield 56, 3) := by decide +kernel
theorem dX1_noRow_9 : decode cX1_noRow 9 = .ok (.aload_n 0, 1) := by decide +kernel
theorem dX1_noRow_10 : decode cX1_noRow 10 = .ok (.getfield 42, 3) := by decide +kernel
theorem dX1_noRow_13 : decode cX1_noRow 13 = .ok (.imul, 1) := by decide +kernel
theorem dX1_noRow_14 : decode cX1_noRow 14 = .ok (.if_icmp .le 7, 3) := by decide +kernel
theorem dX1_noRow_17 : decode cX1_noRow 17 = .ok (.iconst 1, 1) := by decide +kernel
theorem dX1_noRow_18 : decode cX1_noRow 18 = .ok (.goto 4, 3) := by decide +kernel
theorem dX1_noRow_21 : decode cX1_noRow 21 = .ok (.iconst 0, 1) := by decide +kernel
theorem dX1_noRow_22 : decode cX1_noRow 22 = .ok (.ireturn, 1) := by decide +kernel
theorem dX1_findHeads_0 : decode cX1_findHeads 0 = .ok (.aload_n 0, 1) := by decide +kernel
theorem dX1_findHeads_1 : decode cX1_findHeads 1 = .ok (.invokevirtual 78, 3) := by decide +kernel
theorem dX1_findHeads_4 : decode cX1_findHeads 4 = .ok (.iconst 0, 1) := by decide +kernel
theorem dX1_findHeads_5 : decode cX1_findHeads 5 = .ok (.istore_n 1, 1) := by decide +kernel
theorem dX1_findHeads_6 : decode cX1_findHeads 6 = .ok (.iload_n 1, 1) := by decide +kernel
theorem dX1_findHeads_7 : decode cX1_findHeads 7 = .ok (.aload_n 0, 1) := by decide +kernel
theorem dX1_findHeads_8 : decode cX1_findHeads 8 = .ok (.getfield 38, 3) := by decide +kernel
theorem dX1_findHeads_11 : decode cX1_findHeads 11 = .ok (.if_icmp .ge 17, 3) := by decide +kernel
theorem dX1_findHeads_14 : decode cX1_findHeads 14 = .ok (.aload_n 0, 1) := by decide +kernel
theorem dX1_findHeads_15 : decode cX1_findHeads 15 = .ok (.getfield 22, 3) := by decide +kernel
theorem dX1_findHeads_18 : decode cX1_findHeads 18 = .ok (.iload_n 1, 1) := by decide +kernel
theorem dX1_findHeads_19 : decode cX1_findHeads 19 = .ok (.iload_n 1, 1) := by decide +kernel
theorem dX1_findHeads_20 : decode cX1_findHeads 20 = .ok (.i2b, 1) := by decide +kernel
theorem dX1_findHeads_21 : decode cX1_findHeads 21 = .ok (.bastore, 1) := by decide +kernel
theorem dX1_findHeads_22 : decode cX1_findHeads 22 = .ok (.iinc 1 1, 3) := by decide +kernel
theorem dX1_findHeads_25 : decode cX1_findHeads 25 = .ok (.goto (-19), 3) := by decide +kernel
theorem dX1_findHeads_28 : decode cX1_findHeads 28 = .ok (.iconst 0, 1) := by decide +kernel
theorem dX1_findHeads_29 : decode cX1_findHeads 29 = .ok (.istore_n 1, 1) := by decide +kernel
theorem dX1_findHeads_30 : decode cX1_findHeads 30 = .ok (.iload_n 1, 1) := by decide +kernel
theorem dX1_findHeads_31 : decode cX1_findHeads 31 = .ok (.aload_n 0, 1) := by decide +kernel
theorem dX1_findHeads_32 : decode cX1_findHeads 32 = .ok (.getfield 56, 3) := by decide +kernel
theorem dX1_findHeads_35 : decode cX1_findHeads 35 = .ok (.if_icmp .ge 71, 3) := by decide +kernel
theorem dX1_findHeads_38 : decode cX1_findHeads 38 = .ok (.aload_n 0, 1) := by decide +kernel
theorem dX1_findHeads_39 : decode cX1_findHeads 39 = .ok (.aload_n 0, 1) := by decide +kernel
theorem dX1_findHeads_40 : decode cX1_findHeads 40 = .ok (.getfield 16, 3) := by decide +kernel
theorem dX1_findHeads_43 : decode cX1_findHeads 43 = .ok (.iload_n 1, 1) := by decide +kernel
theorem dX1_findHeads_44 : decode cX1_findHeads 44 = .ok (.baload, 1) := by decide +kernel
theorem dX1_findHeads_45 : decode cX1_findHeads 45 = .ok (.aload_n 0, 1) := by decide +kernel
theorem dX1_findHeads_46 : decode cX1_findHeads 46 = .ok (.getfield 42, 3) := by decide +kernel
theorem dX1_findHeads_49 : decode cX1_findHeads 49 = .ok (.invokevirtual 59, 3) := by decide +kernel
theorem dX1_findHeads_52 : decode cX1_findHeads 52 = .ok (.istore_n 2, 1) := by decide +kernel
theorem dX1_findHeads_53 : decode cX1_findHeads 53 = .ok (.iconst 0, 1) := by decide +kernel
theorem dX1_findHeads_54 : decode cX1_findHeads 54 = .ok (.istore_n 3, 1) := by decide +kernel
theorem dX1_findHeads_55 : decode cX1_findHeads 55 = .ok (.iload_n 3, 1) := by decide +kernel
theorem dX1_findHeads_56 : decode cX1_findHeads 56 = .ok (.aload_n 0, 1) := by decide +kernel
theorem dX1_findHeads_57 : decode cX1_findHeads 57 = .ok (.getfield 38, 3) := by decide +kernel
theorem dX1_findHeads_60 : decode cX1_findHeads 60 = .ok (.if_icmp .ge 40, 3) := by decide +kernel
theorem dX1_findHeads_63 : decode cX1_findHeads 63 = .ok (.aload_n 0, 1) := by decide +kernel
theorem dX1_findHeads_64 : decode cX1_findHeads 64 = .ok (.getfield 22, 3) := by decide +kernel
theorem dX1_findHeads_67 : decode cX1_findHeads 67 = .ok (.bipush 6, 2) := by decide +kernel
theorem dX1_findHeads_69 : decode cX1_findHeads 69 = .ok (.iload_n 1, 1) := by decide +kernel
theorem dX1_findHeads_70 : decode cX1_findHeads 70 = .ok (.iconst 1, 1) := by decide +kernel
theorem dX1_findHeads_71 : decode cX1_findHeads 71 = .ok (.iadd, 1) := by decide +kernel
theorem dX1_findHeads_72 : decode cX1_findHeads 72 = .ok (.imul, 1) := by decide +kernel
theorem dX1_findHeads_73 : decode cX1_findHeads 73 = .ok (.iload_n 3, 1) := by decide +kernel
theorem dX1_findHeads_74 : decode cX1_findHeads 74 = .ok (.iadd, 1) := by decide +kernel
theorem dX1_findHeads_75 : decode cX1_findHeads 75 = .ok (.aload_n 0, 1) := by decide +kernel
theorem dX1_findHeads_76 : decode cX1_findHeads 76 = .ok (.getfield 22, 3) := by decide +kernel
theorem dX1_findHeads_79 : decode cX1_findHeads 79 = .ok (.bipush 6, 2) := by decide +kernel
theorem dX1_findHeads_81 : decode cX1_findHeads 81 = .ok (.iload_n 1, 1) := by decide +kernel
theorem dX1_findHeads_82 : decode cX1_findHeads 82 = .ok (.imul, 1) := by decide +kernel
theorem dX1_findHeads_83 : decode cX1_findHeads 83 = .ok (.aload_n 0, 1) := by decide +kernel
theorem dX1_findHeads_84 : decode cX1_findHeads 84 = .ok (.getfield 19, 3) := by decide +kernel
theorem dX1_findHeads_87 : decode cX1_findHeads 87 = .ok (.iload_n 2, 1) := by decide +kernel
theorem dX1_findHeads_88 : decode cX1_findHeads 88 = .ok (.iload_n 3, 1) := by decide +kernel
theorem dX1_findHeads_89 : decode cX1_findHeads 89 = .ok (.iadd, 1) := by decide +kernel
theorem dX1_findHeads_90 : decode cX1_findHeads 90 = .ok (.baload, 1) := by decide +kernel
theorem dX1_findHeads_91 : decode cX1_findHeads 91 = .ok (.iadd, 1) := by decide +kernel
theorem dX1_findHeads_92 : decode cX1_findHeads 92 = .ok (.baload, 1) := by decide +kernel
theorem dX1_findHeads_93 : decode cX1_findHeads 93 = .ok (.bastore, 1) := by decide +kernel
theorem dX1_findHeads_94 : decode cX1_findHeads 94 = .ok (.iinc 3 1, 3) := by decide +kernel
theorem dX1_findHeads_97 : decode cX1_findHeads 97 = .ok (.goto (-42), 3) := by decide +kernel
theorem dX1_findHeads_100 : decode cX1_findHeads 100 = .ok (.iinc 1 1, 3) := by decide +kernel
theorem dX1_findHeads_103 : decode cX1_findHeads 103 = .ok (.goto (-73), 3) := by decide +kernel
theorem dX1_findHeads_106 : decode cX1_findHeads 106 = .ok (.return_, 1) := by decide +kernel
theorem dX1_find_0 : decode cX1_find 0 = .ok (.aload_n 0, 1) := by decide +kernel
theorem dX1_find_1 : decode cX1_find 1 = .ok (.getfield 49, 3) := by decide +kernel
theorem dX1_find_4 : decode cX1_find 4 = .ok (.ifCond .eq 4, 3) := by decide +kernel
theorem dX1_find_7 : decode cX1_find 7 = .ok (.return_, 1) := by decide +kernel
theorem dX1_find_8 : decode cX1_find 8 = .ok (.aload_n 0, 1) := by decide +kernel
theorem dX1_find_9 : decode cX1_find 9 = .ok (.iconst 1, 1) := by decide +kernel
theorem dX1_find_10 : decode cX1_find 10 = .ok (.putfield 49, 3) := by decide +kernel
theorem dX1_find_13 : decode cX1_find 13 = .ok (.iconst 0, 1) := by decide +kernel
theorem dX1_find_14 : decode cX1_find 14 = .ok (.istore_n 1, 1) := by decide +kernel
theorem dX1_find_15 : decode cX1_find 15 = .ok (.iload_n 1, 1) := by decide +kernel
theorem dX1_find_16 : decode cX1_find 16 = .ok (.sipush 207, 3) := by decide +kernel
theorem dX1_find_19 : decode cX1_find 19 = .ok (.if_icmp .ge 16, 3) := by decide +kernel
theorem dX1_find_22 : decode cX1_find 22 = .ok (.aload_n 0, 1) := by decide +kernel
theorem dX1_find_23 : decode cX1_find 23 = .ok (.getfield 25, 3) := by decide +kernel
theorem dX1_find_26 : decode cX1_find 26 = .ok (.iload_n 1, 1) := by decide +kernel
theorem dX1_find_27 : decode cX1_find 27 = .ok (.iconst 0, 1) := by decide +kernel
end
section
set_option maxRecDepth 100000
theorem dX1_find_28 : decode cX1_find 28 = .ok (.iastore, 1) := by decide +kernel
theorem dX1_find_29 : decode cX1_find 29 = .ok (.iinc 1 1, 3) := by decide +kernel
theorem dX1_find_32 : decode cX1_find 32 = .ok (.goto (-17), 3) := by decide +kernel
theorem dX1_find_35 : decode cX1_find 35 = .ok (.iconst 0, 1) := by decide +kernel
theorem dX1_find_36 : decode cX1_find 36 = .ok (.istore_n 1, 1) := by decide +kernel
theorem dX1_find_37 : decode cX1_find 37 = .ok (.iload_n 1, 1) := by decide +kernel
theorem dX1_find_38 : decode cX1_find 38 = .ok (.iconst 3, 1) := by decide +kernel
theorem dX1_find_39 : decode cX1_find 39 = .ok (.if_icmp .ge 14, 3) := by decide +kernel
theorem dX1_find_42 : decode cX1_find 42 = .ok (.aload_n 0, 1) := by decide +kernel
theorem dX1_find_43 : decode cX1_find 43 = .ok (.iload_n 1, 1) := by decide +kernel
theorem dX1_find_44 : decode cX1_find 44 = .ok (.invokevirtual 71, 3) := by decide +kernel
theorem dX1_find_47 : decode cX1_find 47 = .ok (.iinc 1 1, 3) := by decide +kernel
theorem dX1_find_50 : decode cX1_find 50 = .ok (.goto (-13), 3) := by decide +kernel
theorem dX1_find_53 : decode cX1_find 53 = .ok (.iconst 0, 1) := by decide +kernel
theorem dX1_find_54 : decode cX1_find 54 = .ok (.istore_n 1, 1) := by decide +kernel
theorem dX1_find_55 : decode cX1_find 55 = .ok (.iload_n 1, 1) := by decide +kernel
theorem dX1_find_56 : decode cX1_find 56 = .ok (.bipush 9, 2) := by decide +kernel
theorem dX1_find_58 : decode cX1_find 58 = .ok (.if_icmp .ge 19, 3) := by decide +kernel
theorem dX1_find_61 : decode cX1_find 61 = .ok (.aload_n 0, 1) := by decide +kernel
theorem dX1_find_62 : decode cX1_find 62 = .ok (.iload_n 1, 1) := by decide +kernel
theorem dX1_find_63 : decode cX1_find 63 = .ok (.iconst 3, 1) := by decide +kernel
theorem dX1_find_64 : decode cX1_find 64 = .ok (.idiv, 1) := by decide +kernel
theorem dX1_find_65 : decode cX1_find 65 = .ok (.iload_n 1, 1) := by decide +kernel
theorem dX1_find_66 : decode cX1_find 66 = .ok (.iconst 3, 1) := by decide +kernel
theorem dX1_find_67 : decode cX1_find 67 = .ok (.irem, 1) := by decide +kernel
theorem dX1_find_68 : decode cX1_find 68 = .ok (.invokevirtual 75, 3) := by decide +kernel
theorem dX1_find_71 : decode cX1_find 71 = .ok (.iinc 1 1, 3) := by decide +kernel
theorem dX1_find_74 : decode cX1_find 74 = .ok (.goto (-19), 3) := by decide +kernel
theorem dX1_find_77 : decode cX1_find 77 = .ok (.return_, 1) := by decide +kernel
theorem dX1_findOffsets_0 : decode cX1_findOffsets 0 = .ok (.iconst 0, 1) := by decide +kernel
theorem dX1_findOffsets_1 : decode cX1_findOffsets 1 = .ok (.istore_n 2, 1) := by decide +kernel
theorem dX1_findOffsets_2 : decode cX1_findOffsets 2 = .ok (.iload_n 2, 1) := by decide +kernel
theorem dX1_findOffsets_3 : decode cX1_findOffsets 3 = .ok (.aload_n 0, 1) := by decide +kernel
theorem dX1_findOffsets_4 : decode cX1_findOffsets 4 = .ok (.getfield 38, 3) := by decide +kernel
theorem dX1_findOffsets_7 : decode cX1_findOffsets 7 = .ok (.if_icmp .ge 22, 3) := by decide +kernel
theorem dX1_findOffsets_10 : decode cX1_findOffsets 10 = .ok (.aload_n 0, 1) := by decide +kernel
theorem dX1_findOffsets_11 : decode cX1_findOffsets 11 = .ok (.getfield 19, 3) := by decide +kernel
theorem dX1_findOffsets_14 : decode cX1_findOffsets 14 = .ok (.bipush 78, 2) := by decide +kernel
theorem dX1_findOffsets_16 : decode cX1_findOffsets 16 = .ok (.iload_n 1, 1) := by decide +kernel
theorem dX1_findOffsets_17 : decode cX1_findOffsets 17 = .ok (.imul, 1) := by decide +kernel
theorem dX1_findOffsets_18 : decode cX1_findOffsets 18 = .ok (.iload_n 2, 1) := by decide +kernel
theorem dX1_findOffsets_19 : decode cX1_findOffsets 19 = .ok (.iadd, 1) := by decide +kernel
theorem dX1_findOffsets_20 : decode cX1_findOffsets 20 = .ok (.iload_n 2, 1) := by decide +kernel
theorem dX1_findOffsets_21 : decode cX1_findOffsets 21 = .ok (.i2b, 1) := by decide +kernel
theorem dX1_findOffsets_22 : decode cX1_findOffsets 22 = .ok (.bastore, 1) := by decide +kernel
theorem dX1_findOffsets_23 : decode cX1_findOffsets 23 = .ok (.iinc 2 1, 3) := by decide +kernel
theorem dX1_findOffsets_26 : decode cX1_findOffsets 26 = .ok (.goto (-24), 3) := by decide +kernel
theorem dX1_findOffsets_29 : decode cX1_findOffsets 29 = .ok (.iconst 1, 1) := by decide +kernel
theorem dX1_findOffsets_30 : decode cX1_findOffsets 30 = .ok (.istore_n 2, 1) := by decide +kernel
theorem dX1_findOffsets_31 : decode cX1_findOffsets 31 = .ok (.iload_n 2, 1) := by decide +kernel
theorem dX1_findOffsets_32 : decode cX1_findOffsets 32 = .ok (.aload_n 0, 1) := by decide +kernel
theorem dX1_findOffsets_33 : decode cX1_findOffsets 33 = .ok (.getfield 42, 3) := by decide +kernel
theorem dX1_findOffsets_36 : decode cX1_findOffsets 36 = .ok (.if_icmp .gt 15, 3) := by decide +kernel
theorem dX1_findOffsets_39 : decode cX1_findOffsets 39 = .ok (.aload_n 0, 1) := by decide +kernel
theorem dX1_findOffsets_40 : decode cX1_findOffsets 40 = .ok (.iload_n 1, 1) := by decide +kernel
theorem dX1_findOffsets_41 : decode cX1_findOffsets 41 = .ok (.iload_n 2, 1) := by decide +kernel
theorem dX1_findOffsets_42 : decode cX1_findOffsets 42 = .ok (.invokevirtual 63, 3) := by decide +kernel
theorem dX1_findOffsets_45 : decode cX1_findOffsets 45 = .ok (.iinc 2 1, 3) := by decide +kernel
theorem dX1_findOffsets_48 : decode cX1_findOffsets 48 = .ok (.goto (-17), 3) := by decide +kernel
theorem dX1_findOffsets_51 : decode cX1_findOffsets 51 = .ok (.return_, 1) := by decide +kernel
theorem dX1_step_0 : decode cX1_step 0 = .ok (.iload_n 2, 1) := by decide +kernel
theorem dX1_step_1 : decode cX1_step 1 = .ok (.aload_n 0, 1) := by decide +kernel
theorem dX1_step_2 : decode cX1_step 2 = .ok (.getfield 42, 3) := by decide +kernel
theorem dX1_step_5 : decode cX1_step 5 = .ok (.if_icmp .ne 16, 3) := by decide +kernel
theorem dX1_step_8 : decode cX1_step 8 = .ok (.iload_n 1, 1) := by decide +kernel
theorem dX1_step_9 : decode cX1_step 9 = .ok (.ifCond .le 12, 3) := by decide +kernel
theorem dX1_step_12 : decode cX1_step 12 = .ok (.aload_n 0, 1) := by decide +kernel
theorem dX1_step_13 : decode cX1_step 13 = .ok (.getfield 13, 3) := by decide +kernel
theorem dX1_step_16 : decode cX1_step 16 = .ok (.iload_n 1, 1) := by decide +kernel
theorem dX1_step_17 : decode cX1_step 17 = .ok (.baload, 1) := by decide +kernel
theorem dX1_step_18 : decode cX1_step 18 = .ok (.goto 11, 3) := by decide +kernel
theorem dX1_step_21 : decode cX1_step 21 = .ok (.aload_n 0, 1) := by decide +kernel
theorem dX1_step_22 : decode cX1_step 22 = .ok (.getfield 7, 3) := by decide +kernel
theorem dX1_step_25 : decode cX1_step 25 = .ok (.iload_n 2, 1) := by decide +kernel
theorem dX1_step_26 : decode cX1_step 26 = .ok (.iconst 1, 1) := by decide +kernel
theorem dX1_step_27 : decode cX1_step 27 = .ok (.isub, 1) := by decide +kernel
theorem dX1_step_28 : decode cX1_step 28 = .ok (.baload, 1) := by decide +kernel
theorem dX1_step_29 : decode cX1_step 29 = .ok (.istore_n 3, 1) := by decide +kernel
theorem dX1_step_30 : decode cX1_step 30 = .ok (.aload_n 0, 1) := by decide +kernel
theorem dX1_step_31 : decode cX1_step 31 = .ok (.iload_n 1, 1) := by decide +kernel
theorem dX1_step_32 : decode cX1_step 32 = .ok (.iload_n 2, 1) := by decide +kernel
theorem dX1_step_33 : decode cX1_step 33 = .ok (.iconst 1, 1) := by decide +kernel
theorem dX1_step_34 : decode cX1_step 34 = .ok (.isub, 1) := by decide +kernel
theorem dX1_step_35 : decode cX1_step 35 = .ok (.invokevirtual 59, 3) := by decide +kernel
theorem dX1_step_38 : decode cX1_step 38 = .ok (.istore 4, 2) := by decide +kernel
theorem dX1_step_40 : decode cX1_step 40 = .ok (.aload_n 0, 1) := by decide +kernel
theorem dX1_step_41 : decode cX1_step 41 = .ok (.iload_n 1, 1) := by decide +kernel
theorem dX1_step_42 : decode cX1_step 42 = .ok (.iload_n 2, 1) := by decide +kernel
theorem dX1_step_43 : decode cX1_step 43 = .ok (.invokevirtual 59, 3) := by decide +kernel
theorem dX1_step_46 : decode cX1_step 46 = .ok (.istore 5, 2) := by decide +kernel
theorem dX1_step_48 : decode cX1_step 48 = .ok (.iconst 0, 1) := by decide +kernel
theorem dX1_step_49 : decode cX1_step 49 = .ok (.istore 6, 2) := by decide +kernel
theorem dX1_step_51 : decode cX1_step 51 = .ok (.iload 6, 2) := by decide +kernel
theorem dX1_step_53 : decode cX1_step 53 = .ok (.aload_n 0, 1) := by decide +kernel
theorem dX1_step_54 : decode cX1_step 54 = .ok (.getfield 38, 3) := by decide +kernel
theorem dX1_step_57 : decode cX1_step 57 = .ok (.if_icmp .ge 103, 3) := by decide +kernel
theorem dX1_step_60 : decode cX1_step 60 = .ok (.iload_n 3, 1) := by decide +kernel
theorem dX1_step_61 : decode cX1_step 61 = .ok (.iload 6, 2) := by decide +kernel
theorem dX1_step_63 : decode cX1_step 63 = .ok (.ishr, 1) := by decide +kernel
theorem dX1_step_64 : decode cX1_step 64 = .ok (.iconst 1, 1) := by decide +kernel
theorem dX1_step_65 : decode cX1_step 65 = .ok (.iand, 1) := by decide +kernel
theorem dX1_step_66 : decode cX1_step 66 = .ok (.iconst 1, 1) := by decide +kernel
theorem dX1_step_67 : decode cX1_step 67 = .ok (.if_icmp .eq 14, 3) := by decide +kernel
theorem dX1_step_70 : decode cX1_step 70 = .ok (.iload 6, 2) := by decide +kernel
theorem dX1_step_72 : decode cX1_step 72 = .ok (.iconst 1, 1) := by decide +kernel
theorem dX1_step_73 : decode cX1_step 73 = .ok (.iadd, 1) := by decide +kernel
theorem dX1_step_74 : decode cX1_step 74 = .ok (.aload_n 0, 1) := by decide +kernel
theorem dX1_step_75 : decode cX1_step 75 = .ok (.getfield 38, 3) := by decide +kernel
theorem dX1_step_78 : decode cX1_step 78 = .ok (.if_icmp .ne 29, 3) := by decide +kernel
theorem dX1_step_81 : decode cX1_step 81 = .ok (.aload_n 0, 1) := by decide +kernel
theorem dX1_step_82 : decode cX1_step 82 = .ok (.getfield 19, 3) := by decide +kernel
theorem dX1_step_85 : decode cX1_step 85 = .ok (.iload 5, 2) := by decide +kernel
theorem dX1_step_87 : decode cX1_step 87 = .ok (.iload 6, 2) := by decide +kernel
theorem dX1_step_89 : decode cX1_step 89 = .ok (.iadd, 1) := by decide +kernel
theorem dX1_step_90 : decode cX1_step 90 = .ok (.aload_n 0, 1) := by decide +kernel
theorem dX1_step_91 : decode cX1_step 91 = .ok (.getfield 19, 3) := by decide +kernel
theorem dX1_step_94 : decode cX1_step 94 = .ok (.iload 4, 2) := by decide +kernel
theorem dX1_step_96 : decode cX1_step 96 = .ok (.iload 6, 2) := by decide +kernel
theorem dX1_step_98 : decode cX1_step 98 = .ok (.iadd, 1) := by decide +kernel
theorem dX1_step_99 : decode cX1_step 99 = .ok (.baload, 1) := by decide +kernel
theorem dX1_step_100 : decode cX1_step 100 = .ok (.bastore, 1) := by decide +kernel
theorem dX1_step_101 : decode cX1_step 101 = .ok (.iinc 6 1, 3) := by decide +kernel
theorem dX1_step_104 : decode cX1_step 104 = .ok (.goto (-53), 3) := by decide +kernel
theorem dX1_step_107 : decode cX1_step 107 = .ok (.aload_n 0, 1) := by decide +kernel
theorem dX1_step_108 : decode cX1_step 108 = .ok (.getfield 19, 3) := by decide +kernel
theorem dX1_step_111 : decode cX1_step 111 = .ok (.iload 5, 2) := by decide +kernel
theorem dX1_step_113 : decode cX1_step 113 = .ok (.iload 6, 2) := by decide +kernel
theorem dX1_step_115 : decode cX1_step 115 = .ok (.iadd, 1) := by decide +kernel
theorem dX1_step_116 : decode cX1_step 116 = .ok (.aload_n 0, 1) := by decide +kernel
theorem dX1_step_117 : decode cX1_step 117 = .ok (.getfield 19, 3) := by decide +kernel
theorem dX1_step_120 : decode cX1_step 120 = .ok (.iload 4, 2) := by decide +kernel
theorem dX1_step_122 : decode cX1_step 122 = .ok (.iload 6, 2) := by decide +kernel
theorem dX1_step_124 : decode cX1_step 124 = .ok (.iadd, 1) := by decide +kernel
theorem dX1_step_125 : decode cX1_step 125 = .ok (.iconst 1, 1) := by decide +kernel
theorem dX1_step_126 : decode cX1_step 126 = .ok (.iadd, 1) := by decide +kernel
theorem dX1_step_127 : decode cX1_step 127 = .ok (.baload, 1) := by decide +kernel
theorem dX1_step_128 : decode cX1_step 128 = .ok (.bastore, 1) := by decide +kernel
theorem dX1_step_129 : decode cX1_step 129 = .ok (.aload_n 0, 1) := by decide +kernel
theorem dX1_step_130 : decode cX1_step 130 = .ok (.getfield 19, 3) := by decide +kernel
theorem dX1_step_133 : decode cX1_step 133 = .ok (.iload 5, 2) := by decide +kernel
theorem dX1_step_135 : decode cX1_step 135 = .ok (.iload 6, 2) := by decide +kernel
theorem dX1_step_137 : decode cX1_step 137 = .ok (.iadd, 1) := by decide +kernel
theorem dX1_step_138 : decode cX1_step 138 = .ok (.iconst 1, 1) := by decide +kernel
theorem dX1_step_139 : decode cX1_step 139 = .ok (.iadd, 1) := by decide +kernel
theorem dX1_step_140 : decode cX1_step 140 = .ok (.aload_n 0, 1) := by decide +kernel
theorem dX1_step_141 : decode cX1_step 141 = .ok (.getfield 19, 3) := by decide +kernel
theorem dX1_step_144 : decode cX1_step 144 = .ok (.iload 4, 2) := by decide +kernel
theorem dX1_step_146 : decode cX1_step 146 = .ok (.iload 6, 2) := by decide +kernel
theorem dX1_step_148 : decode cX1_step 148 = .ok (.iadd, 1) := by decide +kernel
theorem dX1_step_149 : decode cX1_step 149 = .ok (.baload, 1) := by decide +kernel
theorem dX1_step_150 : decode cX1_step 150 = .ok (.bastore, 1) := by decide +kernel
theorem dX1_step_151 : decode cX1_step 151 = .ok (.iload 6, 2) := by decide +kernel
theorem dX1_step_153 : decode cX1_step 153 = .ok (.iconst 2, 1) := by decide +kernel
theorem dX1_step_154 : decode cX1_step 154 = .ok (.iadd, 1) := by decide +kernel
theorem dX1_step_155 : decode cX1_step 155 = .ok (.istore 6, 2) := by decide +kernel
theorem dX1_step_157 : decode cX1_step 157 = .ok (.goto (-106), 3) := by decide +kernel
theorem dX1_step_160 : decode cX1_step 160 = .ok (.return_, 1) := by decide +kernel
theorem dX1_offsetAt_0 : decode cX1_offsetAt 0 = .ok (.bipush 78, 2) := by decide +kernel
theorem dX1_offsetAt_2 : decode cX1_offsetAt 2 = .ok (.iload_n 1, 1) := by decide +kernel
theorem dX1_offsetAt_3 : decode cX1_offsetAt 3 = .ok (.imul, 1) := by decide +kernel
theorem dX1_offsetAt_4 : decode cX1_offsetAt 4 = .ok (.bipush 6, 2) := by decide +kernel
theorem dX1_offsetAt_6 : decode cX1_offsetAt 6 = .ok (.iload_n 2, 1) := by decide +kernel
theorem dX1_offsetAt_7 : decode cX1_offsetAt 7 = .ok (.imul, 1) := by decide +kernel
theorem dX1_offsetAt_8 : decode cX1_offsetAt 8 = .ok (.iadd, 1) := by decide +kernel
theorem dX1_offsetAt_9 : decode cX1_offsetAt 9 = .ok (.ireturn, 1) := by decide +kernel
theorem dX1_findFalse_0 : decode cX1_findFalse 0 = .ok (.iconst 0, 1) := by decide +kernel
theorem dX1_findFalse_1 : decode cX1_findFalse 1 = .ok (.istore_n 3, 1) := by decide +kernel
theorem dX1_findFalse_2 : decode cX1_findFalse 2 = .ok (.iload_n 3, 1) := by decide +kernel
theorem dX1_findFalse_3 : decode cX1_findFalse 3 = .ok (.aload_n 0, 1) := by decide +kernel
theorem dX1_findFalse_4 : decode cX1_findFalse 4 = .ok (.getfield 42, 3) := by decide +kernel
theorem dX1_findFalse_7 : decode cX1_findFalse 7 = .ok (.aload_n 0, 1) := by decide +kernel
theorem dX1_findFalse_8 : decode cX1_findFalse 8 = .ok (.getfield 42, 3) := by decide +kernel
theorem dX1_findFalse_11 : decode cX1_findFalse 11 = .ok (.imul, 1) := by decide +kernel
theorem dX1_findFalse_12 : decode cX1_findFalse 12 = .ok (.if_icmp .ge 125, 3) := by decide +kernel
theorem dX1_findFalse_15 : decode cX1_findFalse 15 = .ok (.aload_n 0, 1) := by decide +kernel
theorem dX1_findFalse_16 : decode cX1_findFalse 16 = .ok (.iload_n 1, 1) := by decide +kernel
theorem dX1_findFalse_17 : decode cX1_findFalse 17 = .ok (.iload_n 3, 1) := by decide +kernel
theorem dX1_findFalse_18 : decode cX1_findFalse 18 = .ok (.aload_n 0, 1) := by decide +kernel
theorem dX1_findFalse_19 : decode cX1_findFalse 19 = .ok (.getfield 42, 3) := by decide +kernel
theorem dX1_findFalse_22 : decode cX1_findFalse 22 = .ok (.idiv, 1) := by decide +kernel
theorem dX1_findFalse_23 : decode cX1_findFalse 23 = .ok (.iconst 1, 1) := by decide +kernel
theorem dX1_findFalse_24 : decode cX1_findFalse 24 = .ok (.iadd, 1) := by decide +kernel
theorem dX1_findFalse_25 : decode cX1_findFalse 25 = .ok (.invokevirtual 59, 3) := by decide +kernel
theorem dX1_findFalse_28 : decode cX1_findFalse 28 = .ok (.istore 4, 2) := by decide +kernel
theorem dX1_findFalse_30 : decode cX1_findFalse 30 = .ok (.aload_n 0, 1) := by decide +kernel
theorem dX1_findFalse_31 : decode cX1_findFalse 31 = .ok (.iload_n 2, 1) := by decide +kernel
theorem dX1_findFalse_32 : decode cX1_findFalse 32 = .ok (.iload_n 3, 1) := by decide +kernel
theorem dX1_findFalse_33 : decode cX1_findFalse 33 = .ok (.aload_n 0, 1) := by decide +kernel
theorem dX1_findFalse_34 : decode cX1_findFalse 34 = .ok (.getfield 42, 3) := by decide +kernel
theorem dX1_findFalse_37 : decode cX1_findFalse 37 = .ok (.irem, 1) := by decide +kernel
theorem dX1_findFalse_38 : decode cX1_findFalse 38 = .ok (.iconst 1, 1) := by decide +kernel
theorem dX1_findFalse_39 : decode cX1_findFalse 39 = .ok (.iadd, 1) := by decide +kernel
theorem dX1_findFalse_40 : decode cX1_findFalse 40 = .ok (.invokevirtual 59, 3) := by decide +kernel
theorem dX1_findFalse_43 : decode cX1_findFalse 43 = .ok (.istore 5, 2) := by decide +kernel
theorem dX1_findFalse_45 : decode cX1_findFalse 45 = .ok (.iconst 0, 1) := by decide +kernel
theorem dX1_findFalse_46 : decode cX1_findFalse 46 = .ok (.istore 6, 2) := by decide +kernel
theorem dX1_findFalse_48 : decode cX1_findFalse 48 = .ok (.iload 6, 2) := by decide +kernel
theorem dX1_findFalse_50 : decode cX1_findFalse 50 = .ok (.aload_n 0, 1) := by decide +kernel
theorem dX1_findFalse_51 : decode cX1_findFalse 51 = .ok (.getfield 38, 3) := by decide +kernel
theorem dX1_findFalse_54 : decode cX1_findFalse 54 = .ok (.if_icmp .ge 34, 3) := by decide +kernel
theorem dX1_findFalse_57 : decode cX1_findFalse 57 = .ok (.aload_n 0, 1) := by decide +kernel
theorem dX1_findFalse_58 : decode cX1_findFalse 58 = .ok (.getfield 35, 3) := by decide +kernel
theorem dX1_findFalse_61 : decode cX1_findFalse 61 = .ok (.aload_n 0, 1) := by decide +kernel
theorem dX1_findFalse_62 : decode cX1_findFalse 62 = .ok (.getfield 19, 3) := by decide +kernel
theorem dX1_findFalse_65 : decode cX1_findFalse 65 = .ok (.iload 5, 2) := by decide +kernel
theorem dX1_findFalse_67 : decode cX1_findFalse 67 = .ok (.iload 6, 2) := by decide +kernel
theorem dX1_findFalse_69 : decode cX1_findFalse 69 = .ok (.iadd, 1) := by decide +kernel
theorem dX1_findFalse_70 : decode cX1_findFalse 70 = .ok (.baload, 1) := by decide +kernel
theorem dX1_findFalse_71 : decode cX1_findFalse 71 = .ok (.aload_n 0, 1) := by decide +kernel
theorem dX1_findFalse_72 : decode cX1_findFalse 72 = .ok (.getfield 19, 3) := by decide +kernel
theorem dX1_findFalse_75 : decode cX1_findFalse 75 = .ok (.iload 4, 2) := by decide +kernel
theorem dX1_findFalse_77 : decode cX1_findFalse 77 = .ok (.iload 6, 2) := by decide +kernel
theorem dX1_findFalse_79 : decode cX1_findFalse 79 = .ok (.iadd, 1) := by decide +kernel
theorem dX1_findFalse_80 : decode cX1_findFalse 80 = .ok (.baload, 1) := by decide +kernel
theorem dX1_findFalse_81 : decode cX1_findFalse 81 = .ok (.bastore, 1) := by decide +kernel
theorem dX1_findFalse_82 : decode cX1_findFalse 82 = .ok (.iinc 6 1, 3) := by decide +kernel
theorem dX1_findFalse_85 : decode cX1_findFalse 85 = .ok (.goto (-37), 3) := by decide +kernel
theorem dX1_findFalse_88 : decode cX1_findFalse 88 = .ok (.aload_n 0, 1) := by decide +kernel
theorem dX1_findFalse_89 : decode cX1_findFalse 89 = .ok (.invokevirtual 67, 3) := by decide +kernel
theorem dX1_findFalse_92 : decode cX1_findFalse 92 = .ok (.istore 6, 2) := by decide +kernel
theorem dX1_findFalse_94 : decode cX1_findFalse 94 = .ok (.bipush 23, 2) := by decide +kernel
theorem dX1_findFalse_96 : decode cX1_findFalse 96 = .ok (.iconst 3, 1) := by decide +kernel
theorem dX1_findFalse_97 : decode cX1_findFalse 97 = .ok (.iload_n 1, 1) := by decide +kernel
theorem dX1_findFalse_98 : decode cX1_findFalse 98 = .ok (.imul, 1) := by decide +kernel
theorem dX1_findFalse_99 : decode cX1_findFalse 99 = .ok (.iload_n 2, 1) := by decide +kernel
theorem dX1_findFalse_100 : decode cX1_findFalse 100 = .ok (.iadd, 1) := by decide +kernel
theorem dX1_findFalse_101 : decode cX1_findFalse 101 = .ok (.imul, 1) := by decide +kernel
theorem dX1_findFalse_102 : decode cX1_findFalse 102 = .ok (.iload 6, 2) := by decide +kernel
theorem dX1_findFalse_104 : decode cX1_findFalse 104 = .ok (.iconst 5, 1) := by decide +kernel
theorem dX1_findFalse_105 : decode cX1_findFalse 105 = .ok (.ishr, 1) := by decide +kernel
theorem dX1_findFalse_106 : decode cX1_findFalse 106 = .ok (.iadd, 1) := by decide +kernel
theorem dX1_findFalse_107 : decode cX1_findFalse 107 = .ok (.istore 7, 2) := by decide +kernel
theorem dX1_findFalse_109 : decode cX1_findFalse 109 = .ok (.aload_n 0, 1) := by decide +kernel
theorem dX1_findFalse_110 : decode cX1_findFalse 110 = .ok (.getfield 25, 3) := by decide +kernel
theorem dX1_findFalse_113 : decode cX1_findFalse 113 = .ok (.iload 7, 2) := by decide +kernel
theorem dX1_findFalse_115 : decode cX1_findFalse 115 = .ok (.aload_n 0, 1) := by decide +kernel
theorem dX1_findFalse_116 : decode cX1_findFalse 116 = .ok (.getfield 25, 3) := by decide +kernel
theorem dX1_findFalse_119 : decode cX1_findFalse 119 = .ok (.iload 7, 2) := by decide +kernel
theorem dX1_findFalse_121 : decode cX1_findFalse 121 = .ok (.iaload, 1) := by decide +kernel
theorem dX1_findFalse_122 : decode cX1_findFalse 122 = .ok (.iconst 1, 1) := by decide +kernel
theorem dX1_findFalse_123 : decode cX1_findFalse 123 = .ok (.iload 6, 2) := by decide +kernel
theorem dX1_findFalse_125 : decode cX1_findFalse 125 = .ok (.bipush 31, 2) := by decide +kernel
theorem dX1_findFalse_127 : decode cX1_findFalse 127 = .ok (.iand, 1) := by decide +kernel
theorem dX1_findFalse_128 : decode cX1_findFalse 128 = .ok (.ishl, 1) := by decide +kernel
theorem dX1_findFalse_129 : decode cX1_findFalse 129 = .ok (.ior, 1) := by decide +kernel
theorem dX1_findFalse_130 : decode cX1_findFalse 130 = .ok (.iastore, 1) := by decide +kernel
theorem dX1_findFalse_131 : decode cX1_findFalse 131 = .ok (.iinc 3 1, 3) := by decide +kernel
theorem dX1_findFalse_134 : decode cX1_findFalse 134 = .ok (.goto (-132), 3) := by decide +kernel
theorem dX1_findFalse_137 : decode cX1_findFalse 137 = .ok (.return_, 1) := by decide +kernel
theorem dX1_rankMade_0 : decode cX1_rankMade 0 = .ok (.iconst 0, 1) := by decide +kernel
theorem dX1_rankMade_1 : decode cX1_rankMade 1 = .ok (.istore_n 1, 1) := by decide +kernel
theorem dX1_rankMade_2 : decode cX1_rankMade 2 = .ok (.iconst 0, 1) := by decide +kernel
theorem dX1_rankMade_3 : decode cX1_rankMade 3 = .ok (.istore_n 2, 1) := by decide +kernel
theorem dX1_rankMade_4 : decode cX1_rankMade 4 = .ok (.iload_n 2, 1) := by decide +kernel
theorem dX1_rankMade_5 : decode cX1_rankMade 5 = .ok (.aload_n 0, 1) := by decide +kernel
theorem dX1_rankMade_6 : decode cX1_rankMade 6 = .ok (.getfield 38, 3) := by decide +kernel
theorem dX1_rankMade_9 : decode cX1_rankMade 9 = .ok (.if_icmp .ge 66, 3) := by decide +kernel
theorem dX1_rankMade_12 : decode cX1_rankMade 12 = .ok (.iconst 0, 1) := by decide +kernel
theorem dX1_rankMade_13 : decode cX1_rankMade 13 = .ok (.istore_n 3, 1) := by decide +kernel
theorem dX1_rankMade_14 : decode cX1_rankMade 14 = .ok (.iload_n 2, 1) := by decide +kernel
theorem dX1_rankMade_15 : decode cX1_rankMade 15 = .ok (.iconst 1, 1) := by decide +kernel
theorem dX1_rankMade_16 : decode cX1_rankMade 16 = .ok (.iadd, 1) := by decide +kernel
theorem dX1_rankMade_17 : decode cX1_rankMade 17 = .ok (.istore 4, 2) := by decide +kernel
theorem dX1_rankMade_19 : decode cX1_rankMade 19 = .ok (.iload 4, 2) := by decide +kernel
theorem dX1_rankMade_21 : decode cX1_rankMade 21 = .ok (.aload_n 0, 1) := by decide +kernel
theorem dX1_rankMade_22 : decode cX1_rankMade 22 = .ok (.getfield 38, 3) := by decide +kernel
theorem dX1_rankMade_25 : decode cX1_rankMade 25 = .ok (.if_icmp .ge 33, 3) := by decide +kernel
theorem dX1_rankMade_28 : decode cX1_rankMade 28 = .ok (.aload_n 0, 1) := by decide +kernel
theorem dX1_rankMade_29 : decode cX1_rankMade 29 = .ok (.getfield 35, 3) := by decide +kernel
theorem dX1_rankMade_32 : decode cX1_rankMade 32 = .ok (.iload 4, 2) := by decide +kernel
theorem dX1_rankMade_34 : decode cX1_rankMade 34 = .ok (.baload, 1) := by decide +kernel
theorem dX1_rankMade_35 : decode cX1_rankMade 35 = .ok (.aload_n 0, 1) := by decide +kernel
theorem dX1_rankMade_36 : decode cX1_rankMade 36 = .ok (.getfield 35, 3) := by decide +kernel
theorem dX1_rankMade_39 : decode cX1_rankMade 39 = .ok (.iload_n 2, 1) := by decide +kernel
theorem dX1_rankMade_40 : decode cX1_rankMade 40 = .ok (.baload, 1) := by decide +kernel
theorem dX1_rankMade_41 : decode cX1_rankMade 41 = .ok (.if_icmp .ge 9, 3) := by decide +kernel
theorem dX1_rankMade_44 : decode cX1_rankMade 44 = .ok (.iload_n 3, 1) := by decide +kernel
theorem dX1_rankMade_45 : decode cX1_rankMade 45 = .ok (.iconst 1, 1) := by decide +kernel
theorem dX1_rankMade_46 : decode cX1_rankMade 46 = .ok (.iadd, 1) := by decide +kernel
theorem dX1_rankMade_47 : decode cX1_rankMade 47 = .ok (.goto 4, 3) := by decide +kernel
theorem dX1_rankMade_50 : decode cX1_rankMade 50 = .ok (.iload_n 3, 1) := by decide +kernel
theorem dX1_rankMade_51 : decode cX1_rankMade 51 = .ok (.istore_n 3, 1) := by decide +kernel
theorem dX1_rankMade_52 : decode cX1_rankMade 52 = .ok (.iinc 4 1, 3) := by decide +kernel
theorem dX1_rankMade_55 : decode cX1_rankMade 55 = .ok (.goto (-36), 3) := by decide +kernel
theorem dX1_rankMade_58 : decode cX1_rankMade 58 = .ok (.iload_n 1, 1) := by decide +kernel
theorem dX1_rankMade_59 : decode cX1_rankMade 59 = .ok (.aload_n 0, 1) := by decide +kernel
theorem dX1_rankMade_60 : decode cX1_rankMade 60 = .ok (.getfield 38, 3) := by decide +kernel
theorem dX1_rankMade_63 : decode cX1_rankMade 63 = .ok (.iload_n 2, 1) := by decide +kernel
theorem dX1_rankMade_64 : decode cX1_rankMade 64 = .ok (.isub, 1) := by decide +kernel
theorem dX1_rankMade_65 : decode cX1_rankMade 65 = .ok (.imul, 1) := by decide +kernel
theorem dX1_rankMade_66 : decode cX1_rankMade 66 = .ok (.iload_n 3, 1) := by decide +kernel
theorem dX1_rankMade_67 : decode cX1_rankMade 67 = .ok (.iadd, 1) := by decide +kernel
theorem dX1_rankMade_68 : decode cX1_rankMade 68 = .ok (.istore_n 1, 1) := by decide +kernel
theorem dX1_rankMade_69 : decode cX1_rankMade 69 = .ok (.iinc 2 1, 3) := by decide +kernel
theorem dX1_rankMade_72 : decode cX1_rankMade 72 = .ok (.goto (-68), 3) := by decide +kernel
theorem dX1_rankMade_75 : decode cX1_rankMade 75 = .ok (.iload_n 1, 1) := by decide +kernel
theorem dX1_rankMade_76 : decode cX1_rankMade 76 = .ok (.ireturn, 1) := by decide +kernel
theorem dX1_bellAt_0 : decode cX1_bellAt 0 = .ok (.iload_n 1, 1) := by decide +kernel
theorem dX1_bellAt_1 : decode cX1_bellAt 1 = .ok (.ifCond .ne 5, 3) := by decide +kernel
theorem dX1_bellAt_4 : decode cX1_bellAt 4 = .ok (.iload_n 2, 1) := by decide +kernel
theorem dX1_bellAt_5 : decode cX1_bellAt 5 = .ok (.ireturn, 1) := by decide +kernel
theorem dX1_bellAt_6 : decode cX1_bellAt 6 = .ok (.iload_n 1, 1) := by decide +kernel
theorem dX1_bellAt_7 : decode cX1_bellAt 7 = .ok (.iconst 1, 1) := by decide +kernel
theorem dX1_bellAt_8 : decode cX1_bellAt 8 = .ok (.isub, 1) := by decide +kernel
theorem dX1_bellAt_9 : decode cX1_bellAt 9 = .ok (.aload_n 0, 1) := by decide +kernel
theorem dX1_bellAt_10 : decode cX1_bellAt 10 = .ok (.getfield 42, 3) := by decide +kernel
theorem dX1_bellAt_13 : decode cX1_bellAt 13 = .ok (.idiv, 1) := by decide +kernel
theorem dX1_bellAt_14 : decode cX1_bellAt 14 = .ok (.istore_n 3, 1) := by decide +kernel
theorem dX1_bellAt_15 : decode cX1_bellAt 15 = .ok (.aload_n 0, 1) := by decide +kernel
theorem dX1_bellAt_16 : decode cX1_bellAt 16 = .ok (.aload_n 0, 1) := by decide +kernel
theorem dX1_bellAt_17 : decode cX1_bellAt 17 = .ok (.getfield 16, 3) := by decide +kernel
theorem dX1_bellAt_20 : decode cX1_bellAt 20 = .ok (.iload_n 3, 1) := by decide +kernel
theorem dX1_bellAt_21 : decode cX1_bellAt 21 = .ok (.baload, 1) := by decide +kernel
theorem dX1_bellAt_22 : decode cX1_bellAt 22 = .ok (.iload_n 1, 1) := by decide +kernel
theorem dX1_bellAt_23 : decode cX1_bellAt 23 = .ok (.iload_n 3, 1) := by decide +kernel
theorem dX1_bellAt_24 : decode cX1_bellAt 24 = .ok (.aload_n 0, 1) := by decide +kernel
theorem dX1_bellAt_25 : decode cX1_bellAt 25 = .ok (.getfield 42, 3) := by decide +kernel
theorem dX1_bellAt_28 : decode cX1_bellAt 28 = .ok (.imul, 1) := by decide +kernel
theorem dX1_bellAt_29 : decode cX1_bellAt 29 = .ok (.isub, 1) := by decide +kernel
theorem dX1_bellAt_30 : decode cX1_bellAt 30 = .ok (.invokevirtual 59, 3) := by decide +kernel
theorem dX1_bellAt_33 : decode cX1_bellAt 33 = .ok (.istore 4, 2) := by decide +kernel
theorem dX1_bellAt_35 : decode cX1_bellAt 35 = .ok (.aload_n 0, 1) := by decide +kernel
theorem dX1_bellAt_36 : decode cX1_bellAt 36 = .ok (.getfield 22, 3) := by decide +kernel
theorem dX1_bellAt_39 : decode cX1_bellAt 39 = .ok (.bipush 6, 2) := by decide +kernel
theorem dX1_bellAt_41 : decode cX1_bellAt 41 = .ok (.iload_n 3, 1) := by decide +kernel
theorem dX1_bellAt_42 : decode cX1_bellAt 42 = .ok (.imul, 1) := by decide +kernel
theorem dX1_bellAt_43 : decode cX1_bellAt 43 = .ok (.aload_n 0, 1) := by decide +kernel
theorem dX1_bellAt_44 : decode cX1_bellAt 44 = .ok (.getfield 19, 3) := by decide +kernel
theorem dX1_bellAt_47 : decode cX1_bellAt 47 = .ok (.iload 4, 2) := by decide +kernel
theorem dX1_bellAt_49 : decode cX1_bellAt 49 = .ok (.iload_n 2, 1) := by decide +kernel
theorem dX1_bellAt_50 : decode cX1_bellAt 50 = .ok (.iadd, 1) := by decide +kernel
theorem dX1_bellAt_51 : decode cX1_bellAt 51 = .ok (.baload, 1) := by decide +kernel
theorem dX1_bellAt_52 : decode cX1_bellAt 52 = .ok (.iadd, 1) := by decide +kernel
theorem dX1_bellAt_53 : decode cX1_bellAt 53 = .ok (.baload, 1) := by decide +kernel
theorem dX1_bellAt_54 : decode cX1_bellAt 54 = .ok (.ireturn, 1) := by decide +kernel
theorem dX1_place_0 : decode cX1_place 0 = .ok (.iload_n 1, 1) := by decide +kernel
theorem dX1_place_1 : decode cX1_place 1 = .ok (.iconst 1, 1) := by decide +kernel
theorem dX1_place_2 : decode cX1_place 2 = .ok (.if_icmp .lt 11, 3) := by decide +kernel
theorem dX1_place_5 : decode cX1_place 5 = .ok (.iload_n 1, 1) := by decide +kernel
theorem dX1_place_6 : decode cX1_place 6 = .ok (.aload_n 0, 1) := by decide +kernel
theorem dX1_place_7 : decode cX1_place 7 = .ok (.getfield 38, 3) := by decide +kernel
theorem dX1_place_10 : decode cX1_place 10 = .ok (.if_icmp .le 5, 3) := by decide +kernel
theorem dX1_place_13 : decode cX1_place 13 = .ok (.iconst (-1), 1) := by decide +kernel
theorem dX1_place_14 : decode cX1_place 14 = .ok (.ireturn, 1) := by decide +kernel
theorem dX1_place_15 : decode cX1_place 15 = .ok (.aload_n 0, 1) := by decide +kernel
theorem dX1_place_16 : decode cX1_place 16 = .ok (.iload_n 2, 1) := by decide +kernel
theorem dX1_place_17 : decode cX1_place 17 = .ok (.invokevirtual 81, 3) := by decide +kernel
theorem dX1_place_20 : decode cX1_place 20 = .ok (.ifCond .eq 6, 3) := by decide +kernel
theorem dX1_place_23 : decode cX1_place 23 = .ok (.bipush (-4), 2) := by decide +kernel
theorem dX1_place_25 : decode cX1_place 25 = .ok (.ireturn, 1) := by decide +kernel
theorem dX1_place_26 : decode cX1_place 26 = .ok (.aload_n 0, 1) := by decide +kernel
theorem dX1_place_27 : decode cX1_place 27 = .ok (.invokevirtual 84, 3) := by decide +kernel
theorem dX1_place_30 : decode cX1_place 30 = .ok (.iconst 0, 1) := by decide +kernel
theorem dX1_place_31 : decode cX1_place 31 = .ok (.istore_n 3, 1) := by decide +kernel
theorem dX1_place_32 : decode cX1_place 32 = .ok (.iconst 0, 1) := by decide +kernel
theorem dX1_place_33 : decode cX1_place 33 = .ok (.istore 4, 2) := by decide +kernel
theorem dX1_place_35 : decode cX1_place 35 = .ok (.iload 4, 2) := by decide +kernel
theorem dX1_place_37 : decode cX1_place 37 = .ok (.aload_n 0, 1) := by decide +kernel
theorem dX1_place_38 : decode cX1_place 38 = .ok (.getfield 38, 3) := by decide +kernel
theorem dX1_place_41 : decode cX1_place 41 = .ok (.if_icmp .ge 33, 3) := by decide +kernel
theorem dX1_place_44 : decode cX1_place 44 = .ok (.aload_n 0, 1) := by decide +kernel
theorem dX1_place_45 : decode cX1_place 45 = .ok (.iload_n 2, 1) := by decide +kernel
theorem dX1_place_46 : decode cX1_place 46 = .ok (.iload 4, 2) := by decide +kernel
theorem dX1_place_48 : decode cX1_place 48 = .ok (.invokevirtual 87, 3) := by decide +kernel
theorem dX1_place_51 : decode cX1_place 51 = .ok (.istore 5, 2) := by decide +kernel
theorem dX1_place_53 : decode cX1_place 53 = .ok (.iload 5, 2) := by decide +kernel
theorem dX1_place_55 : decode cX1_place 55 = .ok (.iload_n 1, 1) := by decide +kernel
theorem dX1_place_56 : decode cX1_place 56 = .ok (.iconst 1, 1) := by decide +kernel
theorem dX1_place_57 : decode cX1_place 57 = .ok (.isub, 1) := by decide +kernel
theorem dX1_place_58 : decode cX1_place 58 = .ok (.if_icmp .ne 8, 3) := by decide +kernel
theorem dX1_place_61 : decode cX1_place 61 = .ok (.iload 4, 2) := by decide +kernel
theorem dX1_place_63 : decode cX1_place 63 = .ok (.goto 4, 3) := by decide +kernel
theorem dX1_place_66 : decode cX1_place 66 = .ok (.iload_n 3, 1) := by decide +kernel
theorem dX1_place_67 : decode cX1_place 67 = .ok (.istore_n 3, 1) := by decide +kernel
theorem dX1_place_68 : decode cX1_place 68 = .ok (.iinc 4 1, 3) := by decide +kernel
theorem dX1_place_71 : decode cX1_place 71 = .ok (.goto (-36), 3) := by decide +kernel
theorem dX1_place_74 : decode cX1_place 74 = .ok (.iload_n 3, 1) := by decide +kernel
theorem dX1_place_75 : decode cX1_place 75 = .ok (.ireturn, 1) := by decide +kernel
theorem dX1_isTrue_0 : decode cX1_isTrue 0 = .ok (.aload_n 0, 1) := by decide +kernel
theorem dX1_isTrue_1 : decode cX1_isTrue 1 = .ok (.invokevirtual 84, 3) := by decide +kernel
theorem dX1_isTrue_4 : decode cX1_isTrue 4 = .ok (.aload_n 0, 1) := by decide +kernel
theorem dX1_isTrue_5 : decode cX1_isTrue 5 = .ok (.invokevirtual 107, 3) := by decide +kernel
theorem dX1_isTrue_8 : decode cX1_isTrue 8 = .ok (.istore_n 1, 1) := by decide +kernel
theorem dX1_isTrue_9 : decode cX1_isTrue 9 = .ok (.iload_n 1, 1) := by decide +kernel
theorem dX1_isTrue_10 : decode cX1_isTrue 10 = .ok (.ifCond .eq 7, 3) := by decide +kernel
theorem dX1_isTrue_13 : decode cX1_isTrue 13 = .ok (.iconst 1, 1) := by decide +kernel
theorem dX1_isTrue_14 : decode cX1_isTrue 14 = .ok (.goto 4, 3) := by decide +kernel
theorem dX1_isTrue_17 : decode cX1_isTrue 17 = .ok (.iconst 0, 1) := by decide +kernel
theorem dX1_isTrue_18 : decode cX1_isTrue 18 = .ok (.ireturn, 1) := by decide +kernel
theorem dX1_allTrue_0 : decode cX1_allTrue 0 = .ok (.iconst 1, 1) := by decide +kernel
theorem dX1_allTrue_1 : decode cX1_allTrue 1 = .ok (.istore_n 1, 1) := by decide +kernel
theorem dX1_allTrue_2 : decode cX1_allTrue 2 = .ok (.iconst 0, 1) := by decide +kernel
theorem dX1_allTrue_3 : decode cX1_allTrue 3 = .ok (.istore_n 2, 1) := by decide +kernel
theorem dX1_allTrue_4 : decode cX1_allTrue 4 = .ok (.iload_n 2, 1) := by decide +kernel
theorem dX1_allTrue_5 : decode cX1_allTrue 5 = .ok (.aload_n 0, 1) := by decide +kernel
theorem dX1_allTrue_6 : decode cX1_allTrue 6 = .ok (.getfield 56, 3) := by decide +kernel
theorem dX1_allTrue_9 : decode cX1_allTrue 9 = .ok (.if_icmp .ge 34, 3) := by decide +kernel
theorem dX1_allTrue_12 : decode cX1_allTrue 12 = .ok (.iload_n 1, 1) := by decide +kernel
theorem dX1_allTrue_13 : decode cX1_allTrue 13 = .ok (.ifCond .eq 30, 3) := by decide +kernel
theorem dX1_allTrue_16 : decode cX1_allTrue 16 = .ok (.aload_n 0, 1) := by decide +kernel
theorem dX1_allTrue_17 : decode cX1_allTrue 17 = .ok (.aload_n 0, 1) := by decide +kernel
theorem dX1_allTrue_18 : decode cX1_allTrue 18 = .ok (.getfield 16, 3) := by decide +kernel
theorem dX1_allTrue_21 : decode cX1_allTrue 21 = .ok (.iload_n 2, 1) := by decide +kernel
theorem dX1_allTrue_22 : decode cX1_allTrue 22 = .ok (.baload, 1) := by decide +kernel
theorem dX1_allTrue_23 : decode cX1_allTrue 23 = .ok (.invokevirtual 101, 3) := by decide +kernel
theorem dX1_allTrue_26 : decode cX1_allTrue 26 = .ok (.istore_n 3, 1) := by decide +kernel
theorem dX1_allTrue_27 : decode cX1_allTrue 27 = .ok (.iload_n 3, 1) := by decide +kernel
theorem dX1_allTrue_28 : decode cX1_allTrue 28 = .ok (.ifCond .ne 7, 3) := by decide +kernel
theorem dX1_allTrue_31 : decode cX1_allTrue 31 = .ok (.iconst 1, 1) := by decide +kernel
theorem dX1_allTrue_32 : decode cX1_allTrue 32 = .ok (.goto 4, 3) := by decide +kernel
theorem dX1_allTrue_35 : decode cX1_allTrue 35 = .ok (.iconst 0, 1) := by decide +kernel
theorem dX1_allTrue_36 : decode cX1_allTrue 36 = .ok (.istore_n 1, 1) := by decide +kernel
theorem dX1_allTrue_37 : decode cX1_allTrue 37 = .ok (.iinc 2 1, 3) := by decide +kernel
theorem dX1_allTrue_40 : decode cX1_allTrue 40 = .ok (.goto (-36), 3) := by decide +kernel
theorem dX1_allTrue_43 : decode cX1_allTrue 43 = .ok (.iload_n 1, 1) := by decide +kernel
theorem dX1_allTrue_44 : decode cX1_allTrue 44 = .ok (.ifCond .eq 10, 3) := by decide +kernel
theorem dX1_allTrue_47 : decode cX1_allTrue 47 = .ok (.aload_n 0, 1) := by decide +kernel
theorem dX1_allTrue_48 : decode cX1_allTrue 48 = .ok (.invokevirtual 104, 3) := by decide +kernel
theorem dX1_allTrue_51 : decode cX1_allTrue 51 = .ok (.goto 4, 3) := by decide +kernel
theorem dX1_allTrue_54 : decode cX1_allTrue 54 = .ok (.iconst 1, 1) := by decide +kernel
theorem dX1_allTrue_55 : decode cX1_allTrue 55 = .ok (.istore_n 2, 1) := by decide +kernel
theorem dX1_allTrue_56 : decode cX1_allTrue 56 = .ok (.iload_n 2, 1) := by decide +kernel
theorem dX1_allTrue_57 : decode cX1_allTrue 57 = .ok (.ifCond .ne 7, 3) := by decide +kernel
theorem dX1_allTrue_60 : decode cX1_allTrue 60 = .ok (.iconst 1, 1) := by decide +kernel
theorem dX1_allTrue_61 : decode cX1_allTrue 61 = .ok (.goto 4, 3) := by decide +kernel
theorem dX1_allTrue_64 : decode cX1_allTrue 64 = .ok (.iconst 0, 1) := by decide +kernel
theorem dX1_allTrue_65 : decode cX1_allTrue 65 = .ok (.ireturn, 1) := by decide +kernel
theorem dX1_aloneFalse_0 : decode cX1_aloneFalse 0 = .ok (.aload_n 0, 1) := by decide +kernel
theorem dX1_aloneFalse_1 : decode cX1_aloneFalse 1 = .ok (.invokevirtual 90, 3) := by decide +kernel
theorem dX1_aloneFalse_4 : decode cX1_aloneFalse 4 = .ok (.iconst 0, 1) := by decide +kernel
theorem dX1_aloneFalse_5 : decode cX1_aloneFalse 5 = .ok (.istore_n 2, 1) := by decide +kernel
theorem dX1_aloneFalse_6 : decode cX1_aloneFalse 6 = .ok (.iconst 1, 1) := by decide +kernel
theorem dX1_aloneFalse_7 : decode cX1_aloneFalse 7 = .ok (.istore_n 3, 1) := by decide +kernel
theorem dX1_aloneFalse_8 : decode cX1_aloneFalse 8 = .ok (.iload_n 3, 1) := by decide +kernel
theorem dX1_aloneFalse_9 : decode cX1_aloneFalse 9 = .ok (.aload_n 0, 1) := by decide +kernel
theorem dX1_aloneFalse_10 : decode cX1_aloneFalse 10 = .ok (.getfield 42, 3) := by decide +kernel
theorem dX1_aloneFalse_13 : decode cX1_aloneFalse 13 = .ok (.if_icmp .gt 73, 3) := by decide +kernel
theorem dX1_aloneFalse_16 : decode cX1_aloneFalse 16 = .ok (.aload_n 0, 1) := by decide +kernel
theorem dX1_aloneFalse_17 : decode cX1_aloneFalse 17 = .ok (.iload_n 1, 1) := by decide +kernel
theorem dX1_aloneFalse_18 : decode cX1_aloneFalse 18 = .ok (.iload_n 3, 1) := by decide +kernel
theorem dX1_aloneFalse_19 : decode cX1_aloneFalse 19 = .ok (.invokevirtual 59, 3) := by decide +kernel
theorem dX1_aloneFalse_22 : decode cX1_aloneFalse 22 = .ok (.istore 4, 2) := by decide +kernel
theorem dX1_aloneFalse_24 : decode cX1_aloneFalse 24 = .ok (.iconst 0, 1) := by decide +kernel
theorem dX1_aloneFalse_25 : decode cX1_aloneFalse 25 = .ok (.istore 5, 2) := by decide +kernel
theorem dX1_aloneFalse_27 : decode cX1_aloneFalse 27 = .ok (.iload 5, 2) := by decide +kernel
theorem dX1_aloneFalse_29 : decode cX1_aloneFalse 29 = .ok (.aload_n 0, 1) := by decide +kernel
theorem dX1_aloneFalse_30 : decode cX1_aloneFalse 30 = .ok (.getfield 38, 3) := by decide +kernel
theorem dX1_aloneFalse_33 : decode cX1_aloneFalse 33 = .ok (.if_icmp .ge 26, 3) := by decide +kernel
theorem dX1_aloneFalse_36 : decode cX1_aloneFalse 36 = .ok (.aload_n 0, 1) := by decide +kernel
theorem dX1_aloneFalse_37 : decode cX1_aloneFalse 37 = .ok (.getfield 35, 3) := by decide +kernel
theorem dX1_aloneFalse_40 : decode cX1_aloneFalse 40 = .ok (.iload 5, 2) := by decide +kernel
theorem dX1_aloneFalse_42 : decode cX1_aloneFalse 42 = .ok (.aload_n 0, 1) := by decide +kernel
theorem dX1_aloneFalse_43 : decode cX1_aloneFalse 43 = .ok (.getfield 19, 3) := by decide +kernel
theorem dX1_aloneFalse_46 : decode cX1_aloneFalse 46 = .ok (.iload 4, 2) := by decide +kernel
theorem dX1_aloneFalse_48 : decode cX1_aloneFalse 48 = .ok (.iload 5, 2) := by decide +kernel
theorem dX1_aloneFalse_50 : decode cX1_aloneFalse 50 = .ok (.iadd, 1) := by decide +kernel
theorem dX1_aloneFalse_51 : decode cX1_aloneFalse 51 = .ok (.baload, 1) := by decide +kernel
theorem dX1_aloneFalse_52 : decode cX1_aloneFalse 52 = .ok (.bastore, 1) := by decide +kernel
theorem dX1_aloneFalse_53 : decode cX1_aloneFalse 53 = .ok (.iinc 5 1, 3) := by decide +kernel
theorem dX1_aloneFalse_56 : decode cX1_aloneFalse 56 = .ok (.goto (-29), 3) := by decide +kernel
theorem dX1_aloneFalse_59 : decode cX1_aloneFalse 59 = .ok (.aload_n 0, 1) := by decide +kernel
theorem dX1_aloneFalse_60 : decode cX1_aloneFalse 60 = .ok (.invokevirtual 93, 3) := by decide +kernel
theorem dX1_aloneFalse_63 : decode cX1_aloneFalse 63 = .ok (.istore 5, 2) := by decide +kernel
theorem dX1_aloneFalse_65 : decode cX1_aloneFalse 65 = .ok (.iload_n 2, 1) := by decide +kernel
end
section
set_option maxRecDepth 100000
theorem dX1_aloneFalse_66 : decode cX1_aloneFalse 66 = .ok (.ifCond .ne 8, 3) := by decide +kernel
theorem dX1_aloneFalse_69 : decode cX1_aloneFalse 69 = .ok (.iload 5, 2) := by decide +kernel
theorem dX1_aloneFalse_71 : decode cX1_aloneFalse 71 = .ok (.ifCond .ne 7, 3) := by decide +kernel
theorem dX1_aloneFalse_74 : decode cX1_aloneFalse 74 = .ok (.iconst 1, 1) := by decide +kernel
theorem dX1_aloneFalse_75 : decode cX1_aloneFalse 75 = .ok (.goto 4, 3) := by decide +kernel
theorem dX1_aloneFalse_78 : decode cX1_aloneFalse 78 = .ok (.iconst 0, 1) := by decide +kernel
theorem dX1_aloneFalse_79 : decode cX1_aloneFalse 79 = .ok (.istore_n 2, 1) := by decide +kernel
theorem dX1_aloneFalse_80 : decode cX1_aloneFalse 80 = .ok (.iinc 3 1, 3) := by decide +kernel
theorem dX1_aloneFalse_83 : decode cX1_aloneFalse 83 = .ok (.goto (-75), 3) := by decide +kernel
theorem dX1_aloneFalse_86 : decode cX1_aloneFalse 86 = .ok (.iload_n 2, 1) := by decide +kernel
theorem dX1_aloneFalse_87 : decode cX1_aloneFalse 87 = .ok (.ireturn, 1) := by decide +kernel
theorem dX1_clearMet_0 : decode cX1_clearMet 0 = .ok (.iconst 0, 1) := by decide +kernel
theorem dX1_clearMet_1 : decode cX1_clearMet 1 = .ok (.istore_n 1, 1) := by decide +kernel
theorem dX1_clearMet_2 : decode cX1_clearMet 2 = .ok (.iload_n 1, 1) := by decide +kernel
theorem dX1_clearMet_3 : decode cX1_clearMet 3 = .ok (.bipush 23, 2) := by decide +kernel
theorem dX1_clearMet_5 : decode cX1_clearMet 5 = .ok (.if_icmp .ge 16, 3) := by decide +kernel
theorem dX1_clearMet_8 : decode cX1_clearMet 8 = .ok (.aload_n 0, 1) := by decide +kernel
theorem dX1_clearMet_9 : decode cX1_clearMet 9 = .ok (.getfield 29, 3) := by decide +kernel
theorem dX1_clearMet_12 : decode cX1_clearMet 12 = .ok (.iload_n 1, 1) := by decide +kernel
theorem dX1_clearMet_13 : decode cX1_clearMet 13 = .ok (.iconst 0, 1) := by decide +kernel
theorem dX1_clearMet_14 : decode cX1_clearMet 14 = .ok (.iastore, 1) := by decide +kernel
theorem dX1_clearMet_15 : decode cX1_clearMet 15 = .ok (.iinc 1 1, 3) := by decide +kernel
theorem dX1_clearMet_18 : decode cX1_clearMet 18 = .ok (.goto (-16), 3) := by decide +kernel
theorem dX1_clearMet_21 : decode cX1_clearMet 21 = .ok (.return_, 1) := by decide +kernel
theorem dX1_meetMade_0 : decode cX1_meetMade 0 = .ok (.aload_n 0, 1) := by decide +kernel
theorem dX1_meetMade_1 : decode cX1_meetMade 1 = .ok (.invokevirtual 67, 3) := by decide +kernel
theorem dX1_meetMade_4 : decode cX1_meetMade 4 = .ok (.istore_n 1, 1) := by decide +kernel
theorem dX1_meetMade_5 : decode cX1_meetMade 5 = .ok (.iconst 1, 1) := by decide +kernel
theorem dX1_meetMade_6 : decode cX1_meetMade 6 = .ok (.iload_n 1, 1) := by decide +kernel
theorem dX1_meetMade_7 : decode cX1_meetMade 7 = .ok (.bipush 31, 2) := by decide +kernel
theorem dX1_meetMade_9 : decode cX1_meetMade 9 = .ok (.iand, 1) := by decide +kernel
theorem dX1_meetMade_10 : decode cX1_meetMade 10 = .ok (.ishl, 1) := by decide +kernel
theorem dX1_meetMade_11 : decode cX1_meetMade 11 = .ok (.istore_n 2, 1) := by decide +kernel
theorem dX1_meetMade_12 : decode cX1_meetMade 12 = .ok (.aload_n 0, 1) := by decide +kernel
theorem dX1_meetMade_13 : decode cX1_meetMade 13 = .ok (.getfield 29, 3) := by decide +kernel
theorem dX1_meetMade_16 : decode cX1_meetMade 16 = .ok (.iload_n 1, 1) := by decide +kernel
theorem dX1_meetMade_17 : decode cX1_meetMade 17 = .ok (.iconst 5, 1) := by decide +kernel
theorem dX1_meetMade_18 : decode cX1_meetMade 18 = .ok (.ishr, 1) := by decide +kernel
theorem dX1_meetMade_19 : decode cX1_meetMade 19 = .ok (.iaload, 1) := by decide +kernel
theorem dX1_meetMade_20 : decode cX1_meetMade 20 = .ok (.iload_n 2, 1) := by decide +kernel
theorem dX1_meetMade_21 : decode cX1_meetMade 21 = .ok (.iand, 1) := by decide +kernel
theorem dX1_meetMade_22 : decode cX1_meetMade 22 = .ok (.ifCond .ne 7, 3) := by decide +kernel
theorem dX1_meetMade_25 : decode cX1_meetMade 25 = .ok (.iconst 1, 1) := by decide +kernel
theorem dX1_meetMade_26 : decode cX1_meetMade 26 = .ok (.goto 4, 3) := by decide +kernel
theorem dX1_meetMade_29 : decode cX1_meetMade 29 = .ok (.iconst 0, 1) := by decide +kernel
theorem dX1_meetMade_30 : decode cX1_meetMade 30 = .ok (.istore_n 3, 1) := by decide +kernel
theorem dX1_meetMade_31 : decode cX1_meetMade 31 = .ok (.aload_n 0, 1) := by decide +kernel
theorem dX1_meetMade_32 : decode cX1_meetMade 32 = .ok (.getfield 29, 3) := by decide +kernel
theorem dX1_meetMade_35 : decode cX1_meetMade 35 = .ok (.iload_n 1, 1) := by decide +kernel
theorem dX1_meetMade_36 : decode cX1_meetMade 36 = .ok (.iconst 5, 1) := by decide +kernel
theorem dX1_meetMade_37 : decode cX1_meetMade 37 = .ok (.ishr, 1) := by decide +kernel
theorem dX1_meetMade_38 : decode cX1_meetMade 38 = .ok (.aload_n 0, 1) := by decide +kernel
theorem dX1_meetMade_39 : decode cX1_meetMade 39 = .ok (.getfield 29, 3) := by decide +kernel
theorem dX1_meetMade_42 : decode cX1_meetMade 42 = .ok (.iload_n 1, 1) := by decide +kernel
theorem dX1_meetMade_43 : decode cX1_meetMade 43 = .ok (.iconst 5, 1) := by decide +kernel
theorem dX1_meetMade_44 : decode cX1_meetMade 44 = .ok (.ishr, 1) := by decide +kernel
theorem dX1_meetMade_45 : decode cX1_meetMade 45 = .ok (.iaload, 1) := by decide +kernel
theorem dX1_meetMade_46 : decode cX1_meetMade 46 = .ok (.iload_n 2, 1) := by decide +kernel
theorem dX1_meetMade_47 : decode cX1_meetMade 47 = .ok (.ior, 1) := by decide +kernel
theorem dX1_meetMade_48 : decode cX1_meetMade 48 = .ok (.iastore, 1) := by decide +kernel
theorem dX1_meetMade_49 : decode cX1_meetMade 49 = .ok (.iload_n 3, 1) := by decide +kernel
theorem dX1_meetMade_50 : decode cX1_meetMade 50 = .ok (.ireturn, 1) := by decide +kernel
theorem dX1_countFalse_0 : decode cX1_countFalse 0 = .ok (.iconst 0, 1) := by decide +kernel
theorem dX1_countFalse_1 : decode cX1_countFalse 1 = .ok (.istore_n 1, 1) := by decide +kernel
theorem dX1_countFalse_2 : decode cX1_countFalse 2 = .ok (.iconst 0, 1) := by decide +kernel
theorem dX1_countFalse_3 : decode cX1_countFalse 3 = .ok (.istore_n 2, 1) := by decide +kernel
theorem dX1_countFalse_4 : decode cX1_countFalse 4 = .ok (.iload_n 2, 1) := by decide +kernel
theorem dX1_countFalse_5 : decode cX1_countFalse 5 = .ok (.aload_n 0, 1) := by decide +kernel
theorem dX1_countFalse_6 : decode cX1_countFalse 6 = .ok (.getfield 56, 3) := by decide +kernel
theorem dX1_countFalse_9 : decode cX1_countFalse 9 = .ok (.aload_n 0, 1) := by decide +kernel
theorem dX1_countFalse_10 : decode cX1_countFalse 10 = .ok (.getfield 56, 3) := by decide +kernel
theorem dX1_countFalse_13 : decode cX1_countFalse 13 = .ok (.imul, 1) := by decide +kernel
theorem dX1_countFalse_14 : decode cX1_countFalse 14 = .ok (.if_icmp .ge 59, 3) := by decide +kernel
theorem dX1_countFalse_17 : decode cX1_countFalse 17 = .ok (.iload_n 2, 1) := by decide +kernel
theorem dX1_countFalse_18 : decode cX1_countFalse 18 = .ok (.aload_n 0, 1) := by decide +kernel
theorem dX1_countFalse_19 : decode cX1_countFalse 19 = .ok (.getfield 56, 3) := by decide +kernel
theorem dX1_countFalse_22 : decode cX1_countFalse 22 = .ok (.idiv, 1) := by decide +kernel
theorem dX1_countFalse_23 : decode cX1_countFalse 23 = .ok (.istore_n 3, 1) := by decide +kernel
theorem dX1_countFalse_24 : decode cX1_countFalse 24 = .ok (.iload_n 2, 1) := by decide +kernel
theorem dX1_countFalse_25 : decode cX1_countFalse 25 = .ok (.aload_n 0, 1) := by decide +kernel
theorem dX1_countFalse_26 : decode cX1_countFalse 26 = .ok (.getfield 56, 3) := by decide +kernel
theorem dX1_countFalse_29 : decode cX1_countFalse 29 = .ok (.irem, 1) := by decide +kernel
theorem dX1_countFalse_30 : decode cX1_countFalse 30 = .ok (.istore 4, 2) := by decide +kernel
theorem dX1_countFalse_32 : decode cX1_countFalse 32 = .ok (.iload_n 3, 1) := by decide +kernel
theorem dX1_countFalse_33 : decode cX1_countFalse 33 = .ok (.iload 4, 2) := by decide +kernel
theorem dX1_countFalse_35 : decode cX1_countFalse 35 = .ok (.if_icmp .ge 32, 3) := by decide +kernel
theorem dX1_countFalse_38 : decode cX1_countFalse 38 = .ok (.aload_n 0, 1) := by decide +kernel
theorem dX1_countFalse_39 : decode cX1_countFalse 39 = .ok (.iload_n 3, 1) := by decide +kernel
theorem dX1_countFalse_40 : decode cX1_countFalse 40 = .ok (.iload 4, 2) := by decide +kernel
theorem dX1_countFalse_42 : decode cX1_countFalse 42 = .ok (.aload_n 0, 1) := by decide +kernel
theorem dX1_countFalse_43 : decode cX1_countFalse 43 = .ok (.getfield 16, 3) := by decide +kernel
theorem dX1_countFalse_46 : decode cX1_countFalse 46 = .ok (.iload 4, 2) := by decide +kernel
theorem dX1_countFalse_48 : decode cX1_countFalse 48 = .ok (.baload, 1) := by decide +kernel
theorem dX1_countFalse_49 : decode cX1_countFalse 49 = .ok (.invokevirtual 97, 3) := by decide +kernel
theorem dX1_countFalse_52 : decode cX1_countFalse 52 = .ok (.istore 5, 2) := by decide +kernel
theorem dX1_countFalse_54 : decode cX1_countFalse 54 = .ok (.iload 5, 2) := by decide +kernel
theorem dX1_countFalse_56 : decode cX1_countFalse 56 = .ok (.ifCond .eq 9, 3) := by decide +kernel
theorem dX1_countFalse_59 : decode cX1_countFalse 59 = .ok (.iload_n 1, 1) := by decide +kernel
theorem dX1_countFalse_60 : decode cX1_countFalse 60 = .ok (.iconst 1, 1) := by decide +kernel
theorem dX1_countFalse_61 : decode cX1_countFalse 61 = .ok (.iadd, 1) := by decide +kernel
theorem dX1_countFalse_62 : decode cX1_countFalse 62 = .ok (.goto 4, 3) := by decide +kernel
theorem dX1_countFalse_65 : decode cX1_countFalse 65 = .ok (.iload_n 1, 1) := by decide +kernel
theorem dX1_countFalse_66 : decode cX1_countFalse 66 = .ok (.istore_n 1, 1) := by decide +kernel
theorem dX1_countFalse_67 : decode cX1_countFalse 67 = .ok (.iinc 2 1, 3) := by decide +kernel
theorem dX1_countFalse_70 : decode cX1_countFalse 70 = .ok (.goto (-66), 3) := by decide +kernel
theorem dX1_countFalse_73 : decode cX1_countFalse 73 = .ok (.iload_n 1, 1) := by decide +kernel
theorem dX1_countFalse_74 : decode cX1_countFalse 74 = .ok (.ireturn, 1) := by decide +kernel
theorem dX1_pairFalse_0 : decode cX1_pairFalse 0 = .ok (.iconst 0, 1) := by decide +kernel
theorem dX1_pairFalse_1 : decode cX1_pairFalse 1 = .ok (.istore 4, 2) := by decide +kernel
theorem dX1_pairFalse_3 : decode cX1_pairFalse 3 = .ok (.iload 4, 2) := by decide +kernel
theorem dX1_pairFalse_5 : decode cX1_pairFalse 5 = .ok (.aload_n 0, 1) := by decide +kernel
theorem dX1_pairFalse_6 : decode cX1_pairFalse 6 = .ok (.getfield 38, 3) := by decide +kernel
theorem dX1_pairFalse_9 : decode cX1_pairFalse 9 = .ok (.if_icmp .ge 29, 3) := by decide +kernel
theorem dX1_pairFalse_12 : decode cX1_pairFalse 12 = .ok (.aload_n 0, 1) := by decide +kernel
theorem dX1_pairFalse_13 : decode cX1_pairFalse 13 = .ok (.getfield 32, 3) := by decide +kernel
theorem dX1_pairFalse_16 : decode cX1_pairFalse 16 = .ok (.aload_n 0, 1) := by decide +kernel
theorem dX1_pairFalse_17 : decode cX1_pairFalse 17 = .ok (.getfield 22, 3) := by decide +kernel
theorem dX1_pairFalse_20 : decode cX1_pairFalse 20 = .ok (.bipush 6, 2) := by decide +kernel
theorem dX1_pairFalse_22 : decode cX1_pairFalse 22 = .ok (.iload_n 1, 1) := by decide +kernel
theorem dX1_pairFalse_23 : decode cX1_pairFalse 23 = .ok (.imul, 1) := by decide +kernel
theorem dX1_pairFalse_24 : decode cX1_pairFalse 24 = .ok (.iload 4, 2) := by decide +kernel
theorem dX1_pairFalse_26 : decode cX1_pairFalse 26 = .ok (.iadd, 1) := by decide +kernel
theorem dX1_pairFalse_27 : decode cX1_pairFalse 27 = .ok (.baload, 1) := by decide +kernel
theorem dX1_pairFalse_28 : decode cX1_pairFalse 28 = .ok (.iload 4, 2) := by decide +kernel
theorem dX1_pairFalse_30 : decode cX1_pairFalse 30 = .ok (.i2b, 1) := by decide +kernel
theorem dX1_pairFalse_31 : decode cX1_pairFalse 31 = .ok (.bastore, 1) := by decide +kernel
theorem dX1_pairFalse_32 : decode cX1_pairFalse 32 = .ok (.iinc 4 1, 3) := by decide +kernel
theorem dX1_pairFalse_35 : decode cX1_pairFalse 35 = .ok (.goto (-32), 3) := by decide +kernel
theorem dX1_pairFalse_38 : decode cX1_pairFalse 38 = .ok (.iconst 0, 1) := by decide +kernel
theorem dX1_pairFalse_39 : decode cX1_pairFalse 39 = .ok (.istore 4, 2) := by decide +kernel
theorem dX1_pairFalse_41 : decode cX1_pairFalse 41 = .ok (.iload 4, 2) := by decide +kernel
theorem dX1_pairFalse_43 : decode cX1_pairFalse 43 = .ok (.aload_n 0, 1) := by decide +kernel
theorem dX1_pairFalse_44 : decode cX1_pairFalse 44 = .ok (.getfield 38, 3) := by decide +kernel
theorem dX1_pairFalse_47 : decode cX1_pairFalse 47 = .ok (.if_icmp .ge 33, 3) := by decide +kernel
theorem dX1_pairFalse_50 : decode cX1_pairFalse 50 = .ok (.aload_n 0, 1) := by decide +kernel
theorem dX1_pairFalse_51 : decode cX1_pairFalse 51 = .ok (.getfield 35, 3) := by decide +kernel
theorem dX1_pairFalse_54 : decode cX1_pairFalse 54 = .ok (.iload 4, 2) := by decide +kernel
theorem dX1_pairFalse_56 : decode cX1_pairFalse 56 = .ok (.aload_n 0, 1) := by decide +kernel
theorem dX1_pairFalse_57 : decode cX1_pairFalse 57 = .ok (.getfield 32, 3) := by decide +kernel
theorem dX1_pairFalse_60 : decode cX1_pairFalse 60 = .ok (.aload_n 0, 1) := by decide +kernel
theorem dX1_pairFalse_61 : decode cX1_pairFalse 61 = .ok (.getfield 22, 3) := by decide +kernel
theorem dX1_pairFalse_64 : decode cX1_pairFalse 64 = .ok (.bipush 6, 2) := by decide +kernel
theorem dX1_pairFalse_66 : decode cX1_pairFalse 66 = .ok (.iload_n 2, 1) := by decide +kernel
theorem dX1_pairFalse_67 : decode cX1_pairFalse 67 = .ok (.imul, 1) := by decide +kernel
theorem dX1_pairFalse_68 : decode cX1_pairFalse 68 = .ok (.iload 4, 2) := by decide +kernel
theorem dX1_pairFalse_70 : decode cX1_pairFalse 70 = .ok (.iadd, 1) := by decide +kernel
theorem dX1_pairFalse_71 : decode cX1_pairFalse 71 = .ok (.baload, 1) := by decide +kernel
theorem dX1_pairFalse_72 : decode cX1_pairFalse 72 = .ok (.baload, 1) := by decide +kernel
theorem dX1_pairFalse_73 : decode cX1_pairFalse 73 = .ok (.bastore, 1) := by decide +kernel
theorem dX1_pairFalse_74 : decode cX1_pairFalse 74 = .ok (.iinc 4 1, 3) := by decide +kernel
theorem dX1_pairFalse_77 : decode cX1_pairFalse 77 = .ok (.goto (-36), 3) := by decide +kernel
theorem dX1_pairFalse_80 : decode cX1_pairFalse 80 = .ok (.aload_n 0, 1) := by decide +kernel
theorem dX1_pairFalse_81 : decode cX1_pairFalse 81 = .ok (.invokevirtual 67, 3) := by decide +kernel
theorem dX1_pairFalse_84 : decode cX1_pairFalse 84 = .ok (.istore 4, 2) := by decide +kernel
theorem dX1_pairFalse_86 : decode cX1_pairFalse 86 = .ok (.aload_n 0, 1) := by decide +kernel
theorem dX1_pairFalse_87 : decode cX1_pairFalse 87 = .ok (.getfield 25, 3) := by decide +kernel
theorem dX1_pairFalse_90 : decode cX1_pairFalse 90 = .ok (.bipush 23, 2) := by decide +kernel
theorem dX1_pairFalse_92 : decode cX1_pairFalse 92 = .ok (.iconst 3, 1) := by decide +kernel
theorem dX1_pairFalse_93 : decode cX1_pairFalse 93 = .ok (.aload_n 0, 1) := by decide +kernel
theorem dX1_pairFalse_94 : decode cX1_pairFalse 94 = .ok (.getfield 16, 3) := by decide +kernel
theorem dX1_pairFalse_97 : decode cX1_pairFalse 97 = .ok (.iload_n 1, 1) := by decide +kernel
theorem dX1_pairFalse_98 : decode cX1_pairFalse 98 = .ok (.baload, 1) := by decide +kernel
theorem dX1_pairFalse_99 : decode cX1_pairFalse 99 = .ok (.imul, 1) := by decide +kernel
theorem dX1_pairFalse_100 : decode cX1_pairFalse 100 = .ok (.iload_n 3, 1) := by decide +kernel
theorem dX1_pairFalse_101 : decode cX1_pairFalse 101 = .ok (.iadd, 1) := by decide +kernel
theorem dX1_pairFalse_102 : decode cX1_pairFalse 102 = .ok (.imul, 1) := by decide +kernel
theorem dX1_pairFalse_103 : decode cX1_pairFalse 103 = .ok (.iload 4, 2) := by decide +kernel
theorem dX1_pairFalse_105 : decode cX1_pairFalse 105 = .ok (.iconst 5, 1) := by decide +kernel
theorem dX1_pairFalse_106 : decode cX1_pairFalse 106 = .ok (.ishr, 1) := by decide +kernel
theorem dX1_pairFalse_107 : decode cX1_pairFalse 107 = .ok (.iadd, 1) := by decide +kernel
theorem dX1_pairFalse_108 : decode cX1_pairFalse 108 = .ok (.iaload, 1) := by decide +kernel
theorem dX1_pairFalse_109 : decode cX1_pairFalse 109 = .ok (.iload 4, 2) := by decide +kernel
theorem dX1_pairFalse_111 : decode cX1_pairFalse 111 = .ok (.bipush 31, 2) := by decide +kernel
theorem dX1_pairFalse_113 : decode cX1_pairFalse 113 = .ok (.iand, 1) := by decide +kernel
theorem dX1_pairFalse_114 : decode cX1_pairFalse 114 = .ok (.ishr, 1) := by decide +kernel
theorem dX1_pairFalse_115 : decode cX1_pairFalse 115 = .ok (.iconst 1, 1) := by decide +kernel
theorem dX1_pairFalse_116 : decode cX1_pairFalse 116 = .ok (.iand, 1) := by decide +kernel
theorem dX1_pairFalse_117 : decode cX1_pairFalse 117 = .ok (.iconst 1, 1) := by decide +kernel
theorem dX1_pairFalse_118 : decode cX1_pairFalse 118 = .ok (.if_icmp .ne 7, 3) := by decide +kernel
theorem dX1_pairFalse_121 : decode cX1_pairFalse 121 = .ok (.iconst 1, 1) := by decide +kernel
theorem dX1_pairFalse_122 : decode cX1_pairFalse 122 = .ok (.goto 4, 3) := by decide +kernel
theorem dX1_pairFalse_125 : decode cX1_pairFalse 125 = .ok (.iconst 0, 1) := by decide +kernel
theorem dX1_pairFalse_126 : decode cX1_pairFalse 126 = .ok (.ireturn, 1) := by decide +kernel
theorem dX1_different_0 : decode cX1_different 0 = .ok (.aload_n 0, 1) := by decide +kernel
theorem dX1_different_1 : decode cX1_different 1 = .ok (.invokevirtual 84, 3) := by decide +kernel
theorem dX1_different_4 : decode cX1_different 4 = .ok (.aload_n 0, 1) := by decide +kernel
theorem dX1_different_5 : decode cX1_different 5 = .ok (.invokevirtual 90, 3) := by decide +kernel
theorem dX1_different_8 : decode cX1_different 8 = .ok (.iconst 0, 1) := by decide +kernel
theorem dX1_different_9 : decode cX1_different 9 = .ok (.istore_n 1, 1) := by decide +kernel
theorem dX1_different_10 : decode cX1_different 10 = .ok (.iconst 1, 1) := by decide +kernel
theorem dX1_different_11 : decode cX1_different 11 = .ok (.istore_n 2, 1) := by decide +kernel
theorem dX1_different_12 : decode cX1_different 12 = .ok (.iload_n 2, 1) := by decide +kernel
theorem dX1_different_13 : decode cX1_different 13 = .ok (.aload_n 0, 1) := by decide +kernel
theorem dX1_different_14 : decode cX1_different 14 = .ok (.getfield 56, 3) := by decide +kernel
theorem dX1_different_17 : decode cX1_different 17 = .ok (.aload_n 0, 1) := by decide +kernel
theorem dX1_different_18 : decode cX1_different 18 = .ok (.getfield 42, 3) := by decide +kernel
theorem dX1_different_21 : decode cX1_different 21 = .ok (.imul, 1) := by decide +kernel
theorem dX1_different_22 : decode cX1_different 22 = .ok (.if_icmp .gt 59, 3) := by decide +kernel
theorem dX1_different_25 : decode cX1_different 25 = .ok (.iconst 0, 1) := by decide +kernel
theorem dX1_different_26 : decode cX1_different 26 = .ok (.istore_n 3, 1) := by decide +kernel
theorem dX1_different_27 : decode cX1_different 27 = .ok (.iload_n 3, 1) := by decide +kernel
theorem dX1_different_28 : decode cX1_different 28 = .ok (.aload_n 0, 1) := by decide +kernel
theorem dX1_different_29 : decode cX1_different 29 = .ok (.getfield 38, 3) := by decide +kernel
theorem dX1_different_32 : decode cX1_different 32 = .ok (.if_icmp .ge 26, 3) := by decide +kernel
theorem dX1_different_35 : decode cX1_different 35 = .ok (.aload_n 0, 1) := by decide +kernel
theorem dX1_different_36 : decode cX1_different 36 = .ok (.iload_n 2, 1) := by decide +kernel
theorem dX1_different_37 : decode cX1_different 37 = .ok (.iload_n 3, 1) := by decide +kernel
theorem dX1_different_38 : decode cX1_different 38 = .ok (.invokevirtual 87, 3) := by decide +kernel
theorem dX1_different_41 : decode cX1_different 41 = .ok (.istore 4, 2) := by decide +kernel
theorem dX1_different_43 : decode cX1_different 43 = .ok (.aload_n 0, 1) := by decide +kernel
theorem dX1_different_44 : decode cX1_different 44 = .ok (.getfield 35, 3) := by decide +kernel
theorem dX1_different_47 : decode cX1_different 47 = .ok (.iload_n 3, 1) := by decide +kernel
theorem dX1_different_48 : decode cX1_different 48 = .ok (.iload 4, 2) := by decide +kernel
theorem dX1_different_50 : decode cX1_different 50 = .ok (.i2b, 1) := by decide +kernel
theorem dX1_different_51 : decode cX1_different 51 = .ok (.bastore, 1) := by decide +kernel
theorem dX1_different_52 : decode cX1_different 52 = .ok (.iinc 3 1, 3) := by decide +kernel
theorem dX1_different_55 : decode cX1_different 55 = .ok (.goto (-28), 3) := by decide +kernel
theorem dX1_different_58 : decode cX1_different 58 = .ok (.aload_n 0, 1) := by decide +kernel
theorem dX1_different_59 : decode cX1_different 59 = .ok (.invokevirtual 93, 3) := by decide +kernel
theorem dX1_different_62 : decode cX1_different 62 = .ok (.istore_n 3, 1) := by decide +kernel
theorem dX1_different_63 : decode cX1_different 63 = .ok (.iload_n 3, 1) := by decide +kernel
theorem dX1_different_64 : decode cX1_different 64 = .ok (.ifCond .eq 9, 3) := by decide +kernel
theorem dX1_different_67 : decode cX1_different 67 = .ok (.iload_n 1, 1) := by decide +kernel
theorem dX1_different_68 : decode cX1_different 68 = .ok (.iconst 1, 1) := by decide +kernel
theorem dX1_different_69 : decode cX1_different 69 = .ok (.iadd, 1) := by decide +kernel
theorem dX1_different_70 : decode cX1_different 70 = .ok (.goto 4, 3) := by decide +kernel
theorem dX1_different_73 : decode cX1_different 73 = .ok (.iload_n 1, 1) := by decide +kernel
theorem dX1_different_74 : decode cX1_different 74 = .ok (.istore_n 1, 1) := by decide +kernel
theorem dX1_different_75 : decode cX1_different 75 = .ok (.iinc 2 1, 3) := by decide +kernel
theorem dX1_different_78 : decode cX1_different 78 = .ok (.goto (-66), 3) := by decide +kernel
theorem dX1_different_81 : decode cX1_different 81 = .ok (.iload_n 1, 1) := by decide +kernel
theorem dX1_different_82 : decode cX1_different 82 = .ok (.ireturn, 1) := by decide +kernel
theorem dX1_falsePairs_0 : decode cX1_falsePairs 0 = .ok (.aload_n 0, 1) := by decide +kernel
theorem dX1_falsePairs_1 : decode cX1_falsePairs 1 = .ok (.invokevirtual 84, 3) := by decide +kernel
theorem dX1_falsePairs_4 : decode cX1_falsePairs 4 = .ok (.aload_n 0, 1) := by decide +kernel
theorem dX1_falsePairs_5 : decode cX1_falsePairs 5 = .ok (.invokevirtual 104, 3) := by decide +kernel
theorem dX1_falsePairs_8 : decode cX1_falsePairs 8 = .ok (.ireturn, 1) := by decide +kernel
theorem dX1_falseAlone_0 : decode cX1_falseAlone 0 = .ok (.aload_n 0, 1) := by decide +kernel
theorem dX1_falseAlone_1 : decode cX1_falseAlone 1 = .ok (.iload_n 1, 1) := by decide +kernel
theorem dX1_falseAlone_2 : decode cX1_falseAlone 2 = .ok (.invokevirtual 53, 3) := by decide +kernel
theorem dX1_falseAlone_5 : decode cX1_falseAlone 5 = .ok (.ifCond .eq 5, 3) := by decide +kernel
theorem dX1_falseAlone_8 : decode cX1_falseAlone 8 = .ok (.iconst (-1), 1) := by decide +kernel
theorem dX1_falseAlone_9 : decode cX1_falseAlone 9 = .ok (.ireturn, 1) := by decide +kernel
theorem dX1_falseAlone_10 : decode cX1_falseAlone 10 = .ok (.aload_n 0, 1) := by decide +kernel
theorem dX1_falseAlone_11 : decode cX1_falseAlone 11 = .ok (.invokevirtual 78, 3) := by decide +kernel
theorem dX1_falseAlone_14 : decode cX1_falseAlone 14 = .ok (.aload_n 0, 1) := by decide +kernel
theorem dX1_falseAlone_15 : decode cX1_falseAlone 15 = .ok (.iload_n 1, 1) := by decide +kernel
theorem dX1_falseAlone_16 : decode cX1_falseAlone 16 = .ok (.invokevirtual 101, 3) := by decide +kernel
theorem dX1_falseAlone_19 : decode cX1_falseAlone 19 = .ok (.istore_n 2, 1) := by decide +kernel
theorem dX1_falseAlone_20 : decode cX1_falseAlone 20 = .ok (.iload_n 2, 1) := by decide +kernel
theorem dX1_falseAlone_21 : decode cX1_falseAlone 21 = .ok (.ifCond .eq 7, 3) := by decide +kernel
theorem dX1_falseAlone_24 : decode cX1_falseAlone 24 = .ok (.iconst 1, 1) := by decide +kernel
theorem dX1_falseAlone_25 : decode cX1_falseAlone 25 = .ok (.goto 4, 3) := by decide +kernel
theorem dX1_falseAlone_28 : decode cX1_falseAlone 28 = .ok (.iconst 0, 1) := by decide +kernel
theorem dX1_falseAlone_29 : decode cX1_falseAlone 29 = .ok (.ireturn, 1) := by decide +kernel
theorem dX1_order_0 : decode cX1_order 0 = .ok (.aload_n 0, 1) := by decide +kernel
theorem dX1_order_1 : decode cX1_order 1 = .ok (.iload_n 1, 1) := by decide +kernel
theorem dX1_order_2 : decode cX1_order 2 = .ok (.invokevirtual 53, 3) := by decide +kernel
theorem dX1_order_5 : decode cX1_order 5 = .ok (.ifCond .eq 5, 3) := by decide +kernel
theorem dX1_order_8 : decode cX1_order 8 = .ok (.iconst (-1), 1) := by decide +kernel
theorem dX1_order_9 : decode cX1_order 9 = .ok (.ireturn, 1) := by decide +kernel
theorem dX1_order_10 : decode cX1_order 10 = .ok (.aload_n 0, 1) := by decide +kernel
theorem dX1_order_11 : decode cX1_order 11 = .ok (.invokevirtual 78, 3) := by decide +kernel
theorem dX1_order_14 : decode cX1_order 14 = .ok (.aload_n 0, 1) := by decide +kernel
theorem dX1_order_15 : decode cX1_order 15 = .ok (.iload_n 1, 1) := by decide +kernel
theorem dX1_order_16 : decode cX1_order 16 = .ok (.aload_n 0, 1) := by decide +kernel
theorem dX1_order_17 : decode cX1_order 17 = .ok (.getfield 42, 3) := by decide +kernel
theorem dX1_order_20 : decode cX1_order 20 = .ok (.invokevirtual 59, 3) := by decide +kernel
theorem dX1_order_23 : decode cX1_order 23 = .ok (.istore_n 2, 1) := by decide +kernel
theorem dX1_order_24 : decode cX1_order 24 = .ok (.iconst 1, 1) := by decide +kernel
theorem dX1_order_25 : decode cX1_order 25 = .ok (.istore_n 3, 1) := by decide +kernel
theorem dX1_order_26 : decode cX1_order 26 = .ok (.iconst 0, 1) := by decide +kernel
theorem dX1_order_27 : decode cX1_order 27 = .ok (.istore 4, 2) := by decide +kernel
theorem dX1_order_29 : decode cX1_order 29 = .ok (.iload 4, 2) := by decide +kernel
theorem dX1_order_31 : decode cX1_order 31 = .ok (.aload_n 0, 1) := by decide +kernel
theorem dX1_order_32 : decode cX1_order 32 = .ok (.getfield 38, 3) := by decide +kernel
theorem dX1_order_35 : decode cX1_order 35 = .ok (.if_icmp .ge 82, 3) := by decide +kernel
theorem dX1_order_38 : decode cX1_order 38 = .ok (.iconst 1, 1) := by decide +kernel
theorem dX1_order_39 : decode cX1_order 39 = .ok (.istore 5, 2) := by decide +kernel
theorem dX1_order_41 : decode cX1_order 41 = .ok (.aload_n 0, 1) := by decide +kernel
theorem dX1_order_42 : decode cX1_order 42 = .ok (.getfield 19, 3) := by decide +kernel
theorem dX1_order_45 : decode cX1_order 45 = .ok (.iload_n 2, 1) := by decide +kernel
theorem dX1_order_46 : decode cX1_order 46 = .ok (.iload 4, 2) := by decide +kernel
theorem dX1_order_48 : decode cX1_order 48 = .ok (.iadd, 1) := by decide +kernel
theorem dX1_order_49 : decode cX1_order 49 = .ok (.baload, 1) := by decide +kernel
theorem dX1_order_50 : decode cX1_order 50 = .ok (.istore 6, 2) := by decide +kernel
theorem dX1_order_52 : decode cX1_order 52 = .ok (.iload 6, 2) := by decide +kernel
theorem dX1_order_54 : decode cX1_order 54 = .ok (.iload 4, 2) := by decide +kernel
theorem dX1_order_56 : decode cX1_order 56 = .ok (.if_icmp .eq 29, 3) := by decide +kernel
theorem dX1_order_59 : decode cX1_order 59 = .ok (.iload 5, 2) := by decide +kernel
theorem dX1_order_61 : decode cX1_order 61 = .ok (.aload_n 0, 1) := by decide +kernel
theorem dX1_order_62 : decode cX1_order 62 = .ok (.getfield 38, 3) := by decide +kernel
theorem dX1_order_65 : decode cX1_order 65 = .ok (.if_icmp .ge 20, 3) := by decide +kernel
theorem dX1_order_68 : decode cX1_order 68 = .ok (.aload_n 0, 1) := by decide +kernel
theorem dX1_order_69 : decode cX1_order 69 = .ok (.getfield 19, 3) := by decide +kernel
theorem dX1_order_72 : decode cX1_order 72 = .ok (.iload_n 2, 1) := by decide +kernel
theorem dX1_order_73 : decode cX1_order 73 = .ok (.iload 6, 2) := by decide +kernel
theorem dX1_order_75 : decode cX1_order 75 = .ok (.iadd, 1) := by decide +kernel
theorem dX1_order_76 : decode cX1_order 76 = .ok (.baload, 1) := by decide +kernel
theorem dX1_order_77 : decode cX1_order 77 = .ok (.istore 6, 2) := by decide +kernel
theorem dX1_order_79 : decode cX1_order 79 = .ok (.iinc 5 1, 3) := by decide +kernel
theorem dX1_order_82 : decode cX1_order 82 = .ok (.goto (-30), 3) := by decide +kernel
theorem dX1_order_85 : decode cX1_order 85 = .ok (.aload_n 0, 1) := by decide +kernel
theorem dX1_order_86 : decode cX1_order 86 = .ok (.iload_n 3, 1) := by decide +kernel
theorem dX1_order_87 : decode cX1_order 87 = .ok (.iload 5, 2) := by decide +kernel
theorem dX1_order_89 : decode cX1_order 89 = .ok (.invokevirtual 110, 3) := by decide +kernel
theorem dX1_order_92 : decode cX1_order 92 = .ok (.istore 7, 2) := by decide +kernel
theorem dX1_order_94 : decode cX1_order 94 = .ok (.iload_n 3, 1) := by decide +kernel
theorem dX1_order_95 : decode cX1_order 95 = .ok (.iload 5, 2) := by decide +kernel
theorem dX1_order_97 : decode cX1_order 97 = .ok (.imul, 1) := by decide +kernel
theorem dX1_order_98 : decode cX1_order 98 = .ok (.iload 7, 2) := by decide +kernel
theorem dX1_order_100 : decode cX1_order 100 = .ok (.ifCond .le 8, 3) := by decide +kernel
theorem dX1_order_103 : decode cX1_order 103 = .ok (.iload 7, 2) := by decide +kernel
theorem dX1_order_105 : decode cX1_order 105 = .ok (.goto 4, 3) := by decide +kernel
theorem dX1_order_108 : decode cX1_order 108 = .ok (.iconst 1, 1) := by decide +kernel
theorem dX1_order_109 : decode cX1_order 109 = .ok (.idiv, 1) := by decide +kernel
theorem dX1_order_110 : decode cX1_order 110 = .ok (.istore_n 3, 1) := by decide +kernel
theorem dX1_order_111 : decode cX1_order 111 = .ok (.iinc 4 1, 3) := by decide +kernel
theorem dX1_order_114 : decode cX1_order 114 = .ok (.goto (-85), 3) := by decide +kernel
theorem dX1_order_117 : decode cX1_order 117 = .ok (.iload_n 3, 1) := by decide +kernel
theorem dX1_order_118 : decode cX1_order 118 = .ok (.ireturn, 1) := by decide +kernel
theorem dX1_greatest_0 : decode cX1_greatest 0 = .ok (.iload_n 1, 1) := by decide +kernel
theorem dX1_greatest_1 : decode cX1_greatest 1 = .ok (.istore_n 3, 1) := by decide +kernel
theorem dX1_greatest_2 : decode cX1_greatest 2 = .ok (.iload_n 2, 1) := by decide +kernel
theorem dX1_greatest_3 : decode cX1_greatest 3 = .ok (.istore 4, 2) := by decide +kernel
theorem dX1_greatest_5 : decode cX1_greatest 5 = .ok (.iload 4, 2) := by decide +kernel
theorem dX1_greatest_7 : decode cX1_greatest 7 = .ok (.ifCond .le 19, 3) := by decide +kernel
theorem dX1_greatest_10 : decode cX1_greatest 10 = .ok (.iload_n 3, 1) := by decide +kernel
theorem dX1_greatest_11 : decode cX1_greatest 11 = .ok (.iload 4, 2) := by decide +kernel
theorem dX1_greatest_13 : decode cX1_greatest 13 = .ok (.irem, 1) := by decide +kernel
theorem dX1_greatest_14 : decode cX1_greatest 14 = .ok (.istore 5, 2) := by decide +kernel
theorem dX1_greatest_16 : decode cX1_greatest 16 = .ok (.iload 4, 2) := by decide +kernel
theorem dX1_greatest_18 : decode cX1_greatest 18 = .ok (.istore_n 3, 1) := by decide +kernel
theorem dX1_greatest_19 : decode cX1_greatest 19 = .ok (.iload 5, 2) := by decide +kernel
theorem dX1_greatest_21 : decode cX1_greatest 21 = .ok (.istore 4, 2) := by decide +kernel
theorem dX1_greatest_23 : decode cX1_greatest 23 = .ok (.goto (-18), 3) := by decide +kernel
theorem dX1_greatest_26 : decode cX1_greatest 26 = .ok (.iload_n 3, 1) := by decide +kernel
theorem dX1_greatest_27 : decode cX1_greatest 27 = .ok (.ireturn, 1) := by decide +kernel
theorem dX1_home_0 : decode cX1_home 0 = .ok (.aload_n 0, 1) := by decide +kernel
theorem dX1_home_1 : decode cX1_home 1 = .ok (.invokevirtual 84, 3) := by decide +kernel
theorem dX1_home_4 : decode cX1_home 4 = .ok (.iconst 1, 1) := by decide +kernel
theorem dX1_home_5 : decode cX1_home 5 = .ok (.istore_n 1, 1) := by decide +kernel
theorem dX1_home_6 : decode cX1_home 6 = .ok (.iconst 0, 1) := by decide +kernel
theorem dX1_home_7 : decode cX1_home 7 = .ok (.istore_n 2, 1) := by decide +kernel
theorem dX1_home_8 : decode cX1_home 8 = .ok (.iload_n 2, 1) := by decide +kernel
theorem dX1_home_9 : decode cX1_home 9 = .ok (.aload_n 0, 1) := by decide +kernel
theorem dX1_home_10 : decode cX1_home 10 = .ok (.getfield 38, 3) := by decide +kernel
theorem dX1_home_13 : decode cX1_home 13 = .ok (.if_icmp .ge 37, 3) := by decide +kernel
theorem dX1_home_16 : decode cX1_home 16 = .ok (.iload_n 1, 1) := by decide +kernel
theorem dX1_home_17 : decode cX1_home 17 = .ok (.ifCond .eq 25, 3) := by decide +kernel
theorem dX1_home_20 : decode cX1_home 20 = .ok (.aload_n 0, 1) := by decide +kernel
theorem dX1_home_21 : decode cX1_home 21 = .ok (.getfield 22, 3) := by decide +kernel
theorem dX1_home_24 : decode cX1_home 24 = .ok (.bipush 6, 2) := by decide +kernel
theorem dX1_home_26 : decode cX1_home 26 = .ok (.aload_n 0, 1) := by decide +kernel
theorem dX1_home_27 : decode cX1_home 27 = .ok (.getfield 56, 3) := by decide +kernel
theorem dX1_home_30 : decode cX1_home 30 = .ok (.imul, 1) := by decide +kernel
theorem dX1_home_31 : decode cX1_home 31 = .ok (.iload_n 2, 1) := by decide +kernel
theorem dX1_home_32 : decode cX1_home 32 = .ok (.iadd, 1) := by decide +kernel
theorem dX1_home_33 : decode cX1_home 33 = .ok (.baload, 1) := by decide +kernel
theorem dX1_home_34 : decode cX1_home 34 = .ok (.iload_n 2, 1) := by decide +kernel
theorem dX1_home_35 : decode cX1_home 35 = .ok (.if_icmp .ne 7, 3) := by decide +kernel
theorem dX1_home_38 : decode cX1_home 38 = .ok (.iconst 1, 1) := by decide +kernel
theorem dX1_home_39 : decode cX1_home 39 = .ok (.goto 4, 3) := by decide +kernel
theorem dX1_home_42 : decode cX1_home 42 = .ok (.iconst 0, 1) := by decide +kernel
theorem dX1_home_43 : decode cX1_home 43 = .ok (.istore_n 1, 1) := by decide +kernel
theorem dX1_home_44 : decode cX1_home 44 = .ok (.iinc 2 1, 3) := by decide +kernel
theorem dX1_home_47 : decode cX1_home 47 = .ok (.goto (-39), 3) := by decide +kernel
theorem dX1_home_50 : decode cX1_home 50 = .ok (.iload_n 1, 1) := by decide +kernel
theorem dX1_home_51 : decode cX1_home 51 = .ok (.ifCond .eq 7, 3) := by decide +kernel
theorem dX1_home_54 : decode cX1_home 54 = .ok (.iconst 1, 1) := by decide +kernel
theorem dX1_home_55 : decode cX1_home 55 = .ok (.goto 4, 3) := by decide +kernel
theorem dX1_home_58 : decode cX1_home 58 = .ok (.iconst 0, 1) := by decide +kernel
theorem dX1_home_59 : decode cX1_home 59 = .ok (.ireturn, 1) := by decide +kernel
theorem dX1_leads_0 : decode cX1_leads 0 = .ok (.iload_n 1, 1) := by decide +kernel
theorem dX1_leads_1 : decode cX1_leads 1 = .ok (.iconst 1, 1) := by decide +kernel
theorem dX1_leads_2 : decode cX1_leads 2 = .ok (.if_icmp .lt 11, 3) := by decide +kernel
theorem dX1_leads_5 : decode cX1_leads 5 = .ok (.iload_n 1, 1) := by decide +kernel
theorem dX1_leads_6 : decode cX1_leads 6 = .ok (.aload_n 0, 1) := by decide +kernel
theorem dX1_leads_7 : decode cX1_leads 7 = .ok (.getfield 38, 3) := by decide +kernel
theorem dX1_leads_10 : decode cX1_leads 10 = .ok (.if_icmp .le 5, 3) := by decide +kernel
theorem dX1_leads_13 : decode cX1_leads 13 = .ok (.iconst (-1), 1) := by decide +kernel
theorem dX1_leads_14 : decode cX1_leads 14 = .ok (.ireturn, 1) := by decide +kernel
theorem dX1_leads_15 : decode cX1_leads 15 = .ok (.aload_n 0, 1) := by decide +kernel
theorem dX1_leads_16 : decode cX1_leads 16 = .ok (.invokevirtual 84, 3) := by decide +kernel
theorem dX1_leads_19 : decode cX1_leads 19 = .ok (.iconst 0, 1) := by decide +kernel
theorem dX1_leads_20 : decode cX1_leads 20 = .ok (.istore_n 2, 1) := by decide +kernel
theorem dX1_leads_21 : decode cX1_leads 21 = .ok (.iconst 1, 1) := by decide +kernel
theorem dX1_leads_22 : decode cX1_leads 22 = .ok (.istore_n 3, 1) := by decide +kernel
theorem dX1_leads_23 : decode cX1_leads 23 = .ok (.iload_n 3, 1) := by decide +kernel
theorem dX1_leads_24 : decode cX1_leads 24 = .ok (.aload_n 0, 1) := by decide +kernel
theorem dX1_leads_25 : decode cX1_leads 25 = .ok (.getfield 56, 3) := by decide +kernel
theorem dX1_leads_28 : decode cX1_leads 28 = .ok (.aload_n 0, 1) := by decide +kernel
theorem dX1_leads_29 : decode cX1_leads 29 = .ok (.getfield 42, 3) := by decide +kernel
theorem dX1_leads_32 : decode cX1_leads 32 = .ok (.imul, 1) := by decide +kernel
theorem dX1_leads_33 : decode cX1_leads 33 = .ok (.if_icmp .gt 33, 3) := by decide +kernel
theorem dX1_leads_36 : decode cX1_leads 36 = .ok (.aload_n 0, 1) := by decide +kernel
theorem dX1_leads_37 : decode cX1_leads 37 = .ok (.iload_n 3, 1) := by decide +kernel
theorem dX1_leads_38 : decode cX1_leads 38 = .ok (.iconst 0, 1) := by decide +kernel
theorem dX1_leads_39 : decode cX1_leads 39 = .ok (.invokevirtual 87, 3) := by decide +kernel
theorem dX1_leads_42 : decode cX1_leads 42 = .ok (.istore 4, 2) := by decide +kernel
theorem dX1_leads_44 : decode cX1_leads 44 = .ok (.iload 4, 2) := by decide +kernel
theorem dX1_leads_46 : decode cX1_leads 46 = .ok (.iload_n 1, 1) := by decide +kernel
theorem dX1_leads_47 : decode cX1_leads 47 = .ok (.iconst 1, 1) := by decide +kernel
theorem dX1_leads_48 : decode cX1_leads 48 = .ok (.isub, 1) := by decide +kernel
theorem dX1_leads_49 : decode cX1_leads 49 = .ok (.if_icmp .ne 9, 3) := by decide +kernel
theorem dX1_leads_52 : decode cX1_leads 52 = .ok (.iload_n 2, 1) := by decide +kernel
theorem dX1_leads_53 : decode cX1_leads 53 = .ok (.iconst 1, 1) := by decide +kernel
theorem dX1_leads_54 : decode cX1_leads 54 = .ok (.iadd, 1) := by decide +kernel
theorem dX1_leads_55 : decode cX1_leads 55 = .ok (.goto 4, 3) := by decide +kernel
theorem dX1_leads_58 : decode cX1_leads 58 = .ok (.iload_n 2, 1) := by decide +kernel
theorem dX1_leads_59 : decode cX1_leads 59 = .ok (.istore_n 2, 1) := by decide +kernel
theorem dX1_leads_60 : decode cX1_leads 60 = .ok (.iinc 3 1, 3) := by decide +kernel
theorem dX1_leads_63 : decode cX1_leads 63 = .ok (.goto (-40), 3) := by decide +kernel
theorem dX1_leads_66 : decode cX1_leads 66 = .ok (.iload_n 2, 1) := by decide +kernel
theorem dX1_leads_67 : decode cX1_leads 67 = .ok (.ireturn, 1) := by decide +kernel
theorem dX1_choices_0 : decode cX1_choices 0 = .ok (.aload_n 0, 1) := by decide +kernel
theorem dX1_choices_1 : decode cX1_choices 1 = .ok (.invokevirtual 84, 3) := by decide +kernel
theorem dX1_choices_4 : decode cX1_choices 4 = .ok (.aload_n 0, 1) := by decide +kernel
theorem dX1_choices_5 : decode cX1_choices 5 = .ok (.invokevirtual 107, 3) := by decide +kernel
theorem dX1_choices_8 : decode cX1_choices 8 = .ok (.istore_n 1, 1) := by decide +kernel
theorem dX1_choices_9 : decode cX1_choices 9 = .ok (.iconst 0, 1) := by decide +kernel
theorem dX1_choices_10 : decode cX1_choices 10 = .ok (.istore_n 2, 1) := by decide +kernel
theorem dX1_choices_11 : decode cX1_choices 11 = .ok (.iconst 0, 1) := by decide +kernel
theorem dX1_choices_12 : decode cX1_choices 12 = .ok (.istore_n 3, 1) := by decide +kernel
theorem dX1_choices_13 : decode cX1_choices 13 = .ok (.iload_n 3, 1) := by decide +kernel
theorem dX1_choices_14 : decode cX1_choices 14 = .ok (.iconst 3, 1) := by decide +kernel
theorem dX1_choices_15 : decode cX1_choices 15 = .ok (.if_icmp .ge 69, 3) := by decide +kernel
theorem dX1_choices_18 : decode cX1_choices 18 = .ok (.iload_n 1, 1) := by decide +kernel
theorem dX1_choices_19 : decode cX1_choices 19 = .ok (.ifCond .eq 65, 3) := by decide +kernel
theorem dX1_choices_22 : decode cX1_choices 22 = .ok (.aload_n 0, 1) := by decide +kernel
theorem dX1_choices_23 : decode cX1_choices 23 = .ok (.iload_n 3, 1) := by decide +kernel
theorem dX1_choices_24 : decode cX1_choices 24 = .ok (.invokevirtual 101, 3) := by decide +kernel
theorem dX1_choices_27 : decode cX1_choices 27 = .ok (.istore 4, 2) := by decide +kernel
theorem dX1_choices_29 : decode cX1_choices 29 = .ok (.iconst 0, 1) := by decide +kernel
theorem dX1_choices_30 : decode cX1_choices 30 = .ok (.istore 5, 2) := by decide +kernel
theorem dX1_choices_32 : decode cX1_choices 32 = .ok (.iload 5, 2) := by decide +kernel
theorem dX1_choices_34 : decode cX1_choices 34 = .ok (.aload_n 0, 1) := by decide +kernel
theorem dX1_choices_35 : decode cX1_choices 35 = .ok (.getfield 56, 3) := by decide +kernel
theorem dX1_choices_38 : decode cX1_choices 38 = .ok (.if_icmp .ge 27, 3) := by decide +kernel
theorem dX1_choices_41 : decode cX1_choices 41 = .ok (.iload 4, 2) := by decide +kernel
theorem dX1_choices_43 : decode cX1_choices 43 = .ok (.ifCond .ne 22, 3) := by decide +kernel
theorem dX1_choices_46 : decode cX1_choices 46 = .ok (.aload_n 0, 1) := by decide +kernel
theorem dX1_choices_47 : decode cX1_choices 47 = .ok (.iload 5, 2) := by decide +kernel
theorem dX1_choices_49 : decode cX1_choices 49 = .ok (.aload_n 0, 1) := by decide +kernel
theorem dX1_choices_50 : decode cX1_choices 50 = .ok (.getfield 56, 3) := by decide +kernel
theorem dX1_choices_53 : decode cX1_choices 53 = .ok (.iload_n 3, 1) := by decide +kernel
theorem dX1_choices_54 : decode cX1_choices 54 = .ok (.invokevirtual 97, 3) := by decide +kernel
theorem dX1_choices_57 : decode cX1_choices 57 = .ok (.istore 4, 2) := by decide +kernel
theorem dX1_choices_59 : decode cX1_choices 59 = .ok (.iinc 5 1, 3) := by decide +kernel
theorem dX1_choices_62 : decode cX1_choices 62 = .ok (.goto (-30), 3) := by decide +kernel
theorem dX1_choices_65 : decode cX1_choices 65 = .ok (.iload 4, 2) := by decide +kernel
theorem dX1_choices_67 : decode cX1_choices 67 = .ok (.ifCond .eq 7, 3) := by decide +kernel
theorem dX1_choices_70 : decode cX1_choices 70 = .ok (.iload_n 2, 1) := by decide +kernel
theorem dX1_choices_71 : decode cX1_choices 71 = .ok (.goto 6, 3) := by decide +kernel
theorem dX1_choices_74 : decode cX1_choices 74 = .ok (.iload_n 2, 1) := by decide +kernel
theorem dX1_choices_75 : decode cX1_choices 75 = .ok (.iconst 1, 1) := by decide +kernel
theorem dX1_choices_76 : decode cX1_choices 76 = .ok (.iadd, 1) := by decide +kernel
theorem dX1_choices_77 : decode cX1_choices 77 = .ok (.istore_n 2, 1) := by decide +kernel
theorem dX1_choices_78 : decode cX1_choices 78 = .ok (.iinc 3 1, 3) := by decide +kernel
theorem dX1_choices_81 : decode cX1_choices 81 = .ok (.goto (-68), 3) := by decide +kernel
theorem dX1_choices_84 : decode cX1_choices 84 = .ok (.iload_n 2, 1) := by decide +kernel
theorem dX1_choices_85 : decode cX1_choices 85 = .ok (.ireturn, 1) := by decide +kernel
end
section
set_option maxRecDepth 100000
theorem dX2_init_0 : decode cX2_init 0 = .ok (.aload_n 0, 1) := by decide +kernel
theorem dX2_init_1 : decode cX2_init 1 = .ok (.invokespecial 1, 3) := by decide +kernel
theorem dX2_init_4 : decode cX2_init 4 = .ok (.aload_n 0, 1) := by decide +kernel
theorem dX2_init_5 : decode cX2_init 5 = .ok (.iconst 1, 1) := by decide +kernel
theorem dX2_init_6 : decode cX2_init 6 = .ok (.putfield 7, 3) := by decide +kernel
theorem dX2_init_9 : decode cX2_init 9 = .ok (.aload_n 0, 1) := by decide +kernel
theorem dX2_init_10 : decode cX2_init 10 = .ok (.bipush 12, 2) := by decide +kernel
theorem dX2_init_12 : decode cX2_init 12 = .ok (.newarray .int, 2) := by decide +kernel
theorem dX2_init_14 : decode cX2_init 14 = .ok (.putfield 13, 3) := by decide +kernel
theorem dX2_init_17 : decode cX2_init 17 = .ok (.aload_n 0, 1) := by decide +kernel
theorem dX2_init_18 : decode cX2_init 18 = .ok (.iconst 3, 1) := by decide +kernel
theorem dX2_init_19 : decode cX2_init 19 = .ok (.newarray .int, 2) := by decide +kernel
theorem dX2_init_21 : decode cX2_init 21 = .ok (.putfield 17, 3) := by decide +kernel
theorem dX2_init_24 : decode cX2_init 24 = .ok (.aload_n 0, 1) := by decide +kernel
theorem dX2_init_25 : decode cX2_init 25 = .ok (.bipush 21, 2) := by decide +kernel
theorem dX2_init_27 : decode cX2_init 27 = .ok (.newarray .int, 2) := by decide +kernel
theorem dX2_init_29 : decode cX2_init 29 = .ok (.putfield 20, 3) := by decide +kernel
theorem dX2_init_32 : decode cX2_init 32 = .ok (.aload_n 0, 1) := by decide +kernel
theorem dX2_init_33 : decode cX2_init 33 = .ok (.bipush 6, 2) := by decide +kernel
theorem dX2_init_35 : decode cX2_init 35 = .ok (.newarray .int, 2) := by decide +kernel
theorem dX2_init_37 : decode cX2_init 37 = .ok (.putfield 23, 3) := by decide +kernel
theorem dX2_init_40 : decode cX2_init 40 = .ok (.aload_n 0, 1) := by decide +kernel
theorem dX2_init_41 : decode cX2_init 41 = .ok (.sipush 260, 3) := by decide +kernel
theorem dX2_init_44 : decode cX2_init 44 = .ok (.newarray .int, 2) := by decide +kernel
theorem dX2_init_46 : decode cX2_init 46 = .ok (.putfield 26, 3) := by decide +kernel
theorem dX2_init_49 : decode cX2_init 49 = .ok (.aload_n 0, 1) := by decide +kernel
theorem dX2_init_50 : decode cX2_init 50 = .ok (.iload_n 1, 1) := by decide +kernel
theorem dX2_init_51 : decode cX2_init 51 = .ok (.iconst 3, 1) := by decide +kernel
theorem dX2_init_52 : decode cX2_init 52 = .ok (.if_icmp .ge 7, 3) := by decide +kernel
theorem dX2_init_55 : decode cX2_init 55 = .ok (.iconst 3, 1) := by decide +kernel
theorem dX2_init_56 : decode cX2_init 56 = .ok (.goto 15, 3) := by decide +kernel
theorem dX2_init_59 : decode cX2_init 59 = .ok (.iload_n 1, 1) := by decide +kernel
theorem dX2_init_60 : decode cX2_init 60 = .ok (.bipush 6, 2) := by decide +kernel
theorem dX2_init_62 : decode cX2_init 62 = .ok (.if_icmp .le 8, 3) := by decide +kernel
theorem dX2_init_65 : decode cX2_init 65 = .ok (.bipush 6, 2) := by decide +kernel
theorem dX2_init_67 : decode cX2_init 67 = .ok (.goto 4, 3) := by decide +kernel
theorem dX2_init_70 : decode cX2_init 70 = .ok (.iload_n 1, 1) := by decide +kernel
theorem dX2_init_71 : decode cX2_init 71 = .ok (.putfield 29, 3) := by decide +kernel
theorem dX2_init_74 : decode cX2_init 74 = .ok (.aload_n 0, 1) := by decide +kernel
theorem dX2_init_75 : decode cX2_init 75 = .ok (.getfield 13, 3) := by decide +kernel
theorem dX2_init_78 : decode cX2_init 78 = .ok (.iconst 0, 1) := by decide +kernel
theorem dX2_init_79 : decode cX2_init 79 = .ok (.iconst 1, 1) := by decide +kernel
theorem dX2_init_80 : decode cX2_init 80 = .ok (.aload_n 0, 1) := by decide +kernel
theorem dX2_init_81 : decode cX2_init 81 = .ok (.getfield 29, 3) := by decide +kernel
theorem dX2_init_84 : decode cX2_init 84 = .ok (.ishl, 1) := by decide +kernel
theorem dX2_init_85 : decode cX2_init 85 = .ok (.iconst 1, 1) := by decide +kernel
theorem dX2_init_86 : decode cX2_init 86 = .ok (.isub, 1) := by decide +kernel
theorem dX2_init_87 : decode cX2_init 87 = .ok (.iastore, 1) := by decide +kernel
theorem dX2_init_88 : decode cX2_init 88 = .ok (.aload_n 0, 1) := by decide +kernel
theorem dX2_init_89 : decode cX2_init 89 = .ok (.getfield 17, 3) := by decide +kernel
theorem dX2_init_92 : decode cX2_init 92 = .ok (.iconst 1, 1) := by decide +kernel
theorem dX2_init_93 : decode cX2_init 93 = .ok (.aload_n 0, 1) := by decide +kernel
theorem dX2_init_94 : decode cX2_init 94 = .ok (.getfield 13, 3) := by decide +kernel
theorem dX2_init_97 : decode cX2_init 97 = .ok (.iconst 0, 1) := by decide +kernel
theorem dX2_init_98 : decode cX2_init 98 = .ok (.iaload, 1) := by decide +kernel
theorem dX2_init_99 : decode cX2_init 99 = .ok (.iastore, 1) := by decide +kernel
theorem dX2_init_100 : decode cX2_init 100 = .ok (.aload_n 0, 1) := by decide +kernel
theorem dX2_init_101 : decode cX2_init 101 = .ok (.getfield 17, 3) := by decide +kernel
theorem dX2_init_104 : decode cX2_init 104 = .ok (.iconst 2, 1) := by decide +kernel
theorem dX2_init_105 : decode cX2_init 105 = .ok (.aload_n 0, 1) := by decide +kernel
theorem dX2_init_106 : decode cX2_init 106 = .ok (.getfield 13, 3) := by decide +kernel
theorem dX2_init_109 : decode cX2_init 109 = .ok (.iconst 0, 1) := by decide +kernel
theorem dX2_init_110 : decode cX2_init 110 = .ok (.iaload, 1) := by decide +kernel
theorem dX2_init_111 : decode cX2_init 111 = .ok (.iastore, 1) := by decide +kernel
theorem dX2_init_112 : decode cX2_init 112 = .ok (.return_, 1) := by decide +kernel
theorem dX2_change_0 : decode cX2_change 0 = .ok (.aload_n 0, 1) := by decide +kernel
theorem dX2_change_1 : decode cX2_change 1 = .ok (.iload_n 1, 1) := by decide +kernel
theorem dX2_change_2 : decode cX2_change 2 = .ok (.invokevirtual 32, 3) := by decide +kernel
theorem dX2_change_5 : decode cX2_change 5 = .ok (.ifCond .ne 5, 3) := by decide +kernel
theorem dX2_change_8 : decode cX2_change 8 = .ok (.iconst (-1), 1) := by decide +kernel
theorem dX2_change_9 : decode cX2_change 9 = .ok (.ireturn, 1) := by decide +kernel
theorem dX2_change_10 : decode cX2_change 10 = .ok (.aload_n 0, 1) := by decide +kernel
theorem dX2_change_11 : decode cX2_change 11 = .ok (.getfield 7, 3) := by decide +kernel
theorem dX2_change_14 : decode cX2_change 14 = .ok (.bipush 12, 2) := by decide +kernel
theorem dX2_change_16 : decode cX2_change 16 = .ok (.if_icmp .ne 6, 3) := by decide +kernel
theorem dX2_change_19 : decode cX2_change 19 = .ok (.bipush (-2), 2) := by decide +kernel
theorem dX2_change_21 : decode cX2_change 21 = .ok (.ireturn, 1) := by decide +kernel
theorem dX2_change_22 : decode cX2_change 22 = .ok (.aload_n 0, 1) := by decide +kernel
theorem dX2_change_23 : decode cX2_change 23 = .ok (.getfield 13, 3) := by decide +kernel
theorem dX2_change_26 : decode cX2_change 26 = .ok (.aload_n 0, 1) := by decide +kernel
theorem dX2_change_27 : decode cX2_change 27 = .ok (.getfield 7, 3) := by decide +kernel
theorem dX2_change_30 : decode cX2_change 30 = .ok (.iload_n 1, 1) := by decide +kernel
theorem dX2_change_31 : decode cX2_change 31 = .ok (.iastore, 1) := by decide +kernel
theorem dX2_change_32 : decode cX2_change 32 = .ok (.aload_n 0, 1) := by decide +kernel
theorem dX2_change_33 : decode cX2_change 33 = .ok (.dup, 1) := by decide +kernel
theorem dX2_change_34 : decode cX2_change 34 = .ok (.getfield 7, 3) := by decide +kernel
theorem dX2_change_37 : decode cX2_change 37 = .ok (.iconst 1, 1) := by decide +kernel
theorem dX2_change_38 : decode cX2_change 38 = .ok (.iadd, 1) := by decide +kernel
theorem dX2_change_39 : decode cX2_change 39 = .ok (.putfield 7, 3) := by decide +kernel
theorem dX2_change_42 : decode cX2_change 42 = .ok (.aload_n 0, 1) := by decide +kernel
theorem dX2_change_43 : decode cX2_change 43 = .ok (.getfield 7, 3) := by decide +kernel
theorem dX2_change_46 : decode cX2_change 46 = .ok (.ireturn, 1) := by decide +kernel
theorem dX2_isChange_0 : decode cX2_isChange 0 = .ok (.iload_n 1, 1) := by decide +kernel
theorem dX2_isChange_1 : decode cX2_isChange 1 = .ok (.ifCond .lt 13, 3) := by decide +kernel
theorem dX2_isChange_4 : decode cX2_isChange 4 = .ok (.iload_n 1, 1) := by decide +kernel
theorem dX2_isChange_5 : decode cX2_isChange 5 = .ok (.iconst 1, 1) := by decide +kernel
theorem dX2_isChange_6 : decode cX2_isChange 6 = .ok (.aload_n 0, 1) := by decide +kernel
theorem dX2_isChange_7 : decode cX2_isChange 7 = .ok (.getfield 29, 3) := by decide +kernel
theorem dX2_isChange_10 : decode cX2_isChange 10 = .ok (.ishl, 1) := by decide +kernel
theorem dX2_isChange_11 : decode cX2_isChange 11 = .ok (.if_icmp .lt 5, 3) := by decide +kernel
theorem dX2_isChange_14 : decode cX2_isChange 14 = .ok (.iconst 0, 1) := by decide +kernel
theorem dX2_isChange_15 : decode cX2_isChange 15 = .ok (.ireturn, 1) := by decide +kernel
theorem dX2_isChange_16 : decode cX2_isChange 16 = .ok (.iconst 0, 1) := by decide +kernel
theorem dX2_isChange_17 : decode cX2_isChange 17 = .ok (.istore_n 2, 1) := by decide +kernel
theorem dX2_isChange_18 : decode cX2_isChange 18 = .ok (.iload_n 2, 1) := by decide +kernel
theorem dX2_isChange_19 : decode cX2_isChange 19 = .ok (.aload_n 0, 1) := by decide +kernel
theorem dX2_isChange_20 : decode cX2_isChange 20 = .ok (.getfield 29, 3) := by decide +kernel
theorem dX2_isChange_23 : decode cX2_isChange 23 = .ok (.if_icmp .ge 46, 3) := by decide +kernel
theorem dX2_isChange_26 : decode cX2_isChange 26 = .ok (.iload_n 1, 1) := by decide +kernel
theorem dX2_isChange_27 : decode cX2_isChange 27 = .ok (.iload_n 2, 1) := by decide +kernel
theorem dX2_isChange_28 : decode cX2_isChange 28 = .ok (.ishr, 1) := by decide +kernel
theorem dX2_isChange_29 : decode cX2_isChange 29 = .ok (.iconst 1, 1) := by decide +kernel
theorem dX2_isChange_30 : decode cX2_isChange 30 = .ok (.iand, 1) := by decide +kernel
theorem dX2_isChange_31 : decode cX2_isChange 31 = .ok (.iconst 1, 1) := by decide +kernel
theorem dX2_isChange_32 : decode cX2_isChange 32 = .ok (.if_icmp .ne 9, 3) := by decide +kernel
theorem dX2_isChange_35 : decode cX2_isChange 35 = .ok (.iinc 2 1, 3) := by decide +kernel
theorem dX2_isChange_38 : decode cX2_isChange 38 = .ok (.goto (-20), 3) := by decide +kernel
theorem dX2_isChange_41 : decode cX2_isChange 41 = .ok (.iload_n 2, 1) := by decide +kernel
theorem dX2_isChange_42 : decode cX2_isChange 42 = .ok (.iconst 1, 1) := by decide +kernel
theorem dX2_isChange_43 : decode cX2_isChange 43 = .ok (.iadd, 1) := by decide +kernel
theorem dX2_isChange_44 : decode cX2_isChange 44 = .ok (.aload_n 0, 1) := by decide +kernel
theorem dX2_isChange_45 : decode cX2_isChange 45 = .ok (.getfield 29, 3) := by decide +kernel
theorem dX2_isChange_48 : decode cX2_isChange 48 = .ok (.if_icmp .ge 19, 3) := by decide +kernel
theorem dX2_isChange_51 : decode cX2_isChange 51 = .ok (.iload_n 1, 1) := by decide +kernel
theorem dX2_isChange_52 : decode cX2_isChange 52 = .ok (.iload_n 2, 1) := by decide +kernel
theorem dX2_isChange_53 : decode cX2_isChange 53 = .ok (.iconst 1, 1) := by decide +kernel
theorem dX2_isChange_54 : decode cX2_isChange 54 = .ok (.iadd, 1) := by decide +kernel
theorem dX2_isChange_55 : decode cX2_isChange 55 = .ok (.ishr, 1) := by decide +kernel
theorem dX2_isChange_56 : decode cX2_isChange 56 = .ok (.iconst 1, 1) := by decide +kernel
theorem dX2_isChange_57 : decode cX2_isChange 57 = .ok (.iand, 1) := by decide +kernel
theorem dX2_isChange_58 : decode cX2_isChange 58 = .ok (.ifCond .ne 9, 3) := by decide +kernel
theorem dX2_isChange_61 : decode cX2_isChange 61 = .ok (.iinc 2 2, 3) := by decide +kernel
theorem dX2_isChange_64 : decode cX2_isChange 64 = .ok (.goto (-46), 3) := by decide +kernel
theorem dX2_isChange_67 : decode cX2_isChange 67 = .ok (.iconst 0, 1) := by decide +kernel
theorem dX2_isChange_68 : decode cX2_isChange 68 = .ok (.ireturn, 1) := by decide +kernel
theorem dX2_isChange_69 : decode cX2_isChange 69 = .ok (.iconst 1, 1) := by decide +kernel
theorem dX2_isChange_70 : decode cX2_isChange 70 = .ok (.ireturn, 1) := by decide +kernel
theorem dX2_drop_0 : decode cX2_drop 0 = .ok (.aload_n 0, 1) := by decide +kernel
theorem dX2_drop_1 : decode cX2_drop 1 = .ok (.getfield 7, 3) := by decide +kernel
theorem dX2_drop_4 : decode cX2_drop 4 = .ok (.iconst 1, 1) := by decide +kernel
theorem dX2_drop_5 : decode cX2_drop 5 = .ok (.if_icmp .ne 6, 3) := by decide +kernel
theorem dX2_drop_8 : decode cX2_drop 8 = .ok (.bipush (-4), 2) := by decide +kernel
theorem dX2_drop_10 : decode cX2_drop 10 = .ok (.ireturn, 1) := by decide +kernel
theorem dX2_drop_11 : decode cX2_drop 11 = .ok (.aload_n 0, 1) := by decide +kernel
theorem dX2_drop_12 : decode cX2_drop 12 = .ok (.getfield 13, 3) := by decide +kernel
theorem dX2_drop_15 : decode cX2_drop 15 = .ok (.iconst 0, 1) := by decide +kernel
theorem dX2_drop_16 : decode cX2_drop 16 = .ok (.iaload, 1) := by decide +kernel
theorem dX2_drop_17 : decode cX2_drop 17 = .ok (.istore_n 1, 1) := by decide +kernel
theorem dX2_drop_18 : decode cX2_drop 18 = .ok (.aload_n 0, 1) := by decide +kernel
theorem dX2_drop_19 : decode cX2_drop 19 = .ok (.dup, 1) := by decide +kernel
theorem dX2_drop_20 : decode cX2_drop 20 = .ok (.getfield 7, 3) := by decide +kernel
theorem dX2_drop_23 : decode cX2_drop 23 = .ok (.iconst 1, 1) := by decide +kernel
theorem dX2_drop_24 : decode cX2_drop 24 = .ok (.isub, 1) := by decide +kernel
theorem dX2_drop_25 : decode cX2_drop 25 = .ok (.putfield 7, 3) := by decide +kernel
theorem dX2_drop_28 : decode cX2_drop 28 = .ok (.iconst 0, 1) := by decide +kernel
theorem dX2_drop_29 : decode cX2_drop 29 = .ok (.istore_n 2, 1) := by decide +kernel
theorem dX2_drop_30 : decode cX2_drop 30 = .ok (.iload_n 2, 1) := by decide +kernel
theorem dX2_drop_31 : decode cX2_drop 31 = .ok (.aload_n 0, 1) := by decide +kernel
theorem dX2_drop_32 : decode cX2_drop 32 = .ok (.getfield 7, 3) := by decide +kernel
theorem dX2_drop_35 : decode cX2_drop 35 = .ok (.if_icmp .ge 23, 3) := by decide +kernel
theorem dX2_drop_38 : decode cX2_drop 38 = .ok (.aload_n 0, 1) := by decide +kernel
theorem dX2_drop_39 : decode cX2_drop 39 = .ok (.getfield 13, 3) := by decide +kernel
theorem dX2_drop_42 : decode cX2_drop 42 = .ok (.iload_n 2, 1) := by decide +kernel
theorem dX2_drop_43 : decode cX2_drop 43 = .ok (.aload_n 0, 1) := by decide +kernel
theorem dX2_drop_44 : decode cX2_drop 44 = .ok (.getfield 13, 3) := by decide +kernel
theorem dX2_drop_47 : decode cX2_drop 47 = .ok (.iload_n 2, 1) := by decide +kernel
theorem dX2_drop_48 : decode cX2_drop 48 = .ok (.iconst 1, 1) := by decide +kernel
theorem dX2_drop_49 : decode cX2_drop 49 = .ok (.iadd, 1) := by decide +kernel
theorem dX2_drop_50 : decode cX2_drop 50 = .ok (.iaload, 1) := by decide +kernel
theorem dX2_drop_51 : decode cX2_drop 51 = .ok (.iastore, 1) := by decide +kernel
theorem dX2_drop_52 : decode cX2_drop 52 = .ok (.iinc 2 1, 3) := by decide +kernel
theorem dX2_drop_55 : decode cX2_drop 55 = .ok (.goto (-25), 3) := by decide +kernel
theorem dX2_drop_58 : decode cX2_drop 58 = .ok (.iload_n 1, 1) := by decide +kernel
theorem dX2_drop_59 : decode cX2_drop 59 = .ok (.ireturn, 1) := by decide +kernel
theorem dX2_call_0 : decode cX2_call 0 = .ok (.iload_n 1, 1) := by decide +kernel
theorem dX2_call_1 : decode cX2_call 1 = .ok (.iconst 1, 1) := by decide +kernel
theorem dX2_call_2 : decode cX2_call 2 = .ok (.if_icmp .lt 16, 3) := by decide +kernel
theorem dX2_call_5 : decode cX2_call 5 = .ok (.iload_n 1, 1) := by decide +kernel
theorem dX2_call_6 : decode cX2_call 6 = .ok (.iconst 2, 1) := by decide +kernel
theorem dX2_call_7 : decode cX2_call 7 = .ok (.if_icmp .gt 11, 3) := by decide +kernel
theorem dX2_call_10 : decode cX2_call 10 = .ok (.aload_n 0, 1) := by decide +kernel
theorem dX2_call_11 : decode cX2_call 11 = .ok (.iload_n 2, 1) := by decide +kernel
theorem dX2_call_12 : decode cX2_call 12 = .ok (.invokevirtual 32, 3) := by decide +kernel
theorem dX2_call_15 : decode cX2_call 15 = .ok (.ifCond .ne 5, 3) := by decide +kernel
theorem dX2_call_18 : decode cX2_call 18 = .ok (.iconst (-1), 1) := by decide +kernel
theorem dX2_call_19 : decode cX2_call 19 = .ok (.ireturn, 1) := by decide +kernel
theorem dX2_call_20 : decode cX2_call 20 = .ok (.aload_n 0, 1) := by decide +kernel
theorem dX2_call_21 : decode cX2_call 21 = .ok (.getfield 17, 3) := by decide +kernel
theorem dX2_call_24 : decode cX2_call 24 = .ok (.iload_n 1, 1) := by decide +kernel
theorem dX2_call_25 : decode cX2_call 25 = .ok (.iaload, 1) := by decide +kernel
theorem dX2_call_26 : decode cX2_call 26 = .ok (.istore_n 3, 1) := by decide +kernel
theorem dX2_call_27 : decode cX2_call 27 = .ok (.aload_n 0, 1) := by decide +kernel
theorem dX2_call_28 : decode cX2_call 28 = .ok (.getfield 17, 3) := by decide +kernel
theorem dX2_call_31 : decode cX2_call 31 = .ok (.iload_n 1, 1) := by decide +kernel
theorem dX2_call_32 : decode cX2_call 32 = .ok (.iload_n 2, 1) := by decide +kernel
theorem dX2_call_33 : decode cX2_call 33 = .ok (.iastore, 1) := by decide +kernel
theorem dX2_call_34 : decode cX2_call 34 = .ok (.iload_n 3, 1) := by decide +kernel
theorem dX2_call_35 : decode cX2_call 35 = .ok (.ireturn, 1) := by decide +kernel
theorem dX2_lead_0 : decode cX2_lead 0 = .ok (.aload_n 0, 1) := by decide +kernel
theorem dX2_lead_1 : decode cX2_lead 1 = .ok (.iload_n 1, 1) := by decide +kernel
theorem dX2_lead_2 : decode cX2_lead 2 = .ok (.invokevirtual 36, 3) := by decide +kernel
theorem dX2_lead_5 : decode cX2_lead 5 = .ok (.ifCond .eq 5, 3) := by decide +kernel
theorem dX2_lead_8 : decode cX2_lead 8 = .ok (.iconst (-1), 1) := by decide +kernel
theorem dX2_lead_9 : decode cX2_lead 9 = .ok (.ireturn, 1) := by decide +kernel
theorem dX2_lead_10 : decode cX2_lead 10 = .ok (.aload_n 0, 1) := by decide +kernel
theorem dX2_lead_11 : decode cX2_lead 11 = .ok (.getfield 39, 3) := by decide +kernel
theorem dX2_lead_14 : decode cX2_lead 14 = .ok (.bipush 20, 2) := by decide +kernel
theorem dX2_lead_16 : decode cX2_lead 16 = .ok (.if_icmp .ne 6, 3) := by decide +kernel
theorem dX2_lead_19 : decode cX2_lead 19 = .ok (.bipush (-2), 2) := by decide +kernel
theorem dX2_lead_21 : decode cX2_lead 21 = .ok (.ireturn, 1) := by decide +kernel
theorem dX2_lead_22 : decode cX2_lead 22 = .ok (.aload_n 0, 1) := by decide +kernel
theorem dX2_lead_23 : decode cX2_lead 23 = .ok (.getfield 20, 3) := by decide +kernel
theorem dX2_lead_26 : decode cX2_lead 26 = .ok (.aload_n 0, 1) := by decide +kernel
theorem dX2_lead_27 : decode cX2_lead 27 = .ok (.getfield 39, 3) := by decide +kernel
theorem dX2_lead_30 : decode cX2_lead 30 = .ok (.iload_n 1, 1) := by decide +kernel
theorem dX2_lead_31 : decode cX2_lead 31 = .ok (.iastore, 1) := by decide +kernel
theorem dX2_lead_32 : decode cX2_lead 32 = .ok (.aload_n 0, 1) := by decide +kernel
theorem dX2_lead_33 : decode cX2_lead 33 = .ok (.dup, 1) := by decide +kernel
theorem dX2_lead_34 : decode cX2_lead 34 = .ok (.getfield 39, 3) := by decide +kernel
theorem dX2_lead_37 : decode cX2_lead 37 = .ok (.iconst 1, 1) := by decide +kernel
theorem dX2_lead_38 : decode cX2_lead 38 = .ok (.iadd, 1) := by decide +kernel
theorem dX2_lead_39 : decode cX2_lead 39 = .ok (.putfield 39, 3) := by decide +kernel
theorem dX2_lead_42 : decode cX2_lead 42 = .ok (.aload_n 0, 1) := by decide +kernel
theorem dX2_lead_43 : decode cX2_lead 43 = .ok (.getfield 39, 3) := by decide +kernel
theorem dX2_lead_46 : decode cX2_lead 46 = .ok (.ireturn, 1) := by decide +kernel
theorem dX2_noCall_0 : decode cX2_noCall 0 = .ok (.iload_n 1, 1) := by decide +kernel
theorem dX2_noCall_1 : decode cX2_noCall 1 = .ok (.ifCond .lt 8, 3) := by decide +kernel
theorem dX2_noCall_4 : decode cX2_noCall 4 = .ok (.iload_n 1, 1) := by decide +kernel
theorem dX2_noCall_5 : decode cX2_noCall 5 = .ok (.iconst 2, 1) := by decide +kernel
theorem dX2_noCall_6 : decode cX2_noCall 6 = .ok (.if_icmp .le 7, 3) := by decide +kernel
theorem dX2_noCall_9 : decode cX2_noCall 9 = .ok (.iconst 1, 1) := by decide +kernel
theorem dX2_noCall_10 : decode cX2_noCall 10 = .ok (.goto 4, 3) := by decide +kernel
theorem dX2_noCall_13 : decode cX2_noCall 13 = .ok (.iconst 0, 1) := by decide +kernel
theorem dX2_noCall_14 : decode cX2_noCall 14 = .ok (.ireturn, 1) := by decide +kernel
theorem dX2_back_0 : decode cX2_back 0 = .ok (.aload_n 0, 1) := by decide +kernel
theorem dX2_back_1 : decode cX2_back 1 = .ok (.getfield 39, 3) := by decide +kernel
theorem dX2_back_4 : decode cX2_back 4 = .ok (.ifCond .ne 6, 3) := by decide +kernel
theorem dX2_back_7 : decode cX2_back 7 = .ok (.bipush (-4), 2) := by decide +kernel
theorem dX2_back_9 : decode cX2_back 9 = .ok (.ireturn, 1) := by decide +kernel
theorem dX2_back_10 : decode cX2_back 10 = .ok (.aload_n 0, 1) := by decide +kernel
theorem dX2_back_11 : decode cX2_back 11 = .ok (.dup, 1) := by decide +kernel
theorem dX2_back_12 : decode cX2_back 12 = .ok (.getfield 39, 3) := by decide +kernel
theorem dX2_back_15 : decode cX2_back 15 = .ok (.iconst 1, 1) := by decide +kernel
theorem dX2_back_16 : decode cX2_back 16 = .ok (.isub, 1) := by decide +kernel
theorem dX2_back_17 : decode cX2_back 17 = .ok (.putfield 39, 3) := by decide +kernel
theorem dX2_back_20 : decode cX2_back 20 = .ok (.aload_n 0, 1) := by decide +kernel
theorem dX2_back_21 : decode cX2_back 21 = .ok (.getfield 20, 3) := by decide +kernel
theorem dX2_back_24 : decode cX2_back 24 = .ok (.aload_n 0, 1) := by decide +kernel
theorem dX2_back_25 : decode cX2_back 25 = .ok (.getfield 39, 3) := by decide +kernel
theorem dX2_back_28 : decode cX2_back 28 = .ok (.iaload, 1) := by decide +kernel
theorem dX2_back_29 : decode cX2_back 29 = .ok (.ireturn, 1) := by decide +kernel
theorem dX2_turn_0 : decode cX2_turn 0 = .ok (.aload_n 0, 1) := by decide +kernel
theorem dX2_turn_1 : decode cX2_turn 1 = .ok (.getfield 39, 3) := by decide +kernel
theorem dX2_turn_4 : decode cX2_turn 4 = .ok (.ifCond .ne 6, 3) := by decide +kernel
theorem dX2_turn_7 : decode cX2_turn 7 = .ok (.bipush (-4), 2) := by decide +kernel
theorem dX2_turn_9 : decode cX2_turn 9 = .ok (.ireturn, 1) := by decide +kernel
theorem dX2_turn_10 : decode cX2_turn 10 = .ok (.aload_n 0, 1) := by decide +kernel
theorem dX2_turn_11 : decode cX2_turn 11 = .ok (.getfield 20, 3) := by decide +kernel
theorem dX2_turn_14 : decode cX2_turn 14 = .ok (.iconst 0, 1) := by decide +kernel
theorem dX2_turn_15 : decode cX2_turn 15 = .ok (.iaload, 1) := by decide +kernel
theorem dX2_turn_16 : decode cX2_turn 16 = .ok (.istore_n 1, 1) := by decide +kernel
theorem dX2_turn_17 : decode cX2_turn 17 = .ok (.iconst 0, 1) := by decide +kernel
theorem dX2_turn_18 : decode cX2_turn 18 = .ok (.istore_n 2, 1) := by decide +kernel
theorem dX2_turn_19 : decode cX2_turn 19 = .ok (.iload_n 2, 1) := by decide +kernel
theorem dX2_turn_20 : decode cX2_turn 20 = .ok (.aload_n 0, 1) := by decide +kernel
theorem dX2_turn_21 : decode cX2_turn 21 = .ok (.getfield 39, 3) := by decide +kernel
theorem dX2_turn_24 : decode cX2_turn 24 = .ok (.iconst 1, 1) := by decide +kernel
theorem dX2_turn_25 : decode cX2_turn 25 = .ok (.isub, 1) := by decide +kernel
theorem dX2_turn_26 : decode cX2_turn 26 = .ok (.if_icmp .ge 23, 3) := by decide +kernel
theorem dX2_turn_29 : decode cX2_turn 29 = .ok (.aload_n 0, 1) := by decide +kernel
theorem dX2_turn_30 : decode cX2_turn 30 = .ok (.getfield 20, 3) := by decide +kernel
theorem dX2_turn_33 : decode cX2_turn 33 = .ok (.iload_n 2, 1) := by decide +kernel
theorem dX2_turn_34 : decode cX2_turn 34 = .ok (.aload_n 0, 1) := by decide +kernel
theorem dX2_turn_35 : decode cX2_turn 35 = .ok (.getfield 20, 3) := by decide +kernel
theorem dX2_turn_38 : decode cX2_turn 38 = .ok (.iload_n 2, 1) := by decide +kernel
theorem dX2_turn_39 : decode cX2_turn 39 = .ok (.iconst 1, 1) := by decide +kernel
theorem dX2_turn_40 : decode cX2_turn 40 = .ok (.iadd, 1) := by decide +kernel
theorem dX2_turn_41 : decode cX2_turn 41 = .ok (.iaload, 1) := by decide +kernel
theorem dX2_turn_42 : decode cX2_turn 42 = .ok (.iastore, 1) := by decide +kernel
theorem dX2_turn_43 : decode cX2_turn 43 = .ok (.iinc 2 1, 3) := by decide +kernel
theorem dX2_turn_46 : decode cX2_turn 46 = .ok (.goto (-27), 3) := by decide +kernel
theorem dX2_turn_49 : decode cX2_turn 49 = .ok (.aload_n 0, 1) := by decide +kernel
theorem dX2_turn_50 : decode cX2_turn 50 = .ok (.getfield 20, 3) := by decide +kernel
theorem dX2_turn_53 : decode cX2_turn 53 = .ok (.aload_n 0, 1) := by decide +kernel
theorem dX2_turn_54 : decode cX2_turn 54 = .ok (.getfield 39, 3) := by decide +kernel
theorem dX2_turn_57 : decode cX2_turn 57 = .ok (.iconst 1, 1) := by decide +kernel
theorem dX2_turn_58 : decode cX2_turn 58 = .ok (.isub, 1) := by decide +kernel
theorem dX2_turn_59 : decode cX2_turn 59 = .ok (.iload_n 1, 1) := by decide +kernel
theorem dX2_turn_60 : decode cX2_turn 60 = .ok (.iastore, 1) := by decide +kernel
theorem dX2_turn_61 : decode cX2_turn 61 = .ok (.iload_n 1, 1) := by decide +kernel
theorem dX2_turn_62 : decode cX2_turn 62 = .ok (.ireturn, 1) := by decide +kernel
theorem dX2_last_0 : decode cX2_last 0 = .ok (.aload_n 0, 1) := by decide +kernel
theorem dX2_last_1 : decode cX2_last 1 = .ok (.getfield 39, 3) := by decide +kernel
theorem dX2_last_4 : decode cX2_last 4 = .ok (.aload_n 0, 1) := by decide +kernel
theorem dX2_last_5 : decode cX2_last 5 = .ok (.getfield 7, 3) := by decide +kernel
theorem dX2_last_8 : decode cX2_last 8 = .ok (.imul, 1) := by decide +kernel
theorem dX2_last_9 : decode cX2_last 9 = .ok (.ireturn, 1) := by decide +kernel
theorem dX2_row_0 : decode cX2_row 0 = .ok (.aload_n 0, 1) := by decide +kernel
theorem dX2_row_1 : decode cX2_row 1 = .ok (.invokevirtual 59, 3) := by decide +kernel
theorem dX2_row_4 : decode cX2_row 4 = .ok (.aload_n 0, 1) := by decide +kernel
theorem dX2_row_5 : decode cX2_row 5 = .ok (.iload_n 1, 1) := by decide +kernel
theorem dX2_row_6 : decode cX2_row 6 = .ok (.invokevirtual 62, 3) := by decide +kernel
theorem dX2_row_9 : decode cX2_row 9 = .ok (.ireturn, 1) := by decide +kernel
theorem dX2_write_0 : decode cX2_write 0 = .ok (.aload_n 0, 1) := by decide +kernel
theorem dX2_write_1 : decode cX2_write 1 = .ok (.invokevirtual 53, 3) := by decide +kernel
theorem dX2_write_4 : decode cX2_write 4 = .ok (.aload_n 0, 1) := by decide +kernel
theorem dX2_write_5 : decode cX2_write 5 = .ok (.iconst 0, 1) := by decide +kernel
theorem dX2_write_6 : decode cX2_write 6 = .ok (.putfield 46, 3) := by decide +kernel
theorem dX2_write_9 : decode cX2_write 9 = .ok (.aload_n 0, 1) := by decide +kernel
theorem dX2_write_10 : decode cX2_write 10 = .ok (.getfield 26, 3) := by decide +kernel
theorem dX2_write_13 : decode cX2_write 13 = .ok (.iconst 0, 1) := by decide +kernel
theorem dX2_write_14 : decode cX2_write 14 = .ok (.aload_n 0, 1) := by decide +kernel
theorem dX2_write_15 : decode cX2_write 15 = .ok (.invokevirtual 49, 3) := by decide +kernel
theorem dX2_write_18 : decode cX2_write 18 = .ok (.iastore, 1) := by decide +kernel
theorem dX2_write_19 : decode cX2_write 19 = .ok (.iconst 0, 1) := by decide +kernel
theorem dX2_write_20 : decode cX2_write 20 = .ok (.istore_n 1, 1) := by decide +kernel
theorem dX2_write_21 : decode cX2_write 21 = .ok (.iload_n 1, 1) := by decide +kernel
theorem dX2_write_22 : decode cX2_write 22 = .ok (.aload_n 0, 1) := by decide +kernel
theorem dX2_write_23 : decode cX2_write 23 = .ok (.getfield 39, 3) := by decide +kernel
theorem dX2_write_26 : decode cX2_write 26 = .ok (.if_icmp .ge 19, 3) := by decide +kernel
theorem dX2_write_29 : decode cX2_write 29 = .ok (.aload_n 0, 1) := by decide +kernel
theorem dX2_write_30 : decode cX2_write 30 = .ok (.aload_n 0, 1) := by decide +kernel
theorem dX2_write_31 : decode cX2_write 31 = .ok (.getfield 20, 3) := by decide +kernel
theorem dX2_write_34 : decode cX2_write 34 = .ok (.iload_n 1, 1) := by decide +kernel
theorem dX2_write_35 : decode cX2_write 35 = .ok (.iaload, 1) := by decide +kernel
theorem dX2_write_36 : decode cX2_write 36 = .ok (.invokevirtual 56, 3) := by decide +kernel
theorem dX2_write_39 : decode cX2_write 39 = .ok (.iinc 1 1, 3) := by decide +kernel
theorem dX2_write_42 : decode cX2_write 42 = .ok (.goto (-21), 3) := by decide +kernel
theorem dX2_write_45 : decode cX2_write 45 = .ok (.return_, 1) := by decide +kernel
theorem dX2_round_0 : decode cX2_round 0 = .ok (.iconst 0, 1) := by decide +kernel
theorem dX2_round_1 : decode cX2_round 1 = .ok (.istore_n 1, 1) := by decide +kernel
theorem dX2_round_2 : decode cX2_round 2 = .ok (.iload_n 1, 1) := by decide +kernel
theorem dX2_round_3 : decode cX2_round 3 = .ok (.aload_n 0, 1) := by decide +kernel
theorem dX2_round_4 : decode cX2_round 4 = .ok (.getfield 29, 3) := by decide +kernel
theorem dX2_round_7 : decode cX2_round 7 = .ok (.if_icmp .ge 18, 3) := by decide +kernel
theorem dX2_round_10 : decode cX2_round 10 = .ok (.aload_n 0, 1) := by decide +kernel
theorem dX2_round_11 : decode cX2_round 11 = .ok (.getfield 23, 3) := by decide +kernel
theorem dX2_round_14 : decode cX2_round 14 = .ok (.iload_n 1, 1) := by decide +kernel
theorem dX2_round_15 : decode cX2_round 15 = .ok (.iload_n 1, 1) := by decide +kernel
theorem dX2_round_16 : decode cX2_round 16 = .ok (.iconst 1, 1) := by decide +kernel
theorem dX2_round_17 : decode cX2_round 17 = .ok (.iadd, 1) := by decide +kernel
theorem dX2_round_18 : decode cX2_round 18 = .ok (.iastore, 1) := by decide +kernel
theorem dX2_round_19 : decode cX2_round 19 = .ok (.iinc 1 1, 3) := by decide +kernel
theorem dX2_round_22 : decode cX2_round 22 = .ok (.goto (-20), 3) := by decide +kernel
theorem dX2_round_25 : decode cX2_round 25 = .ok (.return_, 1) := by decide +kernel
theorem dX2_code_0 : decode cX2_code 0 = .ok (.iconst 0, 1) := by decide +kernel
theorem dX2_code_1 : decode cX2_code 1 = .ok (.istore_n 1, 1) := by decide +kernel
theorem dX2_code_2 : decode cX2_code 2 = .ok (.iconst 0, 1) := by decide +kernel
theorem dX2_code_3 : decode cX2_code 3 = .ok (.istore_n 2, 1) := by decide +kernel
theorem dX2_code_4 : decode cX2_code 4 = .ok (.iload_n 2, 1) := by decide +kernel
theorem dX2_code_5 : decode cX2_code 5 = .ok (.aload_n 0, 1) := by decide +kernel
theorem dX2_code_6 : decode cX2_code 6 = .ok (.getfield 29, 3) := by decide +kernel
theorem dX2_code_9 : decode cX2_code 9 = .ok (.if_icmp .ge 21, 3) := by decide +kernel
theorem dX2_code_12 : decode cX2_code 12 = .ok (.bipush 10, 2) := by decide +kernel
theorem dX2_code_14 : decode cX2_code 14 = .ok (.iload_n 1, 1) := by decide +kernel
theorem dX2_code_15 : decode cX2_code 15 = .ok (.imul, 1) := by decide +kernel
theorem dX2_code_16 : decode cX2_code 16 = .ok (.aload_n 0, 1) := by decide +kernel
theorem dX2_code_17 : decode cX2_code 17 = .ok (.getfield 23, 3) := by decide +kernel
theorem dX2_code_20 : decode cX2_code 20 = .ok (.iload_n 2, 1) := by decide +kernel
theorem dX2_code_21 : decode cX2_code 21 = .ok (.iaload, 1) := by decide +kernel
theorem dX2_code_22 : decode cX2_code 22 = .ok (.iadd, 1) := by decide +kernel
theorem dX2_code_23 : decode cX2_code 23 = .ok (.istore_n 1, 1) := by decide +kernel
theorem dX2_code_24 : decode cX2_code 24 = .ok (.iinc 2 1, 3) := by decide +kernel
theorem dX2_code_27 : decode cX2_code 27 = .ok (.goto (-23), 3) := by decide +kernel
theorem dX2_code_30 : decode cX2_code 30 = .ok (.iload_n 1, 1) := by decide +kernel
theorem dX2_code_31 : decode cX2_code 31 = .ok (.ireturn, 1) := by decide +kernel
theorem dX2_ring_0 : decode cX2_ring 0 = .ok (.iconst 0, 1) := by decide +kernel
theorem dX2_ring_1 : decode cX2_ring 1 = .ok (.istore_n 2, 1) := by decide +kernel
theorem dX2_ring_2 : decode cX2_ring 2 = .ok (.iload_n 2, 1) := by decide +kernel
theorem dX2_ring_3 : decode cX2_ring 3 = .ok (.aload_n 0, 1) := by decide +kernel
theorem dX2_ring_4 : decode cX2_ring 4 = .ok (.getfield 7, 3) := by decide +kernel
theorem dX2_ring_7 : decode cX2_ring 7 = .ok (.if_icmp .ge 65, 3) := by decide +kernel
theorem dX2_ring_10 : decode cX2_ring 10 = .ok (.aload_n 0, 1) := by decide +kernel
theorem dX2_ring_11 : decode cX2_ring 11 = .ok (.iload_n 2, 1) := by decide +kernel
theorem dX2_ring_12 : decode cX2_ring 12 = .ok (.aload_n 0, 1) := by decide +kernel
theorem dX2_ring_13 : decode cX2_ring 13 = .ok (.getfield 7, 3) := by decide +kernel
theorem dX2_ring_16 : decode cX2_ring 16 = .ok (.iconst 1, 1) := by decide +kernel
theorem dX2_ring_17 : decode cX2_ring 17 = .ok (.isub, 1) := by decide +kernel
theorem dX2_ring_18 : decode cX2_ring 18 = .ok (.if_icmp .ne 16, 3) := by decide +kernel
theorem dX2_ring_21 : decode cX2_ring 21 = .ok (.iload_n 1, 1) := by decide +kernel
theorem dX2_ring_22 : decode cX2_ring 22 = .ok (.ifCond .le 12, 3) := by decide +kernel
theorem dX2_ring_25 : decode cX2_ring 25 = .ok (.aload_n 0, 1) := by decide +kernel
theorem dX2_ring_26 : decode cX2_ring 26 = .ok (.getfield 17, 3) := by decide +kernel
theorem dX2_ring_29 : decode cX2_ring 29 = .ok (.iload_n 1, 1) := by decide +kernel
theorem dX2_ring_30 : decode cX2_ring 30 = .ok (.iaload, 1) := by decide +kernel
theorem dX2_ring_31 : decode cX2_ring 31 = .ok (.goto 9, 3) := by decide +kernel
theorem dX2_ring_34 : decode cX2_ring 34 = .ok (.aload_n 0, 1) := by decide +kernel
theorem dX2_ring_35 : decode cX2_ring 35 = .ok (.getfield 13, 3) := by decide +kernel
theorem dX2_ring_38 : decode cX2_ring 38 = .ok (.iload_n 2, 1) := by decide +kernel
end
section
set_option maxRecDepth 100000
theorem dX2_ring_39 : decode cX2_ring 39 = .ok (.iaload, 1) := by decide +kernel
theorem dX2_ring_40 : decode cX2_ring 40 = .ok (.invokevirtual 42, 3) := by decide +kernel
theorem dX2_ring_43 : decode cX2_ring 43 = .ok (.aload_n 0, 1) := by decide +kernel
theorem dX2_ring_44 : decode cX2_ring 44 = .ok (.dup, 1) := by decide +kernel
theorem dX2_ring_45 : decode cX2_ring 45 = .ok (.getfield 46, 3) := by decide +kernel
theorem dX2_ring_48 : decode cX2_ring 48 = .ok (.iconst 1, 1) := by decide +kernel
theorem dX2_ring_49 : decode cX2_ring 49 = .ok (.iadd, 1) := by decide +kernel
theorem dX2_ring_50 : decode cX2_ring 50 = .ok (.putfield 46, 3) := by decide +kernel
theorem dX2_ring_53 : decode cX2_ring 53 = .ok (.aload_n 0, 1) := by decide +kernel
theorem dX2_ring_54 : decode cX2_ring 54 = .ok (.getfield 26, 3) := by decide +kernel
theorem dX2_ring_57 : decode cX2_ring 57 = .ok (.aload_n 0, 1) := by decide +kernel
theorem dX2_ring_58 : decode cX2_ring 58 = .ok (.getfield 46, 3) := by decide +kernel
theorem dX2_ring_61 : decode cX2_ring 61 = .ok (.aload_n 0, 1) := by decide +kernel
theorem dX2_ring_62 : decode cX2_ring 62 = .ok (.invokevirtual 49, 3) := by decide +kernel
theorem dX2_ring_65 : decode cX2_ring 65 = .ok (.iastore, 1) := by decide +kernel
theorem dX2_ring_66 : decode cX2_ring 66 = .ok (.iinc 2 1, 3) := by decide +kernel
theorem dX2_ring_69 : decode cX2_ring 69 = .ok (.goto (-67), 3) := by decide +kernel
theorem dX2_ring_72 : decode cX2_ring 72 = .ok (.return_, 1) := by decide +kernel
theorem dX2_exchange_0 : decode cX2_exchange 0 = .ok (.iconst 0, 1) := by decide +kernel
theorem dX2_exchange_1 : decode cX2_exchange 1 = .ok (.istore_n 2, 1) := by decide +kernel
theorem dX2_exchange_2 : decode cX2_exchange 2 = .ok (.iload_n 2, 1) := by decide +kernel
theorem dX2_exchange_3 : decode cX2_exchange 3 = .ok (.aload_n 0, 1) := by decide +kernel
theorem dX2_exchange_4 : decode cX2_exchange 4 = .ok (.getfield 29, 3) := by decide +kernel
theorem dX2_exchange_7 : decode cX2_exchange 7 = .ok (.if_icmp .ge 54, 3) := by decide +kernel
theorem dX2_exchange_10 : decode cX2_exchange 10 = .ok (.iload_n 1, 1) := by decide +kernel
theorem dX2_exchange_11 : decode cX2_exchange 11 = .ok (.iload_n 2, 1) := by decide +kernel
theorem dX2_exchange_12 : decode cX2_exchange 12 = .ok (.ishr, 1) := by decide +kernel
theorem dX2_exchange_13 : decode cX2_exchange 13 = .ok (.iconst 1, 1) := by decide +kernel
theorem dX2_exchange_14 : decode cX2_exchange 14 = .ok (.iand, 1) := by decide +kernel
theorem dX2_exchange_15 : decode cX2_exchange 15 = .ok (.iconst 1, 1) := by decide +kernel
theorem dX2_exchange_16 : decode cX2_exchange 16 = .ok (.if_icmp .ne 9, 3) := by decide +kernel
theorem dX2_exchange_19 : decode cX2_exchange 19 = .ok (.iinc 2 1, 3) := by decide +kernel
theorem dX2_exchange_22 : decode cX2_exchange 22 = .ok (.goto (-20), 3) := by decide +kernel
theorem dX2_exchange_25 : decode cX2_exchange 25 = .ok (.aload_n 0, 1) := by decide +kernel
theorem dX2_exchange_26 : decode cX2_exchange 26 = .ok (.getfield 23, 3) := by decide +kernel
theorem dX2_exchange_29 : decode cX2_exchange 29 = .ok (.iload_n 2, 1) := by decide +kernel
theorem dX2_exchange_30 : decode cX2_exchange 30 = .ok (.iaload, 1) := by decide +kernel
theorem dX2_exchange_31 : decode cX2_exchange 31 = .ok (.istore_n 3, 1) := by decide +kernel
theorem dX2_exchange_32 : decode cX2_exchange 32 = .ok (.aload_n 0, 1) := by decide +kernel
theorem dX2_exchange_33 : decode cX2_exchange 33 = .ok (.getfield 23, 3) := by decide +kernel
theorem dX2_exchange_36 : decode cX2_exchange 36 = .ok (.iload_n 2, 1) := by decide +kernel
theorem dX2_exchange_37 : decode cX2_exchange 37 = .ok (.aload_n 0, 1) := by decide +kernel
theorem dX2_exchange_38 : decode cX2_exchange 38 = .ok (.getfield 23, 3) := by decide +kernel
theorem dX2_exchange_41 : decode cX2_exchange 41 = .ok (.iload_n 2, 1) := by decide +kernel
theorem dX2_exchange_42 : decode cX2_exchange 42 = .ok (.iconst 1, 1) := by decide +kernel
theorem dX2_exchange_43 : decode cX2_exchange 43 = .ok (.iadd, 1) := by decide +kernel
theorem dX2_exchange_44 : decode cX2_exchange 44 = .ok (.iaload, 1) := by decide +kernel
theorem dX2_exchange_45 : decode cX2_exchange 45 = .ok (.iastore, 1) := by decide +kernel
theorem dX2_exchange_46 : decode cX2_exchange 46 = .ok (.aload_n 0, 1) := by decide +kernel
theorem dX2_exchange_47 : decode cX2_exchange 47 = .ok (.getfield 23, 3) := by decide +kernel
theorem dX2_exchange_50 : decode cX2_exchange 50 = .ok (.iload_n 2, 1) := by decide +kernel
theorem dX2_exchange_51 : decode cX2_exchange 51 = .ok (.iconst 1, 1) := by decide +kernel
theorem dX2_exchange_52 : decode cX2_exchange 52 = .ok (.iadd, 1) := by decide +kernel
theorem dX2_exchange_53 : decode cX2_exchange 53 = .ok (.iload_n 3, 1) := by decide +kernel
theorem dX2_exchange_54 : decode cX2_exchange 54 = .ok (.iastore, 1) := by decide +kernel
theorem dX2_exchange_55 : decode cX2_exchange 55 = .ok (.iinc 2 2, 3) := by decide +kernel
theorem dX2_exchange_58 : decode cX2_exchange 58 = .ok (.goto (-56), 3) := by decide +kernel
theorem dX2_exchange_61 : decode cX2_exchange 61 = .ok (.return_, 1) := by decide +kernel
theorem dX2_find_0 : decode cX2_find 0 = .ok (.iload_n 1, 1) := by decide +kernel
theorem dX2_find_1 : decode cX2_find 1 = .ok (.ifCond .lt 11, 3) := by decide +kernel
theorem dX2_find_4 : decode cX2_find 4 = .ok (.iload_n 1, 1) := by decide +kernel
theorem dX2_find_5 : decode cX2_find 5 = .ok (.aload_n 0, 1) := by decide +kernel
theorem dX2_find_6 : decode cX2_find 6 = .ok (.getfield 46, 3) := by decide +kernel
theorem dX2_find_9 : decode cX2_find 9 = .ok (.if_icmp .le 8, 3) := by decide +kernel
theorem dX2_find_12 : decode cX2_find 12 = .ok (.bipush (-4), 2) := by decide +kernel
theorem dX2_find_14 : decode cX2_find 14 = .ok (.goto 9, 3) := by decide +kernel
theorem dX2_find_17 : decode cX2_find 17 = .ok (.aload_n 0, 1) := by decide +kernel
theorem dX2_find_18 : decode cX2_find 18 = .ok (.getfield 26, 3) := by decide +kernel
theorem dX2_find_21 : decode cX2_find 21 = .ok (.iload_n 1, 1) := by decide +kernel
theorem dX2_find_22 : decode cX2_find 22 = .ok (.iaload, 1) := by decide +kernel
theorem dX2_find_23 : decode cX2_find 23 = .ok (.ireturn, 1) := by decide +kernel
theorem dX2_place_0 : decode cX2_place 0 = .ok (.aload_n 0, 1) := by decide +kernel
theorem dX2_place_1 : decode cX2_place 1 = .ok (.iload_n 1, 1) := by decide +kernel
theorem dX2_place_2 : decode cX2_place 2 = .ok (.invokevirtual 66, 3) := by decide +kernel
theorem dX2_place_5 : decode cX2_place 5 = .ok (.ifCond .eq 5, 3) := by decide +kernel
theorem dX2_place_8 : decode cX2_place 8 = .ok (.iconst (-1), 1) := by decide +kernel
theorem dX2_place_9 : decode cX2_place 9 = .ok (.ireturn, 1) := by decide +kernel
theorem dX2_place_10 : decode cX2_place 10 = .ok (.aload_n 0, 1) := by decide +kernel
theorem dX2_place_11 : decode cX2_place 11 = .ok (.invokevirtual 59, 3) := by decide +kernel
theorem dX2_place_14 : decode cX2_place 14 = .ok (.aload_n 0, 1) := by decide +kernel
theorem dX2_place_15 : decode cX2_place 15 = .ok (.iload_n 2, 1) := by decide +kernel
theorem dX2_place_16 : decode cX2_place 16 = .ok (.invokevirtual 62, 3) := by decide +kernel
theorem dX2_place_19 : decode cX2_place 19 = .ok (.istore_n 3, 1) := by decide +kernel
theorem dX2_place_20 : decode cX2_place 20 = .ok (.iload_n 3, 1) := by decide +kernel
theorem dX2_place_21 : decode cX2_place 21 = .ok (.bipush (-4), 2) := by decide +kernel
theorem dX2_place_23 : decode cX2_place 23 = .ok (.if_icmp .ne 6, 3) := by decide +kernel
theorem dX2_place_26 : decode cX2_place 26 = .ok (.bipush (-4), 2) := by decide +kernel
theorem dX2_place_28 : decode cX2_place 28 = .ok (.ireturn, 1) := by decide +kernel
theorem dX2_place_29 : decode cX2_place 29 = .ok (.aload_n 0, 1) := by decide +kernel
theorem dX2_place_30 : decode cX2_place 30 = .ok (.getfield 29, 3) := by decide +kernel
theorem dX2_place_33 : decode cX2_place 33 = .ok (.iconst 1, 1) := by decide +kernel
theorem dX2_place_34 : decode cX2_place 34 = .ok (.isub, 1) := by decide +kernel
theorem dX2_place_35 : decode cX2_place 35 = .ok (.istore 4, 2) := by decide +kernel
theorem dX2_place_37 : decode cX2_place 37 = .ok (.iload_n 3, 1) := by decide +kernel
theorem dX2_place_38 : decode cX2_place 38 = .ok (.bipush 10, 2) := by decide +kernel
theorem dX2_place_40 : decode cX2_place 40 = .ok (.irem, 1) := by decide +kernel
theorem dX2_place_41 : decode cX2_place 41 = .ok (.iload_n 1, 1) := by decide +kernel
theorem dX2_place_42 : decode cX2_place 42 = .ok (.if_icmp .eq 14, 3) := by decide +kernel
theorem dX2_place_45 : decode cX2_place 45 = .ok (.iload_n 3, 1) := by decide +kernel
theorem dX2_place_46 : decode cX2_place 46 = .ok (.bipush 10, 2) := by decide +kernel
theorem dX2_place_48 : decode cX2_place 48 = .ok (.idiv, 1) := by decide +kernel
theorem dX2_place_49 : decode cX2_place 49 = .ok (.istore_n 3, 1) := by decide +kernel
theorem dX2_place_50 : decode cX2_place 50 = .ok (.iinc 4 (-1), 3) := by decide +kernel
theorem dX2_place_53 : decode cX2_place 53 = .ok (.goto (-16), 3) := by decide +kernel
theorem dX2_place_56 : decode cX2_place 56 = .ok (.iload 4, 2) := by decide +kernel
theorem dX2_place_58 : decode cX2_place 58 = .ok (.ireturn, 1) := by decide +kernel
theorem dX2_noBell_0 : decode cX2_noBell 0 = .ok (.iload_n 1, 1) := by decide +kernel
theorem dX2_noBell_1 : decode cX2_noBell 1 = .ok (.iconst 1, 1) := by decide +kernel
theorem dX2_noBell_2 : decode cX2_noBell 2 = .ok (.if_icmp .lt 11, 3) := by decide +kernel
theorem dX2_noBell_5 : decode cX2_noBell 5 = .ok (.iload_n 1, 1) := by decide +kernel
theorem dX2_noBell_6 : decode cX2_noBell 6 = .ok (.aload_n 0, 1) := by decide +kernel
theorem dX2_noBell_7 : decode cX2_noBell 7 = .ok (.getfield 29, 3) := by decide +kernel
theorem dX2_noBell_10 : decode cX2_noBell 10 = .ok (.if_icmp .le 7, 3) := by decide +kernel
theorem dX2_noBell_13 : decode cX2_noBell 13 = .ok (.iconst 1, 1) := by decide +kernel
theorem dX2_noBell_14 : decode cX2_noBell 14 = .ok (.goto 4, 3) := by decide +kernel
theorem dX2_noBell_17 : decode cX2_noBell 17 = .ok (.iconst 0, 1) := by decide +kernel
theorem dX2_noBell_18 : decode cX2_noBell 18 = .ok (.ireturn, 1) := by decide +kernel
theorem dX2_isTrue_0 : decode cX2_isTrue 0 = .ok (.aload_n 0, 1) := by decide +kernel
theorem dX2_isTrue_1 : decode cX2_isTrue 1 = .ok (.invokevirtual 59, 3) := by decide +kernel
theorem dX2_isTrue_4 : decode cX2_isTrue 4 = .ok (.aload_n 0, 1) := by decide +kernel
theorem dX2_isTrue_5 : decode cX2_isTrue 5 = .ok (.invokevirtual 69, 3) := by decide +kernel
theorem dX2_isTrue_8 : decode cX2_isTrue 8 = .ok (.istore_n 1, 1) := by decide +kernel
theorem dX2_isTrue_9 : decode cX2_isTrue 9 = .ok (.iload_n 1, 1) := by decide +kernel
theorem dX2_isTrue_10 : decode cX2_isTrue 10 = .ok (.aload_n 0, 1) := by decide +kernel
theorem dX2_isTrue_11 : decode cX2_isTrue 11 = .ok (.getfield 46, 3) := by decide +kernel
theorem dX2_isTrue_14 : decode cX2_isTrue 14 = .ok (.if_icmp .ne 7, 3) := by decide +kernel
theorem dX2_isTrue_17 : decode cX2_isTrue 17 = .ok (.iconst 1, 1) := by decide +kernel
theorem dX2_isTrue_18 : decode cX2_isTrue 18 = .ok (.goto 4, 3) := by decide +kernel
theorem dX2_isTrue_21 : decode cX2_isTrue 21 = .ok (.iconst 0, 1) := by decide +kernel
theorem dX2_isTrue_22 : decode cX2_isTrue 22 = .ok (.ireturn, 1) := by decide +kernel
theorem dX2_countDifferent_0 : decode cX2_countDifferent 0 = .ok (.iconst 0, 1) := by decide +kernel
theorem dX2_countDifferent_1 : decode cX2_countDifferent 1 = .ok (.istore_n 1, 1) := by decide +kernel
theorem dX2_countDifferent_2 : decode cX2_countDifferent 2 = .ok (.iconst 1, 1) := by decide +kernel
theorem dX2_countDifferent_3 : decode cX2_countDifferent 3 = .ok (.istore_n 2, 1) := by decide +kernel
theorem dX2_countDifferent_4 : decode cX2_countDifferent 4 = .ok (.iload_n 2, 1) := by decide +kernel
theorem dX2_countDifferent_5 : decode cX2_countDifferent 5 = .ok (.aload_n 0, 1) := by decide +kernel
theorem dX2_countDifferent_6 : decode cX2_countDifferent 6 = .ok (.getfield 46, 3) := by decide +kernel
theorem dX2_countDifferent_9 : decode cX2_countDifferent 9 = .ok (.if_icmp .gt 59, 3) := by decide +kernel
theorem dX2_countDifferent_12 : decode cX2_countDifferent 12 = .ok (.iconst 1, 1) := by decide +kernel
theorem dX2_countDifferent_13 : decode cX2_countDifferent 13 = .ok (.istore_n 3, 1) := by decide +kernel
theorem dX2_countDifferent_14 : decode cX2_countDifferent 14 = .ok (.iconst 1, 1) := by decide +kernel
theorem dX2_countDifferent_15 : decode cX2_countDifferent 15 = .ok (.istore 4, 2) := by decide +kernel
theorem dX2_countDifferent_17 : decode cX2_countDifferent 17 = .ok (.iload 4, 2) := by decide +kernel
theorem dX2_countDifferent_19 : decode cX2_countDifferent 19 = .ok (.iload_n 2, 1) := by decide +kernel
theorem dX2_countDifferent_20 : decode cX2_countDifferent 20 = .ok (.if_icmp .ge 35, 3) := by decide +kernel
theorem dX2_countDifferent_23 : decode cX2_countDifferent 23 = .ok (.iload_n 3, 1) := by decide +kernel
theorem dX2_countDifferent_24 : decode cX2_countDifferent 24 = .ok (.ifCond .eq 23, 3) := by decide +kernel
theorem dX2_countDifferent_27 : decode cX2_countDifferent 27 = .ok (.aload_n 0, 1) := by decide +kernel
theorem dX2_countDifferent_28 : decode cX2_countDifferent 28 = .ok (.getfield 26, 3) := by decide +kernel
theorem dX2_countDifferent_31 : decode cX2_countDifferent 31 = .ok (.iload 4, 2) := by decide +kernel
theorem dX2_countDifferent_33 : decode cX2_countDifferent 33 = .ok (.iaload, 1) := by decide +kernel
theorem dX2_countDifferent_34 : decode cX2_countDifferent 34 = .ok (.aload_n 0, 1) := by decide +kernel
theorem dX2_countDifferent_35 : decode cX2_countDifferent 35 = .ok (.getfield 26, 3) := by decide +kernel
theorem dX2_countDifferent_38 : decode cX2_countDifferent 38 = .ok (.iload_n 2, 1) := by decide +kernel
theorem dX2_countDifferent_39 : decode cX2_countDifferent 39 = .ok (.iaload, 1) := by decide +kernel
theorem dX2_countDifferent_40 : decode cX2_countDifferent 40 = .ok (.if_icmp .eq 7, 3) := by decide +kernel
theorem dX2_countDifferent_43 : decode cX2_countDifferent 43 = .ok (.iconst 1, 1) := by decide +kernel
theorem dX2_countDifferent_44 : decode cX2_countDifferent 44 = .ok (.goto 4, 3) := by decide +kernel
theorem dX2_countDifferent_47 : decode cX2_countDifferent 47 = .ok (.iconst 0, 1) := by decide +kernel
theorem dX2_countDifferent_48 : decode cX2_countDifferent 48 = .ok (.istore_n 3, 1) := by decide +kernel
theorem dX2_countDifferent_49 : decode cX2_countDifferent 49 = .ok (.iinc 4 1, 3) := by decide +kernel
theorem dX2_countDifferent_52 : decode cX2_countDifferent 52 = .ok (.goto (-35), 3) := by decide +kernel
theorem dX2_countDifferent_55 : decode cX2_countDifferent 55 = .ok (.iload_n 3, 1) := by decide +kernel
theorem dX2_countDifferent_56 : decode cX2_countDifferent 56 = .ok (.ifCond .eq 6, 3) := by decide +kernel
theorem dX2_countDifferent_59 : decode cX2_countDifferent 59 = .ok (.iinc 1 1, 3) := by decide +kernel
theorem dX2_countDifferent_62 : decode cX2_countDifferent 62 = .ok (.iinc 2 1, 3) := by decide +kernel
theorem dX2_countDifferent_65 : decode cX2_countDifferent 65 = .ok (.goto (-61), 3) := by decide +kernel
theorem dX2_countDifferent_68 : decode cX2_countDifferent 68 = .ok (.iload_n 1, 1) := by decide +kernel
theorem dX2_countDifferent_69 : decode cX2_countDifferent 69 = .ok (.ireturn, 1) := by decide +kernel
theorem dX2_different_0 : decode cX2_different 0 = .ok (.aload_n 0, 1) := by decide +kernel
theorem dX2_different_1 : decode cX2_different 1 = .ok (.invokevirtual 59, 3) := by decide +kernel
theorem dX2_different_4 : decode cX2_different 4 = .ok (.aload_n 0, 1) := by decide +kernel
theorem dX2_different_5 : decode cX2_different 5 = .ok (.invokevirtual 69, 3) := by decide +kernel
theorem dX2_different_8 : decode cX2_different 8 = .ok (.ireturn, 1) := by decide +kernel
theorem dX2_falsePairs_0 : decode cX2_falsePairs 0 = .ok (.aload_n 0, 1) := by decide +kernel
theorem dX2_falsePairs_1 : decode cX2_falsePairs 1 = .ok (.invokevirtual 59, 3) := by decide +kernel
theorem dX2_falsePairs_4 : decode cX2_falsePairs 4 = .ok (.iconst 0, 1) := by decide +kernel
theorem dX2_falsePairs_5 : decode cX2_falsePairs 5 = .ok (.istore_n 1, 1) := by decide +kernel
theorem dX2_falsePairs_6 : decode cX2_falsePairs 6 = .ok (.iconst 0, 1) := by decide +kernel
theorem dX2_falsePairs_7 : decode cX2_falsePairs 7 = .ok (.istore_n 2, 1) := by decide +kernel
theorem dX2_falsePairs_8 : decode cX2_falsePairs 8 = .ok (.iload_n 2, 1) := by decide +kernel
theorem dX2_falsePairs_9 : decode cX2_falsePairs 9 = .ok (.aload_n 0, 1) := by decide +kernel
theorem dX2_falsePairs_10 : decode cX2_falsePairs 10 = .ok (.getfield 39, 3) := by decide +kernel
theorem dX2_falsePairs_13 : decode cX2_falsePairs 13 = .ok (.if_icmp .ge 39, 3) := by decide +kernel
theorem dX2_falsePairs_16 : decode cX2_falsePairs 16 = .ok (.iload_n 2, 1) := by decide +kernel
theorem dX2_falsePairs_17 : decode cX2_falsePairs 17 = .ok (.iconst 1, 1) := by decide +kernel
theorem dX2_falsePairs_18 : decode cX2_falsePairs 18 = .ok (.iadd, 1) := by decide +kernel
theorem dX2_falsePairs_19 : decode cX2_falsePairs 19 = .ok (.istore_n 3, 1) := by decide +kernel
theorem dX2_falsePairs_20 : decode cX2_falsePairs 20 = .ok (.iload_n 3, 1) := by decide +kernel
theorem dX2_falsePairs_21 : decode cX2_falsePairs 21 = .ok (.aload_n 0, 1) := by decide +kernel
theorem dX2_falsePairs_22 : decode cX2_falsePairs 22 = .ok (.getfield 39, 3) := by decide +kernel
theorem dX2_falsePairs_25 : decode cX2_falsePairs 25 = .ok (.if_icmp .ge 21, 3) := by decide +kernel
theorem dX2_falsePairs_28 : decode cX2_falsePairs 28 = .ok (.aload_n 0, 1) := by decide +kernel
theorem dX2_falsePairs_29 : decode cX2_falsePairs 29 = .ok (.iload_n 2, 1) := by decide +kernel
theorem dX2_falsePairs_30 : decode cX2_falsePairs 30 = .ok (.iload_n 3, 1) := by decide +kernel
theorem dX2_falsePairs_31 : decode cX2_falsePairs 31 = .ok (.invokevirtual 72, 3) := by decide +kernel
theorem dX2_falsePairs_34 : decode cX2_falsePairs 34 = .ok (.ifCond .eq 6, 3) := by decide +kernel
theorem dX2_falsePairs_37 : decode cX2_falsePairs 37 = .ok (.iinc 1 1, 3) := by decide +kernel
theorem dX2_falsePairs_40 : decode cX2_falsePairs 40 = .ok (.iinc 3 1, 3) := by decide +kernel
theorem dX2_falsePairs_43 : decode cX2_falsePairs 43 = .ok (.goto (-23), 3) := by decide +kernel
theorem dX2_falsePairs_46 : decode cX2_falsePairs 46 = .ok (.iinc 2 1, 3) := by decide +kernel
theorem dX2_falsePairs_49 : decode cX2_falsePairs 49 = .ok (.goto (-41), 3) := by decide +kernel
theorem dX2_falsePairs_52 : decode cX2_falsePairs 52 = .ok (.iload_n 1, 1) := by decide +kernel
theorem dX2_falsePairs_53 : decode cX2_falsePairs 53 = .ok (.ireturn, 1) := by decide +kernel
theorem dX2_share_0 : decode cX2_share 0 = .ok (.iconst 1, 1) := by decide +kernel
theorem dX2_share_1 : decode cX2_share 1 = .ok (.istore_n 3, 1) := by decide +kernel
theorem dX2_share_2 : decode cX2_share 2 = .ok (.iload_n 3, 1) := by decide +kernel
theorem dX2_share_3 : decode cX2_share 3 = .ok (.aload_n 0, 1) := by decide +kernel
theorem dX2_share_4 : decode cX2_share 4 = .ok (.getfield 7, 3) := by decide +kernel
theorem dX2_share_7 : decode cX2_share 7 = .ok (.if_icmp .gt 59, 3) := by decide +kernel
theorem dX2_share_10 : decode cX2_share 10 = .ok (.iconst 1, 1) := by decide +kernel
theorem dX2_share_11 : decode cX2_share 11 = .ok (.istore 4, 2) := by decide +kernel
theorem dX2_share_13 : decode cX2_share 13 = .ok (.iload 4, 2) := by decide +kernel
theorem dX2_share_15 : decode cX2_share 15 = .ok (.aload_n 0, 1) := by decide +kernel
theorem dX2_share_16 : decode cX2_share 16 = .ok (.getfield 7, 3) := by decide +kernel
theorem dX2_share_19 : decode cX2_share 19 = .ok (.if_icmp .gt 41, 3) := by decide +kernel
theorem dX2_share_22 : decode cX2_share 22 = .ok (.aload_n 0, 1) := by decide +kernel
theorem dX2_share_23 : decode cX2_share 23 = .ok (.getfield 26, 3) := by decide +kernel
theorem dX2_share_26 : decode cX2_share 26 = .ok (.iload_n 1, 1) := by decide +kernel
theorem dX2_share_27 : decode cX2_share 27 = .ok (.aload_n 0, 1) := by decide +kernel
theorem dX2_share_28 : decode cX2_share 28 = .ok (.getfield 7, 3) := by decide +kernel
theorem dX2_share_31 : decode cX2_share 31 = .ok (.imul, 1) := by decide +kernel
theorem dX2_share_32 : decode cX2_share 32 = .ok (.iload_n 3, 1) := by decide +kernel
theorem dX2_share_33 : decode cX2_share 33 = .ok (.iadd, 1) := by decide +kernel
theorem dX2_share_34 : decode cX2_share 34 = .ok (.iaload, 1) := by decide +kernel
theorem dX2_share_35 : decode cX2_share 35 = .ok (.aload_n 0, 1) := by decide +kernel
theorem dX2_share_36 : decode cX2_share 36 = .ok (.getfield 26, 3) := by decide +kernel
theorem dX2_share_39 : decode cX2_share 39 = .ok (.iload_n 2, 1) := by decide +kernel
theorem dX2_share_40 : decode cX2_share 40 = .ok (.aload_n 0, 1) := by decide +kernel
theorem dX2_share_41 : decode cX2_share 41 = .ok (.getfield 7, 3) := by decide +kernel
theorem dX2_share_44 : decode cX2_share 44 = .ok (.imul, 1) := by decide +kernel
theorem dX2_share_45 : decode cX2_share 45 = .ok (.iload 4, 2) := by decide +kernel
theorem dX2_share_47 : decode cX2_share 47 = .ok (.iadd, 1) := by decide +kernel
theorem dX2_share_48 : decode cX2_share 48 = .ok (.iaload, 1) := by decide +kernel
theorem dX2_share_49 : decode cX2_share 49 = .ok (.if_icmp .ne 5, 3) := by decide +kernel
theorem dX2_share_52 : decode cX2_share 52 = .ok (.iconst 1, 1) := by decide +kernel
theorem dX2_share_53 : decode cX2_share 53 = .ok (.ireturn, 1) := by decide +kernel
theorem dX2_share_54 : decode cX2_share 54 = .ok (.iinc 4 1, 3) := by decide +kernel
theorem dX2_share_57 : decode cX2_share 57 = .ok (.goto (-44), 3) := by decide +kernel
theorem dX2_share_60 : decode cX2_share 60 = .ok (.iinc 3 1, 3) := by decide +kernel
theorem dX2_share_63 : decode cX2_share 63 = .ok (.goto (-61), 3) := by decide +kernel
theorem dX2_share_66 : decode cX2_share 66 = .ok (.iconst 0, 1) := by decide +kernel
theorem dX2_share_67 : decode cX2_share 67 = .ok (.ireturn, 1) := by decide +kernel
theorem dX2_falseAlone_0 : decode cX2_falseAlone 0 = .ok (.aload_n 0, 1) := by decide +kernel
theorem dX2_falseAlone_1 : decode cX2_falseAlone 1 = .ok (.iload_n 1, 1) := by decide +kernel
theorem dX2_falseAlone_2 : decode cX2_falseAlone 2 = .ok (.invokevirtual 36, 3) := by decide +kernel
theorem dX2_falseAlone_5 : decode cX2_falseAlone 5 = .ok (.ifCond .eq 5, 3) := by decide +kernel
theorem dX2_falseAlone_8 : decode cX2_falseAlone 8 = .ok (.iconst (-1), 1) := by decide +kernel
theorem dX2_falseAlone_9 : decode cX2_falseAlone 9 = .ok (.ireturn, 1) := by decide +kernel
theorem dX2_falseAlone_10 : decode cX2_falseAlone 10 = .ok (.aload_n 0, 1) := by decide +kernel
theorem dX2_falseAlone_11 : decode cX2_falseAlone 11 = .ok (.invokevirtual 53, 3) := by decide +kernel
theorem dX2_falseAlone_14 : decode cX2_falseAlone 14 = .ok (.aload_n 0, 1) := by decide +kernel
theorem dX2_falseAlone_15 : decode cX2_falseAlone 15 = .ok (.iconst 0, 1) := by decide +kernel
theorem dX2_falseAlone_16 : decode cX2_falseAlone 16 = .ok (.putfield 46, 3) := by decide +kernel
theorem dX2_falseAlone_19 : decode cX2_falseAlone 19 = .ok (.aload_n 0, 1) := by decide +kernel
theorem dX2_falseAlone_20 : decode cX2_falseAlone 20 = .ok (.iload_n 1, 1) := by decide +kernel
theorem dX2_falseAlone_21 : decode cX2_falseAlone 21 = .ok (.invokevirtual 56, 3) := by decide +kernel
theorem dX2_falseAlone_24 : decode cX2_falseAlone 24 = .ok (.aload_n 0, 1) := by decide +kernel
theorem dX2_falseAlone_25 : decode cX2_falseAlone 25 = .ok (.invokevirtual 69, 3) := by decide +kernel
theorem dX2_falseAlone_28 : decode cX2_falseAlone 28 = .ok (.istore_n 2, 1) := by decide +kernel
theorem dX2_falseAlone_29 : decode cX2_falseAlone 29 = .ok (.iload_n 2, 1) := by decide +kernel
theorem dX2_falseAlone_30 : decode cX2_falseAlone 30 = .ok (.aload_n 0, 1) := by decide +kernel
theorem dX2_falseAlone_31 : decode cX2_falseAlone 31 = .ok (.getfield 7, 3) := by decide +kernel
theorem dX2_falseAlone_34 : decode cX2_falseAlone 34 = .ok (.if_icmp .ge 7, 3) := by decide +kernel
theorem dX2_falseAlone_37 : decode cX2_falseAlone 37 = .ok (.iconst 1, 1) := by decide +kernel
theorem dX2_falseAlone_38 : decode cX2_falseAlone 38 = .ok (.goto 4, 3) := by decide +kernel
theorem dX2_falseAlone_41 : decode cX2_falseAlone 41 = .ok (.iconst 0, 1) := by decide +kernel
theorem dX2_falseAlone_42 : decode cX2_falseAlone 42 = .ok (.ireturn, 1) := by decide +kernel
theorem dX2_order_0 : decode cX2_order 0 = .ok (.aload_n 0, 1) := by decide +kernel
theorem dX2_order_1 : decode cX2_order 1 = .ok (.iload_n 1, 1) := by decide +kernel
theorem dX2_order_2 : decode cX2_order 2 = .ok (.invokevirtual 36, 3) := by decide +kernel
theorem dX2_order_5 : decode cX2_order 5 = .ok (.ifCond .eq 5, 3) := by decide +kernel
theorem dX2_order_8 : decode cX2_order 8 = .ok (.iconst (-1), 1) := by decide +kernel
theorem dX2_order_9 : decode cX2_order 9 = .ok (.ireturn, 1) := by decide +kernel
theorem dX2_order_10 : decode cX2_order 10 = .ok (.aload_n 0, 1) := by decide +kernel
theorem dX2_order_11 : decode cX2_order 11 = .ok (.invokevirtual 53, 3) := by decide +kernel
theorem dX2_order_14 : decode cX2_order 14 = .ok (.aload_n 0, 1) := by decide +kernel
theorem dX2_order_15 : decode cX2_order 15 = .ok (.invokevirtual 49, 3) := by decide +kernel
theorem dX2_order_18 : decode cX2_order 18 = .ok (.istore_n 2, 1) := by decide +kernel
theorem dX2_order_19 : decode cX2_order 19 = .ok (.iconst 0, 1) := by decide +kernel
theorem dX2_order_20 : decode cX2_order 20 = .ok (.istore_n 3, 1) := by decide +kernel
theorem dX2_order_21 : decode cX2_order 21 = .ok (.iconst 1, 1) := by decide +kernel
theorem dX2_order_22 : decode cX2_order 22 = .ok (.istore 4, 2) := by decide +kernel
theorem dX2_order_24 : decode cX2_order 24 = .ok (.iload 4, 2) := by decide +kernel
theorem dX2_order_26 : decode cX2_order 26 = .ok (.ifCond .eq 39, 3) := by decide +kernel
theorem dX2_order_29 : decode cX2_order 29 = .ok (.aload_n 0, 1) := by decide +kernel
theorem dX2_order_30 : decode cX2_order 30 = .ok (.iconst 0, 1) := by decide +kernel
theorem dX2_order_31 : decode cX2_order 31 = .ok (.putfield 46, 3) := by decide +kernel
theorem dX2_order_34 : decode cX2_order 34 = .ok (.aload_n 0, 1) := by decide +kernel
theorem dX2_order_35 : decode cX2_order 35 = .ok (.iload_n 1, 1) := by decide +kernel
theorem dX2_order_36 : decode cX2_order 36 = .ok (.invokevirtual 56, 3) := by decide +kernel
theorem dX2_order_39 : decode cX2_order 39 = .ok (.iinc 3 1, 3) := by decide +kernel
theorem dX2_order_42 : decode cX2_order 42 = .ok (.aload_n 0, 1) := by decide +kernel
theorem dX2_order_43 : decode cX2_order 43 = .ok (.getfield 26, 3) := by decide +kernel
theorem dX2_order_46 : decode cX2_order 46 = .ok (.aload_n 0, 1) := by decide +kernel
theorem dX2_order_47 : decode cX2_order 47 = .ok (.getfield 46, 3) := by decide +kernel
theorem dX2_order_50 : decode cX2_order 50 = .ok (.iaload, 1) := by decide +kernel
theorem dX2_order_51 : decode cX2_order 51 = .ok (.iload_n 2, 1) := by decide +kernel
theorem dX2_order_52 : decode cX2_order 52 = .ok (.if_icmp .eq 7, 3) := by decide +kernel
theorem dX2_order_55 : decode cX2_order 55 = .ok (.iconst 1, 1) := by decide +kernel
theorem dX2_order_56 : decode cX2_order 56 = .ok (.goto 4, 3) := by decide +kernel
theorem dX2_order_59 : decode cX2_order 59 = .ok (.iconst 0, 1) := by decide +kernel
theorem dX2_order_60 : decode cX2_order 60 = .ok (.istore 4, 2) := by decide +kernel
theorem dX2_order_62 : decode cX2_order 62 = .ok (.goto (-38), 3) := by decide +kernel
theorem dX2_order_65 : decode cX2_order 65 = .ok (.iload_n 3, 1) := by decide +kernel
theorem dX2_order_66 : decode cX2_order 66 = .ok (.ireturn, 1) := by decide +kernel
theorem dX2_home_0 : decode cX2_home 0 = .ok (.aload_n 0, 1) := by decide +kernel
theorem dX2_home_1 : decode cX2_home 1 = .ok (.invokevirtual 59, 3) := by decide +kernel
theorem dX2_home_4 : decode cX2_home 4 = .ok (.aload_n 0, 1) := by decide +kernel
theorem dX2_home_5 : decode cX2_home 5 = .ok (.getfield 26, 3) := by decide +kernel
theorem dX2_home_8 : decode cX2_home 8 = .ok (.aload_n 0, 1) := by decide +kernel
theorem dX2_home_9 : decode cX2_home 9 = .ok (.getfield 46, 3) := by decide +kernel
theorem dX2_home_12 : decode cX2_home 12 = .ok (.iaload, 1) := by decide +kernel
theorem dX2_home_13 : decode cX2_home 13 = .ok (.aload_n 0, 1) := by decide +kernel
theorem dX2_home_14 : decode cX2_home 14 = .ok (.getfield 26, 3) := by decide +kernel
theorem dX2_home_17 : decode cX2_home 17 = .ok (.iconst 0, 1) := by decide +kernel
theorem dX2_home_18 : decode cX2_home 18 = .ok (.iaload, 1) := by decide +kernel
theorem dX2_home_19 : decode cX2_home 19 = .ok (.if_icmp .ne 7, 3) := by decide +kernel
theorem dX2_home_22 : decode cX2_home 22 = .ok (.iconst 1, 1) := by decide +kernel
theorem dX2_home_23 : decode cX2_home 23 = .ok (.goto 4, 3) := by decide +kernel
theorem dX2_home_26 : decode cX2_home 26 = .ok (.iconst 0, 1) := by decide +kernel
theorem dX2_home_27 : decode cX2_home 27 = .ok (.ireturn, 1) := by decide +kernel
theorem dX2_leads_0 : decode cX2_leads 0 = .ok (.aload_n 0, 1) := by decide +kernel
theorem dX2_leads_1 : decode cX2_leads 1 = .ok (.iload_n 1, 1) := by decide +kernel
theorem dX2_leads_2 : decode cX2_leads 2 = .ok (.invokevirtual 66, 3) := by decide +kernel
theorem dX2_leads_5 : decode cX2_leads 5 = .ok (.ifCond .eq 5, 3) := by decide +kernel
theorem dX2_leads_8 : decode cX2_leads 8 = .ok (.iconst (-1), 1) := by decide +kernel
theorem dX2_leads_9 : decode cX2_leads 9 = .ok (.ireturn, 1) := by decide +kernel
theorem dX2_leads_10 : decode cX2_leads 10 = .ok (.aload_n 0, 1) := by decide +kernel
theorem dX2_leads_11 : decode cX2_leads 11 = .ok (.invokevirtual 59, 3) := by decide +kernel
theorem dX2_leads_14 : decode cX2_leads 14 = .ok (.iconst 1, 1) := by decide +kernel
theorem dX2_leads_15 : decode cX2_leads 15 = .ok (.istore_n 2, 1) := by decide +kernel
theorem dX2_leads_16 : decode cX2_leads 16 = .ok (.iconst 1, 1) := by decide +kernel
theorem dX2_leads_17 : decode cX2_leads 17 = .ok (.istore_n 3, 1) := by decide +kernel
theorem dX2_leads_18 : decode cX2_leads 18 = .ok (.iload_n 3, 1) := by decide +kernel
theorem dX2_leads_19 : decode cX2_leads 19 = .ok (.aload_n 0, 1) := by decide +kernel
theorem dX2_leads_20 : decode cX2_leads 20 = .ok (.getfield 29, 3) := by decide +kernel
theorem dX2_leads_23 : decode cX2_leads 23 = .ok (.if_icmp .ge 14, 3) := by decide +kernel
theorem dX2_leads_26 : decode cX2_leads 26 = .ok (.bipush 10, 2) := by decide +kernel
theorem dX2_leads_28 : decode cX2_leads 28 = .ok (.iload_n 2, 1) := by decide +kernel
theorem dX2_leads_29 : decode cX2_leads 29 = .ok (.imul, 1) := by decide +kernel
theorem dX2_leads_30 : decode cX2_leads 30 = .ok (.istore_n 2, 1) := by decide +kernel
theorem dX2_leads_31 : decode cX2_leads 31 = .ok (.iinc 3 1, 3) := by decide +kernel
theorem dX2_leads_34 : decode cX2_leads 34 = .ok (.goto (-16), 3) := by decide +kernel
theorem dX2_leads_37 : decode cX2_leads 37 = .ok (.iconst 0, 1) := by decide +kernel
theorem dX2_leads_38 : decode cX2_leads 38 = .ok (.istore_n 3, 1) := by decide +kernel
theorem dX2_leads_39 : decode cX2_leads 39 = .ok (.iconst 1, 1) := by decide +kernel
theorem dX2_leads_40 : decode cX2_leads 40 = .ok (.istore 4, 2) := by decide +kernel
theorem dX2_leads_42 : decode cX2_leads 42 = .ok (.iload 4, 2) := by decide +kernel
theorem dX2_leads_44 : decode cX2_leads 44 = .ok (.aload_n 0, 1) := by decide +kernel
theorem dX2_leads_45 : decode cX2_leads 45 = .ok (.getfield 46, 3) := by decide +kernel
theorem dX2_leads_48 : decode cX2_leads 48 = .ok (.if_icmp .gt 25, 3) := by decide +kernel
theorem dX2_leads_51 : decode cX2_leads 51 = .ok (.aload_n 0, 1) := by decide +kernel
theorem dX2_leads_52 : decode cX2_leads 52 = .ok (.getfield 26, 3) := by decide +kernel
theorem dX2_leads_55 : decode cX2_leads 55 = .ok (.iload 4, 2) := by decide +kernel
theorem dX2_leads_57 : decode cX2_leads 57 = .ok (.iaload, 1) := by decide +kernel
theorem dX2_leads_58 : decode cX2_leads 58 = .ok (.iload_n 2, 1) := by decide +kernel
theorem dX2_leads_59 : decode cX2_leads 59 = .ok (.idiv, 1) := by decide +kernel
theorem dX2_leads_60 : decode cX2_leads 60 = .ok (.iload_n 1, 1) := by decide +kernel
theorem dX2_leads_61 : decode cX2_leads 61 = .ok (.if_icmp .ne 6, 3) := by decide +kernel
theorem dX2_leads_64 : decode cX2_leads 64 = .ok (.iinc 3 1, 3) := by decide +kernel
theorem dX2_leads_67 : decode cX2_leads 67 = .ok (.iinc 4 1, 3) := by decide +kernel
theorem dX2_leads_70 : decode cX2_leads 70 = .ok (.goto (-28), 3) := by decide +kernel
theorem dX2_leads_73 : decode cX2_leads 73 = .ok (.iload_n 3, 1) := by decide +kernel
theorem dX2_leads_74 : decode cX2_leads 74 = .ok (.ireturn, 1) := by decide +kernel
theorem dX2_choices_0 : decode cX2_choices 0 = .ok (.iconst 0, 1) := by decide +kernel
theorem dX2_choices_1 : decode cX2_choices 1 = .ok (.istore_n 1, 1) := by decide +kernel
theorem dX2_choices_2 : decode cX2_choices 2 = .ok (.iconst 0, 1) := by decide +kernel
theorem dX2_choices_3 : decode cX2_choices 3 = .ok (.istore_n 2, 1) := by decide +kernel
theorem dX2_choices_4 : decode cX2_choices 4 = .ok (.iload_n 2, 1) := by decide +kernel
theorem dX2_choices_5 : decode cX2_choices 5 = .ok (.iconst 3, 1) := by decide +kernel
theorem dX2_choices_6 : decode cX2_choices 6 = .ok (.if_icmp .ge 34, 3) := by decide +kernel
theorem dX2_choices_9 : decode cX2_choices 9 = .ok (.aload_n 0, 1) := by decide +kernel
theorem dX2_choices_10 : decode cX2_choices 10 = .ok (.invokevirtual 59, 3) := by decide +kernel
theorem dX2_choices_13 : decode cX2_choices 13 = .ok (.aload_n 0, 1) := by decide +kernel
theorem dX2_choices_14 : decode cX2_choices 14 = .ok (.iload_n 2, 1) := by decide +kernel
theorem dX2_choices_15 : decode cX2_choices 15 = .ok (.invokevirtual 56, 3) := by decide +kernel
theorem dX2_choices_18 : decode cX2_choices 18 = .ok (.aload_n 0, 1) := by decide +kernel
theorem dX2_choices_19 : decode cX2_choices 19 = .ok (.invokevirtual 69, 3) := by decide +kernel
theorem dX2_choices_22 : decode cX2_choices 22 = .ok (.istore_n 3, 1) := by decide +kernel
theorem dX2_choices_23 : decode cX2_choices 23 = .ok (.iload_n 3, 1) := by decide +kernel
theorem dX2_choices_24 : decode cX2_choices 24 = .ok (.aload_n 0, 1) := by decide +kernel
theorem dX2_choices_25 : decode cX2_choices 25 = .ok (.getfield 46, 3) := by decide +kernel
theorem dX2_choices_28 : decode cX2_choices 28 = .ok (.if_icmp .ne 6, 3) := by decide +kernel
theorem dX2_choices_31 : decode cX2_choices 31 = .ok (.iinc 1 1, 3) := by decide +kernel
theorem dX2_choices_34 : decode cX2_choices 34 = .ok (.iinc 2 1, 3) := by decide +kernel
theorem dX2_choices_37 : decode cX2_choices 37 = .ok (.goto (-33), 3) := by decide +kernel
theorem dX2_choices_40 : decode cX2_choices 40 = .ok (.iload_n 1, 1) := by decide +kernel
theorem dX2_choices_41 : decode cX2_choices 41 = .ok (.ireturn, 1) := by decide +kernel
end
section
set_option maxRecDepth 100000
theorem dX0_cell_0 : decode cX0_cell 0 = .ok (.iload_n 1, 1) := by decide +kernel
theorem dX0_cell_1 : decode cX0_cell 1 = .ok (.aload_n 0, 1) := by decide +kernel
theorem dX0_cell_2 : decode cX0_cell 2 = .ok (.arraylength, 1) := by decide +kernel
theorem dX0_cell_3 : decode cX0_cell 3 = .ok (.if_icmp .ge 9, 3) := by decide +kernel
theorem dX0_cell_6 : decode cX0_cell 6 = .ok (.aload_n 0, 1) := by decide +kernel
theorem dX0_cell_7 : decode cX0_cell 7 = .ok (.iload_n 1, 1) := by decide +kernel
theorem dX0_cell_8 : decode cX0_cell 8 = .ok (.iaload, 1) := by decide +kernel
theorem dX0_cell_9 : decode cX0_cell 9 = .ok (.goto 4, 3) := by decide +kernel
theorem dX0_cell_12 : decode cX0_cell 12 = .ok (.iconst 0, 1) := by decide +kernel
theorem dX0_cell_13 : decode cX0_cell 13 = .ok (.ireturn, 1) := by decide +kernel
theorem dJ0_init_0 : decode cJ0_init 0 = .ok (.return_, 1) := by decide +kernel
theorem dL_law_0 : decode cL_law 0 = .ok (.new 7, 3) := by decide +kernel
theorem dL_law_3 : decode cL_law 3 = .ok (.dup, 1) := by decide +kernel
theorem dL_law_4 : decode cL_law 4 = .ok (.aload_n 0, 1) := by decide +kernel
theorem dL_law_5 : decode cL_law 5 = .ok (.iconst 0, 1) := by decide +kernel
theorem dL_law_6 : decode cL_law 6 = .ok (.invokestatic 9, 3) := by decide +kernel
theorem dL_law_9 : decode cL_law 9 = .ok (.invokespecial 15, 3) := by decide +kernel
theorem dL_law_12 : decode cL_law 12 = .ok (.astore_n 1, 1) := by decide +kernel
theorem dL_law_13 : decode cL_law 13 = .ok (.new 18, 3) := by decide +kernel
theorem dL_law_16 : decode cL_law 16 = .ok (.dup, 1) := by decide +kernel
theorem dL_law_17 : decode cL_law 17 = .ok (.aload_n 0, 1) := by decide +kernel
theorem dL_law_18 : decode cL_law 18 = .ok (.iconst 0, 1) := by decide +kernel
theorem dL_law_19 : decode cL_law 19 = .ok (.invokestatic 9, 3) := by decide +kernel
theorem dL_law_22 : decode cL_law 22 = .ok (.invokespecial 20, 3) := by decide +kernel
theorem dL_law_25 : decode cL_law 25 = .ok (.astore_n 2, 1) := by decide +kernel
theorem dL_law_26 : decode cL_law 26 = .ok (.iconst 1, 1) := by decide +kernel
theorem dL_law_27 : decode cL_law 27 = .ok (.istore_n 3, 1) := by decide +kernel
theorem dL_law_28 : decode cL_law 28 = .ok (.iload_n 3, 1) := by decide +kernel
theorem dL_law_29 : decode cL_law 29 = .ok (.aload_n 0, 1) := by decide +kernel
theorem dL_law_30 : decode cL_law 30 = .ok (.arraylength, 1) := by decide +kernel
theorem dL_law_31 : decode cL_law 31 = .ok (.iconst 3, 1) := by decide +kernel
theorem dL_law_32 : decode cL_law 32 = .ok (.isub, 1) := by decide +kernel
theorem dL_law_33 : decode cL_law 33 = .ok (.if_icmp .gt 418, 3) := by decide +kernel
theorem dL_law_36 : decode cL_law 36 = .ok (.aload_n 0, 1) := by decide +kernel
theorem dL_law_37 : decode cL_law 37 = .ok (.iload_n 3, 1) := by decide +kernel
theorem dL_law_38 : decode cL_law 38 = .ok (.iaload, 1) := by decide +kernel
theorem dL_law_39 : decode cL_law 39 = .ok (.bipush 31, 2) := by decide +kernel
theorem dL_law_41 : decode cL_law 41 = .ok (.iand, 1) := by decide +kernel
theorem dL_law_42 : decode cL_law 42 = .ok (.tableswitch 403 0 16 #[82, 105, 118, 151, 174, 187, 200, 213, 236, 269, 282, 295, 308, 331, 354, 367, 390], 82) := by decide +kernel
theorem dL_law_124 : decode cL_law 124 = .ok (.aload_n 1, 1) := by decide +kernel
theorem dL_law_125 : decode cL_law 125 = .ok (.aload_n 0, 1) := by decide +kernel
theorem dL_law_126 : decode cL_law 126 = .ok (.iload_n 3, 1) := by decide +kernel
theorem dL_law_127 : decode cL_law 127 = .ok (.iconst 1, 1) := by decide +kernel
theorem dL_law_128 : decode cL_law 128 = .ok (.iadd, 1) := by decide +kernel
theorem dL_law_129 : decode cL_law 129 = .ok (.iaload, 1) := by decide +kernel
theorem dL_law_130 : decode cL_law 130 = .ok (.invokevirtual 21, 3) := by decide +kernel
theorem dL_law_133 : decode cL_law 133 = .ok (.aload_n 2, 1) := by decide +kernel
theorem dL_law_134 : decode cL_law 134 = .ok (.aload_n 0, 1) := by decide +kernel
theorem dL_law_135 : decode cL_law 135 = .ok (.iload_n 3, 1) := by decide +kernel
theorem dL_law_136 : decode cL_law 136 = .ok (.iconst 1, 1) := by decide +kernel
theorem dL_law_137 : decode cL_law 137 = .ok (.iadd, 1) := by decide +kernel
theorem dL_law_138 : decode cL_law 138 = .ok (.iaload, 1) := by decide +kernel
theorem dL_law_139 : decode cL_law 139 = .ok (.invokevirtual 25, 3) := by decide +kernel
theorem dL_law_142 : decode cL_law 142 = .ok (.if_icmp .eq 303, 3) := by decide +kernel
theorem dL_law_145 : decode cL_law 145 = .ok (.iconst 0, 1) := by decide +kernel
theorem dL_law_146 : decode cL_law 146 = .ok (.ireturn, 1) := by decide +kernel
theorem dL_law_147 : decode cL_law 147 = .ok (.aload_n 1, 1) := by decide +kernel
theorem dL_law_148 : decode cL_law 148 = .ok (.invokevirtual 26, 3) := by decide +kernel
theorem dL_law_151 : decode cL_law 151 = .ok (.aload_n 2, 1) := by decide +kernel
theorem dL_law_152 : decode cL_law 152 = .ok (.invokevirtual 30, 3) := by decide +kernel
theorem dL_law_155 : decode cL_law 155 = .ok (.if_icmp .eq 290, 3) := by decide +kernel
theorem dL_law_158 : decode cL_law 158 = .ok (.iconst 0, 1) := by decide +kernel
theorem dL_law_159 : decode cL_law 159 = .ok (.ireturn, 1) := by decide +kernel
theorem dL_law_160 : decode cL_law 160 = .ok (.aload_n 1, 1) := by decide +kernel
theorem dL_law_161 : decode cL_law 161 = .ok (.aload_n 0, 1) := by decide +kernel
theorem dL_law_162 : decode cL_law 162 = .ok (.iload_n 3, 1) := by decide +kernel
theorem dL_law_163 : decode cL_law 163 = .ok (.iconst 1, 1) := by decide +kernel
theorem dL_law_164 : decode cL_law 164 = .ok (.iadd, 1) := by decide +kernel
theorem dL_law_165 : decode cL_law 165 = .ok (.iaload, 1) := by decide +kernel
theorem dL_law_166 : decode cL_law 166 = .ok (.aload_n 0, 1) := by decide +kernel
theorem dL_law_167 : decode cL_law 167 = .ok (.iload_n 3, 1) := by decide +kernel
theorem dL_law_168 : decode cL_law 168 = .ok (.iconst 2, 1) := by decide +kernel
theorem dL_law_169 : decode cL_law 169 = .ok (.iadd, 1) := by decide +kernel
theorem dL_law_170 : decode cL_law 170 = .ok (.iaload, 1) := by decide +kernel
theorem dL_law_171 : decode cL_law 171 = .ok (.invokevirtual 31, 3) := by decide +kernel
theorem dL_law_174 : decode cL_law 174 = .ok (.aload_n 2, 1) := by decide +kernel
theorem dL_law_175 : decode cL_law 175 = .ok (.aload_n 0, 1) := by decide +kernel
theorem dL_law_176 : decode cL_law 176 = .ok (.iload_n 3, 1) := by decide +kernel
theorem dL_law_177 : decode cL_law 177 = .ok (.iconst 1, 1) := by decide +kernel
theorem dL_law_178 : decode cL_law 178 = .ok (.iadd, 1) := by decide +kernel
theorem dL_law_179 : decode cL_law 179 = .ok (.iaload, 1) := by decide +kernel
theorem dL_law_180 : decode cL_law 180 = .ok (.aload_n 0, 1) := by decide +kernel
theorem dL_law_181 : decode cL_law 181 = .ok (.iload_n 3, 1) := by decide +kernel
theorem dL_law_182 : decode cL_law 182 = .ok (.iconst 2, 1) := by decide +kernel
theorem dL_law_183 : decode cL_law 183 = .ok (.iadd, 1) := by decide +kernel
theorem dL_law_184 : decode cL_law 184 = .ok (.iaload, 1) := by decide +kernel
theorem dL_law_185 : decode cL_law 185 = .ok (.invokevirtual 35, 3) := by decide +kernel
theorem dL_law_188 : decode cL_law 188 = .ok (.if_icmp .eq 257, 3) := by decide +kernel
theorem dL_law_191 : decode cL_law 191 = .ok (.iconst 0, 1) := by decide +kernel
theorem dL_law_192 : decode cL_law 192 = .ok (.ireturn, 1) := by decide +kernel
theorem dL_law_193 : decode cL_law 193 = .ok (.aload_n 1, 1) := by decide +kernel
theorem dL_law_194 : decode cL_law 194 = .ok (.aload_n 0, 1) := by decide +kernel
theorem dL_law_195 : decode cL_law 195 = .ok (.iload_n 3, 1) := by decide +kernel
theorem dL_law_196 : decode cL_law 196 = .ok (.iconst 1, 1) := by decide +kernel
theorem dL_law_197 : decode cL_law 197 = .ok (.iadd, 1) := by decide +kernel
theorem dL_law_198 : decode cL_law 198 = .ok (.iaload, 1) := by decide +kernel
theorem dL_law_199 : decode cL_law 199 = .ok (.invokevirtual 36, 3) := by decide +kernel
theorem dL_law_202 : decode cL_law 202 = .ok (.aload_n 2, 1) := by decide +kernel
theorem dL_law_203 : decode cL_law 203 = .ok (.aload_n 0, 1) := by decide +kernel
theorem dL_law_204 : decode cL_law 204 = .ok (.iload_n 3, 1) := by decide +kernel
theorem dL_law_205 : decode cL_law 205 = .ok (.iconst 1, 1) := by decide +kernel
theorem dL_law_206 : decode cL_law 206 = .ok (.iadd, 1) := by decide +kernel
theorem dL_law_207 : decode cL_law 207 = .ok (.iaload, 1) := by decide +kernel
theorem dL_law_208 : decode cL_law 208 = .ok (.invokevirtual 39, 3) := by decide +kernel
theorem dL_law_211 : decode cL_law 211 = .ok (.if_icmp .eq 234, 3) := by decide +kernel
theorem dL_law_214 : decode cL_law 214 = .ok (.iconst 0, 1) := by decide +kernel
theorem dL_law_215 : decode cL_law 215 = .ok (.ireturn, 1) := by decide +kernel
theorem dL_law_216 : decode cL_law 216 = .ok (.aload_n 1, 1) := by decide +kernel
theorem dL_law_217 : decode cL_law 217 = .ok (.invokevirtual 40, 3) := by decide +kernel
theorem dL_law_220 : decode cL_law 220 = .ok (.aload_n 2, 1) := by decide +kernel
theorem dL_law_221 : decode cL_law 221 = .ok (.invokevirtual 43, 3) := by decide +kernel
theorem dL_law_224 : decode cL_law 224 = .ok (.if_icmp .eq 221, 3) := by decide +kernel
theorem dL_law_227 : decode cL_law 227 = .ok (.iconst 0, 1) := by decide +kernel
theorem dL_law_228 : decode cL_law 228 = .ok (.ireturn, 1) := by decide +kernel
theorem dL_law_229 : decode cL_law 229 = .ok (.aload_n 1, 1) := by decide +kernel
theorem dL_law_230 : decode cL_law 230 = .ok (.invokevirtual 44, 3) := by decide +kernel
theorem dL_law_233 : decode cL_law 233 = .ok (.aload_n 2, 1) := by decide +kernel
theorem dL_law_234 : decode cL_law 234 = .ok (.invokevirtual 47, 3) := by decide +kernel
theorem dL_law_237 : decode cL_law 237 = .ok (.if_icmp .eq 208, 3) := by decide +kernel
theorem dL_law_240 : decode cL_law 240 = .ok (.iconst 0, 1) := by decide +kernel
theorem dL_law_241 : decode cL_law 241 = .ok (.ireturn, 1) := by decide +kernel
theorem dL_law_242 : decode cL_law 242 = .ok (.aload_n 1, 1) := by decide +kernel
theorem dL_law_243 : decode cL_law 243 = .ok (.invokevirtual 48, 3) := by decide +kernel
theorem dL_law_246 : decode cL_law 246 = .ok (.aload_n 2, 1) := by decide +kernel
theorem dL_law_247 : decode cL_law 247 = .ok (.invokevirtual 51, 3) := by decide +kernel
theorem dL_law_250 : decode cL_law 250 = .ok (.if_icmp .eq 195, 3) := by decide +kernel
theorem dL_law_253 : decode cL_law 253 = .ok (.iconst 0, 1) := by decide +kernel
theorem dL_law_254 : decode cL_law 254 = .ok (.ireturn, 1) := by decide +kernel
theorem dL_law_255 : decode cL_law 255 = .ok (.aload_n 1, 1) := by decide +kernel
theorem dL_law_256 : decode cL_law 256 = .ok (.aload_n 0, 1) := by decide +kernel
theorem dL_law_257 : decode cL_law 257 = .ok (.iload_n 3, 1) := by decide +kernel
theorem dL_law_258 : decode cL_law 258 = .ok (.iconst 1, 1) := by decide +kernel
theorem dL_law_259 : decode cL_law 259 = .ok (.iadd, 1) := by decide +kernel
theorem dL_law_260 : decode cL_law 260 = .ok (.iaload, 1) := by decide +kernel
theorem dL_law_261 : decode cL_law 261 = .ok (.invokevirtual 52, 3) := by decide +kernel
theorem dL_law_264 : decode cL_law 264 = .ok (.aload_n 2, 1) := by decide +kernel
theorem dL_law_265 : decode cL_law 265 = .ok (.aload_n 0, 1) := by decide +kernel
theorem dL_law_266 : decode cL_law 266 = .ok (.iload_n 3, 1) := by decide +kernel
theorem dL_law_267 : decode cL_law 267 = .ok (.iconst 1, 1) := by decide +kernel
theorem dL_law_268 : decode cL_law 268 = .ok (.iadd, 1) := by decide +kernel
theorem dL_law_269 : decode cL_law 269 = .ok (.iaload, 1) := by decide +kernel
theorem dL_law_270 : decode cL_law 270 = .ok (.invokevirtual 55, 3) := by decide +kernel
theorem dL_law_273 : decode cL_law 273 = .ok (.if_icmp .eq 172, 3) := by decide +kernel
theorem dL_law_276 : decode cL_law 276 = .ok (.iconst 0, 1) := by decide +kernel
theorem dL_law_277 : decode cL_law 277 = .ok (.ireturn, 1) := by decide +kernel
theorem dL_law_278 : decode cL_law 278 = .ok (.aload_n 1, 1) := by decide +kernel
theorem dL_law_279 : decode cL_law 279 = .ok (.aload_n 0, 1) := by decide +kernel
theorem dL_law_280 : decode cL_law 280 = .ok (.iload_n 3, 1) := by decide +kernel
theorem dL_law_281 : decode cL_law 281 = .ok (.iconst 1, 1) := by decide +kernel
theorem dL_law_282 : decode cL_law 282 = .ok (.iadd, 1) := by decide +kernel
theorem dL_law_283 : decode cL_law 283 = .ok (.iaload, 1) := by decide +kernel
theorem dL_law_284 : decode cL_law 284 = .ok (.aload_n 0, 1) := by decide +kernel
theorem dL_law_285 : decode cL_law 285 = .ok (.iload_n 3, 1) := by decide +kernel
theorem dL_law_286 : decode cL_law 286 = .ok (.iconst 2, 1) := by decide +kernel
theorem dL_law_287 : decode cL_law 287 = .ok (.iadd, 1) := by decide +kernel
theorem dL_law_288 : decode cL_law 288 = .ok (.iaload, 1) := by decide +kernel
theorem dL_law_289 : decode cL_law 289 = .ok (.invokevirtual 56, 3) := by decide +kernel
theorem dL_law_292 : decode cL_law 292 = .ok (.aload_n 2, 1) := by decide +kernel
theorem dL_law_293 : decode cL_law 293 = .ok (.aload_n 0, 1) := by decide +kernel
theorem dL_law_294 : decode cL_law 294 = .ok (.iload_n 3, 1) := by decide +kernel
theorem dL_law_295 : decode cL_law 295 = .ok (.iconst 1, 1) := by decide +kernel
theorem dL_law_296 : decode cL_law 296 = .ok (.iadd, 1) := by decide +kernel
theorem dL_law_297 : decode cL_law 297 = .ok (.iaload, 1) := by decide +kernel
theorem dL_law_298 : decode cL_law 298 = .ok (.aload_n 0, 1) := by decide +kernel
theorem dL_law_299 : decode cL_law 299 = .ok (.iload_n 3, 1) := by decide +kernel
theorem dL_law_300 : decode cL_law 300 = .ok (.iconst 2, 1) := by decide +kernel
theorem dL_law_301 : decode cL_law 301 = .ok (.iadd, 1) := by decide +kernel
theorem dL_law_302 : decode cL_law 302 = .ok (.iaload, 1) := by decide +kernel
theorem dL_law_303 : decode cL_law 303 = .ok (.invokevirtual 59, 3) := by decide +kernel
theorem dL_law_306 : decode cL_law 306 = .ok (.if_icmp .eq 139, 3) := by decide +kernel
theorem dL_law_309 : decode cL_law 309 = .ok (.iconst 0, 1) := by decide +kernel
theorem dL_law_310 : decode cL_law 310 = .ok (.ireturn, 1) := by decide +kernel
theorem dL_law_311 : decode cL_law 311 = .ok (.aload_n 1, 1) := by decide +kernel
theorem dL_law_312 : decode cL_law 312 = .ok (.invokevirtual 60, 3) := by decide +kernel
theorem dL_law_315 : decode cL_law 315 = .ok (.aload_n 2, 1) := by decide +kernel
theorem dL_law_316 : decode cL_law 316 = .ok (.invokevirtual 63, 3) := by decide +kernel
theorem dL_law_319 : decode cL_law 319 = .ok (.if_icmp .eq 126, 3) := by decide +kernel
theorem dL_law_322 : decode cL_law 322 = .ok (.iconst 0, 1) := by decide +kernel
theorem dL_law_323 : decode cL_law 323 = .ok (.ireturn, 1) := by decide +kernel
theorem dL_law_324 : decode cL_law 324 = .ok (.aload_n 1, 1) := by decide +kernel
theorem dL_law_325 : decode cL_law 325 = .ok (.invokevirtual 64, 3) := by decide +kernel
theorem dL_law_328 : decode cL_law 328 = .ok (.aload_n 2, 1) := by decide +kernel
theorem dL_law_329 : decode cL_law 329 = .ok (.invokevirtual 67, 3) := by decide +kernel
theorem dL_law_332 : decode cL_law 332 = .ok (.if_icmp .eq 113, 3) := by decide +kernel
theorem dL_law_335 : decode cL_law 335 = .ok (.iconst 0, 1) := by decide +kernel
theorem dL_law_336 : decode cL_law 336 = .ok (.ireturn, 1) := by decide +kernel
theorem dL_law_337 : decode cL_law 337 = .ok (.aload_n 1, 1) := by decide +kernel
theorem dL_law_338 : decode cL_law 338 = .ok (.invokevirtual 68, 3) := by decide +kernel
theorem dL_law_341 : decode cL_law 341 = .ok (.aload_n 2, 1) := by decide +kernel
theorem dL_law_342 : decode cL_law 342 = .ok (.invokevirtual 71, 3) := by decide +kernel
theorem dL_law_345 : decode cL_law 345 = .ok (.if_icmp .eq 100, 3) := by decide +kernel
theorem dL_law_348 : decode cL_law 348 = .ok (.iconst 0, 1) := by decide +kernel
theorem dL_law_349 : decode cL_law 349 = .ok (.ireturn, 1) := by decide +kernel
theorem dL_law_350 : decode cL_law 350 = .ok (.aload_n 1, 1) := by decide +kernel
theorem dL_law_351 : decode cL_law 351 = .ok (.aload_n 0, 1) := by decide +kernel
theorem dL_law_352 : decode cL_law 352 = .ok (.iload_n 3, 1) := by decide +kernel
theorem dL_law_353 : decode cL_law 353 = .ok (.iconst 1, 1) := by decide +kernel
theorem dL_law_354 : decode cL_law 354 = .ok (.iadd, 1) := by decide +kernel
theorem dL_law_355 : decode cL_law 355 = .ok (.iaload, 1) := by decide +kernel
theorem dL_law_356 : decode cL_law 356 = .ok (.invokevirtual 72, 3) := by decide +kernel
theorem dL_law_359 : decode cL_law 359 = .ok (.aload_n 2, 1) := by decide +kernel
theorem dL_law_360 : decode cL_law 360 = .ok (.aload_n 0, 1) := by decide +kernel
theorem dL_law_361 : decode cL_law 361 = .ok (.iload_n 3, 1) := by decide +kernel
theorem dL_law_362 : decode cL_law 362 = .ok (.iconst 1, 1) := by decide +kernel
theorem dL_law_363 : decode cL_law 363 = .ok (.iadd, 1) := by decide +kernel
theorem dL_law_364 : decode cL_law 364 = .ok (.iaload, 1) := by decide +kernel
theorem dL_law_365 : decode cL_law 365 = .ok (.invokevirtual 75, 3) := by decide +kernel
theorem dL_law_368 : decode cL_law 368 = .ok (.if_icmp .eq 77, 3) := by decide +kernel
theorem dL_law_371 : decode cL_law 371 = .ok (.iconst 0, 1) := by decide +kernel
theorem dL_law_372 : decode cL_law 372 = .ok (.ireturn, 1) := by decide +kernel
theorem dL_law_373 : decode cL_law 373 = .ok (.aload_n 1, 1) := by decide +kernel
theorem dL_law_374 : decode cL_law 374 = .ok (.aload_n 0, 1) := by decide +kernel
theorem dL_law_375 : decode cL_law 375 = .ok (.iload_n 3, 1) := by decide +kernel
theorem dL_law_376 : decode cL_law 376 = .ok (.iconst 1, 1) := by decide +kernel
theorem dL_law_377 : decode cL_law 377 = .ok (.iadd, 1) := by decide +kernel
theorem dL_law_378 : decode cL_law 378 = .ok (.iaload, 1) := by decide +kernel
theorem dL_law_379 : decode cL_law 379 = .ok (.invokevirtual 76, 3) := by decide +kernel
theorem dL_law_382 : decode cL_law 382 = .ok (.aload_n 2, 1) := by decide +kernel
theorem dL_law_383 : decode cL_law 383 = .ok (.aload_n 0, 1) := by decide +kernel
theorem dL_law_384 : decode cL_law 384 = .ok (.iload_n 3, 1) := by decide +kernel
theorem dL_law_385 : decode cL_law 385 = .ok (.iconst 1, 1) := by decide +kernel
theorem dL_law_386 : decode cL_law 386 = .ok (.iadd, 1) := by decide +kernel
theorem dL_law_387 : decode cL_law 387 = .ok (.iaload, 1) := by decide +kernel
theorem dL_law_388 : decode cL_law 388 = .ok (.invokevirtual 79, 3) := by decide +kernel
theorem dL_law_391 : decode cL_law 391 = .ok (.if_icmp .eq 54, 3) := by decide +kernel
theorem dL_law_394 : decode cL_law 394 = .ok (.iconst 0, 1) := by decide +kernel
theorem dL_law_395 : decode cL_law 395 = .ok (.ireturn, 1) := by decide +kernel
theorem dL_law_396 : decode cL_law 396 = .ok (.aload_n 1, 1) := by decide +kernel
theorem dL_law_397 : decode cL_law 397 = .ok (.invokevirtual 80, 3) := by decide +kernel
theorem dL_law_400 : decode cL_law 400 = .ok (.aload_n 2, 1) := by decide +kernel
theorem dL_law_401 : decode cL_law 401 = .ok (.invokevirtual 83, 3) := by decide +kernel
theorem dL_law_404 : decode cL_law 404 = .ok (.if_icmp .eq 41, 3) := by decide +kernel
theorem dL_law_407 : decode cL_law 407 = .ok (.iconst 0, 1) := by decide +kernel
theorem dL_law_408 : decode cL_law 408 = .ok (.ireturn, 1) := by decide +kernel
theorem dL_law_409 : decode cL_law 409 = .ok (.aload_n 1, 1) := by decide +kernel
theorem dL_law_410 : decode cL_law 410 = .ok (.aload_n 0, 1) := by decide +kernel
theorem dL_law_411 : decode cL_law 411 = .ok (.iload_n 3, 1) := by decide +kernel
theorem dL_law_412 : decode cL_law 412 = .ok (.iconst 1, 1) := by decide +kernel
theorem dL_law_413 : decode cL_law 413 = .ok (.iadd, 1) := by decide +kernel
theorem dL_law_414 : decode cL_law 414 = .ok (.iaload, 1) := by decide +kernel
theorem dL_law_415 : decode cL_law 415 = .ok (.invokevirtual 84, 3) := by decide +kernel
theorem dL_law_418 : decode cL_law 418 = .ok (.aload_n 2, 1) := by decide +kernel
theorem dL_law_419 : decode cL_law 419 = .ok (.aload_n 0, 1) := by decide +kernel
theorem dL_law_420 : decode cL_law 420 = .ok (.iload_n 3, 1) := by decide +kernel
theorem dL_law_421 : decode cL_law 421 = .ok (.iconst 1, 1) := by decide +kernel
theorem dL_law_422 : decode cL_law 422 = .ok (.iadd, 1) := by decide +kernel
theorem dL_law_423 : decode cL_law 423 = .ok (.iaload, 1) := by decide +kernel
theorem dL_law_424 : decode cL_law 424 = .ok (.invokevirtual 87, 3) := by decide +kernel
theorem dL_law_427 : decode cL_law 427 = .ok (.if_icmp .eq 18, 3) := by decide +kernel
theorem dL_law_430 : decode cL_law 430 = .ok (.iconst 0, 1) := by decide +kernel
theorem dL_law_431 : decode cL_law 431 = .ok (.ireturn, 1) := by decide +kernel
theorem dL_law_432 : decode cL_law 432 = .ok (.aload_n 1, 1) := by decide +kernel
theorem dL_law_433 : decode cL_law 433 = .ok (.invokevirtual 88, 3) := by decide +kernel
theorem dL_law_436 : decode cL_law 436 = .ok (.aload_n 2, 1) := by decide +kernel
theorem dL_law_437 : decode cL_law 437 = .ok (.invokevirtual 91, 3) := by decide +kernel
theorem dL_law_440 : decode cL_law 440 = .ok (.if_icmp .eq 5, 3) := by decide +kernel
theorem dL_law_443 : decode cL_law 443 = .ok (.iconst 0, 1) := by decide +kernel
theorem dL_law_444 : decode cL_law 444 = .ok (.ireturn, 1) := by decide +kernel
theorem dL_law_445 : decode cL_law 445 = .ok (.iinc 3 3, 3) := by decide +kernel
theorem dL_law_448 : decode cL_law 448 = .ok (.goto (-420), 3) := by decide +kernel
theorem dL_law_451 : decode cL_law 451 = .ok (.iconst 1, 1) := by decide +kernel
theorem dL_law_452 : decode cL_law 452 = .ok (.ireturn, 1) := by decide +kernel
end
section
set_option maxRecDepth 100000
/-! the judgement of a walk with the heap, the array of locals and the written places hidden: jx_J; numbers are naturals under nI -/
def clA : List vw_C := [(RX1, TX1, 13), (RX2, TX2, 9)]
abbrev tyA (cb ci : ClassId) : List (ClassId × FieldType) := [(cb, .byte), (ci, .int)]
abbrev JX := Program × Launch × Env × Room × State × MethodId × Array Value × List Frame × Method × Code × va_G × (Nat → Prop) × Nat × (State → Prop)
def jx_J (x : JX) (c0 c1 : Nat) (w : va_W) (pc : Nat) (lv : List (Nat × Value)) (st : List Value) : Prop := match x with
  | (p, l, e, R, s, m, args, below, meth, c, D, A, nL, Q) => ∀ (H : Heap) (locs : List Loc) (ls : Array Slot), va_P D clA w H → va_D A w → va_S A s.heap H locs → lv_has ls nL lv → W p l e R s m args below meth c H locs c0 c1 Q (F0 m pc ls st)
def jx_G (x : JX) (cb ci : ClassId) (cc : ByteArray) (nL : Nat) (own : String) (rm : Room) (ret : Option FieldType) : Prop := match x with
  | (p, l, e, R, s, m, args, below, meth, c, D, A, n0, Q) => p.tables.exec = Jvm.exec ∧ c.code = cc ∧ c.maxLocals = nL ∧ n0 = nL ∧ R = rm ∧ s.vm.findClass own = some m.cls ∧ (∀ w ∈ lw_all, w.before args s = true) ∧ va_K D clA (tyA cb ci) s ∧ (∀ q : Nat, s.heap.size ≤ q → A q) ∧ meth.locks = false ∧ meth.sig.returnType = ret
/-- a place of an array of numbers -/
def upN (f : Nat → Nat) (i v : Nat) : Nat → Nat := fun j => if j = i then v else f j
theorem upN_eq {f : Nat → Nat} {i v : Nat} : upN f i v i = v := by simp [upN]
theorem upN_ne {f : Nat → Nat} {i v j : Nat} (h : j ≠ i) : upN f i v j = f j := by simp [upN, h]
def jx_ins (i : Nat) (v : Value) : List (Nat × Value) → List (Nat × Value)
  | [] => [(i, v)]
  | q :: t => if i < q.1 then (i, v) :: q :: t else q :: jx_ins i v t
def jx_set (lv : List (Nat × Value)) (i : Nat) (v : Value) : List (Nat × Value) := jx_ins i v (lv.filter (fun q => !(q.1 == i) && !(q.1 + 1 == i && q.2.category == 2)))
theorem jx_ins_mem {i : Nat} {v : Value} {q : Nat × Value} : ∀ {l : List (Nat × Value)}, q ∈ jx_ins i v l → q ∈ (i, v) :: l
  | [], h => h
  | a :: t, h => by
    unfold jx_ins at h
    split at h
    · exact h
    · rcases List.mem_cons.mp h with e | e
      · rw [e]; exact List.mem_cons_of_mem _ List.mem_cons_self
      · rcases List.mem_cons.mp (jx_ins_mem e) with e2 | e2
        · rw [e2]; exact List.mem_cons_self
        · exact List.mem_cons_of_mem _ (List.mem_cons_of_mem _ e2)
theorem jx_has {ls : Array Slot} {nL i : Nat} {v : Value} {lv : List (Nat × Value)} (h : lv_has ls nL ((i, v) :: lv.filter (fun q => !(q.1 == i) && !(q.1 + 1 == i && q.2.category == 2)))) : lv_has ls nL (jx_set lv i v) := ⟨h.1, h.2.1, fun q hq => h.2.2 q (jx_ins_mem hq)⟩
section JR
variable {x : JX} {cb ci : ClassId} {cc : ByteArray} {nL c0 c1 : Nat} {own : String} {rm : Room} {ret : Option FieldType} {w : va_W} {pc : Nat} {lv : List (Nat × Value)} {st : List Value}
theorem jx_iconst (G : jx_G x cb ci cc nL own rm ret) {n : Int} {v : Int32} (hd : decode cc pc = .ok (.iconst n, 1)) (hv : Int32.ofInt n = v) (h : jx_J x c0 c1 w (pc + 1) lv (.int v :: st)) : jx_J x c0 c1 w pc lv st := by
  obtain ⟨p, l, e, R, s, m, args, below, meth, c, D, A, n0, Q⟩ := x
  obtain ⟨hx, hb, -⟩ := G
  exact fun H locs ls hP hD hS hl => lv_iconst hx hb hd hv (h H locs ls hP hD hS hl)
theorem jx_bipush (G : jx_G x cb ci cc nL own rm ret) {n : Int} {v : Int32} (hd : decode cc pc = .ok (.bipush n, 2)) (hv : (Int8.ofInt n).toInt32 = v) (h : jx_J x c0 c1 w (pc + 2) lv (.int v :: st)) : jx_J x c0 c1 w pc lv st := by
  obtain ⟨p, l, e, R, s, m, args, below, meth, c, D, A, n0, Q⟩ := x
  obtain ⟨hx, hb, -⟩ := G
  exact fun H locs ls hP hD hS hl => lv_bipush hx hb hd hv (h H locs ls hP hD hS hl)
theorem jx_sipush (G : jx_G x cb ci cc nL own rm ret) {n : Int} {v : Int32} (hd : decode cc pc = .ok (.sipush n, 3)) (hv : (Int16.ofInt n).toInt32 = v) (h : jx_J x c0 c1 w (pc + 3) lv (.int v :: st)) : jx_J x c0 c1 w pc lv st := by
  obtain ⟨p, l, e, R, s, m, args, below, meth, c, D, A, n0, Q⟩ := x
  obtain ⟨hx, hb, -⟩ := G
  exact fun H locs ls hP hD hS hl => lv_sipush hx hb hd hv (h H locs ls hP hD hS hl)
theorem jx_iload_n (G : jx_G x cb ci cc nL own rm ret) {k : Fin 4} {i : Nat} {y : Int32} (hd : decode cc pc = .ok (.iload_n k, 1)) (hi : (k : Nat) = i) (q : Nat) (hq : lv[q]? = some (i, .int y)) (h : jx_J x c0 c1 w (pc + 1) lv (.int y :: st)) : jx_J x c0 c1 w pc lv st := by
  obtain ⟨p, l, e, R, s, m, args, below, meth, c, D, A, n0, Q⟩ := x
  obtain ⟨hx, hb, -⟩ := G
  exact fun H locs ls hP hD hS hl => lv_iload_n hx hb hd hi (lv_at hl q hq) (h H locs ls hP hD hS hl)
theorem jx_iload (G : jx_G x cb ci cc nL own rm ret) {i : Nat} {y : Int32} (hd : decode cc pc = .ok (.iload i, 2)) (q : Nat) (hq : lv[q]? = some (i, .int y)) (h : jx_J x c0 c1 w (pc + 2) lv (.int y :: st)) : jx_J x c0 c1 w pc lv st := by
  obtain ⟨p, l, e, R, s, m, args, below, meth, c, D, A, n0, Q⟩ := x
  obtain ⟨hx, hb, -⟩ := G
  exact fun H locs ls hP hD hS hl => lv_iload hx hb hd (lv_at hl q hq) (h H locs ls hP hD hS hl)
theorem jx_aload_n (G : jx_G x cb ci cc nL own rm ret) {k : Fin 4} {i y : Nat} (hd : decode cc pc = .ok (.aload_n k, 1)) (hi : (k : Nat) = i) (q : Nat) (hq : lv[q]? = some (i, .ref y)) (h : jx_J x c0 c1 w (pc + 1) lv (.ref y :: st)) : jx_J x c0 c1 w pc lv st := by
  obtain ⟨p, l, e, R, s, m, args, below, meth, c, D, A, n0, Q⟩ := x
  obtain ⟨hx, hb, -⟩ := G
  exact fun H locs ls hP hD hS hl => lv_aload_n hx hb hd hi (lv_at hl q hq) (h H locs ls hP hD hS hl)
theorem jx_istore_n (G : jx_G x cb ci cc nL own rm ret) {k : Fin 4} {i a : Nat} (hd : decode cc pc = .ok (.istore_n k, 1)) (hi : (k : Nat) = i) (hn : i < nL) (lv' : Nat → List (Nat × Value)) (hl : ∀ v, jx_set lv i (.int (nI v)) = lv' v) (h : ∀ v, v = a → jx_J x c0 c1 w (pc + 1) (lv' v) st) : jx_J x c0 c1 w pc lv (.int (nI a) :: st) := by
  obtain ⟨p, l, e, R, s, m, args, below, meth, c, D, A, n0, Q⟩ := x
  obtain ⟨hx, hb, -, rfl, -⟩ := G
  exact fun H locs ls hP hD hS hl' => lv_istore_n hx hb hd hi hl' hn rfl (fun ls' h' => h a rfl H locs ls' hP hD hS (hl a ▸ jx_has h'))
theorem jx_istore (G : jx_G x cb ci cc nL own rm ret) {i a : Nat} (hd : decode cc pc = .ok (.istore i, 2)) (hn : i < nL) (lv' : Nat → List (Nat × Value)) (hl : ∀ v, jx_set lv i (.int (nI v)) = lv' v) (h : ∀ v, v = a → jx_J x c0 c1 w (pc + 2) (lv' v) st) : jx_J x c0 c1 w pc lv (.int (nI a) :: st) := by
  obtain ⟨p, l, e, R, s, m, args, below, meth, c, D, A, n0, Q⟩ := x
  obtain ⟨hx, hb, -, rfl, -⟩ := G
  exact fun H locs ls hP hD hS hl' => lv_istore hx hb hd hl' hn rfl (fun ls' h' => h a rfl H locs ls' hP hD hS (hl a ▸ jx_has h'))
/-- any int, by its own name -/
theorem jx_istore_nR (G : jx_G x cb ci cc nL own rm ret) {k : Fin 4} {i : Nat} {y : Int32} (hd : decode cc pc = .ok (.istore_n k, 1)) (hi : (k : Nat) = i) (hn : i < nL) (lv' : List (Nat × Value)) (hl : jx_set lv i (.int y) = lv') (h : jx_J x c0 c1 w (pc + 1) lv' st) : jx_J x c0 c1 w pc lv (.int y :: st) := by
  obtain ⟨p, l, e, R, s, m, args, below, meth, c, D, A, n0, Q⟩ := x
  obtain ⟨hx, hb, -, rfl, -⟩ := G
  exact fun H locs ls hP hD hS hl' => lv_istore_n hx hb hd hi hl' hn rfl (fun ls' h' => h H locs ls' hP hD hS (hl ▸ jx_has h'))
theorem jx_astore_n (G : jx_G x cb ci cc nL own rm ret) {k : Fin 4} {i y : Nat} (hd : decode cc pc = .ok (.astore_n k, 1)) (hi : (k : Nat) = i) (hn : i < nL) (lv' : List (Nat × Value)) (hl : jx_set lv i (.ref y) = lv') (h : jx_J x c0 c1 w (pc + 1) lv' st) : jx_J x c0 c1 w pc lv (.ref y :: st) := by
  obtain ⟨p, l, e, R, s, m, args, below, meth, c, D, A, n0, Q⟩ := x
  obtain ⟨hx, hb, -, rfl, -⟩ := G
  exact fun H locs ls hP hD hS hl' => lv_astore_n hx hb hd hi hl' hn rfl (fun ls' h' => h H locs ls' hP hD hS (hl ▸ jx_has h'))
theorem jx_iinc (G : jx_G x cb ci cc nL own rm ret) {i a d : Nat} {n : Int} (hd : decode cc pc = .ok (.iinc i n, 3)) (hv : Int32.ofInt n = nI d) (hn : i < nL) (q : Nat) (hq : lv[q]? = some (i, .int (nI a))) (lv' : Nat → List (Nat × Value)) (hl : ∀ v, jx_set lv i (.int (nI v)) = lv' v) (h : ∀ v, v = a + d → jx_J x c0 c1 w (pc + 3) (lv' v) st) : jx_J x c0 c1 w pc lv st := by
  obtain ⟨p, l, e, R, s, m, args, below, meth, c, D, A, n0, Q⟩ := x
  obtain ⟨hx, hb, -, rfl, -⟩ := G
  exact fun H locs ls hP hD hS hl' => lv_iinc (v := nI (a + d)) hx hb hd hl' hq (by rw [hv, nI_add]) hn rfl (fun ls' h' => h (a + d) rfl H locs ls' hP hD hS (hl (a + d) ▸ jx_has h'))
theorem jx_iincm (G : jx_G x cb ci cc nL own rm ret) {i a : Nat} {n : Int} (hd : decode cc pc = .ok (.iinc i n, 3)) (hv : Int32.ofInt n = -1) (ha : 0 < a) (hn : i < nL) (q : Nat) (hq : lv[q]? = some (i, .int (nI a))) (lv' : Nat → List (Nat × Value)) (hl : ∀ v, jx_set lv i (.int (nI v)) = lv' v) (h : ∀ v, v = a - 1 → jx_J x c0 c1 w (pc + 3) (lv' v) st) : jx_J x c0 c1 w pc lv st := by
  obtain ⟨p, l, e, R, s, m, args, below, meth, c, D, A, n0, Q⟩ := x
  obtain ⟨hx, hb, -, rfl, -⟩ := G
  exact fun H locs ls hP hD hS hl' => lv_iinc (v := nI (a - 1)) hx hb hd hl' hq (by rw [hv, sb_m1 ha]) hn rfl (fun ls' h' => h (a - 1) rfl H locs ls' hP hD hS (hl (a - 1) ▸ jx_has h'))
theorem jx_top {y z : Int32} (e : y = z) (h : jx_J x c0 c1 w pc lv (.int z :: st)) : jx_J x c0 c1 w pc lv (.int y :: st) := e ▸ h
theorem jx_iadd (G : jx_G x cb ci cc nL own rm ret) {a b : Nat} (hd : decode cc pc = .ok (.iadd, 1)) (h : jx_J x c0 c1 w (pc + 1) lv (.int (nI (a + b)) :: st)) : jx_J x c0 c1 w pc lv (.int (nI b) :: .int (nI a) :: st) := by
  obtain ⟨p, l, e, R, s, m, args, below, meth, c, D, A, n0, Q⟩ := x
  obtain ⟨hx, hb, -⟩ := G
  rw [← nI_add] at h
  exact fun H locs ls hP hD hS hl => lv_iadd hx hb hd (h H locs ls hP hD hS hl)
theorem jx_isub (G : jx_G x cb ci cc nL own rm ret) {a b : Nat} (hd : decode cc pc = .ok (.isub, 1)) (hab : b ≤ a) (h : jx_J x c0 c1 w (pc + 1) lv (.int (nI (a - b)) :: st)) : jx_J x c0 c1 w pc lv (.int (nI b) :: .int (nI a) :: st) := by
  obtain ⟨p, l, e, R, s, m, args, below, meth, c, D, A, n0, Q⟩ := x
  obtain ⟨hx, hb, -⟩ := G
  rw [← pk_sub hab] at h
  exact fun H locs ls hP hD hS hl => lv_isub hx hb hd (h H locs ls hP hD hS hl)
theorem jx_imul (G : jx_G x cb ci cc nL own rm ret) {a b : Nat} (hd : decode cc pc = .ok (.imul, 1)) (h : jx_J x c0 c1 w (pc + 1) lv (.int (nI (a * b)) :: st)) : jx_J x c0 c1 w pc lv (.int (nI b) :: .int (nI a) :: st) := by
  obtain ⟨p, l, e, R, s, m, args, below, meth, c, D, A, n0, Q⟩ := x
  obtain ⟨hx, hb, -⟩ := G
  rw [← pk_mul] at h
  exact fun H locs ls hP hD hS hl => lv_imul hx hb hd (h H locs ls hP hD hS hl)
theorem jx_idiv (G : jx_G x cb ci cc nL own rm ret) {a b : Nat} (hd : decode cc pc = .ok (.idiv, 1)) (ha : a < 2 ^ 31) (h0 : 0 < b) (hb2 : b < 2 ^ 31) (h : jx_J x c0 c1 w (pc + 1) lv (.int (nI (a / b)) :: st)) : jx_J x c0 c1 w pc lv (.int (nI b) :: .int (nI a) :: st) := by
  obtain ⟨p, l, e, R, s, m, args, below, meth, c, D, A, n0, Q⟩ := x
  obtain ⟨hx, hb, -⟩ := G
  rw [← pk_div ha h0 hb2] at h
  exact fun H locs ls hP hD hS hl => lv_idiv hx hb hd (nI_ne0 h0 hb2) (h H locs ls hP hD hS hl)
theorem jx_irem (G : jx_G x cb ci cc nL own rm ret) {a b : Nat} (hd : decode cc pc = .ok (.irem, 1)) (ha : a < 2 ^ 31) (h0 : 0 < b) (hb2 : b < 2 ^ 31) (h : jx_J x c0 c1 w (pc + 1) lv (.int (nI (a % b)) :: st)) : jx_J x c0 c1 w pc lv (.int (nI b) :: .int (nI a) :: st) := by
  obtain ⟨p, l, e, R, s, m, args, below, meth, c, D, A, n0, Q⟩ := x
  obtain ⟨hx, hb, -⟩ := G
  rw [← pk_rem ha h0 hb2] at h
  exact fun H locs ls hP hD hS hl => lv_irem hx hb hd (nI_ne0 h0 hb2) (h H locs ls hP hD hS hl)
/-- any value that the machine's word is known to be -/
theorem jx_iandR (G : jx_G x cb ci cc nL own rm ret) {y1 y2 v : Int32} (hd : decode cc pc = .ok (.iand, 1)) (hv : y1 &&& y2 = v) (h : jx_J x c0 c1 w (pc + 1) lv (.int v :: st)) : jx_J x c0 c1 w pc lv (.int y2 :: .int y1 :: st) := by
  obtain ⟨p, l, e, R, s, m, args, below, meth, c, D, A, n0, Q⟩ := x
  obtain ⟨hx, hb, -⟩ := G
  subst hv
  exact fun H locs ls hP hD hS hl => lv_iand hx hb hd (h H locs ls hP hD hS hl)
theorem jx_iorR (G : jx_G x cb ci cc nL own rm ret) {y1 y2 v : Int32} (hd : decode cc pc = .ok (.ior, 1)) (hv : y1 ||| y2 = v) (h : jx_J x c0 c1 w (pc + 1) lv (.int v :: st)) : jx_J x c0 c1 w pc lv (.int y2 :: .int y1 :: st) := by
  obtain ⟨p, l, e, R, s, m, args, below, meth, c, D, A, n0, Q⟩ := x
  obtain ⟨hx, hb, -⟩ := G
  subst hv
  exact fun H locs ls hP hD hS hl => lv_ior hx hb hd (h H locs ls hP hD hS hl)
theorem jx_ishlR (G : jx_G x cb ci cc nL own rm ret) {y1 y2 v : Int32} (hd : decode cc pc = .ok (.ishl, 1)) (hv : y1 <<< (y2 &&& 31) = v) (h : jx_J x c0 c1 w (pc + 1) lv (.int v :: st)) : jx_J x c0 c1 w pc lv (.int y2 :: .int y1 :: st) := by
  obtain ⟨p, l, e, R, s, m, args, below, meth, c, D, A, n0, Q⟩ := x
  obtain ⟨hx, hb, -⟩ := G
  subst hv
  exact fun H locs ls hP hD hS hl => lv_ishl hx hb hd (h H locs ls hP hD hS hl)
theorem jx_ishrR (G : jx_G x cb ci cc nL own rm ret) {y1 y2 v : Int32} (hd : decode cc pc = .ok (.ishr, 1)) (hv : y1 >>> (y2 &&& 31) = v) (h : jx_J x c0 c1 w (pc + 1) lv (.int v :: st)) : jx_J x c0 c1 w pc lv (.int y2 :: .int y1 :: st) := by
  obtain ⟨p, l, e, R, s, m, args, below, meth, c, D, A, n0, Q⟩ := x
  obtain ⟨hx, hb, -⟩ := G
  subst hv
  exact fun H locs ls hP hD hS hl => lv_ishr hx hb hd (h H locs ls hP hD hS hl)
theorem jx_i2bR (G : jx_G x cb ci cc nL own rm ret) {y v : Int32} (hd : decode cc pc = .ok (.i2b, 1)) (hv : y.toInt8.toInt32 = v) (h : jx_J x c0 c1 w (pc + 1) lv (.int v :: st)) : jx_J x c0 c1 w pc lv (.int y :: st) := by
  obtain ⟨p, l, e, R, s, m, args, below, meth, c, D, A, n0, Q⟩ := x
  obtain ⟨hx, hb, -⟩ := G
  exact fun H locs ls hP hD hS hl => lv_i2b hx hb hd hv (h H locs ls hP hD hS hl)
theorem jx_dup (G : jx_G x cb ci cc nL own rm ret) {y : Nat} (hd : decode cc pc = .ok (.dup, 1)) (h : jx_J x c0 c1 w (pc + 1) lv (.ref y :: .ref y :: st)) : jx_J x c0 c1 w pc lv (.ref y :: st) := by
  obtain ⟨p, l, e, R, s, m, args, below, meth, c, D, A, n0, Q⟩ := x
  obtain ⟨hx, hb, -⟩ := G
  exact fun H locs ls hP hD hS hl => lv_dup hx hb hd rfl (h H locs ls hP hD hS hl)
theorem jx_goto (G : jx_G x cb ci cc nL own rm ret) {off : Int} {tgt : Nat} (hd : decode cc pc = .ok (.goto off, 3)) (ht : (pc : Int) + off = (tgt : Int)) (h : jx_J x c0 c1 w tgt lv st) : jx_J x c0 c1 w pc lv st := by
  obtain ⟨p, l, e, R, s, m, args, below, meth, c, D, A, n0, Q⟩ := x
  obtain ⟨hx, hb, -⟩ := G
  exact fun H locs ls hP hD hS hl => lv_goto hx hb hd ht (h H locs ls hP hD hS hl)
end JR
theorem nz_0 {a : Nat} (h : a < 2 ^ 32) : nI a = 0 ↔ a = 0 := by
  constructor
  · intro e
    have e2 : (nI a).toBitVec.toNat = (0 : Int32).toBitVec.toNat := by rw [e]
    rw [pk_tn h] at e2
    exact e2
  · intro e
    rw [e]
    exact nI_0
section JB
variable {x : JX} {cb ci : ClassId} {cc : ByteArray} {nL c0 c1 : Nat} {own : String} {rm : Room} {ret : Option FieldType} {w : va_W} {pc : Nat} {lv : List (Nat × Value)} {st : List Value}
theorem jx_icmp_eq (G : jx_G x cb ci cc nL own rm ret) {a b tgt : Nat} {off : Int} (hd : decode cc pc = .ok (.if_icmp .eq off, 3)) (ht : (pc : Int) + off = (tgt : Int)) (ha : a < 2 ^ 31) (hb2 : b < 2 ^ 31) (kt : a = b → jx_J x c0 c1 w tgt lv st) (kf : a ≠ b → jx_J x c0 c1 w (pc + 3) lv st) : jx_J x c0 c1 w pc lv (.int (nI b) :: .int (nI a) :: st) := by
  obtain ⟨p, l, e, R, s, m, args, below, meth, c, D, A, n0, Q⟩ := x
  obtain ⟨hx, hb, -⟩ := G
  exact fun H locs ls hP hD hS hl => lv_icmp_eq hx hb hd ht (fun h => kt ((nI_eq ha hb2).mp h) H locs ls hP hD hS hl) (fun h => kf (fun q => h (by rw [q])) H locs ls hP hD hS hl)
theorem jx_icmp_ne (G : jx_G x cb ci cc nL own rm ret) {a b tgt : Nat} {off : Int} (hd : decode cc pc = .ok (.if_icmp .ne off, 3)) (ht : (pc : Int) + off = (tgt : Int)) (ha : a < 2 ^ 31) (hb2 : b < 2 ^ 31) (kt : a ≠ b → jx_J x c0 c1 w tgt lv st) (kf : a = b → jx_J x c0 c1 w (pc + 3) lv st) : jx_J x c0 c1 w pc lv (.int (nI b) :: .int (nI a) :: st) := by
  obtain ⟨p, l, e, R, s, m, args, below, meth, c, D, A, n0, Q⟩ := x
  obtain ⟨hx, hb, -⟩ := G
  exact fun H locs ls hP hD hS hl => lv_icmp_ne hx hb hd ht (fun h => kt (fun q => h (by rw [q])) H locs ls hP hD hS hl) (fun h => kf ((nI_eq ha hb2).mp h) H locs ls hP hD hS hl)
theorem jx_icmp_lt (G : jx_G x cb ci cc nL own rm ret) {a b tgt : Nat} {off : Int} (hd : decode cc pc = .ok (.if_icmp .lt off, 3)) (ht : (pc : Int) + off = (tgt : Int)) (ha : a < 2 ^ 31) (hb2 : b < 2 ^ 31) (kt : a < b → jx_J x c0 c1 w tgt lv st) (kf : b ≤ a → jx_J x c0 c1 w (pc + 3) lv st) : jx_J x c0 c1 w pc lv (.int (nI b) :: .int (nI a) :: st) := by
  obtain ⟨p, l, e, R, s, m, args, below, meth, c, D, A, n0, Q⟩ := x
  obtain ⟨hx, hb, -⟩ := G
  exact fun H locs ls hP hD hS hl => lv_icmp_lt hx hb hd ht (fun h => kt ((nI_ltI ha hb2).mp h) H locs ls hP hD hS hl) (fun h => kf (Nat.not_lt.mp (fun q => h ((nI_ltI ha hb2).mpr q))) H locs ls hP hD hS hl)
theorem jx_icmp_ge (G : jx_G x cb ci cc nL own rm ret) {a b tgt : Nat} {off : Int} (hd : decode cc pc = .ok (.if_icmp .ge off, 3)) (ht : (pc : Int) + off = (tgt : Int)) (ha : a < 2 ^ 31) (hb2 : b < 2 ^ 31) (kt : b ≤ a → jx_J x c0 c1 w tgt lv st) (kf : a < b → jx_J x c0 c1 w (pc + 3) lv st) : jx_J x c0 c1 w pc lv (.int (nI b) :: .int (nI a) :: st) := by
  obtain ⟨p, l, e, R, s, m, args, below, meth, c, D, A, n0, Q⟩ := x
  obtain ⟨hx, hb, -⟩ := G
  exact fun H locs ls hP hD hS hl => lv_icmp_ge hx hb hd ht (fun h => kt ((nI_leI hb2 ha).mp h) H locs ls hP hD hS hl) (fun h => kf (Nat.not_le.mp (fun q => h ((nI_leI hb2 ha).mpr q))) H locs ls hP hD hS hl)
theorem jx_icmp_gt (G : jx_G x cb ci cc nL own rm ret) {a b tgt : Nat} {off : Int} (hd : decode cc pc = .ok (.if_icmp .gt off, 3)) (ht : (pc : Int) + off = (tgt : Int)) (ha : a < 2 ^ 31) (hb2 : b < 2 ^ 31) (kt : b < a → jx_J x c0 c1 w tgt lv st) (kf : a ≤ b → jx_J x c0 c1 w (pc + 3) lv st) : jx_J x c0 c1 w pc lv (.int (nI b) :: .int (nI a) :: st) := by
  obtain ⟨p, l, e, R, s, m, args, below, meth, c, D, A, n0, Q⟩ := x
  obtain ⟨hx, hb, -⟩ := G
  exact fun H locs ls hP hD hS hl => lv_icmp_gt hx hb hd ht (fun h => kt ((nI_ltI hb2 ha).mp h) H locs ls hP hD hS hl) (fun h => kf (Nat.not_lt.mp (fun q => h ((nI_ltI hb2 ha).mpr q))) H locs ls hP hD hS hl)
theorem jx_icmp_le (G : jx_G x cb ci cc nL own rm ret) {a b tgt : Nat} {off : Int} (hd : decode cc pc = .ok (.if_icmp .le off, 3)) (ht : (pc : Int) + off = (tgt : Int)) (ha : a < 2 ^ 31) (hb2 : b < 2 ^ 31) (kt : a ≤ b → jx_J x c0 c1 w tgt lv st) (kf : b < a → jx_J x c0 c1 w (pc + 3) lv st) : jx_J x c0 c1 w pc lv (.int (nI b) :: .int (nI a) :: st) := by
  obtain ⟨p, l, e, R, s, m, args, below, meth, c, D, A, n0, Q⟩ := x
  obtain ⟨hx, hb, -⟩ := G
  exact fun H locs ls hP hD hS hl => lv_icmp_le hx hb hd ht (fun h => kt ((nI_leI ha hb2).mp h) H locs ls hP hD hS hl) (fun h => kf (Nat.not_le.mp (fun q => h ((nI_leI ha hb2).mpr q))) H locs ls hP hD hS hl)
theorem jx_if_eq (G : jx_G x cb ci cc nL own rm ret) {a tgt : Nat} {off : Int} (hd : decode cc pc = .ok (.ifCond .eq off, 3)) (ht : (pc : Int) + off = (tgt : Int)) (ha : a < 2 ^ 32) (kt : a = 0 → jx_J x c0 c1 w tgt lv st) (kf : a ≠ 0 → jx_J x c0 c1 w (pc + 3) lv st) : jx_J x c0 c1 w pc lv (.int (nI a) :: st) := by
  obtain ⟨p, l, e, R, s, m, args, below, meth, c, D, A, n0, Q⟩ := x
  obtain ⟨hx, hb, -⟩ := G
  exact fun H locs ls hP hD hS hl => lv_if_eq hx hb hd ht (fun h => kt ((nz_0 ha).mp h) H locs ls hP hD hS hl) (fun h => kf (fun q => h ((nz_0 ha).mpr q)) H locs ls hP hD hS hl)
theorem jx_if_ne (G : jx_G x cb ci cc nL own rm ret) {a tgt : Nat} {off : Int} (hd : decode cc pc = .ok (.ifCond .ne off, 3)) (ht : (pc : Int) + off = (tgt : Int)) (ha : a < 2 ^ 32) (kt : a ≠ 0 → jx_J x c0 c1 w tgt lv st) (kf : a = 0 → jx_J x c0 c1 w (pc + 3) lv st) : jx_J x c0 c1 w pc lv (.int (nI a) :: st) := by
  obtain ⟨p, l, e, R, s, m, args, below, meth, c, D, A, n0, Q⟩ := x
  obtain ⟨hx, hb, -⟩ := G
  exact fun H locs ls hP hD hS hl => lv_if_ne hx hb hd ht (fun h => kt (fun q => h ((nz_0 ha).mpr q)) H locs ls hP hD hS hl) (fun h => kf ((nz_0 ha).mp h) H locs ls hP hD hS hl)
theorem jx_if_le (G : jx_G x cb ci cc nL own rm ret) {a tgt : Nat} {off : Int} (hd : decode cc pc = .ok (.ifCond .le off, 3)) (ht : (pc : Int) + off = (tgt : Int)) (ha : a < 2 ^ 31) (kt : a = 0 → jx_J x c0 c1 w tgt lv st) (kf : 0 < a → jx_J x c0 c1 w (pc + 3) lv st) : jx_J x c0 c1 w pc lv (.int (nI a) :: st) := by
  obtain ⟨p, l, e, R, s, m, args, below, meth, c, D, A, n0, Q⟩ := x
  obtain ⟨hx, hb, -⟩ := G
  exact fun H locs ls hP hD hS hl => lv_if_le hx hb hd ht (fun h => kt (Nat.eq_zero_of_not_pos (fun q => nI_nle q ha h)) H locs ls hP hD hS hl) (fun h => kf (Nat.pos_of_ne_zero (fun q => h (by rw [q]; exact nI_pos' (by decide)))) H locs ls hP hD hS hl)
/-- a number that isn't negative -/
theorem jx_iflt_nn (G : jx_G x cb ci cc nL own rm ret) {a tgt : Nat} {off : Int} (hd : decode cc pc = .ok (.ifCond .lt off, 3)) (ht : (pc : Int) + off = (tgt : Int)) (ha : a < 2 ^ 31) (kf : jx_J x c0 c1 w (pc + 3) lv st) : jx_J x c0 c1 w pc lv (.int (nI a) :: st) := by
  obtain ⟨p, l, e, R, s, m, args, below, meth, c, D, A, n0, Q⟩ := x
  obtain ⟨hx, hb, -⟩ := G
  exact fun H locs ls hP hD hS hl => lv_if_lt hx hb hd ht (fun h => absurd h (nI_pos ha)) (fun h => kf H locs ls hP hD hS hl)
theorem jx_iflt_neg (G : jx_G x cb ci cc nL own rm ret) {y : Int32} {tgt : Nat} {off : Int} (hd : decode cc pc = .ok (.ifCond .lt off, 3)) (ht : (pc : Int) + off = (tgt : Int)) (ha : y < 0) (kt : jx_J x c0 c1 w tgt lv st) : jx_J x c0 c1 w pc lv (.int y :: st) := by
  obtain ⟨p, l, e, R, s, m, args, below, meth, c, D, A, n0, Q⟩ := x
  obtain ⟨hx, hb, -⟩ := G
  exact fun H locs ls hP hD hS hl => lv_if_lt hx hb hd ht (fun h => kt H locs ls hP hD hS hl) (fun h => absurd ha h)
theorem jx_lt_neg {y : Int32} {b : Nat} (ha : y < 0) (hb2 : b < 2 ^ 31) : y < nI b := by
  rw [Int32.lt_iff_toInt_lt] at ha ⊢
  rw [nI_toInt hb2]
  rw [show (0 : Int32).toInt = 0 from by decide] at ha
  omega
theorem jx_icmp_lt_neg (G : jx_G x cb ci cc nL own rm ret) {y : Int32} {b tgt : Nat} {off : Int} (hd : decode cc pc = .ok (.if_icmp .lt off, 3)) (ht : (pc : Int) + off = (tgt : Int)) (ha : y < 0) (hb2 : b < 2 ^ 31) (kt : jx_J x c0 c1 w tgt lv st) : jx_J x c0 c1 w pc lv (.int (nI b) :: .int y :: st) := by
  obtain ⟨p, l, e, R, s, m, args, below, meth, c, D, A, n0, Q⟩ := x
  obtain ⟨hx, hb, -⟩ := G
  exact fun H locs ls hP hD hS hl => lv_icmp_lt hx hb hd ht (fun h => kt H locs ls hP hD hS hl) (fun h => absurd (jx_lt_neg ha hb2) h)
theorem jx_icmp_ge_neg (G : jx_G x cb ci cc nL own rm ret) {y : Int32} {b tgt : Nat} {off : Int} (hd : decode cc pc = .ok (.if_icmp .ge off, 3)) (ht : (pc : Int) + off = (tgt : Int)) (ha : y < 0) (hb2 : b < 2 ^ 31) (kf : jx_J x c0 c1 w (pc + 3) lv st) : jx_J x c0 c1 w pc lv (.int (nI b) :: .int y :: st) := by
  obtain ⟨p, l, e, R, s, m, args, below, meth, c, D, A, n0, Q⟩ := x
  obtain ⟨hx, hb, -⟩ := G
  exact fun H locs ls hP hD hS hl => lv_icmp_ge hx hb hd ht (fun h => absurd h (fun q => by have h1 := jx_lt_neg ha hb2; rw [Int32.lt_iff_toInt_lt] at h1; rw [Int32.le_iff_toInt_le] at q; omega)) (fun h => kf H locs ls hP hD hS hl)
theorem jx_icmp_eqT (G : jx_G x cb ci cc nL own rm ret) {y1 y2 : Int32} {tgt : Nat} {off : Int} (hd : decode cc pc = .ok (.if_icmp .eq off, 3)) (ht : (pc : Int) + off = (tgt : Int)) (he : y1 = y2) (kt : jx_J x c0 c1 w tgt lv st) : jx_J x c0 c1 w pc lv (.int y2 :: .int y1 :: st) := by
  obtain ⟨p, l, e, R, s, m, args, below, meth, c, D, A, n0, Q⟩ := x
  obtain ⟨hx, hb, -⟩ := G
  exact fun H locs ls hP hD hS hl => lv_icmp_eq hx hb hd ht (fun h => kt H locs ls hP hD hS hl) (fun h => absurd he h)
theorem jx_icmp_neF (G : jx_G x cb ci cc nL own rm ret) {y1 y2 : Int32} {tgt : Nat} {off : Int} (hd : decode cc pc = .ok (.if_icmp .ne off, 3)) (ht : (pc : Int) + off = (tgt : Int)) (he : y1 = y2) (kf : jx_J x c0 c1 w (pc + 3) lv st) : jx_J x c0 c1 w pc lv (.int y2 :: .int y1 :: st) := by
  obtain ⟨p, l, e, R, s, m, args, below, meth, c, D, A, n0, Q⟩ := x
  obtain ⟨hx, hb, -⟩ := G
  exact fun H locs ls hP hD hS hl => lv_icmp_ne hx hb hd ht (fun h => absurd he h) (fun h => kf H locs ls hP hD hS hl)
theorem jx_icmp_neT (G : jx_G x cb ci cc nL own rm ret) {y1 y2 : Int32} {tgt : Nat} {off : Int} (hd : decode cc pc = .ok (.if_icmp .ne off, 3)) (ht : (pc : Int) + off = (tgt : Int)) (he : y1 ≠ y2) (kt : jx_J x c0 c1 w tgt lv st) : jx_J x c0 c1 w pc lv (.int y2 :: .int y1 :: st) := by
  obtain ⟨p, l, e, R, s, m, args, below, meth, c, D, A, n0, Q⟩ := x
  obtain ⟨hx, hb, -⟩ := G
  exact fun H locs ls hP hD hS hl => lv_icmp_ne hx hb hd ht (fun h => kt H locs ls hP hD hS hl) (fun h => absurd h he)
end JB
end
section
set_option maxRecDepth 100000
/-! rows of the world: fields, arrays, new arrays, calls, a method's contract -/
theorem nb_8 : ∀ v, v < 128 → (nI v).toInt8.toInt32 = nI v := by decide +kernel
theorem nz_b : ∀ g, g ≤ 1 → narrow .boolean (.int (nI g)) = .int (nI g) := by
  intro g h
  rcases (show g = 0 ∨ g = 1 by omega) with rfl | rfl
  · exact narrow_b0
  · exact narrow_b1
theorem jx_updN {f : Nat → Nat} {i v : Nat} {y : Int32} (h : i < 2 ^ 31) (hy : y = nI v) : upd (fun j => nI (f j)) (nI i).toNatClampNeg y = fun j => nI (upN f i v j) := by
  funext j
  rw [nI_clamp h, hy]
  unfold upd upN
  split <;> rfl
section JW
variable {x : JX} {cb ci : ClassId} {cc : ByteArray} {nL c0 c1 : Nat} {own : String} {rm : Room} {ret : Option FieldType} {w : va_W} {pc : Nat} {lv : List (Nat × Value)} {st : List Value}
theorem jx_get (G : jx_G x cb ci cc nL own rm ret) {C : String} {T : u_T} {N ix idx k q0 o : Nat} {fs : List Value} {v : Value} (hin : ∀ w ∈ u_ws C T N, w ∈ lw_all) (he : w[q0]? = some (o, .inr (ix, fs))) (hc : clA[ix]? = some (C, T, N)) (hk : k < N) (hl : Cond.fieldLink own idx (T k).1 (T k).2.1 (T k).2.2.1 ∈ lw_all) (hv : fs[k]? = some v) (hd : decode cc pc = .ok (.getfield idx, 3)) (h : jx_J x c0 c1 w (pc + 3) lv (v :: st)) : jx_J x c0 c1 w pc lv (.ref o :: st) := by
  obtain ⟨p, l, e, R, s, m, args, below, meth, c, D, A, n0, Q⟩ := x
  obtain ⟨hx, hb, -, -, -, hown, hts, hK, -⟩ := G
  exact fun H locs ls hP hD hS hl' => va_get hx hb hts hin hown hK hP q0 he hc k hk (hts _ hl) (fun _ h9 => h9) hv hd (h H locs ls hP hD hS hl')
theorem jx_put (G : jx_G x cb ci cc nL own rm ret) {C : String} {T : u_T} {N ix idx k q0 o : Nat} {fs : List Value} {v : Value} {ty : FieldType} {w' : va_W} (hin : ∀ w ∈ u_ws C T N, w ∈ lw_all) (ty0 : Nat → FieldType) (hty : ∀ k, k < N → parseFieldDescriptor (T k).2.2.1 = some (ty0 k)) (hnm : ∀ a, a < N → ∀ b, b < N → a ≠ b → (T a).2.1 ≠ (T b).2.1) (he : w[q0]? = some (o, .inr (ix, fs))) (hc : clA[ix]? = some (C, T, N)) (hk : k < N) (hl : Cond.fieldLink own idx (T k).1 (T k).2.1 (T k).2.2.1 ∈ lw_all) (hfin : (T k).2.2.2 = false) (hy : ty0 k = ty) (hn : narrow ty v = v) (hfit : fits ty v = true) (hlen : k < fs.length) (hw : w.set q0 (o, .inr (ix, fs.set k v)) = w') (hd : decode cc pc = .ok (.putfield idx, 3)) (h : jx_J x c0 c1 w' (pc + 3) lv st) : jx_J x c0 c1 w pc lv (v :: .ref o :: st) := by
  obtain ⟨p, l, e, R, s, m, args, below, meth, c, D, A, n0, Q⟩ := x
  obtain ⟨hx, hb, -, -, -, hown, hts, hK, -⟩ := G
  subst hw
  exact fun H locs ls hP hD hS hl' => va_put hx hb hts hin ty0 hty hnm hown hK hP hD hS q0 he hc k hk (hts _ hl) (fun _ h9 => h9) hfin ((hty k hk).trans (by rw [hy])) hn hfit hlen hd (fun H1 locs1 hP hD hS => h H1 locs1 ls hP hD hS hl')
theorem jx_bald (G : jx_G x cb ci cc nL own rm ret) (q : Nat) {b N i : Nat} {f : Nat → Nat} (hw : w[q]? = some (b, .inl (cb, N, .inl (fun j => nI (f j))))) (hN : N ≤ 1000) (hd : decode cc pc = .ok (.baload, 1)) (hi : i < N) (h : jx_J x c0 c1 w (pc + 1) lv (.int (nI (f i)) :: st)) : jx_J x c0 c1 w pc lv (.int (nI i) :: .ref b :: st) := by
  obtain ⟨p, l, e, R, s, m, args, below, meth, c, D, A, n0, Q⟩ := x
  obtain ⟨hx, hb, -, -, -, hown, hts, hK, -⟩ := G
  refine fun H locs ls hP hD hS hl' => va_bald hx hb hK hP q 0 hw rfl (vp_in_nI hi (by omega)) hd ?_
  have := h H locs ls hP hD hS hl'
  rw [nI_clamp (by omega)]
  exact this
theorem jx_iald (G : jx_G x cb ci cc nL own rm ret) (q : Nat) {b N i : Nat} {f : Nat → Nat} (hw : w[q]? = some (b, .inl (ci, N, .inl (fun j => nI (f j))))) (hN : N ≤ 1000) (hd : decode cc pc = .ok (.iaload, 1)) (hi : i < N) (h : jx_J x c0 c1 w (pc + 1) lv (.int (nI (f i)) :: st)) : jx_J x c0 c1 w pc lv (.int (nI i) :: .ref b :: st) := by
  obtain ⟨p, l, e, R, s, m, args, below, meth, c, D, A, n0, Q⟩ := x
  obtain ⟨hx, hb, -, -, -, hown, hts, hK, -⟩ := G
  refine fun H locs ls hP hD hS hl' => va_iald hx hb hK hP q 1 hw rfl (vp_in_nI hi (by omega)) hd ?_
  have := h H locs ls hP hD hS hl'
  rw [nI_clamp (by omega)]
  exact this
theorem jx_bast (G : jx_G x cb ci cc nL own rm ret) (q : Nat) {b N i v : Nat} {f : Nat → Nat} {w' : va_W} (hw : w[q]? = some (b, .inl (cb, N, .inl (fun j => nI (f j))))) (hN : N ≤ 1000) (hw' : w.set q (b, .inl (cb, N, .inl (fun j => nI (upN f i v j)))) = w') (hd : decode cc pc = .ok (.bastore, 1)) (hi : i < N) (hv : v < 128) (h : jx_J x c0 c1 w' (pc + 1) lv st) : jx_J x c0 c1 w pc lv (.int (nI v) :: .int (nI i) :: .ref b :: st) := by
  obtain ⟨p, l, e, R, s, m, args, below, meth, c, D, A, n0, Q⟩ := x
  obtain ⟨hx, hb, -, -, -, hown, hts, hK, -⟩ := G
  subst hw'
  have e8 : upd (fun j => nI (f j)) (nI i).toNatClampNeg (vp_nar .byte (nI v)) = fun j => nI (upN f i v j) := jx_updN (by omega) (by rw [vp_nar_byte]; exact nb_8 v hv)
  refine fun H locs ls hP hD hS hl' => va_bast hx hb hK hP hD hS q 0 hw rfl (vp_in_nI hi (by omega)) hd (fun H1 locs1 hP hD hS => ?_)
  rw [e8] at hP hD
  exact h H1 locs1 ls hP hD hS hl'
theorem jx_iast (G : jx_G x cb ci cc nL own rm ret) (q : Nat) {b N i v : Nat} {f : Nat → Nat} {w' : va_W} (hw : w[q]? = some (b, .inl (ci, N, .inl (fun j => nI (f j))))) (hN : N ≤ 1000) (hw' : w.set q (b, .inl (ci, N, .inl (fun j => nI (upN f i v j)))) = w') (hd : decode cc pc = .ok (.iastore, 1)) (hi : i < N) (h : jx_J x c0 c1 w' (pc + 1) lv st) : jx_J x c0 c1 w pc lv (.int (nI v) :: .int (nI i) :: .ref b :: st) := by
  obtain ⟨p, l, e, R, s, m, args, below, meth, c, D, A, n0, Q⟩ := x
  obtain ⟨hx, hb, -, -, -, hown, hts, hK, -⟩ := G
  subst hw'
  have e8 : upd (fun j => nI (f j)) (nI i).toNatClampNeg (nI v) = fun j => nI (upN f i v j) := jx_updN (by omega) rfl
  refine fun H locs ls hP hD hS hl' => va_iast hx hb hK hP hD hS q 1 hw rfl (vp_in_nI hi (by omega)) hd (fun H1 locs1 hP hD hS => ?_)
  rw [e8] at hP hD
  exact h H1 locs1 ls hP hD hS hl'
end JW
/-- the world behind a method -/
def jx_B (D : va_G) (cb ci : ClassId) (A : Nat → Prop) (u : va_W) (t : State) : Prop := va_P D clA u t.heap ∧ va_K D clA (tyA cb ci) t ∧ va_D A u
def jx_Pc (D : va_G) (cb ci : ClassId) (av : List Value) (w : va_W) (sz : Nat) : Array Value → State → Prop := va_Pc av (fun U => U.heap.size = sz ∧ va_P D clA w U.heap ∧ va_K D clA (tyA cb ci) U ∧ va_D (fun _ => True) w)
/-- a method's contract: with the arguments av and the world w it answers an int r and leaves the world w', and 'post r w'' -/
def jx_Ki (l : Launch) (D : va_G) (cb ci : ClassId) (y : MethodName) (ws : List Cond) (rm : Room) (mc ms : Nat) (av : List Value) (w : va_W) (post : Int32 → va_W → Prop) : Prop :=
  ∀ sz : Nat, Met l y ws rm (jx_Pc D cb ci av w sz) (va_Qi post (jx_B D cb ci (va_A w sz)) (va_A w sz)) mc ms (va_A w sz)
def jx_Kv (l : Launch) (D : va_G) (cb ci : ClassId) (y : MethodName) (ws : List Cond) (rm : Room) (mc ms : Nat) (av : List Value) (w : va_W) (post : va_W → Prop) : Prop :=
  ∀ sz : Nat, Met l y ws rm (jx_Pc D cb ci av w sz) (va_Qv post (jx_B D cb ci (va_A w sz)) (va_A w sz)) mc ms (va_A w sz)
theorem jx_blind {D : va_G} {cb ci : ClassId} {av : List Value} {w : va_W} {sz : Nat} : FrameBlind (jx_Pc D cb ci av w sz) := fun a U g mk q => by
  obtain ⟨q0, q1, qP, qK, qD⟩ := q
  exact ⟨q0, q1, qP, va_K.moved (u := U) (U := U.calling g mk a) (Vm.Alike.refl U.vm) qK, qD⟩
section JK
variable {l : Launch} {D : va_G} {cb ci : ClassId} {y : MethodName} {cc : ByteArray} {maxL : Nat} {rm : Room} {av : List Value} {w : va_W} {mc ms : Nat}
theorem jx_Ki_of {post : Int32 → va_W → Prop} (hy : plainName y.cls = true) (hsz : (lg_sl av).length ≤ maxL) (lv0 : List (Nat × Value)) (hlv : lv_args 0 av = lv0)
    (body : ∀ x : JX, jx_G x cb ci cc maxL y.cls rm (some .int) → (∀ (r : Int32) (w' : va_W) (pc : Nat) (lv : List (Nat × Value)), post r w' → decode cc pc = .ok (.ireturn, 1) → jx_J x mc ms w' pc lv [.int r]) → jx_J x 0 0 w 0 lv0 []) : jx_Ki l D cb ci y (ws_ y cc maxL (some .int)) rm mc ms av w post := by
  intro sz
  refine Met.ofW (cc := cc) (maxL := maxL) (ret := some .int) hy rfl ?_
  intro p e s m args below meth c s₁ B hml hv
  obtain ⟨rfl, hsz0, hP, hK, hD0⟩ := hv
  have hts := atoms_spec (ws := ws_ y cc maxL (some .int)) B.pre
  have hts : ∀ w ∈ lw_all, w.before _ s = true := fun w h => hts w (List.mem_cons_of_mem _ h)
  have hown : s.vm.findClass y.cls = some m.cls := findClass_of_methodNamed B.named
  have hlocks : meth.locks = false := B.notSynchronized
  have hx := B.exec
  have hb := B.bytes
  have hr := B.returns
  subst hsz0
  have hl := lv_entry av (n := maxL) hsz
  rw [lg_entry_eq]
  rw [hlv] at hl
  refine body (p, l, e, (headSpec (ws_ y cc maxL (some .int)) rm).room, s, m, av.toArray, below, meth, c, D, va_A w s.heap.size, maxL, MQ below (va_Qi post (jx_B D cb ci (va_A w s.heap.size)) (va_A w s.heap.size)) av.toArray s mc ms (va_A w s.heap.size)) ⟨hx, hb, hml, rfl, rfl, hown, hts, hK, fun q h => Or.inr h, hlocks, hr⟩ (fun r w' pc lv hp hd H locs ls hP hD hS hl => ?_) s.heap [] _ hP hD0.self va_S.rf hl
  exact W.iret (v := r) hx hb hr (fun t ht hW => ⟨⟨r, w', rfl, hp, by rw [ht]; exact hP, va_K.moved hW.alike hK, hD⟩, hS.F ht⟩) hS.2.2 hd hlocks
theorem jx_Kz_of {post : Int32 → va_W → Prop} (hy : plainName y.cls = true) (hsz : (lg_sl av).length ≤ maxL) (lv0 : List (Nat × Value)) (hlv : lv_args 0 av = lv0)
    (body : ∀ x : JX, jx_G x cb ci cc maxL y.cls rm (some .boolean) → (∀ (g : Nat) (w' : va_W) (pc : Nat) (lv : List (Nat × Value)), post (nI g) w' → g ≤ 1 → decode cc pc = .ok (.ireturn, 1) → jx_J x mc ms w' pc lv [.int (nI g)]) → jx_J x 0 0 w 0 lv0 []) : jx_Ki l D cb ci y (ws_ y cc maxL (some .boolean)) rm mc ms av w post := by
  intro sz
  refine Met.ofW (cc := cc) (maxL := maxL) (ret := some .boolean) hy rfl ?_
  intro p e s m args below meth c s₁ B hml hv
  obtain ⟨rfl, hsz0, hP, hK, hD0⟩ := hv
  have hts := atoms_spec (ws := ws_ y cc maxL (some .boolean)) B.pre
  have hts : ∀ w ∈ lw_all, w.before _ s = true := fun w h => hts w (List.mem_cons_of_mem _ h)
  have hown : s.vm.findClass y.cls = some m.cls := findClass_of_methodNamed B.named
  have hlocks : meth.locks = false := B.notSynchronized
  have hx := B.exec
  have hb := B.bytes
  have hr := B.returns
  subst hsz0
  have hl := lv_entry av (n := maxL) hsz
  rw [lg_entry_eq]
  rw [hlv] at hl
  refine body (p, l, e, (headSpec (ws_ y cc maxL (some .boolean)) rm).room, s, m, av.toArray, below, meth, c, D, va_A w s.heap.size, maxL, MQ below (va_Qi post (jx_B D cb ci (va_A w s.heap.size)) (va_A w s.heap.size)) av.toArray s mc ms (va_A w s.heap.size)) ⟨hx, hb, hml, rfl, rfl, hown, hts, hK, fun q h => Or.inr h, hlocks, hr⟩ (fun g w' pc lv hp hg hd H locs ls hP hD hS hl => ?_) s.heap [] _ hP hD0.self va_S.rf hl
  exact W.zret (v := nI g) hx hb hr (nz_b g hg) (fun t ht hW => ⟨⟨nI g, w', rfl, hp, by rw [ht]; exact hP, va_K.moved hW.alike hK, hD⟩, hS.F ht⟩) hS.2.2 hd hlocks
theorem jx_Kv_of {post : va_W → Prop} (hy : plainName y.cls = true) (hsz : (lg_sl av).length ≤ maxL) (lv0 : List (Nat × Value)) (hlv : lv_args 0 av = lv0)
    (body : ∀ x : JX, jx_G x cb ci cc maxL y.cls rm none → (∀ (w' : va_W) (pc : Nat) (lv : List (Nat × Value)), post w' → decode cc pc = .ok (.return_, 1) → jx_J x mc ms w' pc lv []) → jx_J x 0 0 w 0 lv0 []) : jx_Kv l D cb ci y (ws_ y cc maxL none) rm mc ms av w post := by
  intro sz
  refine Met.ofW (cc := cc) (maxL := maxL) (ret := none) hy rfl ?_
  intro p e s m args below meth c s₁ B hml hv
  obtain ⟨rfl, hsz0, hP, hK, hD0⟩ := hv
  have hts := atoms_spec (ws := ws_ y cc maxL none) B.pre
  have hts : ∀ w ∈ lw_all, w.before _ s = true := fun w h => hts w (List.mem_cons_of_mem _ h)
  have hown : s.vm.findClass y.cls = some m.cls := findClass_of_methodNamed B.named
  have hlocks : meth.locks = false := B.notSynchronized
  have hx := B.exec
  have hb := B.bytes
  have hr := B.returns
  subst hsz0
  have hl := lv_entry av (n := maxL) hsz
  rw [lg_entry_eq]
  rw [hlv] at hl
  refine body (p, l, e, (headSpec (ws_ y cc maxL none) rm).room, s, m, av.toArray, below, meth, c, D, va_A w s.heap.size, maxL, MQ below (va_Qv post (jx_B D cb ci (va_A w s.heap.size)) (va_A w s.heap.size)) av.toArray s mc ms (va_A w s.heap.size)) ⟨hx, hb, hml, rfl, rfl, hown, hts, hK, fun q h => Or.inr h, hlocks, hr⟩ (fun w' pc lv hp hd H locs ls hP hD hS hl => ?_) s.heap [] _ hP hD0.self va_S.rf hl
  exact W.vret hx hb hr (fun t ht hW => ⟨⟨w', rfl, hp, by rw [ht]; exact hP, va_K.moved hW.alike hK, hD⟩, hS.F ht⟩) hS.2.2 hd hlocks
end JK
section JC
variable {x : JX} {cb ci : ClassId} {cc : ByteArray} {nL c0 c1 : Nat} {own : String} {rm : Room} {ret : Option FieldType} {w : va_W} {pc : Nat} {lv : List (Nat × Value)} {st : List Value}
variable {y : MethodName} {ws : List Cond} {rm' : Room} {bytes : ByteArray} {maxL n idx q0 ix o : Nat} {rt : Option FieldType} {C : String} {T : u_T} {N : Nat} {fs : List Value} {As rest : List Value}
/-- a call of a method of the object whose world is the whole world -/
theorem jx_calli (G : jx_G x cb ci cc nL own rm ret) {post : Int32 → va_W → Prop} (hM : ∀ (l : Launch) (D : va_G), jx_Ki l D cb ci y ws rm' 0 0 (.ref o :: As) w post) (hcw : ∀ (s : State) (args : Array Value), (∀ w ∈ lw_all, w.before args s = true) → CallW rm s args own C idx y bytes maxL rt ws rm' 0 0 n) (he : w[q0]? = some (o, .inr (ix, fs))) (hc : clA[ix]? = some (C, T, N)) (hn : As.length = n) (hst : st = As.reverse ++ .ref o :: rest) (hroom : (rest.map fun v => v.category).sum ≤ 8) (hcs : c0 ≤ rm.cells ∧ c1 ≤ rm.slots) (hd : decode cc pc = .ok (.invokevirtual idx, 3)) (k : ∀ (r : Int32) (w' : va_W), post r w' → jx_J x c0 c1 w' (pc + 3) lv (.int r :: rest)) : jx_J x c0 c1 w pc lv st := by
  obtain ⟨p, l, e, R, s, m, args, below, meth, c, D, A, n0, Q⟩ := x
  obtain ⟨hx, hb, hml, rfl, rfl, hown, hts, hK, hA, -⟩ := G
  intro H locs ls hP hD hS hl
  have hFc : ∀ q, va_A w H.size q → A q := by
    rintro q (⟨k2, e2, h⟩ | h)
    · exact hD.2 k2 _ h
    · exact hA q (Nat.le_trans hS.1 h)
  refine va_calli (va_runV (As := As) (rest := rest) ⟨hx, hb, hml, hown, hts⟩ (hM l D H.size) (hcw s args hts) ⟨jx_blind, va_recv hK hP hc he, fun U hU hW => ⟨rfl, by rw [hU], by rw [hU]; exact hP, va_K.moved hW.alike hK, hD.weaken (fun _ _ _ _ => trivial)⟩⟩ rfl hn hl.1 hst (lv_room hroom) hd hcs) hS (fun q _ h => hFc q h) hFc (fun r w' t H1 locs1 ht hvm hw1 hB hz1 hk1 hS1 => ?_)
  obtain ⟨hP1, hK1, hD1⟩ := hB
  rw [ht] at hP1
  exact k r w' hw1 H1 locs1 ls hP1 (hD1.weaken (fun k2 q _ h => hFc q.1 h)) hS1 hl
theorem jx_callv (G : jx_G x cb ci cc nL own rm ret) {post : va_W → Prop} (hM : ∀ (l : Launch) (D : va_G), jx_Kv l D cb ci y ws rm' 0 0 (.ref o :: As) w post) (hcw : ∀ (s : State) (args : Array Value), (∀ w ∈ lw_all, w.before args s = true) → CallW rm s args own C idx y bytes maxL rt ws rm' 0 0 n) (he : w[q0]? = some (o, .inr (ix, fs))) (hc : clA[ix]? = some (C, T, N)) (hn : As.length = n) (hst : st = As.reverse ++ .ref o :: rest) (hroom : (rest.map fun v => v.category).sum ≤ 8) (hcs : c0 ≤ rm.cells ∧ c1 ≤ rm.slots) (hd : decode cc pc = .ok (.invokevirtual idx, 3)) (k : ∀ (w' : va_W), post w' → jx_J x c0 c1 w' (pc + 3) lv rest) : jx_J x c0 c1 w pc lv st := by
  obtain ⟨p, l, e, R, s, m, args, below, meth, c, D, A, n0, Q⟩ := x
  obtain ⟨hx, hb, hml, rfl, rfl, hown, hts, hK, hA, -⟩ := G
  intro H locs ls hP hD hS hl
  have hFc : ∀ q, va_A w H.size q → A q := by
    rintro q (⟨k2, e2, h⟩ | h)
    · exact hD.2 k2 _ h
    · exact hA q (Nat.le_trans hS.1 h)
  refine va_callv (va_runV (As := As) (rest := rest) ⟨hx, hb, hml, hown, hts⟩ (hM l D H.size) (hcw s args hts) ⟨jx_blind, va_recv hK hP hc he, fun U hU hW => ⟨rfl, by rw [hU], by rw [hU]; exact hP, va_K.moved hW.alike hK, hD.weaken (fun _ _ _ _ => trivial)⟩⟩ rfl hn hl.1 hst (lv_room hroom) hd hcs) hS (fun q _ h => hFc q h) hFc (fun w' t H1 locs1 ht hvm hw1 hB hz1 hk1 hS1 => ?_)
  obtain ⟨hP1, hK1, hD1⟩ := hB
  rw [ht] at hP1
  exact k w' hw1 H1 locs1 ls hP1 (hD1.weaken (fun k2 q _ h => hFc q.1 h)) hS1 hl
end JC
end
section
set_option maxRecDepth 100000
/-! the two worlds (XC: BellRows and its arrays, MC: BellRowsModel and its arrays), their rows; rooms and words of the methods -/
theorem kc_m1 : Int32.ofInt (-1) = (-1 : Int32) := by decide +kernel
theorem kc_0 : Int32.ofInt (0) = nI 0 := by decide +kernel
theorem kc_1 : Int32.ofInt (1) = nI 1 := by decide +kernel
theorem kc_2 : Int32.ofInt (2) = nI 2 := by decide +kernel
theorem kc_3 : Int32.ofInt (3) = nI 3 := by decide +kernel
theorem kc_5 : Int32.ofInt (5) = nI 5 := by decide +kernel
theorem kb_m4 : (Int8.ofInt (-4)).toInt32 = (-4 : Int32) := by decide +kernel
theorem kb_m2 : (Int8.ofInt (-2)).toInt32 = (-2 : Int32) := by decide +kernel
theorem kb_6 : (Int8.ofInt (6)).toInt32 = nI 6 := by decide +kernel
theorem kb_9 : (Int8.ofInt (9)).toInt32 = nI 9 := by decide +kernel
theorem kb_10 : (Int8.ofInt (10)).toInt32 = nI 10 := by decide +kernel
theorem kb_12 : (Int8.ofInt (12)).toInt32 = nI 12 := by decide +kernel
theorem kb_20 : (Int8.ofInt (20)).toInt32 = nI 20 := by decide +kernel
theorem kb_21 : (Int8.ofInt (21)).toInt32 = nI 21 := by decide +kernel
theorem kb_23 : (Int8.ofInt (23)).toInt32 = nI 23 := by decide +kernel
theorem kb_31 : (Int8.ofInt (31)).toInt32 = nI 31 := by decide +kernel
theorem kb_78 : (Int8.ofInt (78)).toInt32 = nI 78 := by decide +kernel
theorem kb_126 : (Int8.ofInt (126)).toInt32 = nI 126 := by decide +kernel
theorem ks_207 : (Int16.ofInt (207)).toInt32 = nI 207 := by decide +kernel
theorem ks_234 : (Int16.ofInt (234)).toInt32 = nI 234 := by decide +kernel
theorem ks_260 : (Int16.ofInt (260)).toInt32 = nI 260 := by decide +kernel
def XC (cb ci : ClassId) (o : Nat) (a : Nat → Nat) (n : Nat) (z : Nat) (fm : Nat → Nat) (fc : Nat → Nat) (ct : Nat) (fl : Nat → Nat) (kn : Nat) (fo : Nat → Nat) (fh : Nat → Nat) (ff : Nat → Nat) (ft : Nat → Nat) (fi : Nat → Nat) (fd : Nat → Nat) : va_W := [(o, .inr (0, [.int (nI n), .int (nI z), .ref (a 0), .ref (a 1), .int (nI ct), .ref (a 2), .int (nI kn), .ref (a 3), .ref (a 4), .ref (a 5), .ref (a 6), .ref (a 7), .ref (a 8)])), (a 0, .inl (cb, 12, .inl (fun j => nI (fm j)))), (a 1, .inl (cb, 3, .inl (fun j => nI (fc j)))), (a 2, .inl (cb, 20, .inl (fun j => nI (fl j)))), (a 3, .inl (cb, 234, .inl (fun j => nI (fo j)))), (a 4, .inl (cb, 126, .inl (fun j => nI (fh j)))), (a 5, .inl (ci, 207, .inl (fun j => nI (ff j)))), (a 6, .inl (ci, 23, .inl (fun j => nI (ft j)))), (a 7, .inl (cb, 6, .inl (fun j => nI (fi j)))), (a 8, .inl (cb, 6, .inl (fun j => nI (fd j))))]
def MC (cb ci : ClassId) (o : Nat) (a : Nat → Nat) (n : Nat) (z : Nat) (fm : Nat → Nat) (fc : Nat → Nat) (ct : Nat) (fl : Nat → Nat) (fb : Nat → Nat) (la : Nat) (fr : Nat → Nat) : va_W := [(o, .inr (1, [.int (nI n), .int (nI z), .ref (a 0), .ref (a 1), .int (nI ct), .ref (a 2), .ref (a 3), .int (nI la), .ref (a 4)])), (a 0, .inl (ci, 12, .inl (fun j => nI (fm j)))), (a 1, .inl (ci, 3, .inl (fun j => nI (fc j)))), (a 2, .inl (ci, 21, .inl (fun j => nI (fl j)))), (a 3, .inl (ci, 6, .inl (fun j => nI (fb j)))), (a 4, .inl (ci, 260, .inl (fun j => nI (fr j))))]
section WX
variable {x : JX} {cb ci : ClassId} {cc : ByteArray} {nL c0 c1 : Nat} {own : String} {rm : Room} {ret : Option FieldType} {w : va_W} {pc : Nat} {lv : List (Nat × Value)} {st : List Value} {o : Nat} {a : Nat → Nat}
variable {n z ct kn la : Nat} {fm fc fl fo fh ff ft fi fd fb fr : Nat → Nat}
theorem xg_n (G : jx_G x cb ci cc nL RX1 rm ret) (hd : decode cc pc = .ok (.getfield 38, 3)) (h : jx_J x c0 c1 (XC cb ci o a n z fm fc ct fl kn fo fh ff ft fi fd) (pc + 3) lv (.int (nI n) :: st)) : jx_J x c0 c1 (XC cb ci o a n z fm fc ct fl kn fo fh ff ft fi fd) pc lv (.ref o :: st) := jx_get (C := RX1) (T := TX1) (N := 13) (ix := 0) (k := 0) (q0 := 0) G in_X1 rfl rfl (by decide) q40 rfl hd h
theorem xg_size (G : jx_G x cb ci cc nL RX1 rm ret) (hd : decode cc pc = .ok (.getfield 42, 3)) (h : jx_J x c0 c1 (XC cb ci o a n z fm fc ct fl kn fo fh ff ft fi fd) (pc + 3) lv (.int (nI z) :: st)) : jx_J x c0 c1 (XC cb ci o a n z fm fc ct fl kn fo fh ff ft fi fd) pc lv (.ref o :: st) := jx_get (C := RX1) (T := TX1) (N := 13) (ix := 0) (k := 1) (q0 := 0) G in_X1 rfl rfl (by decide) q41 rfl hd h
theorem xp_size (G : jx_G x cb ci cc nL RX1 rm ret) {v9 : Nat} (hd : decode cc pc = .ok (.putfield 42, 3)) (h : jx_J x c0 c1 (XC cb ci o a n v9 fm fc ct fl kn fo fh ff ft fi fd) (pc + 3) lv st) : jx_J x c0 c1 (XC cb ci o a n z fm fc ct fl kn fo fh ff ft fi fd) pc lv (.int (nI v9) :: .ref o :: st) := jx_put (C := RX1) (T := TX1) (N := 13) (ix := 0) (k := 1) (q0 := 0) (ty := .int) G in_X1 tyX1 tyX1_ok nmX1 rfl rfl (by decide) q41 rfl rfl rfl rfl (by exact Nat.le_of_ble_eq_true rfl) rfl hd h
theorem xg_method (G : jx_G x cb ci cc nL RX1 rm ret) (hd : decode cc pc = .ok (.getfield 7, 3)) (h : jx_J x c0 c1 (XC cb ci o a n z fm fc ct fl kn fo fh ff ft fi fd) (pc + 3) lv (.ref (a 0) :: st)) : jx_J x c0 c1 (XC cb ci o a n z fm fc ct fl kn fo fh ff ft fi fd) pc lv (.ref o :: st) := jx_get (C := RX1) (T := TX1) (N := 13) (ix := 0) (k := 2) (q0 := 0) G in_X1 rfl rfl (by decide) q42 rfl hd h
theorem xl_method (G : jx_G x cb ci cc nL own rm ret) {i9 : Nat} (hd : decode cc pc = .ok (.baload, 1)) (hi : i9 < 12) (h : jx_J x c0 c1 (XC cb ci o a n z fm fc ct fl kn fo fh ff ft fi fd) (pc + 1) lv (.int (nI (fm i9)) :: st)) : jx_J x c0 c1 (XC cb ci o a n z fm fc ct fl kn fo fh ff ft fi fd) pc lv (.int (nI i9) :: .ref (a 0) :: st) := jx_bald G 1 (f := fm) rfl (by decide) hd hi h
theorem xs_method (G : jx_G x cb ci cc nL own rm ret) {i9 v9 : Nat} (hd : decode cc pc = .ok (.bastore, 1)) (hi : i9 < 12) (hv : v9 < 128) (h : jx_J x c0 c1 (XC cb ci o a n z (upN fm i9 v9) fc ct fl kn fo fh ff ft fi fd) (pc + 1) lv st) : jx_J x c0 c1 (XC cb ci o a n z fm fc ct fl kn fo fh ff ft fi fd) pc lv (.int (nI v9) :: .int (nI i9) :: .ref (a 0) :: st) := jx_bast G 1 (f := fm) rfl (by decide) rfl hd hi hv h
theorem xg_callChange (G : jx_G x cb ci cc nL RX1 rm ret) (hd : decode cc pc = .ok (.getfield 13, 3)) (h : jx_J x c0 c1 (XC cb ci o a n z fm fc ct fl kn fo fh ff ft fi fd) (pc + 3) lv (.ref (a 1) :: st)) : jx_J x c0 c1 (XC cb ci o a n z fm fc ct fl kn fo fh ff ft fi fd) pc lv (.ref o :: st) := jx_get (C := RX1) (T := TX1) (N := 13) (ix := 0) (k := 3) (q0 := 0) G in_X1 rfl rfl (by decide) q43 rfl hd h
theorem xl_callChange (G : jx_G x cb ci cc nL own rm ret) {i9 : Nat} (hd : decode cc pc = .ok (.baload, 1)) (hi : i9 < 3) (h : jx_J x c0 c1 (XC cb ci o a n z fm fc ct fl kn fo fh ff ft fi fd) (pc + 1) lv (.int (nI (fc i9)) :: st)) : jx_J x c0 c1 (XC cb ci o a n z fm fc ct fl kn fo fh ff ft fi fd) pc lv (.int (nI i9) :: .ref (a 1) :: st) := jx_bald G 2 (f := fc) rfl (by decide) hd hi h
theorem xs_callChange (G : jx_G x cb ci cc nL own rm ret) {i9 v9 : Nat} (hd : decode cc pc = .ok (.bastore, 1)) (hi : i9 < 3) (hv : v9 < 128) (h : jx_J x c0 c1 (XC cb ci o a n z fm (upN fc i9 v9) ct fl kn fo fh ff ft fi fd) (pc + 1) lv st) : jx_J x c0 c1 (XC cb ci o a n z fm fc ct fl kn fo fh ff ft fi fd) pc lv (.int (nI v9) :: .int (nI i9) :: .ref (a 1) :: st) := jx_bast G 2 (f := fc) rfl (by decide) rfl hd hi hv h
theorem xg_count (G : jx_G x cb ci cc nL RX1 rm ret) (hd : decode cc pc = .ok (.getfield 56, 3)) (h : jx_J x c0 c1 (XC cb ci o a n z fm fc ct fl kn fo fh ff ft fi fd) (pc + 3) lv (.int (nI ct) :: st)) : jx_J x c0 c1 (XC cb ci o a n z fm fc ct fl kn fo fh ff ft fi fd) pc lv (.ref o :: st) := jx_get (C := RX1) (T := TX1) (N := 13) (ix := 0) (k := 4) (q0 := 0) G in_X1 rfl rfl (by decide) q44 rfl hd h
theorem xp_count (G : jx_G x cb ci cc nL RX1 rm ret) {v9 : Nat} (hd : decode cc pc = .ok (.putfield 56, 3)) (h : jx_J x c0 c1 (XC cb ci o a n z fm fc v9 fl kn fo fh ff ft fi fd) (pc + 3) lv st) : jx_J x c0 c1 (XC cb ci o a n z fm fc ct fl kn fo fh ff ft fi fd) pc lv (.int (nI v9) :: .ref o :: st) := jx_put (C := RX1) (T := TX1) (N := 13) (ix := 0) (k := 4) (q0 := 0) (ty := .int) G in_X1 tyX1 tyX1_ok nmX1 rfl rfl (by decide) q44 rfl rfl rfl rfl (by exact Nat.le_of_ble_eq_true rfl) rfl hd h
theorem xg_calls (G : jx_G x cb ci cc nL RX1 rm ret) (hd : decode cc pc = .ok (.getfield 16, 3)) (h : jx_J x c0 c1 (XC cb ci o a n z fm fc ct fl kn fo fh ff ft fi fd) (pc + 3) lv (.ref (a 2) :: st)) : jx_J x c0 c1 (XC cb ci o a n z fm fc ct fl kn fo fh ff ft fi fd) pc lv (.ref o :: st) := jx_get (C := RX1) (T := TX1) (N := 13) (ix := 0) (k := 5) (q0 := 0) G in_X1 rfl rfl (by decide) q45 rfl hd h
theorem xl_calls (G : jx_G x cb ci cc nL own rm ret) {i9 : Nat} (hd : decode cc pc = .ok (.baload, 1)) (hi : i9 < 20) (h : jx_J x c0 c1 (XC cb ci o a n z fm fc ct fl kn fo fh ff ft fi fd) (pc + 1) lv (.int (nI (fl i9)) :: st)) : jx_J x c0 c1 (XC cb ci o a n z fm fc ct fl kn fo fh ff ft fi fd) pc lv (.int (nI i9) :: .ref (a 2) :: st) := jx_bald G 3 (f := fl) rfl (by decide) hd hi h
theorem xs_calls (G : jx_G x cb ci cc nL own rm ret) {i9 v9 : Nat} (hd : decode cc pc = .ok (.bastore, 1)) (hi : i9 < 20) (hv : v9 < 128) (h : jx_J x c0 c1 (XC cb ci o a n z fm fc ct (upN fl i9 v9) kn fo fh ff ft fi fd) (pc + 1) lv st) : jx_J x c0 c1 (XC cb ci o a n z fm fc ct fl kn fo fh ff ft fi fd) pc lv (.int (nI v9) :: .int (nI i9) :: .ref (a 2) :: st) := jx_bast G 3 (f := fl) rfl (by decide) rfl hd hi hv h
theorem xg_known (G : jx_G x cb ci cc nL RX1 rm ret) (hd : decode cc pc = .ok (.getfield 49, 3)) (h : jx_J x c0 c1 (XC cb ci o a n z fm fc ct fl kn fo fh ff ft fi fd) (pc + 3) lv (.int (nI kn) :: st)) : jx_J x c0 c1 (XC cb ci o a n z fm fc ct fl kn fo fh ff ft fi fd) pc lv (.ref o :: st) := jx_get (C := RX1) (T := TX1) (N := 13) (ix := 0) (k := 6) (q0 := 0) G in_X1 rfl rfl (by decide) q46 rfl hd h
theorem xp_known0 (G : jx_G x cb ci cc nL RX1 rm ret) (hd : decode cc pc = .ok (.putfield 49, 3)) (h : jx_J x c0 c1 (XC cb ci o a n z fm fc ct fl 0 fo fh ff ft fi fd) (pc + 3) lv st) : jx_J x c0 c1 (XC cb ci o a n z fm fc ct fl kn fo fh ff ft fi fd) pc lv (.int (nI 0) :: .ref o :: st) := jx_put (C := RX1) (T := TX1) (N := 13) (ix := 0) (k := 6) (q0 := 0) (ty := .boolean) G in_X1 tyX1 tyX1_ok nmX1 rfl rfl (by decide) q46 rfl rfl rfl rfl (by exact Nat.le_of_ble_eq_true rfl) rfl hd h
theorem xp_known1 (G : jx_G x cb ci cc nL RX1 rm ret) (hd : decode cc pc = .ok (.putfield 49, 3)) (h : jx_J x c0 c1 (XC cb ci o a n z fm fc ct fl 1 fo fh ff ft fi fd) (pc + 3) lv st) : jx_J x c0 c1 (XC cb ci o a n z fm fc ct fl kn fo fh ff ft fi fd) pc lv (.int (nI 1) :: .ref o :: st) := jx_put (C := RX1) (T := TX1) (N := 13) (ix := 0) (k := 6) (q0 := 0) (ty := .boolean) G in_X1 tyX1 tyX1_ok nmX1 rfl rfl (by decide) q46 rfl rfl rfl rfl (by exact Nat.le_of_ble_eq_true rfl) rfl hd h
theorem xg_offset (G : jx_G x cb ci cc nL RX1 rm ret) (hd : decode cc pc = .ok (.getfield 19, 3)) (h : jx_J x c0 c1 (XC cb ci o a n z fm fc ct fl kn fo fh ff ft fi fd) (pc + 3) lv (.ref (a 3) :: st)) : jx_J x c0 c1 (XC cb ci o a n z fm fc ct fl kn fo fh ff ft fi fd) pc lv (.ref o :: st) := jx_get (C := RX1) (T := TX1) (N := 13) (ix := 0) (k := 7) (q0 := 0) G in_X1 rfl rfl (by decide) q47 rfl hd h
theorem xl_offset (G : jx_G x cb ci cc nL own rm ret) {i9 : Nat} (hd : decode cc pc = .ok (.baload, 1)) (hi : i9 < 234) (h : jx_J x c0 c1 (XC cb ci o a n z fm fc ct fl kn fo fh ff ft fi fd) (pc + 1) lv (.int (nI (fo i9)) :: st)) : jx_J x c0 c1 (XC cb ci o a n z fm fc ct fl kn fo fh ff ft fi fd) pc lv (.int (nI i9) :: .ref (a 3) :: st) := jx_bald G 4 (f := fo) rfl (by decide) hd hi h
theorem xs_offset (G : jx_G x cb ci cc nL own rm ret) {i9 v9 : Nat} (hd : decode cc pc = .ok (.bastore, 1)) (hi : i9 < 234) (hv : v9 < 128) (h : jx_J x c0 c1 (XC cb ci o a n z fm fc ct fl kn (upN fo i9 v9) fh ff ft fi fd) (pc + 1) lv st) : jx_J x c0 c1 (XC cb ci o a n z fm fc ct fl kn fo fh ff ft fi fd) pc lv (.int (nI v9) :: .int (nI i9) :: .ref (a 3) :: st) := jx_bast G 4 (f := fo) rfl (by decide) rfl hd hi hv h
theorem xg_head (G : jx_G x cb ci cc nL RX1 rm ret) (hd : decode cc pc = .ok (.getfield 22, 3)) (h : jx_J x c0 c1 (XC cb ci o a n z fm fc ct fl kn fo fh ff ft fi fd) (pc + 3) lv (.ref (a 4) :: st)) : jx_J x c0 c1 (XC cb ci o a n z fm fc ct fl kn fo fh ff ft fi fd) pc lv (.ref o :: st) := jx_get (C := RX1) (T := TX1) (N := 13) (ix := 0) (k := 8) (q0 := 0) G in_X1 rfl rfl (by decide) q48 rfl hd h
theorem xl_head (G : jx_G x cb ci cc nL own rm ret) {i9 : Nat} (hd : decode cc pc = .ok (.baload, 1)) (hi : i9 < 126) (h : jx_J x c0 c1 (XC cb ci o a n z fm fc ct fl kn fo fh ff ft fi fd) (pc + 1) lv (.int (nI (fh i9)) :: st)) : jx_J x c0 c1 (XC cb ci o a n z fm fc ct fl kn fo fh ff ft fi fd) pc lv (.int (nI i9) :: .ref (a 4) :: st) := jx_bald G 5 (f := fh) rfl (by decide) hd hi h
theorem xs_head (G : jx_G x cb ci cc nL own rm ret) {i9 v9 : Nat} (hd : decode cc pc = .ok (.bastore, 1)) (hi : i9 < 126) (hv : v9 < 128) (h : jx_J x c0 c1 (XC cb ci o a n z fm fc ct fl kn fo (upN fh i9 v9) ff ft fi fd) (pc + 1) lv st) : jx_J x c0 c1 (XC cb ci o a n z fm fc ct fl kn fo fh ff ft fi fd) pc lv (.int (nI v9) :: .int (nI i9) :: .ref (a 4) :: st) := jx_bast G 5 (f := fh) rfl (by decide) rfl hd hi hv h
theorem xg_falseSet (G : jx_G x cb ci cc nL RX1 rm ret) (hd : decode cc pc = .ok (.getfield 25, 3)) (h : jx_J x c0 c1 (XC cb ci o a n z fm fc ct fl kn fo fh ff ft fi fd) (pc + 3) lv (.ref (a 5) :: st)) : jx_J x c0 c1 (XC cb ci o a n z fm fc ct fl kn fo fh ff ft fi fd) pc lv (.ref o :: st) := jx_get (C := RX1) (T := TX1) (N := 13) (ix := 0) (k := 9) (q0 := 0) G in_X1 rfl rfl (by decide) q49 rfl hd h
theorem xl_falseSet (G : jx_G x cb ci cc nL own rm ret) {i9 : Nat} (hd : decode cc pc = .ok (.iaload, 1)) (hi : i9 < 207) (h : jx_J x c0 c1 (XC cb ci o a n z fm fc ct fl kn fo fh ff ft fi fd) (pc + 1) lv (.int (nI (ff i9)) :: st)) : jx_J x c0 c1 (XC cb ci o a n z fm fc ct fl kn fo fh ff ft fi fd) pc lv (.int (nI i9) :: .ref (a 5) :: st) := jx_iald G 6 (f := ff) rfl (by decide) hd hi h
theorem xs_falseSet (G : jx_G x cb ci cc nL own rm ret) {i9 v9 : Nat} (hd : decode cc pc = .ok (.iastore, 1)) (hi : i9 < 207) (h : jx_J x c0 c1 (XC cb ci o a n z fm fc ct fl kn fo fh (upN ff i9 v9) ft fi fd) (pc + 1) lv st) : jx_J x c0 c1 (XC cb ci o a n z fm fc ct fl kn fo fh ff ft fi fd) pc lv (.int (nI v9) :: .int (nI i9) :: .ref (a 5) :: st) := jx_iast G 6 (f := ff) rfl (by decide) rfl hd hi h
theorem xg_met (G : jx_G x cb ci cc nL RX1 rm ret) (hd : decode cc pc = .ok (.getfield 29, 3)) (h : jx_J x c0 c1 (XC cb ci o a n z fm fc ct fl kn fo fh ff ft fi fd) (pc + 3) lv (.ref (a 6) :: st)) : jx_J x c0 c1 (XC cb ci o a n z fm fc ct fl kn fo fh ff ft fi fd) pc lv (.ref o :: st) := jx_get (C := RX1) (T := TX1) (N := 13) (ix := 0) (k := 10) (q0 := 0) G in_X1 rfl rfl (by decide) q50 rfl hd h
theorem xl_met (G : jx_G x cb ci cc nL own rm ret) {i9 : Nat} (hd : decode cc pc = .ok (.iaload, 1)) (hi : i9 < 23) (h : jx_J x c0 c1 (XC cb ci o a n z fm fc ct fl kn fo fh ff ft fi fd) (pc + 1) lv (.int (nI (ft i9)) :: st)) : jx_J x c0 c1 (XC cb ci o a n z fm fc ct fl kn fo fh ff ft fi fd) pc lv (.int (nI i9) :: .ref (a 6) :: st) := jx_iald G 7 (f := ft) rfl (by decide) hd hi h
theorem xs_met (G : jx_G x cb ci cc nL own rm ret) {i9 v9 : Nat} (hd : decode cc pc = .ok (.iastore, 1)) (hi : i9 < 23) (h : jx_J x c0 c1 (XC cb ci o a n z fm fc ct fl kn fo fh ff (upN ft i9 v9) fi fd) (pc + 1) lv st) : jx_J x c0 c1 (XC cb ci o a n z fm fc ct fl kn fo fh ff ft fi fd) pc lv (.int (nI v9) :: .int (nI i9) :: .ref (a 6) :: st) := jx_iast G 7 (f := ft) rfl (by decide) rfl hd hi h
theorem xg_inverse (G : jx_G x cb ci cc nL RX1 rm ret) (hd : decode cc pc = .ok (.getfield 32, 3)) (h : jx_J x c0 c1 (XC cb ci o a n z fm fc ct fl kn fo fh ff ft fi fd) (pc + 3) lv (.ref (a 7) :: st)) : jx_J x c0 c1 (XC cb ci o a n z fm fc ct fl kn fo fh ff ft fi fd) pc lv (.ref o :: st) := jx_get (C := RX1) (T := TX1) (N := 13) (ix := 0) (k := 11) (q0 := 0) G in_X1 rfl rfl (by decide) q51 rfl hd h
theorem xl_inverse (G : jx_G x cb ci cc nL own rm ret) {i9 : Nat} (hd : decode cc pc = .ok (.baload, 1)) (hi : i9 < 6) (h : jx_J x c0 c1 (XC cb ci o a n z fm fc ct fl kn fo fh ff ft fi fd) (pc + 1) lv (.int (nI (fi i9)) :: st)) : jx_J x c0 c1 (XC cb ci o a n z fm fc ct fl kn fo fh ff ft fi fd) pc lv (.int (nI i9) :: .ref (a 7) :: st) := jx_bald G 8 (f := fi) rfl (by decide) hd hi h
theorem xs_inverse (G : jx_G x cb ci cc nL own rm ret) {i9 v9 : Nat} (hd : decode cc pc = .ok (.bastore, 1)) (hi : i9 < 6) (hv : v9 < 128) (h : jx_J x c0 c1 (XC cb ci o a n z fm fc ct fl kn fo fh ff ft (upN fi i9 v9) fd) (pc + 1) lv st) : jx_J x c0 c1 (XC cb ci o a n z fm fc ct fl kn fo fh ff ft fi fd) pc lv (.int (nI v9) :: .int (nI i9) :: .ref (a 7) :: st) := jx_bast G 8 (f := fi) rfl (by decide) rfl hd hi hv h
theorem xg_made (G : jx_G x cb ci cc nL RX1 rm ret) (hd : decode cc pc = .ok (.getfield 35, 3)) (h : jx_J x c0 c1 (XC cb ci o a n z fm fc ct fl kn fo fh ff ft fi fd) (pc + 3) lv (.ref (a 8) :: st)) : jx_J x c0 c1 (XC cb ci o a n z fm fc ct fl kn fo fh ff ft fi fd) pc lv (.ref o :: st) := jx_get (C := RX1) (T := TX1) (N := 13) (ix := 0) (k := 12) (q0 := 0) G in_X1 rfl rfl (by decide) q52 rfl hd h
theorem xl_made (G : jx_G x cb ci cc nL own rm ret) {i9 : Nat} (hd : decode cc pc = .ok (.baload, 1)) (hi : i9 < 6) (h : jx_J x c0 c1 (XC cb ci o a n z fm fc ct fl kn fo fh ff ft fi fd) (pc + 1) lv (.int (nI (fd i9)) :: st)) : jx_J x c0 c1 (XC cb ci o a n z fm fc ct fl kn fo fh ff ft fi fd) pc lv (.int (nI i9) :: .ref (a 8) :: st) := jx_bald G 9 (f := fd) rfl (by decide) hd hi h
theorem xs_made (G : jx_G x cb ci cc nL own rm ret) {i9 v9 : Nat} (hd : decode cc pc = .ok (.bastore, 1)) (hi : i9 < 6) (hv : v9 < 128) (h : jx_J x c0 c1 (XC cb ci o a n z fm fc ct fl kn fo fh ff ft fi (upN fd i9 v9)) (pc + 1) lv st) : jx_J x c0 c1 (XC cb ci o a n z fm fc ct fl kn fo fh ff ft fi fd) pc lv (.int (nI v9) :: .int (nI i9) :: .ref (a 8) :: st) := jx_bast G 9 (f := fd) rfl (by decide) rfl hd hi hv h
theorem xc_i0 (G : jx_G x cb ci cc nL RX1 rm ret) {y : MethodName} {ws : List Cond} {rm' : Room} {bytes : ByteArray} {maxL idx : Nat} {rt : Option FieldType} {rest : List Value} {post : Int32 → va_W → Prop} (hM : ∀ (l : Launch) (D : va_G), jx_Ki l D cb ci y ws rm' 0 0 (.ref o :: []) (XC cb ci o a n z fm fc ct fl kn fo fh ff ft fi fd) post) (hcw : ∀ (s : State) (args : Array Value), (∀ w ∈ lw_all, w.before args s = true) → CallW rm s args RX1 RX1 idx y bytes maxL rt ws rm' 0 0 0) (hroom : (rest.map fun v => v.category).sum ≤ 8) (hd : decode cc pc = .ok (.invokevirtual idx, 3)) (k : ∀ (r : Int32) (w' : va_W), post r w' → jx_J x 0 0 w' (pc + 3) lv (.int r :: rest)) : jx_J x 0 0 (XC cb ci o a n z fm fc ct fl kn fo fh ff ft fi fd) pc lv (.ref o :: rest) := jx_calli (q0 := 0) (ix := 0) (T := TX1) (N := 13) G hM hcw rfl rfl rfl rfl hroom ⟨Nat.zero_le _, Nat.zero_le _⟩ hd k
theorem xc_i1 (G : jx_G x cb ci cc nL RX1 rm ret) {y : MethodName} {ws : List Cond} {rm' : Room} {bytes : ByteArray} {maxL idx : Nat} {rt : Option FieldType} {rest : List Value} {v1 : Int32} {post : Int32 → va_W → Prop} (hM : ∀ (l : Launch) (D : va_G), jx_Ki l D cb ci y ws rm' 0 0 (.ref o :: [.int v1]) (XC cb ci o a n z fm fc ct fl kn fo fh ff ft fi fd) post) (hcw : ∀ (s : State) (args : Array Value), (∀ w ∈ lw_all, w.before args s = true) → CallW rm s args RX1 RX1 idx y bytes maxL rt ws rm' 0 0 1) (hroom : (rest.map fun v => v.category).sum ≤ 8) (hd : decode cc pc = .ok (.invokevirtual idx, 3)) (k : ∀ (r : Int32) (w' : va_W), post r w' → jx_J x 0 0 w' (pc + 3) lv (.int r :: rest)) : jx_J x 0 0 (XC cb ci o a n z fm fc ct fl kn fo fh ff ft fi fd) pc lv (.int v1 :: .ref o :: rest) := jx_calli (q0 := 0) (ix := 0) (T := TX1) (N := 13) G hM hcw rfl rfl rfl rfl hroom ⟨Nat.zero_le _, Nat.zero_le _⟩ hd k
theorem xc_i2 (G : jx_G x cb ci cc nL RX1 rm ret) {y : MethodName} {ws : List Cond} {rm' : Room} {bytes : ByteArray} {maxL idx : Nat} {rt : Option FieldType} {rest : List Value} {v1 v2 : Int32} {post : Int32 → va_W → Prop} (hM : ∀ (l : Launch) (D : va_G), jx_Ki l D cb ci y ws rm' 0 0 (.ref o :: [.int v1, .int v2]) (XC cb ci o a n z fm fc ct fl kn fo fh ff ft fi fd) post) (hcw : ∀ (s : State) (args : Array Value), (∀ w ∈ lw_all, w.before args s = true) → CallW rm s args RX1 RX1 idx y bytes maxL rt ws rm' 0 0 2) (hroom : (rest.map fun v => v.category).sum ≤ 8) (hd : decode cc pc = .ok (.invokevirtual idx, 3)) (k : ∀ (r : Int32) (w' : va_W), post r w' → jx_J x 0 0 w' (pc + 3) lv (.int r :: rest)) : jx_J x 0 0 (XC cb ci o a n z fm fc ct fl kn fo fh ff ft fi fd) pc lv (.int v2 :: .int v1 :: .ref o :: rest) := jx_calli (q0 := 0) (ix := 0) (T := TX1) (N := 13) G hM hcw rfl rfl rfl rfl hroom ⟨Nat.zero_le _, Nat.zero_le _⟩ hd k
theorem xc_i3 (G : jx_G x cb ci cc nL RX1 rm ret) {y : MethodName} {ws : List Cond} {rm' : Room} {bytes : ByteArray} {maxL idx : Nat} {rt : Option FieldType} {rest : List Value} {v1 v2 v3 : Int32} {post : Int32 → va_W → Prop} (hM : ∀ (l : Launch) (D : va_G), jx_Ki l D cb ci y ws rm' 0 0 (.ref o :: [.int v1, .int v2, .int v3]) (XC cb ci o a n z fm fc ct fl kn fo fh ff ft fi fd) post) (hcw : ∀ (s : State) (args : Array Value), (∀ w ∈ lw_all, w.before args s = true) → CallW rm s args RX1 RX1 idx y bytes maxL rt ws rm' 0 0 3) (hroom : (rest.map fun v => v.category).sum ≤ 8) (hd : decode cc pc = .ok (.invokevirtual idx, 3)) (k : ∀ (r : Int32) (w' : va_W), post r w' → jx_J x 0 0 w' (pc + 3) lv (.int r :: rest)) : jx_J x 0 0 (XC cb ci o a n z fm fc ct fl kn fo fh ff ft fi fd) pc lv (.int v3 :: .int v2 :: .int v1 :: .ref o :: rest) := jx_calli (q0 := 0) (ix := 0) (T := TX1) (N := 13) G hM hcw rfl rfl rfl rfl hroom ⟨Nat.zero_le _, Nat.zero_le _⟩ hd k
theorem xc_v0 (G : jx_G x cb ci cc nL RX1 rm ret) {y : MethodName} {ws : List Cond} {rm' : Room} {bytes : ByteArray} {maxL idx : Nat} {rt : Option FieldType} {rest : List Value} {post : va_W → Prop} (hM : ∀ (l : Launch) (D : va_G), jx_Kv l D cb ci y ws rm' 0 0 (.ref o :: []) (XC cb ci o a n z fm fc ct fl kn fo fh ff ft fi fd) post) (hcw : ∀ (s : State) (args : Array Value), (∀ w ∈ lw_all, w.before args s = true) → CallW rm s args RX1 RX1 idx y bytes maxL rt ws rm' 0 0 0) (hroom : (rest.map fun v => v.category).sum ≤ 8) (hd : decode cc pc = .ok (.invokevirtual idx, 3)) (k : ∀ (w' : va_W), post w' → jx_J x 0 0 w' (pc + 3) lv rest) : jx_J x 0 0 (XC cb ci o a n z fm fc ct fl kn fo fh ff ft fi fd) pc lv (.ref o :: rest) := jx_callv (q0 := 0) (ix := 0) (T := TX1) (N := 13) G hM hcw rfl rfl rfl rfl hroom ⟨Nat.zero_le _, Nat.zero_le _⟩ hd k
theorem xc_v1 (G : jx_G x cb ci cc nL RX1 rm ret) {y : MethodName} {ws : List Cond} {rm' : Room} {bytes : ByteArray} {maxL idx : Nat} {rt : Option FieldType} {rest : List Value} {v1 : Int32} {post : va_W → Prop} (hM : ∀ (l : Launch) (D : va_G), jx_Kv l D cb ci y ws rm' 0 0 (.ref o :: [.int v1]) (XC cb ci o a n z fm fc ct fl kn fo fh ff ft fi fd) post) (hcw : ∀ (s : State) (args : Array Value), (∀ w ∈ lw_all, w.before args s = true) → CallW rm s args RX1 RX1 idx y bytes maxL rt ws rm' 0 0 1) (hroom : (rest.map fun v => v.category).sum ≤ 8) (hd : decode cc pc = .ok (.invokevirtual idx, 3)) (k : ∀ (w' : va_W), post w' → jx_J x 0 0 w' (pc + 3) lv rest) : jx_J x 0 0 (XC cb ci o a n z fm fc ct fl kn fo fh ff ft fi fd) pc lv (.int v1 :: .ref o :: rest) := jx_callv (q0 := 0) (ix := 0) (T := TX1) (N := 13) G hM hcw rfl rfl rfl rfl hroom ⟨Nat.zero_le _, Nat.zero_le _⟩ hd k
theorem xc_v2 (G : jx_G x cb ci cc nL RX1 rm ret) {y : MethodName} {ws : List Cond} {rm' : Room} {bytes : ByteArray} {maxL idx : Nat} {rt : Option FieldType} {rest : List Value} {v1 v2 : Int32} {post : va_W → Prop} (hM : ∀ (l : Launch) (D : va_G), jx_Kv l D cb ci y ws rm' 0 0 (.ref o :: [.int v1, .int v2]) (XC cb ci o a n z fm fc ct fl kn fo fh ff ft fi fd) post) (hcw : ∀ (s : State) (args : Array Value), (∀ w ∈ lw_all, w.before args s = true) → CallW rm s args RX1 RX1 idx y bytes maxL rt ws rm' 0 0 2) (hroom : (rest.map fun v => v.category).sum ≤ 8) (hd : decode cc pc = .ok (.invokevirtual idx, 3)) (k : ∀ (w' : va_W), post w' → jx_J x 0 0 w' (pc + 3) lv rest) : jx_J x 0 0 (XC cb ci o a n z fm fc ct fl kn fo fh ff ft fi fd) pc lv (.int v2 :: .int v1 :: .ref o :: rest) := jx_callv (q0 := 0) (ix := 0) (T := TX1) (N := 13) G hM hcw rfl rfl rfl rfl hroom ⟨Nat.zero_le _, Nat.zero_le _⟩ hd k
theorem xc_v3 (G : jx_G x cb ci cc nL RX1 rm ret) {y : MethodName} {ws : List Cond} {rm' : Room} {bytes : ByteArray} {maxL idx : Nat} {rt : Option FieldType} {rest : List Value} {v1 v2 v3 : Int32} {post : va_W → Prop} (hM : ∀ (l : Launch) (D : va_G), jx_Kv l D cb ci y ws rm' 0 0 (.ref o :: [.int v1, .int v2, .int v3]) (XC cb ci o a n z fm fc ct fl kn fo fh ff ft fi fd) post) (hcw : ∀ (s : State) (args : Array Value), (∀ w ∈ lw_all, w.before args s = true) → CallW rm s args RX1 RX1 idx y bytes maxL rt ws rm' 0 0 3) (hroom : (rest.map fun v => v.category).sum ≤ 8) (hd : decode cc pc = .ok (.invokevirtual idx, 3)) (k : ∀ (w' : va_W), post w' → jx_J x 0 0 w' (pc + 3) lv rest) : jx_J x 0 0 (XC cb ci o a n z fm fc ct fl kn fo fh ff ft fi fd) pc lv (.int v3 :: .int v2 :: .int v1 :: .ref o :: rest) := jx_callv (q0 := 0) (ix := 0) (T := TX1) (N := 13) G hM hcw rfl rfl rfl rfl hroom ⟨Nat.zero_le _, Nat.zero_le _⟩ hd k
theorem mg_n (G : jx_G x cb ci cc nL RX2 rm ret) (hd : decode cc pc = .ok (.getfield 29, 3)) (h : jx_J x c0 c1 (MC cb ci o a n z fm fc ct fl fb la fr) (pc + 3) lv (.int (nI n) :: st)) : jx_J x c0 c1 (MC cb ci o a n z fm fc ct fl fb la fr) pc lv (.ref o :: st) := jx_get (C := RX2) (T := TX2) (N := 9) (ix := 1) (k := 0) (q0 := 0) G in_X2 rfl rfl (by decide) q231 rfl hd h
theorem mg_size (G : jx_G x cb ci cc nL RX2 rm ret) (hd : decode cc pc = .ok (.getfield 7, 3)) (h : jx_J x c0 c1 (MC cb ci o a n z fm fc ct fl fb la fr) (pc + 3) lv (.int (nI z) :: st)) : jx_J x c0 c1 (MC cb ci o a n z fm fc ct fl fb la fr) pc lv (.ref o :: st) := jx_get (C := RX2) (T := TX2) (N := 9) (ix := 1) (k := 1) (q0 := 0) G in_X2 rfl rfl (by decide) q232 rfl hd h
theorem mp_size (G : jx_G x cb ci cc nL RX2 rm ret) {v9 : Nat} (hd : decode cc pc = .ok (.putfield 7, 3)) (h : jx_J x c0 c1 (MC cb ci o a n v9 fm fc ct fl fb la fr) (pc + 3) lv st) : jx_J x c0 c1 (MC cb ci o a n z fm fc ct fl fb la fr) pc lv (.int (nI v9) :: .ref o :: st) := jx_put (C := RX2) (T := TX2) (N := 9) (ix := 1) (k := 1) (q0 := 0) (ty := .int) G in_X2 tyX2 tyX2_ok nmX2 rfl rfl (by decide) q232 rfl rfl rfl rfl (by exact Nat.le_of_ble_eq_true rfl) rfl hd h
theorem mg_method (G : jx_G x cb ci cc nL RX2 rm ret) (hd : decode cc pc = .ok (.getfield 13, 3)) (h : jx_J x c0 c1 (MC cb ci o a n z fm fc ct fl fb la fr) (pc + 3) lv (.ref (a 0) :: st)) : jx_J x c0 c1 (MC cb ci o a n z fm fc ct fl fb la fr) pc lv (.ref o :: st) := jx_get (C := RX2) (T := TX2) (N := 9) (ix := 1) (k := 2) (q0 := 0) G in_X2 rfl rfl (by decide) q233 rfl hd h
theorem ml_method (G : jx_G x cb ci cc nL own rm ret) {i9 : Nat} (hd : decode cc pc = .ok (.iaload, 1)) (hi : i9 < 12) (h : jx_J x c0 c1 (MC cb ci o a n z fm fc ct fl fb la fr) (pc + 1) lv (.int (nI (fm i9)) :: st)) : jx_J x c0 c1 (MC cb ci o a n z fm fc ct fl fb la fr) pc lv (.int (nI i9) :: .ref (a 0) :: st) := jx_iald G 1 (f := fm) rfl (by decide) hd hi h
theorem ms_method (G : jx_G x cb ci cc nL own rm ret) {i9 v9 : Nat} (hd : decode cc pc = .ok (.iastore, 1)) (hi : i9 < 12) (h : jx_J x c0 c1 (MC cb ci o a n z (upN fm i9 v9) fc ct fl fb la fr) (pc + 1) lv st) : jx_J x c0 c1 (MC cb ci o a n z fm fc ct fl fb la fr) pc lv (.int (nI v9) :: .int (nI i9) :: .ref (a 0) :: st) := jx_iast G 1 (f := fm) rfl (by decide) rfl hd hi h
theorem mg_calls (G : jx_G x cb ci cc nL RX2 rm ret) (hd : decode cc pc = .ok (.getfield 17, 3)) (h : jx_J x c0 c1 (MC cb ci o a n z fm fc ct fl fb la fr) (pc + 3) lv (.ref (a 1) :: st)) : jx_J x c0 c1 (MC cb ci o a n z fm fc ct fl fb la fr) pc lv (.ref o :: st) := jx_get (C := RX2) (T := TX2) (N := 9) (ix := 1) (k := 3) (q0 := 0) G in_X2 rfl rfl (by decide) q234 rfl hd h
theorem ml_calls (G : jx_G x cb ci cc nL own rm ret) {i9 : Nat} (hd : decode cc pc = .ok (.iaload, 1)) (hi : i9 < 3) (h : jx_J x c0 c1 (MC cb ci o a n z fm fc ct fl fb la fr) (pc + 1) lv (.int (nI (fc i9)) :: st)) : jx_J x c0 c1 (MC cb ci o a n z fm fc ct fl fb la fr) pc lv (.int (nI i9) :: .ref (a 1) :: st) := jx_iald G 2 (f := fc) rfl (by decide) hd hi h
theorem ms_calls (G : jx_G x cb ci cc nL own rm ret) {i9 v9 : Nat} (hd : decode cc pc = .ok (.iastore, 1)) (hi : i9 < 3) (h : jx_J x c0 c1 (MC cb ci o a n z fm (upN fc i9 v9) ct fl fb la fr) (pc + 1) lv st) : jx_J x c0 c1 (MC cb ci o a n z fm fc ct fl fb la fr) pc lv (.int (nI v9) :: .int (nI i9) :: .ref (a 1) :: st) := jx_iast G 2 (f := fc) rfl (by decide) rfl hd hi h
theorem mg_count (G : jx_G x cb ci cc nL RX2 rm ret) (hd : decode cc pc = .ok (.getfield 39, 3)) (h : jx_J x c0 c1 (MC cb ci o a n z fm fc ct fl fb la fr) (pc + 3) lv (.int (nI ct) :: st)) : jx_J x c0 c1 (MC cb ci o a n z fm fc ct fl fb la fr) pc lv (.ref o :: st) := jx_get (C := RX2) (T := TX2) (N := 9) (ix := 1) (k := 4) (q0 := 0) G in_X2 rfl rfl (by decide) q235 rfl hd h
theorem mp_count (G : jx_G x cb ci cc nL RX2 rm ret) {v9 : Nat} (hd : decode cc pc = .ok (.putfield 39, 3)) (h : jx_J x c0 c1 (MC cb ci o a n z fm fc v9 fl fb la fr) (pc + 3) lv st) : jx_J x c0 c1 (MC cb ci o a n z fm fc ct fl fb la fr) pc lv (.int (nI v9) :: .ref o :: st) := jx_put (C := RX2) (T := TX2) (N := 9) (ix := 1) (k := 4) (q0 := 0) (ty := .int) G in_X2 tyX2 tyX2_ok nmX2 rfl rfl (by decide) q235 rfl rfl rfl rfl (by exact Nat.le_of_ble_eq_true rfl) rfl hd h
theorem mg_leads (G : jx_G x cb ci cc nL RX2 rm ret) (hd : decode cc pc = .ok (.getfield 20, 3)) (h : jx_J x c0 c1 (MC cb ci o a n z fm fc ct fl fb la fr) (pc + 3) lv (.ref (a 2) :: st)) : jx_J x c0 c1 (MC cb ci o a n z fm fc ct fl fb la fr) pc lv (.ref o :: st) := jx_get (C := RX2) (T := TX2) (N := 9) (ix := 1) (k := 5) (q0 := 0) G in_X2 rfl rfl (by decide) q236 rfl hd h
theorem ml_leads (G : jx_G x cb ci cc nL own rm ret) {i9 : Nat} (hd : decode cc pc = .ok (.iaload, 1)) (hi : i9 < 21) (h : jx_J x c0 c1 (MC cb ci o a n z fm fc ct fl fb la fr) (pc + 1) lv (.int (nI (fl i9)) :: st)) : jx_J x c0 c1 (MC cb ci o a n z fm fc ct fl fb la fr) pc lv (.int (nI i9) :: .ref (a 2) :: st) := jx_iald G 3 (f := fl) rfl (by decide) hd hi h
theorem ms_leads (G : jx_G x cb ci cc nL own rm ret) {i9 v9 : Nat} (hd : decode cc pc = .ok (.iastore, 1)) (hi : i9 < 21) (h : jx_J x c0 c1 (MC cb ci o a n z fm fc ct (upN fl i9 v9) fb la fr) (pc + 1) lv st) : jx_J x c0 c1 (MC cb ci o a n z fm fc ct fl fb la fr) pc lv (.int (nI v9) :: .int (nI i9) :: .ref (a 2) :: st) := jx_iast G 3 (f := fl) rfl (by decide) rfl hd hi h
theorem mg_bells (G : jx_G x cb ci cc nL RX2 rm ret) (hd : decode cc pc = .ok (.getfield 23, 3)) (h : jx_J x c0 c1 (MC cb ci o a n z fm fc ct fl fb la fr) (pc + 3) lv (.ref (a 3) :: st)) : jx_J x c0 c1 (MC cb ci o a n z fm fc ct fl fb la fr) pc lv (.ref o :: st) := jx_get (C := RX2) (T := TX2) (N := 9) (ix := 1) (k := 6) (q0 := 0) G in_X2 rfl rfl (by decide) q237 rfl hd h
theorem ml_bells (G : jx_G x cb ci cc nL own rm ret) {i9 : Nat} (hd : decode cc pc = .ok (.iaload, 1)) (hi : i9 < 6) (h : jx_J x c0 c1 (MC cb ci o a n z fm fc ct fl fb la fr) (pc + 1) lv (.int (nI (fb i9)) :: st)) : jx_J x c0 c1 (MC cb ci o a n z fm fc ct fl fb la fr) pc lv (.int (nI i9) :: .ref (a 3) :: st) := jx_iald G 4 (f := fb) rfl (by decide) hd hi h
theorem ms_bells (G : jx_G x cb ci cc nL own rm ret) {i9 v9 : Nat} (hd : decode cc pc = .ok (.iastore, 1)) (hi : i9 < 6) (h : jx_J x c0 c1 (MC cb ci o a n z fm fc ct fl (upN fb i9 v9) la fr) (pc + 1) lv st) : jx_J x c0 c1 (MC cb ci o a n z fm fc ct fl fb la fr) pc lv (.int (nI v9) :: .int (nI i9) :: .ref (a 3) :: st) := jx_iast G 4 (f := fb) rfl (by decide) rfl hd hi h
theorem mg_last (G : jx_G x cb ci cc nL RX2 rm ret) (hd : decode cc pc = .ok (.getfield 46, 3)) (h : jx_J x c0 c1 (MC cb ci o a n z fm fc ct fl fb la fr) (pc + 3) lv (.int (nI la) :: st)) : jx_J x c0 c1 (MC cb ci o a n z fm fc ct fl fb la fr) pc lv (.ref o :: st) := jx_get (C := RX2) (T := TX2) (N := 9) (ix := 1) (k := 7) (q0 := 0) G in_X2 rfl rfl (by decide) q238 rfl hd h
theorem mp_last (G : jx_G x cb ci cc nL RX2 rm ret) {v9 : Nat} (hd : decode cc pc = .ok (.putfield 46, 3)) (h : jx_J x c0 c1 (MC cb ci o a n z fm fc ct fl fb v9 fr) (pc + 3) lv st) : jx_J x c0 c1 (MC cb ci o a n z fm fc ct fl fb la fr) pc lv (.int (nI v9) :: .ref o :: st) := jx_put (C := RX2) (T := TX2) (N := 9) (ix := 1) (k := 7) (q0 := 0) (ty := .int) G in_X2 tyX2 tyX2_ok nmX2 rfl rfl (by decide) q238 rfl rfl rfl rfl (by exact Nat.le_of_ble_eq_true rfl) rfl hd h
theorem mg_rows (G : jx_G x cb ci cc nL RX2 rm ret) (hd : decode cc pc = .ok (.getfield 26, 3)) (h : jx_J x c0 c1 (MC cb ci o a n z fm fc ct fl fb la fr) (pc + 3) lv (.ref (a 4) :: st)) : jx_J x c0 c1 (MC cb ci o a n z fm fc ct fl fb la fr) pc lv (.ref o :: st) := jx_get (C := RX2) (T := TX2) (N := 9) (ix := 1) (k := 8) (q0 := 0) G in_X2 rfl rfl (by decide) q239 rfl hd h
theorem ml_rows (G : jx_G x cb ci cc nL own rm ret) {i9 : Nat} (hd : decode cc pc = .ok (.iaload, 1)) (hi : i9 < 260) (h : jx_J x c0 c1 (MC cb ci o a n z fm fc ct fl fb la fr) (pc + 1) lv (.int (nI (fr i9)) :: st)) : jx_J x c0 c1 (MC cb ci o a n z fm fc ct fl fb la fr) pc lv (.int (nI i9) :: .ref (a 4) :: st) := jx_iald G 5 (f := fr) rfl (by decide) hd hi h
theorem ms_rows (G : jx_G x cb ci cc nL own rm ret) {i9 v9 : Nat} (hd : decode cc pc = .ok (.iastore, 1)) (hi : i9 < 260) (h : jx_J x c0 c1 (MC cb ci o a n z fm fc ct fl fb la (upN fr i9 v9)) (pc + 1) lv st) : jx_J x c0 c1 (MC cb ci o a n z fm fc ct fl fb la fr) pc lv (.int (nI v9) :: .int (nI i9) :: .ref (a 4) :: st) := jx_iast G 5 (f := fr) rfl (by decide) rfl hd hi h
theorem mc_i0 (G : jx_G x cb ci cc nL RX2 rm ret) {y : MethodName} {ws : List Cond} {rm' : Room} {bytes : ByteArray} {maxL idx : Nat} {rt : Option FieldType} {rest : List Value} {post : Int32 → va_W → Prop} (hM : ∀ (l : Launch) (D : va_G), jx_Ki l D cb ci y ws rm' 0 0 (.ref o :: []) (MC cb ci o a n z fm fc ct fl fb la fr) post) (hcw : ∀ (s : State) (args : Array Value), (∀ w ∈ lw_all, w.before args s = true) → CallW rm s args RX2 RX2 idx y bytes maxL rt ws rm' 0 0 0) (hroom : (rest.map fun v => v.category).sum ≤ 8) (hd : decode cc pc = .ok (.invokevirtual idx, 3)) (k : ∀ (r : Int32) (w' : va_W), post r w' → jx_J x 0 0 w' (pc + 3) lv (.int r :: rest)) : jx_J x 0 0 (MC cb ci o a n z fm fc ct fl fb la fr) pc lv (.ref o :: rest) := jx_calli (q0 := 0) (ix := 1) (T := TX2) (N := 9) G hM hcw rfl rfl rfl rfl hroom ⟨Nat.zero_le _, Nat.zero_le _⟩ hd k
theorem mc_i1 (G : jx_G x cb ci cc nL RX2 rm ret) {y : MethodName} {ws : List Cond} {rm' : Room} {bytes : ByteArray} {maxL idx : Nat} {rt : Option FieldType} {rest : List Value} {v1 : Int32} {post : Int32 → va_W → Prop} (hM : ∀ (l : Launch) (D : va_G), jx_Ki l D cb ci y ws rm' 0 0 (.ref o :: [.int v1]) (MC cb ci o a n z fm fc ct fl fb la fr) post) (hcw : ∀ (s : State) (args : Array Value), (∀ w ∈ lw_all, w.before args s = true) → CallW rm s args RX2 RX2 idx y bytes maxL rt ws rm' 0 0 1) (hroom : (rest.map fun v => v.category).sum ≤ 8) (hd : decode cc pc = .ok (.invokevirtual idx, 3)) (k : ∀ (r : Int32) (w' : va_W), post r w' → jx_J x 0 0 w' (pc + 3) lv (.int r :: rest)) : jx_J x 0 0 (MC cb ci o a n z fm fc ct fl fb la fr) pc lv (.int v1 :: .ref o :: rest) := jx_calli (q0 := 0) (ix := 1) (T := TX2) (N := 9) G hM hcw rfl rfl rfl rfl hroom ⟨Nat.zero_le _, Nat.zero_le _⟩ hd k
theorem mc_i2 (G : jx_G x cb ci cc nL RX2 rm ret) {y : MethodName} {ws : List Cond} {rm' : Room} {bytes : ByteArray} {maxL idx : Nat} {rt : Option FieldType} {rest : List Value} {v1 v2 : Int32} {post : Int32 → va_W → Prop} (hM : ∀ (l : Launch) (D : va_G), jx_Ki l D cb ci y ws rm' 0 0 (.ref o :: [.int v1, .int v2]) (MC cb ci o a n z fm fc ct fl fb la fr) post) (hcw : ∀ (s : State) (args : Array Value), (∀ w ∈ lw_all, w.before args s = true) → CallW rm s args RX2 RX2 idx y bytes maxL rt ws rm' 0 0 2) (hroom : (rest.map fun v => v.category).sum ≤ 8) (hd : decode cc pc = .ok (.invokevirtual idx, 3)) (k : ∀ (r : Int32) (w' : va_W), post r w' → jx_J x 0 0 w' (pc + 3) lv (.int r :: rest)) : jx_J x 0 0 (MC cb ci o a n z fm fc ct fl fb la fr) pc lv (.int v2 :: .int v1 :: .ref o :: rest) := jx_calli (q0 := 0) (ix := 1) (T := TX2) (N := 9) G hM hcw rfl rfl rfl rfl hroom ⟨Nat.zero_le _, Nat.zero_le _⟩ hd k
theorem mc_i3 (G : jx_G x cb ci cc nL RX2 rm ret) {y : MethodName} {ws : List Cond} {rm' : Room} {bytes : ByteArray} {maxL idx : Nat} {rt : Option FieldType} {rest : List Value} {v1 v2 v3 : Int32} {post : Int32 → va_W → Prop} (hM : ∀ (l : Launch) (D : va_G), jx_Ki l D cb ci y ws rm' 0 0 (.ref o :: [.int v1, .int v2, .int v3]) (MC cb ci o a n z fm fc ct fl fb la fr) post) (hcw : ∀ (s : State) (args : Array Value), (∀ w ∈ lw_all, w.before args s = true) → CallW rm s args RX2 RX2 idx y bytes maxL rt ws rm' 0 0 3) (hroom : (rest.map fun v => v.category).sum ≤ 8) (hd : decode cc pc = .ok (.invokevirtual idx, 3)) (k : ∀ (r : Int32) (w' : va_W), post r w' → jx_J x 0 0 w' (pc + 3) lv (.int r :: rest)) : jx_J x 0 0 (MC cb ci o a n z fm fc ct fl fb la fr) pc lv (.int v3 :: .int v2 :: .int v1 :: .ref o :: rest) := jx_calli (q0 := 0) (ix := 1) (T := TX2) (N := 9) G hM hcw rfl rfl rfl rfl hroom ⟨Nat.zero_le _, Nat.zero_le _⟩ hd k
theorem mc_v0 (G : jx_G x cb ci cc nL RX2 rm ret) {y : MethodName} {ws : List Cond} {rm' : Room} {bytes : ByteArray} {maxL idx : Nat} {rt : Option FieldType} {rest : List Value} {post : va_W → Prop} (hM : ∀ (l : Launch) (D : va_G), jx_Kv l D cb ci y ws rm' 0 0 (.ref o :: []) (MC cb ci o a n z fm fc ct fl fb la fr) post) (hcw : ∀ (s : State) (args : Array Value), (∀ w ∈ lw_all, w.before args s = true) → CallW rm s args RX2 RX2 idx y bytes maxL rt ws rm' 0 0 0) (hroom : (rest.map fun v => v.category).sum ≤ 8) (hd : decode cc pc = .ok (.invokevirtual idx, 3)) (k : ∀ (w' : va_W), post w' → jx_J x 0 0 w' (pc + 3) lv rest) : jx_J x 0 0 (MC cb ci o a n z fm fc ct fl fb la fr) pc lv (.ref o :: rest) := jx_callv (q0 := 0) (ix := 1) (T := TX2) (N := 9) G hM hcw rfl rfl rfl rfl hroom ⟨Nat.zero_le _, Nat.zero_le _⟩ hd k
theorem mc_v1 (G : jx_G x cb ci cc nL RX2 rm ret) {y : MethodName} {ws : List Cond} {rm' : Room} {bytes : ByteArray} {maxL idx : Nat} {rt : Option FieldType} {rest : List Value} {v1 : Int32} {post : va_W → Prop} (hM : ∀ (l : Launch) (D : va_G), jx_Kv l D cb ci y ws rm' 0 0 (.ref o :: [.int v1]) (MC cb ci o a n z fm fc ct fl fb la fr) post) (hcw : ∀ (s : State) (args : Array Value), (∀ w ∈ lw_all, w.before args s = true) → CallW rm s args RX2 RX2 idx y bytes maxL rt ws rm' 0 0 1) (hroom : (rest.map fun v => v.category).sum ≤ 8) (hd : decode cc pc = .ok (.invokevirtual idx, 3)) (k : ∀ (w' : va_W), post w' → jx_J x 0 0 w' (pc + 3) lv rest) : jx_J x 0 0 (MC cb ci o a n z fm fc ct fl fb la fr) pc lv (.int v1 :: .ref o :: rest) := jx_callv (q0 := 0) (ix := 1) (T := TX2) (N := 9) G hM hcw rfl rfl rfl rfl hroom ⟨Nat.zero_le _, Nat.zero_le _⟩ hd k
theorem mc_v2 (G : jx_G x cb ci cc nL RX2 rm ret) {y : MethodName} {ws : List Cond} {rm' : Room} {bytes : ByteArray} {maxL idx : Nat} {rt : Option FieldType} {rest : List Value} {v1 v2 : Int32} {post : va_W → Prop} (hM : ∀ (l : Launch) (D : va_G), jx_Kv l D cb ci y ws rm' 0 0 (.ref o :: [.int v1, .int v2]) (MC cb ci o a n z fm fc ct fl fb la fr) post) (hcw : ∀ (s : State) (args : Array Value), (∀ w ∈ lw_all, w.before args s = true) → CallW rm s args RX2 RX2 idx y bytes maxL rt ws rm' 0 0 2) (hroom : (rest.map fun v => v.category).sum ≤ 8) (hd : decode cc pc = .ok (.invokevirtual idx, 3)) (k : ∀ (w' : va_W), post w' → jx_J x 0 0 w' (pc + 3) lv rest) : jx_J x 0 0 (MC cb ci o a n z fm fc ct fl fb la fr) pc lv (.int v2 :: .int v1 :: .ref o :: rest) := jx_callv (q0 := 0) (ix := 1) (T := TX2) (N := 9) G hM hcw rfl rfl rfl rfl hroom ⟨Nat.zero_le _, Nat.zero_le _⟩ hd k
theorem mc_v3 (G : jx_G x cb ci cc nL RX2 rm ret) {y : MethodName} {ws : List Cond} {rm' : Room} {bytes : ByteArray} {maxL idx : Nat} {rt : Option FieldType} {rest : List Value} {v1 v2 v3 : Int32} {post : va_W → Prop} (hM : ∀ (l : Launch) (D : va_G), jx_Kv l D cb ci y ws rm' 0 0 (.ref o :: [.int v1, .int v2, .int v3]) (MC cb ci o a n z fm fc ct fl fb la fr) post) (hcw : ∀ (s : State) (args : Array Value), (∀ w ∈ lw_all, w.before args s = true) → CallW rm s args RX2 RX2 idx y bytes maxL rt ws rm' 0 0 3) (hroom : (rest.map fun v => v.category).sum ≤ 8) (hd : decode cc pc = .ok (.invokevirtual idx, 3)) (k : ∀ (w' : va_W), post w' → jx_J x 0 0 w' (pc + 3) lv rest) : jx_J x 0 0 (MC cb ci o a n z fm fc ct fl fb la fr) pc lv (.int v3 :: .int v2 :: .int v1 :: .ref o :: rest) := jx_callv (q0 := 0) (ix := 1) (T := TX2) (N := 9) G hM hcw rfl rfl rfl rfl hroom ⟨Nat.zero_le _, Nat.zero_le _⟩ hd k
end WX
abbrev rmX1_init : Room := { frames := 1, cells := 9, slots := 637, locals := 13 }
abbrev wsX1_init : List Cond := ws_ yX1_init cX1_init 2 none
abbrev rmX1_change : Room := { frames := 1, cells := 0, slots := 0, locals := 23 }
abbrev wsX1_change : List Cond := ws_ yX1_change cX1_change 3 (some .int)
abbrev rmX1_isChange : Room := { frames := 0, cells := 0, slots := 0, locals := 0 }
abbrev wsX1_isChange : List Cond := ws_ yX1_isChange cX1_isChange 4 (some .boolean)
abbrev rmX1_drop : Room := { frames := 0, cells := 0, slots := 0, locals := 0 }
abbrev wsX1_drop : List Cond := ws_ yX1_drop cX1_drop 3 (some .int)
abbrev rmX1_call : Room := { frames := 1, cells := 0, slots := 0, locals := 23 }
abbrev wsX1_call : List Cond := ws_ yX1_call cX1_call 5 (some .int)
abbrev rmX1_lead : Room := { frames := 1, cells := 0, slots := 0, locals := 21 }
abbrev wsX1_lead : List Cond := ws_ yX1_lead cX1_lead 2 (some .int)
abbrev rmX1_badCall : Room := { frames := 0, cells := 0, slots := 0, locals := 0 }
abbrev wsX1_badCall : List Cond := ws_ yX1_badCall cX1_badCall 2 (some .boolean)
abbrev rmX1_back : Room := { frames := 0, cells := 0, slots := 0, locals := 0 }
abbrev wsX1_back : List Cond := ws_ yX1_back cX1_back 1 (some .int)
abbrev rmX1_turn : Room := { frames := 0, cells := 0, slots := 0, locals := 0 }
abbrev wsX1_turn : List Cond := ws_ yX1_turn cX1_turn 3 (some .int)
abbrev rmX1_last : Room := { frames := 0, cells := 0, slots := 0, locals := 0 }
abbrev wsX1_last : List Cond := ws_ yX1_last cX1_last 1 (some .int)
abbrev rmX1_row : Room := { frames := 5, cells := 0, slots := 0, locals := 114 }
abbrev wsX1_row : List Cond := ws_ yX1_row cX1_row 5 (some .int)
abbrev rmX1_noRow : Room := { frames := 0, cells := 0, slots := 0, locals := 0 }
abbrev wsX1_noRow : List Cond := ws_ yX1_noRow cX1_noRow 2 (some .boolean)
abbrev rmX1_findHeads : Room := { frames := 4, cells := 0, slots := 0, locals := 91 }
abbrev wsX1_findHeads : List Cond := ws_ yX1_findHeads cX1_findHeads 4 none
abbrev rmX1_find : Room := { frames := 3, cells := 0, slots := 0, locals := 70 }
abbrev wsX1_find : List Cond := ws_ yX1_find cX1_find 2 none
abbrev rmX1_findOffsets : Room := { frames := 2, cells := 0, slots := 0, locals := 48 }
abbrev wsX1_findOffsets : List Cond := ws_ yX1_findOffsets cX1_findOffsets 3 none
abbrev rmX1_step : Room := { frames := 1, cells := 0, slots := 0, locals := 22 }
abbrev wsX1_step : List Cond := ws_ yX1_step cX1_step 7 none
abbrev rmX1_offsetAt : Room := { frames := 0, cells := 0, slots := 0, locals := 0 }
abbrev wsX1_offsetAt : List Cond := ws_ yX1_offsetAt cX1_offsetAt 3 (some .int)
abbrev rmX1_findFalse : Room := { frames := 1, cells := 0, slots := 0, locals := 24 }
abbrev wsX1_findFalse : List Cond := ws_ yX1_findFalse cX1_findFalse 8 none
abbrev rmX1_rankMade : Room := { frames := 0, cells := 0, slots := 0, locals := 0 }
abbrev wsX1_rankMade : List Cond := ws_ yX1_rankMade cX1_rankMade 5 (some .int)
abbrev rmX1_bellAt : Room := { frames := 1, cells := 0, slots := 0, locals := 22 }
abbrev wsX1_bellAt : List Cond := ws_ yX1_bellAt cX1_bellAt 5 (some .int)
abbrev rmX1_place : Room := { frames := 5, cells := 0, slots := 0, locals := 114 }
abbrev wsX1_place : List Cond := ws_ yX1_place cX1_place 6 (some .int)
abbrev rmX1_isTrue : Room := { frames := 5, cells := 0, slots := 0, locals := 114 }
abbrev wsX1_isTrue : List Cond := ws_ yX1_isTrue cX1_isTrue 2 (some .int)
abbrev rmX1_allTrue : Room := { frames := 3, cells := 0, slots := 0, locals := 73 }
abbrev wsX1_allTrue : List Cond := ws_ yX1_allTrue cX1_allTrue 4 (some .boolean)
abbrev rmX1_aloneFalse : Room := { frames := 2, cells := 0, slots := 0, locals := 47 }
abbrev wsX1_aloneFalse : List Cond := ws_ yX1_aloneFalse cX1_aloneFalse 6 (some .boolean)
abbrev rmX1_clearMet : Room := { frames := 0, cells := 0, slots := 0, locals := 0 }
abbrev wsX1_clearMet : List Cond := ws_ yX1_clearMet cX1_clearMet 2 none
abbrev rmX1_meetMade : Room := { frames := 1, cells := 0, slots := 0, locals := 24 }
abbrev wsX1_meetMade : List Cond := ws_ yX1_meetMade cX1_meetMade 4 (some .boolean)
abbrev rmX1_countFalse : Room := { frames := 2, cells := 0, slots := 0, locals := 48 }
abbrev wsX1_countFalse : List Cond := ws_ yX1_countFalse cX1_countFalse 6 (some .int)
abbrev rmX1_pairFalse : Room := { frames := 1, cells := 0, slots := 0, locals := 24 }
abbrev wsX1_pairFalse : List Cond := ws_ yX1_pairFalse cX1_pairFalse 5 (some .boolean)
abbrev rmX1_different : Room := { frames := 5, cells := 0, slots := 0, locals := 114 }
abbrev wsX1_different : List Cond := ws_ yX1_different cX1_different 5 (some .int)
abbrev rmX1_falsePairs : Room := { frames := 5, cells := 0, slots := 0, locals := 114 }
abbrev wsX1_falsePairs : List Cond := ws_ yX1_falsePairs cX1_falsePairs 1 (some .int)
abbrev rmX1_falseAlone : Room := { frames := 4, cells := 0, slots := 0, locals := 91 }
abbrev wsX1_falseAlone : List Cond := ws_ yX1_falseAlone cX1_falseAlone 3 (some .int)
abbrev rmX1_order : Room := { frames := 4, cells := 0, slots := 0, locals := 91 }
abbrev wsX1_order : List Cond := ws_ yX1_order cX1_order 8 (some .int)
abbrev rmX1_greatest : Room := { frames := 0, cells := 0, slots := 0, locals := 0 }
abbrev wsX1_greatest : List Cond := ws_ yX1_greatest cX1_greatest 6 (some .int)
abbrev rmX1_home : Room := { frames := 5, cells := 0, slots := 0, locals := 114 }
abbrev wsX1_home : List Cond := ws_ yX1_home cX1_home 3 (some .int)
abbrev rmX1_leads : Room := { frames := 5, cells := 0, slots := 0, locals := 114 }
abbrev wsX1_leads : List Cond := ws_ yX1_leads cX1_leads 5 (some .int)
abbrev rmX1_choices : Room := { frames := 5, cells := 0, slots := 0, locals := 114 }
abbrev wsX1_choices : List Cond := ws_ yX1_choices cX1_choices 6 (some .int)
abbrev rmX2_init : Room := { frames := 1, cells := 5, slots := 302, locals := 13 }
abbrev wsX2_init : List Cond := ws_ yX2_init cX2_init 2 none
abbrev rmX2_change : Room := { frames := 1, cells := 0, slots := 0, locals := 22 }
abbrev wsX2_change : List Cond := ws_ yX2_change cX2_change 2 (some .int)
abbrev rmX2_isChange : Room := { frames := 0, cells := 0, slots := 0, locals := 0 }
abbrev wsX2_isChange : List Cond := ws_ yX2_isChange cX2_isChange 3 (some .boolean)
abbrev rmX2_drop : Room := { frames := 0, cells := 0, slots := 0, locals := 0 }
abbrev wsX2_drop : List Cond := ws_ yX2_drop cX2_drop 3 (some .int)
abbrev rmX2_call : Room := { frames := 1, cells := 0, slots := 0, locals := 22 }
abbrev wsX2_call : List Cond := ws_ yX2_call cX2_call 4 (some .int)
abbrev rmX2_lead : Room := { frames := 1, cells := 0, slots := 0, locals := 21 }
abbrev wsX2_lead : List Cond := ws_ yX2_lead cX2_lead 2 (some .int)
abbrev rmX2_noCall : Room := { frames := 0, cells := 0, slots := 0, locals := 0 }
abbrev wsX2_noCall : List Cond := ws_ yX2_noCall cX2_noCall 2 (some .boolean)
abbrev rmX2_back : Room := { frames := 0, cells := 0, slots := 0, locals := 0 }
abbrev wsX2_back : List Cond := ws_ yX2_back cX2_back 1 (some .int)
abbrev rmX2_turn : Room := { frames := 0, cells := 0, slots := 0, locals := 0 }
abbrev wsX2_turn : List Cond := ws_ yX2_turn cX2_turn 3 (some .int)
abbrev rmX2_last : Room := { frames := 0, cells := 0, slots := 0, locals := 0 }
abbrev wsX2_last : List Cond := ws_ yX2_last cX2_last 1 (some .int)
abbrev rmX2_row : Room := { frames := 3, cells := 0, slots := 0, locals := 66 }
abbrev wsX2_row : List Cond := ws_ yX2_row cX2_row 2 (some .int)
abbrev rmX2_write : Room := { frames := 2, cells := 0, slots := 0, locals := 45 }
abbrev wsX2_write : List Cond := ws_ yX2_write cX2_write 2 none
abbrev rmX2_round : Room := { frames := 0, cells := 0, slots := 0, locals := 0 }
abbrev wsX2_round : List Cond := ws_ yX2_round cX2_round 2 none
abbrev rmX2_code : Room := { frames := 0, cells := 0, slots := 0, locals := 0 }
abbrev wsX2_code : List Cond := ws_ yX2_code cX2_code 3 (some .int)
abbrev rmX2_ring : Room := { frames := 1, cells := 0, slots := 0, locals := 23 }
abbrev wsX2_ring : List Cond := ws_ yX2_ring cX2_ring 3 none
abbrev rmX2_exchange : Room := { frames := 0, cells := 0, slots := 0, locals := 0 }
abbrev wsX2_exchange : List Cond := ws_ yX2_exchange cX2_exchange 4 none
abbrev rmX2_find : Room := { frames := 0, cells := 0, slots := 0, locals := 0 }
abbrev wsX2_find : List Cond := ws_ yX2_find cX2_find 2 (some .int)
abbrev rmX2_place : Room := { frames := 3, cells := 0, slots := 0, locals := 66 }
abbrev wsX2_place : List Cond := ws_ yX2_place cX2_place 5 (some .int)
abbrev rmX2_noBell : Room := { frames := 0, cells := 0, slots := 0, locals := 0 }
abbrev wsX2_noBell : List Cond := ws_ yX2_noBell cX2_noBell 2 (some .boolean)
abbrev rmX2_isTrue : Room := { frames := 3, cells := 0, slots := 0, locals := 66 }
abbrev wsX2_isTrue : List Cond := ws_ yX2_isTrue cX2_isTrue 2 (some .int)
abbrev rmX2_countDifferent : Room := { frames := 0, cells := 0, slots := 0, locals := 0 }
abbrev wsX2_countDifferent : List Cond := ws_ yX2_countDifferent cX2_countDifferent 5 (some .int)
abbrev rmX2_different : Room := { frames := 3, cells := 0, slots := 0, locals := 66 }
abbrev wsX2_different : List Cond := ws_ yX2_different cX2_different 1 (some .int)
abbrev rmX2_falsePairs : Room := { frames := 3, cells := 0, slots := 0, locals := 66 }
abbrev wsX2_falsePairs : List Cond := ws_ yX2_falsePairs cX2_falsePairs 4 (some .int)
abbrev rmX2_share : Room := { frames := 0, cells := 0, slots := 0, locals := 0 }
abbrev wsX2_share : List Cond := ws_ yX2_share cX2_share 5 (some .boolean)
abbrev rmX2_falseAlone : Room := { frames := 2, cells := 0, slots := 0, locals := 45 }
abbrev wsX2_falseAlone : List Cond := ws_ yX2_falseAlone cX2_falseAlone 3 (some .int)
abbrev rmX2_order : Room := { frames := 2, cells := 0, slots := 0, locals := 45 }
abbrev wsX2_order : List Cond := ws_ yX2_order cX2_order 5 (some .int)
abbrev rmX2_home : Room := { frames := 3, cells := 0, slots := 0, locals := 66 }
abbrev wsX2_home : List Cond := ws_ yX2_home cX2_home 1 (some .int)
abbrev rmX2_leads : Room := { frames := 3, cells := 0, slots := 0, locals := 66 }
abbrev wsX2_leads : List Cond := ws_ yX2_leads cX2_leads 5 (some .int)
abbrev rmX2_choices : Room := { frames := 3, cells := 0, slots := 0, locals := 66 }
abbrev wsX2_choices : List Cond := ws_ yX2_choices cX2_choices 4 (some .int)
theorem cwL_X1_change {rm : Room} (hR : rmX1_change.frames + 1 ≤ rm.frames ∧ 8 + (3 + 11) + rmX1_change.locals ≤ rm.locals) (s : State) (args : Array Value) (hts : ∀ w ∈ lw_all, w.before args s = true) : CallW rm s args RX0 RX1 21 yX1_change cX1_change 3 (some .int) wsX1_change rmX1_change 0 0 1 := cwV 1 hts (lw_V q82 q83 q84 q30 q85) rfl rfl rfl (by decide +kernel) hR
theorem cwL_X2_change {rm : Room} (hR : rmX2_change.frames + 1 ≤ rm.frames ∧ 8 + (2 + 11) + rmX2_change.locals ≤ rm.locals) (s : State) (args : Array Value) (hts : ∀ w ∈ lw_all, w.before args s = true) : CallW rm s args RX0 RX2 25 yX2_change cX2_change 2 (some .int) wsX2_change rmX2_change 0 0 1 := cwV 1 hts (lw_V q259 q260 q261 q31 q262) rfl rfl rfl (by decide +kernel) hR
theorem cwL_X1_drop {rm : Room} (hR : rmX1_drop.frames + 1 ≤ rm.frames ∧ 8 + (3 + 11) + rmX1_drop.locals ≤ rm.locals) (s : State) (args : Array Value) (hts : ∀ w ∈ lw_all, w.before args s = true) : CallW rm s args RX0 RX1 26 yX1_drop cX1_drop 3 (some .int) wsX1_drop rmX1_drop 0 0 0 := cwV 0 hts (lw_V q90 q91 q92 q30 q93) rfl rfl rfl (by decide +kernel) hR
theorem cwL_X2_drop {rm : Room} (hR : rmX2_drop.frames + 1 ≤ rm.frames ∧ 8 + (3 + 11) + rmX2_drop.locals ≤ rm.locals) (s : State) (args : Array Value) (hts : ∀ w ∈ lw_all, w.before args s = true) : CallW rm s args RX0 RX2 30 yX2_drop cX2_drop 3 (some .int) wsX2_drop rmX2_drop 0 0 0 := cwV 0 hts (lw_V q267 q268 q269 q31 q270) rfl rfl rfl (by decide +kernel) hR
theorem cwL_X1_call {rm : Room} (hR : rmX1_call.frames + 1 ≤ rm.frames ∧ 8 + (5 + 11) + rmX1_call.locals ≤ rm.locals) (s : State) (args : Array Value) (hts : ∀ w ∈ lw_all, w.before args s = true) : CallW rm s args RX0 RX1 31 yX1_call cX1_call 5 (some .int) wsX1_call rmX1_call 0 0 2 := cwV 2 hts (lw_V q94 q95 q96 q30 q97) rfl rfl rfl (by decide +kernel) hR
theorem cwL_X2_call {rm : Room} (hR : rmX2_call.frames + 1 ≤ rm.frames ∧ 8 + (4 + 11) + rmX2_call.locals ≤ rm.locals) (s : State) (args : Array Value) (hts : ∀ w ∈ lw_all, w.before args s = true) : CallW rm s args RX0 RX2 35 yX2_call cX2_call 4 (some .int) wsX2_call rmX2_call 0 0 2 := cwV 2 hts (lw_V q271 q272 q273 q31 q274) rfl rfl rfl (by decide +kernel) hR
theorem cwL_X1_lead {rm : Room} (hR : rmX1_lead.frames + 1 ≤ rm.frames ∧ 8 + (2 + 11) + rmX1_lead.locals ≤ rm.locals) (s : State) (args : Array Value) (hts : ∀ w ∈ lw_all, w.before args s = true) : CallW rm s args RX0 RX1 36 yX1_lead cX1_lead 2 (some .int) wsX1_lead rmX1_lead 0 0 1 := cwV 1 hts (lw_V q98 q99 q100 q30 q101) rfl rfl rfl (by decide +kernel) hR
theorem cwL_X2_lead {rm : Room} (hR : rmX2_lead.frames + 1 ≤ rm.frames ∧ 8 + (2 + 11) + rmX2_lead.locals ≤ rm.locals) (s : State) (args : Array Value) (hts : ∀ w ∈ lw_all, w.before args s = true) : CallW rm s args RX0 RX2 39 yX2_lead cX2_lead 2 (some .int) wsX2_lead rmX2_lead 0 0 1 := cwV 1 hts (lw_V q275 q276 q277 q31 q278) rfl rfl rfl (by decide +kernel) hR
theorem cwL_X1_back {rm : Room} (hR : rmX1_back.frames + 1 ≤ rm.frames ∧ 8 + (1 + 11) + rmX1_back.locals ≤ rm.locals) (s : State) (args : Array Value) (hts : ∀ w ∈ lw_all, w.before args s = true) : CallW rm s args RX0 RX1 40 yX1_back cX1_back 1 (some .int) wsX1_back rmX1_back 0 0 0 := cwV 0 hts (lw_V q106 q107 q108 q30 q109) rfl rfl rfl (by decide +kernel) hR
theorem cwL_X2_back {rm : Room} (hR : rmX2_back.frames + 1 ≤ rm.frames ∧ 8 + (1 + 11) + rmX2_back.locals ≤ rm.locals) (s : State) (args : Array Value) (hts : ∀ w ∈ lw_all, w.before args s = true) : CallW rm s args RX0 RX2 43 yX2_back cX2_back 1 (some .int) wsX2_back rmX2_back 0 0 0 := cwV 0 hts (lw_V q283 q284 q285 q31 q286) rfl rfl rfl (by decide +kernel) hR
theorem cwL_X1_turn {rm : Room} (hR : rmX1_turn.frames + 1 ≤ rm.frames ∧ 8 + (3 + 11) + rmX1_turn.locals ≤ rm.locals) (s : State) (args : Array Value) (hts : ∀ w ∈ lw_all, w.before args s = true) : CallW rm s args RX0 RX1 44 yX1_turn cX1_turn 3 (some .int) wsX1_turn rmX1_turn 0 0 0 := cwV 0 hts (lw_V q110 q111 q112 q30 q113) rfl rfl rfl (by decide +kernel) hR
theorem cwL_X2_turn {rm : Room} (hR : rmX2_turn.frames + 1 ≤ rm.frames ∧ 8 + (3 + 11) + rmX2_turn.locals ≤ rm.locals) (s : State) (args : Array Value) (hts : ∀ w ∈ lw_all, w.before args s = true) : CallW rm s args RX0 RX2 47 yX2_turn cX2_turn 3 (some .int) wsX2_turn rmX2_turn 0 0 0 := cwV 0 hts (lw_V q287 q288 q289 q31 q290) rfl rfl rfl (by decide +kernel) hR
theorem cwL_X1_last {rm : Room} (hR : rmX1_last.frames + 1 ≤ rm.frames ∧ 8 + (1 + 11) + rmX1_last.locals ≤ rm.locals) (s : State) (args : Array Value) (hts : ∀ w ∈ lw_all, w.before args s = true) : CallW rm s args RX0 RX1 48 yX1_last cX1_last 1 (some .int) wsX1_last rmX1_last 0 0 0 := cwV 0 hts (lw_V q114 q115 q116 q30 q117) rfl rfl rfl (by decide +kernel) hR
theorem cwL_X2_last {rm : Room} (hR : rmX2_last.frames + 1 ≤ rm.frames ∧ 8 + (1 + 11) + rmX2_last.locals ≤ rm.locals) (s : State) (args : Array Value) (hts : ∀ w ∈ lw_all, w.before args s = true) : CallW rm s args RX0 RX2 51 yX2_last cX2_last 1 (some .int) wsX2_last rmX2_last 0 0 0 := cwV 0 hts (lw_V q291 q292 q293 q31 q294) rfl rfl rfl (by decide +kernel) hR
theorem cwL_X1_row {rm : Room} (hR : rmX1_row.frames + 1 ≤ rm.frames ∧ 8 + (5 + 11) + rmX1_row.locals ≤ rm.locals) (s : State) (args : Array Value) (hts : ∀ w ∈ lw_all, w.before args s = true) : CallW rm s args RX0 RX1 52 yX1_row cX1_row 5 (some .int) wsX1_row rmX1_row 0 0 1 := cwV 1 hts (lw_V q118 q119 q120 q30 q121) rfl rfl rfl (by decide +kernel) hR
theorem cwL_X2_row {rm : Room} (hR : rmX2_row.frames + 1 ≤ rm.frames ∧ 8 + (2 + 11) + rmX2_row.locals ≤ rm.locals) (s : State) (args : Array Value) (hts : ∀ w ∈ lw_all, w.before args s = true) : CallW rm s args RX0 RX2 55 yX2_row cX2_row 2 (some .int) wsX2_row rmX2_row 0 0 1 := cwV 1 hts (lw_V q295 q296 q297 q31 q298) rfl rfl rfl (by decide +kernel) hR
theorem cwL_X1_place {rm : Room} (hR : rmX1_place.frames + 1 ≤ rm.frames ∧ 8 + (6 + 11) + rmX1_place.locals ≤ rm.locals) (s : State) (args : Array Value) (hts : ∀ w ∈ lw_all, w.before args s = true) : CallW rm s args RX0 RX1 56 yX1_place cX1_place 6 (some .int) wsX1_place rmX1_place 0 0 2 := cwV 2 hts (lw_V q158 q159 q160 q30 q161) rfl rfl rfl (by decide +kernel) hR
theorem cwL_X2_place {rm : Room} (hR : rmX2_place.frames + 1 ≤ rm.frames ∧ 8 + (5 + 11) + rmX2_place.locals ≤ rm.locals) (s : State) (args : Array Value) (hts : ∀ w ∈ lw_all, w.before args s = true) : CallW rm s args RX0 RX2 59 yX2_place cX2_place 5 (some .int) wsX2_place rmX2_place 0 0 2 := cwV 2 hts (lw_V q323 q324 q325 q31 q326) rfl rfl rfl (by decide +kernel) hR
theorem cwL_X1_isTrue {rm : Room} (hR : rmX1_isTrue.frames + 1 ≤ rm.frames ∧ 8 + (2 + 11) + rmX1_isTrue.locals ≤ rm.locals) (s : State) (args : Array Value) (hts : ∀ w ∈ lw_all, w.before args s = true) : CallW rm s args RX0 RX1 60 yX1_isTrue cX1_isTrue 2 (some .int) wsX1_isTrue rmX1_isTrue 0 0 0 := cwV 0 hts (lw_V q162 q163 q164 q30 q165) rfl rfl rfl (by decide +kernel) hR
theorem cwL_X2_isTrue {rm : Room} (hR : rmX2_isTrue.frames + 1 ≤ rm.frames ∧ 8 + (2 + 11) + rmX2_isTrue.locals ≤ rm.locals) (s : State) (args : Array Value) (hts : ∀ w ∈ lw_all, w.before args s = true) : CallW rm s args RX0 RX2 63 yX2_isTrue cX2_isTrue 2 (some .int) wsX2_isTrue rmX2_isTrue 0 0 0 := cwV 0 hts (lw_V q331 q332 q333 q31 q334) rfl rfl rfl (by decide +kernel) hR
theorem cwL_X1_different {rm : Room} (hR : rmX1_different.frames + 1 ≤ rm.frames ∧ 8 + (5 + 11) + rmX1_different.locals ≤ rm.locals) (s : State) (args : Array Value) (hts : ∀ w ∈ lw_all, w.before args s = true) : CallW rm s args RX0 RX1 64 yX1_different cX1_different 5 (some .int) wsX1_different rmX1_different 0 0 0 := cwV 0 hts (lw_V q190 q191 q192 q30 q193) rfl rfl rfl (by decide +kernel) hR
theorem cwL_X2_different {rm : Room} (hR : rmX2_different.frames + 1 ≤ rm.frames ∧ 8 + (1 + 11) + rmX2_different.locals ≤ rm.locals) (s : State) (args : Array Value) (hts : ∀ w ∈ lw_all, w.before args s = true) : CallW rm s args RX0 RX2 67 yX2_different cX2_different 1 (some .int) wsX2_different rmX2_different 0 0 0 := cwV 0 hts (lw_V q339 q340 q341 q31 q342) rfl rfl rfl (by decide +kernel) hR
theorem cwL_X1_falsePairs {rm : Room} (hR : rmX1_falsePairs.frames + 1 ≤ rm.frames ∧ 8 + (1 + 11) + rmX1_falsePairs.locals ≤ rm.locals) (s : State) (args : Array Value) (hts : ∀ w ∈ lw_all, w.before args s = true) : CallW rm s args RX0 RX1 68 yX1_falsePairs cX1_falsePairs 1 (some .int) wsX1_falsePairs rmX1_falsePairs 0 0 0 := cwV 0 hts (lw_V q194 q195 q196 q30 q197) rfl rfl rfl (by decide +kernel) hR
theorem cwL_X2_falsePairs {rm : Room} (hR : rmX2_falsePairs.frames + 1 ≤ rm.frames ∧ 8 + (4 + 11) + rmX2_falsePairs.locals ≤ rm.locals) (s : State) (args : Array Value) (hts : ∀ w ∈ lw_all, w.before args s = true) : CallW rm s args RX0 RX2 71 yX2_falsePairs cX2_falsePairs 4 (some .int) wsX2_falsePairs rmX2_falsePairs 0 0 0 := cwV 0 hts (lw_V q343 q344 q345 q31 q346) rfl rfl rfl (by decide +kernel) hR
theorem cwL_X1_falseAlone {rm : Room} (hR : rmX1_falseAlone.frames + 1 ≤ rm.frames ∧ 8 + (3 + 11) + rmX1_falseAlone.locals ≤ rm.locals) (s : State) (args : Array Value) (hts : ∀ w ∈ lw_all, w.before args s = true) : CallW rm s args RX0 RX1 72 yX1_falseAlone cX1_falseAlone 3 (some .int) wsX1_falseAlone rmX1_falseAlone 0 0 1 := cwV 1 hts (lw_V q198 q199 q200 q30 q201) rfl rfl rfl (by decide +kernel) hR
theorem cwL_X2_falseAlone {rm : Room} (hR : rmX2_falseAlone.frames + 1 ≤ rm.frames ∧ 8 + (3 + 11) + rmX2_falseAlone.locals ≤ rm.locals) (s : State) (args : Array Value) (hts : ∀ w ∈ lw_all, w.before args s = true) : CallW rm s args RX0 RX2 75 yX2_falseAlone cX2_falseAlone 3 (some .int) wsX2_falseAlone rmX2_falseAlone 0 0 1 := cwV 1 hts (lw_V q351 q352 q353 q31 q354) rfl rfl rfl (by decide +kernel) hR
theorem cwL_X1_order {rm : Room} (hR : rmX1_order.frames + 1 ≤ rm.frames ∧ 8 + (8 + 11) + rmX1_order.locals ≤ rm.locals) (s : State) (args : Array Value) (hts : ∀ w ∈ lw_all, w.before args s = true) : CallW rm s args RX0 RX1 76 yX1_order cX1_order 8 (some .int) wsX1_order rmX1_order 0 0 1 := cwV 1 hts (lw_V q202 q203 q204 q30 q205) rfl rfl rfl (by decide +kernel) hR
theorem cwL_X2_order {rm : Room} (hR : rmX2_order.frames + 1 ≤ rm.frames ∧ 8 + (5 + 11) + rmX2_order.locals ≤ rm.locals) (s : State) (args : Array Value) (hts : ∀ w ∈ lw_all, w.before args s = true) : CallW rm s args RX0 RX2 79 yX2_order cX2_order 5 (some .int) wsX2_order rmX2_order 0 0 1 := cwV 1 hts (lw_V q355 q356 q357 q31 q358) rfl rfl rfl (by decide +kernel) hR
theorem cwL_X1_home {rm : Room} (hR : rmX1_home.frames + 1 ≤ rm.frames ∧ 8 + (3 + 11) + rmX1_home.locals ≤ rm.locals) (s : State) (args : Array Value) (hts : ∀ w ∈ lw_all, w.before args s = true) : CallW rm s args RX0 RX1 80 yX1_home cX1_home 3 (some .int) wsX1_home rmX1_home 0 0 0 := cwV 0 hts (lw_V q210 q211 q212 q30 q213) rfl rfl rfl (by decide +kernel) hR
theorem cwL_X2_home {rm : Room} (hR : rmX2_home.frames + 1 ≤ rm.frames ∧ 8 + (1 + 11) + rmX2_home.locals ≤ rm.locals) (s : State) (args : Array Value) (hts : ∀ w ∈ lw_all, w.before args s = true) : CallW rm s args RX0 RX2 83 yX2_home cX2_home 1 (some .int) wsX2_home rmX2_home 0 0 0 := cwV 0 hts (lw_V q359 q360 q361 q31 q362) rfl rfl rfl (by decide +kernel) hR
theorem cwL_X1_leads {rm : Room} (hR : rmX1_leads.frames + 1 ≤ rm.frames ∧ 8 + (5 + 11) + rmX1_leads.locals ≤ rm.locals) (s : State) (args : Array Value) (hts : ∀ w ∈ lw_all, w.before args s = true) : CallW rm s args RX0 RX1 84 yX1_leads cX1_leads 5 (some .int) wsX1_leads rmX1_leads 0 0 1 := cwV 1 hts (lw_V q214 q215 q216 q30 q217) rfl rfl rfl (by decide +kernel) hR
theorem cwL_X2_leads {rm : Room} (hR : rmX2_leads.frames + 1 ≤ rm.frames ∧ 8 + (5 + 11) + rmX2_leads.locals ≤ rm.locals) (s : State) (args : Array Value) (hts : ∀ w ∈ lw_all, w.before args s = true) : CallW rm s args RX0 RX2 87 yX2_leads cX2_leads 5 (some .int) wsX2_leads rmX2_leads 0 0 1 := cwV 1 hts (lw_V q363 q364 q365 q31 q366) rfl rfl rfl (by decide +kernel) hR
theorem cwL_X1_choices {rm : Room} (hR : rmX1_choices.frames + 1 ≤ rm.frames ∧ 8 + (6 + 11) + rmX1_choices.locals ≤ rm.locals) (s : State) (args : Array Value) (hts : ∀ w ∈ lw_all, w.before args s = true) : CallW rm s args RX0 RX1 88 yX1_choices cX1_choices 6 (some .int) wsX1_choices rmX1_choices 0 0 0 := cwV 0 hts (lw_V q218 q219 q220 q30 q221) rfl rfl rfl (by decide +kernel) hR
theorem cwL_X2_choices {rm : Room} (hR : rmX2_choices.frames + 1 ≤ rm.frames ∧ 8 + (4 + 11) + rmX2_choices.locals ≤ rm.locals) (s : State) (args : Array Value) (hts : ∀ w ∈ lw_all, w.before args s = true) : CallW rm s args RX0 RX2 91 yX2_choices cX2_choices 4 (some .int) wsX2_choices rmX2_choices 0 0 0 := cwV 0 hts (lw_V q367 q368 q369 q31 q370) rfl rfl rfl (by decide +kernel) hR
theorem cwX1_isChange {rm : Room} (hR : rmX1_isChange.frames + 1 ≤ rm.frames ∧ 8 + (4 + 11) + rmX1_isChange.locals ≤ rm.locals) (s : State) (args : Array Value) (hts : ∀ w ∈ lw_all, w.before args s = true) : CallW rm s args RX1 RX1 45 yX1_isChange cX1_isChange 4 (some .boolean) wsX1_isChange rmX1_isChange 0 0 1 := cwV 1 hts (lw_V q86 q88 qs0 q30 q89) rfl rfl rfl (by decide +kernel) hR
theorem cwX1_badCall {rm : Room} (hR : rmX1_badCall.frames + 1 ≤ rm.frames ∧ 8 + (2 + 11) + rmX1_badCall.locals ≤ rm.locals) (s : State) (args : Array Value) (hts : ∀ w ∈ lw_all, w.before args s = true) : CallW rm s args RX1 RX1 53 yX1_badCall cX1_badCall 2 (some .boolean) wsX1_badCall rmX1_badCall 0 0 1 := cwV 1 hts (lw_V q102 q104 qs1 q30 q105) rfl rfl rfl (by decide +kernel) hR
theorem cwX1_offsetAt {rm : Room} (hR : rmX1_offsetAt.frames + 1 ≤ rm.frames ∧ 8 + (3 + 11) + rmX1_offsetAt.locals ≤ rm.locals) (s : State) (args : Array Value) (hts : ∀ w ∈ lw_all, w.before args s = true) : CallW rm s args RX1 RX1 59 yX1_offsetAt cX1_offsetAt 3 (some .int) wsX1_offsetAt rmX1_offsetAt 0 0 2 := cwV 2 hts (lw_V q142 q144 qs7 q30 q145) rfl rfl rfl (by decide +kernel) hR
theorem cwX1_step {rm : Room} (hR : rmX1_step.frames + 1 ≤ rm.frames ∧ 8 + (7 + 11) + rmX1_step.locals ≤ rm.locals) (s : State) (args : Array Value) (hts : ∀ w ∈ lw_all, w.before args s = true) : CallW rm s args RX1 RX1 63 yX1_step cX1_step 7 none wsX1_step rmX1_step 0 0 2 := cwV 2 hts (lw_V q138 q140 qs6 q30 q141) rfl rfl rfl (by decide +kernel) hR
theorem cwX1_rankMade {rm : Room} (hR : rmX1_rankMade.frames + 1 ≤ rm.frames ∧ 8 + (5 + 11) + rmX1_rankMade.locals ≤ rm.locals) (s : State) (args : Array Value) (hts : ∀ w ∈ lw_all, w.before args s = true) : CallW rm s args RX1 RX1 67 yX1_rankMade cX1_rankMade 5 (some .int) wsX1_rankMade rmX1_rankMade 0 0 0 := cwV 0 hts (lw_V q150 q152 qs9 q30 q153) rfl rfl rfl (by decide +kernel) hR
theorem cwX1_findOffsets {rm : Room} (hR : rmX1_findOffsets.frames + 1 ≤ rm.frames ∧ 8 + (3 + 11) + rmX1_findOffsets.locals ≤ rm.locals) (s : State) (args : Array Value) (hts : ∀ w ∈ lw_all, w.before args s = true) : CallW rm s args RX1 RX1 71 yX1_findOffsets cX1_findOffsets 3 none wsX1_findOffsets rmX1_findOffsets 0 0 1 := cwV 1 hts (lw_V q134 q136 qs5 q30 q137) rfl rfl rfl (by decide +kernel) hR
theorem cwX1_findFalse {rm : Room} (hR : rmX1_findFalse.frames + 1 ≤ rm.frames ∧ 8 + (8 + 11) + rmX1_findFalse.locals ≤ rm.locals) (s : State) (args : Array Value) (hts : ∀ w ∈ lw_all, w.before args s = true) : CallW rm s args RX1 RX1 75 yX1_findFalse cX1_findFalse 8 none wsX1_findFalse rmX1_findFalse 0 0 2 := cwV 2 hts (lw_V q146 q148 qs8 q30 q149) rfl rfl rfl (by decide +kernel) hR
theorem cwX1_find {rm : Room} (hR : rmX1_find.frames + 1 ≤ rm.frames ∧ 8 + (2 + 11) + rmX1_find.locals ≤ rm.locals) (s : State) (args : Array Value) (hts : ∀ w ∈ lw_all, w.before args s = true) : CallW rm s args RX1 RX1 78 yX1_find cX1_find 2 none wsX1_find rmX1_find 0 0 0 := cwV 0 hts (lw_V q130 q132 qs4 q30 q133) rfl rfl rfl (by decide +kernel) hR
theorem cwX1_noRow {rm : Room} (hR : rmX1_noRow.frames + 1 ≤ rm.frames ∧ 8 + (2 + 11) + rmX1_noRow.locals ≤ rm.locals) (s : State) (args : Array Value) (hts : ∀ w ∈ lw_all, w.before args s = true) : CallW rm s args RX1 RX1 81 yX1_noRow cX1_noRow 2 (some .boolean) wsX1_noRow rmX1_noRow 0 0 1 := cwV 1 hts (lw_V q122 q124 qs2 q30 q125) rfl rfl rfl (by decide +kernel) hR
theorem cwX1_findHeads {rm : Room} (hR : rmX1_findHeads.frames + 1 ≤ rm.frames ∧ 8 + (4 + 11) + rmX1_findHeads.locals ≤ rm.locals) (s : State) (args : Array Value) (hts : ∀ w ∈ lw_all, w.before args s = true) : CallW rm s args RX1 RX1 84 yX1_findHeads cX1_findHeads 4 none wsX1_findHeads rmX1_findHeads 0 0 0 := cwV 0 hts (lw_V q126 q128 qs3 q30 q129) rfl rfl rfl (by decide +kernel) hR
theorem cwX1_bellAt {rm : Room} (hR : rmX1_bellAt.frames + 1 ≤ rm.frames ∧ 8 + (5 + 11) + rmX1_bellAt.locals ≤ rm.locals) (s : State) (args : Array Value) (hts : ∀ w ∈ lw_all, w.before args s = true) : CallW rm s args RX1 RX1 87 yX1_bellAt cX1_bellAt 5 (some .int) wsX1_bellAt rmX1_bellAt 0 0 2 := cwV 2 hts (lw_V q154 q156 qs10 q30 q157) rfl rfl rfl (by decide +kernel) hR
theorem cwX1_clearMet {rm : Room} (hR : rmX1_clearMet.frames + 1 ≤ rm.frames ∧ 8 + (2 + 11) + rmX1_clearMet.locals ≤ rm.locals) (s : State) (args : Array Value) (hts : ∀ w ∈ lw_all, w.before args s = true) : CallW rm s args RX1 RX1 90 yX1_clearMet cX1_clearMet 2 none wsX1_clearMet rmX1_clearMet 0 0 0 := cwV 0 hts (lw_V q174 q176 qs13 q30 q177) rfl rfl rfl (by decide +kernel) hR
theorem cwX1_meetMade {rm : Room} (hR : rmX1_meetMade.frames + 1 ≤ rm.frames ∧ 8 + (4 + 11) + rmX1_meetMade.locals ≤ rm.locals) (s : State) (args : Array Value) (hts : ∀ w ∈ lw_all, w.before args s = true) : CallW rm s args RX1 RX1 93 yX1_meetMade cX1_meetMade 4 (some .boolean) wsX1_meetMade rmX1_meetMade 0 0 0 := cwV 0 hts (lw_V q178 q180 qs14 q30 q181) rfl rfl rfl (by decide +kernel) hR
theorem cwX1_pairFalse {rm : Room} (hR : rmX1_pairFalse.frames + 1 ≤ rm.frames ∧ 8 + (5 + 11) + rmX1_pairFalse.locals ≤ rm.locals) (s : State) (args : Array Value) (hts : ∀ w ∈ lw_all, w.before args s = true) : CallW rm s args RX1 RX1 97 yX1_pairFalse cX1_pairFalse 5 (some .boolean) wsX1_pairFalse rmX1_pairFalse 0 0 3 := cwV 3 hts (lw_V q186 q188 qs16 q30 q189) rfl rfl rfl (by decide +kernel) hR
theorem cwX1_aloneFalse {rm : Room} (hR : rmX1_aloneFalse.frames + 1 ≤ rm.frames ∧ 8 + (6 + 11) + rmX1_aloneFalse.locals ≤ rm.locals) (s : State) (args : Array Value) (hts : ∀ w ∈ lw_all, w.before args s = true) : CallW rm s args RX1 RX1 101 yX1_aloneFalse cX1_aloneFalse 6 (some .boolean) wsX1_aloneFalse rmX1_aloneFalse 0 0 1 := cwV 1 hts (lw_V q170 q172 qs12 q30 q173) rfl rfl rfl (by decide +kernel) hR
theorem cwX1_countFalse {rm : Room} (hR : rmX1_countFalse.frames + 1 ≤ rm.frames ∧ 8 + (6 + 11) + rmX1_countFalse.locals ≤ rm.locals) (s : State) (args : Array Value) (hts : ∀ w ∈ lw_all, w.before args s = true) : CallW rm s args RX1 RX1 104 yX1_countFalse cX1_countFalse 6 (some .int) wsX1_countFalse rmX1_countFalse 0 0 0 := cwV 0 hts (lw_V q182 q184 qs15 q30 q185) rfl rfl rfl (by decide +kernel) hR
theorem cwX1_allTrue {rm : Room} (hR : rmX1_allTrue.frames + 1 ≤ rm.frames ∧ 8 + (4 + 11) + rmX1_allTrue.locals ≤ rm.locals) (s : State) (args : Array Value) (hts : ∀ w ∈ lw_all, w.before args s = true) : CallW rm s args RX1 RX1 107 yX1_allTrue cX1_allTrue 4 (some .boolean) wsX1_allTrue rmX1_allTrue 0 0 0 := cwV 0 hts (lw_V q166 q168 qs11 q30 q169) rfl rfl rfl (by decide +kernel) hR
theorem cwX1_greatest {rm : Room} (hR : rmX1_greatest.frames + 1 ≤ rm.frames ∧ 8 + (6 + 11) + rmX1_greatest.locals ≤ rm.locals) (s : State) (args : Array Value) (hts : ∀ w ∈ lw_all, w.before args s = true) : CallW rm s args RX1 RX1 110 yX1_greatest cX1_greatest 6 (some .int) wsX1_greatest rmX1_greatest 0 0 2 := cwV 2 hts (lw_V q206 q208 qs17 q30 q209) rfl rfl rfl (by decide +kernel) hR
theorem cwX2_isChange {rm : Room} (hR : rmX2_isChange.frames + 1 ≤ rm.frames ∧ 8 + (3 + 11) + rmX2_isChange.locals ≤ rm.locals) (s : State) (args : Array Value) (hts : ∀ w ∈ lw_all, w.before args s = true) : CallW rm s args RX2 RX2 32 yX2_isChange cX2_isChange 3 (some .boolean) wsX2_isChange rmX2_isChange 0 0 1 := cwV 1 hts (lw_V q263 q265 qs18 q31 q266) rfl rfl rfl (by decide +kernel) hR
theorem cwX2_noCall {rm : Room} (hR : rmX2_noCall.frames + 1 ≤ rm.frames ∧ 8 + (2 + 11) + rmX2_noCall.locals ≤ rm.locals) (s : State) (args : Array Value) (hts : ∀ w ∈ lw_all, w.before args s = true) : CallW rm s args RX2 RX2 36 yX2_noCall cX2_noCall 2 (some .boolean) wsX2_noCall rmX2_noCall 0 0 1 := cwV 1 hts (lw_V q279 q281 qs19 q31 q282) rfl rfl rfl (by decide +kernel) hR
theorem cwX2_exchange {rm : Room} (hR : rmX2_exchange.frames + 1 ≤ rm.frames ∧ 8 + (4 + 11) + rmX2_exchange.locals ≤ rm.locals) (s : State) (args : Array Value) (hts : ∀ w ∈ lw_all, w.before args s = true) : CallW rm s args RX2 RX2 42 yX2_exchange cX2_exchange 4 none wsX2_exchange rmX2_exchange 0 0 1 := cwV 1 hts (lw_V q315 q317 qs24 q31 q318) rfl rfl rfl (by decide +kernel) hR
theorem cwX2_code {rm : Room} (hR : rmX2_code.frames + 1 ≤ rm.frames ∧ 8 + (3 + 11) + rmX2_code.locals ≤ rm.locals) (s : State) (args : Array Value) (hts : ∀ w ∈ lw_all, w.before args s = true) : CallW rm s args RX2 RX2 49 yX2_code cX2_code 3 (some .int) wsX2_code rmX2_code 0 0 0 := cwV 0 hts (lw_V q307 q309 qs22 q31 q310) rfl rfl rfl (by decide +kernel) hR
theorem cwX2_round {rm : Room} (hR : rmX2_round.frames + 1 ≤ rm.frames ∧ 8 + (2 + 11) + rmX2_round.locals ≤ rm.locals) (s : State) (args : Array Value) (hts : ∀ w ∈ lw_all, w.before args s = true) : CallW rm s args RX2 RX2 53 yX2_round cX2_round 2 none wsX2_round rmX2_round 0 0 0 := cwV 0 hts (lw_V q303 q305 qs21 q31 q306) rfl rfl rfl (by decide +kernel) hR
theorem cwX2_ring {rm : Room} (hR : rmX2_ring.frames + 1 ≤ rm.frames ∧ 8 + (3 + 11) + rmX2_ring.locals ≤ rm.locals) (s : State) (args : Array Value) (hts : ∀ w ∈ lw_all, w.before args s = true) : CallW rm s args RX2 RX2 56 yX2_ring cX2_ring 3 none wsX2_ring rmX2_ring 0 0 1 := cwV 1 hts (lw_V q311 q313 qs23 q31 q314) rfl rfl rfl (by decide +kernel) hR
theorem cwX2_write {rm : Room} (hR : rmX2_write.frames + 1 ≤ rm.frames ∧ 8 + (2 + 11) + rmX2_write.locals ≤ rm.locals) (s : State) (args : Array Value) (hts : ∀ w ∈ lw_all, w.before args s = true) : CallW rm s args RX2 RX2 59 yX2_write cX2_write 2 none wsX2_write rmX2_write 0 0 0 := cwV 0 hts (lw_V q299 q301 qs20 q31 q302) rfl rfl rfl (by decide +kernel) hR
theorem cwX2_find {rm : Room} (hR : rmX2_find.frames + 1 ≤ rm.frames ∧ 8 + (2 + 11) + rmX2_find.locals ≤ rm.locals) (s : State) (args : Array Value) (hts : ∀ w ∈ lw_all, w.before args s = true) : CallW rm s args RX2 RX2 62 yX2_find cX2_find 2 (some .int) wsX2_find rmX2_find 0 0 1 := cwV 1 hts (lw_V q319 q321 qs25 q31 q322) rfl rfl rfl (by decide +kernel) hR
theorem cwX2_noBell {rm : Room} (hR : rmX2_noBell.frames + 1 ≤ rm.frames ∧ 8 + (2 + 11) + rmX2_noBell.locals ≤ rm.locals) (s : State) (args : Array Value) (hts : ∀ w ∈ lw_all, w.before args s = true) : CallW rm s args RX2 RX2 66 yX2_noBell cX2_noBell 2 (some .boolean) wsX2_noBell rmX2_noBell 0 0 1 := cwV 1 hts (lw_V q327 q329 qs26 q31 q330) rfl rfl rfl (by decide +kernel) hR
theorem cwX2_countDifferent {rm : Room} (hR : rmX2_countDifferent.frames + 1 ≤ rm.frames ∧ 8 + (5 + 11) + rmX2_countDifferent.locals ≤ rm.locals) (s : State) (args : Array Value) (hts : ∀ w ∈ lw_all, w.before args s = true) : CallW rm s args RX2 RX2 69 yX2_countDifferent cX2_countDifferent 5 (some .int) wsX2_countDifferent rmX2_countDifferent 0 0 0 := cwV 0 hts (lw_V q335 q337 qs27 q31 q338) rfl rfl rfl (by decide +kernel) hR
theorem cwX2_share {rm : Room} (hR : rmX2_share.frames + 1 ≤ rm.frames ∧ 8 + (5 + 11) + rmX2_share.locals ≤ rm.locals) (s : State) (args : Array Value) (hts : ∀ w ∈ lw_all, w.before args s = true) : CallW rm s args RX2 RX2 72 yX2_share cX2_share 5 (some .boolean) wsX2_share rmX2_share 0 0 2 := cwV 2 hts (lw_V q347 q349 qs28 q31 q350) rfl rfl rfl (by decide +kernel) hR
end
section
set_option maxRecDepth 100000
/-! the machine's bit operations on numbers under nI -/
theorem nx_and (a b : Nat) : nI a &&& nI b = nI (a &&& b) := by
  apply Int32.toBitVec_inj.1
  show BitVec.ofNat 32 a &&& BitVec.ofNat 32 b = BitVec.ofNat 32 (a &&& b)
  apply BitVec.eq_of_getLsbD_eq
  intro i hi
  simp [hi]
theorem nx_or (a b : Nat) : nI a ||| nI b = nI (a ||| b) := by
  apply Int32.toBitVec_inj.1
  show BitVec.ofNat 32 a ||| BitVec.ofNat 32 b = BitVec.ofNat 32 (a ||| b)
  apply BitVec.eq_of_getLsbD_eq
  intro i hi
  simp [hi]
theorem na_1 {a : Nat} (h : a < 2 ^ 32) : nI a &&& nI 1 = nI (a % 2) := pk_andN h 1 (by decide)
theorem na_31 {a : Nat} (h : a < 2 ^ 32) : nI a &&& nI 31 = nI (a % 32) := pk_andN h 5 (by decide)
theorem ns_l : ∀ n, n < 32 → ((nI n &&& 31).toBitVec.smod 32).toNat = n := by decide +kernel
theorem ns_1 {j : Nat} (h : j < 32) : nI 1 <<< (nI j &&& 31) = nI (2 ^ j) := by
  have e := pk_shlN (n := 1) (nI j &&& 31) j (ns_l j h) (by rw [Nat.one_mul]; exact Nat.pow_lt_pow_right (by decide) h)
  rw [Nat.one_mul] at e
  exact e
theorem nr_s {a j : Nat} (ha : a < 2 ^ 31) (h : j < 32) : nI a >>> (nI j &&& 31) = nI (a / 2 ^ j) := pk_shrN ha _ j (ns_l j h)
theorem nr_5 {a : Nat} (ha : a < 2 ^ 31) : nI a >>> (nI 5 &&& 31) = nI (a / 32) := nr_s ha (by decide)
theorem nr_bit {a j : Nat} (h : j < 32) : (nI a >>> (nI j &&& 31)) &&& nI 1 = nI (a / 2 ^ j % 2) := by
  apply Int32.toBitVec_inj.1
  apply BitVec.eq_of_getLsbD_eq
  intro i hi
  rw [Int32.toBitVec_and, BitVec.getLsbD_and, Int32.toBitVec_shiftRight]
  show (((nI a).toBitVec.sshiftRight ((nI j &&& 31).toBitVec.smod 32).toNat).getLsbD i && (BitVec.ofNat 32 1).getLsbD i) = (BitVec.ofNat 32 (a / 2 ^ j % 2)).getLsbD i
  rw [ns_l j h, BitVec.getLsbD_sshiftRight, BitVec.getLsbD_ofNat, BitVec.getLsbD_ofNat]
  by_cases h0 : i = 0
  · subst h0
    have e1 : (nI a).toBitVec.getLsbD j = a.testBit j := by
      show (BitVec.ofNat 32 a).getLsbD j = _
      rw [BitVec.getLsbD_ofNat]
      simp [h]
    rw [Nat.add_zero, if_pos h, e1, Nat.testBit_eq_decide_div_mod_eq]
    simp
  · have e1 : Nat.testBit 1 i = false := Nat.testBit_lt_two_pow (Nat.one_lt_two_pow h0)
    have e2 : Nat.testBit (a / 2 ^ j % 2) i = false := Nat.testBit_lt_two_pow (Nat.lt_of_lt_of_le (Nat.mod_lt _ (by decide)) (Nat.one_lt_two_pow h0))
    rw [e1, e2]
    simp
/-- the bit p of s -/
def bl_bit (s p : Nat) : Nat := s / 2 ^ p % 2
theorem bl_bit_lt (s p : Nat) : bl_bit s p < 2 := Nat.mod_lt _ (by decide)
theorem bl_bit_tb (s p : Nat) : bl_bit s p = 1 ↔ s.testBit p = true := by
  rw [Nat.testBit_eq_decide_div_mod_eq]
  simp [bl_bit]
theorem bl_bit_0 (p : Nat) : bl_bit 0 p = 0 := by simp [bl_bit]
theorem bl_bit_or {a j r : Nat} : bl_bit (a ||| 2 ^ j) r = 1 ↔ bl_bit a r = 1 ∨ r = j := by
  rw [bl_bit_tb, bl_bit_tb, Nat.testBit_or, Nat.testBit_two_pow, Bool.or_eq_true, decide_eq_true_iff]
  exact ⟨fun h => h.imp id Eq.symm, fun h => h.imp id Eq.symm⟩
theorem bl_and_bit {a j : Nat} : a &&& 2 ^ j = 0 ↔ bl_bit a j = 0 := by
  have h1 := bl_bit_tb a j
  have h2 := bl_bit_lt a j
  constructor
  · intro e
    have h3 : (a &&& 2 ^ j).testBit j = false := by rw [e]; exact Nat.zero_testBit j
    rw [Nat.testBit_and, Nat.testBit_two_pow, decide_eq_true rfl, Bool.and_true] at h3
    have h4 : bl_bit a j ≠ 1 := fun q => by rw [h1.mp q] at h3; cases h3
    omega
  · intro e
    have h3 : a.testBit j = false := by
      cases hb : a.testBit j
      · rfl
      · have := h1.mpr hb
        omega
    apply Nat.eq_of_testBit_eq
    intro i
    rw [Nat.testBit_and, Nat.testBit_two_pow, Nat.zero_testBit]
    by_cases hij : j = i
    · rw [← hij, h3, Bool.false_and]
    · rw [decide_eq_false hij, Bool.and_false]
theorem bl_or_lt {a j : Nat} (ha : a < 2 ^ 32) (h : j < 32) : a ||| 2 ^ j < 2 ^ 32 := Nat.or_lt_two_pow ha (Nat.pow_lt_pow_right (by decide) h)
theorem bl_and_lt {a j : Nat} (ha : a < 2 ^ 32) : a &&& j < 2 ^ 32 := Nat.lt_of_le_of_lt Nat.and_le_left ha
theorem jx_sub {x : JX} {c0 c1 pc : Nat} {w : va_W} {lv lv' : List (Nat × Value)} {st : List Value} (ks : List Nat) (hl : lv_pick lv ks = lv') (h : jx_J x c0 c1 w pc lv' st) : jx_J x c0 c1 w pc lv st := by
  obtain ⟨p, l, e, R, s, m, args, below, meth, c, D, A, n0, Q⟩ := x
  exact fun H locs ls hP hD hS hl' => h H locs ls hP hD hS (lv_sub hl' ks hl)
section JV
variable {x : JX} {cb ci : ClassId} {cc : ByteArray} {nL c0 c1 : Nat} {own : String} {rm : Room} {ret : Option FieldType} {w : va_W} {pc : Nat} {lv : List (Nat × Value)} {st : List Value}
/-- a store whose number is known by the term t -/
theorem jx_istore_nV (G : jx_G x cb ci cc nL own rm ret) {k : Fin 4} {i a : Nat} (hd : decode cc pc = .ok (.istore_n k, 1)) (hi : (k : Nat) = i) (hn : i < nL) (t : Nat) (ht : a = t) (lv' : List (Nat × Value)) (hl : jx_set lv i (.int (nI t)) = lv') (h : jx_J x c0 c1 w (pc + 1) lv' st) : jx_J x c0 c1 w pc lv (.int (nI a) :: st) := by
  subst ht
  exact jx_istore_nR G hd hi hn lv' hl h
theorem jx_istoreV (G : jx_G x cb ci cc nL own rm ret) {i a : Nat} (hd : decode cc pc = .ok (.istore i, 2)) (hn : i < nL) (t : Nat) (ht : a = t) (lv' : List (Nat × Value)) (hl : jx_set lv i (.int (nI t)) = lv') (h : jx_J x c0 c1 w (pc + 2) lv' st) : jx_J x c0 c1 w pc lv (.int (nI a) :: st) := by
  subst ht
  exact jx_istore G hd hn (fun v => jx_set lv i (.int (nI v))) (fun _ => rfl) (fun v e => by rw [e, hl]; exact h)
theorem jx_iincV (G : jx_G x cb ci cc nL own rm ret) {i a d : Nat} {n : Int} (hd : decode cc pc = .ok (.iinc i n, 3)) (hv : Int32.ofInt n = nI d) (hn : i < nL) (q : Nat) (hq : lv[q]? = some (i, .int (nI a))) (t : Nat) (ht : a + d = t) (lv' : List (Nat × Value)) (hl : jx_set lv i (.int (nI t)) = lv') (h : jx_J x c0 c1 w (pc + 3) lv' st) : jx_J x c0 c1 w pc lv st := by
  subst ht
  exact jx_iinc G hd hv hn q hq (fun v => jx_set lv i (.int (nI v))) (fun _ => rfl) (fun v e => by rw [e, hl]; exact h)
end JV
end
section
set_option maxRecDepth 100000
/-! the plain values: changes, rows of a lead, heads, codes, ranks -/
/-- a number for a statement -/
noncomputable def bl_ind (P : Prop) : Nat := @ite Nat P (Classical.propDecidable P) 1 0
theorem bl_ind_t {P : Prop} (h : P) : bl_ind P = 1 := if_pos h
theorem bl_ind_f {P : Prop} (h : ¬ P) : bl_ind P = 0 := if_neg h
theorem bl_ind_iff {P Q : Prop} (h : P ↔ Q) : bl_ind P = bl_ind Q := by rw [propext h]
theorem bl_ind_le (P : Prop) : bl_ind P ≤ 1 := by
  by_cases h : P
  · rw [bl_ind_t h]; exact Nat.le_refl 1
  · rw [bl_ind_f h]; exact Nat.zero_le 1
theorem bl_ind_1 {P : Prop} : bl_ind P = 1 ↔ P := by
  by_cases h : P
  · rw [bl_ind_t h]; exact ⟨fun _ => h, fun _ => rfl⟩
  · rw [bl_ind_f h]; exact ⟨fun q => absurd q (by decide), fun q => absurd q h⟩
theorem bl_ind_0 {P : Prop} : bl_ind P = 0 ↔ ¬ P := by
  by_cases h : P
  · rw [bl_ind_t h]; exact ⟨fun q => absurd q (by decide), fun q => absurd h q⟩
  · rw [bl_ind_f h]; exact ⟨fun _ => h, fun _ => rfl⟩
/-- the sum of f over the first k numbers -/
def bl_sum (f : Nat → Nat) : Nat → Nat
  | 0 => 0
  | k + 1 => bl_sum f k + f k
theorem bl_sum_congr {f g : Nat → Nat} : ∀ k, (∀ j, j < k → f j = g j) → bl_sum f k = bl_sum g k
  | 0, _ => rfl
  | k + 1, h => by
    show bl_sum f k + f k = bl_sum g k + g k
    rw [bl_sum_congr k (fun j hj => h j (by omega)), h k (by omega)]
/-- place p begins a pair -/
def bl_fst (s : Nat) : Nat → Bool
  | 0 => decide (bl_bit s 0 = 0)
  | p + 1 => decide (bl_bit s (p + 1) = 0) && !(bl_fst s p)
def bl_sec (s : Nat) : Nat → Bool
  | 0 => false
  | p + 1 => bl_fst s p
theorem bl_fst_iff {s p : Nat} : bl_fst s p = true ↔ bl_bit s p = 0 ∧ bl_sec s p = false := by
  cases p with
  | zero => simp [bl_fst, bl_sec]
  | succ p => simp [bl_fst, bl_sec]
/-- a set of places that is a change of n bells -/
def bl_ok (n s : Nat) : Prop := s < 2 ^ n ∧ ∀ p, p < n → bl_fst s p = true → p + 1 < n ∧ bl_bit s (p + 1) = 0
/-- where the bell in place p comes from -/
def bl_sw (s p : Nat) : Nat := if bl_fst s p = true then p + 1 else if bl_sec s p = true then p - 1 else p
theorem bl_sw_f {s p : Nat} (h : bl_fst s p = true) : bl_sw s p = p + 1 ∧ bl_sw s (p + 1) = p := by
  have h2 : bl_sec s (p + 1) = true := h
  have h3 : ¬ bl_fst s (p + 1) = true := fun q => by
    have := (bl_fst_iff.mp q).2
    rw [h2] at this
    cases this
  constructor
  · unfold bl_sw; rw [if_pos h]
  · unfold bl_sw; rw [if_neg h3, if_pos h2]; omega
theorem bl_sw_n {s p : Nat} (h1 : bl_sec s p = false) (h : bl_bit s p ≠ 0) : bl_sw s p = p := by
  have h2 : ¬ bl_fst s p = true := fun q => h (bl_fst_iff.mp q).1
  unfold bl_sw
  rw [if_neg h2, if_neg (by rw [h1]; decide)]
theorem bl_sw_sw (s p : Nat) : bl_sw s (bl_sw s p) = p := by
  by_cases h : bl_fst s p = true
  · rw [(bl_sw_f h).1, (bl_sw_f h).2]
  · by_cases h2 : bl_sec s p = true
    · cases p with
      | zero => cases h2
      | succ q =>
        have h3 : bl_fst s q = true := h2
        rw [(bl_sw_f h3).2, (bl_sw_f h3).1]
    · have e : bl_sw s p = p := by unfold bl_sw; rw [if_neg h, if_neg h2]
      rw [e, e]
theorem bl_sw_lt {n s p : Nat} (hs : bl_ok n s) (hp : p < n) : bl_sw s p < n := by
  unfold bl_sw
  split
  · rename_i h
    exact (hs.2 p hp h).1
  · split <;> omega
/-- a permutation of the first n numbers -/
def bl_PM (n : Nat) (f : Nat → Nat) : Prop := (∀ p, p < n → f p < n) ∧ (∀ p q, p < n → q < n → f p = f q → p = q) ∧ ∀ v, v < n → ∃ p, p < n ∧ f p = v
theorem bl_PM_id (n : Nat) : bl_PM n (fun p => p) := ⟨fun _ h => h, fun _ _ _ _ h => h, fun v h => ⟨v, h, rfl⟩⟩
theorem bl_PM_comp {n : Nat} {f g : Nat → Nat} (hf : bl_PM n f) (hg : bl_PM n g) : bl_PM n (fun p => f (g p)) := by
  refine ⟨fun p h => hf.1 _ (hg.1 p h), fun p q hp hq h => hg.2.1 p q hp hq (hf.2.1 _ _ (hg.1 p hp) (hg.1 q hq) h), fun v hv => ?_⟩
  obtain ⟨a, ha, ea⟩ := hf.2.2 v hv
  obtain ⟨b, hb, eb⟩ := hg.2.2 a ha
  exact ⟨b, hb, by show f (g b) = v; rw [eb, ea]⟩
theorem bl_PM_congr {n : Nat} {f g : Nat → Nat} (h : ∀ p, p < n → g p = f p) (hf : bl_PM n f) : bl_PM n g := by
  refine ⟨fun p hp => by rw [h p hp]; exact hf.1 p hp, fun p q hp hq e => hf.2.1 p q hp hq (by rw [← h p hp, ← h q hq]; exact e), fun v hv => ?_⟩
  obtain ⟨a, ha, ea⟩ := hf.2.2 v hv
  exact ⟨a, ha, by rw [h a ha, ea]⟩
theorem bl_PM_sw {n s : Nat} (hs : bl_ok n s) : bl_PM n (bl_sw s) :=
  ⟨fun p h => bl_sw_lt hs h, fun p q _ _ h => by rw [← bl_sw_sw s p, h, bl_sw_sw], fun v hv => ⟨bl_sw s v, bl_sw_lt hs hv, bl_sw_sw s v⟩⟩
/-- the change that makes row k + 1 of a lead with call c -/
def bl_sg (z : Nat) (fm fc : Nat → Nat) (c k : Nat) : Nat := if k + 1 = z ∧ 0 < c then fc c else fm k
/-- row k of a lead with call c, from rounds on -/
def bl_off (z : Nat) (fm fc : Nat → Nat) (c : Nat) : Nat → Nat → Nat
  | 0, p => p
  | k + 1, p => bl_off z fm fc c k (bl_sw (bl_sg z fm fc c k) p)
/-- the row before lead i -/
def bl_hd (z : Nat) (fm fc fl : Nat → Nat) : Nat → Nat → Nat
  | 0, p => p
  | i + 1, p => bl_hd z fm fc fl i (bl_off z fm fc (fl i) z p)
/-- all changes are changes of n bells -/
def bl_V (n z : Nat) (fm fc : Nat → Nat) : Prop := (∀ k, k < z → bl_ok n (fm k)) ∧ ∀ c, 0 < c → c < 3 → bl_ok n (fc c)
theorem bl_sg_ok {n z c k : Nat} {fm fc : Nat → Nat} (h : bl_V n z fm fc) (hc : c < 3) (hk : k < z) : bl_ok n (bl_sg z fm fc c k) := by
  unfold bl_sg
  split
  · rename_i q
    exact h.2 c q.2 hc
  · exact h.1 k hk
theorem bl_off_PM {n z c : Nat} {fm fc : Nat → Nat} (h : bl_V n z fm fc) (hc : c < 3) : ∀ k, k ≤ z → bl_PM n (bl_off z fm fc c k)
  | 0, _ => bl_PM_id n
  | k + 1, hk => bl_PM_comp (f := bl_off z fm fc c k) (g := bl_sw (bl_sg z fm fc c k)) (bl_off_PM h hc k (by omega)) (bl_PM_sw (bl_sg_ok h hc (by omega)))
theorem bl_hd_PM {n z ct : Nat} {fm fc fl : Nat → Nat} (h : bl_V n z fm fc) (hl : ∀ i, i < ct → fl i < 3) : ∀ i, i ≤ ct → bl_PM n (bl_hd z fm fc fl i)
  | 0, _ => bl_PM_id n
  | i + 1, hi => bl_PM_comp (f := bl_hd z fm fc fl i) (g := bl_off z fm fc (fl i) z) (bl_hd_PM h hl i (by omega)) (bl_off_PM h (hl i (by omega)) z (Nat.le_refl z))
/-- the code of a row of bells (bell less one in f) -/
def bl_cd (f : Nat → Nat) : Nat → Nat
  | 0 => 0
  | p + 1 => 10 * bl_cd f p + (f p + 1)
theorem bl_cd_congr {f g : Nat → Nat} : ∀ n, (∀ p, p < n → f p = g p) → bl_cd f n = bl_cd g n
  | 0, _ => rfl
  | n + 1, h => by
    show 10 * bl_cd f n + (f n + 1) = 10 * bl_cd g n + (g n + 1)
    rw [bl_cd_congr n (fun p hp => h p (by omega)), h n (by omega)]
theorem bl_cd_inj {f g : Nat → Nat} : ∀ n, (∀ p, p < n → f p < 9) → (∀ p, p < n → g p < 9) → bl_cd f n = bl_cd g n → ∀ p, p < n → f p = g p
  | 0, _, _, _, p, hp => absurd hp (by omega)
  | n + 1, hf, hg, h, p, hp => by
    have h2 : 10 * bl_cd f n + (f n + 1) = 10 * bl_cd g n + (g n + 1) := h
    have h3 := hf n (by omega)
    have h4 := hg n (by omega)
    by_cases e : p = n
    · rw [e]; omega
    · exact bl_cd_inj n (fun p hp => hf p (by omega)) (fun p hp => hg p (by omega)) (by omega) p (by omega)
theorem bl_cd_lt {f : Nat → Nat} : ∀ n, (∀ p, p < n → f p < 9) → bl_cd f n < 10 ^ n
  | 0, _ => by simp [bl_cd]
  | n + 1, h => by
    have h1 := bl_cd_lt n (fun p hp => h p (by omega))
    have h2 := h n (by omega)
    have h3 : 10 * bl_cd f n + (f n + 1) = bl_cd f (n + 1) := rfl
    rw [Nat.pow_succ]
    omega
/-- how many behind place i are less -/
def bl_ls (f : Nat → Nat) (i : Nat) : Nat → Nat
  | 0 => 0
  | t + 1 => bl_ls f i t + (if f (i + 1 + t) < f i then 1 else 0)
/-- the number of a permutation, by its first i places -/
def bl_rk (n : Nat) (f : Nat → Nat) : Nat → Nat
  | 0 => 0
  | i + 1 => bl_rk n f i * (n - i) + bl_ls f i (n - (i + 1))
theorem bl_ls_congr {n i : Nat} {f g : Nat → Nat} (h : ∀ p, p < n → f p = g p) (hi : i < n) : ∀ t, i + 1 + t ≤ n → bl_ls f i t = bl_ls g i t
  | 0, _ => rfl
  | t + 1, ht => by
    show bl_ls f i t + _ = bl_ls g i t + _
    rw [bl_ls_congr h hi t (by omega), h i hi, h (i + 1 + t) (by omega)]
theorem bl_rk_congr {n : Nat} {f g : Nat → Nat} (h : ∀ p, p < n → f p = g p) : ∀ i, i ≤ n → bl_rk n f i = bl_rk n g i
  | 0, _ => rfl
  | i + 1, hi => by
    show bl_rk n f i * _ + _ = bl_rk n g i * _ + _
    rw [bl_rk_congr h i (by omega), bl_ls_congr h (by omega) (n - (i + 1)) (by omega)]
def bl_fac : Nat → Nat
  | 0 => 1
  | n + 1 => (n + 1) * bl_fac n
def bl_un : Nat → List Nat → Nat → List Nat
  | 0, _, _ => []
  | n + 1, av, r => av.getD (r / bl_fac n) 0 :: bl_un n (av.eraseIdx (r / bl_fac n)) (r % bl_fac n)
def bl_fn (l : List Nat) : Nat → Nat := fun j => l.getD j 0
def bl_all (n : Nat) (p : Nat → Bool) : Bool := (List.range n).all p
theorem bl_all_at {n : Nat} {p : Nat → Bool} (h : bl_all n p = true) {a : Nat} (ha : a < n) : p a = true := List.all_eq_true.mp h a (List.mem_range.mpr ha)
theorem bl_orx {a b : Nat} {c : Bool} (h : ((a == b) || c) = true) (ne : a ≠ b) : c = true := by
  rw [beq_false_of_ne ne, Bool.false_or] at h
  exact h
theorem bl_tab3 : (bl_all 3 fun a0 => (bl_all 3 fun a1 => (a1 == a0) || ((bl_all 3 fun a2 => (a2 == a0) || ((a2 == a1) || ((decide (bl_un 3 [0, 1, 2] (bl_rk 3 (bl_fn [a0, a1, a2]) 3) = [a0, a1, a2]) && decide (bl_rk 3 (bl_fn [a0, a1, a2]) 3 < 720)))))))) = true := by decide +kernel
theorem bl_tab4 : (bl_all 4 fun a0 => (bl_all 4 fun a1 => (a1 == a0) || ((bl_all 4 fun a2 => (a2 == a0) || ((a2 == a1) || ((bl_all 4 fun a3 => (a3 == a0) || ((a3 == a1) || ((a3 == a2) || ((decide (bl_un 4 [0, 1, 2, 3] (bl_rk 4 (bl_fn [a0, a1, a2, a3]) 4) = [a0, a1, a2, a3]) && decide (bl_rk 4 (bl_fn [a0, a1, a2, a3]) 4 < 720)))))))))))) = true := by decide +kernel
theorem bl_tab5 : (bl_all 5 fun a0 => (bl_all 5 fun a1 => (a1 == a0) || ((bl_all 5 fun a2 => (a2 == a0) || ((a2 == a1) || ((bl_all 5 fun a3 => (a3 == a0) || ((a3 == a1) || ((a3 == a2) || ((bl_all 5 fun a4 => (a4 == a0) || ((a4 == a1) || ((a4 == a2) || ((a4 == a3) || ((decide (bl_un 5 [0, 1, 2, 3, 4] (bl_rk 5 (bl_fn [a0, a1, a2, a3, a4]) 5) = [a0, a1, a2, a3, a4]) && decide (bl_rk 5 (bl_fn [a0, a1, a2, a3, a4]) 5 < 720))))))))))))))))) = true := by decide +kernel
theorem bl_tab6 : (bl_all 6 fun a0 => (bl_all 6 fun a1 => (a1 == a0) || ((bl_all 6 fun a2 => (a2 == a0) || ((a2 == a1) || ((bl_all 6 fun a3 => (a3 == a0) || ((a3 == a1) || ((a3 == a2) || ((bl_all 6 fun a4 => (a4 == a0) || ((a4 == a1) || ((a4 == a2) || ((a4 == a3) || ((bl_all 6 fun a5 => (a5 == a0) || ((a5 == a1) || ((a5 == a2) || ((a5 == a3) || ((a5 == a4) || ((decide (bl_un 6 [0, 1, 2, 3, 4, 5] (bl_rk 6 (bl_fn [a0, a1, a2, a3, a4, a5]) 6) = [a0, a1, a2, a3, a4, a5]) && decide (bl_rk 6 (bl_fn [a0, a1, a2, a3, a4, a5]) 6 < 720))))))))))))))))))))))) = true := by decide +kernel
theorem bl_rk_un {n : Nat} {f : Nat → Nat} (h3 : 3 ≤ n) (h6 : n ≤ 6) (h : bl_PM n f) : bl_un n (List.range n) (bl_rk n f n) = (List.range n).map f ∧ bl_rk n f n < 720 := by
  have N : ∀ i j, i < n → j < n → i ≠ j → f i ≠ f j := fun i j hi hj hij e => hij (h.2.1 i j hi hj e)
  rcases (show n = 3 ∨ n = 4 ∨ n = 5 ∨ n = 6 by omega) with rfl | rfl | rfl | rfl
  · rw [bl_rk_congr (g := bl_fn [f 0, f 1, f 2]) (fun p hp => by rcases (show p = 0 ∨ p = 1 ∨ p = 2 by omega) with rfl | rfl | rfl <;> rfl) 3 (Nat.le_refl _)]
    have q0 := bl_all_at bl_tab3 (h.1 0 (by omega))
    have q1 := bl_all_at q0 (h.1 1 (by omega))
    have q1 := bl_orx q1 (N 1 0 (by omega) (by omega) (by omega))
    have q2 := bl_all_at q1 (h.1 2 (by omega))
    have q2 := bl_orx q2 (N 2 0 (by omega) (by omega) (by omega))
    have q2 := bl_orx q2 (N 2 1 (by omega) (by omega) (by omega))
    rw [Bool.and_eq_true, decide_eq_true_iff, decide_eq_true_iff] at q2
    exact q2
  · rw [bl_rk_congr (g := bl_fn [f 0, f 1, f 2, f 3]) (fun p hp => by rcases (show p = 0 ∨ p = 1 ∨ p = 2 ∨ p = 3 by omega) with rfl | rfl | rfl | rfl <;> rfl) 4 (Nat.le_refl _)]
    have q0 := bl_all_at bl_tab4 (h.1 0 (by omega))
    have q1 := bl_all_at q0 (h.1 1 (by omega))
    have q1 := bl_orx q1 (N 1 0 (by omega) (by omega) (by omega))
    have q2 := bl_all_at q1 (h.1 2 (by omega))
    have q2 := bl_orx q2 (N 2 0 (by omega) (by omega) (by omega))
    have q2 := bl_orx q2 (N 2 1 (by omega) (by omega) (by omega))
    have q3 := bl_all_at q2 (h.1 3 (by omega))
    have q3 := bl_orx q3 (N 3 0 (by omega) (by omega) (by omega))
    have q3 := bl_orx q3 (N 3 1 (by omega) (by omega) (by omega))
    have q3 := bl_orx q3 (N 3 2 (by omega) (by omega) (by omega))
    rw [Bool.and_eq_true, decide_eq_true_iff, decide_eq_true_iff] at q3
    exact q3
  · rw [bl_rk_congr (g := bl_fn [f 0, f 1, f 2, f 3, f 4]) (fun p hp => by rcases (show p = 0 ∨ p = 1 ∨ p = 2 ∨ p = 3 ∨ p = 4 by omega) with rfl | rfl | rfl | rfl | rfl <;> rfl) 5 (Nat.le_refl _)]
    have q0 := bl_all_at bl_tab5 (h.1 0 (by omega))
    have q1 := bl_all_at q0 (h.1 1 (by omega))
    have q1 := bl_orx q1 (N 1 0 (by omega) (by omega) (by omega))
    have q2 := bl_all_at q1 (h.1 2 (by omega))
    have q2 := bl_orx q2 (N 2 0 (by omega) (by omega) (by omega))
    have q2 := bl_orx q2 (N 2 1 (by omega) (by omega) (by omega))
    have q3 := bl_all_at q2 (h.1 3 (by omega))
    have q3 := bl_orx q3 (N 3 0 (by omega) (by omega) (by omega))
    have q3 := bl_orx q3 (N 3 1 (by omega) (by omega) (by omega))
    have q3 := bl_orx q3 (N 3 2 (by omega) (by omega) (by omega))
    have q4 := bl_all_at q3 (h.1 4 (by omega))
    have q4 := bl_orx q4 (N 4 0 (by omega) (by omega) (by omega))
    have q4 := bl_orx q4 (N 4 1 (by omega) (by omega) (by omega))
    have q4 := bl_orx q4 (N 4 2 (by omega) (by omega) (by omega))
    have q4 := bl_orx q4 (N 4 3 (by omega) (by omega) (by omega))
    rw [Bool.and_eq_true, decide_eq_true_iff, decide_eq_true_iff] at q4
    exact q4
  · rw [bl_rk_congr (g := bl_fn [f 0, f 1, f 2, f 3, f 4, f 5]) (fun p hp => by rcases (show p = 0 ∨ p = 1 ∨ p = 2 ∨ p = 3 ∨ p = 4 ∨ p = 5 by omega) with rfl | rfl | rfl | rfl | rfl | rfl <;> rfl) 6 (Nat.le_refl _)]
    have q0 := bl_all_at bl_tab6 (h.1 0 (by omega))
    have q1 := bl_all_at q0 (h.1 1 (by omega))
    have q1 := bl_orx q1 (N 1 0 (by omega) (by omega) (by omega))
    have q2 := bl_all_at q1 (h.1 2 (by omega))
    have q2 := bl_orx q2 (N 2 0 (by omega) (by omega) (by omega))
    have q2 := bl_orx q2 (N 2 1 (by omega) (by omega) (by omega))
    have q3 := bl_all_at q2 (h.1 3 (by omega))
    have q3 := bl_orx q3 (N 3 0 (by omega) (by omega) (by omega))
    have q3 := bl_orx q3 (N 3 1 (by omega) (by omega) (by omega))
    have q3 := bl_orx q3 (N 3 2 (by omega) (by omega) (by omega))
    have q4 := bl_all_at q3 (h.1 4 (by omega))
    have q4 := bl_orx q4 (N 4 0 (by omega) (by omega) (by omega))
    have q4 := bl_orx q4 (N 4 1 (by omega) (by omega) (by omega))
    have q4 := bl_orx q4 (N 4 2 (by omega) (by omega) (by omega))
    have q4 := bl_orx q4 (N 4 3 (by omega) (by omega) (by omega))
    have q5 := bl_all_at q4 (h.1 5 (by omega))
    have q5 := bl_orx q5 (N 5 0 (by omega) (by omega) (by omega))
    have q5 := bl_orx q5 (N 5 1 (by omega) (by omega) (by omega))
    have q5 := bl_orx q5 (N 5 2 (by omega) (by omega) (by omega))
    have q5 := bl_orx q5 (N 5 3 (by omega) (by omega) (by omega))
    have q5 := bl_orx q5 (N 5 4 (by omega) (by omega) (by omega))
    rw [Bool.and_eq_true, decide_eq_true_iff, decide_eq_true_iff] at q5
    exact q5
theorem bl_rk_inj {n : Nat} {f g : Nat → Nat} (h3 : 3 ≤ n) (h6 : n ≤ 6) (hf : bl_PM n f) (hg : bl_PM n g) (e : bl_rk n f n = bl_rk n g n) : ∀ p, p < n → f p = g p := by
  have h1 := (bl_rk_un h3 h6 hf).1
  rw [e, (bl_rk_un h3 h6 hg).1] at h1
  intro p hp
  have h2 : ((List.range n).map g)[p]? = ((List.range n).map f)[p]? := by rw [h1]
  simp [hp] at h2
  exact h2.symm
end
section
set_option maxRecDepth 100000
/-! helpers of the walks: filled arrays, the state's bounds, what arguments are good -/
/-- of an array that is being filled from base on: p places hold g, nothing else than len places from base on has changed -/
def bl_FI (f0 f1 : Nat → Nat) (base len p : Nat) (g : Nat → Nat) : Prop := (∀ q, q < p → f1 (base + q) = g q) ∧ ∀ j, (j < base ∨ base + len ≤ j) → f1 j = f0 j
theorem bl_FI_0 {f0 : Nat → Nat} {base len : Nat} {g : Nat → Nat} : bl_FI f0 f0 base len 0 g := ⟨fun q h => absurd h (by omega), fun _ _ => rfl⟩
theorem bl_FI_put {f0 f1 : Nat → Nat} {base len p i v : Nat} {g : Nat → Nat} (h : bl_FI f0 f1 base len p g) (hp : p < len) (hi : i = base + p) (hv : v = g p) : bl_FI f0 (upN f1 i v) base len (p + 1) g := by
  subst hi
  refine ⟨fun q hq => ?_, fun j hj => ?_⟩
  · by_cases e : q = p
    · rw [e, upN_eq, hv]
    · rw [upN_ne (by omega)]
      exact h.1 q (by omega)
  · rw [upN_ne (by omega)]
    exact h.2 j hj
/-- from the first place on -/
theorem bl_F0_put {f1 : Nat → Nat} {p v : Nat} {g : Nat → Nat} (h : ∀ q, q < p → f1 q = g q) (hv : v = g p) : ∀ q, q < p + 1 → upN f1 p v q = g q := by
  intro q hq
  by_cases e : q = p
  · rw [e, upN_eq, hv]
  · rw [upN_ne e]
    exact h q (by omega)
/-- the state's bounds -/
def bl_AV (n z : Nat) (fm fc : Nat → Nat) (ct : Nat) (fl : Nat → Nat) : Prop := (3 ≤ n ∧ n ≤ 6) ∧ (1 ≤ z ∧ z ≤ 12) ∧ ct ≤ 20 ∧ bl_V n z fm fc ∧ ∀ i, i < ct → fl i < 3
/-- an int that is a change -/
def bl_chg (n : Nat) (y : Int32) : Prop := ∃ j, y = nI j ∧ bl_ok n j
theorem bl_ok_64 {n s : Nat} (hn : n ≤ 6) (h : bl_ok n s) : s < 64 := Nat.lt_of_lt_of_le h.1 (Nat.pow_le_pow_right (n := 2) (by decide) hn)
theorem bl_chg_neg {n : Nat} {y : Int32} (hn : n ≤ 6) (h : y < 0) : ¬ bl_chg n y := by
  rintro ⟨j, e, hj⟩
  have := bl_ok_64 hn hj
  rw [e] at h
  exact nI_pos (by omega) h
theorem bl_chg_nI {n j : Nat} (hn : n ≤ 6) (h : j < 2 ^ 31) : bl_chg n (nI j) ↔ bl_ok n j := by
  constructor
  · rintro ⟨k, e, hk⟩
    have := bl_ok_64 hn hk
    have e2 := (nI_eq h (by omega)).mp e
    rw [e2]
    exact hk
  · intro h
    exact ⟨j, rfl, h⟩
/-- an int below a bound -/
def bl_in (b : Nat) (y : Int32) : Prop := ∃ j, j < b ∧ y = nI j
theorem bl_in_neg {b : Nat} {y : Int32} (hb : b ≤ 2 ^ 31) (h : y < 0) : ¬ bl_in b y := by
  rintro ⟨j, hj, e⟩
  rw [e] at h
  exact nI_pos (by omega) h
theorem bl_in_nI {b j : Nat} (hb : b ≤ 2 ^ 31) (h : j < 2 ^ 31) : bl_in b (nI j) ↔ j < b := by
  constructor
  · rintro ⟨k, hk, e⟩
    have e2 := (nI_eq h (by omega)).mp e
    omega
  · intro q
    exact ⟨j, q, rfl⟩
theorem bl_int (y : Int32) : y < 0 ∨ ∃ j, j < 2 ^ 31 ∧ y = nI j := by
  by_cases h : y < 0
  · exact Or.inl h
  · exact Or.inr (nI_of h)
end
section
set_option maxRecDepth 100000
/-! what the arrays of BellRows hold: rows of leads, heads, sets of ranks -/
/-- offset holds the rows of the leads -/
def bl_OF (n z : Nat) (fm fc fo : Nat → Nat) : Prop := ∀ c, c < 3 → ∀ k, k ≤ z → ∀ p, p < n → fo (78 * c + 6 * k + p) = bl_off z fm fc c k p
/-- head holds the rows before the leads -/
def bl_HD (n z : Nat) (fm fc : Nat → Nat) (ct : Nat) (fl fh : Nat → Nat) : Prop := ∀ i, i ≤ ct → ∀ p, p < n → fh (6 * i + p) = bl_hd z fm fc fl i p
/-- row k of the touch -/
def bl_row (z : Nat) (fm fc fl : Nat → Nat) (k p : Nat) : Nat := if k = 0 then p else bl_hd z fm fc fl ((k - 1) / z) (bl_off z fm fc (fl ((k - 1) / z)) ((k - 1) % z + 1) p)
/-- a set of ranks, 32 a number -/
def bl_BS (f : Nat → Nat) (S : Nat → Prop) : Prop := ∀ r, r < 736 → (bl_bit (f (r / 32)) (r % 32) = 1 ↔ S r)
theorem bl_BS_put {f : Nat → Nat} {S S' : Nat → Prop} {R : Nat} (h : bl_BS f S) (hS : ∀ r, r < 736 → (S' r ↔ S r ∨ r = R)) : bl_BS (upN f (R / 32) (f (R / 32) ||| 2 ^ (R % 32))) S' := by
  intro r hr
  rw [hS r hr, ← h r hr]
  by_cases e : r / 32 = R / 32
  · rw [e, upN_eq, bl_bit_or]
    exact ⟨fun q => q.imp id (fun q => by omega), fun q => q.imp id (fun q => by omega)⟩
  · rw [upN_ne e]
    exact ⟨fun q => Or.inl q, fun q => q.elim id (fun q => absurd (by rw [q]) e)⟩
theorem bl_BS_shift {f : Nat → Nat} {b i v : Nat} : (fun j => upN f (b + i) v (b + j)) = upN (fun j => f (b + j)) i v := by
  funext j
  unfold upN
  by_cases e : j = i
  · rw [if_pos e, if_pos (by omega)]
  · rw [if_neg e, if_neg (by omega)]
theorem bl_BS_iff {f : Nat → Nat} {S S' : Nat → Prop} (h : bl_BS f S) (e : ∀ r, r < 736 → (S' r ↔ S r)) : bl_BS f S' := fun r hr => (h r hr).trans (e r hr).symm
theorem bl_BS_congr {f g : Nat → Nat} {S : Nat → Prop} (h : bl_BS f S) (e : ∀ j, j < 23 → g j = f j) : bl_BS g S := fun r hr => by rw [e (r / 32) (by omega)]; exact h r hr
theorem bl_BS_0 {f : Nat → Nat} (e : ∀ j, j < 23 → f j = 0) : bl_BS f (fun _ => False) := fun r hr => by
  rw [e (r / 32) (by omega), bl_bit_0]
  exact ⟨fun q => absurd q (by decide), fun q => q.elim⟩
/-- the rank of what leads from the beginning of a lead to that of another one, if row k + 1 of the one is row m + 1 of the other -/
def bl_fq (n z : Nat) (fm fc : Nat → Nat) (c d k m r : Nat) : Prop := ∃ g, bl_PM n g ∧ (∀ p, p < n → g (bl_off z fm fc d (m + 1) p) = bl_off z fm fc c (k + 1) p) ∧ r = bl_rk n g n
def bl_fr (n z : Nat) (fm fc : Nat → Nat) (c d r : Nat) : Prop := ∃ k m, k < z ∧ m < z ∧ bl_fq n z fm fc c d k m r
theorem bl_PM_of {n : Nat} {a b g : Nat → Nat} (ha : bl_PM n a) (hb : bl_PM n b) (h : ∀ p, p < n → g (a p) = b p) : bl_PM n g := by
  refine ⟨fun v hv => ?_, fun v u hv hu e => ?_, fun v hv => ?_⟩
  · obtain ⟨p, hp, rfl⟩ := ha.2.2 v hv
    rw [h p hp]
    exact hb.1 p hp
  · obtain ⟨p, hp, rfl⟩ := ha.2.2 v hv
    obtain ⟨q, hq, rfl⟩ := ha.2.2 u hu
    rw [h p hp, h q hq] at e
    rw [hb.2.1 p q hp hq e]
  · obtain ⟨p, hp, rfl⟩ := hb.2.2 v hv
    exact ⟨a p, ha.1 p hp, h p hp⟩
theorem bl_fq_iff {n z c d k m r : Nat} {fm fc g : Nat → Nat} (hV : bl_V n z fm fc) (hc : c < 3) (hd : d < 3) (hk : k < z) (hm : m < z) (h : ∀ p, p < n → g (bl_off z fm fc d (m + 1) p) = bl_off z fm fc c (k + 1) p) : bl_fq n z fm fc c d k m r ↔ r = bl_rk n g n := by
  have ha := bl_off_PM hV hd (m + 1) (by omega)
  have hb := bl_off_PM hV hc (k + 1) (by omega)
  constructor
  · rintro ⟨g2, hg2, e2, rfl⟩
    refine bl_rk_congr (fun v hv => ?_) n (Nat.le_refl n)
    obtain ⟨p, hp, rfl⟩ := ha.2.2 v hv
    rw [e2 p hp, h p hp]
  · intro e
    exact ⟨g, bl_PM_of ha hb h, h, e⟩
/-- the sets of falseSet -/
def bl_FS (n z : Nat) (fm fc ff : Nat → Nat) : Prop := (∀ k, k < 207 → ff k < 2 ^ 32) ∧ ∀ c, c < 3 → ∀ d, d < 3 → bl_BS (fun j => ff (23 * (3 * c + d) + j)) (bl_fr n z fm fc c d)
/-- the world of BellRows between calls -/
def bl_XI (cb ci : ClassId) (o : Nat) (a : Nat → Nat) (n z : Nat) (fm fc : Nat → Nat) (ct : Nat) (fl : Nat → Nat) (w : va_W) : Prop := ∃ (kn : Nat) (fo fh ff ft fi fd : Nat → Nat), w = XC cb ci o a n z fm fc ct fl kn fo fh ff ft fi fd ∧ kn ≤ 1 ∧ (kn = 1 → bl_OF n z fm fc fo ∧ bl_FS n z fm fc ff)
theorem bl_ctz {ct z : Nat} (h1 : ct ≤ 20) (h2 : z ≤ 12) : ct * z ≤ 240 := Nat.mul_le_mul h1 h2
theorem bl_kz {k z : Nat} (hk : 0 < k) : k - (k - 1) / z * z = (k - 1) % z + 1 := by
  have h := Nat.div_add_mod' (k - 1) z
  omega
theorem bl_kz_le {k z : Nat} : (k - 1) / z * z ≤ k := Nat.le_trans (Nat.div_mul_le_self (k - 1) z) (Nat.sub_le k 1)
theorem bl_kz_lt {k z ct : Nat} (hk : 0 < k) (h : k ≤ ct * z) : (k - 1) / z < ct := Nat.div_lt_of_lt_mul (by rw [Nat.mul_comm]; omega)
end
section
set_option maxRecDepth 100000
/-! truth: leads that share a row, different rows, orders -/
/-- lead i with call c and lead j with call d share a row -/
def bl_sh (n z : Nat) (fm fc fl : Nat → Nat) (i c j d : Nat) : Prop := ∃ k m, k < z ∧ m < z ∧ ∀ p, p < n → bl_hd z fm fc fl i (bl_off z fm fc c (k + 1) p) = bl_hd z fm fc fl j (bl_off z fm fc d (m + 1) p)
/-- two rows of a lead are the same -/
def bl_al (n z : Nat) (fm fc : Nat → Nat) (c : Nat) : Prop := ∃ k m, m < k ∧ k < z ∧ ∀ p, p < n → bl_off z fm fc c (m + 1) p = bl_off z fm fc c (k + 1) p
/-- how many pairs of leads share a row -/
noncomputable def bl_cfq (n z : Nat) (fm fc : Nat → Nat) (ct : Nat) (fl : Nat → Nat) (q : Nat) : Nat := if q / ct < q % ct then bl_ind (bl_sh n z fm fc fl (q / ct) (fl (q / ct)) (q % ct) (fl (q % ct))) else 0
noncomputable def bl_cf (n z : Nat) (fm fc : Nat → Nat) (ct : Nat) (fl : Nat → Nat) : Nat := bl_sum (bl_cfq n z fm fc ct fl) (ct * ct)
/-- the touch is true, by leads -/
def bl_at (n z : Nat) (fm fc : Nat → Nat) (ct : Nat) (fl : Nat → Nat) : Prop := (∀ i, i < ct → ¬ bl_al n z fm fc (fl i)) ∧ bl_cf n z fm fc ct fl = 0
/-- row k + 1 is the first of its kind -/
def bl_new (n : Nat) (R : Nat → Nat → Nat) (k : Nat) : Prop := ∀ m, m < k → ¬ ∀ p, p < n → R (m + 1) p = R (k + 1) p
/-- how many different rows -/
noncomputable def bl_df (n : Nat) (R : Nat → Nat → Nat) (N : Nat) : Nat := bl_sum (fun k => bl_ind (bl_new n R k)) N
theorem bl_row_PM {n z ct k : Nat} {fm fc fl : Nat → Nat} (hA : bl_AV n z fm fc ct fl) (hk : k ≤ ct * z) : bl_PM n (bl_row z fm fc fl k) := by
  obtain ⟨⟨hn3, hn6⟩, ⟨hz1, hz2⟩, hct, hV, hfl⟩ := hA
  by_cases h0 : k = 0
  · exact bl_PM_congr (fun p _ => by rw [bl_row, if_pos h0]) (bl_PM_id n)
  · have hi := bl_kz_lt (by omega) hk
    have hm : (k - 1) % z < z := Nat.mod_lt _ (by omega)
    exact bl_PM_congr (fun p _ => by rw [bl_row, if_neg h0]) (bl_PM_comp (bl_hd_PM hV hfl _ (by omega)) (bl_off_PM hV (hfl _ hi) ((k - 1) % z + 1) (by omega)))
theorem bl_PM_of2 {n : Nat} {a b g : Nat → Nat} (ha : bl_PM n a) (hb : bl_PM n b) (h : ∀ t, t < n → g t < n ∧ a (g t) = b t) : bl_PM n g := by
  refine ⟨fun t ht => (h t ht).1, fun t u ht hu e => ?_, fun v hv => ?_⟩
  · exact hb.2.1 t u ht hu (by rw [← (h t ht).2, ← (h u hu).2, e])
  · obtain ⟨t, ht, e⟩ := hb.2.2 (a v) (ha.1 v hv)
    exact ⟨t, ht, ha.2.1 _ _ (h t ht).1 hv (by rw [(h t ht).2, e])⟩
theorem bl_sh_iff {n z i j c d : Nat} {fm fc fl g : Nat → Nat} (hn3 : 3 ≤ n) (hn6 : n ≤ 6) (hV : bl_V n z fm fc) (hc : c < 3) (hd : d < 3) (hi : bl_PM n (bl_hd z fm fc fl i)) (hj : bl_PM n (bl_hd z fm fc fl j)) (h : ∀ t, t < n → g t < n ∧ bl_hd z fm fc fl i (g t) = bl_hd z fm fc fl j t) : bl_fr n z fm fc c d (bl_rk n g n) ↔ bl_sh n z fm fc fl i c j d := by
  have hg := bl_PM_of2 hi hj h
  constructor
  · rintro ⟨k, m, hk, hm, g2, hg2, e2, er⟩
    have e3 := bl_rk_inj hn3 hn6 hg hg2 er
    refine ⟨k, m, hk, hm, fun p hp => ?_⟩
    have hq := (bl_off_PM hV hd (m + 1) (by omega)).1 p hp
    rw [← e2 p hp, ← e3 _ hq, (h _ hq).2]
  · rintro ⟨k, m, hk, hm, e⟩
    refine ⟨k, m, hk, hm, g, hg, fun p hp => ?_, rfl⟩
    have hq := (bl_off_PM hV hd (m + 1) (by omega)).1 p hp
    exact hi.2.1 _ _ (h _ hq).1 ((bl_off_PM hV hc (k + 1) (by omega)).1 p hp) (by rw [(h _ hq).2, e p hp])
/-- m times -/
def bl_it (f : Nat → Nat) : Nat → Nat → Nat
  | 0, p => p
  | m + 1, p => bl_it f m (f p)
theorem bl_it_succ (f : Nat → Nat) : ∀ m p, bl_it f (m + 1) p = f (bl_it f m p)
  | 0, _ => rfl
  | m + 1, p => bl_it_succ f m (f p)
theorem bl_it_add (f : Nat → Nat) (m : Nat) : ∀ k p, bl_it f (m + k) p = bl_it f m (bl_it f k p)
  | 0, _ => rfl
  | k + 1, p => bl_it_add f m k (f p)
theorem bl_it_lt {n : Nat} {f : Nat → Nat} (h : bl_PM n f) : ∀ m p, p < n → bl_it f m p < n
  | 0, _, hp => hp
  | m + 1, p, hp => bl_it_lt h m (f p) (h.1 p hp)
theorem bl_it_inj {n : Nat} {f : Nat → Nat} (h : bl_PM n f) : ∀ m p q, p < n → q < n → bl_it f m p = bl_it f m q → p = q
  | 0, _, _, _, _, e => e
  | m + 1, p, q, hp, hq, e => h.2.1 p q hp hq (bl_it_inj h m (f p) (f q) (h.1 p hp) (h.1 q hq) e)
theorem bl_it_mul (f : Nat → Nat) {r p : Nat} (h : bl_it f r p = p) : ∀ k, bl_it f (r * k) p = p
  | 0 => rfl
  | k + 1 => by rw [Nat.mul_add, Nat.mul_one, bl_it_add, h, bl_it_mul f h k]
theorem bl_pig : ∀ (n : Nat) (f : Nat → Nat), (∀ i, i ≤ n → f i < n) → ∃ i j, i < j ∧ j ≤ n ∧ f i = f j
  | 0, f, h => absurd (h 0 (Nat.le_refl 0)) (by omega)
  | n + 1, f, h => by
    by_cases h1 : ∃ i, i ≤ n ∧ f i = f (n + 1)
    · obtain ⟨i, hi, e⟩ := h1
      exact ⟨i, n + 1, by omega, by omega, e⟩
    · have h2 : ∀ i, i ≤ n → f i ≠ f (n + 1) := fun i hi e => h1 ⟨i, hi, e⟩
      obtain ⟨i, j, hij, hj, e⟩ := bl_pig n (fun i => if f i = n then f (n + 1) else f i) (fun i hi => by
        have a1 := h i (by omega)
        have a2 := h (n + 1) (by omega)
        have a3 := h2 i hi
        show (if f i = n then f (n + 1) else f i) < n
        split <;> omega)
      refine ⟨i, j, hij, by omega, ?_⟩
      have a3 := h2 i (by omega)
      have a4 := h2 j (by omega)
      have e : (if f i = n then f (n + 1) else f i) = (if f j = n then f (n + 1) else f j) := e
      split at e <;> split at e <;> omega
theorem bl_cyc {n p : Nat} {f : Nat → Nat} (h : bl_PM n f) (hp : p < n) : ∃ r, 1 ≤ r ∧ r ≤ n ∧ bl_it f r p = p := by
  obtain ⟨i, j, hij, hj, e⟩ := bl_pig n (fun m => bl_it f m p) (fun i _ => bl_it_lt h i p hp)
  refine ⟨j - i, by omega, by omega, ?_⟩
  have e : bl_it f i p = bl_it f j p := e
  rw [show j = i + (j - i) by omega, bl_it_add] at e
  exact (bl_it_inj h i _ _ hp (bl_it_lt h _ p hp) e).symm
theorem bl_per {n p r : Nat} {f : Nat → Nat} (h : bl_PM n f) (hp : p < n) (hr : 1 ≤ r) (e : bl_it f r p = p) (hm : ∀ s, 1 ≤ s → s < r → bl_it f s p ≠ p) (m : Nat) : r ∣ m ↔ bl_it f m p = p := by
  constructor
  · rintro ⟨k, rfl⟩
    exact bl_it_mul f e k
  · intro em
    have h1 : bl_it f (m % r) p = p := by
      have h2 : bl_it f (m % r + r * (m / r)) p = p := by rw [Nat.mod_add_div]; exact em
      rw [bl_it_add, bl_it_mul f e] at h2
      exact h2
    have h3 : m % r < r := Nat.mod_lt _ (by omega)
    by_cases h4 : m % r = 0
    · exact Nat.dvd_of_mod_eq_zero h4
    · exact absurd h1 (hm _ (by omega) h3)
theorem bl_60 : ∀ r, r < 7 → 1 ≤ r → r ∣ 60 := by decide
theorem bl_lcm_iff {a b m : Nat} : Nat.lcm a b ∣ m ↔ a ∣ m ∧ b ∣ m := ⟨fun h => ⟨Nat.dvd_trans (Nat.dvd_lcm_left a b) h, Nat.dvd_trans (Nat.dvd_lcm_right a b) h⟩, fun h => Nat.lcm_dvd h.1 h.2⟩
theorem bl_sum_le {f : Nat → Nat} (h : ∀ j, f j ≤ 1) : ∀ k, bl_sum f k ≤ k
  | 0 => Nat.le_refl 0
  | k + 1 => Nat.add_le_add (bl_sum_le h k) (h k)
theorem bl_cf_le (n z : Nat) (fm fc : Nat → Nat) (ct : Nat) (fl : Nat → Nat) : bl_cf n z fm fc ct fl ≤ ct * ct := bl_sum_le (fun q => by
  unfold bl_cfq
  split
  · exact bl_ind_le _
  · exact Nat.zero_le 1) _
end
section
set_option maxRecDepth 100000
/-! rows and codes as BellRowsModel writes them down -/
theorem bl_row_0 (z : Nat) (fm fc fl : Nat → Nat) (p : Nat) : bl_row z fm fc fl 0 p = p := if_pos rfl
theorem bl_row_at {z : Nat} (fm fc fl : Nat → Nat) {j k : Nat} (hk : k < z) (p : Nat) : bl_row z fm fc fl (j * z + k + 1) p = bl_hd z fm fc fl j (bl_off z fm fc (fl j) (k + 1) p) := by
  have h1 : (j * z + k) / z = j := by
    rw [Nat.mul_comm, Nat.mul_add_div (by omega), Nat.div_eq_of_lt hk, Nat.add_zero]
  have h2 : (j * z + k) % z = k := by
    rw [Nat.mul_comm, Nat.mul_add_mod, Nat.mod_eq_of_lt hk]
  unfold bl_row
  rw [if_neg (by omega), Nat.add_sub_cancel, h1, h2]
theorem bl_row_end {z : Nat} (fm fc fl : Nat → Nat) (hz : 0 < z) : ∀ (i p : Nat), bl_row z fm fc fl (i * z) p = bl_hd z fm fc fl i p
  | 0, p => by rw [Nat.zero_mul, bl_row_0]; rfl
  | i + 1, p => by
    have h := bl_row_at fm fc fl (j := i) (k := z - 1) (z := z) (by omega) p
    rw [show i * z + (z - 1) + 1 = (i + 1) * z by rw [Nat.succ_mul]; omega, show z - 1 + 1 = z by omega] at h
    exact h
theorem bl_cdeq {f g : Nat → Nat} {n : Nat} (hf : ∀ p, p < n → f p < 9) (hg : ∀ p, p < n → g p < 9) : bl_cd f n = bl_cd g n ↔ ∀ p, p < n → f p = g p := ⟨bl_cd_inj n hf hg, bl_cd_congr n⟩
theorem bl_cd_31 {f : Nat → Nat} {n : Nat} (hn : n ≤ 6) (hf : ∀ p, p < n → f p < 9) : bl_cd f n < 1000000 := Nat.lt_of_lt_of_le (bl_cd_lt n hf) (Nat.pow_le_pow_right (n := 10) (by decide) hn)
theorem bl_cd_div {f : Nat → Nat} {p : Nat} (h : f p < 9) : bl_cd f (p + 1) / 10 = bl_cd f p ∧ bl_cd f (p + 1) % 10 = f p + 1 := by
  have h1 : bl_cd f (p + 1) = 10 * bl_cd f p + (f p + 1) := rfl
  omega
theorem bl_cd_top {f : Nat → Nat} : ∀ m, (∀ p, p < m + 1 → f p < 9) → bl_cd f (m + 1) / 10 ^ m = f 0 + 1
  | 0, h => by
    have h1 : bl_cd f (0 + 1) = 10 * bl_cd f 0 + (f 0 + 1) := rfl
    have h2 : bl_cd f 0 = 0 := rfl
    rw [Nat.pow_zero, Nat.div_one, h1, h2]
    omega
  | m + 1, h => by
    rw [Nat.pow_succ, Nat.mul_comm, ← Nat.div_div_eq_div_mul, (bl_cd_div (h (m + 1) (by omega))).1]
    exact bl_cd_top m (fun p hp => h p (by omega))
theorem nI_ne_m4 {x : Nat} (h : x < 2 ^ 31) : nI x ≠ (-4 : Int32) := by
  intro e
  have h1 := nI_pos h
  rw [e] at h1
  exact h1 (by decide)
theorem bl_hd_congr {z : Nat} {fm fc fl fl2 : Nat → Nat} : ∀ i, (∀ j, j < i → fl j = fl2 j) → ∀ p, bl_hd z fm fc fl i p = bl_hd z fm fc fl2 i p
  | 0, _, _ => rfl
  | i + 1, h, p => by
    show bl_hd z fm fc fl i (bl_off z fm fc (fl i) z p) = bl_hd z fm fc fl2 i (bl_off z fm fc (fl2 i) z p)
    rw [h i (by omega), bl_hd_congr i (fun j hj => h j (by omega))]
theorem bl_row_old {z ct c k : Nat} {fm fc fl : Nat → Nat} (hk : k ≤ ct * z) (p : Nat) : bl_row z fm fc (upN fl ct c) k p = bl_row z fm fc fl k p := by
  unfold bl_row
  by_cases h0 : k = 0
  · rw [if_pos h0, if_pos h0]
  · have hi := bl_kz_lt (by omega) hk
    rw [if_neg h0, if_neg h0, upN_ne (by omega), bl_hd_congr _ (fun j hj => upN_ne (by omega))]
theorem bl_row_more {z ct c k : Nat} {fm fc fl : Nat → Nat} (hk : k < z) (p : Nat) : bl_row z fm fc (upN fl ct c) (ct * z + k + 1) p = bl_hd z fm fc fl ct (bl_off z fm fc c (k + 1) p) := by
  rw [bl_row_at fm fc (upN fl ct c) hk, upN_eq, bl_hd_congr _ (fun j hj => upN_ne (by omega))]
/-- how many pairs of leads share a row, counted by leads -/
noncomputable def bl_cm (n z : Nat) (fm fc : Nat → Nat) (ct : Nat) (fl : Nat → Nat) : Nat := bl_sum (fun i => bl_sum (fun t => bl_ind (bl_sh n z fm fc fl i (fl i) (i + 1 + t) (fl (i + 1 + t)))) (ct - (i + 1))) ct
/-- the world of BellRowsModel between calls -/
def bl_MI (cb ci : ClassId) (o : Nat) (a : Nat → Nat) (n z : Nat) (fm fc : Nat → Nat) (ct : Nat) (fl : Nat → Nat) (w : va_W) : Prop := ∃ (gm gc gl fb : Nat → Nat) (la : Nat) (fr : Nat → Nat), w = MC cb ci o a n z gm gc ct gl fb la fr ∧ (∀ k, k < z → gm k = fm k) ∧ (∀ c, 0 < c → c < 3 → gc c = fc c) ∧ ∀ i, i < ct → gl i = fl i
theorem bl_df_le (n : Nat) (R : Nat → Nat → Nat) (N : Nat) : bl_df n R N ≤ N := bl_sum_le (fun _ => bl_ind_le _) N
theorem bl_it_60 {n p : Nat} {f : Nat → Nat} (hn : n ≤ 6) (h : bl_PM n f) (hp : p < n) : bl_it f 60 p = p := by
  obtain ⟨r, r1, r2, e⟩ := bl_cyc h hp
  obtain ⟨k, hk⟩ := bl_60 r (by omega) r1
  rw [hk]
  exact bl_it_mul f e k
end
section
set_option maxRecDepth 100000
section XA
variable {l : Launch} {D : va_G} {cb ci : ClassId} {o : Nat} {a : Nat → Nat} {n z ct kn la : Nat} {fm fc fl fo fh ff ft fi fd fb fr gm gc gl : Nat → Nat}
set_option maxHeartbeats 4000000 in
theorem kX_offsetAt (c k : Nat) : jx_Ki l D cb ci yX1_offsetAt wsX1_offsetAt rmX1_offsetAt 0 0 [.ref o, .int (nI c), .int (nI k)] (XC cb ci o a n z fm fc ct fl kn fo fh ff ft fi fd) (fun r w' => r = nI (78 * c + 6 * k) ∧ w' = XC cb ci o a n z fm fc ct fl kn fo fh ff ft fi fd) := by
  refine jx_Ki_of (by decide) (Nat.le_of_ble_eq_true rfl) [(0, .ref o), (1, .int (nI c)), (2, .int (nI k))] rfl ?_
  intro x G E
  refine jx_bipush (pc := 0) G dX1_offsetAt_0 kb_78 ?_
  refine jx_iload_n (pc := 2) G dX1_offsetAt_2 rfl 1 rfl ?_
  refine jx_imul (pc := 3) G dX1_offsetAt_3 ?_
  refine jx_bipush (pc := 4) G dX1_offsetAt_4 kb_6 ?_
  refine jx_iload_n (pc := 6) G dX1_offsetAt_6 rfl 2 rfl ?_
  refine jx_imul (pc := 7) G dX1_offsetAt_7 ?_
  refine jx_iadd (pc := 8) G dX1_offsetAt_8 ?_
  exact E _ _ 9 _ ⟨rfl, rfl⟩ dX1_offsetAt_9
set_option maxHeartbeats 4000000 in
theorem kX_last  : jx_Ki l D cb ci yX1_last wsX1_last rmX1_last 0 0 [.ref o] (XC cb ci o a n z fm fc ct fl kn fo fh ff ft fi fd) (fun r w' => r = nI (ct * z) ∧ w' = XC cb ci o a n z fm fc ct fl kn fo fh ff ft fi fd) := by
  refine jx_Ki_of (by decide) (Nat.le_of_ble_eq_true rfl) [(0, .ref o)] rfl ?_
  intro x G E
  refine jx_aload_n (pc := 0) G dX1_last_0 rfl 0 rfl ?_
  refine xg_count (pc := 1) G dX1_last_1 ?_
  refine jx_aload_n (pc := 4) G dX1_last_4 rfl 0 rfl ?_
  refine xg_size (pc := 5) G dX1_last_5 ?_
  refine jx_imul (pc := 8) G dX1_last_8 ?_
  exact E _ _ 9 _ ⟨rfl, rfl⟩ dX1_last_9
set_option maxHeartbeats 4000000 in
theorem kX_rankMade (hn : n ≤ 6) (hf : ∀ p, p < n → fd p < 128) : jx_Ki l D cb ci yX1_rankMade wsX1_rankMade rmX1_rankMade 0 0 [.ref o] (XC cb ci o a n z fm fc ct fl kn fo fh ff ft fi fd) (fun r w' => r = nI (bl_rk n fd n) ∧ w' = XC cb ci o a n z fm fc ct fl kn fo fh ff ft fi fd) := by
  refine jx_Ki_of (by decide) (Nat.le_of_ble_eq_true rfl) [(0, .ref o)] rfl ?_
  intro x G E
  refine jx_iconst (pc := 0) G dX1_rankMade_0 kc_0 ?_
  refine jx_istore_nV (pc := 1) G dX1_rankMade_1 rfl (by decide) (0) rfl [(0, .ref o), (1, .int (nI 0))] rfl ?_
  refine jx_iconst (pc := 2) G dX1_rankMade_2 kc_0 ?_
  refine jx_istore_nV (pc := 3) G dX1_rankMade_3 rfl (by decide) (0) rfl [(0, .ref o), (1, .int (nI 0)), (2, .int (nI 0))] rfl ?_
  have lp4 : ∀ (d4 : Nat) (i rank : Nat), n - i = d4 → (i ≤ n) → (rank = bl_rk n fd i) → jx_J x 0 0 (XC cb ci o a n z fm fc ct fl kn fo fh ff ft fi fd) 4 [(0, .ref o), (1, .int (nI rank)), (2, .int (nI i))] [] := by
    intro d4
    induction d4 using Nat.strongRecOn with
    | _ d4 ih4 =>
    intro i rank hm4 hi hr
    refine jx_iload_n (pc := 4) G dX1_rankMade_4 rfl 2 rfl ?_
    refine jx_aload_n (pc := 5) G dX1_rankMade_5 rfl 0 rfl ?_
    refine xg_n (pc := 6) G dX1_rankMade_6 ?_
    refine jx_icmp_ge (pc := 9) (tgt := 75) G dX1_rankMade_9 (by decide) (by omega) (by omega) (fun h9 => ?_) (fun h9 => ?_)
    · refine jx_iload_n (pc := 75) G dX1_rankMade_75 rfl 1 rfl ?_
      exact E _ _ 76 _ ⟨by rw [hr, show i = n by omega], rfl⟩ dX1_rankMade_76
    · refine jx_iconst (pc := 12) G dX1_rankMade_12 kc_0 ?_
      refine jx_istore_nV (pc := 13) G dX1_rankMade_13 rfl (by decide) (0) rfl [(0, .ref o), (1, .int (nI rank)), (2, .int (nI i)), (3, .int (nI 0))] rfl ?_
      refine jx_iload_n (pc := 14) G dX1_rankMade_14 rfl 2 rfl ?_
      refine jx_iconst (pc := 15) G dX1_rankMade_15 kc_1 ?_
      refine jx_iadd (pc := 16) G dX1_rankMade_16 ?_
      refine jx_istore (pc := 17) G dX1_rankMade_17 (by decide) (fun v => [(0, .ref o), (1, .int (nI rank)), (2, .int (nI i)), (3, .int (nI 0)), (4, .int (nI v))]) (fun _ => rfl) (fun u4_17 eu4_17 => ?_)
      have lp19 : ∀ (d19 : Nat) (t les j : Nat), n - j = d19 → (j = i + 1 + t) → (les = bl_ls fd i t) → (j ≤ n) → jx_J x 0 0 (XC cb ci o a n z fm fc ct fl kn fo fh ff ft fi fd) 19 [(0, .ref o), (1, .int (nI rank)), (2, .int (nI i)), (3, .int (nI les)), (4, .int (nI j))] [] := by
        intro d19
        induction d19 using Nat.strongRecOn with
        | _ d19 ih19 =>
        intro t les j hm19 hj hl hb
        refine jx_iload (pc := 19) G dX1_rankMade_19 4 rfl ?_
        refine jx_aload_n (pc := 21) G dX1_rankMade_21 rfl 0 rfl ?_
        refine xg_n (pc := 22) G dX1_rankMade_22 ?_
        refine jx_icmp_ge (pc := 25) (tgt := 58) G dX1_rankMade_25 (by decide) (by omega) (by omega) (fun h25 => ?_) (fun h25 => ?_)
        · refine jx_iload_n (pc := 58) G dX1_rankMade_58 rfl 1 rfl ?_
          refine jx_aload_n (pc := 59) G dX1_rankMade_59 rfl 0 rfl ?_
          refine xg_n (pc := 60) G dX1_rankMade_60 ?_
          refine jx_iload_n (pc := 63) G dX1_rankMade_63 rfl 2 rfl ?_
          refine jx_isub (pc := 64) G dX1_rankMade_64 (by omega) ?_
          refine jx_imul (pc := 65) G dX1_rankMade_65 ?_
          refine jx_iload_n (pc := 66) G dX1_rankMade_66 rfl 3 rfl ?_
          refine jx_iadd (pc := 67) G dX1_rankMade_67 ?_
          refine jx_istore_n (pc := 68) G dX1_rankMade_68 rfl (by decide) (fun v => [(0, .ref o), (1, .int (nI v)), (2, .int (nI i)), (3, .int (nI les)), (4, .int (nI j))]) (fun _ => rfl) (fun u1_68 eu1_68 => ?_)
          refine jx_iinc (pc := 69) G dX1_rankMade_69 kc_1 (by decide) 2 rfl (fun v => [(0, .ref o), (1, .int (nI u1_68)), (2, .int (nI v)), (3, .int (nI les)), (4, .int (nI j))]) (fun _ => rfl) (fun u2_69 eu2_69 => ?_)
          refine jx_goto (pc := 72) (tgt := 4) G dX1_rankMade_72 (by decide) ?_
          exact jx_sub (lv' := [(0, .ref o), (1, .int (nI u1_68)), (2, .int (nI u2_69))]) [0, 1, 2] rfl (ih4 _ (by omega) u2_69 u1_68 rfl (by omega) (by rw [eu1_68, eu2_69, hr, hl]; show _ = bl_rk n fd i * (n - i) + bl_ls fd i (n - (i + 1)); rw [show n - (i + 1) = t by omega]))
        · refine jx_aload_n (pc := 28) G dX1_rankMade_28 rfl 0 rfl ?_
          refine xg_made (pc := 29) G dX1_rankMade_29 ?_
          refine jx_iload (pc := 32) G dX1_rankMade_32 4 rfl ?_
          refine xl_made (pc := 34) G dX1_rankMade_34 (by omega) ?_
          refine jx_aload_n (pc := 35) G dX1_rankMade_35 rfl 0 rfl ?_
          refine xg_made (pc := 36) G dX1_rankMade_36 ?_
          refine jx_iload_n (pc := 39) G dX1_rankMade_39 rfl 2 rfl ?_
          refine xl_made (pc := 40) G dX1_rankMade_40 (by omega) ?_
          have hfj := hf j (by omega)
          have hfi := hf i (by omega)
          refine jx_icmp_ge (pc := 41) (tgt := 50) G dX1_rankMade_41 (by decide) (by omega) (by omega) (fun h41 => ?_) (fun h41 => ?_)
          · refine jx_iload_n (pc := 50) G dX1_rankMade_50 rfl 3 rfl ?_
            refine jx_istore_n (pc := 51) G dX1_rankMade_51 rfl (by decide) (fun v => [(0, .ref o), (1, .int (nI rank)), (2, .int (nI i)), (3, .int (nI v)), (4, .int (nI j))]) (fun _ => rfl) (fun u3_51 eu3_51 => ?_)
            refine jx_iinc (pc := 52) G dX1_rankMade_52 kc_1 (by decide) 4 rfl (fun v => [(0, .ref o), (1, .int (nI rank)), (2, .int (nI i)), (3, .int (nI u3_51)), (4, .int (nI v))]) (fun _ => rfl) (fun u4_52 eu4_52 => ?_)
            refine jx_goto (pc := 55) (tgt := 19) G dX1_rankMade_55 (by decide) ?_
            exact ih19 _ (by omega) (t + 1) u3_51 u4_52 rfl (by omega) (by show u3_51 = bl_ls fd i t + (if fd (i + 1 + t) < fd i then 1 else 0); subst hj; split <;> omega) (by omega)
          · refine jx_iload_n (pc := 44) G dX1_rankMade_44 rfl 3 rfl ?_
            refine jx_iconst (pc := 45) G dX1_rankMade_45 kc_1 ?_
            refine jx_iadd (pc := 46) G dX1_rankMade_46 ?_
            refine jx_goto (pc := 47) (tgt := 51) G dX1_rankMade_47 (by decide) ?_
            refine jx_istore_n (pc := 51) G dX1_rankMade_51 rfl (by decide) (fun v => [(0, .ref o), (1, .int (nI rank)), (2, .int (nI i)), (3, .int (nI v)), (4, .int (nI j))]) (fun _ => rfl) (fun u3_51 eu3_51 => ?_)
            refine jx_iinc (pc := 52) G dX1_rankMade_52 kc_1 (by decide) 4 rfl (fun v => [(0, .ref o), (1, .int (nI rank)), (2, .int (nI i)), (3, .int (nI u3_51)), (4, .int (nI v))]) (fun _ => rfl) (fun u4_52 eu4_52 => ?_)
            refine jx_goto (pc := 55) (tgt := 19) G dX1_rankMade_55 (by decide) ?_
            exact ih19 _ (by omega) (t + 1) u3_51 u4_52 rfl (by omega) (by show u3_51 = bl_ls fd i t + (if fd (i + 1 + t) < fd i then 1 else 0); subst hj; split <;> omega) (by omega)
      exact lp19 _ 0 0 u4_17 rfl (by omega) rfl (by omega)
  exact lp4 _ 0 0 rfl (by omega) rfl
set_option maxHeartbeats 4000000 in
theorem kX_clearMet  : jx_Kv l D cb ci yX1_clearMet wsX1_clearMet rmX1_clearMet 0 0 [.ref o] (XC cb ci o a n z fm fc ct fl kn fo fh ff ft fi fd) (fun w' => ∃ ft', (∀ k, k < 23 → ft' k = 0) ∧ w' = XC cb ci o a n z fm fc ct fl kn fo fh ff ft' fi fd) := by
  refine jx_Kv_of (by decide) (Nat.le_of_ble_eq_true rfl) [(0, .ref o)] rfl ?_
  intro x G E
  refine jx_iconst (pc := 0) G dX1_clearMet_0 kc_0 ?_
  refine jx_istore_nV (pc := 1) G dX1_clearMet_1 rfl (by decide) (0) rfl [(0, .ref o), (1, .int (nI 0))] rfl ?_
  have lp2 : ∀ (d2 : Nat) (k : Nat) (ft' : Nat → Nat), 23 - k = d2 → (k ≤ 23) → (∀ j, j < k → ft' j = 0) → jx_J x 0 0 (XC cb ci o a n z fm fc ct fl kn fo fh ff ft' fi fd) 2 [(0, .ref o), (1, .int (nI k))] [] := by
    intro d2
    induction d2 using Nat.strongRecOn with
    | _ d2 ih2 =>
    intro k ft' hm2 hk hz
    refine jx_iload_n (pc := 2) G dX1_clearMet_2 rfl 1 rfl ?_
    refine jx_bipush (pc := 3) G dX1_clearMet_3 kb_23 ?_
    refine jx_icmp_ge (pc := 5) (tgt := 21) G dX1_clearMet_5 (by decide) (by omega) (by omega) (fun h5 => ?_) (fun h5 => ?_)
    · exact E _ 21 _ ⟨ft', fun j h => hz j (by omega), rfl⟩ dX1_clearMet_21
    · refine jx_aload_n (pc := 8) G dX1_clearMet_8 rfl 0 rfl ?_
      refine xg_met (pc := 9) G dX1_clearMet_9 ?_
      refine jx_iload_n (pc := 12) G dX1_clearMet_12 rfl 1 rfl ?_
      refine jx_iconst (pc := 13) G dX1_clearMet_13 kc_0 ?_
      refine xs_met (pc := 14) G dX1_clearMet_14 (by omega) ?_
      refine jx_iinc (pc := 15) G dX1_clearMet_15 kc_1 (by decide) 1 rfl (fun v => [(0, .ref o), (1, .int (nI v))]) (fun _ => rfl) (fun u1_15 eu1_15 => ?_)
      refine jx_goto (pc := 18) (tgt := 2) G dX1_clearMet_18 (by decide) ?_
      exact ih2 _ (by omega) u1_15 _ rfl (by omega) (fun j h => by by_cases e : j = k; (rw [e, upN_eq]); (rw [upN_ne e]; exact hz j (by omega)))
  exact lp2 _ 0 ft rfl (by omega) (fun j h => absurd h (by omega))
set_option maxHeartbeats 4000000 in
theorem kX_greatest (p q : Nat) (hp : p < 2 ^ 31) (hq : q < 2 ^ 31) : jx_Ki l D cb ci yX1_greatest wsX1_greatest rmX1_greatest 0 0 [.ref o, .int (nI p), .int (nI q)] (XC cb ci o a n z fm fc ct fl kn fo fh ff ft fi fd) (fun r w' => r = nI (Nat.gcd p q) ∧ w' = XC cb ci o a n z fm fc ct fl kn fo fh ff ft fi fd) := by
  refine jx_Ki_of (by decide) (Nat.le_of_ble_eq_true rfl) [(0, .ref o), (1, .int (nI p)), (2, .int (nI q))] rfl ?_
  intro x G E
  refine jx_iload_n (pc := 0) G dX1_greatest_0 rfl 1 rfl ?_
  refine jx_istore_nV (pc := 1) G dX1_greatest_1 rfl (by decide) (p) rfl [(0, .ref o), (1, .int (nI p)), (2, .int (nI q)), (3, .int (nI p))] rfl ?_
  refine jx_iload_n (pc := 2) G dX1_greatest_2 rfl 2 rfl ?_
  refine jx_istoreV (pc := 3) G dX1_greatest_3 (by decide) (q) rfl [(0, .ref o), (1, .int (nI p)), (2, .int (nI q)), (3, .int (nI p)), (4, .int (nI q))] rfl ?_
  have lp5 : ∀ (d5 : Nat) (x1 y1 : Nat), y1 = d5 → (x1 < 2 ^ 31) → (y1 < 2 ^ 31) → (Nat.gcd x1 y1 = Nat.gcd p q) → jx_J x 0 0 (XC cb ci o a n z fm fc ct fl kn fo fh ff ft fi fd) 5 [(0, .ref o), (1, .int (nI p)), (2, .int (nI q)), (3, .int (nI x1)), (4, .int (nI y1))] [] := by
    intro d5
    induction d5 using Nat.strongRecOn with
    | _ d5 ih5 =>
    intro x1 y1 hm5 hx1 hy1 hg
    refine jx_iload (pc := 5) G dX1_greatest_5 4 rfl ?_
    refine jx_if_le (pc := 7) (tgt := 26) G dX1_greatest_7 (by decide) (by omega) (fun h7 => ?_) (fun h7 => ?_)
    · refine jx_iload_n (pc := 26) G dX1_greatest_26 rfl 3 rfl ?_
      exact E _ _ 27 _ ⟨by rw [← hg, h7, Nat.gcd_zero_right], rfl⟩ dX1_greatest_27
    · refine jx_iload_n (pc := 10) G dX1_greatest_10 rfl 3 rfl ?_
      refine jx_iload (pc := 11) G dX1_greatest_11 4 rfl ?_
      have hlt : x1 % y1 < y1 := Nat.mod_lt _ (by omega)
      refine jx_irem (pc := 13) G dX1_greatest_13 (by omega) (by omega) (by omega) ?_
      refine jx_istoreV (pc := 14) G dX1_greatest_14 (by decide) (x1 % y1) rfl [(0, .ref o), (1, .int (nI p)), (2, .int (nI q)), (3, .int (nI x1)), (4, .int (nI y1)), (5, .int (nI (x1 % y1)))] rfl ?_
      refine jx_iload (pc := 16) G dX1_greatest_16 4 rfl ?_
      refine jx_istore_nV (pc := 18) G dX1_greatest_18 rfl (by decide) (y1) rfl [(0, .ref o), (1, .int (nI p)), (2, .int (nI q)), (3, .int (nI y1)), (4, .int (nI y1)), (5, .int (nI (x1 % y1)))] rfl ?_
      refine jx_iload (pc := 19) G dX1_greatest_19 5 rfl ?_
      refine jx_istoreV (pc := 21) G dX1_greatest_21 (by decide) (x1 % y1) rfl [(0, .ref o), (1, .int (nI p)), (2, .int (nI q)), (3, .int (nI y1)), (4, .int (nI (x1 % y1))), (5, .int (nI (x1 % y1)))] rfl ?_
      refine jx_goto (pc := 23) (tgt := 5) G dX1_greatest_23 (by decide) ?_
      exact jx_sub (lv' := [(0, .ref o), (1, .int (nI p)), (2, .int (nI q)), (3, .int (nI y1)), (4, .int (nI (x1 % y1)))]) [0, 1, 2, 3, 4] rfl (ih5 _ (by omega) y1 (x1 % y1) rfl hy1 (by omega) (by rw [← hg, Nat.gcd_comm y1, ← Nat.gcd_rec, Nat.gcd_comm]))
  exact lp5 _ p q rfl hp hq rfl
end XA
end
section
set_option maxRecDepth 100000
section XB
variable {l : Launch} {D : va_G} {cb ci : ClassId} {o : Nat} {a : Nat → Nat} {n z ct kn la : Nat} {fm fc fl fo fh ff ft fi fd fb fr gm gc gl : Nat → Nat}
set_option maxHeartbeats 4000000 in
theorem kX_isChange_neg {y : Int32} (hy : y < 0) : jx_Ki l D cb ci yX1_isChange wsX1_isChange rmX1_isChange 0 0 [.ref o, .int y] (XC cb ci o a n z fm fc ct fl kn fo fh ff ft fi fd) (fun r w' => r = nI 0 ∧ w' = XC cb ci o a n z fm fc ct fl kn fo fh ff ft fi fd) := by
  refine jx_Kz_of (by decide) (Nat.le_of_ble_eq_true rfl) [(0, .ref o), (1, .int y)] rfl ?_
  intro x G E
  refine jx_iload_n (pc := 0) G dX1_isChange_0 rfl 1 rfl ?_
  refine jx_iflt_neg (pc := 1) (tgt := 14) G dX1_isChange_1 (by decide) hy ?_
  refine jx_iconst (pc := 14) G dX1_isChange_14 kc_0 ?_
  exact E _ _ 15 _ ⟨rfl, rfl⟩ (by omega) dX1_isChange_15
set_option maxHeartbeats 4000000 in
theorem kX_isChange_nn (hn : n ≤ 6) {j : Nat} (hj : j < 2 ^ 31) : jx_Ki l D cb ci yX1_isChange wsX1_isChange rmX1_isChange 0 0 [.ref o, .int (nI j)] (XC cb ci o a n z fm fc ct fl kn fo fh ff ft fi fd) (fun r w' => r = nI (bl_ind (bl_ok n j)) ∧ w' = XC cb ci o a n z fm fc ct fl kn fo fh ff ft fi fd) := by
  refine jx_Kz_of (by decide) (Nat.le_of_ble_eq_true rfl) [(0, .ref o), (1, .int (nI j))] rfl ?_
  intro x G E
  have h2n : 2 ^ n ≤ 64 := Nat.pow_le_pow_right (n := 2) (by decide) hn
  refine jx_iload_n (pc := 0) G dX1_isChange_0 rfl 1 rfl ?_
  refine jx_iflt_nn (pc := 1) (tgt := 14) G dX1_isChange_1 (by decide) hj ?_
  refine jx_iload_n (pc := 4) G dX1_isChange_4 rfl 1 rfl ?_
  refine jx_iconst (pc := 5) G dX1_isChange_5 kc_1 ?_
  refine jx_aload_n (pc := 6) G dX1_isChange_6 rfl 0 rfl ?_
  refine xg_n (pc := 7) G dX1_isChange_7 ?_
  refine jx_ishlR (pc := 10) G dX1_isChange_10 (ns_1 (by omega)) ?_
  refine jx_icmp_lt (pc := 11) (tgt := 16) G dX1_isChange_11 (by decide) (by omega) (by omega) (fun h11 => ?_) (fun h11 => ?_)
  · refine jx_iconst (pc := 16) G dX1_isChange_16 kc_1 ?_
    refine jx_istore_nV (pc := 17) G dX1_isChange_17 rfl (by decide) (1) rfl [(0, .ref o), (1, .int (nI j)), (2, .int (nI 1))] rfl ?_
    refine jx_iconst (pc := 18) G dX1_isChange_18 kc_0 ?_
    refine jx_istore_nV (pc := 19) G dX1_isChange_19 rfl (by decide) (0) rfl [(0, .ref o), (1, .int (nI j)), (2, .int (nI 1)), (3, .int (nI 0))] rfl ?_
    have lp20 : ∀ (d20 : Nat) (g p : Nat), n + 2 - p = d20 → (g ≤ 1) → (p ≤ n + 1) → (g = 0 → ¬ bl_ok n j) → (g = 1 → p ≤ n ∧ bl_sec j p = false ∧ ∀ q, q < p → bl_fst j q = true → q + 1 < n ∧ bl_bit j (q + 1) = 0) → jx_J x 0 0 (XC cb ci o a n z fm fc ct fl kn fo fh ff ft fi fd) 20 [(0, .ref o), (1, .int (nI j)), (2, .int (nI g)), (3, .int (nI p))] [] := by
      intro d20
      induction d20 using Nat.strongRecOn with
      | _ d20 ih20 =>
      intro g p hm20 hg hpp h0 h1
      refine jx_iload_n (pc := 20) G dX1_isChange_20 rfl 3 rfl ?_
      refine jx_aload_n (pc := 21) G dX1_isChange_21 rfl 0 rfl ?_
      refine xg_n (pc := 22) G dX1_isChange_22 ?_
      refine jx_icmp_ge (pc := 25) (tgt := 80) G dX1_isChange_25 (by decide) (by omega) (by omega) (fun h25 => ?_) (fun h25 => ?_)
      · have e : g = bl_ind (bl_ok n j) := by
          by_cases h : g = 0
          · rw [h, bl_ind_f (h0 h)]
          · have h1' := h1 (by omega)
            rw [bl_ind_t ⟨h11, fun q hq hf => h1'.2.2 q (by omega) hf⟩]
            omega
        refine jx_iload_n (pc := 80) G dX1_isChange_80 rfl 2 rfl ?_
        exact E _ _ 81 _ ⟨by rw [e], rfl⟩ hg dX1_isChange_81
      · refine jx_iload_n (pc := 28) G dX1_isChange_28 rfl 2 rfl ?_
        refine jx_if_eq (pc := 29) (tgt := 80) G dX1_isChange_29 (by decide) (by omega) (fun h29 => ?_) (fun h29 => ?_)
        · have e : g = bl_ind (bl_ok n j) := by rw [h29, bl_ind_f (h0 h29)]
          refine jx_iload_n (pc := 80) G dX1_isChange_80 rfl 2 rfl ?_
          exact E _ _ 81 _ ⟨by rw [e], rfl⟩ hg dX1_isChange_81
        · have hg1 : g = 1 := by omega
          have hsec := (h1 hg1).2.1
          refine jx_iload_n (pc := 32) G dX1_isChange_32 rfl 1 rfl ?_
          refine jx_iload_n (pc := 33) G dX1_isChange_33 rfl 3 rfl ?_
          refine jx_ishrR (pc := 34) G dX1_isChange_34 (nr_s (by omega) (by omega)) ?_
          refine jx_iconst (pc := 35) G dX1_isChange_35 kc_1 ?_
          refine jx_iandR (pc := 36) G dX1_isChange_36 (na_1 (Nat.lt_of_le_of_lt (Nat.div_le_self _ _) (by omega))) ?_
          refine jx_iconst (pc := 37) G dX1_isChange_37 kc_1 ?_
          refine jx_icmp_ne (pc := 38) (tgt := 47) G dX1_isChange_38 (by decide) (Nat.lt_of_lt_of_le (Nat.mod_lt _ (by decide)) (by decide)) (by decide) (fun h38 => ?_) (fun h38 => ?_)
          · have hb0 : bl_bit j p = 0 := by
              have h2 : bl_bit j p ≠ 1 := h38
              have h3 := bl_bit_lt j p
              omega
            have hf1 : bl_fst j p = true := bl_fst_iff.mpr ⟨hb0, hsec⟩
            refine jx_iload_n (pc := 47) G dX1_isChange_47 rfl 3 rfl ?_
            refine jx_iconst (pc := 48) G dX1_isChange_48 kc_1 ?_
            refine jx_iadd (pc := 49) G dX1_isChange_49 ?_
            refine jx_aload_n (pc := 50) G dX1_isChange_50 rfl 0 rfl ?_
            refine xg_n (pc := 51) G dX1_isChange_51 ?_
            refine jx_icmp_ge (pc := 54) (tgt := 71) G dX1_isChange_54 (by decide) (by omega) (by omega) (fun h54 => ?_) (fun h54 => ?_)
            · have hno : ¬ bl_ok n j := fun q => by
                have := (q.2 p (by omega) hf1).1
                omega
              refine jx_iconst (pc := 71) G dX1_isChange_71 kc_0 ?_
              refine jx_istore_nV (pc := 72) G dX1_isChange_72 rfl (by decide) (0) rfl [(0, .ref o), (1, .int (nI j)), (2, .int (nI 0)), (3, .int (nI p))] rfl ?_
              refine jx_iload_n (pc := 73) G dX1_isChange_73 rfl 3 rfl ?_
              refine jx_iconst (pc := 74) G dX1_isChange_74 kc_2 ?_
              refine jx_iadd (pc := 75) G dX1_isChange_75 ?_
              refine jx_istore_nV (pc := 76) G dX1_isChange_76 rfl (by decide) (p + 2) rfl [(0, .ref o), (1, .int (nI j)), (2, .int (nI 0)), (3, .int (nI (p + 2)))] rfl ?_
              refine jx_goto (pc := 77) (tgt := 20) G dX1_isChange_77 (by decide) ?_
              exact ih20 _ (by omega) 0 ((p + 2)) rfl (by omega) (by omega) (fun _ => hno) (fun q => absurd q (by omega))
            · refine jx_iload_n (pc := 57) G dX1_isChange_57 rfl 1 rfl ?_
              refine jx_iload_n (pc := 58) G dX1_isChange_58 rfl 3 rfl ?_
              refine jx_iconst (pc := 59) G dX1_isChange_59 kc_1 ?_
              refine jx_iadd (pc := 60) G dX1_isChange_60 ?_
              refine jx_ishrR (pc := 61) G dX1_isChange_61 (nr_s (by omega) (by omega)) ?_
              refine jx_iconst (pc := 62) G dX1_isChange_62 kc_1 ?_
              refine jx_iandR (pc := 63) G dX1_isChange_63 (na_1 (Nat.lt_of_le_of_lt (Nat.div_le_self _ _) (by omega))) ?_
              refine jx_if_ne (pc := 64) (tgt := 71) G dX1_isChange_64 (by decide) (Nat.lt_of_lt_of_le (Nat.mod_lt _ (by decide)) (by decide)) (fun h64 => ?_) (fun h64 => ?_)
              · have hno : ¬ bl_ok n j := fun q => h64 (q.2 p (by omega) hf1).2
                refine jx_iconst (pc := 71) G dX1_isChange_71 kc_0 ?_
                refine jx_istore_nV (pc := 72) G dX1_isChange_72 rfl (by decide) (0) rfl [(0, .ref o), (1, .int (nI j)), (2, .int (nI 0)), (3, .int (nI p))] rfl ?_
                refine jx_iload_n (pc := 73) G dX1_isChange_73 rfl 3 rfl ?_
                refine jx_iconst (pc := 74) G dX1_isChange_74 kc_2 ?_
                refine jx_iadd (pc := 75) G dX1_isChange_75 ?_
                refine jx_istore_nV (pc := 76) G dX1_isChange_76 rfl (by decide) (p + 2) rfl [(0, .ref o), (1, .int (nI j)), (2, .int (nI 0)), (3, .int (nI (p + 2)))] rfl ?_
                refine jx_goto (pc := 77) (tgt := 20) G dX1_isChange_77 (by decide) ?_
                exact ih20 _ (by omega) 0 ((p + 2)) rfl (by omega) (by omega) (fun _ => hno) (fun q => absurd q (by omega))
              · have h64 : bl_bit j (p + 1) = 0 := h64
                have hnf2 : ¬ bl_fst j (p + 1) = true := fun q => by
                  have h2 : bl_sec j (p + 1) = true := hf1
                  rw [(bl_fst_iff.mp q).2] at h2
                  cases h2
                have hs2 : bl_sec j (p + 2) = false := Bool.eq_false_iff.mpr hnf2
                refine jx_iconst (pc := 67) G dX1_isChange_67 kc_1 ?_
                refine jx_goto (pc := 68) (tgt := 72) G dX1_isChange_68 (by decide) ?_
                refine jx_istore_nV (pc := 72) G dX1_isChange_72 rfl (by decide) (1) rfl [(0, .ref o), (1, .int (nI j)), (2, .int (nI 1)), (3, .int (nI p))] rfl ?_
                refine jx_iload_n (pc := 73) G dX1_isChange_73 rfl 3 rfl ?_
                refine jx_iconst (pc := 74) G dX1_isChange_74 kc_2 ?_
                refine jx_iadd (pc := 75) G dX1_isChange_75 ?_
                refine jx_istore_nV (pc := 76) G dX1_isChange_76 rfl (by decide) (p + 2) rfl [(0, .ref o), (1, .int (nI j)), (2, .int (nI 1)), (3, .int (nI (p + 2)))] rfl ?_
                refine jx_goto (pc := 77) (tgt := 20) G dX1_isChange_77 (by decide) ?_
                exact ih20 _ (by omega) 1 ((p + 2)) rfl (by omega) (by omega) (fun q => absurd q (by omega)) (fun _ => ⟨by omega, hs2, fun q hq hf => by by_cases eq : q = p; (rw [eq]; exact ⟨h54, h64⟩); exact (h1 hg1).2.2 q (by by_cases eq2 : q = p + 1; (rw [eq2] at hf; exact absurd hf hnf2); omega) hf⟩)
          · have hnf : ¬ bl_fst j p = true := fun q => by
              have h2 : bl_bit j p = 1 := h38
              have h3 := (bl_fst_iff.mp q).1
              omega
            refine jx_iincV (pc := 41) G dX1_isChange_41 kc_1 (by decide) 3 rfl (p + 1) rfl [(0, .ref o), (1, .int (nI j)), (2, .int (nI g)), (3, .int (nI (p + 1)))] rfl ?_
            refine jx_goto (pc := 44) (tgt := 20) G dX1_isChange_44 (by decide) ?_
            exact ih20 _ (by omega) g ((p + 1)) rfl hg (by omega) h0 (fun e => ⟨by omega, Bool.eq_false_iff.mpr hnf, fun q hq hf => by by_cases eq : q = p; (rw [eq] at hf; exact absurd hf hnf); exact (h1 e).2.2 q (by omega) hf⟩)
    exact lp20 _ 1 0 rfl (by omega) (by omega) (fun q => absurd q (by omega)) (fun _ => ⟨by omega, rfl, fun q h => absurd h (by omega)⟩)
  · refine jx_iconst (pc := 14) G dX1_isChange_14 kc_0 ?_
    exact E _ _ 15 _ ⟨by rw [bl_ind_f (fun q => absurd q.1 (by omega))], rfl⟩ (by omega) dX1_isChange_15
theorem kX_isChange (hn : n ≤ 6) (y : Int32) : jx_Ki l D cb ci yX1_isChange wsX1_isChange rmX1_isChange 0 0 [.ref o, .int y] (XC cb ci o a n z fm fc ct fl kn fo fh ff ft fi fd) (fun r w' => r = nI (bl_ind (bl_chg n y)) ∧ w' = XC cb ci o a n z fm fc ct fl kn fo fh ff ft fi fd) := by
  rcases bl_int y with h | ⟨j, hj, rfl⟩
  · rw [bl_ind_f (bl_chg_neg hn h)]
    exact kX_isChange_neg h
  · rw [bl_ind_iff (bl_chg_nI hn hj)]
    exact kX_isChange_nn hn hj
set_option maxHeartbeats 4000000 in
theorem kX_badCall_neg {y : Int32} (hy : y < 0) : jx_Ki l D cb ci yX1_badCall wsX1_badCall rmX1_badCall 0 0 [.ref o, .int y] (XC cb ci o a n z fm fc ct fl kn fo fh ff ft fi fd) (fun r w' => r = nI 1 ∧ w' = XC cb ci o a n z fm fc ct fl kn fo fh ff ft fi fd) := by
  refine jx_Kz_of (by decide) (Nat.le_of_ble_eq_true rfl) [(0, .ref o), (1, .int y)] rfl ?_
  intro x G E
  refine jx_iload_n (pc := 0) G dX1_badCall_0 rfl 1 rfl ?_
  refine jx_iflt_neg (pc := 1) (tgt := 9) G dX1_badCall_1 (by decide) hy ?_
  refine jx_iconst (pc := 9) G dX1_badCall_9 kc_1 ?_
  refine jx_goto (pc := 10) (tgt := 14) G dX1_badCall_10 (by decide) ?_
  exact E _ _ 14 _ ⟨rfl, rfl⟩ (by omega) dX1_badCall_14
set_option maxHeartbeats 4000000 in
theorem kX_badCall_nn {j : Nat} (hj : j < 2 ^ 31) : jx_Ki l D cb ci yX1_badCall wsX1_badCall rmX1_badCall 0 0 [.ref o, .int (nI j)] (XC cb ci o a n z fm fc ct fl kn fo fh ff ft fi fd) (fun r w' => r = nI (bl_ind (¬ j < 3)) ∧ w' = XC cb ci o a n z fm fc ct fl kn fo fh ff ft fi fd) := by
  refine jx_Kz_of (by decide) (Nat.le_of_ble_eq_true rfl) [(0, .ref o), (1, .int (nI j))] rfl ?_
  intro x G E
  refine jx_iload_n (pc := 0) G dX1_badCall_0 rfl 1 rfl ?_
  refine jx_iflt_nn (pc := 1) (tgt := 9) G dX1_badCall_1 (by decide) hj ?_
  refine jx_iload_n (pc := 4) G dX1_badCall_4 rfl 1 rfl ?_
  refine jx_iconst (pc := 5) G dX1_badCall_5 kc_3 ?_
  refine jx_icmp_lt (pc := 6) (tgt := 13) G dX1_badCall_6 (by decide) (by omega) (by omega) (fun h6 => ?_) (fun h6 => ?_)
  · have e : 0 = bl_ind (¬ j < 3) := (bl_ind_f (fun q => q h6)).symm
    refine jx_iconst (pc := 13) G dX1_badCall_13 kc_0 ?_
    exact E _ _ 14 _ ⟨by rw [← e], rfl⟩ (by omega) dX1_badCall_14
  · have e : 1 = bl_ind (¬ j < 3) := (bl_ind_t (by omega)).symm
    refine jx_iconst (pc := 9) G dX1_badCall_9 kc_1 ?_
    refine jx_goto (pc := 10) (tgt := 14) G dX1_badCall_10 (by decide) ?_
    exact E _ _ 14 _ ⟨by rw [← e], rfl⟩ (by omega) dX1_badCall_14
theorem kX_badCall (y : Int32) : jx_Ki l D cb ci yX1_badCall wsX1_badCall rmX1_badCall 0 0 [.ref o, .int y] (XC cb ci o a n z fm fc ct fl kn fo fh ff ft fi fd) (fun r w' => r = nI (bl_ind (¬ bl_in 3 y)) ∧ w' = XC cb ci o a n z fm fc ct fl kn fo fh ff ft fi fd) := by
  rcases bl_int y with h | ⟨j, hj, rfl⟩
  · rw [bl_ind_t (bl_in_neg (by decide) h)]
    exact kX_badCall_neg h
  · rw [bl_in_nI (by decide) hj]
    exact kX_badCall_nn hj
set_option maxHeartbeats 4000000 in
theorem kX_noRow_neg {y : Int32} (hy : y < 0) : jx_Ki l D cb ci yX1_noRow wsX1_noRow rmX1_noRow 0 0 [.ref o, .int y] (XC cb ci o a n z fm fc ct fl kn fo fh ff ft fi fd) (fun r w' => r = nI 1 ∧ w' = XC cb ci o a n z fm fc ct fl kn fo fh ff ft fi fd) := by
  refine jx_Kz_of (by decide) (Nat.le_of_ble_eq_true rfl) [(0, .ref o), (1, .int y)] rfl ?_
  intro x G E
  refine jx_iload_n (pc := 0) G dX1_noRow_0 rfl 1 rfl ?_
  refine jx_iflt_neg (pc := 1) (tgt := 17) G dX1_noRow_1 (by decide) hy ?_
  refine jx_iconst (pc := 17) G dX1_noRow_17 kc_1 ?_
  refine jx_goto (pc := 18) (tgt := 22) G dX1_noRow_18 (by decide) ?_
  exact E _ _ 22 _ ⟨rfl, rfl⟩ (by omega) dX1_noRow_22
set_option maxHeartbeats 4000000 in
theorem kX_noRow_nn {j : Nat} (hj : j < 2 ^ 31) (hc : ct * z ≤ 240) : jx_Ki l D cb ci yX1_noRow wsX1_noRow rmX1_noRow 0 0 [.ref o, .int (nI j)] (XC cb ci o a n z fm fc ct fl kn fo fh ff ft fi fd) (fun r w' => r = nI (bl_ind (¬ j < ct * z + 1)) ∧ w' = XC cb ci o a n z fm fc ct fl kn fo fh ff ft fi fd) := by
  refine jx_Kz_of (by decide) (Nat.le_of_ble_eq_true rfl) [(0, .ref o), (1, .int (nI j))] rfl ?_
  intro x G E
  refine jx_iload_n (pc := 0) G dX1_noRow_0 rfl 1 rfl ?_
  refine jx_iflt_nn (pc := 1) (tgt := 17) G dX1_noRow_1 (by decide) hj ?_
  refine jx_iload_n (pc := 4) G dX1_noRow_4 rfl 1 rfl ?_
  refine jx_aload_n (pc := 5) G dX1_noRow_5 rfl 0 rfl ?_
  refine xg_count (pc := 6) G dX1_noRow_6 ?_
  refine jx_aload_n (pc := 9) G dX1_noRow_9 rfl 0 rfl ?_
  refine xg_size (pc := 10) G dX1_noRow_10 ?_
  refine jx_imul (pc := 13) G dX1_noRow_13 ?_
  refine jx_icmp_le (pc := 14) (tgt := 21) G dX1_noRow_14 (by decide) (by omega) (by omega) (fun h14 => ?_) (fun h14 => ?_)
  · have e : 0 = bl_ind (¬ j < ct * z + 1) := (bl_ind_f (fun q => q (by omega))).symm
    refine jx_iconst (pc := 21) G dX1_noRow_21 kc_0 ?_
    exact E _ _ 22 _ ⟨by rw [← e], rfl⟩ (by omega) dX1_noRow_22
  · have e : 1 = bl_ind (¬ j < ct * z + 1) := (bl_ind_t (by omega)).symm
    refine jx_iconst (pc := 17) G dX1_noRow_17 kc_1 ?_
    refine jx_goto (pc := 18) (tgt := 22) G dX1_noRow_18 (by decide) ?_
    exact E _ _ 22 _ ⟨by rw [← e], rfl⟩ (by omega) dX1_noRow_22
theorem kX_noRow (hc : ct * z ≤ 240) (y : Int32) : jx_Ki l D cb ci yX1_noRow wsX1_noRow rmX1_noRow 0 0 [.ref o, .int y] (XC cb ci o a n z fm fc ct fl kn fo fh ff ft fi fd) (fun r w' => r = nI (bl_ind (¬ bl_in (ct * z + 1) y)) ∧ w' = XC cb ci o a n z fm fc ct fl kn fo fh ff ft fi fd) := by
  rcases bl_int y with h | ⟨j, hj, rfl⟩
  · rw [bl_ind_t (bl_in_neg (by omega) h)]
    exact kX_noRow_neg h
  · rw [bl_in_nI (by omega) hj]
    exact kX_noRow_nn hj hc
set_option maxHeartbeats 4000000 in
theorem kX_change_bad (hn : n ≤ 6) {y : Int32} (hy : ¬ bl_chg n y) : jx_Ki l D cb ci yX1_change wsX1_change rmX1_change 0 0 [.ref o, .int y] (XC cb ci o a n z fm fc ct fl kn fo fh ff ft fi fd) (fun r w' => r = -1 ∧ w' = XC cb ci o a n z fm fc ct fl kn fo fh ff ft fi fd) := by
  refine jx_Ki_of (by decide) (Nat.le_of_ble_eq_true rfl) [(0, .ref o), (1, .int y)] rfl ?_
  intro x G E
  refine jx_aload_n (pc := 0) G dX1_change_0 rfl 0 rfl ?_
  refine jx_iload_n (pc := 1) G dX1_change_1 rfl 1 rfl ?_
  refine xc_i1 (pc := 2) G (fun _ _ => kX_isChange hn y) (cwX1_isChange ⟨Nat.le_of_ble_eq_true rfl, Nat.le_of_ble_eq_true rfl⟩) (Nat.le_of_ble_eq_true rfl) dX1_change_2 (fun r w' hq => ?_)
  obtain ⟨rfl, rfl⟩ := hq
  refine jx_istore_nV (pc := 5) G dX1_change_5 rfl (by decide) (0) (bl_ind_f hy) [(0, .ref o), (1, .int y), (2, .int (nI 0))] rfl ?_
  refine jx_iload_n (pc := 6) G dX1_change_6 rfl 2 rfl ?_
  refine jx_if_ne (pc := 7) (tgt := 12) G dX1_change_7 (by decide) (by omega) (fun h7 => ?_) (fun h7 => ?_)
  · exact absurd rfl h7
  · refine jx_iconst (pc := 10) G dX1_change_10 kc_m1 ?_
    exact E _ _ 11 _ ⟨rfl, rfl⟩ dX1_change_11
set_option maxHeartbeats 4000000 in
theorem kX_change_full (hn : n ≤ 6) {y : Int32} (hy : bl_chg n y) (hz : z = 12) : jx_Ki l D cb ci yX1_change wsX1_change rmX1_change 0 0 [.ref o, .int y] (XC cb ci o a n z fm fc ct fl kn fo fh ff ft fi fd) (fun r w' => r = -2 ∧ w' = XC cb ci o a n z fm fc ct fl kn fo fh ff ft fi fd) := by
  refine jx_Ki_of (by decide) (Nat.le_of_ble_eq_true rfl) [(0, .ref o), (1, .int y)] rfl ?_
  intro x G E
  refine jx_aload_n (pc := 0) G dX1_change_0 rfl 0 rfl ?_
  refine jx_iload_n (pc := 1) G dX1_change_1 rfl 1 rfl ?_
  refine xc_i1 (pc := 2) G (fun _ _ => kX_isChange hn y) (cwX1_isChange ⟨Nat.le_of_ble_eq_true rfl, Nat.le_of_ble_eq_true rfl⟩) (Nat.le_of_ble_eq_true rfl) dX1_change_2 (fun r w' hq => ?_)
  obtain ⟨rfl, rfl⟩ := hq
  refine jx_istore_nV (pc := 5) G dX1_change_5 rfl (by decide) (1) (bl_ind_t hy) [(0, .ref o), (1, .int y), (2, .int (nI 1))] rfl ?_
  refine jx_iload_n (pc := 6) G dX1_change_6 rfl 2 rfl ?_
  refine jx_if_ne (pc := 7) (tgt := 12) G dX1_change_7 (by decide) (by omega) (fun h7 => ?_) (fun h7 => ?_)
  · refine jx_aload_n (pc := 12) G dX1_change_12 rfl 0 rfl ?_
    refine xg_size (pc := 13) G dX1_change_13 ?_
    refine jx_bipush (pc := 16) G dX1_change_16 kb_12 ?_
    refine jx_icmp_ne (pc := 18) (tgt := 24) G dX1_change_18 (by decide) (by omega) (by omega) (fun h18 => ?_) (fun h18 => ?_)
    · exact absurd hz h18
    · refine jx_bipush (pc := 21) G dX1_change_21 kb_m2 ?_
      exact E _ _ 23 _ ⟨rfl, rfl⟩ dX1_change_23
  · exact absurd h7 (by decide)
set_option maxHeartbeats 4000000 in
theorem kX_change_ok (hn : n ≤ 6) {j : Nat} (hj : bl_ok n j) (hz : z < 12) : jx_Ki l D cb ci yX1_change wsX1_change rmX1_change 0 0 [.ref o, .int (nI j)] (XC cb ci o a n z fm fc ct fl kn fo fh ff ft fi fd) (fun r w' => r = nI (z + 1) ∧ w' = XC cb ci o a n (z + 1) (upN fm z j) fc ct fl 0 fo fh ff ft fi fd) := by
  refine jx_Ki_of (by decide) (Nat.le_of_ble_eq_true rfl) [(0, .ref o), (1, .int (nI j))] rfl ?_
  intro x G E
  have hj6 := bl_ok_64 hn hj
  refine jx_aload_n (pc := 0) G dX1_change_0 rfl 0 rfl ?_
  refine jx_iload_n (pc := 1) G dX1_change_1 rfl 1 rfl ?_
  refine xc_i1 (pc := 2) G (fun _ _ => kX_isChange hn (nI j)) (cwX1_isChange ⟨Nat.le_of_ble_eq_true rfl, Nat.le_of_ble_eq_true rfl⟩) (Nat.le_of_ble_eq_true rfl) dX1_change_2 (fun r w' hq => ?_)
  obtain ⟨rfl, rfl⟩ := hq
  refine jx_istore_nV (pc := 5) G dX1_change_5 rfl (by decide) (1) (bl_ind_t ⟨j, rfl, hj⟩) [(0, .ref o), (1, .int (nI j)), (2, .int (nI 1))] rfl ?_
  refine jx_iload_n (pc := 6) G dX1_change_6 rfl 2 rfl ?_
  refine jx_if_ne (pc := 7) (tgt := 12) G dX1_change_7 (by decide) (by omega) (fun h7 => ?_) (fun h7 => ?_)
  · refine jx_aload_n (pc := 12) G dX1_change_12 rfl 0 rfl ?_
    refine xg_size (pc := 13) G dX1_change_13 ?_
    refine jx_bipush (pc := 16) G dX1_change_16 kb_12 ?_
    refine jx_icmp_ne (pc := 18) (tgt := 24) G dX1_change_18 (by decide) (by omega) (by omega) (fun h18 => ?_) (fun h18 => ?_)
    · refine jx_aload_n (pc := 24) G dX1_change_24 rfl 0 rfl ?_
      refine xg_method (pc := 25) G dX1_change_25 ?_
      refine jx_aload_n (pc := 28) G dX1_change_28 rfl 0 rfl ?_
      refine xg_size (pc := 29) G dX1_change_29 ?_
      refine jx_iload_n (pc := 32) G dX1_change_32 rfl 1 rfl ?_
      refine jx_i2bR (pc := 33) G dX1_change_33 (nb_8 _ (by omega)) ?_
      refine xs_method (pc := 34) G dX1_change_34 (by omega) (by omega) ?_
      refine jx_aload_n (pc := 35) G dX1_change_35 rfl 0 rfl ?_
      refine jx_dup (pc := 36) G dX1_change_36 ?_
      refine xg_size (pc := 37) G dX1_change_37 ?_
      refine jx_iconst (pc := 40) G dX1_change_40 kc_1 ?_
      refine jx_iadd (pc := 41) G dX1_change_41 ?_
      refine xp_size (pc := 42) G dX1_change_42 ?_
      refine jx_aload_n (pc := 45) G dX1_change_45 rfl 0 rfl ?_
      refine jx_iconst (pc := 46) G dX1_change_46 kc_0 ?_
      refine xp_known0 (pc := 47) G dX1_change_47 ?_
      refine jx_aload_n (pc := 50) G dX1_change_50 rfl 0 rfl ?_
      refine xg_size (pc := 51) G dX1_change_51 ?_
      exact E _ _ 54 _ ⟨rfl, rfl⟩ dX1_change_54
    · omega
  · exact absurd h7 (by decide)
set_option maxHeartbeats 4000000 in
theorem kX_drop_1 (hz : z = 1) : jx_Ki l D cb ci yX1_drop wsX1_drop rmX1_drop 0 0 [.ref o] (XC cb ci o a n z fm fc ct fl kn fo fh ff ft fi fd) (fun r w' => r = -4 ∧ w' = XC cb ci o a n z fm fc ct fl kn fo fh ff ft fi fd) := by
  refine jx_Ki_of (by decide) (Nat.le_of_ble_eq_true rfl) [(0, .ref o)] rfl ?_
  intro x G E
  refine jx_aload_n (pc := 0) G dX1_drop_0 rfl 0 rfl ?_
  refine xg_size (pc := 1) G dX1_drop_1 ?_
  refine jx_iconst (pc := 4) G dX1_drop_4 kc_1 ?_
  refine jx_icmp_ne (pc := 5) (tgt := 11) G dX1_drop_5 (by decide) (by omega) (by omega) (fun h5 => ?_) (fun h5 => ?_)
  · exact absurd hz h5
  · refine jx_bipush (pc := 8) G dX1_drop_8 kb_m4 ?_
    exact E _ _ 10 _ ⟨rfl, rfl⟩ dX1_drop_10
set_option maxHeartbeats 4000000 in
theorem kX_drop_ok (hz : 1 < z) (hz2 : z ≤ 12) (hf : ∀ k, k < z → fm k < 128) : jx_Ki l D cb ci yX1_drop wsX1_drop rmX1_drop 0 0 [.ref o] (XC cb ci o a n z fm fc ct fl kn fo fh ff ft fi fd) (fun r w' => r = nI (fm 0) ∧ ∃ fm', (∀ k, k < z - 1 → fm' k = fm (k + 1)) ∧ w' = XC cb ci o a n (z - 1) fm' fc ct fl 0 fo fh ff ft fi fd) := by
  refine jx_Ki_of (by decide) (Nat.le_of_ble_eq_true rfl) [(0, .ref o)] rfl ?_
  intro x G E
  refine jx_aload_n (pc := 0) G dX1_drop_0 rfl 0 rfl ?_
  refine xg_size (pc := 1) G dX1_drop_1 ?_
  refine jx_iconst (pc := 4) G dX1_drop_4 kc_1 ?_
  refine jx_icmp_ne (pc := 5) (tgt := 11) G dX1_drop_5 (by decide) (by omega) (by omega) (fun h5 => ?_) (fun h5 => ?_)
  · refine jx_aload_n (pc := 11) G dX1_drop_11 rfl 0 rfl ?_
    refine xg_method (pc := 12) G dX1_drop_12 ?_
    refine jx_iconst (pc := 15) G dX1_drop_15 kc_0 ?_
    refine xl_method (pc := 16) G dX1_drop_16 (by omega) ?_
    refine jx_istore_nV (pc := 17) G dX1_drop_17 rfl (by decide) (fm 0) rfl [(0, .ref o), (1, .int (nI (fm 0)))] rfl ?_
    refine jx_aload_n (pc := 18) G dX1_drop_18 rfl 0 rfl ?_
    refine jx_dup (pc := 19) G dX1_drop_19 ?_
    refine xg_size (pc := 20) G dX1_drop_20 ?_
    refine jx_iconst (pc := 23) G dX1_drop_23 kc_1 ?_
    refine jx_isub (pc := 24) G dX1_drop_24 (by omega) ?_
    refine xp_size (pc := 25) G dX1_drop_25 ?_
    refine jx_iconst (pc := 28) G dX1_drop_28 kc_0 ?_
    refine jx_istore_nV (pc := 29) G dX1_drop_29 rfl (by decide) (0) rfl [(0, .ref o), (1, .int (nI (fm 0))), (2, .int (nI 0))] rfl ?_
    have lp30 : ∀ (d30 : Nat) (i : Nat) (fm' : Nat → Nat), z - 1 - i = d30 → (i ≤ z - 1) → (∀ k, k < i → fm' k = fm (k + 1)) → (∀ k, i ≤ k → fm' k = fm k) → jx_J x 0 0 (XC cb ci o a n (z - 1) fm' fc ct fl kn fo fh ff ft fi fd) 30 [(0, .ref o), (1, .int (nI (fm 0))), (2, .int (nI i))] [] := by
      intro d30
      induction d30 using Nat.strongRecOn with
      | _ d30 ih30 =>
      intro i fm' hm30 hi h1 h2
      refine jx_iload_n (pc := 30) G dX1_drop_30 rfl 2 rfl ?_
      refine jx_aload_n (pc := 31) G dX1_drop_31 rfl 0 rfl ?_
      refine xg_size (pc := 32) G dX1_drop_32 ?_
      refine jx_icmp_ge (pc := 35) (tgt := 58) G dX1_drop_35 (by decide) (by omega) (by omega) (fun h35 => ?_) (fun h35 => ?_)
      · refine jx_aload_n (pc := 58) G dX1_drop_58 rfl 0 rfl ?_
        refine jx_iconst (pc := 59) G dX1_drop_59 kc_0 ?_
        refine xp_known0 (pc := 60) G dX1_drop_60 ?_
        refine jx_iload_n (pc := 63) G dX1_drop_63 rfl 1 rfl ?_
        exact E _ _ 64 _ ⟨rfl, fm', fun k hk => h1 k (by omega), rfl⟩ dX1_drop_64
      · refine jx_aload_n (pc := 38) G dX1_drop_38 rfl 0 rfl ?_
        refine xg_method (pc := 39) G dX1_drop_39 ?_
        refine jx_iload_n (pc := 42) G dX1_drop_42 rfl 2 rfl ?_
        refine jx_aload_n (pc := 43) G dX1_drop_43 rfl 0 rfl ?_
        refine xg_method (pc := 44) G dX1_drop_44 ?_
        refine jx_iload_n (pc := 47) G dX1_drop_47 rfl 2 rfl ?_
        refine jx_iconst (pc := 48) G dX1_drop_48 kc_1 ?_
        refine jx_iadd (pc := 49) G dX1_drop_49 ?_
        refine xl_method (pc := 50) G dX1_drop_50 (by omega) ?_
        refine xs_method (pc := 51) G dX1_drop_51 (by omega) (by rw [h2 _ (by omega)]; exact hf _ (by omega)) ?_
        refine jx_iincV (pc := 52) G dX1_drop_52 kc_1 (by decide) 2 rfl (i + 1) rfl [(0, .ref o), (1, .int (nI (fm 0))), (2, .int (nI (i + 1)))] rfl ?_
        refine jx_goto (pc := 55) (tgt := 30) G dX1_drop_55 (by decide) ?_
        exact ih30 _ (by omega) (i + 1) _ rfl (by omega) (bl_F0_put h1 (h2 _ (by omega))) (fun k hk => by rw [upN_ne (by omega)]; exact h2 k (by omega))
    exact lp30 _ 0 fm rfl (by omega) (fun k h => absurd h (by omega)) (fun _ _ => rfl)
  · omega
set_option maxHeartbeats 4000000 in
theorem kX_call_neg (hn : n ≤ 6) {u y : Int32} (hu : u < 0) : jx_Ki l D cb ci yX1_call wsX1_call rmX1_call 0 0 [.ref o, .int u, .int y] (XC cb ci o a n z fm fc ct fl kn fo fh ff ft fi fd) (fun r w' => r = -1 ∧ w' = XC cb ci o a n z fm fc ct fl kn fo fh ff ft fi fd) := by
  refine jx_Ki_of (by decide) (Nat.le_of_ble_eq_true rfl) [(0, .ref o), (1, .int u), (2, .int y)] rfl ?_
  intro x G E
  refine jx_aload_n (pc := 0) G dX1_call_0 rfl 0 rfl ?_
  refine jx_iload_n (pc := 1) G dX1_call_1 rfl 2 rfl ?_
  refine xc_i1 (pc := 2) G (fun _ _ => kX_isChange hn y) (cwX1_isChange ⟨Nat.le_of_ble_eq_true rfl, Nat.le_of_ble_eq_true rfl⟩) (Nat.le_of_ble_eq_true rfl) dX1_call_2 (fun r w' hq => ?_)
  obtain ⟨rfl, rfl⟩ := hq
  refine jx_istore_nV (pc := 5) G dX1_call_5 rfl (by decide) (bl_ind (bl_chg n y)) rfl [(0, .ref o), (1, .int u), (2, .int y), (3, .int (nI (bl_ind (bl_chg n y))))] rfl ?_
  refine jx_iload_n (pc := 6) G dX1_call_6 rfl 1 rfl ?_
  refine jx_iconst (pc := 7) G dX1_call_7 kc_1 ?_
  refine jx_icmp_lt_neg (pc := 8) (tgt := 20) G dX1_call_8 (by decide) hu (by decide) ?_
  refine jx_iconst (pc := 20) G dX1_call_20 kc_m1 ?_
  exact E _ _ 21 _ ⟨rfl, rfl⟩ dX1_call_21
set_option maxHeartbeats 4000000 in
theorem kX_call_bad (hn : n ≤ 6) {c : Nat} {y : Int32} (hc : c < 2 ^ 31) (hb : ¬ (0 < c ∧ c < 3 ∧ bl_chg n y)) : jx_Ki l D cb ci yX1_call wsX1_call rmX1_call 0 0 [.ref o, .int (nI c), .int y] (XC cb ci o a n z fm fc ct fl kn fo fh ff ft fi fd) (fun r w' => r = -1 ∧ w' = XC cb ci o a n z fm fc ct fl kn fo fh ff ft fi fd) := by
  refine jx_Ki_of (by decide) (Nat.le_of_ble_eq_true rfl) [(0, .ref o), (1, .int (nI c)), (2, .int y)] rfl ?_
  intro x G E
  refine jx_aload_n (pc := 0) G dX1_call_0 rfl 0 rfl ?_
  refine jx_iload_n (pc := 1) G dX1_call_1 rfl 2 rfl ?_
  refine xc_i1 (pc := 2) G (fun _ _ => kX_isChange hn y) (cwX1_isChange ⟨Nat.le_of_ble_eq_true rfl, Nat.le_of_ble_eq_true rfl⟩) (Nat.le_of_ble_eq_true rfl) dX1_call_2 (fun r w' hq => ?_)
  obtain ⟨rfl, rfl⟩ := hq
  refine jx_istore_nV (pc := 5) G dX1_call_5 rfl (by decide) (bl_ind (bl_chg n y)) rfl [(0, .ref o), (1, .int (nI c)), (2, .int y), (3, .int (nI (bl_ind (bl_chg n y))))] rfl ?_
  refine jx_iload_n (pc := 6) G dX1_call_6 rfl 1 rfl ?_
  refine jx_iconst (pc := 7) G dX1_call_7 kc_1 ?_
  refine jx_icmp_lt (pc := 8) (tgt := 20) G dX1_call_8 (by decide) (by omega) (by omega) (fun h8 => ?_) (fun h8 => ?_)
  · refine jx_iconst (pc := 20) G dX1_call_20 kc_m1 ?_
    exact E _ _ 21 _ ⟨rfl, rfl⟩ dX1_call_21
  · refine jx_iload_n (pc := 11) G dX1_call_11 rfl 1 rfl ?_
    refine jx_iconst (pc := 12) G dX1_call_12 kc_2 ?_
    refine jx_icmp_gt (pc := 13) (tgt := 20) G dX1_call_13 (by decide) (by omega) (by omega) (fun h13 => ?_) (fun h13 => ?_)
    · refine jx_iconst (pc := 20) G dX1_call_20 kc_m1 ?_
      exact E _ _ 21 _ ⟨rfl, rfl⟩ dX1_call_21
    · refine jx_iload_n (pc := 16) G dX1_call_16 rfl 3 rfl ?_
      refine jx_if_ne (pc := 17) (tgt := 22) G dX1_call_17 (by decide) (Nat.lt_of_le_of_lt (bl_ind_le _) (by decide)) (fun h17 => ?_) (fun h17 => ?_)
      · exact absurd ⟨by omega, by omega, Classical.byContradiction (fun q => h17 (bl_ind_f q))⟩ hb
      · refine jx_iconst (pc := 20) G dX1_call_20 kc_m1 ?_
        exact E _ _ 21 _ ⟨rfl, rfl⟩ dX1_call_21
set_option maxHeartbeats 4000000 in
theorem kX_call_ok (hn : n ≤ 6) {c j : Nat} (h0 : 0 < c) (hc : c < 3) (hj : bl_ok n j) : jx_Ki l D cb ci yX1_call wsX1_call rmX1_call 0 0 [.ref o, .int (nI c), .int (nI j)] (XC cb ci o a n z fm fc ct fl kn fo fh ff ft fi fd) (fun r w' => r = nI (fc c) ∧ w' = XC cb ci o a n z fm (upN fc c j) ct fl 0 fo fh ff ft fi fd) := by
  refine jx_Ki_of (by decide) (Nat.le_of_ble_eq_true rfl) [(0, .ref o), (1, .int (nI c)), (2, .int (nI j))] rfl ?_
  intro x G E
  have hj6 := bl_ok_64 hn hj
  refine jx_aload_n (pc := 0) G dX1_call_0 rfl 0 rfl ?_
  refine jx_iload_n (pc := 1) G dX1_call_1 rfl 2 rfl ?_
  refine xc_i1 (pc := 2) G (fun _ _ => kX_isChange hn (nI j)) (cwX1_isChange ⟨Nat.le_of_ble_eq_true rfl, Nat.le_of_ble_eq_true rfl⟩) (Nat.le_of_ble_eq_true rfl) dX1_call_2 (fun r w' hq => ?_)
  obtain ⟨rfl, rfl⟩ := hq
  refine jx_istore_nV (pc := 5) G dX1_call_5 rfl (by decide) (1) (bl_ind_t ⟨j, rfl, hj⟩) [(0, .ref o), (1, .int (nI c)), (2, .int (nI j)), (3, .int (nI 1))] rfl ?_
  refine jx_iload_n (pc := 6) G dX1_call_6 rfl 1 rfl ?_
  refine jx_iconst (pc := 7) G dX1_call_7 kc_1 ?_
  refine jx_icmp_lt (pc := 8) (tgt := 20) G dX1_call_8 (by decide) (by omega) (by omega) (fun h8 => ?_) (fun h8 => ?_)
  · omega
  · refine jx_iload_n (pc := 11) G dX1_call_11 rfl 1 rfl ?_
    refine jx_iconst (pc := 12) G dX1_call_12 kc_2 ?_
    refine jx_icmp_gt (pc := 13) (tgt := 20) G dX1_call_13 (by decide) (by omega) (by omega) (fun h13 => ?_) (fun h13 => ?_)
    · omega
    · refine jx_iload_n (pc := 16) G dX1_call_16 rfl 3 rfl ?_
      refine jx_if_ne (pc := 17) (tgt := 22) G dX1_call_17 (by decide) (by omega) (fun h17 => ?_) (fun h17 => ?_)
      · refine jx_aload_n (pc := 22) G dX1_call_22 rfl 0 rfl ?_
        refine xg_callChange (pc := 23) G dX1_call_23 ?_
        refine jx_iload_n (pc := 26) G dX1_call_26 rfl 1 rfl ?_
        refine xl_callChange (pc := 27) G dX1_call_27 (by omega) ?_
        refine jx_istoreV (pc := 28) G dX1_call_28 (by decide) (fc c) rfl [(0, .ref o), (1, .int (nI c)), (2, .int (nI j)), (3, .int (nI 1)), (4, .int (nI (fc c)))] rfl ?_
        refine jx_aload_n (pc := 30) G dX1_call_30 rfl 0 rfl ?_
        refine xg_callChange (pc := 31) G dX1_call_31 ?_
        refine jx_iload_n (pc := 34) G dX1_call_34 rfl 1 rfl ?_
        refine jx_iload_n (pc := 35) G dX1_call_35 rfl 2 rfl ?_
        refine jx_i2bR (pc := 36) G dX1_call_36 (nb_8 _ (by omega)) ?_
        refine xs_callChange (pc := 37) G dX1_call_37 (by omega) (by omega) ?_
        refine jx_aload_n (pc := 38) G dX1_call_38 rfl 0 rfl ?_
        refine jx_iconst (pc := 39) G dX1_call_39 kc_0 ?_
        refine xp_known0 (pc := 40) G dX1_call_40 ?_
        refine jx_iload (pc := 43) G dX1_call_43 4 rfl ?_
        exact E _ _ 45 _ ⟨rfl, rfl⟩ dX1_call_45
      · exact absurd h17 (by decide)
set_option maxHeartbeats 4000000 in
theorem kX_lead_bad {y : Int32} (hy : ¬ bl_in 3 y) : jx_Ki l D cb ci yX1_lead wsX1_lead rmX1_lead 0 0 [.ref o, .int y] (XC cb ci o a n z fm fc ct fl kn fo fh ff ft fi fd) (fun r w' => r = -1 ∧ w' = XC cb ci o a n z fm fc ct fl kn fo fh ff ft fi fd) := by
  refine jx_Ki_of (by decide) (Nat.le_of_ble_eq_true rfl) [(0, .ref o), (1, .int y)] rfl ?_
  intro x G E
  refine jx_aload_n (pc := 0) G dX1_lead_0 rfl 0 rfl ?_
  refine jx_iload_n (pc := 1) G dX1_lead_1 rfl 1 rfl ?_
  refine xc_i1 (pc := 2) G (fun _ _ => kX_badCall y) (cwX1_badCall ⟨Nat.le_of_ble_eq_true rfl, Nat.le_of_ble_eq_true rfl⟩) (Nat.le_of_ble_eq_true rfl) dX1_lead_2 (fun r w' hq => ?_)
  obtain ⟨rfl, rfl⟩ := hq
  rw [bl_ind_t hy]
  refine jx_if_eq (pc := 5) (tgt := 10) G dX1_lead_5 (by decide) (by omega) (fun h5 => ?_) (fun h5 => ?_)
  · exact absurd h5 (by decide)
  · refine jx_iconst (pc := 8) G dX1_lead_8 kc_m1 ?_
    exact E _ _ 9 _ ⟨rfl, rfl⟩ dX1_lead_9
set_option maxHeartbeats 4000000 in
theorem kX_lead_full {c : Nat} (hc : c < 3) (hct : ct = 20) : jx_Ki l D cb ci yX1_lead wsX1_lead rmX1_lead 0 0 [.ref o, .int (nI c)] (XC cb ci o a n z fm fc ct fl kn fo fh ff ft fi fd) (fun r w' => r = -2 ∧ w' = XC cb ci o a n z fm fc ct fl kn fo fh ff ft fi fd) := by
  refine jx_Ki_of (by decide) (Nat.le_of_ble_eq_true rfl) [(0, .ref o), (1, .int (nI c))] rfl ?_
  intro x G E
  refine jx_aload_n (pc := 0) G dX1_lead_0 rfl 0 rfl ?_
  refine jx_iload_n (pc := 1) G dX1_lead_1 rfl 1 rfl ?_
  refine xc_i1 (pc := 2) G (fun _ _ => kX_badCall (nI c)) (cwX1_badCall ⟨Nat.le_of_ble_eq_true rfl, Nat.le_of_ble_eq_true rfl⟩) (Nat.le_of_ble_eq_true rfl) dX1_lead_2 (fun r w' hq => ?_)
  obtain ⟨rfl, rfl⟩ := hq
  rw [bl_ind_f (fun q => q ⟨c, hc, rfl⟩)]
  refine jx_if_eq (pc := 5) (tgt := 10) G dX1_lead_5 (by decide) (by omega) (fun h5 => ?_) (fun h5 => ?_)
  · refine jx_aload_n (pc := 10) G dX1_lead_10 rfl 0 rfl ?_
    refine xg_count (pc := 11) G dX1_lead_11 ?_
    refine jx_bipush (pc := 14) G dX1_lead_14 kb_20 ?_
    refine jx_icmp_ne (pc := 16) (tgt := 22) G dX1_lead_16 (by decide) (by omega) (by omega) (fun h16 => ?_) (fun h16 => ?_)
    · exact absurd hct h16
    · refine jx_bipush (pc := 19) G dX1_lead_19 kb_m2 ?_
      exact E _ _ 21 _ ⟨rfl, rfl⟩ dX1_lead_21
  · exact absurd rfl h5
set_option maxHeartbeats 4000000 in
theorem kX_lead_ok {c : Nat} (hc : c < 3) (hct : ct < 20) : jx_Ki l D cb ci yX1_lead wsX1_lead rmX1_lead 0 0 [.ref o, .int (nI c)] (XC cb ci o a n z fm fc ct fl kn fo fh ff ft fi fd) (fun r w' => r = nI (ct + 1) ∧ w' = XC cb ci o a n z fm fc (ct + 1) (upN fl ct c) kn fo fh ff ft fi fd) := by
  refine jx_Ki_of (by decide) (Nat.le_of_ble_eq_true rfl) [(0, .ref o), (1, .int (nI c))] rfl ?_
  intro x G E
  refine jx_aload_n (pc := 0) G dX1_lead_0 rfl 0 rfl ?_
  refine jx_iload_n (pc := 1) G dX1_lead_1 rfl 1 rfl ?_
  refine xc_i1 (pc := 2) G (fun _ _ => kX_badCall (nI c)) (cwX1_badCall ⟨Nat.le_of_ble_eq_true rfl, Nat.le_of_ble_eq_true rfl⟩) (Nat.le_of_ble_eq_true rfl) dX1_lead_2 (fun r w' hq => ?_)
  obtain ⟨rfl, rfl⟩ := hq
  rw [bl_ind_f (fun q => q ⟨c, hc, rfl⟩)]
  refine jx_if_eq (pc := 5) (tgt := 10) G dX1_lead_5 (by decide) (by omega) (fun h5 => ?_) (fun h5 => ?_)
  · refine jx_aload_n (pc := 10) G dX1_lead_10 rfl 0 rfl ?_
    refine xg_count (pc := 11) G dX1_lead_11 ?_
    refine jx_bipush (pc := 14) G dX1_lead_14 kb_20 ?_
    refine jx_icmp_ne (pc := 16) (tgt := 22) G dX1_lead_16 (by decide) (by omega) (by omega) (fun h16 => ?_) (fun h16 => ?_)
    · refine jx_aload_n (pc := 22) G dX1_lead_22 rfl 0 rfl ?_
      refine xg_calls (pc := 23) G dX1_lead_23 ?_
      refine jx_aload_n (pc := 26) G dX1_lead_26 rfl 0 rfl ?_
      refine xg_count (pc := 27) G dX1_lead_27 ?_
      refine jx_iload_n (pc := 30) G dX1_lead_30 rfl 1 rfl ?_
      refine jx_i2bR (pc := 31) G dX1_lead_31 (nb_8 _ (by omega)) ?_
      refine xs_calls (pc := 32) G dX1_lead_32 (by omega) (by omega) ?_
      refine jx_aload_n (pc := 33) G dX1_lead_33 rfl 0 rfl ?_
      refine jx_dup (pc := 34) G dX1_lead_34 ?_
      refine xg_count (pc := 35) G dX1_lead_35 ?_
      refine jx_iconst (pc := 38) G dX1_lead_38 kc_1 ?_
      refine jx_iadd (pc := 39) G dX1_lead_39 ?_
      refine xp_count (pc := 40) G dX1_lead_40 ?_
      refine jx_aload_n (pc := 43) G dX1_lead_43 rfl 0 rfl ?_
      refine xg_count (pc := 44) G dX1_lead_44 ?_
      exact E _ _ 47 _ ⟨rfl, rfl⟩ dX1_lead_47
    · omega
  · exact absurd rfl h5
set_option maxHeartbeats 4000000 in
theorem kX_back_0 (hct : ct = 0) : jx_Ki l D cb ci yX1_back wsX1_back rmX1_back 0 0 [.ref o] (XC cb ci o a n z fm fc ct fl kn fo fh ff ft fi fd) (fun r w' => r = -4 ∧ w' = XC cb ci o a n z fm fc ct fl kn fo fh ff ft fi fd) := by
  refine jx_Ki_of (by decide) (Nat.le_of_ble_eq_true rfl) [(0, .ref o)] rfl ?_
  intro x G E
  refine jx_aload_n (pc := 0) G dX1_back_0 rfl 0 rfl ?_
  refine xg_count (pc := 1) G dX1_back_1 ?_
  refine jx_if_ne (pc := 4) (tgt := 10) G dX1_back_4 (by decide) (by omega) (fun h4 => ?_) (fun h4 => ?_)
  · exact absurd hct h4
  · refine jx_bipush (pc := 7) G dX1_back_7 kb_m4 ?_
    exact E _ _ 9 _ ⟨rfl, rfl⟩ dX1_back_9
set_option maxHeartbeats 4000000 in
theorem kX_back_ok (h0 : 0 < ct) (hct : ct ≤ 20) : jx_Ki l D cb ci yX1_back wsX1_back rmX1_back 0 0 [.ref o] (XC cb ci o a n z fm fc ct fl kn fo fh ff ft fi fd) (fun r w' => r = nI (fl (ct - 1)) ∧ w' = XC cb ci o a n z fm fc (ct - 1) fl kn fo fh ff ft fi fd) := by
  refine jx_Ki_of (by decide) (Nat.le_of_ble_eq_true rfl) [(0, .ref o)] rfl ?_
  intro x G E
  refine jx_aload_n (pc := 0) G dX1_back_0 rfl 0 rfl ?_
  refine xg_count (pc := 1) G dX1_back_1 ?_
  refine jx_if_ne (pc := 4) (tgt := 10) G dX1_back_4 (by decide) (by omega) (fun h4 => ?_) (fun h4 => ?_)
  · refine jx_aload_n (pc := 10) G dX1_back_10 rfl 0 rfl ?_
    refine jx_dup (pc := 11) G dX1_back_11 ?_
    refine xg_count (pc := 12) G dX1_back_12 ?_
    refine jx_iconst (pc := 15) G dX1_back_15 kc_1 ?_
    refine jx_isub (pc := 16) G dX1_back_16 (by omega) ?_
    refine xp_count (pc := 17) G dX1_back_17 ?_
    refine jx_aload_n (pc := 20) G dX1_back_20 rfl 0 rfl ?_
    refine xg_calls (pc := 21) G dX1_back_21 ?_
    refine jx_aload_n (pc := 24) G dX1_back_24 rfl 0 rfl ?_
    refine xg_count (pc := 25) G dX1_back_25 ?_
    refine xl_calls (pc := 28) G dX1_back_28 (by omega) ?_
    exact E _ _ 29 _ ⟨rfl, rfl⟩ dX1_back_29
  · omega
set_option maxHeartbeats 4000000 in
theorem kX_turn_0 (hct : ct = 0) : jx_Ki l D cb ci yX1_turn wsX1_turn rmX1_turn 0 0 [.ref o] (XC cb ci o a n z fm fc ct fl kn fo fh ff ft fi fd) (fun r w' => r = -4 ∧ w' = XC cb ci o a n z fm fc ct fl kn fo fh ff ft fi fd) := by
  refine jx_Ki_of (by decide) (Nat.le_of_ble_eq_true rfl) [(0, .ref o)] rfl ?_
  intro x G E
  refine jx_aload_n (pc := 0) G dX1_turn_0 rfl 0 rfl ?_
  refine xg_count (pc := 1) G dX1_turn_1 ?_
  refine jx_if_ne (pc := 4) (tgt := 10) G dX1_turn_4 (by decide) (by omega) (fun h4 => ?_) (fun h4 => ?_)
  · exact absurd hct h4
  · refine jx_bipush (pc := 7) G dX1_turn_7 kb_m4 ?_
    exact E _ _ 9 _ ⟨rfl, rfl⟩ dX1_turn_9
set_option maxHeartbeats 4000000 in
theorem kX_turn_ok (h0 : 0 < ct) (hct : ct ≤ 20) (hf : ∀ k, k < ct → fl k < 3) : jx_Ki l D cb ci yX1_turn wsX1_turn rmX1_turn 0 0 [.ref o] (XC cb ci o a n z fm fc ct fl kn fo fh ff ft fi fd) (fun r w' => r = nI (fl 0) ∧ ∃ fl', (∀ k, k < ct - 1 → fl' k = fl (k + 1)) ∧ fl' (ct - 1) = fl 0 ∧ w' = XC cb ci o a n z fm fc ct fl' kn fo fh ff ft fi fd) := by
  refine jx_Ki_of (by decide) (Nat.le_of_ble_eq_true rfl) [(0, .ref o)] rfl ?_
  intro x G E
  refine jx_aload_n (pc := 0) G dX1_turn_0 rfl 0 rfl ?_
  refine xg_count (pc := 1) G dX1_turn_1 ?_
  refine jx_if_ne (pc := 4) (tgt := 10) G dX1_turn_4 (by decide) (by omega) (fun h4 => ?_) (fun h4 => ?_)
  · refine jx_aload_n (pc := 10) G dX1_turn_10 rfl 0 rfl ?_
    refine xg_calls (pc := 11) G dX1_turn_11 ?_
    refine jx_iconst (pc := 14) G dX1_turn_14 kc_0 ?_
    refine xl_calls (pc := 15) G dX1_turn_15 (by omega) ?_
    refine jx_istore_nV (pc := 16) G dX1_turn_16 rfl (by decide) (fl 0) rfl [(0, .ref o), (1, .int (nI (fl 0)))] rfl ?_
    refine jx_iconst (pc := 17) G dX1_turn_17 kc_1 ?_
    refine jx_istore_nV (pc := 18) G dX1_turn_18 rfl (by decide) (1) rfl [(0, .ref o), (1, .int (nI (fl 0))), (2, .int (nI 1))] rfl ?_
    have lp19 : ∀ (d19 : Nat) (i : Nat) (fl' : Nat → Nat), ct - i = d19 → (1 ≤ i) → (i ≤ ct) → (∀ k, k < i - 1 → fl' k = fl (k + 1)) → (∀ k, i - 1 < k → fl' k = fl k) → jx_J x 0 0 (XC cb ci o a n z fm fc ct fl' kn fo fh ff ft fi fd) 19 [(0, .ref o), (1, .int (nI (fl 0))), (2, .int (nI i))] [] := by
      intro d19
      induction d19 using Nat.strongRecOn with
      | _ d19 ih19 =>
      intro i fl' hm19 hi0 hi h1 h2
      refine jx_iload_n (pc := 19) G dX1_turn_19 rfl 2 rfl ?_
      refine jx_aload_n (pc := 20) G dX1_turn_20 rfl 0 rfl ?_
      refine xg_count (pc := 21) G dX1_turn_21 ?_
      refine jx_icmp_ge (pc := 24) (tgt := 47) G dX1_turn_24 (by decide) (by omega) (by omega) (fun h24 => ?_) (fun h24 => ?_)
      · refine jx_aload_n (pc := 47) G dX1_turn_47 rfl 0 rfl ?_
        refine xg_calls (pc := 48) G dX1_turn_48 ?_
        refine jx_aload_n (pc := 51) G dX1_turn_51 rfl 0 rfl ?_
        refine xg_count (pc := 52) G dX1_turn_52 ?_
        refine jx_iconst (pc := 55) G dX1_turn_55 kc_1 ?_
        refine jx_isub (pc := 56) G dX1_turn_56 (by omega) ?_
        refine jx_iload_n (pc := 57) G dX1_turn_57 rfl 1 rfl ?_
        refine xs_calls (pc := 58) G dX1_turn_58 (by omega) (by have := hf 0 (by omega); omega) ?_
        refine jx_iload_n (pc := 59) G dX1_turn_59 rfl 1 rfl ?_
        exact E _ _ 60 _ ⟨rfl, _, fun k hk => by rw [upN_ne (by omega)]; exact h1 k (by omega), upN_eq, rfl⟩ dX1_turn_60
      · refine jx_aload_n (pc := 27) G dX1_turn_27 rfl 0 rfl ?_
        refine xg_calls (pc := 28) G dX1_turn_28 ?_
        refine jx_iload_n (pc := 31) G dX1_turn_31 rfl 2 rfl ?_
        refine jx_iconst (pc := 32) G dX1_turn_32 kc_1 ?_
        refine jx_isub (pc := 33) G dX1_turn_33 (by omega) ?_
        refine jx_aload_n (pc := 34) G dX1_turn_34 rfl 0 rfl ?_
        refine xg_calls (pc := 35) G dX1_turn_35 ?_
        refine jx_iload_n (pc := 38) G dX1_turn_38 rfl 2 rfl ?_
        refine xl_calls (pc := 39) G dX1_turn_39 (by omega) ?_
        refine xs_calls (pc := 40) G dX1_turn_40 (by omega) (by rw [h2 _ (by omega)]; have := hf i (by omega); omega) ?_
        refine jx_iincV (pc := 41) G dX1_turn_41 kc_1 (by decide) 2 rfl (i + 1) rfl [(0, .ref o), (1, .int (nI (fl 0))), (2, .int (nI (i + 1)))] rfl ?_
        refine jx_goto (pc := 44) (tgt := 19) G dX1_turn_44 (by decide) ?_
        exact ih19 _ (by omega) (i + 1) _ rfl (by omega) (by omega) (fun k hk => bl_F0_put h1 (by rw [h2 _ (by omega)]; exact congrArg fl (by omega)) k (by omega)) (fun k hk => by rw [upN_ne (by omega)]; exact h2 k (by omega))
    exact lp19 _ 1 fl rfl (by omega) (by omega) (fun k h => absurd h (by omega)) (fun _ _ => rfl)
  · omega
end XB
end
section
set_option maxRecDepth 100000
section XC
variable {l : Launch} {D : va_G} {cb ci : ClassId} {o : Nat} {a : Nat → Nat} {n z ct kn la : Nat} {fm fc fl fo fh ff ft fi fd fb fr gm gc gl : Nat → Nat}
set_option maxHeartbeats 4000000 in
theorem kX_step (hA : bl_AV n z fm fc ct fl) {c k : Nat} (hc : c < 3) (hk : k < z) (hrow : ∀ p, p < n → fo (78 * c + 6 * k + p) = bl_off z fm fc c k p) : jx_Kv l D cb ci yX1_step wsX1_step rmX1_step 0 0 [.ref o, .int (nI c), .int (nI (k + 1))] (XC cb ci o a n z fm fc ct fl kn fo fh ff ft fi fd) (fun w' => ∃ fo', bl_FI fo fo' (78 * c + 6 * (k + 1)) n n (bl_off z fm fc c (k + 1)) ∧ w' = XC cb ci o a n z fm fc ct fl kn fo' fh ff ft fi fd) := by
  refine jx_Kv_of (by decide) (Nat.le_of_ble_eq_true rfl) [(0, .ref o), (1, .int (nI c)), (2, .int (nI (k + 1)))] rfl ?_
  intro x G E
  obtain ⟨⟨hn3, hn6⟩, ⟨hz1, hz2⟩, hct, hV, hfl⟩ := hA
  have hok := bl_sg_ok hV hc hk
  have hs64 := bl_ok_64 hn6 hok
  have c29 : jx_J x 0 0 (XC cb ci o a n z fm fc ct fl kn fo fh ff ft fi fd) 29 [(0, .ref o), (1, .int (nI c)), (2, .int (nI (k + 1)))] [.int (nI (bl_sg z fm fc c k))] := by
    refine jx_istore_nV (pc := 29) G dX1_step_29 rfl (by decide) (bl_sg z fm fc c k) rfl [(0, .ref o), (1, .int (nI c)), (2, .int (nI (k + 1))), (3, .int (nI (bl_sg z fm fc c k)))] rfl ?_
    refine jx_aload_n (pc := 30) G dX1_step_30 rfl 0 rfl ?_
    refine jx_iload_n (pc := 31) G dX1_step_31 rfl 1 rfl ?_
    refine jx_iload_n (pc := 32) G dX1_step_32 rfl 2 rfl ?_
    refine jx_iconst (pc := 33) G dX1_step_33 kc_1 ?_
    refine jx_isub (pc := 34) G dX1_step_34 (by omega) ?_
    refine xc_i2 (pc := 35) G (fun _ _ => kX_offsetAt _ _) (cwX1_offsetAt ⟨Nat.le_of_ble_eq_true rfl, Nat.le_of_ble_eq_true rfl⟩) (Nat.le_of_ble_eq_true rfl) dX1_step_35 (fun r w' hq => ?_)
    obtain ⟨rfl, rfl⟩ := hq
    refine jx_istoreV (pc := 38) G dX1_step_38 (by decide) (78 * c + 6 * k) (by omega) [(0, .ref o), (1, .int (nI c)), (2, .int (nI (k + 1))), (3, .int (nI (bl_sg z fm fc c k))), (4, .int (nI (78 * c + 6 * k)))] rfl ?_
    refine jx_aload_n (pc := 40) G dX1_step_40 rfl 0 rfl ?_
    refine jx_iload_n (pc := 41) G dX1_step_41 rfl 1 rfl ?_
    refine jx_iload_n (pc := 42) G dX1_step_42 rfl 2 rfl ?_
    refine xc_i2 (pc := 43) G (fun _ _ => kX_offsetAt _ _) (cwX1_offsetAt ⟨Nat.le_of_ble_eq_true rfl, Nat.le_of_ble_eq_true rfl⟩) (Nat.le_of_ble_eq_true rfl) dX1_step_43 (fun r w' hq => ?_)
    obtain ⟨rfl, rfl⟩ := hq
    refine jx_istoreV (pc := 46) G dX1_step_46 (by decide) (78 * c + 6 * (k + 1)) rfl [(0, .ref o), (1, .int (nI c)), (2, .int (nI (k + 1))), (3, .int (nI (bl_sg z fm fc c k))), (4, .int (nI (78 * c + 6 * k))), (5, .int (nI (78 * c + 6 * (k + 1))))] rfl ?_
    refine jx_iconst (pc := 48) G dX1_step_48 kc_0 ?_
    refine jx_istoreV (pc := 49) G dX1_step_49 (by decide) (0) rfl [(0, .ref o), (1, .int (nI c)), (2, .int (nI (k + 1))), (3, .int (nI (bl_sg z fm fc c k))), (4, .int (nI (78 * c + 6 * k))), (5, .int (nI (78 * c + 6 * (k + 1)))), (6, .int (nI 0))] rfl ?_
    have lp51 : ∀ (d51 : Nat) (p : Nat) (fo' : Nat → Nat), n - p = d51 → (p ≤ n) → (bl_sec (bl_sg z fm fc c k) p = false) → (bl_FI fo fo' (78 * c + 6 * (k + 1)) n p (bl_off z fm fc c (k + 1))) → jx_J x 0 0 (XC cb ci o a n z fm fc ct fl kn fo' fh ff ft fi fd) 51 [(0, .ref o), (1, .int (nI c)), (2, .int (nI (k + 1))), (3, .int (nI (bl_sg z fm fc c k))), (4, .int (nI (78 * c + 6 * k))), (5, .int (nI (78 * c + 6 * (k + 1)))), (6, .int (nI p))] [] := by
      intro d51
      induction d51 using Nat.strongRecOn with
      | _ d51 ih51 =>
      intro p fo' hm51 hp hs hI
      have hrd : ∀ q, q < n → fo' (78 * c + 6 * k + q) = bl_off z fm fc c k q := fun q hq => by
        rw [hI.2 _ (by omega)]
        exact hrow q hq
      have hlt : ∀ q, q < n → bl_off z fm fc c k q < n := (bl_off_PM hV hc k (by omega)).1
      refine jx_iload (pc := 51) G dX1_step_51 6 rfl ?_
      refine jx_aload_n (pc := 53) G dX1_step_53 rfl 0 rfl ?_
      refine xg_n (pc := 54) G dX1_step_54 ?_
      refine jx_icmp_ge (pc := 57) (tgt := 160) G dX1_step_57 (by decide) (by omega) (by omega) (fun h57 => ?_) (fun h57 => ?_)
      · exact E _ 160 _ ⟨fo', ⟨fun q hq => hI.1 q (by omega), hI.2⟩, rfl⟩ dX1_step_160
      · refine jx_iload_n (pc := 60) G dX1_step_60 rfl 3 rfl ?_
        refine jx_iload (pc := 61) G dX1_step_61 6 rfl ?_
        refine jx_ishrR (pc := 63) G dX1_step_63 (nr_s (by omega) (by omega)) ?_
        refine jx_iconst (pc := 64) G dX1_step_64 kc_1 ?_
        refine jx_iandR (pc := 65) G dX1_step_65 (na_1 (Nat.lt_of_le_of_lt (Nat.div_le_self _ _) (by omega))) ?_
        refine jx_iconst (pc := 66) G dX1_step_66 kc_1 ?_
        refine jx_icmp_eq (pc := 67) (tgt := 81) G dX1_step_67 (by decide) (Nat.lt_of_lt_of_le (Nat.mod_lt _ (by decide)) (by decide)) (by decide) (fun h67 => ?_) (fun h67 => ?_)
        · have hb1 : bl_bit (bl_sg z fm fc c k) p ≠ 0 := by
            have h2 : bl_bit (bl_sg z fm fc c k) p = 1 := h67
            omega
          have hsw := bl_sw_n hs hb1
          have hs1 : bl_sec (bl_sg z fm fc c k) (p + 1) = false := Bool.eq_false_iff.mpr (fun q => hb1 (bl_fst_iff.mp q).1)
          refine jx_aload_n (pc := 81) G dX1_step_81 rfl 0 rfl ?_
          refine xg_offset (pc := 82) G dX1_step_82 ?_
          refine jx_iload (pc := 85) G dX1_step_85 5 rfl ?_
          refine jx_iload (pc := 87) G dX1_step_87 6 rfl ?_
          refine jx_iadd (pc := 89) G dX1_step_89 ?_
          refine jx_aload_n (pc := 90) G dX1_step_90 rfl 0 rfl ?_
          refine xg_offset (pc := 91) G dX1_step_91 ?_
          refine jx_iload (pc := 94) G dX1_step_94 4 rfl ?_
          refine jx_iload (pc := 96) G dX1_step_96 6 rfl ?_
          refine jx_iadd (pc := 98) G dX1_step_98 ?_
          refine xl_offset (pc := 99) G dX1_step_99 (by omega) ?_
          refine xs_offset (pc := 100) G dX1_step_100 (by omega) (by rw [hrd p (by omega)]; have := hlt p (by omega); omega) ?_
          refine jx_iincV (pc := 101) G dX1_step_101 kc_1 (by decide) 6 rfl (p + 1) rfl [(0, .ref o), (1, .int (nI c)), (2, .int (nI (k + 1))), (3, .int (nI (bl_sg z fm fc c k))), (4, .int (nI (78 * c + 6 * k))), (5, .int (nI (78 * c + 6 * (k + 1)))), (6, .int (nI (p + 1)))] rfl ?_
          refine jx_goto (pc := 104) (tgt := 51) G dX1_step_104 (by decide) ?_
          exact ih51 _ (by omega) (p + 1) _ rfl (by omega) hs1 (bl_FI_put hI (by omega) rfl (by rw [hrd p (by omega)]; show _ = bl_off z fm fc c k (bl_sw _ p); rw [hsw]))
        · have hb0 : bl_bit (bl_sg z fm fc c k) p = 0 := by
            have h2 : bl_bit (bl_sg z fm fc c k) p ≠ 1 := h67
            have h3 := bl_bit_lt (bl_sg z fm fc c k) p
            omega
          have hf1 : bl_fst (bl_sg z fm fc c k) p = true := bl_fst_iff.mpr ⟨hb0, hs⟩
          have hp1 := (hok.2 p (by omega) hf1).1
          have hr1 : fo' (78 * c + 6 * k + p + 1) = bl_off z fm fc c k (p + 1) := hrd (p + 1) hp1
          have hs2 : bl_sec (bl_sg z fm fc c k) (p + 2) = false := Bool.eq_false_iff.mpr (fun q => by
            have h4 := (bl_fst_iff.mp q).2
            have h5 : bl_sec (bl_sg z fm fc c k) (p + 1) = true := hf1
            rw [h4] at h5
            cases h5)
          refine jx_iload (pc := 70) G dX1_step_70 6 rfl ?_
          refine jx_iconst (pc := 72) G dX1_step_72 kc_1 ?_
          refine jx_iadd (pc := 73) G dX1_step_73 ?_
          refine jx_aload_n (pc := 74) G dX1_step_74 rfl 0 rfl ?_
          refine xg_n (pc := 75) G dX1_step_75 ?_
          refine jx_icmp_ne (pc := 78) (tgt := 107) G dX1_step_78 (by decide) (by omega) (by omega) (fun h78 => ?_) (fun h78 => ?_)
          · refine jx_aload_n (pc := 107) G dX1_step_107 rfl 0 rfl ?_
            refine xg_offset (pc := 108) G dX1_step_108 ?_
            refine jx_iload (pc := 111) G dX1_step_111 5 rfl ?_
            refine jx_iload (pc := 113) G dX1_step_113 6 rfl ?_
            refine jx_iadd (pc := 115) G dX1_step_115 ?_
            refine jx_aload_n (pc := 116) G dX1_step_116 rfl 0 rfl ?_
            refine xg_offset (pc := 117) G dX1_step_117 ?_
            refine jx_iload (pc := 120) G dX1_step_120 4 rfl ?_
            refine jx_iload (pc := 122) G dX1_step_122 6 rfl ?_
            refine jx_iadd (pc := 124) G dX1_step_124 ?_
            refine jx_iconst (pc := 125) G dX1_step_125 kc_1 ?_
            refine jx_iadd (pc := 126) G dX1_step_126 ?_
            refine xl_offset (pc := 127) G dX1_step_127 (by omega) ?_
            refine xs_offset (pc := 128) G dX1_step_128 (by omega) (by rw [hr1]; have := hlt (p + 1) (by omega); omega) ?_
            refine jx_aload_n (pc := 129) G dX1_step_129 rfl 0 rfl ?_
            refine xg_offset (pc := 130) G dX1_step_130 ?_
            refine jx_iload (pc := 133) G dX1_step_133 5 rfl ?_
            refine jx_iload (pc := 135) G dX1_step_135 6 rfl ?_
            refine jx_iadd (pc := 137) G dX1_step_137 ?_
            refine jx_iconst (pc := 138) G dX1_step_138 kc_1 ?_
            refine jx_iadd (pc := 139) G dX1_step_139 ?_
            refine jx_aload_n (pc := 140) G dX1_step_140 rfl 0 rfl ?_
            refine xg_offset (pc := 141) G dX1_step_141 ?_
            refine jx_iload (pc := 144) G dX1_step_144 4 rfl ?_
            refine jx_iload (pc := 146) G dX1_step_146 6 rfl ?_
            refine jx_iadd (pc := 148) G dX1_step_148 ?_
            refine xl_offset (pc := 149) G dX1_step_149 (by omega) ?_
            refine xs_offset (pc := 150) G dX1_step_150 (by omega) (by rw [upN_ne (by omega), hrd p (by omega)]; have := hlt p (by omega); omega) ?_
            refine jx_iload (pc := 151) G dX1_step_151 6 rfl ?_
            refine jx_iconst (pc := 153) G dX1_step_153 kc_2 ?_
            refine jx_iadd (pc := 154) G dX1_step_154 ?_
            refine jx_istoreV (pc := 155) G dX1_step_155 (by decide) (p + 2) rfl [(0, .ref o), (1, .int (nI c)), (2, .int (nI (k + 1))), (3, .int (nI (bl_sg z fm fc c k))), (4, .int (nI (78 * c + 6 * k))), (5, .int (nI (78 * c + 6 * (k + 1)))), (6, .int (nI (p + 2)))] rfl ?_
            refine jx_goto (pc := 157) (tgt := 51) G dX1_step_157 (by decide) ?_
            exact ih51 _ (by omega) (p + 2) _ rfl (by omega) hs2 (bl_FI_put (p := p + 1) (bl_FI_put hI (by omega) rfl (by rw [hr1]; show _ = bl_off z fm fc c k (bl_sw _ p); rw [(bl_sw_f hf1).1])) (by omega) rfl (by rw [upN_ne (by omega), hrd p (by omega)]; show _ = bl_off z fm fc c k (bl_sw _ (p + 1)); rw [(bl_sw_f hf1).2]))
          · omega
    exact lp51 _ 0 fo rfl (by omega) rfl bl_FI_0
  refine jx_iload_n (pc := 0) G dX1_step_0 rfl 2 rfl ?_
  refine jx_aload_n (pc := 1) G dX1_step_1 rfl 0 rfl ?_
  refine xg_size (pc := 2) G dX1_step_2 ?_
  refine jx_icmp_ne (pc := 5) (tgt := 21) G dX1_step_5 (by decide) (by omega) (by omega) (fun h5 => ?_) (fun h5 => ?_)
  · refine jx_aload_n (pc := 21) G dX1_step_21 rfl 0 rfl ?_
    refine xg_method (pc := 22) G dX1_step_22 ?_
    refine jx_iload_n (pc := 25) G dX1_step_25 rfl 2 rfl ?_
    refine jx_iconst (pc := 26) G dX1_step_26 kc_1 ?_
    refine jx_isub (pc := 27) G dX1_step_27 (by omega) ?_
    refine xl_method (pc := 28) G dX1_step_28 (by omega) ?_
    exact jx_top (congrArg nI (by unfold bl_sg; split <;> first | rfl | (exfalso; omega))) c29
  · refine jx_iload_n (pc := 8) G dX1_step_8 rfl 1 rfl ?_
    refine jx_if_le (pc := 9) (tgt := 21) G dX1_step_9 (by decide) (by omega) (fun h9 => ?_) (fun h9 => ?_)
    · refine jx_aload_n (pc := 21) G dX1_step_21 rfl 0 rfl ?_
      refine xg_method (pc := 22) G dX1_step_22 ?_
      refine jx_iload_n (pc := 25) G dX1_step_25 rfl 2 rfl ?_
      refine jx_iconst (pc := 26) G dX1_step_26 kc_1 ?_
      refine jx_isub (pc := 27) G dX1_step_27 (by omega) ?_
      refine xl_method (pc := 28) G dX1_step_28 (by omega) ?_
      exact jx_top (congrArg nI (by unfold bl_sg; split <;> first | rfl | (exfalso; omega))) c29
    · refine jx_aload_n (pc := 12) G dX1_step_12 rfl 0 rfl ?_
      refine xg_callChange (pc := 13) G dX1_step_13 ?_
      refine jx_iload_n (pc := 16) G dX1_step_16 rfl 1 rfl ?_
      refine xl_callChange (pc := 17) G dX1_step_17 (by omega) ?_
      refine jx_goto (pc := 18) (tgt := 29) G dX1_step_18 (by decide) ?_
      exact jx_top (congrArg nI (by unfold bl_sg; split <;> first | rfl | (exfalso; omega))) c29
set_option maxHeartbeats 4000000 in
theorem kX_findOffsets (hA : bl_AV n z fm fc ct fl) {c : Nat} (hc : c < 3) : jx_Kv l D cb ci yX1_findOffsets wsX1_findOffsets rmX1_findOffsets 0 0 [.ref o, .int (nI c)] (XC cb ci o a n z fm fc ct fl kn fo fh ff ft fi fd) (fun w' => ∃ fo', (∀ k, k ≤ z → ∀ p, p < n → fo' (78 * c + 6 * k + p) = bl_off z fm fc c k p) ∧ (∀ j, (j < 78 * c ∨ 78 * c + 78 ≤ j) → fo' j = fo j) ∧ w' = XC cb ci o a n z fm fc ct fl kn fo' fh ff ft fi fd) := by
  refine jx_Kv_of (by decide) (Nat.le_of_ble_eq_true rfl) [(0, .ref o), (1, .int (nI c))] rfl ?_
  intro x G E
  have hA0 := hA
  obtain ⟨⟨hn3, hn6⟩, ⟨hz1, hz2⟩, hct, hV, hfl⟩ := hA0
  refine jx_iconst (pc := 0) G dX1_findOffsets_0 kc_0 ?_
  refine jx_istore_nV (pc := 1) G dX1_findOffsets_1 rfl (by decide) (0) rfl [(0, .ref o), (1, .int (nI c)), (2, .int (nI 0))] rfl ?_
  have lp2 : ∀ (d2 : Nat) (p : Nat) (fo' : Nat → Nat), n - p = d2 → (p ≤ n) → (bl_FI fo fo' (78 * c) 78 p (fun q => q)) → jx_J x 0 0 (XC cb ci o a n z fm fc ct fl kn fo' fh ff ft fi fd) 2 [(0, .ref o), (1, .int (nI c)), (2, .int (nI p))] [] := by
    intro d2
    induction d2 using Nat.strongRecOn with
    | _ d2 ih2 =>
    intro p fo' hm2 hp hI
    refine jx_iload_n (pc := 2) G dX1_findOffsets_2 rfl 2 rfl ?_
    refine jx_aload_n (pc := 3) G dX1_findOffsets_3 rfl 0 rfl ?_
    refine xg_n (pc := 4) G dX1_findOffsets_4 ?_
    refine jx_icmp_ge (pc := 7) (tgt := 29) G dX1_findOffsets_7 (by decide) (by omega) (by omega) (fun h7 => ?_) (fun h7 => ?_)
    · refine jx_iconst (pc := 29) G dX1_findOffsets_29 kc_1 ?_
      refine jx_istore_nV (pc := 30) G dX1_findOffsets_30 rfl (by decide) (0 + 1) rfl [(0, .ref o), (1, .int (nI c)), (2, .int (nI (0 + 1)))] rfl ?_
      have lp31 : ∀ (d31 : Nat) (m : Nat) (fo2 : Nat → Nat), z - m = d31 → (m ≤ z) → (∀ k, k ≤ m → ∀ p, p < n → fo2 (78 * c + 6 * k + p) = bl_off z fm fc c k p) → (∀ j, (j < 78 * c ∨ 78 * c + 78 ≤ j) → fo2 j = fo j) → jx_J x 0 0 (XC cb ci o a n z fm fc ct fl kn fo2 fh ff ft fi fd) 31 [(0, .ref o), (1, .int (nI c)), (2, .int (nI (m + 1)))] [] := by
        intro d31
        induction d31 using Nat.strongRecOn with
        | _ d31 ih31 =>
        intro m fo2 hm31 hm h1 h2
        refine jx_iload_n (pc := 31) G dX1_findOffsets_31 rfl 2 rfl ?_
        refine jx_aload_n (pc := 32) G dX1_findOffsets_32 rfl 0 rfl ?_
        refine xg_size (pc := 33) G dX1_findOffsets_33 ?_
        refine jx_icmp_gt (pc := 36) (tgt := 51) G dX1_findOffsets_36 (by decide) (by omega) (by omega) (fun h36 => ?_) (fun h36 => ?_)
        · exact E _ 51 _ ⟨fo2, fun k hk q hq => h1 k (by omega) q hq, h2, rfl⟩ dX1_findOffsets_51
        · refine jx_aload_n (pc := 39) G dX1_findOffsets_39 rfl 0 rfl ?_
          refine jx_iload_n (pc := 40) G dX1_findOffsets_40 rfl 1 rfl ?_
          refine jx_iload_n (pc := 41) G dX1_findOffsets_41 rfl 2 rfl ?_
          refine xc_v2 (pc := 42) G (fun _ _ => kX_step hA hc (by omega) (fun q hq => h1 m (Nat.le_refl m) q hq)) (cwX1_step ⟨Nat.le_of_ble_eq_true rfl, Nat.le_of_ble_eq_true rfl⟩) (Nat.le_of_ble_eq_true rfl) dX1_findOffsets_42 (fun w' hq => ?_)
          obtain ⟨fo3, hF, rfl⟩ := hq
          refine jx_iincV (pc := 45) G dX1_findOffsets_45 kc_1 (by decide) 2 rfl (m + 1 + 1) rfl [(0, .ref o), (1, .int (nI c)), (2, .int (nI (m + 1 + 1)))] rfl ?_
          refine jx_goto (pc := 48) (tgt := 31) G dX1_findOffsets_48 (by decide) ?_
          exact ih31 _ (by omega) (m + 1) fo3 rfl (by omega) (fun k hk q hq => by by_cases e : k = m + 1; (rw [e]; exact hF.1 q hq); (rw [hF.2 _ (by omega)]; exact h1 k (by omega) q hq)) (fun j hj => by rw [hF.2 _ (by omega)]; exact h2 j hj)
      exact lp31 _ 0 fo' rfl (by omega) (fun k hk q hq => by obtain rfl : k = 0 := (by omega); exact hI.1 q (by omega)) hI.2
    · refine jx_aload_n (pc := 10) G dX1_findOffsets_10 rfl 0 rfl ?_
      refine xg_offset (pc := 11) G dX1_findOffsets_11 ?_
      refine jx_bipush (pc := 14) G dX1_findOffsets_14 kb_78 ?_
      refine jx_iload_n (pc := 16) G dX1_findOffsets_16 rfl 1 rfl ?_
      refine jx_imul (pc := 17) G dX1_findOffsets_17 ?_
      refine jx_iload_n (pc := 18) G dX1_findOffsets_18 rfl 2 rfl ?_
      refine jx_iadd (pc := 19) G dX1_findOffsets_19 ?_
      refine jx_iload_n (pc := 20) G dX1_findOffsets_20 rfl 2 rfl ?_
      refine jx_i2bR (pc := 21) G dX1_findOffsets_21 (nb_8 _ (by omega)) ?_
      refine xs_offset (pc := 22) G dX1_findOffsets_22 (by omega) (by omega) ?_
      refine jx_iincV (pc := 23) G dX1_findOffsets_23 kc_1 (by decide) 2 rfl (p + 1) rfl [(0, .ref o), (1, .int (nI c)), (2, .int (nI (p + 1)))] rfl ?_
      refine jx_goto (pc := 26) (tgt := 2) G dX1_findOffsets_26 (by decide) ?_
      exact ih2 _ (by omega) (p + 1) _ rfl (by omega) (bl_FI_put hI (by omega) rfl rfl)
  exact lp2 _ 0 fo rfl (by omega) bl_FI_0
end XC
end
section
set_option maxRecDepth 100000
section XD
variable {l : Launch} {D : va_G} {cb ci : ClassId} {o : Nat} {a : Nat → Nat} {n z ct kn la : Nat} {fm fc fl fo fh ff ft fi fd fb fr gm gc gl : Nat → Nat}
set_option maxHeartbeats 4000000 in
theorem kX_findFalse (hA : bl_AV n z fm fc ct fl) {c d : Nat} (hc : c < 3) (hd : d < 3) (hO : bl_OF n z fm fc fo) (hv : ∀ k, k < 207 → ff k < 2 ^ 32) (h0 : ∀ j, j < 23 → ff (23 * (3 * c + d) + j) = 0) : jx_Kv l D cb ci yX1_findFalse wsX1_findFalse rmX1_findFalse 0 0 [.ref o, .int (nI c), .int (nI d)] (XC cb ci o a n z fm fc ct fl kn fo fh ff ft fi fd) (fun w' => ∃ ff' fd', (∀ k, k < 207 → ff' k < 2 ^ 32) ∧ bl_BS (fun j => ff' (23 * (3 * c + d) + j)) (bl_fr n z fm fc c d) ∧ (∀ j, (j < 23 * (3 * c + d) ∨ 23 * (3 * c + d) + 23 ≤ j) → ff' j = ff j) ∧ w' = XC cb ci o a n z fm fc ct fl kn fo fh ff' ft fi fd') := by
  refine jx_Kv_of (by decide) (Nat.le_of_ble_eq_true rfl) [(0, .ref o), (1, .int (nI c)), (2, .int (nI d))] rfl ?_
  intro x G E
  obtain ⟨⟨hn3, hn6⟩, ⟨hz1, hz2⟩, hct, hV, hfl⟩ := hA
  have hzz : z * z ≤ 144 := Nat.mul_le_mul hz2 hz2
  refine jx_iconst (pc := 0) G dX1_findFalse_0 kc_0 ?_
  refine jx_istore_nV (pc := 1) G dX1_findFalse_1 rfl (by decide) (0) rfl [(0, .ref o), (1, .int (nI c)), (2, .int (nI d)), (3, .int (nI 0))] rfl ?_
  have lp2 : ∀ (d2 : Nat) (q : Nat) (ff' fd0 : Nat → Nat), z * z - q = d2 → (q ≤ z * z) → (∀ k, k < 207 → ff' k < 2 ^ 32) → (bl_BS (fun j => ff' (23 * (3 * c + d) + j)) (fun r => ∃ t, t < q ∧ bl_fq n z fm fc c d (t / z) (t % z) r)) → (∀ j, (j < 23 * (3 * c + d) ∨ 23 * (3 * c + d) + 23 ≤ j) → ff' j = ff j) → jx_J x 0 0 (XC cb ci o a n z fm fc ct fl kn fo fh ff' ft fi fd0) 2 [(0, .ref o), (1, .int (nI c)), (2, .int (nI d)), (3, .int (nI q))] [] := by
    intro d2
    induction d2 using Nat.strongRecOn with
    | _ d2 ih2 =>
    intro q ff' fd0 hm2 hq h1 h2 h3
    refine jx_iload_n (pc := 2) G dX1_findFalse_2 rfl 3 rfl ?_
    refine jx_aload_n (pc := 3) G dX1_findFalse_3 rfl 0 rfl ?_
    refine xg_size (pc := 4) G dX1_findFalse_4 ?_
    refine jx_aload_n (pc := 7) G dX1_findFalse_7 rfl 0 rfl ?_
    refine xg_size (pc := 8) G dX1_findFalse_8 ?_
    refine jx_imul (pc := 11) G dX1_findFalse_11 ?_
    refine jx_icmp_ge (pc := 12) (tgt := 137) G dX1_findFalse_12 (by decide) (by omega) (by omega) (fun h12 => ?_) (fun h12 => ?_)
    · exact E _ 137 _ ⟨ff', fd0, h1, bl_BS_iff h2 (fun r hr => ⟨fun ⟨k, m, hk, hm, hf⟩ => ⟨z * k + m, by have := Nat.mul_le_mul_left z (show k + 1 ≤ z by omega); rw [Nat.mul_add] at this; omega, by rw [Nat.mul_add_div (by omega), Nat.div_eq_of_lt hm, Nat.mul_add_mod, Nat.mod_eq_of_lt hm]; exact hf⟩, fun ⟨t, ht, hf⟩ => ⟨t / z, t % z, Nat.div_lt_of_lt_mul (by omega), Nat.mod_lt _ (by omega), hf⟩⟩), h3, rfl⟩ dX1_findFalse_137
    · have hqz : q / z < z := Nat.div_lt_of_lt_mul h12
      have hqm : q % z < z := Nat.mod_lt _ (by omega)
      have hPa := bl_off_PM hV hc (q / z + 1) (by omega)
      have hPb := bl_off_PM hV hd (q % z + 1) (by omega)
      refine jx_aload_n (pc := 15) G dX1_findFalse_15 rfl 0 rfl ?_
      refine jx_iload_n (pc := 16) G dX1_findFalse_16 rfl 1 rfl ?_
      refine jx_iload_n (pc := 17) G dX1_findFalse_17 rfl 3 rfl ?_
      refine jx_aload_n (pc := 18) G dX1_findFalse_18 rfl 0 rfl ?_
      refine xg_size (pc := 19) G dX1_findFalse_19 ?_
      refine jx_idiv (pc := 22) G dX1_findFalse_22 (by omega) (by omega) (by omega) ?_
      refine jx_iconst (pc := 23) G dX1_findFalse_23 kc_1 ?_
      refine jx_iadd (pc := 24) G dX1_findFalse_24 ?_
      refine xc_i2 (pc := 25) G (fun _ _ => kX_offsetAt _ _) (cwX1_offsetAt ⟨Nat.le_of_ble_eq_true rfl, Nat.le_of_ble_eq_true rfl⟩) (Nat.le_of_ble_eq_true rfl) dX1_findFalse_25 (fun r w' hq => ?_)
      obtain ⟨rfl, rfl⟩ := hq
      refine jx_istoreV (pc := 28) G dX1_findFalse_28 (by decide) (78 * c + 6 * (q / z + 1)) rfl [(0, .ref o), (1, .int (nI c)), (2, .int (nI d)), (3, .int (nI q)), (4, .int (nI (78 * c + 6 * (q / z + 1))))] rfl ?_
      refine jx_aload_n (pc := 30) G dX1_findFalse_30 rfl 0 rfl ?_
      refine jx_iload_n (pc := 31) G dX1_findFalse_31 rfl 2 rfl ?_
      refine jx_iload_n (pc := 32) G dX1_findFalse_32 rfl 3 rfl ?_
      refine jx_aload_n (pc := 33) G dX1_findFalse_33 rfl 0 rfl ?_
      refine xg_size (pc := 34) G dX1_findFalse_34 ?_
      refine jx_irem (pc := 37) G dX1_findFalse_37 (by omega) (by omega) (by omega) ?_
      refine jx_iconst (pc := 38) G dX1_findFalse_38 kc_1 ?_
      refine jx_iadd (pc := 39) G dX1_findFalse_39 ?_
      refine xc_i2 (pc := 40) G (fun _ _ => kX_offsetAt _ _) (cwX1_offsetAt ⟨Nat.le_of_ble_eq_true rfl, Nat.le_of_ble_eq_true rfl⟩) (Nat.le_of_ble_eq_true rfl) dX1_findFalse_40 (fun r w' hq => ?_)
      obtain ⟨rfl, rfl⟩ := hq
      refine jx_istoreV (pc := 43) G dX1_findFalse_43 (by decide) (78 * d + 6 * (q % z + 1)) rfl [(0, .ref o), (1, .int (nI c)), (2, .int (nI d)), (3, .int (nI q)), (4, .int (nI (78 * c + 6 * (q / z + 1)))), (5, .int (nI (78 * d + 6 * (q % z + 1))))] rfl ?_
      refine jx_iconst (pc := 45) G dX1_findFalse_45 kc_0 ?_
      refine jx_istoreV (pc := 46) G dX1_findFalse_46 (by decide) (0) rfl [(0, .ref o), (1, .int (nI c)), (2, .int (nI d)), (3, .int (nI q)), (4, .int (nI (78 * c + 6 * (q / z + 1)))), (5, .int (nI (78 * d + 6 * (q % z + 1)))), (6, .int (nI 0))] rfl ?_
      have lp48 : ∀ (d48 : Nat) (p : Nat) (fd' : Nat → Nat), n - p = d48 → (p ≤ n) → (∀ t, t < p → fd' (bl_off z fm fc d (q % z + 1) t) = bl_off z fm fc c (q / z + 1) t) → jx_J x 0 0 (XC cb ci o a n z fm fc ct fl kn fo fh ff' ft fi fd') 48 [(0, .ref o), (1, .int (nI c)), (2, .int (nI d)), (3, .int (nI q)), (4, .int (nI (78 * c + 6 * (q / z + 1)))), (5, .int (nI (78 * d + 6 * (q % z + 1)))), (6, .int (nI p))] [] := by
        intro d48
        induction d48 using Nat.strongRecOn with
        | _ d48 ih48 =>
        intro p fd' hm48 hp hG
        refine jx_iload (pc := 48) G dX1_findFalse_48 6 rfl ?_
        refine jx_aload_n (pc := 50) G dX1_findFalse_50 rfl 0 rfl ?_
        refine xg_n (pc := 51) G dX1_findFalse_51 ?_
        refine jx_icmp_ge (pc := 54) (tgt := 88) G dX1_findFalse_54 (by decide) (by omega) (by omega) (fun h54 => ?_) (fun h54 => ?_)
        · have hG : ∀ t, t < n → fd' (bl_off z fm fc d (q % z + 1) t) = bl_off z fm fc c (q / z + 1) t := fun t ht => hG t (by omega)
          have hPg := bl_PM_of hPb hPa hG
          have hR := (bl_rk_un hn3 hn6 hPg).2
          refine jx_aload_n (pc := 88) G dX1_findFalse_88 rfl 0 rfl ?_
          refine xc_i0 (pc := 89) G (fun _ _ => kX_rankMade hn6 (fun p hp => by have := hPg.1 p hp; omega)) (cwX1_rankMade ⟨Nat.le_of_ble_eq_true rfl, Nat.le_of_ble_eq_true rfl⟩) (Nat.le_of_ble_eq_true rfl) dX1_findFalse_89 (fun r w' hq => ?_)
          obtain ⟨rfl, rfl⟩ := hq
          refine jx_istoreV (pc := 92) G dX1_findFalse_92 (by decide) (bl_rk n fd' n) rfl [(0, .ref o), (1, .int (nI c)), (2, .int (nI d)), (3, .int (nI q)), (4, .int (nI (78 * c + 6 * (q / z + 1)))), (5, .int (nI (78 * d + 6 * (q % z + 1)))), (6, .int (nI (bl_rk n fd' n)))] rfl ?_
          refine jx_bipush (pc := 94) G dX1_findFalse_94 kb_23 ?_
          refine jx_iconst (pc := 96) G dX1_findFalse_96 kc_3 ?_
          refine jx_iload_n (pc := 97) G dX1_findFalse_97 rfl 1 rfl ?_
          refine jx_imul (pc := 98) G dX1_findFalse_98 ?_
          refine jx_iload_n (pc := 99) G dX1_findFalse_99 rfl 2 rfl ?_
          refine jx_iadd (pc := 100) G dX1_findFalse_100 ?_
          refine jx_imul (pc := 101) G dX1_findFalse_101 ?_
          refine jx_iload (pc := 102) G dX1_findFalse_102 6 rfl ?_
          refine jx_iconst (pc := 104) G dX1_findFalse_104 kc_5 ?_
          refine jx_ishrR (pc := 105) G dX1_findFalse_105 (nr_5 (by omega)) ?_
          refine jx_iadd (pc := 106) G dX1_findFalse_106 ?_
          refine jx_istoreV (pc := 107) G dX1_findFalse_107 (by decide) (23 * (3 * c + d) + bl_rk n fd' n / 32) rfl [(0, .ref o), (1, .int (nI c)), (2, .int (nI d)), (3, .int (nI q)), (4, .int (nI (78 * c + 6 * (q / z + 1)))), (5, .int (nI (78 * d + 6 * (q % z + 1)))), (6, .int (nI (bl_rk n fd' n))), (7, .int (nI (23 * (3 * c + d) + bl_rk n fd' n / 32)))] rfl ?_
          refine jx_aload_n (pc := 109) G dX1_findFalse_109 rfl 0 rfl ?_
          refine xg_falseSet (pc := 110) G dX1_findFalse_110 ?_
          refine jx_iload (pc := 113) G dX1_findFalse_113 7 rfl ?_
          refine jx_aload_n (pc := 115) G dX1_findFalse_115 rfl 0 rfl ?_
          refine xg_falseSet (pc := 116) G dX1_findFalse_116 ?_
          refine jx_iload (pc := 119) G dX1_findFalse_119 7 rfl ?_
          refine xl_falseSet (pc := 121) G dX1_findFalse_121 (by omega) ?_
          refine jx_iconst (pc := 122) G dX1_findFalse_122 kc_1 ?_
          refine jx_iload (pc := 123) G dX1_findFalse_123 6 rfl ?_
          refine jx_bipush (pc := 125) G dX1_findFalse_125 kb_31 ?_
          refine jx_iandR (pc := 127) G dX1_findFalse_127 (na_31 (by omega)) ?_
          refine jx_ishlR (pc := 128) G dX1_findFalse_128 (ns_1 (Nat.mod_lt _ (by decide))) ?_
          refine jx_iorR (pc := 129) G dX1_findFalse_129 (nx_or _ _) ?_
          refine xs_falseSet (pc := 130) G dX1_findFalse_130 (by omega) ?_
          refine jx_iincV (pc := 131) G dX1_findFalse_131 kc_1 (by decide) 3 rfl (q + 1) rfl [(0, .ref o), (1, .int (nI c)), (2, .int (nI d)), (3, .int (nI (q + 1))), (4, .int (nI (78 * c + 6 * (q / z + 1)))), (5, .int (nI (78 * d + 6 * (q % z + 1)))), (6, .int (nI (bl_rk n fd' n))), (7, .int (nI (23 * (3 * c + d) + bl_rk n fd' n / 32)))] rfl ?_
          refine jx_goto (pc := 134) (tgt := 2) G dX1_findFalse_134 (by decide) ?_
          exact jx_sub (lv' := [(0, .ref o), (1, .int (nI c)), (2, .int (nI d)), (3, .int (nI (q + 1)))]) [0, 1, 2, 3] rfl (ih2 _ (by omega) (q + 1) _ _ rfl (by omega) (fun k hk => by by_cases e : k = 23 * (3 * c + d) + bl_rk n fd' n / 32; (rw [e, upN_eq]; exact bl_or_lt (h1 _ (by omega)) (Nat.mod_lt _ (by decide))); (rw [upN_ne e]; exact h1 k hk)) (by rw [bl_BS_shift]; exact bl_BS_put h2 (fun r hr => ⟨fun ⟨t, ht, hf⟩ => by by_cases e : t = q; (rw [e] at hf; exact Or.inr ((bl_fq_iff hV hc hd hqz hqm hG).mp hf)); exact Or.inl ⟨t, by omega, hf⟩, fun hh => by rcases hh with ⟨t, ht, hf⟩ | hf; exact ⟨t, by omega, hf⟩; exact ⟨q, by omega, (bl_fq_iff hV hc hd hqz hqm hG).mpr hf⟩⟩)) (fun j hj => by rw [upN_ne (by omega)]; exact h3 j hj))
        · refine jx_aload_n (pc := 57) G dX1_findFalse_57 rfl 0 rfl ?_
          refine xg_made (pc := 58) G dX1_findFalse_58 ?_
          refine jx_aload_n (pc := 61) G dX1_findFalse_61 rfl 0 rfl ?_
          refine xg_offset (pc := 62) G dX1_findFalse_62 ?_
          refine jx_iload (pc := 65) G dX1_findFalse_65 5 rfl ?_
          refine jx_iload (pc := 67) G dX1_findFalse_67 6 rfl ?_
          refine jx_iadd (pc := 69) G dX1_findFalse_69 ?_
          refine xl_offset (pc := 70) G dX1_findFalse_70 (by omega) ?_
          refine jx_aload_n (pc := 71) G dX1_findFalse_71 rfl 0 rfl ?_
          refine xg_offset (pc := 72) G dX1_findFalse_72 ?_
          refine jx_iload (pc := 75) G dX1_findFalse_75 4 rfl ?_
          refine jx_iload (pc := 77) G dX1_findFalse_77 6 rfl ?_
          refine jx_iadd (pc := 79) G dX1_findFalse_79 ?_
          refine xl_offset (pc := 80) G dX1_findFalse_80 (by omega) ?_
          rw [hO d hd (q % z + 1) (by omega) p (by omega), hO c hc (q / z + 1) (by omega) p (by omega)]
          refine xs_made (pc := 81) G dX1_findFalse_81 (by have := hPb.1 p (by omega); omega) (by have := hPa.1 p (by omega); omega) ?_
          refine jx_iincV (pc := 82) G dX1_findFalse_82 kc_1 (by decide) 6 rfl (p + 1) rfl [(0, .ref o), (1, .int (nI c)), (2, .int (nI d)), (3, .int (nI q)), (4, .int (nI (78 * c + 6 * (q / z + 1)))), (5, .int (nI (78 * d + 6 * (q % z + 1)))), (6, .int (nI (p + 1)))] rfl ?_
          refine jx_goto (pc := 85) (tgt := 48) G dX1_findFalse_85 (by decide) ?_
          exact ih48 _ (by omega) (p + 1) _ rfl (by omega) (fun t ht => by by_cases e : t = p; (rw [e, upN_eq]); (rw [upN_ne (fun q2 => e (hPb.2.1 t p (by omega) (by omega) q2))]; exact hG t (by omega)))
      exact lp48 _ 0 fd0 rfl (by omega) (fun t ht => absurd ht (by omega))
  exact lp2 _ 0 ff fd rfl (by omega) hv (bl_BS_iff (bl_BS_0 h0) (fun r hr => ⟨fun ⟨t, ht, _⟩ => absurd ht (by omega), fun q => q.elim⟩)) (fun _ _ => rfl)
set_option maxHeartbeats 4000000 in
theorem kX_find_1 (hk : kn = 1) (hO : bl_OF n z fm fc fo) (hF : bl_FS n z fm fc ff) : jx_Kv l D cb ci yX1_find wsX1_find rmX1_find 0 0 [.ref o] (XC cb ci o a n z fm fc ct fl kn fo fh ff ft fi fd) (fun w' => ∃ fo' ff' fd', bl_OF n z fm fc fo' ∧ bl_FS n z fm fc ff' ∧ w' = XC cb ci o a n z fm fc ct fl 1 fo' fh ff' ft fi fd') := by
  refine jx_Kv_of (by decide) (Nat.le_of_ble_eq_true rfl) [(0, .ref o)] rfl ?_
  intro x G E
  refine jx_aload_n (pc := 0) G dX1_find_0 rfl 0 rfl ?_
  refine xg_known (pc := 1) G dX1_find_1 ?_
  refine jx_if_eq (pc := 4) (tgt := 8) G dX1_find_4 (by decide) (by omega) (fun h4 => ?_) (fun h4 => ?_)
  · omega
  · exact E _ 7 _ ⟨fo, ff, fd, hO, hF, by rw [hk]⟩ dX1_find_7
set_option maxHeartbeats 4000000 in
theorem kX_find_0 (hA : bl_AV n z fm fc ct fl) (hk : kn = 0) : jx_Kv l D cb ci yX1_find wsX1_find rmX1_find 0 0 [.ref o] (XC cb ci o a n z fm fc ct fl kn fo fh ff ft fi fd) (fun w' => ∃ fo' ff' fd', bl_OF n z fm fc fo' ∧ bl_FS n z fm fc ff' ∧ w' = XC cb ci o a n z fm fc ct fl 1 fo' fh ff' ft fi fd') := by
  refine jx_Kv_of (by decide) (Nat.le_of_ble_eq_true rfl) [(0, .ref o)] rfl ?_
  intro x G E
  have hA0 := hA
  obtain ⟨⟨hn3, hn6⟩, ⟨hz1, hz2⟩, hct, hV, hfl⟩ := hA0
  refine jx_aload_n (pc := 0) G dX1_find_0 rfl 0 rfl ?_
  refine xg_known (pc := 1) G dX1_find_1 ?_
  refine jx_if_eq (pc := 4) (tgt := 8) G dX1_find_4 (by decide) (by omega) (fun h4 => ?_) (fun h4 => ?_)
  · refine jx_aload_n (pc := 8) G dX1_find_8 rfl 0 rfl ?_
    refine jx_iconst (pc := 9) G dX1_find_9 kc_1 ?_
    refine xp_known1 (pc := 10) G dX1_find_10 ?_
    refine jx_iconst (pc := 13) G dX1_find_13 kc_0 ?_
    refine jx_istore_nV (pc := 14) G dX1_find_14 rfl (by decide) (0) rfl [(0, .ref o), (1, .int (nI 0))] rfl ?_
    have lp15 : ∀ (d15 : Nat) (k : Nat) (ff' : Nat → Nat), 207 - k = d15 → (k ≤ 207) → (∀ j, j < k → ff' j = 0) → jx_J x 0 0 (XC cb ci o a n z fm fc ct fl 1 fo fh ff' ft fi fd) 15 [(0, .ref o), (1, .int (nI k))] [] := by
      intro d15
      induction d15 using Nat.strongRecOn with
      | _ d15 ih15 =>
      intro k ff' hm15 hk1 hz
      refine jx_iload_n (pc := 15) G dX1_find_15 rfl 1 rfl ?_
      refine jx_sipush (pc := 16) G dX1_find_16 ks_207 ?_
      refine jx_icmp_ge (pc := 19) (tgt := 35) G dX1_find_19 (by decide) (by omega) (by omega) (fun h19 => ?_) (fun h19 => ?_)
      · refine jx_iconst (pc := 35) G dX1_find_35 kc_0 ?_
        refine jx_istore_nV (pc := 36) G dX1_find_36 rfl (by decide) (0) rfl [(0, .ref o), (1, .int (nI 0))] rfl ?_
        have lp37 : ∀ (d37 : Nat) (c : Nat) (fo' : Nat → Nat), 3 - c = d37 → (c ≤ 3) → (∀ c', c' < c → ∀ k, k ≤ z → ∀ p, p < n → fo' (78 * c' + 6 * k + p) = bl_off z fm fc c' k p) → jx_J x 0 0 (XC cb ci o a n z fm fc ct fl 1 fo' fh ff' ft fi fd) 37 [(0, .ref o), (1, .int (nI c))] [] := by
          intro d37
          induction d37 using Nat.strongRecOn with
          | _ d37 ih37 =>
          intro c fo' hm37 hc hO
          refine jx_iload_n (pc := 37) G dX1_find_37 rfl 1 rfl ?_
          refine jx_iconst (pc := 38) G dX1_find_38 kc_3 ?_
          refine jx_icmp_ge (pc := 39) (tgt := 53) G dX1_find_39 (by decide) (by omega) (by omega) (fun h39 => ?_) (fun h39 => ?_)
          · have hOF : bl_OF n z fm fc fo' := fun c' hc' k hk p hp => hO c' (by omega) k hk p hp
            refine jx_iconst (pc := 53) G dX1_find_53 kc_0 ?_
            refine jx_istore_nV (pc := 54) G dX1_find_54 rfl (by decide) (0) rfl [(0, .ref o), (1, .int (nI 0))] rfl ?_
            have lp55 : ∀ (d55 : Nat) (t : Nat) (ff2 fd2 : Nat → Nat), 9 - t = d55 → (t ≤ 9) → (∀ k, k < 207 → ff2 k < 2 ^ 32) → (∀ s, s < t → bl_BS (fun j => ff2 (23 * s + j)) (bl_fr n z fm fc (s / 3) (s % 3))) → (∀ j, 23 * t ≤ j → j < 207 → ff2 j = 0) → jx_J x 0 0 (XC cb ci o a n z fm fc ct fl 1 fo' fh ff2 ft fi fd2) 55 [(0, .ref o), (1, .int (nI t))] [] := by
              intro d55
              induction d55 using Nat.strongRecOn with
              | _ d55 ih55 =>
              intro t ff2 fd2 hm55 ht g1 g2 g3
              refine jx_iload_n (pc := 55) G dX1_find_55 rfl 1 rfl ?_
              refine jx_bipush (pc := 56) G dX1_find_56 kb_9 ?_
              refine jx_icmp_ge (pc := 58) (tgt := 77) G dX1_find_58 (by decide) (by omega) (by omega) (fun h58 => ?_) (fun h58 => ?_)
              · exact E _ 77 _ ⟨fo', ff2, fd2, hOF, ⟨g1, fun c' hc' d' hd' => by have h9 := g2 (3 * c' + d') (by omega); rw [show (3 * c' + d') / 3 = c' by omega, show (3 * c' + d') % 3 = d' by omega] at h9; exact h9⟩, rfl⟩ dX1_find_77
              · refine jx_aload_n (pc := 61) G dX1_find_61 rfl 0 rfl ?_
                refine jx_iload_n (pc := 62) G dX1_find_62 rfl 1 rfl ?_
                refine jx_iconst (pc := 63) G dX1_find_63 kc_3 ?_
                refine jx_idiv (pc := 64) G dX1_find_64 (by omega) (by omega) (by omega) ?_
                refine jx_iload_n (pc := 65) G dX1_find_65 rfl 1 rfl ?_
                refine jx_iconst (pc := 66) G dX1_find_66 kc_3 ?_
                refine jx_irem (pc := 67) G dX1_find_67 (by omega) (by omega) (by omega) ?_
                refine xc_v2 (pc := 68) G (fun _ _ => kX_findFalse hA (c := t / 3) (d := t % 3) (by omega) (by omega) hOF g1 (fun j hj => g3 _ (by omega) (by omega))) (cwX1_findFalse ⟨Nat.le_of_ble_eq_true rfl, Nat.le_of_ble_eq_true rfl⟩) (Nat.le_of_ble_eq_true rfl) dX1_find_68 (fun w' hq => ?_)
                obtain ⟨ff3, fd3, k1, k2, k3, rfl⟩ := hq
                rw [show 3 * (t / 3) + t % 3 = t by omega] at k2 k3
                refine jx_iincV (pc := 71) G dX1_find_71 kc_1 (by decide) 1 rfl (t + 1) rfl [(0, .ref o), (1, .int (nI (t + 1)))] rfl ?_
                refine jx_goto (pc := 74) (tgt := 55) G dX1_find_74 (by decide) ?_
                exact ih55 _ (by omega) (t + 1) ff3 fd3 rfl (by omega) k1 (fun s hs => by by_cases e : s = t; (rw [e]; exact k2); exact bl_BS_congr (g2 s (by omega)) (fun j hj => k3 _ (by omega))) (fun j hj hj2 => by rw [k3 _ (by omega)]; exact g3 j (by omega) hj2)
            exact lp55 _ 0 ff' fd rfl (by omega) (fun k hk => by rw [hz k (by omega)]; decide) (fun s h => absurd h (by omega)) (fun j _ hj => hz j (by omega))
          · refine jx_aload_n (pc := 42) G dX1_find_42 rfl 0 rfl ?_
            refine jx_iload_n (pc := 43) G dX1_find_43 rfl 1 rfl ?_
            refine xc_v1 (pc := 44) G (fun _ _ => kX_findOffsets hA h39) (cwX1_findOffsets ⟨Nat.le_of_ble_eq_true rfl, Nat.le_of_ble_eq_true rfl⟩) (Nat.le_of_ble_eq_true rfl) dX1_find_44 (fun w' hq => ?_)
            obtain ⟨fo3, h1, h2, rfl⟩ := hq
            refine jx_iincV (pc := 47) G dX1_find_47 kc_1 (by decide) 1 rfl (c + 1) rfl [(0, .ref o), (1, .int (nI (c + 1)))] rfl ?_
            refine jx_goto (pc := 50) (tgt := 37) G dX1_find_50 (by decide) ?_
            exact ih37 _ (by omega) (c + 1) fo3 rfl (by omega) (fun c' hc' k hk p hp => by by_cases e : c' = c; (rw [e]; exact h1 k hk p hp); (rw [h2 _ (by omega)]; exact hO c' (by omega) k hk p hp))
        exact lp37 _ 0 fo rfl (by omega) (fun c h => absurd h (by omega))
      · refine jx_aload_n (pc := 22) G dX1_find_22 rfl 0 rfl ?_
        refine xg_falseSet (pc := 23) G dX1_find_23 ?_
        refine jx_iload_n (pc := 26) G dX1_find_26 rfl 1 rfl ?_
        refine jx_iconst (pc := 27) G dX1_find_27 kc_0 ?_
        refine xs_falseSet (pc := 28) G dX1_find_28 (by omega) ?_
        refine jx_iincV (pc := 29) G dX1_find_29 kc_1 (by decide) 1 rfl (k + 1) rfl [(0, .ref o), (1, .int (nI (k + 1)))] rfl ?_
        refine jx_goto (pc := 32) (tgt := 15) G dX1_find_32 (by decide) ?_
        exact ih15 _ (by omega) (k + 1) _ rfl (by omega) (bl_F0_put (g := fun _ => 0) hz rfl)
    exact lp15 _ 0 ff rfl (by omega) (fun j h => absurd h (by omega))
  · omega
theorem kX_find (hA : bl_AV n z fm fc ct fl) (h1 : kn ≤ 1) (hk : kn = 1 → bl_OF n z fm fc fo ∧ bl_FS n z fm fc ff) : jx_Kv l D cb ci yX1_find wsX1_find rmX1_find 0 0 [.ref o] (XC cb ci o a n z fm fc ct fl kn fo fh ff ft fi fd) (fun w' => ∃ fo' ff' fd', bl_OF n z fm fc fo' ∧ bl_FS n z fm fc ff' ∧ w' = XC cb ci o a n z fm fc ct fl 1 fo' fh ff' ft fi fd') := by
  by_cases e : kn = 1
  · exact kX_find_1 e (hk e).1 (hk e).2
  · exact kX_find_0 hA (by omega)
set_option maxHeartbeats 4000000 in
theorem kX_findHeads (hA : bl_AV n z fm fc ct fl) (h1 : kn ≤ 1) (hk : kn = 1 → bl_OF n z fm fc fo ∧ bl_FS n z fm fc ff) : jx_Kv l D cb ci yX1_findHeads wsX1_findHeads rmX1_findHeads 0 0 [.ref o] (XC cb ci o a n z fm fc ct fl kn fo fh ff ft fi fd) (fun w' => ∃ fo' fh' ff' fd', bl_OF n z fm fc fo' ∧ bl_FS n z fm fc ff' ∧ bl_HD n z fm fc ct fl fh' ∧ w' = XC cb ci o a n z fm fc ct fl 1 fo' fh' ff' ft fi fd') := by
  refine jx_Kv_of (by decide) (Nat.le_of_ble_eq_true rfl) [(0, .ref o)] rfl ?_
  intro x G E
  have hA0 := hA
  obtain ⟨⟨hn3, hn6⟩, ⟨hz1, hz2⟩, hct, hV, hfl⟩ := hA0
  refine jx_aload_n (pc := 0) G dX1_findHeads_0 rfl 0 rfl ?_
  refine xc_v0 (pc := 1) G (fun _ _ => kX_find hA h1 hk) (cwX1_find ⟨Nat.le_of_ble_eq_true rfl, Nat.le_of_ble_eq_true rfl⟩) (Nat.le_of_ble_eq_true rfl) dX1_findHeads_1 (fun w' hq => ?_)
  obtain ⟨fo', ff', fd', hO, hF, rfl⟩ := hq
  refine jx_iconst (pc := 4) G dX1_findHeads_4 kc_0 ?_
  refine jx_istore_nV (pc := 5) G dX1_findHeads_5 rfl (by decide) (0) rfl [(0, .ref o), (1, .int (nI 0))] rfl ?_
  have lp6 : ∀ (d6 : Nat) (p : Nat) (fh' : Nat → Nat), n - p = d6 → (p ≤ n) → (∀ q, q < p → fh' q = q) → jx_J x 0 0 (XC cb ci o a n z fm fc ct fl 1 fo' fh' ff' ft fi fd') 6 [(0, .ref o), (1, .int (nI p))] [] := by
    intro d6
    induction d6 using Nat.strongRecOn with
    | _ d6 ih6 =>
    intro p fh' hm6 hp hI
    refine jx_iload_n (pc := 6) G dX1_findHeads_6 rfl 1 rfl ?_
    refine jx_aload_n (pc := 7) G dX1_findHeads_7 rfl 0 rfl ?_
    refine xg_n (pc := 8) G dX1_findHeads_8 ?_
    refine jx_icmp_ge (pc := 11) (tgt := 28) G dX1_findHeads_11 (by decide) (by omega) (by omega) (fun h11 => ?_) (fun h11 => ?_)
    · refine jx_iconst (pc := 28) G dX1_findHeads_28 kc_0 ?_
      refine jx_istore_nV (pc := 29) G dX1_findHeads_29 rfl (by decide) (0) rfl [(0, .ref o), (1, .int (nI 0))] rfl ?_
      have lp30 : ∀ (d30 : Nat) (i : Nat) (fh2 : Nat → Nat), ct - i = d30 → (i ≤ ct) → (∀ j, j ≤ i → ∀ p, p < n → fh2 (6 * j + p) = bl_hd z fm fc fl j p) → jx_J x 0 0 (XC cb ci o a n z fm fc ct fl 1 fo' fh2 ff' ft fi fd') 30 [(0, .ref o), (1, .int (nI i))] [] := by
        intro d30
        induction d30 using Nat.strongRecOn with
        | _ d30 ih30 =>
        intro i fh2 hm30 hi hH
        refine jx_iload_n (pc := 30) G dX1_findHeads_30 rfl 1 rfl ?_
        refine jx_aload_n (pc := 31) G dX1_findHeads_31 rfl 0 rfl ?_
        refine xg_count (pc := 32) G dX1_findHeads_32 ?_
        refine jx_icmp_ge (pc := 35) (tgt := 106) G dX1_findHeads_35 (by decide) (by omega) (by omega) (fun h35 => ?_) (fun h35 => ?_)
        · exact E _ 106 _ ⟨fo', fh2, ff', fd', hO, hF, fun j hj p hp => hH j (by omega) p hp, rfl⟩ dX1_findHeads_106
        · have hl3 := hfl i h35
          refine jx_aload_n (pc := 38) G dX1_findHeads_38 rfl 0 rfl ?_
          refine jx_aload_n (pc := 39) G dX1_findHeads_39 rfl 0 rfl ?_
          refine xg_calls (pc := 40) G dX1_findHeads_40 ?_
          refine jx_iload_n (pc := 43) G dX1_findHeads_43 rfl 1 rfl ?_
          refine xl_calls (pc := 44) G dX1_findHeads_44 (by omega) ?_
          refine jx_aload_n (pc := 45) G dX1_findHeads_45 rfl 0 rfl ?_
          refine xg_size (pc := 46) G dX1_findHeads_46 ?_
          refine xc_i2 (pc := 49) G (fun _ _ => kX_offsetAt _ _) (cwX1_offsetAt ⟨Nat.le_of_ble_eq_true rfl, Nat.le_of_ble_eq_true rfl⟩) (Nat.le_of_ble_eq_true rfl) dX1_findHeads_49 (fun r w' hq => ?_)
          obtain ⟨rfl, rfl⟩ := hq
          refine jx_istore_nV (pc := 52) G dX1_findHeads_52 rfl (by decide) (78 * fl i + 6 * z) rfl [(0, .ref o), (1, .int (nI i)), (2, .int (nI (78 * fl i + 6 * z)))] rfl ?_
          refine jx_iconst (pc := 53) G dX1_findHeads_53 kc_0 ?_
          refine jx_istore_nV (pc := 54) G dX1_findHeads_54 rfl (by decide) (0) rfl [(0, .ref o), (1, .int (nI i)), (2, .int (nI (78 * fl i + 6 * z))), (3, .int (nI 0))] rfl ?_
          have lp55 : ∀ (d55 : Nat) (p : Nat) (fh3 : Nat → Nat), n - p = d55 → (p ≤ n) → (bl_FI fh2 fh3 (6 * (i + 1)) n p (bl_hd z fm fc fl (i + 1))) → jx_J x 0 0 (XC cb ci o a n z fm fc ct fl 1 fo' fh3 ff' ft fi fd') 55 [(0, .ref o), (1, .int (nI i)), (2, .int (nI (78 * fl i + 6 * z))), (3, .int (nI p))] [] := by
            intro d55
            induction d55 using Nat.strongRecOn with
            | _ d55 ih55 =>
            intro p fh3 hm55 hp hB
            refine jx_iload_n (pc := 55) G dX1_findHeads_55 rfl 3 rfl ?_
            refine jx_aload_n (pc := 56) G dX1_findHeads_56 rfl 0 rfl ?_
            refine xg_n (pc := 57) G dX1_findHeads_57 ?_
            refine jx_icmp_ge (pc := 60) (tgt := 100) G dX1_findHeads_60 (by decide) (by omega) (by omega) (fun h60 => ?_) (fun h60 => ?_)
            · refine jx_iincV (pc := 100) G dX1_findHeads_100 kc_1 (by decide) 1 rfl (i + 1) rfl [(0, .ref o), (1, .int (nI (i + 1))), (2, .int (nI (78 * fl i + 6 * z))), (3, .int (nI p))] rfl ?_
              refine jx_goto (pc := 103) (tgt := 30) G dX1_findHeads_103 (by decide) ?_
              exact jx_sub (lv' := [(0, .ref o), (1, .int (nI (i + 1)))]) [0, 1] rfl (ih30 _ (by omega) (i + 1) fh3 rfl (by omega) (fun j hj p hp => by by_cases e : j = i + 1; (rw [e]; exact hB.1 p (by omega)); (rw [hB.2 _ (by omega)]; exact hH j (by omega) p hp)))
            · refine jx_aload_n (pc := 63) G dX1_findHeads_63 rfl 0 rfl ?_
              refine xg_head (pc := 64) G dX1_findHeads_64 ?_
              refine jx_bipush (pc := 67) G dX1_findHeads_67 kb_6 ?_
              refine jx_iload_n (pc := 69) G dX1_findHeads_69 rfl 1 rfl ?_
              refine jx_iconst (pc := 70) G dX1_findHeads_70 kc_1 ?_
              refine jx_iadd (pc := 71) G dX1_findHeads_71 ?_
              refine jx_imul (pc := 72) G dX1_findHeads_72 ?_
              refine jx_iload_n (pc := 73) G dX1_findHeads_73 rfl 3 rfl ?_
              refine jx_iadd (pc := 74) G dX1_findHeads_74 ?_
              refine jx_aload_n (pc := 75) G dX1_findHeads_75 rfl 0 rfl ?_
              refine xg_head (pc := 76) G dX1_findHeads_76 ?_
              refine jx_bipush (pc := 79) G dX1_findHeads_79 kb_6 ?_
              refine jx_iload_n (pc := 81) G dX1_findHeads_81 rfl 1 rfl ?_
              refine jx_imul (pc := 82) G dX1_findHeads_82 ?_
              refine jx_aload_n (pc := 83) G dX1_findHeads_83 rfl 0 rfl ?_
              refine xg_offset (pc := 84) G dX1_findHeads_84 ?_
              refine jx_iload_n (pc := 87) G dX1_findHeads_87 rfl 2 rfl ?_
              refine jx_iload_n (pc := 88) G dX1_findHeads_88 rfl 3 rfl ?_
              refine jx_iadd (pc := 89) G dX1_findHeads_89 ?_
              refine xl_offset (pc := 90) G dX1_findHeads_90 (by omega) ?_
              rw [hO (fl i) hl3 z (Nat.le_refl z) p (by omega)]
              have hq : bl_off z fm fc (fl i) z p < n := (bl_off_PM hV hl3 z (Nat.le_refl z)).1 p (by omega)
              refine jx_iadd (pc := 91) G dX1_findHeads_91 ?_
              refine xl_head (pc := 92) G dX1_findHeads_92 (by omega) ?_
              refine xs_head (pc := 93) G dX1_findHeads_93 (by omega) (by rw [hB.2 _ (by omega), hH i (Nat.le_refl i) _ hq]; have := (bl_hd_PM hV hfl i (by omega)).1 _ hq; omega) ?_
              refine jx_iincV (pc := 94) G dX1_findHeads_94 kc_1 (by decide) 3 rfl (p + 1) rfl [(0, .ref o), (1, .int (nI i)), (2, .int (nI (78 * fl i + 6 * z))), (3, .int (nI (p + 1)))] rfl ?_
              refine jx_goto (pc := 97) (tgt := 55) G dX1_findHeads_97 (by decide) ?_
              exact ih55 _ (by omega) (p + 1) _ rfl (by omega) (bl_FI_put hB (by omega) rfl (by rw [hB.2 _ (by omega)]; exact hH i (Nat.le_refl i) _ hq))
          exact lp55 _ 0 fh2 rfl (by omega) bl_FI_0
      exact lp30 _ 0 fh' rfl (by omega) (fun j hj p hp => by obtain rfl : j = 0 := (by omega); rw [Nat.mul_zero, Nat.zero_add]; exact hI p (by omega))
    · refine jx_aload_n (pc := 14) G dX1_findHeads_14 rfl 0 rfl ?_
      refine xg_head (pc := 15) G dX1_findHeads_15 ?_
      refine jx_iload_n (pc := 18) G dX1_findHeads_18 rfl 1 rfl ?_
      refine jx_iload_n (pc := 19) G dX1_findHeads_19 rfl 1 rfl ?_
      refine jx_i2bR (pc := 20) G dX1_findHeads_20 (nb_8 _ (by omega)) ?_
      refine xs_head (pc := 21) G dX1_findHeads_21 (by omega) (by omega) ?_
      refine jx_iincV (pc := 22) G dX1_findHeads_22 kc_1 (by decide) 1 rfl (p + 1) rfl [(0, .ref o), (1, .int (nI (p + 1)))] rfl ?_
      refine jx_goto (pc := 25) (tgt := 6) G dX1_findHeads_25 (by decide) ?_
      exact ih6 _ (by omega) (p + 1) _ rfl (by omega) (bl_F0_put (g := fun q => q) hI rfl)
  exact lp6 _ 0 fh rfl (by omega) (fun q h => absurd h (by omega))
set_option maxHeartbeats 4000000 in
theorem kX_bellAt (hA : bl_AV n z fm fc ct fl) (hO : bl_OF n z fm fc fo) (hH : bl_HD n z fm fc ct fl fh) {k p : Nat} (hk : k ≤ ct * z) (hp : p < n) : jx_Ki l D cb ci yX1_bellAt wsX1_bellAt rmX1_bellAt 0 0 [.ref o, .int (nI k), .int (nI p)] (XC cb ci o a n z fm fc ct fl kn fo fh ff ft fi fd) (fun r w' => r = nI (bl_row z fm fc fl k p) ∧ w' = XC cb ci o a n z fm fc ct fl kn fo fh ff ft fi fd) := by
  refine jx_Ki_of (by decide) (Nat.le_of_ble_eq_true rfl) [(0, .ref o), (1, .int (nI k)), (2, .int (nI p))] rfl ?_
  intro x G E
  obtain ⟨⟨hn3, hn6⟩, ⟨hz1, hz2⟩, hct, hV, hfl⟩ := hA
  have hcz := bl_ctz hct hz2
  refine jx_iload_n (pc := 0) G dX1_bellAt_0 rfl 1 rfl ?_
  refine jx_if_ne (pc := 1) (tgt := 6) G dX1_bellAt_1 (by decide) (by omega) (fun h1 => ?_) (fun h1 => ?_)
  · have hi := bl_kz_lt (by omega) hk
    have hl3 := hfl _ hi
    have hm : (k - 1) % z < z := Nat.mod_lt _ (by omega)
    have hq : bl_off z fm fc (fl ((k - 1) / z)) ((k - 1) % z + 1) p < n := (bl_off_PM hV hl3 _ (by omega)).1 p hp
    refine jx_iload_n (pc := 6) G dX1_bellAt_6 rfl 1 rfl ?_
    refine jx_iconst (pc := 7) G dX1_bellAt_7 kc_1 ?_
    refine jx_isub (pc := 8) G dX1_bellAt_8 (by omega) ?_
    refine jx_aload_n (pc := 9) G dX1_bellAt_9 rfl 0 rfl ?_
    refine xg_size (pc := 10) G dX1_bellAt_10 ?_
    refine jx_idiv (pc := 13) G dX1_bellAt_13 (by omega) (by omega) (by omega) ?_
    refine jx_istore_nV (pc := 14) G dX1_bellAt_14 rfl (by decide) ((k - 1) / z) rfl [(0, .ref o), (1, .int (nI k)), (2, .int (nI p)), (3, .int (nI ((k - 1) / z)))] rfl ?_
    refine jx_aload_n (pc := 15) G dX1_bellAt_15 rfl 0 rfl ?_
    refine jx_aload_n (pc := 16) G dX1_bellAt_16 rfl 0 rfl ?_
    refine xg_calls (pc := 17) G dX1_bellAt_17 ?_
    refine jx_iload_n (pc := 20) G dX1_bellAt_20 rfl 3 rfl ?_
    refine xl_calls (pc := 21) G dX1_bellAt_21 (by omega) ?_
    refine jx_iload_n (pc := 22) G dX1_bellAt_22 rfl 1 rfl ?_
    refine jx_iload_n (pc := 23) G dX1_bellAt_23 rfl 3 rfl ?_
    refine jx_aload_n (pc := 24) G dX1_bellAt_24 rfl 0 rfl ?_
    refine xg_size (pc := 25) G dX1_bellAt_25 ?_
    refine jx_imul (pc := 28) G dX1_bellAt_28 ?_
    refine jx_isub (pc := 29) G dX1_bellAt_29 bl_kz_le ?_
    refine xc_i2 (pc := 30) G (fun _ _ => kX_offsetAt _ _) (cwX1_offsetAt ⟨Nat.le_of_ble_eq_true rfl, Nat.le_of_ble_eq_true rfl⟩) (Nat.le_of_ble_eq_true rfl) dX1_bellAt_30 (fun r w' hq => ?_)
    obtain ⟨rfl, rfl⟩ := hq
    rw [bl_kz (by omega)]
    refine jx_istoreV (pc := 33) G dX1_bellAt_33 (by decide) (78 * fl ((k - 1) / z) + 6 * ((k - 1) % z + 1)) rfl [(0, .ref o), (1, .int (nI k)), (2, .int (nI p)), (3, .int (nI ((k - 1) / z))), (4, .int (nI (78 * fl ((k - 1) / z) + 6 * ((k - 1) % z + 1))))] rfl ?_
    refine jx_aload_n (pc := 35) G dX1_bellAt_35 rfl 0 rfl ?_
    refine xg_head (pc := 36) G dX1_bellAt_36 ?_
    refine jx_bipush (pc := 39) G dX1_bellAt_39 kb_6 ?_
    refine jx_iload_n (pc := 41) G dX1_bellAt_41 rfl 3 rfl ?_
    refine jx_imul (pc := 42) G dX1_bellAt_42 ?_
    refine jx_aload_n (pc := 43) G dX1_bellAt_43 rfl 0 rfl ?_
    refine xg_offset (pc := 44) G dX1_bellAt_44 ?_
    refine jx_iload (pc := 47) G dX1_bellAt_47 4 rfl ?_
    refine jx_iload_n (pc := 49) G dX1_bellAt_49 rfl 2 rfl ?_
    refine jx_iadd (pc := 50) G dX1_bellAt_50 ?_
    refine xl_offset (pc := 51) G dX1_bellAt_51 (by omega) ?_
    rw [hO _ hl3 _ (by omega) p hp]
    refine jx_iadd (pc := 52) G dX1_bellAt_52 ?_
    refine xl_head (pc := 53) G dX1_bellAt_53 (by omega) ?_
    exact E _ _ 54 _ ⟨by rw [hH _ (by omega) _ hq, bl_row, if_neg h1], rfl⟩ dX1_bellAt_54
  · refine jx_iload_n (pc := 4) G dX1_bellAt_4 rfl 2 rfl ?_
    exact E _ _ 5 _ ⟨by rw [h1]; rfl, rfl⟩ dX1_bellAt_5
end XD
end
section
set_option maxRecDepth 100000
section XE
variable {l : Launch} {D : va_G} {cb ci : ClassId} {o : Nat} {a : Nat → Nat} {n z ct kn la : Nat} {fm fc fl fo fh ff ft fi fd fb fr gm gc gl : Nat → Nat}
set_option maxHeartbeats 4000000 in
theorem kX_meetMade (hn3 : 3 ≤ n) (hn6 : n ≤ 6) (hP : bl_PM n fd) (hv : ∀ k, k < 23 → ft k < 2 ^ 32) : jx_Ki l D cb ci yX1_meetMade wsX1_meetMade rmX1_meetMade 0 0 [.ref o] (XC cb ci o a n z fm fc ct fl kn fo fh ff ft fi fd) (fun r w' => r = nI (1 - bl_bit (ft (bl_rk n fd n / 32)) (bl_rk n fd n % 32)) ∧ w' = XC cb ci o a n z fm fc ct fl kn fo fh ff (upN ft (bl_rk n fd n / 32) (ft (bl_rk n fd n / 32) ||| 2 ^ (bl_rk n fd n % 32))) fi fd) := by
  refine jx_Kz_of (by decide) (Nat.le_of_ble_eq_true rfl) [(0, .ref o)] rfl ?_
  intro x G E
  have hR := (bl_rk_un hn3 hn6 hP).2
  refine jx_aload_n (pc := 0) G dX1_meetMade_0 rfl 0 rfl ?_
  refine xc_i0 (pc := 1) G (fun _ _ => kX_rankMade hn6 (fun p hp => by have := hP.1 p hp; omega)) (cwX1_rankMade ⟨Nat.le_of_ble_eq_true rfl, Nat.le_of_ble_eq_true rfl⟩) (Nat.le_of_ble_eq_true rfl) dX1_meetMade_1 (fun r w' hq => ?_)
  obtain ⟨rfl, rfl⟩ := hq
  refine jx_istore_nV (pc := 4) G dX1_meetMade_4 rfl (by decide) (bl_rk n fd n) rfl [(0, .ref o), (1, .int (nI (bl_rk n fd n)))] rfl ?_
  refine jx_iconst (pc := 5) G dX1_meetMade_5 kc_1 ?_
  refine jx_iload_n (pc := 6) G dX1_meetMade_6 rfl 1 rfl ?_
  refine jx_bipush (pc := 7) G dX1_meetMade_7 kb_31 ?_
  refine jx_iandR (pc := 9) G dX1_meetMade_9 (na_31 (by omega)) ?_
  refine jx_ishlR (pc := 10) G dX1_meetMade_10 (ns_1 (Nat.mod_lt _ (by decide))) ?_
  refine jx_istore_nV (pc := 11) G dX1_meetMade_11 rfl (by decide) (2 ^ (bl_rk n fd n % 32)) rfl [(0, .ref o), (1, .int (nI (bl_rk n fd n))), (2, .int (nI (2 ^ (bl_rk n fd n % 32))))] rfl ?_
  refine jx_aload_n (pc := 12) G dX1_meetMade_12 rfl 0 rfl ?_
  refine xg_met (pc := 13) G dX1_meetMade_13 ?_
  refine jx_iload_n (pc := 16) G dX1_meetMade_16 rfl 1 rfl ?_
  refine jx_iconst (pc := 17) G dX1_meetMade_17 kc_5 ?_
  refine jx_ishrR (pc := 18) G dX1_meetMade_18 (nr_5 (by omega)) ?_
  refine xl_met (pc := 19) G dX1_meetMade_19 (by omega) ?_
  refine jx_iload_n (pc := 20) G dX1_meetMade_20 rfl 2 rfl ?_
  refine jx_iandR (pc := 21) G dX1_meetMade_21 (nx_and _ _) ?_
  refine jx_if_ne (pc := 22) (tgt := 29) G dX1_meetMade_22 (by decide) (bl_and_lt (hv _ (by omega))) (fun h22 => ?_) (fun h22 => ?_)
  · have hb : bl_bit (ft (bl_rk n fd n / 32)) (bl_rk n fd n % 32) = 1 := by
      have h1 := bl_bit_lt (ft (bl_rk n fd n / 32)) (bl_rk n fd n % 32)
      have h2 : ¬ bl_bit (ft (bl_rk n fd n / 32)) (bl_rk n fd n % 32) = 0 := fun q => h22 (bl_and_bit.mpr q)
      omega
    refine jx_iconst (pc := 29) G dX1_meetMade_29 kc_0 ?_
    refine jx_istore_nV (pc := 30) G dX1_meetMade_30 rfl (by decide) (0) rfl [(0, .ref o), (1, .int (nI (bl_rk n fd n))), (2, .int (nI (2 ^ (bl_rk n fd n % 32)))), (3, .int (nI 0))] rfl ?_
    refine jx_aload_n (pc := 31) G dX1_meetMade_31 rfl 0 rfl ?_
    refine xg_met (pc := 32) G dX1_meetMade_32 ?_
    refine jx_iload_n (pc := 35) G dX1_meetMade_35 rfl 1 rfl ?_
    refine jx_iconst (pc := 36) G dX1_meetMade_36 kc_5 ?_
    refine jx_ishrR (pc := 37) G dX1_meetMade_37 (nr_5 (by omega)) ?_
    refine jx_aload_n (pc := 38) G dX1_meetMade_38 rfl 0 rfl ?_
    refine xg_met (pc := 39) G dX1_meetMade_39 ?_
    refine jx_iload_n (pc := 42) G dX1_meetMade_42 rfl 1 rfl ?_
    refine jx_iconst (pc := 43) G dX1_meetMade_43 kc_5 ?_
    refine jx_ishrR (pc := 44) G dX1_meetMade_44 (nr_5 (by omega)) ?_
    refine xl_met (pc := 45) G dX1_meetMade_45 (by omega) ?_
    refine jx_iload_n (pc := 46) G dX1_meetMade_46 rfl 2 rfl ?_
    refine jx_iorR (pc := 47) G dX1_meetMade_47 (nx_or _ _) ?_
    refine xs_met (pc := 48) G dX1_meetMade_48 (by omega) ?_
    refine jx_iload_n (pc := 49) G dX1_meetMade_49 rfl 3 rfl ?_
    exact E _ _ 50 _ ⟨by rw [hb], rfl⟩ (by omega) dX1_meetMade_50
  · have hb := bl_and_bit.mp h22
    refine jx_iconst (pc := 25) G dX1_meetMade_25 kc_1 ?_
    refine jx_goto (pc := 26) (tgt := 30) G dX1_meetMade_26 (by decide) ?_
    refine jx_istore_nV (pc := 30) G dX1_meetMade_30 rfl (by decide) (1) rfl [(0, .ref o), (1, .int (nI (bl_rk n fd n))), (2, .int (nI (2 ^ (bl_rk n fd n % 32)))), (3, .int (nI 1))] rfl ?_
    refine jx_aload_n (pc := 31) G dX1_meetMade_31 rfl 0 rfl ?_
    refine xg_met (pc := 32) G dX1_meetMade_32 ?_
    refine jx_iload_n (pc := 35) G dX1_meetMade_35 rfl 1 rfl ?_
    refine jx_iconst (pc := 36) G dX1_meetMade_36 kc_5 ?_
    refine jx_ishrR (pc := 37) G dX1_meetMade_37 (nr_5 (by omega)) ?_
    refine jx_aload_n (pc := 38) G dX1_meetMade_38 rfl 0 rfl ?_
    refine xg_met (pc := 39) G dX1_meetMade_39 ?_
    refine jx_iload_n (pc := 42) G dX1_meetMade_42 rfl 1 rfl ?_
    refine jx_iconst (pc := 43) G dX1_meetMade_43 kc_5 ?_
    refine jx_ishrR (pc := 44) G dX1_meetMade_44 (nr_5 (by omega)) ?_
    refine xl_met (pc := 45) G dX1_meetMade_45 (by omega) ?_
    refine jx_iload_n (pc := 46) G dX1_meetMade_46 rfl 2 rfl ?_
    refine jx_iorR (pc := 47) G dX1_meetMade_47 (nx_or _ _) ?_
    refine xs_met (pc := 48) G dX1_meetMade_48 (by omega) ?_
    refine jx_iload_n (pc := 49) G dX1_meetMade_49 rfl 3 rfl ?_
    exact E _ _ 50 _ ⟨by rw [hb], rfl⟩ (by omega) dX1_meetMade_50
set_option maxHeartbeats 4000000 in
theorem kX_aloneFalse (hA : bl_AV n z fm fc ct fl) (hO : bl_OF n z fm fc fo) {c : Nat} (hc : c < 3) : jx_Ki l D cb ci yX1_aloneFalse wsX1_aloneFalse rmX1_aloneFalse 0 0 [.ref o, .int (nI c)] (XC cb ci o a n z fm fc ct fl kn fo fh ff ft fi fd) (fun r w' => r = nI (bl_ind (bl_al n z fm fc c)) ∧ ∃ ft' fd', w' = XC cb ci o a n z fm fc ct fl kn fo fh ff ft' fi fd') := by
  refine jx_Kz_of (by decide) (Nat.le_of_ble_eq_true rfl) [(0, .ref o), (1, .int (nI c))] rfl ?_
  intro x G E
  have hA0 := hA
  obtain ⟨⟨hn3, hn6⟩, ⟨hz1, hz2⟩, hct, hV, hfl⟩ := hA0
  refine jx_aload_n (pc := 0) G dX1_aloneFalse_0 rfl 0 rfl ?_
  refine xc_v0 (pc := 1) G (fun _ _ => kX_clearMet) (cwX1_clearMet ⟨Nat.le_of_ble_eq_true rfl, Nat.le_of_ble_eq_true rfl⟩) (Nat.le_of_ble_eq_true rfl) dX1_aloneFalse_1 (fun w' hq => ?_)
  obtain ⟨ft0, hf0, rfl⟩ := hq
  refine jx_iconst (pc := 4) G dX1_aloneFalse_4 kc_0 ?_
  refine jx_istore_nV (pc := 5) G dX1_aloneFalse_5 rfl (by decide) (0) rfl [(0, .ref o), (1, .int (nI c)), (2, .int (nI 0))] rfl ?_
  refine jx_iconst (pc := 6) G dX1_aloneFalse_6 kc_1 ?_
  refine jx_istore_nV (pc := 7) G dX1_aloneFalse_7 rfl (by decide) (0 + 1) rfl [(0, .ref o), (1, .int (nI c)), (2, .int (nI 0)), (3, .int (nI (0 + 1)))] rfl ?_
  have lp8 : ∀ (d8 : Nat) (k tw : Nat) (ft' fd' : Nat → Nat), z - k = d8 → (k ≤ z) → (tw = bl_ind (∃ k1 m, m < k1 ∧ k1 < k ∧ ∀ p, p < n → bl_off z fm fc c (m + 1) p = bl_off z fm fc c (k1 + 1) p)) → (∀ j, j < 23 → ft' j < 2 ^ 32) → (bl_BS ft' (fun r => ∃ m, m < k ∧ r = bl_rk n (bl_off z fm fc c (m + 1)) n)) → jx_J x 0 0 (XC cb ci o a n z fm fc ct fl kn fo fh ff ft' fi fd') 8 [(0, .ref o), (1, .int (nI c)), (2, .int (nI tw)), (3, .int (nI (k + 1)))] [] := by
    intro d8
    induction d8 using Nat.strongRecOn with
    | _ d8 ih8 =>
    intro k tw ft' fd' hm8 hk ht hv hB
    refine jx_iload_n (pc := 8) G dX1_aloneFalse_8 rfl 3 rfl ?_
    refine jx_aload_n (pc := 9) G dX1_aloneFalse_9 rfl 0 rfl ?_
    refine xg_size (pc := 10) G dX1_aloneFalse_10 ?_
    refine jx_icmp_gt (pc := 13) (tgt := 86) G dX1_aloneFalse_13 (by decide) (by omega) (by omega) (fun h13 => ?_) (fun h13 => ?_)
    · refine jx_iload_n (pc := 86) G dX1_aloneFalse_86 rfl 2 rfl ?_
      exact E _ _ 87 _ ⟨by rw [ht, show k = z by omega]; rfl, ft', fd', rfl⟩ (by rw [ht]; exact bl_ind_le _) dX1_aloneFalse_87
    · refine jx_aload_n (pc := 16) G dX1_aloneFalse_16 rfl 0 rfl ?_
      refine jx_iload_n (pc := 17) G dX1_aloneFalse_17 rfl 1 rfl ?_
      refine jx_iload_n (pc := 18) G dX1_aloneFalse_18 rfl 3 rfl ?_
      refine xc_i2 (pc := 19) G (fun _ _ => kX_offsetAt _ _) (cwX1_offsetAt ⟨Nat.le_of_ble_eq_true rfl, Nat.le_of_ble_eq_true rfl⟩) (Nat.le_of_ble_eq_true rfl) dX1_aloneFalse_19 (fun r w' hq => ?_)
      obtain ⟨rfl, rfl⟩ := hq
      refine jx_istoreV (pc := 22) G dX1_aloneFalse_22 (by decide) (78 * c + 6 * (k + 1)) rfl [(0, .ref o), (1, .int (nI c)), (2, .int (nI tw)), (3, .int (nI (k + 1))), (4, .int (nI (78 * c + 6 * (k + 1))))] rfl ?_
      refine jx_iconst (pc := 24) G dX1_aloneFalse_24 kc_0 ?_
      refine jx_istoreV (pc := 25) G dX1_aloneFalse_25 (by decide) (0) rfl [(0, .ref o), (1, .int (nI c)), (2, .int (nI tw)), (3, .int (nI (k + 1))), (4, .int (nI (78 * c + 6 * (k + 1)))), (5, .int (nI 0))] rfl ?_
      have lp27 : ∀ (d27 : Nat) (p : Nat) (fd2 : Nat → Nat), n - p = d27 → (p ≤ n) → (∀ t, t < p → fd2 t = bl_off z fm fc c (k + 1) t) → jx_J x 0 0 (XC cb ci o a n z fm fc ct fl kn fo fh ff ft' fi fd2) 27 [(0, .ref o), (1, .int (nI c)), (2, .int (nI tw)), (3, .int (nI (k + 1))), (4, .int (nI (78 * c + 6 * (k + 1)))), (5, .int (nI p))] [] := by
        intro d27
        induction d27 using Nat.strongRecOn with
        | _ d27 ih27 =>
        intro p fd2 hm27 hp hG
        refine jx_iload (pc := 27) G dX1_aloneFalse_27 5 rfl ?_
        refine jx_aload_n (pc := 29) G dX1_aloneFalse_29 rfl 0 rfl ?_
        refine xg_n (pc := 30) G dX1_aloneFalse_30 ?_
        refine jx_icmp_ge (pc := 33) (tgt := 59) G dX1_aloneFalse_33 (by decide) (by omega) (by omega) (fun h33 => ?_) (fun h33 => ?_)
        · have hPk := bl_off_PM hV hc (k + 1) (by omega)
          have hG2 : ∀ t, t < n → fd2 t = bl_off z fm fc c (k + 1) t := fun t ht => hG t (by omega)
          have hPd := bl_PM_congr hG2 hPk
          have hRk : bl_rk n fd2 n = bl_rk n (bl_off z fm fc c (k + 1)) n := bl_rk_congr hG2 n (Nat.le_refl n)
          have hR := (bl_rk_un hn3 hn6 hPd).2
          have hbit := hB (bl_rk n fd2 n) (by omega)
          have hb2 := bl_bit_lt (ft' (bl_rk n fd2 n / 32)) (bl_rk n fd2 n % 32)
          refine jx_aload_n (pc := 59) G dX1_aloneFalse_59 rfl 0 rfl ?_
          refine xc_i0 (pc := 60) G (fun _ _ => kX_meetMade hn3 hn6 hPd hv) (cwX1_meetMade ⟨Nat.le_of_ble_eq_true rfl, Nat.le_of_ble_eq_true rfl⟩) (Nat.le_of_ble_eq_true rfl) dX1_aloneFalse_60 (fun r w' hq => ?_)
          obtain ⟨rfl, rfl⟩ := hq
          refine jx_istore (pc := 63) G dX1_aloneFalse_63 (by decide) (fun v => [(0, .ref o), (1, .int (nI c)), (2, .int (nI tw)), (3, .int (nI (k + 1))), (4, .int (nI (78 * c + 6 * (k + 1)))), (5, .int (nI v))]) (fun _ => rfl) (fun fr efr => ?_)
          refine jx_iload_n (pc := 65) G dX1_aloneFalse_65 rfl 2 rfl ?_
          refine jx_if_ne (pc := 66) (tgt := 74) G dX1_aloneFalse_66 (by decide) (by have := bl_ind_le (∃ k1 m, m < k1 ∧ k1 < k ∧ ∀ p, p < n → bl_off z fm fc c (m + 1) p = bl_off z fm fc c (k1 + 1) p); omega) (fun h66 => ?_) (fun h66 => ?_)
          · have hnew : 1 = bl_ind (∃ k1 m, m < k1 ∧ k1 < k + 1 ∧ ∀ p, p < n → bl_off z fm fc c (m + 1) p = bl_off z fm fc c (k1 + 1) p) := (bl_ind_t (by
              obtain ⟨k1, m, h1, h2, h3⟩ := bl_ind_1.mp (show bl_ind (∃ k1 m, m < k1 ∧ k1 < k ∧ ∀ p, p < n → bl_off z fm fc c (m + 1) p = bl_off z fm fc c (k1 + 1) p) = 1 by have := bl_ind_le (∃ k1 m, m < k1 ∧ k1 < k ∧ ∀ p, p < n → bl_off z fm fc c (m + 1) p = bl_off z fm fc c (k1 + 1) p); omega)
              exact ⟨k1, m, h1, by omega, h3⟩)).symm
            refine jx_iconst (pc := 74) G dX1_aloneFalse_74 kc_1 ?_
            refine jx_goto (pc := 75) (tgt := 79) G dX1_aloneFalse_75 (by decide) ?_
            refine jx_istore_nV (pc := 79) G dX1_aloneFalse_79 rfl (by decide) (1) rfl [(0, .ref o), (1, .int (nI c)), (2, .int (nI 1)), (3, .int (nI (k + 1))), (4, .int (nI (78 * c + 6 * (k + 1)))), (5, .int (nI fr))] rfl ?_
            refine jx_iincV (pc := 80) G dX1_aloneFalse_80 kc_1 (by decide) 3 rfl (k + 1 + 1) rfl [(0, .ref o), (1, .int (nI c)), (2, .int (nI 1)), (3, .int (nI (k + 1 + 1))), (4, .int (nI (78 * c + 6 * (k + 1)))), (5, .int (nI fr))] rfl ?_
            refine jx_goto (pc := 83) (tgt := 8) G dX1_aloneFalse_83 (by decide) ?_
            exact jx_sub (lv' := [(0, .ref o), (1, .int (nI c)), (2, .int (nI 1)), (3, .int (nI (k + 1 + 1)))]) [0, 1, 2, 3] rfl (ih8 _ (by omega) (k + 1) 1 _ _ rfl (by omega) hnew (fun j hj => by by_cases e : j = bl_rk n fd2 n / 32; (rw [e, upN_eq]; exact bl_or_lt (hv _ (by omega)) (Nat.mod_lt _ (by decide))); (rw [upN_ne e]; exact hv j hj)) (bl_BS_put hB (fun r hr => ⟨fun ⟨m, hm, e⟩ => by by_cases em : m = k; (rw [em, ← hRk] at e; exact Or.inr e); exact Or.inl ⟨m, by omega, e⟩, fun hh => by rcases hh with ⟨m, hm, e⟩ | e; exact ⟨m, by omega, e⟩; exact ⟨k, by omega, by rw [e, hRk]⟩⟩)))
          · refine jx_iload (pc := 69) G dX1_aloneFalse_69 5 rfl ?_
            refine jx_if_ne (pc := 71) (tgt := 78) G dX1_aloneFalse_71 (by decide) (by omega) (fun h71 => ?_) (fun h71 => ?_)
            · have hnew : 0 = bl_ind (∃ k1 m, m < k1 ∧ k1 < k + 1 ∧ ∀ p, p < n → bl_off z fm fc c (m + 1) p = bl_off z fm fc c (k1 + 1) p) := (bl_ind_f (fun ⟨k1, m, h1, h2, h3⟩ => by
                by_cases e : k1 = k
                · rw [e] at h1 h3
                  have h9 := hbit.mpr ⟨m, h1, by rw [hRk]; exact bl_rk_congr (fun p hp => (h3 p hp).symm) n (Nat.le_refl n)⟩
                  omega
                · exact bl_ind_0.mp (show bl_ind (∃ k1 m, m < k1 ∧ k1 < k ∧ ∀ p, p < n → bl_off z fm fc c (m + 1) p = bl_off z fm fc c (k1 + 1) p) = 0 by omega) ⟨k1, m, h1, by omega, h3⟩)).symm
              refine jx_iconst (pc := 78) G dX1_aloneFalse_78 kc_0 ?_
              refine jx_istore_nV (pc := 79) G dX1_aloneFalse_79 rfl (by decide) (0) rfl [(0, .ref o), (1, .int (nI c)), (2, .int (nI 0)), (3, .int (nI (k + 1))), (4, .int (nI (78 * c + 6 * (k + 1)))), (5, .int (nI fr))] rfl ?_
              refine jx_iincV (pc := 80) G dX1_aloneFalse_80 kc_1 (by decide) 3 rfl (k + 1 + 1) rfl [(0, .ref o), (1, .int (nI c)), (2, .int (nI 0)), (3, .int (nI (k + 1 + 1))), (4, .int (nI (78 * c + 6 * (k + 1)))), (5, .int (nI fr))] rfl ?_
              refine jx_goto (pc := 83) (tgt := 8) G dX1_aloneFalse_83 (by decide) ?_
              exact jx_sub (lv' := [(0, .ref o), (1, .int (nI c)), (2, .int (nI 0)), (3, .int (nI (k + 1 + 1)))]) [0, 1, 2, 3] rfl (ih8 _ (by omega) (k + 1) 0 _ _ rfl (by omega) hnew (fun j hj => by by_cases e : j = bl_rk n fd2 n / 32; (rw [e, upN_eq]; exact bl_or_lt (hv _ (by omega)) (Nat.mod_lt _ (by decide))); (rw [upN_ne e]; exact hv j hj)) (bl_BS_put hB (fun r hr => ⟨fun ⟨m, hm, e⟩ => by by_cases em : m = k; (rw [em, ← hRk] at e; exact Or.inr e); exact Or.inl ⟨m, by omega, e⟩, fun hh => by rcases hh with ⟨m, hm, e⟩ | e; exact ⟨m, by omega, e⟩; exact ⟨k, by omega, by rw [e, hRk]⟩⟩)))
            · have hnew : 1 = bl_ind (∃ k1 m, m < k1 ∧ k1 < k + 1 ∧ ∀ p, p < n → bl_off z fm fc c (m + 1) p = bl_off z fm fc c (k1 + 1) p) := (bl_ind_t (by
                obtain ⟨m, hm, e⟩ := hbit.mp (by omega)
                rw [hRk] at e
                exact ⟨k, m, hm, by omega, fun p hp => (bl_rk_inj hn3 hn6 hPk (bl_off_PM hV hc (m + 1) (by omega)) e p hp).symm⟩)).symm
              refine jx_iconst (pc := 74) G dX1_aloneFalse_74 kc_1 ?_
              refine jx_goto (pc := 75) (tgt := 79) G dX1_aloneFalse_75 (by decide) ?_
              refine jx_istore_nV (pc := 79) G dX1_aloneFalse_79 rfl (by decide) (1) rfl [(0, .ref o), (1, .int (nI c)), (2, .int (nI 1)), (3, .int (nI (k + 1))), (4, .int (nI (78 * c + 6 * (k + 1)))), (5, .int (nI fr))] rfl ?_
              refine jx_iincV (pc := 80) G dX1_aloneFalse_80 kc_1 (by decide) 3 rfl (k + 1 + 1) rfl [(0, .ref o), (1, .int (nI c)), (2, .int (nI 1)), (3, .int (nI (k + 1 + 1))), (4, .int (nI (78 * c + 6 * (k + 1)))), (5, .int (nI fr))] rfl ?_
              refine jx_goto (pc := 83) (tgt := 8) G dX1_aloneFalse_83 (by decide) ?_
              exact jx_sub (lv' := [(0, .ref o), (1, .int (nI c)), (2, .int (nI 1)), (3, .int (nI (k + 1 + 1)))]) [0, 1, 2, 3] rfl (ih8 _ (by omega) (k + 1) 1 _ _ rfl (by omega) hnew (fun j hj => by by_cases e : j = bl_rk n fd2 n / 32; (rw [e, upN_eq]; exact bl_or_lt (hv _ (by omega)) (Nat.mod_lt _ (by decide))); (rw [upN_ne e]; exact hv j hj)) (bl_BS_put hB (fun r hr => ⟨fun ⟨m, hm, e⟩ => by by_cases em : m = k; (rw [em, ← hRk] at e; exact Or.inr e); exact Or.inl ⟨m, by omega, e⟩, fun hh => by rcases hh with ⟨m, hm, e⟩ | e; exact ⟨m, by omega, e⟩; exact ⟨k, by omega, by rw [e, hRk]⟩⟩)))
        · refine jx_aload_n (pc := 36) G dX1_aloneFalse_36 rfl 0 rfl ?_
          refine xg_made (pc := 37) G dX1_aloneFalse_37 ?_
          refine jx_iload (pc := 40) G dX1_aloneFalse_40 5 rfl ?_
          refine jx_aload_n (pc := 42) G dX1_aloneFalse_42 rfl 0 rfl ?_
          refine xg_offset (pc := 43) G dX1_aloneFalse_43 ?_
          refine jx_iload (pc := 46) G dX1_aloneFalse_46 4 rfl ?_
          refine jx_iload (pc := 48) G dX1_aloneFalse_48 5 rfl ?_
          refine jx_iadd (pc := 50) G dX1_aloneFalse_50 ?_
          refine xl_offset (pc := 51) G dX1_aloneFalse_51 (by omega) ?_
          rw [hO c hc (k + 1) (by omega) p (by omega)]
          refine xs_made (pc := 52) G dX1_aloneFalse_52 (by omega) (by have := (bl_off_PM hV hc (k + 1) (by omega)).1 p (by omega); omega) ?_
          refine jx_iincV (pc := 53) G dX1_aloneFalse_53 kc_1 (by decide) 5 rfl (p + 1) rfl [(0, .ref o), (1, .int (nI c)), (2, .int (nI tw)), (3, .int (nI (k + 1))), (4, .int (nI (78 * c + 6 * (k + 1)))), (5, .int (nI (p + 1)))] rfl ?_
          refine jx_goto (pc := 56) (tgt := 27) G dX1_aloneFalse_56 (by decide) ?_
          exact ih27 _ (by omega) (p + 1) _ rfl (by omega) (bl_F0_put hG rfl)
      exact lp27 _ 0 fd' rfl (by omega) (fun t h => absurd h (by omega))
  exact lp8 _ 0 0 ft0 fd rfl (by omega) ((bl_ind_f (fun ⟨k1, m, h1, h2, _⟩ => absurd h2 (by omega))).symm) (fun j hj => by rw [hf0 j hj]; decide) (bl_BS_iff (bl_BS_0 hf0) (fun r hr => ⟨fun ⟨m, hm, _⟩ => absurd hm (by omega), fun q => q.elim⟩))
set_option maxHeartbeats 4000000 in
theorem kX_pairFalse (hA : bl_AV n z fm fc ct fl) (hF : bl_FS n z fm fc ff) (hH : bl_HD n z fm fc ct fl fh) {i j c : Nat} (hi : i < ct) (hj : j ≤ ct) (hc : c < 3) : jx_Ki l D cb ci yX1_pairFalse wsX1_pairFalse rmX1_pairFalse 0 0 [.ref o, .int (nI i), .int (nI j), .int (nI c)] (XC cb ci o a n z fm fc ct fl kn fo fh ff ft fi fd) (fun r w' => r = nI (bl_ind (bl_sh n z fm fc fl i (fl i) j c)) ∧ ∃ fi' fd', w' = XC cb ci o a n z fm fc ct fl kn fo fh ff ft fi' fd') := by
  refine jx_Kz_of (by decide) (Nat.le_of_ble_eq_true rfl) [(0, .ref o), (1, .int (nI i)), (2, .int (nI j)), (3, .int (nI c))] rfl ?_
  intro x G E
  have hA0 := hA
  obtain ⟨⟨hn3, hn6⟩, ⟨hz1, hz2⟩, hct, hV, hfl⟩ := hA0
  have hPi := bl_hd_PM hV hfl i (by omega)
  have hPj := bl_hd_PM hV hfl j hj
  have hl3 := hfl i hi
  refine jx_iconst (pc := 0) G dX1_pairFalse_0 kc_0 ?_
  refine jx_istoreV (pc := 1) G dX1_pairFalse_1 (by decide) (0) rfl [(0, .ref o), (1, .int (nI i)), (2, .int (nI j)), (3, .int (nI c)), (4, .int (nI 0))] rfl ?_
  have lp3 : ∀ (d3 : Nat) (p : Nat) (fi' : Nat → Nat), n - p = d3 → (p ≤ n) → (∀ t, t < p → fi' (bl_hd z fm fc fl i t) = t) → jx_J x 0 0 (XC cb ci o a n z fm fc ct fl kn fo fh ff ft fi' fd) 3 [(0, .ref o), (1, .int (nI i)), (2, .int (nI j)), (3, .int (nI c)), (4, .int (nI p))] [] := by
    intro d3
    induction d3 using Nat.strongRecOn with
    | _ d3 ih3 =>
    intro p fi' hm3 hp hI
    refine jx_iload (pc := 3) G dX1_pairFalse_3 4 rfl ?_
    refine jx_aload_n (pc := 5) G dX1_pairFalse_5 rfl 0 rfl ?_
    refine xg_n (pc := 6) G dX1_pairFalse_6 ?_
    refine jx_icmp_ge (pc := 9) (tgt := 38) G dX1_pairFalse_9 (by decide) (by omega) (by omega) (fun h9 => ?_) (fun h9 => ?_)
    · have hI2 : ∀ t, t < n → fi' (bl_hd z fm fc fl i t) = t := fun t ht => hI t (by omega)
      have hIv : ∀ v, v < n → fi' v < n ∧ bl_hd z fm fc fl i (fi' v) = v := fun v hv => by
        obtain ⟨t, ht, e⟩ := hPi.2.2 v hv
        rw [← e, hI2 t ht]
        exact ⟨ht, rfl⟩
      refine jx_iconst (pc := 38) G dX1_pairFalse_38 kc_0 ?_
      refine jx_istoreV (pc := 39) G dX1_pairFalse_39 (by decide) (0) rfl [(0, .ref o), (1, .int (nI i)), (2, .int (nI j)), (3, .int (nI c)), (4, .int (nI 0))] rfl ?_
      have lp41 : ∀ (d41 : Nat) (p : Nat) (fd' : Nat → Nat), n - p = d41 → (p ≤ n) → (∀ t, t < p → fd' t = fi' (bl_hd z fm fc fl j t)) → jx_J x 0 0 (XC cb ci o a n z fm fc ct fl kn fo fh ff ft fi' fd') 41 [(0, .ref o), (1, .int (nI i)), (2, .int (nI j)), (3, .int (nI c)), (4, .int (nI p))] [] := by
        intro d41
        induction d41 using Nat.strongRecOn with
        | _ d41 ih41 =>
        intro p fd' hm41 hp2 hG
        refine jx_iload (pc := 41) G dX1_pairFalse_41 4 rfl ?_
        refine jx_aload_n (pc := 43) G dX1_pairFalse_43 rfl 0 rfl ?_
        refine xg_n (pc := 44) G dX1_pairFalse_44 ?_
        refine jx_icmp_ge (pc := 47) (tgt := 80) G dX1_pairFalse_47 (by decide) (by omega) (by omega) (fun h47 => ?_) (fun h47 => ?_)
        · have hg : ∀ t, t < n → fd' t < n ∧ bl_hd z fm fc fl i (fd' t) = bl_hd z fm fc fl j t := fun t ht => by
            rw [hG t (by omega)]
            exact hIv _ (hPj.1 t ht)
          have hPd := bl_PM_of2 hPi hPj hg
          have hR := (bl_rk_un hn3 hn6 hPd).2
          have hsh := bl_sh_iff hn3 hn6 hV hl3 hc hPi hPj hg
          have hbit := hF.2 (fl i) hl3 c hc (bl_rk n fd' n) (by omega)
          refine jx_aload_n (pc := 80) G dX1_pairFalse_80 rfl 0 rfl ?_
          refine xc_i0 (pc := 81) G (fun _ _ => kX_rankMade hn6 (fun p hp => by have := hPd.1 p hp; omega)) (cwX1_rankMade ⟨Nat.le_of_ble_eq_true rfl, Nat.le_of_ble_eq_true rfl⟩) (Nat.le_of_ble_eq_true rfl) dX1_pairFalse_81 (fun r w' hq => ?_)
          obtain ⟨rfl, rfl⟩ := hq
          refine jx_istoreV (pc := 84) G dX1_pairFalse_84 (by decide) (bl_rk n fd' n) rfl [(0, .ref o), (1, .int (nI i)), (2, .int (nI j)), (3, .int (nI c)), (4, .int (nI (bl_rk n fd' n)))] rfl ?_
          refine jx_aload_n (pc := 86) G dX1_pairFalse_86 rfl 0 rfl ?_
          refine xg_falseSet (pc := 87) G dX1_pairFalse_87 ?_
          refine jx_bipush (pc := 90) G dX1_pairFalse_90 kb_23 ?_
          refine jx_iconst (pc := 92) G dX1_pairFalse_92 kc_3 ?_
          refine jx_aload_n (pc := 93) G dX1_pairFalse_93 rfl 0 rfl ?_
          refine xg_calls (pc := 94) G dX1_pairFalse_94 ?_
          refine jx_iload_n (pc := 97) G dX1_pairFalse_97 rfl 1 rfl ?_
          refine xl_calls (pc := 98) G dX1_pairFalse_98 (by omega) ?_
          refine jx_imul (pc := 99) G dX1_pairFalse_99 ?_
          refine jx_iload_n (pc := 100) G dX1_pairFalse_100 rfl 3 rfl ?_
          refine jx_iadd (pc := 101) G dX1_pairFalse_101 ?_
          refine jx_imul (pc := 102) G dX1_pairFalse_102 ?_
          refine jx_iload (pc := 103) G dX1_pairFalse_103 4 rfl ?_
          refine jx_iconst (pc := 105) G dX1_pairFalse_105 kc_5 ?_
          refine jx_ishrR (pc := 106) G dX1_pairFalse_106 (nr_5 (by omega)) ?_
          refine jx_iadd (pc := 107) G dX1_pairFalse_107 ?_
          refine xl_falseSet (pc := 108) G dX1_pairFalse_108 (by omega) ?_
          refine jx_iload (pc := 109) G dX1_pairFalse_109 4 rfl ?_
          refine jx_bipush (pc := 111) G dX1_pairFalse_111 kb_31 ?_
          refine jx_iandR (pc := 113) G dX1_pairFalse_113 (na_31 (by omega)) ?_
          refine jx_ishrR (pc := 114) G dX1_pairFalse_114 rfl ?_
          refine jx_iconst (pc := 115) G dX1_pairFalse_115 kc_1 ?_
          refine jx_iandR (pc := 116) G dX1_pairFalse_116 (nr_bit (Nat.mod_lt _ (by decide))) ?_
          refine jx_iconst (pc := 117) G dX1_pairFalse_117 kc_1 ?_
          refine jx_icmp_ne (pc := 118) (tgt := 125) G dX1_pairFalse_118 (by decide) (Nat.lt_of_lt_of_le (Nat.mod_lt _ (by decide)) (by decide)) (by decide) (fun h118 => ?_) (fun h118 => ?_)
          · have e : 0 = bl_ind (bl_sh n z fm fc fl i (fl i) j c) := (bl_ind_f (fun q => h118 (hbit.mpr (hsh.mpr q)))).symm
            refine jx_iconst (pc := 125) G dX1_pairFalse_125 kc_0 ?_
            exact E _ _ 126 _ ⟨by rw [← e], fi', fd', rfl⟩ (by omega) dX1_pairFalse_126
          · have e : 1 = bl_ind (bl_sh n z fm fc fl i (fl i) j c) := (bl_ind_t (hsh.mp (hbit.mp h118))).symm
            refine jx_iconst (pc := 121) G dX1_pairFalse_121 kc_1 ?_
            refine jx_goto (pc := 122) (tgt := 126) G dX1_pairFalse_122 (by decide) ?_
            exact E _ _ 126 _ ⟨by rw [← e], fi', fd', rfl⟩ (by omega) dX1_pairFalse_126
        · refine jx_aload_n (pc := 50) G dX1_pairFalse_50 rfl 0 rfl ?_
          refine xg_made (pc := 51) G dX1_pairFalse_51 ?_
          refine jx_iload (pc := 54) G dX1_pairFalse_54 4 rfl ?_
          refine jx_aload_n (pc := 56) G dX1_pairFalse_56 rfl 0 rfl ?_
          refine xg_inverse (pc := 57) G dX1_pairFalse_57 ?_
          refine jx_aload_n (pc := 60) G dX1_pairFalse_60 rfl 0 rfl ?_
          refine xg_head (pc := 61) G dX1_pairFalse_61 ?_
          refine jx_bipush (pc := 64) G dX1_pairFalse_64 kb_6 ?_
          refine jx_iload_n (pc := 66) G dX1_pairFalse_66 rfl 2 rfl ?_
          refine jx_imul (pc := 67) G dX1_pairFalse_67 ?_
          refine jx_iload (pc := 68) G dX1_pairFalse_68 4 rfl ?_
          refine jx_iadd (pc := 70) G dX1_pairFalse_70 ?_
          refine xl_head (pc := 71) G dX1_pairFalse_71 (by omega) ?_
          rw [hH j (by omega) p (by omega)]
          have hjp := hPj.1 p (by omega)
          refine xl_inverse (pc := 72) G dX1_pairFalse_72 (by omega) ?_
          refine xs_made (pc := 73) G dX1_pairFalse_73 (by omega) (by have := (hIv _ hjp).1; omega) ?_
          refine jx_iincV (pc := 74) G dX1_pairFalse_74 kc_1 (by decide) 4 rfl (p + 1) rfl [(0, .ref o), (1, .int (nI i)), (2, .int (nI j)), (3, .int (nI c)), (4, .int (nI (p + 1)))] rfl ?_
          refine jx_goto (pc := 77) (tgt := 41) G dX1_pairFalse_77 (by decide) ?_
          exact ih41 _ (by omega) (p + 1) _ rfl (by omega) (bl_F0_put hG rfl)
      exact lp41 _ 0 fd rfl (by omega) (fun t h => absurd h (by omega))
    · refine jx_aload_n (pc := 12) G dX1_pairFalse_12 rfl 0 rfl ?_
      refine xg_inverse (pc := 13) G dX1_pairFalse_13 ?_
      refine jx_aload_n (pc := 16) G dX1_pairFalse_16 rfl 0 rfl ?_
      refine xg_head (pc := 17) G dX1_pairFalse_17 ?_
      refine jx_bipush (pc := 20) G dX1_pairFalse_20 kb_6 ?_
      refine jx_iload_n (pc := 22) G dX1_pairFalse_22 rfl 1 rfl ?_
      refine jx_imul (pc := 23) G dX1_pairFalse_23 ?_
      refine jx_iload (pc := 24) G dX1_pairFalse_24 4 rfl ?_
      refine jx_iadd (pc := 26) G dX1_pairFalse_26 ?_
      refine xl_head (pc := 27) G dX1_pairFalse_27 (by omega) ?_
      refine jx_iload (pc := 28) G dX1_pairFalse_28 4 rfl ?_
      refine jx_i2bR (pc := 30) G dX1_pairFalse_30 (nb_8 _ (by omega)) ?_
      rw [hH i (by omega) p (by omega)]
      refine xs_inverse (pc := 31) G dX1_pairFalse_31 (by have := hPi.1 p (by omega); omega) (by omega) ?_
      refine jx_iincV (pc := 32) G dX1_pairFalse_32 kc_1 (by decide) 4 rfl (p + 1) rfl [(0, .ref o), (1, .int (nI i)), (2, .int (nI j)), (3, .int (nI c)), (4, .int (nI (p + 1)))] rfl ?_
      refine jx_goto (pc := 35) (tgt := 3) G dX1_pairFalse_35 (by decide) ?_
      exact ih3 _ (by omega) (p + 1) _ rfl (by omega) (fun t ht => by by_cases e : t = p; (rw [e, upN_eq]); (rw [upN_ne (fun q => e (hPi.2.1 t p (by omega) (by omega) q))]; exact hI t (by omega)))
  exact lp3 _ 0 fi rfl (by omega) (fun t h => absurd h (by omega))
set_option maxHeartbeats 4000000 in
theorem kX_countFalse (hA : bl_AV n z fm fc ct fl) (hF : bl_FS n z fm fc ff) (hH : bl_HD n z fm fc ct fl fh) : jx_Ki l D cb ci yX1_countFalse wsX1_countFalse rmX1_countFalse 0 0 [.ref o] (XC cb ci o a n z fm fc ct fl kn fo fh ff ft fi fd) (fun r w' => r = nI (bl_cf n z fm fc ct fl) ∧ ∃ fi' fd', w' = XC cb ci o a n z fm fc ct fl kn fo fh ff ft fi' fd') := by
  refine jx_Ki_of (by decide) (Nat.le_of_ble_eq_true rfl) [(0, .ref o)] rfl ?_
  intro x G E
  have hA0 := hA
  obtain ⟨⟨hn3, hn6⟩, ⟨hz1, hz2⟩, hct, hV, hfl⟩ := hA0
  have hcc : ct * ct ≤ 400 := Nat.mul_le_mul hct hct
  refine jx_iconst (pc := 0) G dX1_countFalse_0 kc_0 ?_
  refine jx_istore_nV (pc := 1) G dX1_countFalse_1 rfl (by decide) (0) rfl [(0, .ref o), (1, .int (nI 0))] rfl ?_
  refine jx_iconst (pc := 2) G dX1_countFalse_2 kc_0 ?_
  refine jx_istore_nV (pc := 3) G dX1_countFalse_3 rfl (by decide) (0) rfl [(0, .ref o), (1, .int (nI 0)), (2, .int (nI 0))] rfl ?_
  have lp4 : ∀ (d4 : Nat) (q mn : Nat) (fi' fd' : Nat → Nat), ct * ct - q = d4 → (q ≤ ct * ct) → (mn = bl_sum (bl_cfq n z fm fc ct fl) q) → jx_J x 0 0 (XC cb ci o a n z fm fc ct fl kn fo fh ff ft fi' fd') 4 [(0, .ref o), (1, .int (nI mn)), (2, .int (nI q))] [] := by
    intro d4
    induction d4 using Nat.strongRecOn with
    | _ d4 ih4 =>
    intro q mn fi' fd' hm4 hq hm
    refine jx_iload_n (pc := 4) G dX1_countFalse_4 rfl 2 rfl ?_
    refine jx_aload_n (pc := 5) G dX1_countFalse_5 rfl 0 rfl ?_
    refine xg_count (pc := 6) G dX1_countFalse_6 ?_
    refine jx_aload_n (pc := 9) G dX1_countFalse_9 rfl 0 rfl ?_
    refine xg_count (pc := 10) G dX1_countFalse_10 ?_
    refine jx_imul (pc := 13) G dX1_countFalse_13 ?_
    refine jx_icmp_ge (pc := 14) (tgt := 73) G dX1_countFalse_14 (by decide) (by omega) (by omega) (fun h14 => ?_) (fun h14 => ?_)
    · refine jx_iload_n (pc := 73) G dX1_countFalse_73 rfl 1 rfl ?_
      exact E _ _ 74 _ ⟨by rw [hm, show q = ct * ct by omega]; rfl, fi', fd', rfl⟩ dX1_countFalse_74
    · have hc0 : 0 < ct := by
        rcases Nat.eq_zero_or_pos ct with e | e
        · rw [e] at h14
          omega
        · exact e
      have hqi : q / ct < ct := Nat.div_lt_of_lt_mul h14
      have hqj : q % ct < ct := Nat.mod_lt _ hc0
      refine jx_iload_n (pc := 17) G dX1_countFalse_17 rfl 2 rfl ?_
      refine jx_aload_n (pc := 18) G dX1_countFalse_18 rfl 0 rfl ?_
      refine xg_count (pc := 19) G dX1_countFalse_19 ?_
      refine jx_idiv (pc := 22) G dX1_countFalse_22 (by omega) (by omega) (by omega) ?_
      refine jx_istore_nV (pc := 23) G dX1_countFalse_23 rfl (by decide) (q / ct) rfl [(0, .ref o), (1, .int (nI mn)), (2, .int (nI q)), (3, .int (nI (q / ct)))] rfl ?_
      refine jx_iload_n (pc := 24) G dX1_countFalse_24 rfl 2 rfl ?_
      refine jx_aload_n (pc := 25) G dX1_countFalse_25 rfl 0 rfl ?_
      refine xg_count (pc := 26) G dX1_countFalse_26 ?_
      refine jx_irem (pc := 29) G dX1_countFalse_29 (by omega) (by omega) (by omega) ?_
      refine jx_istoreV (pc := 30) G dX1_countFalse_30 (by decide) (q % ct) rfl [(0, .ref o), (1, .int (nI mn)), (2, .int (nI q)), (3, .int (nI (q / ct))), (4, .int (nI (q % ct)))] rfl ?_
      refine jx_iload_n (pc := 32) G dX1_countFalse_32 rfl 3 rfl ?_
      refine jx_iload (pc := 33) G dX1_countFalse_33 4 rfl ?_
      refine jx_icmp_ge (pc := 35) (tgt := 67) G dX1_countFalse_35 (by decide) (by omega) (by omega) (fun h35 => ?_) (fun h35 => ?_)
      · have hnew : bl_cfq n z fm fc ct fl q = 0 := if_neg (by omega)
        refine jx_iincV (pc := 67) G dX1_countFalse_67 kc_1 (by decide) 2 rfl (q + 1) rfl [(0, .ref o), (1, .int (nI mn)), (2, .int (nI (q + 1))), (3, .int (nI (q / ct))), (4, .int (nI (q % ct)))] rfl ?_
        refine jx_goto (pc := 70) (tgt := 4) G dX1_countFalse_70 (by decide) ?_
        exact jx_sub (lv' := [(0, .ref o), (1, .int (nI mn)), (2, .int (nI (q + 1)))]) [0, 1, 2] rfl (ih4 _ (by omega) (q + 1) mn _ _ rfl (by omega) (by show mn = bl_sum (bl_cfq n z fm fc ct fl) q + bl_cfq n z fm fc ct fl q; rw [hnew]; omega))
      · have hnew0 : bl_cfq n z fm fc ct fl q = bl_ind (bl_sh n z fm fc fl (q / ct) (fl (q / ct)) (q % ct) (fl (q % ct))) := if_pos h35
        refine jx_aload_n (pc := 38) G dX1_countFalse_38 rfl 0 rfl ?_
        refine jx_iload_n (pc := 39) G dX1_countFalse_39 rfl 3 rfl ?_
        refine jx_iload (pc := 40) G dX1_countFalse_40 4 rfl ?_
        refine jx_aload_n (pc := 42) G dX1_countFalse_42 rfl 0 rfl ?_
        refine xg_calls (pc := 43) G dX1_countFalse_43 ?_
        refine jx_iload (pc := 46) G dX1_countFalse_46 4 rfl ?_
        refine xl_calls (pc := 48) G dX1_countFalse_48 (by omega) ?_
        refine xc_i3 (pc := 49) G (fun _ _ => kX_pairFalse hA hF hH hqi (by omega) (hfl _ hqj)) (cwX1_pairFalse ⟨Nat.le_of_ble_eq_true rfl, Nat.le_of_ble_eq_true rfl⟩) (Nat.le_of_ble_eq_true rfl) dX1_countFalse_49 (fun r w' hq => ?_)
        obtain ⟨rfl, fi2, fd2, rfl⟩ := hq
        refine jx_istore (pc := 52) G dX1_countFalse_52 (by decide) (fun v => [(0, .ref o), (1, .int (nI mn)), (2, .int (nI q)), (3, .int (nI (q / ct))), (4, .int (nI (q % ct))), (5, .int (nI v))]) (fun _ => rfl) (fun bad ebad => ?_)
        refine jx_iload (pc := 54) G dX1_countFalse_54 5 rfl ?_
        refine jx_if_eq (pc := 56) (tgt := 65) G dX1_countFalse_56 (by decide) (by have := bl_ind_le (bl_sh n z fm fc fl (q / ct) (fl (q / ct)) (q % ct) (fl (q % ct))); omega) (fun h56 => ?_) (fun h56 => ?_)
        · have hnew : bl_cfq n z fm fc ct fl q = 0 := by omega
          refine jx_iload_n (pc := 65) G dX1_countFalse_65 rfl 1 rfl ?_
          refine jx_istore_n (pc := 66) G dX1_countFalse_66 rfl (by decide) (fun v => [(0, .ref o), (1, .int (nI v)), (2, .int (nI q)), (3, .int (nI (q / ct))), (4, .int (nI (q % ct))), (5, .int (nI bad))]) (fun _ => rfl) (fun u1_66 eu1_66 => ?_)
          refine jx_iincV (pc := 67) G dX1_countFalse_67 kc_1 (by decide) 2 rfl (q + 1) rfl [(0, .ref o), (1, .int (nI u1_66)), (2, .int (nI (q + 1))), (3, .int (nI (q / ct))), (4, .int (nI (q % ct))), (5, .int (nI bad))] rfl ?_
          refine jx_goto (pc := 70) (tgt := 4) G dX1_countFalse_70 (by decide) ?_
          exact jx_sub (lv' := [(0, .ref o), (1, .int (nI u1_66)), (2, .int (nI (q + 1)))]) [0, 1, 2] rfl (ih4 _ (by omega) (q + 1) u1_66 _ _ rfl (by omega) (by show u1_66 = bl_sum (bl_cfq n z fm fc ct fl) q + bl_cfq n z fm fc ct fl q; rw [hnew]; omega))
        · have hnew : bl_cfq n z fm fc ct fl q = 1 := by
            have := bl_ind_le (bl_sh n z fm fc fl (q / ct) (fl (q / ct)) (q % ct) (fl (q % ct)))
            omega
          refine jx_iload_n (pc := 59) G dX1_countFalse_59 rfl 1 rfl ?_
          refine jx_iconst (pc := 60) G dX1_countFalse_60 kc_1 ?_
          refine jx_iadd (pc := 61) G dX1_countFalse_61 ?_
          refine jx_goto (pc := 62) (tgt := 66) G dX1_countFalse_62 (by decide) ?_
          refine jx_istore_n (pc := 66) G dX1_countFalse_66 rfl (by decide) (fun v => [(0, .ref o), (1, .int (nI v)), (2, .int (nI q)), (3, .int (nI (q / ct))), (4, .int (nI (q % ct))), (5, .int (nI bad))]) (fun _ => rfl) (fun u1_66 eu1_66 => ?_)
          refine jx_iincV (pc := 67) G dX1_countFalse_67 kc_1 (by decide) 2 rfl (q + 1) rfl [(0, .ref o), (1, .int (nI u1_66)), (2, .int (nI (q + 1))), (3, .int (nI (q / ct))), (4, .int (nI (q % ct))), (5, .int (nI bad))] rfl ?_
          refine jx_goto (pc := 70) (tgt := 4) G dX1_countFalse_70 (by decide) ?_
          exact jx_sub (lv' := [(0, .ref o), (1, .int (nI u1_66)), (2, .int (nI (q + 1)))]) [0, 1, 2] rfl (ih4 _ (by omega) (q + 1) u1_66 _ _ rfl (by omega) (by show u1_66 = bl_sum (bl_cfq n z fm fc ct fl) q + bl_cfq n z fm fc ct fl q; rw [hnew]; omega))
  exact lp4 _ 0 0 fi fd rfl (by omega) rfl
end XE
end
section
set_option maxRecDepth 100000
section XF
variable {l : Launch} {D : va_G} {cb ci : ClassId} {o : Nat} {a : Nat → Nat} {n z ct kn la : Nat} {fm fc fl fo fh ff ft fi fd fb fr gm gc gl : Nat → Nat}
set_option maxHeartbeats 4000000 in
theorem kX_allTrue (hA : bl_AV n z fm fc ct fl) (hO : bl_OF n z fm fc fo) (hF : bl_FS n z fm fc ff) (hH : bl_HD n z fm fc ct fl fh) : jx_Ki l D cb ci yX1_allTrue wsX1_allTrue rmX1_allTrue 0 0 [.ref o] (XC cb ci o a n z fm fc ct fl kn fo fh ff ft fi fd) (fun r w' => r = nI (bl_ind (bl_at n z fm fc ct fl)) ∧ ∃ ft' fi' fd', w' = XC cb ci o a n z fm fc ct fl kn fo fh ff ft' fi' fd') := by
  refine jx_Kz_of (by decide) (Nat.le_of_ble_eq_true rfl) [(0, .ref o)] rfl ?_
  intro x G E
  have hA0 := hA
  obtain ⟨⟨hn3, hn6⟩, ⟨hz1, hz2⟩, hct, hV, hfl⟩ := hA0
  have hcc : ct * ct ≤ 400 := Nat.mul_le_mul hct hct
  refine jx_iconst (pc := 0) G dX1_allTrue_0 kc_1 ?_
  refine jx_istore_nV (pc := 1) G dX1_allTrue_1 rfl (by decide) (1) rfl [(0, .ref o), (1, .int (nI 1))] rfl ?_
  refine jx_iconst (pc := 2) G dX1_allTrue_2 kc_0 ?_
  refine jx_istore_nV (pc := 3) G dX1_allTrue_3 rfl (by decide) (0) rfl [(0, .ref o), (1, .int (nI 1)), (2, .int (nI 0))] rfl ?_
  have lp4 : ∀ (d4 : Nat) (i g : Nat) (ft' fd' : Nat → Nat), ct - i = d4 → (i ≤ ct) → (g = bl_ind (∀ j, j < i → ¬ bl_al n z fm fc (fl j))) → jx_J x 0 0 (XC cb ci o a n z fm fc ct fl kn fo fh ff ft' fi fd') 4 [(0, .ref o), (1, .int (nI g)), (2, .int (nI i))] [] := by
    intro d4
    induction d4 using Nat.strongRecOn with
    | _ d4 ih4 =>
    intro i g ft' fd' hm4 hi hg
    refine jx_iload_n (pc := 4) G dX1_allTrue_4 rfl 2 rfl ?_
    refine jx_aload_n (pc := 5) G dX1_allTrue_5 rfl 0 rfl ?_
    refine xg_count (pc := 6) G dX1_allTrue_6 ?_
    refine jx_icmp_ge (pc := 9) (tgt := 43) G dX1_allTrue_9 (by decide) (by omega) (by omega) (fun h9 => ?_) (fun h9 => ?_)
    · have hgd : g = bl_ind (∀ j, j < ct → ¬ bl_al n z fm fc (fl j)) := by rw [hg, show i = ct by omega]
      refine jx_iload_n (pc := 43) G dX1_allTrue_43 rfl 1 rfl ?_
      refine jx_if_eq (pc := 44) (tgt := 54) G dX1_allTrue_44 (by decide) (by have := bl_ind_le (∀ j, j < ct → ¬ bl_al n z fm fc (fl j)); omega) (fun h44 => ?_) (fun h44 => ?_)
      · have hw : 1 = 0 ↔ bl_at n z fm fc ct fl := ⟨fun q => absurd q (by decide), fun q => absurd q.1 (bl_ind_0.mp (show bl_ind (∀ j, j < ct → ¬ bl_al n z fm fc (fl j)) = 0 by omega))⟩
        refine jx_iconst (pc := 54) G dX1_allTrue_54 kc_1 ?_
        refine jx_istore_nV (pc := 55) G dX1_allTrue_55 rfl (by decide) (1) rfl [(0, .ref o), (1, .int (nI g)), (2, .int (nI 1))] rfl ?_
        refine jx_iload_n (pc := 56) G dX1_allTrue_56 rfl 2 rfl ?_
        refine jx_if_ne (pc := 57) (tgt := 64) G dX1_allTrue_57 (by decide) (by omega) (fun h57 => ?_) (fun h57 => ?_)
        · have e : 0 = bl_ind (bl_at n z fm fc ct fl) := (bl_ind_f (fun q => h57 (hw.mpr q))).symm
          refine jx_iconst (pc := 64) G dX1_allTrue_64 kc_0 ?_
          exact E _ _ 65 _ ⟨by rw [← e], _, _, _, rfl⟩ (by omega) dX1_allTrue_65
        · have e : 1 = bl_ind (bl_at n z fm fc ct fl) := (bl_ind_t (hw.mp h57)).symm
          refine jx_iconst (pc := 60) G dX1_allTrue_60 kc_1 ?_
          refine jx_goto (pc := 61) (tgt := 65) G dX1_allTrue_61 (by decide) ?_
          exact E _ _ 65 _ ⟨by rw [← e], _, _, _, rfl⟩ (by omega) dX1_allTrue_65
      · have hga := bl_ind_1.mp (show bl_ind (∀ j, j < ct → ¬ bl_al n z fm fc (fl j)) = 1 by have := bl_ind_le (∀ j, j < ct → ¬ bl_al n z fm fc (fl j)); omega)
        refine jx_aload_n (pc := 47) G dX1_allTrue_47 rfl 0 rfl ?_
        refine xc_i0 (pc := 48) G (fun _ _ => kX_countFalse hA hF hH) (cwX1_countFalse ⟨Nat.le_of_ble_eq_true rfl, Nat.le_of_ble_eq_true rfl⟩) (Nat.le_of_ble_eq_true rfl) dX1_allTrue_48 (fun r w' hq => ?_)
        obtain ⟨rfl, fi2, fd2, rfl⟩ := hq
        have hw : bl_cf n z fm fc ct fl = 0 ↔ bl_at n z fm fc ct fl := ⟨fun q => ⟨hga, q⟩, fun q => q.2⟩
        have hcf := bl_cf_le n z fm fc ct fl
        refine jx_goto (pc := 51) (tgt := 55) G dX1_allTrue_51 (by decide) ?_
        refine jx_istore_nV (pc := 55) G dX1_allTrue_55 rfl (by decide) (bl_cf n z fm fc ct fl) rfl [(0, .ref o), (1, .int (nI g)), (2, .int (nI (bl_cf n z fm fc ct fl)))] rfl ?_
        refine jx_iload_n (pc := 56) G dX1_allTrue_56 rfl 2 rfl ?_
        refine jx_if_ne (pc := 57) (tgt := 64) G dX1_allTrue_57 (by decide) (by omega) (fun h57 => ?_) (fun h57 => ?_)
        · have e : 0 = bl_ind (bl_at n z fm fc ct fl) := (bl_ind_f (fun q => h57 (hw.mpr q))).symm
          refine jx_iconst (pc := 64) G dX1_allTrue_64 kc_0 ?_
          exact E _ _ 65 _ ⟨by rw [← e], _, _, _, rfl⟩ (by omega) dX1_allTrue_65
        · have e : 1 = bl_ind (bl_at n z fm fc ct fl) := (bl_ind_t (hw.mp h57)).symm
          refine jx_iconst (pc := 60) G dX1_allTrue_60 kc_1 ?_
          refine jx_goto (pc := 61) (tgt := 65) G dX1_allTrue_61 (by decide) ?_
          exact E _ _ 65 _ ⟨by rw [← e], _, _, _, rfl⟩ (by omega) dX1_allTrue_65
    · have hg1 := bl_ind_le (∀ j, j < i → ¬ bl_al n z fm fc (fl j))
      refine jx_iload_n (pc := 12) G dX1_allTrue_12 rfl 1 rfl ?_
      refine jx_if_eq (pc := 13) (tgt := 43) G dX1_allTrue_13 (by decide) (by omega) (fun h13 => ?_) (fun h13 => ?_)
      · have hgd : g = bl_ind (∀ j, j < ct → ¬ bl_al n z fm fc (fl j)) := by
          rw [h13, bl_ind_f]
          intro q
          exact bl_ind_0.mp (show bl_ind (∀ j, j < i → ¬ bl_al n z fm fc (fl j)) = 0 by omega) (fun j hj => q j (by omega))
        refine jx_iload_n (pc := 43) G dX1_allTrue_43 rfl 1 rfl ?_
        refine jx_if_eq (pc := 44) (tgt := 54) G dX1_allTrue_44 (by decide) (by have := bl_ind_le (∀ j, j < ct → ¬ bl_al n z fm fc (fl j)); omega) (fun h44 => ?_) (fun h44 => ?_)
        · have hw : 1 = 0 ↔ bl_at n z fm fc ct fl := ⟨fun q => absurd q (by decide), fun q => absurd q.1 (bl_ind_0.mp (show bl_ind (∀ j, j < ct → ¬ bl_al n z fm fc (fl j)) = 0 by omega))⟩
          refine jx_iconst (pc := 54) G dX1_allTrue_54 kc_1 ?_
          refine jx_istore_nV (pc := 55) G dX1_allTrue_55 rfl (by decide) (1) rfl [(0, .ref o), (1, .int (nI g)), (2, .int (nI 1))] rfl ?_
          refine jx_iload_n (pc := 56) G dX1_allTrue_56 rfl 2 rfl ?_
          refine jx_if_ne (pc := 57) (tgt := 64) G dX1_allTrue_57 (by decide) (by omega) (fun h57 => ?_) (fun h57 => ?_)
          · have e : 0 = bl_ind (bl_at n z fm fc ct fl) := (bl_ind_f (fun q => h57 (hw.mpr q))).symm
            refine jx_iconst (pc := 64) G dX1_allTrue_64 kc_0 ?_
            exact E _ _ 65 _ ⟨by rw [← e], _, _, _, rfl⟩ (by omega) dX1_allTrue_65
          · have e : 1 = bl_ind (bl_at n z fm fc ct fl) := (bl_ind_t (hw.mp h57)).symm
            refine jx_iconst (pc := 60) G dX1_allTrue_60 kc_1 ?_
            refine jx_goto (pc := 61) (tgt := 65) G dX1_allTrue_61 (by decide) ?_
            exact E _ _ 65 _ ⟨by rw [← e], _, _, _, rfl⟩ (by omega) dX1_allTrue_65
        · have hga := bl_ind_1.mp (show bl_ind (∀ j, j < ct → ¬ bl_al n z fm fc (fl j)) = 1 by have := bl_ind_le (∀ j, j < ct → ¬ bl_al n z fm fc (fl j)); omega)
          refine jx_aload_n (pc := 47) G dX1_allTrue_47 rfl 0 rfl ?_
          refine xc_i0 (pc := 48) G (fun _ _ => kX_countFalse hA hF hH) (cwX1_countFalse ⟨Nat.le_of_ble_eq_true rfl, Nat.le_of_ble_eq_true rfl⟩) (Nat.le_of_ble_eq_true rfl) dX1_allTrue_48 (fun r w' hq => ?_)
          obtain ⟨rfl, fi2, fd2, rfl⟩ := hq
          have hw : bl_cf n z fm fc ct fl = 0 ↔ bl_at n z fm fc ct fl := ⟨fun q => ⟨hga, q⟩, fun q => q.2⟩
          have hcf := bl_cf_le n z fm fc ct fl
          refine jx_goto (pc := 51) (tgt := 55) G dX1_allTrue_51 (by decide) ?_
          refine jx_istore_nV (pc := 55) G dX1_allTrue_55 rfl (by decide) (bl_cf n z fm fc ct fl) rfl [(0, .ref o), (1, .int (nI g)), (2, .int (nI (bl_cf n z fm fc ct fl)))] rfl ?_
          refine jx_iload_n (pc := 56) G dX1_allTrue_56 rfl 2 rfl ?_
          refine jx_if_ne (pc := 57) (tgt := 64) G dX1_allTrue_57 (by decide) (by omega) (fun h57 => ?_) (fun h57 => ?_)
          · have e : 0 = bl_ind (bl_at n z fm fc ct fl) := (bl_ind_f (fun q => h57 (hw.mpr q))).symm
            refine jx_iconst (pc := 64) G dX1_allTrue_64 kc_0 ?_
            exact E _ _ 65 _ ⟨by rw [← e], _, _, _, rfl⟩ (by omega) dX1_allTrue_65
          · have e : 1 = bl_ind (bl_at n z fm fc ct fl) := (bl_ind_t (hw.mp h57)).symm
            refine jx_iconst (pc := 60) G dX1_allTrue_60 kc_1 ?_
            refine jx_goto (pc := 61) (tgt := 65) G dX1_allTrue_61 (by decide) ?_
            exact E _ _ 65 _ ⟨by rw [← e], _, _, _, rfl⟩ (by omega) dX1_allTrue_65
      · have hall := bl_ind_1.mp (show bl_ind (∀ j, j < i → ¬ bl_al n z fm fc (fl j)) = 1 by omega)
        refine jx_aload_n (pc := 16) G dX1_allTrue_16 rfl 0 rfl ?_
        refine jx_aload_n (pc := 17) G dX1_allTrue_17 rfl 0 rfl ?_
        refine xg_calls (pc := 18) G dX1_allTrue_18 ?_
        refine jx_iload_n (pc := 21) G dX1_allTrue_21 rfl 2 rfl ?_
        refine xl_calls (pc := 22) G dX1_allTrue_22 (by omega) ?_
        refine xc_i1 (pc := 23) G (fun _ _ => kX_aloneFalse hA hO (hfl i (by omega))) (cwX1_aloneFalse ⟨Nat.le_of_ble_eq_true rfl, Nat.le_of_ble_eq_true rfl⟩) (Nat.le_of_ble_eq_true rfl) dX1_allTrue_23 (fun r w' hq => ?_)
        obtain ⟨rfl, ft2, fd2, rfl⟩ := hq
        refine jx_istore_nV (pc := 26) G dX1_allTrue_26 rfl (by decide) (bl_ind (bl_al n z fm fc (fl i))) rfl [(0, .ref o), (1, .int (nI g)), (2, .int (nI i)), (3, .int (nI (bl_ind (bl_al n z fm fc (fl i)))))] rfl ?_
        refine jx_iload_n (pc := 27) G dX1_allTrue_27 rfl 3 rfl ?_
        refine jx_if_ne (pc := 28) (tgt := 35) G dX1_allTrue_28 (by decide) (Nat.lt_of_le_of_lt (bl_ind_le _) (by decide)) (fun h28 => ?_) (fun h28 => ?_)
        · have hnew : 0 = bl_ind (∀ j, j < i + 1 → ¬ bl_al n z fm fc (fl j)) := (bl_ind_f (fun q => q i (by omega) (Classical.byContradiction (fun q2 => h28 (bl_ind_f q2))))).symm
          refine jx_iconst (pc := 35) G dX1_allTrue_35 kc_0 ?_
          refine jx_istore_nV (pc := 36) G dX1_allTrue_36 rfl (by decide) (0) rfl [(0, .ref o), (1, .int (nI 0)), (2, .int (nI i)), (3, .int (nI (bl_ind (bl_al n z fm fc (fl i)))))] rfl ?_
          refine jx_iincV (pc := 37) G dX1_allTrue_37 kc_1 (by decide) 2 rfl (i + 1) rfl [(0, .ref o), (1, .int (nI 0)), (2, .int (nI (i + 1))), (3, .int (nI (bl_ind (bl_al n z fm fc (fl i)))))] rfl ?_
          refine jx_goto (pc := 40) (tgt := 4) G dX1_allTrue_40 (by decide) ?_
          exact jx_sub (lv' := [(0, .ref o), (1, .int (nI 0)), (2, .int (nI (i + 1)))]) [0, 1, 2] rfl (ih4 _ (by omega) (i + 1) 0 _ _ rfl (by omega) hnew)
        · have hnew : 1 = bl_ind (∀ j, j < i + 1 → ¬ bl_al n z fm fc (fl j)) := (bl_ind_t (fun j hj => by by_cases e : j = i; (rw [e]; exact bl_ind_0.mp h28); exact hall j (by omega))).symm
          refine jx_iconst (pc := 31) G dX1_allTrue_31 kc_1 ?_
          refine jx_goto (pc := 32) (tgt := 36) G dX1_allTrue_32 (by decide) ?_
          refine jx_istore_nV (pc := 36) G dX1_allTrue_36 rfl (by decide) (1) rfl [(0, .ref o), (1, .int (nI 1)), (2, .int (nI i)), (3, .int (nI (bl_ind (bl_al n z fm fc (fl i)))))] rfl ?_
          refine jx_iincV (pc := 37) G dX1_allTrue_37 kc_1 (by decide) 2 rfl (i + 1) rfl [(0, .ref o), (1, .int (nI 1)), (2, .int (nI (i + 1))), (3, .int (nI (bl_ind (bl_al n z fm fc (fl i)))))] rfl ?_
          refine jx_goto (pc := 40) (tgt := 4) G dX1_allTrue_40 (by decide) ?_
          exact jx_sub (lv' := [(0, .ref o), (1, .int (nI 1)), (2, .int (nI (i + 1)))]) [0, 1, 2] rfl (ih4 _ (by omega) (i + 1) 1 _ _ rfl (by omega) hnew)
  exact lp4 _ 0 1 ft fd rfl (by omega) ((bl_ind_t (fun j h => absurd h (by omega))).symm)
set_option maxHeartbeats 4000000 in
theorem kX_isTrue (hA : bl_AV n z fm fc ct fl) (h1 : kn ≤ 1) (hk : kn = 1 → bl_OF n z fm fc fo ∧ bl_FS n z fm fc ff) : jx_Ki l D cb ci yX1_isTrue wsX1_isTrue rmX1_isTrue 0 0 [.ref o] (XC cb ci o a n z fm fc ct fl kn fo fh ff ft fi fd) (fun r w' => r = nI (bl_ind (bl_at n z fm fc ct fl)) ∧ bl_XI cb ci o a n z fm fc ct fl w') := by
  refine jx_Ki_of (by decide) (Nat.le_of_ble_eq_true rfl) [(0, .ref o)] rfl ?_
  intro x G E
  refine jx_aload_n (pc := 0) G dX1_isTrue_0 rfl 0 rfl ?_
  refine xc_v0 (pc := 1) G (fun _ _ => kX_findHeads hA h1 hk) (cwX1_findHeads ⟨Nat.le_of_ble_eq_true rfl, Nat.le_of_ble_eq_true rfl⟩) (Nat.le_of_ble_eq_true rfl) dX1_isTrue_1 (fun w' hq => ?_)
  obtain ⟨fo', fh', ff', fd', hO, hF, hH, rfl⟩ := hq
  refine jx_aload_n (pc := 4) G dX1_isTrue_4 rfl 0 rfl ?_
  refine xc_i0 (pc := 5) G (fun _ _ => kX_allTrue hA hO hF hH) (cwX1_allTrue ⟨Nat.le_of_ble_eq_true rfl, Nat.le_of_ble_eq_true rfl⟩) (Nat.le_of_ble_eq_true rfl) dX1_isTrue_5 (fun r w' hq => ?_)
  obtain ⟨rfl, ft2, fi2, fd2, rfl⟩ := hq
  refine jx_istore_nV (pc := 8) G dX1_isTrue_8 rfl (by decide) (bl_ind (bl_at n z fm fc ct fl)) rfl [(0, .ref o), (1, .int (nI (bl_ind (bl_at n z fm fc ct fl))))] rfl ?_
  refine jx_iload_n (pc := 9) G dX1_isTrue_9 rfl 1 rfl ?_
  refine jx_if_eq (pc := 10) (tgt := 17) G dX1_isTrue_10 (by decide) (Nat.lt_of_le_of_lt (bl_ind_le _) (by decide)) (fun h10 => ?_) (fun h10 => ?_)
  · have e1 := h10
    refine jx_iconst (pc := 17) G dX1_isTrue_17 kc_0 ?_
    exact E _ _ 18 _ ⟨by rw [e1], ⟨_, _, _, _, _, _, _, rfl, by omega, fun _ => ⟨hO, hF⟩⟩⟩ dX1_isTrue_18
  · have e1 : bl_ind (bl_at n z fm fc ct fl) = 1 := by
      have := bl_ind_le (bl_at n z fm fc ct fl)
      omega
    refine jx_iconst (pc := 13) G dX1_isTrue_13 kc_1 ?_
    refine jx_goto (pc := 14) (tgt := 18) G dX1_isTrue_14 (by decide) ?_
    exact E _ _ 18 _ ⟨by rw [e1], ⟨_, _, _, _, _, _, _, rfl, by omega, fun _ => ⟨hO, hF⟩⟩⟩ dX1_isTrue_18
set_option maxHeartbeats 4000000 in
theorem kX_different (hA : bl_AV n z fm fc ct fl) (h1 : kn ≤ 1) (hk : kn = 1 → bl_OF n z fm fc fo ∧ bl_FS n z fm fc ff) : jx_Ki l D cb ci yX1_different wsX1_different rmX1_different 0 0 [.ref o] (XC cb ci o a n z fm fc ct fl kn fo fh ff ft fi fd) (fun r w' => r = nI (bl_df n (bl_row z fm fc fl) (ct * z)) ∧ bl_XI cb ci o a n z fm fc ct fl w') := by
  refine jx_Ki_of (by decide) (Nat.le_of_ble_eq_true rfl) [(0, .ref o)] rfl ?_
  intro x G E
  have hA0 := hA
  obtain ⟨⟨hn3, hn6⟩, ⟨hz1, hz2⟩, hct, hV, hfl⟩ := hA0
  have hcz := bl_ctz hct hz2
  refine jx_aload_n (pc := 0) G dX1_different_0 rfl 0 rfl ?_
  refine xc_v0 (pc := 1) G (fun _ _ => kX_findHeads hA h1 hk) (cwX1_findHeads ⟨Nat.le_of_ble_eq_true rfl, Nat.le_of_ble_eq_true rfl⟩) (Nat.le_of_ble_eq_true rfl) dX1_different_1 (fun w' hq => ?_)
  obtain ⟨fo', fh', ff', fd', hO, hF, hH, rfl⟩ := hq
  refine jx_aload_n (pc := 4) G dX1_different_4 rfl 0 rfl ?_
  refine xc_v0 (pc := 5) G (fun _ _ => kX_clearMet) (cwX1_clearMet ⟨Nat.le_of_ble_eq_true rfl, Nat.le_of_ble_eq_true rfl⟩) (Nat.le_of_ble_eq_true rfl) dX1_different_5 (fun w' hq => ?_)
  obtain ⟨ft0, hf0, rfl⟩ := hq
  refine jx_iconst (pc := 8) G dX1_different_8 kc_0 ?_
  refine jx_istore_nV (pc := 9) G dX1_different_9 rfl (by decide) (0) rfl [(0, .ref o), (1, .int (nI 0))] rfl ?_
  refine jx_iconst (pc := 10) G dX1_different_10 kc_1 ?_
  refine jx_istore_nV (pc := 11) G dX1_different_11 rfl (by decide) (0 + 1) rfl [(0, .ref o), (1, .int (nI 0)), (2, .int (nI (0 + 1)))] rfl ?_
  have lp12 : ∀ (d12 : Nat) (k mn : Nat) (ft' fd2 : Nat → Nat), ct * z - k = d12 → (k ≤ ct * z) → (mn = bl_df n (bl_row z fm fc fl) k) → (∀ j, j < 23 → ft' j < 2 ^ 32) → (bl_BS ft' (fun r => ∃ m, m < k ∧ r = bl_rk n (bl_row z fm fc fl (m + 1)) n)) → jx_J x 0 0 (XC cb ci o a n z fm fc ct fl 1 fo' fh' ff' ft' fi fd2) 12 [(0, .ref o), (1, .int (nI mn)), (2, .int (nI (k + 1)))] [] := by
    intro d12
    induction d12 using Nat.strongRecOn with
    | _ d12 ih12 =>
    intro k mn ft' fd2 hm12 hk2 hm hv hB
    refine jx_iload_n (pc := 12) G dX1_different_12 rfl 2 rfl ?_
    refine jx_aload_n (pc := 13) G dX1_different_13 rfl 0 rfl ?_
    refine xg_count (pc := 14) G dX1_different_14 ?_
    refine jx_aload_n (pc := 17) G dX1_different_17 rfl 0 rfl ?_
    refine xg_size (pc := 18) G dX1_different_18 ?_
    refine jx_imul (pc := 21) G dX1_different_21 ?_
    refine jx_icmp_gt (pc := 22) (tgt := 81) G dX1_different_22 (by decide) (by omega) (by omega) (fun h22 => ?_) (fun h22 => ?_)
    · refine jx_iload_n (pc := 81) G dX1_different_81 rfl 1 rfl ?_
      exact E _ _ 82 _ ⟨by rw [hm, show k = ct * z by omega], ⟨_, _, _, _, _, _, _, rfl, by omega, fun _ => ⟨hO, hF⟩⟩⟩ dX1_different_82
    · refine jx_iconst (pc := 25) G dX1_different_25 kc_0 ?_
      refine jx_istore_nV (pc := 26) G dX1_different_26 rfl (by decide) (0) rfl [(0, .ref o), (1, .int (nI mn)), (2, .int (nI (k + 1))), (3, .int (nI 0))] rfl ?_
      have lp27 : ∀ (d27 : Nat) (p : Nat) (fd3 : Nat → Nat), n - p = d27 → (p ≤ n) → (∀ t, t < p → fd3 t = bl_row z fm fc fl (k + 1) t) → jx_J x 0 0 (XC cb ci o a n z fm fc ct fl 1 fo' fh' ff' ft' fi fd3) 27 [(0, .ref o), (1, .int (nI mn)), (2, .int (nI (k + 1))), (3, .int (nI p))] [] := by
        intro d27
        induction d27 using Nat.strongRecOn with
        | _ d27 ih27 =>
        intro p fd3 hm27 hp hG
        refine jx_iload_n (pc := 27) G dX1_different_27 rfl 3 rfl ?_
        refine jx_aload_n (pc := 28) G dX1_different_28 rfl 0 rfl ?_
        refine xg_n (pc := 29) G dX1_different_29 ?_
        refine jx_icmp_ge (pc := 32) (tgt := 58) G dX1_different_32 (by decide) (by omega) (by omega) (fun h32 => ?_) (fun h32 => ?_)
        · have hPk := bl_row_PM hA (k := k + 1) (by omega)
          have hG2 : ∀ t, t < n → fd3 t = bl_row z fm fc fl (k + 1) t := fun t ht => hG t (by omega)
          have hPd := bl_PM_congr hG2 hPk
          have hRk : bl_rk n fd3 n = bl_rk n (bl_row z fm fc fl (k + 1)) n := bl_rk_congr hG2 n (Nat.le_refl n)
          have hR := (bl_rk_un hn3 hn6 hPd).2
          have hbit := hB (bl_rk n fd3 n) (by omega)
          have hb2 := bl_bit_lt (ft' (bl_rk n fd3 n / 32)) (bl_rk n fd3 n % 32)
          refine jx_aload_n (pc := 58) G dX1_different_58 rfl 0 rfl ?_
          refine xc_i0 (pc := 59) G (fun _ _ => kX_meetMade hn3 hn6 hPd hv) (cwX1_meetMade ⟨Nat.le_of_ble_eq_true rfl, Nat.le_of_ble_eq_true rfl⟩) (Nat.le_of_ble_eq_true rfl) dX1_different_59 (fun r w' hq => ?_)
          obtain ⟨rfl, rfl⟩ := hq
          refine jx_istore_n (pc := 62) G dX1_different_62 rfl (by decide) (fun v => [(0, .ref o), (1, .int (nI mn)), (2, .int (nI (k + 1))), (3, .int (nI v))]) (fun _ => rfl) (fun fr efr => ?_)
          refine jx_iload_n (pc := 63) G dX1_different_63 rfl 3 rfl ?_
          refine jx_if_eq (pc := 64) (tgt := 73) G dX1_different_64 (by decide) (by omega) (fun h64 => ?_) (fun h64 => ?_)
          · have hnew : bl_ind (bl_new n (bl_row z fm fc fl) k) = 0 := bl_ind_f (fun q => by
              obtain ⟨m, hm, e⟩ := hbit.mp (by omega)
              rw [hRk] at e
              exact q m hm (bl_rk_inj hn3 hn6 (bl_row_PM hA (k := m + 1) (by omega)) hPk e.symm))
            refine jx_iload_n (pc := 73) G dX1_different_73 rfl 1 rfl ?_
            refine jx_istore_n (pc := 74) G dX1_different_74 rfl (by decide) (fun v => [(0, .ref o), (1, .int (nI v)), (2, .int (nI (k + 1))), (3, .int (nI fr))]) (fun _ => rfl) (fun u1_74 eu1_74 => ?_)
            refine jx_iincV (pc := 75) G dX1_different_75 kc_1 (by decide) 2 rfl (k + 1 + 1) rfl [(0, .ref o), (1, .int (nI u1_74)), (2, .int (nI (k + 1 + 1))), (3, .int (nI fr))] rfl ?_
            refine jx_goto (pc := 78) (tgt := 12) G dX1_different_78 (by decide) ?_
            exact jx_sub (lv' := [(0, .ref o), (1, .int (nI u1_74)), (2, .int (nI (k + 1 + 1)))]) [0, 1, 2] rfl (ih12 _ (by omega) (k + 1) u1_74 _ _ rfl (by omega) (by show u1_74 = bl_df n (bl_row z fm fc fl) k + bl_ind (bl_new n (bl_row z fm fc fl) k); rw [hnew]; omega) (fun j hj => by by_cases e : j = bl_rk n fd3 n / 32; (rw [e, upN_eq]; exact bl_or_lt (hv _ (by omega)) (Nat.mod_lt _ (by decide))); (rw [upN_ne e]; exact hv j hj)) (bl_BS_put hB (fun r hr => ⟨fun ⟨m, hm, e⟩ => by by_cases em : m = k; (rw [em, ← hRk] at e; exact Or.inr e); exact Or.inl ⟨m, by omega, e⟩, fun hh => by rcases hh with ⟨m, hm, e⟩ | e; exact ⟨m, by omega, e⟩; exact ⟨k, by omega, by rw [e, hRk]⟩⟩)))
          · have hnew : bl_ind (bl_new n (bl_row z fm fc fl) k) = 1 := bl_ind_t (fun m hm e => by
              have h9 := hbit.mpr ⟨m, hm, by rw [hRk]; exact bl_rk_congr (fun p hp => (e p hp).symm) n (Nat.le_refl n)⟩
              omega)
            refine jx_iload_n (pc := 67) G dX1_different_67 rfl 1 rfl ?_
            refine jx_iconst (pc := 68) G dX1_different_68 kc_1 ?_
            refine jx_iadd (pc := 69) G dX1_different_69 ?_
            refine jx_goto (pc := 70) (tgt := 74) G dX1_different_70 (by decide) ?_
            refine jx_istore_n (pc := 74) G dX1_different_74 rfl (by decide) (fun v => [(0, .ref o), (1, .int (nI v)), (2, .int (nI (k + 1))), (3, .int (nI fr))]) (fun _ => rfl) (fun u1_74 eu1_74 => ?_)
            refine jx_iincV (pc := 75) G dX1_different_75 kc_1 (by decide) 2 rfl (k + 1 + 1) rfl [(0, .ref o), (1, .int (nI u1_74)), (2, .int (nI (k + 1 + 1))), (3, .int (nI fr))] rfl ?_
            refine jx_goto (pc := 78) (tgt := 12) G dX1_different_78 (by decide) ?_
            exact jx_sub (lv' := [(0, .ref o), (1, .int (nI u1_74)), (2, .int (nI (k + 1 + 1)))]) [0, 1, 2] rfl (ih12 _ (by omega) (k + 1) u1_74 _ _ rfl (by omega) (by show u1_74 = bl_df n (bl_row z fm fc fl) k + bl_ind (bl_new n (bl_row z fm fc fl) k); rw [hnew]; omega) (fun j hj => by by_cases e : j = bl_rk n fd3 n / 32; (rw [e, upN_eq]; exact bl_or_lt (hv _ (by omega)) (Nat.mod_lt _ (by decide))); (rw [upN_ne e]; exact hv j hj)) (bl_BS_put hB (fun r hr => ⟨fun ⟨m, hm, e⟩ => by by_cases em : m = k; (rw [em, ← hRk] at e; exact Or.inr e); exact Or.inl ⟨m, by omega, e⟩, fun hh => by rcases hh with ⟨m, hm, e⟩ | e; exact ⟨m, by omega, e⟩; exact ⟨k, by omega, by rw [e, hRk]⟩⟩)))
        · refine jx_aload_n (pc := 35) G dX1_different_35 rfl 0 rfl ?_
          refine jx_iload_n (pc := 36) G dX1_different_36 rfl 2 rfl ?_
          refine jx_iload_n (pc := 37) G dX1_different_37 rfl 3 rfl ?_
          refine xc_i2 (pc := 38) G (fun _ _ => kX_bellAt hA hO hH (by omega) (by omega)) (cwX1_bellAt ⟨Nat.le_of_ble_eq_true rfl, Nat.le_of_ble_eq_true rfl⟩) (Nat.le_of_ble_eq_true rfl) dX1_different_38 (fun r w' hq => ?_)
          obtain ⟨rfl, rfl⟩ := hq
          refine jx_istoreV (pc := 41) G dX1_different_41 (by decide) (bl_row z fm fc fl (k + 1) p) rfl [(0, .ref o), (1, .int (nI mn)), (2, .int (nI (k + 1))), (3, .int (nI p)), (4, .int (nI (bl_row z fm fc fl (k + 1) p)))] rfl ?_
          refine jx_aload_n (pc := 43) G dX1_different_43 rfl 0 rfl ?_
          refine xg_made (pc := 44) G dX1_different_44 ?_
          refine jx_iload_n (pc := 47) G dX1_different_47 rfl 3 rfl ?_
          refine jx_iload (pc := 48) G dX1_different_48 4 rfl ?_
          refine jx_i2bR (pc := 50) G dX1_different_50 (nb_8 _ (by have := (bl_row_PM hA (k := k + 1) (by omega)).1 p (by omega); omega)) ?_
          refine xs_made (pc := 51) G dX1_different_51 (by omega) (by have := (bl_row_PM hA (k := k + 1) (by omega)).1 p (by omega); omega) ?_
          refine jx_iincV (pc := 52) G dX1_different_52 kc_1 (by decide) 3 rfl (p + 1) rfl [(0, .ref o), (1, .int (nI mn)), (2, .int (nI (k + 1))), (3, .int (nI (p + 1))), (4, .int (nI (bl_row z fm fc fl (k + 1) p)))] rfl ?_
          refine jx_goto (pc := 55) (tgt := 27) G dX1_different_55 (by decide) ?_
          exact jx_sub (lv' := [(0, .ref o), (1, .int (nI mn)), (2, .int (nI (k + 1))), (3, .int (nI (p + 1)))]) [0, 1, 2, 3] rfl (ih27 _ (by omega) (p + 1) _ rfl (by omega) (bl_F0_put hG rfl))
      exact lp27 _ 0 fd2 rfl (by omega) (fun t h => absurd h (by omega))
  exact lp12 _ 0 0 ft0 fd' rfl (by omega) rfl (fun j hj => by rw [hf0 j hj]; decide) (bl_BS_iff (bl_BS_0 hf0) (fun r hr => ⟨fun ⟨m, hm, _⟩ => absurd hm (by omega), fun q => q.elim⟩))
set_option maxHeartbeats 4000000 in
theorem kX_falsePairs (hA : bl_AV n z fm fc ct fl) (h1 : kn ≤ 1) (hk : kn = 1 → bl_OF n z fm fc fo ∧ bl_FS n z fm fc ff) : jx_Ki l D cb ci yX1_falsePairs wsX1_falsePairs rmX1_falsePairs 0 0 [.ref o] (XC cb ci o a n z fm fc ct fl kn fo fh ff ft fi fd) (fun r w' => r = nI (bl_cf n z fm fc ct fl) ∧ bl_XI cb ci o a n z fm fc ct fl w') := by
  refine jx_Ki_of (by decide) (Nat.le_of_ble_eq_true rfl) [(0, .ref o)] rfl ?_
  intro x G E
  refine jx_aload_n (pc := 0) G dX1_falsePairs_0 rfl 0 rfl ?_
  refine xc_v0 (pc := 1) G (fun _ _ => kX_findHeads hA h1 hk) (cwX1_findHeads ⟨Nat.le_of_ble_eq_true rfl, Nat.le_of_ble_eq_true rfl⟩) (Nat.le_of_ble_eq_true rfl) dX1_falsePairs_1 (fun w' hq => ?_)
  obtain ⟨fo', fh', ff', fd', hO, hF, hH, rfl⟩ := hq
  refine jx_aload_n (pc := 4) G dX1_falsePairs_4 rfl 0 rfl ?_
  refine xc_i0 (pc := 5) G (fun _ _ => kX_countFalse hA hF hH) (cwX1_countFalse ⟨Nat.le_of_ble_eq_true rfl, Nat.le_of_ble_eq_true rfl⟩) (Nat.le_of_ble_eq_true rfl) dX1_falsePairs_5 (fun r w' hq => ?_)
  obtain ⟨rfl, fi2, fd2, rfl⟩ := hq
  exact E _ _ 8 _ ⟨rfl, ⟨_, _, _, _, _, _, _, rfl, by omega, fun _ => ⟨hO, hF⟩⟩⟩ dX1_falsePairs_8
set_option maxHeartbeats 4000000 in
theorem kX_falseAlone_bad {y : Int32} (hy : ¬ bl_in 3 y) : jx_Ki l D cb ci yX1_falseAlone wsX1_falseAlone rmX1_falseAlone 0 0 [.ref o, .int y] (XC cb ci o a n z fm fc ct fl kn fo fh ff ft fi fd) (fun r w' => r = -1 ∧ w' = XC cb ci o a n z fm fc ct fl kn fo fh ff ft fi fd) := by
  refine jx_Ki_of (by decide) (Nat.le_of_ble_eq_true rfl) [(0, .ref o), (1, .int y)] rfl ?_
  intro x G E
  refine jx_aload_n (pc := 0) G dX1_falseAlone_0 rfl 0 rfl ?_
  refine jx_iload_n (pc := 1) G dX1_falseAlone_1 rfl 1 rfl ?_
  refine xc_i1 (pc := 2) G (fun _ _ => kX_badCall y) (cwX1_badCall ⟨Nat.le_of_ble_eq_true rfl, Nat.le_of_ble_eq_true rfl⟩) (Nat.le_of_ble_eq_true rfl) dX1_falseAlone_2 (fun r w' hq => ?_)
  obtain ⟨rfl, rfl⟩ := hq
  rw [bl_ind_t hy]
  refine jx_if_eq (pc := 5) (tgt := 10) G dX1_falseAlone_5 (by decide) (by omega) (fun h5 => ?_) (fun h5 => ?_)
  · exact absurd h5 (by decide)
  · refine jx_iconst (pc := 8) G dX1_falseAlone_8 kc_m1 ?_
    exact E _ _ 9 _ ⟨rfl, rfl⟩ dX1_falseAlone_9
set_option maxHeartbeats 4000000 in
theorem kX_falseAlone_ok (hA : bl_AV n z fm fc ct fl) (h1 : kn ≤ 1) (hk : kn = 1 → bl_OF n z fm fc fo ∧ bl_FS n z fm fc ff) {c : Nat} (hc : c < 3) : jx_Ki l D cb ci yX1_falseAlone wsX1_falseAlone rmX1_falseAlone 0 0 [.ref o, .int (nI c)] (XC cb ci o a n z fm fc ct fl kn fo fh ff ft fi fd) (fun r w' => r = nI (bl_ind (bl_al n z fm fc c)) ∧ bl_XI cb ci o a n z fm fc ct fl w') := by
  refine jx_Ki_of (by decide) (Nat.le_of_ble_eq_true rfl) [(0, .ref o), (1, .int (nI c))] rfl ?_
  intro x G E
  refine jx_aload_n (pc := 0) G dX1_falseAlone_0 rfl 0 rfl ?_
  refine jx_iload_n (pc := 1) G dX1_falseAlone_1 rfl 1 rfl ?_
  refine xc_i1 (pc := 2) G (fun _ _ => kX_badCall (nI c)) (cwX1_badCall ⟨Nat.le_of_ble_eq_true rfl, Nat.le_of_ble_eq_true rfl⟩) (Nat.le_of_ble_eq_true rfl) dX1_falseAlone_2 (fun r w' hq => ?_)
  obtain ⟨rfl, rfl⟩ := hq
  rw [bl_ind_f (fun q => q ⟨c, hc, rfl⟩)]
  refine jx_if_eq (pc := 5) (tgt := 10) G dX1_falseAlone_5 (by decide) (by omega) (fun h5 => ?_) (fun h5 => ?_)
  · refine jx_aload_n (pc := 10) G dX1_falseAlone_10 rfl 0 rfl ?_
    refine xc_v0 (pc := 11) G (fun _ _ => kX_find hA h1 hk) (cwX1_find ⟨Nat.le_of_ble_eq_true rfl, Nat.le_of_ble_eq_true rfl⟩) (Nat.le_of_ble_eq_true rfl) dX1_falseAlone_11 (fun w' hq => ?_)
    obtain ⟨fo', ff', fd', hO, hF, rfl⟩ := hq
    refine jx_aload_n (pc := 14) G dX1_falseAlone_14 rfl 0 rfl ?_
    refine jx_iload_n (pc := 15) G dX1_falseAlone_15 rfl 1 rfl ?_
    refine xc_i1 (pc := 16) G (fun _ _ => kX_aloneFalse hA hO hc) (cwX1_aloneFalse ⟨Nat.le_of_ble_eq_true rfl, Nat.le_of_ble_eq_true rfl⟩) (Nat.le_of_ble_eq_true rfl) dX1_falseAlone_16 (fun r w' hq => ?_)
    obtain ⟨rfl, ft2, fd2, rfl⟩ := hq
    refine jx_istore_nV (pc := 19) G dX1_falseAlone_19 rfl (by decide) (bl_ind (bl_al n z fm fc c)) rfl [(0, .ref o), (1, .int (nI c)), (2, .int (nI (bl_ind (bl_al n z fm fc c))))] rfl ?_
    refine jx_iload_n (pc := 20) G dX1_falseAlone_20 rfl 2 rfl ?_
    refine jx_if_eq (pc := 21) (tgt := 28) G dX1_falseAlone_21 (by decide) (Nat.lt_of_le_of_lt (bl_ind_le _) (by decide)) (fun h21 => ?_) (fun h21 => ?_)
    · have e1 := h21
      refine jx_iconst (pc := 28) G dX1_falseAlone_28 kc_0 ?_
      exact E _ _ 29 _ ⟨by rw [e1], ⟨_, _, _, _, _, _, _, rfl, by omega, fun _ => ⟨hO, hF⟩⟩⟩ dX1_falseAlone_29
    · have e1 : bl_ind (bl_al n z fm fc c) = 1 := by
        have := bl_ind_le (bl_al n z fm fc c)
        omega
      refine jx_iconst (pc := 24) G dX1_falseAlone_24 kc_1 ?_
      refine jx_goto (pc := 25) (tgt := 29) G dX1_falseAlone_25 (by decide) ?_
      exact E _ _ 29 _ ⟨by rw [e1], ⟨_, _, _, _, _, _, _, rfl, by omega, fun _ => ⟨hO, hF⟩⟩⟩ dX1_falseAlone_29
  · exact absurd rfl h5
set_option maxHeartbeats 4000000 in
theorem kX_home (hA : bl_AV n z fm fc ct fl) (h1 : kn ≤ 1) (hk : kn = 1 → bl_OF n z fm fc fo ∧ bl_FS n z fm fc ff) : jx_Ki l D cb ci yX1_home wsX1_home rmX1_home 0 0 [.ref o] (XC cb ci o a n z fm fc ct fl kn fo fh ff ft fi fd) (fun r w' => r = nI (bl_ind (∀ t, t < n → bl_hd z fm fc fl ct t = t)) ∧ bl_XI cb ci o a n z fm fc ct fl w') := by
  refine jx_Ki_of (by decide) (Nat.le_of_ble_eq_true rfl) [(0, .ref o)] rfl ?_
  intro x G E
  have hA0 := hA
  obtain ⟨⟨hn3, hn6⟩, ⟨hz1, hz2⟩, hct, hV, hfl⟩ := hA0
  refine jx_aload_n (pc := 0) G dX1_home_0 rfl 0 rfl ?_
  refine xc_v0 (pc := 1) G (fun _ _ => kX_findHeads hA h1 hk) (cwX1_findHeads ⟨Nat.le_of_ble_eq_true rfl, Nat.le_of_ble_eq_true rfl⟩) (Nat.le_of_ble_eq_true rfl) dX1_home_1 (fun w' hq => ?_)
  obtain ⟨fo', fh', ff', fd', hO, hF, hH, rfl⟩ := hq
  refine jx_iconst (pc := 4) G dX1_home_4 kc_1 ?_
  refine jx_istore_nV (pc := 5) G dX1_home_5 rfl (by decide) (1) rfl [(0, .ref o), (1, .int (nI 1))] rfl ?_
  refine jx_iconst (pc := 6) G dX1_home_6 kc_0 ?_
  refine jx_istore_nV (pc := 7) G dX1_home_7 rfl (by decide) (0) rfl [(0, .ref o), (1, .int (nI 1)), (2, .int (nI 0))] rfl ?_
  have lp8 : ∀ (d8 : Nat) (p g : Nat), n - p = d8 → (p ≤ n) → (g = bl_ind (∀ t, t < p → bl_hd z fm fc fl ct t = t)) → jx_J x 0 0 (XC cb ci o a n z fm fc ct fl 1 fo' fh' ff' ft fi fd') 8 [(0, .ref o), (1, .int (nI g)), (2, .int (nI p))] [] := by
    intro d8
    induction d8 using Nat.strongRecOn with
    | _ d8 ih8 =>
    intro p g hm8 hp hg
    refine jx_iload_n (pc := 8) G dX1_home_8 rfl 2 rfl ?_
    refine jx_aload_n (pc := 9) G dX1_home_9 rfl 0 rfl ?_
    refine xg_n (pc := 10) G dX1_home_10 ?_
    refine jx_icmp_ge (pc := 13) (tgt := 50) G dX1_home_13 (by decide) (by omega) (by omega) (fun h13 => ?_) (fun h13 => ?_)
    · refine jx_iload_n (pc := 50) G dX1_home_50 rfl 1 rfl ?_
      refine jx_if_eq (pc := 51) (tgt := 58) G dX1_home_51 (by decide) (by have := bl_ind_le (∀ t, t < p → bl_hd z fm fc fl ct t = t); omega) (fun h51 => ?_) (fun h51 => ?_)
      · have e1 : bl_ind (∀ t, t < n → bl_hd z fm fc fl ct t = t) = 0 := by
          rw [show n = p by omega]
          omega
        refine jx_iconst (pc := 58) G dX1_home_58 kc_0 ?_
        exact E _ _ 59 _ ⟨by rw [e1], ⟨_, _, _, _, _, _, _, rfl, by omega, fun _ => ⟨hO, hF⟩⟩⟩ dX1_home_59
      · have e1 : bl_ind (∀ t, t < n → bl_hd z fm fc fl ct t = t) = 1 := by
          have := bl_ind_le (∀ t, t < p → bl_hd z fm fc fl ct t = t)
          rw [show n = p by omega]
          omega
        refine jx_iconst (pc := 54) G dX1_home_54 kc_1 ?_
        refine jx_goto (pc := 55) (tgt := 59) G dX1_home_55 (by decide) ?_
        exact E _ _ 59 _ ⟨by rw [e1], ⟨_, _, _, _, _, _, _, rfl, by omega, fun _ => ⟨hO, hF⟩⟩⟩ dX1_home_59
    · have hg1 := bl_ind_le (∀ t, t < p → bl_hd z fm fc fl ct t = t)
      have hhp := hH ct (Nat.le_refl ct) p (by omega)
      have hlt := (bl_hd_PM hV hfl ct (Nat.le_refl ct)).1 p (by omega)
      refine jx_iload_n (pc := 16) G dX1_home_16 rfl 1 rfl ?_
      refine jx_if_eq (pc := 17) (tgt := 42) G dX1_home_17 (by decide) (by omega) (fun h17 => ?_) (fun h17 => ?_)
      · have hnew : 0 = bl_ind (∀ t, t < (p + 1) → bl_hd z fm fc fl ct t = t) := (bl_ind_f (fun q => bl_ind_0.mp (show bl_ind (∀ t, t < p → bl_hd z fm fc fl ct t = t) = 0 by omega) (fun t ht => q t (by omega)))).symm
        refine jx_iconst (pc := 42) G dX1_home_42 kc_0 ?_
        refine jx_istore_nV (pc := 43) G dX1_home_43 rfl (by decide) (0) rfl [(0, .ref o), (1, .int (nI 0)), (2, .int (nI p))] rfl ?_
        refine jx_iincV (pc := 44) G dX1_home_44 kc_1 (by decide) 2 rfl (p + 1) rfl [(0, .ref o), (1, .int (nI 0)), (2, .int (nI (p + 1)))] rfl ?_
        refine jx_goto (pc := 47) (tgt := 8) G dX1_home_47 (by decide) ?_
        exact ih8 _ (by omega) (p + 1) 0 rfl (by omega) hnew
      · have hall := bl_ind_1.mp (show bl_ind (∀ t, t < p → bl_hd z fm fc fl ct t = t) = 1 by omega)
        refine jx_aload_n (pc := 20) G dX1_home_20 rfl 0 rfl ?_
        refine xg_head (pc := 21) G dX1_home_21 ?_
        refine jx_bipush (pc := 24) G dX1_home_24 kb_6 ?_
        refine jx_aload_n (pc := 26) G dX1_home_26 rfl 0 rfl ?_
        refine xg_count (pc := 27) G dX1_home_27 ?_
        refine jx_imul (pc := 30) G dX1_home_30 ?_
        refine jx_iload_n (pc := 31) G dX1_home_31 rfl 2 rfl ?_
        refine jx_iadd (pc := 32) G dX1_home_32 ?_
        refine xl_head (pc := 33) G dX1_home_33 (by omega) ?_
        rw [hhp]
        refine jx_iload_n (pc := 34) G dX1_home_34 rfl 2 rfl ?_
        refine jx_icmp_ne (pc := 35) (tgt := 42) G dX1_home_35 (by decide) (by omega) (by omega) (fun h35 => ?_) (fun h35 => ?_)
        · have hnew : 0 = bl_ind (∀ t, t < (p + 1) → bl_hd z fm fc fl ct t = t) := (bl_ind_f (fun q => h35 (q p (by omega)))).symm
          refine jx_iconst (pc := 42) G dX1_home_42 kc_0 ?_
          refine jx_istore_nV (pc := 43) G dX1_home_43 rfl (by decide) (0) rfl [(0, .ref o), (1, .int (nI 0)), (2, .int (nI p))] rfl ?_
          refine jx_iincV (pc := 44) G dX1_home_44 kc_1 (by decide) 2 rfl (p + 1) rfl [(0, .ref o), (1, .int (nI 0)), (2, .int (nI (p + 1)))] rfl ?_
          refine jx_goto (pc := 47) (tgt := 8) G dX1_home_47 (by decide) ?_
          exact ih8 _ (by omega) (p + 1) 0 rfl (by omega) hnew
        · have hnew : 1 = bl_ind (∀ t, t < (p + 1) → bl_hd z fm fc fl ct t = t) := (bl_ind_t (fun t ht => by by_cases e : t = p; (rw [e]; exact h35); exact hall t (by omega))).symm
          refine jx_iconst (pc := 38) G dX1_home_38 kc_1 ?_
          refine jx_goto (pc := 39) (tgt := 43) G dX1_home_39 (by decide) ?_
          refine jx_istore_nV (pc := 43) G dX1_home_43 rfl (by decide) (1) rfl [(0, .ref o), (1, .int (nI 1)), (2, .int (nI p))] rfl ?_
          refine jx_iincV (pc := 44) G dX1_home_44 kc_1 (by decide) 2 rfl (p + 1) rfl [(0, .ref o), (1, .int (nI 1)), (2, .int (nI (p + 1)))] rfl ?_
          refine jx_goto (pc := 47) (tgt := 8) G dX1_home_47 (by decide) ?_
          exact ih8 _ (by omega) (p + 1) 1 rfl (by omega) hnew
  exact lp8 _ 0 1 rfl (by omega) ((bl_ind_t (fun j h => absurd h (by omega))).symm)
set_option maxHeartbeats 4000000 in
theorem kX_leads_neg (hn6 : n ≤ 6) {y : Int32} (hy : y < 0) : jx_Ki l D cb ci yX1_leads wsX1_leads rmX1_leads 0 0 [.ref o, .int y] (XC cb ci o a n z fm fc ct fl kn fo fh ff ft fi fd) (fun r w' => r = -1 ∧ w' = XC cb ci o a n z fm fc ct fl kn fo fh ff ft fi fd) := by
  refine jx_Ki_of (by decide) (Nat.le_of_ble_eq_true rfl) [(0, .ref o), (1, .int y)] rfl ?_
  intro x G E
  refine jx_iload_n (pc := 0) G dX1_leads_0 rfl 1 rfl ?_
  refine jx_iconst (pc := 1) G dX1_leads_1 kc_1 ?_
  refine jx_icmp_lt_neg (pc := 2) (tgt := 13) G dX1_leads_2 (by decide) hy (by decide) ?_
  refine jx_iconst (pc := 13) G dX1_leads_13 kc_m1 ?_
  exact E _ _ 14 _ ⟨rfl, rfl⟩ dX1_leads_14
set_option maxHeartbeats 4000000 in
theorem kX_leads_bad (hn6 : n ≤ 6) {b : Nat} (hb31 : b < 2 ^ 31) (hb : ¬ (1 ≤ b ∧ b ≤ n)) : jx_Ki l D cb ci yX1_leads wsX1_leads rmX1_leads 0 0 [.ref o, .int (nI b)] (XC cb ci o a n z fm fc ct fl kn fo fh ff ft fi fd) (fun r w' => r = -1 ∧ w' = XC cb ci o a n z fm fc ct fl kn fo fh ff ft fi fd) := by
  refine jx_Ki_of (by decide) (Nat.le_of_ble_eq_true rfl) [(0, .ref o), (1, .int (nI b))] rfl ?_
  intro x G E
  refine jx_iload_n (pc := 0) G dX1_leads_0 rfl 1 rfl ?_
  refine jx_iconst (pc := 1) G dX1_leads_1 kc_1 ?_
  refine jx_icmp_lt (pc := 2) (tgt := 13) G dX1_leads_2 (by decide) (by omega) (by omega) (fun h2 => ?_) (fun h2 => ?_)
  · refine jx_iconst (pc := 13) G dX1_leads_13 kc_m1 ?_
    exact E _ _ 14 _ ⟨rfl, rfl⟩ dX1_leads_14
  · refine jx_iload_n (pc := 5) G dX1_leads_5 rfl 1 rfl ?_
    refine jx_aload_n (pc := 6) G dX1_leads_6 rfl 0 rfl ?_
    refine xg_n (pc := 7) G dX1_leads_7 ?_
    refine jx_icmp_le (pc := 10) (tgt := 15) G dX1_leads_10 (by decide) (by omega) (by omega) (fun h10 => ?_) (fun h10 => ?_)
    · omega
    · refine jx_iconst (pc := 13) G dX1_leads_13 kc_m1 ?_
      exact E _ _ 14 _ ⟨rfl, rfl⟩ dX1_leads_14
set_option maxHeartbeats 4000000 in
theorem kX_leads_ok (hA : bl_AV n z fm fc ct fl) (h1 : kn ≤ 1) (hk : kn = 1 → bl_OF n z fm fc fo ∧ bl_FS n z fm fc ff) {b : Nat} (hb : b < n) : jx_Ki l D cb ci yX1_leads wsX1_leads rmX1_leads 0 0 [.ref o, .int (nI (b + 1))] (XC cb ci o a n z fm fc ct fl kn fo fh ff ft fi fd) (fun r w' => r = nI (bl_sum (fun k => bl_ind (bl_row z fm fc fl (k + 1) 0 = b)) (ct * z)) ∧ bl_XI cb ci o a n z fm fc ct fl w') := by
  refine jx_Ki_of (by decide) (Nat.le_of_ble_eq_true rfl) [(0, .ref o), (1, .int (nI (b + 1)))] rfl ?_
  intro x G E
  have hA0 := hA
  obtain ⟨⟨hn3, hn6⟩, ⟨hz1, hz2⟩, hct, hV, hfl⟩ := hA0
  have hcz := bl_ctz hct hz2
  refine jx_iload_n (pc := 0) G dX1_leads_0 rfl 1 rfl ?_
  refine jx_iconst (pc := 1) G dX1_leads_1 kc_1 ?_
  refine jx_icmp_lt (pc := 2) (tgt := 13) G dX1_leads_2 (by decide) (by omega) (by omega) (fun h2 => ?_) (fun h2 => ?_)
  · omega
  · refine jx_iload_n (pc := 5) G dX1_leads_5 rfl 1 rfl ?_
    refine jx_aload_n (pc := 6) G dX1_leads_6 rfl 0 rfl ?_
    refine xg_n (pc := 7) G dX1_leads_7 ?_
    refine jx_icmp_le (pc := 10) (tgt := 15) G dX1_leads_10 (by decide) (by omega) (by omega) (fun h10 => ?_) (fun h10 => ?_)
    · refine jx_aload_n (pc := 15) G dX1_leads_15 rfl 0 rfl ?_
      refine xc_v0 (pc := 16) G (fun _ _ => kX_findHeads hA h1 hk) (cwX1_findHeads ⟨Nat.le_of_ble_eq_true rfl, Nat.le_of_ble_eq_true rfl⟩) (Nat.le_of_ble_eq_true rfl) dX1_leads_16 (fun w' hq => ?_)
      obtain ⟨fo', fh', ff', fd', hO, hF, hH, rfl⟩ := hq
      refine jx_iconst (pc := 19) G dX1_leads_19 kc_0 ?_
      refine jx_istore_nV (pc := 20) G dX1_leads_20 rfl (by decide) (0) rfl [(0, .ref o), (1, .int (nI (b + 1))), (2, .int (nI 0))] rfl ?_
      refine jx_iconst (pc := 21) G dX1_leads_21 kc_1 ?_
      refine jx_istore_nV (pc := 22) G dX1_leads_22 rfl (by decide) (0 + 1) rfl [(0, .ref o), (1, .int (nI (b + 1))), (2, .int (nI 0)), (3, .int (nI (0 + 1)))] rfl ?_
      have lp23 : ∀ (d23 : Nat) (k mn : Nat), ct * z - k = d23 → (k ≤ ct * z) → (mn = bl_sum (fun k => bl_ind (bl_row z fm fc fl (k + 1) 0 = b)) k) → jx_J x 0 0 (XC cb ci o a n z fm fc ct fl 1 fo' fh' ff' ft fi fd') 23 [(0, .ref o), (1, .int (nI (b + 1))), (2, .int (nI mn)), (3, .int (nI (k + 1)))] [] := by
        intro d23
        induction d23 using Nat.strongRecOn with
        | _ d23 ih23 =>
        intro k mn hm23 hk2 hm
        refine jx_iload_n (pc := 23) G dX1_leads_23 rfl 3 rfl ?_
        refine jx_aload_n (pc := 24) G dX1_leads_24 rfl 0 rfl ?_
        refine xg_count (pc := 25) G dX1_leads_25 ?_
        refine jx_aload_n (pc := 28) G dX1_leads_28 rfl 0 rfl ?_
        refine xg_size (pc := 29) G dX1_leads_29 ?_
        refine jx_imul (pc := 32) G dX1_leads_32 ?_
        refine jx_icmp_gt (pc := 33) (tgt := 66) G dX1_leads_33 (by decide) (by omega) (by omega) (fun h33 => ?_) (fun h33 => ?_)
        · refine jx_iload_n (pc := 66) G dX1_leads_66 rfl 2 rfl ?_
          exact E _ _ 67 _ ⟨by rw [hm, show k = ct * z by omega], ⟨_, _, _, _, _, _, _, rfl, by omega, fun _ => ⟨hO, hF⟩⟩⟩ dX1_leads_67
        · refine jx_aload_n (pc := 36) G dX1_leads_36 rfl 0 rfl ?_
          refine jx_iload_n (pc := 37) G dX1_leads_37 rfl 3 rfl ?_
          refine jx_iconst (pc := 38) G dX1_leads_38 kc_0 ?_
          refine xc_i2 (pc := 39) G (fun _ _ => kX_bellAt hA hO hH (by omega) (by omega)) (cwX1_bellAt ⟨Nat.le_of_ble_eq_true rfl, Nat.le_of_ble_eq_true rfl⟩) (Nat.le_of_ble_eq_true rfl) dX1_leads_39 (fun r w' hq => ?_)
          obtain ⟨rfl, rfl⟩ := hq
          refine jx_istoreV (pc := 42) G dX1_leads_42 (by decide) (bl_row z fm fc fl (k + 1) 0) rfl [(0, .ref o), (1, .int (nI (b + 1))), (2, .int (nI mn)), (3, .int (nI (k + 1))), (4, .int (nI (bl_row z fm fc fl (k + 1) 0)))] rfl ?_
          refine jx_iload (pc := 44) G dX1_leads_44 4 rfl ?_
          refine jx_iload_n (pc := 46) G dX1_leads_46 rfl 1 rfl ?_
          refine jx_iconst (pc := 47) G dX1_leads_47 kc_1 ?_
          refine jx_isub (pc := 48) G dX1_leads_48 (by omega) ?_
          refine jx_icmp_ne (pc := 49) (tgt := 58) G dX1_leads_49 (by decide) (by have := (bl_row_PM hA (k := k + 1) (by omega)).1 0 (by omega); omega) (by omega) (fun h49 => ?_) (fun h49 => ?_)
          · have hnew : bl_ind (bl_row z fm fc fl (k + 1) 0 = b) = 0 := bl_ind_f h49
            refine jx_iload_n (pc := 58) G dX1_leads_58 rfl 2 rfl ?_
            refine jx_istore_n (pc := 59) G dX1_leads_59 rfl (by decide) (fun v => [(0, .ref o), (1, .int (nI (b + 1))), (2, .int (nI v)), (3, .int (nI (k + 1))), (4, .int (nI (bl_row z fm fc fl (k + 1) 0)))]) (fun _ => rfl) (fun u2_59 eu2_59 => ?_)
            refine jx_iincV (pc := 60) G dX1_leads_60 kc_1 (by decide) 3 rfl (k + 1 + 1) rfl [(0, .ref o), (1, .int (nI (b + 1))), (2, .int (nI u2_59)), (3, .int (nI (k + 1 + 1))), (4, .int (nI (bl_row z fm fc fl (k + 1) 0)))] rfl ?_
            refine jx_goto (pc := 63) (tgt := 23) G dX1_leads_63 (by decide) ?_
            exact jx_sub (lv' := [(0, .ref o), (1, .int (nI (b + 1))), (2, .int (nI u2_59)), (3, .int (nI (k + 1 + 1)))]) [0, 1, 2, 3] rfl (ih23 _ (by omega) (k + 1) u2_59 rfl (by omega) (by show u2_59 = bl_sum (fun k => bl_ind (bl_row z fm fc fl (k + 1) 0 = b)) k + bl_ind (bl_row z fm fc fl (k + 1) 0 = b); rw [hnew]; omega))
          · have hnew : bl_ind (bl_row z fm fc fl (k + 1) 0 = b) = 1 := bl_ind_t h49
            refine jx_iload_n (pc := 52) G dX1_leads_52 rfl 2 rfl ?_
            refine jx_iconst (pc := 53) G dX1_leads_53 kc_1 ?_
            refine jx_iadd (pc := 54) G dX1_leads_54 ?_
            refine jx_goto (pc := 55) (tgt := 59) G dX1_leads_55 (by decide) ?_
            refine jx_istore_n (pc := 59) G dX1_leads_59 rfl (by decide) (fun v => [(0, .ref o), (1, .int (nI (b + 1))), (2, .int (nI v)), (3, .int (nI (k + 1))), (4, .int (nI (bl_row z fm fc fl (k + 1) 0)))]) (fun _ => rfl) (fun u2_59 eu2_59 => ?_)
            refine jx_iincV (pc := 60) G dX1_leads_60 kc_1 (by decide) 3 rfl (k + 1 + 1) rfl [(0, .ref o), (1, .int (nI (b + 1))), (2, .int (nI u2_59)), (3, .int (nI (k + 1 + 1))), (4, .int (nI (bl_row z fm fc fl (k + 1) 0)))] rfl ?_
            refine jx_goto (pc := 63) (tgt := 23) G dX1_leads_63 (by decide) ?_
            exact jx_sub (lv' := [(0, .ref o), (1, .int (nI (b + 1))), (2, .int (nI u2_59)), (3, .int (nI (k + 1 + 1)))]) [0, 1, 2, 3] rfl (ih23 _ (by omega) (k + 1) u2_59 rfl (by omega) (by show u2_59 = bl_sum (fun k => bl_ind (bl_row z fm fc fl (k + 1) 0 = b)) k + bl_ind (bl_row z fm fc fl (k + 1) 0 = b); rw [hnew]; omega))
      exact lp23 _ 0 0 rfl (by omega) rfl
    · omega
set_option maxHeartbeats 4000000 in
theorem kX_row_bad (hc : ct * z ≤ 240) {y : Int32} (hy : ¬ bl_in (ct * z + 1) y) : jx_Ki l D cb ci yX1_row wsX1_row rmX1_row 0 0 [.ref o, .int y] (XC cb ci o a n z fm fc ct fl kn fo fh ff ft fi fd) (fun r w' => r = -4 ∧ w' = XC cb ci o a n z fm fc ct fl kn fo fh ff ft fi fd) := by
  refine jx_Ki_of (by decide) (Nat.le_of_ble_eq_true rfl) [(0, .ref o), (1, .int y)] rfl ?_
  intro x G E
  refine jx_aload_n (pc := 0) G dX1_row_0 rfl 0 rfl ?_
  refine jx_iload_n (pc := 1) G dX1_row_1 rfl 1 rfl ?_
  refine xc_i1 (pc := 2) G (fun _ _ => kX_noRow hc y) (cwX1_noRow ⟨Nat.le_of_ble_eq_true rfl, Nat.le_of_ble_eq_true rfl⟩) (Nat.le_of_ble_eq_true rfl) dX1_row_2 (fun r w' hq => ?_)
  obtain ⟨rfl, rfl⟩ := hq
  rw [bl_ind_t hy]
  refine jx_if_eq (pc := 5) (tgt := 11) G dX1_row_5 (by decide) (by omega) (fun h5 => ?_) (fun h5 => ?_)
  · exact absurd h5 (by decide)
  · refine jx_bipush (pc := 8) G dX1_row_8 kb_m4 ?_
    exact E _ _ 10 _ ⟨rfl, rfl⟩ dX1_row_10
set_option maxHeartbeats 4000000 in
theorem kX_row_ok (hA : bl_AV n z fm fc ct fl) (h1 : kn ≤ 1) (hk : kn = 1 → bl_OF n z fm fc fo ∧ bl_FS n z fm fc ff) {k : Nat} (hk2 : k ≤ ct * z) : jx_Ki l D cb ci yX1_row wsX1_row rmX1_row 0 0 [.ref o, .int (nI k)] (XC cb ci o a n z fm fc ct fl kn fo fh ff ft fi fd) (fun r w' => r = nI (bl_cd (bl_row z fm fc fl k) n) ∧ bl_XI cb ci o a n z fm fc ct fl w') := by
  refine jx_Ki_of (by decide) (Nat.le_of_ble_eq_true rfl) [(0, .ref o), (1, .int (nI k))] rfl ?_
  intro x G E
  have hA0 := hA
  obtain ⟨⟨hn3, hn6⟩, ⟨hz1, hz2⟩, hct, hV, hfl⟩ := hA0
  have hcz := bl_ctz hct hz2
  refine jx_aload_n (pc := 0) G dX1_row_0 rfl 0 rfl ?_
  refine jx_iload_n (pc := 1) G dX1_row_1 rfl 1 rfl ?_
  refine xc_i1 (pc := 2) G (fun _ _ => kX_noRow hcz (nI k)) (cwX1_noRow ⟨Nat.le_of_ble_eq_true rfl, Nat.le_of_ble_eq_true rfl⟩) (Nat.le_of_ble_eq_true rfl) dX1_row_2 (fun r w' hq => ?_)
  obtain ⟨rfl, rfl⟩ := hq
  rw [bl_ind_f (fun q => q ⟨k, by omega, rfl⟩)]
  refine jx_if_eq (pc := 5) (tgt := 11) G dX1_row_5 (by decide) (by omega) (fun h5 => ?_) (fun h5 => ?_)
  · refine jx_aload_n (pc := 11) G dX1_row_11 rfl 0 rfl ?_
    refine xc_v0 (pc := 12) G (fun _ _ => kX_findHeads hA h1 hk) (cwX1_findHeads ⟨Nat.le_of_ble_eq_true rfl, Nat.le_of_ble_eq_true rfl⟩) (Nat.le_of_ble_eq_true rfl) dX1_row_12 (fun w' hq => ?_)
    obtain ⟨fo', fh', ff', fd', hO, hF, hH, rfl⟩ := hq
    refine jx_iconst (pc := 15) G dX1_row_15 kc_0 ?_
    refine jx_istore_nV (pc := 16) G dX1_row_16 rfl (by decide) (0) rfl [(0, .ref o), (1, .int (nI k)), (2, .int (nI 0))] rfl ?_
    refine jx_iconst (pc := 17) G dX1_row_17 kc_0 ?_
    refine jx_istore_nV (pc := 18) G dX1_row_18 rfl (by decide) (0) rfl [(0, .ref o), (1, .int (nI k)), (2, .int (nI 0)), (3, .int (nI 0))] rfl ?_
    have lp19 : ∀ (d19 : Nat) (p cd : Nat), n - p = d19 → (p ≤ n) → (cd = bl_cd (bl_row z fm fc fl k) p) → jx_J x 0 0 (XC cb ci o a n z fm fc ct fl 1 fo' fh' ff' ft fi fd') 19 [(0, .ref o), (1, .int (nI k)), (2, .int (nI cd)), (3, .int (nI p))] [] := by
      intro d19
      induction d19 using Nat.strongRecOn with
      | _ d19 ih19 =>
      intro p cd hm19 hp hc
      refine jx_iload_n (pc := 19) G dX1_row_19 rfl 3 rfl ?_
      refine jx_aload_n (pc := 20) G dX1_row_20 rfl 0 rfl ?_
      refine xg_n (pc := 21) G dX1_row_21 ?_
      refine jx_icmp_ge (pc := 24) (tgt := 51) G dX1_row_24 (by decide) (by omega) (by omega) (fun h24 => ?_) (fun h24 => ?_)
      · refine jx_iload_n (pc := 51) G dX1_row_51 rfl 2 rfl ?_
        exact E _ _ 52 _ ⟨by rw [hc, show p = n by omega], ⟨_, _, _, _, _, _, _, rfl, by omega, fun _ => ⟨hO, hF⟩⟩⟩ dX1_row_52
      · refine jx_aload_n (pc := 27) G dX1_row_27 rfl 0 rfl ?_
        refine jx_iload_n (pc := 28) G dX1_row_28 rfl 1 rfl ?_
        refine jx_iload_n (pc := 29) G dX1_row_29 rfl 3 rfl ?_
        refine xc_i2 (pc := 30) G (fun _ _ => kX_bellAt hA hO hH hk2 (by omega)) (cwX1_bellAt ⟨Nat.le_of_ble_eq_true rfl, Nat.le_of_ble_eq_true rfl⟩) (Nat.le_of_ble_eq_true rfl) dX1_row_30 (fun r w' hq => ?_)
        obtain ⟨rfl, rfl⟩ := hq
        refine jx_istoreV (pc := 33) G dX1_row_33 (by decide) (bl_row z fm fc fl k p) rfl [(0, .ref o), (1, .int (nI k)), (2, .int (nI cd)), (3, .int (nI p)), (4, .int (nI (bl_row z fm fc fl k p)))] rfl ?_
        refine jx_bipush (pc := 35) G dX1_row_35 kb_10 ?_
        refine jx_iload_n (pc := 37) G dX1_row_37 rfl 2 rfl ?_
        refine jx_imul (pc := 38) G dX1_row_38 ?_
        refine jx_iload (pc := 39) G dX1_row_39 4 rfl ?_
        refine jx_iadd (pc := 41) G dX1_row_41 ?_
        refine jx_iconst (pc := 42) G dX1_row_42 kc_1 ?_
        refine jx_iadd (pc := 43) G dX1_row_43 ?_
        refine jx_istore_n (pc := 44) G dX1_row_44 rfl (by decide) (fun v => [(0, .ref o), (1, .int (nI k)), (2, .int (nI v)), (3, .int (nI p)), (4, .int (nI (bl_row z fm fc fl k p)))]) (fun _ => rfl) (fun u2_44 eu2_44 => ?_)
        refine jx_iincV (pc := 45) G dX1_row_45 kc_1 (by decide) 3 rfl (p + 1) rfl [(0, .ref o), (1, .int (nI k)), (2, .int (nI u2_44)), (3, .int (nI (p + 1))), (4, .int (nI (bl_row z fm fc fl k p)))] rfl ?_
        refine jx_goto (pc := 48) (tgt := 19) G dX1_row_48 (by decide) ?_
        exact jx_sub (lv' := [(0, .ref o), (1, .int (nI k)), (2, .int (nI u2_44)), (3, .int (nI (p + 1)))]) [0, 1, 2, 3] rfl (ih19 _ (by omega) (p + 1) u2_44 rfl (by omega) (by show u2_44 = 10 * bl_cd (bl_row z fm fc fl k) p + (bl_row z fm fc fl k p + 1); rw [← hc, eu2_44]; omega))
    exact lp19 _ 0 0 rfl (by omega) rfl
  · exact absurd rfl h5
set_option maxHeartbeats 4000000 in
theorem kX_place_neg {u y : Int32} (hu : u < 0) : jx_Ki l D cb ci yX1_place wsX1_place rmX1_place 0 0 [.ref o, .int u, .int y] (XC cb ci o a n z fm fc ct fl kn fo fh ff ft fi fd) (fun r w' => r = -1 ∧ w' = XC cb ci o a n z fm fc ct fl kn fo fh ff ft fi fd) := by
  refine jx_Ki_of (by decide) (Nat.le_of_ble_eq_true rfl) [(0, .ref o), (1, .int u), (2, .int y)] rfl ?_
  intro x G E
  refine jx_iload_n (pc := 0) G dX1_place_0 rfl 1 rfl ?_
  refine jx_iconst (pc := 1) G dX1_place_1 kc_1 ?_
  refine jx_icmp_lt_neg (pc := 2) (tgt := 13) G dX1_place_2 (by decide) hu (by decide) ?_
  refine jx_iconst (pc := 13) G dX1_place_13 kc_m1 ?_
  exact E _ _ 14 _ ⟨rfl, rfl⟩ dX1_place_14
set_option maxHeartbeats 4000000 in
theorem kX_place_bad (hn6 : n ≤ 6) {b : Nat} {y : Int32} (hb31 : b < 2 ^ 31) (hb : ¬ (1 ≤ b ∧ b ≤ n)) : jx_Ki l D cb ci yX1_place wsX1_place rmX1_place 0 0 [.ref o, .int (nI b), .int y] (XC cb ci o a n z fm fc ct fl kn fo fh ff ft fi fd) (fun r w' => r = -1 ∧ w' = XC cb ci o a n z fm fc ct fl kn fo fh ff ft fi fd) := by
  refine jx_Ki_of (by decide) (Nat.le_of_ble_eq_true rfl) [(0, .ref o), (1, .int (nI b)), (2, .int y)] rfl ?_
  intro x G E
  refine jx_iload_n (pc := 0) G dX1_place_0 rfl 1 rfl ?_
  refine jx_iconst (pc := 1) G dX1_place_1 kc_1 ?_
  refine jx_icmp_lt (pc := 2) (tgt := 13) G dX1_place_2 (by decide) (by omega) (by omega) (fun h2 => ?_) (fun h2 => ?_)
  · refine jx_iconst (pc := 13) G dX1_place_13 kc_m1 ?_
    exact E _ _ 14 _ ⟨rfl, rfl⟩ dX1_place_14
  · refine jx_iload_n (pc := 5) G dX1_place_5 rfl 1 rfl ?_
    refine jx_aload_n (pc := 6) G dX1_place_6 rfl 0 rfl ?_
    refine xg_n (pc := 7) G dX1_place_7 ?_
    refine jx_icmp_le (pc := 10) (tgt := 15) G dX1_place_10 (by decide) (by omega) (by omega) (fun h10 => ?_) (fun h10 => ?_)
    · omega
    · refine jx_iconst (pc := 13) G dX1_place_13 kc_m1 ?_
      exact E _ _ 14 _ ⟨rfl, rfl⟩ dX1_place_14
set_option maxHeartbeats 4000000 in
theorem kX_place_no (hn6 : n ≤ 6) (hc : ct * z ≤ 240) {b : Nat} {y : Int32} (hb : b < n) (hy : ¬ bl_in (ct * z + 1) y) : jx_Ki l D cb ci yX1_place wsX1_place rmX1_place 0 0 [.ref o, .int (nI (b + 1)), .int y] (XC cb ci o a n z fm fc ct fl kn fo fh ff ft fi fd) (fun r w' => r = -4 ∧ w' = XC cb ci o a n z fm fc ct fl kn fo fh ff ft fi fd) := by
  refine jx_Ki_of (by decide) (Nat.le_of_ble_eq_true rfl) [(0, .ref o), (1, .int (nI (b + 1))), (2, .int y)] rfl ?_
  intro x G E
  refine jx_iload_n (pc := 0) G dX1_place_0 rfl 1 rfl ?_
  refine jx_iconst (pc := 1) G dX1_place_1 kc_1 ?_
  refine jx_icmp_lt (pc := 2) (tgt := 13) G dX1_place_2 (by decide) (by omega) (by omega) (fun h2 => ?_) (fun h2 => ?_)
  · omega
  · refine jx_iload_n (pc := 5) G dX1_place_5 rfl 1 rfl ?_
    refine jx_aload_n (pc := 6) G dX1_place_6 rfl 0 rfl ?_
    refine xg_n (pc := 7) G dX1_place_7 ?_
    refine jx_icmp_le (pc := 10) (tgt := 15) G dX1_place_10 (by decide) (by omega) (by omega) (fun h10 => ?_) (fun h10 => ?_)
    · refine jx_aload_n (pc := 15) G dX1_place_15 rfl 0 rfl ?_
      refine jx_iload_n (pc := 16) G dX1_place_16 rfl 2 rfl ?_
      refine xc_i1 (pc := 17) G (fun _ _ => kX_noRow hc y) (cwX1_noRow ⟨Nat.le_of_ble_eq_true rfl, Nat.le_of_ble_eq_true rfl⟩) (Nat.le_of_ble_eq_true rfl) dX1_place_17 (fun r w' hq => ?_)
      obtain ⟨rfl, rfl⟩ := hq
      rw [bl_ind_t hy]
      refine jx_if_eq (pc := 20) (tgt := 26) G dX1_place_20 (by decide) (by omega) (fun h20 => ?_) (fun h20 => ?_)
      · exact absurd h20 (by decide)
      · refine jx_bipush (pc := 23) G dX1_place_23 kb_m4 ?_
        exact E _ _ 25 _ ⟨rfl, rfl⟩ dX1_place_25
    · omega
set_option maxHeartbeats 4000000 in
theorem kX_place_ok (hA : bl_AV n z fm fc ct fl) (h1 : kn ≤ 1) (hk : kn = 1 → bl_OF n z fm fc fo ∧ bl_FS n z fm fc ff) {b k : Nat} (hb : b < n) (hk2 : k ≤ ct * z) : jx_Ki l D cb ci yX1_place wsX1_place rmX1_place 0 0 [.ref o, .int (nI (b + 1)), .int (nI k)] (XC cb ci o a n z fm fc ct fl kn fo fh ff ft fi fd) (fun r w' => (∃ p, p < n ∧ bl_row z fm fc fl k p = b ∧ r = nI p) ∧ bl_XI cb ci o a n z fm fc ct fl w') := by
  refine jx_Ki_of (by decide) (Nat.le_of_ble_eq_true rfl) [(0, .ref o), (1, .int (nI (b + 1))), (2, .int (nI k))] rfl ?_
  intro x G E
  have hA0 := hA
  obtain ⟨⟨hn3, hn6⟩, ⟨hz1, hz2⟩, hct, hV, hfl⟩ := hA0
  have hcz := bl_ctz hct hz2
  refine jx_iload_n (pc := 0) G dX1_place_0 rfl 1 rfl ?_
  refine jx_iconst (pc := 1) G dX1_place_1 kc_1 ?_
  refine jx_icmp_lt (pc := 2) (tgt := 13) G dX1_place_2 (by decide) (by omega) (by omega) (fun h2 => ?_) (fun h2 => ?_)
  · omega
  · refine jx_iload_n (pc := 5) G dX1_place_5 rfl 1 rfl ?_
    refine jx_aload_n (pc := 6) G dX1_place_6 rfl 0 rfl ?_
    refine xg_n (pc := 7) G dX1_place_7 ?_
    refine jx_icmp_le (pc := 10) (tgt := 15) G dX1_place_10 (by decide) (by omega) (by omega) (fun h10 => ?_) (fun h10 => ?_)
    · refine jx_aload_n (pc := 15) G dX1_place_15 rfl 0 rfl ?_
      refine jx_iload_n (pc := 16) G dX1_place_16 rfl 2 rfl ?_
      refine xc_i1 (pc := 17) G (fun _ _ => kX_noRow hcz (nI k)) (cwX1_noRow ⟨Nat.le_of_ble_eq_true rfl, Nat.le_of_ble_eq_true rfl⟩) (Nat.le_of_ble_eq_true rfl) dX1_place_17 (fun r w' hq => ?_)
      obtain ⟨rfl, rfl⟩ := hq
      rw [bl_ind_f (fun q => q ⟨k, by omega, rfl⟩)]
      refine jx_if_eq (pc := 20) (tgt := 26) G dX1_place_20 (by decide) (by omega) (fun h20 => ?_) (fun h20 => ?_)
      · refine jx_aload_n (pc := 26) G dX1_place_26 rfl 0 rfl ?_
        refine xc_v0 (pc := 27) G (fun _ _ => kX_findHeads hA h1 hk) (cwX1_findHeads ⟨Nat.le_of_ble_eq_true rfl, Nat.le_of_ble_eq_true rfl⟩) (Nat.le_of_ble_eq_true rfl) dX1_place_27 (fun w' hq => ?_)
        obtain ⟨fo', fh', ff', fd', hO, hF, hH, rfl⟩ := hq
        refine jx_iconst (pc := 30) G dX1_place_30 kc_0 ?_
        refine jx_istore_nV (pc := 31) G dX1_place_31 rfl (by decide) (0) rfl [(0, .ref o), (1, .int (nI (b + 1))), (2, .int (nI k)), (3, .int (nI 0))] rfl ?_
        refine jx_iconst (pc := 32) G dX1_place_32 kc_0 ?_
        refine jx_istoreV (pc := 33) G dX1_place_33 (by decide) (0) rfl [(0, .ref o), (1, .int (nI (b + 1))), (2, .int (nI k)), (3, .int (nI 0)), (4, .int (nI 0))] rfl ?_
        have lp35 : ∀ (d35 : Nat) (p pl : Nat), n - p = d35 → (p ≤ n) → ((∃ t, t < p ∧ bl_row z fm fc fl k t = b) → (pl < p ∧ bl_row z fm fc fl k pl = b)) → jx_J x 0 0 (XC cb ci o a n z fm fc ct fl 1 fo' fh' ff' ft fi fd') 35 [(0, .ref o), (1, .int (nI (b + 1))), (2, .int (nI k)), (3, .int (nI pl)), (4, .int (nI p))] [] := by
          intro d35
          induction d35 using Nat.strongRecOn with
          | _ d35 ih35 =>
          intro p pl hm35 hp hc
          refine jx_iload (pc := 35) G dX1_place_35 4 rfl ?_
          refine jx_aload_n (pc := 37) G dX1_place_37 rfl 0 rfl ?_
          refine xg_n (pc := 38) G dX1_place_38 ?_
          refine jx_icmp_ge (pc := 41) (tgt := 74) G dX1_place_41 (by decide) (by omega) (by omega) (fun h41 => ?_) (fun h41 => ?_)
          · refine jx_iload_n (pc := 74) G dX1_place_74 rfl 3 rfl ?_
            exact E _ _ 75 _ ⟨⟨pl, by obtain ⟨t, ht, e⟩ := (bl_row_PM hA hk2).2.2 b hb; have := hc ⟨t, by omega, e⟩; exact ⟨by omega, this.2, rfl⟩⟩, ⟨_, _, _, _, _, _, _, rfl, by omega, fun _ => ⟨hO, hF⟩⟩⟩ dX1_place_75
          · refine jx_aload_n (pc := 44) G dX1_place_44 rfl 0 rfl ?_
            refine jx_iload_n (pc := 45) G dX1_place_45 rfl 2 rfl ?_
            refine jx_iload (pc := 46) G dX1_place_46 4 rfl ?_
            refine xc_i2 (pc := 48) G (fun _ _ => kX_bellAt hA hO hH hk2 (by omega)) (cwX1_bellAt ⟨Nat.le_of_ble_eq_true rfl, Nat.le_of_ble_eq_true rfl⟩) (Nat.le_of_ble_eq_true rfl) dX1_place_48 (fun r w' hq => ?_)
            obtain ⟨rfl, rfl⟩ := hq
            refine jx_istoreV (pc := 51) G dX1_place_51 (by decide) (bl_row z fm fc fl k p) rfl [(0, .ref o), (1, .int (nI (b + 1))), (2, .int (nI k)), (3, .int (nI pl)), (4, .int (nI p)), (5, .int (nI (bl_row z fm fc fl k p)))] rfl ?_
            refine jx_iload (pc := 53) G dX1_place_53 5 rfl ?_
            refine jx_iload_n (pc := 55) G dX1_place_55 rfl 1 rfl ?_
            refine jx_iconst (pc := 56) G dX1_place_56 kc_1 ?_
            refine jx_isub (pc := 57) G dX1_place_57 (by omega) ?_
            refine jx_icmp_ne (pc := 58) (tgt := 66) G dX1_place_58 (by decide) (by have := (bl_row_PM hA hk2).1 p (by omega); omega) (by omega) (fun h58 => ?_) (fun h58 => ?_)
            · have hw := h58
              refine jx_iload_n (pc := 66) G dX1_place_66 rfl 3 rfl ?_
              refine jx_istore_n (pc := 67) G dX1_place_67 rfl (by decide) (fun v => [(0, .ref o), (1, .int (nI (b + 1))), (2, .int (nI k)), (3, .int (nI v)), (4, .int (nI p)), (5, .int (nI (bl_row z fm fc fl k p)))]) (fun _ => rfl) (fun pl2 epl2 => ?_)
              have hnew : (∃ t, t < p + 1 ∧ bl_row z fm fc fl k t = b) → (pl2 < p + 1 ∧ bl_row z fm fc fl k pl2 = b) := fun ⟨t, ht, e⟩ => by
                by_cases e2 : bl_row z fm fc fl k p = b
                · have : pl2 = p := by omega
                  rw [this]
                  exact ⟨by omega, e2⟩
                · have e3 : t ≠ p := fun q => e2 (by rw [← q]; exact e)
                  have := hc ⟨t, by omega, e⟩
                  have e4 : pl2 = pl := by omega
                  rw [e4]
                  exact ⟨by omega, this.2⟩
              refine jx_iincV (pc := 68) G dX1_place_68 kc_1 (by decide) 4 rfl (p + 1) rfl [(0, .ref o), (1, .int (nI (b + 1))), (2, .int (nI k)), (3, .int (nI pl2)), (4, .int (nI (p + 1))), (5, .int (nI (bl_row z fm fc fl k p)))] rfl ?_
              refine jx_goto (pc := 71) (tgt := 35) G dX1_place_71 (by decide) ?_
              exact jx_sub (lv' := [(0, .ref o), (1, .int (nI (b + 1))), (2, .int (nI k)), (3, .int (nI pl2)), (4, .int (nI (p + 1)))]) [0, 1, 2, 3, 4] rfl (ih35 _ (by omega) (p + 1) pl2 rfl (by omega) hnew)
            · have hw := h58
              refine jx_iload (pc := 61) G dX1_place_61 4 rfl ?_
              refine jx_goto (pc := 63) (tgt := 67) G dX1_place_63 (by decide) ?_
              refine jx_istore_n (pc := 67) G dX1_place_67 rfl (by decide) (fun v => [(0, .ref o), (1, .int (nI (b + 1))), (2, .int (nI k)), (3, .int (nI v)), (4, .int (nI p)), (5, .int (nI (bl_row z fm fc fl k p)))]) (fun _ => rfl) (fun pl2 epl2 => ?_)
              have hnew : (∃ t, t < p + 1 ∧ bl_row z fm fc fl k t = b) → (pl2 < p + 1 ∧ bl_row z fm fc fl k pl2 = b) := fun ⟨t, ht, e⟩ => by
                by_cases e2 : bl_row z fm fc fl k p = b
                · have : pl2 = p := by omega
                  rw [this]
                  exact ⟨by omega, e2⟩
                · have e3 : t ≠ p := fun q => e2 (by rw [← q]; exact e)
                  have := hc ⟨t, by omega, e⟩
                  have e4 : pl2 = pl := by omega
                  rw [e4]
                  exact ⟨by omega, this.2⟩
              refine jx_iincV (pc := 68) G dX1_place_68 kc_1 (by decide) 4 rfl (p + 1) rfl [(0, .ref o), (1, .int (nI (b + 1))), (2, .int (nI k)), (3, .int (nI pl2)), (4, .int (nI (p + 1))), (5, .int (nI (bl_row z fm fc fl k p)))] rfl ?_
              refine jx_goto (pc := 71) (tgt := 35) G dX1_place_71 (by decide) ?_
              exact jx_sub (lv' := [(0, .ref o), (1, .int (nI (b + 1))), (2, .int (nI k)), (3, .int (nI pl2)), (4, .int (nI (p + 1)))]) [0, 1, 2, 3, 4] rfl (ih35 _ (by omega) (p + 1) pl2 rfl (by omega) hnew)
        exact lp35 _ 0 0 rfl (by omega) (fun ⟨t, h, _⟩ => absurd h (by omega))
      · exact absurd rfl h20
    · omega
set_option maxHeartbeats 4000000 in
theorem kX_choices (hA : bl_AV n z fm fc ct fl) (h1 : kn ≤ 1) (hk : kn = 1 → bl_OF n z fm fc fo ∧ bl_FS n z fm fc ff) : jx_Ki l D cb ci yX1_choices wsX1_choices rmX1_choices 0 0 [.ref o] (XC cb ci o a n z fm fc ct fl kn fo fh ff ft fi fd) (fun r w' => r = nI (bl_sum (fun c => bl_ind (bl_at n z fm fc ct fl ∧ (¬ bl_al n z fm fc c ∧ ∀ i, i < ct → ¬ bl_sh n z fm fc fl i (fl i) ct c))) 3) ∧ bl_XI cb ci o a n z fm fc ct fl w') := by
  refine jx_Ki_of (by decide) (Nat.le_of_ble_eq_true rfl) [(0, .ref o)] rfl ?_
  intro x G E
  have hA0 := hA
  obtain ⟨⟨hn3, hn6⟩, ⟨hz1, hz2⟩, hct, hV, hfl⟩ := hA0
  refine jx_aload_n (pc := 0) G dX1_choices_0 rfl 0 rfl ?_
  refine xc_v0 (pc := 1) G (fun _ _ => kX_findHeads hA h1 hk) (cwX1_findHeads ⟨Nat.le_of_ble_eq_true rfl, Nat.le_of_ble_eq_true rfl⟩) (Nat.le_of_ble_eq_true rfl) dX1_choices_1 (fun w' hq => ?_)
  obtain ⟨fo', fh', ff', fd', hO, hF, hH, rfl⟩ := hq
  refine jx_aload_n (pc := 4) G dX1_choices_4 rfl 0 rfl ?_
  refine xc_i0 (pc := 5) G (fun _ _ => kX_allTrue hA hO hF hH) (cwX1_allTrue ⟨Nat.le_of_ble_eq_true rfl, Nat.le_of_ble_eq_true rfl⟩) (Nat.le_of_ble_eq_true rfl) dX1_choices_5 (fun r w' hq => ?_)
  obtain ⟨rfl, ft1, fi1, fd1, rfl⟩ := hq
  refine jx_istore_nV (pc := 8) G dX1_choices_8 rfl (by decide) (bl_ind (bl_at n z fm fc ct fl)) rfl [(0, .ref o), (1, .int (nI (bl_ind (bl_at n z fm fc ct fl))))] rfl ?_
  refine jx_iconst (pc := 9) G dX1_choices_9 kc_0 ?_
  refine jx_istore_nV (pc := 10) G dX1_choices_10 rfl (by decide) (0) rfl [(0, .ref o), (1, .int (nI (bl_ind (bl_at n z fm fc ct fl)))), (2, .int (nI 0))] rfl ?_
  refine jx_iconst (pc := 11) G dX1_choices_11 kc_0 ?_
  refine jx_istore_nV (pc := 12) G dX1_choices_12 rfl (by decide) (0) rfl [(0, .ref o), (1, .int (nI (bl_ind (bl_at n z fm fc ct fl)))), (2, .int (nI 0)), (3, .int (nI 0))] rfl ?_
  have lp13 : ∀ (d13 : Nat) (c mn : Nat) (ft2 fi2 fd2 : Nat → Nat), 3 - c = d13 → (c ≤ 3) → (mn = bl_sum (fun c => bl_ind (bl_at n z fm fc ct fl ∧ (¬ bl_al n z fm fc c ∧ ∀ i, i < ct → ¬ bl_sh n z fm fc fl i (fl i) ct c))) c) → jx_J x 0 0 (XC cb ci o a n z fm fc ct fl 1 fo' fh' ff' ft2 fi2 fd2) 13 [(0, .ref o), (1, .int (nI (bl_ind (bl_at n z fm fc ct fl)))), (2, .int (nI mn)), (3, .int (nI c))] [] := by
    intro d13
    induction d13 using Nat.strongRecOn with
    | _ d13 ih13 =>
    intro c mn ft2 fi2 fd2 hm13 hc hm
    refine jx_iload_n (pc := 13) G dX1_choices_13 rfl 3 rfl ?_
    refine jx_iconst (pc := 14) G dX1_choices_14 kc_3 ?_
    refine jx_icmp_ge (pc := 15) (tgt := 84) G dX1_choices_15 (by decide) (by omega) (by omega) (fun h15 => ?_) (fun h15 => ?_)
    · have hfin : mn = bl_sum (fun c => bl_ind (bl_at n z fm fc ct fl ∧ (¬ bl_al n z fm fc c ∧ ∀ i, i < ct → ¬ bl_sh n z fm fc fl i (fl i) ct c))) 3 := by rw [hm, show c = 3 by omega]
      refine jx_iload_n (pc := 84) G dX1_choices_84 rfl 2 rfl ?_
      exact E _ _ 85 _ ⟨by rw [hfin], ⟨_, _, _, _, _, _, _, rfl, by omega, fun _ => ⟨hO, hF⟩⟩⟩ dX1_choices_85
    · refine jx_iload_n (pc := 18) G dX1_choices_18 rfl 1 rfl ?_
      refine jx_if_eq (pc := 19) (tgt := 84) G dX1_choices_19 (by decide) (Nat.lt_of_le_of_lt (bl_ind_le _) (by decide)) (fun h19 => ?_) (fun h19 => ?_)
      · have hfin : mn = bl_sum (fun c => bl_ind (bl_at n z fm fc ct fl ∧ (¬ bl_al n z fm fc c ∧ ∀ i, i < ct → ¬ bl_sh n z fm fc fl i (fl i) ct c))) 3 := by
          have hz0 : ∀ k, bl_sum (fun c => bl_ind (bl_at n z fm fc ct fl ∧ (¬ bl_al n z fm fc c ∧ ∀ i, i < ct → ¬ bl_sh n z fm fc fl i (fl i) ct c))) k = 0 := fun k => by
            induction k with
            | zero => rfl
            | succ k ihk =>
              show bl_sum (fun c => bl_ind (bl_at n z fm fc ct fl ∧ (¬ bl_al n z fm fc c ∧ ∀ i, i < ct → ¬ bl_sh n z fm fc fl i (fl i) ct c))) k + bl_ind (bl_at n z fm fc ct fl ∧ (¬ bl_al n z fm fc k ∧ ∀ i, i < ct → ¬ bl_sh n z fm fc fl i (fl i) ct k)) = 0
              rw [ihk, bl_ind_f (fun q => bl_ind_0.mp h19 q.1)]
          rw [hm, hz0, hz0]
        refine jx_iload_n (pc := 84) G dX1_choices_84 rfl 2 rfl ?_
        exact E _ _ 85 _ ⟨by rw [hfin], ⟨_, _, _, _, _, _, _, rfl, by omega, fun _ => ⟨hO, hF⟩⟩⟩ dX1_choices_85
      · have hat := bl_ind_1.mp (show bl_ind (bl_at n z fm fc ct fl) = 1 by have := bl_ind_le (bl_at n z fm fc ct fl); omega)
        refine jx_aload_n (pc := 22) G dX1_choices_22 rfl 0 rfl ?_
        refine jx_iload_n (pc := 23) G dX1_choices_23 rfl 3 rfl ?_
        refine xc_i1 (pc := 24) G (fun _ _ => kX_aloneFalse hA hO (by omega)) (cwX1_aloneFalse ⟨Nat.le_of_ble_eq_true rfl, Nat.le_of_ble_eq_true rfl⟩) (Nat.le_of_ble_eq_true rfl) dX1_choices_24 (fun r w' hq => ?_)
        obtain ⟨rfl, ft3, fd3, rfl⟩ := hq
        refine jx_istoreV (pc := 27) G dX1_choices_27 (by decide) (bl_ind (bl_al n z fm fc c)) rfl [(0, .ref o), (1, .int (nI (bl_ind (bl_at n z fm fc ct fl)))), (2, .int (nI mn)), (3, .int (nI c)), (4, .int (nI (bl_ind (bl_al n z fm fc c))))] rfl ?_
        refine jx_iconst (pc := 29) G dX1_choices_29 kc_0 ?_
        refine jx_istoreV (pc := 30) G dX1_choices_30 (by decide) (0) rfl [(0, .ref o), (1, .int (nI (bl_ind (bl_at n z fm fc ct fl)))), (2, .int (nI mn)), (3, .int (nI c)), (4, .int (nI (bl_ind (bl_al n z fm fc c)))), (5, .int (nI 0))] rfl ?_
        have lp32 : ∀ (d32 : Nat) (i bd : Nat) (fi4 fd4 : Nat → Nat), ct - i = d32 → (i ≤ ct) → (bd = bl_ind (bl_al n z fm fc c ∨ ∃ t, t < i ∧ bl_sh n z fm fc fl t (fl t) ct c)) → jx_J x 0 0 (XC cb ci o a n z fm fc ct fl 1 fo' fh' ff' ft3 fi4 fd4) 32 [(0, .ref o), (1, .int (nI (bl_ind (bl_at n z fm fc ct fl)))), (2, .int (nI mn)), (3, .int (nI c)), (4, .int (nI bd)), (5, .int (nI i))] [] := by
          intro d32
          induction d32 using Nat.strongRecOn with
          | _ d32 ih32 =>
          intro i bd fi4 fd4 hm32 hi hb
          refine jx_iload (pc := 32) G dX1_choices_32 5 rfl ?_
          refine jx_aload_n (pc := 34) G dX1_choices_34 rfl 0 rfl ?_
          refine xg_count (pc := 35) G dX1_choices_35 ?_
          refine jx_icmp_ge (pc := 38) (tgt := 65) G dX1_choices_38 (by decide) (by omega) (by omega) (fun h38 => ?_) (fun h38 => ?_)
          · have hbd : bd = bl_ind (bl_al n z fm fc c ∨ ∃ t, t < ct ∧ bl_sh n z fm fc fl t (fl t) ct c) := by rw [hb, show i = ct by omega]
            refine jx_iload (pc := 65) G dX1_choices_65 4 rfl ?_
            refine jx_if_eq (pc := 67) (tgt := 74) G dX1_choices_67 (by decide) (by have := bl_ind_le (bl_al n z fm fc c ∨ ∃ t, t < ct ∧ bl_sh n z fm fc fl t (fl t) ct c); omega) (fun h67 => ?_) (fun h67 => ?_)
            · have hnew : bl_ind (bl_at n z fm fc ct fl ∧ (¬ bl_al n z fm fc c ∧ ∀ i, i < ct → ¬ bl_sh n z fm fc fl i (fl i) ct c)) = 1 := bl_ind_t (by
                have h9 := bl_ind_0.mp (show bl_ind (bl_al n z fm fc c ∨ ∃ t, t < ct ∧ bl_sh n z fm fc fl t (fl t) ct c) = 0 by omega)
                exact ⟨hat, fun q => h9 (Or.inl q), fun t ht q => h9 (Or.inr ⟨t, ht, q⟩)⟩)
              refine jx_iload_n (pc := 74) G dX1_choices_74 rfl 2 rfl ?_
              refine jx_iconst (pc := 75) G dX1_choices_75 kc_1 ?_
              refine jx_iadd (pc := 76) G dX1_choices_76 ?_
              refine jx_istore_n (pc := 77) G dX1_choices_77 rfl (by decide) (fun v => [(0, .ref o), (1, .int (nI (bl_ind (bl_at n z fm fc ct fl)))), (2, .int (nI v)), (3, .int (nI c)), (4, .int (nI bd)), (5, .int (nI i))]) (fun _ => rfl) (fun u2_77 eu2_77 => ?_)
              refine jx_iincV (pc := 78) G dX1_choices_78 kc_1 (by decide) 3 rfl (c + 1) rfl [(0, .ref o), (1, .int (nI (bl_ind (bl_at n z fm fc ct fl)))), (2, .int (nI u2_77)), (3, .int (nI (c + 1))), (4, .int (nI bd)), (5, .int (nI i))] rfl ?_
              refine jx_goto (pc := 81) (tgt := 13) G dX1_choices_81 (by decide) ?_
              exact jx_sub (lv' := [(0, .ref o), (1, .int (nI (bl_ind (bl_at n z fm fc ct fl)))), (2, .int (nI u2_77)), (3, .int (nI (c + 1)))]) [0, 1, 2, 3] rfl (ih13 _ (by omega) (c + 1) u2_77 _ _ _ rfl (by omega) (by show u2_77 = bl_sum (fun c => bl_ind (bl_at n z fm fc ct fl ∧ (¬ bl_al n z fm fc c ∧ ∀ i, i < ct → ¬ bl_sh n z fm fc fl i (fl i) ct c))) c + bl_ind (bl_at n z fm fc ct fl ∧ (¬ bl_al n z fm fc c ∧ ∀ i, i < ct → ¬ bl_sh n z fm fc fl i (fl i) ct c)); rw [hnew]; omega))
            · have hnew : bl_ind (bl_at n z fm fc ct fl ∧ (¬ bl_al n z fm fc c ∧ ∀ i, i < ct → ¬ bl_sh n z fm fc fl i (fl i) ct c)) = 0 := bl_ind_f (fun q => by
                have h8 := bl_ind_le (bl_al n z fm fc c ∨ ∃ t, t < ct ∧ bl_sh n z fm fc fl t (fl t) ct c)
                have h9 := bl_ind_1.mp (show bl_ind (bl_al n z fm fc c ∨ ∃ t, t < ct ∧ bl_sh n z fm fc fl t (fl t) ct c) = 1 by omega)
                rcases h9 with h9 | ⟨t, ht, h9⟩
                · exact q.2.1 h9
                · exact q.2.2 t ht h9)
              refine jx_iload_n (pc := 70) G dX1_choices_70 rfl 2 rfl ?_
              refine jx_goto (pc := 71) (tgt := 77) G dX1_choices_71 (by decide) ?_
              refine jx_istore_n (pc := 77) G dX1_choices_77 rfl (by decide) (fun v => [(0, .ref o), (1, .int (nI (bl_ind (bl_at n z fm fc ct fl)))), (2, .int (nI v)), (3, .int (nI c)), (4, .int (nI bd)), (5, .int (nI i))]) (fun _ => rfl) (fun u2_77 eu2_77 => ?_)
              refine jx_iincV (pc := 78) G dX1_choices_78 kc_1 (by decide) 3 rfl (c + 1) rfl [(0, .ref o), (1, .int (nI (bl_ind (bl_at n z fm fc ct fl)))), (2, .int (nI u2_77)), (3, .int (nI (c + 1))), (4, .int (nI bd)), (5, .int (nI i))] rfl ?_
              refine jx_goto (pc := 81) (tgt := 13) G dX1_choices_81 (by decide) ?_
              exact jx_sub (lv' := [(0, .ref o), (1, .int (nI (bl_ind (bl_at n z fm fc ct fl)))), (2, .int (nI u2_77)), (3, .int (nI (c + 1)))]) [0, 1, 2, 3] rfl (ih13 _ (by omega) (c + 1) u2_77 _ _ _ rfl (by omega) (by show u2_77 = bl_sum (fun c => bl_ind (bl_at n z fm fc ct fl ∧ (¬ bl_al n z fm fc c ∧ ∀ i, i < ct → ¬ bl_sh n z fm fc fl i (fl i) ct c))) c + bl_ind (bl_at n z fm fc ct fl ∧ (¬ bl_al n z fm fc c ∧ ∀ i, i < ct → ¬ bl_sh n z fm fc fl i (fl i) ct c)); rw [hnew]; omega))
          · have hb1 := bl_ind_le (bl_al n z fm fc c ∨ ∃ t, t < i ∧ bl_sh n z fm fc fl t (fl t) ct c)
            refine jx_iload (pc := 41) G dX1_choices_41 4 rfl ?_
            refine jx_if_ne (pc := 43) (tgt := 65) G dX1_choices_43 (by decide) (by omega) (fun h43 => ?_) (fun h43 => ?_)
            · have hbd : bd = bl_ind (bl_al n z fm fc c ∨ ∃ t, t < ct ∧ bl_sh n z fm fc fl t (fl t) ct c) := by
                have h9 : bl_ind (bl_al n z fm fc c ∨ ∃ t, t < i ∧ bl_sh n z fm fc fl t (fl t) ct c) = 1 := by omega
                rw [bl_ind_t ((bl_ind_1.mp h9).imp id (fun ⟨t, ht, q⟩ => ⟨t, by omega, q⟩))]
                omega
              refine jx_iload (pc := 65) G dX1_choices_65 4 rfl ?_
              refine jx_if_eq (pc := 67) (tgt := 74) G dX1_choices_67 (by decide) (by have := bl_ind_le (bl_al n z fm fc c ∨ ∃ t, t < ct ∧ bl_sh n z fm fc fl t (fl t) ct c); omega) (fun h67 => ?_) (fun h67 => ?_)
              · have hnew : bl_ind (bl_at n z fm fc ct fl ∧ (¬ bl_al n z fm fc c ∧ ∀ i, i < ct → ¬ bl_sh n z fm fc fl i (fl i) ct c)) = 1 := bl_ind_t (by
                  have h9 := bl_ind_0.mp (show bl_ind (bl_al n z fm fc c ∨ ∃ t, t < ct ∧ bl_sh n z fm fc fl t (fl t) ct c) = 0 by omega)
                  exact ⟨hat, fun q => h9 (Or.inl q), fun t ht q => h9 (Or.inr ⟨t, ht, q⟩)⟩)
                refine jx_iload_n (pc := 74) G dX1_choices_74 rfl 2 rfl ?_
                refine jx_iconst (pc := 75) G dX1_choices_75 kc_1 ?_
                refine jx_iadd (pc := 76) G dX1_choices_76 ?_
                refine jx_istore_n (pc := 77) G dX1_choices_77 rfl (by decide) (fun v => [(0, .ref o), (1, .int (nI (bl_ind (bl_at n z fm fc ct fl)))), (2, .int (nI v)), (3, .int (nI c)), (4, .int (nI bd)), (5, .int (nI i))]) (fun _ => rfl) (fun u2_77 eu2_77 => ?_)
                refine jx_iincV (pc := 78) G dX1_choices_78 kc_1 (by decide) 3 rfl (c + 1) rfl [(0, .ref o), (1, .int (nI (bl_ind (bl_at n z fm fc ct fl)))), (2, .int (nI u2_77)), (3, .int (nI (c + 1))), (4, .int (nI bd)), (5, .int (nI i))] rfl ?_
                refine jx_goto (pc := 81) (tgt := 13) G dX1_choices_81 (by decide) ?_
                exact jx_sub (lv' := [(0, .ref o), (1, .int (nI (bl_ind (bl_at n z fm fc ct fl)))), (2, .int (nI u2_77)), (3, .int (nI (c + 1)))]) [0, 1, 2, 3] rfl (ih13 _ (by omega) (c + 1) u2_77 _ _ _ rfl (by omega) (by show u2_77 = bl_sum (fun c => bl_ind (bl_at n z fm fc ct fl ∧ (¬ bl_al n z fm fc c ∧ ∀ i, i < ct → ¬ bl_sh n z fm fc fl i (fl i) ct c))) c + bl_ind (bl_at n z fm fc ct fl ∧ (¬ bl_al n z fm fc c ∧ ∀ i, i < ct → ¬ bl_sh n z fm fc fl i (fl i) ct c)); rw [hnew]; omega))
              · have hnew : bl_ind (bl_at n z fm fc ct fl ∧ (¬ bl_al n z fm fc c ∧ ∀ i, i < ct → ¬ bl_sh n z fm fc fl i (fl i) ct c)) = 0 := bl_ind_f (fun q => by
                  have h8 := bl_ind_le (bl_al n z fm fc c ∨ ∃ t, t < ct ∧ bl_sh n z fm fc fl t (fl t) ct c)
                  have h9 := bl_ind_1.mp (show bl_ind (bl_al n z fm fc c ∨ ∃ t, t < ct ∧ bl_sh n z fm fc fl t (fl t) ct c) = 1 by omega)
                  rcases h9 with h9 | ⟨t, ht, h9⟩
                  · exact q.2.1 h9
                  · exact q.2.2 t ht h9)
                refine jx_iload_n (pc := 70) G dX1_choices_70 rfl 2 rfl ?_
                refine jx_goto (pc := 71) (tgt := 77) G dX1_choices_71 (by decide) ?_
                refine jx_istore_n (pc := 77) G dX1_choices_77 rfl (by decide) (fun v => [(0, .ref o), (1, .int (nI (bl_ind (bl_at n z fm fc ct fl)))), (2, .int (nI v)), (3, .int (nI c)), (4, .int (nI bd)), (5, .int (nI i))]) (fun _ => rfl) (fun u2_77 eu2_77 => ?_)
                refine jx_iincV (pc := 78) G dX1_choices_78 kc_1 (by decide) 3 rfl (c + 1) rfl [(0, .ref o), (1, .int (nI (bl_ind (bl_at n z fm fc ct fl)))), (2, .int (nI u2_77)), (3, .int (nI (c + 1))), (4, .int (nI bd)), (5, .int (nI i))] rfl ?_
                refine jx_goto (pc := 81) (tgt := 13) G dX1_choices_81 (by decide) ?_
                exact jx_sub (lv' := [(0, .ref o), (1, .int (nI (bl_ind (bl_at n z fm fc ct fl)))), (2, .int (nI u2_77)), (3, .int (nI (c + 1)))]) [0, 1, 2, 3] rfl (ih13 _ (by omega) (c + 1) u2_77 _ _ _ rfl (by omega) (by show u2_77 = bl_sum (fun c => bl_ind (bl_at n z fm fc ct fl ∧ (¬ bl_al n z fm fc c ∧ ∀ i, i < ct → ¬ bl_sh n z fm fc fl i (fl i) ct c))) c + bl_ind (bl_at n z fm fc ct fl ∧ (¬ bl_al n z fm fc c ∧ ∀ i, i < ct → ¬ bl_sh n z fm fc fl i (fl i) ct c)); rw [hnew]; omega))
            · have hnb := bl_ind_0.mp (show bl_ind (bl_al n z fm fc c ∨ ∃ t, t < i ∧ bl_sh n z fm fc fl t (fl t) ct c) = 0 by omega)
              refine jx_aload_n (pc := 46) G dX1_choices_46 rfl 0 rfl ?_
              refine jx_iload (pc := 47) G dX1_choices_47 5 rfl ?_
              refine jx_aload_n (pc := 49) G dX1_choices_49 rfl 0 rfl ?_
              refine xg_count (pc := 50) G dX1_choices_50 ?_
              refine jx_iload_n (pc := 53) G dX1_choices_53 rfl 3 rfl ?_
              refine xc_i3 (pc := 54) G (fun _ _ => kX_pairFalse hA hF hH h38 (Nat.le_refl ct) (by omega)) (cwX1_pairFalse ⟨Nat.le_of_ble_eq_true rfl, Nat.le_of_ble_eq_true rfl⟩) (Nat.le_of_ble_eq_true rfl) dX1_choices_54 (fun r w' hq => ?_)
              obtain ⟨rfl, fi5, fd5, rfl⟩ := hq
              refine jx_istoreV (pc := 57) G dX1_choices_57 (by decide) (bl_ind (bl_sh n z fm fc fl i (fl i) ct c)) rfl [(0, .ref o), (1, .int (nI (bl_ind (bl_at n z fm fc ct fl)))), (2, .int (nI mn)), (3, .int (nI c)), (4, .int (nI (bl_ind (bl_sh n z fm fc fl i (fl i) ct c)))), (5, .int (nI i))] rfl ?_
              have hnewb : bl_ind (bl_sh n z fm fc fl i (fl i) ct c) = bl_ind (bl_al n z fm fc c ∨ ∃ t, t < (i + 1) ∧ bl_sh n z fm fc fl t (fl t) ct c) := bl_ind_iff ⟨fun q => Or.inr ⟨i, by omega, q⟩, fun q => by
                rcases q with q | ⟨t, ht, q⟩
                · exact absurd (Or.inl q) hnb
                · by_cases e : t = i
                  · rw [e] at q
                    exact q
                  · exact absurd (Or.inr ⟨t, by omega, q⟩) hnb⟩
              refine jx_iincV (pc := 59) G dX1_choices_59 kc_1 (by decide) 5 rfl (i + 1) rfl [(0, .ref o), (1, .int (nI (bl_ind (bl_at n z fm fc ct fl)))), (2, .int (nI mn)), (3, .int (nI c)), (4, .int (nI (bl_ind (bl_sh n z fm fc fl i (fl i) ct c)))), (5, .int (nI (i + 1)))] rfl ?_
              refine jx_goto (pc := 62) (tgt := 32) G dX1_choices_62 (by decide) ?_
              exact ih32 _ (by omega) (i + 1) ((bl_ind (bl_sh n z fm fc fl i (fl i) ct c))) _ _ rfl (by omega) hnewb
        exact lp32 _ 0 _ fi2 fd3 rfl (by omega) (bl_ind_iff ⟨fun q => Or.inl q, fun q => q.elim id (fun ⟨t, ht, _⟩ => absurd ht (by omega))⟩)
  exact lp13 _ 0 0 ft1 fi1 fd1 rfl (by omega) rfl
set_option maxHeartbeats 4000000 in
theorem kX_order_bad {y : Int32} (hy : ¬ bl_in 3 y) : jx_Ki l D cb ci yX1_order wsX1_order rmX1_order 0 0 [.ref o, .int y] (XC cb ci o a n z fm fc ct fl kn fo fh ff ft fi fd) (fun r w' => r = -1 ∧ w' = XC cb ci o a n z fm fc ct fl kn fo fh ff ft fi fd) := by
  refine jx_Ki_of (by decide) (Nat.le_of_ble_eq_true rfl) [(0, .ref o), (1, .int y)] rfl ?_
  intro x G E
  refine jx_aload_n (pc := 0) G dX1_order_0 rfl 0 rfl ?_
  refine jx_iload_n (pc := 1) G dX1_order_1 rfl 1 rfl ?_
  refine xc_i1 (pc := 2) G (fun _ _ => kX_badCall y) (cwX1_badCall ⟨Nat.le_of_ble_eq_true rfl, Nat.le_of_ble_eq_true rfl⟩) (Nat.le_of_ble_eq_true rfl) dX1_order_2 (fun r w' hq => ?_)
  obtain ⟨rfl, rfl⟩ := hq
  rw [bl_ind_t hy]
  refine jx_if_eq (pc := 5) (tgt := 10) G dX1_order_5 (by decide) (by omega) (fun h5 => ?_) (fun h5 => ?_)
  · exact absurd h5 (by decide)
  · refine jx_iconst (pc := 8) G dX1_order_8 kc_m1 ?_
    exact E _ _ 9 _ ⟨rfl, rfl⟩ dX1_order_9
set_option maxHeartbeats 4000000 in
theorem kX_order_ok (hA : bl_AV n z fm fc ct fl) (h1 : kn ≤ 1) (hk : kn = 1 → bl_OF n z fm fc fo ∧ bl_FS n z fm fc ff) {c : Nat} (hc : c < 3) : jx_Ki l D cb ci yX1_order wsX1_order rmX1_order 0 0 [.ref o, .int (nI c)] (XC cb ci o a n z fm fc ct fl kn fo fh ff ft fi fd) (fun r w' => (∃ L, 0 < L ∧ (∀ m, L ∣ m ↔ ∀ q, q < n → bl_it (bl_off z fm fc c z) m q = q) ∧ r = nI L) ∧ bl_XI cb ci o a n z fm fc ct fl w') := by
  refine jx_Ki_of (by decide) (Nat.le_of_ble_eq_true rfl) [(0, .ref o), (1, .int (nI c))] rfl ?_
  intro x G E
  have hA0 := hA
  obtain ⟨⟨hn3, hn6⟩, ⟨hz1, hz2⟩, hct, hV, hfl⟩ := hA0
  have hP := bl_off_PM hV hc z (Nat.le_refl z)
  refine jx_aload_n (pc := 0) G dX1_order_0 rfl 0 rfl ?_
  refine jx_iload_n (pc := 1) G dX1_order_1 rfl 1 rfl ?_
  refine xc_i1 (pc := 2) G (fun _ _ => kX_badCall (nI c)) (cwX1_badCall ⟨Nat.le_of_ble_eq_true rfl, Nat.le_of_ble_eq_true rfl⟩) (Nat.le_of_ble_eq_true rfl) dX1_order_2 (fun r w' hq => ?_)
  obtain ⟨rfl, rfl⟩ := hq
  rw [bl_ind_f (fun q => q ⟨c, hc, rfl⟩)]
  refine jx_if_eq (pc := 5) (tgt := 10) G dX1_order_5 (by decide) (by omega) (fun h5 => ?_) (fun h5 => ?_)
  · refine jx_aload_n (pc := 10) G dX1_order_10 rfl 0 rfl ?_
    refine xc_v0 (pc := 11) G (fun _ _ => kX_find hA h1 hk) (cwX1_find ⟨Nat.le_of_ble_eq_true rfl, Nat.le_of_ble_eq_true rfl⟩) (Nat.le_of_ble_eq_true rfl) dX1_order_11 (fun w' hq => ?_)
    obtain ⟨fo', ff', fd', hO, hF, rfl⟩ := hq
    refine jx_aload_n (pc := 14) G dX1_order_14 rfl 0 rfl ?_
    refine jx_iload_n (pc := 15) G dX1_order_15 rfl 1 rfl ?_
    refine jx_aload_n (pc := 16) G dX1_order_16 rfl 0 rfl ?_
    refine xg_size (pc := 17) G dX1_order_17 ?_
    refine xc_i2 (pc := 20) G (fun _ _ => kX_offsetAt _ _) (cwX1_offsetAt ⟨Nat.le_of_ble_eq_true rfl, Nat.le_of_ble_eq_true rfl⟩) (Nat.le_of_ble_eq_true rfl) dX1_order_20 (fun r w' hq => ?_)
    obtain ⟨rfl, rfl⟩ := hq
    refine jx_istore_nV (pc := 23) G dX1_order_23 rfl (by decide) (78 * c + 6 * z) rfl [(0, .ref o), (1, .int (nI c)), (2, .int (nI (78 * c + 6 * z)))] rfl ?_
    refine jx_iconst (pc := 24) G dX1_order_24 kc_1 ?_
    refine jx_istore_nV (pc := 25) G dX1_order_25 rfl (by decide) (1) rfl [(0, .ref o), (1, .int (nI c)), (2, .int (nI (78 * c + 6 * z))), (3, .int (nI 1))] rfl ?_
    refine jx_iconst (pc := 26) G dX1_order_26 kc_0 ?_
    refine jx_istoreV (pc := 27) G dX1_order_27 (by decide) (0) rfl [(0, .ref o), (1, .int (nI c)), (2, .int (nI (78 * c + 6 * z))), (3, .int (nI 1)), (4, .int (nI 0))] rfl ?_
    have lp29 : ∀ (d29 : Nat) (p all : Nat), n - p = d29 → (p ≤ n) → (all ∣ 60) → (0 < all) → (∀ m, all ∣ m ↔ ∀ q, q < p → bl_it (bl_off z fm fc c z) m q = q) → jx_J x 0 0 (XC cb ci o a n z fm fc ct fl 1 fo' fh ff' ft fi fd') 29 [(0, .ref o), (1, .int (nI c)), (2, .int (nI (78 * c + 6 * z))), (3, .int (nI all)), (4, .int (nI p))] [] := by
      intro d29
      induction d29 using Nat.strongRecOn with
      | _ d29 ih29 =>
      intro p all hm29 hp h60 ha0 hdv
      refine jx_iload (pc := 29) G dX1_order_29 4 rfl ?_
      refine jx_aload_n (pc := 31) G dX1_order_31 rfl 0 rfl ?_
      refine xg_n (pc := 32) G dX1_order_32 ?_
      refine jx_icmp_ge (pc := 35) (tgt := 117) G dX1_order_35 (by decide) (by omega) (by omega) (fun h35 => ?_) (fun h35 => ?_)
      · refine jx_iload_n (pc := 117) G dX1_order_117 rfl 3 rfl ?_
        exact E _ _ 118 _ ⟨⟨all, ha0, fun m => by rw [hdv m, show p = n by omega], rfl⟩, ⟨_, _, _, _, _, _, _, rfl, by omega, fun _ => ⟨hO, hF⟩⟩⟩ dX1_order_118
      · have hal := Nat.le_of_dvd (by decide) h60
        refine jx_iconst (pc := 38) G dX1_order_38 kc_1 ?_
        refine jx_istoreV (pc := 39) G dX1_order_39 (by decide) (1) rfl [(0, .ref o), (1, .int (nI c)), (2, .int (nI (78 * c + 6 * z))), (3, .int (nI all)), (4, .int (nI p)), (5, .int (nI 1))] rfl ?_
        refine jx_aload_n (pc := 41) G dX1_order_41 rfl 0 rfl ?_
        refine xg_offset (pc := 42) G dX1_order_42 ?_
        refine jx_iload_n (pc := 45) G dX1_order_45 rfl 2 rfl ?_
        refine jx_iload (pc := 46) G dX1_order_46 4 rfl ?_
        refine jx_iadd (pc := 48) G dX1_order_48 ?_
        refine xl_offset (pc := 49) G dX1_order_49 (by omega) ?_
        rw [hO c hc z (Nat.le_refl z) p (by omega)]
        refine jx_istoreV (pc := 50) G dX1_order_50 (by decide) (bl_off z fm fc c z p) rfl [(0, .ref o), (1, .int (nI c)), (2, .int (nI (78 * c + 6 * z))), (3, .int (nI all)), (4, .int (nI p)), (5, .int (nI 1)), (6, .int (nI (bl_off z fm fc c z p)))] rfl ?_
        have lp52 : ∀ (d52 : Nat) (rd at1 : Nat), n - rd = d52 → (1 ≤ rd) → (rd ≤ n) → (at1 = bl_it (bl_off z fm fc c z) rd p) → (∀ s, 1 ≤ s → s < rd → bl_it (bl_off z fm fc c z) s p ≠ p) → jx_J x 0 0 (XC cb ci o a n z fm fc ct fl 1 fo' fh ff' ft fi fd') 52 [(0, .ref o), (1, .int (nI c)), (2, .int (nI (78 * c + 6 * z))), (3, .int (nI all)), (4, .int (nI p)), (5, .int (nI rd)), (6, .int (nI at1))] [] := by
          intro d52
          induction d52 using Nat.strongRecOn with
          | _ d52 ih52 =>
          intro rd at1 hm52 hr1 hr2 hat hs
          have hlt : at1 < n := by
            rw [hat]
            exact bl_it_lt hP rd p (by omega)
          refine jx_iload (pc := 52) G dX1_order_52 6 rfl ?_
          refine jx_iload (pc := 54) G dX1_order_54 4 rfl ?_
          refine jx_icmp_eq (pc := 56) (tgt := 85) G dX1_order_56 (by decide) (by omega) (by omega) (fun h56 => ?_) (fun h56 => ?_)
          · have hper := bl_per hP (p := p) (by omega) hr1 (by rw [← hat]; exact h56) hs
            have hmul := Nat.mul_le_mul hal (show rd ≤ 6 by omega)
            have hgp := Nat.gcd_pos_of_pos_left rd ha0
            have hgl := Nat.le_of_dvd (by omega) (Nat.gcd_dvd_right all rd)
            refine jx_aload_n (pc := 85) G dX1_order_85 rfl 0 rfl ?_
            refine jx_iload_n (pc := 86) G dX1_order_86 rfl 3 rfl ?_
            refine jx_iload (pc := 87) G dX1_order_87 5 rfl ?_
            refine xc_i2 (pc := 89) G (fun _ _ => kX_greatest _ _ (by omega) (by omega)) (cwX1_greatest ⟨Nat.le_of_ble_eq_true rfl, Nat.le_of_ble_eq_true rfl⟩) (Nat.le_of_ble_eq_true rfl) dX1_order_89 (fun r w' hq => ?_)
            obtain ⟨rfl, rfl⟩ := hq
            refine jx_istoreV (pc := 92) G dX1_order_92 (by decide) (Nat.gcd all rd) rfl [(0, .ref o), (1, .int (nI c)), (2, .int (nI (78 * c + 6 * z))), (3, .int (nI all)), (4, .int (nI p)), (5, .int (nI rd)), (6, .int (nI at1)), (7, .int (nI (Nat.gcd all rd)))] rfl ?_
            refine jx_iload_n (pc := 94) G dX1_order_94 rfl 3 rfl ?_
            refine jx_iload (pc := 95) G dX1_order_95 5 rfl ?_
            refine jx_imul (pc := 97) G dX1_order_97 ?_
            refine jx_iload (pc := 98) G dX1_order_98 7 rfl ?_
            refine jx_if_le (pc := 100) (tgt := 108) G dX1_order_100 (by decide) (by omega) (fun h100 => ?_) (fun h100 => ?_)
            · omega
            · refine jx_iload (pc := 103) G dX1_order_103 7 rfl ?_
              refine jx_goto (pc := 105) (tgt := 109) G dX1_order_105 (by decide) ?_
              refine jx_idiv (pc := 109) G dX1_order_109 (by omega) (by omega) (by omega) ?_
              refine jx_istore_nV (pc := 110) G dX1_order_110 rfl (by decide) (Nat.lcm all rd) rfl [(0, .ref o), (1, .int (nI c)), (2, .int (nI (78 * c + 6 * z))), (3, .int (nI (Nat.lcm all rd))), (4, .int (nI p)), (5, .int (nI rd)), (6, .int (nI at1)), (7, .int (nI (Nat.gcd all rd)))] rfl ?_
              refine jx_iincV (pc := 111) G dX1_order_111 kc_1 (by decide) 4 rfl (p + 1) rfl [(0, .ref o), (1, .int (nI c)), (2, .int (nI (78 * c + 6 * z))), (3, .int (nI (Nat.lcm all rd))), (4, .int (nI (p + 1))), (5, .int (nI rd)), (6, .int (nI at1)), (7, .int (nI (Nat.gcd all rd)))] rfl ?_
              refine jx_goto (pc := 114) (tgt := 29) G dX1_order_114 (by decide) ?_
              exact jx_sub (lv' := [(0, .ref o), (1, .int (nI c)), (2, .int (nI (78 * c + 6 * z))), (3, .int (nI (Nat.lcm all rd))), (4, .int (nI (p + 1)))]) [0, 1, 2, 3, 4] rfl (ih29 _ (by omega) (p + 1) _ rfl (by omega) (Nat.lcm_dvd h60 (bl_60 rd (by omega) (by omega))) (Nat.lcm_pos ha0 (by omega)) (fun m => by rw [bl_lcm_iff, hdv m, hper m]; exact ⟨fun h q hq => by by_cases e : q = p; (rw [e]; exact h.2); exact h.1 q (by omega), fun h => ⟨fun q hq => h q (by omega), h p (by omega)⟩⟩))
          · refine jx_iload (pc := 59) G dX1_order_59 5 rfl ?_
            refine jx_aload_n (pc := 61) G dX1_order_61 rfl 0 rfl ?_
            refine xg_n (pc := 62) G dX1_order_62 ?_
            refine jx_icmp_ge (pc := 65) (tgt := 85) G dX1_order_65 (by decide) (by omega) (by omega) (fun h65 => ?_) (fun h65 => ?_)
            · obtain ⟨r, r1, r2, r3⟩ := bl_cyc hP (p := p) (by omega)
              by_cases e : r < rd
              · exact absurd r3 (hs r r1 e)
              · exact absurd (by rw [hat, show rd = r by omega]; exact r3) h56
            · refine jx_aload_n (pc := 68) G dX1_order_68 rfl 0 rfl ?_
              refine xg_offset (pc := 69) G dX1_order_69 ?_
              refine jx_iload_n (pc := 72) G dX1_order_72 rfl 2 rfl ?_
              refine jx_iload (pc := 73) G dX1_order_73 6 rfl ?_
              refine jx_iadd (pc := 75) G dX1_order_75 ?_
              refine xl_offset (pc := 76) G dX1_order_76 (by omega) ?_
              rw [hO c hc z (Nat.le_refl z) at1 hlt]
              refine jx_istoreV (pc := 77) G dX1_order_77 (by decide) (bl_off z fm fc c z at1) rfl [(0, .ref o), (1, .int (nI c)), (2, .int (nI (78 * c + 6 * z))), (3, .int (nI all)), (4, .int (nI p)), (5, .int (nI rd)), (6, .int (nI (bl_off z fm fc c z at1)))] rfl ?_
              refine jx_iincV (pc := 79) G dX1_order_79 kc_1 (by decide) 5 rfl (rd + 1) rfl [(0, .ref o), (1, .int (nI c)), (2, .int (nI (78 * c + 6 * z))), (3, .int (nI all)), (4, .int (nI p)), (5, .int (nI (rd + 1))), (6, .int (nI (bl_off z fm fc c z at1)))] rfl ?_
              refine jx_goto (pc := 82) (tgt := 52) G dX1_order_82 (by decide) ?_
              exact ih52 _ (by omega) (rd + 1) _ rfl (by omega) (by omega) (by rw [bl_it_succ, ← hat]) (fun s h1 h2 => by by_cases e : s = rd; (rw [e, ← hat]; exact h56); exact hs s h1 (by omega))
        exact lp52 _ 1 _ rfl (by omega) (by omega) rfl (fun s h1 h2 => absurd h2 (by omega))
    exact lp29 _ 0 1 rfl (by omega) (Nat.one_dvd 60) (by omega) (fun m => ⟨fun _ q h => absurd h (by omega), fun _ => Nat.one_dvd m⟩)
  · exact absurd rfl h5
end XF
end
section
set_option maxRecDepth 100000
section MA
variable {l : Launch} {D : va_G} {cb ci : ClassId} {o : Nat} {a : Nat → Nat} {n z ct kn la : Nat} {fm fc fl fo fh ff ft fi fd fb fr gm gc gl : Nat → Nat}
set_option maxHeartbeats 4000000 in
theorem kM_isChange_neg {y : Int32} (hy : y < 0) : jx_Ki l D cb ci yX2_isChange wsX2_isChange rmX2_isChange 0 0 [.ref o, .int y] (MC cb ci o a n z gm gc ct gl fb la fr) (fun r w' => r = nI 0 ∧ w' = MC cb ci o a n z gm gc ct gl fb la fr) := by
  refine jx_Kz_of (by decide) (Nat.le_of_ble_eq_true rfl) [(0, .ref o), (1, .int y)] rfl ?_
  intro x G E
  refine jx_iload_n (pc := 0) G dX2_isChange_0 rfl 1 rfl ?_
  refine jx_iflt_neg (pc := 1) (tgt := 14) G dX2_isChange_1 (by decide) hy ?_
  refine jx_iconst (pc := 14) G dX2_isChange_14 kc_0 ?_
  exact E _ _ 15 _ ⟨rfl, rfl⟩ (by omega) dX2_isChange_15
set_option maxHeartbeats 4000000 in
theorem kM_isChange_nn (hn : n ≤ 6) {j : Nat} (hj : j < 2 ^ 31) : jx_Ki l D cb ci yX2_isChange wsX2_isChange rmX2_isChange 0 0 [.ref o, .int (nI j)] (MC cb ci o a n z gm gc ct gl fb la fr) (fun r w' => r = nI (bl_ind (bl_ok n j)) ∧ w' = MC cb ci o a n z gm gc ct gl fb la fr) := by
  refine jx_Kz_of (by decide) (Nat.le_of_ble_eq_true rfl) [(0, .ref o), (1, .int (nI j))] rfl ?_
  intro x G E
  have h2n : 2 ^ n ≤ 64 := Nat.pow_le_pow_right (n := 2) (by decide) hn
  refine jx_iload_n (pc := 0) G dX2_isChange_0 rfl 1 rfl ?_
  refine jx_iflt_nn (pc := 1) (tgt := 14) G dX2_isChange_1 (by decide) hj ?_
  refine jx_iload_n (pc := 4) G dX2_isChange_4 rfl 1 rfl ?_
  refine jx_iconst (pc := 5) G dX2_isChange_5 kc_1 ?_
  refine jx_aload_n (pc := 6) G dX2_isChange_6 rfl 0 rfl ?_
  refine mg_n (pc := 7) G dX2_isChange_7 ?_
  refine jx_ishlR (pc := 10) G dX2_isChange_10 (ns_1 (by omega)) ?_
  refine jx_icmp_lt (pc := 11) (tgt := 16) G dX2_isChange_11 (by decide) (by omega) (by omega) (fun h11 => ?_) (fun h11 => ?_)
  · refine jx_iconst (pc := 16) G dX2_isChange_16 kc_0 ?_
    refine jx_istore_nV (pc := 17) G dX2_isChange_17 rfl (by decide) (0) rfl [(0, .ref o), (1, .int (nI j)), (2, .int (nI 0))] rfl ?_
    have lp18 : ∀ (d18 : Nat) (p : Nat), n - p = d18 → (p ≤ n) → (bl_sec j p = false) → (∀ q, q < p → bl_fst j q = true → q + 1 < n ∧ bl_bit j (q + 1) = 0) → jx_J x 0 0 (MC cb ci o a n z gm gc ct gl fb la fr) 18 [(0, .ref o), (1, .int (nI j)), (2, .int (nI p))] [] := by
      intro d18
      induction d18 using Nat.strongRecOn with
      | _ d18 ih18 =>
      intro p hm18 hp hsec h1
      refine jx_iload_n (pc := 18) G dX2_isChange_18 rfl 2 rfl ?_
      refine jx_aload_n (pc := 19) G dX2_isChange_19 rfl 0 rfl ?_
      refine mg_n (pc := 20) G dX2_isChange_20 ?_
      refine jx_icmp_ge (pc := 23) (tgt := 69) G dX2_isChange_23 (by decide) (by omega) (by omega) (fun h23 => ?_) (fun h23 => ?_)
      · refine jx_iconst (pc := 69) G dX2_isChange_69 kc_1 ?_
        exact E _ _ 70 _ ⟨by rw [bl_ind_t ⟨h11, fun q hq hf => h1 q (by omega) hf⟩], rfl⟩ (by omega) dX2_isChange_70
      · refine jx_iload_n (pc := 26) G dX2_isChange_26 rfl 1 rfl ?_
        refine jx_iload_n (pc := 27) G dX2_isChange_27 rfl 2 rfl ?_
        refine jx_ishrR (pc := 28) G dX2_isChange_28 (nr_s (by omega) (by omega)) ?_
        refine jx_iconst (pc := 29) G dX2_isChange_29 kc_1 ?_
        refine jx_iandR (pc := 30) G dX2_isChange_30 (na_1 (Nat.lt_of_le_of_lt (Nat.div_le_self _ _) (by omega))) ?_
        refine jx_iconst (pc := 31) G dX2_isChange_31 kc_1 ?_
        refine jx_icmp_ne (pc := 32) (tgt := 41) G dX2_isChange_32 (by decide) (Nat.lt_of_lt_of_le (Nat.mod_lt _ (by decide)) (by decide)) (by decide) (fun h32 => ?_) (fun h32 => ?_)
        · have hb0 : bl_bit j p = 0 := by
            have h2 : bl_bit j p ≠ 1 := h32
            have h3 := bl_bit_lt j p
            omega
          have hf1 : bl_fst j p = true := bl_fst_iff.mpr ⟨hb0, hsec⟩
          refine jx_iload_n (pc := 41) G dX2_isChange_41 rfl 2 rfl ?_
          refine jx_iconst (pc := 42) G dX2_isChange_42 kc_1 ?_
          refine jx_iadd (pc := 43) G dX2_isChange_43 ?_
          refine jx_aload_n (pc := 44) G dX2_isChange_44 rfl 0 rfl ?_
          refine mg_n (pc := 45) G dX2_isChange_45 ?_
          refine jx_icmp_ge (pc := 48) (tgt := 67) G dX2_isChange_48 (by decide) (by omega) (by omega) (fun h48 => ?_) (fun h48 => ?_)
          · have hno : ¬ bl_ok n j := fun q => by
              have := (q.2 p (by omega) hf1).1
              omega
            refine jx_iconst (pc := 67) G dX2_isChange_67 kc_0 ?_
            exact E _ _ 68 _ ⟨by rw [bl_ind_f hno], rfl⟩ (by omega) dX2_isChange_68
          · refine jx_iload_n (pc := 51) G dX2_isChange_51 rfl 1 rfl ?_
            refine jx_iload_n (pc := 52) G dX2_isChange_52 rfl 2 rfl ?_
            refine jx_iconst (pc := 53) G dX2_isChange_53 kc_1 ?_
            refine jx_iadd (pc := 54) G dX2_isChange_54 ?_
            refine jx_ishrR (pc := 55) G dX2_isChange_55 (nr_s (by omega) (by omega)) ?_
            refine jx_iconst (pc := 56) G dX2_isChange_56 kc_1 ?_
            refine jx_iandR (pc := 57) G dX2_isChange_57 (na_1 (Nat.lt_of_le_of_lt (Nat.div_le_self _ _) (by omega))) ?_
            refine jx_if_ne (pc := 58) (tgt := 67) G dX2_isChange_58 (by decide) (Nat.lt_of_lt_of_le (Nat.mod_lt _ (by decide)) (by decide)) (fun h58 => ?_) (fun h58 => ?_)
            · have hno : ¬ bl_ok n j := fun q => h58 (q.2 p (by omega) hf1).2
              refine jx_iconst (pc := 67) G dX2_isChange_67 kc_0 ?_
              exact E _ _ 68 _ ⟨by rw [bl_ind_f hno], rfl⟩ (by omega) dX2_isChange_68
            · have h58 : bl_bit j (p + 1) = 0 := h58
              have hnf2 : ¬ bl_fst j (p + 1) = true := fun q => by
                have h2 : bl_sec j (p + 1) = true := hf1
                rw [(bl_fst_iff.mp q).2] at h2
                cases h2
              have hs2 : bl_sec j (p + 2) = false := Bool.eq_false_iff.mpr hnf2
              refine jx_iincV (pc := 61) G dX2_isChange_61 kc_2 (by decide) 2 rfl (p + 2) rfl [(0, .ref o), (1, .int (nI j)), (2, .int (nI (p + 2)))] rfl ?_
              refine jx_goto (pc := 64) (tgt := 18) G dX2_isChange_64 (by decide) ?_
              exact ih18 _ (by omega) (p + 2) rfl (by omega) hs2 (fun q hq hf => by by_cases eq : q = p; (rw [eq]; exact ⟨h48, h58⟩); exact h1 q (by by_cases eq2 : q = p + 1; (rw [eq2] at hf; exact absurd hf hnf2); omega) hf)
        · have hnf : ¬ bl_fst j p = true := fun q => by
            have h2 : bl_bit j p = 1 := h32
            have h3 := (bl_fst_iff.mp q).1
            omega
          refine jx_iincV (pc := 35) G dX2_isChange_35 kc_1 (by decide) 2 rfl (p + 1) rfl [(0, .ref o), (1, .int (nI j)), (2, .int (nI (p + 1)))] rfl ?_
          refine jx_goto (pc := 38) (tgt := 18) G dX2_isChange_38 (by decide) ?_
          exact ih18 _ (by omega) (p + 1) rfl (by omega) (Bool.eq_false_iff.mpr hnf) (fun q hq hf => by by_cases eq : q = p; (rw [eq] at hf; exact absurd hf hnf); exact h1 q (by omega) hf)
    exact lp18 _ 0 rfl (by omega) rfl (fun q h => absurd h (by omega))
  · refine jx_iconst (pc := 14) G dX2_isChange_14 kc_0 ?_
    exact E _ _ 15 _ ⟨by rw [bl_ind_f (fun q => absurd q.1 (by omega))], rfl⟩ (by omega) dX2_isChange_15
theorem kM_isChange (hn : n ≤ 6) (y : Int32) : jx_Ki l D cb ci yX2_isChange wsX2_isChange rmX2_isChange 0 0 [.ref o, .int y] (MC cb ci o a n z gm gc ct gl fb la fr) (fun r w' => r = nI (bl_ind (bl_chg n y)) ∧ w' = MC cb ci o a n z gm gc ct gl fb la fr) := by
  rcases bl_int y with h | ⟨j, hj, rfl⟩
  · rw [bl_ind_f (bl_chg_neg hn h)]
    exact kM_isChange_neg h
  · rw [bl_ind_iff (bl_chg_nI hn hj)]
    exact kM_isChange_nn hn hj
set_option maxHeartbeats 4000000 in
theorem kM_noCall_neg {y : Int32} (hy : y < 0) : jx_Ki l D cb ci yX2_noCall wsX2_noCall rmX2_noCall 0 0 [.ref o, .int y] (MC cb ci o a n z gm gc ct gl fb la fr) (fun r w' => r = nI 1 ∧ w' = MC cb ci o a n z gm gc ct gl fb la fr) := by
  refine jx_Kz_of (by decide) (Nat.le_of_ble_eq_true rfl) [(0, .ref o), (1, .int y)] rfl ?_
  intro x G E
  refine jx_iload_n (pc := 0) G dX2_noCall_0 rfl 1 rfl ?_
  refine jx_iflt_neg (pc := 1) (tgt := 9) G dX2_noCall_1 (by decide) hy ?_
  refine jx_iconst (pc := 9) G dX2_noCall_9 kc_1 ?_
  refine jx_goto (pc := 10) (tgt := 14) G dX2_noCall_10 (by decide) ?_
  exact E _ _ 14 _ ⟨rfl, rfl⟩ (by omega) dX2_noCall_14
set_option maxHeartbeats 4000000 in
theorem kM_noCall_nn {j : Nat} (hj : j < 2 ^ 31) : jx_Ki l D cb ci yX2_noCall wsX2_noCall rmX2_noCall 0 0 [.ref o, .int (nI j)] (MC cb ci o a n z gm gc ct gl fb la fr) (fun r w' => r = nI (bl_ind (¬ j < 3)) ∧ w' = MC cb ci o a n z gm gc ct gl fb la fr) := by
  refine jx_Kz_of (by decide) (Nat.le_of_ble_eq_true rfl) [(0, .ref o), (1, .int (nI j))] rfl ?_
  intro x G E
  refine jx_iload_n (pc := 0) G dX2_noCall_0 rfl 1 rfl ?_
  refine jx_iflt_nn (pc := 1) (tgt := 9) G dX2_noCall_1 (by decide) hj ?_
  refine jx_iload_n (pc := 4) G dX2_noCall_4 rfl 1 rfl ?_
  refine jx_iconst (pc := 5) G dX2_noCall_5 kc_2 ?_
  refine jx_icmp_le (pc := 6) (tgt := 13) G dX2_noCall_6 (by decide) (by omega) (by omega) (fun h6 => ?_) (fun h6 => ?_)
  · have e : 0 = bl_ind (¬ j < 3) := (bl_ind_f (fun q => q (by omega))).symm
    refine jx_iconst (pc := 13) G dX2_noCall_13 kc_0 ?_
    exact E _ _ 14 _ ⟨by rw [← e], rfl⟩ (by omega) dX2_noCall_14
  · have e : 1 = bl_ind (¬ j < 3) := (bl_ind_t (by omega)).symm
    refine jx_iconst (pc := 9) G dX2_noCall_9 kc_1 ?_
    refine jx_goto (pc := 10) (tgt := 14) G dX2_noCall_10 (by decide) ?_
    exact E _ _ 14 _ ⟨by rw [← e], rfl⟩ (by omega) dX2_noCall_14
theorem kM_noCall (y : Int32) : jx_Ki l D cb ci yX2_noCall wsX2_noCall rmX2_noCall 0 0 [.ref o, .int y] (MC cb ci o a n z gm gc ct gl fb la fr) (fun r w' => r = nI (bl_ind (¬ bl_in 3 y)) ∧ w' = MC cb ci o a n z gm gc ct gl fb la fr) := by
  rcases bl_int y with h | ⟨j, hj, rfl⟩
  · rw [bl_ind_t (bl_in_neg (by decide) h)]
    exact kM_noCall_neg h
  · rw [bl_in_nI (by decide) hj]
    exact kM_noCall_nn hj
set_option maxHeartbeats 4000000 in
theorem kM_noBell_neg {y : Int32} (hy : y < 0) : jx_Ki l D cb ci yX2_noBell wsX2_noBell rmX2_noBell 0 0 [.ref o, .int y] (MC cb ci o a n z gm gc ct gl fb la fr) (fun r w' => r = nI 1 ∧ w' = MC cb ci o a n z gm gc ct gl fb la fr) := by
  refine jx_Kz_of (by decide) (Nat.le_of_ble_eq_true rfl) [(0, .ref o), (1, .int y)] rfl ?_
  intro x G E
  refine jx_iload_n (pc := 0) G dX2_noBell_0 rfl 1 rfl ?_
  refine jx_iconst (pc := 1) G dX2_noBell_1 kc_1 ?_
  refine jx_icmp_lt_neg (pc := 2) (tgt := 13) G dX2_noBell_2 (by decide) hy (by decide) ?_
  refine jx_iconst (pc := 13) G dX2_noBell_13 kc_1 ?_
  refine jx_goto (pc := 14) (tgt := 18) G dX2_noBell_14 (by decide) ?_
  exact E _ _ 18 _ ⟨rfl, rfl⟩ (by omega) dX2_noBell_18
set_option maxHeartbeats 4000000 in
theorem kM_noBell_nn (hn : n ≤ 6) {j : Nat} (hj : j < 2 ^ 31) : jx_Ki l D cb ci yX2_noBell wsX2_noBell rmX2_noBell 0 0 [.ref o, .int (nI j)] (MC cb ci o a n z gm gc ct gl fb la fr) (fun r w' => r = nI (bl_ind (¬ (1 ≤ j ∧ j ≤ n))) ∧ w' = MC cb ci o a n z gm gc ct gl fb la fr) := by
  refine jx_Kz_of (by decide) (Nat.le_of_ble_eq_true rfl) [(0, .ref o), (1, .int (nI j))] rfl ?_
  intro x G E
  refine jx_iload_n (pc := 0) G dX2_noBell_0 rfl 1 rfl ?_
  refine jx_iconst (pc := 1) G dX2_noBell_1 kc_1 ?_
  refine jx_icmp_lt (pc := 2) (tgt := 13) G dX2_noBell_2 (by decide) (by omega) (by omega) (fun h2 => ?_) (fun h2 => ?_)
  · have e : 1 = bl_ind (¬ (1 ≤ j ∧ j ≤ n)) := (bl_ind_t (by omega)).symm
    refine jx_iconst (pc := 13) G dX2_noBell_13 kc_1 ?_
    refine jx_goto (pc := 14) (tgt := 18) G dX2_noBell_14 (by decide) ?_
    exact E _ _ 18 _ ⟨by rw [← e], rfl⟩ (by omega) dX2_noBell_18
  · refine jx_iload_n (pc := 5) G dX2_noBell_5 rfl 1 rfl ?_
    refine jx_aload_n (pc := 6) G dX2_noBell_6 rfl 0 rfl ?_
    refine mg_n (pc := 7) G dX2_noBell_7 ?_
    refine jx_icmp_le (pc := 10) (tgt := 17) G dX2_noBell_10 (by decide) (by omega) (by omega) (fun h10 => ?_) (fun h10 => ?_)
    · have e : 0 = bl_ind (¬ (1 ≤ j ∧ j ≤ n)) := (bl_ind_f (fun q => q ⟨by omega, by omega⟩)).symm
      refine jx_iconst (pc := 17) G dX2_noBell_17 kc_0 ?_
      exact E _ _ 18 _ ⟨by rw [← e], rfl⟩ (by omega) dX2_noBell_18
    · have e : 1 = bl_ind (¬ (1 ≤ j ∧ j ≤ n)) := (bl_ind_t (by omega)).symm
      refine jx_iconst (pc := 13) G dX2_noBell_13 kc_1 ?_
      refine jx_goto (pc := 14) (tgt := 18) G dX2_noBell_14 (by decide) ?_
      exact E _ _ 18 _ ⟨by rw [← e], rfl⟩ (by omega) dX2_noBell_18
set_option maxHeartbeats 4000000 in
theorem kM_change_bad (hn : n ≤ 6) {y : Int32} (hy : ¬ bl_chg n y) : jx_Ki l D cb ci yX2_change wsX2_change rmX2_change 0 0 [.ref o, .int y] (MC cb ci o a n z gm gc ct gl fb la fr) (fun r w' => r = -1 ∧ w' = MC cb ci o a n z gm gc ct gl fb la fr) := by
  refine jx_Ki_of (by decide) (Nat.le_of_ble_eq_true rfl) [(0, .ref o), (1, .int y)] rfl ?_
  intro x G E
  refine jx_aload_n (pc := 0) G dX2_change_0 rfl 0 rfl ?_
  refine jx_iload_n (pc := 1) G dX2_change_1 rfl 1 rfl ?_
  refine mc_i1 (pc := 2) G (fun _ _ => kM_isChange hn y) (cwX2_isChange ⟨Nat.le_of_ble_eq_true rfl, Nat.le_of_ble_eq_true rfl⟩) (Nat.le_of_ble_eq_true rfl) dX2_change_2 (fun r w' hq => ?_)
  obtain ⟨rfl, rfl⟩ := hq
  rw [bl_ind_f hy]
  refine jx_if_ne (pc := 5) (tgt := 10) G dX2_change_5 (by decide) (by omega) (fun h5 => ?_) (fun h5 => ?_)
  · exact absurd rfl h5
  · refine jx_iconst (pc := 8) G dX2_change_8 kc_m1 ?_
    exact E _ _ 9 _ ⟨rfl, rfl⟩ dX2_change_9
set_option maxHeartbeats 4000000 in
theorem kM_change_full (hn : n ≤ 6) {y : Int32} (hy : bl_chg n y) (hz : z = 12) : jx_Ki l D cb ci yX2_change wsX2_change rmX2_change 0 0 [.ref o, .int y] (MC cb ci o a n z gm gc ct gl fb la fr) (fun r w' => r = -2 ∧ w' = MC cb ci o a n z gm gc ct gl fb la fr) := by
  refine jx_Ki_of (by decide) (Nat.le_of_ble_eq_true rfl) [(0, .ref o), (1, .int y)] rfl ?_
  intro x G E
  refine jx_aload_n (pc := 0) G dX2_change_0 rfl 0 rfl ?_
  refine jx_iload_n (pc := 1) G dX2_change_1 rfl 1 rfl ?_
  refine mc_i1 (pc := 2) G (fun _ _ => kM_isChange hn y) (cwX2_isChange ⟨Nat.le_of_ble_eq_true rfl, Nat.le_of_ble_eq_true rfl⟩) (Nat.le_of_ble_eq_true rfl) dX2_change_2 (fun r w' hq => ?_)
  obtain ⟨rfl, rfl⟩ := hq
  rw [bl_ind_t hy]
  refine jx_if_ne (pc := 5) (tgt := 10) G dX2_change_5 (by decide) (by omega) (fun h5 => ?_) (fun h5 => ?_)
  · refine jx_aload_n (pc := 10) G dX2_change_10 rfl 0 rfl ?_
    refine mg_size (pc := 11) G dX2_change_11 ?_
    refine jx_bipush (pc := 14) G dX2_change_14 kb_12 ?_
    refine jx_icmp_ne (pc := 16) (tgt := 22) G dX2_change_16 (by decide) (by omega) (by omega) (fun h16 => ?_) (fun h16 => ?_)
    · exact absurd hz h16
    · refine jx_bipush (pc := 19) G dX2_change_19 kb_m2 ?_
      exact E _ _ 21 _ ⟨rfl, rfl⟩ dX2_change_21
  · exact absurd h5 (by decide)
set_option maxHeartbeats 4000000 in
theorem kM_change_ok (hn : n ≤ 6) {j : Nat} (hj : bl_ok n j) (hz : z < 12) : jx_Ki l D cb ci yX2_change wsX2_change rmX2_change 0 0 [.ref o, .int (nI j)] (MC cb ci o a n z gm gc ct gl fb la fr) (fun r w' => r = nI (z + 1) ∧ w' = MC cb ci o a n (z + 1) (upN gm z j) gc ct gl fb la fr) := by
  refine jx_Ki_of (by decide) (Nat.le_of_ble_eq_true rfl) [(0, .ref o), (1, .int (nI j))] rfl ?_
  intro x G E
  refine jx_aload_n (pc := 0) G dX2_change_0 rfl 0 rfl ?_
  refine jx_iload_n (pc := 1) G dX2_change_1 rfl 1 rfl ?_
  refine mc_i1 (pc := 2) G (fun _ _ => kM_isChange hn (nI j)) (cwX2_isChange ⟨Nat.le_of_ble_eq_true rfl, Nat.le_of_ble_eq_true rfl⟩) (Nat.le_of_ble_eq_true rfl) dX2_change_2 (fun r w' hq => ?_)
  obtain ⟨rfl, rfl⟩ := hq
  rw [bl_ind_t ⟨j, rfl, hj⟩]
  refine jx_if_ne (pc := 5) (tgt := 10) G dX2_change_5 (by decide) (by omega) (fun h5 => ?_) (fun h5 => ?_)
  · refine jx_aload_n (pc := 10) G dX2_change_10 rfl 0 rfl ?_
    refine mg_size (pc := 11) G dX2_change_11 ?_
    refine jx_bipush (pc := 14) G dX2_change_14 kb_12 ?_
    refine jx_icmp_ne (pc := 16) (tgt := 22) G dX2_change_16 (by decide) (by omega) (by omega) (fun h16 => ?_) (fun h16 => ?_)
    · refine jx_aload_n (pc := 22) G dX2_change_22 rfl 0 rfl ?_
      refine mg_method (pc := 23) G dX2_change_23 ?_
      refine jx_aload_n (pc := 26) G dX2_change_26 rfl 0 rfl ?_
      refine mg_size (pc := 27) G dX2_change_27 ?_
      refine jx_iload_n (pc := 30) G dX2_change_30 rfl 1 rfl ?_
      refine ms_method (pc := 31) G dX2_change_31 (by omega) ?_
      refine jx_aload_n (pc := 32) G dX2_change_32 rfl 0 rfl ?_
      refine jx_dup (pc := 33) G dX2_change_33 ?_
      refine mg_size (pc := 34) G dX2_change_34 ?_
      refine jx_iconst (pc := 37) G dX2_change_37 kc_1 ?_
      refine jx_iadd (pc := 38) G dX2_change_38 ?_
      refine mp_size (pc := 39) G dX2_change_39 ?_
      refine jx_aload_n (pc := 42) G dX2_change_42 rfl 0 rfl ?_
      refine mg_size (pc := 43) G dX2_change_43 ?_
      exact E _ _ 46 _ ⟨rfl, rfl⟩ dX2_change_46
    · omega
  · exact absurd h5 (by decide)
set_option maxHeartbeats 4000000 in
theorem kM_drop_1 (hz : z = 1) : jx_Ki l D cb ci yX2_drop wsX2_drop rmX2_drop 0 0 [.ref o] (MC cb ci o a n z gm gc ct gl fb la fr) (fun r w' => r = -4 ∧ w' = MC cb ci o a n z gm gc ct gl fb la fr) := by
  refine jx_Ki_of (by decide) (Nat.le_of_ble_eq_true rfl) [(0, .ref o)] rfl ?_
  intro x G E
  refine jx_aload_n (pc := 0) G dX2_drop_0 rfl 0 rfl ?_
  refine mg_size (pc := 1) G dX2_drop_1 ?_
  refine jx_iconst (pc := 4) G dX2_drop_4 kc_1 ?_
  refine jx_icmp_ne (pc := 5) (tgt := 11) G dX2_drop_5 (by decide) (by omega) (by omega) (fun h5 => ?_) (fun h5 => ?_)
  · exact absurd hz h5
  · refine jx_bipush (pc := 8) G dX2_drop_8 kb_m4 ?_
    exact E _ _ 10 _ ⟨rfl, rfl⟩ dX2_drop_10
set_option maxHeartbeats 4000000 in
theorem kM_drop_ok (hz : 1 < z) (hz2 : z ≤ 12) : jx_Ki l D cb ci yX2_drop wsX2_drop rmX2_drop 0 0 [.ref o] (MC cb ci o a n z gm gc ct gl fb la fr) (fun r w' => r = nI (gm 0) ∧ ∃ gm', (∀ k, k < z - 1 → gm' k = gm (k + 1)) ∧ w' = MC cb ci o a n (z - 1) gm' gc ct gl fb la fr) := by
  refine jx_Ki_of (by decide) (Nat.le_of_ble_eq_true rfl) [(0, .ref o)] rfl ?_
  intro x G E
  refine jx_aload_n (pc := 0) G dX2_drop_0 rfl 0 rfl ?_
  refine mg_size (pc := 1) G dX2_drop_1 ?_
  refine jx_iconst (pc := 4) G dX2_drop_4 kc_1 ?_
  refine jx_icmp_ne (pc := 5) (tgt := 11) G dX2_drop_5 (by decide) (by omega) (by omega) (fun h5 => ?_) (fun h5 => ?_)
  · refine jx_aload_n (pc := 11) G dX2_drop_11 rfl 0 rfl ?_
    refine mg_method (pc := 12) G dX2_drop_12 ?_
    refine jx_iconst (pc := 15) G dX2_drop_15 kc_0 ?_
    refine ml_method (pc := 16) G dX2_drop_16 (by omega) ?_
    refine jx_istore_nV (pc := 17) G dX2_drop_17 rfl (by decide) (gm 0) rfl [(0, .ref o), (1, .int (nI (gm 0)))] rfl ?_
    refine jx_aload_n (pc := 18) G dX2_drop_18 rfl 0 rfl ?_
    refine jx_dup (pc := 19) G dX2_drop_19 ?_
    refine mg_size (pc := 20) G dX2_drop_20 ?_
    refine jx_iconst (pc := 23) G dX2_drop_23 kc_1 ?_
    refine jx_isub (pc := 24) G dX2_drop_24 (by omega) ?_
    refine mp_size (pc := 25) G dX2_drop_25 ?_
    refine jx_iconst (pc := 28) G dX2_drop_28 kc_0 ?_
    refine jx_istore_nV (pc := 29) G dX2_drop_29 rfl (by decide) (0) rfl [(0, .ref o), (1, .int (nI (gm 0))), (2, .int (nI 0))] rfl ?_
    have lp30 : ∀ (d30 : Nat) (i : Nat) (gm' : Nat → Nat), z - 1 - i = d30 → (i ≤ z - 1) → (∀ k, k < i → gm' k = gm (k + 1)) → (∀ k, i ≤ k → gm' k = gm k) → jx_J x 0 0 (MC cb ci o a n (z - 1) gm' gc ct gl fb la fr) 30 [(0, .ref o), (1, .int (nI (gm 0))), (2, .int (nI i))] [] := by
      intro d30
      induction d30 using Nat.strongRecOn with
      | _ d30 ih30 =>
      intro i gm' hm30 hi h1 h2
      refine jx_iload_n (pc := 30) G dX2_drop_30 rfl 2 rfl ?_
      refine jx_aload_n (pc := 31) G dX2_drop_31 rfl 0 rfl ?_
      refine mg_size (pc := 32) G dX2_drop_32 ?_
      refine jx_icmp_ge (pc := 35) (tgt := 58) G dX2_drop_35 (by decide) (by omega) (by omega) (fun h35 => ?_) (fun h35 => ?_)
      · refine jx_iload_n (pc := 58) G dX2_drop_58 rfl 1 rfl ?_
        exact E _ _ 59 _ ⟨rfl, gm', fun k hk => h1 k (by omega), rfl⟩ dX2_drop_59
      · refine jx_aload_n (pc := 38) G dX2_drop_38 rfl 0 rfl ?_
        refine mg_method (pc := 39) G dX2_drop_39 ?_
        refine jx_iload_n (pc := 42) G dX2_drop_42 rfl 2 rfl ?_
        refine jx_aload_n (pc := 43) G dX2_drop_43 rfl 0 rfl ?_
        refine mg_method (pc := 44) G dX2_drop_44 ?_
        refine jx_iload_n (pc := 47) G dX2_drop_47 rfl 2 rfl ?_
        refine jx_iconst (pc := 48) G dX2_drop_48 kc_1 ?_
        refine jx_iadd (pc := 49) G dX2_drop_49 ?_
        refine ml_method (pc := 50) G dX2_drop_50 (by omega) ?_
        refine ms_method (pc := 51) G dX2_drop_51 (by omega) ?_
        refine jx_iincV (pc := 52) G dX2_drop_52 kc_1 (by decide) 2 rfl (i + 1) rfl [(0, .ref o), (1, .int (nI (gm 0))), (2, .int (nI (i + 1)))] rfl ?_
        refine jx_goto (pc := 55) (tgt := 30) G dX2_drop_55 (by decide) ?_
        exact ih30 _ (by omega) (i + 1) _ rfl (by omega) (bl_F0_put (g := fun k => gm (k + 1)) h1 (h2 _ (by omega))) (fun k hk => by rw [upN_ne (by omega)]; exact h2 k (by omega))
    exact lp30 _ 0 gm rfl (by omega) (fun k h => absurd h (by omega)) (fun _ _ => rfl)
  · omega
set_option maxHeartbeats 4000000 in
theorem kM_call_neg {u y : Int32} (hu : u < 0) : jx_Ki l D cb ci yX2_call wsX2_call rmX2_call 0 0 [.ref o, .int u, .int y] (MC cb ci o a n z gm gc ct gl fb la fr) (fun r w' => r = -1 ∧ w' = MC cb ci o a n z gm gc ct gl fb la fr) := by
  refine jx_Ki_of (by decide) (Nat.le_of_ble_eq_true rfl) [(0, .ref o), (1, .int u), (2, .int y)] rfl ?_
  intro x G E
  refine jx_iload_n (pc := 0) G dX2_call_0 rfl 1 rfl ?_
  refine jx_iconst (pc := 1) G dX2_call_1 kc_1 ?_
  refine jx_icmp_lt_neg (pc := 2) (tgt := 18) G dX2_call_2 (by decide) hu (by decide) ?_
  refine jx_iconst (pc := 18) G dX2_call_18 kc_m1 ?_
  exact E _ _ 19 _ ⟨rfl, rfl⟩ dX2_call_19
set_option maxHeartbeats 4000000 in
theorem kM_call_bad (hn : n ≤ 6) {c : Nat} {y : Int32} (hc : c < 2 ^ 31) (hb : ¬ (0 < c ∧ c < 3 ∧ bl_chg n y)) : jx_Ki l D cb ci yX2_call wsX2_call rmX2_call 0 0 [.ref o, .int (nI c), .int y] (MC cb ci o a n z gm gc ct gl fb la fr) (fun r w' => r = -1 ∧ w' = MC cb ci o a n z gm gc ct gl fb la fr) := by
  refine jx_Ki_of (by decide) (Nat.le_of_ble_eq_true rfl) [(0, .ref o), (1, .int (nI c)), (2, .int y)] rfl ?_
  intro x G E
  refine jx_iload_n (pc := 0) G dX2_call_0 rfl 1 rfl ?_
  refine jx_iconst (pc := 1) G dX2_call_1 kc_1 ?_
  refine jx_icmp_lt (pc := 2) (tgt := 18) G dX2_call_2 (by decide) (by omega) (by omega) (fun h2 => ?_) (fun h2 => ?_)
  · refine jx_iconst (pc := 18) G dX2_call_18 kc_m1 ?_
    exact E _ _ 19 _ ⟨rfl, rfl⟩ dX2_call_19
  · refine jx_iload_n (pc := 5) G dX2_call_5 rfl 1 rfl ?_
    refine jx_iconst (pc := 6) G dX2_call_6 kc_2 ?_
    refine jx_icmp_gt (pc := 7) (tgt := 18) G dX2_call_7 (by decide) (by omega) (by omega) (fun h7 => ?_) (fun h7 => ?_)
    · refine jx_iconst (pc := 18) G dX2_call_18 kc_m1 ?_
      exact E _ _ 19 _ ⟨rfl, rfl⟩ dX2_call_19
    · refine jx_aload_n (pc := 10) G dX2_call_10 rfl 0 rfl ?_
      refine jx_iload_n (pc := 11) G dX2_call_11 rfl 2 rfl ?_
      refine mc_i1 (pc := 12) G (fun _ _ => kM_isChange hn y) (cwX2_isChange ⟨Nat.le_of_ble_eq_true rfl, Nat.le_of_ble_eq_true rfl⟩) (Nat.le_of_ble_eq_true rfl) dX2_call_12 (fun r w' hq => ?_)
      obtain ⟨rfl, rfl⟩ := hq
      refine jx_if_ne (pc := 15) (tgt := 20) G dX2_call_15 (by decide) (Nat.lt_of_le_of_lt (bl_ind_le _) (by decide)) (fun h15 => ?_) (fun h15 => ?_)
      · exact absurd ⟨by omega, by omega, Classical.byContradiction (fun q => h15 (bl_ind_f q))⟩ hb
      · refine jx_iconst (pc := 18) G dX2_call_18 kc_m1 ?_
        exact E _ _ 19 _ ⟨rfl, rfl⟩ dX2_call_19
set_option maxHeartbeats 4000000 in
theorem kM_call_ok (hn : n ≤ 6) {c j : Nat} (h0 : 0 < c) (hc : c < 3) (hj : bl_ok n j) : jx_Ki l D cb ci yX2_call wsX2_call rmX2_call 0 0 [.ref o, .int (nI c), .int (nI j)] (MC cb ci o a n z gm gc ct gl fb la fr) (fun r w' => r = nI (gc c) ∧ w' = MC cb ci o a n z gm (upN gc c j) ct gl fb la fr) := by
  refine jx_Ki_of (by decide) (Nat.le_of_ble_eq_true rfl) [(0, .ref o), (1, .int (nI c)), (2, .int (nI j))] rfl ?_
  intro x G E
  refine jx_iload_n (pc := 0) G dX2_call_0 rfl 1 rfl ?_
  refine jx_iconst (pc := 1) G dX2_call_1 kc_1 ?_
  refine jx_icmp_lt (pc := 2) (tgt := 18) G dX2_call_2 (by decide) (by omega) (by omega) (fun h2 => ?_) (fun h2 => ?_)
  · omega
  · refine jx_iload_n (pc := 5) G dX2_call_5 rfl 1 rfl ?_
    refine jx_iconst (pc := 6) G dX2_call_6 kc_2 ?_
    refine jx_icmp_gt (pc := 7) (tgt := 18) G dX2_call_7 (by decide) (by omega) (by omega) (fun h7 => ?_) (fun h7 => ?_)
    · omega
    · refine jx_aload_n (pc := 10) G dX2_call_10 rfl 0 rfl ?_
      refine jx_iload_n (pc := 11) G dX2_call_11 rfl 2 rfl ?_
      refine mc_i1 (pc := 12) G (fun _ _ => kM_isChange hn (nI j)) (cwX2_isChange ⟨Nat.le_of_ble_eq_true rfl, Nat.le_of_ble_eq_true rfl⟩) (Nat.le_of_ble_eq_true rfl) dX2_call_12 (fun r w' hq => ?_)
      obtain ⟨rfl, rfl⟩ := hq
      rw [bl_ind_t ⟨j, rfl, hj⟩]
      refine jx_if_ne (pc := 15) (tgt := 20) G dX2_call_15 (by decide) (by omega) (fun h15 => ?_) (fun h15 => ?_)
      · refine jx_aload_n (pc := 20) G dX2_call_20 rfl 0 rfl ?_
        refine mg_calls (pc := 21) G dX2_call_21 ?_
        refine jx_iload_n (pc := 24) G dX2_call_24 rfl 1 rfl ?_
        refine ml_calls (pc := 25) G dX2_call_25 (by omega) ?_
        refine jx_istore_nV (pc := 26) G dX2_call_26 rfl (by decide) (gc c) rfl [(0, .ref o), (1, .int (nI c)), (2, .int (nI j)), (3, .int (nI (gc c)))] rfl ?_
        refine jx_aload_n (pc := 27) G dX2_call_27 rfl 0 rfl ?_
        refine mg_calls (pc := 28) G dX2_call_28 ?_
        refine jx_iload_n (pc := 31) G dX2_call_31 rfl 1 rfl ?_
        refine jx_iload_n (pc := 32) G dX2_call_32 rfl 2 rfl ?_
        refine ms_calls (pc := 33) G dX2_call_33 (by omega) ?_
        refine jx_iload_n (pc := 34) G dX2_call_34 rfl 3 rfl ?_
        exact E _ _ 35 _ ⟨rfl, rfl⟩ dX2_call_35
      · exact absurd h15 (by decide)
set_option maxHeartbeats 4000000 in
theorem kM_lead_bad {y : Int32} (hy : ¬ bl_in 3 y) : jx_Ki l D cb ci yX2_lead wsX2_lead rmX2_lead 0 0 [.ref o, .int y] (MC cb ci o a n z gm gc ct gl fb la fr) (fun r w' => r = -1 ∧ w' = MC cb ci o a n z gm gc ct gl fb la fr) := by
  refine jx_Ki_of (by decide) (Nat.le_of_ble_eq_true rfl) [(0, .ref o), (1, .int y)] rfl ?_
  intro x G E
  refine jx_aload_n (pc := 0) G dX2_lead_0 rfl 0 rfl ?_
  refine jx_iload_n (pc := 1) G dX2_lead_1 rfl 1 rfl ?_
  refine mc_i1 (pc := 2) G (fun _ _ => kM_noCall y) (cwX2_noCall ⟨Nat.le_of_ble_eq_true rfl, Nat.le_of_ble_eq_true rfl⟩) (Nat.le_of_ble_eq_true rfl) dX2_lead_2 (fun r w' hq => ?_)
  obtain ⟨rfl, rfl⟩ := hq
  rw [bl_ind_t hy]
  refine jx_if_eq (pc := 5) (tgt := 10) G dX2_lead_5 (by decide) (by omega) (fun h5 => ?_) (fun h5 => ?_)
  · exact absurd h5 (by decide)
  · refine jx_iconst (pc := 8) G dX2_lead_8 kc_m1 ?_
    exact E _ _ 9 _ ⟨rfl, rfl⟩ dX2_lead_9
set_option maxHeartbeats 4000000 in
theorem kM_lead_full {c : Nat} (hc : c < 3) (hct : ct = 20) : jx_Ki l D cb ci yX2_lead wsX2_lead rmX2_lead 0 0 [.ref o, .int (nI c)] (MC cb ci o a n z gm gc ct gl fb la fr) (fun r w' => r = -2 ∧ w' = MC cb ci o a n z gm gc ct gl fb la fr) := by
  refine jx_Ki_of (by decide) (Nat.le_of_ble_eq_true rfl) [(0, .ref o), (1, .int (nI c))] rfl ?_
  intro x G E
  refine jx_aload_n (pc := 0) G dX2_lead_0 rfl 0 rfl ?_
  refine jx_iload_n (pc := 1) G dX2_lead_1 rfl 1 rfl ?_
  refine mc_i1 (pc := 2) G (fun _ _ => kM_noCall (nI c)) (cwX2_noCall ⟨Nat.le_of_ble_eq_true rfl, Nat.le_of_ble_eq_true rfl⟩) (Nat.le_of_ble_eq_true rfl) dX2_lead_2 (fun r w' hq => ?_)
  obtain ⟨rfl, rfl⟩ := hq
  rw [bl_ind_f (fun q => q ⟨c, hc, rfl⟩)]
  refine jx_if_eq (pc := 5) (tgt := 10) G dX2_lead_5 (by decide) (by omega) (fun h5 => ?_) (fun h5 => ?_)
  · refine jx_aload_n (pc := 10) G dX2_lead_10 rfl 0 rfl ?_
    refine mg_count (pc := 11) G dX2_lead_11 ?_
    refine jx_bipush (pc := 14) G dX2_lead_14 kb_20 ?_
    refine jx_icmp_ne (pc := 16) (tgt := 22) G dX2_lead_16 (by decide) (by omega) (by omega) (fun h16 => ?_) (fun h16 => ?_)
    · exact absurd hct h16
    · refine jx_bipush (pc := 19) G dX2_lead_19 kb_m2 ?_
      exact E _ _ 21 _ ⟨rfl, rfl⟩ dX2_lead_21
  · exact absurd rfl h5
set_option maxHeartbeats 4000000 in
theorem kM_lead_ok {c : Nat} (hc : c < 3) (hct : ct < 20) : jx_Ki l D cb ci yX2_lead wsX2_lead rmX2_lead 0 0 [.ref o, .int (nI c)] (MC cb ci o a n z gm gc ct gl fb la fr) (fun r w' => r = nI (ct + 1) ∧ w' = MC cb ci o a n z gm gc (ct + 1) (upN gl ct c) fb la fr) := by
  refine jx_Ki_of (by decide) (Nat.le_of_ble_eq_true rfl) [(0, .ref o), (1, .int (nI c))] rfl ?_
  intro x G E
  refine jx_aload_n (pc := 0) G dX2_lead_0 rfl 0 rfl ?_
  refine jx_iload_n (pc := 1) G dX2_lead_1 rfl 1 rfl ?_
  refine mc_i1 (pc := 2) G (fun _ _ => kM_noCall (nI c)) (cwX2_noCall ⟨Nat.le_of_ble_eq_true rfl, Nat.le_of_ble_eq_true rfl⟩) (Nat.le_of_ble_eq_true rfl) dX2_lead_2 (fun r w' hq => ?_)
  obtain ⟨rfl, rfl⟩ := hq
  rw [bl_ind_f (fun q => q ⟨c, hc, rfl⟩)]
  refine jx_if_eq (pc := 5) (tgt := 10) G dX2_lead_5 (by decide) (by omega) (fun h5 => ?_) (fun h5 => ?_)
  · refine jx_aload_n (pc := 10) G dX2_lead_10 rfl 0 rfl ?_
    refine mg_count (pc := 11) G dX2_lead_11 ?_
    refine jx_bipush (pc := 14) G dX2_lead_14 kb_20 ?_
    refine jx_icmp_ne (pc := 16) (tgt := 22) G dX2_lead_16 (by decide) (by omega) (by omega) (fun h16 => ?_) (fun h16 => ?_)
    · refine jx_aload_n (pc := 22) G dX2_lead_22 rfl 0 rfl ?_
      refine mg_leads (pc := 23) G dX2_lead_23 ?_
      refine jx_aload_n (pc := 26) G dX2_lead_26 rfl 0 rfl ?_
      refine mg_count (pc := 27) G dX2_lead_27 ?_
      refine jx_iload_n (pc := 30) G dX2_lead_30 rfl 1 rfl ?_
      refine ms_leads (pc := 31) G dX2_lead_31 (by omega) ?_
      refine jx_aload_n (pc := 32) G dX2_lead_32 rfl 0 rfl ?_
      refine jx_dup (pc := 33) G dX2_lead_33 ?_
      refine mg_count (pc := 34) G dX2_lead_34 ?_
      refine jx_iconst (pc := 37) G dX2_lead_37 kc_1 ?_
      refine jx_iadd (pc := 38) G dX2_lead_38 ?_
      refine mp_count (pc := 39) G dX2_lead_39 ?_
      refine jx_aload_n (pc := 42) G dX2_lead_42 rfl 0 rfl ?_
      refine mg_count (pc := 43) G dX2_lead_43 ?_
      exact E _ _ 46 _ ⟨rfl, rfl⟩ dX2_lead_46
    · omega
  · exact absurd rfl h5
set_option maxHeartbeats 4000000 in
theorem kM_back_0 (hct : ct = 0) : jx_Ki l D cb ci yX2_back wsX2_back rmX2_back 0 0 [.ref o] (MC cb ci o a n z gm gc ct gl fb la fr) (fun r w' => r = -4 ∧ w' = MC cb ci o a n z gm gc ct gl fb la fr) := by
  refine jx_Ki_of (by decide) (Nat.le_of_ble_eq_true rfl) [(0, .ref o)] rfl ?_
  intro x G E
  refine jx_aload_n (pc := 0) G dX2_back_0 rfl 0 rfl ?_
  refine mg_count (pc := 1) G dX2_back_1 ?_
  refine jx_if_ne (pc := 4) (tgt := 10) G dX2_back_4 (by decide) (by omega) (fun h4 => ?_) (fun h4 => ?_)
  · exact absurd hct h4
  · refine jx_bipush (pc := 7) G dX2_back_7 kb_m4 ?_
    exact E _ _ 9 _ ⟨rfl, rfl⟩ dX2_back_9
set_option maxHeartbeats 4000000 in
theorem kM_back_ok (h0 : 0 < ct) (hct : ct ≤ 20) : jx_Ki l D cb ci yX2_back wsX2_back rmX2_back 0 0 [.ref o] (MC cb ci o a n z gm gc ct gl fb la fr) (fun r w' => r = nI (gl (ct - 1)) ∧ w' = MC cb ci o a n z gm gc (ct - 1) gl fb la fr) := by
  refine jx_Ki_of (by decide) (Nat.le_of_ble_eq_true rfl) [(0, .ref o)] rfl ?_
  intro x G E
  refine jx_aload_n (pc := 0) G dX2_back_0 rfl 0 rfl ?_
  refine mg_count (pc := 1) G dX2_back_1 ?_
  refine jx_if_ne (pc := 4) (tgt := 10) G dX2_back_4 (by decide) (by omega) (fun h4 => ?_) (fun h4 => ?_)
  · refine jx_aload_n (pc := 10) G dX2_back_10 rfl 0 rfl ?_
    refine jx_dup (pc := 11) G dX2_back_11 ?_
    refine mg_count (pc := 12) G dX2_back_12 ?_
    refine jx_iconst (pc := 15) G dX2_back_15 kc_1 ?_
    refine jx_isub (pc := 16) G dX2_back_16 (by omega) ?_
    refine mp_count (pc := 17) G dX2_back_17 ?_
    refine jx_aload_n (pc := 20) G dX2_back_20 rfl 0 rfl ?_
    refine mg_leads (pc := 21) G dX2_back_21 ?_
    refine jx_aload_n (pc := 24) G dX2_back_24 rfl 0 rfl ?_
    refine mg_count (pc := 25) G dX2_back_25 ?_
    refine ml_leads (pc := 28) G dX2_back_28 (by omega) ?_
    exact E _ _ 29 _ ⟨rfl, rfl⟩ dX2_back_29
  · omega
set_option maxHeartbeats 4000000 in
theorem kM_turn_0 (hct : ct = 0) : jx_Ki l D cb ci yX2_turn wsX2_turn rmX2_turn 0 0 [.ref o] (MC cb ci o a n z gm gc ct gl fb la fr) (fun r w' => r = -4 ∧ w' = MC cb ci o a n z gm gc ct gl fb la fr) := by
  refine jx_Ki_of (by decide) (Nat.le_of_ble_eq_true rfl) [(0, .ref o)] rfl ?_
  intro x G E
  refine jx_aload_n (pc := 0) G dX2_turn_0 rfl 0 rfl ?_
  refine mg_count (pc := 1) G dX2_turn_1 ?_
  refine jx_if_ne (pc := 4) (tgt := 10) G dX2_turn_4 (by decide) (by omega) (fun h4 => ?_) (fun h4 => ?_)
  · exact absurd hct h4
  · refine jx_bipush (pc := 7) G dX2_turn_7 kb_m4 ?_
    exact E _ _ 9 _ ⟨rfl, rfl⟩ dX2_turn_9
set_option maxHeartbeats 4000000 in
theorem kM_turn_ok (h0 : 0 < ct) (hct : ct ≤ 20) : jx_Ki l D cb ci yX2_turn wsX2_turn rmX2_turn 0 0 [.ref o] (MC cb ci o a n z gm gc ct gl fb la fr) (fun r w' => r = nI (gl 0) ∧ ∃ gl', (∀ k, k < ct - 1 → gl' k = gl (k + 1)) ∧ gl' (ct - 1) = gl 0 ∧ w' = MC cb ci o a n z gm gc ct gl' fb la fr) := by
  refine jx_Ki_of (by decide) (Nat.le_of_ble_eq_true rfl) [(0, .ref o)] rfl ?_
  intro x G E
  refine jx_aload_n (pc := 0) G dX2_turn_0 rfl 0 rfl ?_
  refine mg_count (pc := 1) G dX2_turn_1 ?_
  refine jx_if_ne (pc := 4) (tgt := 10) G dX2_turn_4 (by decide) (by omega) (fun h4 => ?_) (fun h4 => ?_)
  · refine jx_aload_n (pc := 10) G dX2_turn_10 rfl 0 rfl ?_
    refine mg_leads (pc := 11) G dX2_turn_11 ?_
    refine jx_iconst (pc := 14) G dX2_turn_14 kc_0 ?_
    refine ml_leads (pc := 15) G dX2_turn_15 (by omega) ?_
    refine jx_istore_nV (pc := 16) G dX2_turn_16 rfl (by decide) (gl 0) rfl [(0, .ref o), (1, .int (nI (gl 0)))] rfl ?_
    refine jx_iconst (pc := 17) G dX2_turn_17 kc_0 ?_
    refine jx_istore_nV (pc := 18) G dX2_turn_18 rfl (by decide) (0) rfl [(0, .ref o), (1, .int (nI (gl 0))), (2, .int (nI 0))] rfl ?_
    have lp19 : ∀ (d19 : Nat) (i : Nat) (gl' : Nat → Nat), ct - i = d19 → (i ≤ ct - 1) → (∀ k, k < i → gl' k = gl (k + 1)) → (∀ k, i ≤ k → gl' k = gl k) → jx_J x 0 0 (MC cb ci o a n z gm gc ct gl' fb la fr) 19 [(0, .ref o), (1, .int (nI (gl 0))), (2, .int (nI i))] [] := by
      intro d19
      induction d19 using Nat.strongRecOn with
      | _ d19 ih19 =>
      intro i gl' hm19 hi h1 h2
      refine jx_iload_n (pc := 19) G dX2_turn_19 rfl 2 rfl ?_
      refine jx_aload_n (pc := 20) G dX2_turn_20 rfl 0 rfl ?_
      refine mg_count (pc := 21) G dX2_turn_21 ?_
      refine jx_iconst (pc := 24) G dX2_turn_24 kc_1 ?_
      refine jx_isub (pc := 25) G dX2_turn_25 (by omega) ?_
      refine jx_icmp_ge (pc := 26) (tgt := 49) G dX2_turn_26 (by decide) (by omega) (by omega) (fun h26 => ?_) (fun h26 => ?_)
      · refine jx_aload_n (pc := 49) G dX2_turn_49 rfl 0 rfl ?_
        refine mg_leads (pc := 50) G dX2_turn_50 ?_
        refine jx_aload_n (pc := 53) G dX2_turn_53 rfl 0 rfl ?_
        refine mg_count (pc := 54) G dX2_turn_54 ?_
        refine jx_iconst (pc := 57) G dX2_turn_57 kc_1 ?_
        refine jx_isub (pc := 58) G dX2_turn_58 (by omega) ?_
        refine jx_iload_n (pc := 59) G dX2_turn_59 rfl 1 rfl ?_
        refine ms_leads (pc := 60) G dX2_turn_60 (by omega) ?_
        refine jx_iload_n (pc := 61) G dX2_turn_61 rfl 1 rfl ?_
        exact E _ _ 62 _ ⟨rfl, _, fun k hk => by rw [upN_ne (by omega)]; exact h1 k (by omega), upN_eq, rfl⟩ dX2_turn_62
      · refine jx_aload_n (pc := 29) G dX2_turn_29 rfl 0 rfl ?_
        refine mg_leads (pc := 30) G dX2_turn_30 ?_
        refine jx_iload_n (pc := 33) G dX2_turn_33 rfl 2 rfl ?_
        refine jx_aload_n (pc := 34) G dX2_turn_34 rfl 0 rfl ?_
        refine mg_leads (pc := 35) G dX2_turn_35 ?_
        refine jx_iload_n (pc := 38) G dX2_turn_38 rfl 2 rfl ?_
        refine jx_iconst (pc := 39) G dX2_turn_39 kc_1 ?_
        refine jx_iadd (pc := 40) G dX2_turn_40 ?_
        refine ml_leads (pc := 41) G dX2_turn_41 (by omega) ?_
        refine ms_leads (pc := 42) G dX2_turn_42 (by omega) ?_
        refine jx_iincV (pc := 43) G dX2_turn_43 kc_1 (by decide) 2 rfl (i + 1) rfl [(0, .ref o), (1, .int (nI (gl 0))), (2, .int (nI (i + 1)))] rfl ?_
        refine jx_goto (pc := 46) (tgt := 19) G dX2_turn_46 (by decide) ?_
        exact ih19 _ (by omega) (i + 1) _ rfl (by omega) (bl_F0_put (g := fun k => gl (k + 1)) h1 (h2 _ (by omega))) (fun k hk => by rw [upN_ne (by omega)]; exact h2 k (by omega))
    exact lp19 _ 0 gl rfl (by omega) (fun k h => absurd h (by omega)) (fun _ _ => rfl)
  · omega
set_option maxHeartbeats 4000000 in
theorem kM_last  : jx_Ki l D cb ci yX2_last wsX2_last rmX2_last 0 0 [.ref o] (MC cb ci o a n z gm gc ct gl fb la fr) (fun r w' => r = nI (ct * z) ∧ w' = MC cb ci o a n z gm gc ct gl fb la fr) := by
  refine jx_Ki_of (by decide) (Nat.le_of_ble_eq_true rfl) [(0, .ref o)] rfl ?_
  intro x G E
  refine jx_aload_n (pc := 0) G dX2_last_0 rfl 0 rfl ?_
  refine mg_count (pc := 1) G dX2_last_1 ?_
  refine jx_aload_n (pc := 4) G dX2_last_4 rfl 0 rfl ?_
  refine mg_size (pc := 5) G dX2_last_5 ?_
  refine jx_imul (pc := 8) G dX2_last_8 ?_
  exact E _ _ 9 _ ⟨rfl, rfl⟩ dX2_last_9
end MA
end
section
set_option maxRecDepth 100000
section MB
variable {l : Launch} {D : va_G} {cb ci : ClassId} {o : Nat} {a : Nat → Nat} {n z ct kn la : Nat} {fm fc fl fo fh ff ft fi fd fb fr gm gc gl : Nat → Nat}
set_option maxHeartbeats 4000000 in
theorem kM_round (hn : n ≤ 6) : jx_Kv l D cb ci yX2_round wsX2_round rmX2_round 0 0 [.ref o] (MC cb ci o a n z gm gc ct gl fb la fr) (fun w' => ∃ fb', (∀ p, p < n → fb' p = p + 1) ∧ w' = MC cb ci o a n z gm gc ct gl fb' la fr) := by
  refine jx_Kv_of (by decide) (Nat.le_of_ble_eq_true rfl) [(0, .ref o)] rfl ?_
  intro x G E
  refine jx_iconst (pc := 0) G dX2_round_0 kc_0 ?_
  refine jx_istore_nV (pc := 1) G dX2_round_1 rfl (by decide) (0) rfl [(0, .ref o), (1, .int (nI 0))] rfl ?_
  have lp2 : ∀ (d2 : Nat) (p : Nat) (fb' : Nat → Nat), n - p = d2 → (p ≤ n) → (∀ q, q < p → fb' q = q + 1) → jx_J x 0 0 (MC cb ci o a n z gm gc ct gl fb' la fr) 2 [(0, .ref o), (1, .int (nI p))] [] := by
    intro d2
    induction d2 using Nat.strongRecOn with
    | _ d2 ih2 =>
    intro p fb' hm2 hp hI
    refine jx_iload_n (pc := 2) G dX2_round_2 rfl 1 rfl ?_
    refine jx_aload_n (pc := 3) G dX2_round_3 rfl 0 rfl ?_
    refine mg_n (pc := 4) G dX2_round_4 ?_
    refine jx_icmp_ge (pc := 7) (tgt := 25) G dX2_round_7 (by decide) (by omega) (by omega) (fun h7 => ?_) (fun h7 => ?_)
    · exact E _ 25 _ ⟨fb', fun q hq => hI q (by omega), rfl⟩ dX2_round_25
    · refine jx_aload_n (pc := 10) G dX2_round_10 rfl 0 rfl ?_
      refine mg_bells (pc := 11) G dX2_round_11 ?_
      refine jx_iload_n (pc := 14) G dX2_round_14 rfl 1 rfl ?_
      refine jx_iload_n (pc := 15) G dX2_round_15 rfl 1 rfl ?_
      refine jx_iconst (pc := 16) G dX2_round_16 kc_1 ?_
      refine jx_iadd (pc := 17) G dX2_round_17 ?_
      refine ms_bells (pc := 18) G dX2_round_18 (by omega) ?_
      refine jx_iincV (pc := 19) G dX2_round_19 kc_1 (by decide) 1 rfl (p + 1) rfl [(0, .ref o), (1, .int (nI (p + 1)))] rfl ?_
      refine jx_goto (pc := 22) (tgt := 2) G dX2_round_22 (by decide) ?_
      exact ih2 _ (by omega) (p + 1) _ rfl (by omega) (bl_F0_put (g := fun q => q + 1) hI rfl)
  exact lp2 _ 0 fb rfl (by omega) (fun q h => absurd h (by omega))
set_option maxHeartbeats 4000000 in
theorem kM_code (hn : n ≤ 6) {g : Nat → Nat} (hb : ∀ p, p < n → fb p = g p + 1) : jx_Ki l D cb ci yX2_code wsX2_code rmX2_code 0 0 [.ref o] (MC cb ci o a n z gm gc ct gl fb la fr) (fun r w' => r = nI (bl_cd g n) ∧ w' = MC cb ci o a n z gm gc ct gl fb la fr) := by
  refine jx_Ki_of (by decide) (Nat.le_of_ble_eq_true rfl) [(0, .ref o)] rfl ?_
  intro x G E
  refine jx_iconst (pc := 0) G dX2_code_0 kc_0 ?_
  refine jx_istore_nV (pc := 1) G dX2_code_1 rfl (by decide) (0) rfl [(0, .ref o), (1, .int (nI 0))] rfl ?_
  refine jx_iconst (pc := 2) G dX2_code_2 kc_0 ?_
  refine jx_istore_nV (pc := 3) G dX2_code_3 rfl (by decide) (0) rfl [(0, .ref o), (1, .int (nI 0)), (2, .int (nI 0))] rfl ?_
  have lp4 : ∀ (d4 : Nat) (p cd : Nat), n - p = d4 → (p ≤ n) → (cd = bl_cd g p) → jx_J x 0 0 (MC cb ci o a n z gm gc ct gl fb la fr) 4 [(0, .ref o), (1, .int (nI cd)), (2, .int (nI p))] [] := by
    intro d4
    induction d4 using Nat.strongRecOn with
    | _ d4 ih4 =>
    intro p cd hm4 hp hc
    refine jx_iload_n (pc := 4) G dX2_code_4 rfl 2 rfl ?_
    refine jx_aload_n (pc := 5) G dX2_code_5 rfl 0 rfl ?_
    refine mg_n (pc := 6) G dX2_code_6 ?_
    refine jx_icmp_ge (pc := 9) (tgt := 30) G dX2_code_9 (by decide) (by omega) (by omega) (fun h9 => ?_) (fun h9 => ?_)
    · refine jx_iload_n (pc := 30) G dX2_code_30 rfl 1 rfl ?_
      exact E _ _ 31 _ ⟨by rw [hc, show p = n by omega], rfl⟩ dX2_code_31
    · refine jx_bipush (pc := 12) G dX2_code_12 kb_10 ?_
      refine jx_iload_n (pc := 14) G dX2_code_14 rfl 1 rfl ?_
      refine jx_imul (pc := 15) G dX2_code_15 ?_
      refine jx_aload_n (pc := 16) G dX2_code_16 rfl 0 rfl ?_
      refine mg_bells (pc := 17) G dX2_code_17 ?_
      refine jx_iload_n (pc := 20) G dX2_code_20 rfl 2 rfl ?_
      refine ml_bells (pc := 21) G dX2_code_21 (by omega) ?_
      refine jx_iadd (pc := 22) G dX2_code_22 ?_
      refine jx_istore_n (pc := 23) G dX2_code_23 rfl (by decide) (fun v => [(0, .ref o), (1, .int (nI v)), (2, .int (nI p))]) (fun _ => rfl) (fun u1_23 eu1_23 => ?_)
      refine jx_iincV (pc := 24) G dX2_code_24 kc_1 (by decide) 2 rfl (p + 1) rfl [(0, .ref o), (1, .int (nI u1_23)), (2, .int (nI (p + 1)))] rfl ?_
      refine jx_goto (pc := 27) (tgt := 4) G dX2_code_27 (by decide) ?_
      exact ih4 _ (by omega) (p + 1) u1_23 rfl (by omega) (by show u1_23 = 10 * bl_cd g p + (g p + 1); rw [← hc, ← hb p (by omega), eu1_23])
  exact lp4 _ 0 0 rfl (by omega) rfl
set_option maxHeartbeats 4000000 in
theorem kM_exchange (hn : n ≤ 6) {s : Nat} (hs : bl_ok n s) : jx_Kv l D cb ci yX2_exchange wsX2_exchange rmX2_exchange 0 0 [.ref o, .int (nI s)] (MC cb ci o a n z gm gc ct gl fb la fr) (fun w' => ∃ fb', (∀ p, p < n → fb' p = fb (bl_sw s p)) ∧ w' = MC cb ci o a n z gm gc ct gl fb' la fr) := by
  refine jx_Kv_of (by decide) (Nat.le_of_ble_eq_true rfl) [(0, .ref o), (1, .int (nI s))] rfl ?_
  intro x G E
  have hs64 := bl_ok_64 hn hs
  refine jx_iconst (pc := 0) G dX2_exchange_0 kc_0 ?_
  refine jx_istore_nV (pc := 1) G dX2_exchange_1 rfl (by decide) (0) rfl [(0, .ref o), (1, .int (nI s)), (2, .int (nI 0))] rfl ?_
  have lp2 : ∀ (d2 : Nat) (p : Nat) (fb' : Nat → Nat), n - p = d2 → (p ≤ n) → (bl_sec s p = false) → (∀ q, q < p → fb' q = fb (bl_sw s q)) → (∀ q, p ≤ q → fb' q = fb q) → jx_J x 0 0 (MC cb ci o a n z gm gc ct gl fb' la fr) 2 [(0, .ref o), (1, .int (nI s)), (2, .int (nI p))] [] := by
    intro d2
    induction d2 using Nat.strongRecOn with
    | _ d2 ih2 =>
    intro p fb' hm2 hp hsec h1 h2
    refine jx_iload_n (pc := 2) G dX2_exchange_2 rfl 2 rfl ?_
    refine jx_aload_n (pc := 3) G dX2_exchange_3 rfl 0 rfl ?_
    refine mg_n (pc := 4) G dX2_exchange_4 ?_
    refine jx_icmp_ge (pc := 7) (tgt := 61) G dX2_exchange_7 (by decide) (by omega) (by omega) (fun h7 => ?_) (fun h7 => ?_)
    · exact E _ 61 _ ⟨fb', fun q hq => h1 q (by omega), rfl⟩ dX2_exchange_61
    · refine jx_iload_n (pc := 10) G dX2_exchange_10 rfl 1 rfl ?_
      refine jx_iload_n (pc := 11) G dX2_exchange_11 rfl 2 rfl ?_
      refine jx_ishrR (pc := 12) G dX2_exchange_12 (nr_s (by omega) (by omega)) ?_
      refine jx_iconst (pc := 13) G dX2_exchange_13 kc_1 ?_
      refine jx_iandR (pc := 14) G dX2_exchange_14 (na_1 (Nat.lt_of_le_of_lt (Nat.div_le_self _ _) (by omega))) ?_
      refine jx_iconst (pc := 15) G dX2_exchange_15 kc_1 ?_
      refine jx_icmp_ne (pc := 16) (tgt := 25) G dX2_exchange_16 (by decide) (Nat.lt_of_lt_of_le (Nat.mod_lt _ (by decide)) (by decide)) (by decide) (fun h16 => ?_) (fun h16 => ?_)
      · have hb0 : bl_bit s p = 0 := by
          have h3 : bl_bit s p ≠ 1 := h16
          have h4 := bl_bit_lt s p
          omega
        have hf1 : bl_fst s p = true := bl_fst_iff.mpr ⟨hb0, hsec⟩
        have hp1 := (hs.2 p (by omega) hf1).1
        have hs2 : bl_sec s (p + 2) = false := Bool.eq_false_iff.mpr (fun q => by
          have h4 := (bl_fst_iff.mp q).2
          have h5 : bl_sec s (p + 1) = true := hf1
          rw [h4] at h5
          cases h5)
        refine jx_aload_n (pc := 25) G dX2_exchange_25 rfl 0 rfl ?_
        refine mg_bells (pc := 26) G dX2_exchange_26 ?_
        refine jx_iload_n (pc := 29) G dX2_exchange_29 rfl 2 rfl ?_
        refine ml_bells (pc := 30) G dX2_exchange_30 (by omega) ?_
        refine jx_istore_nV (pc := 31) G dX2_exchange_31 rfl (by decide) (fb' p) rfl [(0, .ref o), (1, .int (nI s)), (2, .int (nI p)), (3, .int (nI (fb' p)))] rfl ?_
        refine jx_aload_n (pc := 32) G dX2_exchange_32 rfl 0 rfl ?_
        refine mg_bells (pc := 33) G dX2_exchange_33 ?_
        refine jx_iload_n (pc := 36) G dX2_exchange_36 rfl 2 rfl ?_
        refine jx_aload_n (pc := 37) G dX2_exchange_37 rfl 0 rfl ?_
        refine mg_bells (pc := 38) G dX2_exchange_38 ?_
        refine jx_iload_n (pc := 41) G dX2_exchange_41 rfl 2 rfl ?_
        refine jx_iconst (pc := 42) G dX2_exchange_42 kc_1 ?_
        refine jx_iadd (pc := 43) G dX2_exchange_43 ?_
        refine ml_bells (pc := 44) G dX2_exchange_44 (by omega) ?_
        refine ms_bells (pc := 45) G dX2_exchange_45 (by omega) ?_
        refine jx_aload_n (pc := 46) G dX2_exchange_46 rfl 0 rfl ?_
        refine mg_bells (pc := 47) G dX2_exchange_47 ?_
        refine jx_iload_n (pc := 50) G dX2_exchange_50 rfl 2 rfl ?_
        refine jx_iconst (pc := 51) G dX2_exchange_51 kc_1 ?_
        refine jx_iadd (pc := 52) G dX2_exchange_52 ?_
        refine jx_iload_n (pc := 53) G dX2_exchange_53 rfl 3 rfl ?_
        refine ms_bells (pc := 54) G dX2_exchange_54 (by omega) ?_
        refine jx_iincV (pc := 55) G dX2_exchange_55 kc_2 (by decide) 2 rfl (p + 2) rfl [(0, .ref o), (1, .int (nI s)), (2, .int (nI (p + 2))), (3, .int (nI (fb' p)))] rfl ?_
        refine jx_goto (pc := 58) (tgt := 2) G dX2_exchange_58 (by decide) ?_
        exact jx_sub (lv' := [(0, .ref o), (1, .int (nI s)), (2, .int (nI (p + 2)))]) [0, 1, 2] rfl (ih2 _ (by omega) (p + 2) _ rfl (by omega) hs2 (fun q hq => by by_cases e : q = p + 1; (rw [e, upN_eq, h2 p (Nat.le_refl p), (bl_sw_f hf1).2]); (rw [upN_ne e]; by_cases e2 : q = p; (rw [e2, upN_eq, h2 _ (by omega), (bl_sw_f hf1).1]); (rw [upN_ne e2]; exact h1 q (by omega)))) (fun q hq => by rw [upN_ne (by omega), upN_ne (by omega)]; exact h2 q (by omega)))
      · have hb1 : bl_bit s p ≠ 0 := by
          have h3 : bl_bit s p = 1 := h16
          omega
        have hsw := bl_sw_n hsec hb1
        have hs1 : bl_sec s (p + 1) = false := Bool.eq_false_iff.mpr (fun q => hb1 (bl_fst_iff.mp q).1)
        refine jx_iincV (pc := 19) G dX2_exchange_19 kc_1 (by decide) 2 rfl (p + 1) rfl [(0, .ref o), (1, .int (nI s)), (2, .int (nI (p + 1)))] rfl ?_
        refine jx_goto (pc := 22) (tgt := 2) G dX2_exchange_22 (by decide) ?_
        exact ih2 _ (by omega) (p + 1) fb' rfl (by omega) hs1 (fun q hq => by by_cases e : q = p; (rw [e, h2 p (Nat.le_refl p), hsw]); exact h1 q (by omega)) (fun q hq => h2 q (by omega))
  exact lp2 _ 0 fb rfl (by omega) rfl (fun q h => absurd h (by omega)) (fun _ _ => rfl)
set_option maxHeartbeats 4000000 in
theorem kM_ring (hn : n ≤ 6) (hz2 : z ≤ 12) (hV : bl_V n z fm fc) (hg1 : ∀ k, k < z → gm k = fm k) (hg2 : ∀ c, 0 < c → c < 3 → gc c = fc c) {c : Nat} (hc : c < 3) {g : Nat → Nat} (hb : ∀ p, p < n → fb p = g p + 1) (hla : la + z < 260) : jx_Kv l D cb ci yX2_ring wsX2_ring rmX2_ring 0 0 [.ref o, .int (nI c)] (MC cb ci o a n z gm gc ct gl fb la fr) (fun w' => ∃ fb' fr', (∀ p, p < n → fb' p = g (bl_off z fm fc c z p) + 1) ∧ (∀ k, k < z → fr' (la + k + 1) = bl_cd (fun p => g (bl_off z fm fc c (k + 1) p)) n) ∧ (∀ j, (j ≤ la ∨ la + z < j) → fr' j = fr j) ∧ w' = MC cb ci o a n z gm gc ct gl fb' (la + z) fr') := by
  refine jx_Kv_of (by decide) (Nat.le_of_ble_eq_true rfl) [(0, .ref o), (1, .int (nI c))] rfl ?_
  intro x G E
  refine jx_iconst (pc := 0) G dX2_ring_0 kc_0 ?_
  refine jx_istore_nV (pc := 1) G dX2_ring_1 rfl (by decide) (0) rfl [(0, .ref o), (1, .int (nI c)), (2, .int (nI 0))] rfl ?_
  have lp2 : ∀ (d2 : Nat) (i : Nat) (fb' fr' : Nat → Nat), z - i = d2 → (i ≤ z) → (∀ p, p < n → fb' p = g (bl_off z fm fc c i p) + 1) → (∀ k, k < i → fr' (la + k + 1) = bl_cd (fun p => g (bl_off z fm fc c (k + 1) p)) n) → (∀ j, (j ≤ la ∨ la + i < j) → fr' j = fr j) → jx_J x 0 0 (MC cb ci o a n z gm gc ct gl fb' (la + i) fr') 2 [(0, .ref o), (1, .int (nI c)), (2, .int (nI i))] [] := by
    intro d2
    induction d2 using Nat.strongRecOn with
    | _ d2 ih2 =>
    intro i fb' fr' hm2 hi h1 h2 h3
    refine jx_iload_n (pc := 2) G dX2_ring_2 rfl 2 rfl ?_
    refine jx_aload_n (pc := 3) G dX2_ring_3 rfl 0 rfl ?_
    refine mg_size (pc := 4) G dX2_ring_4 ?_
    refine jx_icmp_ge (pc := 7) (tgt := 72) G dX2_ring_7 (by decide) (by omega) (by omega) (fun h7 => ?_) (fun h7 => ?_)
    · exact E _ 72 _ ⟨fb', fr', fun p hp => by rw [h1 p hp, show i = z by omega], fun k hk => h2 k (by omega), fun j hj => h3 j (by omega), by rw [show i = z by omega]⟩ dX2_ring_72
    · refine jx_aload_n (pc := 10) G dX2_ring_10 rfl 0 rfl ?_
      refine jx_iload_n (pc := 11) G dX2_ring_11 rfl 2 rfl ?_
      refine jx_aload_n (pc := 12) G dX2_ring_12 rfl 0 rfl ?_
      refine mg_size (pc := 13) G dX2_ring_13 ?_
      refine jx_iconst (pc := 16) G dX2_ring_16 kc_1 ?_
      refine jx_isub (pc := 17) G dX2_ring_17 (by omega) ?_
      refine jx_icmp_ne (pc := 18) (tgt := 34) G dX2_ring_18 (by decide) (by omega) (by omega) (fun h18 => ?_) (fun h18 => ?_)
      · refine jx_aload_n (pc := 34) G dX2_ring_34 rfl 0 rfl ?_
        refine mg_method (pc := 35) G dX2_ring_35 ?_
        refine jx_iload_n (pc := 38) G dX2_ring_38 rfl 2 rfl ?_
        refine ml_method (pc := 39) G dX2_ring_39 (by omega) ?_
        refine jx_top (congrArg nI (show _ = bl_sg z fm fc c i by unfold bl_sg; split <;> first | exact hg1 i (by omega) | exact hg2 c (by omega) (by omega) | (exfalso; omega))) ?_
        refine mc_v1 (pc := 40) G (fun _ _ => kM_exchange hn (bl_sg_ok hV hc (by omega))) (cwX2_exchange ⟨Nat.le_of_ble_eq_true rfl, Nat.le_of_ble_eq_true rfl⟩) (Nat.le_of_ble_eq_true rfl) dX2_ring_40 (fun w' hq => ?_)
        obtain ⟨fb2, hx2, rfl⟩ := hq
        have hfb2 : ∀ p, p < n → fb2 p = g (bl_off z fm fc c (i + 1) p) + 1 := fun p hp => by
          rw [hx2 p hp, h1 _ (bl_sw_lt (bl_sg_ok hV hc (by omega)) hp)]
          rfl
        refine jx_aload_n (pc := 43) G dX2_ring_43 rfl 0 rfl ?_
        refine jx_dup (pc := 44) G dX2_ring_44 ?_
        refine mg_last (pc := 45) G dX2_ring_45 ?_
        refine jx_iconst (pc := 48) G dX2_ring_48 kc_1 ?_
        refine jx_iadd (pc := 49) G dX2_ring_49 ?_
        refine mp_last (pc := 50) G dX2_ring_50 ?_
        refine jx_aload_n (pc := 53) G dX2_ring_53 rfl 0 rfl ?_
        refine mg_rows (pc := 54) G dX2_ring_54 ?_
        refine jx_aload_n (pc := 57) G dX2_ring_57 rfl 0 rfl ?_
        refine mg_last (pc := 58) G dX2_ring_58 ?_
        refine jx_aload_n (pc := 61) G dX2_ring_61 rfl 0 rfl ?_
        refine mc_i0 (pc := 62) G (fun _ _ => kM_code hn (g := fun p => g (bl_off z fm fc c (i + 1) p)) hfb2) (cwX2_code ⟨Nat.le_of_ble_eq_true rfl, Nat.le_of_ble_eq_true rfl⟩) (Nat.le_of_ble_eq_true rfl) dX2_ring_62 (fun r w' hq => ?_)
        obtain ⟨rfl, rfl⟩ := hq
        refine ms_rows (pc := 65) G dX2_ring_65 (by omega) ?_
        refine jx_iincV (pc := 66) G dX2_ring_66 kc_1 (by decide) 2 rfl (i + 1) rfl [(0, .ref o), (1, .int (nI c)), (2, .int (nI (i + 1)))] rfl ?_
        refine jx_goto (pc := 69) (tgt := 2) G dX2_ring_69 (by decide) ?_
        exact ih2 _ (by omega) (i + 1) fb2 _ rfl (by omega) hfb2 (fun k hk => by by_cases e : k = i; (rw [e, show la + i + 1 = la + (i + 1) from rfl, upN_eq]); (rw [upN_ne (by omega)]; exact h2 k (by omega))) (fun j hj => by rw [upN_ne (by omega)]; exact h3 j (by omega))
      · refine jx_iload_n (pc := 21) G dX2_ring_21 rfl 1 rfl ?_
        refine jx_if_le (pc := 22) (tgt := 34) G dX2_ring_22 (by decide) (by omega) (fun h22 => ?_) (fun h22 => ?_)
        · refine jx_aload_n (pc := 34) G dX2_ring_34 rfl 0 rfl ?_
          refine mg_method (pc := 35) G dX2_ring_35 ?_
          refine jx_iload_n (pc := 38) G dX2_ring_38 rfl 2 rfl ?_
          refine ml_method (pc := 39) G dX2_ring_39 (by omega) ?_
          refine jx_top (congrArg nI (show _ = bl_sg z fm fc c i by unfold bl_sg; split <;> first | exact hg1 i (by omega) | exact hg2 c (by omega) (by omega) | (exfalso; omega))) ?_
          refine mc_v1 (pc := 40) G (fun _ _ => kM_exchange hn (bl_sg_ok hV hc (by omega))) (cwX2_exchange ⟨Nat.le_of_ble_eq_true rfl, Nat.le_of_ble_eq_true rfl⟩) (Nat.le_of_ble_eq_true rfl) dX2_ring_40 (fun w' hq => ?_)
          obtain ⟨fb2, hx2, rfl⟩ := hq
          have hfb2 : ∀ p, p < n → fb2 p = g (bl_off z fm fc c (i + 1) p) + 1 := fun p hp => by
            rw [hx2 p hp, h1 _ (bl_sw_lt (bl_sg_ok hV hc (by omega)) hp)]
            rfl
          refine jx_aload_n (pc := 43) G dX2_ring_43 rfl 0 rfl ?_
          refine jx_dup (pc := 44) G dX2_ring_44 ?_
          refine mg_last (pc := 45) G dX2_ring_45 ?_
          refine jx_iconst (pc := 48) G dX2_ring_48 kc_1 ?_
          refine jx_iadd (pc := 49) G dX2_ring_49 ?_
          refine mp_last (pc := 50) G dX2_ring_50 ?_
          refine jx_aload_n (pc := 53) G dX2_ring_53 rfl 0 rfl ?_
          refine mg_rows (pc := 54) G dX2_ring_54 ?_
          refine jx_aload_n (pc := 57) G dX2_ring_57 rfl 0 rfl ?_
          refine mg_last (pc := 58) G dX2_ring_58 ?_
          refine jx_aload_n (pc := 61) G dX2_ring_61 rfl 0 rfl ?_
          refine mc_i0 (pc := 62) G (fun _ _ => kM_code hn (g := fun p => g (bl_off z fm fc c (i + 1) p)) hfb2) (cwX2_code ⟨Nat.le_of_ble_eq_true rfl, Nat.le_of_ble_eq_true rfl⟩) (Nat.le_of_ble_eq_true rfl) dX2_ring_62 (fun r w' hq => ?_)
          obtain ⟨rfl, rfl⟩ := hq
          refine ms_rows (pc := 65) G dX2_ring_65 (by omega) ?_
          refine jx_iincV (pc := 66) G dX2_ring_66 kc_1 (by decide) 2 rfl (i + 1) rfl [(0, .ref o), (1, .int (nI c)), (2, .int (nI (i + 1)))] rfl ?_
          refine jx_goto (pc := 69) (tgt := 2) G dX2_ring_69 (by decide) ?_
          exact ih2 _ (by omega) (i + 1) fb2 _ rfl (by omega) hfb2 (fun k hk => by by_cases e : k = i; (rw [e, show la + i + 1 = la + (i + 1) from rfl, upN_eq]); (rw [upN_ne (by omega)]; exact h2 k (by omega))) (fun j hj => by rw [upN_ne (by omega)]; exact h3 j (by omega))
        · refine jx_aload_n (pc := 25) G dX2_ring_25 rfl 0 rfl ?_
          refine mg_calls (pc := 26) G dX2_ring_26 ?_
          refine jx_iload_n (pc := 29) G dX2_ring_29 rfl 1 rfl ?_
          refine ml_calls (pc := 30) G dX2_ring_30 (by omega) ?_
          refine jx_goto (pc := 31) (tgt := 40) G dX2_ring_31 (by decide) ?_
          refine jx_top (congrArg nI (show _ = bl_sg z fm fc c i by unfold bl_sg; split <;> first | exact hg1 i (by omega) | exact hg2 c (by omega) (by omega) | (exfalso; omega))) ?_
          refine mc_v1 (pc := 40) G (fun _ _ => kM_exchange hn (bl_sg_ok hV hc (by omega))) (cwX2_exchange ⟨Nat.le_of_ble_eq_true rfl, Nat.le_of_ble_eq_true rfl⟩) (Nat.le_of_ble_eq_true rfl) dX2_ring_40 (fun w' hq => ?_)
          obtain ⟨fb2, hx2, rfl⟩ := hq
          have hfb2 : ∀ p, p < n → fb2 p = g (bl_off z fm fc c (i + 1) p) + 1 := fun p hp => by
            rw [hx2 p hp, h1 _ (bl_sw_lt (bl_sg_ok hV hc (by omega)) hp)]
            rfl
          refine jx_aload_n (pc := 43) G dX2_ring_43 rfl 0 rfl ?_
          refine jx_dup (pc := 44) G dX2_ring_44 ?_
          refine mg_last (pc := 45) G dX2_ring_45 ?_
          refine jx_iconst (pc := 48) G dX2_ring_48 kc_1 ?_
          refine jx_iadd (pc := 49) G dX2_ring_49 ?_
          refine mp_last (pc := 50) G dX2_ring_50 ?_
          refine jx_aload_n (pc := 53) G dX2_ring_53 rfl 0 rfl ?_
          refine mg_rows (pc := 54) G dX2_ring_54 ?_
          refine jx_aload_n (pc := 57) G dX2_ring_57 rfl 0 rfl ?_
          refine mg_last (pc := 58) G dX2_ring_58 ?_
          refine jx_aload_n (pc := 61) G dX2_ring_61 rfl 0 rfl ?_
          refine mc_i0 (pc := 62) G (fun _ _ => kM_code hn (g := fun p => g (bl_off z fm fc c (i + 1) p)) hfb2) (cwX2_code ⟨Nat.le_of_ble_eq_true rfl, Nat.le_of_ble_eq_true rfl⟩) (Nat.le_of_ble_eq_true rfl) dX2_ring_62 (fun r w' hq => ?_)
          obtain ⟨rfl, rfl⟩ := hq
          refine ms_rows (pc := 65) G dX2_ring_65 (by omega) ?_
          refine jx_iincV (pc := 66) G dX2_ring_66 kc_1 (by decide) 2 rfl (i + 1) rfl [(0, .ref o), (1, .int (nI c)), (2, .int (nI (i + 1)))] rfl ?_
          refine jx_goto (pc := 69) (tgt := 2) G dX2_ring_69 (by decide) ?_
          exact ih2 _ (by omega) (i + 1) fb2 _ rfl (by omega) hfb2 (fun k hk => by by_cases e : k = i; (rw [e, show la + i + 1 = la + (i + 1) from rfl, upN_eq]); (rw [upN_ne (by omega)]; exact h2 k (by omega))) (fun j hj => by rw [upN_ne (by omega)]; exact h3 j (by omega))
  exact lp2 _ 0 fb fr rfl (by omega) hb (fun k h => absurd h (by omega)) (fun _ _ => rfl)
set_option maxHeartbeats 4000000 in
theorem kM_write (hA : bl_AV n z fm fc ct fl) (hg1 : ∀ k, k < z → gm k = fm k) (hg2 : ∀ c, 0 < c → c < 3 → gc c = fc c) (hg3 : ∀ i, i < ct → gl i = fl i) : jx_Kv l D cb ci yX2_write wsX2_write rmX2_write 0 0 [.ref o] (MC cb ci o a n z gm gc ct gl fb la fr) (fun w' => ∃ fb' fr', (∀ p, p < n → fb' p = bl_hd z fm fc fl ct p + 1) ∧ (∀ k, k ≤ ct * z → fr' k = bl_cd (bl_row z fm fc fl k) n) ∧ w' = MC cb ci o a n z gm gc ct gl fb' (ct * z) fr') := by
  refine jx_Kv_of (by decide) (Nat.le_of_ble_eq_true rfl) [(0, .ref o)] rfl ?_
  intro x G E
  have hA0 := hA
  obtain ⟨⟨hn3, hn6⟩, ⟨hz1, hz2⟩, hct, hV, hfl⟩ := hA0
  have hcz := bl_ctz hct hz2
  refine jx_aload_n (pc := 0) G dX2_write_0 rfl 0 rfl ?_
  refine mc_v0 (pc := 1) G (fun _ _ => kM_round hn6) (cwX2_round ⟨Nat.le_of_ble_eq_true rfl, Nat.le_of_ble_eq_true rfl⟩) (Nat.le_of_ble_eq_true rfl) dX2_write_1 (fun w' hq => ?_)
  obtain ⟨fb0, hb0, rfl⟩ := hq
  refine jx_aload_n (pc := 4) G dX2_write_4 rfl 0 rfl ?_
  refine jx_iconst (pc := 5) G dX2_write_5 kc_0 ?_
  refine mp_last (pc := 6) G dX2_write_6 ?_
  refine jx_aload_n (pc := 9) G dX2_write_9 rfl 0 rfl ?_
  refine mg_rows (pc := 10) G dX2_write_10 ?_
  refine jx_iconst (pc := 13) G dX2_write_13 kc_0 ?_
  refine jx_aload_n (pc := 14) G dX2_write_14 rfl 0 rfl ?_
  refine mc_i0 (pc := 15) G (fun _ _ => kM_code hn6 (g := fun p => p) hb0) (cwX2_code ⟨Nat.le_of_ble_eq_true rfl, Nat.le_of_ble_eq_true rfl⟩) (Nat.le_of_ble_eq_true rfl) dX2_write_15 (fun r w' hq => ?_)
  obtain ⟨rfl, rfl⟩ := hq
  refine ms_rows (pc := 18) G dX2_write_18 (by omega) ?_
  refine jx_iconst (pc := 19) G dX2_write_19 kc_0 ?_
  refine jx_istore_nV (pc := 20) G dX2_write_20 rfl (by decide) (0) rfl [(0, .ref o), (1, .int (nI 0))] rfl ?_
  have lp21 : ∀ (d21 : Nat) (j la2 : Nat) (fb' fr' : Nat → Nat), ct - j = d21 → (j ≤ ct) → (la2 = j * z) → (∀ p, p < n → fb' p = bl_hd z fm fc fl j p + 1) → (∀ k, k ≤ la2 → fr' k = bl_cd (bl_row z fm fc fl k) n) → jx_J x 0 0 (MC cb ci o a n z gm gc ct gl fb' la2 fr') 21 [(0, .ref o), (1, .int (nI j))] [] := by
    intro d21
    induction d21 using Nat.strongRecOn with
    | _ d21 ih21 =>
    intro j la2 fb' fr' hm21 hj hl2 h1 h2
    refine jx_iload_n (pc := 21) G dX2_write_21 rfl 1 rfl ?_
    refine jx_aload_n (pc := 22) G dX2_write_22 rfl 0 rfl ?_
    refine mg_count (pc := 23) G dX2_write_23 ?_
    refine jx_icmp_ge (pc := 26) (tgt := 45) G dX2_write_26 (by decide) (by omega) (by omega) (fun h26 => ?_) (fun h26 => ?_)
    · exact E _ 45 _ ⟨fb', fr', fun p hp => by rw [h1 p hp, show j = ct by omega], fun k hk => h2 k (by rw [hl2, show j = ct by omega]; exact hk), by rw [hl2, show j = ct by omega]⟩ dX2_write_45
    · have hjz : j * z + z ≤ ct * z := by
        rw [← Nat.succ_mul]
        exact Nat.mul_le_mul_right z (by omega)
      have hsm : (j + 1) * z = j * z + z := Nat.succ_mul j z
      refine jx_aload_n (pc := 29) G dX2_write_29 rfl 0 rfl ?_
      refine jx_aload_n (pc := 30) G dX2_write_30 rfl 0 rfl ?_
      refine mg_leads (pc := 31) G dX2_write_31 ?_
      refine jx_iload_n (pc := 34) G dX2_write_34 rfl 1 rfl ?_
      refine ml_leads (pc := 35) G dX2_write_35 (by omega) ?_
      rw [hg3 j (by omega)]
      refine mc_v1 (pc := 36) G (fun _ _ => kM_ring hn6 hz2 hV hg1 hg2 (hfl j (by omega)) (g := bl_hd z fm fc fl j) h1 (by omega)) (cwX2_ring ⟨Nat.le_of_ble_eq_true rfl, Nat.le_of_ble_eq_true rfl⟩) (Nat.le_of_ble_eq_true rfl) dX2_write_36 (fun w' hq => ?_)
      obtain ⟨fb2, fr2, k1, k2, k3, rfl⟩ := hq
      refine jx_iincV (pc := 39) G dX2_write_39 kc_1 (by decide) 1 rfl (j + 1) rfl [(0, .ref o), (1, .int (nI (j + 1)))] rfl ?_
      refine jx_goto (pc := 42) (tgt := 21) G dX2_write_42 (by decide) ?_
      exact ih21 _ (by omega) (j + 1) _ fb2 fr2 rfl (by omega) (by omega) k1 (fun k hk => by by_cases e : k ≤ la2; (rw [k3 k (Or.inl e)]; exact h2 k e); (have e2 : k = la2 + (k - 1 - la2) + 1 := (by omega); rw [e2, k2 _ (by omega)]; exact bl_cd_congr n (fun p _ => by rw [hl2]; exact (bl_row_at fm fc fl (by omega) p).symm)))
  exact lp21 _ 0 0 fb0 (upN fr 0 (bl_cd (fun p => p) n)) rfl (by omega) (by omega) hb0 (fun k hk => by rw [show k = 0 by omega, upN_eq]; exact bl_cd_congr n (fun p _ => (bl_row_0 z fm fc fl p).symm))
set_option maxHeartbeats 4000000 in
theorem kM_find_neg {y : Int32} (hy : y < 0) : jx_Ki l D cb ci yX2_find wsX2_find rmX2_find 0 0 [.ref o, .int y] (MC cb ci o a n z gm gc ct gl fb la fr) (fun r w' => r = -4 ∧ w' = MC cb ci o a n z gm gc ct gl fb la fr) := by
  refine jx_Ki_of (by decide) (Nat.le_of_ble_eq_true rfl) [(0, .ref o), (1, .int y)] rfl ?_
  intro x G E
  refine jx_iload_n (pc := 0) G dX2_find_0 rfl 1 rfl ?_
  refine jx_iflt_neg (pc := 1) (tgt := 12) G dX2_find_1 (by decide) hy ?_
  refine jx_bipush (pc := 12) G dX2_find_12 kb_m4 ?_
  refine jx_goto (pc := 14) (tgt := 23) G dX2_find_14 (by decide) ?_
  exact E _ _ 23 _ ⟨rfl, rfl⟩ dX2_find_23
set_option maxHeartbeats 4000000 in
theorem kM_find_hi (hla : la < 260) {k : Nat} (hk31 : k < 2 ^ 31) (hk : la < k) : jx_Ki l D cb ci yX2_find wsX2_find rmX2_find 0 0 [.ref o, .int (nI k)] (MC cb ci o a n z gm gc ct gl fb la fr) (fun r w' => r = -4 ∧ w' = MC cb ci o a n z gm gc ct gl fb la fr) := by
  refine jx_Ki_of (by decide) (Nat.le_of_ble_eq_true rfl) [(0, .ref o), (1, .int (nI k))] rfl ?_
  intro x G E
  refine jx_iload_n (pc := 0) G dX2_find_0 rfl 1 rfl ?_
  refine jx_iflt_nn (pc := 1) (tgt := 12) G dX2_find_1 (by decide) hk31 ?_
  refine jx_iload_n (pc := 4) G dX2_find_4 rfl 1 rfl ?_
  refine jx_aload_n (pc := 5) G dX2_find_5 rfl 0 rfl ?_
  refine mg_last (pc := 6) G dX2_find_6 ?_
  refine jx_icmp_le (pc := 9) (tgt := 17) G dX2_find_9 (by decide) (by omega) (by omega) (fun h9 => ?_) (fun h9 => ?_)
  · omega
  · refine jx_bipush (pc := 12) G dX2_find_12 kb_m4 ?_
    refine jx_goto (pc := 14) (tgt := 23) G dX2_find_14 (by decide) ?_
    exact E _ _ 23 _ ⟨rfl, rfl⟩ dX2_find_23
set_option maxHeartbeats 4000000 in
theorem kM_find_ok (hla : la < 260) {k : Nat} (hk : k ≤ la) : jx_Ki l D cb ci yX2_find wsX2_find rmX2_find 0 0 [.ref o, .int (nI k)] (MC cb ci o a n z gm gc ct gl fb la fr) (fun r w' => r = nI (fr k) ∧ w' = MC cb ci o a n z gm gc ct gl fb la fr) := by
  refine jx_Ki_of (by decide) (Nat.le_of_ble_eq_true rfl) [(0, .ref o), (1, .int (nI k))] rfl ?_
  intro x G E
  refine jx_iload_n (pc := 0) G dX2_find_0 rfl 1 rfl ?_
  refine jx_iflt_nn (pc := 1) (tgt := 12) G dX2_find_1 (by decide) (by omega) ?_
  refine jx_iload_n (pc := 4) G dX2_find_4 rfl 1 rfl ?_
  refine jx_aload_n (pc := 5) G dX2_find_5 rfl 0 rfl ?_
  refine mg_last (pc := 6) G dX2_find_6 ?_
  refine jx_icmp_le (pc := 9) (tgt := 17) G dX2_find_9 (by decide) (by omega) (by omega) (fun h9 => ?_) (fun h9 => ?_)
  · refine jx_aload_n (pc := 17) G dX2_find_17 rfl 0 rfl ?_
    refine mg_rows (pc := 18) G dX2_find_18 ?_
    refine jx_iload_n (pc := 21) G dX2_find_21 rfl 1 rfl ?_
    refine ml_rows (pc := 22) G dX2_find_22 (by omega) ?_
    exact E _ _ 23 _ ⟨rfl, rfl⟩ dX2_find_23
  · omega
theorem kM_find_no (hla : la < 260) {y : Int32} (hy : ¬ bl_in (la + 1) y) : jx_Ki l D cb ci yX2_find wsX2_find rmX2_find 0 0 [.ref o, .int y] (MC cb ci o a n z gm gc ct gl fb la fr) (fun r w' => r = -4 ∧ w' = MC cb ci o a n z gm gc ct gl fb la fr) := by
  rcases bl_int y with h | ⟨k, hk, rfl⟩
  · exact kM_find_neg h
  · rw [bl_in_nI (by omega) hk] at hy
    exact kM_find_hi hla hk (by omega)
set_option maxHeartbeats 4000000 in
theorem kM_row_bad (hA : bl_AV n z fm fc ct fl) (hg1 : ∀ k, k < z → gm k = fm k) (hg2 : ∀ c, 0 < c → c < 3 → gc c = fc c) (hg3 : ∀ i, i < ct → gl i = fl i) {y : Int32} (hy : ¬ bl_in (ct * z + 1) y) : jx_Ki l D cb ci yX2_row wsX2_row rmX2_row 0 0 [.ref o, .int y] (MC cb ci o a n z gm gc ct gl fb la fr) (fun r w' => r = -4 ∧ bl_MI cb ci o a n z fm fc ct fl w') := by
  refine jx_Ki_of (by decide) (Nat.le_of_ble_eq_true rfl) [(0, .ref o), (1, .int y)] rfl ?_
  intro x G E
  have hA0 := hA
  obtain ⟨⟨hn3, hn6⟩, ⟨hz1, hz2⟩, hct, hV, hfl⟩ := hA0
  have hcz := bl_ctz hct hz2
  refine jx_aload_n (pc := 0) G dX2_row_0 rfl 0 rfl ?_
  refine mc_v0 (pc := 1) G (fun _ _ => kM_write hA hg1 hg2 hg3) (cwX2_write ⟨Nat.le_of_ble_eq_true rfl, Nat.le_of_ble_eq_true rfl⟩) (Nat.le_of_ble_eq_true rfl) dX2_row_1 (fun w' hq => ?_)
  obtain ⟨fb', fr', hb, hr, rfl⟩ := hq
  refine jx_aload_n (pc := 4) G dX2_row_4 rfl 0 rfl ?_
  refine jx_iload_n (pc := 5) G dX2_row_5 rfl 1 rfl ?_
  refine mc_i1 (pc := 6) G (fun _ _ => kM_find_no (by omega) hy) (cwX2_find ⟨Nat.le_of_ble_eq_true rfl, Nat.le_of_ble_eq_true rfl⟩) (Nat.le_of_ble_eq_true rfl) dX2_row_6 (fun r w' hq => ?_)
  obtain ⟨rfl, rfl⟩ := hq
  exact E _ _ 9 _ ⟨rfl, ⟨_, _, _, _, _, _, rfl, hg1, hg2, hg3⟩⟩ dX2_row_9
set_option maxHeartbeats 4000000 in
theorem kM_row_ok (hA : bl_AV n z fm fc ct fl) (hg1 : ∀ k, k < z → gm k = fm k) (hg2 : ∀ c, 0 < c → c < 3 → gc c = fc c) (hg3 : ∀ i, i < ct → gl i = fl i) {k : Nat} (hk2 : k ≤ ct * z) : jx_Ki l D cb ci yX2_row wsX2_row rmX2_row 0 0 [.ref o, .int (nI k)] (MC cb ci o a n z gm gc ct gl fb la fr) (fun r w' => r = nI (bl_cd (bl_row z fm fc fl k) n) ∧ bl_MI cb ci o a n z fm fc ct fl w') := by
  refine jx_Ki_of (by decide) (Nat.le_of_ble_eq_true rfl) [(0, .ref o), (1, .int (nI k))] rfl ?_
  intro x G E
  have hA0 := hA
  obtain ⟨⟨hn3, hn6⟩, ⟨hz1, hz2⟩, hct, hV, hfl⟩ := hA0
  have hcz := bl_ctz hct hz2
  refine jx_aload_n (pc := 0) G dX2_row_0 rfl 0 rfl ?_
  refine mc_v0 (pc := 1) G (fun _ _ => kM_write hA hg1 hg2 hg3) (cwX2_write ⟨Nat.le_of_ble_eq_true rfl, Nat.le_of_ble_eq_true rfl⟩) (Nat.le_of_ble_eq_true rfl) dX2_row_1 (fun w' hq => ?_)
  obtain ⟨fb', fr', hb, hr, rfl⟩ := hq
  refine jx_aload_n (pc := 4) G dX2_row_4 rfl 0 rfl ?_
  refine jx_iload_n (pc := 5) G dX2_row_5 rfl 1 rfl ?_
  refine mc_i1 (pc := 6) G (fun _ _ => kM_find_ok (by omega) hk2) (cwX2_find ⟨Nat.le_of_ble_eq_true rfl, Nat.le_of_ble_eq_true rfl⟩) (Nat.le_of_ble_eq_true rfl) dX2_row_6 (fun r w' hq => ?_)
  obtain ⟨rfl, rfl⟩ := hq
  exact E _ _ 9 _ ⟨by rw [hr k hk2], ⟨_, _, _, _, _, _, rfl, hg1, hg2, hg3⟩⟩ dX2_row_9
set_option maxHeartbeats 4000000 in
theorem kM_place_neg {u y : Int32} (hu : u < 0) : jx_Ki l D cb ci yX2_place wsX2_place rmX2_place 0 0 [.ref o, .int u, .int y] (MC cb ci o a n z gm gc ct gl fb la fr) (fun r w' => r = -1 ∧ w' = MC cb ci o a n z gm gc ct gl fb la fr) := by
  refine jx_Ki_of (by decide) (Nat.le_of_ble_eq_true rfl) [(0, .ref o), (1, .int u), (2, .int y)] rfl ?_
  intro x G E
  refine jx_aload_n (pc := 0) G dX2_place_0 rfl 0 rfl ?_
  refine jx_iload_n (pc := 1) G dX2_place_1 rfl 1 rfl ?_
  refine mc_i1 (pc := 2) G (fun _ _ => kM_noBell_neg hu) (cwX2_noBell ⟨Nat.le_of_ble_eq_true rfl, Nat.le_of_ble_eq_true rfl⟩) (Nat.le_of_ble_eq_true rfl) dX2_place_2 (fun r w' hq => ?_)
  obtain ⟨rfl, rfl⟩ := hq
  refine jx_if_eq (pc := 5) (tgt := 10) G dX2_place_5 (by decide) (by omega) (fun h5 => ?_) (fun h5 => ?_)
  · exact absurd h5 (by decide)
  · refine jx_iconst (pc := 8) G dX2_place_8 kc_m1 ?_
    exact E _ _ 9 _ ⟨rfl, rfl⟩ dX2_place_9
set_option maxHeartbeats 4000000 in
theorem kM_place_bad (hn : n ≤ 6) {b : Nat} {y : Int32} (hb31 : b < 2 ^ 31) (hb : ¬ (1 ≤ b ∧ b ≤ n)) : jx_Ki l D cb ci yX2_place wsX2_place rmX2_place 0 0 [.ref o, .int (nI b), .int y] (MC cb ci o a n z gm gc ct gl fb la fr) (fun r w' => r = -1 ∧ w' = MC cb ci o a n z gm gc ct gl fb la fr) := by
  refine jx_Ki_of (by decide) (Nat.le_of_ble_eq_true rfl) [(0, .ref o), (1, .int (nI b)), (2, .int y)] rfl ?_
  intro x G E
  refine jx_aload_n (pc := 0) G dX2_place_0 rfl 0 rfl ?_
  refine jx_iload_n (pc := 1) G dX2_place_1 rfl 1 rfl ?_
  refine mc_i1 (pc := 2) G (fun _ _ => kM_noBell_nn hn hb31) (cwX2_noBell ⟨Nat.le_of_ble_eq_true rfl, Nat.le_of_ble_eq_true rfl⟩) (Nat.le_of_ble_eq_true rfl) dX2_place_2 (fun r w' hq => ?_)
  obtain ⟨rfl, rfl⟩ := hq
  rw [bl_ind_t hb]
  refine jx_if_eq (pc := 5) (tgt := 10) G dX2_place_5 (by decide) (by omega) (fun h5 => ?_) (fun h5 => ?_)
  · exact absurd h5 (by decide)
  · refine jx_iconst (pc := 8) G dX2_place_8 kc_m1 ?_
    exact E _ _ 9 _ ⟨rfl, rfl⟩ dX2_place_9
set_option maxHeartbeats 4000000 in
theorem kM_place_no (hA : bl_AV n z fm fc ct fl) (hg1 : ∀ k, k < z → gm k = fm k) (hg2 : ∀ c, 0 < c → c < 3 → gc c = fc c) (hg3 : ∀ i, i < ct → gl i = fl i) {b : Nat} {y : Int32} (hb2 : b < n) (hy : ¬ bl_in (ct * z + 1) y) : jx_Ki l D cb ci yX2_place wsX2_place rmX2_place 0 0 [.ref o, .int (nI (b + 1)), .int y] (MC cb ci o a n z gm gc ct gl fb la fr) (fun r w' => r = -4 ∧ bl_MI cb ci o a n z fm fc ct fl w') := by
  refine jx_Ki_of (by decide) (Nat.le_of_ble_eq_true rfl) [(0, .ref o), (1, .int (nI (b + 1))), (2, .int y)] rfl ?_
  intro x G E
  have hA0 := hA
  obtain ⟨⟨hn3, hn6⟩, ⟨hz1, hz2⟩, hct, hV, hfl⟩ := hA0
  have hcz := bl_ctz hct hz2
  refine jx_aload_n (pc := 0) G dX2_place_0 rfl 0 rfl ?_
  refine jx_iload_n (pc := 1) G dX2_place_1 rfl 1 rfl ?_
  refine mc_i1 (pc := 2) G (fun _ _ => kM_noBell_nn hn6 (by omega)) (cwX2_noBell ⟨Nat.le_of_ble_eq_true rfl, Nat.le_of_ble_eq_true rfl⟩) (Nat.le_of_ble_eq_true rfl) dX2_place_2 (fun r w' hq => ?_)
  obtain ⟨rfl, rfl⟩ := hq
  rw [bl_ind_f (fun q => q ⟨by omega, by omega⟩)]
  refine jx_if_eq (pc := 5) (tgt := 10) G dX2_place_5 (by decide) (by omega) (fun h5 => ?_) (fun h5 => ?_)
  · refine jx_aload_n (pc := 10) G dX2_place_10 rfl 0 rfl ?_
    refine mc_v0 (pc := 11) G (fun _ _ => kM_write hA hg1 hg2 hg3) (cwX2_write ⟨Nat.le_of_ble_eq_true rfl, Nat.le_of_ble_eq_true rfl⟩) (Nat.le_of_ble_eq_true rfl) dX2_place_11 (fun w' hq => ?_)
    obtain ⟨fb', fr', hb, hr, rfl⟩ := hq
    refine jx_aload_n (pc := 14) G dX2_place_14 rfl 0 rfl ?_
    refine jx_iload_n (pc := 15) G dX2_place_15 rfl 2 rfl ?_
    refine mc_i1 (pc := 16) G (fun _ _ => kM_find_no (by omega) hy) (cwX2_find ⟨Nat.le_of_ble_eq_true rfl, Nat.le_of_ble_eq_true rfl⟩) (Nat.le_of_ble_eq_true rfl) dX2_place_16 (fun r w' hq => ?_)
    obtain ⟨rfl, rfl⟩ := hq
    refine jx_istore_nR (pc := 19) G dX2_place_19 rfl (by decide) [(0, .ref o), (1, .int (nI (b + 1))), (2, .int y), (3, .int (-4))] rfl ?_
    refine jx_iload_n (pc := 20) G dX2_place_20 rfl 3 rfl ?_
    refine jx_bipush (pc := 21) G dX2_place_21 kb_m4 ?_
    refine jx_icmp_neF (pc := 23) (tgt := 29) G dX2_place_23 (by decide) rfl ?_
    refine jx_bipush (pc := 26) G dX2_place_26 kb_m4 ?_
    exact E _ _ 28 _ ⟨rfl, ⟨_, _, _, _, _, _, rfl, hg1, hg2, hg3⟩⟩ dX2_place_28
  · exact absurd rfl h5
set_option maxHeartbeats 4000000 in
theorem kM_place_ok (hA : bl_AV n z fm fc ct fl) (hg1 : ∀ k, k < z → gm k = fm k) (hg2 : ∀ c, 0 < c → c < 3 → gc c = fc c) (hg3 : ∀ i, i < ct → gl i = fl i) {b k : Nat} (hb2 : b < n) (hk2 : k ≤ ct * z) : jx_Ki l D cb ci yX2_place wsX2_place rmX2_place 0 0 [.ref o, .int (nI (b + 1)), .int (nI k)] (MC cb ci o a n z gm gc ct gl fb la fr) (fun r w' => (∃ p, p < n ∧ bl_row z fm fc fl k p = b ∧ r = nI p) ∧ bl_MI cb ci o a n z fm fc ct fl w') := by
  refine jx_Ki_of (by decide) (Nat.le_of_ble_eq_true rfl) [(0, .ref o), (1, .int (nI (b + 1))), (2, .int (nI k))] rfl ?_
  intro x G E
  have hA0 := hA
  obtain ⟨⟨hn3, hn6⟩, ⟨hz1, hz2⟩, hct, hV, hfl⟩ := hA0
  have hcz := bl_ctz hct hz2
  have hPk := bl_row_PM hA hk2
  have hcd := bl_cd_31 hn6 (f := bl_row z fm fc fl k) (fun p hp => by have := hPk.1 p hp; omega)
  refine jx_aload_n (pc := 0) G dX2_place_0 rfl 0 rfl ?_
  refine jx_iload_n (pc := 1) G dX2_place_1 rfl 1 rfl ?_
  refine mc_i1 (pc := 2) G (fun _ _ => kM_noBell_nn hn6 (by omega)) (cwX2_noBell ⟨Nat.le_of_ble_eq_true rfl, Nat.le_of_ble_eq_true rfl⟩) (Nat.le_of_ble_eq_true rfl) dX2_place_2 (fun r w' hq => ?_)
  obtain ⟨rfl, rfl⟩ := hq
  rw [bl_ind_f (fun q => q ⟨by omega, by omega⟩)]
  refine jx_if_eq (pc := 5) (tgt := 10) G dX2_place_5 (by decide) (by omega) (fun h5 => ?_) (fun h5 => ?_)
  · refine jx_aload_n (pc := 10) G dX2_place_10 rfl 0 rfl ?_
    refine mc_v0 (pc := 11) G (fun _ _ => kM_write hA hg1 hg2 hg3) (cwX2_write ⟨Nat.le_of_ble_eq_true rfl, Nat.le_of_ble_eq_true rfl⟩) (Nat.le_of_ble_eq_true rfl) dX2_place_11 (fun w' hq => ?_)
    obtain ⟨fb', fr', hb, hr, rfl⟩ := hq
    refine jx_aload_n (pc := 14) G dX2_place_14 rfl 0 rfl ?_
    refine jx_iload_n (pc := 15) G dX2_place_15 rfl 2 rfl ?_
    refine mc_i1 (pc := 16) G (fun _ _ => kM_find_ok (by omega) hk2) (cwX2_find ⟨Nat.le_of_ble_eq_true rfl, Nat.le_of_ble_eq_true rfl⟩) (Nat.le_of_ble_eq_true rfl) dX2_place_16 (fun r w' hq => ?_)
    obtain ⟨rfl, rfl⟩ := hq
    rw [hr k hk2]
    refine jx_istore_nV (pc := 19) G dX2_place_19 rfl (by decide) (bl_cd (bl_row z fm fc fl k) n) rfl [(0, .ref o), (1, .int (nI (b + 1))), (2, .int (nI k)), (3, .int (nI (bl_cd (bl_row z fm fc fl k) n)))] rfl ?_
    refine jx_iload_n (pc := 20) G dX2_place_20 rfl 3 rfl ?_
    refine jx_bipush (pc := 21) G dX2_place_21 kb_m4 ?_
    refine jx_icmp_neT (pc := 23) (tgt := 29) G dX2_place_23 (by decide) (nI_ne_m4 (by omega)) ?_
    refine jx_aload_n (pc := 29) G dX2_place_29 rfl 0 rfl ?_
    refine mg_n (pc := 30) G dX2_place_30 ?_
    refine jx_iconst (pc := 33) G dX2_place_33 kc_1 ?_
    refine jx_isub (pc := 34) G dX2_place_34 (by omega) ?_
    refine jx_istoreV (pc := 35) G dX2_place_35 (by decide) (n - 1) rfl [(0, .ref o), (1, .int (nI (b + 1))), (2, .int (nI k)), (3, .int (nI (bl_cd (bl_row z fm fc fl k) n))), (4, .int (nI (n - 1)))] rfl ?_
    have lp37 : ∀ (d37 : Nat) (at1 rs : Nat), at1 = d37 → (at1 < n) → (rs = bl_cd (bl_row z fm fc fl k) (at1 + 1)) → (∃ t, t ≤ at1 ∧ bl_row z fm fc fl k t = b) → (rs < 1000000) → jx_J x 0 0 (MC cb ci o a n z gm gc ct gl fb' (ct * z) fr') 37 [(0, .ref o), (1, .int (nI (b + 1))), (2, .int (nI k)), (3, .int (nI rs)), (4, .int (nI at1))] [] := by
      intro d37
      induction d37 using Nat.strongRecOn with
      | _ d37 ih37 =>
      intro at1 rs hm37 hat hrs hex hsm
      have hdm := bl_cd_div (f := bl_row z fm fc fl k) (p := at1) (by have := hPk.1 at1 hat; omega)
      rw [← hrs] at hdm
      refine jx_iload_n (pc := 37) G dX2_place_37 rfl 3 rfl ?_
      refine jx_bipush (pc := 38) G dX2_place_38 kb_10 ?_
      refine jx_irem (pc := 40) G dX2_place_40 (by omega) (by omega) (by omega) ?_
      refine jx_iload_n (pc := 41) G dX2_place_41 rfl 1 rfl ?_
      refine jx_icmp_eq (pc := 42) (tgt := 56) G dX2_place_42 (by decide) (by omega) (by omega) (fun h42 => ?_) (fun h42 => ?_)
      · have heq : bl_row z fm fc fl k at1 = b := by omega
        refine jx_iload (pc := 56) G dX2_place_56 4 rfl ?_
        exact E _ _ 58 _ ⟨⟨at1, hat, heq, rfl⟩, ⟨_, _, _, _, _, _, rfl, hg1, hg2, hg3⟩⟩ dX2_place_58
      · have hne : bl_row z fm fc fl k at1 ≠ b := by omega
        have hpos : 0 < at1 := by
          obtain ⟨t, ht, e⟩ := hex
          have h3 : t ≠ at1 := fun q => hne (by rw [← q]; exact e)
          omega
        refine jx_iload_n (pc := 45) G dX2_place_45 rfl 3 rfl ?_
        refine jx_bipush (pc := 46) G dX2_place_46 kb_10 ?_
        refine jx_idiv (pc := 48) G dX2_place_48 (by omega) (by omega) (by omega) ?_
        refine jx_istore_nV (pc := 49) G dX2_place_49 rfl (by decide) (rs / 10) rfl [(0, .ref o), (1, .int (nI (b + 1))), (2, .int (nI k)), (3, .int (nI (rs / 10))), (4, .int (nI at1))] rfl ?_
        refine jx_iincm (pc := 50) G dX2_place_50 kc_m1 (by omega) (by decide) 4 rfl (fun v => [(0, .ref o), (1, .int (nI (b + 1))), (2, .int (nI k)), (3, .int (nI (rs / 10))), (4, .int (nI v))]) (fun _ => rfl) (fun at2 eat2 => ?_)
        refine jx_goto (pc := 53) (tgt := 37) G dX2_place_53 (by decide) ?_
        exact ih37 _ (by omega) at2 ((rs / 10)) rfl (by omega) (by rw [show at2 + 1 = at1 by omega]; exact hdm.1) (by obtain ⟨t, ht, e⟩ := hex; exact ⟨t, by have h3 : t ≠ at1 := (fun q => hne (by rw [← q]; exact e)); omega, e⟩) (by omega)
    exact lp37 _ (n - 1) _ rfl (by omega) (by rw [show n - 1 + 1 = n by omega]) (by obtain ⟨t, ht, e⟩ := hPk.2.2 b hb2; exact ⟨t, by omega, e⟩) (by omega)
  · exact absurd rfl h5
set_option maxHeartbeats 4000000 in
theorem kM_countDifferent (hn : n ≤ 6) (hla : la < 260) {R : Nat → Nat → Nat} (hR : ∀ k, k < la → ∀ p, p < n → R (k + 1) p < 9) (hr : ∀ k, k < la → fr (k + 1) = bl_cd (R (k + 1)) n) : jx_Ki l D cb ci yX2_countDifferent wsX2_countDifferent rmX2_countDifferent 0 0 [.ref o] (MC cb ci o a n z gm gc ct gl fb la fr) (fun r w' => r = nI (bl_df n R la) ∧ w' = MC cb ci o a n z gm gc ct gl fb la fr) := by
  refine jx_Ki_of (by decide) (Nat.le_of_ble_eq_true rfl) [(0, .ref o)] rfl ?_
  intro x G E
  refine jx_iconst (pc := 0) G dX2_countDifferent_0 kc_0 ?_
  refine jx_istore_nV (pc := 1) G dX2_countDifferent_1 rfl (by decide) (0) rfl [(0, .ref o), (1, .int (nI 0))] rfl ?_
  refine jx_iconst (pc := 2) G dX2_countDifferent_2 kc_1 ?_
  refine jx_istore_nV (pc := 3) G dX2_countDifferent_3 rfl (by decide) (0 + 1) rfl [(0, .ref o), (1, .int (nI 0)), (2, .int (nI (0 + 1)))] rfl ?_
  have lp4 : ∀ (d4 : Nat) (k al : Nat), la - k = d4 → (k ≤ la) → (al = bl_df n R k) → jx_J x 0 0 (MC cb ci o a n z gm gc ct gl fb la fr) 4 [(0, .ref o), (1, .int (nI al)), (2, .int (nI (k + 1)))] [] := by
    intro d4
    induction d4 using Nat.strongRecOn with
    | _ d4 ih4 =>
    intro k al hm4 hk hm
    refine jx_iload_n (pc := 4) G dX2_countDifferent_4 rfl 2 rfl ?_
    refine jx_aload_n (pc := 5) G dX2_countDifferent_5 rfl 0 rfl ?_
    refine mg_last (pc := 6) G dX2_countDifferent_6 ?_
    refine jx_icmp_gt (pc := 9) (tgt := 68) G dX2_countDifferent_9 (by decide) (by omega) (by omega) (fun h9 => ?_) (fun h9 => ?_)
    · refine jx_iload_n (pc := 68) G dX2_countDifferent_68 rfl 1 rfl ?_
      exact E _ _ 69 _ ⟨by rw [hm, show k = la by omega], rfl⟩ dX2_countDifferent_69
    · refine jx_iconst (pc := 12) G dX2_countDifferent_12 kc_1 ?_
      refine jx_istore_nV (pc := 13) G dX2_countDifferent_13 rfl (by decide) (1) rfl [(0, .ref o), (1, .int (nI al)), (2, .int (nI (k + 1))), (3, .int (nI 1))] rfl ?_
      refine jx_iconst (pc := 14) G dX2_countDifferent_14 kc_1 ?_
      refine jx_istoreV (pc := 15) G dX2_countDifferent_15 (by decide) (0 + 1) rfl [(0, .ref o), (1, .int (nI al)), (2, .int (nI (k + 1))), (3, .int (nI 1)), (4, .int (nI (0 + 1)))] rfl ?_
      have lp17 : ∀ (d17 : Nat) (m g : Nat), k - m = d17 → (m ≤ k) → (g = bl_ind (∀ t, t < m → ¬ ∀ p, p < n → R (t + 1) p = R (k + 1) p)) → jx_J x 0 0 (MC cb ci o a n z gm gc ct gl fb la fr) 17 [(0, .ref o), (1, .int (nI al)), (2, .int (nI (k + 1))), (3, .int (nI g)), (4, .int (nI (m + 1)))] [] := by
        intro d17
        induction d17 using Nat.strongRecOn with
        | _ d17 ih17 =>
        intro m g hm17 hm2 hg
        refine jx_iload (pc := 17) G dX2_countDifferent_17 4 rfl ?_
        refine jx_iload_n (pc := 19) G dX2_countDifferent_19 rfl 2 rfl ?_
        refine jx_icmp_ge (pc := 20) (tgt := 55) G dX2_countDifferent_20 (by decide) (by omega) (by omega) (fun h20 => ?_) (fun h20 => ?_)
        · refine jx_iload_n (pc := 55) G dX2_countDifferent_55 rfl 3 rfl ?_
          refine jx_if_eq (pc := 56) (tgt := 62) G dX2_countDifferent_56 (by decide) (by have := bl_ind_le (∀ t, t < m → ¬ ∀ p, p < n → R (t + 1) p = R (k + 1) p); omega) (fun h56 => ?_) (fun h56 => ?_)
          · have hnew : bl_ind (bl_new n R k) = 0 := by
              have e : m = k := by omega
              subst e
              show bl_ind (∀ t, t < m → ¬ ∀ p, p < n → R (t + 1) p = R (m + 1) p) = 0
              omega
            refine jx_iincV (pc := 62) G dX2_countDifferent_62 kc_1 (by decide) 2 rfl (k + 1 + 1) rfl [(0, .ref o), (1, .int (nI al)), (2, .int (nI (k + 1 + 1))), (3, .int (nI g)), (4, .int (nI (m + 1)))] rfl ?_
            refine jx_goto (pc := 65) (tgt := 4) G dX2_countDifferent_65 (by decide) ?_
            exact jx_sub (lv' := [(0, .ref o), (1, .int (nI al)), (2, .int (nI (k + 1 + 1)))]) [0, 1, 2] rfl (ih4 _ (by omega) (k + 1) al rfl (by omega) (by show al = bl_df n R k + bl_ind (bl_new n R k); rw [hnew]; omega))
          · have hnew : bl_ind (bl_new n R k) = 1 := by
              have e : m = k := by omega
              subst e
              have h9 := bl_ind_le (∀ t, t < m → ¬ ∀ p, p < n → R (t + 1) p = R (m + 1) p)
              show bl_ind (∀ t, t < m → ¬ ∀ p, p < n → R (t + 1) p = R (m + 1) p) = 1
              omega
            refine jx_iinc (pc := 59) G dX2_countDifferent_59 kc_1 (by decide) 1 rfl (fun v => [(0, .ref o), (1, .int (nI v)), (2, .int (nI (k + 1))), (3, .int (nI g)), (4, .int (nI (m + 1)))]) (fun _ => rfl) (fun u1_59 eu1_59 => ?_)
            refine jx_iincV (pc := 62) G dX2_countDifferent_62 kc_1 (by decide) 2 rfl (k + 1 + 1) rfl [(0, .ref o), (1, .int (nI u1_59)), (2, .int (nI (k + 1 + 1))), (3, .int (nI g)), (4, .int (nI (m + 1)))] rfl ?_
            refine jx_goto (pc := 65) (tgt := 4) G dX2_countDifferent_65 (by decide) ?_
            exact jx_sub (lv' := [(0, .ref o), (1, .int (nI u1_59)), (2, .int (nI (k + 1 + 1)))]) [0, 1, 2] rfl (ih4 _ (by omega) (k + 1) u1_59 rfl (by omega) (by show u1_59 = bl_df n R k + bl_ind (bl_new n R k); rw [hnew]; omega))
        · have hg1 := bl_ind_le (∀ t, t < m → ¬ ∀ p, p < n → R (t + 1) p = R (k + 1) p)
          have hc1 := bl_cd_31 hn (hR m (by omega))
          have hc2 := bl_cd_31 hn (hR k (by omega))
          have hce := bl_cdeq (hR m (by omega)) (hR k (by omega))
          refine jx_iload_n (pc := 23) G dX2_countDifferent_23 rfl 3 rfl ?_
          refine jx_if_eq (pc := 24) (tgt := 47) G dX2_countDifferent_24 (by decide) (by omega) (fun h24 => ?_) (fun h24 => ?_)
          · have hnw : 0 = bl_ind (∀ t, t < (m + 1) → ¬ ∀ p, p < n → R (t + 1) p = R (k + 1) p) := (bl_ind_f (fun q => bl_ind_0.mp (show bl_ind (∀ t, t < m → ¬ ∀ p, p < n → R (t + 1) p = R (k + 1) p) = 0 by omega) (fun t ht => q t (by omega)))).symm
            refine jx_iconst (pc := 47) G dX2_countDifferent_47 kc_0 ?_
            refine jx_istore_nV (pc := 48) G dX2_countDifferent_48 rfl (by decide) (0) rfl [(0, .ref o), (1, .int (nI al)), (2, .int (nI (k + 1))), (3, .int (nI 0)), (4, .int (nI (m + 1)))] rfl ?_
            refine jx_iincV (pc := 49) G dX2_countDifferent_49 kc_1 (by decide) 4 rfl (m + 1 + 1) rfl [(0, .ref o), (1, .int (nI al)), (2, .int (nI (k + 1))), (3, .int (nI 0)), (4, .int (nI (m + 1 + 1)))] rfl ?_
            refine jx_goto (pc := 52) (tgt := 17) G dX2_countDifferent_52 (by decide) ?_
            exact ih17 _ (by omega) (m + 1) 0 rfl (by omega) hnw
          · have hall := bl_ind_1.mp (show bl_ind (∀ t, t < m → ¬ ∀ p, p < n → R (t + 1) p = R (k + 1) p) = 1 by omega)
            refine jx_aload_n (pc := 27) G dX2_countDifferent_27 rfl 0 rfl ?_
            refine mg_rows (pc := 28) G dX2_countDifferent_28 ?_
            refine jx_iload (pc := 31) G dX2_countDifferent_31 4 rfl ?_
            refine ml_rows (pc := 33) G dX2_countDifferent_33 (by omega) ?_
            refine jx_aload_n (pc := 34) G dX2_countDifferent_34 rfl 0 rfl ?_
            refine mg_rows (pc := 35) G dX2_countDifferent_35 ?_
            refine jx_iload_n (pc := 38) G dX2_countDifferent_38 rfl 2 rfl ?_
            refine ml_rows (pc := 39) G dX2_countDifferent_39 (by omega) ?_
            rw [hr m (by omega), hr k (by omega)]
            refine jx_icmp_eq (pc := 40) (tgt := 47) G dX2_countDifferent_40 (by decide) (by omega) (by omega) (fun h40 => ?_) (fun h40 => ?_)
            · have hnw : 0 = bl_ind (∀ t, t < (m + 1) → ¬ ∀ p, p < n → R (t + 1) p = R (k + 1) p) := (bl_ind_f (fun q => q m (by omega) (hce.mp h40))).symm
              refine jx_iconst (pc := 47) G dX2_countDifferent_47 kc_0 ?_
              refine jx_istore_nV (pc := 48) G dX2_countDifferent_48 rfl (by decide) (0) rfl [(0, .ref o), (1, .int (nI al)), (2, .int (nI (k + 1))), (3, .int (nI 0)), (4, .int (nI (m + 1)))] rfl ?_
              refine jx_iincV (pc := 49) G dX2_countDifferent_49 kc_1 (by decide) 4 rfl (m + 1 + 1) rfl [(0, .ref o), (1, .int (nI al)), (2, .int (nI (k + 1))), (3, .int (nI 0)), (4, .int (nI (m + 1 + 1)))] rfl ?_
              refine jx_goto (pc := 52) (tgt := 17) G dX2_countDifferent_52 (by decide) ?_
              exact ih17 _ (by omega) (m + 1) 0 rfl (by omega) hnw
            · have hnw : 1 = bl_ind (∀ t, t < (m + 1) → ¬ ∀ p, p < n → R (t + 1) p = R (k + 1) p) := (bl_ind_t (fun t ht => by by_cases e : t = m; (rw [e]; exact fun q => h40 (hce.mpr q)); exact hall t (by omega))).symm
              refine jx_iconst (pc := 43) G dX2_countDifferent_43 kc_1 ?_
              refine jx_goto (pc := 44) (tgt := 48) G dX2_countDifferent_44 (by decide) ?_
              refine jx_istore_nV (pc := 48) G dX2_countDifferent_48 rfl (by decide) (1) rfl [(0, .ref o), (1, .int (nI al)), (2, .int (nI (k + 1))), (3, .int (nI 1)), (4, .int (nI (m + 1)))] rfl ?_
              refine jx_iincV (pc := 49) G dX2_countDifferent_49 kc_1 (by decide) 4 rfl (m + 1 + 1) rfl [(0, .ref o), (1, .int (nI al)), (2, .int (nI (k + 1))), (3, .int (nI 1)), (4, .int (nI (m + 1 + 1)))] rfl ?_
              refine jx_goto (pc := 52) (tgt := 17) G dX2_countDifferent_52 (by decide) ?_
              exact ih17 _ (by omega) (m + 1) 1 rfl (by omega) hnw
      exact lp17 _ 0 1 rfl (by omega) ((bl_ind_t (fun t h => absurd h (by omega))).symm)
  exact lp4 _ 0 0 rfl (by omega) rfl
end MB
end
section
set_option maxRecDepth 100000
section MC
variable {l : Launch} {D : va_G} {cb ci : ClassId} {o : Nat} {a : Nat → Nat} {n z ct kn la : Nat} {fm fc fl fo fh ff ft fi fd fb fr gm gc gl : Nat → Nat}
set_option maxHeartbeats 4000000 in
theorem kM_isTrue (hA : bl_AV n z fm fc ct fl) (hg1 : ∀ k, k < z → gm k = fm k) (hg2 : ∀ c, 0 < c → c < 3 → gc c = fc c) (hg3 : ∀ i, i < ct → gl i = fl i) : jx_Ki l D cb ci yX2_isTrue wsX2_isTrue rmX2_isTrue 0 0 [.ref o] (MC cb ci o a n z gm gc ct gl fb la fr) (fun r w' => r = nI (bl_ind (bl_df n (bl_row z fm fc fl) (ct * z) = ct * z)) ∧ bl_MI cb ci o a n z fm fc ct fl w') := by
  refine jx_Ki_of (by decide) (Nat.le_of_ble_eq_true rfl) [(0, .ref o)] rfl ?_
  intro x G E
  have hA0 := hA
  obtain ⟨⟨hn3, hn6⟩, ⟨hz1, hz2⟩, hct, hV, hfl⟩ := hA0
  have hcz := bl_ctz hct hz2
  refine jx_aload_n (pc := 0) G dX2_isTrue_0 rfl 0 rfl ?_
  refine mc_v0 (pc := 1) G (fun _ _ => kM_write hA hg1 hg2 hg3) (cwX2_write ⟨Nat.le_of_ble_eq_true rfl, Nat.le_of_ble_eq_true rfl⟩) (Nat.le_of_ble_eq_true rfl) dX2_isTrue_1 (fun w' hq => ?_)
  obtain ⟨fb', fr', hb, hr, rfl⟩ := hq
  have hr9 : ∀ k, k < ct * z → fr' (k + 1) = bl_cd (bl_row z fm fc fl (k + 1)) n := fun k hk => hr (k + 1) (by omega)
  have hR9 : ∀ k, k < ct * z → ∀ p, p < n → bl_row z fm fc fl (k + 1) p < 9 := fun k hk p hp => by
    have := (bl_row_PM hA (k := k + 1) (by omega)).1 p hp
    omega
  refine jx_aload_n (pc := 4) G dX2_isTrue_4 rfl 0 rfl ?_
  refine mc_i0 (pc := 5) G (fun _ _ => kM_countDifferent hn6 (by omega) hR9 hr9) (cwX2_countDifferent ⟨Nat.le_of_ble_eq_true rfl, Nat.le_of_ble_eq_true rfl⟩) (Nat.le_of_ble_eq_true rfl) dX2_isTrue_5 (fun r w' hq => ?_)
  obtain ⟨rfl, rfl⟩ := hq
  have hle := bl_df_le n (bl_row z fm fc fl) (ct * z)
  refine jx_istore_nV (pc := 8) G dX2_isTrue_8 rfl (by decide) (bl_df n (bl_row z fm fc fl) (ct * z)) rfl [(0, .ref o), (1, .int (nI (bl_df n (bl_row z fm fc fl) (ct * z))))] rfl ?_
  refine jx_iload_n (pc := 9) G dX2_isTrue_9 rfl 1 rfl ?_
  refine jx_aload_n (pc := 10) G dX2_isTrue_10 rfl 0 rfl ?_
  refine mg_last (pc := 11) G dX2_isTrue_11 ?_
  refine jx_icmp_ne (pc := 14) (tgt := 21) G dX2_isTrue_14 (by decide) (by omega) (by omega) (fun h14 => ?_) (fun h14 => ?_)
  · have e : 0 = bl_ind (bl_df n (bl_row z fm fc fl) (ct * z) = ct * z) := (bl_ind_f h14).symm
    refine jx_iconst (pc := 21) G dX2_isTrue_21 kc_0 ?_
    exact E _ _ 22 _ ⟨by rw [← e], ⟨_, _, _, _, _, _, rfl, hg1, hg2, hg3⟩⟩ dX2_isTrue_22
  · have e : 1 = bl_ind (bl_df n (bl_row z fm fc fl) (ct * z) = ct * z) := (bl_ind_t h14).symm
    refine jx_iconst (pc := 17) G dX2_isTrue_17 kc_1 ?_
    refine jx_goto (pc := 18) (tgt := 22) G dX2_isTrue_18 (by decide) ?_
    exact E _ _ 22 _ ⟨by rw [← e], ⟨_, _, _, _, _, _, rfl, hg1, hg2, hg3⟩⟩ dX2_isTrue_22
set_option maxHeartbeats 4000000 in
theorem kM_different (hA : bl_AV n z fm fc ct fl) (hg1 : ∀ k, k < z → gm k = fm k) (hg2 : ∀ c, 0 < c → c < 3 → gc c = fc c) (hg3 : ∀ i, i < ct → gl i = fl i) : jx_Ki l D cb ci yX2_different wsX2_different rmX2_different 0 0 [.ref o] (MC cb ci o a n z gm gc ct gl fb la fr) (fun r w' => r = nI (bl_df n (bl_row z fm fc fl) (ct * z)) ∧ bl_MI cb ci o a n z fm fc ct fl w') := by
  refine jx_Ki_of (by decide) (Nat.le_of_ble_eq_true rfl) [(0, .ref o)] rfl ?_
  intro x G E
  have hA0 := hA
  obtain ⟨⟨hn3, hn6⟩, ⟨hz1, hz2⟩, hct, hV, hfl⟩ := hA0
  have hcz := bl_ctz hct hz2
  refine jx_aload_n (pc := 0) G dX2_different_0 rfl 0 rfl ?_
  refine mc_v0 (pc := 1) G (fun _ _ => kM_write hA hg1 hg2 hg3) (cwX2_write ⟨Nat.le_of_ble_eq_true rfl, Nat.le_of_ble_eq_true rfl⟩) (Nat.le_of_ble_eq_true rfl) dX2_different_1 (fun w' hq => ?_)
  obtain ⟨fb', fr', hb, hr, rfl⟩ := hq
  have hr9 : ∀ k, k < ct * z → fr' (k + 1) = bl_cd (bl_row z fm fc fl (k + 1)) n := fun k hk => hr (k + 1) (by omega)
  have hR9 : ∀ k, k < ct * z → ∀ p, p < n → bl_row z fm fc fl (k + 1) p < 9 := fun k hk p hp => by
    have := (bl_row_PM hA (k := k + 1) (by omega)).1 p hp
    omega
  refine jx_aload_n (pc := 4) G dX2_different_4 rfl 0 rfl ?_
  refine mc_i0 (pc := 5) G (fun _ _ => kM_countDifferent hn6 (by omega) hR9 hr9) (cwX2_countDifferent ⟨Nat.le_of_ble_eq_true rfl, Nat.le_of_ble_eq_true rfl⟩) (Nat.le_of_ble_eq_true rfl) dX2_different_5 (fun r w' hq => ?_)
  obtain ⟨rfl, rfl⟩ := hq
  exact E _ _ 8 _ ⟨rfl, ⟨_, _, _, _, _, _, rfl, hg1, hg2, hg3⟩⟩ dX2_different_8
set_option maxHeartbeats 4000000 in
theorem kM_share (hA : bl_AV n z fm fc ct fl) {i j : Nat} (hi : i < ct) (hj : j < ct) (hr : ∀ k, k ≤ ct * z → fr k = bl_cd (bl_row z fm fc fl k) n) : jx_Ki l D cb ci yX2_share wsX2_share rmX2_share 0 0 [.ref o, .int (nI i), .int (nI j)] (MC cb ci o a n z gm gc ct gl fb la fr) (fun r w' => r = nI (bl_ind (bl_sh n z fm fc fl i (fl i) j (fl j))) ∧ w' = MC cb ci o a n z gm gc ct gl fb la fr) := by
  refine jx_Kz_of (by decide) (Nat.le_of_ble_eq_true rfl) [(0, .ref o), (1, .int (nI i)), (2, .int (nI j))] rfl ?_
  intro x G E
  have hA0 := hA
  obtain ⟨⟨hn3, hn6⟩, ⟨hz1, hz2⟩, hct, hV, hfl⟩ := hA0
  have hcz := bl_ctz hct hz2
  have hiz : i * z + z ≤ ct * z := by
    rw [← Nat.succ_mul]
    exact Nat.mul_le_mul_right z (by omega)
  have hjz : j * z + z ≤ ct * z := by
    rw [← Nat.succ_mul]
    exact Nat.mul_le_mul_right z (by omega)
  refine jx_iconst (pc := 0) G dX2_share_0 kc_1 ?_
  refine jx_istore_nV (pc := 1) G dX2_share_1 rfl (by decide) (0 + 1) rfl [(0, .ref o), (1, .int (nI i)), (2, .int (nI j)), (3, .int (nI (0 + 1)))] rfl ?_
  have lp2 : ∀ (d2 : Nat) (k : Nat), z - k = d2 → (k ≤ z) → (∀ k1, k1 < k → ∀ m, m < z → ¬ (∀ p, p < n → bl_hd z fm fc fl i (bl_off z fm fc (fl i) (k1 + 1) p) = bl_hd z fm fc fl j (bl_off z fm fc (fl j) (m + 1) p))) → jx_J x 0 0 (MC cb ci o a n z gm gc ct gl fb la fr) 2 [(0, .ref o), (1, .int (nI i)), (2, .int (nI j)), (3, .int (nI (k + 1)))] [] := by
    intro d2
    induction d2 using Nat.strongRecOn with
    | _ d2 ih2 =>
    intro k hm2 hk h1
    refine jx_iload_n (pc := 2) G dX2_share_2 rfl 3 rfl ?_
    refine jx_aload_n (pc := 3) G dX2_share_3 rfl 0 rfl ?_
    refine mg_size (pc := 4) G dX2_share_4 ?_
    refine jx_icmp_gt (pc := 7) (tgt := 66) G dX2_share_7 (by decide) (by omega) (by omega) (fun h7 => ?_) (fun h7 => ?_)
    · refine jx_iconst (pc := 66) G dX2_share_66 kc_0 ?_
      exact E _ _ 67 _ ⟨by rw [bl_ind_f (fun ⟨k1, m1, a1, a2, a3⟩ => h1 k1 (by omega) m1 a2 a3)], rfl⟩ (by omega) dX2_share_67
    · refine jx_iconst (pc := 10) G dX2_share_10 kc_1 ?_
      refine jx_istoreV (pc := 11) G dX2_share_11 (by decide) (0 + 1) rfl [(0, .ref o), (1, .int (nI i)), (2, .int (nI j)), (3, .int (nI (k + 1))), (4, .int (nI (0 + 1)))] rfl ?_
      have lp13 : ∀ (d13 : Nat) (m : Nat), z - m = d13 → (m ≤ z) → (∀ m1, m1 < m → ¬ (∀ p, p < n → bl_hd z fm fc fl i (bl_off z fm fc (fl i) (k + 1) p) = bl_hd z fm fc fl j (bl_off z fm fc (fl j) (m1 + 1) p))) → jx_J x 0 0 (MC cb ci o a n z gm gc ct gl fb la fr) 13 [(0, .ref o), (1, .int (nI i)), (2, .int (nI j)), (3, .int (nI (k + 1))), (4, .int (nI (m + 1)))] [] := by
        intro d13
        induction d13 using Nat.strongRecOn with
        | _ d13 ih13 =>
        intro m hm13 hm h2
        refine jx_iload (pc := 13) G dX2_share_13 4 rfl ?_
        refine jx_aload_n (pc := 15) G dX2_share_15 rfl 0 rfl ?_
        refine mg_size (pc := 16) G dX2_share_16 ?_
        refine jx_icmp_gt (pc := 19) (tgt := 60) G dX2_share_19 (by decide) (by omega) (by omega) (fun h19 => ?_) (fun h19 => ?_)
        · refine jx_iincV (pc := 60) G dX2_share_60 kc_1 (by decide) 3 rfl (k + 1 + 1) rfl [(0, .ref o), (1, .int (nI i)), (2, .int (nI j)), (3, .int (nI (k + 1 + 1))), (4, .int (nI (m + 1)))] rfl ?_
          refine jx_goto (pc := 63) (tgt := 2) G dX2_share_63 (by decide) ?_
          exact jx_sub (lv' := [(0, .ref o), (1, .int (nI i)), (2, .int (nI j)), (3, .int (nI (k + 1 + 1)))]) [0, 1, 2, 3] rfl (ih2 _ (by omega) (k + 1) rfl (by omega) (fun k1 hk1 m hm => by by_cases e : k1 = k; (rw [e]; exact h2 m (by omega)); exact h1 k1 (by omega) m hm))
        · refine jx_aload_n (pc := 22) G dX2_share_22 rfl 0 rfl ?_
          refine mg_rows (pc := 23) G dX2_share_23 ?_
          refine jx_iload_n (pc := 26) G dX2_share_26 rfl 1 rfl ?_
          refine jx_aload_n (pc := 27) G dX2_share_27 rfl 0 rfl ?_
          refine mg_size (pc := 28) G dX2_share_28 ?_
          refine jx_imul (pc := 31) G dX2_share_31 ?_
          refine jx_iload_n (pc := 32) G dX2_share_32 rfl 3 rfl ?_
          refine jx_iadd (pc := 33) G dX2_share_33 ?_
          refine ml_rows (pc := 34) G dX2_share_34 (by omega) ?_
          refine jx_aload_n (pc := 35) G dX2_share_35 rfl 0 rfl ?_
          refine mg_rows (pc := 36) G dX2_share_36 ?_
          refine jx_iload_n (pc := 39) G dX2_share_39 rfl 2 rfl ?_
          refine jx_aload_n (pc := 40) G dX2_share_40 rfl 0 rfl ?_
          refine mg_size (pc := 41) G dX2_share_41 ?_
          refine jx_imul (pc := 44) G dX2_share_44 ?_
          refine jx_iload (pc := 45) G dX2_share_45 4 rfl ?_
          refine jx_iadd (pc := 47) G dX2_share_47 ?_
          refine ml_rows (pc := 48) G dX2_share_48 (by omega) ?_
          have ei : fr (i * z + (k + 1)) = bl_cd (fun p => bl_hd z fm fc fl i (bl_off z fm fc (fl i) (k + 1) p)) n := by
            rw [hr _ (by omega)]
            exact bl_cd_congr n (fun p _ => bl_row_at fm fc fl (by omega) p)
          have ej : fr (j * z + (m + 1)) = bl_cd (fun p => bl_hd z fm fc fl j (bl_off z fm fc (fl j) (m + 1) p)) n := by
            rw [hr _ (by omega)]
            exact bl_cd_congr n (fun p _ => bl_row_at fm fc fl (by omega) p)
          have hi9 : ∀ p, p < n → bl_hd z fm fc fl i (bl_off z fm fc (fl i) (k + 1) p) < 9 := fun p hp => by
            have := (bl_hd_PM hV hfl i (by omega)).1 _ ((bl_off_PM hV (hfl i hi) (k + 1) (by omega)).1 p hp)
            omega
          have hj9 : ∀ p, p < n → bl_hd z fm fc fl j (bl_off z fm fc (fl j) (m + 1) p) < 9 := fun p hp => by
            have := (bl_hd_PM hV hfl j (by omega)).1 _ ((bl_off_PM hV (hfl j hj) (m + 1) (by omega)).1 p hp)
            omega
          have hc1 := bl_cd_31 hn6 hi9
          have hc2 := bl_cd_31 hn6 hj9
          have hce := bl_cdeq hi9 hj9
          rw [ei, ej]
          refine jx_icmp_ne (pc := 49) (tgt := 54) G dX2_share_49 (by decide) (by omega) (by omega) (fun h49 => ?_) (fun h49 => ?_)
          · refine jx_iincV (pc := 54) G dX2_share_54 kc_1 (by decide) 4 rfl (m + 1 + 1) rfl [(0, .ref o), (1, .int (nI i)), (2, .int (nI j)), (3, .int (nI (k + 1))), (4, .int (nI (m + 1 + 1)))] rfl ?_
            refine jx_goto (pc := 57) (tgt := 13) G dX2_share_57 (by decide) ?_
            exact ih13 _ (by omega) (m + 1) rfl (by omega) (fun m1 hm1 => by by_cases e : m1 = m; (rw [e]; exact fun q => h49 (hce.mpr q)); exact h2 m1 (by omega))
          · refine jx_iconst (pc := 52) G dX2_share_52 kc_1 ?_
            exact E _ _ 53 _ ⟨by rw [bl_ind_t ⟨k, m, by omega, by omega, hce.mp h49⟩], rfl⟩ (by omega) dX2_share_53
      exact lp13 _ 0 rfl (by omega) (fun k h => absurd h (by omega))
  exact lp2 _ 0 rfl (by omega) (fun k h => absurd h (by omega))
set_option maxHeartbeats 4000000 in
theorem kM_falsePairs (hA : bl_AV n z fm fc ct fl) (hg1 : ∀ k, k < z → gm k = fm k) (hg2 : ∀ c, 0 < c → c < 3 → gc c = fc c) (hg3 : ∀ i, i < ct → gl i = fl i) : jx_Ki l D cb ci yX2_falsePairs wsX2_falsePairs rmX2_falsePairs 0 0 [.ref o] (MC cb ci o a n z gm gc ct gl fb la fr) (fun r w' => r = nI (bl_cm n z fm fc ct fl) ∧ bl_MI cb ci o a n z fm fc ct fl w') := by
  refine jx_Ki_of (by decide) (Nat.le_of_ble_eq_true rfl) [(0, .ref o)] rfl ?_
  intro x G E
  have hA0 := hA
  obtain ⟨⟨hn3, hn6⟩, ⟨hz1, hz2⟩, hct, hV, hfl⟩ := hA0
  have hcz := bl_ctz hct hz2
  refine jx_aload_n (pc := 0) G dX2_falsePairs_0 rfl 0 rfl ?_
  refine mc_v0 (pc := 1) G (fun _ _ => kM_write hA hg1 hg2 hg3) (cwX2_write ⟨Nat.le_of_ble_eq_true rfl, Nat.le_of_ble_eq_true rfl⟩) (Nat.le_of_ble_eq_true rfl) dX2_falsePairs_1 (fun w' hq => ?_)
  obtain ⟨fb', fr', hb, hr, rfl⟩ := hq
  refine jx_iconst (pc := 4) G dX2_falsePairs_4 kc_0 ?_
  refine jx_istore_nV (pc := 5) G dX2_falsePairs_5 rfl (by decide) (0) rfl [(0, .ref o), (1, .int (nI 0))] rfl ?_
  refine jx_iconst (pc := 6) G dX2_falsePairs_6 kc_0 ?_
  refine jx_istore_nV (pc := 7) G dX2_falsePairs_7 rfl (by decide) (0) rfl [(0, .ref o), (1, .int (nI 0)), (2, .int (nI 0))] rfl ?_
  have lp8 : ∀ (d8 : Nat) (i al : Nat), ct - i = d8 → (i ≤ ct) → (al = bl_sum (fun i => bl_sum (fun t => bl_ind (bl_sh n z fm fc fl i (fl i) (i + 1 + t) (fl (i + 1 + t)))) (ct - (i + 1))) i) → jx_J x 0 0 (MC cb ci o a n z gm gc ct gl fb' (ct * z) fr') 8 [(0, .ref o), (1, .int (nI al)), (2, .int (nI i))] [] := by
    intro d8
    induction d8 using Nat.strongRecOn with
    | _ d8 ih8 =>
    intro i al hm8 hi hm
    refine jx_iload_n (pc := 8) G dX2_falsePairs_8 rfl 2 rfl ?_
    refine jx_aload_n (pc := 9) G dX2_falsePairs_9 rfl 0 rfl ?_
    refine mg_count (pc := 10) G dX2_falsePairs_10 ?_
    refine jx_icmp_ge (pc := 13) (tgt := 52) G dX2_falsePairs_13 (by decide) (by omega) (by omega) (fun h13 => ?_) (fun h13 => ?_)
    · refine jx_iload_n (pc := 52) G dX2_falsePairs_52 rfl 1 rfl ?_
      exact E _ _ 53 _ ⟨by rw [hm, show i = ct by omega]; rfl, ⟨_, _, _, _, _, _, rfl, hg1, hg2, hg3⟩⟩ dX2_falsePairs_53
    · refine jx_iload_n (pc := 16) G dX2_falsePairs_16 rfl 2 rfl ?_
      refine jx_iconst (pc := 17) G dX2_falsePairs_17 kc_1 ?_
      refine jx_iadd (pc := 18) G dX2_falsePairs_18 ?_
      refine jx_istore_n (pc := 19) G dX2_falsePairs_19 rfl (by decide) (fun v => [(0, .ref o), (1, .int (nI al)), (2, .int (nI i)), (3, .int (nI v))]) (fun _ => rfl) (fun u3_19 eu3_19 => ?_)
      have lp20 : ∀ (d20 : Nat) (t al2 j : Nat), ct - j = d20 → (j = i + 1 + t) → (j ≤ ct) → (al2 = al + bl_sum (fun t => bl_ind (bl_sh n z fm fc fl i (fl i) (i + 1 + t) (fl (i + 1 + t)))) t) → jx_J x 0 0 (MC cb ci o a n z gm gc ct gl fb' (ct * z) fr') 20 [(0, .ref o), (1, .int (nI al2)), (2, .int (nI i)), (3, .int (nI j))] [] := by
        intro d20
        induction d20 using Nat.strongRecOn with
        | _ d20 ih20 =>
        intro t al2 j hm20 hj hjc hm2
        refine jx_iload_n (pc := 20) G dX2_falsePairs_20 rfl 3 rfl ?_
        refine jx_aload_n (pc := 21) G dX2_falsePairs_21 rfl 0 rfl ?_
        refine mg_count (pc := 22) G dX2_falsePairs_22 ?_
        refine jx_icmp_ge (pc := 25) (tgt := 46) G dX2_falsePairs_25 (by decide) (by omega) (by omega) (fun h25 => ?_) (fun h25 => ?_)
        · refine jx_iincV (pc := 46) G dX2_falsePairs_46 kc_1 (by decide) 2 rfl (i + 1) rfl [(0, .ref o), (1, .int (nI al2)), (2, .int (nI (i + 1))), (3, .int (nI j))] rfl ?_
          refine jx_goto (pc := 49) (tgt := 8) G dX2_falsePairs_49 (by decide) ?_
          exact jx_sub (lv' := [(0, .ref o), (1, .int (nI al2)), (2, .int (nI (i + 1)))]) [0, 1, 2] rfl (ih8 _ (by omega) (i + 1) al2 rfl (by omega) (by show al2 = bl_sum (fun i => bl_sum (fun t => bl_ind (bl_sh n z fm fc fl i (fl i) (i + 1 + t) (fl (i + 1 + t)))) (ct - (i + 1))) i + bl_sum (fun t => bl_ind (bl_sh n z fm fc fl i (fl i) (i + 1 + t) (fl (i + 1 + t)))) (ct - (i + 1)); rw [show ct - (i + 1) = t by omega]; omega))
        · refine jx_aload_n (pc := 28) G dX2_falsePairs_28 rfl 0 rfl ?_
          refine jx_iload_n (pc := 29) G dX2_falsePairs_29 rfl 2 rfl ?_
          refine jx_iload_n (pc := 30) G dX2_falsePairs_30 rfl 3 rfl ?_
          refine mc_i2 (pc := 31) G (fun _ _ => kM_share hA (by omega) (by omega) hr) (cwX2_share ⟨Nat.le_of_ble_eq_true rfl, Nat.le_of_ble_eq_true rfl⟩) (Nat.le_of_ble_eq_true rfl) dX2_falsePairs_31 (fun r w' hq => ?_)
          obtain ⟨rfl, rfl⟩ := hq
          refine jx_if_eq (pc := 34) (tgt := 40) G dX2_falsePairs_34 (by decide) (Nat.lt_of_le_of_lt (bl_ind_le _) (by decide)) (fun h34 => ?_) (fun h34 => ?_)
          · have hnew := h34
            refine jx_iinc (pc := 40) G dX2_falsePairs_40 kc_1 (by decide) 3 rfl (fun v => [(0, .ref o), (1, .int (nI al2)), (2, .int (nI i)), (3, .int (nI v))]) (fun _ => rfl) (fun u3_40 eu3_40 => ?_)
            refine jx_goto (pc := 43) (tgt := 20) G dX2_falsePairs_43 (by decide) ?_
            exact ih20 _ (by omega) (t + 1) al2 u3_40 rfl (by omega) (by omega) (by show al2 = al + (bl_sum (fun t => bl_ind (bl_sh n z fm fc fl i (fl i) (i + 1 + t) (fl (i + 1 + t)))) t + bl_ind (bl_sh n z fm fc fl i (fl i) (i + 1 + t) (fl (i + 1 + t)))); rw [← hj, hnew]; omega)
          · have hnew : bl_ind (bl_sh n z fm fc fl i (fl i) j (fl j)) = 1 := by
              have := bl_ind_le (bl_sh n z fm fc fl i (fl i) j (fl j))
              omega
            refine jx_iinc (pc := 37) G dX2_falsePairs_37 kc_1 (by decide) 1 rfl (fun v => [(0, .ref o), (1, .int (nI v)), (2, .int (nI i)), (3, .int (nI j))]) (fun _ => rfl) (fun u1_37 eu1_37 => ?_)
            refine jx_iinc (pc := 40) G dX2_falsePairs_40 kc_1 (by decide) 3 rfl (fun v => [(0, .ref o), (1, .int (nI u1_37)), (2, .int (nI i)), (3, .int (nI v))]) (fun _ => rfl) (fun u3_40 eu3_40 => ?_)
            refine jx_goto (pc := 43) (tgt := 20) G dX2_falsePairs_43 (by decide) ?_
            exact ih20 _ (by omega) (t + 1) u1_37 u3_40 rfl (by omega) (by omega) (by show u1_37 = al + (bl_sum (fun t => bl_ind (bl_sh n z fm fc fl i (fl i) (i + 1 + t) (fl (i + 1 + t)))) t + bl_ind (bl_sh n z fm fc fl i (fl i) (i + 1 + t) (fl (i + 1 + t)))); rw [← hj, hnew]; omega)
      exact lp20 _ 0 al u3_19 rfl (by omega) (by omega) rfl
  exact lp8 _ 0 0 rfl (by omega) rfl
set_option maxHeartbeats 4000000 in
theorem kM_falseAlone_bad {y : Int32} (hy : ¬ bl_in 3 y) : jx_Ki l D cb ci yX2_falseAlone wsX2_falseAlone rmX2_falseAlone 0 0 [.ref o, .int y] (MC cb ci o a n z gm gc ct gl fb la fr) (fun r w' => r = -1 ∧ w' = MC cb ci o a n z gm gc ct gl fb la fr) := by
  refine jx_Ki_of (by decide) (Nat.le_of_ble_eq_true rfl) [(0, .ref o), (1, .int y)] rfl ?_
  intro x G E
  refine jx_aload_n (pc := 0) G dX2_falseAlone_0 rfl 0 rfl ?_
  refine jx_iload_n (pc := 1) G dX2_falseAlone_1 rfl 1 rfl ?_
  refine mc_i1 (pc := 2) G (fun _ _ => kM_noCall y) (cwX2_noCall ⟨Nat.le_of_ble_eq_true rfl, Nat.le_of_ble_eq_true rfl⟩) (Nat.le_of_ble_eq_true rfl) dX2_falseAlone_2 (fun r w' hq => ?_)
  obtain ⟨rfl, rfl⟩ := hq
  rw [bl_ind_t hy]
  refine jx_if_eq (pc := 5) (tgt := 10) G dX2_falseAlone_5 (by decide) (by omega) (fun h5 => ?_) (fun h5 => ?_)
  · exact absurd h5 (by decide)
  · refine jx_iconst (pc := 8) G dX2_falseAlone_8 kc_m1 ?_
    exact E _ _ 9 _ ⟨rfl, rfl⟩ dX2_falseAlone_9
set_option maxHeartbeats 4000000 in
theorem kM_falseAlone_ok (hA : bl_AV n z fm fc ct fl) (hg1 : ∀ k, k < z → gm k = fm k) (hg2 : ∀ c, 0 < c → c < 3 → gc c = fc c) (hg3 : ∀ i, i < ct → gl i = fl i) {c : Nat} (hc : c < 3) : jx_Ki l D cb ci yX2_falseAlone wsX2_falseAlone rmX2_falseAlone 0 0 [.ref o, .int (nI c)] (MC cb ci o a n z gm gc ct gl fb la fr) (fun r w' => r = nI (bl_ind (bl_df n (bl_off z fm fc c) z < z)) ∧ bl_MI cb ci o a n z fm fc ct fl w') := by
  refine jx_Ki_of (by decide) (Nat.le_of_ble_eq_true rfl) [(0, .ref o), (1, .int (nI c))] rfl ?_
  intro x G E
  have hA0 := hA
  obtain ⟨⟨hn3, hn6⟩, ⟨hz1, hz2⟩, hct, hV, hfl⟩ := hA0
  have hcz := bl_ctz hct hz2
  refine jx_aload_n (pc := 0) G dX2_falseAlone_0 rfl 0 rfl ?_
  refine jx_iload_n (pc := 1) G dX2_falseAlone_1 rfl 1 rfl ?_
  refine mc_i1 (pc := 2) G (fun _ _ => kM_noCall (nI c)) (cwX2_noCall ⟨Nat.le_of_ble_eq_true rfl, Nat.le_of_ble_eq_true rfl⟩) (Nat.le_of_ble_eq_true rfl) dX2_falseAlone_2 (fun r w' hq => ?_)
  obtain ⟨rfl, rfl⟩ := hq
  rw [bl_ind_f (fun q => q ⟨c, hc, rfl⟩)]
  refine jx_if_eq (pc := 5) (tgt := 10) G dX2_falseAlone_5 (by decide) (by omega) (fun h5 => ?_) (fun h5 => ?_)
  · refine jx_aload_n (pc := 10) G dX2_falseAlone_10 rfl 0 rfl ?_
    refine mc_v0 (pc := 11) G (fun _ _ => kM_round hn6) (cwX2_round ⟨Nat.le_of_ble_eq_true rfl, Nat.le_of_ble_eq_true rfl⟩) (Nat.le_of_ble_eq_true rfl) dX2_falseAlone_11 (fun w' hq => ?_)
    obtain ⟨fb0, hb0, rfl⟩ := hq
    refine jx_aload_n (pc := 14) G dX2_falseAlone_14 rfl 0 rfl ?_
    refine jx_iconst (pc := 15) G dX2_falseAlone_15 kc_0 ?_
    refine mp_last (pc := 16) G dX2_falseAlone_16 ?_
    refine jx_aload_n (pc := 19) G dX2_falseAlone_19 rfl 0 rfl ?_
    refine jx_iload_n (pc := 20) G dX2_falseAlone_20 rfl 1 rfl ?_
    refine mc_v1 (pc := 21) G (fun _ _ => kM_ring hn6 hz2 hV hg1 hg2 hc (g := fun p => p) hb0 (by omega)) (cwX2_ring ⟨Nat.le_of_ble_eq_true rfl, Nat.le_of_ble_eq_true rfl⟩) (Nat.le_of_ble_eq_true rfl) dX2_falseAlone_21 (fun w' hq => ?_)
    obtain ⟨fb2, fr2, k1, k2, k3, rfl⟩ := hq
    have e0 : 0 + z = z := Nat.zero_add z
    rw [e0]
    refine jx_aload_n (pc := 24) G dX2_falseAlone_24 rfl 0 rfl ?_
    refine mc_i0 (pc := 25) G (fun _ _ => kM_countDifferent hn6 (by omega) (R := bl_off z fm fc c) (fun k hk p hp => by have := (bl_off_PM hV hc (k + 1) (by omega)).1 p hp; omega) (fun k hk => by have h9 := k2 k (by omega); rw [Nat.zero_add] at h9; exact h9)) (cwX2_countDifferent ⟨Nat.le_of_ble_eq_true rfl, Nat.le_of_ble_eq_true rfl⟩) (Nat.le_of_ble_eq_true rfl) dX2_falseAlone_25 (fun r w' hq => ?_)
    obtain ⟨rfl, rfl⟩ := hq
    have hle := bl_df_le n (bl_off z fm fc c) z
    refine jx_istore_nV (pc := 28) G dX2_falseAlone_28 rfl (by decide) (bl_df n (bl_off z fm fc c) z) rfl [(0, .ref o), (1, .int (nI c)), (2, .int (nI (bl_df n (bl_off z fm fc c) z)))] rfl ?_
    refine jx_iload_n (pc := 29) G dX2_falseAlone_29 rfl 2 rfl ?_
    refine jx_aload_n (pc := 30) G dX2_falseAlone_30 rfl 0 rfl ?_
    refine mg_size (pc := 31) G dX2_falseAlone_31 ?_
    refine jx_icmp_ge (pc := 34) (tgt := 41) G dX2_falseAlone_34 (by decide) (by omega) (by omega) (fun h34 => ?_) (fun h34 => ?_)
    · have e : 0 = bl_ind (bl_df n (bl_off z fm fc c) z < z) := (bl_ind_f (by omega)).symm
      refine jx_iconst (pc := 41) G dX2_falseAlone_41 kc_0 ?_
      exact E _ _ 42 _ ⟨by rw [← e], ⟨_, _, _, _, _, _, rfl, hg1, hg2, hg3⟩⟩ dX2_falseAlone_42
    · have e : 1 = bl_ind (bl_df n (bl_off z fm fc c) z < z) := (bl_ind_t h34).symm
      refine jx_iconst (pc := 37) G dX2_falseAlone_37 kc_1 ?_
      refine jx_goto (pc := 38) (tgt := 42) G dX2_falseAlone_38 (by decide) ?_
      exact E _ _ 42 _ ⟨by rw [← e], ⟨_, _, _, _, _, _, rfl, hg1, hg2, hg3⟩⟩ dX2_falseAlone_42
  · exact absurd rfl h5
set_option maxHeartbeats 4000000 in
theorem kM_order_bad {y : Int32} (hy : ¬ bl_in 3 y) : jx_Ki l D cb ci yX2_order wsX2_order rmX2_order 0 0 [.ref o, .int y] (MC cb ci o a n z gm gc ct gl fb la fr) (fun r w' => r = -1 ∧ w' = MC cb ci o a n z gm gc ct gl fb la fr) := by
  refine jx_Ki_of (by decide) (Nat.le_of_ble_eq_true rfl) [(0, .ref o), (1, .int y)] rfl ?_
  intro x G E
  refine jx_aload_n (pc := 0) G dX2_order_0 rfl 0 rfl ?_
  refine jx_iload_n (pc := 1) G dX2_order_1 rfl 1 rfl ?_
  refine mc_i1 (pc := 2) G (fun _ _ => kM_noCall y) (cwX2_noCall ⟨Nat.le_of_ble_eq_true rfl, Nat.le_of_ble_eq_true rfl⟩) (Nat.le_of_ble_eq_true rfl) dX2_order_2 (fun r w' hq => ?_)
  obtain ⟨rfl, rfl⟩ := hq
  rw [bl_ind_t hy]
  refine jx_if_eq (pc := 5) (tgt := 10) G dX2_order_5 (by decide) (by omega) (fun h5 => ?_) (fun h5 => ?_)
  · exact absurd h5 (by decide)
  · refine jx_iconst (pc := 8) G dX2_order_8 kc_m1 ?_
    exact E _ _ 9 _ ⟨rfl, rfl⟩ dX2_order_9
set_option maxHeartbeats 4000000 in
theorem kM_order_ok (hA : bl_AV n z fm fc ct fl) (hg1 : ∀ k, k < z → gm k = fm k) (hg2 : ∀ c, 0 < c → c < 3 → gc c = fc c) (hg3 : ∀ i, i < ct → gl i = fl i) {c : Nat} (hc : c < 3) : jx_Ki l D cb ci yX2_order wsX2_order rmX2_order 0 0 [.ref o, .int (nI c)] (MC cb ci o a n z gm gc ct gl fb la fr) (fun r w' => (∃ L, 0 < L ∧ (∀ q, q < n → bl_it (bl_off z fm fc c z) L q = q) ∧ (∀ s, 1 ≤ s → s < L → ¬ (∀ q, q < n → bl_it (bl_off z fm fc c z) s q = q)) ∧ r = nI L) ∧ bl_MI cb ci o a n z fm fc ct fl w') := by
  refine jx_Ki_of (by decide) (Nat.le_of_ble_eq_true rfl) [(0, .ref o), (1, .int (nI c))] rfl ?_
  intro x G E
  have hA0 := hA
  obtain ⟨⟨hn3, hn6⟩, ⟨hz1, hz2⟩, hct, hV, hfl⟩ := hA0
  have hcz := bl_ctz hct hz2
  have hP := bl_off_PM hV hc z (Nat.le_refl z)
  refine jx_aload_n (pc := 0) G dX2_order_0 rfl 0 rfl ?_
  refine jx_iload_n (pc := 1) G dX2_order_1 rfl 1 rfl ?_
  refine mc_i1 (pc := 2) G (fun _ _ => kM_noCall (nI c)) (cwX2_noCall ⟨Nat.le_of_ble_eq_true rfl, Nat.le_of_ble_eq_true rfl⟩) (Nat.le_of_ble_eq_true rfl) dX2_order_2 (fun r w' hq => ?_)
  obtain ⟨rfl, rfl⟩ := hq
  rw [bl_ind_f (fun q => q ⟨c, hc, rfl⟩)]
  refine jx_if_eq (pc := 5) (tgt := 10) G dX2_order_5 (by decide) (by omega) (fun h5 => ?_) (fun h5 => ?_)
  · refine jx_aload_n (pc := 10) G dX2_order_10 rfl 0 rfl ?_
    refine mc_v0 (pc := 11) G (fun _ _ => kM_round hn6) (cwX2_round ⟨Nat.le_of_ble_eq_true rfl, Nat.le_of_ble_eq_true rfl⟩) (Nat.le_of_ble_eq_true rfl) dX2_order_11 (fun w' hq => ?_)
    obtain ⟨fb0, hb0, rfl⟩ := hq
    refine jx_aload_n (pc := 14) G dX2_order_14 rfl 0 rfl ?_
    refine mc_i0 (pc := 15) G (fun _ _ => kM_code hn6 (g := fun p => p) hb0) (cwX2_code ⟨Nat.le_of_ble_eq_true rfl, Nat.le_of_ble_eq_true rfl⟩) (Nat.le_of_ble_eq_true rfl) dX2_order_15 (fun r w' hq => ?_)
    obtain ⟨rfl, rfl⟩ := hq
    refine jx_istore_nV (pc := 18) G dX2_order_18 rfl (by decide) (bl_cd (fun p => p) n) rfl [(0, .ref o), (1, .int (nI c)), (2, .int (nI (bl_cd (fun p => p) n)))] rfl ?_
    refine jx_iconst (pc := 19) G dX2_order_19 kc_0 ?_
    refine jx_istore_nV (pc := 20) G dX2_order_20 rfl (by decide) (0) rfl [(0, .ref o), (1, .int (nI c)), (2, .int (nI (bl_cd (fun p => p) n))), (3, .int (nI 0))] rfl ?_
    refine jx_iconst (pc := 21) G dX2_order_21 kc_1 ?_
    refine jx_istoreV (pc := 22) G dX2_order_22 (by decide) (1) rfl [(0, .ref o), (1, .int (nI c)), (2, .int (nI (bl_cd (fun p => p) n))), (3, .int (nI 0)), (4, .int (nI 1))] rfl ?_
    have lp24 : ∀ (d24 : Nat) (m mo la2 : Nat) (fb' fr' : Nat → Nat), 62 - m = d24 → (m ≤ 60) → (mo ≤ 1) → (∀ p, p < n → fb' p = bl_it (bl_off z fm fc c z) m p + 1) → (mo = 1 → ∀ s, 1 ≤ s → s ≤ m → ¬ (∀ q, q < n → bl_it (bl_off z fm fc c z) s q = q)) → (mo = 0 → 0 < m ∧ (∀ q, q < n → bl_it (bl_off z fm fc c z) m q = q) ∧ ∀ s, 1 ≤ s → s < m → ¬ (∀ q, q < n → bl_it (bl_off z fm fc c z) s q = q)) → jx_J x 0 0 (MC cb ci o a n z gm gc ct gl fb' la2 fr') 24 [(0, .ref o), (1, .int (nI c)), (2, .int (nI (bl_cd (fun p => p) n))), (3, .int (nI m)), (4, .int (nI mo))] [] := by
      intro d24
      induction d24 using Nat.strongRecOn with
      | _ d24 ih24 =>
      intro m mo la2 fb' fr' hm24 hm hmo h1 h2 h3
      refine jx_iload (pc := 24) G dX2_order_24 4 rfl ?_
      refine jx_if_eq (pc := 26) (tgt := 65) G dX2_order_26 (by decide) (by omega) (fun h26 => ?_) (fun h26 => ?_)
      · refine jx_iload_n (pc := 65) G dX2_order_65 rfl 3 rfl ?_
        exact E _ _ 66 _ ⟨⟨m, (h3 h26).1, (h3 h26).2.1, (h3 h26).2.2, rfl⟩, ⟨_, _, _, _, _, _, rfl, hg1, hg2, hg3⟩⟩ dX2_order_66
      · have hmo1 := h2 (by omega)
        have hm60 : m < 60 := by
          rcases Nat.lt_or_ge m 60 with q | q
          · exact q
          · exact absurd (fun q9 hq9 => bl_it_60 hn6 hP hq9) (hmo1 60 (by omega) q)
        refine jx_aload_n (pc := 29) G dX2_order_29 rfl 0 rfl ?_
        refine jx_iconst (pc := 30) G dX2_order_30 kc_0 ?_
        refine mp_last (pc := 31) G dX2_order_31 ?_
        refine jx_aload_n (pc := 34) G dX2_order_34 rfl 0 rfl ?_
        refine jx_iload_n (pc := 35) G dX2_order_35 rfl 1 rfl ?_
        refine mc_v1 (pc := 36) G (fun _ _ => kM_ring hn6 hz2 hV hg1 hg2 hc (g := bl_it (bl_off z fm fc c z) m) h1 (by omega)) (cwX2_ring ⟨Nat.le_of_ble_eq_true rfl, Nat.le_of_ble_eq_true rfl⟩) (Nat.le_of_ble_eq_true rfl) dX2_order_36 (fun w' hq => ?_)
        obtain ⟨fb2, fr2, k1, k2, k3, rfl⟩ := hq
        have e9 : fr2 (0 + z) = bl_cd (fun p => bl_it (bl_off z fm fc c z) (m + 1) p) n := by
          have h9 := k2 (z - 1) (by omega)
          rw [show 0 + (z - 1) + 1 = 0 + z by omega, show z - 1 + 1 = z by omega] at h9
          exact h9
        refine jx_iincV (pc := 39) G dX2_order_39 kc_1 (by decide) 3 rfl (m + 1) rfl [(0, .ref o), (1, .int (nI c)), (2, .int (nI (bl_cd (fun p => p) n))), (3, .int (nI (m + 1))), (4, .int (nI mo))] rfl ?_
        refine jx_aload_n (pc := 42) G dX2_order_42 rfl 0 rfl ?_
        refine mg_rows (pc := 43) G dX2_order_43 ?_
        refine jx_aload_n (pc := 46) G dX2_order_46 rfl 0 rfl ?_
        refine mg_last (pc := 47) G dX2_order_47 ?_
        refine ml_rows (pc := 50) G dX2_order_50 (by omega) ?_
        rw [e9]
        refine jx_iload_n (pc := 51) G dX2_order_51 rfl 2 rfl ?_
        have hv9 : ∀ p, p < n → bl_it (bl_off z fm fc c z) (m + 1) p < 9 := fun p hp => by
          have := bl_it_lt hP (m + 1) p hp
          omega
        have hw9 : ∀ p, p < n → (fun p => p) p < 9 := fun p hp => by
          show p < 9
          omega
        have hc1 := bl_cd_31 (f := fun p => bl_it (bl_off z fm fc c z) (m + 1) p) hn6 hv9
        have hc2 := bl_cd_31 hn6 hw9
        have hce := bl_cdeq (f := fun p => bl_it (bl_off z fm fc c z) (m + 1) p) hv9 hw9
        refine jx_icmp_eq (pc := 52) (tgt := 59) G dX2_order_52 (by decide) (by omega) (by omega) (fun h52 => ?_) (fun h52 => ?_)
        · have hn2 : 0 = 1 → ∀ s, 1 ≤ s → s ≤ m + 1 → ¬ (∀ q, q < n → bl_it (bl_off z fm fc c z) s q = q) := fun q => absurd q (by decide)
          have hn3' : 0 = 0 → 0 < m + 1 ∧ (∀ q, q < n → bl_it (bl_off z fm fc c z) (m + 1) q = q) ∧ ∀ s, 1 ≤ s → s < m + 1 → ¬ (∀ q, q < n → bl_it (bl_off z fm fc c z) s q = q) := fun _ => ⟨by omega, hce.mp h52, fun s a1 a2 => hmo1 s a1 (by omega)⟩
          refine jx_iconst (pc := 59) G dX2_order_59 kc_0 ?_
          refine jx_istoreV (pc := 60) G dX2_order_60 (by decide) (0) rfl [(0, .ref o), (1, .int (nI c)), (2, .int (nI (bl_cd (fun p => p) n))), (3, .int (nI (m + 1))), (4, .int (nI 0))] rfl ?_
          refine jx_goto (pc := 62) (tgt := 24) G dX2_order_62 (by decide) ?_
          exact ih24 _ (by omega) (m + 1) 0 _ fb2 fr2 rfl (by omega) (by omega) k1 hn2 hn3'
        · have hn2 : 1 = 1 → ∀ s, 1 ≤ s → s ≤ m + 1 → ¬ (∀ q, q < n → bl_it (bl_off z fm fc c z) s q = q) := fun _ s a1 a2 => by
            by_cases e : s = m + 1
            · rw [e]
              exact fun q => h52 (hce.mpr q)
            · exact hmo1 s a1 (by omega)
          have hn3' : 1 = 0 → 0 < m + 1 ∧ (∀ q, q < n → bl_it (bl_off z fm fc c z) (m + 1) q = q) ∧ ∀ s, 1 ≤ s → s < m + 1 → ¬ (∀ q, q < n → bl_it (bl_off z fm fc c z) s q = q) := fun q => absurd q (by decide)
          refine jx_iconst (pc := 55) G dX2_order_55 kc_1 ?_
          refine jx_goto (pc := 56) (tgt := 60) G dX2_order_56 (by decide) ?_
          refine jx_istoreV (pc := 60) G dX2_order_60 (by decide) (1) rfl [(0, .ref o), (1, .int (nI c)), (2, .int (nI (bl_cd (fun p => p) n))), (3, .int (nI (m + 1))), (4, .int (nI 1))] rfl ?_
          refine jx_goto (pc := 62) (tgt := 24) G dX2_order_62 (by decide) ?_
          exact ih24 _ (by omega) (m + 1) 1 _ fb2 fr2 rfl (by omega) (by omega) k1 hn2 hn3'
    exact lp24 _ 0 1 la fb0 fr rfl (by omega) (by omega) hb0 (fun _ s a1 a2 => absurd a2 (by omega)) (fun q => absurd q (by decide))
  · exact absurd rfl h5
set_option maxHeartbeats 4000000 in
theorem kM_home (hA : bl_AV n z fm fc ct fl) (hg1 : ∀ k, k < z → gm k = fm k) (hg2 : ∀ c, 0 < c → c < 3 → gc c = fc c) (hg3 : ∀ i, i < ct → gl i = fl i) : jx_Ki l D cb ci yX2_home wsX2_home rmX2_home 0 0 [.ref o] (MC cb ci o a n z gm gc ct gl fb la fr) (fun r w' => r = nI (bl_ind (∀ t, t < n → bl_hd z fm fc fl ct t = t)) ∧ bl_MI cb ci o a n z fm fc ct fl w') := by
  refine jx_Ki_of (by decide) (Nat.le_of_ble_eq_true rfl) [(0, .ref o)] rfl ?_
  intro x G E
  have hA0 := hA
  obtain ⟨⟨hn3, hn6⟩, ⟨hz1, hz2⟩, hct, hV, hfl⟩ := hA0
  have hcz := bl_ctz hct hz2
  refine jx_aload_n (pc := 0) G dX2_home_0 rfl 0 rfl ?_
  refine mc_v0 (pc := 1) G (fun _ _ => kM_write hA hg1 hg2 hg3) (cwX2_write ⟨Nat.le_of_ble_eq_true rfl, Nat.le_of_ble_eq_true rfl⟩) (Nat.le_of_ble_eq_true rfl) dX2_home_1 (fun w' hq => ?_)
  obtain ⟨fb', fr', hb, hr, rfl⟩ := hq
  refine jx_aload_n (pc := 4) G dX2_home_4 rfl 0 rfl ?_
  refine mg_rows (pc := 5) G dX2_home_5 ?_
  refine jx_aload_n (pc := 8) G dX2_home_8 rfl 0 rfl ?_
  refine mg_last (pc := 9) G dX2_home_9 ?_
  refine ml_rows (pc := 12) G dX2_home_12 (by omega) ?_
  refine jx_aload_n (pc := 13) G dX2_home_13 rfl 0 rfl ?_
  refine mg_rows (pc := 14) G dX2_home_14 ?_
  refine jx_iconst (pc := 17) G dX2_home_17 kc_0 ?_
  refine ml_rows (pc := 18) G dX2_home_18 (by omega) ?_
  rw [hr (ct * z) (Nat.le_refl _), hr 0 (Nat.zero_le _)]
  have ha9 : ∀ p, p < n → bl_row z fm fc fl (ct * z) p < 9 := fun p hp => by
    have := (bl_row_PM hA (Nat.le_refl (ct * z))).1 p hp
    omega
  have hb9 : ∀ p, p < n → bl_row z fm fc fl 0 p < 9 := fun p hp => by
    rw [bl_row_0]
    omega
  have hc1 := bl_cd_31 hn6 ha9
  have hc2 := bl_cd_31 hn6 hb9
  have hce := bl_cdeq ha9 hb9
  have hiff : (∀ p, p < n → bl_row z fm fc fl (ct * z) p = bl_row z fm fc fl 0 p) ↔ ∀ t, t < n → bl_hd z fm fc fl ct t = t := ⟨fun h t ht => by rw [← bl_row_end fm fc fl (by omega) ct t, h t ht, bl_row_0], fun h p hp => by rw [bl_row_end fm fc fl (by omega), h p hp, bl_row_0]⟩
  refine jx_icmp_ne (pc := 19) (tgt := 26) G dX2_home_19 (by decide) (by omega) (by omega) (fun h19 => ?_) (fun h19 => ?_)
  · have e : 0 = bl_ind (∀ t, t < n → bl_hd z fm fc fl ct t = t) := (bl_ind_f (fun q => h19 (hce.mpr (hiff.mpr q)))).symm
    refine jx_iconst (pc := 26) G dX2_home_26 kc_0 ?_
    exact E _ _ 27 _ ⟨by rw [← e], ⟨_, _, _, _, _, _, rfl, hg1, hg2, hg3⟩⟩ dX2_home_27
  · have e : 1 = bl_ind (∀ t, t < n → bl_hd z fm fc fl ct t = t) := (bl_ind_t (hiff.mp (hce.mp h19))).symm
    refine jx_iconst (pc := 22) G dX2_home_22 kc_1 ?_
    refine jx_goto (pc := 23) (tgt := 27) G dX2_home_23 (by decide) ?_
    exact E _ _ 27 _ ⟨by rw [← e], ⟨_, _, _, _, _, _, rfl, hg1, hg2, hg3⟩⟩ dX2_home_27
set_option maxHeartbeats 4000000 in
theorem kM_leads_neg {u : Int32} (hu : u < 0) : jx_Ki l D cb ci yX2_leads wsX2_leads rmX2_leads 0 0 [.ref o, .int u] (MC cb ci o a n z gm gc ct gl fb la fr) (fun r w' => r = -1 ∧ w' = MC cb ci o a n z gm gc ct gl fb la fr) := by
  refine jx_Ki_of (by decide) (Nat.le_of_ble_eq_true rfl) [(0, .ref o), (1, .int u)] rfl ?_
  intro x G E
  refine jx_aload_n (pc := 0) G dX2_leads_0 rfl 0 rfl ?_
  refine jx_iload_n (pc := 1) G dX2_leads_1 rfl 1 rfl ?_
  refine mc_i1 (pc := 2) G (fun _ _ => kM_noBell_neg hu) (cwX2_noBell ⟨Nat.le_of_ble_eq_true rfl, Nat.le_of_ble_eq_true rfl⟩) (Nat.le_of_ble_eq_true rfl) dX2_leads_2 (fun r w' hq => ?_)
  obtain ⟨rfl, rfl⟩ := hq
  refine jx_if_eq (pc := 5) (tgt := 10) G dX2_leads_5 (by decide) (by omega) (fun h5 => ?_) (fun h5 => ?_)
  · exact absurd h5 (by decide)
  · refine jx_iconst (pc := 8) G dX2_leads_8 kc_m1 ?_
    exact E _ _ 9 _ ⟨rfl, rfl⟩ dX2_leads_9
set_option maxHeartbeats 4000000 in
theorem kM_leads_bad (hn : n ≤ 6) {b : Nat} (hb31 : b < 2 ^ 31) (hb : ¬ (1 ≤ b ∧ b ≤ n)) : jx_Ki l D cb ci yX2_leads wsX2_leads rmX2_leads 0 0 [.ref o, .int (nI b)] (MC cb ci o a n z gm gc ct gl fb la fr) (fun r w' => r = -1 ∧ w' = MC cb ci o a n z gm gc ct gl fb la fr) := by
  refine jx_Ki_of (by decide) (Nat.le_of_ble_eq_true rfl) [(0, .ref o), (1, .int (nI b))] rfl ?_
  intro x G E
  refine jx_aload_n (pc := 0) G dX2_leads_0 rfl 0 rfl ?_
  refine jx_iload_n (pc := 1) G dX2_leads_1 rfl 1 rfl ?_
  refine mc_i1 (pc := 2) G (fun _ _ => kM_noBell_nn hn hb31) (cwX2_noBell ⟨Nat.le_of_ble_eq_true rfl, Nat.le_of_ble_eq_true rfl⟩) (Nat.le_of_ble_eq_true rfl) dX2_leads_2 (fun r w' hq => ?_)
  obtain ⟨rfl, rfl⟩ := hq
  rw [bl_ind_t hb]
  refine jx_if_eq (pc := 5) (tgt := 10) G dX2_leads_5 (by decide) (by omega) (fun h5 => ?_) (fun h5 => ?_)
  · exact absurd h5 (by decide)
  · refine jx_iconst (pc := 8) G dX2_leads_8 kc_m1 ?_
    exact E _ _ 9 _ ⟨rfl, rfl⟩ dX2_leads_9
set_option maxHeartbeats 4000000 in
theorem kM_leads_ok (hA : bl_AV n z fm fc ct fl) (hg1 : ∀ k, k < z → gm k = fm k) (hg2 : ∀ c, 0 < c → c < 3 → gc c = fc c) (hg3 : ∀ i, i < ct → gl i = fl i) {b : Nat} (hb2 : b < n) : jx_Ki l D cb ci yX2_leads wsX2_leads rmX2_leads 0 0 [.ref o, .int (nI (b + 1))] (MC cb ci o a n z gm gc ct gl fb la fr) (fun r w' => r = nI (bl_sum (fun k => bl_ind (bl_row z fm fc fl (k + 1) 0 = b)) (ct * z)) ∧ bl_MI cb ci o a n z fm fc ct fl w') := by
  refine jx_Ki_of (by decide) (Nat.le_of_ble_eq_true rfl) [(0, .ref o), (1, .int (nI (b + 1)))] rfl ?_
  intro x G E
  have hA0 := hA
  obtain ⟨⟨hn3, hn6⟩, ⟨hz1, hz2⟩, hct, hV, hfl⟩ := hA0
  have hcz := bl_ctz hct hz2
  refine jx_aload_n (pc := 0) G dX2_leads_0 rfl 0 rfl ?_
  refine jx_iload_n (pc := 1) G dX2_leads_1 rfl 1 rfl ?_
  refine mc_i1 (pc := 2) G (fun _ _ => kM_noBell_nn hn6 (by omega)) (cwX2_noBell ⟨Nat.le_of_ble_eq_true rfl, Nat.le_of_ble_eq_true rfl⟩) (Nat.le_of_ble_eq_true rfl) dX2_leads_2 (fun r w' hq => ?_)
  obtain ⟨rfl, rfl⟩ := hq
  rw [bl_ind_f (fun q => q ⟨by omega, by omega⟩)]
  refine jx_if_eq (pc := 5) (tgt := 10) G dX2_leads_5 (by decide) (by omega) (fun h5 => ?_) (fun h5 => ?_)
  · refine jx_aload_n (pc := 10) G dX2_leads_10 rfl 0 rfl ?_
    refine mc_v0 (pc := 11) G (fun _ _ => kM_write hA hg1 hg2 hg3) (cwX2_write ⟨Nat.le_of_ble_eq_true rfl, Nat.le_of_ble_eq_true rfl⟩) (Nat.le_of_ble_eq_true rfl) dX2_leads_11 (fun w' hq => ?_)
    obtain ⟨fb', fr', hb, hr, rfl⟩ := hq
    have hr9 : ∀ k, k < ct * z → fr' (k + 1) = bl_cd (bl_row z fm fc fl (k + 1)) n := fun k hk => hr (k + 1) (by omega)
    have hR9 : ∀ k, k < ct * z → ∀ p, p < n → bl_row z fm fc fl (k + 1) p < 9 := fun k hk p hp => by
      have := (bl_row_PM hA (k := k + 1) (by omega)).1 p hp
      omega
    refine jx_iconst (pc := 14) G dX2_leads_14 kc_1 ?_
    refine jx_istore_nV (pc := 15) G dX2_leads_15 rfl (by decide) (10 ^ 0) rfl [(0, .ref o), (1, .int (nI (b + 1))), (2, .int (nI (10 ^ 0)))] rfl ?_
    refine jx_iconst (pc := 16) G dX2_leads_16 kc_1 ?_
    refine jx_istore_nV (pc := 17) G dX2_leads_17 rfl (by decide) (0 + 1) rfl [(0, .ref o), (1, .int (nI (b + 1))), (2, .int (nI (10 ^ 0))), (3, .int (nI (0 + 1)))] rfl ?_
    have lp18 : ∀ (d18 : Nat) (t : Nat), n - t = d18 → (t + 1 ≤ n) → jx_J x 0 0 (MC cb ci o a n z gm gc ct gl fb' (ct * z) fr') 18 [(0, .ref o), (1, .int (nI (b + 1))), (2, .int (nI (10 ^ t))), (3, .int (nI (t + 1)))] [] := by
      intro d18
      induction d18 using Nat.strongRecOn with
      | _ d18 ih18 =>
      intro t hm18 ht
      refine jx_iload_n (pc := 18) G dX2_leads_18 rfl 3 rfl ?_
      refine jx_aload_n (pc := 19) G dX2_leads_19 rfl 0 rfl ?_
      refine mg_n (pc := 20) G dX2_leads_20 ?_
      refine jx_icmp_ge (pc := 23) (tgt := 37) G dX2_leads_23 (by decide) (by omega) (by omega) (fun h23 => ?_) (fun h23 => ?_)
      · have h10 : 10 ^ t ≤ 100000 := Nat.pow_le_pow_right (n := 10) (j := 5) (by decide) (by omega)
        have h11 : 0 < 10 ^ t := Nat.pow_pos (by decide)
        refine jx_iconst (pc := 37) G dX2_leads_37 kc_0 ?_
        refine jx_istore_nV (pc := 38) G dX2_leads_38 rfl (by decide) (0) rfl [(0, .ref o), (1, .int (nI (b + 1))), (2, .int (nI (10 ^ t))), (3, .int (nI 0))] rfl ?_
        refine jx_iconst (pc := 39) G dX2_leads_39 kc_1 ?_
        refine jx_istoreV (pc := 40) G dX2_leads_40 (by decide) (0 + 1) rfl [(0, .ref o), (1, .int (nI (b + 1))), (2, .int (nI (10 ^ t))), (3, .int (nI 0)), (4, .int (nI (0 + 1)))] rfl ?_
        have lp42 : ∀ (d42 : Nat) (k al : Nat), ct * z - k = d42 → (k ≤ ct * z) → (al = bl_sum (fun k => bl_ind (bl_row z fm fc fl (k + 1) 0 = b)) k) → jx_J x 0 0 (MC cb ci o a n z gm gc ct gl fb' (ct * z) fr') 42 [(0, .ref o), (1, .int (nI (b + 1))), (2, .int (nI (10 ^ t))), (3, .int (nI al)), (4, .int (nI (k + 1)))] [] := by
          intro d42
          induction d42 using Nat.strongRecOn with
          | _ d42 ih42 =>
          intro k al hm42 hk hm
          refine jx_iload (pc := 42) G dX2_leads_42 4 rfl ?_
          refine jx_aload_n (pc := 44) G dX2_leads_44 rfl 0 rfl ?_
          refine mg_last (pc := 45) G dX2_leads_45 ?_
          refine jx_icmp_gt (pc := 48) (tgt := 73) G dX2_leads_48 (by decide) (by omega) (by omega) (fun h48 => ?_) (fun h48 => ?_)
          · refine jx_iload_n (pc := 73) G dX2_leads_73 rfl 3 rfl ?_
            exact E _ _ 74 _ ⟨by rw [hm, show k = ct * z by omega], ⟨_, _, _, _, _, _, rfl, hg1, hg2, hg3⟩⟩ dX2_leads_74
          · refine jx_aload_n (pc := 51) G dX2_leads_51 rfl 0 rfl ?_
            refine mg_rows (pc := 52) G dX2_leads_52 ?_
            refine jx_iload (pc := 55) G dX2_leads_55 4 rfl ?_
            refine ml_rows (pc := 57) G dX2_leads_57 (by omega) ?_
            refine jx_iload_n (pc := 58) G dX2_leads_58 rfl 2 rfl ?_
            have hc1 := bl_cd_31 hn6 (hR9 k (by omega))
            rw [hr9 k (by omega)]
            refine jx_idiv (pc := 59) G dX2_leads_59 (by omega) (by omega) (by omega) ?_
            refine jx_iload_n (pc := 60) G dX2_leads_60 rfl 1 rfl ?_
            have htop := bl_cd_top (f := bl_row z fm fc fl (k + 1)) t (fun p hp => hR9 k (by omega) p (by omega))
            rw [show t + 1 = n by omega] at htop
            rw [htop]
            have hv := hR9 k (by omega) 0 (by omega)
            refine jx_icmp_ne (pc := 61) (tgt := 67) G dX2_leads_61 (by decide) (by omega) (by omega) (fun h61 => ?_) (fun h61 => ?_)
            · have hnew : bl_ind (bl_row z fm fc fl (k + 1) 0 = b) = 0 := bl_ind_f (by omega)
              refine jx_iincV (pc := 67) G dX2_leads_67 kc_1 (by decide) 4 rfl (k + 1 + 1) rfl [(0, .ref o), (1, .int (nI (b + 1))), (2, .int (nI (10 ^ t))), (3, .int (nI al)), (4, .int (nI (k + 1 + 1)))] rfl ?_
              refine jx_goto (pc := 70) (tgt := 42) G dX2_leads_70 (by decide) ?_
              exact ih42 _ (by omega) (k + 1) al rfl (by omega) (by show al = bl_sum (fun k => bl_ind (bl_row z fm fc fl (k + 1) 0 = b)) k + bl_ind (bl_row z fm fc fl (k + 1) 0 = b); rw [hnew]; omega)
            · have hnew : bl_ind (bl_row z fm fc fl (k + 1) 0 = b) = 1 := bl_ind_t (by omega)
              refine jx_iinc (pc := 64) G dX2_leads_64 kc_1 (by decide) 3 rfl (fun v => [(0, .ref o), (1, .int (nI (b + 1))), (2, .int (nI (10 ^ t))), (3, .int (nI v)), (4, .int (nI (k + 1)))]) (fun _ => rfl) (fun u3_64 eu3_64 => ?_)
              refine jx_iincV (pc := 67) G dX2_leads_67 kc_1 (by decide) 4 rfl (k + 1 + 1) rfl [(0, .ref o), (1, .int (nI (b + 1))), (2, .int (nI (10 ^ t))), (3, .int (nI u3_64)), (4, .int (nI (k + 1 + 1)))] rfl ?_
              refine jx_goto (pc := 70) (tgt := 42) G dX2_leads_70 (by decide) ?_
              exact ih42 _ (by omega) (k + 1) u3_64 rfl (by omega) (by show u3_64 = bl_sum (fun k => bl_ind (bl_row z fm fc fl (k + 1) 0 = b)) k + bl_ind (bl_row z fm fc fl (k + 1) 0 = b); rw [hnew]; omega)
        exact lp42 _ 0 0 rfl (by omega) rfl
      · refine jx_bipush (pc := 26) G dX2_leads_26 kb_10 ?_
        refine jx_iload_n (pc := 28) G dX2_leads_28 rfl 2 rfl ?_
        refine jx_imul (pc := 29) G dX2_leads_29 ?_
        refine jx_istore_nV (pc := 30) G dX2_leads_30 rfl (by decide) (10 ^ (t + 1)) (by rw [Nat.pow_succ, Nat.mul_comm]) [(0, .ref o), (1, .int (nI (b + 1))), (2, .int (nI (10 ^ (t + 1)))), (3, .int (nI (t + 1)))] rfl ?_
        refine jx_iincV (pc := 31) G dX2_leads_31 kc_1 (by decide) 3 rfl (t + 1 + 1) rfl [(0, .ref o), (1, .int (nI (b + 1))), (2, .int (nI (10 ^ (t + 1)))), (3, .int (nI (t + 1 + 1)))] rfl ?_
        refine jx_goto (pc := 34) (tgt := 18) G dX2_leads_34 (by decide) ?_
        exact ih18 _ (by omega) (t + 1) rfl (by omega)
    exact lp18 _ 0 rfl (by omega)
  · exact absurd rfl h5
set_option maxHeartbeats 4000000 in
theorem kM_choices (hA : bl_AV n z fm fc ct fl) (hg1 : ∀ k, k < z → gm k = fm k) (hg2 : ∀ c, 0 < c → c < 3 → gc c = fc c) (hg3 : ∀ i, i < ct → gl i = fl i) : jx_Ki l D cb ci yX2_choices wsX2_choices rmX2_choices 0 0 [.ref o] (MC cb ci o a n z gm gc ct gl fb la fr) (fun r w' => r = nI (bl_sum (fun c => bl_ind (bl_df n (bl_row z fm fc (upN fl ct c)) (ct * z + z) = ct * z + z)) 3) ∧ bl_MI cb ci o a n z fm fc ct fl w') := by
  refine jx_Ki_of (by decide) (Nat.le_of_ble_eq_true rfl) [(0, .ref o)] rfl ?_
  intro x G E
  have hA0 := hA
  obtain ⟨⟨hn3, hn6⟩, ⟨hz1, hz2⟩, hct, hV, hfl⟩ := hA0
  have hcz := bl_ctz hct hz2
  refine jx_iconst (pc := 0) G dX2_choices_0 kc_0 ?_
  refine jx_istore_nV (pc := 1) G dX2_choices_1 rfl (by decide) (0) rfl [(0, .ref o), (1, .int (nI 0))] rfl ?_
  refine jx_iconst (pc := 2) G dX2_choices_2 kc_0 ?_
  refine jx_istore_nV (pc := 3) G dX2_choices_3 rfl (by decide) (0) rfl [(0, .ref o), (1, .int (nI 0)), (2, .int (nI 0))] rfl ?_
  have lp4 : ∀ (d4 : Nat) (c al la2 : Nat) (fb1 fr1 : Nat → Nat), 3 - c = d4 → (c ≤ 3) → (al = bl_sum (fun c => bl_ind (bl_df n (bl_row z fm fc (upN fl ct c)) (ct * z + z) = ct * z + z)) c) → jx_J x 0 0 (MC cb ci o a n z gm gc ct gl fb1 la2 fr1) 4 [(0, .ref o), (1, .int (nI al)), (2, .int (nI c))] [] := by
    intro d4
    induction d4 using Nat.strongRecOn with
    | _ d4 ih4 =>
    intro c al la2 fb1 fr1 hm4 hc hm
    refine jx_iload_n (pc := 4) G dX2_choices_4 rfl 2 rfl ?_
    refine jx_iconst (pc := 5) G dX2_choices_5 kc_3 ?_
    refine jx_icmp_ge (pc := 6) (tgt := 40) G dX2_choices_6 (by decide) (by omega) (by omega) (fun h6 => ?_) (fun h6 => ?_)
    · refine jx_iload_n (pc := 40) G dX2_choices_40 rfl 1 rfl ?_
      exact E _ _ 41 _ ⟨by rw [hm, show c = 3 by omega], ⟨_, _, _, _, _, _, rfl, hg1, hg2, hg3⟩⟩ dX2_choices_41
    · refine jx_aload_n (pc := 9) G dX2_choices_9 rfl 0 rfl ?_
      refine mc_v0 (pc := 10) G (fun _ _ => kM_write hA hg1 hg2 hg3) (cwX2_write ⟨Nat.le_of_ble_eq_true rfl, Nat.le_of_ble_eq_true rfl⟩) (Nat.le_of_ble_eq_true rfl) dX2_choices_10 (fun w' hq => ?_)
      obtain ⟨fb', fr', hb, hr, rfl⟩ := hq
      refine jx_aload_n (pc := 13) G dX2_choices_13 rfl 0 rfl ?_
      refine jx_iload_n (pc := 14) G dX2_choices_14 rfl 2 rfl ?_
      refine mc_v1 (pc := 15) G (fun _ _ => kM_ring hn6 hz2 hV hg1 hg2 (c := c) (by omega) (g := bl_hd z fm fc fl ct) hb (by omega)) (cwX2_ring ⟨Nat.le_of_ble_eq_true rfl, Nat.le_of_ble_eq_true rfl⟩) (Nat.le_of_ble_eq_true rfl) dX2_choices_15 (fun w' hq => ?_)
      obtain ⟨fb2, fr2, k1, k2, k3, rfl⟩ := hq
      have hr9 : ∀ k, k < ct * z + z → fr2 (k + 1) = bl_cd (bl_row z fm fc (upN fl ct c) (k + 1)) n := fun k hk => by
        by_cases e : k + 1 ≤ ct * z
        · rw [k3 _ (Or.inl e), hr _ e]
          exact bl_cd_congr n (fun p _ => (bl_row_old e p).symm)
        · have h9 := k2 (k - ct * z) (by omega)
          rw [show ct * z + (k - ct * z) + 1 = k + 1 by omega] at h9
          rw [h9]
          refine bl_cd_congr n (fun p _ => ?_)
          have h8 := bl_row_more (fm := fm) (fc := fc) (fl := fl) (ct := ct) (c := c) (k := k - ct * z) (z := z) (by omega) p
          rw [show ct * z + (k - ct * z) + 1 = k + 1 by omega] at h8
          exact h8.symm
      have hR9 : ∀ k, k < ct * z + z → ∀ p, p < n → bl_row z fm fc (upN fl ct c) (k + 1) p < 9 := fun k hk p hp => by
        by_cases e : k + 1 ≤ ct * z
        · rw [bl_row_old e]
          have := (bl_row_PM hA e).1 p hp
          omega
        · have h8 := bl_row_more (fm := fm) (fc := fc) (fl := fl) (ct := ct) (c := c) (k := k - ct * z) (z := z) (by omega) p
          rw [show ct * z + (k - ct * z) + 1 = k + 1 by omega] at h8
          rw [h8]
          have := (bl_hd_PM hV hfl ct (Nat.le_refl ct)).1 _ ((bl_off_PM hV (c := c) (by omega) (k - ct * z + 1) (by omega)).1 p hp)
          omega
      refine jx_aload_n (pc := 18) G dX2_choices_18 rfl 0 rfl ?_
      refine mc_i0 (pc := 19) G (fun _ _ => kM_countDifferent hn6 (by omega) hR9 hr9) (cwX2_countDifferent ⟨Nat.le_of_ble_eq_true rfl, Nat.le_of_ble_eq_true rfl⟩) (Nat.le_of_ble_eq_true rfl) dX2_choices_19 (fun r w' hq => ?_)
      obtain ⟨rfl, rfl⟩ := hq
      have hle := bl_df_le n (bl_row z fm fc (upN fl ct c)) (ct * z + z)
      refine jx_istore_nV (pc := 22) G dX2_choices_22 rfl (by decide) (bl_df n (bl_row z fm fc (upN fl ct c)) (ct * z + z)) rfl [(0, .ref o), (1, .int (nI al)), (2, .int (nI c)), (3, .int (nI (bl_df n (bl_row z fm fc (upN fl ct c)) (ct * z + z))))] rfl ?_
      refine jx_iload_n (pc := 23) G dX2_choices_23 rfl 3 rfl ?_
      refine jx_aload_n (pc := 24) G dX2_choices_24 rfl 0 rfl ?_
      refine mg_last (pc := 25) G dX2_choices_25 ?_
      refine jx_icmp_ne (pc := 28) (tgt := 34) G dX2_choices_28 (by decide) (by omega) (by omega) (fun h28 => ?_) (fun h28 => ?_)
      · have hnew : bl_ind (bl_df n (bl_row z fm fc (upN fl ct c)) (ct * z + z) = ct * z + z) = 0 := bl_ind_f h28
        refine jx_iincV (pc := 34) G dX2_choices_34 kc_1 (by decide) 2 rfl (c + 1) rfl [(0, .ref o), (1, .int (nI al)), (2, .int (nI (c + 1))), (3, .int (nI (bl_df n (bl_row z fm fc (upN fl ct c)) (ct * z + z))))] rfl ?_
        refine jx_goto (pc := 37) (tgt := 4) G dX2_choices_37 (by decide) ?_
        exact jx_sub (lv' := [(0, .ref o), (1, .int (nI al)), (2, .int (nI (c + 1)))]) [0, 1, 2] rfl (ih4 _ (by omega) (c + 1) al _ _ _ rfl (by omega) (by show al = bl_sum (fun c => bl_ind (bl_df n (bl_row z fm fc (upN fl ct c)) (ct * z + z) = ct * z + z)) c + bl_ind (bl_df n (bl_row z fm fc (upN fl ct c)) (ct * z + z) = ct * z + z); rw [hnew]; omega))
      · have hnew : bl_ind (bl_df n (bl_row z fm fc (upN fl ct c)) (ct * z + z) = ct * z + z) = 1 := bl_ind_t h28
        refine jx_iinc (pc := 31) G dX2_choices_31 kc_1 (by decide) 1 rfl (fun v => [(0, .ref o), (1, .int (nI v)), (2, .int (nI c)), (3, .int (nI (bl_df n (bl_row z fm fc (upN fl ct c)) (ct * z + z))))]) (fun _ => rfl) (fun u1_31 eu1_31 => ?_)
        refine jx_iincV (pc := 34) G dX2_choices_34 kc_1 (by decide) 2 rfl (c + 1) rfl [(0, .ref o), (1, .int (nI u1_31)), (2, .int (nI (c + 1))), (3, .int (nI (bl_df n (bl_row z fm fc (upN fl ct c)) (ct * z + z))))] rfl ?_
        refine jx_goto (pc := 37) (tgt := 4) G dX2_choices_37 (by decide) ?_
        exact jx_sub (lv' := [(0, .ref o), (1, .int (nI u1_31)), (2, .int (nI (c + 1)))]) [0, 1, 2] rfl (ih4 _ (by omega) (c + 1) u1_31 _ _ _ rfl (by omega) (by show u1_31 = bl_sum (fun c => bl_ind (bl_df n (bl_row z fm fc (upN fl ct c)) (ct * z + z) = ct * z + z)) c + bl_ind (bl_df n (bl_row z fm fc (upN fl ct c)) (ct * z + z) = ct * z + z); rw [hnew]; omega))
  exact lp4 _ 0 0 la fb fr rfl (by omega) rfl
end MC
end
section
set_option maxRecDepth 100000
/-! rows of constructors: Object's own, new arrays, final fields -/
def jx_N (x : JX) : Prop := match x with
  | (_, _, _, _, _, _, _, _, meth, _, _, _, _, _) => meth.name = "<init>"
section JN
variable {x : JX} {cb ci : ClassId} {cc : ByteArray} {nL c0 c1 : Nat} {own : String} {rm : Room} {ret : Option FieldType} {w : va_W} {pc : Nat} {lv : List (Nat × Value)} {st : List Value}
theorem jx_objInit (G : jx_G x cb ci cc nL own rm ret) {idx y : Nat} (hd : decode cc pc = .ok (.invokespecial idx, 3)) (hk : Cond.methodLink own idx Lib.objectInit ∈ lw_all) (hf : 1 ≤ rm.frames) (hlo : 12 ≤ rm.locals) (h : jx_J x c0 c1 w (pc + 3) lv []) : jx_J x c0 c1 w pc lv [.ref y] := by
  obtain ⟨p, l, e, R, s, m, args, below, meth, c, D, A, n0, Q⟩ := x
  obtain ⟨hx, hb, hml, rfl, rfl, hown, hts, hK, hA, -⟩ := G
  exact fun H locs ls hP hD hS hl => W.objInit hx hb hown (hts _ hk) (hts _ q38) (hts _ q39) rfl (by rw [hml]; exact hl.1) rfl hd hf hlo (h H locs ls hP hD hS hl)
theorem jx_newb (G : jx_G x cb ci cc nL own rm ret) {k : Nat} (hd : decode cc pc = .ok (.newarray .byte, 2)) (hk : k ≤ 1000) (hc : c0 + 1 ≤ rm.cells) (hs : c1 + k ≤ rm.slots) (h : ∀ q : Nat, jx_J x (c0 + 1) (c1 + k) (w ++ [(q, .inl (cb, k, .inl (fun _ => nI 0)))]) (pc + 2) lv (.ref q :: st)) : jx_J x c0 c1 w pc lv (.int (nI k) :: st) := by
  obtain ⟨p, l, e, R, s, m, args, below, meth, c, D, A, n0, Q⟩ := x
  obtain ⟨hx, hb, hml, rfl, rfl, hown, hts, hK, hA, -⟩ := G
  refine fun H locs ls hP hD hS hl => va_newa (atype := .byte) (ty := .byte) (a0 := (k, .inl (fun _ => nI 0))) hx hb (hts _ q80) rfl hK hP hD hS hA (fun cA => by rw [vp_cell_i, nI_0]; rfl) (nI_pos (by omega)) (nI_clamp (by omega)) (Nat.le_trans (Nat.mul_le_mul_right _ hk) (by decide)) hc hs hd (fun q cA H1 hK1 hP1 hD1 hS1 => ?_)
  have e1 := (hK1.2 2 (cA, .byte) rfl).2
  have e2 := (hK.2 0 (cb, .byte) rfl).2
  have e3 : cA = cb := Option.some.inj (Eq.trans (Eq.symm e1) e2)
  subst e3
  exact h q H1 locs ls hP1 hD1 hS1 hl
theorem jx_newi (G : jx_G x cb ci cc nL own rm ret) {k : Nat} (hd : decode cc pc = .ok (.newarray .int, 2)) (hk : k ≤ 1000) (hc : c0 + 1 ≤ rm.cells) (hs : c1 + k ≤ rm.slots) (h : ∀ q : Nat, jx_J x (c0 + 1) (c1 + k) (w ++ [(q, .inl (ci, k, .inl (fun _ => nI 0)))]) (pc + 2) lv (.ref q :: st)) : jx_J x c0 c1 w pc lv (.int (nI k) :: st) := by
  obtain ⟨p, l, e, R, s, m, args, below, meth, c, D, A, n0, Q⟩ := x
  obtain ⟨hx, hb, hml, rfl, rfl, hown, hts, hK, hA, -⟩ := G
  refine fun H locs ls hP hD hS hl => va_newa (atype := .int) (ty := .int) (a0 := (k, .inl (fun _ => nI 0))) hx hb (hts _ q81) rfl hK hP hD hS hA (fun cA => by rw [vp_cell_i, nI_0]; rfl) (nI_pos (by omega)) (nI_clamp (by omega)) (Nat.le_trans (Nat.mul_le_mul_right _ hk) (by decide)) hc hs hd (fun q cA H1 hK1 hP1 hD1 hS1 => ?_)
  have e1 := (hK1.2 2 (cA, .int) rfl).2
  have e2 := (hK.2 1 (ci, .int) rfl).2
  have e3 : cA = ci := Option.some.inj (Eq.trans (Eq.symm e1) e2)
  subst e3
  exact h q H1 locs ls hP1 hD1 hS1 hl
theorem jx_putF (G : jx_G x cb ci cc nL own rm ret) (N9 : jx_N x) {C : String} {T : u_T} {N ix idx k q0 o : Nat} {fs : List Value} {v : Value} {ty : FieldType} {w' : va_W} (hin : ∀ w ∈ u_ws C T N, w ∈ lw_all) (ty0 : Nat → FieldType) (hty : ∀ k, k < N → parseFieldDescriptor (T k).2.2.1 = some (ty0 k)) (hnm : ∀ a, a < N → ∀ b, b < N → a ≠ b → (T a).2.1 ≠ (T b).2.1) (he : w[q0]? = some (o, .inr (ix, fs))) (hc : clA[ix]? = some (C, T, N)) (hk : k < N) (hl : Cond.fieldLink own idx (T k).1 (T k).2.1 (T k).2.2.1 ∈ lw_all) (hfin : (T k).2.2.2 = true) (hdecl : (T k).1 = own) (hy : ty0 k = ty) (hn : narrow ty v = v) (hfit : fits ty v = true) (hlen : k < fs.length) (hw : w.set q0 (o, .inr (ix, fs.set k v)) = w') (hd : decode cc pc = .ok (.putfield idx, 3)) (h : jx_J x c0 c1 w' (pc + 3) lv st) : jx_J x c0 c1 w pc lv (v :: .ref o :: st) := by
  obtain ⟨p, l, e, R, s, m, args, below, meth, c, D, A, n0, Q⟩ := x
  obtain ⟨hx, hb, -, -, -, hown, hts, hK, -⟩ := G
  subst hw
  exact fun H locs ls hP hD hS hl' => va_putF hx hb hts hin ty0 hty hnm hown hK hP hD hS q0 he hc k hk (hts _ hl) (fun _ h9 => h9) hfin N9 hdecl ((hty k hk).trans (by rw [hy])) hn hfit hlen hd (fun H1 locs1 hP hD hS => h H1 locs1 ls hP hD hS hl')
end JN
section JO
variable {l : Launch} {D : va_G} {cb ci : ClassId} {y : MethodName} {cc : ByteArray} {maxL : Nat} {rm : Room} {av : List Value} {w : va_W} {mc ms : Nat}
theorem jx_Kn_of {post : va_W → Prop} (hy : plainName y.cls = true) (hyn : y.name = "<init>") (hsz : (lg_sl av).length ≤ maxL) (lv0 : List (Nat × Value)) (hlv : lv_args 0 av = lv0)
    (body : ∀ x : JX, jx_G x cb ci cc maxL y.cls rm none → jx_N x → (∀ (w' : va_W) (pc : Nat) (lv : List (Nat × Value)), post w' → decode cc pc = .ok (.return_, 1) → jx_J x mc ms w' pc lv []) → jx_J x 0 0 w 0 lv0 []) : jx_Kv l D cb ci y (ws_ y cc maxL none) rm mc ms av w post := by
  intro sz
  refine Met.ofW (cc := cc) (maxL := maxL) (ret := none) hy rfl ?_
  intro p e s m args below meth c s₁ B hml hv
  obtain ⟨rfl, hsz0, hP, hK, hD0⟩ := hv
  have hts := atoms_spec (ws := ws_ y cc maxL none) B.pre
  have hts : ∀ w ∈ lw_all, w.before _ s = true := fun w h => hts w (List.mem_cons_of_mem _ h)
  have hown : s.vm.findClass y.cls = some m.cls := findClass_of_methodNamed B.named
  have hlocks : meth.locks = false := B.notSynchronized
  have hin : meth.name = "<init>" := (name_of_methodNamed B.named B.method).1.trans hyn
  have hx := B.exec
  have hb := B.bytes
  have hr := B.returns
  subst hsz0
  have hl := lv_entry av (n := maxL) hsz
  rw [lg_entry_eq]
  rw [hlv] at hl
  refine body (p, l, e, (headSpec (ws_ y cc maxL none) rm).room, s, m, av.toArray, below, meth, c, D, va_A w s.heap.size, maxL, MQ below (va_Qv post (jx_B D cb ci (va_A w s.heap.size)) (va_A w s.heap.size)) av.toArray s mc ms (va_A w s.heap.size)) ⟨hx, hb, hml, rfl, rfl, hown, hts, hK, fun q h => Or.inr h, hlocks, hr⟩ hin (fun w' pc lv hp hd H locs ls hP hD hS hl => ?_) s.heap [] _ hP hD0.self va_S.rf hl
  exact W.vret hx hb hr (fun t ht hW => ⟨⟨w', rfl, hp, by rw [ht]; exact hP, va_K.moved hW.alike hK, hD⟩, hS.F ht⟩) hS.2.2 hd hlocks
end JO
/-- how many bells -/
def bl_nb (y : Int32) : Nat := if y < 3 then 3 else if 6 < y then 6 else y.toNatClampNeg
theorem bl_nb_neg {y : Int32} (h : y < 0) : bl_nb y = 3 := if_pos (jx_lt_neg (b := 3) h (by decide))
theorem bl_nb_nI {j : Nat} (h : j < 2 ^ 31) : bl_nb (nI j) = if j < 3 then 3 else if 6 < j then 6 else j := by
  unfold bl_nb
  have e3 : nI j < 3 ↔ j < 3 := nI_ltI (b := 3) h (by decide)
  have e6 : 6 < nI j ↔ 6 < j := nI_ltI (a := 6) (by decide) h
  rw [nI_clamp h]
  by_cases h1 : j < 3
  · rw [if_pos (e3.mpr h1), if_pos h1]
  · rw [if_neg (fun q => h1 (e3.mp q)), if_neg h1]
    by_cases h2 : 6 < j
    · rw [if_pos (e6.mpr h2), if_pos h2]
    · rw [if_neg (fun q => h2 (e6.mp q)), if_neg h2]
theorem bl_nb_in (y : Int32) : 3 ≤ bl_nb y ∧ bl_nb y ≤ 6 := by
  rcases bl_int y with h | ⟨j, hj, rfl⟩
  · rw [bl_nb_neg h]
    decide
  · rw [bl_nb_nI hj]
    split
    · decide
    · split <;> omega
def bl_a9 (q0 q1 q2 q3 q4 q5 q6 q7 q8 : Nat) : Nat → Nat := fun k => match k with
  | 0 => q0 | 1 => q1 | 2 => q2 | 3 => q3 | 4 => q4 | 5 => q5 | 6 => q6 | 7 => q7 | _ => q8
def bl_a5 (q0 q1 q2 q3 q4 : Nat) : Nat → Nat := fun k => match k with
  | 0 => q0 | 1 => q1 | 2 => q2 | 3 => q3 | _ => q4
end
section
set_option maxRecDepth 100000
section NP
variable {x : JX} {cb ci : ClassId} {cc : ByteArray} {nL c0 c1 : Nat} {rm : Room} {ret : Option FieldType} {pc : Nat} {lv : List (Nat × Value)} {st : List Value} {o : Nat} {a : Nat → Nat} {n z ct kn la v9 : Nat} {fm fc fl fo fh ff ft fi fd fb fr : Nat → Nat}
theorem xn_put (G : jx_G x cb ci cc nL RX1 rm ret) (N9 : jx_N x) (hd : decode cc pc = .ok (.putfield 38, 3)) (h : jx_J x c0 c1 (XC cb ci o a v9 z fm fc ct fl kn fo fh ff ft fi fd) (pc + 3) lv st) : jx_J x c0 c1 (XC cb ci o a n z fm fc ct fl kn fo fh ff ft fi fd) pc lv (.int (nI v9) :: .ref o :: st) := jx_putF (C := RX1) (T := TX1) (N := 13) (ix := 0) (k := 0) (q0 := 0) (ty := .int) G N9 in_X1 tyX1 tyX1_ok nmX1 rfl rfl (by decide) q40 rfl rfl rfl rfl rfl (Nat.le_of_ble_eq_true rfl) rfl hd h
theorem mn_put (G : jx_G x cb ci cc nL RX2 rm ret) (hd : decode cc pc = .ok (.putfield 29, 3)) (h : jx_J x c0 c1 (MC cb ci o a v9 z fm fc ct fl fb la fr) (pc + 3) lv st) : jx_J x c0 c1 (MC cb ci o a n z fm fc ct fl fb la fr) pc lv (.int (nI v9) :: .ref o :: st) := jx_put (C := RX2) (T := TX2) (N := 9) (ix := 1) (k := 0) (q0 := 0) (ty := .int) G in_X2 tyX2 tyX2_ok nmX2 rfl rfl (by decide) q231 rfl rfl rfl rfl (Nat.le_of_ble_eq_true rfl) rfl hd h
end NP
set_option maxHeartbeats 4000000 in
theorem kX_init {l : Launch} {D : va_G} {cb ci : ClassId} {o : Nat} (y : Int32) : jx_Kv l D cb ci yX1_init wsX1_init rmX1_init 9 637 [.ref o, .int y] [(o, .inr (0, [.int (nI 0), .int (nI 0), .null, .null, .int (nI 0), .null, .int (nI 0), .null, .null, .null, .null, .null, .null]))] (fun w' => ∃ (a fm fc fl fo fh ff ft fi fd : Nat → Nat), fm 0 = 2 ^ bl_nb y - 1 ∧ fc 1 = 2 ^ bl_nb y - 1 ∧ fc 2 = 2 ^ bl_nb y - 1 ∧ w' = XC cb ci o a (bl_nb y) 1 fm fc 0 fl 0 fo fh ff ft fi fd) := by
  refine jx_Kn_of (by decide) rfl (Nat.le_of_ble_eq_true rfl) [(0, .ref o), (1, .int y)] rfl ?_
  intro x G N9 E
  refine jx_aload_n (pc := 0) G dX1_init_0 rfl 0 rfl ?_
  refine jx_objInit (pc := 1) G dX1_init_1 q37 (by decide) (by decide) ?_
  refine jx_aload_n (pc := 4) G dX1_init_4 rfl 0 rfl ?_
  refine jx_bipush (pc := 5) G dX1_init_5 kb_12 ?_
  refine jx_newb (pc := 7) G dX1_init_7 (by decide) (Nat.le_of_ble_eq_true rfl) (Nat.le_of_ble_eq_true rfl) (fun q_method => ?_)
  refine jx_putF (pc := 9) (C := RX1) (T := TX1) (N := 13) (ix := 0) (k := 2) (q0 := 0) (ty := .array .byte) (w' := [(o, .inr (0, [.int (nI 0), .int (nI 0), .ref q_method, .null, .int (nI 0), .null, .int (nI 0), .null, .null, .null, .null, .null, .null])), (q_method, .inl (cb, 12, .inl (fun _ => nI 0)))]) G N9 in_X1 tyX1 tyX1_ok nmX1 rfl rfl (by decide) q42 rfl rfl rfl rfl rfl (Nat.le_of_ble_eq_true rfl) rfl dX1_init_9 ?_
  refine jx_aload_n (pc := 12) G dX1_init_12 rfl 0 rfl ?_
  refine jx_iconst (pc := 13) G dX1_init_13 kc_3 ?_
  refine jx_newb (pc := 14) G dX1_init_14 (by decide) (Nat.le_of_ble_eq_true rfl) (Nat.le_of_ble_eq_true rfl) (fun q_callChange => ?_)
  refine jx_putF (pc := 16) (C := RX1) (T := TX1) (N := 13) (ix := 0) (k := 3) (q0 := 0) (ty := .array .byte) (w' := [(o, .inr (0, [.int (nI 0), .int (nI 0), .ref q_method, .ref q_callChange, .int (nI 0), .null, .int (nI 0), .null, .null, .null, .null, .null, .null])), (q_method, .inl (cb, 12, .inl (fun _ => nI 0))), (q_callChange, .inl (cb, 3, .inl (fun _ => nI 0)))]) G N9 in_X1 tyX1 tyX1_ok nmX1 rfl rfl (by decide) q43 rfl rfl rfl rfl rfl (Nat.le_of_ble_eq_true rfl) rfl dX1_init_16 ?_
  refine jx_aload_n (pc := 19) G dX1_init_19 rfl 0 rfl ?_
  refine jx_bipush (pc := 20) G dX1_init_20 kb_20 ?_
  refine jx_newb (pc := 22) G dX1_init_22 (by decide) (Nat.le_of_ble_eq_true rfl) (Nat.le_of_ble_eq_true rfl) (fun q_calls => ?_)
  refine jx_putF (pc := 24) (C := RX1) (T := TX1) (N := 13) (ix := 0) (k := 5) (q0 := 0) (ty := .array .byte) (w' := [(o, .inr (0, [.int (nI 0), .int (nI 0), .ref q_method, .ref q_callChange, .int (nI 0), .ref q_calls, .int (nI 0), .null, .null, .null, .null, .null, .null])), (q_method, .inl (cb, 12, .inl (fun _ => nI 0))), (q_callChange, .inl (cb, 3, .inl (fun _ => nI 0))), (q_calls, .inl (cb, 20, .inl (fun _ => nI 0)))]) G N9 in_X1 tyX1 tyX1_ok nmX1 rfl rfl (by decide) q45 rfl rfl rfl rfl rfl (Nat.le_of_ble_eq_true rfl) rfl dX1_init_24 ?_
  refine jx_aload_n (pc := 27) G dX1_init_27 rfl 0 rfl ?_
  refine jx_sipush (pc := 28) G dX1_init_28 ks_234 ?_
  refine jx_newb (pc := 31) G dX1_init_31 (by decide) (Nat.le_of_ble_eq_true rfl) (Nat.le_of_ble_eq_true rfl) (fun q_offset => ?_)
  refine jx_putF (pc := 33) (C := RX1) (T := TX1) (N := 13) (ix := 0) (k := 7) (q0 := 0) (ty := .array .byte) (w' := [(o, .inr (0, [.int (nI 0), .int (nI 0), .ref q_method, .ref q_callChange, .int (nI 0), .ref q_calls, .int (nI 0), .ref q_offset, .null, .null, .null, .null, .null])), (q_method, .inl (cb, 12, .inl (fun _ => nI 0))), (q_callChange, .inl (cb, 3, .inl (fun _ => nI 0))), (q_calls, .inl (cb, 20, .inl (fun _ => nI 0))), (q_offset, .inl (cb, 234, .inl (fun _ => nI 0)))]) G N9 in_X1 tyX1 tyX1_ok nmX1 rfl rfl (by decide) q47 rfl rfl rfl rfl rfl (Nat.le_of_ble_eq_true rfl) rfl dX1_init_33 ?_
  refine jx_aload_n (pc := 36) G dX1_init_36 rfl 0 rfl ?_
  refine jx_bipush (pc := 37) G dX1_init_37 kb_126 ?_
  refine jx_newb (pc := 39) G dX1_init_39 (by decide) (Nat.le_of_ble_eq_true rfl) (Nat.le_of_ble_eq_true rfl) (fun q_head => ?_)
  refine jx_putF (pc := 41) (C := RX1) (T := TX1) (N := 13) (ix := 0) (k := 8) (q0 := 0) (ty := .array .byte) (w' := [(o, .inr (0, [.int (nI 0), .int (nI 0), .ref q_method, .ref q_callChange, .int (nI 0), .ref q_calls, .int (nI 0), .ref q_offset, .ref q_head, .null, .null, .null, .null])), (q_method, .inl (cb, 12, .inl (fun _ => nI 0))), (q_callChange, .inl (cb, 3, .inl (fun _ => nI 0))), (q_calls, .inl (cb, 20, .inl (fun _ => nI 0))), (q_offset, .inl (cb, 234, .inl (fun _ => nI 0))), (q_head, .inl (cb, 126, .inl (fun _ => nI 0)))]) G N9 in_X1 tyX1 tyX1_ok nmX1 rfl rfl (by decide) q48 rfl rfl rfl rfl rfl (Nat.le_of_ble_eq_true rfl) rfl dX1_init_41 ?_
  refine jx_aload_n (pc := 44) G dX1_init_44 rfl 0 rfl ?_
  refine jx_sipush (pc := 45) G dX1_init_45 ks_207 ?_
  refine jx_newi (pc := 48) G dX1_init_48 (by decide) (Nat.le_of_ble_eq_true rfl) (Nat.le_of_ble_eq_true rfl) (fun q_falseSet => ?_)
  refine jx_putF (pc := 50) (C := RX1) (T := TX1) (N := 13) (ix := 0) (k := 9) (q0 := 0) (ty := .array .int) (w' := [(o, .inr (0, [.int (nI 0), .int (nI 0), .ref q_method, .ref q_callChange, .int (nI 0), .ref q_calls, .int (nI 0), .ref q_offset, .ref q_head, .ref q_falseSet, .null, .null, .null])), (q_method, .inl (cb, 12, .inl (fun _ => nI 0))), (q_callChange, .inl (cb, 3, .inl (fun _ => nI 0))), (q_calls, .inl (cb, 20, .inl (fun _ => nI 0))), (q_offset, .inl (cb, 234, .inl (fun _ => nI 0))), (q_head, .inl (cb, 126, .inl (fun _ => nI 0))), (q_falseSet, .inl (ci, 207, .inl (fun _ => nI 0)))]) G N9 in_X1 tyX1 tyX1_ok nmX1 rfl rfl (by decide) q49 rfl rfl rfl rfl rfl (Nat.le_of_ble_eq_true rfl) rfl dX1_init_50 ?_
  refine jx_aload_n (pc := 53) G dX1_init_53 rfl 0 rfl ?_
  refine jx_bipush (pc := 54) G dX1_init_54 kb_23 ?_
  refine jx_newi (pc := 56) G dX1_init_56 (by decide) (Nat.le_of_ble_eq_true rfl) (Nat.le_of_ble_eq_true rfl) (fun q_met => ?_)
  refine jx_putF (pc := 58) (C := RX1) (T := TX1) (N := 13) (ix := 0) (k := 10) (q0 := 0) (ty := .array .int) (w' := [(o, .inr (0, [.int (nI 0), .int (nI 0), .ref q_method, .ref q_callChange, .int (nI 0), .ref q_calls, .int (nI 0), .ref q_offset, .ref q_head, .ref q_falseSet, .ref q_met, .null, .null])), (q_method, .inl (cb, 12, .inl (fun _ => nI 0))), (q_callChange, .inl (cb, 3, .inl (fun _ => nI 0))), (q_calls, .inl (cb, 20, .inl (fun _ => nI 0))), (q_offset, .inl (cb, 234, .inl (fun _ => nI 0))), (q_head, .inl (cb, 126, .inl (fun _ => nI 0))), (q_falseSet, .inl (ci, 207, .inl (fun _ => nI 0))), (q_met, .inl (ci, 23, .inl (fun _ => nI 0)))]) G N9 in_X1 tyX1 tyX1_ok nmX1 rfl rfl (by decide) q50 rfl rfl rfl rfl rfl (Nat.le_of_ble_eq_true rfl) rfl dX1_init_58 ?_
  refine jx_aload_n (pc := 61) G dX1_init_61 rfl 0 rfl ?_
  refine jx_bipush (pc := 62) G dX1_init_62 kb_6 ?_
  refine jx_newb (pc := 64) G dX1_init_64 (by decide) (Nat.le_of_ble_eq_true rfl) (Nat.le_of_ble_eq_true rfl) (fun q_inverse => ?_)
  refine jx_putF (pc := 66) (C := RX1) (T := TX1) (N := 13) (ix := 0) (k := 11) (q0 := 0) (ty := .array .byte) (w' := [(o, .inr (0, [.int (nI 0), .int (nI 0), .ref q_method, .ref q_callChange, .int (nI 0), .ref q_calls, .int (nI 0), .ref q_offset, .ref q_head, .ref q_falseSet, .ref q_met, .ref q_inverse, .null])), (q_method, .inl (cb, 12, .inl (fun _ => nI 0))), (q_callChange, .inl (cb, 3, .inl (fun _ => nI 0))), (q_calls, .inl (cb, 20, .inl (fun _ => nI 0))), (q_offset, .inl (cb, 234, .inl (fun _ => nI 0))), (q_head, .inl (cb, 126, .inl (fun _ => nI 0))), (q_falseSet, .inl (ci, 207, .inl (fun _ => nI 0))), (q_met, .inl (ci, 23, .inl (fun _ => nI 0))), (q_inverse, .inl (cb, 6, .inl (fun _ => nI 0)))]) G N9 in_X1 tyX1 tyX1_ok nmX1 rfl rfl (by decide) q51 rfl rfl rfl rfl rfl (Nat.le_of_ble_eq_true rfl) rfl dX1_init_66 ?_
  refine jx_aload_n (pc := 69) G dX1_init_69 rfl 0 rfl ?_
  refine jx_bipush (pc := 70) G dX1_init_70 kb_6 ?_
  refine jx_newb (pc := 72) G dX1_init_72 (by decide) (Nat.le_of_ble_eq_true rfl) (Nat.le_of_ble_eq_true rfl) (fun q_made => ?_)
  refine jx_putF (pc := 74) (C := RX1) (T := TX1) (N := 13) (ix := 0) (k := 12) (q0 := 0) (ty := .array .byte) (w' := [(o, .inr (0, [.int (nI 0), .int (nI 0), .ref q_method, .ref q_callChange, .int (nI 0), .ref q_calls, .int (nI 0), .ref q_offset, .ref q_head, .ref q_falseSet, .ref q_met, .ref q_inverse, .ref q_made])), (q_method, .inl (cb, 12, .inl (fun _ => nI 0))), (q_callChange, .inl (cb, 3, .inl (fun _ => nI 0))), (q_calls, .inl (cb, 20, .inl (fun _ => nI 0))), (q_offset, .inl (cb, 234, .inl (fun _ => nI 0))), (q_head, .inl (cb, 126, .inl (fun _ => nI 0))), (q_falseSet, .inl (ci, 207, .inl (fun _ => nI 0))), (q_met, .inl (ci, 23, .inl (fun _ => nI 0))), (q_inverse, .inl (cb, 6, .inl (fun _ => nI 0))), (q_made, .inl (cb, 6, .inl (fun _ => nI 0)))]) G N9 in_X1 tyX1 tyX1_ok nmX1 rfl rfl (by decide) q52 rfl rfl rfl rfl rfl (Nat.le_of_ble_eq_true rfl) rfl dX1_init_74 ?_
  have h36 := bl_nb_in y
  have cj : ∀ n, n = bl_nb y → jx_J x 9 637 (XC cb ci o (bl_a9 q_method q_callChange q_calls q_offset q_head q_falseSet q_met q_inverse q_made) 0 0 (fun _ => 0) (fun _ => 0) 0 (fun _ => 0) 0 (fun _ => 0) (fun _ => 0) (fun _ => 0) (fun _ => 0) (fun _ => 0) (fun _ => 0)) 99 [(0, .ref o), (1, .int y)] [.int (nI n), .ref o] := by
    intro n hn
    have h2n : 2 ^ n ≤ 64 := Nat.pow_le_pow_right (n := 2) (i := n) (j := 6) (by decide) (by omega)
    have h1n : 1 ≤ 2 ^ n := Nat.one_le_two_pow
    refine xn_put (pc := 99) G N9 dX1_init_99 ?_
    subst hn
    refine jx_aload_n (pc := 102) G dX1_init_102 rfl 0 rfl ?_
    refine jx_iconst (pc := 103) G dX1_init_103 kc_1 ?_
    refine xp_size (pc := 104) G dX1_init_104 ?_
    refine jx_aload_n (pc := 107) G dX1_init_107 rfl 0 rfl ?_
    refine xg_method (pc := 108) G dX1_init_108 ?_
    refine jx_iconst (pc := 111) G dX1_init_111 kc_0 ?_
    refine jx_iconst (pc := 112) G dX1_init_112 kc_1 ?_
    refine jx_aload_n (pc := 113) G dX1_init_113 rfl 0 rfl ?_
    refine xg_n (pc := 114) G dX1_init_114 ?_
    refine jx_ishlR (pc := 117) G dX1_init_117 (ns_1 (by omega)) ?_
    refine jx_iconst (pc := 118) G dX1_init_118 kc_1 ?_
    refine jx_isub (pc := 119) G dX1_init_119 (by omega) ?_
    refine jx_i2bR (pc := 120) G dX1_init_120 (nb_8 _ (by omega)) ?_
    refine xs_method (pc := 121) G dX1_init_121 (by omega) (by omega) ?_
    refine jx_aload_n (pc := 122) G dX1_init_122 rfl 0 rfl ?_
    refine xg_callChange (pc := 123) G dX1_init_123 ?_
    refine jx_iconst (pc := 126) G dX1_init_126 kc_1 ?_
    refine jx_aload_n (pc := 127) G dX1_init_127 rfl 0 rfl ?_
    refine xg_method (pc := 128) G dX1_init_128 ?_
    refine jx_iconst (pc := 131) G dX1_init_131 kc_0 ?_
    refine xl_method (pc := 132) G dX1_init_132 (by omega) ?_
    rw [upN_eq]
    refine xs_callChange (pc := 133) G dX1_init_133 (by omega) (by omega) ?_
    refine jx_aload_n (pc := 134) G dX1_init_134 rfl 0 rfl ?_
    refine xg_callChange (pc := 135) G dX1_init_135 ?_
    refine jx_iconst (pc := 138) G dX1_init_138 kc_2 ?_
    refine jx_aload_n (pc := 139) G dX1_init_139 rfl 0 rfl ?_
    refine xg_method (pc := 140) G dX1_init_140 ?_
    refine jx_iconst (pc := 143) G dX1_init_143 kc_0 ?_
    refine xl_method (pc := 144) G dX1_init_144 (by omega) ?_
    rw [upN_eq]
    refine xs_callChange (pc := 145) G dX1_init_145 (by omega) (by omega) ?_
    exact E _ 146 _ ⟨_, _, _, _, _, _, _, _, _, _, upN_eq, by rw [upN_ne (by decide), upN_eq], upN_eq, rfl⟩ dX1_init_146
  show jx_J x 9 637 (XC cb ci o (bl_a9 q_method q_callChange q_calls q_offset q_head q_falseSet q_met q_inverse q_made) 0 0 (fun _ => 0) (fun _ => 0) 0 (fun _ => 0) 0 (fun _ => 0) (fun _ => 0) (fun _ => 0) (fun _ => 0) (fun _ => 0) (fun _ => 0)) 77 [(0, .ref o), (1, .int y)] []
  refine jx_aload_n (pc := 77) G dX1_init_77 rfl 0 rfl ?_
  rcases bl_int y with h | ⟨j, hj, rfl⟩
  · refine jx_iload_n (pc := 78) G dX1_init_78 rfl 1 rfl ?_
    refine jx_iconst (pc := 79) G dX1_init_79 kc_3 ?_
    refine jx_icmp_ge_neg (pc := 80) (tgt := 87) G dX1_init_80 (by decide) h (by decide) ?_
    refine jx_iconst (pc := 83) G dX1_init_83 kc_3 ?_
    refine jx_goto (pc := 84) (tgt := 99) G dX1_init_84 (by decide) ?_
    exact cj 3 (bl_nb_neg h).symm
  · refine jx_iload_n (pc := 78) G dX1_init_78 rfl 1 rfl ?_
    refine jx_iconst (pc := 79) G dX1_init_79 kc_3 ?_
    refine jx_icmp_ge (pc := 80) (tgt := 87) G dX1_init_80 (by decide) (by omega) (by omega) (fun h80 => ?_) (fun h80 => ?_)
    · refine jx_iload_n (pc := 87) G dX1_init_87 rfl 1 rfl ?_
      refine jx_bipush (pc := 88) G dX1_init_88 kb_6 ?_
      refine jx_icmp_le (pc := 90) (tgt := 98) G dX1_init_90 (by decide) (by omega) (by omega) (fun h90 => ?_) (fun h90 => ?_)
      · refine jx_iload_n (pc := 98) G dX1_init_98 rfl 1 rfl ?_
        exact cj _ (by rw [bl_nb_nI hj]; first | (rw [if_pos (by omega)]) | (rw [if_neg (by omega), if_pos (by omega)]) | (rw [if_neg (by omega), if_neg (by omega)]))
      · refine jx_bipush (pc := 93) G dX1_init_93 kb_6 ?_
        refine jx_goto (pc := 95) (tgt := 99) G dX1_init_95 (by decide) ?_
        exact cj _ (by rw [bl_nb_nI hj]; first | (rw [if_pos (by omega)]) | (rw [if_neg (by omega), if_pos (by omega)]) | (rw [if_neg (by omega), if_neg (by omega)]))
    · refine jx_iconst (pc := 83) G dX1_init_83 kc_3 ?_
      refine jx_goto (pc := 84) (tgt := 99) G dX1_init_84 (by decide) ?_
      exact cj _ (by rw [bl_nb_nI hj]; first | (rw [if_pos (by omega)]) | (rw [if_neg (by omega), if_pos (by omega)]) | (rw [if_neg (by omega), if_neg (by omega)]))
set_option maxHeartbeats 4000000 in
theorem kM_init {l : Launch} {D : va_G} {cb ci : ClassId} {o : Nat} (y : Int32) : jx_Kv l D cb ci yX2_init wsX2_init rmX2_init 5 302 [.ref o, .int y] [(o, .inr (1, [.int (nI 0), .int (nI 0), .null, .null, .int (nI 0), .null, .null, .int (nI 0), .null]))] (fun w' => ∃ (a fm fc fl fb fr : Nat → Nat), fm 0 = 2 ^ bl_nb y - 1 ∧ fc 1 = 2 ^ bl_nb y - 1 ∧ fc 2 = 2 ^ bl_nb y - 1 ∧ w' = MC cb ci o a (bl_nb y) 1 fm fc 0 fl fb 0 fr) := by
  refine jx_Kv_of (by decide) (Nat.le_of_ble_eq_true rfl) [(0, .ref o), (1, .int y)] rfl ?_
  intro x G E
  refine jx_aload_n (pc := 0) G dX2_init_0 rfl 0 rfl ?_
  refine jx_objInit (pc := 1) G dX2_init_1 q230 (by decide) (by decide) ?_
  refine jx_aload_n (pc := 4) G dX2_init_4 rfl 0 rfl ?_
  refine jx_iconst (pc := 5) G dX2_init_5 kc_1 ?_
  refine jx_put (pc := 6) (C := RX2) (T := TX2) (N := 9) (ix := 1) (k := 1) (q0 := 0) (ty := .int) (w' := [(o, .inr (1, [.int (nI 0), .int (nI 1), .null, .null, .int (nI 0), .null, .null, .int (nI 0), .null]))]) G in_X2 tyX2 tyX2_ok nmX2 rfl rfl (by decide) q232 rfl rfl rfl rfl (Nat.le_of_ble_eq_true rfl) rfl dX2_init_6 ?_
  refine jx_aload_n (pc := 9) G dX2_init_9 rfl 0 rfl ?_
  refine jx_bipush (pc := 10) G dX2_init_10 kb_12 ?_
  refine jx_newi (pc := 12) G dX2_init_12 (by decide) (Nat.le_of_ble_eq_true rfl) (Nat.le_of_ble_eq_true rfl) (fun q_method => ?_)
  refine jx_put (pc := 14) (C := RX2) (T := TX2) (N := 9) (ix := 1) (k := 2) (q0 := 0) (ty := .array .int) (w' := [(o, .inr (1, [.int (nI 0), .int (nI 1), .ref q_method, .null, .int (nI 0), .null, .null, .int (nI 0), .null])), (q_method, .inl (ci, 12, .inl (fun _ => nI 0)))]) G in_X2 tyX2 tyX2_ok nmX2 rfl rfl (by decide) q233 rfl rfl rfl rfl (Nat.le_of_ble_eq_true rfl) rfl dX2_init_14 ?_
  refine jx_aload_n (pc := 17) G dX2_init_17 rfl 0 rfl ?_
  refine jx_iconst (pc := 18) G dX2_init_18 kc_3 ?_
  refine jx_newi (pc := 19) G dX2_init_19 (by decide) (Nat.le_of_ble_eq_true rfl) (Nat.le_of_ble_eq_true rfl) (fun q_calls => ?_)
  refine jx_put (pc := 21) (C := RX2) (T := TX2) (N := 9) (ix := 1) (k := 3) (q0 := 0) (ty := .array .int) (w' := [(o, .inr (1, [.int (nI 0), .int (nI 1), .ref q_method, .ref q_calls, .int (nI 0), .null, .null, .int (nI 0), .null])), (q_method, .inl (ci, 12, .inl (fun _ => nI 0))), (q_calls, .inl (ci, 3, .inl (fun _ => nI 0)))]) G in_X2 tyX2 tyX2_ok nmX2 rfl rfl (by decide) q234 rfl rfl rfl rfl (Nat.le_of_ble_eq_true rfl) rfl dX2_init_21 ?_
  refine jx_aload_n (pc := 24) G dX2_init_24 rfl 0 rfl ?_
  refine jx_bipush (pc := 25) G dX2_init_25 kb_21 ?_
  refine jx_newi (pc := 27) G dX2_init_27 (by decide) (Nat.le_of_ble_eq_true rfl) (Nat.le_of_ble_eq_true rfl) (fun q_leads => ?_)
  refine jx_put (pc := 29) (C := RX2) (T := TX2) (N := 9) (ix := 1) (k := 5) (q0 := 0) (ty := .array .int) (w' := [(o, .inr (1, [.int (nI 0), .int (nI 1), .ref q_method, .ref q_calls, .int (nI 0), .ref q_leads, .null, .int (nI 0), .null])), (q_method, .inl (ci, 12, .inl (fun _ => nI 0))), (q_calls, .inl (ci, 3, .inl (fun _ => nI 0))), (q_leads, .inl (ci, 21, .inl (fun _ => nI 0)))]) G in_X2 tyX2 tyX2_ok nmX2 rfl rfl (by decide) q236 rfl rfl rfl rfl (Nat.le_of_ble_eq_true rfl) rfl dX2_init_29 ?_
  refine jx_aload_n (pc := 32) G dX2_init_32 rfl 0 rfl ?_
  refine jx_bipush (pc := 33) G dX2_init_33 kb_6 ?_
  refine jx_newi (pc := 35) G dX2_init_35 (by decide) (Nat.le_of_ble_eq_true rfl) (Nat.le_of_ble_eq_true rfl) (fun q_bells => ?_)
  refine jx_put (pc := 37) (C := RX2) (T := TX2) (N := 9) (ix := 1) (k := 6) (q0 := 0) (ty := .array .int) (w' := [(o, .inr (1, [.int (nI 0), .int (nI 1), .ref q_method, .ref q_calls, .int (nI 0), .ref q_leads, .ref q_bells, .int (nI 0), .null])), (q_method, .inl (ci, 12, .inl (fun _ => nI 0))), (q_calls, .inl (ci, 3, .inl (fun _ => nI 0))), (q_leads, .inl (ci, 21, .inl (fun _ => nI 0))), (q_bells, .inl (ci, 6, .inl (fun _ => nI 0)))]) G in_X2 tyX2 tyX2_ok nmX2 rfl rfl (by decide) q237 rfl rfl rfl rfl (Nat.le_of_ble_eq_true rfl) rfl dX2_init_37 ?_
  refine jx_aload_n (pc := 40) G dX2_init_40 rfl 0 rfl ?_
  refine jx_sipush (pc := 41) G dX2_init_41 ks_260 ?_
  refine jx_newi (pc := 44) G dX2_init_44 (by decide) (Nat.le_of_ble_eq_true rfl) (Nat.le_of_ble_eq_true rfl) (fun q_rows => ?_)
  refine jx_put (pc := 46) (C := RX2) (T := TX2) (N := 9) (ix := 1) (k := 8) (q0 := 0) (ty := .array .int) (w' := [(o, .inr (1, [.int (nI 0), .int (nI 1), .ref q_method, .ref q_calls, .int (nI 0), .ref q_leads, .ref q_bells, .int (nI 0), .ref q_rows])), (q_method, .inl (ci, 12, .inl (fun _ => nI 0))), (q_calls, .inl (ci, 3, .inl (fun _ => nI 0))), (q_leads, .inl (ci, 21, .inl (fun _ => nI 0))), (q_bells, .inl (ci, 6, .inl (fun _ => nI 0))), (q_rows, .inl (ci, 260, .inl (fun _ => nI 0)))]) G in_X2 tyX2 tyX2_ok nmX2 rfl rfl (by decide) q239 rfl rfl rfl rfl (Nat.le_of_ble_eq_true rfl) rfl dX2_init_46 ?_
  have h36 := bl_nb_in y
  have cj : ∀ n, n = bl_nb y → jx_J x 5 302 (MC cb ci o (bl_a5 q_method q_calls q_leads q_bells q_rows) 0 1 (fun _ => 0) (fun _ => 0) 0 (fun _ => 0) (fun _ => 0) 0 (fun _ => 0)) 71 [(0, .ref o), (1, .int y)] [.int (nI n), .ref o] := by
    intro n hn
    have h2n : 2 ^ n ≤ 64 := Nat.pow_le_pow_right (n := 2) (i := n) (j := 6) (by decide) (by omega)
    have h1n : 1 ≤ 2 ^ n := Nat.one_le_two_pow
    refine mn_put (pc := 71) G dX2_init_71 ?_
    subst hn
    refine jx_aload_n (pc := 74) G dX2_init_74 rfl 0 rfl ?_
    refine mg_method (pc := 75) G dX2_init_75 ?_
    refine jx_iconst (pc := 78) G dX2_init_78 kc_0 ?_
    refine jx_iconst (pc := 79) G dX2_init_79 kc_1 ?_
    refine jx_aload_n (pc := 80) G dX2_init_80 rfl 0 rfl ?_
    refine mg_n (pc := 81) G dX2_init_81 ?_
    refine jx_ishlR (pc := 84) G dX2_init_84 (ns_1 (by omega)) ?_
    refine jx_iconst (pc := 85) G dX2_init_85 kc_1 ?_
    refine jx_isub (pc := 86) G dX2_init_86 (by omega) ?_
    refine ms_method (pc := 87) G dX2_init_87 (by omega) ?_
    refine jx_aload_n (pc := 88) G dX2_init_88 rfl 0 rfl ?_
    refine mg_calls (pc := 89) G dX2_init_89 ?_
    refine jx_iconst (pc := 92) G dX2_init_92 kc_1 ?_
    refine jx_aload_n (pc := 93) G dX2_init_93 rfl 0 rfl ?_
    refine mg_method (pc := 94) G dX2_init_94 ?_
    refine jx_iconst (pc := 97) G dX2_init_97 kc_0 ?_
    refine ml_method (pc := 98) G dX2_init_98 (by omega) ?_
    rw [upN_eq]
    refine ms_calls (pc := 99) G dX2_init_99 (by omega) ?_
    refine jx_aload_n (pc := 100) G dX2_init_100 rfl 0 rfl ?_
    refine mg_calls (pc := 101) G dX2_init_101 ?_
    refine jx_iconst (pc := 104) G dX2_init_104 kc_2 ?_
    refine jx_aload_n (pc := 105) G dX2_init_105 rfl 0 rfl ?_
    refine mg_method (pc := 106) G dX2_init_106 ?_
    refine jx_iconst (pc := 109) G dX2_init_109 kc_0 ?_
    refine ml_method (pc := 110) G dX2_init_110 (by omega) ?_
    rw [upN_eq]
    refine ms_calls (pc := 111) G dX2_init_111 (by omega) ?_
    exact E _ 112 _ ⟨_, _, _, _, _, _, upN_eq, by rw [upN_ne (by decide), upN_eq], upN_eq, rfl⟩ dX2_init_112
  show jx_J x 5 302 (MC cb ci o (bl_a5 q_method q_calls q_leads q_bells q_rows) 0 1 (fun _ => 0) (fun _ => 0) 0 (fun _ => 0) (fun _ => 0) 0 (fun _ => 0)) 49 [(0, .ref o), (1, .int y)] []
  refine jx_aload_n (pc := 49) G dX2_init_49 rfl 0 rfl ?_
  rcases bl_int y with h | ⟨j, hj, rfl⟩
  · refine jx_iload_n (pc := 50) G dX2_init_50 rfl 1 rfl ?_
    refine jx_iconst (pc := 51) G dX2_init_51 kc_3 ?_
    refine jx_icmp_ge_neg (pc := 52) (tgt := 59) G dX2_init_52 (by decide) h (by decide) ?_
    refine jx_iconst (pc := 55) G dX2_init_55 kc_3 ?_
    refine jx_goto (pc := 56) (tgt := 71) G dX2_init_56 (by decide) ?_
    exact cj 3 (bl_nb_neg h).symm
  · refine jx_iload_n (pc := 50) G dX2_init_50 rfl 1 rfl ?_
    refine jx_iconst (pc := 51) G dX2_init_51 kc_3 ?_
    refine jx_icmp_ge (pc := 52) (tgt := 59) G dX2_init_52 (by decide) (by omega) (by omega) (fun h52 => ?_) (fun h52 => ?_)
    · refine jx_iload_n (pc := 59) G dX2_init_59 rfl 1 rfl ?_
      refine jx_bipush (pc := 60) G dX2_init_60 kb_6 ?_
      refine jx_icmp_le (pc := 62) (tgt := 70) G dX2_init_62 (by decide) (by omega) (by omega) (fun h62 => ?_) (fun h62 => ?_)
      · refine jx_iload_n (pc := 70) G dX2_init_70 rfl 1 rfl ?_
        exact cj _ (by rw [bl_nb_nI hj]; first | (rw [if_pos (by omega)]) | (rw [if_neg (by omega), if_pos (by omega)]) | (rw [if_neg (by omega), if_neg (by omega)]))
      · refine jx_bipush (pc := 65) G dX2_init_65 kb_6 ?_
        refine jx_goto (pc := 67) (tgt := 71) G dX2_init_67 (by decide) ?_
        exact cj _ (by rw [bl_nb_nI hj]; first | (rw [if_pos (by omega)]) | (rw [if_neg (by omega), if_pos (by omega)]) | (rw [if_neg (by omega), if_neg (by omega)]))
    · refine jx_iconst (pc := 55) G dX2_init_55 kc_3 ?_
      refine jx_goto (pc := 56) (tgt := 71) G dX2_init_56 (by decide) ?_
      exact cj _ (by rw [bl_nb_nI hj]; first | (rw [if_pos (by omega)]) | (rw [if_neg (by omega), if_pos (by omega)]) | (rw [if_neg (by omega), if_neg (by omega)]))
end
section
set_option maxRecDepth 100000
/-! the plain laws: what BellRows computes is what BellRowsModel computes -/
theorem bl_sum_add (f : Nat → Nat) (a : Nat) : ∀ b, bl_sum f (a + b) = bl_sum f a + bl_sum (fun j => f (a + j)) b
  | 0 => rfl
  | b + 1 => by
    show bl_sum f (a + b) + f (a + b) = bl_sum f a + (bl_sum (fun j => f (a + j)) b + f (a + b))
    rw [bl_sum_add f a b]
    omega
theorem bl_sum_zero {f : Nat → Nat} : ∀ k, (∀ j, j < k → f j = 0) → bl_sum f k = 0
  | 0, _ => rfl
  | k + 1, h => by
    show bl_sum f k + f k = 0
    rw [bl_sum_zero k (fun j hj => h j (by omega)), h k (by omega)]
theorem bl_sum_eq0 {f : Nat → Nat} : ∀ k, bl_sum f k = 0 → ∀ j, j < k → f j = 0
  | 0, _, j, hj => absurd hj (by omega)
  | k + 1, h, j, hj => by
    have h1 : bl_sum f k + f k = 0 := h
    by_cases e : j = k
    · rw [e]; omega
    · exact bl_sum_eq0 k (by omega) j (by omega)
theorem bl_sum_mul {ct : Nat} {f : Nat → Nat → Nat} {h : Nat → Nat} (e : ∀ i j, j < ct → h (i * ct + j) = f i j) : ∀ i, bl_sum h (i * ct) = bl_sum (fun i => bl_sum (f i) ct) i
  | 0 => by rw [Nat.zero_mul]; rfl
  | i + 1 => by
    rw [Nat.succ_mul, bl_sum_add, bl_sum_mul e i]
    show _ = bl_sum (fun i => bl_sum (f i) ct) i + bl_sum (f i) ct
    rw [bl_sum_congr ct (fun j hj => e i j hj)]
theorem bl_sum_full {P : Nat → Prop} : ∀ N, bl_sum (fun k => bl_ind (P k)) N = N ↔ ∀ k, k < N → P k
  | 0 => ⟨fun _ k h => absurd h (by omega), fun _ => rfl⟩
  | N + 1 => by
    have h1 := bl_sum_le (f := fun k => bl_ind (P k)) (fun k => bl_ind_le _) N
    have h2 := bl_ind_le (P N)
    have h3 : bl_sum (fun k => bl_ind (P k)) (N + 1) = bl_sum (fun k => bl_ind (P k)) N + bl_ind (P N) := rfl
    have ih := bl_sum_full (P := P) N
    constructor
    · intro h k hk
      by_cases e : k = N
      · rw [e]
        exact bl_ind_1.mp (by omega)
      · exact ih.mp (by omega) k (by omega)
    · intro h
      rw [h3, ih.mpr (fun k hk => h k (by omega)), bl_ind_t (h N (by omega))]
theorem bl_df_full {n N : Nat} {R : Nat → Nat → Nat} : bl_df n R N = N ↔ ∀ k, k < N → bl_new n R k := bl_sum_full N
theorem bl_dm {ct i j : Nat} (hj : j < ct) : (i * ct + j) / ct = i ∧ (i * ct + j) % ct = j := by
  constructor
  · rw [Nat.mul_comm, Nat.mul_add_div (by omega), Nat.div_eq_of_lt hj, Nat.add_zero]
  · rw [Nat.mul_comm, Nat.mul_add_mod, Nat.mod_eq_of_lt hj]
/-- pairs of leads -/
theorem bl_cf_cm (n z : Nat) (fm fc : Nat → Nat) (ct : Nat) (fl : Nat → Nat) : bl_cf n z fm fc ct fl = bl_cm n z fm fc ct fl := by
  unfold bl_cf bl_cm
  rw [bl_sum_mul (f := fun i j => if i < j then bl_ind (bl_sh n z fm fc fl i (fl i) j (fl j)) else 0) (fun i j hj => by
    unfold bl_cfq
    rw [(bl_dm hj).1, (bl_dm hj).2]) ct]
  refine bl_sum_congr ct (fun i hi => ?_)
  have e : ct = (i + 1) + (ct - (i + 1)) := by omega
  have h := bl_sum_add (fun j => if i < j then bl_ind (bl_sh n z fm fc fl i (fl i) j (fl j)) else 0) (i + 1) (ct - (i + 1))
  rw [← e] at h
  show bl_sum (fun j => if i < j then bl_ind (bl_sh n z fm fc fl i (fl i) j (fl j)) else 0) ct = _
  rw [h, bl_sum_zero (i + 1) (fun j hj => if_neg (by omega)), Nat.zero_add]
  exact bl_sum_congr _ (fun t _ => if_pos (by omega))
/-- a touch of ct leads is true, said by leads -/
def bl_AT (n z : Nat) (fm fc : Nat → Nat) (ct : Nat) (fl : Nat → Nat) : Prop := (∀ i, i < ct → ¬ bl_al n z fm fc (fl i)) ∧ ∀ i j, i < j → j < ct → ¬ bl_sh n z fm fc fl i (fl i) j (fl j)
theorem bl_at_AT {n z : Nat} {fm fc : Nat → Nat} {ct : Nat} {fl : Nat → Nat} : bl_at n z fm fc ct fl ↔ bl_AT n z fm fc ct fl := by
  refine ⟨fun h => ⟨h.1, fun i j hij hj hs => ?_⟩, fun h => ⟨h.1, bl_sum_zero _ (fun q hq => ?_)⟩⟩
  · have h1 := bl_sum_eq0 (ct * ct) h.2 (i * ct + j) (by
      have := Nat.mul_le_mul_right ct (show i + 1 ≤ ct by omega)
      rw [Nat.succ_mul] at this
      omega)
    unfold bl_cfq at h1
    rw [(bl_dm hj).1, (bl_dm hj).2, if_pos hij, bl_ind_t hs] at h1
    cases h1
  · unfold bl_cfq
    split
    · rename_i hlt
      rcases Nat.eq_zero_or_pos ct with e | e
      · rw [e] at hq
        omega
      · exact bl_ind_f (h.2 _ _ hlt (Nat.mod_lt _ e))
    · rfl
/-- all rows are different just if the touch is true by leads -/
theorem bl_rows_AT {n z ct : Nat} {fm fc fl : Nat → Nat} (hz : 0 < z) (hV : bl_V n z fm fc) (hfl : ∀ i, i < ct → fl i < 3) : (∀ k, k < ct * z → bl_new n (bl_row z fm fc fl) k) ↔ bl_AT n z fm fc ct fl := by
  have hlt : ∀ i k, i < ct → k < z → i * z + k < ct * z := fun i k hi hk => by
    have := Nat.mul_le_mul_right z (show i + 1 ≤ ct by omega)
    rw [Nat.succ_mul] at this
    omega
  constructor
  · intro h
    refine ⟨fun i hi ha => ?_, fun i j hij hj hs => ?_⟩
    · obtain ⟨k, m, hm, hk, e⟩ := ha
      refine h (i * z + k) (hlt i k hi hk) (i * z + m) (by omega) (fun p hp => ?_)
      rw [bl_row_at fm fc fl (by omega), bl_row_at fm fc fl hk, e p hp]
    · obtain ⟨k, m, hk, hm, e⟩ := hs
      have h1 := Nat.mul_le_mul_right z (show i + 1 ≤ j by omega)
      rw [Nat.succ_mul] at h1
      refine h (j * z + m) (hlt j m hj hm) (i * z + k) (by omega) (fun p hp => ?_)
      rw [bl_row_at fm fc fl hk, bl_row_at fm fc fl hm, e p hp]
  · intro h K hK M hM e
    have hj : K / z < ct := Nat.div_lt_of_lt_mul (by rw [Nat.mul_comm]; exact hK)
    have hk : K % z < z := Nat.mod_lt _ hz
    have hm : M % z < z := Nat.mod_lt _ hz
    have eK := Nat.div_add_mod' K z
    have eM := Nat.div_add_mod' M z
    have hi : M / z ≤ K / z := Nat.div_le_div_right (by omega)
    have e2 : ∀ p, p < n → bl_hd z fm fc fl (M / z) (bl_off z fm fc (fl (M / z)) (M % z + 1) p) = bl_hd z fm fc fl (K / z) (bl_off z fm fc (fl (K / z)) (K % z + 1) p) := fun p hp => by
      have h1 := e p hp
      rw [← eK, ← eM, bl_row_at fm fc fl hm, bl_row_at fm fc fl hk] at h1
      exact h1
    by_cases hij : M / z = K / z
    · refine h.1 (K / z) hj ⟨K % z, M % z, ?_, hk, fun p hp => ?_⟩
      · rw [hij] at eM
        omega
      · have h1 := e2 p hp
        rw [hij] at h1
        have hP := bl_hd_PM hV hfl (K / z) (by omega)
        exact hP.2.1 _ _ ((bl_off_PM hV (hfl _ hj) _ (by omega)).1 p hp) ((bl_off_PM hV (hfl _ hj) _ (by omega)).1 p hp) h1
    · exact h.2 (M / z) (K / z) (by omega) hj ⟨M % z, K % z, hm, hk, e2⟩
theorem bl_at_df {n z ct : Nat} {fm fc fl : Nat → Nat} (hA : bl_AV n z fm fc ct fl) : bl_ind (bl_at n z fm fc ct fl) = bl_ind (bl_df n (bl_row z fm fc fl) (ct * z) = ct * z) := by
  obtain ⟨⟨hn3, hn6⟩, ⟨hz1, hz2⟩, hct, hV, hfl⟩ := hA
  exact bl_ind_iff (bl_at_AT.trans ((bl_rows_AT (by omega) hV hfl).symm.trans bl_df_full.symm))
theorem bl_al_df {n z c : Nat} {fm fc : Nat → Nat} : bl_ind (bl_al n z fm fc c) = bl_ind (bl_df n (bl_off z fm fc c) z < z) := by
  refine bl_ind_iff ⟨fun ⟨k, m, hm, hk, e⟩ => ?_, fun h => ?_⟩
  · have h1 := bl_df_le n (bl_off z fm fc c) z
    rcases Nat.lt_or_ge (bl_df n (bl_off z fm fc c) z) z with q | q
    · exact q
    · exact absurd e (bl_df_full.mp (show bl_df n (bl_off z fm fc c) z = z by omega) k hk m hm)
  · refine Classical.byContradiction (fun q => ?_)
    have h2 := bl_df_full.mpr (show ∀ k, k < z → bl_new n (bl_off z fm fc c) k from fun k hk m hm e => q ⟨k, m, hm, hk, e⟩)
    omega
theorem bl_sh_congr {n z ct i j c d : Nat} {fm fc fl fl2 : Nat → Nat} (h : ∀ t, t < ct → fl t = fl2 t) (hi : i ≤ ct) (hj : j ≤ ct) : bl_sh n z fm fc fl i c j d ↔ bl_sh n z fm fc fl2 i c j d := by
  have e1 := bl_hd_congr (z := z) (fm := fm) (fc := fc) i (fun t ht => h t (Nat.lt_of_lt_of_le ht hi))
  have e2 := bl_hd_congr (z := z) (fm := fm) (fc := fc) j (fun t ht => h t (Nat.lt_of_lt_of_le ht hj))
  constructor
  · rintro ⟨k, m, hk, hm, e⟩
    exact ⟨k, m, hk, hm, fun p hp => by rw [← e1, ← e2]; exact e p hp⟩
  · rintro ⟨k, m, hk, hm, e⟩
    exact ⟨k, m, hk, hm, fun p hp => by rw [e1, e2]; exact e p hp⟩
theorem bl_AT_more {n z ct c : Nat} {fm fc fl : Nat → Nat} : bl_AT n z fm fc (ct + 1) (upN fl ct c) ↔ bl_AT n z fm fc ct fl ∧ ¬ bl_al n z fm fc c ∧ ∀ i, i < ct → ¬ bl_sh n z fm fc fl i (fl i) ct c := by
  have hu : ∀ t, t < ct → upN fl ct c t = fl t := fun t ht => upN_ne (by omega)
  constructor
  · intro h
    refine ⟨⟨fun i hi => ?_, fun i j hij hj => ?_⟩, ?_, fun i hi => ?_⟩
    · have := h.1 i (by omega)
      rw [hu i hi] at this
      exact this
    · have := h.2 i j hij (by omega)
      rw [hu i (by omega), hu j hj] at this
      exact fun q => this ((bl_sh_congr hu (by omega) (by omega)).mpr q)
    · have := h.1 ct (by omega)
      rw [upN_eq] at this
      exact this
    · have := h.2 i ct hi (by omega)
      rw [hu i hi, upN_eq] at this
      exact fun q => this ((bl_sh_congr hu (by omega) (Nat.le_refl ct)).mpr q)
  · rintro ⟨h1, h2, h3⟩
    refine ⟨fun i hi => ?_, fun i j hij hj => ?_⟩
    · by_cases e : i = ct
      · rw [e, upN_eq]
        exact h2
      · rw [hu i (by omega)]
        exact h1.1 i (by omega)
    · rw [hu i (by omega)]
      by_cases e : j = ct
      · rw [e, upN_eq]
        exact fun q => h3 i (by omega) ((bl_sh_congr hu (by omega) (Nat.le_refl ct)).mp q)
      · rw [hu j (by omega)]
        exact fun q => h1.2 i j hij (by omega) ((bl_sh_congr hu (by omega) (by omega)).mp q)
theorem bl_choice {n z ct c : Nat} {fm fc fl : Nat → Nat} (hA : bl_AV n z fm fc ct fl) (hc : c < 3) : bl_ind (bl_at n z fm fc ct fl ∧ (¬ bl_al n z fm fc c ∧ ∀ i, i < ct → ¬ bl_sh n z fm fc fl i (fl i) ct c)) = bl_ind (bl_df n (bl_row z fm fc (upN fl ct c)) (ct * z + z) = ct * z + z) := by
  obtain ⟨⟨hn3, hn6⟩, ⟨hz1, hz2⟩, hct, hV, hfl⟩ := hA
  refine bl_ind_iff ?_
  rw [bl_df_full, ← Nat.succ_mul, bl_rows_AT (by omega) hV (fun i hi => ?_), Nat.succ_eq_add_one, bl_AT_more, bl_at_AT]
  by_cases e : i = ct
  · rw [e, upN_eq]
    exact hc
  · rw [upN_ne e]
    exact hfl i (by omega)
theorem bl_order_1 {P : Nat → Prop} {L1 L2 : Nat} (h1 : 0 < L1) (h2 : ∀ m, L1 ∣ m ↔ P m) (h3 : 0 < L2) (h4 : P L2) (h5 : ∀ s, 1 ≤ s → s < L2 → ¬ P s) : L1 = L2 := by
  have h6 := Nat.le_of_dvd h3 ((h2 L2).mpr h4)
  rcases Nat.lt_or_ge L1 L2 with q | q
  · exact absurd ((h2 L1).mp (Nat.dvd_refl L1)) (h5 L1 h1 q)
  · omega
theorem bl_ok_all : ∀ n, n < 7 → 3 ≤ n → ∀ p, p < n → bl_bit (2 ^ n - 1) p = 1 := by decide
theorem bl_ok_1 {n : Nat} (h3 : 3 ≤ n) (h6 : n ≤ 6) : bl_ok n (2 ^ n - 1) := by
  refine ⟨Nat.sub_lt (Nat.two_pow_pos n) (by decide), fun p hp hf => ?_⟩
  have h1 := (bl_fst_iff.mp hf).1
  rw [bl_ok_all n (by omega) h3 p hp] at h1
  cases h1
/-- a contract says less -/
theorem jx_Ki_mono {l : Launch} {D : va_G} {cb ci : ClassId} {y : MethodName} {ws : List Cond} {rm : Room} {mc ms : Nat} {av : List Value} {w : va_W} {post post' : Int32 → va_W → Prop} (h : jx_Ki l D cb ci y ws rm mc ms av w post) (hp : ∀ r w', post r w' → post' r w') : jx_Ki l D cb ci y ws rm mc ms av w post' := by
  intro sz p e ha hc hk s m args below hf happ hP hK
  obtain ⟨k, o, h1, h2, h3, ⟨⟨r, u, e1, e2, e3⟩, e4⟩, e5⟩ := h sz p e ha hc hk s m args below hf happ hP hK
  exact ⟨k, o, h1, h2, h3, ⟨⟨r, u, e1, hp r u e2, e3⟩, e4⟩, e5⟩
end
section
set_option maxRecDepth 100000
/-! each method of BellRows beside that of BellRowsModel: the same answer, and worlds of one state again -/
def bl_XS (cb ci : ClassId) (o : Nat) (a : Nat → Nat) (w : va_W) : Prop := ∃ (n z : Nat) (fm fc : Nat → Nat) (ct : Nat) (fl : Nat → Nat) (kn : Nat) (fo fh ff ft fi fd : Nat → Nat), w = XC cb ci o a n z fm fc ct fl kn fo fh ff ft fi fd
def bl_INV (cb ci : ClassId) (o : Nat) (a : Nat → Nat) (o2 : Nat) (a2 : Nat → Nat) (w1 w2 : va_W) : Prop := ∃ (n z : Nat) (fm fc : Nat → Nat) (ct : Nat) (fl : Nat → Nat), bl_AV n z fm fc ct fl ∧ bl_XI cb ci o a n z fm fc ct fl w1 ∧ bl_MI cb ci o2 a2 n z fm fc ct fl w2
def bl_PR (cb ci : ClassId) (o : Nat) (a : Nat → Nat) (o2 : Nat) (a2 : Nat → Nat) (y1 : MethodName) (s1 : List Cond) (r1 : Room) (av1 : List Value) (y2 : MethodName) (s2 : List Cond) (r2 : Room) (av2 : List Value) (w1 w2 : va_W) : Prop := ∃ (r : Int32) (P1 P2 : va_W → Prop), (∀ (l : Launch) (D : va_G), jx_Ki l D cb ci y1 s1 r1 0 0 (.ref o :: av1) w1 (fun r' w' => r' = r ∧ P1 w')) ∧ (∀ (l : Launch) (D : va_G), jx_Ki l D cb ci y2 s2 r2 0 0 (.ref o2 :: av2) w2 (fun r' w' => r' = r ∧ P2 w')) ∧ (∀ w, P1 w → bl_XS cb ci o a w) ∧ ∀ u1 u2, P1 u1 → P2 u2 → bl_INV cb ci o a o2 a2 u1 u2
section PR
variable {cb ci : ClassId} {o o2 : Nat} {a a2 : Nat → Nat} {n z ct kn la : Nat} {fm fc fl fo fh ff ft fi fd fb fr gm gc gl : Nat → Nat}
theorem bl_XIS {w : va_W} (h : bl_XI cb ci o a n z fm fc ct fl w) : bl_XS cb ci o a w := by
  obtain ⟨kn, fo, fh, ff, ft, fi, fd, e, -⟩ := h
  exact ⟨n, z, fm, fc, ct, fl, kn, fo, fh, ff, ft, fi, fd, e⟩
theorem bl_XSE : bl_XS cb ci o a (XC cb ci o a n z fm fc ct fl kn fo fh ff ft fi fd) := ⟨n, z, fm, fc, ct, fl, kn, fo, fh, ff, ft, fi, fd, rfl⟩
set_option maxHeartbeats 4000000 in
theorem pr_change (hA : bl_AV n z fm fc ct fl) (h1 : kn ≤ 1) (hk : kn = 1 → bl_OF n z fm fc fo ∧ bl_FS n z fm fc ff) (hg1 : ∀ k, k < z → gm k = fm k) (hg2 : ∀ c, 0 < c → c < 3 → gc c = fc c) (hg3 : ∀ i, i < ct → gl i = fl i) (y : Int32) : bl_PR cb ci o a o2 a2 yX1_change wsX1_change rmX1_change [.int y] yX2_change wsX2_change rmX2_change [.int y] (XC cb ci o a n z fm fc ct fl kn fo fh ff ft fi fd) (MC cb ci o2 a2 n z gm gc ct gl fb la fr) := by
  have hA0 := hA
  obtain ⟨⟨hn3, hn6⟩, ⟨hz1, hz2⟩, hct, hV, hfl⟩ := hA0
  have hcz := bl_ctz hct hz2
  have SI : bl_INV cb ci o a o2 a2 (XC cb ci o a n z fm fc ct fl kn fo fh ff ft fi fd) (MC cb ci o2 a2 n z gm gc ct gl fb la fr) := ⟨n, z, fm, fc, ct, fl, hA, ⟨kn, fo, fh, ff, ft, fi, fd, rfl, h1, hk⟩, ⟨gm, gc, gl, fb, la, fr, rfl, hg1, hg2, hg3⟩⟩
  by_cases hc : bl_chg n y
  · by_cases hz : z = 12
    · exact ⟨_, _, _, fun _ _ => kX_change_full hn6 hc hz, fun _ _ => kM_change_full hn6 hc hz, fun w h => by rw [h]; exact bl_XSE, fun u1 u2 e1 e2 => by rw [e1, e2]; exact SI⟩
    · obtain ⟨j, rfl, hj⟩ := hc
      refine ⟨_, _, _, fun _ _ => kX_change_ok hn6 hj (by omega), fun _ _ => kM_change_ok hn6 hj (by omega), fun w h => by rw [h]; exact bl_XSE, fun u1 u2 e1 e2 => ?_⟩
      rw [e1, e2]
      refine ⟨n, z + 1, upN fm z j, fc, ct, fl, ⟨⟨hn3, hn6⟩, ⟨by omega, by omega⟩, hct, ⟨fun k hk => ?_, hV.2⟩, hfl⟩, ⟨0, fo, fh, ff, ft, fi, fd, rfl, by omega, fun q => absurd q (by decide)⟩, ⟨upN gm z j, gc, gl, fb, la, fr, rfl, fun k hk => ?_, hg2, hg3⟩⟩
      · by_cases e : k = z
        · rw [e, upN_eq]
          exact hj
        · rw [upN_ne e]
          exact hV.1 k (by omega)
      · by_cases e : k = z
        · rw [e, upN_eq, upN_eq]
        · rw [upN_ne e, upN_ne e]
          exact hg1 k (by omega)
  · exact ⟨_, _, _, fun _ _ => kX_change_bad hn6 hc, fun _ _ => kM_change_bad hn6 hc, fun w h => by rw [h]; exact bl_XSE, fun u1 u2 e1 e2 => by rw [e1, e2]; exact SI⟩
set_option maxHeartbeats 4000000 in
theorem pr_drop (hA : bl_AV n z fm fc ct fl) (h1 : kn ≤ 1) (hk : kn = 1 → bl_OF n z fm fc fo ∧ bl_FS n z fm fc ff) (hg1 : ∀ k, k < z → gm k = fm k) (hg2 : ∀ c, 0 < c → c < 3 → gc c = fc c) (hg3 : ∀ i, i < ct → gl i = fl i) : bl_PR cb ci o a o2 a2 yX1_drop wsX1_drop rmX1_drop [] yX2_drop wsX2_drop rmX2_drop [] (XC cb ci o a n z fm fc ct fl kn fo fh ff ft fi fd) (MC cb ci o2 a2 n z gm gc ct gl fb la fr) := by
  have hA0 := hA
  obtain ⟨⟨hn3, hn6⟩, ⟨hz1, hz2⟩, hct, hV, hfl⟩ := hA0
  have hcz := bl_ctz hct hz2
  have SI : bl_INV cb ci o a o2 a2 (XC cb ci o a n z fm fc ct fl kn fo fh ff ft fi fd) (MC cb ci o2 a2 n z gm gc ct gl fb la fr) := ⟨n, z, fm, fc, ct, fl, hA, ⟨kn, fo, fh, ff, ft, fi, fd, rfl, h1, hk⟩, ⟨gm, gc, gl, fb, la, fr, rfl, hg1, hg2, hg3⟩⟩
  by_cases hz : z = 1
  · exact ⟨_, _, _, fun _ _ => kX_drop_1 hz, fun _ _ => kM_drop_1 hz, fun w h => by rw [h]; exact bl_XSE, fun u1 u2 e1 e2 => by rw [e1, e2]; exact SI⟩
  · refine ⟨_, _, _, fun _ _ => kX_drop_ok (by omega) hz2 (fun k hk => by have := bl_ok_64 hn6 (hV.1 k hk); omega), fun _ _ => jx_Ki_mono (kM_drop_ok (by omega) hz2) (fun r w' h => ⟨by rw [h.1, hg1 0 (by omega)], h.2⟩), fun w h => ?_, fun u1 u2 e1 e2 => ?_⟩
    · obtain ⟨fm', -, rfl⟩ := h
      exact bl_XSE
    · obtain ⟨fm', h5, rfl⟩ := e1
      obtain ⟨gm', h6, rfl⟩ := e2
      exact ⟨n, z - 1, fm', fc, ct, fl, ⟨⟨hn3, hn6⟩, ⟨by omega, by omega⟩, hct, ⟨fun k hk => by rw [h5 k hk]; exact hV.1 (k + 1) (by omega), hV.2⟩, hfl⟩, ⟨0, fo, fh, ff, ft, fi, fd, rfl, by omega, fun q => absurd q (by decide)⟩, ⟨gm', gc, gl, fb, la, fr, rfl, fun k hk => by rw [h5 k hk, h6 k hk]; exact hg1 (k + 1) (by omega), hg2, hg3⟩⟩
set_option maxHeartbeats 4000000 in
theorem pr_call (hA : bl_AV n z fm fc ct fl) (h1 : kn ≤ 1) (hk : kn = 1 → bl_OF n z fm fc fo ∧ bl_FS n z fm fc ff) (hg1 : ∀ k, k < z → gm k = fm k) (hg2 : ∀ c, 0 < c → c < 3 → gc c = fc c) (hg3 : ∀ i, i < ct → gl i = fl i) (u y : Int32) : bl_PR cb ci o a o2 a2 yX1_call wsX1_call rmX1_call [.int u, .int y] yX2_call wsX2_call rmX2_call [.int u, .int y] (XC cb ci o a n z fm fc ct fl kn fo fh ff ft fi fd) (MC cb ci o2 a2 n z gm gc ct gl fb la fr) := by
  have hA0 := hA
  obtain ⟨⟨hn3, hn6⟩, ⟨hz1, hz2⟩, hct, hV, hfl⟩ := hA0
  have hcz := bl_ctz hct hz2
  have SI : bl_INV cb ci o a o2 a2 (XC cb ci o a n z fm fc ct fl kn fo fh ff ft fi fd) (MC cb ci o2 a2 n z gm gc ct gl fb la fr) := ⟨n, z, fm, fc, ct, fl, hA, ⟨kn, fo, fh, ff, ft, fi, fd, rfl, h1, hk⟩, ⟨gm, gc, gl, fb, la, fr, rfl, hg1, hg2, hg3⟩⟩
  rcases bl_int u with hu | ⟨c, hc31, rfl⟩
  · exact ⟨_, _, _, fun _ _ => kX_call_neg hn6 hu, fun _ _ => kM_call_neg hu, fun w h => by rw [h]; exact bl_XSE, fun u1 u2 e1 e2 => by rw [e1, e2]; exact SI⟩
  · by_cases hb : 0 < c ∧ c < 3 ∧ bl_chg n y
    · obtain ⟨h0, hc3, j, rfl, hj⟩ := hb
      refine ⟨_, _, _, fun _ _ => kX_call_ok hn6 h0 hc3 hj, fun _ _ => jx_Ki_mono (kM_call_ok hn6 h0 hc3 hj) (fun r w' h => ⟨by rw [h.1, hg2 c h0 hc3], h.2⟩), fun w h => by rw [h]; exact bl_XSE, fun u1 u2 e1 e2 => ?_⟩
      rw [e1, e2]
      refine ⟨n, z, fm, upN fc c j, ct, fl, ⟨⟨hn3, hn6⟩, ⟨hz1, hz2⟩, hct, ⟨hV.1, fun d d0 d3 => ?_⟩, hfl⟩, ⟨0, fo, fh, ff, ft, fi, fd, rfl, by omega, fun q => absurd q (by decide)⟩, ⟨gm, upN gc c j, gl, fb, la, fr, rfl, hg1, fun d d0 d3 => ?_, hg3⟩⟩
      · by_cases e : d = c
        · rw [e, upN_eq]
          exact hj
        · rw [upN_ne e]
          exact hV.2 d d0 d3
      · by_cases e : d = c
        · rw [e, upN_eq, upN_eq]
        · rw [upN_ne e, upN_ne e]
          exact hg2 d d0 d3
    · exact ⟨_, _, _, fun _ _ => kX_call_bad hn6 hc31 hb, fun _ _ => kM_call_bad hn6 hc31 hb, fun w h => by rw [h]; exact bl_XSE, fun u1 u2 e1 e2 => by rw [e1, e2]; exact SI⟩
set_option maxHeartbeats 4000000 in
theorem pr_lead (hA : bl_AV n z fm fc ct fl) (h1 : kn ≤ 1) (hk : kn = 1 → bl_OF n z fm fc fo ∧ bl_FS n z fm fc ff) (hg1 : ∀ k, k < z → gm k = fm k) (hg2 : ∀ c, 0 < c → c < 3 → gc c = fc c) (hg3 : ∀ i, i < ct → gl i = fl i) (y : Int32) : bl_PR cb ci o a o2 a2 yX1_lead wsX1_lead rmX1_lead [.int y] yX2_lead wsX2_lead rmX2_lead [.int y] (XC cb ci o a n z fm fc ct fl kn fo fh ff ft fi fd) (MC cb ci o2 a2 n z gm gc ct gl fb la fr) := by
  have hA0 := hA
  obtain ⟨⟨hn3, hn6⟩, ⟨hz1, hz2⟩, hct, hV, hfl⟩ := hA0
  have hcz := bl_ctz hct hz2
  have SI : bl_INV cb ci o a o2 a2 (XC cb ci o a n z fm fc ct fl kn fo fh ff ft fi fd) (MC cb ci o2 a2 n z gm gc ct gl fb la fr) := ⟨n, z, fm, fc, ct, fl, hA, ⟨kn, fo, fh, ff, ft, fi, fd, rfl, h1, hk⟩, ⟨gm, gc, gl, fb, la, fr, rfl, hg1, hg2, hg3⟩⟩
  by_cases hy : bl_in 3 y
  · obtain ⟨c, hc, rfl⟩ := hy
    by_cases h20 : ct = 20
    · exact ⟨_, _, _, fun _ _ => kX_lead_full hc h20, fun _ _ => kM_lead_full hc h20, fun w h => by rw [h]; exact bl_XSE, fun u1 u2 e1 e2 => by rw [e1, e2]; exact SI⟩
    · refine ⟨_, _, _, fun _ _ => kX_lead_ok hc (by omega), fun _ _ => kM_lead_ok hc (by omega), fun w h => by rw [h]; exact bl_XSE, fun u1 u2 e1 e2 => ?_⟩
      rw [e1, e2]
      refine ⟨n, z, fm, fc, ct + 1, upN fl ct c, ⟨⟨hn3, hn6⟩, ⟨hz1, hz2⟩, by omega, hV, fun i hi => ?_⟩, ⟨kn, fo, fh, ff, ft, fi, fd, rfl, h1, hk⟩, ⟨gm, gc, upN gl ct c, fb, la, fr, rfl, hg1, hg2, fun i hi => ?_⟩⟩
      · by_cases e : i = ct
        · rw [e, upN_eq]
          exact hc
        · rw [upN_ne e]
          exact hfl i (by omega)
      · by_cases e : i = ct
        · rw [e, upN_eq, upN_eq]
        · rw [upN_ne e, upN_ne e]
          exact hg3 i (by omega)
  · exact ⟨_, _, _, fun _ _ => kX_lead_bad hy, fun _ _ => kM_lead_bad hy, fun w h => by rw [h]; exact bl_XSE, fun u1 u2 e1 e2 => by rw [e1, e2]; exact SI⟩
set_option maxHeartbeats 4000000 in
theorem pr_back (hA : bl_AV n z fm fc ct fl) (h1 : kn ≤ 1) (hk : kn = 1 → bl_OF n z fm fc fo ∧ bl_FS n z fm fc ff) (hg1 : ∀ k, k < z → gm k = fm k) (hg2 : ∀ c, 0 < c → c < 3 → gc c = fc c) (hg3 : ∀ i, i < ct → gl i = fl i) : bl_PR cb ci o a o2 a2 yX1_back wsX1_back rmX1_back [] yX2_back wsX2_back rmX2_back [] (XC cb ci o a n z fm fc ct fl kn fo fh ff ft fi fd) (MC cb ci o2 a2 n z gm gc ct gl fb la fr) := by
  have hA0 := hA
  obtain ⟨⟨hn3, hn6⟩, ⟨hz1, hz2⟩, hct, hV, hfl⟩ := hA0
  have hcz := bl_ctz hct hz2
  have SI : bl_INV cb ci o a o2 a2 (XC cb ci o a n z fm fc ct fl kn fo fh ff ft fi fd) (MC cb ci o2 a2 n z gm gc ct gl fb la fr) := ⟨n, z, fm, fc, ct, fl, hA, ⟨kn, fo, fh, ff, ft, fi, fd, rfl, h1, hk⟩, ⟨gm, gc, gl, fb, la, fr, rfl, hg1, hg2, hg3⟩⟩
  by_cases h0 : ct = 0
  · exact ⟨_, _, _, fun _ _ => kX_back_0 h0, fun _ _ => kM_back_0 h0, fun w h => by rw [h]; exact bl_XSE, fun u1 u2 e1 e2 => by rw [e1, e2]; exact SI⟩
  · refine ⟨_, _, _, fun _ _ => kX_back_ok (by omega) hct, fun _ _ => jx_Ki_mono (kM_back_ok (by omega) hct) (fun r w' h => ⟨by rw [h.1, hg3 (ct - 1) (by omega)], h.2⟩), fun w h => by rw [h]; exact bl_XSE, fun u1 u2 e1 e2 => ?_⟩
    rw [e1, e2]
    exact ⟨n, z, fm, fc, ct - 1, fl, ⟨⟨hn3, hn6⟩, ⟨hz1, hz2⟩, by omega, hV, fun i hi => hfl i (by omega)⟩, ⟨kn, fo, fh, ff, ft, fi, fd, rfl, h1, hk⟩, ⟨gm, gc, gl, fb, la, fr, rfl, hg1, hg2, fun i hi => hg3 i (by omega)⟩⟩
set_option maxHeartbeats 4000000 in
theorem pr_turn (hA : bl_AV n z fm fc ct fl) (h1 : kn ≤ 1) (hk : kn = 1 → bl_OF n z fm fc fo ∧ bl_FS n z fm fc ff) (hg1 : ∀ k, k < z → gm k = fm k) (hg2 : ∀ c, 0 < c → c < 3 → gc c = fc c) (hg3 : ∀ i, i < ct → gl i = fl i) : bl_PR cb ci o a o2 a2 yX1_turn wsX1_turn rmX1_turn [] yX2_turn wsX2_turn rmX2_turn [] (XC cb ci o a n z fm fc ct fl kn fo fh ff ft fi fd) (MC cb ci o2 a2 n z gm gc ct gl fb la fr) := by
  have hA0 := hA
  obtain ⟨⟨hn3, hn6⟩, ⟨hz1, hz2⟩, hct, hV, hfl⟩ := hA0
  have hcz := bl_ctz hct hz2
  have SI : bl_INV cb ci o a o2 a2 (XC cb ci o a n z fm fc ct fl kn fo fh ff ft fi fd) (MC cb ci o2 a2 n z gm gc ct gl fb la fr) := ⟨n, z, fm, fc, ct, fl, hA, ⟨kn, fo, fh, ff, ft, fi, fd, rfl, h1, hk⟩, ⟨gm, gc, gl, fb, la, fr, rfl, hg1, hg2, hg3⟩⟩
  by_cases h0 : ct = 0
  · exact ⟨_, _, _, fun _ _ => kX_turn_0 h0, fun _ _ => kM_turn_0 h0, fun w h => by rw [h]; exact bl_XSE, fun u1 u2 e1 e2 => by rw [e1, e2]; exact SI⟩
  · refine ⟨_, _, _, fun _ _ => kX_turn_ok (by omega) hct hfl, fun _ _ => jx_Ki_mono (kM_turn_ok (by omega) hct) (fun r w' h => ⟨by rw [h.1, hg3 0 (by omega)], h.2⟩), fun w h => ?_, fun u1 u2 e1 e2 => ?_⟩
    · obtain ⟨fl', -, -, rfl⟩ := h
      exact bl_XSE
    · obtain ⟨fl', h5, h6, rfl⟩ := e1
      obtain ⟨gl', h7, h8, rfl⟩ := e2
      refine ⟨n, z, fm, fc, ct, fl', ⟨⟨hn3, hn6⟩, ⟨hz1, hz2⟩, hct, hV, fun i hi => ?_⟩, ⟨kn, fo, fh, ff, ft, fi, fd, rfl, h1, hk⟩, ⟨gm, gc, gl', fb, la, fr, rfl, hg1, hg2, fun i hi => ?_⟩⟩
      · by_cases e : i = ct - 1
        · rw [e, h6]
          exact hfl 0 (by omega)
        · rw [h5 i (by omega)]
          exact hfl (i + 1) (by omega)
      · by_cases e : i = ct - 1
        · rw [e, h6, h8]
          exact hg3 0 (by omega)
        · rw [h5 i (by omega), h7 i (by omega)]
          exact hg3 (i + 1) (by omega)
set_option maxHeartbeats 4000000 in
theorem pr_last (hA : bl_AV n z fm fc ct fl) (h1 : kn ≤ 1) (hk : kn = 1 → bl_OF n z fm fc fo ∧ bl_FS n z fm fc ff) (hg1 : ∀ k, k < z → gm k = fm k) (hg2 : ∀ c, 0 < c → c < 3 → gc c = fc c) (hg3 : ∀ i, i < ct → gl i = fl i) : bl_PR cb ci o a o2 a2 yX1_last wsX1_last rmX1_last [] yX2_last wsX2_last rmX2_last [] (XC cb ci o a n z fm fc ct fl kn fo fh ff ft fi fd) (MC cb ci o2 a2 n z gm gc ct gl fb la fr) := by
  have hA0 := hA
  obtain ⟨⟨hn3, hn6⟩, ⟨hz1, hz2⟩, hct, hV, hfl⟩ := hA0
  have hcz := bl_ctz hct hz2
  have SI : bl_INV cb ci o a o2 a2 (XC cb ci o a n z fm fc ct fl kn fo fh ff ft fi fd) (MC cb ci o2 a2 n z gm gc ct gl fb la fr) := ⟨n, z, fm, fc, ct, fl, hA, ⟨kn, fo, fh, ff, ft, fi, fd, rfl, h1, hk⟩, ⟨gm, gc, gl, fb, la, fr, rfl, hg1, hg2, hg3⟩⟩
  exact ⟨_, _, _, fun _ _ => kX_last, fun _ _ => kM_last, fun w h => by rw [h]; exact bl_XSE, fun u1 u2 e1 e2 => by rw [e1, e2]; exact SI⟩
set_option maxHeartbeats 4000000 in
theorem pr_row (hA : bl_AV n z fm fc ct fl) (h1 : kn ≤ 1) (hk : kn = 1 → bl_OF n z fm fc fo ∧ bl_FS n z fm fc ff) (hg1 : ∀ k, k < z → gm k = fm k) (hg2 : ∀ c, 0 < c → c < 3 → gc c = fc c) (hg3 : ∀ i, i < ct → gl i = fl i) (y : Int32) : bl_PR cb ci o a o2 a2 yX1_row wsX1_row rmX1_row [.int y] yX2_row wsX2_row rmX2_row [.int y] (XC cb ci o a n z fm fc ct fl kn fo fh ff ft fi fd) (MC cb ci o2 a2 n z gm gc ct gl fb la fr) := by
  have hA0 := hA
  obtain ⟨⟨hn3, hn6⟩, ⟨hz1, hz2⟩, hct, hV, hfl⟩ := hA0
  have hcz := bl_ctz hct hz2
  have SI : bl_INV cb ci o a o2 a2 (XC cb ci o a n z fm fc ct fl kn fo fh ff ft fi fd) (MC cb ci o2 a2 n z gm gc ct gl fb la fr) := ⟨n, z, fm, fc, ct, fl, hA, ⟨kn, fo, fh, ff, ft, fi, fd, rfl, h1, hk⟩, ⟨gm, gc, gl, fb, la, fr, rfl, hg1, hg2, hg3⟩⟩
  by_cases hy : bl_in (ct * z + 1) y
  · obtain ⟨k, hk2, rfl⟩ := hy
    exact ⟨_, _, _, fun _ _ => kX_row_ok hA h1 hk (k := k) (by omega), fun _ _ => kM_row_ok hA hg1 hg2 hg3 (k := k) (by omega), fun w h => bl_XIS h, fun u1 u2 e1 e2 => ⟨n, z, fm, fc, ct, fl, hA, e1, e2⟩⟩
  · exact ⟨_, _, _, fun _ _ => kX_row_bad hcz hy, fun _ _ => kM_row_bad hA hg1 hg2 hg3 hy, fun w h => by rw [h]; exact bl_XSE, fun u1 u2 e1 e2 => by rw [e1]; exact ⟨n, z, fm, fc, ct, fl, hA, ⟨kn, fo, fh, ff, ft, fi, fd, rfl, h1, hk⟩, e2⟩⟩
set_option maxHeartbeats 4000000 in
theorem pr_place (hA : bl_AV n z fm fc ct fl) (h1 : kn ≤ 1) (hk : kn = 1 → bl_OF n z fm fc fo ∧ bl_FS n z fm fc ff) (hg1 : ∀ k, k < z → gm k = fm k) (hg2 : ∀ c, 0 < c → c < 3 → gc c = fc c) (hg3 : ∀ i, i < ct → gl i = fl i) (u y : Int32) : bl_PR cb ci o a o2 a2 yX1_place wsX1_place rmX1_place [.int u, .int y] yX2_place wsX2_place rmX2_place [.int u, .int y] (XC cb ci o a n z fm fc ct fl kn fo fh ff ft fi fd) (MC cb ci o2 a2 n z gm gc ct gl fb la fr) := by
  have hA0 := hA
  obtain ⟨⟨hn3, hn6⟩, ⟨hz1, hz2⟩, hct, hV, hfl⟩ := hA0
  have hcz := bl_ctz hct hz2
  have SI : bl_INV cb ci o a o2 a2 (XC cb ci o a n z fm fc ct fl kn fo fh ff ft fi fd) (MC cb ci o2 a2 n z gm gc ct gl fb la fr) := ⟨n, z, fm, fc, ct, fl, hA, ⟨kn, fo, fh, ff, ft, fi, fd, rfl, h1, hk⟩, ⟨gm, gc, gl, fb, la, fr, rfl, hg1, hg2, hg3⟩⟩
  rcases bl_int u with hu | ⟨b, hb31, rfl⟩
  · exact ⟨_, _, _, fun _ _ => kX_place_neg hu, fun _ _ => kM_place_neg hu, fun w h => by rw [h]; exact bl_XSE, fun u1 u2 e1 e2 => by rw [e1, e2]; exact SI⟩
  · by_cases hb : 1 ≤ b ∧ b ≤ n
    · obtain ⟨b2, rfl⟩ : ∃ b2, b = b2 + 1 := ⟨b - 1, by omega⟩
      by_cases hy : bl_in (ct * z + 1) y
      · obtain ⟨k, hk2, rfl⟩ := hy
        have hP := bl_row_PM hA (k := k) (by omega)
        obtain ⟨p0, hp0, e0⟩ := hP.2.2 b2 (by omega)
        refine ⟨nI p0, _, _, fun _ _ => jx_Ki_mono (kX_place_ok hA h1 hk (b := b2) (k := k) (by omega) (by omega)) (fun r w' h => ⟨?_, h.2⟩), fun _ _ => jx_Ki_mono (kM_place_ok hA hg1 hg2 hg3 (b := b2) (k := k) (by omega) (by omega)) (fun r w' h => ⟨?_, h.2⟩), fun w h => bl_XIS h, fun u1 u2 e1 e2 => ⟨n, z, fm, fc, ct, fl, hA, e1, e2⟩⟩
        · obtain ⟨⟨p, hp, e, rfl⟩, -⟩ := h
          rw [hP.2.1 p p0 hp hp0 (by rw [e, e0])]
        · obtain ⟨⟨p, hp, e, rfl⟩, -⟩ := h
          rw [hP.2.1 p p0 hp hp0 (by rw [e, e0])]
      · exact ⟨_, _, _, fun _ _ => kX_place_no hn6 hcz (b := b2) (by omega) hy, fun _ _ => kM_place_no hA hg1 hg2 hg3 (b := b2) (by omega) hy, fun w h => by rw [h]; exact bl_XSE, fun u1 u2 e1 e2 => by rw [e1]; exact ⟨n, z, fm, fc, ct, fl, hA, ⟨kn, fo, fh, ff, ft, fi, fd, rfl, h1, hk⟩, e2⟩⟩
    · exact ⟨_, _, _, fun _ _ => kX_place_bad hn6 hb31 hb, fun _ _ => kM_place_bad hn6 hb31 hb, fun w h => by rw [h]; exact bl_XSE, fun u1 u2 e1 e2 => by rw [e1, e2]; exact SI⟩
set_option maxHeartbeats 4000000 in
theorem pr_isTrue (hA : bl_AV n z fm fc ct fl) (h1 : kn ≤ 1) (hk : kn = 1 → bl_OF n z fm fc fo ∧ bl_FS n z fm fc ff) (hg1 : ∀ k, k < z → gm k = fm k) (hg2 : ∀ c, 0 < c → c < 3 → gc c = fc c) (hg3 : ∀ i, i < ct → gl i = fl i) : bl_PR cb ci o a o2 a2 yX1_isTrue wsX1_isTrue rmX1_isTrue [] yX2_isTrue wsX2_isTrue rmX2_isTrue [] (XC cb ci o a n z fm fc ct fl kn fo fh ff ft fi fd) (MC cb ci o2 a2 n z gm gc ct gl fb la fr) := by
  have hA0 := hA
  obtain ⟨⟨hn3, hn6⟩, ⟨hz1, hz2⟩, hct, hV, hfl⟩ := hA0
  have hcz := bl_ctz hct hz2
  have SI : bl_INV cb ci o a o2 a2 (XC cb ci o a n z fm fc ct fl kn fo fh ff ft fi fd) (MC cb ci o2 a2 n z gm gc ct gl fb la fr) := ⟨n, z, fm, fc, ct, fl, hA, ⟨kn, fo, fh, ff, ft, fi, fd, rfl, h1, hk⟩, ⟨gm, gc, gl, fb, la, fr, rfl, hg1, hg2, hg3⟩⟩
  refine ⟨_, _, _, fun _ _ => kX_isTrue hA h1 hk, fun _ _ => jx_Ki_mono (kM_isTrue hA hg1 hg2 hg3) (fun r w' h => ⟨by rw [h.1, bl_at_df hA], h.2⟩), fun w h => bl_XIS h, fun u1 u2 e1 e2 => ⟨n, z, fm, fc, ct, fl, hA, e1, e2⟩⟩
set_option maxHeartbeats 4000000 in
theorem pr_different (hA : bl_AV n z fm fc ct fl) (h1 : kn ≤ 1) (hk : kn = 1 → bl_OF n z fm fc fo ∧ bl_FS n z fm fc ff) (hg1 : ∀ k, k < z → gm k = fm k) (hg2 : ∀ c, 0 < c → c < 3 → gc c = fc c) (hg3 : ∀ i, i < ct → gl i = fl i) : bl_PR cb ci o a o2 a2 yX1_different wsX1_different rmX1_different [] yX2_different wsX2_different rmX2_different [] (XC cb ci o a n z fm fc ct fl kn fo fh ff ft fi fd) (MC cb ci o2 a2 n z gm gc ct gl fb la fr) := by
  have hA0 := hA
  obtain ⟨⟨hn3, hn6⟩, ⟨hz1, hz2⟩, hct, hV, hfl⟩ := hA0
  have hcz := bl_ctz hct hz2
  have SI : bl_INV cb ci o a o2 a2 (XC cb ci o a n z fm fc ct fl kn fo fh ff ft fi fd) (MC cb ci o2 a2 n z gm gc ct gl fb la fr) := ⟨n, z, fm, fc, ct, fl, hA, ⟨kn, fo, fh, ff, ft, fi, fd, rfl, h1, hk⟩, ⟨gm, gc, gl, fb, la, fr, rfl, hg1, hg2, hg3⟩⟩
  exact ⟨_, _, _, fun _ _ => kX_different hA h1 hk, fun _ _ => kM_different hA hg1 hg2 hg3, fun w h => bl_XIS h, fun u1 u2 e1 e2 => ⟨n, z, fm, fc, ct, fl, hA, e1, e2⟩⟩
set_option maxHeartbeats 4000000 in
theorem pr_falsePairs (hA : bl_AV n z fm fc ct fl) (h1 : kn ≤ 1) (hk : kn = 1 → bl_OF n z fm fc fo ∧ bl_FS n z fm fc ff) (hg1 : ∀ k, k < z → gm k = fm k) (hg2 : ∀ c, 0 < c → c < 3 → gc c = fc c) (hg3 : ∀ i, i < ct → gl i = fl i) : bl_PR cb ci o a o2 a2 yX1_falsePairs wsX1_falsePairs rmX1_falsePairs [] yX2_falsePairs wsX2_falsePairs rmX2_falsePairs [] (XC cb ci o a n z fm fc ct fl kn fo fh ff ft fi fd) (MC cb ci o2 a2 n z gm gc ct gl fb la fr) := by
  have hA0 := hA
  obtain ⟨⟨hn3, hn6⟩, ⟨hz1, hz2⟩, hct, hV, hfl⟩ := hA0
  have hcz := bl_ctz hct hz2
  have SI : bl_INV cb ci o a o2 a2 (XC cb ci o a n z fm fc ct fl kn fo fh ff ft fi fd) (MC cb ci o2 a2 n z gm gc ct gl fb la fr) := ⟨n, z, fm, fc, ct, fl, hA, ⟨kn, fo, fh, ff, ft, fi, fd, rfl, h1, hk⟩, ⟨gm, gc, gl, fb, la, fr, rfl, hg1, hg2, hg3⟩⟩
  refine ⟨_, _, _, fun _ _ => kX_falsePairs hA h1 hk, fun _ _ => jx_Ki_mono (kM_falsePairs hA hg1 hg2 hg3) (fun r w' h => ⟨by rw [h.1, bl_cf_cm], h.2⟩), fun w h => bl_XIS h, fun u1 u2 e1 e2 => ⟨n, z, fm, fc, ct, fl, hA, e1, e2⟩⟩
set_option maxHeartbeats 4000000 in
theorem pr_falseAlone (hA : bl_AV n z fm fc ct fl) (h1 : kn ≤ 1) (hk : kn = 1 → bl_OF n z fm fc fo ∧ bl_FS n z fm fc ff) (hg1 : ∀ k, k < z → gm k = fm k) (hg2 : ∀ c, 0 < c → c < 3 → gc c = fc c) (hg3 : ∀ i, i < ct → gl i = fl i) (y : Int32) : bl_PR cb ci o a o2 a2 yX1_falseAlone wsX1_falseAlone rmX1_falseAlone [.int y] yX2_falseAlone wsX2_falseAlone rmX2_falseAlone [.int y] (XC cb ci o a n z fm fc ct fl kn fo fh ff ft fi fd) (MC cb ci o2 a2 n z gm gc ct gl fb la fr) := by
  have hA0 := hA
  obtain ⟨⟨hn3, hn6⟩, ⟨hz1, hz2⟩, hct, hV, hfl⟩ := hA0
  have hcz := bl_ctz hct hz2
  have SI : bl_INV cb ci o a o2 a2 (XC cb ci o a n z fm fc ct fl kn fo fh ff ft fi fd) (MC cb ci o2 a2 n z gm gc ct gl fb la fr) := ⟨n, z, fm, fc, ct, fl, hA, ⟨kn, fo, fh, ff, ft, fi, fd, rfl, h1, hk⟩, ⟨gm, gc, gl, fb, la, fr, rfl, hg1, hg2, hg3⟩⟩
  by_cases hy : bl_in 3 y
  · obtain ⟨c, hc, rfl⟩ := hy
    exact ⟨_, _, _, fun _ _ => kX_falseAlone_ok hA h1 hk hc, fun _ _ => jx_Ki_mono (kM_falseAlone_ok hA hg1 hg2 hg3 hc) (fun r w' h => ⟨by rw [h.1, bl_al_df], h.2⟩), fun w h => bl_XIS h, fun u1 u2 e1 e2 => ⟨n, z, fm, fc, ct, fl, hA, e1, e2⟩⟩
  · exact ⟨_, _, _, fun _ _ => kX_falseAlone_bad hy, fun _ _ => kM_falseAlone_bad hy, fun w h => by rw [h]; exact bl_XSE, fun u1 u2 e1 e2 => by rw [e1, e2]; exact SI⟩
set_option maxHeartbeats 4000000 in
theorem pr_order (hA : bl_AV n z fm fc ct fl) (h1 : kn ≤ 1) (hk : kn = 1 → bl_OF n z fm fc fo ∧ bl_FS n z fm fc ff) (hg1 : ∀ k, k < z → gm k = fm k) (hg2 : ∀ c, 0 < c → c < 3 → gc c = fc c) (hg3 : ∀ i, i < ct → gl i = fl i) (y : Int32) : bl_PR cb ci o a o2 a2 yX1_order wsX1_order rmX1_order [.int y] yX2_order wsX2_order rmX2_order [.int y] (XC cb ci o a n z fm fc ct fl kn fo fh ff ft fi fd) (MC cb ci o2 a2 n z gm gc ct gl fb la fr) := by
  have hA0 := hA
  obtain ⟨⟨hn3, hn6⟩, ⟨hz1, hz2⟩, hct, hV, hfl⟩ := hA0
  have hcz := bl_ctz hct hz2
  have SI : bl_INV cb ci o a o2 a2 (XC cb ci o a n z fm fc ct fl kn fo fh ff ft fi fd) (MC cb ci o2 a2 n z gm gc ct gl fb la fr) := ⟨n, z, fm, fc, ct, fl, hA, ⟨kn, fo, fh, ff, ft, fi, fd, rfl, h1, hk⟩, ⟨gm, gc, gl, fb, la, fr, rfl, hg1, hg2, hg3⟩⟩
  by_cases hy : bl_in 3 y
  · obtain ⟨c, hc, rfl⟩ := hy
    have hP := bl_off_PM hV hc z (Nat.le_refl z)
    obtain ⟨L, ⟨hL0, hL1⟩, hL2⟩ := pk_least (fun m => 0 < m ∧ ∀ q, q < n → bl_it (bl_off z fm fc c z) m q = q) ⟨60, by decide, fun q hq => bl_it_60 hn6 hP hq⟩
    refine ⟨nI L, _, _, fun _ _ => jx_Ki_mono (kX_order_ok hA h1 hk hc) (fun r w' h => ⟨?_, h.2⟩), fun _ _ => jx_Ki_mono (kM_order_ok hA hg1 hg2 hg3 hc) (fun r w' h => ⟨?_, h.2⟩), fun w h => bl_XIS h, fun u1 u2 e1 e2 => ⟨n, z, fm, fc, ct, fl, hA, e1, e2⟩⟩
    · obtain ⟨⟨L1, h5, h6, rfl⟩, -⟩ := h
      rw [bl_order_1 h5 h6 hL0 hL1 (fun s hs1 hs2 q => hL2 s hs2 ⟨hs1, q⟩)]
    · obtain ⟨⟨L1, h5, h6, h7, rfl⟩, -⟩ := h
      have e1 : ¬ L1 < L := fun q => hL2 L1 q ⟨h5, h6⟩
      have e2 : ¬ L < L1 := fun q => h7 L hL0 q hL1
      rw [show L1 = L by omega]
  · exact ⟨_, _, _, fun _ _ => kX_order_bad hy, fun _ _ => kM_order_bad hy, fun w h => by rw [h]; exact bl_XSE, fun u1 u2 e1 e2 => by rw [e1, e2]; exact SI⟩
set_option maxHeartbeats 4000000 in
theorem pr_home (hA : bl_AV n z fm fc ct fl) (h1 : kn ≤ 1) (hk : kn = 1 → bl_OF n z fm fc fo ∧ bl_FS n z fm fc ff) (hg1 : ∀ k, k < z → gm k = fm k) (hg2 : ∀ c, 0 < c → c < 3 → gc c = fc c) (hg3 : ∀ i, i < ct → gl i = fl i) : bl_PR cb ci o a o2 a2 yX1_home wsX1_home rmX1_home [] yX2_home wsX2_home rmX2_home [] (XC cb ci o a n z fm fc ct fl kn fo fh ff ft fi fd) (MC cb ci o2 a2 n z gm gc ct gl fb la fr) := by
  have hA0 := hA
  obtain ⟨⟨hn3, hn6⟩, ⟨hz1, hz2⟩, hct, hV, hfl⟩ := hA0
  have hcz := bl_ctz hct hz2
  have SI : bl_INV cb ci o a o2 a2 (XC cb ci o a n z fm fc ct fl kn fo fh ff ft fi fd) (MC cb ci o2 a2 n z gm gc ct gl fb la fr) := ⟨n, z, fm, fc, ct, fl, hA, ⟨kn, fo, fh, ff, ft, fi, fd, rfl, h1, hk⟩, ⟨gm, gc, gl, fb, la, fr, rfl, hg1, hg2, hg3⟩⟩
  exact ⟨_, _, _, fun _ _ => kX_home hA h1 hk, fun _ _ => kM_home hA hg1 hg2 hg3, fun w h => bl_XIS h, fun u1 u2 e1 e2 => ⟨n, z, fm, fc, ct, fl, hA, e1, e2⟩⟩
set_option maxHeartbeats 4000000 in
theorem pr_leads (hA : bl_AV n z fm fc ct fl) (h1 : kn ≤ 1) (hk : kn = 1 → bl_OF n z fm fc fo ∧ bl_FS n z fm fc ff) (hg1 : ∀ k, k < z → gm k = fm k) (hg2 : ∀ c, 0 < c → c < 3 → gc c = fc c) (hg3 : ∀ i, i < ct → gl i = fl i) (y : Int32) : bl_PR cb ci o a o2 a2 yX1_leads wsX1_leads rmX1_leads [.int y] yX2_leads wsX2_leads rmX2_leads [.int y] (XC cb ci o a n z fm fc ct fl kn fo fh ff ft fi fd) (MC cb ci o2 a2 n z gm gc ct gl fb la fr) := by
  have hA0 := hA
  obtain ⟨⟨hn3, hn6⟩, ⟨hz1, hz2⟩, hct, hV, hfl⟩ := hA0
  have hcz := bl_ctz hct hz2
  have SI : bl_INV cb ci o a o2 a2 (XC cb ci o a n z fm fc ct fl kn fo fh ff ft fi fd) (MC cb ci o2 a2 n z gm gc ct gl fb la fr) := ⟨n, z, fm, fc, ct, fl, hA, ⟨kn, fo, fh, ff, ft, fi, fd, rfl, h1, hk⟩, ⟨gm, gc, gl, fb, la, fr, rfl, hg1, hg2, hg3⟩⟩
  rcases bl_int y with hu | ⟨b, hb31, rfl⟩
  · exact ⟨_, _, _, fun _ _ => kX_leads_neg hn6 hu, fun _ _ => kM_leads_neg hu, fun w h => by rw [h]; exact bl_XSE, fun u1 u2 e1 e2 => by rw [e1, e2]; exact SI⟩
  · by_cases hb : 1 ≤ b ∧ b ≤ n
    · obtain ⟨b2, rfl⟩ : ∃ b2, b = b2 + 1 := ⟨b - 1, by omega⟩
      exact ⟨_, _, _, fun _ _ => kX_leads_ok hA h1 hk (b := b2) (by omega), fun _ _ => kM_leads_ok hA hg1 hg2 hg3 (b := b2) (by omega), fun w h => bl_XIS h, fun u1 u2 e1 e2 => ⟨n, z, fm, fc, ct, fl, hA, e1, e2⟩⟩
    · exact ⟨_, _, _, fun _ _ => kX_leads_bad hn6 hb31 hb, fun _ _ => kM_leads_bad hn6 hb31 hb, fun w h => by rw [h]; exact bl_XSE, fun u1 u2 e1 e2 => by rw [e1, e2]; exact SI⟩
set_option maxHeartbeats 4000000 in
theorem pr_choices (hA : bl_AV n z fm fc ct fl) (h1 : kn ≤ 1) (hk : kn = 1 → bl_OF n z fm fc fo ∧ bl_FS n z fm fc ff) (hg1 : ∀ k, k < z → gm k = fm k) (hg2 : ∀ c, 0 < c → c < 3 → gc c = fc c) (hg3 : ∀ i, i < ct → gl i = fl i) : bl_PR cb ci o a o2 a2 yX1_choices wsX1_choices rmX1_choices [] yX2_choices wsX2_choices rmX2_choices [] (XC cb ci o a n z fm fc ct fl kn fo fh ff ft fi fd) (MC cb ci o2 a2 n z gm gc ct gl fb la fr) := by
  have hA0 := hA
  obtain ⟨⟨hn3, hn6⟩, ⟨hz1, hz2⟩, hct, hV, hfl⟩ := hA0
  have hcz := bl_ctz hct hz2
  have SI : bl_INV cb ci o a o2 a2 (XC cb ci o a n z fm fc ct fl kn fo fh ff ft fi fd) (MC cb ci o2 a2 n z gm gc ct gl fb la fr) := ⟨n, z, fm, fc, ct, fl, hA, ⟨kn, fo, fh, ff, ft, fi, fd, rfl, h1, hk⟩, ⟨gm, gc, gl, fb, la, fr, rfl, hg1, hg2, hg3⟩⟩
  refine ⟨_, _, _, fun _ _ => kX_choices hA h1 hk, fun _ _ => jx_Ki_mono (kM_choices hA hg1 hg2 hg3) (fun r w' h => ⟨?_, h.2⟩), fun w h => bl_XIS h, fun u1 u2 e1 e2 => ⟨n, z, fm, fc, ct, fl, hA, e1, e2⟩⟩
  rw [h.1]
  exact congrArg nI (bl_sum_congr 3 (fun c hc => (bl_choice hA hc).symm))
end PR
end
section
set_option maxRecDepth 100000
/-! rows of the law: the script, new objects, calls beside a rest of the world, the switch -/
def jx_X (x : JX) (b L : Nat) (xs : Nat → Int32) : Prop := match x with
  | (_, _, _, _, s, _, _, _, _, _, _, A, _, _) => va_X b L xs s s.heap ∧ b < s.heap.size ∧ ¬ A b
theorem jx_ga {T : Type} {l1 l2 : List T} {k : Nat} {q : T} (h : l1[k]? = some q) : (l1 ++ l2)[k]? = some q := by
  rw [List.getElem?_append_left (List.getElem?_eq_some_iff.mp h).1]
  exact h
theorem jx_gb {T : Type} {l1 l2 : List T} {k : Nat} {q : T} (h : l2[k]? = some q) : (l1 ++ l2)[l1.length + k]? = some q := by
  rw [List.getElem?_append_right (by omega), Nat.add_sub_cancel_left]
  exact h
theorem jx_Pl {D : va_G} {cl : List vw_C} {w1 w2 : va_W} {H : Heap} (h : va_P D cl (w1 ++ w2) H) : va_P D cl w1 H := fun _ q hq => h _ q (jx_ga hq)
theorem jx_Pr {D : va_G} {cl : List vw_C} {w1 w2 : va_W} {H : Heap} (h : va_P D cl (w1 ++ w2) H) : va_P D cl w2 H := fun _ q hq => h _ q (jx_gb hq)
theorem jx_Dl {A : Nat → Prop} {w1 w2 : va_W} (h : va_D A (w1 ++ w2)) : va_D A w1 := ⟨fun i j p q hi hj e => h.1 i j p q (jx_ga hi) (jx_ga hj) e, fun _ q hq => h.2 _ q (jx_ga hq)⟩
theorem jx_Dr {A : Nat → Prop} {w1 w2 : va_W} (h : va_D A (w1 ++ w2)) : va_D A w2 := ⟨fun i j p q hi hj e => by
  have := h.1 _ _ p q (jx_gb hi) (jx_gb hj) e
  omega, fun _ q hq => h.2 _ q (jx_gb hq)⟩
theorem jx_Dx {A : Nat → Prop} {w1 w2 : va_W} (h : va_D A (w1 ++ w2)) {i j : Nat} {p q : Nat × va_E} (hi : w1[i]? = some p) (hj : w2[j]? = some q) : p.1 ≠ q.1 := fun e => by
  have h1 := h.1 _ _ p q (jx_ga hi) (jx_gb hj) e
  have h2 := (List.getElem?_eq_some_iff.mp hi).1
  omega
theorem jx_join {A0 : Nat → Prop} {D : va_G} {cl : List vw_C} {wr wc w1 : va_W} {H H1 : Heap} (hP : va_P D cl (wr ++ wc) H) (hD : va_D A0 (wr ++ wc)) (hk : ∀ q : Nat, q < H.size → ¬ va_A wc H.size q → H1[q]? = H[q]?) (hF : ∀ q, va_A wc H.size q → A0 q) (hP1 : va_P D cl w1 H1) (hD1 : va_D (va_A wc H.size) w1) : va_P D cl (wr ++ w1) H1 ∧ va_D A0 (wr ++ w1) := by
  have apart : ∀ (k : Nat) (q : Nat × va_E), wr[k]? = some q → q.1 < H.size ∧ ¬ va_A wc H.size q.1 := by
    intro k q hq
    have hl := (jx_Pl hP k q hq).lt
    refine ⟨hl, fun h => ?_⟩
    rcases h with ⟨k2, e, h⟩ | h
    · exact jx_Dx hD hq h rfl
    · omega
  refine ⟨va_P.app (fun k q hq => ?_) hP1, va_D.app (jx_Dl hD) (hD1.weaken (fun k q _ h => hF q.1 h)) (fun i j x y hx hy hxy => ?_)⟩
  · obtain ⟨g1, g2⟩ := apart k q hq
    exact (jx_Pl hP k q hq).kept (hk q.1 g1 g2)
  · exact (apart i x hx).2 (by rw [hxy]; exact hD1.2 j y hy)
section LR
variable {x : JX} {cb ci : ClassId} {cc : ByteArray} {nL c0 c1 : Nat} {own : String} {rm : Room} {ret : Option FieldType} {w : va_W} {pc : Nat} {lv : List (Nat × Value)} {st : List Value} {b L : Nat} {xs : Nat → Int32}
theorem jx_swap {w1 w2 : va_W} (h : jx_J x c0 c1 (w2 ++ w1) pc lv st) : jx_J x c0 c1 (w1 ++ w2) pc lv st := by
  obtain ⟨p, l, e, R, s, m, args, below, meth, c, D, A, n0, Q⟩ := x
  exact fun H locs ls hP hD hS hl => h H locs ls ((jx_Pr hP).app (jx_Pl hP)) ((jx_Dr hD).app (jx_Dl hD) (fun i j p q hi hj e => jx_Dx hD hj hi e.symm)) hS hl
theorem jx_sld (G : jx_G x cb ci cc nL own rm ret) (X9 : jx_X x b L xs) {i : Nat} (hL : L ≤ 193) (hd : decode cc pc = .ok (.iaload, 1)) (hi : i < L) (h : jx_J x c0 c1 w (pc + 1) lv (.int (xs i) :: st)) : jx_J x c0 c1 w pc lv (.int (nI i) :: .ref b :: st) := by
  obtain ⟨p, l, e, R, s, m, args, below, meth, c, D, A, n0, Q⟩ := x
  obtain ⟨hx, hb, -⟩ := G
  obtain ⟨hX, hbl, hbA⟩ := X9
  refine fun H locs ls hP hD hS hl' => va_sld hx hb hX hbl hbA hS (vp_in_nI hi (by omega)) hd ?_
  have := h H locs ls hP hD hS hl'
  rw [nI_clamp (by omega)]
  exact this
theorem jx_slen (G : jx_G x cb ci cc nL own rm ret) (X9 : jx_X x b L xs) (hd : decode cc pc = .ok (.arraylength, 1)) (h : jx_J x c0 c1 w (pc + 1) lv (.int (nI L) :: st)) : jx_J x c0 c1 w pc lv (.ref b :: st) := by
  obtain ⟨p, l, e, R, s, m, args, below, meth, c, D, A, n0, Q⟩ := x
  obtain ⟨hx, hb, -⟩ := G
  obtain ⟨hX, hbl, hbA⟩ := X9
  exact fun H locs ls hP hD hS hl' => va_slen hx hb hX hbl hbA hS hd (h H locs ls hP hD hS hl')
theorem jx_new (G : jx_G x cb ci cc nL own rm ret) {C : String} {T : u_T} {N ix idx : Nat} {fs : List Value} (hin : ∀ w ∈ u_ws C T N, w ∈ lw_all) (ty0 : Nat → FieldType) (hty : ∀ k, k < N → parseFieldDescriptor (T k).2.2.1 = some (ty0 k)) (hcl : Cond.classLink own idx C ∈ lw_all) (hinst : Cond.instantiable C N ∈ lw_all) (hini : Cond.initialized C ∈ lw_all) (hc : clA[ix]? = some (C, T, N)) (hfs : ∀ j, j < N → defaultValue (ty0 j) = vp_V fs j) (hc0 : c0 + 1 ≤ rm.cells) (hc1 : c1 + N ≤ rm.slots) (hd : decode cc pc = .ok (.new idx, 3)) (h : ∀ q : Nat, jx_J x (c0 + 1) (c1 + N) (w ++ [(q, .inr (ix, fs))]) (pc + 3) lv (.ref q :: st)) : jx_J x c0 c1 w pc lv st := by
  obtain ⟨p, l, e, R, s, m, args, below, meth, c, D, A, n0, Q⟩ := x
  obtain ⟨hx, hb, hml, rfl, rfl, hown, hts, hK, hA, -⟩ := G
  exact fun H locs ls hP hD hS hl => va_new hx hb hts hin ty0 hty hown (hts _ hcl) (hts _ hinst) (hts _ hini) hK hP hD hS hA hc hfs hc0 hc1 hd (fun q H1 hP hD hS => h q H1 locs ls hP hD hS hl)
theorem jx_isubI (G : jx_G x cb ci cc nL own rm ret) {y1 y2 : Int32} (hd : decode cc pc = .ok (.isub, 1)) (h : jx_J x c0 c1 w (pc + 1) lv (.int (y1 - y2) :: st)) : jx_J x c0 c1 w pc lv (.int y2 :: .int y1 :: st) := by
  obtain ⟨p, l, e, R, s, m, args, below, meth, c, D, A, n0, Q⟩ := x
  obtain ⟨hx, hb, -⟩ := G
  exact fun H locs ls hP hD hS hl => lv_isub hx hb hd (h H locs ls hP hD hS hl)
theorem jx_icmp_gtI (G : jx_G x cb ci cc nL own rm ret) {y1 y2 : Int32} {tgt : Nat} {off : Int} (hd : decode cc pc = .ok (.if_icmp .gt off, 3)) (ht : (pc : Int) + off = (tgt : Int)) (kt : y2 < y1 → jx_J x c0 c1 w tgt lv st) (kf : ¬ y2 < y1 → jx_J x c0 c1 w (pc + 3) lv st) : jx_J x c0 c1 w pc lv (.int y2 :: .int y1 :: st) := by
  obtain ⟨p, l, e, R, s, m, args, below, meth, c, D, A, n0, Q⟩ := x
  obtain ⟨hx, hb, -⟩ := G
  exact fun H locs ls hP hD hS hl => lv_icmp_gt hx hb hd ht (fun h => kt h H locs ls hP hD hS hl) (fun h => kf h H locs ls hP hD hS hl)
theorem jx_tsIn (G : jx_G x cb ci cc nL own rm ret) {dflt lo hi : Int} {offs : Array Int} {len : Nat} {y : Int32} {off : Int} {tgt : Nat} (hd : decode cc pc = .ok (.tableswitch dflt lo hi offs, len)) (h1 : ¬ y.toInt < lo) (h2 : ¬ hi < y.toInt) (ho : offs[(y.toInt - lo).toNat]? = some off) (ht : (pc : Int) + off = (tgt : Int)) (h : jx_J x c0 c1 w tgt lv st) : jx_J x c0 c1 w pc lv (.int y :: st) := by
  obtain ⟨p, l, e, R, s, m, args, below, meth, c, D, A, n0, Q⟩ := x
  obtain ⟨hx, hb, -⟩ := G
  exact fun H locs ls hP hD hS hl => lv_tableIn hx hb hd h1 h2 ho ht (h H locs ls hP hD hS hl)
theorem jx_tsOut (G : jx_G x cb ci cc nL own rm ret) {dflt lo hi : Int} {offs : Array Int} {len : Nat} {y : Int32} {tgt : Nat} (hd : decode cc pc = .ok (.tableswitch dflt lo hi offs, len)) (h1 : y.toInt < lo ∨ hi < y.toInt) (ht : (pc : Int) + dflt = (tgt : Int)) (h : jx_J x c0 c1 w tgt lv st) : jx_J x c0 c1 w pc lv (.int y :: st) := by
  obtain ⟨p, l, e, R, s, m, args, below, meth, c, D, A, n0, Q⟩ := x
  obtain ⟨hx, hb, -⟩ := G
  exact fun H locs ls hP hD hS hl => lv_tableOut hx hb hd h1 ht (h H locs ls hP hD hS hl)
end LR
section LC
variable {x : JX} {cb ci : ClassId} {cc : ByteArray} {nL c0 c1 : Nat} {own : String} {rm : Room} {ret : Option FieldType} {wr wc : va_W} {pc : Nat} {lv : List (Nat × Value)} {st : List Value}
variable {y : MethodName} {ws : List Cond} {rm' : Room} {bytes : ByteArray} {maxL n idx q0 ix o mc ms : Nat} {rt : Option FieldType} {C : String} {T : u_T} {N : Nat} {fs : List Value} {As rest : List Value}
/-- a call of a method of an object whose world is the second part of the world: the first part stays -/
theorem jx_callF (G : jx_G x cb ci cc nL own rm ret) {post : Int32 → va_W → Prop} (hM : ∀ (l : Launch) (D : va_G), jx_Ki l D cb ci y ws rm' 0 0 (.ref o :: As) wc post) (hcw : ∀ (s : State) (args : Array Value), (∀ w ∈ lw_all, w.before args s = true) → CallW rm s args own C idx y bytes maxL rt ws rm' 0 0 n) (he : wc[q0]? = some (o, .inr (ix, fs))) (hc : clA[ix]? = some (C, T, N)) (hn : As.length = n) (hst : st = As.reverse ++ .ref o :: rest) (hroom : (rest.map fun v => v.category).sum ≤ 8) (hcs : c0 ≤ rm.cells ∧ c1 ≤ rm.slots) (hd : decode cc pc = .ok (.invokevirtual idx, 3)) (k : ∀ (r : Int32) (w' : va_W), post r w' → jx_J x c0 c1 (wr ++ w') (pc + 3) lv (.int r :: rest)) : jx_J x c0 c1 (wr ++ wc) pc lv st := by
  obtain ⟨p, l, e, R, s, m, args, below, meth, c, D, A, n0, Q⟩ := x
  obtain ⟨hx, hb, hml, rfl, rfl, hown, hts, hK, hA, -⟩ := G
  intro H locs ls hP hD hS hl
  have hPc : va_P D clA wc H := jx_Pr hP
  have hDc : va_D A wc := jx_Dr hD
  have hFc : ∀ q, va_A wc H.size q → A q := by
    rintro q (⟨k2, e2, h⟩ | h)
    · exact hDc.2 k2 _ h
    · exact hA q (Nat.le_trans hS.1 h)
  refine va_calli (va_runV (As := As) (rest := rest) ⟨hx, hb, hml, hown, hts⟩ (hM l D H.size) (hcw s args hts) ⟨jx_blind, va_recv hK hPc hc he, fun U hU hW => ⟨rfl, by rw [hU], by rw [hU]; exact hPc, va_K.moved hW.alike hK, hDc.weaken (fun _ _ _ _ => trivial)⟩⟩ rfl hn hl.1 hst (lv_room hroom) hd hcs) hS (fun q _ h => hFc q h) hFc (fun r w' t H1 locs1 ht hvm hw1 hB hz1 hk1 hS1 => ?_)
  obtain ⟨hP1, hK1, hD1⟩ := hB
  rw [ht] at hP1
  obtain ⟨hP2, hD2⟩ := jx_join hP hD hk1 hFc hP1 hD1
  exact k r w' hw1 H1 locs1 ls hP2 hD2 hS1 hl
/-- a constructor's call -/
theorem jx_callN (G : jx_G x cb ci cc nL own rm ret) {post : va_W → Prop} (hM : ∀ (l : Launch) (D : va_G), jx_Kv l D cb ci y ws rm' mc ms (.ref o :: As) wc post) (hcw : ∀ (s : State) (args : Array Value), (∀ w ∈ lw_all, w.before args s = true) → CallB rm s args own idx y bytes maxL none ws rm' mc ms n ∧ y.name = "<init>" ∧ (Cond.instanceMethod y).before args s = true) (hn : As.length = n) (hst : st = As.reverse ++ .ref o :: rest) (hroom : (rest.map fun v => v.category).sum ≤ 8) (hcs : c0 + mc ≤ rm.cells ∧ c1 + ms ≤ rm.slots) (hd : decode cc pc = .ok (.invokespecial idx, 3)) (k : ∀ (w' : va_W), post w' → jx_J x (c0 + mc) (c1 + ms) (wr ++ w') (pc + 3) lv rest) : jx_J x c0 c1 (wr ++ wc) pc lv st := by
  obtain ⟨p, l, e, R, s, m, args, below, meth, c, D, A, n0, Q⟩ := x
  obtain ⟨hx, hb, hml, rfl, rfl, hown, hts, hK, hA, -⟩ := G
  intro H locs ls hP hD hS hl
  have hPc : va_P D clA wc H := jx_Pr hP
  have hDc : va_D A wc := jx_Dr hD
  have hFc : ∀ q, va_A wc H.size q → A q := by
    rintro q (⟨k2, e2, h⟩ | h)
    · exact hDc.2 k2 _ h
    · exact hA q (Nat.le_trans hS.1 h)
  refine va_callv (va_runI (As := As) (rest := rest) ⟨hx, hb, hml, hown, hts⟩ (hM l D H.size) (hcw s args hts) ⟨jx_blind, fun U hU hW => ⟨rfl, by rw [hU], by rw [hU]; exact hPc, va_K.moved hW.alike hK, hDc.weaken (fun _ _ _ _ => trivial)⟩⟩ rfl hn hl.1 hst (lv_room hroom) hd hcs) hS (fun q _ h => hFc q h) hFc (fun w' t H1 locs1 ht hvm hw1 hB hz1 hk1 hS1 => ?_)
  obtain ⟨hP1, hK1, hD1⟩ := hB
  rw [ht] at hP1
  obtain ⟨hP2, hD2⟩ := jx_join hP hD hk1 hFc hP1 hD1
  exact k w' hw1 H1 locs1 ls hP2 hD2 hS1 hl
end LC
/-! the law's own helper: the script's first number, or 0 -/
abbrev rmX0_cell : Room := { frames := 0, cells := 0, slots := 0, locals := 0 }
abbrev wsX0_cell : List Cond := ws_ yX0_cell cX0_cell 2 (some .int)
def bl_c0 (L : Nat) (xs : Nat → Int32) : Int32 := if 0 < L then xs 0 else nI 0
theorem cwS_cell {rm : Room} (hR : rmX0_cell.frames + 1 ≤ rm.frames ∧ 8 + (2 + 11) + rmX0_cell.locals ≤ rm.locals) (s : State) (args : Array Value) (hts : ∀ w ∈ lw_all, w.before args s = true) : CallB rm s args RX0 9 yX0_cell cX0_cell 2 (some .int) wsX0_cell rmX0_cell 0 0 2 ∧ (Cond.static yX0_cell).before args s = true := va_cwS 2 hts (lw_S q222 q223 q29 q224) rfl rfl rfl (by decide +kernel) hR
theorem cwI_X1 {rm : Room} (hR : rmX1_init.frames + 1 ≤ rm.frames ∧ 8 + (2 + 11) + rmX1_init.locals ≤ rm.locals) (s : State) (args : Array Value) (hts : ∀ w ∈ lw_all, w.before args s = true) : CallB rm s args RX0 15 yX1_init cX1_init 2 none wsX1_init rmX1_init 9 637 1 ∧ yX1_init.name = "<init>" ∧ (Cond.instanceMethod yX1_init).before args s = true := cwI 1 hts (lw_meth q36) rfl rfl rfl (hts _ q30) (hts _ q34) (hts _ q35) rfl (by decide +kernel) hR
theorem cwI_X2 {rm : Room} (hR : rmX2_init.frames + 1 ≤ rm.frames ∧ 8 + (2 + 11) + rmX2_init.locals ≤ rm.locals) (s : State) (args : Array Value) (hts : ∀ w ∈ lw_all, w.before args s = true) : CallB rm s args RX0 20 yX2_init cX2_init 2 none wsX2_init rmX2_init 5 302 1 ∧ yX2_init.name = "<init>" ∧ (Cond.instanceMethod yX2_init).before args s = true := cwI 1 hts (lw_meth q229) rfl rfl rfl (hts _ q31) (hts _ q227) (hts _ q228) rfl (by decide +kernel) hR
theorem kL_cell (l : Launch) (b L : Nat) (xs : Nat → Int32) (hL : L ≤ 193) : Met l yX0_cell wsX0_cell rmX0_cell (va_Pc [.ref b, .int (nI 0)] (fun U => va_X b L xs U U.heap ∧ b < U.heap.size)) (va_Qi (fun r (_ : Unit) => r = bl_c0 L xs) (fun _ _ => True) (fun _ => False)) 0 0 (fun _ => False) := by
  refine Met.ofW (cc := cX0_cell) (maxL := 2) (ret := some .int) (by decide) rfl ?_
  intro p e s m args below meth c s₁ B hml hv
  obtain ⟨rfl, hX, hbl⟩ := hv
  have hx := B.exec
  have hb := B.bytes
  have hr := B.returns
  have hlocks : meth.locks = false := B.notSynchronized
  have hl := lv_entry ([.ref b, .int (nI 0)]) (n := 2) (Nat.le_of_ble_eq_true rfl)
  rw [lg_entry_eq]
  generalize (lg_sl ([.ref b, .int (nI 0)]) ++ List.replicate (2 - (lg_sl ([.ref b, .int (nI 0)])).length) Slot.unset).toArray = ls at hl ⊢
  have hl : lv_has ls 2 [(0, .ref b), (1, .int (nI 0))] := hl
  have hS : va_S (fun _ => False) s.heap s.heap [] := va_S.rf
  refine lv_iload_n hx hb dX0_cell_0 rfl (lv_at hl 1 rfl) ?_
  refine lv_aload_n hx hb dX0_cell_1 rfl (lv_at hl 0 rfl) ?_
  refine va_slen hx hb hX hbl (fun h => h) hS dX0_cell_2 ?_
  refine lv_icmp_ge (tgt := 12) hx hb dX0_cell_3 (by decide) (fun h => ?_) (fun h => ?_)
  · have h0 : L ≤ 0 := (nI_leI (by omega) (by omega)).mp h
    refine lv_iconst (v := nI 0) hx hb dX0_cell_12 kc_0 ?_
    exact W.iret (v := nI 0) hx hb hr (fun t ht hW => ⟨⟨nI 0, (), rfl, (if_neg (by omega)).symm, trivial⟩, hS.F ht⟩) hS.2.2 dX0_cell_13 hlocks
  · have h0 : 0 < L := Nat.pos_of_ne_zero (fun q => h ((nI_leI (by omega) (by omega)).mpr (by omega)))
    refine lv_aload_n hx hb dX0_cell_6 rfl (lv_at hl 0 rfl) ?_
    refine lv_iload_n hx hb dX0_cell_7 rfl (lv_at hl 1 rfl) ?_
    refine va_sld hx hb hX hbl (fun h => h) hS (vp_in_nI h0 (by omega)) dX0_cell_8 ?_
    rw [nI_clamp (by omega)]
    refine lv_goto (tgt := 13) hx hb dX0_cell_9 (by decide) ?_
    exact W.iret (v := xs 0) hx hb hr (fun t ht hW => ⟨⟨xs 0, (), rfl, (if_pos h0).symm, trivial⟩, hS.F ht⟩) hS.2.2 dX0_cell_13 hlocks
theorem jx_cell {x : JX} {cb ci : ClassId} {cc : ByteArray} {nL c0 c1 : Nat} {rm : Room} {ret : Option FieldType} {w : va_W} {pc : Nat} {lv : List (Nat × Value)} {st : List Value} {b L : Nat} {xs : Nat → Int32} (G : jx_G x cb ci cc nL RX0 rm ret) (X9 : jx_X x b L xs) (hL : L ≤ 193) (hR : rmX0_cell.frames + 1 ≤ rm.frames ∧ 8 + (2 + 11) + rmX0_cell.locals ≤ rm.locals) (hd : decode cc pc = .ok (.invokestatic 9, 3)) (hroom : (st.map fun v => v.category).sum ≤ 8) (hcs : c0 ≤ rm.cells ∧ c1 ≤ rm.slots) (h : jx_J x c0 c1 w (pc + 3) lv (.int (bl_c0 L xs) :: st)) : jx_J x c0 c1 w pc lv (.int (nI 0) :: .ref b :: st) := by
  obtain ⟨p, l, e, R, s, m, args, below, meth, c, D, A, n0, Q⟩ := x
  obtain ⟨hx, hb, hml, rfl, rfl, hown, hts, hK, hA, -⟩ := G
  obtain ⟨hX, hbl, hbA⟩ := X9
  intro H locs ls hP hD hS hl
  have hX1 : va_X b L xs s H := hX.kept (hS.2.1 b hbl hbA)
  have hbH : b < H.size := Nat.lt_of_lt_of_le hbl hS.1
  refine va_calli (va_runS (As := [.ref b, .int (nI 0)]) (rest := st) ⟨hx, hb, hml, hown, hts⟩ (kL_cell l b L xs hL) (cwS_cell hR s args hts) ⟨fun a U g mk q => ⟨q.1, va_X.moved (u := U) (U := U.calling g mk a) (Vm.Alike.refl U.vm) q.2.1, q.2.2⟩, fun U hU hW => ⟨rfl, by rw [hU]; exact hX1.moved hW.alike, by rw [hU]; exact hbH⟩⟩ rfl rfl hl.1 rfl (lv_room hroom) hd hcs) hS (fun q _ h => h.elim) (fun q h => h.elim) (fun r u t H1 locs1 ht hvm hw1 hB hz1 hk1 hS1 => ?_)
  subst hw1
  exact h H1 locs1 ls (hP.kept (fun k q hq => hk1 q.1 (hP k q hq).lt (fun h => h))) hD hS1 hl
end
section
set_option maxRecDepth 100000
/-! the cases of the law's switch: both objects are called, the answers are the same, the state is one again -/
section LW
variable {x : JX} {cb ci : ClassId} {b L i : Nat} {xs : Nat → Int32} {o o2 : Nat} {a a2 : Nat → Nat} {w1 w2 : va_W}
set_option maxHeartbeats 4000000 in
theorem lw_c0 (G : jx_G x cb ci cL_law 4 RX0 room_1 ret) (X9 : jx_X x b L xs) (hL : L ≤ 193) (hi : i + 3 ≤ L) (I : bl_INV cb ci o a o2 a2 w1 w2) (K : ∀ u1 u2, bl_INV cb ci o a o2 a2 u1 u2 → jx_J x 16 961 (u1 ++ u2) 445 [(0, .ref b), (1, .ref o), (2, .ref o2), (3, .int (nI i))] []) : jx_J x 16 961 (w1 ++ w2) 124 [(0, .ref b), (1, .ref o), (2, .ref o2), (3, .int (nI i))] [] := by
  obtain ⟨n, z, fm, fc, ct, fl, hA, ⟨kn, fo, fh, ff, ft, fi, fd, rfl, h1, hk⟩, ⟨gm, gc, gl, fb, la, fr, rfl, hg1, hg2, hg3⟩⟩ := I
  obtain ⟨r, P1, P2, M1, M2, -, hI⟩ := pr_change (cb := cb) (ci := ci) (o := o) (a := a) (o2 := o2) (a2 := a2) (fh := fh) (ft := ft) (fi := fi) (fd := fd) (fb := fb) (la := la) (fr := fr) hA h1 hk hg1 hg2 hg3 (xs (i + 1))
  refine jx_aload_n (pc := 124) G dL_law_124 rfl 1 rfl ?_
  refine jx_aload_n (pc := 125) G dL_law_125 rfl 0 rfl ?_
  refine jx_iload_n (pc := 126) G dL_law_126 rfl 3 rfl ?_
  refine jx_iconst (pc := 127) G dL_law_127 kc_1 ?_
  refine jx_iadd (pc := 128) G dL_law_128 ?_
  refine jx_sld (pc := 129) G X9 hL dL_law_129 (by omega) ?_
  refine jx_swap ?_
  refine jx_callF (pc := 130) G (q0 := 0) (As := [.int (xs (i + 1))]) (rest := []) M1 (cwL_X1_change ⟨Nat.le_of_ble_eq_true rfl, Nat.le_of_ble_eq_true rfl⟩) rfl rfl rfl rfl (Nat.le_of_ble_eq_true rfl) ⟨Nat.le_of_ble_eq_true rfl, Nat.le_of_ble_eq_true rfl⟩ dL_law_130 (fun r1 u1 e1 => ?_)
  refine jx_aload_n (pc := 133) G dL_law_133 rfl 2 rfl ?_
  refine jx_aload_n (pc := 134) G dL_law_134 rfl 0 rfl ?_
  refine jx_iload_n (pc := 135) G dL_law_135 rfl 3 rfl ?_
  refine jx_iconst (pc := 136) G dL_law_136 kc_1 ?_
  refine jx_iadd (pc := 137) G dL_law_137 ?_
  refine jx_sld (pc := 138) G X9 hL dL_law_138 (by omega) ?_
  refine jx_swap ?_
  refine jx_callF (pc := 139) G (q0 := 0) (As := [.int (xs (i + 1))]) (rest := [.int r1]) M2 (cwL_X2_change ⟨Nat.le_of_ble_eq_true rfl, Nat.le_of_ble_eq_true rfl⟩) rfl rfl rfl rfl (Nat.le_of_ble_eq_true rfl) ⟨Nat.le_of_ble_eq_true rfl, Nat.le_of_ble_eq_true rfl⟩ dL_law_139 (fun r2 u2 e2 => ?_)
  refine jx_icmp_eqT (pc := 142) (tgt := 445) G dL_law_142 (by decide) (e1.1.trans e2.1.symm) ?_
  exact K _ _ (hI _ _ e1.2 e2.2)
set_option maxHeartbeats 4000000 in
theorem lw_c1 (G : jx_G x cb ci cL_law 4 RX0 room_1 ret) (X9 : jx_X x b L xs) (hL : L ≤ 193) (hi : i + 3 ≤ L) (I : bl_INV cb ci o a o2 a2 w1 w2) (K : ∀ u1 u2, bl_INV cb ci o a o2 a2 u1 u2 → jx_J x 16 961 (u1 ++ u2) 445 [(0, .ref b), (1, .ref o), (2, .ref o2), (3, .int (nI i))] []) : jx_J x 16 961 (w1 ++ w2) 147 [(0, .ref b), (1, .ref o), (2, .ref o2), (3, .int (nI i))] [] := by
  obtain ⟨n, z, fm, fc, ct, fl, hA, ⟨kn, fo, fh, ff, ft, fi, fd, rfl, h1, hk⟩, ⟨gm, gc, gl, fb, la, fr, rfl, hg1, hg2, hg3⟩⟩ := I
  obtain ⟨r, P1, P2, M1, M2, -, hI⟩ := pr_drop (cb := cb) (ci := ci) (o := o) (a := a) (o2 := o2) (a2 := a2) (fh := fh) (ft := ft) (fi := fi) (fd := fd) (fb := fb) (la := la) (fr := fr) hA h1 hk hg1 hg2 hg3
  refine jx_aload_n (pc := 147) G dL_law_147 rfl 1 rfl ?_
  refine jx_swap ?_
  refine jx_callF (pc := 148) G (q0 := 0) (As := []) (rest := []) M1 (cwL_X1_drop ⟨Nat.le_of_ble_eq_true rfl, Nat.le_of_ble_eq_true rfl⟩) rfl rfl rfl rfl (Nat.le_of_ble_eq_true rfl) ⟨Nat.le_of_ble_eq_true rfl, Nat.le_of_ble_eq_true rfl⟩ dL_law_148 (fun r1 u1 e1 => ?_)
  refine jx_aload_n (pc := 151) G dL_law_151 rfl 2 rfl ?_
  refine jx_swap ?_
  refine jx_callF (pc := 152) G (q0 := 0) (As := []) (rest := [.int r1]) M2 (cwL_X2_drop ⟨Nat.le_of_ble_eq_true rfl, Nat.le_of_ble_eq_true rfl⟩) rfl rfl rfl rfl (Nat.le_of_ble_eq_true rfl) ⟨Nat.le_of_ble_eq_true rfl, Nat.le_of_ble_eq_true rfl⟩ dL_law_152 (fun r2 u2 e2 => ?_)
  refine jx_icmp_eqT (pc := 155) (tgt := 445) G dL_law_155 (by decide) (e1.1.trans e2.1.symm) ?_
  exact K _ _ (hI _ _ e1.2 e2.2)
set_option maxHeartbeats 4000000 in
theorem lw_c2 (G : jx_G x cb ci cL_law 4 RX0 room_1 ret) (X9 : jx_X x b L xs) (hL : L ≤ 193) (hi : i + 3 ≤ L) (I : bl_INV cb ci o a o2 a2 w1 w2) (K : ∀ u1 u2, bl_INV cb ci o a o2 a2 u1 u2 → jx_J x 16 961 (u1 ++ u2) 445 [(0, .ref b), (1, .ref o), (2, .ref o2), (3, .int (nI i))] []) : jx_J x 16 961 (w1 ++ w2) 160 [(0, .ref b), (1, .ref o), (2, .ref o2), (3, .int (nI i))] [] := by
  obtain ⟨n, z, fm, fc, ct, fl, hA, ⟨kn, fo, fh, ff, ft, fi, fd, rfl, h1, hk⟩, ⟨gm, gc, gl, fb, la, fr, rfl, hg1, hg2, hg3⟩⟩ := I
  obtain ⟨r, P1, P2, M1, M2, -, hI⟩ := pr_call (cb := cb) (ci := ci) (o := o) (a := a) (o2 := o2) (a2 := a2) (fh := fh) (ft := ft) (fi := fi) (fd := fd) (fb := fb) (la := la) (fr := fr) hA h1 hk hg1 hg2 hg3 (xs (i + 1)) (xs (i + 2))
  refine jx_aload_n (pc := 160) G dL_law_160 rfl 1 rfl ?_
  refine jx_aload_n (pc := 161) G dL_law_161 rfl 0 rfl ?_
  refine jx_iload_n (pc := 162) G dL_law_162 rfl 3 rfl ?_
  refine jx_iconst (pc := 163) G dL_law_163 kc_1 ?_
  refine jx_iadd (pc := 164) G dL_law_164 ?_
  refine jx_sld (pc := 165) G X9 hL dL_law_165 (by omega) ?_
  refine jx_aload_n (pc := 166) G dL_law_166 rfl 0 rfl ?_
  refine jx_iload_n (pc := 167) G dL_law_167 rfl 3 rfl ?_
  refine jx_iconst (pc := 168) G dL_law_168 kc_2 ?_
  refine jx_iadd (pc := 169) G dL_law_169 ?_
  refine jx_sld (pc := 170) G X9 hL dL_law_170 (by omega) ?_
  refine jx_swap ?_
  refine jx_callF (pc := 171) G (q0 := 0) (As := [.int (xs (i + 1)), .int (xs (i + 2))]) (rest := []) M1 (cwL_X1_call ⟨Nat.le_of_ble_eq_true rfl, Nat.le_of_ble_eq_true rfl⟩) rfl rfl rfl rfl (Nat.le_of_ble_eq_true rfl) ⟨Nat.le_of_ble_eq_true rfl, Nat.le_of_ble_eq_true rfl⟩ dL_law_171 (fun r1 u1 e1 => ?_)
  refine jx_aload_n (pc := 174) G dL_law_174 rfl 2 rfl ?_
  refine jx_aload_n (pc := 175) G dL_law_175 rfl 0 rfl ?_
  refine jx_iload_n (pc := 176) G dL_law_176 rfl 3 rfl ?_
  refine jx_iconst (pc := 177) G dL_law_177 kc_1 ?_
  refine jx_iadd (pc := 178) G dL_law_178 ?_
  refine jx_sld (pc := 179) G X9 hL dL_law_179 (by omega) ?_
  refine jx_aload_n (pc := 180) G dL_law_180 rfl 0 rfl ?_
  refine jx_iload_n (pc := 181) G dL_law_181 rfl 3 rfl ?_
  refine jx_iconst (pc := 182) G dL_law_182 kc_2 ?_
  refine jx_iadd (pc := 183) G dL_law_183 ?_
  refine jx_sld (pc := 184) G X9 hL dL_law_184 (by omega) ?_
  refine jx_swap ?_
  refine jx_callF (pc := 185) G (q0 := 0) (As := [.int (xs (i + 1)), .int (xs (i + 2))]) (rest := [.int r1]) M2 (cwL_X2_call ⟨Nat.le_of_ble_eq_true rfl, Nat.le_of_ble_eq_true rfl⟩) rfl rfl rfl rfl (Nat.le_of_ble_eq_true rfl) ⟨Nat.le_of_ble_eq_true rfl, Nat.le_of_ble_eq_true rfl⟩ dL_law_185 (fun r2 u2 e2 => ?_)
  refine jx_icmp_eqT (pc := 188) (tgt := 445) G dL_law_188 (by decide) (e1.1.trans e2.1.symm) ?_
  exact K _ _ (hI _ _ e1.2 e2.2)
set_option maxHeartbeats 4000000 in
theorem lw_c3 (G : jx_G x cb ci cL_law 4 RX0 room_1 ret) (X9 : jx_X x b L xs) (hL : L ≤ 193) (hi : i + 3 ≤ L) (I : bl_INV cb ci o a o2 a2 w1 w2) (K : ∀ u1 u2, bl_INV cb ci o a o2 a2 u1 u2 → jx_J x 16 961 (u1 ++ u2) 445 [(0, .ref b), (1, .ref o), (2, .ref o2), (3, .int (nI i))] []) : jx_J x 16 961 (w1 ++ w2) 193 [(0, .ref b), (1, .ref o), (2, .ref o2), (3, .int (nI i))] [] := by
  obtain ⟨n, z, fm, fc, ct, fl, hA, ⟨kn, fo, fh, ff, ft, fi, fd, rfl, h1, hk⟩, ⟨gm, gc, gl, fb, la, fr, rfl, hg1, hg2, hg3⟩⟩ := I
  obtain ⟨r, P1, P2, M1, M2, -, hI⟩ := pr_lead (cb := cb) (ci := ci) (o := o) (a := a) (o2 := o2) (a2 := a2) (fh := fh) (ft := ft) (fi := fi) (fd := fd) (fb := fb) (la := la) (fr := fr) hA h1 hk hg1 hg2 hg3 (xs (i + 1))
  refine jx_aload_n (pc := 193) G dL_law_193 rfl 1 rfl ?_
  refine jx_aload_n (pc := 194) G dL_law_194 rfl 0 rfl ?_
  refine jx_iload_n (pc := 195) G dL_law_195 rfl 3 rfl ?_
  refine jx_iconst (pc := 196) G dL_law_196 kc_1 ?_
  refine jx_iadd (pc := 197) G dL_law_197 ?_
  refine jx_sld (pc := 198) G X9 hL dL_law_198 (by omega) ?_
  refine jx_swap ?_
  refine jx_callF (pc := 199) G (q0 := 0) (As := [.int (xs (i + 1))]) (rest := []) M1 (cwL_X1_lead ⟨Nat.le_of_ble_eq_true rfl, Nat.le_of_ble_eq_true rfl⟩) rfl rfl rfl rfl (Nat.le_of_ble_eq_true rfl) ⟨Nat.le_of_ble_eq_true rfl, Nat.le_of_ble_eq_true rfl⟩ dL_law_199 (fun r1 u1 e1 => ?_)
  refine jx_aload_n (pc := 202) G dL_law_202 rfl 2 rfl ?_
  refine jx_aload_n (pc := 203) G dL_law_203 rfl 0 rfl ?_
  refine jx_iload_n (pc := 204) G dL_law_204 rfl 3 rfl ?_
  refine jx_iconst (pc := 205) G dL_law_205 kc_1 ?_
  refine jx_iadd (pc := 206) G dL_law_206 ?_
  refine jx_sld (pc := 207) G X9 hL dL_law_207 (by omega) ?_
  refine jx_swap ?_
  refine jx_callF (pc := 208) G (q0 := 0) (As := [.int (xs (i + 1))]) (rest := [.int r1]) M2 (cwL_X2_lead ⟨Nat.le_of_ble_eq_true rfl, Nat.le_of_ble_eq_true rfl⟩) rfl rfl rfl rfl (Nat.le_of_ble_eq_true rfl) ⟨Nat.le_of_ble_eq_true rfl, Nat.le_of_ble_eq_true rfl⟩ dL_law_208 (fun r2 u2 e2 => ?_)
  refine jx_icmp_eqT (pc := 211) (tgt := 445) G dL_law_211 (by decide) (e1.1.trans e2.1.symm) ?_
  exact K _ _ (hI _ _ e1.2 e2.2)
set_option maxHeartbeats 4000000 in
theorem lw_c4 (G : jx_G x cb ci cL_law 4 RX0 room_1 ret) (X9 : jx_X x b L xs) (hL : L ≤ 193) (hi : i + 3 ≤ L) (I : bl_INV cb ci o a o2 a2 w1 w2) (K : ∀ u1 u2, bl_INV cb ci o a o2 a2 u1 u2 → jx_J x 16 961 (u1 ++ u2) 445 [(0, .ref b), (1, .ref o), (2, .ref o2), (3, .int (nI i))] []) : jx_J x 16 961 (w1 ++ w2) 216 [(0, .ref b), (1, .ref o), (2, .ref o2), (3, .int (nI i))] [] := by
  obtain ⟨n, z, fm, fc, ct, fl, hA, ⟨kn, fo, fh, ff, ft, fi, fd, rfl, h1, hk⟩, ⟨gm, gc, gl, fb, la, fr, rfl, hg1, hg2, hg3⟩⟩ := I
  obtain ⟨r, P1, P2, M1, M2, -, hI⟩ := pr_back (cb := cb) (ci := ci) (o := o) (a := a) (o2 := o2) (a2 := a2) (fh := fh) (ft := ft) (fi := fi) (fd := fd) (fb := fb) (la := la) (fr := fr) hA h1 hk hg1 hg2 hg3
  refine jx_aload_n (pc := 216) G dL_law_216 rfl 1 rfl ?_
  refine jx_swap ?_
  refine jx_callF (pc := 217) G (q0 := 0) (As := []) (rest := []) M1 (cwL_X1_back ⟨Nat.le_of_ble_eq_true rfl, Nat.le_of_ble_eq_true rfl⟩) rfl rfl rfl rfl (Nat.le_of_ble_eq_true rfl) ⟨Nat.le_of_ble_eq_true rfl, Nat.le_of_ble_eq_true rfl⟩ dL_law_217 (fun r1 u1 e1 => ?_)
  refine jx_aload_n (pc := 220) G dL_law_220 rfl 2 rfl ?_
  refine jx_swap ?_
  refine jx_callF (pc := 221) G (q0 := 0) (As := []) (rest := [.int r1]) M2 (cwL_X2_back ⟨Nat.le_of_ble_eq_true rfl, Nat.le_of_ble_eq_true rfl⟩) rfl rfl rfl rfl (Nat.le_of_ble_eq_true rfl) ⟨Nat.le_of_ble_eq_true rfl, Nat.le_of_ble_eq_true rfl⟩ dL_law_221 (fun r2 u2 e2 => ?_)
  refine jx_icmp_eqT (pc := 224) (tgt := 445) G dL_law_224 (by decide) (e1.1.trans e2.1.symm) ?_
  exact K _ _ (hI _ _ e1.2 e2.2)
set_option maxHeartbeats 4000000 in
theorem lw_c5 (G : jx_G x cb ci cL_law 4 RX0 room_1 ret) (X9 : jx_X x b L xs) (hL : L ≤ 193) (hi : i + 3 ≤ L) (I : bl_INV cb ci o a o2 a2 w1 w2) (K : ∀ u1 u2, bl_INV cb ci o a o2 a2 u1 u2 → jx_J x 16 961 (u1 ++ u2) 445 [(0, .ref b), (1, .ref o), (2, .ref o2), (3, .int (nI i))] []) : jx_J x 16 961 (w1 ++ w2) 229 [(0, .ref b), (1, .ref o), (2, .ref o2), (3, .int (nI i))] [] := by
  obtain ⟨n, z, fm, fc, ct, fl, hA, ⟨kn, fo, fh, ff, ft, fi, fd, rfl, h1, hk⟩, ⟨gm, gc, gl, fb, la, fr, rfl, hg1, hg2, hg3⟩⟩ := I
  obtain ⟨r, P1, P2, M1, M2, -, hI⟩ := pr_turn (cb := cb) (ci := ci) (o := o) (a := a) (o2 := o2) (a2 := a2) (fh := fh) (ft := ft) (fi := fi) (fd := fd) (fb := fb) (la := la) (fr := fr) hA h1 hk hg1 hg2 hg3
  refine jx_aload_n (pc := 229) G dL_law_229 rfl 1 rfl ?_
  refine jx_swap ?_
  refine jx_callF (pc := 230) G (q0 := 0) (As := []) (rest := []) M1 (cwL_X1_turn ⟨Nat.le_of_ble_eq_true rfl, Nat.le_of_ble_eq_true rfl⟩) rfl rfl rfl rfl (Nat.le_of_ble_eq_true rfl) ⟨Nat.le_of_ble_eq_true rfl, Nat.le_of_ble_eq_true rfl⟩ dL_law_230 (fun r1 u1 e1 => ?_)
  refine jx_aload_n (pc := 233) G dL_law_233 rfl 2 rfl ?_
  refine jx_swap ?_
  refine jx_callF (pc := 234) G (q0 := 0) (As := []) (rest := [.int r1]) M2 (cwL_X2_turn ⟨Nat.le_of_ble_eq_true rfl, Nat.le_of_ble_eq_true rfl⟩) rfl rfl rfl rfl (Nat.le_of_ble_eq_true rfl) ⟨Nat.le_of_ble_eq_true rfl, Nat.le_of_ble_eq_true rfl⟩ dL_law_234 (fun r2 u2 e2 => ?_)
  refine jx_icmp_eqT (pc := 237) (tgt := 445) G dL_law_237 (by decide) (e1.1.trans e2.1.symm) ?_
  exact K _ _ (hI _ _ e1.2 e2.2)
set_option maxHeartbeats 4000000 in
theorem lw_c6 (G : jx_G x cb ci cL_law 4 RX0 room_1 ret) (X9 : jx_X x b L xs) (hL : L ≤ 193) (hi : i + 3 ≤ L) (I : bl_INV cb ci o a o2 a2 w1 w2) (K : ∀ u1 u2, bl_INV cb ci o a o2 a2 u1 u2 → jx_J x 16 961 (u1 ++ u2) 445 [(0, .ref b), (1, .ref o), (2, .ref o2), (3, .int (nI i))] []) : jx_J x 16 961 (w1 ++ w2) 242 [(0, .ref b), (1, .ref o), (2, .ref o2), (3, .int (nI i))] [] := by
  obtain ⟨n, z, fm, fc, ct, fl, hA, ⟨kn, fo, fh, ff, ft, fi, fd, rfl, h1, hk⟩, ⟨gm, gc, gl, fb, la, fr, rfl, hg1, hg2, hg3⟩⟩ := I
  obtain ⟨r, P1, P2, M1, M2, -, hI⟩ := pr_last (cb := cb) (ci := ci) (o := o) (a := a) (o2 := o2) (a2 := a2) (fh := fh) (ft := ft) (fi := fi) (fd := fd) (fb := fb) (la := la) (fr := fr) hA h1 hk hg1 hg2 hg3
  refine jx_aload_n (pc := 242) G dL_law_242 rfl 1 rfl ?_
  refine jx_swap ?_
  refine jx_callF (pc := 243) G (q0 := 0) (As := []) (rest := []) M1 (cwL_X1_last ⟨Nat.le_of_ble_eq_true rfl, Nat.le_of_ble_eq_true rfl⟩) rfl rfl rfl rfl (Nat.le_of_ble_eq_true rfl) ⟨Nat.le_of_ble_eq_true rfl, Nat.le_of_ble_eq_true rfl⟩ dL_law_243 (fun r1 u1 e1 => ?_)
  refine jx_aload_n (pc := 246) G dL_law_246 rfl 2 rfl ?_
  refine jx_swap ?_
  refine jx_callF (pc := 247) G (q0 := 0) (As := []) (rest := [.int r1]) M2 (cwL_X2_last ⟨Nat.le_of_ble_eq_true rfl, Nat.le_of_ble_eq_true rfl⟩) rfl rfl rfl rfl (Nat.le_of_ble_eq_true rfl) ⟨Nat.le_of_ble_eq_true rfl, Nat.le_of_ble_eq_true rfl⟩ dL_law_247 (fun r2 u2 e2 => ?_)
  refine jx_icmp_eqT (pc := 250) (tgt := 445) G dL_law_250 (by decide) (e1.1.trans e2.1.symm) ?_
  exact K _ _ (hI _ _ e1.2 e2.2)
set_option maxHeartbeats 4000000 in
theorem lw_c7 (G : jx_G x cb ci cL_law 4 RX0 room_1 ret) (X9 : jx_X x b L xs) (hL : L ≤ 193) (hi : i + 3 ≤ L) (I : bl_INV cb ci o a o2 a2 w1 w2) (K : ∀ u1 u2, bl_INV cb ci o a o2 a2 u1 u2 → jx_J x 16 961 (u1 ++ u2) 445 [(0, .ref b), (1, .ref o), (2, .ref o2), (3, .int (nI i))] []) : jx_J x 16 961 (w1 ++ w2) 255 [(0, .ref b), (1, .ref o), (2, .ref o2), (3, .int (nI i))] [] := by
  obtain ⟨n, z, fm, fc, ct, fl, hA, ⟨kn, fo, fh, ff, ft, fi, fd, rfl, h1, hk⟩, ⟨gm, gc, gl, fb, la, fr, rfl, hg1, hg2, hg3⟩⟩ := I
  obtain ⟨r, P1, P2, M1, M2, -, hI⟩ := pr_row (cb := cb) (ci := ci) (o := o) (a := a) (o2 := o2) (a2 := a2) (fh := fh) (ft := ft) (fi := fi) (fd := fd) (fb := fb) (la := la) (fr := fr) hA h1 hk hg1 hg2 hg3 (xs (i + 1))
  refine jx_aload_n (pc := 255) G dL_law_255 rfl 1 rfl ?_
  refine jx_aload_n (pc := 256) G dL_law_256 rfl 0 rfl ?_
  refine jx_iload_n (pc := 257) G dL_law_257 rfl 3 rfl ?_
  refine jx_iconst (pc := 258) G dL_law_258 kc_1 ?_
  refine jx_iadd (pc := 259) G dL_law_259 ?_
  refine jx_sld (pc := 260) G X9 hL dL_law_260 (by omega) ?_
  refine jx_swap ?_
  refine jx_callF (pc := 261) G (q0 := 0) (As := [.int (xs (i + 1))]) (rest := []) M1 (cwL_X1_row ⟨Nat.le_of_ble_eq_true rfl, Nat.le_of_ble_eq_true rfl⟩) rfl rfl rfl rfl (Nat.le_of_ble_eq_true rfl) ⟨Nat.le_of_ble_eq_true rfl, Nat.le_of_ble_eq_true rfl⟩ dL_law_261 (fun r1 u1 e1 => ?_)
  refine jx_aload_n (pc := 264) G dL_law_264 rfl 2 rfl ?_
  refine jx_aload_n (pc := 265) G dL_law_265 rfl 0 rfl ?_
  refine jx_iload_n (pc := 266) G dL_law_266 rfl 3 rfl ?_
  refine jx_iconst (pc := 267) G dL_law_267 kc_1 ?_
  refine jx_iadd (pc := 268) G dL_law_268 ?_
  refine jx_sld (pc := 269) G X9 hL dL_law_269 (by omega) ?_
  refine jx_swap ?_
  refine jx_callF (pc := 270) G (q0 := 0) (As := [.int (xs (i + 1))]) (rest := [.int r1]) M2 (cwL_X2_row ⟨Nat.le_of_ble_eq_true rfl, Nat.le_of_ble_eq_true rfl⟩) rfl rfl rfl rfl (Nat.le_of_ble_eq_true rfl) ⟨Nat.le_of_ble_eq_true rfl, Nat.le_of_ble_eq_true rfl⟩ dL_law_270 (fun r2 u2 e2 => ?_)
  refine jx_icmp_eqT (pc := 273) (tgt := 445) G dL_law_273 (by decide) (e1.1.trans e2.1.symm) ?_
  exact K _ _ (hI _ _ e1.2 e2.2)
set_option maxHeartbeats 4000000 in
theorem lw_c8 (G : jx_G x cb ci cL_law 4 RX0 room_1 ret) (X9 : jx_X x b L xs) (hL : L ≤ 193) (hi : i + 3 ≤ L) (I : bl_INV cb ci o a o2 a2 w1 w2) (K : ∀ u1 u2, bl_INV cb ci o a o2 a2 u1 u2 → jx_J x 16 961 (u1 ++ u2) 445 [(0, .ref b), (1, .ref o), (2, .ref o2), (3, .int (nI i))] []) : jx_J x 16 961 (w1 ++ w2) 278 [(0, .ref b), (1, .ref o), (2, .ref o2), (3, .int (nI i))] [] := by
  obtain ⟨n, z, fm, fc, ct, fl, hA, ⟨kn, fo, fh, ff, ft, fi, fd, rfl, h1, hk⟩, ⟨gm, gc, gl, fb, la, fr, rfl, hg1, hg2, hg3⟩⟩ := I
  obtain ⟨r, P1, P2, M1, M2, -, hI⟩ := pr_place (cb := cb) (ci := ci) (o := o) (a := a) (o2 := o2) (a2 := a2) (fh := fh) (ft := ft) (fi := fi) (fd := fd) (fb := fb) (la := la) (fr := fr) hA h1 hk hg1 hg2 hg3 (xs (i + 1)) (xs (i + 2))
  refine jx_aload_n (pc := 278) G dL_law_278 rfl 1 rfl ?_
  refine jx_aload_n (pc := 279) G dL_law_279 rfl 0 rfl ?_
  refine jx_iload_n (pc := 280) G dL_law_280 rfl 3 rfl ?_
  refine jx_iconst (pc := 281) G dL_law_281 kc_1 ?_
  refine jx_iadd (pc := 282) G dL_law_282 ?_
  refine jx_sld (pc := 283) G X9 hL dL_law_283 (by omega) ?_
  refine jx_aload_n (pc := 284) G dL_law_284 rfl 0 rfl ?_
  refine jx_iload_n (pc := 285) G dL_law_285 rfl 3 rfl ?_
  refine jx_iconst (pc := 286) G dL_law_286 kc_2 ?_
  refine jx_iadd (pc := 287) G dL_law_287 ?_
  refine jx_sld (pc := 288) G X9 hL dL_law_288 (by omega) ?_
  refine jx_swap ?_
  refine jx_callF (pc := 289) G (q0 := 0) (As := [.int (xs (i + 1)), .int (xs (i + 2))]) (rest := []) M1 (cwL_X1_place ⟨Nat.le_of_ble_eq_true rfl, Nat.le_of_ble_eq_true rfl⟩) rfl rfl rfl rfl (Nat.le_of_ble_eq_true rfl) ⟨Nat.le_of_ble_eq_true rfl, Nat.le_of_ble_eq_true rfl⟩ dL_law_289 (fun r1 u1 e1 => ?_)
  refine jx_aload_n (pc := 292) G dL_law_292 rfl 2 rfl ?_
  refine jx_aload_n (pc := 293) G dL_law_293 rfl 0 rfl ?_
  refine jx_iload_n (pc := 294) G dL_law_294 rfl 3 rfl ?_
  refine jx_iconst (pc := 295) G dL_law_295 kc_1 ?_
  refine jx_iadd (pc := 296) G dL_law_296 ?_
  refine jx_sld (pc := 297) G X9 hL dL_law_297 (by omega) ?_
  refine jx_aload_n (pc := 298) G dL_law_298 rfl 0 rfl ?_
  refine jx_iload_n (pc := 299) G dL_law_299 rfl 3 rfl ?_
  refine jx_iconst (pc := 300) G dL_law_300 kc_2 ?_
  refine jx_iadd (pc := 301) G dL_law_301 ?_
  refine jx_sld (pc := 302) G X9 hL dL_law_302 (by omega) ?_
  refine jx_swap ?_
  refine jx_callF (pc := 303) G (q0 := 0) (As := [.int (xs (i + 1)), .int (xs (i + 2))]) (rest := [.int r1]) M2 (cwL_X2_place ⟨Nat.le_of_ble_eq_true rfl, Nat.le_of_ble_eq_true rfl⟩) rfl rfl rfl rfl (Nat.le_of_ble_eq_true rfl) ⟨Nat.le_of_ble_eq_true rfl, Nat.le_of_ble_eq_true rfl⟩ dL_law_303 (fun r2 u2 e2 => ?_)
  refine jx_icmp_eqT (pc := 306) (tgt := 445) G dL_law_306 (by decide) (e1.1.trans e2.1.symm) ?_
  exact K _ _ (hI _ _ e1.2 e2.2)
set_option maxHeartbeats 4000000 in
theorem lw_c9 (G : jx_G x cb ci cL_law 4 RX0 room_1 ret) (X9 : jx_X x b L xs) (hL : L ≤ 193) (hi : i + 3 ≤ L) (I : bl_INV cb ci o a o2 a2 w1 w2) (K : ∀ u1 u2, bl_INV cb ci o a o2 a2 u1 u2 → jx_J x 16 961 (u1 ++ u2) 445 [(0, .ref b), (1, .ref o), (2, .ref o2), (3, .int (nI i))] []) : jx_J x 16 961 (w1 ++ w2) 311 [(0, .ref b), (1, .ref o), (2, .ref o2), (3, .int (nI i))] [] := by
  obtain ⟨n, z, fm, fc, ct, fl, hA, ⟨kn, fo, fh, ff, ft, fi, fd, rfl, h1, hk⟩, ⟨gm, gc, gl, fb, la, fr, rfl, hg1, hg2, hg3⟩⟩ := I
  obtain ⟨r, P1, P2, M1, M2, -, hI⟩ := pr_isTrue (cb := cb) (ci := ci) (o := o) (a := a) (o2 := o2) (a2 := a2) (fh := fh) (ft := ft) (fi := fi) (fd := fd) (fb := fb) (la := la) (fr := fr) hA h1 hk hg1 hg2 hg3
  refine jx_aload_n (pc := 311) G dL_law_311 rfl 1 rfl ?_
  refine jx_swap ?_
  refine jx_callF (pc := 312) G (q0 := 0) (As := []) (rest := []) M1 (cwL_X1_isTrue ⟨Nat.le_of_ble_eq_true rfl, Nat.le_of_ble_eq_true rfl⟩) rfl rfl rfl rfl (Nat.le_of_ble_eq_true rfl) ⟨Nat.le_of_ble_eq_true rfl, Nat.le_of_ble_eq_true rfl⟩ dL_law_312 (fun r1 u1 e1 => ?_)
  refine jx_aload_n (pc := 315) G dL_law_315 rfl 2 rfl ?_
  refine jx_swap ?_
  refine jx_callF (pc := 316) G (q0 := 0) (As := []) (rest := [.int r1]) M2 (cwL_X2_isTrue ⟨Nat.le_of_ble_eq_true rfl, Nat.le_of_ble_eq_true rfl⟩) rfl rfl rfl rfl (Nat.le_of_ble_eq_true rfl) ⟨Nat.le_of_ble_eq_true rfl, Nat.le_of_ble_eq_true rfl⟩ dL_law_316 (fun r2 u2 e2 => ?_)
  refine jx_icmp_eqT (pc := 319) (tgt := 445) G dL_law_319 (by decide) (e1.1.trans e2.1.symm) ?_
  exact K _ _ (hI _ _ e1.2 e2.2)
set_option maxHeartbeats 4000000 in
theorem lw_c10 (G : jx_G x cb ci cL_law 4 RX0 room_1 ret) (X9 : jx_X x b L xs) (hL : L ≤ 193) (hi : i + 3 ≤ L) (I : bl_INV cb ci o a o2 a2 w1 w2) (K : ∀ u1 u2, bl_INV cb ci o a o2 a2 u1 u2 → jx_J x 16 961 (u1 ++ u2) 445 [(0, .ref b), (1, .ref o), (2, .ref o2), (3, .int (nI i))] []) : jx_J x 16 961 (w1 ++ w2) 324 [(0, .ref b), (1, .ref o), (2, .ref o2), (3, .int (nI i))] [] := by
  obtain ⟨n, z, fm, fc, ct, fl, hA, ⟨kn, fo, fh, ff, ft, fi, fd, rfl, h1, hk⟩, ⟨gm, gc, gl, fb, la, fr, rfl, hg1, hg2, hg3⟩⟩ := I
  obtain ⟨r, P1, P2, M1, M2, -, hI⟩ := pr_different (cb := cb) (ci := ci) (o := o) (a := a) (o2 := o2) (a2 := a2) (fh := fh) (ft := ft) (fi := fi) (fd := fd) (fb := fb) (la := la) (fr := fr) hA h1 hk hg1 hg2 hg3
  refine jx_aload_n (pc := 324) G dL_law_324 rfl 1 rfl ?_
  refine jx_swap ?_
  refine jx_callF (pc := 325) G (q0 := 0) (As := []) (rest := []) M1 (cwL_X1_different ⟨Nat.le_of_ble_eq_true rfl, Nat.le_of_ble_eq_true rfl⟩) rfl rfl rfl rfl (Nat.le_of_ble_eq_true rfl) ⟨Nat.le_of_ble_eq_true rfl, Nat.le_of_ble_eq_true rfl⟩ dL_law_325 (fun r1 u1 e1 => ?_)
  refine jx_aload_n (pc := 328) G dL_law_328 rfl 2 rfl ?_
  refine jx_swap ?_
  refine jx_callF (pc := 329) G (q0 := 0) (As := []) (rest := [.int r1]) M2 (cwL_X2_different ⟨Nat.le_of_ble_eq_true rfl, Nat.le_of_ble_eq_true rfl⟩) rfl rfl rfl rfl (Nat.le_of_ble_eq_true rfl) ⟨Nat.le_of_ble_eq_true rfl, Nat.le_of_ble_eq_true rfl⟩ dL_law_329 (fun r2 u2 e2 => ?_)
  refine jx_icmp_eqT (pc := 332) (tgt := 445) G dL_law_332 (by decide) (e1.1.trans e2.1.symm) ?_
  exact K _ _ (hI _ _ e1.2 e2.2)
set_option maxHeartbeats 4000000 in
theorem lw_c11 (G : jx_G x cb ci cL_law 4 RX0 room_1 ret) (X9 : jx_X x b L xs) (hL : L ≤ 193) (hi : i + 3 ≤ L) (I : bl_INV cb ci o a o2 a2 w1 w2) (K : ∀ u1 u2, bl_INV cb ci o a o2 a2 u1 u2 → jx_J x 16 961 (u1 ++ u2) 445 [(0, .ref b), (1, .ref o), (2, .ref o2), (3, .int (nI i))] []) : jx_J x 16 961 (w1 ++ w2) 337 [(0, .ref b), (1, .ref o), (2, .ref o2), (3, .int (nI i))] [] := by
  obtain ⟨n, z, fm, fc, ct, fl, hA, ⟨kn, fo, fh, ff, ft, fi, fd, rfl, h1, hk⟩, ⟨gm, gc, gl, fb, la, fr, rfl, hg1, hg2, hg3⟩⟩ := I
  obtain ⟨r, P1, P2, M1, M2, -, hI⟩ := pr_falsePairs (cb := cb) (ci := ci) (o := o) (a := a) (o2 := o2) (a2 := a2) (fh := fh) (ft := ft) (fi := fi) (fd := fd) (fb := fb) (la := la) (fr := fr) hA h1 hk hg1 hg2 hg3
  refine jx_aload_n (pc := 337) G dL_law_337 rfl 1 rfl ?_
  refine jx_swap ?_
  refine jx_callF (pc := 338) G (q0 := 0) (As := []) (rest := []) M1 (cwL_X1_falsePairs ⟨Nat.le_of_ble_eq_true rfl, Nat.le_of_ble_eq_true rfl⟩) rfl rfl rfl rfl (Nat.le_of_ble_eq_true rfl) ⟨Nat.le_of_ble_eq_true rfl, Nat.le_of_ble_eq_true rfl⟩ dL_law_338 (fun r1 u1 e1 => ?_)
  refine jx_aload_n (pc := 341) G dL_law_341 rfl 2 rfl ?_
  refine jx_swap ?_
  refine jx_callF (pc := 342) G (q0 := 0) (As := []) (rest := [.int r1]) M2 (cwL_X2_falsePairs ⟨Nat.le_of_ble_eq_true rfl, Nat.le_of_ble_eq_true rfl⟩) rfl rfl rfl rfl (Nat.le_of_ble_eq_true rfl) ⟨Nat.le_of_ble_eq_true rfl, Nat.le_of_ble_eq_true rfl⟩ dL_law_342 (fun r2 u2 e2 => ?_)
  refine jx_icmp_eqT (pc := 345) (tgt := 445) G dL_law_345 (by decide) (e1.1.trans e2.1.symm) ?_
  exact K _ _ (hI _ _ e1.2 e2.2)
set_option maxHeartbeats 4000000 in
theorem lw_c12 (G : jx_G x cb ci cL_law 4 RX0 room_1 ret) (X9 : jx_X x b L xs) (hL : L ≤ 193) (hi : i + 3 ≤ L) (I : bl_INV cb ci o a o2 a2 w1 w2) (K : ∀ u1 u2, bl_INV cb ci o a o2 a2 u1 u2 → jx_J x 16 961 (u1 ++ u2) 445 [(0, .ref b), (1, .ref o), (2, .ref o2), (3, .int (nI i))] []) : jx_J x 16 961 (w1 ++ w2) 350 [(0, .ref b), (1, .ref o), (2, .ref o2), (3, .int (nI i))] [] := by
  obtain ⟨n, z, fm, fc, ct, fl, hA, ⟨kn, fo, fh, ff, ft, fi, fd, rfl, h1, hk⟩, ⟨gm, gc, gl, fb, la, fr, rfl, hg1, hg2, hg3⟩⟩ := I
  obtain ⟨r, P1, P2, M1, M2, -, hI⟩ := pr_falseAlone (cb := cb) (ci := ci) (o := o) (a := a) (o2 := o2) (a2 := a2) (fh := fh) (ft := ft) (fi := fi) (fd := fd) (fb := fb) (la := la) (fr := fr) hA h1 hk hg1 hg2 hg3 (xs (i + 1))
  refine jx_aload_n (pc := 350) G dL_law_350 rfl 1 rfl ?_
  refine jx_aload_n (pc := 351) G dL_law_351 rfl 0 rfl ?_
  refine jx_iload_n (pc := 352) G dL_law_352 rfl 3 rfl ?_
  refine jx_iconst (pc := 353) G dL_law_353 kc_1 ?_
  refine jx_iadd (pc := 354) G dL_law_354 ?_
  refine jx_sld (pc := 355) G X9 hL dL_law_355 (by omega) ?_
  refine jx_swap ?_
  refine jx_callF (pc := 356) G (q0 := 0) (As := [.int (xs (i + 1))]) (rest := []) M1 (cwL_X1_falseAlone ⟨Nat.le_of_ble_eq_true rfl, Nat.le_of_ble_eq_true rfl⟩) rfl rfl rfl rfl (Nat.le_of_ble_eq_true rfl) ⟨Nat.le_of_ble_eq_true rfl, Nat.le_of_ble_eq_true rfl⟩ dL_law_356 (fun r1 u1 e1 => ?_)
  refine jx_aload_n (pc := 359) G dL_law_359 rfl 2 rfl ?_
  refine jx_aload_n (pc := 360) G dL_law_360 rfl 0 rfl ?_
  refine jx_iload_n (pc := 361) G dL_law_361 rfl 3 rfl ?_
  refine jx_iconst (pc := 362) G dL_law_362 kc_1 ?_
  refine jx_iadd (pc := 363) G dL_law_363 ?_
  refine jx_sld (pc := 364) G X9 hL dL_law_364 (by omega) ?_
  refine jx_swap ?_
  refine jx_callF (pc := 365) G (q0 := 0) (As := [.int (xs (i + 1))]) (rest := [.int r1]) M2 (cwL_X2_falseAlone ⟨Nat.le_of_ble_eq_true rfl, Nat.le_of_ble_eq_true rfl⟩) rfl rfl rfl rfl (Nat.le_of_ble_eq_true rfl) ⟨Nat.le_of_ble_eq_true rfl, Nat.le_of_ble_eq_true rfl⟩ dL_law_365 (fun r2 u2 e2 => ?_)
  refine jx_icmp_eqT (pc := 368) (tgt := 445) G dL_law_368 (by decide) (e1.1.trans e2.1.symm) ?_
  exact K _ _ (hI _ _ e1.2 e2.2)
set_option maxHeartbeats 4000000 in
theorem lw_c13 (G : jx_G x cb ci cL_law 4 RX0 room_1 ret) (X9 : jx_X x b L xs) (hL : L ≤ 193) (hi : i + 3 ≤ L) (I : bl_INV cb ci o a o2 a2 w1 w2) (K : ∀ u1 u2, bl_INV cb ci o a o2 a2 u1 u2 → jx_J x 16 961 (u1 ++ u2) 445 [(0, .ref b), (1, .ref o), (2, .ref o2), (3, .int (nI i))] []) : jx_J x 16 961 (w1 ++ w2) 373 [(0, .ref b), (1, .ref o), (2, .ref o2), (3, .int (nI i))] [] := by
  obtain ⟨n, z, fm, fc, ct, fl, hA, ⟨kn, fo, fh, ff, ft, fi, fd, rfl, h1, hk⟩, ⟨gm, gc, gl, fb, la, fr, rfl, hg1, hg2, hg3⟩⟩ := I
  obtain ⟨r, P1, P2, M1, M2, -, hI⟩ := pr_order (cb := cb) (ci := ci) (o := o) (a := a) (o2 := o2) (a2 := a2) (fh := fh) (ft := ft) (fi := fi) (fd := fd) (fb := fb) (la := la) (fr := fr) hA h1 hk hg1 hg2 hg3 (xs (i + 1))
  refine jx_aload_n (pc := 373) G dL_law_373 rfl 1 rfl ?_
  refine jx_aload_n (pc := 374) G dL_law_374 rfl 0 rfl ?_
  refine jx_iload_n (pc := 375) G dL_law_375 rfl 3 rfl ?_
  refine jx_iconst (pc := 376) G dL_law_376 kc_1 ?_
  refine jx_iadd (pc := 377) G dL_law_377 ?_
  refine jx_sld (pc := 378) G X9 hL dL_law_378 (by omega) ?_
  refine jx_swap ?_
  refine jx_callF (pc := 379) G (q0 := 0) (As := [.int (xs (i + 1))]) (rest := []) M1 (cwL_X1_order ⟨Nat.le_of_ble_eq_true rfl, Nat.le_of_ble_eq_true rfl⟩) rfl rfl rfl rfl (Nat.le_of_ble_eq_true rfl) ⟨Nat.le_of_ble_eq_true rfl, Nat.le_of_ble_eq_true rfl⟩ dL_law_379 (fun r1 u1 e1 => ?_)
  refine jx_aload_n (pc := 382) G dL_law_382 rfl 2 rfl ?_
  refine jx_aload_n (pc := 383) G dL_law_383 rfl 0 rfl ?_
  refine jx_iload_n (pc := 384) G dL_law_384 rfl 3 rfl ?_
  refine jx_iconst (pc := 385) G dL_law_385 kc_1 ?_
  refine jx_iadd (pc := 386) G dL_law_386 ?_
  refine jx_sld (pc := 387) G X9 hL dL_law_387 (by omega) ?_
  refine jx_swap ?_
  refine jx_callF (pc := 388) G (q0 := 0) (As := [.int (xs (i + 1))]) (rest := [.int r1]) M2 (cwL_X2_order ⟨Nat.le_of_ble_eq_true rfl, Nat.le_of_ble_eq_true rfl⟩) rfl rfl rfl rfl (Nat.le_of_ble_eq_true rfl) ⟨Nat.le_of_ble_eq_true rfl, Nat.le_of_ble_eq_true rfl⟩ dL_law_388 (fun r2 u2 e2 => ?_)
  refine jx_icmp_eqT (pc := 391) (tgt := 445) G dL_law_391 (by decide) (e1.1.trans e2.1.symm) ?_
  exact K _ _ (hI _ _ e1.2 e2.2)
set_option maxHeartbeats 4000000 in
theorem lw_c14 (G : jx_G x cb ci cL_law 4 RX0 room_1 ret) (X9 : jx_X x b L xs) (hL : L ≤ 193) (hi : i + 3 ≤ L) (I : bl_INV cb ci o a o2 a2 w1 w2) (K : ∀ u1 u2, bl_INV cb ci o a o2 a2 u1 u2 → jx_J x 16 961 (u1 ++ u2) 445 [(0, .ref b), (1, .ref o), (2, .ref o2), (3, .int (nI i))] []) : jx_J x 16 961 (w1 ++ w2) 396 [(0, .ref b), (1, .ref o), (2, .ref o2), (3, .int (nI i))] [] := by
  obtain ⟨n, z, fm, fc, ct, fl, hA, ⟨kn, fo, fh, ff, ft, fi, fd, rfl, h1, hk⟩, ⟨gm, gc, gl, fb, la, fr, rfl, hg1, hg2, hg3⟩⟩ := I
  obtain ⟨r, P1, P2, M1, M2, -, hI⟩ := pr_home (cb := cb) (ci := ci) (o := o) (a := a) (o2 := o2) (a2 := a2) (fh := fh) (ft := ft) (fi := fi) (fd := fd) (fb := fb) (la := la) (fr := fr) hA h1 hk hg1 hg2 hg3
  refine jx_aload_n (pc := 396) G dL_law_396 rfl 1 rfl ?_
  refine jx_swap ?_
  refine jx_callF (pc := 397) G (q0 := 0) (As := []) (rest := []) M1 (cwL_X1_home ⟨Nat.le_of_ble_eq_true rfl, Nat.le_of_ble_eq_true rfl⟩) rfl rfl rfl rfl (Nat.le_of_ble_eq_true rfl) ⟨Nat.le_of_ble_eq_true rfl, Nat.le_of_ble_eq_true rfl⟩ dL_law_397 (fun r1 u1 e1 => ?_)
  refine jx_aload_n (pc := 400) G dL_law_400 rfl 2 rfl ?_
  refine jx_swap ?_
  refine jx_callF (pc := 401) G (q0 := 0) (As := []) (rest := [.int r1]) M2 (cwL_X2_home ⟨Nat.le_of_ble_eq_true rfl, Nat.le_of_ble_eq_true rfl⟩) rfl rfl rfl rfl (Nat.le_of_ble_eq_true rfl) ⟨Nat.le_of_ble_eq_true rfl, Nat.le_of_ble_eq_true rfl⟩ dL_law_401 (fun r2 u2 e2 => ?_)
  refine jx_icmp_eqT (pc := 404) (tgt := 445) G dL_law_404 (by decide) (e1.1.trans e2.1.symm) ?_
  exact K _ _ (hI _ _ e1.2 e2.2)
set_option maxHeartbeats 4000000 in
theorem lw_c15 (G : jx_G x cb ci cL_law 4 RX0 room_1 ret) (X9 : jx_X x b L xs) (hL : L ≤ 193) (hi : i + 3 ≤ L) (I : bl_INV cb ci o a o2 a2 w1 w2) (K : ∀ u1 u2, bl_INV cb ci o a o2 a2 u1 u2 → jx_J x 16 961 (u1 ++ u2) 445 [(0, .ref b), (1, .ref o), (2, .ref o2), (3, .int (nI i))] []) : jx_J x 16 961 (w1 ++ w2) 409 [(0, .ref b), (1, .ref o), (2, .ref o2), (3, .int (nI i))] [] := by
  obtain ⟨n, z, fm, fc, ct, fl, hA, ⟨kn, fo, fh, ff, ft, fi, fd, rfl, h1, hk⟩, ⟨gm, gc, gl, fb, la, fr, rfl, hg1, hg2, hg3⟩⟩ := I
  obtain ⟨r, P1, P2, M1, M2, -, hI⟩ := pr_leads (cb := cb) (ci := ci) (o := o) (a := a) (o2 := o2) (a2 := a2) (fh := fh) (ft := ft) (fi := fi) (fd := fd) (fb := fb) (la := la) (fr := fr) hA h1 hk hg1 hg2 hg3 (xs (i + 1))
  refine jx_aload_n (pc := 409) G dL_law_409 rfl 1 rfl ?_
  refine jx_aload_n (pc := 410) G dL_law_410 rfl 0 rfl ?_
  refine jx_iload_n (pc := 411) G dL_law_411 rfl 3 rfl ?_
  refine jx_iconst (pc := 412) G dL_law_412 kc_1 ?_
  refine jx_iadd (pc := 413) G dL_law_413 ?_
  refine jx_sld (pc := 414) G X9 hL dL_law_414 (by omega) ?_
  refine jx_swap ?_
  refine jx_callF (pc := 415) G (q0 := 0) (As := [.int (xs (i + 1))]) (rest := []) M1 (cwL_X1_leads ⟨Nat.le_of_ble_eq_true rfl, Nat.le_of_ble_eq_true rfl⟩) rfl rfl rfl rfl (Nat.le_of_ble_eq_true rfl) ⟨Nat.le_of_ble_eq_true rfl, Nat.le_of_ble_eq_true rfl⟩ dL_law_415 (fun r1 u1 e1 => ?_)
  refine jx_aload_n (pc := 418) G dL_law_418 rfl 2 rfl ?_
  refine jx_aload_n (pc := 419) G dL_law_419 rfl 0 rfl ?_
  refine jx_iload_n (pc := 420) G dL_law_420 rfl 3 rfl ?_
  refine jx_iconst (pc := 421) G dL_law_421 kc_1 ?_
  refine jx_iadd (pc := 422) G dL_law_422 ?_
  refine jx_sld (pc := 423) G X9 hL dL_law_423 (by omega) ?_
  refine jx_swap ?_
  refine jx_callF (pc := 424) G (q0 := 0) (As := [.int (xs (i + 1))]) (rest := [.int r1]) M2 (cwL_X2_leads ⟨Nat.le_of_ble_eq_true rfl, Nat.le_of_ble_eq_true rfl⟩) rfl rfl rfl rfl (Nat.le_of_ble_eq_true rfl) ⟨Nat.le_of_ble_eq_true rfl, Nat.le_of_ble_eq_true rfl⟩ dL_law_424 (fun r2 u2 e2 => ?_)
  refine jx_icmp_eqT (pc := 427) (tgt := 445) G dL_law_427 (by decide) (e1.1.trans e2.1.symm) ?_
  exact K _ _ (hI _ _ e1.2 e2.2)
set_option maxHeartbeats 4000000 in
theorem lw_c16 (G : jx_G x cb ci cL_law 4 RX0 room_1 ret) (X9 : jx_X x b L xs) (hL : L ≤ 193) (hi : i + 3 ≤ L) (I : bl_INV cb ci o a o2 a2 w1 w2) (K : ∀ u1 u2, bl_INV cb ci o a o2 a2 u1 u2 → jx_J x 16 961 (u1 ++ u2) 445 [(0, .ref b), (1, .ref o), (2, .ref o2), (3, .int (nI i))] []) : jx_J x 16 961 (w1 ++ w2) 432 [(0, .ref b), (1, .ref o), (2, .ref o2), (3, .int (nI i))] [] := by
  obtain ⟨n, z, fm, fc, ct, fl, hA, ⟨kn, fo, fh, ff, ft, fi, fd, rfl, h1, hk⟩, ⟨gm, gc, gl, fb, la, fr, rfl, hg1, hg2, hg3⟩⟩ := I
  obtain ⟨r, P1, P2, M1, M2, -, hI⟩ := pr_choices (cb := cb) (ci := ci) (o := o) (a := a) (o2 := o2) (a2 := a2) (fh := fh) (ft := ft) (fi := fi) (fd := fd) (fb := fb) (la := la) (fr := fr) hA h1 hk hg1 hg2 hg3
  refine jx_aload_n (pc := 432) G dL_law_432 rfl 1 rfl ?_
  refine jx_swap ?_
  refine jx_callF (pc := 433) G (q0 := 0) (As := []) (rest := []) M1 (cwL_X1_choices ⟨Nat.le_of_ble_eq_true rfl, Nat.le_of_ble_eq_true rfl⟩) rfl rfl rfl rfl (Nat.le_of_ble_eq_true rfl) ⟨Nat.le_of_ble_eq_true rfl, Nat.le_of_ble_eq_true rfl⟩ dL_law_433 (fun r1 u1 e1 => ?_)
  refine jx_aload_n (pc := 436) G dL_law_436 rfl 2 rfl ?_
  refine jx_swap ?_
  refine jx_callF (pc := 437) G (q0 := 0) (As := []) (rest := [.int r1]) M2 (cwL_X2_choices ⟨Nat.le_of_ble_eq_true rfl, Nat.le_of_ble_eq_true rfl⟩) rfl rfl rfl rfl (Nat.le_of_ble_eq_true rfl) ⟨Nat.le_of_ble_eq_true rfl, Nat.le_of_ble_eq_true rfl⟩ dL_law_437 (fun r2 u2 e2 => ?_)
  refine jx_icmp_eqT (pc := 440) (tgt := 445) G dL_law_440 (by decide) (e1.1.trans e2.1.symm) ?_
  exact K _ _ (hI _ _ e1.2 e2.2)
end LW
end
section
set_option maxRecDepth 100000
/-! the law's loop and its start -/
theorem lw_s3 : ∀ L, L < 194 → (nI L - nI 3).toInt = (L : Int) - 3 := by decide +kernel
theorem lw_cmp {L i : Nat} (hL : L ≤ 193) (hi : i ≤ 193) : nI L - nI 3 < nI i ↔ L < i + 3 := by
  rw [Int32.lt_iff_toInt_lt, lw_s3 L (by omega), nI_toInt (by omega)]
  omega
theorem lw_31 (y : Int32) : ∃ k, k < 32 ∧ y &&& nI 31 = nI k := by
  have e : y = nI y.toBitVec.toNat := by
    apply Int32.toBitVec_inj.1
    show y.toBitVec = BitVec.ofNat 32 y.toBitVec.toNat
    simp
  refine ⟨y.toBitVec.toNat % 32, Nat.mod_lt _ (by decide), ?_⟩
  have h := na_31 (a := y.toBitVec.toNat) y.toBitVec.isLt
  rw [← e] at h
  exact h
theorem lw_f1 : ∀ j, j < 13 → defaultValue (tyX1 j) = vp_V [.int (nI 0), .int (nI 0), .null, .null, .int (nI 0), .null, .int (nI 0), .null, .null, .null, .null, .null, .null] j := by
  intro j hj
  rw [nI_0]
  rcases (show j = 0 ∨ j = 1 ∨ j = 2 ∨ j = 3 ∨ j = 4 ∨ j = 5 ∨ j = 6 ∨ j = 7 ∨ j = 8 ∨ j = 9 ∨ j = 10 ∨ j = 11 ∨ j = 12 by omega) with rfl | rfl | rfl | rfl | rfl | rfl | rfl | rfl | rfl | rfl | rfl | rfl | rfl <;> rfl
theorem lw_f2 : ∀ j, j < 9 → defaultValue (tyX2 j) = vp_V [.int (nI 0), .int (nI 0), .null, .null, .int (nI 0), .null, .null, .int (nI 0), .null] j := by
  intro j hj
  rw [nI_0]
  rcases (show j = 0 ∨ j = 1 ∨ j = 2 ∨ j = 3 ∨ j = 4 ∨ j = 5 ∨ j = 6 ∨ j = 7 ∨ j = 8 by omega) with rfl | rfl | rfl | rfl | rfl | rfl | rfl | rfl | rfl <;> rfl
section LO
variable {x : JX} {cb ci : ClassId} {b L i : Nat} {xs : Nat → Int32} {o o2 : Nat} {a a2 : Nat → Nat} {w1 w2 : va_W}
set_option maxHeartbeats 4000000 in
theorem lw_body (G : jx_G x cb ci cL_law 4 RX0 room_1 ret) (X9 : jx_X x b L xs) (hL : L ≤ 193) (hi : i + 3 ≤ L) (I : bl_INV cb ci o a o2 a2 w1 w2) (K : ∀ u1 u2, bl_INV cb ci o a o2 a2 u1 u2 → jx_J x 16 961 (u1 ++ u2) 445 [(0, .ref b), (1, .ref o), (2, .ref o2), (3, .int (nI i))] []) : jx_J x 16 961 (w1 ++ w2) 36 [(0, .ref b), (1, .ref o), (2, .ref o2), (3, .int (nI i))] [] := by
  refine jx_aload_n (pc := 36) G dL_law_36 rfl 0 rfl ?_
  refine jx_iload_n (pc := 37) G dL_law_37 rfl 3 rfl ?_
  refine jx_sld (pc := 38) G X9 hL dL_law_38 (by omega) ?_
  refine jx_bipush (pc := 39) G dL_law_39 kb_31 ?_
  obtain ⟨k, hk, ek⟩ := lw_31 (xs i)
  refine jx_iandR (pc := 41) G dL_law_41 ek ?_
  by_cases h17 : 17 ≤ k
  · exact jx_tsOut (pc := 42) (tgt := 445) G dL_law_42 (Or.inr (by rw [nI_toInt (by omega)]; omega)) (by decide) (K _ _ I)
  rcases (show k = 0 ∨ k = 1 ∨ k = 2 ∨ k = 3 ∨ k = 4 ∨ k = 5 ∨ k = 6 ∨ k = 7 ∨ k = 8 ∨ k = 9 ∨ k = 10 ∨ k = 11 ∨ k = 12 ∨ k = 13 ∨ k = 14 ∨ k = 15 ∨ k = 16 by omega) with rfl | rfl | rfl | rfl | rfl | rfl | rfl | rfl | rfl | rfl | rfl | rfl | rfl | rfl | rfl | rfl | rfl
  · exact jx_tsIn (pc := 42) (off := 82) (tgt := 124) G dL_law_42 (by decide +kernel) (by decide +kernel) (by decide +kernel) (by decide) (lw_c0 G X9 hL hi I K)
  · exact jx_tsIn (pc := 42) (off := 105) (tgt := 147) G dL_law_42 (by decide +kernel) (by decide +kernel) (by decide +kernel) (by decide) (lw_c1 G X9 hL hi I K)
  · exact jx_tsIn (pc := 42) (off := 118) (tgt := 160) G dL_law_42 (by decide +kernel) (by decide +kernel) (by decide +kernel) (by decide) (lw_c2 G X9 hL hi I K)
  · exact jx_tsIn (pc := 42) (off := 151) (tgt := 193) G dL_law_42 (by decide +kernel) (by decide +kernel) (by decide +kernel) (by decide) (lw_c3 G X9 hL hi I K)
  · exact jx_tsIn (pc := 42) (off := 174) (tgt := 216) G dL_law_42 (by decide +kernel) (by decide +kernel) (by decide +kernel) (by decide) (lw_c4 G X9 hL hi I K)
  · exact jx_tsIn (pc := 42) (off := 187) (tgt := 229) G dL_law_42 (by decide +kernel) (by decide +kernel) (by decide +kernel) (by decide) (lw_c5 G X9 hL hi I K)
  · exact jx_tsIn (pc := 42) (off := 200) (tgt := 242) G dL_law_42 (by decide +kernel) (by decide +kernel) (by decide +kernel) (by decide) (lw_c6 G X9 hL hi I K)
  · exact jx_tsIn (pc := 42) (off := 213) (tgt := 255) G dL_law_42 (by decide +kernel) (by decide +kernel) (by decide +kernel) (by decide) (lw_c7 G X9 hL hi I K)
  · exact jx_tsIn (pc := 42) (off := 236) (tgt := 278) G dL_law_42 (by decide +kernel) (by decide +kernel) (by decide +kernel) (by decide) (lw_c8 G X9 hL hi I K)
  · exact jx_tsIn (pc := 42) (off := 269) (tgt := 311) G dL_law_42 (by decide +kernel) (by decide +kernel) (by decide +kernel) (by decide) (lw_c9 G X9 hL hi I K)
  · exact jx_tsIn (pc := 42) (off := 282) (tgt := 324) G dL_law_42 (by decide +kernel) (by decide +kernel) (by decide +kernel) (by decide) (lw_c10 G X9 hL hi I K)
  · exact jx_tsIn (pc := 42) (off := 295) (tgt := 337) G dL_law_42 (by decide +kernel) (by decide +kernel) (by decide +kernel) (by decide) (lw_c11 G X9 hL hi I K)
  · exact jx_tsIn (pc := 42) (off := 308) (tgt := 350) G dL_law_42 (by decide +kernel) (by decide +kernel) (by decide +kernel) (by decide) (lw_c12 G X9 hL hi I K)
  · exact jx_tsIn (pc := 42) (off := 331) (tgt := 373) G dL_law_42 (by decide +kernel) (by decide +kernel) (by decide +kernel) (by decide) (lw_c13 G X9 hL hi I K)
  · exact jx_tsIn (pc := 42) (off := 354) (tgt := 396) G dL_law_42 (by decide +kernel) (by decide +kernel) (by decide +kernel) (by decide) (lw_c14 G X9 hL hi I K)
  · exact jx_tsIn (pc := 42) (off := 367) (tgt := 409) G dL_law_42 (by decide +kernel) (by decide +kernel) (by decide +kernel) (by decide) (lw_c15 G X9 hL hi I K)
  · exact jx_tsIn (pc := 42) (off := 390) (tgt := 432) G dL_law_42 (by decide +kernel) (by decide +kernel) (by decide +kernel) (by decide) (lw_c16 G X9 hL hi I K)
end LO
section LS
variable {x : JX} {cb ci : ClassId} {b L : Nat} {xs : Nat → Int32} {o o2 : Nat} {a a2 : Nat → Nat}
set_option maxHeartbeats 4000000 in
theorem lw_loop (G : jx_G x cb ci cL_law 4 RX0 room_1 ret) (X9 : jx_X x b L xs) (hL : L ≤ 193) (E : ∀ (w : va_W) (lv : List (Nat × Value)), jx_J x 16 961 w 452 lv [.int (nI 1)]) : ∀ (f i : Nat) (w1 w2 : va_W), L ≤ i + 3 * f → i ≤ 193 → bl_INV cb ci o a o2 a2 w1 w2 → jx_J x 16 961 (w1 ++ w2) 28 [(0, .ref b), (1, .ref o), (2, .ref o2), (3, .int (nI i))] [] := by
  intro f
  induction f with
  | zero =>
    intro i w1 w2 hf h193 I
    refine jx_iload_n (pc := 28) G dL_law_28 rfl 3 rfl ?_
    refine jx_aload_n (pc := 29) G dL_law_29 rfl 0 rfl ?_
    refine jx_slen (pc := 30) G X9 dL_law_30 ?_
    refine jx_iconst (pc := 31) G dL_law_31 kc_3 ?_
    refine jx_isubI (pc := 32) G dL_law_32 ?_
    refine jx_icmp_gtI (pc := 33) (tgt := 451) G dL_law_33 (by decide) (fun h => ?_) (fun h => absurd ((lw_cmp hL h193).mpr (by omega)) h)
    refine jx_iconst (pc := 451) G dL_law_451 kc_1 ?_
    exact E _ _
  | succ f ih =>
    intro i w1 w2 hf h193 I
    refine jx_iload_n (pc := 28) G dL_law_28 rfl 3 rfl ?_
    refine jx_aload_n (pc := 29) G dL_law_29 rfl 0 rfl ?_
    refine jx_slen (pc := 30) G X9 dL_law_30 ?_
    refine jx_iconst (pc := 31) G dL_law_31 kc_3 ?_
    refine jx_isubI (pc := 32) G dL_law_32 ?_
    refine jx_icmp_gtI (pc := 33) (tgt := 451) G dL_law_33 (by decide) (fun h => ?_) (fun h => ?_)
    · refine jx_iconst (pc := 451) G dL_law_451 kc_1 ?_
      exact E _ _
    · have hi : i + 3 ≤ L := Nat.not_lt.mp (fun q => h ((lw_cmp hL h193).mpr q))
      refine lw_body G X9 hL hi I (fun u1 u2 J => ?_)
      refine jx_iincV (pc := 445) (d := 3) G dL_law_445 kc_3 (by decide) 3 rfl (i + 3) rfl [(0, .ref b), (1, .ref o), (2, .ref o2), (3, .int (nI (i + 3)))] rfl ?_
      refine jx_goto (pc := 448) (tgt := 28) G dL_law_448 (by decide) ?_
      exact ih (i + 3) u1 u2 (by omega) (by omega) J
end LS
set_option maxHeartbeats 4000000 in
theorem lw_start {x : JX} {cb ci : ClassId} {b L : Nat} {xs : Nat → Int32} (G : jx_G x cb ci cL_law 4 RX0 room_1 ret) (X9 : jx_X x b L xs) (hL : L ≤ 193) (E : ∀ (w : va_W) (lv : List (Nat × Value)), jx_J x 16 961 w 452 lv [.int (nI 1)]) : jx_J x 0 0 [] 0 [(0, .ref b)] [] := by
  refine jx_new (pc := 0) (C := RX1) (T := TX1) (N := 13) (ix := 0) (fs := [.int (nI 0), .int (nI 0), .null, .null, .int (nI 0), .null, .int (nI 0), .null, .null, .null, .null, .null, .null]) G in_X1 tyX1 tyX1_ok q32 q33 q30 rfl lw_f1 (Nat.le_of_ble_eq_true rfl) (Nat.le_of_ble_eq_true rfl) dL_law_0 (fun o => ?_)
  refine jx_dup (pc := 3) G dL_law_3 ?_
  refine jx_aload_n (pc := 4) G dL_law_4 rfl 0 rfl ?_
  refine jx_iconst (pc := 5) G dL_law_5 kc_0 ?_
  refine jx_cell (pc := 6) G X9 hL ⟨Nat.le_of_ble_eq_true rfl, Nat.le_of_ble_eq_true rfl⟩ dL_law_6 (Nat.le_of_ble_eq_true rfl) ⟨Nat.le_of_ble_eq_true rfl, Nat.le_of_ble_eq_true rfl⟩ ?_
  refine jx_callN (pc := 9) G (wr := []) (As := [.int (bl_c0 L xs)]) (rest := [.ref o]) (fun _ _ => kX_init (bl_c0 L xs)) (cwI_X1 ⟨Nat.le_of_ble_eq_true rfl, Nat.le_of_ble_eq_true rfl⟩) rfl rfl (Nat.le_of_ble_eq_true rfl) ⟨Nat.le_of_ble_eq_true rfl, Nat.le_of_ble_eq_true rfl⟩ dL_law_9 (fun w1 e1 => ?_)
  refine jx_astore_n (pc := 12) G dL_law_12 rfl (by decide) [(0, .ref b), (1, .ref o)] rfl ?_
  refine jx_new (pc := 13) (C := RX2) (T := TX2) (N := 9) (ix := 1) (fs := [.int (nI 0), .int (nI 0), .null, .null, .int (nI 0), .null, .null, .int (nI 0), .null]) G in_X2 tyX2 tyX2_ok q225 q226 q31 rfl lw_f2 (Nat.le_of_ble_eq_true rfl) (Nat.le_of_ble_eq_true rfl) dL_law_13 (fun o2 => ?_)
  refine jx_dup (pc := 16) G dL_law_16 ?_
  refine jx_aload_n (pc := 17) G dL_law_17 rfl 0 rfl ?_
  refine jx_iconst (pc := 18) G dL_law_18 kc_0 ?_
  refine jx_cell (pc := 19) G X9 hL ⟨Nat.le_of_ble_eq_true rfl, Nat.le_of_ble_eq_true rfl⟩ dL_law_19 (Nat.le_of_ble_eq_true rfl) ⟨Nat.le_of_ble_eq_true rfl, Nat.le_of_ble_eq_true rfl⟩ ?_
  refine jx_callN (pc := 22) G (As := [.int (bl_c0 L xs)]) (rest := [.ref o2]) (fun _ _ => kM_init (bl_c0 L xs)) (cwI_X2 ⟨Nat.le_of_ble_eq_true rfl, Nat.le_of_ble_eq_true rfl⟩) rfl rfl (Nat.le_of_ble_eq_true rfl) ⟨Nat.le_of_ble_eq_true rfl, Nat.le_of_ble_eq_true rfl⟩ dL_law_22 (fun w2 e2 => ?_)
  refine jx_astore_n (pc := 25) G dL_law_25 rfl (by decide) [(0, .ref b), (1, .ref o), (2, .ref o2)] rfl ?_
  refine jx_iconst (pc := 26) G dL_law_26 kc_1 ?_
  refine jx_istore_nR (pc := 27) G dL_law_27 rfl (by decide) [(0, .ref b), (1, .ref o), (2, .ref o2), (3, .int (nI 1))] rfl ?_
  obtain ⟨a, fm, fc, fl, fo, fh, ff, ft, fi, fd, m0, m1, m2, rfl⟩ := e1
  obtain ⟨a2, gm, gc, gl, fb, fr, g0, g1, g2, rfl⟩ := e2
  have h36 := bl_nb_in (bl_c0 L xs)
  have hok := bl_ok_1 h36.1 h36.2
  refine lw_loop (a := a) (a2 := a2) G X9 hL E L 1 _ _ (by omega) (by decide) ⟨bl_nb (bl_c0 L xs), 1, fm, fc, 0, fl, ⟨h36, ⟨by decide, by decide⟩, by decide, ⟨fun k hk => ?_, fun c c0 c3 => ?_⟩, fun i hi => absurd hi (by omega)⟩, ⟨0, fo, fh, ff, ft, fi, fd, rfl, by decide, fun q => absurd q (by decide)⟩, ⟨gm, gc, gl, fb, 0, fr, rfl, fun k hk => ?_, fun c c0 c3 => ?_, fun i hi => absurd hi (by omega)⟩⟩
  · rw [show k = 0 by omega, m0]
    exact hok
  · rcases (show c = 1 ∨ c = 2 by omega) with rfl | rfl
    · rw [m1]
      exact hok
    · rw [m2]
      exact hok
  · rw [show k = 0 by omega, m0, g0]
  · rcases (show c = 1 ∨ c = 2 by omega) with rfl | rfl
    · rw [m1, g1]
    · rw [m2, g2]
end
section
set_option maxRecDepth 100000
/-! THE CLAIM OUT OF ONE WALK OF THE LAW'S BODY. Your part is whole_start (and what it stands on); all else here is the same for every law, but numbers. -/
def R_law : String := "BellRowsLaw"
def lw_P (b : Addr) (xs : List Int32) (args : Array Value) (s : State) : Prop := args = #[.ref b] ∧ s.IntsAt b xs ∧ xs.length ≤ 193 ∧ (Jvm.Cond.and given_1 narrow_1).before args s = true
def lw_Q (_ : Array Value) (s : State) (o : Outcome) (t : State) : Prop := o = .returned (some (.int 1)) ∧ Framed s o t [] 600000 7290000
def lw_Z (below : List Frame) (a : Array Value) (s : State) : State → Prop := fun t => ∃ o, t.status = .running ∧ Ended t below o ∧ lw_Q a s o t
/-- the law's own end, with 1 on the stack, nothing written that was there before, its room as the claim has it -/
theorem lw_ret {p : Program} {l : Launch} {e : Env} {s : State} {m : MethodId} {below : List Frame} {meth : Method} {c : Code} {b : Nat} (hx : p.tables.exec = Jvm.exec) (hb : c.code = code) (hr : meth.sig.returnType = ret) (hlocks : meth.locks = false) {pc : Nat} {H : Heap} {ls : Array Slot} (hdg : decode code pc = .ok (.ireturn, 1)) : W p l e room_1 s m #[Value.ref b] below meth c H [] 600000 7290000 (lw_Z below #[Value.ref b] s) (F0 m pc ls [.int 1]) := by
  intro T hT X
  obtain ⟨fs, hret, hrun, hended, hW, hframe⟩ := X.leave (v := some (.int 1)) (hlocks := hlocks) (fun h => by rw [hr] at h; cases h)
  have hmeth' : T.vm.method? m = some meth := X.method'
  refine ⟨T.setFrames fs, ?_, .returned (some (.int 1)), hrun, hended, rfl, ⟨_, rfl⟩, hW, hframe⟩
  jvm_step X.here [X.here.top, hx, hb, hdg, hmeth', hr, ret, narrow_b1]
  (try refine ⟨rfl, ?_⟩); (try refine ⟨rfl, ?_⟩)
  first | (intro acts; rw [hret _ acts rfl rfl rfl]) | rw [hret _ _ rfl rfl rfl]
  exact Steps.refl _
/-- what holds at the law's entry: the machine, the code, the tables' words (any of lw_tbl by 'hts w (by decide +kernel)'), the script of L ints xs at the cell b, what the Statement gives of the start (any of its parts by flat_of_before) -/
def lw_At (p : Program) (s : State) (m : MethodId) (meth : Method) (c : Code) (b L : Nat) (xs : Nat → Int32) : Prop :=
  p.tables.exec = Jvm.exec ∧ c.code = code ∧ meth.sig.returnType = ret ∧ c.maxLocals = 4 ∧ s.vm.findClass R_law = some m.cls ∧ (∀ w ∈ lw_tbl, w.before #[Value.ref b] s = true) ∧ va_X b L xs s s.heap ∧ b < s.heap.size ∧ meth.locks = false ∧ (Jvm.Cond.and given_1 narrow_1).before #[Value.ref b] s = true
-- ===== YOUR PART BEGINS =====
/-- YOUR PART: from the entry, for every script of at most 193 ints, the law comes to its end with true -/
theorem whole_start {p : Program} {e : Env} {s : State} {m : MethodId} {below : List Frame} {meth : Method} {c : Code} (l : Launch) {b L : Nat} {xs : Nat → Int32} (hL : L ≤ 193) (C0 : lw_At p s m meth c b L xs) : W p l e room_1 s m #[Value.ref b] below meth c s.heap [] 0 0 (lw_Z below #[Value.ref b] s) (entryFrame m ([Value.ref b] : List Value).toArray 4) := by
  obtain ⟨hx, hb, hr, hml, hown, hts0, hX, hbl, hlocks, -⟩ := C0
  have hts : ∀ w ∈ lw_all, w.before #[Value.ref b] s = true := fun w h => hts0 w (lw_all_tbl h)
  obtain ⟨cC1, iS1, hK1⟩ := u_known (C := RX1) (T := TX1) (N := 13) (n := 13) hts in_X1 (hts _ q33)
  obtain ⟨cC2, iS2, hK2⟩ := u_known (C := RX2) (T := TX2) (N := 9) (n := 9) hts in_X2 (hts _ q226)
  obtain ⟨cb, kb, pb, b1, b2, b3⟩ := Cond.arrayClass_spec (hts _ q80)
  obtain ⟨ci, ki, pj, i1, i2, i3⟩ := Cond.arrayClass_spec (hts _ q81)
  have hK : va_K (fun k => if k = 0 then cC1 else cC2, fun k => if k = 0 then iS1 else iS2) clA (tyA cb ci) s := by
    refine ⟨fun k q hq => ?_, fun k q hq => ?_⟩
    · have h2 : k < 2 := (List.getElem?_eq_some_iff.mp hq).1
      rcases (show k = 0 ∨ k = 1 by omega) with rfl | rfl
      · have hq : some (RX1, TX1, 13) = some q := hq
        cases hq
        exact hK1
      · have hq : some (RX2, TX2, 9) = some q := hq
        cases hq
        exact hK2
    · have h2 : k < 2 := (List.getElem?_eq_some_iff.mp hq).1
      rcases (show k = 0 ∨ k = 1 by omega) with rfl | rfl
      · have hq : some (cb, FieldType.byte) = some q := hq
        cases hq
        exact ⟨fun n z => ⟨fun k h => (by cases h), kb, b2, pb, b3⟩, b1⟩
      · have hq : some (ci, FieldType.int) = some q := hq
        cases hq
        exact ⟨fun n z => ⟨fun k h => (by cases h), ki, i2, pj, i3⟩, i1⟩
  have hl := lv_entry ([.ref b]) (n := 4) (Nat.le_of_ble_eq_true rfl)
  rw [lg_entry_eq]
  have hl : lv_has _ 4 [(0, .ref b)] := hl
  refine lw_start (x := (p, l, e, room_1, s, m, #[Value.ref b], below, meth, c, (fun k => if k = 0 then cC1 else cC2, fun k => if k = 0 then iS1 else iS2), fun q => s.heap.size ≤ q, 4, lw_Z below #[Value.ref b] s)) (cb := cb) (ci := ci) (b := b) (L := L) (xs := xs) ⟨hx, hb, hml, rfl, rfl, hown, hts, hK, fun q h => h, hlocks, hr⟩ ⟨hX, hbl, Nat.not_le.mpr hbl⟩ hL (fun w lv H locs ls hP hD hS hl => ?_) s.heap [] _ (fun k q h => by simp at h) ⟨fun i j p q h => by simp at h, fun k q h => by simp at h⟩ va_S.rf hl
  refine va_forget hS.2.2 ?_
  refine W.widen (k := 600000) (n := 7290000) (Nat.le_of_ble_eq_true rfl) (Nat.le_of_ble_eq_true rfl) ?_
  exact lw_ret hx hb hr hlocks dL_law_452
-- ===== YOUR PART ENDS =====
set_option maxHeartbeats 4000000 in
theorem lw_walk (l : Launch) (b : Addr) (xs : List Int32) : MetFree l x (headSpec (Jvm.Cond.code x code maxLocals ret :: tables_1) room_1) (lw_P b xs) (fun _ _ _ _ _ => True) lw_Q := by
  refine MetFree.of_bodyS (code := code) (maxLocals := maxLocals) (ret := ret) (by decide) ?_ ?_
  · intro args s m h hn
    obtain ⟨meth, c, h1, h2, h3, h4, h5, h6, -, -⟩ := Cond.code_spec hn (atoms_spec (ws := Jvm.Cond.code x code maxLocals ret :: tables_1) h _ List.mem_cons_self)
    exact ⟨meth, c, h1, h2, h3, h4, h5, h6⟩
  · intro p e s m args below meth c s₁ B hml0 hP _
    obtain ⟨rfl, hx, hbd, hgv⟩ := hP
    obtain ⟨scr, harrAt, hlist, hof, hsmall⟩ := hx
    obtain ⟨hcb, hkn, -, -⟩ := State.arrayAt?_spec harrAt
    have hown : s.vm.findClass R_law = some m.cls := findClass_of_methodNamed B.named
    have hts0 : ∀ c ∈ (Jvm.Cond.code x code maxLocals ret :: tables_1), c.before #[Value.ref b] s = true := atoms_spec (ws := Jvm.Cond.code x code maxLocals ret :: tables_1) B.pre
    have hts : ∀ w ∈ lw_tbl, w.before #[Value.ref b] s = true := k2_hts_sels lw_privs (fun w hw => hts0 w (List.mem_cons_of_mem _ hw)) lw_privs_ok
    have hml : c.maxLocals = 4 := B.maxLocals_eq (hts0 _ List.mem_cons_self)
    have X₀ : Stand p l e room_1 s m #[Value.ref b] below meth c s₁ [] 0 0 := Stand.of_body B
    have hh0 : s₁.heap = s.heap := by rw [B.state]; rfl
    have hsz : scr.slots.size = xs.length := by rw [← Array.length_toList, hlist, List.length_map]
    have hval : ∀ j : Nat, j < xs.length → scr.slots[j]? = some (.int (xs.getD j 0)) := fun j hj => by
      rw [← Array.getElem?_toList, hlist]
      simp [hj]
    have hbl : b < s.heap.size := (Array.getElem?_eq_some_iff.mp hcb).1
    have hX : va_X b xs.length (fun j => xs.getD j 0) s s.heap := ⟨scr, hcb, hof, hkn, hsz, hval⟩
    have K : W p l e room_1 s m #[Value.ref b] below meth c s₁.heap [] 0 0 (lw_Z below #[Value.ref b] s) (entryFrame m ([Value.ref b] : List Value).toArray 4) := by
      rw [hh0]
      exact whole_start l hbd ⟨B.exec, B.bytes, B.returns, hml, hown, hts, hX, hbl, B.notSynchronized, hgv⟩
    obtain ⟨t, a1, o, b1, b2, b3⟩ := K s₁ rfl X₀
    exact ⟨t, o, a1, b1, b2, b3⟩
theorem lw_pre_spec {args : Array Value} {s : State} (h : (Jvm.Cond.and given_1 narrow_1).before args s = true) (hr : rest_1_c.before args s = true) : ∃ (b : Addr) (xs : List Int32), lw_P b xs args s := by
  have hs := flat_of_before _ h
  have hq := flat_of_before _ hr
  have hc : (Cond.count 1).before args s = true := hs _ (by decide +kernel)
  have harr : (Cond.arrayOf (.arg 0) .int).before args s = true := hs _ (by decide +kernel)
  have hle : (Cond.le (.length (.arg 0)) (.int 193)).before args s = true := hs _ (by decide +kernel)
  have hlen : (Cond.isInt (.length (.arg 0))).before args s = true := hq _ (by decide +kernel)
  have hall : (Cond.all (.arg 0) (.isInt (.elem (.arg 0) (.index 0)))).before args s = true := hq _ (by decide +kernel)
  obtain ⟨b, xs, hb, hx⟩ := State.ints_of_pre rfl harr hlen hall
  have hsm : xs.length < 2 ^ 31 := hx.choose_spec.2.2.2
  have hev : (Term.length (.arg 0)).eval args s none [] s = some (.int xs.length.toInt32) := hx.length_eval hb
  have hv := Cond.le_ints hev (show (Term.int 193).eval args s none [] s = some (.int 193) from rfl)
  have hd : xs.length.toInt32 ≤ 193 := by
    simpa [Cond.before, Cond.holds, hv] using hle
  have hN : xs.length ≤ 193 := (Int32.ofNat_le_ofNat hsm (by decide)).mp (show Int32.ofNat xs.length ≤ Int32.ofNat 193 from hd)
  exact ⟨b, xs, Cond.one_arg hc (show args[0]? = some (.ref b) from hb), hx, hN, h⟩
theorem lw_comes (l : Launch) : Comes l x (Jvm.Cond.code x code maxLocals ret :: tables_1) room_1 (fun tb e args s => Calls_1 tb e args s ∧ rest_1 tb e args s ∧ Pre_1 tb e args s)
    (fun _ _ args s o t => lw_Q args s o t) := by
  intro p e ha hc hk s m args below hf hfit hheap happ hpre
  obtain ⟨b, xs, hP⟩ := lw_pre_spec hpre.2.2 hpre.2.1
  obtain ⟨k, o, h1, h2, h3, hQ⟩ := lw_walk l b xs p e ha hc hk s m args below hf ((Spec.applies_iff_loose hf).mp happ).1 hP trivial
  exact ⟨k, o, h1, h2, h3, hQ⟩
theorem lw_frame {s t : State} {o : Outcome} {args : Array Value} (h : Framed s o t [] 600000 7290000) :
    Framed s o t (fieldLocs frame_1_writes args s ++ arrayLocs frame_1_arrays args s ++ staticLocs frame_1_statics s) 600000 7290000 := h
theorem lw_limb (L : Cond) (hL : ∀ (args : Array Value) (s t : State), L.after args s (.returned (some (.int 1))) t = true) :
    ArmFor flags0 classFile x code maxLocals ret World_1 tables_1 room_1 Calls_1 rest_1 Pre_1
      (fun tb e a s o t => postC L tb e a s o t ∧ Framed s o t (fieldLocs frame_1_writes a s ++ arrayLocs frame_1_arrays a s ++ staticLocs frame_1_statics s) 600000 7290000) := by
  intro l _ _ _ p e ha hc hk s m args below hf hfit hheap happ hpre
  obtain ⟨k, o, h1, h2, h3, rfl, hF⟩ := lw_comes l p e ha hc hk s m args below hf hfit hheap happ hpre
  exact ⟨k, _, h1, h2, h3, hL args s _, lw_frame hF⟩
theorem i_vc : Claimed_1_1 ∧ Claimed_1_2 := ⟨lw_limb limb_1_1 (fun args s t => by simp [limb_1_1, Cond.after, Cond.holds, Cond.value]), lw_limb limb_1_2 (fun args s t => Cond.after_iff.mpr (by
  first | (rw [show limb_1_2 = Cond.eq .result (.int 1) from rfl, Cond.eq_ints (x := 1) (y := 1) rfl rfl]; simp; done) | (simp [limb_1_2, Cond.value, Term.eval]; done)))⟩
end
