section
-- ===== PART A: goes FIRST, ahead of the names: the tables' words, and 'selects' of the private methods out of them =====
/-- a private method of a class that the tables say can be made, by its rows of tables_1 -/
def lw_okq (q : MethodName × Nat) : Prop := (q.1.cls ≠ "java/lang/invoke/MethodHandle" ∧ q.1.cls ≠ "java/lang/invoke/VarHandle") ∧ Cond.instantiable q.1.cls q.2 ∈ tables_1 ∧ Cond.privateMethod q.1 ∈ tables_1 ∧ Cond.instanceMethod q.1 ∈ tables_1
set_option maxRecDepth 100000
theorem lw_t1 {w : Cond} (h : w ∈ tables_1_1) : w ∈ tables_1 := List.mem_append_left _ h
theorem lw_t2 {w : Cond} (h : w ∈ tables_1_2) : w ∈ tables_1 := List.mem_append_right _ h
theorem lw_p0 : lw_okq (⟨"BlockCoder", "code", "()V"⟩, 20) := ⟨⟨by decide +kernel, by decide +kernel⟩, lw_t1 (List.mem_of_getElem? (i := 4) rfl), lw_t1 (List.mem_of_getElem? (i := 92) rfl), lw_t1 (List.mem_of_getElem? (i := 93) rfl)⟩
theorem lw_p1 : lw_okq (⟨"BlockCoder", "sortRotations", "()V"⟩, 20) := ⟨⟨by decide +kernel, by decide +kernel⟩, lw_t1 (List.mem_of_getElem? (i := 4) rfl), lw_t1 (List.mem_of_getElem? (i := 96) rfl), lw_t1 (List.mem_of_getElem? (i := 97) rfl)⟩
theorem lw_p2 : lw_okq (⟨"BlockCoder", "sink", "(II)V"⟩, 20) := ⟨⟨by decide +kernel, by decide +kernel⟩, lw_t1 (List.mem_of_getElem? (i := 4) rfl), lw_t1 (List.mem_of_getElem? (i := 100) rfl), lw_t1 (List.mem_of_getElem? (i := 101) rfl)⟩
theorem lw_p3 : lw_okq (⟨"BlockCoder", "comesAfter", "(III)Z"⟩, 20) := ⟨⟨by decide +kernel, by decide +kernel⟩, lw_t1 (List.mem_of_getElem? (i := 4) rfl), lw_t1 (List.mem_of_getElem? (i := 104) rfl), lw_t1 (List.mem_of_getElem? (i := 105) rfl)⟩
theorem lw_p4 : lw_okq (⟨"BlockCoder", "compare", "(III)I"⟩, 20) := ⟨⟨by decide +kernel, by decide +kernel⟩, lw_t1 (List.mem_of_getElem? (i := 4) rfl), lw_t1 (List.mem_of_getElem? (i := 108) rfl), lw_t1 (List.mem_of_getElem? (i := 109) rfl)⟩
theorem lw_p5 : lw_okq (⟨"BlockCoder", "rankLetters", "()V"⟩, 20) := ⟨⟨by decide +kernel, by decide +kernel⟩, lw_t1 (List.mem_of_getElem? (i := 4) rfl), lw_t1 (List.mem_of_getElem? (i := 112) rfl), lw_t1 (List.mem_of_getElem? (i := 113) rfl)⟩
theorem lw_p6 : lw_okq (⟨"BlockCoder", "resetRow", "()V"⟩, 20) := ⟨⟨by decide +kernel, by decide +kernel⟩, lw_t1 (List.mem_of_getElem? (i := 4) rfl), lw_t1 (List.mem_of_getElem? (i := 116) rfl), lw_t1 (List.mem_of_getElem? (i := 117) rfl)⟩
theorem lw_p7 : lw_okq (⟨"BlockCoder", "toFront", "(I)V"⟩, 20) := ⟨⟨by decide +kernel, by decide +kernel⟩, lw_t1 (List.mem_of_getElem? (i := 4) rfl), lw_t1 (List.mem_of_getElem? (i := 120) rfl), lw_t1 (List.mem_of_getElem? (i := 121) rfl)⟩
theorem lw_p8 : lw_okq (⟨"BlockCoder", "shortenRuns", "()V"⟩, 20) := ⟨⟨by decide +kernel, by decide +kernel⟩, lw_t1 (List.mem_of_getElem? (i := 4) rfl), lw_t1 (List.mem_of_getElem? (i := 124) rfl), lw_t1 (List.mem_of_getElem? (i := 125) rfl)⟩
theorem lw_p9 : lw_okq (⟨"BlockCoder", "addSymbol", "(I)V"⟩, 20) := ⟨⟨by decide +kernel, by decide +kernel⟩, lw_t1 (List.mem_of_getElem? (i := 4) rfl), lw_t1 (List.mem_of_getElem? (i := 128) rfl), lw_t1 (List.mem_of_getElem? (i := 129) rfl)⟩
theorem lw_p10 : lw_okq (⟨"BlockCoder", "findBits", "()V"⟩, 20) := ⟨⟨by decide +kernel, by decide +kernel⟩, lw_t1 (List.mem_of_getElem? (i := 4) rfl), lw_t1 (List.mem_of_getElem? (i := 132) rfl), lw_t1 (List.mem_of_getElem? (i := 133) rfl)⟩
theorem lw_p11 : lw_okq (⟨"BlockCoder", "lightest", "(I)I"⟩, 20) := ⟨⟨by decide +kernel, by decide +kernel⟩, lw_t1 (List.mem_of_getElem? (i := 4) rfl), lw_t1 (List.mem_of_getElem? (i := 136) rfl), lw_t1 (List.mem_of_getElem? (i := 137) rfl)⟩
theorem lw_p12 : lw_okq (⟨"BlockCoder", "numberCodes", "()V"⟩, 20) := ⟨⟨by decide +kernel, by decide +kernel⟩, lw_t1 (List.mem_of_getElem? (i := 4) rfl), lw_t1 (List.mem_of_getElem? (i := 140) rfl), lw_t1 (List.mem_of_getElem? (i := 141) rfl)⟩
theorem lw_p13 : lw_okq (⟨"BlockCoder", "writeBits", "()V"⟩, 20) := ⟨⟨by decide +kernel, by decide +kernel⟩, lw_t1 (List.mem_of_getElem? (i := 4) rfl), lw_t1 (List.mem_of_getElem? (i := 144) rfl), lw_t1 (List.mem_of_getElem? (i := 145) rfl)⟩
theorem lw_p14 : lw_okq (⟨"BlockCoder", "readSymbols", "()I"⟩, 20) := ⟨⟨by decide +kernel, by decide +kernel⟩, lw_t1 (List.mem_of_getElem? (i := 4) rfl), lw_t1 (List.mem_of_getElem? (i := 172) rfl), lw_t1 (List.mem_of_getElem? (i := 173) rfl)⟩
theorem lw_p15 : lw_okq (⟨"BlockCoder", "symbolWith", "(II)I"⟩, 20) := ⟨⟨by decide +kernel, by decide +kernel⟩, lw_t1 (List.mem_of_getElem? (i := 4) rfl), lw_t1 (List.mem_of_getElem? (i := 176) rfl), lw_t1 (List.mem_of_getElem? (i := 177) rfl)⟩
def lw_privs_1 : List (MethodName × Nat) := [(⟨"BlockCoder", "code", "()V"⟩, 20), (⟨"BlockCoder", "sortRotations", "()V"⟩, 20), (⟨"BlockCoder", "sink", "(II)V"⟩, 20), (⟨"BlockCoder", "comesAfter", "(III)Z"⟩, 20), (⟨"BlockCoder", "compare", "(III)I"⟩, 20), (⟨"BlockCoder", "rankLetters", "()V"⟩, 20), (⟨"BlockCoder", "resetRow", "()V"⟩, 20), (⟨"BlockCoder", "toFront", "(I)V"⟩, 20), (⟨"BlockCoder", "shortenRuns", "()V"⟩, 20), (⟨"BlockCoder", "addSymbol", "(I)V"⟩, 20), (⟨"BlockCoder", "findBits", "()V"⟩, 20), (⟨"BlockCoder", "lightest", "(I)I"⟩, 20), (⟨"BlockCoder", "numberCodes", "()V"⟩, 20), (⟨"BlockCoder", "writeBits", "()V"⟩, 20), (⟨"BlockCoder", "readSymbols", "()I"⟩, 20), (⟨"BlockCoder", "symbolWith", "(II)I"⟩, 20)]
theorem lw_r1 : ∀ q ∈ lw_privs_1, lw_okq q := List.forall_mem_cons.mpr ⟨lw_p0, List.forall_mem_cons.mpr ⟨lw_p1, List.forall_mem_cons.mpr ⟨lw_p2, List.forall_mem_cons.mpr ⟨lw_p3, List.forall_mem_cons.mpr ⟨lw_p4, List.forall_mem_cons.mpr ⟨lw_p5, List.forall_mem_cons.mpr ⟨lw_p6, List.forall_mem_cons.mpr ⟨lw_p7, List.forall_mem_cons.mpr ⟨lw_p8, List.forall_mem_cons.mpr ⟨lw_p9, List.forall_mem_cons.mpr ⟨lw_p10, List.forall_mem_cons.mpr ⟨lw_p11, List.forall_mem_cons.mpr ⟨lw_p12, List.forall_mem_cons.mpr ⟨lw_p13, List.forall_mem_cons.mpr ⟨lw_p14, List.forall_mem_cons.mpr ⟨lw_p15, fun _ h => absurd h List.not_mem_nil⟩⟩⟩⟩⟩⟩⟩⟩⟩⟩⟩⟩⟩⟩⟩⟩
theorem lw_p16 : lw_okq (⟨"BlockCoder", "undoRuns", "(I)I"⟩, 20) := ⟨⟨by decide +kernel, by decide +kernel⟩, lw_t1 (List.mem_of_getElem? (i := 4) rfl), lw_t1 (List.mem_of_getElem? (i := 180) rfl), lw_t1 (List.mem_of_getElem? (i := 181) rfl)⟩
theorem lw_p17 : lw_okq (⟨"BlockCoder", "undoRanks", "(I)V"⟩, 20) := ⟨⟨by decide +kernel, by decide +kernel⟩, lw_t1 (List.mem_of_getElem? (i := 4) rfl), lw_t1 (List.mem_of_getElem? (i := 184) rfl), lw_t1 (List.mem_of_getElem? (i := 185) rfl)⟩
theorem lw_p18 : lw_okq (⟨"BlockCoder", "undoSorting", "(I)V"⟩, 20) := ⟨⟨by decide +kernel, by decide +kernel⟩, lw_t1 (List.mem_of_getElem? (i := 4) rfl), lw_t1 (List.mem_of_getElem? (i := 188) rfl), lw_t1 (List.mem_of_getElem? (i := 189) rfl)⟩
theorem lw_p19 : lw_okq (⟨"BlockCoderModel", "encode", "()V"⟩, 10) := ⟨⟨by decide +kernel, by decide +kernel⟩, lw_t1 (List.mem_of_getElem? (i := 196) rfl), lw_t2 (List.mem_of_getElem? (i := 9) rfl), lw_t2 (List.mem_of_getElem? (i := 10) rfl)⟩
theorem lw_p20 : lw_okq (⟨"BlockCoderModel", "sort", "()V"⟩, 10) := ⟨⟨by decide +kernel, by decide +kernel⟩, lw_t1 (List.mem_of_getElem? (i := 196) rfl), lw_t2 (List.mem_of_getElem? (i := 13) rfl), lw_t2 (List.mem_of_getElem? (i := 14) rfl)⟩
theorem lw_p21 : lw_okq (⟨"BlockCoderModel", "before", "(II)Z"⟩, 10) := ⟨⟨by decide +kernel, by decide +kernel⟩, lw_t1 (List.mem_of_getElem? (i := 196) rfl), lw_t2 (List.mem_of_getElem? (i := 17) rfl), lw_t2 (List.mem_of_getElem? (i := 18) rfl)⟩
theorem lw_p22 : lw_okq (⟨"BlockCoderModel", "rankAll", "()V"⟩, 10) := ⟨⟨by decide +kernel, by decide +kernel⟩, lw_t1 (List.mem_of_getElem? (i := 196) rfl), lw_t2 (List.mem_of_getElem? (i := 21) rfl), lw_t2 (List.mem_of_getElem? (i := 22) rfl)⟩
theorem lw_p23 : lw_okq (⟨"BlockCoderModel", "putRun", "(I)V"⟩, 10) := ⟨⟨by decide +kernel, by decide +kernel⟩, lw_t1 (List.mem_of_getElem? (i := 196) rfl), lw_t2 (List.mem_of_getElem? (i := 25) rfl), lw_t2 (List.mem_of_getElem? (i := 26) rfl)⟩
theorem lw_p24 : lw_okq (⟨"BlockCoderModel", "put", "(I)V"⟩, 10) := ⟨⟨by decide +kernel, by decide +kernel⟩, lw_t1 (List.mem_of_getElem? (i := 196) rfl), lw_t2 (List.mem_of_getElem? (i := 29) rfl), lw_t2 (List.mem_of_getElem? (i := 30) rfl)⟩
theorem lw_p25 : lw_okq (⟨"BlockCoderModel", "countSymbols", "()I"⟩, 10) := ⟨⟨by decide +kernel, by decide +kernel⟩, lw_t1 (List.mem_of_getElem? (i := 196) rfl), lw_t2 (List.mem_of_getElem? (i := 53) rfl), lw_t2 (List.mem_of_getElem? (i := 54) rfl)⟩
theorem lw_p26 : lw_okq (⟨"BlockCoderModel", "canBe", "(I)Z"⟩, 10) := ⟨⟨by decide +kernel, by decide +kernel⟩, lw_t1 (List.mem_of_getElem? (i := 196) rfl), lw_t2 (List.mem_of_getElem? (i := 57) rfl), lw_t2 (List.mem_of_getElem? (i := 58) rfl)⟩
theorem lw_p27 : lw_okq (⟨"BlockCoderModel", "nextLengths", "(I)Z"⟩, 10) := ⟨⟨by decide +kernel, by decide +kernel⟩, lw_t1 (List.mem_of_getElem? (i := 196) rfl), lw_t2 (List.mem_of_getElem? (i := 61) rfl), lw_t2 (List.mem_of_getElem? (i := 62) rfl)⟩
def lw_privs_2 : List (MethodName × Nat) := [(⟨"BlockCoder", "undoRuns", "(I)I"⟩, 20), (⟨"BlockCoder", "undoRanks", "(I)V"⟩, 20), (⟨"BlockCoder", "undoSorting", "(I)V"⟩, 20), (⟨"BlockCoderModel", "encode", "()V"⟩, 10), (⟨"BlockCoderModel", "sort", "()V"⟩, 10), (⟨"BlockCoderModel", "before", "(II)Z"⟩, 10), (⟨"BlockCoderModel", "rankAll", "()V"⟩, 10), (⟨"BlockCoderModel", "putRun", "(I)V"⟩, 10), (⟨"BlockCoderModel", "put", "(I)V"⟩, 10), (⟨"BlockCoderModel", "countSymbols", "()I"⟩, 10), (⟨"BlockCoderModel", "canBe", "(I)Z"⟩, 10), (⟨"BlockCoderModel", "nextLengths", "(I)Z"⟩, 10)]
theorem lw_r2 : ∀ q ∈ lw_privs_2, lw_okq q := List.forall_mem_cons.mpr ⟨lw_p16, List.forall_mem_cons.mpr ⟨lw_p17, List.forall_mem_cons.mpr ⟨lw_p18, List.forall_mem_cons.mpr ⟨lw_p19, List.forall_mem_cons.mpr ⟨lw_p20, List.forall_mem_cons.mpr ⟨lw_p21, List.forall_mem_cons.mpr ⟨lw_p22, List.forall_mem_cons.mpr ⟨lw_p23, List.forall_mem_cons.mpr ⟨lw_p24, List.forall_mem_cons.mpr ⟨lw_p25, List.forall_mem_cons.mpr ⟨lw_p26, List.forall_mem_cons.mpr ⟨lw_p27, fun _ h => absurd h List.not_mem_nil⟩⟩⟩⟩⟩⟩⟩⟩⟩⟩⟩⟩
def lw_privs : List (MethodName × Nat) := lw_privs_1 ++ (lw_privs_2)
def lw_tbl : List Cond := k2_sels lw_privs ++ tables_1
theorem lw_privs_ok : ∀ q ∈ lw_privs, lw_okq q := by
  show ∀ q ∈ lw_privs_1 ++ (lw_privs_2), lw_okq q
  exact List.forall_mem_append.mpr ⟨lw_r1, lw_r2⟩
-- ===== ONE list of words for every method: the tables' words that hold all through a run =====
def lw_all : List Cond := lw_tbl.filter goodWord
/-- a word of the tables by its place: claim/WORDS.tsv -/
theorem lw_w {w : Cond} (i : Nat) (h : lw_tbl[i]? = some w) (g : goodWord w = true) : w ∈ lw_all := List.mem_filter.mpr ⟨List.mem_of_getElem? h, g⟩
theorem lw_all_tbl {w : Cond} (h : w ∈ lw_all) : w ∈ lw_tbl := (List.mem_filter.mp h).1
theorem lw_self : GoodIn lw_all lw_all := fun w h => ⟨h, good_of_word (List.mem_filter.mp h).2⟩
/-- a class's field words, by their places -/
theorem lw_in (ws : List Cond) (ps : List Nat) (hp : ws = ps.filterMap (fun i => lw_tbl[i]?)) (hg : ws.all goodWord = true) : ∀ w ∈ ws, w ∈ lw_all := by
  intro w h
  have h1 := List.all_eq_true.mp hg w h
  rw [hp] at h
  obtain ⟨i, -, hi⟩ := List.mem_filterMap.mp h
  exact lw_w i hi h1
/-- the words of a contract for the method y with code b, L locals, answer r -/
abbrev ws_ (y : MethodName) (b : ByteArray) (L : Nat) (r : Option FieldType) : List Cond := Cond.code y b L r :: lw_all
theorem lw_meth {y : MethodName} {b : ByteArray} {L : Nat} {r : Option FieldType} (h : Cond.code y b L r ∈ lw_all) : GoodIn lw_all (ws_ y b L r) := by
  intro w hw
  rcases List.mem_cons.mp hw with e | e
  · rw [e]
    exact lw_self _ h
  · exact lw_self _ e
theorem lw_app {a c : List Cond} (ha : ∀ w ∈ a, w ∈ lw_all) (hc : GoodIn lw_all c) : GoodIn lw_all (a ++ c) := by
  intro w hw
  rcases List.mem_append.mp hw with e | e
  · exact lw_self w (ha w e)
  · exact hc w e
/-- what a call through an object asks: cwV n hts (lw_V ..) -/
theorem lw_V {own : String} {idx : Nat} {C : String} {y : MethodName} {b : ByteArray} {L : Nat} {r : Option FieldType} (h1 : Cond.methodLink own idx y ∈ lw_all) (h2 : Cond.instanceMethod y ∈ lw_all) (h3 : Cond.selects C y y ∈ lw_all) (h4 : Cond.initialized C ∈ lw_all) (h5 : Cond.code y b L r ∈ lw_all) : GoodIn lw_all (wsV own idx C y (ws_ y b L r)) := by
  refine lw_app ?_ (lw_meth h5)
  intro w hw
  simp only [List.mem_cons, List.not_mem_nil, or_false] at hw
  rcases hw with e | e | e | e
  · rw [e]; exact h1
  · rw [e]; exact h2
  · rw [e]; exact h3
  · rw [e]; exact h4
/-- what a static call asks: va_cwS n hts (lw_S ..) -/
theorem lw_S {own : String} {idx : Nat} {y : MethodName} {b : ByteArray} {L : Nat} {r : Option FieldType} (h1 : Cond.methodLink own idx y ∈ lw_all) (h2 : Cond.static y ∈ lw_all) (h3 : Cond.initialized y.cls ∈ lw_all) (h4 : Cond.code y b L r ∈ lw_all) : GoodIn lw_all (va_wsS own idx y (ws_ y b L r)) := by
  refine lw_app ?_ (lw_meth h4)
  intro w hw
  simp only [List.mem_cons, List.not_mem_nil, or_false] at hw
  rcases hw with e | e | e
  · rw [e]; exact h1
  · rw [e]; exact h2
  · rw [e]; exact h3
/-- the words of a contract for a method WITH HANDLERS (hh: its table) -/
abbrev wsW_ (y : MethodName) (b : ByteArray) (L : Nat) (r : Option FieldType) (hh : List (Nat × Nat × Nat × Nat)) : List Cond := Cond.codeWith y b L r hh :: lw_all
theorem lw_methW {y : MethodName} {b : ByteArray} {L : Nat} {r : Option FieldType} {hh : List (Nat × Nat × Nat × Nat)} (h : Cond.codeWith y b L r hh ∈ lw_all) : GoodIn lw_all (wsW_ y b L r hh) := by
  intro w hw
  rcases List.mem_cons.mp hw with e | e
  · rw [e]
    exact lw_self _ h
  · exact lw_self _ e
/-- any list of words by their places (lw_in), good -/
theorem lw_good {ws : List Cond} (h : ∀ w ∈ ws, w ∈ lw_all) : GoodIn lw_all ws := fun w hw => lw_self w (h w hw)
/-- what a call of a method with handlers asks: vx_cwVW n hts (lw_VW ..), vx_cwSW n hts (lw_SW ..) -/
theorem lw_VW {own : String} {idx : Nat} {C : String} {y : MethodName} {b : ByteArray} {L : Nat} {r : Option FieldType} {hh : List (Nat × Nat × Nat × Nat)} (h1 : Cond.methodLink own idx y ∈ lw_all) (h2 : Cond.instanceMethod y ∈ lw_all) (h3 : Cond.selects C y y ∈ lw_all) (h4 : Cond.initialized C ∈ lw_all) (h5 : Cond.codeWith y b L r hh ∈ lw_all) : GoodIn lw_all (wsV own idx C y (wsW_ y b L r hh)) := by
  refine lw_app ?_ (lw_methW h5)
  intro w hw
  simp only [List.mem_cons, List.not_mem_nil, or_false] at hw
  rcases hw with e | e | e | e
  · rw [e]; exact h1
  · rw [e]; exact h2
  · rw [e]; exact h3
  · rw [e]; exact h4
theorem lw_SW {own : String} {idx : Nat} {y : MethodName} {b : ByteArray} {L : Nat} {r : Option FieldType} {hh : List (Nat × Nat × Nat × Nat)} (h1 : Cond.methodLink own idx y ∈ lw_all) (h2 : Cond.static y ∈ lw_all) (h3 : Cond.initialized y.cls ∈ lw_all) (h4 : Cond.codeWith y b L r hh ∈ lw_all) : GoodIn lw_all (va_wsS own idx y (wsW_ y b L r hh)) := by
  refine lw_app ?_ (lw_methW h4)
  intro w hw
  simp only [List.mem_cons, List.not_mem_nil, or_false] at hw
  rcases hw with e | e | e
  · rw [e]; exact h1
  · rw [e]; exact h2
  · rw [e]; exact h3
/-- a word by its place in its run of the tables -/
theorem lw_at {r : List Cond} (hr : ∀ w ∈ r, w ∈ lw_tbl) {w : Cond} (i : Nat) (h : r[i]? = some w) : w ∈ lw_tbl := hr w (List.mem_of_getElem? h)
theorem lw_g {w : Cond} (h : w ∈ lw_tbl) (g : goodWord w = true) : w ∈ lw_all := List.mem_filter.mpr ⟨h, g⟩
theorem lw_ms : ∀ w ∈ k2_sels lw_privs, w ∈ lw_tbl := fun w h => show w ∈ k2_sels lw_privs ++ tables_1 from List.mem_append_left _ h
theorem lw_m1 : ∀ w ∈ tables_1_1, w ∈ lw_tbl := fun w h => show w ∈ k2_sels lw_privs ++ tables_1 from List.mem_append_right (k2_sels lw_privs) (show w ∈ tables_1 from List.mem_append_left _ h)
theorem lw_m2 : ∀ w ∈ tables_1_2, w ∈ lw_tbl := fun w h => show w ∈ k2_sels lw_privs ++ tables_1 from List.mem_append_right (k2_sels lw_privs) (show w ∈ tables_1 from List.mem_append_right _ h)
theorem qs0 : (Cond.selects "BlockCoder" ⟨"BlockCoder", "code", "()V"⟩ ⟨"BlockCoder", "code", "()V"⟩) ∈ lw_all := lw_g (lw_at lw_ms 0 rfl) rfl
theorem qs1 : (Cond.selects "BlockCoder" ⟨"BlockCoder", "sortRotations", "()V"⟩ ⟨"BlockCoder", "sortRotations", "()V"⟩) ∈ lw_all := lw_g (lw_at lw_ms 1 rfl) rfl
theorem qs2 : (Cond.selects "BlockCoder" ⟨"BlockCoder", "sink", "(II)V"⟩ ⟨"BlockCoder", "sink", "(II)V"⟩) ∈ lw_all := lw_g (lw_at lw_ms 2 rfl) rfl
theorem qs3 : (Cond.selects "BlockCoder" ⟨"BlockCoder", "comesAfter", "(III)Z"⟩ ⟨"BlockCoder", "comesAfter", "(III)Z"⟩) ∈ lw_all := lw_g (lw_at lw_ms 3 rfl) rfl
theorem qs4 : (Cond.selects "BlockCoder" ⟨"BlockCoder", "compare", "(III)I"⟩ ⟨"BlockCoder", "compare", "(III)I"⟩) ∈ lw_all := lw_g (lw_at lw_ms 4 rfl) rfl
theorem qs5 : (Cond.selects "BlockCoder" ⟨"BlockCoder", "rankLetters", "()V"⟩ ⟨"BlockCoder", "rankLetters", "()V"⟩) ∈ lw_all := lw_g (lw_at lw_ms 5 rfl) rfl
theorem qs6 : (Cond.selects "BlockCoder" ⟨"BlockCoder", "resetRow", "()V"⟩ ⟨"BlockCoder", "resetRow", "()V"⟩) ∈ lw_all := lw_g (lw_at lw_ms 6 rfl) rfl
theorem qs7 : (Cond.selects "BlockCoder" ⟨"BlockCoder", "toFront", "(I)V"⟩ ⟨"BlockCoder", "toFront", "(I)V"⟩) ∈ lw_all := lw_g (lw_at lw_ms 7 rfl) rfl
theorem qs8 : (Cond.selects "BlockCoder" ⟨"BlockCoder", "shortenRuns", "()V"⟩ ⟨"BlockCoder", "shortenRuns", "()V"⟩) ∈ lw_all := lw_g (lw_at lw_ms 8 rfl) rfl
theorem qs9 : (Cond.selects "BlockCoder" ⟨"BlockCoder", "addSymbol", "(I)V"⟩ ⟨"BlockCoder", "addSymbol", "(I)V"⟩) ∈ lw_all := lw_g (lw_at lw_ms 9 rfl) rfl
theorem qs10 : (Cond.selects "BlockCoder" ⟨"BlockCoder", "findBits", "()V"⟩ ⟨"BlockCoder", "findBits", "()V"⟩) ∈ lw_all := lw_g (lw_at lw_ms 10 rfl) rfl
theorem qs11 : (Cond.selects "BlockCoder" ⟨"BlockCoder", "lightest", "(I)I"⟩ ⟨"BlockCoder", "lightest", "(I)I"⟩) ∈ lw_all := lw_g (lw_at lw_ms 11 rfl) rfl
theorem qs12 : (Cond.selects "BlockCoder" ⟨"BlockCoder", "numberCodes", "()V"⟩ ⟨"BlockCoder", "numberCodes", "()V"⟩) ∈ lw_all := lw_g (lw_at lw_ms 12 rfl) rfl
theorem qs13 : (Cond.selects "BlockCoder" ⟨"BlockCoder", "writeBits", "()V"⟩ ⟨"BlockCoder", "writeBits", "()V"⟩) ∈ lw_all := lw_g (lw_at lw_ms 13 rfl) rfl
theorem qs14 : (Cond.selects "BlockCoder" ⟨"BlockCoder", "readSymbols", "()I"⟩ ⟨"BlockCoder", "readSymbols", "()I"⟩) ∈ lw_all := lw_g (lw_at lw_ms 14 rfl) rfl
theorem qs15 : (Cond.selects "BlockCoder" ⟨"BlockCoder", "symbolWith", "(II)I"⟩ ⟨"BlockCoder", "symbolWith", "(II)I"⟩) ∈ lw_all := lw_g (lw_at lw_ms 15 rfl) rfl
theorem qs16 : (Cond.selects "BlockCoder" ⟨"BlockCoder", "undoRuns", "(I)I"⟩ ⟨"BlockCoder", "undoRuns", "(I)I"⟩) ∈ lw_all := lw_g (lw_at lw_ms 16 rfl) rfl
theorem qs17 : (Cond.selects "BlockCoder" ⟨"BlockCoder", "undoRanks", "(I)V"⟩ ⟨"BlockCoder", "undoRanks", "(I)V"⟩) ∈ lw_all := lw_g (lw_at lw_ms 17 rfl) rfl
theorem qs18 : (Cond.selects "BlockCoder" ⟨"BlockCoder", "undoSorting", "(I)V"⟩ ⟨"BlockCoder", "undoSorting", "(I)V"⟩) ∈ lw_all := lw_g (lw_at lw_ms 18 rfl) rfl
theorem qs19 : (Cond.selects "BlockCoderModel" ⟨"BlockCoderModel", "encode", "()V"⟩ ⟨"BlockCoderModel", "encode", "()V"⟩) ∈ lw_all := lw_g (lw_at lw_ms 19 rfl) rfl
theorem qs20 : (Cond.selects "BlockCoderModel" ⟨"BlockCoderModel", "sort", "()V"⟩ ⟨"BlockCoderModel", "sort", "()V"⟩) ∈ lw_all := lw_g (lw_at lw_ms 20 rfl) rfl
theorem qs21 : (Cond.selects "BlockCoderModel" ⟨"BlockCoderModel", "before", "(II)Z"⟩ ⟨"BlockCoderModel", "before", "(II)Z"⟩) ∈ lw_all := lw_g (lw_at lw_ms 21 rfl) rfl
theorem qs22 : (Cond.selects "BlockCoderModel" ⟨"BlockCoderModel", "rankAll", "()V"⟩ ⟨"BlockCoderModel", "rankAll", "()V"⟩) ∈ lw_all := lw_g (lw_at lw_ms 22 rfl) rfl
theorem qs23 : (Cond.selects "BlockCoderModel" ⟨"BlockCoderModel", "putRun", "(I)V"⟩ ⟨"BlockCoderModel", "putRun", "(I)V"⟩) ∈ lw_all := lw_g (lw_at lw_ms 23 rfl) rfl
theorem qs24 : (Cond.selects "BlockCoderModel" ⟨"BlockCoderModel", "put", "(I)V"⟩ ⟨"BlockCoderModel", "put", "(I)V"⟩) ∈ lw_all := lw_g (lw_at lw_ms 24 rfl) rfl
theorem qs25 : (Cond.selects "BlockCoderModel" ⟨"BlockCoderModel", "countSymbols", "()I"⟩ ⟨"BlockCoderModel", "countSymbols", "()I"⟩) ∈ lw_all := lw_g (lw_at lw_ms 25 rfl) rfl
theorem qs26 : (Cond.selects "BlockCoderModel" ⟨"BlockCoderModel", "canBe", "(I)Z"⟩ ⟨"BlockCoderModel", "canBe", "(I)Z"⟩) ∈ lw_all := lw_g (lw_at lw_ms 26 rfl) rfl
theorem qs27 : (Cond.selects "BlockCoderModel" ⟨"BlockCoderModel", "nextLengths", "(I)Z"⟩ ⟨"BlockCoderModel", "nextLengths", "(I)Z"⟩) ∈ lw_all := lw_g (lw_at lw_ms 27 rfl) rfl
end
section
/-! BlockCoder -/
set_option maxRecDepth 100000
def RX0 : String := "BlockCoder"
def TX0 : u_T := fun k => match k with
  | 0 => ("BlockCoder", "length", "I", false)
  | 1 => ("BlockCoder", "text", "[B", true)
  | 2 => ("BlockCoder", "order", "[B", true)
  | 3 => ("BlockCoder", "classOf", "[B", true)
  | 4 => ("BlockCoder", "nextClass", "[B", true)
  | 5 => ("BlockCoder", "coded", "Z", false)
  | 6 => ("BlockCoder", "markAt", "I", false)
  | 7 => ("BlockCoder", "columnOf", "[B", true)
  | 8 => ("BlockCoder", "ranks", "[B", true)
  | 9 => ("BlockCoder", "symbolCount", "I", false)
  | 10 => ("BlockCoder", "symbolList", "[B", true)
  | 11 => ("BlockCoder", "row", "[B", true)
  | 12 => ("BlockCoder", "weight", "[I", true)
  | 13 => ("BlockCoder", "group", "[I", true)
  | 14 => ("BlockCoder", "bitsOf", "[B", true)
  | 15 => ("BlockCoder", "codeOf", "[I", true)
  | 16 => ("BlockCoder", "bitCount", "I", false)
  | 17 => ("BlockCoder", "stream", "[J", true)
  | 18 => ("BlockCoder", "back", "[B", true)
  | _ => ("BlockCoder", "stepTo", "[B", true)
def tyX0 : Nat → FieldType := fun k => match k with
  | 0 => .int
  | 1 => .array .byte
  | 2 => .array .byte
  | 3 => .array .byte
  | 4 => .array .byte
  | 5 => .boolean
  | 6 => .int
  | 7 => .array .byte
  | 8 => .array .byte
  | 9 => .int
  | 10 => .array .byte
  | 11 => .array .byte
  | 12 => .array .int
  | 13 => .array .int
  | 14 => .array .byte
  | 15 => .array .int
  | 16 => .int
  | 17 => .array .long
  | 18 => .array .byte
  | _ => .array .byte
abbrev wsX00 : List Cond := u_ws RX0 TX0 20
set_option maxRecDepth 100000 in
theorem nmX0 : ∀ a, a < 20 → ∀ b, b < 20 → a ≠ b → (TX0 a).2.1 ≠ (TX0 b).2.1 := by decide +kernel
set_option maxRecDepth 100000 in
theorem tyX0_ok : ∀ k, k < 20 → parseFieldDescriptor (TX0 k).2.2.1 = some (tyX0 k) := by decide +kernel
abbrev cX0_init : ByteArray := prog_1_method_1_code
def yX0_init : MethodName := ⟨RX0, "<init>", "()V"⟩
theorem dX0_init_0 : decode cX0_init 0 = .ok (.aload_n 0, 1) := by decide +kernel
theorem dX0_init_1 : decode cX0_init 1 = .ok (.invokespecial 1, 3) := by decide +kernel
theorem dX0_init_4 : decode cX0_init 4 = .ok (.aload_n 0, 1) := by decide +kernel
theorem dX0_init_5 : decode cX0_init 5 = .ok (.bipush 32, 2) := by decide +kernel
theorem dX0_init_7 : decode cX0_init 7 = .ok (.newarray .byte, 2) := by decide +kernel
theorem dX0_init_9 : decode cX0_init 9 = .ok (.putfield 7, 3) := by decide +kernel
theorem dX0_init_12 : decode cX0_init 12 = .ok (.aload_n 0, 1) := by decide +kernel
theorem dX0_init_13 : decode cX0_init 13 = .ok (.bipush 32, 2) := by decide +kernel
theorem dX0_init_15 : decode cX0_init 15 = .ok (.newarray .byte, 2) := by decide +kernel
theorem dX0_init_17 : decode cX0_init 17 = .ok (.putfield 13, 3) := by decide +kernel
theorem dX0_init_20 : decode cX0_init 20 = .ok (.aload_n 0, 1) := by decide +kernel
theorem dX0_init_21 : decode cX0_init 21 = .ok (.bipush 32, 2) := by decide +kernel
theorem dX0_init_23 : decode cX0_init 23 = .ok (.newarray .byte, 2) := by decide +kernel
theorem dX0_init_25 : decode cX0_init 25 = .ok (.putfield 16, 3) := by decide +kernel
theorem dX0_init_28 : decode cX0_init 28 = .ok (.aload_n 0, 1) := by decide +kernel
theorem dX0_init_29 : decode cX0_init 29 = .ok (.bipush 32, 2) := by decide +kernel
theorem dX0_init_31 : decode cX0_init 31 = .ok (.newarray .byte, 2) := by decide +kernel
theorem dX0_init_33 : decode cX0_init 33 = .ok (.putfield 19, 3) := by decide +kernel
theorem dX0_init_36 : decode cX0_init 36 = .ok (.aload_n 0, 1) := by decide +kernel
theorem dX0_init_37 : decode cX0_init 37 = .ok (.bipush 32, 2) := by decide +kernel
theorem dX0_init_39 : decode cX0_init 39 = .ok (.newarray .byte, 2) := by decide +kernel
theorem dX0_init_41 : decode cX0_init 41 = .ok (.putfield 22, 3) := by decide +kernel
theorem dX0_init_44 : decode cX0_init 44 = .ok (.aload_n 0, 1) := by decide +kernel
theorem dX0_init_45 : decode cX0_init 45 = .ok (.bipush 32, 2) := by decide +kernel
theorem dX0_init_47 : decode cX0_init 47 = .ok (.newarray .byte, 2) := by decide +kernel
theorem dX0_init_49 : decode cX0_init 49 = .ok (.putfield 25, 3) := by decide +kernel
theorem dX0_init_52 : decode cX0_init 52 = .ok (.aload_n 0, 1) := by decide +kernel
theorem dX0_init_53 : decode cX0_init 53 = .ok (.bipush 32, 2) := by decide +kernel
theorem dX0_init_55 : decode cX0_init 55 = .ok (.newarray .byte, 2) := by decide +kernel
theorem dX0_init_57 : decode cX0_init 57 = .ok (.putfield 28, 3) := by decide +kernel
theorem dX0_init_60 : decode cX0_init 60 = .ok (.aload_n 0, 1) := by decide +kernel
theorem dX0_init_61 : decode cX0_init 61 = .ok (.bipush 6, 2) := by decide +kernel
theorem dX0_init_63 : decode cX0_init 63 = .ok (.newarray .byte, 2) := by decide +kernel
theorem dX0_init_65 : decode cX0_init 65 = .ok (.putfield 31, 3) := by decide +kernel
theorem dX0_init_68 : decode cX0_init 68 = .ok (.aload_n 0, 1) := by decide +kernel
theorem dX0_init_69 : decode cX0_init 69 = .ok (.bipush 7, 2) := by decide +kernel
theorem dX0_init_71 : decode cX0_init 71 = .ok (.newarray .int, 2) := by decide +kernel
theorem dX0_init_73 : decode cX0_init 73 = .ok (.putfield 34, 3) := by decide +kernel
theorem dX0_init_76 : decode cX0_init 76 = .ok (.aload_n 0, 1) := by decide +kernel
theorem dX0_init_77 : decode cX0_init 77 = .ok (.bipush 7, 2) := by decide +kernel
theorem dX0_init_79 : decode cX0_init 79 = .ok (.newarray .int, 2) := by decide +kernel
theorem dX0_init_81 : decode cX0_init 81 = .ok (.putfield 38, 3) := by decide +kernel
theorem dX0_init_84 : decode cX0_init 84 = .ok (.aload_n 0, 1) := by decide +kernel
theorem dX0_init_85 : decode cX0_init 85 = .ok (.bipush 7, 2) := by decide +kernel
theorem dX0_init_87 : decode cX0_init 87 = .ok (.newarray .byte, 2) := by decide +kernel
theorem dX0_init_89 : decode cX0_init 89 = .ok (.putfield 41, 3) := by decide +kernel
theorem dX0_init_92 : decode cX0_init 92 = .ok (.aload_n 0, 1) := by decide +kernel
theorem dX0_init_93 : decode cX0_init 93 = .ok (.bipush 7, 2) := by decide +kernel
theorem dX0_init_95 : decode cX0_init 95 = .ok (.newarray .int, 2) := by decide +kernel
theorem dX0_init_97 : decode cX0_init 97 = .ok (.putfield 44, 3) := by decide +kernel
theorem dX0_init_100 : decode cX0_init 100 = .ok (.aload_n 0, 1) := by decide +kernel
theorem dX0_init_101 : decode cX0_init 101 = .ok (.iconst 4, 1) := by decide +kernel
theorem dX0_init_102 : decode cX0_init 102 = .ok (.newarray .long, 2) := by decide +kernel
theorem dX0_init_104 : decode cX0_init 104 = .ok (.putfield 47, 3) := by decide +kernel
theorem dX0_init_107 : decode cX0_init 107 = .ok (.aload_n 0, 1) := by decide +kernel
theorem dX0_init_108 : decode cX0_init 108 = .ok (.bipush 32, 2) := by decide +kernel
theorem dX0_init_110 : decode cX0_init 110 = .ok (.newarray .byte, 2) := by decide +kernel
theorem dX0_init_112 : decode cX0_init 112 = .ok (.putfield 51, 3) := by decide +kernel
theorem dX0_init_115 : decode cX0_init 115 = .ok (.aload_n 0, 1) := by decide +kernel
theorem dX0_init_116 : decode cX0_init 116 = .ok (.bipush 32, 2) := by decide +kernel
theorem dX0_init_118 : decode cX0_init 118 = .ok (.newarray .byte, 2) := by decide +kernel
theorem dX0_init_120 : decode cX0_init 120 = .ok (.putfield 54, 3) := by decide +kernel
theorem dX0_init_123 : decode cX0_init 123 = .ok (.return_, 1) := by decide +kernel
abbrev cX0_type : ByteArray := prog_1_method_2_code
def yX0_type : MethodName := ⟨RX0, "type", "(I)I"⟩
theorem dX0_type_0 : decode cX0_type 0 = .ok (.aload_n 0, 1) := by decide +kernel
theorem dX0_type_1 : decode cX0_type 1 = .ok (.getfield 57, 3) := by decide +kernel
theorem dX0_type_4 : decode cX0_type 4 = .ok (.bipush 32, 2) := by decide +kernel
theorem dX0_type_6 : decode cX0_type 6 = .ok (.if_icmp .lt 6, 3) := by decide +kernel
theorem dX0_type_9 : decode cX0_type 9 = .ok (.bipush (-2), 2) := by decide +kernel
theorem dX0_type_11 : decode cX0_type 11 = .ok (.ireturn, 1) := by decide +kernel
theorem dX0_type_12 : decode cX0_type 12 = .ok (.iload_n 1, 1) := by decide +kernel
theorem dX0_type_13 : decode cX0_type 13 = .ok (.ifCond .lt 9, 3) := by decide +kernel
theorem dX0_type_16 : decode cX0_type 16 = .ok (.iload_n 1, 1) := by decide +kernel
theorem dX0_type_17 : decode cX0_type 17 = .ok (.bipush 6, 2) := by decide +kernel
theorem dX0_type_19 : decode cX0_type 19 = .ok (.if_icmp .lt 5, 3) := by decide +kernel
theorem dX0_type_22 : decode cX0_type 22 = .ok (.iconst (-1), 1) := by decide +kernel
theorem dX0_type_23 : decode cX0_type 23 = .ok (.ireturn, 1) := by decide +kernel
theorem dX0_type_24 : decode cX0_type 24 = .ok (.aload_n 0, 1) := by decide +kernel
theorem dX0_type_25 : decode cX0_type 25 = .ok (.getfield 7, 3) := by decide +kernel
theorem dX0_type_28 : decode cX0_type 28 = .ok (.aload_n 0, 1) := by decide +kernel
theorem dX0_type_29 : decode cX0_type 29 = .ok (.getfield 57, 3) := by decide +kernel
theorem dX0_type_32 : decode cX0_type 32 = .ok (.iload_n 1, 1) := by decide +kernel
theorem dX0_type_33 : decode cX0_type 33 = .ok (.i2b, 1) := by decide +kernel
theorem dX0_type_34 : decode cX0_type 34 = .ok (.bastore, 1) := by decide +kernel
theorem dX0_type_35 : decode cX0_type 35 = .ok (.aload_n 0, 1) := by decide +kernel
theorem dX0_type_36 : decode cX0_type 36 = .ok (.dup, 1) := by decide +kernel
theorem dX0_type_37 : decode cX0_type 37 = .ok (.getfield 57, 3) := by decide +kernel
theorem dX0_type_40 : decode cX0_type 40 = .ok (.iconst 1, 1) := by decide +kernel
theorem dX0_type_41 : decode cX0_type 41 = .ok (.iadd, 1) := by decide +kernel
theorem dX0_type_42 : decode cX0_type 42 = .ok (.putfield 57, 3) := by decide +kernel
theorem dX0_type_45 : decode cX0_type 45 = .ok (.aload_n 0, 1) := by decide +kernel
theorem dX0_type_46 : decode cX0_type 46 = .ok (.iconst 0, 1) := by decide +kernel
theorem dX0_type_47 : decode cX0_type 47 = .ok (.putfield 61, 3) := by decide +kernel
theorem dX0_type_50 : decode cX0_type 50 = .ok (.aload_n 0, 1) := by decide +kernel
theorem dX0_type_51 : decode cX0_type 51 = .ok (.getfield 57, 3) := by decide +kernel
theorem dX0_type_54 : decode cX0_type 54 = .ok (.ireturn, 1) := by decide +kernel
abbrev cX0_repeat : ByteArray := prog_1_method_3_code
def yX0_repeat : MethodName := ⟨RX0, "repeat", "(I)I"⟩
theorem dX0_repeat_0 : decode cX0_repeat 0 = .ok (.iload_n 1, 1) := by decide +kernel
theorem dX0_repeat_1 : decode cX0_repeat 1 = .ok (.iconst 1, 1) := by decide +kernel
theorem dX0_repeat_2 : decode cX0_repeat 2 = .ok (.if_icmp .lt 11, 3) := by decide +kernel
theorem dX0_repeat_5 : decode cX0_repeat 5 = .ok (.iload_n 1, 1) := by decide +kernel
theorem dX0_repeat_6 : decode cX0_repeat 6 = .ok (.aload_n 0, 1) := by decide +kernel
theorem dX0_repeat_7 : decode cX0_repeat 7 = .ok (.getfield 57, 3) := by decide +kernel
theorem dX0_repeat_10 : decode cX0_repeat 10 = .ok (.if_icmp .le 5, 3) := by decide +kernel
theorem dX0_repeat_13 : decode cX0_repeat 13 = .ok (.iconst (-1), 1) := by decide +kernel
theorem dX0_repeat_14 : decode cX0_repeat 14 = .ok (.ireturn, 1) := by decide +kernel
theorem dX0_repeat_15 : decode cX0_repeat 15 = .ok (.aload_n 0, 1) := by decide +kernel
theorem dX0_repeat_16 : decode cX0_repeat 16 = .ok (.getfield 57, 3) := by decide +kernel
theorem dX0_repeat_19 : decode cX0_repeat 19 = .ok (.iload_n 1, 1) := by decide +kernel
theorem dX0_repeat_20 : decode cX0_repeat 20 = .ok (.iadd, 1) := by decide +kernel
theorem dX0_repeat_21 : decode cX0_repeat 21 = .ok (.bipush 32, 2) := by decide +kernel
theorem dX0_repeat_23 : decode cX0_repeat 23 = .ok (.if_icmp .le 6, 3) := by decide +kernel
theorem dX0_repeat_26 : decode cX0_repeat 26 = .ok (.bipush (-2), 2) := by decide +kernel
theorem dX0_repeat_28 : decode cX0_repeat 28 = .ok (.ireturn, 1) := by decide +kernel
theorem dX0_repeat_29 : decode cX0_repeat 29 = .ok (.aload_n 0, 1) := by decide +kernel
theorem dX0_repeat_30 : decode cX0_repeat 30 = .ok (.getfield 57, 3) := by decide +kernel
theorem dX0_repeat_33 : decode cX0_repeat 33 = .ok (.iload_n 1, 1) := by decide +kernel
theorem dX0_repeat_34 : decode cX0_repeat 34 = .ok (.isub, 1) := by decide +kernel
theorem dX0_repeat_35 : decode cX0_repeat 35 = .ok (.istore_n 2, 1) := by decide +kernel
theorem dX0_repeat_36 : decode cX0_repeat 36 = .ok (.iconst 0, 1) := by decide +kernel
theorem dX0_repeat_37 : decode cX0_repeat 37 = .ok (.istore_n 3, 1) := by decide +kernel
theorem dX0_repeat_38 : decode cX0_repeat 38 = .ok (.iload_n 3, 1) := by decide +kernel
theorem dX0_repeat_39 : decode cX0_repeat 39 = .ok (.iload_n 1, 1) := by decide +kernel
theorem dX0_repeat_40 : decode cX0_repeat 40 = .ok (.if_icmp .ge 28, 3) := by decide +kernel
theorem dX0_repeat_43 : decode cX0_repeat 43 = .ok (.aload_n 0, 1) := by decide +kernel
theorem dX0_repeat_44 : decode cX0_repeat 44 = .ok (.getfield 7, 3) := by decide +kernel
theorem dX0_repeat_47 : decode cX0_repeat 47 = .ok (.aload_n 0, 1) := by decide +kernel
theorem dX0_repeat_48 : decode cX0_repeat 48 = .ok (.getfield 57, 3) := by decide +kernel
theorem dX0_repeat_51 : decode cX0_repeat 51 = .ok (.iload_n 3, 1) := by decide +kernel
theorem dX0_repeat_52 : decode cX0_repeat 52 = .ok (.iadd, 1) := by decide +kernel
theorem dX0_repeat_53 : decode cX0_repeat 53 = .ok (.aload_n 0, 1) := by decide +kernel
theorem dX0_repeat_54 : decode cX0_repeat 54 = .ok (.getfield 7, 3) := by decide +kernel
theorem dX0_repeat_57 : decode cX0_repeat 57 = .ok (.iload_n 2, 1) := by decide +kernel
theorem dX0_repeat_58 : decode cX0_repeat 58 = .ok (.iload_n 3, 1) := by decide +kernel
theorem dX0_repeat_59 : decode cX0_repeat 59 = .ok (.iadd, 1) := by decide +kernel
theorem dX0_repeat_60 : decode cX0_repeat 60 = .ok (.baload, 1) := by decide +kernel
theorem dX0_repeat_61 : decode cX0_repeat 61 = .ok (.bastore, 1) := by decide +kernel
theorem dX0_repeat_62 : decode cX0_repeat 62 = .ok (.iinc 3 1, 3) := by decide +kernel
theorem dX0_repeat_65 : decode cX0_repeat 65 = .ok (.goto (-27), 3) := by decide +kernel
theorem dX0_repeat_68 : decode cX0_repeat 68 = .ok (.aload_n 0, 1) := by decide +kernel
theorem dX0_repeat_69 : decode cX0_repeat 69 = .ok (.dup, 1) := by decide +kernel
theorem dX0_repeat_70 : decode cX0_repeat 70 = .ok (.getfield 57, 3) := by decide +kernel
theorem dX0_repeat_73 : decode cX0_repeat 73 = .ok (.iload_n 1, 1) := by decide +kernel
theorem dX0_repeat_74 : decode cX0_repeat 74 = .ok (.iadd, 1) := by decide +kernel
theorem dX0_repeat_75 : decode cX0_repeat 75 = .ok (.putfield 57, 3) := by decide +kernel
theorem dX0_repeat_78 : decode cX0_repeat 78 = .ok (.aload_n 0, 1) := by decide +kernel
theorem dX0_repeat_79 : decode cX0_repeat 79 = .ok (.iconst 0, 1) := by decide +kernel
theorem dX0_repeat_80 : decode cX0_repeat 80 = .ok (.putfield 61, 3) := by decide +kernel
theorem dX0_repeat_83 : decode cX0_repeat 83 = .ok (.aload_n 0, 1) := by decide +kernel
theorem dX0_repeat_84 : decode cX0_repeat 84 = .ok (.getfield 57, 3) := by decide +kernel
theorem dX0_repeat_87 : decode cX0_repeat 87 = .ok (.ireturn, 1) := by decide +kernel
abbrev cX0_clear : ByteArray := prog_1_method_4_code
def yX0_clear : MethodName := ⟨RX0, "clear", "()I"⟩
theorem dX0_clear_0 : decode cX0_clear 0 = .ok (.aload_n 0, 1) := by decide +kernel
theorem dX0_clear_1 : decode cX0_clear 1 = .ok (.getfield 57, 3) := by decide +kernel
theorem dX0_clear_4 : decode cX0_clear 4 = .ok (.istore_n 1, 1) := by decide +kernel
theorem dX0_clear_5 : decode cX0_clear 5 = .ok (.aload_n 0, 1) := by decide +kernel
theorem dX0_clear_6 : decode cX0_clear 6 = .ok (.iconst 0, 1) := by decide +kernel
theorem dX0_clear_7 : decode cX0_clear 7 = .ok (.putfield 57, 3) := by decide +kernel
theorem dX0_clear_10 : decode cX0_clear 10 = .ok (.aload_n 0, 1) := by decide +kernel
theorem dX0_clear_11 : decode cX0_clear 11 = .ok (.iconst 0, 1) := by decide +kernel
theorem dX0_clear_12 : decode cX0_clear 12 = .ok (.putfield 61, 3) := by decide +kernel
theorem dX0_clear_15 : decode cX0_clear 15 = .ok (.iload_n 1, 1) := by decide +kernel
theorem dX0_clear_16 : decode cX0_clear 16 = .ok (.ireturn, 1) := by decide +kernel
abbrev cX0_column : ByteArray := prog_1_method_5_code
def yX0_column : MethodName := ⟨RX0, "column", "(I)I"⟩
theorem dX0_column_0 : decode cX0_column 0 = .ok (.aload_n 0, 1) := by decide +kernel
theorem dX0_column_1 : decode cX0_column 1 = .ok (.invokevirtual 65, 3) := by decide +kernel
theorem dX0_column_4 : decode cX0_column 4 = .ok (.iload_n 1, 1) := by decide +kernel
theorem dX0_column_5 : decode cX0_column 5 = .ok (.ifCond .lt 11, 3) := by decide +kernel
theorem dX0_column_8 : decode cX0_column 8 = .ok (.iload_n 1, 1) := by decide +kernel
theorem dX0_column_9 : decode cX0_column 9 = .ok (.aload_n 0, 1) := by decide +kernel
theorem dX0_column_10 : decode cX0_column 10 = .ok (.getfield 57, 3) := by decide +kernel
theorem dX0_column_13 : decode cX0_column 13 = .ok (.if_icmp .lt 8, 3) := by decide +kernel
theorem dX0_column_16 : decode cX0_column 16 = .ok (.bipush (-3), 2) := by decide +kernel
theorem dX0_column_18 : decode cX0_column 18 = .ok (.goto 9, 3) := by decide +kernel
theorem dX0_column_21 : decode cX0_column 21 = .ok (.aload_n 0, 1) := by decide +kernel
theorem dX0_column_22 : decode cX0_column 22 = .ok (.getfield 22, 3) := by decide +kernel
theorem dX0_column_25 : decode cX0_column 25 = .ok (.iload_n 1, 1) := by decide +kernel
theorem dX0_column_26 : decode cX0_column 26 = .ok (.baload, 1) := by decide +kernel
theorem dX0_column_27 : decode cX0_column 27 = .ok (.ireturn, 1) := by decide +kernel
abbrev cX0_code : ByteArray := prog_1_method_13_code
def yX0_code : MethodName := ⟨RX0, "code", "()V"⟩
theorem dX0_code_0 : decode cX0_code 0 = .ok (.aload_n 0, 1) := by decide +kernel
theorem dX0_code_1 : decode cX0_code 1 = .ok (.getfield 61, 3) := by decide +kernel
theorem dX0_code_4 : decode cX0_code 4 = .ok (.ifCond .eq 4, 3) := by decide +kernel
theorem dX0_code_7 : decode cX0_code 7 = .ok (.return_, 1) := by decide +kernel
theorem dX0_code_8 : decode cX0_code 8 = .ok (.aload_n 0, 1) := by decide +kernel
theorem dX0_code_9 : decode cX0_code 9 = .ok (.iconst 1, 1) := by decide +kernel
theorem dX0_code_10 : decode cX0_code 10 = .ok (.putfield 61, 3) := by decide +kernel
theorem dX0_code_13 : decode cX0_code 13 = .ok (.aload_n 0, 1) := by decide +kernel
theorem dX0_code_14 : decode cX0_code 14 = .ok (.invokevirtual 92, 3) := by decide +kernel
theorem dX0_code_17 : decode cX0_code 17 = .ok (.aload_n 0, 1) := by decide +kernel
theorem dX0_code_18 : decode cX0_code 18 = .ok (.iconst 0, 1) := by decide +kernel
theorem dX0_code_19 : decode cX0_code 19 = .ok (.putfield 68, 3) := by decide +kernel
theorem dX0_code_22 : decode cX0_code 22 = .ok (.iconst 0, 1) := by decide +kernel
theorem dX0_code_23 : decode cX0_code 23 = .ok (.istore_n 1, 1) := by decide +kernel
theorem dX0_code_24 : decode cX0_code 24 = .ok (.iload_n 1, 1) := by decide +kernel
theorem dX0_code_25 : decode cX0_code 25 = .ok (.aload_n 0, 1) := by decide +kernel
theorem dX0_code_26 : decode cX0_code 26 = .ok (.getfield 57, 3) := by decide +kernel
theorem dX0_code_29 : decode cX0_code 29 = .ok (.if_icmp .ge 52, 3) := by decide +kernel
theorem dX0_code_32 : decode cX0_code 32 = .ok (.aload_n 0, 1) := by decide +kernel
theorem dX0_code_33 : decode cX0_code 33 = .ok (.getfield 13, 3) := by decide +kernel
theorem dX0_code_36 : decode cX0_code 36 = .ok (.iload_n 1, 1) := by decide +kernel
theorem dX0_code_37 : decode cX0_code 37 = .ok (.baload, 1) := by decide +kernel
theorem dX0_code_38 : decode cX0_code 38 = .ok (.istore_n 2, 1) := by decide +kernel
theorem dX0_code_39 : decode cX0_code 39 = .ok (.iload_n 2, 1) := by decide +kernel
theorem dX0_code_40 : decode cX0_code 40 = .ok (.ifCond .ne 8, 3) := by decide +kernel
theorem dX0_code_43 : decode cX0_code 43 = .ok (.aload_n 0, 1) := by decide +kernel
theorem dX0_code_44 : decode cX0_code 44 = .ok (.iload_n 1, 1) := by decide +kernel
theorem dX0_code_45 : decode cX0_code 45 = .ok (.putfield 68, 3) := by decide +kernel
theorem dX0_code_48 : decode cX0_code 48 = .ok (.aload_n 0, 1) := by decide +kernel
theorem dX0_code_49 : decode cX0_code 49 = .ok (.getfield 22, 3) := by decide +kernel
theorem dX0_code_52 : decode cX0_code 52 = .ok (.iload_n 1, 1) := by decide +kernel
theorem dX0_code_53 : decode cX0_code 53 = .ok (.aload_n 0, 1) := by decide +kernel
theorem dX0_code_54 : decode cX0_code 54 = .ok (.getfield 7, 3) := by decide +kernel
theorem dX0_code_57 : decode cX0_code 57 = .ok (.iload_n 2, 1) := by decide +kernel
theorem dX0_code_58 : decode cX0_code 58 = .ok (.ifCond .ne 12, 3) := by decide +kernel
theorem dX0_code_61 : decode cX0_code 61 = .ok (.aload_n 0, 1) := by decide +kernel
theorem dX0_code_62 : decode cX0_code 62 = .ok (.getfield 57, 3) := by decide +kernel
theorem dX0_code_65 : decode cX0_code 65 = .ok (.iconst 1, 1) := by decide +kernel
theorem dX0_code_66 : decode cX0_code 66 = .ok (.isub, 1) := by decide +kernel
theorem dX0_code_67 : decode cX0_code 67 = .ok (.goto 6, 3) := by decide +kernel
theorem dX0_code_70 : decode cX0_code 70 = .ok (.iload_n 2, 1) := by decide +kernel
theorem dX0_code_71 : decode cX0_code 71 = .ok (.iconst 1, 1) := by decide +kernel
theorem dX0_code_72 : decode cX0_code 72 = .ok (.isub, 1) := by decide +kernel
theorem dX0_code_73 : decode cX0_code 73 = .ok (.baload, 1) := by decide +kernel
theorem dX0_code_74 : decode cX0_code 74 = .ok (.bastore, 1) := by decide +kernel
theorem dX0_code_75 : decode cX0_code 75 = .ok (.iinc 1 1, 3) := by decide +kernel
theorem dX0_code_78 : decode cX0_code 78 = .ok (.goto (-54), 3) := by decide +kernel
theorem dX0_code_81 : decode cX0_code 81 = .ok (.aload_n 0, 1) := by decide +kernel
theorem dX0_code_82 : decode cX0_code 82 = .ok (.invokevirtual 95, 3) := by decide +kernel
theorem dX0_code_85 : decode cX0_code 85 = .ok (.aload_n 0, 1) := by decide +kernel
theorem dX0_code_86 : decode cX0_code 86 = .ok (.invokevirtual 98, 3) := by decide +kernel
theorem dX0_code_89 : decode cX0_code 89 = .ok (.aload_n 0, 1) := by decide +kernel
theorem dX0_code_90 : decode cX0_code 90 = .ok (.invokevirtual 101, 3) := by decide +kernel
theorem dX0_code_93 : decode cX0_code 93 = .ok (.aload_n 0, 1) := by decide +kernel
theorem dX0_code_94 : decode cX0_code 94 = .ok (.invokevirtual 104, 3) := by decide +kernel
theorem dX0_code_97 : decode cX0_code 97 = .ok (.return_, 1) := by decide +kernel
abbrev cX0_sortRotations : ByteArray := prog_1_method_14_code
def yX0_sortRotations : MethodName := ⟨RX0, "sortRotations", "()V"⟩
theorem dX0_sortRotations_0 : decode cX0_sortRotations 0 = .ok (.iconst 0, 1) := by decide +kernel
theorem dX0_sortRotations_1 : decode cX0_sortRotations 1 = .ok (.istore_n 1, 1) := by decide +kernel
theorem dX0_sortRotations_2 : decode cX0_sortRotations 2 = .ok (.iload_n 1, 1) := by decide +kernel
theorem dX0_sortRotations_3 : decode cX0_sortRotations 3 = .ok (.aload_n 0, 1) := by decide +kernel
theorem dX0_sortRotations_4 : decode cX0_sortRotations 4 = .ok (.getfield 57, 3) := by decide +kernel
theorem dX0_sortRotations_7 : decode cX0_sortRotations 7 = .ok (.if_icmp .ge 29, 3) := by decide +kernel
theorem dX0_sortRotations_10 : decode cX0_sortRotations 10 = .ok (.aload_n 0, 1) := by decide +kernel
theorem dX0_sortRotations_11 : decode cX0_sortRotations 11 = .ok (.getfield 13, 3) := by decide +kernel
theorem dX0_sortRotations_14 : decode cX0_sortRotations 14 = .ok (.iload_n 1, 1) := by decide +kernel
theorem dX0_sortRotations_15 : decode cX0_sortRotations 15 = .ok (.iload_n 1, 1) := by decide +kernel
theorem dX0_sortRotations_16 : decode cX0_sortRotations 16 = .ok (.i2b, 1) := by decide +kernel
theorem dX0_sortRotations_17 : decode cX0_sortRotations 17 = .ok (.bastore, 1) := by decide +kernel
theorem dX0_sortRotations_18 : decode cX0_sortRotations 18 = .ok (.aload_n 0, 1) := by decide +kernel
theorem dX0_sortRotations_19 : decode cX0_sortRotations 19 = .ok (.getfield 16, 3) := by decide +kernel
theorem dX0_sortRotations_22 : decode cX0_sortRotations 22 = .ok (.iload_n 1, 1) := by decide +kernel
theorem dX0_sortRotations_23 : decode cX0_sortRotations 23 = .ok (.aload_n 0, 1) := by decide +kernel
theorem dX0_sortRotations_24 : decode cX0_sortRotations 24 = .ok (.getfield 7, 3) := by decide +kernel
theorem dX0_sortRotations_27 : decode cX0_sortRotations 27 = .ok (.iload_n 1, 1) := by decide +kernel
theorem dX0_sortRotations_28 : decode cX0_sortRotations 28 = .ok (.baload, 1) := by decide +kernel
theorem dX0_sortRotations_29 : decode cX0_sortRotations 29 = .ok (.bastore, 1) := by decide +kernel
theorem dX0_sortRotations_30 : decode cX0_sortRotations 30 = .ok (.iinc 1 1, 3) := by decide +kernel
theorem dX0_sortRotations_33 : decode cX0_sortRotations 33 = .ok (.goto (-31), 3) := by decide +kernel
theorem dX0_sortRotations_36 : decode cX0_sortRotations 36 = .ok (.iconst 1, 1) := by decide +kernel
theorem dX0_sortRotations_37 : decode cX0_sortRotations 37 = .ok (.istore_n 1, 1) := by decide +kernel
theorem dX0_sortRotations_38 : decode cX0_sortRotations 38 = .ok (.iload_n 1, 1) := by decide +kernel
theorem dX0_sortRotations_39 : decode cX0_sortRotations 39 = .ok (.bipush 64, 2) := by decide +kernel
theorem dX0_sortRotations_41 : decode cX0_sortRotations 41 = .ok (.if_icmp .ge 120, 3) := by decide +kernel
theorem dX0_sortRotations_44 : decode cX0_sortRotations 44 = .ok (.iconst 1, 1) := by decide +kernel
theorem dX0_sortRotations_45 : decode cX0_sortRotations 45 = .ok (.istore_n 2, 1) := by decide +kernel
theorem dX0_sortRotations_46 : decode cX0_sortRotations 46 = .ok (.iload_n 2, 1) := by decide +kernel
theorem dX0_sortRotations_47 : decode cX0_sortRotations 47 = .ok (.aload_n 0, 1) := by decide +kernel
theorem dX0_sortRotations_48 : decode cX0_sortRotations 48 = .ok (.getfield 57, 3) := by decide +kernel
theorem dX0_sortRotations_51 : decode cX0_sortRotations 51 = .ok (.if_icmp .ge 15, 3) := by decide +kernel
theorem dX0_sortRotations_54 : decode cX0_sortRotations 54 = .ok (.aload_n 0, 1) := by decide +kernel
theorem dX0_sortRotations_55 : decode cX0_sortRotations 55 = .ok (.iload_n 2, 1) := by decide +kernel
theorem dX0_sortRotations_56 : decode cX0_sortRotations 56 = .ok (.iload_n 1, 1) := by decide +kernel
theorem dX0_sortRotations_57 : decode cX0_sortRotations 57 = .ok (.invokevirtual 107, 3) := by decide +kernel
theorem dX0_sortRotations_60 : decode cX0_sortRotations 60 = .ok (.iinc 2 1, 3) := by decide +kernel
theorem dX0_sortRotations_63 : decode cX0_sortRotations 63 = .ok (.goto (-17), 3) := by decide +kernel
theorem dX0_sortRotations_66 : decode cX0_sortRotations 66 = .ok (.iconst 0, 1) := by decide +kernel
theorem dX0_sortRotations_67 : decode cX0_sortRotations 67 = .ok (.istore_n 2, 1) := by decide +kernel
theorem dX0_sortRotations_68 : decode cX0_sortRotations 68 = .ok (.iconst 0, 1) := by decide +kernel
theorem dX0_sortRotations_69 : decode cX0_sortRotations 69 = .ok (.istore_n 3, 1) := by decide +kernel
theorem dX0_sortRotations_70 : decode cX0_sortRotations 70 = .ok (.iload_n 3, 1) := by decide +kernel
theorem dX0_sortRotations_71 : decode cX0_sortRotations 71 = .ok (.aload_n 0, 1) := by decide +kernel
theorem dX0_sortRotations_72 : decode cX0_sortRotations 72 = .ok (.getfield 57, 3) := by decide +kernel
theorem dX0_sortRotations_75 : decode cX0_sortRotations 75 = .ok (.if_icmp .ge 51, 3) := by decide +kernel
theorem dX0_sortRotations_78 : decode cX0_sortRotations 78 = .ok (.iload_n 3, 1) := by decide +kernel
theorem dX0_sortRotations_79 : decode cX0_sortRotations 79 = .ok (.ifCond .le 28, 3) := by decide +kernel
theorem dX0_sortRotations_82 : decode cX0_sortRotations 82 = .ok (.aload_n 0, 1) := by decide +kernel
theorem dX0_sortRotations_83 : decode cX0_sortRotations 83 = .ok (.aload_n 0, 1) := by decide +kernel
theorem dX0_sortRotations_84 : decode cX0_sortRotations 84 = .ok (.getfield 13, 3) := by decide +kernel
theorem dX0_sortRotations_87 : decode cX0_sortRotations 87 = .ok (.iload_n 3, 1) := by decide +kernel
theorem dX0_sortRotations_88 : decode cX0_sortRotations 88 = .ok (.iconst 1, 1) := by decide +kernel
theorem dX0_sortRotations_89 : decode cX0_sortRotations 89 = .ok (.isub, 1) := by decide +kernel
theorem dX0_sortRotations_90 : decode cX0_sortRotations 90 = .ok (.baload, 1) := by decide +kernel
theorem dX0_sortRotations_91 : decode cX0_sortRotations 91 = .ok (.aload_n 0, 1) := by decide +kernel
theorem dX0_sortRotations_92 : decode cX0_sortRotations 92 = .ok (.getfield 13, 3) := by decide +kernel
theorem dX0_sortRotations_95 : decode cX0_sortRotations 95 = .ok (.iload_n 3, 1) := by decide +kernel
theorem dX0_sortRotations_96 : decode cX0_sortRotations 96 = .ok (.baload, 1) := by decide +kernel
theorem dX0_sortRotations_97 : decode cX0_sortRotations 97 = .ok (.iload_n 1, 1) := by decide +kernel
theorem dX0_sortRotations_98 : decode cX0_sortRotations 98 = .ok (.invokevirtual 111, 3) := by decide +kernel
theorem dX0_sortRotations_101 : decode cX0_sortRotations 101 = .ok (.ifCond .eq 6, 3) := by decide +kernel
theorem dX0_sortRotations_104 : decode cX0_sortRotations 104 = .ok (.iinc 2 1, 3) := by decide +kernel
theorem dX0_sortRotations_107 : decode cX0_sortRotations 107 = .ok (.aload_n 0, 1) := by decide +kernel
theorem dX0_sortRotations_108 : decode cX0_sortRotations 108 = .ok (.getfield 19, 3) := by decide +kernel
theorem dX0_sortRotations_111 : decode cX0_sortRotations 111 = .ok (.aload_n 0, 1) := by decide +kernel
theorem dX0_sortRotations_112 : decode cX0_sortRotations 112 = .ok (.getfield 13, 3) := by decide +kernel
theorem dX0_sortRotations_115 : decode cX0_sortRotations 115 = .ok (.iload_n 3, 1) := by decide +kernel
theorem dX0_sortRotations_116 : decode cX0_sortRotations 116 = .ok (.baload, 1) := by decide +kernel
theorem dX0_sortRotations_117 : decode cX0_sortRotations 117 = .ok (.iload_n 2, 1) := by decide +kernel
theorem dX0_sortRotations_118 : decode cX0_sortRotations 118 = .ok (.i2b, 1) := by decide +kernel
theorem dX0_sortRotations_119 : decode cX0_sortRotations 119 = .ok (.bastore, 1) := by decide +kernel
theorem dX0_sortRotations_120 : decode cX0_sortRotations 120 = .ok (.iinc 3 1, 3) := by decide +kernel
theorem dX0_sortRotations_123 : decode cX0_sortRotations 123 = .ok (.goto (-53), 3) := by decide +kernel
theorem dX0_sortRotations_126 : decode cX0_sortRotations 126 = .ok (.iconst 0, 1) := by decide +kernel
theorem dX0_sortRotations_127 : decode cX0_sortRotations 127 = .ok (.istore_n 3, 1) := by decide +kernel
theorem dX0_sortRotations_128 : decode cX0_sortRotations 128 = .ok (.iload_n 3, 1) := by decide +kernel
theorem dX0_sortRotations_129 : decode cX0_sortRotations 129 = .ok (.aload_n 0, 1) := by decide +kernel
theorem dX0_sortRotations_130 : decode cX0_sortRotations 130 = .ok (.getfield 57, 3) := by decide +kernel
theorem dX0_sortRotations_133 : decode cX0_sortRotations 133 = .ok (.if_icmp .ge 21, 3) := by decide +kernel
theorem dX0_sortRotations_136 : decode cX0_sortRotations 136 = .ok (.aload_n 0, 1) := by decide +kernel
theorem dX0_sortRotations_137 : decode cX0_sortRotations 137 = .ok (.getfield 16, 3) := by decide +kernel
theorem dX0_sortRotations_140 : decode cX0_sortRotations 140 = .ok (.iload_n 3, 1) := by decide +kernel
theorem dX0_sortRotations_141 : decode cX0_sortRotations 141 = .ok (.aload_n 0, 1) := by decide +kernel
theorem dX0_sortRotations_142 : decode cX0_sortRotations 142 = .ok (.getfield 19, 3) := by decide +kernel
theorem dX0_sortRotations_145 : decode cX0_sortRotations 145 = .ok (.iload_n 3, 1) := by decide +kernel
theorem dX0_sortRotations_146 : decode cX0_sortRotations 146 = .ok (.baload, 1) := by decide +kernel
theorem dX0_sortRotations_147 : decode cX0_sortRotations 147 = .ok (.bastore, 1) := by decide +kernel
theorem dX0_sortRotations_148 : decode cX0_sortRotations 148 = .ok (.iinc 3 1, 3) := by decide +kernel
theorem dX0_sortRotations_151 : decode cX0_sortRotations 151 = .ok (.goto (-23), 3) := by decide +kernel
theorem dX0_sortRotations_154 : decode cX0_sortRotations 154 = .ok (.iload_n 1, 1) := by decide +kernel
theorem dX0_sortRotations_155 : decode cX0_sortRotations 155 = .ok (.iconst 2, 1) := by decide +kernel
theorem dX0_sortRotations_156 : decode cX0_sortRotations 156 = .ok (.imul, 1) := by decide +kernel
theorem dX0_sortRotations_157 : decode cX0_sortRotations 157 = .ok (.istore_n 1, 1) := by decide +kernel
theorem dX0_sortRotations_158 : decode cX0_sortRotations 158 = .ok (.goto (-120), 3) := by decide +kernel
theorem dX0_sortRotations_161 : decode cX0_sortRotations 161 = .ok (.return_, 1) := by decide +kernel
abbrev cX0_sink : ByteArray := prog_1_method_15_code
def yX0_sink : MethodName := ⟨RX0, "sink", "(II)V"⟩
theorem dX0_sink_0 : decode cX0_sink 0 = .ok (.aload_n 0, 1) := by decide +kernel
theorem dX0_sink_1 : decode cX0_sink 1 = .ok (.getfield 13, 3) := by decide +kernel
theorem dX0_sink_4 : decode cX0_sink 4 = .ok (.iload_n 1, 1) := by decide +kernel
theorem dX0_sink_5 : decode cX0_sink 5 = .ok (.baload, 1) := by decide +kernel
theorem dX0_sink_6 : decode cX0_sink 6 = .ok (.istore_n 3, 1) := by decide +kernel
theorem dX0_sink_7 : decode cX0_sink 7 = .ok (.iload_n 1, 1) := by decide +kernel
end
section
set_option maxRecDepth 100000
theorem dX0_sink_8 : decode cX0_sink 8 = .ok (.istore 4, 2) := by decide +kernel
theorem dX0_sink_10 : decode cX0_sink 10 = .ok (.iload 4, 2) := by decide +kernel
theorem dX0_sink_12 : decode cX0_sink 12 = .ok (.ifCond .le 43, 3) := by decide +kernel
theorem dX0_sink_15 : decode cX0_sink 15 = .ok (.aload_n 0, 1) := by decide +kernel
theorem dX0_sink_16 : decode cX0_sink 16 = .ok (.aload_n 0, 1) := by decide +kernel
theorem dX0_sink_17 : decode cX0_sink 17 = .ok (.getfield 13, 3) := by decide +kernel
theorem dX0_sink_20 : decode cX0_sink 20 = .ok (.iload 4, 2) := by decide +kernel
theorem dX0_sink_22 : decode cX0_sink 22 = .ok (.iconst 1, 1) := by decide +kernel
theorem dX0_sink_23 : decode cX0_sink 23 = .ok (.isub, 1) := by decide +kernel
theorem dX0_sink_24 : decode cX0_sink 24 = .ok (.baload, 1) := by decide +kernel
theorem dX0_sink_25 : decode cX0_sink 25 = .ok (.iload_n 3, 1) := by decide +kernel
theorem dX0_sink_26 : decode cX0_sink 26 = .ok (.iload_n 2, 1) := by decide +kernel
theorem dX0_sink_27 : decode cX0_sink 27 = .ok (.invokevirtual 115, 3) := by decide +kernel
theorem dX0_sink_30 : decode cX0_sink 30 = .ok (.ifCond .eq 25, 3) := by decide +kernel
theorem dX0_sink_33 : decode cX0_sink 33 = .ok (.aload_n 0, 1) := by decide +kernel
theorem dX0_sink_34 : decode cX0_sink 34 = .ok (.getfield 13, 3) := by decide +kernel
theorem dX0_sink_37 : decode cX0_sink 37 = .ok (.iload 4, 2) := by decide +kernel
theorem dX0_sink_39 : decode cX0_sink 39 = .ok (.aload_n 0, 1) := by decide +kernel
theorem dX0_sink_40 : decode cX0_sink 40 = .ok (.getfield 13, 3) := by decide +kernel
theorem dX0_sink_43 : decode cX0_sink 43 = .ok (.iload 4, 2) := by decide +kernel
theorem dX0_sink_45 : decode cX0_sink 45 = .ok (.iconst 1, 1) := by decide +kernel
theorem dX0_sink_46 : decode cX0_sink 46 = .ok (.isub, 1) := by decide +kernel
theorem dX0_sink_47 : decode cX0_sink 47 = .ok (.baload, 1) := by decide +kernel
theorem dX0_sink_48 : decode cX0_sink 48 = .ok (.bastore, 1) := by decide +kernel
theorem dX0_sink_49 : decode cX0_sink 49 = .ok (.iinc 4 (-1), 3) := by decide +kernel
theorem dX0_sink_52 : decode cX0_sink 52 = .ok (.goto (-42), 3) := by decide +kernel
theorem dX0_sink_55 : decode cX0_sink 55 = .ok (.aload_n 0, 1) := by decide +kernel
theorem dX0_sink_56 : decode cX0_sink 56 = .ok (.getfield 13, 3) := by decide +kernel
theorem dX0_sink_59 : decode cX0_sink 59 = .ok (.iload 4, 2) := by decide +kernel
theorem dX0_sink_61 : decode cX0_sink 61 = .ok (.iload_n 3, 1) := by decide +kernel
theorem dX0_sink_62 : decode cX0_sink 62 = .ok (.bastore, 1) := by decide +kernel
theorem dX0_sink_63 : decode cX0_sink 63 = .ok (.return_, 1) := by decide +kernel
abbrev cX0_comesAfter : ByteArray := prog_1_method_16_code
def yX0_comesAfter : MethodName := ⟨RX0, "comesAfter", "(III)Z"⟩
theorem dX0_comesAfter_0 : decode cX0_comesAfter 0 = .ok (.aload_n 0, 1) := by decide +kernel
theorem dX0_comesAfter_1 : decode cX0_comesAfter 1 = .ok (.iload_n 1, 1) := by decide +kernel
theorem dX0_comesAfter_2 : decode cX0_comesAfter 2 = .ok (.iload_n 2, 1) := by decide +kernel
theorem dX0_comesAfter_3 : decode cX0_comesAfter 3 = .ok (.iload_n 3, 1) := by decide +kernel
theorem dX0_comesAfter_4 : decode cX0_comesAfter 4 = .ok (.invokevirtual 111, 3) := by decide +kernel
theorem dX0_comesAfter_7 : decode cX0_comesAfter 7 = .ok (.istore 4, 2) := by decide +kernel
theorem dX0_comesAfter_9 : decode cX0_comesAfter 9 = .ok (.iload 4, 2) := by decide +kernel
theorem dX0_comesAfter_11 : decode cX0_comesAfter 11 = .ok (.ifCond .gt 13, 3) := by decide +kernel
theorem dX0_comesAfter_14 : decode cX0_comesAfter 14 = .ok (.iload 4, 2) := by decide +kernel
theorem dX0_comesAfter_16 : decode cX0_comesAfter 16 = .ok (.ifCond .ne 12, 3) := by decide +kernel
theorem dX0_comesAfter_19 : decode cX0_comesAfter 19 = .ok (.iload_n 1, 1) := by decide +kernel
theorem dX0_comesAfter_20 : decode cX0_comesAfter 20 = .ok (.iload_n 2, 1) := by decide +kernel
theorem dX0_comesAfter_21 : decode cX0_comesAfter 21 = .ok (.if_icmp .le 7, 3) := by decide +kernel
theorem dX0_comesAfter_24 : decode cX0_comesAfter 24 = .ok (.iconst 1, 1) := by decide +kernel
theorem dX0_comesAfter_25 : decode cX0_comesAfter 25 = .ok (.goto 4, 3) := by decide +kernel
theorem dX0_comesAfter_28 : decode cX0_comesAfter 28 = .ok (.iconst 0, 1) := by decide +kernel
theorem dX0_comesAfter_29 : decode cX0_comesAfter 29 = .ok (.ireturn, 1) := by decide +kernel
abbrev cX0_compare : ByteArray := prog_1_method_17_code
def yX0_compare : MethodName := ⟨RX0, "compare", "(III)I"⟩
theorem dX0_compare_0 : decode cX0_compare 0 = .ok (.aload_n 0, 1) := by decide +kernel
theorem dX0_compare_1 : decode cX0_compare 1 = .ok (.getfield 16, 3) := by decide +kernel
theorem dX0_compare_4 : decode cX0_compare 4 = .ok (.iload_n 1, 1) := by decide +kernel
theorem dX0_compare_5 : decode cX0_compare 5 = .ok (.baload, 1) := by decide +kernel
theorem dX0_compare_6 : decode cX0_compare 6 = .ok (.aload_n 0, 1) := by decide +kernel
theorem dX0_compare_7 : decode cX0_compare 7 = .ok (.getfield 16, 3) := by decide +kernel
theorem dX0_compare_10 : decode cX0_compare 10 = .ok (.iload_n 2, 1) := by decide +kernel
theorem dX0_compare_11 : decode cX0_compare 11 = .ok (.baload, 1) := by decide +kernel
theorem dX0_compare_12 : decode cX0_compare 12 = .ok (.if_icmp .eq 17, 3) := by decide +kernel
theorem dX0_compare_15 : decode cX0_compare 15 = .ok (.aload_n 0, 1) := by decide +kernel
theorem dX0_compare_16 : decode cX0_compare 16 = .ok (.getfield 16, 3) := by decide +kernel
theorem dX0_compare_19 : decode cX0_compare 19 = .ok (.iload_n 1, 1) := by decide +kernel
theorem dX0_compare_20 : decode cX0_compare 20 = .ok (.baload, 1) := by decide +kernel
theorem dX0_compare_21 : decode cX0_compare 21 = .ok (.aload_n 0, 1) := by decide +kernel
theorem dX0_compare_22 : decode cX0_compare 22 = .ok (.getfield 16, 3) := by decide +kernel
theorem dX0_compare_25 : decode cX0_compare 25 = .ok (.iload_n 2, 1) := by decide +kernel
theorem dX0_compare_26 : decode cX0_compare 26 = .ok (.baload, 1) := by decide +kernel
theorem dX0_compare_27 : decode cX0_compare 27 = .ok (.isub, 1) := by decide +kernel
theorem dX0_compare_28 : decode cX0_compare 28 = .ok (.ireturn, 1) := by decide +kernel
theorem dX0_compare_29 : decode cX0_compare 29 = .ok (.aload_n 0, 1) := by decide +kernel
theorem dX0_compare_30 : decode cX0_compare 30 = .ok (.getfield 16, 3) := by decide +kernel
theorem dX0_compare_33 : decode cX0_compare 33 = .ok (.iload_n 1, 1) := by decide +kernel
theorem dX0_compare_34 : decode cX0_compare 34 = .ok (.iload_n 3, 1) := by decide +kernel
theorem dX0_compare_35 : decode cX0_compare 35 = .ok (.iadd, 1) := by decide +kernel
theorem dX0_compare_36 : decode cX0_compare 36 = .ok (.aload_n 0, 1) := by decide +kernel
theorem dX0_compare_37 : decode cX0_compare 37 = .ok (.getfield 57, 3) := by decide +kernel
theorem dX0_compare_40 : decode cX0_compare 40 = .ok (.irem, 1) := by decide +kernel
theorem dX0_compare_41 : decode cX0_compare 41 = .ok (.baload, 1) := by decide +kernel
theorem dX0_compare_42 : decode cX0_compare 42 = .ok (.aload_n 0, 1) := by decide +kernel
theorem dX0_compare_43 : decode cX0_compare 43 = .ok (.getfield 16, 3) := by decide +kernel
theorem dX0_compare_46 : decode cX0_compare 46 = .ok (.iload_n 2, 1) := by decide +kernel
theorem dX0_compare_47 : decode cX0_compare 47 = .ok (.iload_n 3, 1) := by decide +kernel
theorem dX0_compare_48 : decode cX0_compare 48 = .ok (.iadd, 1) := by decide +kernel
theorem dX0_compare_49 : decode cX0_compare 49 = .ok (.aload_n 0, 1) := by decide +kernel
theorem dX0_compare_50 : decode cX0_compare 50 = .ok (.getfield 57, 3) := by decide +kernel
theorem dX0_compare_53 : decode cX0_compare 53 = .ok (.irem, 1) := by decide +kernel
theorem dX0_compare_54 : decode cX0_compare 54 = .ok (.baload, 1) := by decide +kernel
theorem dX0_compare_55 : decode cX0_compare 55 = .ok (.isub, 1) := by decide +kernel
theorem dX0_compare_56 : decode cX0_compare 56 = .ok (.ireturn, 1) := by decide +kernel
abbrev cX0_rankLetters : ByteArray := prog_1_method_20_code
def yX0_rankLetters : MethodName := ⟨RX0, "rankLetters", "()V"⟩
theorem dX0_rankLetters_0 : decode cX0_rankLetters 0 = .ok (.aload_n 0, 1) := by decide +kernel
theorem dX0_rankLetters_1 : decode cX0_rankLetters 1 = .ok (.invokevirtual 119, 3) := by decide +kernel
theorem dX0_rankLetters_4 : decode cX0_rankLetters 4 = .ok (.iconst 0, 1) := by decide +kernel
theorem dX0_rankLetters_5 : decode cX0_rankLetters 5 = .ok (.istore_n 1, 1) := by decide +kernel
theorem dX0_rankLetters_6 : decode cX0_rankLetters 6 = .ok (.iload_n 1, 1) := by decide +kernel
theorem dX0_rankLetters_7 : decode cX0_rankLetters 7 = .ok (.aload_n 0, 1) := by decide +kernel
theorem dX0_rankLetters_8 : decode cX0_rankLetters 8 = .ok (.getfield 57, 3) := by decide +kernel
theorem dX0_rankLetters_11 : decode cX0_rankLetters 11 = .ok (.if_icmp .ge 45, 3) := by decide +kernel
theorem dX0_rankLetters_14 : decode cX0_rankLetters 14 = .ok (.iconst 0, 1) := by decide +kernel
theorem dX0_rankLetters_15 : decode cX0_rankLetters 15 = .ok (.istore_n 2, 1) := by decide +kernel
theorem dX0_rankLetters_16 : decode cX0_rankLetters 16 = .ok (.aload_n 0, 1) := by decide +kernel
theorem dX0_rankLetters_17 : decode cX0_rankLetters 17 = .ok (.getfield 31, 3) := by decide +kernel
theorem dX0_rankLetters_20 : decode cX0_rankLetters 20 = .ok (.iload_n 2, 1) := by decide +kernel
theorem dX0_rankLetters_21 : decode cX0_rankLetters 21 = .ok (.baload, 1) := by decide +kernel
theorem dX0_rankLetters_22 : decode cX0_rankLetters 22 = .ok (.aload_n 0, 1) := by decide +kernel
theorem dX0_rankLetters_23 : decode cX0_rankLetters 23 = .ok (.getfield 22, 3) := by decide +kernel
theorem dX0_rankLetters_26 : decode cX0_rankLetters 26 = .ok (.iload_n 1, 1) := by decide +kernel
theorem dX0_rankLetters_27 : decode cX0_rankLetters 27 = .ok (.baload, 1) := by decide +kernel
theorem dX0_rankLetters_28 : decode cX0_rankLetters 28 = .ok (.if_icmp .eq 9, 3) := by decide +kernel
theorem dX0_rankLetters_31 : decode cX0_rankLetters 31 = .ok (.iinc 2 1, 3) := by decide +kernel
theorem dX0_rankLetters_34 : decode cX0_rankLetters 34 = .ok (.goto (-18), 3) := by decide +kernel
theorem dX0_rankLetters_37 : decode cX0_rankLetters 37 = .ok (.aload_n 0, 1) := by decide +kernel
theorem dX0_rankLetters_38 : decode cX0_rankLetters 38 = .ok (.getfield 25, 3) := by decide +kernel
theorem dX0_rankLetters_41 : decode cX0_rankLetters 41 = .ok (.iload_n 1, 1) := by decide +kernel
theorem dX0_rankLetters_42 : decode cX0_rankLetters 42 = .ok (.iload_n 2, 1) := by decide +kernel
theorem dX0_rankLetters_43 : decode cX0_rankLetters 43 = .ok (.i2b, 1) := by decide +kernel
theorem dX0_rankLetters_44 : decode cX0_rankLetters 44 = .ok (.bastore, 1) := by decide +kernel
theorem dX0_rankLetters_45 : decode cX0_rankLetters 45 = .ok (.aload_n 0, 1) := by decide +kernel
theorem dX0_rankLetters_46 : decode cX0_rankLetters 46 = .ok (.iload_n 2, 1) := by decide +kernel
theorem dX0_rankLetters_47 : decode cX0_rankLetters 47 = .ok (.invokevirtual 122, 3) := by decide +kernel
theorem dX0_rankLetters_50 : decode cX0_rankLetters 50 = .ok (.iinc 1 1, 3) := by decide +kernel
theorem dX0_rankLetters_53 : decode cX0_rankLetters 53 = .ok (.goto (-47), 3) := by decide +kernel
theorem dX0_rankLetters_56 : decode cX0_rankLetters 56 = .ok (.return_, 1) := by decide +kernel
abbrev cX0_resetRow : ByteArray := prog_1_method_18_code
def yX0_resetRow : MethodName := ⟨RX0, "resetRow", "()V"⟩
theorem dX0_resetRow_0 : decode cX0_resetRow 0 = .ok (.iconst 0, 1) := by decide +kernel
theorem dX0_resetRow_1 : decode cX0_resetRow 1 = .ok (.istore_n 1, 1) := by decide +kernel
theorem dX0_resetRow_2 : decode cX0_resetRow 2 = .ok (.iload_n 1, 1) := by decide +kernel
theorem dX0_resetRow_3 : decode cX0_resetRow 3 = .ok (.bipush 6, 2) := by decide +kernel
theorem dX0_resetRow_5 : decode cX0_resetRow 5 = .ok (.if_icmp .ge 17, 3) := by decide +kernel
theorem dX0_resetRow_8 : decode cX0_resetRow 8 = .ok (.aload_n 0, 1) := by decide +kernel
theorem dX0_resetRow_9 : decode cX0_resetRow 9 = .ok (.getfield 31, 3) := by decide +kernel
theorem dX0_resetRow_12 : decode cX0_resetRow 12 = .ok (.iload_n 1, 1) := by decide +kernel
theorem dX0_resetRow_13 : decode cX0_resetRow 13 = .ok (.iload_n 1, 1) := by decide +kernel
theorem dX0_resetRow_14 : decode cX0_resetRow 14 = .ok (.i2b, 1) := by decide +kernel
theorem dX0_resetRow_15 : decode cX0_resetRow 15 = .ok (.bastore, 1) := by decide +kernel
theorem dX0_resetRow_16 : decode cX0_resetRow 16 = .ok (.iinc 1 1, 3) := by decide +kernel
theorem dX0_resetRow_19 : decode cX0_resetRow 19 = .ok (.goto (-17), 3) := by decide +kernel
theorem dX0_resetRow_22 : decode cX0_resetRow 22 = .ok (.return_, 1) := by decide +kernel
abbrev cX0_toFront : ByteArray := prog_1_method_19_code
def yX0_toFront : MethodName := ⟨RX0, "toFront", "(I)V"⟩
theorem dX0_toFront_0 : decode cX0_toFront 0 = .ok (.aload_n 0, 1) := by decide +kernel
theorem dX0_toFront_1 : decode cX0_toFront 1 = .ok (.getfield 31, 3) := by decide +kernel
theorem dX0_toFront_4 : decode cX0_toFront 4 = .ok (.iload_n 1, 1) := by decide +kernel
theorem dX0_toFront_5 : decode cX0_toFront 5 = .ok (.baload, 1) := by decide +kernel
theorem dX0_toFront_6 : decode cX0_toFront 6 = .ok (.istore_n 2, 1) := by decide +kernel
theorem dX0_toFront_7 : decode cX0_toFront 7 = .ok (.iload_n 1, 1) := by decide +kernel
theorem dX0_toFront_8 : decode cX0_toFront 8 = .ok (.istore_n 3, 1) := by decide +kernel
theorem dX0_toFront_9 : decode cX0_toFront 9 = .ok (.iload_n 3, 1) := by decide +kernel
theorem dX0_toFront_10 : decode cX0_toFront 10 = .ok (.ifCond .le 23, 3) := by decide +kernel
theorem dX0_toFront_13 : decode cX0_toFront 13 = .ok (.aload_n 0, 1) := by decide +kernel
theorem dX0_toFront_14 : decode cX0_toFront 14 = .ok (.getfield 31, 3) := by decide +kernel
theorem dX0_toFront_17 : decode cX0_toFront 17 = .ok (.iload_n 3, 1) := by decide +kernel
theorem dX0_toFront_18 : decode cX0_toFront 18 = .ok (.aload_n 0, 1) := by decide +kernel
theorem dX0_toFront_19 : decode cX0_toFront 19 = .ok (.getfield 31, 3) := by decide +kernel
theorem dX0_toFront_22 : decode cX0_toFront 22 = .ok (.iload_n 3, 1) := by decide +kernel
theorem dX0_toFront_23 : decode cX0_toFront 23 = .ok (.iconst 1, 1) := by decide +kernel
theorem dX0_toFront_24 : decode cX0_toFront 24 = .ok (.isub, 1) := by decide +kernel
theorem dX0_toFront_25 : decode cX0_toFront 25 = .ok (.baload, 1) := by decide +kernel
theorem dX0_toFront_26 : decode cX0_toFront 26 = .ok (.bastore, 1) := by decide +kernel
theorem dX0_toFront_27 : decode cX0_toFront 27 = .ok (.iinc 3 (-1), 3) := by decide +kernel
theorem dX0_toFront_30 : decode cX0_toFront 30 = .ok (.goto (-21), 3) := by decide +kernel
theorem dX0_toFront_33 : decode cX0_toFront 33 = .ok (.aload_n 0, 1) := by decide +kernel
theorem dX0_toFront_34 : decode cX0_toFront 34 = .ok (.getfield 31, 3) := by decide +kernel
theorem dX0_toFront_37 : decode cX0_toFront 37 = .ok (.iconst 0, 1) := by decide +kernel
theorem dX0_toFront_38 : decode cX0_toFront 38 = .ok (.iload_n 2, 1) := by decide +kernel
theorem dX0_toFront_39 : decode cX0_toFront 39 = .ok (.bastore, 1) := by decide +kernel
theorem dX0_toFront_40 : decode cX0_toFront 40 = .ok (.return_, 1) := by decide +kernel
abbrev cX0_shortenRuns : ByteArray := prog_1_method_22_code
def yX0_shortenRuns : MethodName := ⟨RX0, "shortenRuns", "()V"⟩
theorem dX0_shortenRuns_0 : decode cX0_shortenRuns 0 = .ok (.aload_n 0, 1) := by decide +kernel
theorem dX0_shortenRuns_1 : decode cX0_shortenRuns 1 = .ok (.iconst 0, 1) := by decide +kernel
theorem dX0_shortenRuns_2 : decode cX0_shortenRuns 2 = .ok (.putfield 71, 3) := by decide +kernel
theorem dX0_shortenRuns_5 : decode cX0_shortenRuns 5 = .ok (.iconst 0, 1) := by decide +kernel
theorem dX0_shortenRuns_6 : decode cX0_shortenRuns 6 = .ok (.istore_n 1, 1) := by decide +kernel
theorem dX0_shortenRuns_7 : decode cX0_shortenRuns 7 = .ok (.iconst 0, 1) := by decide +kernel
theorem dX0_shortenRuns_8 : decode cX0_shortenRuns 8 = .ok (.istore_n 2, 1) := by decide +kernel
theorem dX0_shortenRuns_9 : decode cX0_shortenRuns 9 = .ok (.iload_n 2, 1) := by decide +kernel
theorem dX0_shortenRuns_10 : decode cX0_shortenRuns 10 = .ok (.aload_n 0, 1) := by decide +kernel
theorem dX0_shortenRuns_11 : decode cX0_shortenRuns 11 = .ok (.getfield 57, 3) := by decide +kernel
theorem dX0_shortenRuns_14 : decode cX0_shortenRuns 14 = .ok (.if_icmp .gt 102, 3) := by decide +kernel
theorem dX0_shortenRuns_17 : decode cX0_shortenRuns 17 = .ok (.iload_n 2, 1) := by decide +kernel
theorem dX0_shortenRuns_18 : decode cX0_shortenRuns 18 = .ok (.aload_n 0, 1) := by decide +kernel
theorem dX0_shortenRuns_19 : decode cX0_shortenRuns 19 = .ok (.getfield 57, 3) := by decide +kernel
theorem dX0_shortenRuns_22 : decode cX0_shortenRuns 22 = .ok (.if_icmp .ge 18, 3) := by decide +kernel
theorem dX0_shortenRuns_25 : decode cX0_shortenRuns 25 = .ok (.aload_n 0, 1) := by decide +kernel
theorem dX0_shortenRuns_26 : decode cX0_shortenRuns 26 = .ok (.getfield 25, 3) := by decide +kernel
theorem dX0_shortenRuns_29 : decode cX0_shortenRuns 29 = .ok (.iload_n 2, 1) := by decide +kernel
theorem dX0_shortenRuns_30 : decode cX0_shortenRuns 30 = .ok (.baload, 1) := by decide +kernel
theorem dX0_shortenRuns_31 : decode cX0_shortenRuns 31 = .ok (.ifCond .ne 9, 3) := by decide +kernel
theorem dX0_shortenRuns_34 : decode cX0_shortenRuns 34 = .ok (.iinc 1 1, 3) := by decide +kernel
theorem dX0_shortenRuns_37 : decode cX0_shortenRuns 37 = .ok (.goto 73, 3) := by decide +kernel
theorem dX0_shortenRuns_40 : decode cX0_shortenRuns 40 = .ok (.iload_n 1, 1) := by decide +kernel
theorem dX0_shortenRuns_41 : decode cX0_shortenRuns 41 = .ok (.ifCond .le 49, 3) := by decide +kernel
theorem dX0_shortenRuns_44 : decode cX0_shortenRuns 44 = .ok (.iload_n 1, 1) := by decide +kernel
theorem dX0_shortenRuns_45 : decode cX0_shortenRuns 45 = .ok (.iconst 1, 1) := by decide +kernel
theorem dX0_shortenRuns_46 : decode cX0_shortenRuns 46 = .ok (.iand, 1) := by decide +kernel
theorem dX0_shortenRuns_47 : decode cX0_shortenRuns 47 = .ok (.ifCond .eq 7, 3) := by decide +kernel
theorem dX0_shortenRuns_50 : decode cX0_shortenRuns 50 = .ok (.iconst 1, 1) := by decide +kernel
theorem dX0_shortenRuns_51 : decode cX0_shortenRuns 51 = .ok (.goto 4, 3) := by decide +kernel
theorem dX0_shortenRuns_54 : decode cX0_shortenRuns 54 = .ok (.iconst 0, 1) := by decide +kernel
theorem dX0_shortenRuns_55 : decode cX0_shortenRuns 55 = .ok (.istore_n 3, 1) := by decide +kernel
theorem dX0_shortenRuns_56 : decode cX0_shortenRuns 56 = .ok (.aload_n 0, 1) := by decide +kernel
theorem dX0_shortenRuns_57 : decode cX0_shortenRuns 57 = .ok (.iload_n 3, 1) := by decide +kernel
theorem dX0_shortenRuns_58 : decode cX0_shortenRuns 58 = .ok (.ifCond .eq 7, 3) := by decide +kernel
theorem dX0_shortenRuns_61 : decode cX0_shortenRuns 61 = .ok (.iconst 0, 1) := by decide +kernel
theorem dX0_shortenRuns_62 : decode cX0_shortenRuns 62 = .ok (.goto 4, 3) := by decide +kernel
theorem dX0_shortenRuns_65 : decode cX0_shortenRuns 65 = .ok (.iconst 1, 1) := by decide +kernel
theorem dX0_shortenRuns_66 : decode cX0_shortenRuns 66 = .ok (.invokevirtual 125, 3) := by decide +kernel
theorem dX0_shortenRuns_69 : decode cX0_shortenRuns 69 = .ok (.iload_n 3, 1) := by decide +kernel
theorem dX0_shortenRuns_70 : decode cX0_shortenRuns 70 = .ok (.ifCond .eq 11, 3) := by decide +kernel
theorem dX0_shortenRuns_73 : decode cX0_shortenRuns 73 = .ok (.iload_n 1, 1) := by decide +kernel
theorem dX0_shortenRuns_74 : decode cX0_shortenRuns 74 = .ok (.iconst 1, 1) := by decide +kernel
theorem dX0_shortenRuns_75 : decode cX0_shortenRuns 75 = .ok (.isub, 1) := by decide +kernel
theorem dX0_shortenRuns_76 : decode cX0_shortenRuns 76 = .ok (.iconst 2, 1) := by decide +kernel
theorem dX0_shortenRuns_77 : decode cX0_shortenRuns 77 = .ok (.idiv, 1) := by decide +kernel
theorem dX0_shortenRuns_78 : decode cX0_shortenRuns 78 = .ok (.goto 8, 3) := by decide +kernel
theorem dX0_shortenRuns_81 : decode cX0_shortenRuns 81 = .ok (.iload_n 1, 1) := by decide +kernel
theorem dX0_shortenRuns_82 : decode cX0_shortenRuns 82 = .ok (.iconst 2, 1) := by decide +kernel
theorem dX0_shortenRuns_83 : decode cX0_shortenRuns 83 = .ok (.isub, 1) := by decide +kernel
theorem dX0_shortenRuns_84 : decode cX0_shortenRuns 84 = .ok (.iconst 2, 1) := by decide +kernel
theorem dX0_shortenRuns_85 : decode cX0_shortenRuns 85 = .ok (.idiv, 1) := by decide +kernel
theorem dX0_shortenRuns_86 : decode cX0_shortenRuns 86 = .ok (.istore_n 1, 1) := by decide +kernel
theorem dX0_shortenRuns_87 : decode cX0_shortenRuns 87 = .ok (.goto (-47), 3) := by decide +kernel
theorem dX0_shortenRuns_90 : decode cX0_shortenRuns 90 = .ok (.iload_n 2, 1) := by decide +kernel
theorem dX0_shortenRuns_91 : decode cX0_shortenRuns 91 = .ok (.aload_n 0, 1) := by decide +kernel
theorem dX0_shortenRuns_92 : decode cX0_shortenRuns 92 = .ok (.getfield 57, 3) := by decide +kernel
theorem dX0_shortenRuns_95 : decode cX0_shortenRuns 95 = .ok (.if_icmp .ge 15, 3) := by decide +kernel
theorem dX0_shortenRuns_98 : decode cX0_shortenRuns 98 = .ok (.aload_n 0, 1) := by decide +kernel
theorem dX0_shortenRuns_99 : decode cX0_shortenRuns 99 = .ok (.aload_n 0, 1) := by decide +kernel
theorem dX0_shortenRuns_100 : decode cX0_shortenRuns 100 = .ok (.getfield 25, 3) := by decide +kernel
theorem dX0_shortenRuns_103 : decode cX0_shortenRuns 103 = .ok (.iload_n 2, 1) := by decide +kernel
theorem dX0_shortenRuns_104 : decode cX0_shortenRuns 104 = .ok (.baload, 1) := by decide +kernel
theorem dX0_shortenRuns_105 : decode cX0_shortenRuns 105 = .ok (.iconst 1, 1) := by decide +kernel
theorem dX0_shortenRuns_106 : decode cX0_shortenRuns 106 = .ok (.iadd, 1) := by decide +kernel
theorem dX0_shortenRuns_107 : decode cX0_shortenRuns 107 = .ok (.invokevirtual 125, 3) := by decide +kernel
theorem dX0_shortenRuns_110 : decode cX0_shortenRuns 110 = .ok (.iinc 2 1, 3) := by decide +kernel
theorem dX0_shortenRuns_113 : decode cX0_shortenRuns 113 = .ok (.goto (-104), 3) := by decide +kernel
theorem dX0_shortenRuns_116 : decode cX0_shortenRuns 116 = .ok (.return_, 1) := by decide +kernel
abbrev cX0_addSymbol : ByteArray := prog_1_method_21_code
def yX0_addSymbol : MethodName := ⟨RX0, "addSymbol", "(I)V"⟩
theorem dX0_addSymbol_0 : decode cX0_addSymbol 0 = .ok (.aload_n 0, 1) := by decide +kernel
theorem dX0_addSymbol_1 : decode cX0_addSymbol 1 = .ok (.getfield 28, 3) := by decide +kernel
theorem dX0_addSymbol_4 : decode cX0_addSymbol 4 = .ok (.aload_n 0, 1) := by decide +kernel
theorem dX0_addSymbol_5 : decode cX0_addSymbol 5 = .ok (.getfield 71, 3) := by decide +kernel
theorem dX0_addSymbol_8 : decode cX0_addSymbol 8 = .ok (.iload_n 1, 1) := by decide +kernel
theorem dX0_addSymbol_9 : decode cX0_addSymbol 9 = .ok (.i2b, 1) := by decide +kernel
theorem dX0_addSymbol_10 : decode cX0_addSymbol 10 = .ok (.bastore, 1) := by decide +kernel
theorem dX0_addSymbol_11 : decode cX0_addSymbol 11 = .ok (.aload_n 0, 1) := by decide +kernel
theorem dX0_addSymbol_12 : decode cX0_addSymbol 12 = .ok (.dup, 1) := by decide +kernel
theorem dX0_addSymbol_13 : decode cX0_addSymbol 13 = .ok (.getfield 71, 3) := by decide +kernel
theorem dX0_addSymbol_16 : decode cX0_addSymbol 16 = .ok (.iconst 1, 1) := by decide +kernel
theorem dX0_addSymbol_17 : decode cX0_addSymbol 17 = .ok (.iadd, 1) := by decide +kernel
theorem dX0_addSymbol_18 : decode cX0_addSymbol 18 = .ok (.putfield 71, 3) := by decide +kernel
theorem dX0_addSymbol_21 : decode cX0_addSymbol 21 = .ok (.return_, 1) := by decide +kernel
abbrev cX0_findBits : ByteArray := prog_1_method_24_code
def yX0_findBits : MethodName := ⟨RX0, "findBits", "()V"⟩
theorem dX0_findBits_0 : decode cX0_findBits 0 = .ok (.iconst 0, 1) := by decide +kernel
theorem dX0_findBits_1 : decode cX0_findBits 1 = .ok (.istore_n 1, 1) := by decide +kernel
theorem dX0_findBits_2 : decode cX0_findBits 2 = .ok (.iload_n 1, 1) := by decide +kernel
theorem dX0_findBits_3 : decode cX0_findBits 3 = .ok (.bipush 7, 2) := by decide +kernel
theorem dX0_findBits_5 : decode cX0_findBits 5 = .ok (.if_icmp .ge 32, 3) := by decide +kernel
theorem dX0_findBits_8 : decode cX0_findBits 8 = .ok (.aload_n 0, 1) := by decide +kernel
theorem dX0_findBits_9 : decode cX0_findBits 9 = .ok (.getfield 34, 3) := by decide +kernel
theorem dX0_findBits_12 : decode cX0_findBits 12 = .ok (.iload_n 1, 1) := by decide +kernel
theorem dX0_findBits_13 : decode cX0_findBits 13 = .ok (.iconst 0, 1) := by decide +kernel
theorem dX0_findBits_14 : decode cX0_findBits 14 = .ok (.iastore, 1) := by decide +kernel
theorem dX0_findBits_15 : decode cX0_findBits 15 = .ok (.aload_n 0, 1) := by decide +kernel
theorem dX0_findBits_16 : decode cX0_findBits 16 = .ok (.getfield 38, 3) := by decide +kernel
theorem dX0_findBits_19 : decode cX0_findBits 19 = .ok (.iload_n 1, 1) := by decide +kernel
theorem dX0_findBits_20 : decode cX0_findBits 20 = .ok (.iconst 1, 1) := by decide +kernel
theorem dX0_findBits_21 : decode cX0_findBits 21 = .ok (.iload_n 1, 1) := by decide +kernel
theorem dX0_findBits_22 : decode cX0_findBits 22 = .ok (.ishl, 1) := by decide +kernel
theorem dX0_findBits_23 : decode cX0_findBits 23 = .ok (.iastore, 1) := by decide +kernel
theorem dX0_findBits_24 : decode cX0_findBits 24 = .ok (.aload_n 0, 1) := by decide +kernel
theorem dX0_findBits_25 : decode cX0_findBits 25 = .ok (.getfield 41, 3) := by decide +kernel
theorem dX0_findBits_28 : decode cX0_findBits 28 = .ok (.iload_n 1, 1) := by decide +kernel
theorem dX0_findBits_29 : decode cX0_findBits 29 = .ok (.iconst 0, 1) := by decide +kernel
theorem dX0_findBits_30 : decode cX0_findBits 30 = .ok (.bastore, 1) := by decide +kernel
theorem dX0_findBits_31 : decode cX0_findBits 31 = .ok (.iinc 1 1, 3) := by decide +kernel
theorem dX0_findBits_34 : decode cX0_findBits 34 = .ok (.goto (-32), 3) := by decide +kernel
theorem dX0_findBits_37 : decode cX0_findBits 37 = .ok (.iconst 0, 1) := by decide +kernel
theorem dX0_findBits_38 : decode cX0_findBits 38 = .ok (.istore_n 1, 1) := by decide +kernel
theorem dX0_findBits_39 : decode cX0_findBits 39 = .ok (.iload_n 1, 1) := by decide +kernel
theorem dX0_findBits_40 : decode cX0_findBits 40 = .ok (.aload_n 0, 1) := by decide +kernel
theorem dX0_findBits_41 : decode cX0_findBits 41 = .ok (.getfield 71, 3) := by decide +kernel
theorem dX0_findBits_44 : decode cX0_findBits 44 = .ok (.if_icmp .ge 24, 3) := by decide +kernel
theorem dX0_findBits_47 : decode cX0_findBits 47 = .ok (.aload_n 0, 1) := by decide +kernel
theorem dX0_findBits_48 : decode cX0_findBits 48 = .ok (.getfield 34, 3) := by decide +kernel
theorem dX0_findBits_51 : decode cX0_findBits 51 = .ok (.aload_n 0, 1) := by decide +kernel
theorem dX0_findBits_52 : decode cX0_findBits 52 = .ok (.getfield 28, 3) := by decide +kernel
theorem dX0_findBits_55 : decode cX0_findBits 55 = .ok (.iload_n 1, 1) := by decide +kernel
theorem dX0_findBits_56 : decode cX0_findBits 56 = .ok (.baload, 1) := by decide +kernel
theorem dX0_findBits_57 : decode cX0_findBits 57 = .ok (.dup2, 1) := by decide +kernel
theorem dX0_findBits_58 : decode cX0_findBits 58 = .ok (.iaload, 1) := by decide +kernel
theorem dX0_findBits_59 : decode cX0_findBits 59 = .ok (.iconst 1, 1) := by decide +kernel
theorem dX0_findBits_60 : decode cX0_findBits 60 = .ok (.iadd, 1) := by decide +kernel
theorem dX0_findBits_61 : decode cX0_findBits 61 = .ok (.iastore, 1) := by decide +kernel
theorem dX0_findBits_62 : decode cX0_findBits 62 = .ok (.iinc 1 1, 3) := by decide +kernel
theorem dX0_findBits_65 : decode cX0_findBits 65 = .ok (.goto (-26), 3) := by decide +kernel
theorem dX0_findBits_68 : decode cX0_findBits 68 = .ok (.aload_n 0, 1) := by decide +kernel
theorem dX0_findBits_69 : decode cX0_findBits 69 = .ok (.bipush (-3), 2) := by decide +kernel
theorem dX0_findBits_71 : decode cX0_findBits 71 = .ok (.invokevirtual 128, 3) := by decide +kernel
theorem dX0_findBits_74 : decode cX0_findBits 74 = .ok (.istore_n 1, 1) := by decide +kernel
theorem dX0_findBits_75 : decode cX0_findBits 75 = .ok (.aload_n 0, 1) := by decide +kernel
theorem dX0_findBits_76 : decode cX0_findBits 76 = .ok (.iload_n 1, 1) := by decide +kernel
theorem dX0_findBits_77 : decode cX0_findBits 77 = .ok (.invokevirtual 128, 3) := by decide +kernel
theorem dX0_findBits_80 : decode cX0_findBits 80 = .ok (.istore_n 2, 1) := by decide +kernel
theorem dX0_findBits_81 : decode cX0_findBits 81 = .ok (.iload_n 1, 1) := by decide +kernel
theorem dX0_findBits_82 : decode cX0_findBits 82 = .ok (.ifCond .lt 14, 3) := by decide +kernel
theorem dX0_findBits_85 : decode cX0_findBits 85 = .ok (.iload_n 2, 1) := by decide +kernel
theorem dX0_findBits_86 : decode cX0_findBits 86 = .ok (.ifCond .ge 10, 3) := by decide +kernel
theorem dX0_findBits_89 : decode cX0_findBits 89 = .ok (.aload_n 0, 1) := by decide +kernel
theorem dX0_findBits_90 : decode cX0_findBits 90 = .ok (.getfield 41, 3) := by decide +kernel
theorem dX0_findBits_93 : decode cX0_findBits 93 = .ok (.iload_n 1, 1) := by decide +kernel
theorem dX0_findBits_94 : decode cX0_findBits 94 = .ok (.iconst 1, 1) := by decide +kernel
theorem dX0_findBits_95 : decode cX0_findBits 95 = .ok (.bastore, 1) := by decide +kernel
theorem dX0_findBits_96 : decode cX0_findBits 96 = .ok (.iload_n 1, 1) := by decide +kernel
theorem dX0_findBits_97 : decode cX0_findBits 97 = .ok (.ifCond .lt 98, 3) := by decide +kernel
theorem dX0_findBits_100 : decode cX0_findBits 100 = .ok (.iload_n 2, 1) := by decide +kernel
theorem dX0_findBits_101 : decode cX0_findBits 101 = .ok (.ifCond .lt 94, 3) := by decide +kernel
theorem dX0_findBits_104 : decode cX0_findBits 104 = .ok (.aload_n 0, 1) := by decide +kernel
theorem dX0_findBits_105 : decode cX0_findBits 105 = .ok (.getfield 38, 3) := by decide +kernel
theorem dX0_findBits_108 : decode cX0_findBits 108 = .ok (.iload_n 2, 1) := by decide +kernel
theorem dX0_findBits_109 : decode cX0_findBits 109 = .ok (.dup2, 1) := by decide +kernel
theorem dX0_findBits_110 : decode cX0_findBits 110 = .ok (.iaload, 1) := by decide +kernel
theorem dX0_findBits_111 : decode cX0_findBits 111 = .ok (.aload_n 0, 1) := by decide +kernel
theorem dX0_findBits_112 : decode cX0_findBits 112 = .ok (.getfield 38, 3) := by decide +kernel
theorem dX0_findBits_115 : decode cX0_findBits 115 = .ok (.iload_n 1, 1) := by decide +kernel
theorem dX0_findBits_116 : decode cX0_findBits 116 = .ok (.iaload, 1) := by decide +kernel
theorem dX0_findBits_117 : decode cX0_findBits 117 = .ok (.ior, 1) := by decide +kernel
theorem dX0_findBits_118 : decode cX0_findBits 118 = .ok (.iastore, 1) := by decide +kernel
theorem dX0_findBits_119 : decode cX0_findBits 119 = .ok (.aload_n 0, 1) := by decide +kernel
theorem dX0_findBits_120 : decode cX0_findBits 120 = .ok (.getfield 34, 3) := by decide +kernel
theorem dX0_findBits_123 : decode cX0_findBits 123 = .ok (.iload_n 2, 1) := by decide +kernel
theorem dX0_findBits_124 : decode cX0_findBits 124 = .ok (.dup2, 1) := by decide +kernel
theorem dX0_findBits_125 : decode cX0_findBits 125 = .ok (.iaload, 1) := by decide +kernel
theorem dX0_findBits_126 : decode cX0_findBits 126 = .ok (.aload_n 0, 1) := by decide +kernel
theorem dX0_findBits_127 : decode cX0_findBits 127 = .ok (.getfield 34, 3) := by decide +kernel
theorem dX0_findBits_130 : decode cX0_findBits 130 = .ok (.iload_n 1, 1) := by decide +kernel
theorem dX0_findBits_131 : decode cX0_findBits 131 = .ok (.iaload, 1) := by decide +kernel
theorem dX0_findBits_132 : decode cX0_findBits 132 = .ok (.iadd, 1) := by decide +kernel
theorem dX0_findBits_133 : decode cX0_findBits 133 = .ok (.iastore, 1) := by decide +kernel
theorem dX0_findBits_134 : decode cX0_findBits 134 = .ok (.aload_n 0, 1) := by decide +kernel
theorem dX0_findBits_135 : decode cX0_findBits 135 = .ok (.getfield 34, 3) := by decide +kernel
theorem dX0_findBits_138 : decode cX0_findBits 138 = .ok (.iload_n 1, 1) := by decide +kernel
theorem dX0_findBits_139 : decode cX0_findBits 139 = .ok (.iconst 0, 1) := by decide +kernel
theorem dX0_findBits_140 : decode cX0_findBits 140 = .ok (.iastore, 1) := by decide +kernel
theorem dX0_findBits_141 : decode cX0_findBits 141 = .ok (.iconst 0, 1) := by decide +kernel
theorem dX0_findBits_142 : decode cX0_findBits 142 = .ok (.istore_n 3, 1) := by decide +kernel
theorem dX0_findBits_143 : decode cX0_findBits 143 = .ok (.iload_n 3, 1) := by decide +kernel
theorem dX0_findBits_144 : decode cX0_findBits 144 = .ok (.bipush 7, 2) := by decide +kernel
theorem dX0_findBits_146 : decode cX0_findBits 146 = .ok (.if_icmp .ge 33, 3) := by decide +kernel
theorem dX0_findBits_149 : decode cX0_findBits 149 = .ok (.aload_n 0, 1) := by decide +kernel
theorem dX0_findBits_150 : decode cX0_findBits 150 = .ok (.getfield 38, 3) := by decide +kernel
theorem dX0_findBits_153 : decode cX0_findBits 153 = .ok (.iload_n 2, 1) := by decide +kernel
theorem dX0_findBits_154 : decode cX0_findBits 154 = .ok (.iaload, 1) := by decide +kernel
theorem dX0_findBits_155 : decode cX0_findBits 155 = .ok (.iload_n 3, 1) := by decide +kernel
theorem dX0_findBits_156 : decode cX0_findBits 156 = .ok (.ishr, 1) := by decide +kernel
theorem dX0_findBits_157 : decode cX0_findBits 157 = .ok (.iconst 1, 1) := by decide +kernel
theorem dX0_findBits_158 : decode cX0_findBits 158 = .ok (.iand, 1) := by decide +kernel
theorem dX0_findBits_159 : decode cX0_findBits 159 = .ok (.ifCond .eq 14, 3) := by decide +kernel
theorem dX0_findBits_162 : decode cX0_findBits 162 = .ok (.aload_n 0, 1) := by decide +kernel
theorem dX0_findBits_163 : decode cX0_findBits 163 = .ok (.getfield 41, 3) := by decide +kernel
theorem dX0_findBits_166 : decode cX0_findBits 166 = .ok (.iload_n 3, 1) := by decide +kernel
theorem dX0_findBits_167 : decode cX0_findBits 167 = .ok (.dup2, 1) := by decide +kernel
theorem dX0_findBits_168 : decode cX0_findBits 168 = .ok (.baload, 1) := by decide +kernel
theorem dX0_findBits_169 : decode cX0_findBits 169 = .ok (.iconst 1, 1) := by decide +kernel
theorem dX0_findBits_170 : decode cX0_findBits 170 = .ok (.iadd, 1) := by decide +kernel
theorem dX0_findBits_171 : decode cX0_findBits 171 = .ok (.i2b, 1) := by decide +kernel
theorem dX0_findBits_172 : decode cX0_findBits 172 = .ok (.bastore, 1) := by decide +kernel
theorem dX0_findBits_173 : decode cX0_findBits 173 = .ok (.iinc 3 1, 3) := by decide +kernel
theorem dX0_findBits_176 : decode cX0_findBits 176 = .ok (.goto (-33), 3) := by decide +kernel
theorem dX0_findBits_179 : decode cX0_findBits 179 = .ok (.aload_n 0, 1) := by decide +kernel
theorem dX0_findBits_180 : decode cX0_findBits 180 = .ok (.bipush (-3), 2) := by decide +kernel
theorem dX0_findBits_182 : decode cX0_findBits 182 = .ok (.invokevirtual 128, 3) := by decide +kernel
theorem dX0_findBits_185 : decode cX0_findBits 185 = .ok (.istore_n 1, 1) := by decide +kernel
theorem dX0_findBits_186 : decode cX0_findBits 186 = .ok (.aload_n 0, 1) := by decide +kernel
theorem dX0_findBits_187 : decode cX0_findBits 187 = .ok (.iload_n 1, 1) := by decide +kernel
theorem dX0_findBits_188 : decode cX0_findBits 188 = .ok (.invokevirtual 128, 3) := by decide +kernel
theorem dX0_findBits_191 : decode cX0_findBits 191 = .ok (.istore_n 2, 1) := by decide +kernel
theorem dX0_findBits_192 : decode cX0_findBits 192 = .ok (.goto (-96), 3) := by decide +kernel
theorem dX0_findBits_195 : decode cX0_findBits 195 = .ok (.aload_n 0, 1) := by decide +kernel
theorem dX0_findBits_196 : decode cX0_findBits 196 = .ok (.invokevirtual 131, 3) := by decide +kernel
theorem dX0_findBits_199 : decode cX0_findBits 199 = .ok (.return_, 1) := by decide +kernel
abbrev cX0_lightest : ByteArray := prog_1_method_23_code
def yX0_lightest : MethodName := ⟨RX0, "lightest", "(I)I"⟩
theorem dX0_lightest_0 : decode cX0_lightest 0 = .ok (.bipush (-3), 2) := by decide +kernel
theorem dX0_lightest_2 : decode cX0_lightest 2 = .ok (.istore_n 2, 1) := by decide +kernel
theorem dX0_lightest_3 : decode cX0_lightest 3 = .ok (.iconst 0, 1) := by decide +kernel
theorem dX0_lightest_4 : decode cX0_lightest 4 = .ok (.istore_n 3, 1) := by decide +kernel
theorem dX0_lightest_5 : decode cX0_lightest 5 = .ok (.iload_n 3, 1) := by decide +kernel
theorem dX0_lightest_6 : decode cX0_lightest 6 = .ok (.bipush 7, 2) := by decide +kernel
theorem dX0_lightest_8 : decode cX0_lightest 8 = .ok (.if_icmp .ge 47, 3) := by decide +kernel
theorem dX0_lightest_11 : decode cX0_lightest 11 = .ok (.iload_n 3, 1) := by decide +kernel
theorem dX0_lightest_12 : decode cX0_lightest 12 = .ok (.iload_n 1, 1) := by decide +kernel
end
section
set_option maxRecDepth 100000
theorem dX0_lightest_13 : decode cX0_lightest 13 = .ok (.if_icmp .eq 36, 3) := by decide +kernel
theorem dX0_lightest_16 : decode cX0_lightest 16 = .ok (.aload_n 0, 1) := by decide +kernel
theorem dX0_lightest_17 : decode cX0_lightest 17 = .ok (.getfield 34, 3) := by decide +kernel
theorem dX0_lightest_20 : decode cX0_lightest 20 = .ok (.iload_n 3, 1) := by decide +kernel
theorem dX0_lightest_21 : decode cX0_lightest 21 = .ok (.iaload, 1) := by decide +kernel
theorem dX0_lightest_22 : decode cX0_lightest 22 = .ok (.ifCond .ne 6, 3) := by decide +kernel
theorem dX0_lightest_25 : decode cX0_lightest 25 = .ok (.goto 24, 3) := by decide +kernel
theorem dX0_lightest_28 : decode cX0_lightest 28 = .ok (.iload_n 2, 1) := by decide +kernel
theorem dX0_lightest_29 : decode cX0_lightest 29 = .ok (.ifCond .lt 18, 3) := by decide +kernel
theorem dX0_lightest_32 : decode cX0_lightest 32 = .ok (.aload_n 0, 1) := by decide +kernel
theorem dX0_lightest_33 : decode cX0_lightest 33 = .ok (.getfield 34, 3) := by decide +kernel
theorem dX0_lightest_36 : decode cX0_lightest 36 = .ok (.iload_n 3, 1) := by decide +kernel
theorem dX0_lightest_37 : decode cX0_lightest 37 = .ok (.iaload, 1) := by decide +kernel
theorem dX0_lightest_38 : decode cX0_lightest 38 = .ok (.aload_n 0, 1) := by decide +kernel
theorem dX0_lightest_39 : decode cX0_lightest 39 = .ok (.getfield 34, 3) := by decide +kernel
theorem dX0_lightest_42 : decode cX0_lightest 42 = .ok (.iload_n 2, 1) := by decide +kernel
theorem dX0_lightest_43 : decode cX0_lightest 43 = .ok (.iaload, 1) := by decide +kernel
theorem dX0_lightest_44 : decode cX0_lightest 44 = .ok (.if_icmp .ge 5, 3) := by decide +kernel
theorem dX0_lightest_47 : decode cX0_lightest 47 = .ok (.iload_n 3, 1) := by decide +kernel
theorem dX0_lightest_48 : decode cX0_lightest 48 = .ok (.istore_n 2, 1) := by decide +kernel
theorem dX0_lightest_49 : decode cX0_lightest 49 = .ok (.iinc 3 1, 3) := by decide +kernel
theorem dX0_lightest_52 : decode cX0_lightest 52 = .ok (.goto (-47), 3) := by decide +kernel
theorem dX0_lightest_55 : decode cX0_lightest 55 = .ok (.iload_n 2, 1) := by decide +kernel
theorem dX0_lightest_56 : decode cX0_lightest 56 = .ok (.ireturn, 1) := by decide +kernel
abbrev cX0_numberCodes : ByteArray := prog_1_method_25_code
def yX0_numberCodes : MethodName := ⟨RX0, "numberCodes", "()V"⟩
theorem dX0_numberCodes_0 : decode cX0_numberCodes 0 = .ok (.iconst 0, 1) := by decide +kernel
theorem dX0_numberCodes_1 : decode cX0_numberCodes 1 = .ok (.istore_n 1, 1) := by decide +kernel
theorem dX0_numberCodes_2 : decode cX0_numberCodes 2 = .ok (.iconst 1, 1) := by decide +kernel
theorem dX0_numberCodes_3 : decode cX0_numberCodes 3 = .ok (.istore_n 2, 1) := by decide +kernel
theorem dX0_numberCodes_4 : decode cX0_numberCodes 4 = .ok (.iload_n 2, 1) := by decide +kernel
theorem dX0_numberCodes_5 : decode cX0_numberCodes 5 = .ok (.bipush 8, 2) := by decide +kernel
theorem dX0_numberCodes_7 : decode cX0_numberCodes 7 = .ok (.if_icmp .ge 50, 3) := by decide +kernel
theorem dX0_numberCodes_10 : decode cX0_numberCodes 10 = .ok (.iload_n 1, 1) := by decide +kernel
theorem dX0_numberCodes_11 : decode cX0_numberCodes 11 = .ok (.iconst 2, 1) := by decide +kernel
theorem dX0_numberCodes_12 : decode cX0_numberCodes 12 = .ok (.imul, 1) := by decide +kernel
theorem dX0_numberCodes_13 : decode cX0_numberCodes 13 = .ok (.istore_n 1, 1) := by decide +kernel
theorem dX0_numberCodes_14 : decode cX0_numberCodes 14 = .ok (.iconst 0, 1) := by decide +kernel
theorem dX0_numberCodes_15 : decode cX0_numberCodes 15 = .ok (.istore_n 3, 1) := by decide +kernel
theorem dX0_numberCodes_16 : decode cX0_numberCodes 16 = .ok (.iload_n 3, 1) := by decide +kernel
theorem dX0_numberCodes_17 : decode cX0_numberCodes 17 = .ok (.bipush 7, 2) := by decide +kernel
theorem dX0_numberCodes_19 : decode cX0_numberCodes 19 = .ok (.if_icmp .ge 32, 3) := by decide +kernel
theorem dX0_numberCodes_22 : decode cX0_numberCodes 22 = .ok (.aload_n 0, 1) := by decide +kernel
theorem dX0_numberCodes_23 : decode cX0_numberCodes 23 = .ok (.getfield 41, 3) := by decide +kernel
theorem dX0_numberCodes_26 : decode cX0_numberCodes 26 = .ok (.iload_n 3, 1) := by decide +kernel
theorem dX0_numberCodes_27 : decode cX0_numberCodes 27 = .ok (.baload, 1) := by decide +kernel
theorem dX0_numberCodes_28 : decode cX0_numberCodes 28 = .ok (.iload_n 2, 1) := by decide +kernel
theorem dX0_numberCodes_29 : decode cX0_numberCodes 29 = .ok (.if_icmp .eq 6, 3) := by decide +kernel
theorem dX0_numberCodes_32 : decode cX0_numberCodes 32 = .ok (.goto 13, 3) := by decide +kernel
theorem dX0_numberCodes_35 : decode cX0_numberCodes 35 = .ok (.aload_n 0, 1) := by decide +kernel
theorem dX0_numberCodes_36 : decode cX0_numberCodes 36 = .ok (.getfield 44, 3) := by decide +kernel
theorem dX0_numberCodes_39 : decode cX0_numberCodes 39 = .ok (.iload_n 3, 1) := by decide +kernel
theorem dX0_numberCodes_40 : decode cX0_numberCodes 40 = .ok (.iload_n 1, 1) := by decide +kernel
theorem dX0_numberCodes_41 : decode cX0_numberCodes 41 = .ok (.iastore, 1) := by decide +kernel
theorem dX0_numberCodes_42 : decode cX0_numberCodes 42 = .ok (.iinc 1 1, 3) := by decide +kernel
theorem dX0_numberCodes_45 : decode cX0_numberCodes 45 = .ok (.iinc 3 1, 3) := by decide +kernel
theorem dX0_numberCodes_48 : decode cX0_numberCodes 48 = .ok (.goto (-32), 3) := by decide +kernel
theorem dX0_numberCodes_51 : decode cX0_numberCodes 51 = .ok (.iinc 2 1, 3) := by decide +kernel
theorem dX0_numberCodes_54 : decode cX0_numberCodes 54 = .ok (.goto (-50), 3) := by decide +kernel
theorem dX0_numberCodes_57 : decode cX0_numberCodes 57 = .ok (.return_, 1) := by decide +kernel
abbrev cX0_writeBits : ByteArray := prog_1_method_26_code
def yX0_writeBits : MethodName := ⟨RX0, "writeBits", "()V"⟩
theorem dX0_writeBits_0 : decode cX0_writeBits 0 = .ok (.aload_n 0, 1) := by decide +kernel
theorem dX0_writeBits_1 : decode cX0_writeBits 1 = .ok (.iconst 0, 1) := by decide +kernel
theorem dX0_writeBits_2 : decode cX0_writeBits 2 = .ok (.putfield 74, 3) := by decide +kernel
theorem dX0_writeBits_5 : decode cX0_writeBits 5 = .ok (.iconst 0, 1) := by decide +kernel
theorem dX0_writeBits_6 : decode cX0_writeBits 6 = .ok (.istore_n 1, 1) := by decide +kernel
theorem dX0_writeBits_7 : decode cX0_writeBits 7 = .ok (.iload_n 1, 1) := by decide +kernel
theorem dX0_writeBits_8 : decode cX0_writeBits 8 = .ok (.iconst 4, 1) := by decide +kernel
theorem dX0_writeBits_9 : decode cX0_writeBits 9 = .ok (.if_icmp .ge 16, 3) := by decide +kernel
theorem dX0_writeBits_12 : decode cX0_writeBits 12 = .ok (.aload_n 0, 1) := by decide +kernel
theorem dX0_writeBits_13 : decode cX0_writeBits 13 = .ok (.getfield 47, 3) := by decide +kernel
theorem dX0_writeBits_16 : decode cX0_writeBits 16 = .ok (.iload_n 1, 1) := by decide +kernel
theorem dX0_writeBits_17 : decode cX0_writeBits 17 = .ok (.lconst 0, 1) := by decide +kernel
theorem dX0_writeBits_18 : decode cX0_writeBits 18 = .ok (.lastore, 1) := by decide +kernel
theorem dX0_writeBits_19 : decode cX0_writeBits 19 = .ok (.iinc 1 1, 3) := by decide +kernel
theorem dX0_writeBits_22 : decode cX0_writeBits 22 = .ok (.goto (-15), 3) := by decide +kernel
theorem dX0_writeBits_25 : decode cX0_writeBits 25 = .ok (.iconst 0, 1) := by decide +kernel
theorem dX0_writeBits_26 : decode cX0_writeBits 26 = .ok (.istore_n 1, 1) := by decide +kernel
theorem dX0_writeBits_27 : decode cX0_writeBits 27 = .ok (.iload_n 1, 1) := by decide +kernel
theorem dX0_writeBits_28 : decode cX0_writeBits 28 = .ok (.aload_n 0, 1) := by decide +kernel
theorem dX0_writeBits_29 : decode cX0_writeBits 29 = .ok (.getfield 71, 3) := by decide +kernel
theorem dX0_writeBits_32 : decode cX0_writeBits 32 = .ok (.if_icmp .ge 82, 3) := by decide +kernel
theorem dX0_writeBits_35 : decode cX0_writeBits 35 = .ok (.aload_n 0, 1) := by decide +kernel
theorem dX0_writeBits_36 : decode cX0_writeBits 36 = .ok (.getfield 28, 3) := by decide +kernel
theorem dX0_writeBits_39 : decode cX0_writeBits 39 = .ok (.iload_n 1, 1) := by decide +kernel
theorem dX0_writeBits_40 : decode cX0_writeBits 40 = .ok (.baload, 1) := by decide +kernel
theorem dX0_writeBits_41 : decode cX0_writeBits 41 = .ok (.istore_n 2, 1) := by decide +kernel
theorem dX0_writeBits_42 : decode cX0_writeBits 42 = .ok (.aload_n 0, 1) := by decide +kernel
theorem dX0_writeBits_43 : decode cX0_writeBits 43 = .ok (.getfield 41, 3) := by decide +kernel
theorem dX0_writeBits_46 : decode cX0_writeBits 46 = .ok (.iload_n 2, 1) := by decide +kernel
theorem dX0_writeBits_47 : decode cX0_writeBits 47 = .ok (.baload, 1) := by decide +kernel
theorem dX0_writeBits_48 : decode cX0_writeBits 48 = .ok (.iconst 1, 1) := by decide +kernel
theorem dX0_writeBits_49 : decode cX0_writeBits 49 = .ok (.isub, 1) := by decide +kernel
theorem dX0_writeBits_50 : decode cX0_writeBits 50 = .ok (.istore_n 3, 1) := by decide +kernel
theorem dX0_writeBits_51 : decode cX0_writeBits 51 = .ok (.iload_n 3, 1) := by decide +kernel
theorem dX0_writeBits_52 : decode cX0_writeBits 52 = .ok (.ifCond .lt 56, 3) := by decide +kernel
theorem dX0_writeBits_55 : decode cX0_writeBits 55 = .ok (.aload_n 0, 1) := by decide +kernel
theorem dX0_writeBits_56 : decode cX0_writeBits 56 = .ok (.getfield 44, 3) := by decide +kernel
theorem dX0_writeBits_59 : decode cX0_writeBits 59 = .ok (.iload_n 2, 1) := by decide +kernel
theorem dX0_writeBits_60 : decode cX0_writeBits 60 = .ok (.iaload, 1) := by decide +kernel
theorem dX0_writeBits_61 : decode cX0_writeBits 61 = .ok (.iload_n 3, 1) := by decide +kernel
theorem dX0_writeBits_62 : decode cX0_writeBits 62 = .ok (.ishr, 1) := by decide +kernel
theorem dX0_writeBits_63 : decode cX0_writeBits 63 = .ok (.iconst 1, 1) := by decide +kernel
theorem dX0_writeBits_64 : decode cX0_writeBits 64 = .ok (.iand, 1) := by decide +kernel
theorem dX0_writeBits_65 : decode cX0_writeBits 65 = .ok (.ifCond .eq 27, 3) := by decide +kernel
theorem dX0_writeBits_68 : decode cX0_writeBits 68 = .ok (.aload_n 0, 1) := by decide +kernel
theorem dX0_writeBits_69 : decode cX0_writeBits 69 = .ok (.getfield 47, 3) := by decide +kernel
theorem dX0_writeBits_72 : decode cX0_writeBits 72 = .ok (.aload_n 0, 1) := by decide +kernel
theorem dX0_writeBits_73 : decode cX0_writeBits 73 = .ok (.getfield 74, 3) := by decide +kernel
theorem dX0_writeBits_76 : decode cX0_writeBits 76 = .ok (.bipush 6, 2) := by decide +kernel
theorem dX0_writeBits_78 : decode cX0_writeBits 78 = .ok (.ishr, 1) := by decide +kernel
theorem dX0_writeBits_79 : decode cX0_writeBits 79 = .ok (.dup2, 1) := by decide +kernel
theorem dX0_writeBits_80 : decode cX0_writeBits 80 = .ok (.laload, 1) := by decide +kernel
theorem dX0_writeBits_81 : decode cX0_writeBits 81 = .ok (.lconst 1, 1) := by decide +kernel
theorem dX0_writeBits_82 : decode cX0_writeBits 82 = .ok (.aload_n 0, 1) := by decide +kernel
theorem dX0_writeBits_83 : decode cX0_writeBits 83 = .ok (.getfield 74, 3) := by decide +kernel
theorem dX0_writeBits_86 : decode cX0_writeBits 86 = .ok (.bipush 63, 2) := by decide +kernel
theorem dX0_writeBits_88 : decode cX0_writeBits 88 = .ok (.iand, 1) := by decide +kernel
theorem dX0_writeBits_89 : decode cX0_writeBits 89 = .ok (.lshl, 1) := by decide +kernel
theorem dX0_writeBits_90 : decode cX0_writeBits 90 = .ok (.lor, 1) := by decide +kernel
theorem dX0_writeBits_91 : decode cX0_writeBits 91 = .ok (.lastore, 1) := by decide +kernel
theorem dX0_writeBits_92 : decode cX0_writeBits 92 = .ok (.aload_n 0, 1) := by decide +kernel
theorem dX0_writeBits_93 : decode cX0_writeBits 93 = .ok (.dup, 1) := by decide +kernel
theorem dX0_writeBits_94 : decode cX0_writeBits 94 = .ok (.getfield 74, 3) := by decide +kernel
theorem dX0_writeBits_97 : decode cX0_writeBits 97 = .ok (.iconst 1, 1) := by decide +kernel
theorem dX0_writeBits_98 : decode cX0_writeBits 98 = .ok (.iadd, 1) := by decide +kernel
theorem dX0_writeBits_99 : decode cX0_writeBits 99 = .ok (.putfield 74, 3) := by decide +kernel
theorem dX0_writeBits_102 : decode cX0_writeBits 102 = .ok (.iinc 3 (-1), 3) := by decide +kernel
theorem dX0_writeBits_105 : decode cX0_writeBits 105 = .ok (.goto (-54), 3) := by decide +kernel
theorem dX0_writeBits_108 : decode cX0_writeBits 108 = .ok (.iinc 1 1, 3) := by decide +kernel
theorem dX0_writeBits_111 : decode cX0_writeBits 111 = .ok (.goto (-84), 3) := by decide +kernel
theorem dX0_writeBits_114 : decode cX0_writeBits 114 = .ok (.return_, 1) := by decide +kernel
abbrev cX0_mark : ByteArray := prog_1_method_6_code
def yX0_mark : MethodName := ⟨RX0, "mark", "()I"⟩
theorem dX0_mark_0 : decode cX0_mark 0 = .ok (.aload_n 0, 1) := by decide +kernel
theorem dX0_mark_1 : decode cX0_mark 1 = .ok (.invokevirtual 65, 3) := by decide +kernel
theorem dX0_mark_4 : decode cX0_mark 4 = .ok (.aload_n 0, 1) := by decide +kernel
theorem dX0_mark_5 : decode cX0_mark 5 = .ok (.getfield 57, 3) := by decide +kernel
theorem dX0_mark_8 : decode cX0_mark 8 = .ok (.ifCond .ne 8, 3) := by decide +kernel
theorem dX0_mark_11 : decode cX0_mark 11 = .ok (.bipush (-3), 2) := by decide +kernel
theorem dX0_mark_13 : decode cX0_mark 13 = .ok (.goto 7, 3) := by decide +kernel
theorem dX0_mark_16 : decode cX0_mark 16 = .ok (.aload_n 0, 1) := by decide +kernel
theorem dX0_mark_17 : decode cX0_mark 17 = .ok (.getfield 68, 3) := by decide +kernel
theorem dX0_mark_20 : decode cX0_mark 20 = .ok (.ireturn, 1) := by decide +kernel
abbrev cX0_rank : ByteArray := prog_1_method_7_code
def yX0_rank : MethodName := ⟨RX0, "rank", "(I)I"⟩
theorem dX0_rank_0 : decode cX0_rank 0 = .ok (.aload_n 0, 1) := by decide +kernel
theorem dX0_rank_1 : decode cX0_rank 1 = .ok (.invokevirtual 65, 3) := by decide +kernel
theorem dX0_rank_4 : decode cX0_rank 4 = .ok (.iload_n 1, 1) := by decide +kernel
theorem dX0_rank_5 : decode cX0_rank 5 = .ok (.ifCond .lt 11, 3) := by decide +kernel
theorem dX0_rank_8 : decode cX0_rank 8 = .ok (.iload_n 1, 1) := by decide +kernel
theorem dX0_rank_9 : decode cX0_rank 9 = .ok (.aload_n 0, 1) := by decide +kernel
theorem dX0_rank_10 : decode cX0_rank 10 = .ok (.getfield 57, 3) := by decide +kernel
theorem dX0_rank_13 : decode cX0_rank 13 = .ok (.if_icmp .lt 8, 3) := by decide +kernel
theorem dX0_rank_16 : decode cX0_rank 16 = .ok (.bipush (-3), 2) := by decide +kernel
theorem dX0_rank_18 : decode cX0_rank 18 = .ok (.goto 9, 3) := by decide +kernel
theorem dX0_rank_21 : decode cX0_rank 21 = .ok (.aload_n 0, 1) := by decide +kernel
theorem dX0_rank_22 : decode cX0_rank 22 = .ok (.getfield 25, 3) := by decide +kernel
theorem dX0_rank_25 : decode cX0_rank 25 = .ok (.iload_n 1, 1) := by decide +kernel
theorem dX0_rank_26 : decode cX0_rank 26 = .ok (.baload, 1) := by decide +kernel
theorem dX0_rank_27 : decode cX0_rank 27 = .ok (.ireturn, 1) := by decide +kernel
abbrev cX0_symbols : ByteArray := prog_1_method_8_code
def yX0_symbols : MethodName := ⟨RX0, "symbols", "()I"⟩
theorem dX0_symbols_0 : decode cX0_symbols 0 = .ok (.aload_n 0, 1) := by decide +kernel
theorem dX0_symbols_1 : decode cX0_symbols 1 = .ok (.invokevirtual 65, 3) := by decide +kernel
theorem dX0_symbols_4 : decode cX0_symbols 4 = .ok (.aload_n 0, 1) := by decide +kernel
theorem dX0_symbols_5 : decode cX0_symbols 5 = .ok (.getfield 71, 3) := by decide +kernel
theorem dX0_symbols_8 : decode cX0_symbols 8 = .ok (.ireturn, 1) := by decide +kernel
abbrev cX0_symbol : ByteArray := prog_1_method_9_code
def yX0_symbol : MethodName := ⟨RX0, "symbol", "(I)I"⟩
theorem dX0_symbol_0 : decode cX0_symbol 0 = .ok (.aload_n 0, 1) := by decide +kernel
theorem dX0_symbol_1 : decode cX0_symbol 1 = .ok (.invokevirtual 65, 3) := by decide +kernel
theorem dX0_symbol_4 : decode cX0_symbol 4 = .ok (.iload_n 1, 1) := by decide +kernel
theorem dX0_symbol_5 : decode cX0_symbol 5 = .ok (.ifCond .lt 11, 3) := by decide +kernel
theorem dX0_symbol_8 : decode cX0_symbol 8 = .ok (.iload_n 1, 1) := by decide +kernel
theorem dX0_symbol_9 : decode cX0_symbol 9 = .ok (.aload_n 0, 1) := by decide +kernel
theorem dX0_symbol_10 : decode cX0_symbol 10 = .ok (.getfield 71, 3) := by decide +kernel
theorem dX0_symbol_13 : decode cX0_symbol 13 = .ok (.if_icmp .lt 8, 3) := by decide +kernel
theorem dX0_symbol_16 : decode cX0_symbol 16 = .ok (.bipush (-3), 2) := by decide +kernel
theorem dX0_symbol_18 : decode cX0_symbol 18 = .ok (.goto 9, 3) := by decide +kernel
theorem dX0_symbol_21 : decode cX0_symbol 21 = .ok (.aload_n 0, 1) := by decide +kernel
theorem dX0_symbol_22 : decode cX0_symbol 22 = .ok (.getfield 28, 3) := by decide +kernel
theorem dX0_symbol_25 : decode cX0_symbol 25 = .ok (.iload_n 1, 1) := by decide +kernel
theorem dX0_symbol_26 : decode cX0_symbol 26 = .ok (.baload, 1) := by decide +kernel
theorem dX0_symbol_27 : decode cX0_symbol 27 = .ok (.ireturn, 1) := by decide +kernel
abbrev cX0_cost : ByteArray := prog_1_method_10_code
def yX0_cost : MethodName := ⟨RX0, "cost", "()I"⟩
theorem dX0_cost_0 : decode cX0_cost 0 = .ok (.aload_n 0, 1) := by decide +kernel
theorem dX0_cost_1 : decode cX0_cost 1 = .ok (.invokevirtual 65, 3) := by decide +kernel
theorem dX0_cost_4 : decode cX0_cost 4 = .ok (.aload_n 0, 1) := by decide +kernel
theorem dX0_cost_5 : decode cX0_cost 5 = .ok (.getfield 74, 3) := by decide +kernel
theorem dX0_cost_8 : decode cX0_cost 8 = .ok (.ireturn, 1) := by decide +kernel
abbrev cX0_decoded : ByteArray := prog_1_method_11_code
def yX0_decoded : MethodName := ⟨RX0, "decoded", "(I)I"⟩
theorem dX0_decoded_0 : decode cX0_decoded 0 = .ok (.iload_n 1, 1) := by decide +kernel
theorem dX0_decoded_1 : decode cX0_decoded 1 = .ok (.ifCond .lt 11, 3) := by decide +kernel
theorem dX0_decoded_4 : decode cX0_decoded 4 = .ok (.iload_n 1, 1) := by decide +kernel
theorem dX0_decoded_5 : decode cX0_decoded 5 = .ok (.aload_n 0, 1) := by decide +kernel
theorem dX0_decoded_6 : decode cX0_decoded 6 = .ok (.getfield 57, 3) := by decide +kernel
theorem dX0_decoded_9 : decode cX0_decoded 9 = .ok (.if_icmp .lt 6, 3) := by decide +kernel
theorem dX0_decoded_12 : decode cX0_decoded 12 = .ok (.bipush (-3), 2) := by decide +kernel
theorem dX0_decoded_14 : decode cX0_decoded 14 = .ok (.ireturn, 1) := by decide +kernel
theorem dX0_decoded_15 : decode cX0_decoded 15 = .ok (.aload_n 0, 1) := by decide +kernel
theorem dX0_decoded_16 : decode cX0_decoded 16 = .ok (.invokevirtual 65, 3) := by decide +kernel
theorem dX0_decoded_19 : decode cX0_decoded 19 = .ok (.aload_n 0, 1) := by decide +kernel
theorem dX0_decoded_20 : decode cX0_decoded 20 = .ok (.invokevirtual 77, 3) := by decide +kernel
theorem dX0_decoded_23 : decode cX0_decoded 23 = .ok (.istore_n 2, 1) := by decide +kernel
theorem dX0_decoded_24 : decode cX0_decoded 24 = .ok (.aload_n 0, 1) := by decide +kernel
theorem dX0_decoded_25 : decode cX0_decoded 25 = .ok (.iload_n 2, 1) := by decide +kernel
theorem dX0_decoded_26 : decode cX0_decoded 26 = .ok (.invokevirtual 81, 3) := by decide +kernel
theorem dX0_decoded_29 : decode cX0_decoded 29 = .ok (.istore_n 3, 1) := by decide +kernel
theorem dX0_decoded_30 : decode cX0_decoded 30 = .ok (.aload_n 0, 1) := by decide +kernel
theorem dX0_decoded_31 : decode cX0_decoded 31 = .ok (.iload_n 3, 1) := by decide +kernel
theorem dX0_decoded_32 : decode cX0_decoded 32 = .ok (.invokevirtual 85, 3) := by decide +kernel
theorem dX0_decoded_35 : decode cX0_decoded 35 = .ok (.aload_n 0, 1) := by decide +kernel
theorem dX0_decoded_36 : decode cX0_decoded 36 = .ok (.iload_n 3, 1) := by decide +kernel
theorem dX0_decoded_37 : decode cX0_decoded 37 = .ok (.invokevirtual 89, 3) := by decide +kernel
theorem dX0_decoded_40 : decode cX0_decoded 40 = .ok (.aload_n 0, 1) := by decide +kernel
theorem dX0_decoded_41 : decode cX0_decoded 41 = .ok (.getfield 51, 3) := by decide +kernel
theorem dX0_decoded_44 : decode cX0_decoded 44 = .ok (.iload_n 1, 1) := by decide +kernel
theorem dX0_decoded_45 : decode cX0_decoded 45 = .ok (.baload, 1) := by decide +kernel
theorem dX0_decoded_46 : decode cX0_decoded 46 = .ok (.ireturn, 1) := by decide +kernel
abbrev cX0_readSymbols : ByteArray := prog_1_method_28_code
def yX0_readSymbols : MethodName := ⟨RX0, "readSymbols", "()I"⟩
theorem dX0_readSymbols_0 : decode cX0_readSymbols 0 = .ok (.iconst 0, 1) := by decide +kernel
theorem dX0_readSymbols_1 : decode cX0_readSymbols 1 = .ok (.istore_n 1, 1) := by decide +kernel
theorem dX0_readSymbols_2 : decode cX0_readSymbols 2 = .ok (.iconst 0, 1) := by decide +kernel
theorem dX0_readSymbols_3 : decode cX0_readSymbols 3 = .ok (.istore_n 2, 1) := by decide +kernel
theorem dX0_readSymbols_4 : decode cX0_readSymbols 4 = .ok (.iconst 0, 1) := by decide +kernel
theorem dX0_readSymbols_5 : decode cX0_readSymbols 5 = .ok (.istore_n 3, 1) := by decide +kernel
theorem dX0_readSymbols_6 : decode cX0_readSymbols 6 = .ok (.iconst 0, 1) := by decide +kernel
theorem dX0_readSymbols_7 : decode cX0_readSymbols 7 = .ok (.istore 4, 2) := by decide +kernel
theorem dX0_readSymbols_9 : decode cX0_readSymbols 9 = .ok (.iload 4, 2) := by decide +kernel
theorem dX0_readSymbols_11 : decode cX0_readSymbols 11 = .ok (.aload_n 0, 1) := by decide +kernel
theorem dX0_readSymbols_12 : decode cX0_readSymbols 12 = .ok (.getfield 74, 3) := by decide +kernel
theorem dX0_readSymbols_15 : decode cX0_readSymbols 15 = .ok (.if_icmp .ge 68, 3) := by decide +kernel
theorem dX0_readSymbols_18 : decode cX0_readSymbols 18 = .ok (.iconst 2, 1) := by decide +kernel
theorem dX0_readSymbols_19 : decode cX0_readSymbols 19 = .ok (.iload_n 3, 1) := by decide +kernel
theorem dX0_readSymbols_20 : decode cX0_readSymbols 20 = .ok (.imul, 1) := by decide +kernel
theorem dX0_readSymbols_21 : decode cX0_readSymbols 21 = .ok (.aload_n 0, 1) := by decide +kernel
theorem dX0_readSymbols_22 : decode cX0_readSymbols 22 = .ok (.getfield 47, 3) := by decide +kernel
theorem dX0_readSymbols_25 : decode cX0_readSymbols 25 = .ok (.iload 4, 2) := by decide +kernel
theorem dX0_readSymbols_27 : decode cX0_readSymbols 27 = .ok (.bipush 6, 2) := by decide +kernel
theorem dX0_readSymbols_29 : decode cX0_readSymbols 29 = .ok (.ishr, 1) := by decide +kernel
theorem dX0_readSymbols_30 : decode cX0_readSymbols 30 = .ok (.laload, 1) := by decide +kernel
theorem dX0_readSymbols_31 : decode cX0_readSymbols 31 = .ok (.iload 4, 2) := by decide +kernel
theorem dX0_readSymbols_33 : decode cX0_readSymbols 33 = .ok (.bipush 63, 2) := by decide +kernel
theorem dX0_readSymbols_35 : decode cX0_readSymbols 35 = .ok (.iand, 1) := by decide +kernel
theorem dX0_readSymbols_36 : decode cX0_readSymbols 36 = .ok (.lushr, 1) := by decide +kernel
theorem dX0_readSymbols_37 : decode cX0_readSymbols 37 = .ok (.lconst 1, 1) := by decide +kernel
theorem dX0_readSymbols_38 : decode cX0_readSymbols 38 = .ok (.land, 1) := by decide +kernel
theorem dX0_readSymbols_39 : decode cX0_readSymbols 39 = .ok (.l2i, 1) := by decide +kernel
theorem dX0_readSymbols_40 : decode cX0_readSymbols 40 = .ok (.iadd, 1) := by decide +kernel
theorem dX0_readSymbols_41 : decode cX0_readSymbols 41 = .ok (.istore_n 3, 1) := by decide +kernel
theorem dX0_readSymbols_42 : decode cX0_readSymbols 42 = .ok (.iinc 2 1, 3) := by decide +kernel
theorem dX0_readSymbols_45 : decode cX0_readSymbols 45 = .ok (.aload_n 0, 1) := by decide +kernel
theorem dX0_readSymbols_46 : decode cX0_readSymbols 46 = .ok (.iload_n 2, 1) := by decide +kernel
theorem dX0_readSymbols_47 : decode cX0_readSymbols 47 = .ok (.iload_n 3, 1) := by decide +kernel
theorem dX0_readSymbols_48 : decode cX0_readSymbols 48 = .ok (.invokevirtual 134, 3) := by decide +kernel
theorem dX0_readSymbols_51 : decode cX0_readSymbols 51 = .ok (.istore 5, 2) := by decide +kernel
theorem dX0_readSymbols_53 : decode cX0_readSymbols 53 = .ok (.iload 5, 2) := by decide +kernel
theorem dX0_readSymbols_55 : decode cX0_readSymbols 55 = .ok (.ifCond .ge 6, 3) := by decide +kernel
theorem dX0_readSymbols_58 : decode cX0_readSymbols 58 = .ok (.goto 19, 3) := by decide +kernel
theorem dX0_readSymbols_61 : decode cX0_readSymbols 61 = .ok (.aload_n 0, 1) := by decide +kernel
theorem dX0_readSymbols_62 : decode cX0_readSymbols 62 = .ok (.getfield 51, 3) := by decide +kernel
theorem dX0_readSymbols_65 : decode cX0_readSymbols 65 = .ok (.iload_n 1, 1) := by decide +kernel
theorem dX0_readSymbols_66 : decode cX0_readSymbols 66 = .ok (.iload 5, 2) := by decide +kernel
theorem dX0_readSymbols_68 : decode cX0_readSymbols 68 = .ok (.i2b, 1) := by decide +kernel
theorem dX0_readSymbols_69 : decode cX0_readSymbols 69 = .ok (.bastore, 1) := by decide +kernel
theorem dX0_readSymbols_70 : decode cX0_readSymbols 70 = .ok (.iinc 1 1, 3) := by decide +kernel
theorem dX0_readSymbols_73 : decode cX0_readSymbols 73 = .ok (.iconst 0, 1) := by decide +kernel
theorem dX0_readSymbols_74 : decode cX0_readSymbols 74 = .ok (.istore_n 2, 1) := by decide +kernel
theorem dX0_readSymbols_75 : decode cX0_readSymbols 75 = .ok (.iconst 0, 1) := by decide +kernel
theorem dX0_readSymbols_76 : decode cX0_readSymbols 76 = .ok (.istore_n 3, 1) := by decide +kernel
theorem dX0_readSymbols_77 : decode cX0_readSymbols 77 = .ok (.iinc 4 1, 3) := by decide +kernel
theorem dX0_readSymbols_80 : decode cX0_readSymbols 80 = .ok (.goto (-71), 3) := by decide +kernel
theorem dX0_readSymbols_83 : decode cX0_readSymbols 83 = .ok (.iload_n 1, 1) := by decide +kernel
theorem dX0_readSymbols_84 : decode cX0_readSymbols 84 = .ok (.ireturn, 1) := by decide +kernel
abbrev cX0_symbolWith : ByteArray := prog_1_method_27_code
def yX0_symbolWith : MethodName := ⟨RX0, "symbolWith", "(II)I"⟩
theorem dX0_symbolWith_0 : decode cX0_symbolWith 0 = .ok (.iconst 0, 1) := by decide +kernel
theorem dX0_symbolWith_1 : decode cX0_symbolWith 1 = .ok (.istore_n 3, 1) := by decide +kernel
theorem dX0_symbolWith_2 : decode cX0_symbolWith 2 = .ok (.iload_n 3, 1) := by decide +kernel
theorem dX0_symbolWith_3 : decode cX0_symbolWith 3 = .ok (.bipush 7, 2) := by decide +kernel
theorem dX0_symbolWith_5 : decode cX0_symbolWith 5 = .ok (.if_icmp .ge 31, 3) := by decide +kernel
theorem dX0_symbolWith_8 : decode cX0_symbolWith 8 = .ok (.aload_n 0, 1) := by decide +kernel
theorem dX0_symbolWith_9 : decode cX0_symbolWith 9 = .ok (.getfield 41, 3) := by decide +kernel
theorem dX0_symbolWith_12 : decode cX0_symbolWith 12 = .ok (.iload_n 3, 1) := by decide +kernel
theorem dX0_symbolWith_13 : decode cX0_symbolWith 13 = .ok (.baload, 1) := by decide +kernel
theorem dX0_symbolWith_14 : decode cX0_symbolWith 14 = .ok (.iload_n 1, 1) := by decide +kernel
theorem dX0_symbolWith_15 : decode cX0_symbolWith 15 = .ok (.if_icmp .ne 15, 3) := by decide +kernel
theorem dX0_symbolWith_18 : decode cX0_symbolWith 18 = .ok (.aload_n 0, 1) := by decide +kernel
theorem dX0_symbolWith_19 : decode cX0_symbolWith 19 = .ok (.getfield 44, 3) := by decide +kernel
theorem dX0_symbolWith_22 : decode cX0_symbolWith 22 = .ok (.iload_n 3, 1) := by decide +kernel
theorem dX0_symbolWith_23 : decode cX0_symbolWith 23 = .ok (.iaload, 1) := by decide +kernel
theorem dX0_symbolWith_24 : decode cX0_symbolWith 24 = .ok (.iload_n 2, 1) := by decide +kernel
theorem dX0_symbolWith_25 : decode cX0_symbolWith 25 = .ok (.if_icmp .ne 5, 3) := by decide +kernel
theorem dX0_symbolWith_28 : decode cX0_symbolWith 28 = .ok (.iload_n 3, 1) := by decide +kernel
theorem dX0_symbolWith_29 : decode cX0_symbolWith 29 = .ok (.ireturn, 1) := by decide +kernel
theorem dX0_symbolWith_30 : decode cX0_symbolWith 30 = .ok (.iinc 3 1, 3) := by decide +kernel
theorem dX0_symbolWith_33 : decode cX0_symbolWith 33 = .ok (.goto (-31), 3) := by decide +kernel
theorem dX0_symbolWith_36 : decode cX0_symbolWith 36 = .ok (.bipush (-3), 2) := by decide +kernel
theorem dX0_symbolWith_38 : decode cX0_symbolWith 38 = .ok (.ireturn, 1) := by decide +kernel
abbrev cX0_undoRuns : ByteArray := prog_1_method_29_code
def yX0_undoRuns : MethodName := ⟨RX0, "undoRuns", "(I)I"⟩
theorem dX0_undoRuns_0 : decode cX0_undoRuns 0 = .ok (.iconst 0, 1) := by decide +kernel
theorem dX0_undoRuns_1 : decode cX0_undoRuns 1 = .ok (.istore_n 2, 1) := by decide +kernel
theorem dX0_undoRuns_2 : decode cX0_undoRuns 2 = .ok (.iconst 1, 1) := by decide +kernel
theorem dX0_undoRuns_3 : decode cX0_undoRuns 3 = .ok (.istore_n 3, 1) := by decide +kernel
theorem dX0_undoRuns_4 : decode cX0_undoRuns 4 = .ok (.iconst 0, 1) := by decide +kernel
theorem dX0_undoRuns_5 : decode cX0_undoRuns 5 = .ok (.istore 4, 2) := by decide +kernel
theorem dX0_undoRuns_7 : decode cX0_undoRuns 7 = .ok (.iload 4, 2) := by decide +kernel
theorem dX0_undoRuns_9 : decode cX0_undoRuns 9 = .ok (.iload_n 1, 1) := by decide +kernel
theorem dX0_undoRuns_10 : decode cX0_undoRuns 10 = .ok (.if_icmp .ge 86, 3) := by decide +kernel
theorem dX0_undoRuns_13 : decode cX0_undoRuns 13 = .ok (.aload_n 0, 1) := by decide +kernel
theorem dX0_undoRuns_14 : decode cX0_undoRuns 14 = .ok (.getfield 51, 3) := by decide +kernel
theorem dX0_undoRuns_17 : decode cX0_undoRuns 17 = .ok (.iload 4, 2) := by decide +kernel
theorem dX0_undoRuns_19 : decode cX0_undoRuns 19 = .ok (.baload, 1) := by decide +kernel
theorem dX0_undoRuns_20 : decode cX0_undoRuns 20 = .ok (.istore 5, 2) := by decide +kernel
theorem dX0_undoRuns_22 : decode cX0_undoRuns 22 = .ok (.iload 5, 2) := by decide +kernel
theorem dX0_undoRuns_24 : decode cX0_undoRuns 24 = .ok (.iconst 1, 1) := by decide +kernel
theorem dX0_undoRuns_25 : decode cX0_undoRuns 25 = .ok (.if_icmp .le 22, 3) := by decide +kernel
theorem dX0_undoRuns_28 : decode cX0_undoRuns 28 = .ok (.aload_n 0, 1) := by decide +kernel
theorem dX0_undoRuns_29 : decode cX0_undoRuns 29 = .ok (.getfield 54, 3) := by decide +kernel
theorem dX0_undoRuns_32 : decode cX0_undoRuns 32 = .ok (.iload_n 2, 1) := by decide +kernel
theorem dX0_undoRuns_33 : decode cX0_undoRuns 33 = .ok (.iload 5, 2) := by decide +kernel
theorem dX0_undoRuns_35 : decode cX0_undoRuns 35 = .ok (.iconst 1, 1) := by decide +kernel
theorem dX0_undoRuns_36 : decode cX0_undoRuns 36 = .ok (.isub, 1) := by decide +kernel
theorem dX0_undoRuns_37 : decode cX0_undoRuns 37 = .ok (.i2b, 1) := by decide +kernel
theorem dX0_undoRuns_38 : decode cX0_undoRuns 38 = .ok (.bastore, 1) := by decide +kernel
theorem dX0_undoRuns_39 : decode cX0_undoRuns 39 = .ok (.iinc 2 1, 3) := by decide +kernel
theorem dX0_undoRuns_42 : decode cX0_undoRuns 42 = .ok (.iconst 1, 1) := by decide +kernel
theorem dX0_undoRuns_43 : decode cX0_undoRuns 43 = .ok (.istore_n 3, 1) := by decide +kernel
theorem dX0_undoRuns_44 : decode cX0_undoRuns 44 = .ok (.goto 46, 3) := by decide +kernel
theorem dX0_undoRuns_47 : decode cX0_undoRuns 47 = .ok (.iload_n 3, 1) := by decide +kernel
theorem dX0_undoRuns_48 : decode cX0_undoRuns 48 = .ok (.iload 5, 2) := by decide +kernel
theorem dX0_undoRuns_50 : decode cX0_undoRuns 50 = .ok (.iconst 1, 1) := by decide +kernel
theorem dX0_undoRuns_51 : decode cX0_undoRuns 51 = .ok (.iadd, 1) := by decide +kernel
theorem dX0_undoRuns_52 : decode cX0_undoRuns 52 = .ok (.imul, 1) := by decide +kernel
theorem dX0_undoRuns_53 : decode cX0_undoRuns 53 = .ok (.istore 6, 2) := by decide +kernel
theorem dX0_undoRuns_55 : decode cX0_undoRuns 55 = .ok (.iconst 0, 1) := by decide +kernel
theorem dX0_undoRuns_56 : decode cX0_undoRuns 56 = .ok (.istore 7, 2) := by decide +kernel
theorem dX0_undoRuns_58 : decode cX0_undoRuns 58 = .ok (.iload 7, 2) := by decide +kernel
theorem dX0_undoRuns_60 : decode cX0_undoRuns 60 = .ok (.iload 6, 2) := by decide +kernel
theorem dX0_undoRuns_62 : decode cX0_undoRuns 62 = .ok (.if_icmp .ge 19, 3) := by decide +kernel
theorem dX0_undoRuns_65 : decode cX0_undoRuns 65 = .ok (.aload_n 0, 1) := by decide +kernel
theorem dX0_undoRuns_66 : decode cX0_undoRuns 66 = .ok (.getfield 54, 3) := by decide +kernel
theorem dX0_undoRuns_69 : decode cX0_undoRuns 69 = .ok (.iload_n 2, 1) := by decide +kernel
theorem dX0_undoRuns_70 : decode cX0_undoRuns 70 = .ok (.iload 7, 2) := by decide +kernel
theorem dX0_undoRuns_72 : decode cX0_undoRuns 72 = .ok (.iadd, 1) := by decide +kernel
theorem dX0_undoRuns_73 : decode cX0_undoRuns 73 = .ok (.iconst 0, 1) := by decide +kernel
theorem dX0_undoRuns_74 : decode cX0_undoRuns 74 = .ok (.bastore, 1) := by decide +kernel
theorem dX0_undoRuns_75 : decode cX0_undoRuns 75 = .ok (.iinc 7 1, 3) := by decide +kernel
theorem dX0_undoRuns_78 : decode cX0_undoRuns 78 = .ok (.goto (-20), 3) := by decide +kernel
theorem dX0_undoRuns_81 : decode cX0_undoRuns 81 = .ok (.iload_n 2, 1) := by decide +kernel
theorem dX0_undoRuns_82 : decode cX0_undoRuns 82 = .ok (.iload 6, 2) := by decide +kernel
theorem dX0_undoRuns_84 : decode cX0_undoRuns 84 = .ok (.iadd, 1) := by decide +kernel
theorem dX0_undoRuns_85 : decode cX0_undoRuns 85 = .ok (.istore_n 2, 1) := by decide +kernel
theorem dX0_undoRuns_86 : decode cX0_undoRuns 86 = .ok (.iload_n 3, 1) := by decide +kernel
theorem dX0_undoRuns_87 : decode cX0_undoRuns 87 = .ok (.iconst 2, 1) := by decide +kernel
theorem dX0_undoRuns_88 : decode cX0_undoRuns 88 = .ok (.imul, 1) := by decide +kernel
theorem dX0_undoRuns_89 : decode cX0_undoRuns 89 = .ok (.istore_n 3, 1) := by decide +kernel
theorem dX0_undoRuns_90 : decode cX0_undoRuns 90 = .ok (.iinc 4 1, 3) := by decide +kernel
theorem dX0_undoRuns_93 : decode cX0_undoRuns 93 = .ok (.goto (-86), 3) := by decide +kernel
theorem dX0_undoRuns_96 : decode cX0_undoRuns 96 = .ok (.iload_n 2, 1) := by decide +kernel
theorem dX0_undoRuns_97 : decode cX0_undoRuns 97 = .ok (.ireturn, 1) := by decide +kernel
abbrev cX0_undoRanks : ByteArray := prog_1_method_30_code
def yX0_undoRanks : MethodName := ⟨RX0, "undoRanks", "(I)V"⟩
theorem dX0_undoRanks_0 : decode cX0_undoRanks 0 = .ok (.aload_n 0, 1) := by decide +kernel
theorem dX0_undoRanks_1 : decode cX0_undoRanks 1 = .ok (.invokevirtual 119, 3) := by decide +kernel
theorem dX0_undoRanks_4 : decode cX0_undoRanks 4 = .ok (.iconst 0, 1) := by decide +kernel
theorem dX0_undoRanks_5 : decode cX0_undoRanks 5 = .ok (.istore_n 2, 1) := by decide +kernel
theorem dX0_undoRanks_6 : decode cX0_undoRanks 6 = .ok (.iload_n 2, 1) := by decide +kernel
theorem dX0_undoRanks_7 : decode cX0_undoRanks 7 = .ok (.iload_n 1, 1) := by decide +kernel
theorem dX0_undoRanks_8 : decode cX0_undoRanks 8 = .ok (.if_icmp .ge 33, 3) := by decide +kernel
theorem dX0_undoRanks_11 : decode cX0_undoRanks 11 = .ok (.aload_n 0, 1) := by decide +kernel
theorem dX0_undoRanks_12 : decode cX0_undoRanks 12 = .ok (.getfield 54, 3) := by decide +kernel
theorem dX0_undoRanks_15 : decode cX0_undoRanks 15 = .ok (.iload_n 2, 1) := by decide +kernel
theorem dX0_undoRanks_16 : decode cX0_undoRanks 16 = .ok (.baload, 1) := by decide +kernel
theorem dX0_undoRanks_17 : decode cX0_undoRanks 17 = .ok (.istore_n 3, 1) := by decide +kernel
theorem dX0_undoRanks_18 : decode cX0_undoRanks 18 = .ok (.aload_n 0, 1) := by decide +kernel
theorem dX0_undoRanks_19 : decode cX0_undoRanks 19 = .ok (.getfield 51, 3) := by decide +kernel
theorem dX0_undoRanks_22 : decode cX0_undoRanks 22 = .ok (.iload_n 2, 1) := by decide +kernel
theorem dX0_undoRanks_23 : decode cX0_undoRanks 23 = .ok (.aload_n 0, 1) := by decide +kernel
theorem dX0_undoRanks_24 : decode cX0_undoRanks 24 = .ok (.getfield 31, 3) := by decide +kernel
theorem dX0_undoRanks_27 : decode cX0_undoRanks 27 = .ok (.iload_n 3, 1) := by decide +kernel
theorem dX0_undoRanks_28 : decode cX0_undoRanks 28 = .ok (.baload, 1) := by decide +kernel
theorem dX0_undoRanks_29 : decode cX0_undoRanks 29 = .ok (.bastore, 1) := by decide +kernel
theorem dX0_undoRanks_30 : decode cX0_undoRanks 30 = .ok (.aload_n 0, 1) := by decide +kernel
theorem dX0_undoRanks_31 : decode cX0_undoRanks 31 = .ok (.iload_n 3, 1) := by decide +kernel
theorem dX0_undoRanks_32 : decode cX0_undoRanks 32 = .ok (.invokevirtual 122, 3) := by decide +kernel
theorem dX0_undoRanks_35 : decode cX0_undoRanks 35 = .ok (.iinc 2 1, 3) := by decide +kernel
theorem dX0_undoRanks_38 : decode cX0_undoRanks 38 = .ok (.goto (-32), 3) := by decide +kernel
theorem dX0_undoRanks_41 : decode cX0_undoRanks 41 = .ok (.return_, 1) := by decide +kernel
abbrev cX0_undoSorting : ByteArray := prog_1_method_31_code
def yX0_undoSorting : MethodName := ⟨RX0, "undoSorting", "(I)V"⟩
theorem dX0_undoSorting_0 : decode cX0_undoSorting 0 = .ok (.iconst 0, 1) := by decide +kernel
theorem dX0_undoSorting_1 : decode cX0_undoSorting 1 = .ok (.istore_n 2, 1) := by decide +kernel
theorem dX0_undoSorting_2 : decode cX0_undoSorting 2 = .ok (.iconst 0, 1) := by decide +kernel
end
section
set_option maxRecDepth 100000
theorem dX0_undoSorting_3 : decode cX0_undoSorting 3 = .ok (.istore_n 3, 1) := by decide +kernel
theorem dX0_undoSorting_4 : decode cX0_undoSorting 4 = .ok (.iload_n 3, 1) := by decide +kernel
theorem dX0_undoSorting_5 : decode cX0_undoSorting 5 = .ok (.bipush 6, 2) := by decide +kernel
theorem dX0_undoSorting_7 : decode cX0_undoSorting 7 = .ok (.if_icmp .ge 50, 3) := by decide +kernel
theorem dX0_undoSorting_10 : decode cX0_undoSorting 10 = .ok (.iconst 0, 1) := by decide +kernel
theorem dX0_undoSorting_11 : decode cX0_undoSorting 11 = .ok (.istore 4, 2) := by decide +kernel
theorem dX0_undoSorting_13 : decode cX0_undoSorting 13 = .ok (.iload 4, 2) := by decide +kernel
theorem dX0_undoSorting_15 : decode cX0_undoSorting 15 = .ok (.iload_n 1, 1) := by decide +kernel
theorem dX0_undoSorting_16 : decode cX0_undoSorting 16 = .ok (.if_icmp .ge 35, 3) := by decide +kernel
theorem dX0_undoSorting_19 : decode cX0_undoSorting 19 = .ok (.aload_n 0, 1) := by decide +kernel
theorem dX0_undoSorting_20 : decode cX0_undoSorting 20 = .ok (.getfield 51, 3) := by decide +kernel
theorem dX0_undoSorting_23 : decode cX0_undoSorting 23 = .ok (.iload 4, 2) := by decide +kernel
theorem dX0_undoSorting_25 : decode cX0_undoSorting 25 = .ok (.baload, 1) := by decide +kernel
theorem dX0_undoSorting_26 : decode cX0_undoSorting 26 = .ok (.iload_n 3, 1) := by decide +kernel
theorem dX0_undoSorting_27 : decode cX0_undoSorting 27 = .ok (.if_icmp .eq 6, 3) := by decide +kernel
theorem dX0_undoSorting_30 : decode cX0_undoSorting 30 = .ok (.goto 15, 3) := by decide +kernel
theorem dX0_undoSorting_33 : decode cX0_undoSorting 33 = .ok (.aload_n 0, 1) := by decide +kernel
theorem dX0_undoSorting_34 : decode cX0_undoSorting 34 = .ok (.getfield 54, 3) := by decide +kernel
theorem dX0_undoSorting_37 : decode cX0_undoSorting 37 = .ok (.iload_n 2, 1) := by decide +kernel
theorem dX0_undoSorting_38 : decode cX0_undoSorting 38 = .ok (.iload 4, 2) := by decide +kernel
theorem dX0_undoSorting_40 : decode cX0_undoSorting 40 = .ok (.i2b, 1) := by decide +kernel
theorem dX0_undoSorting_41 : decode cX0_undoSorting 41 = .ok (.bastore, 1) := by decide +kernel
theorem dX0_undoSorting_42 : decode cX0_undoSorting 42 = .ok (.iinc 2 1, 3) := by decide +kernel
theorem dX0_undoSorting_45 : decode cX0_undoSorting 45 = .ok (.iinc 4 1, 3) := by decide +kernel
theorem dX0_undoSorting_48 : decode cX0_undoSorting 48 = .ok (.goto (-35), 3) := by decide +kernel
theorem dX0_undoSorting_51 : decode cX0_undoSorting 51 = .ok (.iinc 3 1, 3) := by decide +kernel
theorem dX0_undoSorting_54 : decode cX0_undoSorting 54 = .ok (.goto (-50), 3) := by decide +kernel
theorem dX0_undoSorting_57 : decode cX0_undoSorting 57 = .ok (.iconst 0, 1) := by decide +kernel
theorem dX0_undoSorting_58 : decode cX0_undoSorting 58 = .ok (.istore_n 3, 1) := by decide +kernel
theorem dX0_undoSorting_59 : decode cX0_undoSorting 59 = .ok (.iload_n 3, 1) := by decide +kernel
theorem dX0_undoSorting_60 : decode cX0_undoSorting 60 = .ok (.iload_n 1, 1) := by decide +kernel
theorem dX0_undoSorting_61 : decode cX0_undoSorting 61 = .ok (.if_icmp .ge 21, 3) := by decide +kernel
theorem dX0_undoSorting_64 : decode cX0_undoSorting 64 = .ok (.aload_n 0, 1) := by decide +kernel
theorem dX0_undoSorting_65 : decode cX0_undoSorting 65 = .ok (.getfield 19, 3) := by decide +kernel
theorem dX0_undoSorting_68 : decode cX0_undoSorting 68 = .ok (.iload_n 3, 1) := by decide +kernel
theorem dX0_undoSorting_69 : decode cX0_undoSorting 69 = .ok (.aload_n 0, 1) := by decide +kernel
theorem dX0_undoSorting_70 : decode cX0_undoSorting 70 = .ok (.getfield 51, 3) := by decide +kernel
theorem dX0_undoSorting_73 : decode cX0_undoSorting 73 = .ok (.iload_n 3, 1) := by decide +kernel
theorem dX0_undoSorting_74 : decode cX0_undoSorting 74 = .ok (.baload, 1) := by decide +kernel
theorem dX0_undoSorting_75 : decode cX0_undoSorting 75 = .ok (.bastore, 1) := by decide +kernel
theorem dX0_undoSorting_76 : decode cX0_undoSorting 76 = .ok (.iinc 3 1, 3) := by decide +kernel
theorem dX0_undoSorting_79 : decode cX0_undoSorting 79 = .ok (.goto (-20), 3) := by decide +kernel
theorem dX0_undoSorting_82 : decode cX0_undoSorting 82 = .ok (.aload_n 0, 1) := by decide +kernel
theorem dX0_undoSorting_83 : decode cX0_undoSorting 83 = .ok (.getfield 68, 3) := by decide +kernel
theorem dX0_undoSorting_86 : decode cX0_undoSorting 86 = .ok (.istore_n 3, 1) := by decide +kernel
theorem dX0_undoSorting_87 : decode cX0_undoSorting 87 = .ok (.iconst 0, 1) := by decide +kernel
theorem dX0_undoSorting_88 : decode cX0_undoSorting 88 = .ok (.istore 4, 2) := by decide +kernel
theorem dX0_undoSorting_90 : decode cX0_undoSorting 90 = .ok (.iload 4, 2) := by decide +kernel
theorem dX0_undoSorting_92 : decode cX0_undoSorting 92 = .ok (.iload_n 1, 1) := by decide +kernel
theorem dX0_undoSorting_93 : decode cX0_undoSorting 93 = .ok (.if_icmp .ge 29, 3) := by decide +kernel
theorem dX0_undoSorting_96 : decode cX0_undoSorting 96 = .ok (.aload_n 0, 1) := by decide +kernel
theorem dX0_undoSorting_97 : decode cX0_undoSorting 97 = .ok (.getfield 54, 3) := by decide +kernel
theorem dX0_undoSorting_100 : decode cX0_undoSorting 100 = .ok (.iload_n 3, 1) := by decide +kernel
theorem dX0_undoSorting_101 : decode cX0_undoSorting 101 = .ok (.baload, 1) := by decide +kernel
theorem dX0_undoSorting_102 : decode cX0_undoSorting 102 = .ok (.istore_n 3, 1) := by decide +kernel
theorem dX0_undoSorting_103 : decode cX0_undoSorting 103 = .ok (.aload_n 0, 1) := by decide +kernel
theorem dX0_undoSorting_104 : decode cX0_undoSorting 104 = .ok (.getfield 51, 3) := by decide +kernel
theorem dX0_undoSorting_107 : decode cX0_undoSorting 107 = .ok (.iload 4, 2) := by decide +kernel
theorem dX0_undoSorting_109 : decode cX0_undoSorting 109 = .ok (.aload_n 0, 1) := by decide +kernel
theorem dX0_undoSorting_110 : decode cX0_undoSorting 110 = .ok (.getfield 19, 3) := by decide +kernel
theorem dX0_undoSorting_113 : decode cX0_undoSorting 113 = .ok (.iload_n 3, 1) := by decide +kernel
theorem dX0_undoSorting_114 : decode cX0_undoSorting 114 = .ok (.baload, 1) := by decide +kernel
theorem dX0_undoSorting_115 : decode cX0_undoSorting 115 = .ok (.bastore, 1) := by decide +kernel
theorem dX0_undoSorting_116 : decode cX0_undoSorting 116 = .ok (.iinc 4 1, 3) := by decide +kernel
theorem dX0_undoSorting_119 : decode cX0_undoSorting 119 = .ok (.goto (-29), 3) := by decide +kernel
theorem dX0_undoSorting_122 : decode cX0_undoSorting 122 = .ok (.return_, 1) := by decide +kernel
abbrev cX0_different : ByteArray := prog_1_method_12_code
def yX0_different : MethodName := ⟨RX0, "different", "()I"⟩
theorem dX0_different_0 : decode cX0_different 0 = .ok (.aload_n 0, 1) := by decide +kernel
theorem dX0_different_1 : decode cX0_different 1 = .ok (.invokevirtual 65, 3) := by decide +kernel
theorem dX0_different_4 : decode cX0_different 4 = .ok (.iconst 0, 1) := by decide +kernel
theorem dX0_different_5 : decode cX0_different 5 = .ok (.istore_n 1, 1) := by decide +kernel
theorem dX0_different_6 : decode cX0_different 6 = .ok (.iconst 0, 1) := by decide +kernel
theorem dX0_different_7 : decode cX0_different 7 = .ok (.istore_n 2, 1) := by decide +kernel
theorem dX0_different_8 : decode cX0_different 8 = .ok (.iload_n 2, 1) := by decide +kernel
theorem dX0_different_9 : decode cX0_different 9 = .ok (.aload_n 0, 1) := by decide +kernel
theorem dX0_different_10 : decode cX0_different 10 = .ok (.getfield 71, 3) := by decide +kernel
theorem dX0_different_13 : decode cX0_different 13 = .ok (.if_icmp .ge 20, 3) := by decide +kernel
theorem dX0_different_16 : decode cX0_different 16 = .ok (.iload_n 1, 1) := by decide +kernel
theorem dX0_different_17 : decode cX0_different 17 = .ok (.iconst 1, 1) := by decide +kernel
theorem dX0_different_18 : decode cX0_different 18 = .ok (.aload_n 0, 1) := by decide +kernel
theorem dX0_different_19 : decode cX0_different 19 = .ok (.getfield 28, 3) := by decide +kernel
theorem dX0_different_22 : decode cX0_different 22 = .ok (.iload_n 2, 1) := by decide +kernel
theorem dX0_different_23 : decode cX0_different 23 = .ok (.baload, 1) := by decide +kernel
theorem dX0_different_24 : decode cX0_different 24 = .ok (.ishl, 1) := by decide +kernel
theorem dX0_different_25 : decode cX0_different 25 = .ok (.ior, 1) := by decide +kernel
theorem dX0_different_26 : decode cX0_different 26 = .ok (.istore_n 1, 1) := by decide +kernel
theorem dX0_different_27 : decode cX0_different 27 = .ok (.iinc 2 1, 3) := by decide +kernel
theorem dX0_different_30 : decode cX0_different 30 = .ok (.goto (-22), 3) := by decide +kernel
theorem dX0_different_33 : decode cX0_different 33 = .ok (.iconst 0, 1) := by decide +kernel
theorem dX0_different_34 : decode cX0_different 34 = .ok (.istore_n 2, 1) := by decide +kernel
theorem dX0_different_35 : decode cX0_different 35 = .ok (.iconst 0, 1) := by decide +kernel
theorem dX0_different_36 : decode cX0_different 36 = .ok (.istore_n 3, 1) := by decide +kernel
theorem dX0_different_37 : decode cX0_different 37 = .ok (.iload_n 3, 1) := by decide +kernel
theorem dX0_different_38 : decode cX0_different 38 = .ok (.bipush 7, 2) := by decide +kernel
theorem dX0_different_40 : decode cX0_different 40 = .ok (.if_icmp .ge 17, 3) := by decide +kernel
theorem dX0_different_43 : decode cX0_different 43 = .ok (.iload_n 2, 1) := by decide +kernel
theorem dX0_different_44 : decode cX0_different 44 = .ok (.iload_n 1, 1) := by decide +kernel
theorem dX0_different_45 : decode cX0_different 45 = .ok (.iload_n 3, 1) := by decide +kernel
theorem dX0_different_46 : decode cX0_different 46 = .ok (.ishr, 1) := by decide +kernel
theorem dX0_different_47 : decode cX0_different 47 = .ok (.iconst 1, 1) := by decide +kernel
theorem dX0_different_48 : decode cX0_different 48 = .ok (.iand, 1) := by decide +kernel
theorem dX0_different_49 : decode cX0_different 49 = .ok (.iadd, 1) := by decide +kernel
theorem dX0_different_50 : decode cX0_different 50 = .ok (.istore_n 2, 1) := by decide +kernel
theorem dX0_different_51 : decode cX0_different 51 = .ok (.iinc 3 1, 3) := by decide +kernel
theorem dX0_different_54 : decode cX0_different 54 = .ok (.goto (-17), 3) := by decide +kernel
theorem dX0_different_57 : decode cX0_different 57 = .ok (.iload_n 2, 1) := by decide +kernel
theorem dX0_different_58 : decode cX0_different 58 = .ok (.ireturn, 1) := by decide +kernel
theorem q29 : (Jvm.Cond.initialized "BlockCoder") ∈ lw_all := lw_g (lw_at lw_m1 1 rfl) rfl
theorem q32 : (Jvm.Cond.instantiable "BlockCoder" (20 : Nat)) ∈ lw_all := lw_g (lw_at lw_m1 4 rfl) rfl
theorem q34 : (Jvm.Cond.instanceMethod ({ cls := "BlockCoder", name := "<init>", desc := "()V" } : Jvm.MethodName)) ∈ lw_all := lw_g (lw_at lw_m1 6 rfl) rfl
theorem q35 : (Jvm.Cond.code ({ cls := "BlockCoder", name := "<init>", desc := "()V" } : Jvm.MethodName) prog_1_method_1_code (1 : Nat) (Option.none : Option Jvm.ClassFile.FieldType)) ∈ lw_all := lw_g (lw_at lw_m1 7 rfl) rfl
theorem q36 : (Jvm.Cond.methodLink "BlockCoder" (1 : Nat) ({ cls := "java/lang/Object", name := "<init>", desc := "()V" } : Jvm.MethodName)) ∈ lw_all := lw_g (lw_at lw_m1 8 rfl) rfl
theorem q39 : (Jvm.Cond.fieldLink "BlockCoder" (57 : Nat) "BlockCoder" "length" "I") ∈ lw_all := lw_g (lw_at lw_m1 11 rfl) rfl
theorem q40 : (Jvm.Cond.fieldLink "BlockCoder" (7 : Nat) "BlockCoder" "text" "[B") ∈ lw_all := lw_g (lw_at lw_m1 12 rfl) rfl
theorem q41 : (Jvm.Cond.fieldLink "BlockCoder" (13 : Nat) "BlockCoder" "order" "[B") ∈ lw_all := lw_g (lw_at lw_m1 13 rfl) rfl
theorem q42 : (Jvm.Cond.fieldLink "BlockCoder" (16 : Nat) "BlockCoder" "classOf" "[B") ∈ lw_all := lw_g (lw_at lw_m1 14 rfl) rfl
theorem q43 : (Jvm.Cond.fieldLink "BlockCoder" (19 : Nat) "BlockCoder" "nextClass" "[B") ∈ lw_all := lw_g (lw_at lw_m1 15 rfl) rfl
theorem q44 : (Jvm.Cond.fieldLink "BlockCoder" (61 : Nat) "BlockCoder" "coded" "Z") ∈ lw_all := lw_g (lw_at lw_m1 16 rfl) rfl
theorem q45 : (Jvm.Cond.fieldLink "BlockCoder" (68 : Nat) "BlockCoder" "markAt" "I") ∈ lw_all := lw_g (lw_at lw_m1 17 rfl) rfl
theorem q46 : (Jvm.Cond.fieldLink "BlockCoder" (22 : Nat) "BlockCoder" "columnOf" "[B") ∈ lw_all := lw_g (lw_at lw_m1 18 rfl) rfl
theorem q47 : (Jvm.Cond.fieldLink "BlockCoder" (25 : Nat) "BlockCoder" "ranks" "[B") ∈ lw_all := lw_g (lw_at lw_m1 19 rfl) rfl
theorem q48 : (Jvm.Cond.fieldLink "BlockCoder" (71 : Nat) "BlockCoder" "symbolCount" "I") ∈ lw_all := lw_g (lw_at lw_m1 20 rfl) rfl
theorem q49 : (Jvm.Cond.fieldLink "BlockCoder" (28 : Nat) "BlockCoder" "symbolList" "[B") ∈ lw_all := lw_g (lw_at lw_m1 21 rfl) rfl
theorem q50 : (Jvm.Cond.fieldLink "BlockCoder" (31 : Nat) "BlockCoder" "row" "[B") ∈ lw_all := lw_g (lw_at lw_m1 22 rfl) rfl
theorem q51 : (Jvm.Cond.fieldLink "BlockCoder" (34 : Nat) "BlockCoder" "weight" "[I") ∈ lw_all := lw_g (lw_at lw_m1 23 rfl) rfl
theorem q52 : (Jvm.Cond.fieldLink "BlockCoder" (38 : Nat) "BlockCoder" "group" "[I") ∈ lw_all := lw_g (lw_at lw_m1 24 rfl) rfl
theorem q53 : (Jvm.Cond.fieldLink "BlockCoder" (41 : Nat) "BlockCoder" "bitsOf" "[B") ∈ lw_all := lw_g (lw_at lw_m1 25 rfl) rfl
theorem q54 : (Jvm.Cond.fieldLink "BlockCoder" (44 : Nat) "BlockCoder" "codeOf" "[I") ∈ lw_all := lw_g (lw_at lw_m1 26 rfl) rfl
theorem q55 : (Jvm.Cond.fieldLink "BlockCoder" (74 : Nat) "BlockCoder" "bitCount" "I") ∈ lw_all := lw_g (lw_at lw_m1 27 rfl) rfl
theorem q56 : (Jvm.Cond.fieldLink "BlockCoder" (47 : Nat) "BlockCoder" "stream" "[J") ∈ lw_all := lw_g (lw_at lw_m1 28 rfl) rfl
theorem q57 : (Jvm.Cond.fieldLink "BlockCoder" (51 : Nat) "BlockCoder" "back" "[B") ∈ lw_all := lw_g (lw_at lw_m1 29 rfl) rfl
theorem q58 : (Jvm.Cond.fieldLink "BlockCoder" (54 : Nat) "BlockCoder" "stepTo" "[B") ∈ lw_all := lw_g (lw_at lw_m1 30 rfl) rfl
theorem q59 : (Jvm.Cond.lays "BlockCoder" "BlockCoder" "length" "I") ∈ lw_all := lw_g (lw_at lw_m1 31 rfl) rfl
theorem q60 : (Jvm.Cond.soleField "BlockCoder" "length") ∈ lw_all := lw_g (lw_at lw_m1 32 rfl) rfl
theorem q61 : (Jvm.Cond.laysFinal "BlockCoder" "BlockCoder" "text" "[B") ∈ lw_all := lw_g (lw_at lw_m1 33 rfl) rfl
theorem q62 : (Jvm.Cond.soleField "BlockCoder" "text") ∈ lw_all := lw_g (lw_at lw_m1 34 rfl) rfl
theorem q63 : (Jvm.Cond.laysFinal "BlockCoder" "BlockCoder" "order" "[B") ∈ lw_all := lw_g (lw_at lw_m1 35 rfl) rfl
theorem q64 : (Jvm.Cond.soleField "BlockCoder" "order") ∈ lw_all := lw_g (lw_at lw_m1 36 rfl) rfl
theorem q65 : (Jvm.Cond.laysFinal "BlockCoder" "BlockCoder" "classOf" "[B") ∈ lw_all := lw_g (lw_at lw_m1 37 rfl) rfl
theorem q66 : (Jvm.Cond.soleField "BlockCoder" "classOf") ∈ lw_all := lw_g (lw_at lw_m1 38 rfl) rfl
theorem q67 : (Jvm.Cond.laysFinal "BlockCoder" "BlockCoder" "nextClass" "[B") ∈ lw_all := lw_g (lw_at lw_m1 39 rfl) rfl
theorem q68 : (Jvm.Cond.soleField "BlockCoder" "nextClass") ∈ lw_all := lw_g (lw_at lw_m1 40 rfl) rfl
theorem q69 : (Jvm.Cond.lays "BlockCoder" "BlockCoder" "coded" "Z") ∈ lw_all := lw_g (lw_at lw_m1 41 rfl) rfl
theorem q70 : (Jvm.Cond.soleField "BlockCoder" "coded") ∈ lw_all := lw_g (lw_at lw_m1 42 rfl) rfl
theorem q71 : (Jvm.Cond.lays "BlockCoder" "BlockCoder" "markAt" "I") ∈ lw_all := lw_g (lw_at lw_m1 43 rfl) rfl
theorem q72 : (Jvm.Cond.soleField "BlockCoder" "markAt") ∈ lw_all := lw_g (lw_at lw_m1 44 rfl) rfl
theorem q73 : (Jvm.Cond.laysFinal "BlockCoder" "BlockCoder" "columnOf" "[B") ∈ lw_all := lw_g (lw_at lw_m1 45 rfl) rfl
theorem q74 : (Jvm.Cond.soleField "BlockCoder" "columnOf") ∈ lw_all := lw_g (lw_at lw_m1 46 rfl) rfl
theorem q75 : (Jvm.Cond.laysFinal "BlockCoder" "BlockCoder" "ranks" "[B") ∈ lw_all := lw_g (lw_at lw_m1 47 rfl) rfl
theorem q76 : (Jvm.Cond.soleField "BlockCoder" "ranks") ∈ lw_all := lw_g (lw_at lw_m1 48 rfl) rfl
theorem q77 : (Jvm.Cond.lays "BlockCoder" "BlockCoder" "symbolCount" "I") ∈ lw_all := lw_g (lw_at lw_m1 49 rfl) rfl
theorem q78 : (Jvm.Cond.soleField "BlockCoder" "symbolCount") ∈ lw_all := lw_g (lw_at lw_m1 50 rfl) rfl
theorem q79 : (Jvm.Cond.laysFinal "BlockCoder" "BlockCoder" "symbolList" "[B") ∈ lw_all := lw_g (lw_at lw_m1 51 rfl) rfl
theorem q80 : (Jvm.Cond.soleField "BlockCoder" "symbolList") ∈ lw_all := lw_g (lw_at lw_m1 52 rfl) rfl
theorem q81 : (Jvm.Cond.laysFinal "BlockCoder" "BlockCoder" "row" "[B") ∈ lw_all := lw_g (lw_at lw_m1 53 rfl) rfl
theorem q82 : (Jvm.Cond.soleField "BlockCoder" "row") ∈ lw_all := lw_g (lw_at lw_m1 54 rfl) rfl
theorem q83 : (Jvm.Cond.laysFinal "BlockCoder" "BlockCoder" "weight" "[I") ∈ lw_all := lw_g (lw_at lw_m1 55 rfl) rfl
theorem q84 : (Jvm.Cond.soleField "BlockCoder" "weight") ∈ lw_all := lw_g (lw_at lw_m1 56 rfl) rfl
theorem q85 : (Jvm.Cond.laysFinal "BlockCoder" "BlockCoder" "group" "[I") ∈ lw_all := lw_g (lw_at lw_m1 57 rfl) rfl
theorem q86 : (Jvm.Cond.soleField "BlockCoder" "group") ∈ lw_all := lw_g (lw_at lw_m1 58 rfl) rfl
theorem q87 : (Jvm.Cond.laysFinal "BlockCoder" "BlockCoder" "bitsOf" "[B") ∈ lw_all := lw_g (lw_at lw_m1 59 rfl) rfl
theorem q88 : (Jvm.Cond.soleField "BlockCoder" "bitsOf") ∈ lw_all := lw_g (lw_at lw_m1 60 rfl) rfl
theorem q89 : (Jvm.Cond.laysFinal "BlockCoder" "BlockCoder" "codeOf" "[I") ∈ lw_all := lw_g (lw_at lw_m1 61 rfl) rfl
theorem q90 : (Jvm.Cond.soleField "BlockCoder" "codeOf") ∈ lw_all := lw_g (lw_at lw_m1 62 rfl) rfl
theorem q91 : (Jvm.Cond.lays "BlockCoder" "BlockCoder" "bitCount" "I") ∈ lw_all := lw_g (lw_at lw_m1 63 rfl) rfl
theorem q92 : (Jvm.Cond.soleField "BlockCoder" "bitCount") ∈ lw_all := lw_g (lw_at lw_m1 64 rfl) rfl
theorem q93 : (Jvm.Cond.laysFinal "BlockCoder" "BlockCoder" "stream" "[J") ∈ lw_all := lw_g (lw_at lw_m1 65 rfl) rfl
theorem q94 : (Jvm.Cond.soleField "BlockCoder" "stream") ∈ lw_all := lw_g (lw_at lw_m1 66 rfl) rfl
theorem q95 : (Jvm.Cond.laysFinal "BlockCoder" "BlockCoder" "back" "[B") ∈ lw_all := lw_g (lw_at lw_m1 67 rfl) rfl
theorem q96 : (Jvm.Cond.soleField "BlockCoder" "back") ∈ lw_all := lw_g (lw_at lw_m1 68 rfl) rfl
theorem q97 : (Jvm.Cond.laysFinal "BlockCoder" "BlockCoder" "stepTo" "[B") ∈ lw_all := lw_g (lw_at lw_m1 69 rfl) rfl
theorem q98 : (Jvm.Cond.soleField "BlockCoder" "stepTo") ∈ lw_all := lw_g (lw_at lw_m1 70 rfl) rfl
theorem q99 : (Jvm.Cond.superclass "BlockCoder" "java/lang/Object") ∈ lw_all := lw_g (lw_at lw_m1 71 rfl) rfl
theorem q104 : (Jvm.Cond.instanceMethod ({ cls := "BlockCoder", name := "type", desc := "(I)I" } : Jvm.MethodName)) ∈ lw_all := lw_g (lw_at lw_m1 76 rfl) rfl
theorem q105 : (Jvm.Cond.selects "BlockCoder" ({ cls := "BlockCoder", name := "type", desc := "(I)I" } : Jvm.MethodName) ({ cls := "BlockCoder", name := "type", desc := "(I)I" } : Jvm.MethodName)) ∈ lw_all := lw_g (lw_at lw_m1 77 rfl) rfl
theorem q106 : (Jvm.Cond.code ({ cls := "BlockCoder", name := "type", desc := "(I)I" } : Jvm.MethodName) prog_1_method_2_code (2 : Nat) (Option.some Jvm.ClassFile.FieldType.int)) ∈ lw_all := lw_g (lw_at lw_m1 78 rfl) rfl
theorem q108 : (Jvm.Cond.instanceMethod ({ cls := "BlockCoder", name := "repeat", desc := "(I)I" } : Jvm.MethodName)) ∈ lw_all := lw_g (lw_at lw_m1 80 rfl) rfl
theorem q109 : (Jvm.Cond.selects "BlockCoder" ({ cls := "BlockCoder", name := "repeat", desc := "(I)I" } : Jvm.MethodName) ({ cls := "BlockCoder", name := "repeat", desc := "(I)I" } : Jvm.MethodName)) ∈ lw_all := lw_g (lw_at lw_m1 81 rfl) rfl
theorem q110 : (Jvm.Cond.code ({ cls := "BlockCoder", name := "repeat", desc := "(I)I" } : Jvm.MethodName) prog_1_method_3_code (4 : Nat) (Option.some Jvm.ClassFile.FieldType.int)) ∈ lw_all := lw_g (lw_at lw_m1 82 rfl) rfl
theorem q112 : (Jvm.Cond.instanceMethod ({ cls := "BlockCoder", name := "clear", desc := "()I" } : Jvm.MethodName)) ∈ lw_all := lw_g (lw_at lw_m1 84 rfl) rfl
theorem q113 : (Jvm.Cond.selects "BlockCoder" ({ cls := "BlockCoder", name := "clear", desc := "()I" } : Jvm.MethodName) ({ cls := "BlockCoder", name := "clear", desc := "()I" } : Jvm.MethodName)) ∈ lw_all := lw_g (lw_at lw_m1 85 rfl) rfl
theorem q114 : (Jvm.Cond.code ({ cls := "BlockCoder", name := "clear", desc := "()I" } : Jvm.MethodName) prog_1_method_4_code (2 : Nat) (Option.some Jvm.ClassFile.FieldType.int)) ∈ lw_all := lw_g (lw_at lw_m1 86 rfl) rfl
theorem q116 : (Jvm.Cond.instanceMethod ({ cls := "BlockCoder", name := "column", desc := "(I)I" } : Jvm.MethodName)) ∈ lw_all := lw_g (lw_at lw_m1 88 rfl) rfl
theorem q117 : (Jvm.Cond.selects "BlockCoder" ({ cls := "BlockCoder", name := "column", desc := "(I)I" } : Jvm.MethodName) ({ cls := "BlockCoder", name := "column", desc := "(I)I" } : Jvm.MethodName)) ∈ lw_all := lw_g (lw_at lw_m1 89 rfl) rfl
theorem q118 : (Jvm.Cond.code ({ cls := "BlockCoder", name := "column", desc := "(I)I" } : Jvm.MethodName) prog_1_method_5_code (2 : Nat) (Option.some Jvm.ClassFile.FieldType.int)) ∈ lw_all := lw_g (lw_at lw_m1 90 rfl) rfl
theorem q119 : (Jvm.Cond.methodLink "BlockCoder" (65 : Nat) ({ cls := "BlockCoder", name := "code", desc := "()V" } : Jvm.MethodName)) ∈ lw_all := lw_g (lw_at lw_m1 91 rfl) rfl
theorem q120 : (Jvm.Cond.privateMethod ({ cls := "BlockCoder", name := "code", desc := "()V" } : Jvm.MethodName)) ∈ lw_tbl := lw_at lw_m1 92 rfl
theorem q121 : (Jvm.Cond.instanceMethod ({ cls := "BlockCoder", name := "code", desc := "()V" } : Jvm.MethodName)) ∈ lw_all := lw_g (lw_at lw_m1 93 rfl) rfl
theorem q122 : (Jvm.Cond.code ({ cls := "BlockCoder", name := "code", desc := "()V" } : Jvm.MethodName) prog_1_method_13_code (3 : Nat) (Option.none : Option Jvm.ClassFile.FieldType)) ∈ lw_all := lw_g (lw_at lw_m1 94 rfl) rfl
theorem q123 : (Jvm.Cond.methodLink "BlockCoder" (92 : Nat) ({ cls := "BlockCoder", name := "sortRotations", desc := "()V" } : Jvm.MethodName)) ∈ lw_all := lw_g (lw_at lw_m1 95 rfl) rfl
theorem q124 : (Jvm.Cond.privateMethod ({ cls := "BlockCoder", name := "sortRotations", desc := "()V" } : Jvm.MethodName)) ∈ lw_tbl := lw_at lw_m1 96 rfl
theorem q125 : (Jvm.Cond.instanceMethod ({ cls := "BlockCoder", name := "sortRotations", desc := "()V" } : Jvm.MethodName)) ∈ lw_all := lw_g (lw_at lw_m1 97 rfl) rfl
theorem q126 : (Jvm.Cond.code ({ cls := "BlockCoder", name := "sortRotations", desc := "()V" } : Jvm.MethodName) prog_1_method_14_code (4 : Nat) (Option.none : Option Jvm.ClassFile.FieldType)) ∈ lw_all := lw_g (lw_at lw_m1 98 rfl) rfl
theorem q127 : (Jvm.Cond.methodLink "BlockCoder" (107 : Nat) ({ cls := "BlockCoder", name := "sink", desc := "(II)V" } : Jvm.MethodName)) ∈ lw_all := lw_g (lw_at lw_m1 99 rfl) rfl
theorem q128 : (Jvm.Cond.privateMethod ({ cls := "BlockCoder", name := "sink", desc := "(II)V" } : Jvm.MethodName)) ∈ lw_tbl := lw_at lw_m1 100 rfl
theorem q129 : (Jvm.Cond.instanceMethod ({ cls := "BlockCoder", name := "sink", desc := "(II)V" } : Jvm.MethodName)) ∈ lw_all := lw_g (lw_at lw_m1 101 rfl) rfl
theorem q130 : (Jvm.Cond.code ({ cls := "BlockCoder", name := "sink", desc := "(II)V" } : Jvm.MethodName) prog_1_method_15_code (5 : Nat) (Option.none : Option Jvm.ClassFile.FieldType)) ∈ lw_all := lw_g (lw_at lw_m1 102 rfl) rfl
theorem q131 : (Jvm.Cond.methodLink "BlockCoder" (115 : Nat) ({ cls := "BlockCoder", name := "comesAfter", desc := "(III)Z" } : Jvm.MethodName)) ∈ lw_all := lw_g (lw_at lw_m1 103 rfl) rfl
theorem q132 : (Jvm.Cond.privateMethod ({ cls := "BlockCoder", name := "comesAfter", desc := "(III)Z" } : Jvm.MethodName)) ∈ lw_tbl := lw_at lw_m1 104 rfl
theorem q133 : (Jvm.Cond.instanceMethod ({ cls := "BlockCoder", name := "comesAfter", desc := "(III)Z" } : Jvm.MethodName)) ∈ lw_all := lw_g (lw_at lw_m1 105 rfl) rfl
theorem q134 : (Jvm.Cond.code ({ cls := "BlockCoder", name := "comesAfter", desc := "(III)Z" } : Jvm.MethodName) prog_1_method_16_code (5 : Nat) (Option.some Jvm.ClassFile.FieldType.boolean)) ∈ lw_all := lw_g (lw_at lw_m1 106 rfl) rfl
theorem q135 : (Jvm.Cond.methodLink "BlockCoder" (111 : Nat) ({ cls := "BlockCoder", name := "compare", desc := "(III)I" } : Jvm.MethodName)) ∈ lw_all := lw_g (lw_at lw_m1 107 rfl) rfl
theorem q136 : (Jvm.Cond.privateMethod ({ cls := "BlockCoder", name := "compare", desc := "(III)I" } : Jvm.MethodName)) ∈ lw_tbl := lw_at lw_m1 108 rfl
theorem q137 : (Jvm.Cond.instanceMethod ({ cls := "BlockCoder", name := "compare", desc := "(III)I" } : Jvm.MethodName)) ∈ lw_all := lw_g (lw_at lw_m1 109 rfl) rfl
theorem q138 : (Jvm.Cond.code ({ cls := "BlockCoder", name := "compare", desc := "(III)I" } : Jvm.MethodName) prog_1_method_17_code (4 : Nat) (Option.some Jvm.ClassFile.FieldType.int)) ∈ lw_all := lw_g (lw_at lw_m1 110 rfl) rfl
theorem q139 : (Jvm.Cond.methodLink "BlockCoder" (95 : Nat) ({ cls := "BlockCoder", name := "rankLetters", desc := "()V" } : Jvm.MethodName)) ∈ lw_all := lw_g (lw_at lw_m1 111 rfl) rfl
theorem q140 : (Jvm.Cond.privateMethod ({ cls := "BlockCoder", name := "rankLetters", desc := "()V" } : Jvm.MethodName)) ∈ lw_tbl := lw_at lw_m1 112 rfl
theorem q141 : (Jvm.Cond.instanceMethod ({ cls := "BlockCoder", name := "rankLetters", desc := "()V" } : Jvm.MethodName)) ∈ lw_all := lw_g (lw_at lw_m1 113 rfl) rfl
theorem q142 : (Jvm.Cond.code ({ cls := "BlockCoder", name := "rankLetters", desc := "()V" } : Jvm.MethodName) prog_1_method_20_code (3 : Nat) (Option.none : Option Jvm.ClassFile.FieldType)) ∈ lw_all := lw_g (lw_at lw_m1 114 rfl) rfl
theorem q143 : (Jvm.Cond.methodLink "BlockCoder" (119 : Nat) ({ cls := "BlockCoder", name := "resetRow", desc := "()V" } : Jvm.MethodName)) ∈ lw_all := lw_g (lw_at lw_m1 115 rfl) rfl
theorem q144 : (Jvm.Cond.privateMethod ({ cls := "BlockCoder", name := "resetRow", desc := "()V" } : Jvm.MethodName)) ∈ lw_tbl := lw_at lw_m1 116 rfl
theorem q145 : (Jvm.Cond.instanceMethod ({ cls := "BlockCoder", name := "resetRow", desc := "()V" } : Jvm.MethodName)) ∈ lw_all := lw_g (lw_at lw_m1 117 rfl) rfl
theorem q146 : (Jvm.Cond.code ({ cls := "BlockCoder", name := "resetRow", desc := "()V" } : Jvm.MethodName) prog_1_method_18_code (2 : Nat) (Option.none : Option Jvm.ClassFile.FieldType)) ∈ lw_all := lw_g (lw_at lw_m1 118 rfl) rfl
theorem q147 : (Jvm.Cond.methodLink "BlockCoder" (122 : Nat) ({ cls := "BlockCoder", name := "toFront", desc := "(I)V" } : Jvm.MethodName)) ∈ lw_all := lw_g (lw_at lw_m1 119 rfl) rfl
theorem q148 : (Jvm.Cond.privateMethod ({ cls := "BlockCoder", name := "toFront", desc := "(I)V" } : Jvm.MethodName)) ∈ lw_tbl := lw_at lw_m1 120 rfl
theorem q149 : (Jvm.Cond.instanceMethod ({ cls := "BlockCoder", name := "toFront", desc := "(I)V" } : Jvm.MethodName)) ∈ lw_all := lw_g (lw_at lw_m1 121 rfl) rfl
theorem q150 : (Jvm.Cond.code ({ cls := "BlockCoder", name := "toFront", desc := "(I)V" } : Jvm.MethodName) prog_1_method_19_code (4 : Nat) (Option.none : Option Jvm.ClassFile.FieldType)) ∈ lw_all := lw_g (lw_at lw_m1 122 rfl) rfl
theorem q151 : (Jvm.Cond.methodLink "BlockCoder" (98 : Nat) ({ cls := "BlockCoder", name := "shortenRuns", desc := "()V" } : Jvm.MethodName)) ∈ lw_all := lw_g (lw_at lw_m1 123 rfl) rfl
theorem q152 : (Jvm.Cond.privateMethod ({ cls := "BlockCoder", name := "shortenRuns", desc := "()V" } : Jvm.MethodName)) ∈ lw_tbl := lw_at lw_m1 124 rfl
theorem q153 : (Jvm.Cond.instanceMethod ({ cls := "BlockCoder", name := "shortenRuns", desc := "()V" } : Jvm.MethodName)) ∈ lw_all := lw_g (lw_at lw_m1 125 rfl) rfl
theorem q154 : (Jvm.Cond.code ({ cls := "BlockCoder", name := "shortenRuns", desc := "()V" } : Jvm.MethodName) prog_1_method_22_code (4 : Nat) (Option.none : Option Jvm.ClassFile.FieldType)) ∈ lw_all := lw_g (lw_at lw_m1 126 rfl) rfl
theorem q155 : (Jvm.Cond.methodLink "BlockCoder" (125 : Nat) ({ cls := "BlockCoder", name := "addSymbol", desc := "(I)V" } : Jvm.MethodName)) ∈ lw_all := lw_g (lw_at lw_m1 127 rfl) rfl
theorem q156 : (Jvm.Cond.privateMethod ({ cls := "BlockCoder", name := "addSymbol", desc := "(I)V" } : Jvm.MethodName)) ∈ lw_tbl := lw_at lw_m1 128 rfl
theorem q157 : (Jvm.Cond.instanceMethod ({ cls := "BlockCoder", name := "addSymbol", desc := "(I)V" } : Jvm.MethodName)) ∈ lw_all := lw_g (lw_at lw_m1 129 rfl) rfl
theorem q158 : (Jvm.Cond.code ({ cls := "BlockCoder", name := "addSymbol", desc := "(I)V" } : Jvm.MethodName) prog_1_method_21_code (2 : Nat) (Option.none : Option Jvm.ClassFile.FieldType)) ∈ lw_all := lw_g (lw_at lw_m1 130 rfl) rfl
theorem q159 : (Jvm.Cond.methodLink "BlockCoder" (101 : Nat) ({ cls := "BlockCoder", name := "findBits", desc := "()V" } : Jvm.MethodName)) ∈ lw_all := lw_g (lw_at lw_m1 131 rfl) rfl
theorem q160 : (Jvm.Cond.privateMethod ({ cls := "BlockCoder", name := "findBits", desc := "()V" } : Jvm.MethodName)) ∈ lw_tbl := lw_at lw_m1 132 rfl
theorem q161 : (Jvm.Cond.instanceMethod ({ cls := "BlockCoder", name := "findBits", desc := "()V" } : Jvm.MethodName)) ∈ lw_all := lw_g (lw_at lw_m1 133 rfl) rfl
theorem q162 : (Jvm.Cond.code ({ cls := "BlockCoder", name := "findBits", desc := "()V" } : Jvm.MethodName) prog_1_method_24_code (4 : Nat) (Option.none : Option Jvm.ClassFile.FieldType)) ∈ lw_all := lw_g (lw_at lw_m1 134 rfl) rfl
theorem q163 : (Jvm.Cond.methodLink "BlockCoder" (128 : Nat) ({ cls := "BlockCoder", name := "lightest", desc := "(I)I" } : Jvm.MethodName)) ∈ lw_all := lw_g (lw_at lw_m1 135 rfl) rfl
theorem q164 : (Jvm.Cond.privateMethod ({ cls := "BlockCoder", name := "lightest", desc := "(I)I" } : Jvm.MethodName)) ∈ lw_tbl := lw_at lw_m1 136 rfl
theorem q165 : (Jvm.Cond.instanceMethod ({ cls := "BlockCoder", name := "lightest", desc := "(I)I" } : Jvm.MethodName)) ∈ lw_all := lw_g (lw_at lw_m1 137 rfl) rfl
theorem q166 : (Jvm.Cond.code ({ cls := "BlockCoder", name := "lightest", desc := "(I)I" } : Jvm.MethodName) prog_1_method_23_code (4 : Nat) (Option.some Jvm.ClassFile.FieldType.int)) ∈ lw_all := lw_g (lw_at lw_m1 138 rfl) rfl
theorem q167 : (Jvm.Cond.methodLink "BlockCoder" (131 : Nat) ({ cls := "BlockCoder", name := "numberCodes", desc := "()V" } : Jvm.MethodName)) ∈ lw_all := lw_g (lw_at lw_m1 139 rfl) rfl
theorem q168 : (Jvm.Cond.privateMethod ({ cls := "BlockCoder", name := "numberCodes", desc := "()V" } : Jvm.MethodName)) ∈ lw_tbl := lw_at lw_m1 140 rfl
theorem q169 : (Jvm.Cond.instanceMethod ({ cls := "BlockCoder", name := "numberCodes", desc := "()V" } : Jvm.MethodName)) ∈ lw_all := lw_g (lw_at lw_m1 141 rfl) rfl
theorem q170 : (Jvm.Cond.code ({ cls := "BlockCoder", name := "numberCodes", desc := "()V" } : Jvm.MethodName) prog_1_method_25_code (4 : Nat) (Option.none : Option Jvm.ClassFile.FieldType)) ∈ lw_all := lw_g (lw_at lw_m1 142 rfl) rfl
theorem q171 : (Jvm.Cond.methodLink "BlockCoder" (104 : Nat) ({ cls := "BlockCoder", name := "writeBits", desc := "()V" } : Jvm.MethodName)) ∈ lw_all := lw_g (lw_at lw_m1 143 rfl) rfl
theorem q172 : (Jvm.Cond.privateMethod ({ cls := "BlockCoder", name := "writeBits", desc := "()V" } : Jvm.MethodName)) ∈ lw_tbl := lw_at lw_m1 144 rfl
theorem q173 : (Jvm.Cond.instanceMethod ({ cls := "BlockCoder", name := "writeBits", desc := "()V" } : Jvm.MethodName)) ∈ lw_all := lw_g (lw_at lw_m1 145 rfl) rfl
theorem q174 : (Jvm.Cond.code ({ cls := "BlockCoder", name := "writeBits", desc := "()V" } : Jvm.MethodName) prog_1_method_26_code (4 : Nat) (Option.none : Option Jvm.ClassFile.FieldType)) ∈ lw_all := lw_g (lw_at lw_m1 146 rfl) rfl
theorem q176 : (Jvm.Cond.instanceMethod ({ cls := "BlockCoder", name := "mark", desc := "()I" } : Jvm.MethodName)) ∈ lw_all := lw_g (lw_at lw_m1 148 rfl) rfl
theorem q177 : (Jvm.Cond.selects "BlockCoder" ({ cls := "BlockCoder", name := "mark", desc := "()I" } : Jvm.MethodName) ({ cls := "BlockCoder", name := "mark", desc := "()I" } : Jvm.MethodName)) ∈ lw_all := lw_g (lw_at lw_m1 149 rfl) rfl
theorem q178 : (Jvm.Cond.code ({ cls := "BlockCoder", name := "mark", desc := "()I" } : Jvm.MethodName) prog_1_method_6_code (1 : Nat) (Option.some Jvm.ClassFile.FieldType.int)) ∈ lw_all := lw_g (lw_at lw_m1 150 rfl) rfl
theorem q180 : (Jvm.Cond.instanceMethod ({ cls := "BlockCoder", name := "rank", desc := "(I)I" } : Jvm.MethodName)) ∈ lw_all := lw_g (lw_at lw_m1 152 rfl) rfl
theorem q181 : (Jvm.Cond.selects "BlockCoder" ({ cls := "BlockCoder", name := "rank", desc := "(I)I" } : Jvm.MethodName) ({ cls := "BlockCoder", name := "rank", desc := "(I)I" } : Jvm.MethodName)) ∈ lw_all := lw_g (lw_at lw_m1 153 rfl) rfl
theorem q182 : (Jvm.Cond.code ({ cls := "BlockCoder", name := "rank", desc := "(I)I" } : Jvm.MethodName) prog_1_method_7_code (2 : Nat) (Option.some Jvm.ClassFile.FieldType.int)) ∈ lw_all := lw_g (lw_at lw_m1 154 rfl) rfl
theorem q184 : (Jvm.Cond.instanceMethod ({ cls := "BlockCoder", name := "symbols", desc := "()I" } : Jvm.MethodName)) ∈ lw_all := lw_g (lw_at lw_m1 156 rfl) rfl
theorem q185 : (Jvm.Cond.selects "BlockCoder" ({ cls := "BlockCoder", name := "symbols", desc := "()I" } : Jvm.MethodName) ({ cls := "BlockCoder", name := "symbols", desc := "()I" } : Jvm.MethodName)) ∈ lw_all := lw_g (lw_at lw_m1 157 rfl) rfl
theorem q186 : (Jvm.Cond.code ({ cls := "BlockCoder", name := "symbols", desc := "()I" } : Jvm.MethodName) prog_1_method_8_code (1 : Nat) (Option.some Jvm.ClassFile.FieldType.int)) ∈ lw_all := lw_g (lw_at lw_m1 158 rfl) rfl
theorem q188 : (Jvm.Cond.instanceMethod ({ cls := "BlockCoder", name := "symbol", desc := "(I)I" } : Jvm.MethodName)) ∈ lw_all := lw_g (lw_at lw_m1 160 rfl) rfl
theorem q189 : (Jvm.Cond.selects "BlockCoder" ({ cls := "BlockCoder", name := "symbol", desc := "(I)I" } : Jvm.MethodName) ({ cls := "BlockCoder", name := "symbol", desc := "(I)I" } : Jvm.MethodName)) ∈ lw_all := lw_g (lw_at lw_m1 161 rfl) rfl
theorem q190 : (Jvm.Cond.code ({ cls := "BlockCoder", name := "symbol", desc := "(I)I" } : Jvm.MethodName) prog_1_method_9_code (2 : Nat) (Option.some Jvm.ClassFile.FieldType.int)) ∈ lw_all := lw_g (lw_at lw_m1 162 rfl) rfl
theorem q192 : (Jvm.Cond.instanceMethod ({ cls := "BlockCoder", name := "cost", desc := "()I" } : Jvm.MethodName)) ∈ lw_all := lw_g (lw_at lw_m1 164 rfl) rfl
theorem q193 : (Jvm.Cond.selects "BlockCoder" ({ cls := "BlockCoder", name := "cost", desc := "()I" } : Jvm.MethodName) ({ cls := "BlockCoder", name := "cost", desc := "()I" } : Jvm.MethodName)) ∈ lw_all := lw_g (lw_at lw_m1 165 rfl) rfl
theorem q194 : (Jvm.Cond.code ({ cls := "BlockCoder", name := "cost", desc := "()I" } : Jvm.MethodName) prog_1_method_10_code (1 : Nat) (Option.some Jvm.ClassFile.FieldType.int)) ∈ lw_all := lw_g (lw_at lw_m1 166 rfl) rfl
theorem q196 : (Jvm.Cond.instanceMethod ({ cls := "BlockCoder", name := "decoded", desc := "(I)I" } : Jvm.MethodName)) ∈ lw_all := lw_g (lw_at lw_m1 168 rfl) rfl
theorem q197 : (Jvm.Cond.selects "BlockCoder" ({ cls := "BlockCoder", name := "decoded", desc := "(I)I" } : Jvm.MethodName) ({ cls := "BlockCoder", name := "decoded", desc := "(I)I" } : Jvm.MethodName)) ∈ lw_all := lw_g (lw_at lw_m1 169 rfl) rfl
theorem q198 : (Jvm.Cond.code ({ cls := "BlockCoder", name := "decoded", desc := "(I)I" } : Jvm.MethodName) prog_1_method_11_code (4 : Nat) (Option.some Jvm.ClassFile.FieldType.int)) ∈ lw_all := lw_g (lw_at lw_m1 170 rfl) rfl
theorem q199 : (Jvm.Cond.methodLink "BlockCoder" (77 : Nat) ({ cls := "BlockCoder", name := "readSymbols", desc := "()I" } : Jvm.MethodName)) ∈ lw_all := lw_g (lw_at lw_m1 171 rfl) rfl
theorem q200 : (Jvm.Cond.privateMethod ({ cls := "BlockCoder", name := "readSymbols", desc := "()I" } : Jvm.MethodName)) ∈ lw_tbl := lw_at lw_m1 172 rfl
theorem q201 : (Jvm.Cond.instanceMethod ({ cls := "BlockCoder", name := "readSymbols", desc := "()I" } : Jvm.MethodName)) ∈ lw_all := lw_g (lw_at lw_m1 173 rfl) rfl
theorem q202 : (Jvm.Cond.code ({ cls := "BlockCoder", name := "readSymbols", desc := "()I" } : Jvm.MethodName) prog_1_method_28_code (6 : Nat) (Option.some Jvm.ClassFile.FieldType.int)) ∈ lw_all := lw_g (lw_at lw_m1 174 rfl) rfl
theorem q203 : (Jvm.Cond.methodLink "BlockCoder" (134 : Nat) ({ cls := "BlockCoder", name := "symbolWith", desc := "(II)I" } : Jvm.MethodName)) ∈ lw_all := lw_g (lw_at lw_m1 175 rfl) rfl
theorem q204 : (Jvm.Cond.privateMethod ({ cls := "BlockCoder", name := "symbolWith", desc := "(II)I" } : Jvm.MethodName)) ∈ lw_tbl := lw_at lw_m1 176 rfl
theorem q205 : (Jvm.Cond.instanceMethod ({ cls := "BlockCoder", name := "symbolWith", desc := "(II)I" } : Jvm.MethodName)) ∈ lw_all := lw_g (lw_at lw_m1 177 rfl) rfl
theorem q206 : (Jvm.Cond.code ({ cls := "BlockCoder", name := "symbolWith", desc := "(II)I" } : Jvm.MethodName) prog_1_method_27_code (4 : Nat) (Option.some Jvm.ClassFile.FieldType.int)) ∈ lw_all := lw_g (lw_at lw_m1 178 rfl) rfl
theorem q207 : (Jvm.Cond.methodLink "BlockCoder" (81 : Nat) ({ cls := "BlockCoder", name := "undoRuns", desc := "(I)I" } : Jvm.MethodName)) ∈ lw_all := lw_g (lw_at lw_m1 179 rfl) rfl
theorem q208 : (Jvm.Cond.privateMethod ({ cls := "BlockCoder", name := "undoRuns", desc := "(I)I" } : Jvm.MethodName)) ∈ lw_tbl := lw_at lw_m1 180 rfl
theorem q209 : (Jvm.Cond.instanceMethod ({ cls := "BlockCoder", name := "undoRuns", desc := "(I)I" } : Jvm.MethodName)) ∈ lw_all := lw_g (lw_at lw_m1 181 rfl) rfl
theorem q210 : (Jvm.Cond.code ({ cls := "BlockCoder", name := "undoRuns", desc := "(I)I" } : Jvm.MethodName) prog_1_method_29_code (8 : Nat) (Option.some Jvm.ClassFile.FieldType.int)) ∈ lw_all := lw_g (lw_at lw_m1 182 rfl) rfl
theorem q211 : (Jvm.Cond.methodLink "BlockCoder" (85 : Nat) ({ cls := "BlockCoder", name := "undoRanks", desc := "(I)V" } : Jvm.MethodName)) ∈ lw_all := lw_g (lw_at lw_m1 183 rfl) rfl
theorem q212 : (Jvm.Cond.privateMethod ({ cls := "BlockCoder", name := "undoRanks", desc := "(I)V" } : Jvm.MethodName)) ∈ lw_tbl := lw_at lw_m1 184 rfl
theorem q213 : (Jvm.Cond.instanceMethod ({ cls := "BlockCoder", name := "undoRanks", desc := "(I)V" } : Jvm.MethodName)) ∈ lw_all := lw_g (lw_at lw_m1 185 rfl) rfl
theorem q214 : (Jvm.Cond.code ({ cls := "BlockCoder", name := "undoRanks", desc := "(I)V" } : Jvm.MethodName) prog_1_method_30_code (4 : Nat) (Option.none : Option Jvm.ClassFile.FieldType)) ∈ lw_all := lw_g (lw_at lw_m1 186 rfl) rfl
theorem q215 : (Jvm.Cond.methodLink "BlockCoder" (89 : Nat) ({ cls := "BlockCoder", name := "undoSorting", desc := "(I)V" } : Jvm.MethodName)) ∈ lw_all := lw_g (lw_at lw_m1 187 rfl) rfl
theorem q216 : (Jvm.Cond.privateMethod ({ cls := "BlockCoder", name := "undoSorting", desc := "(I)V" } : Jvm.MethodName)) ∈ lw_tbl := lw_at lw_m1 188 rfl
theorem q217 : (Jvm.Cond.instanceMethod ({ cls := "BlockCoder", name := "undoSorting", desc := "(I)V" } : Jvm.MethodName)) ∈ lw_all := lw_g (lw_at lw_m1 189 rfl) rfl
theorem q218 : (Jvm.Cond.code ({ cls := "BlockCoder", name := "undoSorting", desc := "(I)V" } : Jvm.MethodName) prog_1_method_31_code (5 : Nat) (Option.none : Option Jvm.ClassFile.FieldType)) ∈ lw_all := lw_g (lw_at lw_m1 190 rfl) rfl
theorem q220 : (Jvm.Cond.instanceMethod ({ cls := "BlockCoder", name := "different", desc := "()I" } : Jvm.MethodName)) ∈ lw_all := lw_g (lw_at lw_m1 192 rfl) rfl
theorem q221 : (Jvm.Cond.selects "BlockCoder" ({ cls := "BlockCoder", name := "different", desc := "()I" } : Jvm.MethodName) ({ cls := "BlockCoder", name := "different", desc := "()I" } : Jvm.MethodName)) ∈ lw_all := lw_g (lw_at lw_m1 193 rfl) rfl
theorem q222 : (Jvm.Cond.code ({ cls := "BlockCoder", name := "different", desc := "()I" } : Jvm.MethodName) prog_1_method_12_code (4 : Nat) (Option.some Jvm.ClassFile.FieldType.int)) ∈ lw_all := lw_g (lw_at lw_m1 194 rfl) rfl
theorem in_X0 : ∀ w ∈ wsX00, w ∈ lw_all := lw_in wsX00 [59, 61, 63, 65, 67, 69, 71, 73, 75, 77, 79, 81, 83, 85, 87, 89, 91, 93, 95, 97] (by decide +kernel) (by decide +kernel)
end
section
/-! BlockCoderModel -/
set_option maxRecDepth 100000
def RX1 : String := "BlockCoderModel"
def TX1 : u_T := fun k => match k with
  | 0 => ("BlockCoderModel", "n", "I", false)
  | 1 => ("BlockCoderModel", "text", "[I", false)
  | 2 => ("BlockCoderModel", "column", "[I", false)
  | 3 => ("BlockCoderModel", "ranks", "[I", false)
  | 4 => ("BlockCoderModel", "symbols", "[I", false)
  | 5 => ("BlockCoderModel", "count", "I", false)
  | 6 => ("BlockCoderModel", "mark", "I", false)
  | 7 => ("BlockCoderModel", "row", "[I", false)
  | 8 => ("BlockCoderModel", "often", "[I", false)
  | _ => ("BlockCoderModel", "length", "[I", false)
def tyX1 : Nat → FieldType := fun k => match k with
  | 0 => .int
  | 1 => .array .int
  | 2 => .array .int
  | 3 => .array .int
  | 4 => .array .int
  | 5 => .int
  | 6 => .int
  | 7 => .array .int
  | 8 => .array .int
  | _ => .array .int
abbrev wsX10 : List Cond := u_ws RX1 TX1 10
theorem nmX1 : ∀ a, a < 10 → ∀ b, b < 10 → a ≠ b → (TX1 a).2.1 ≠ (TX1 b).2.1 := by decide +kernel
theorem tyX1_ok : ∀ k, k < 10 → parseFieldDescriptor (TX1 k).2.2.1 = some (tyX1 k) := by decide +kernel
abbrev cX1_init : ByteArray := prog_3_method_1_code
def yX1_init : MethodName := ⟨RX1, "<init>", "()V"⟩
theorem dX1_init_0 : decode cX1_init 0 = .ok (.aload_n 0, 1) := by decide +kernel
theorem dX1_init_1 : decode cX1_init 1 = .ok (.invokespecial 1, 3) := by decide +kernel
theorem dX1_init_4 : decode cX1_init 4 = .ok (.aload_n 0, 1) := by decide +kernel
theorem dX1_init_5 : decode cX1_init 5 = .ok (.iconst 0, 1) := by decide +kernel
theorem dX1_init_6 : decode cX1_init 6 = .ok (.putfield 7, 3) := by decide +kernel
theorem dX1_init_9 : decode cX1_init 9 = .ok (.aload_n 0, 1) := by decide +kernel
theorem dX1_init_10 : decode cX1_init 10 = .ok (.bipush 32, 2) := by decide +kernel
theorem dX1_init_12 : decode cX1_init 12 = .ok (.newarray .int, 2) := by decide +kernel
theorem dX1_init_14 : decode cX1_init 14 = .ok (.putfield 13, 3) := by decide +kernel
theorem dX1_init_17 : decode cX1_init 17 = .ok (.aload_n 0, 1) := by decide +kernel
theorem dX1_init_18 : decode cX1_init 18 = .ok (.bipush 32, 2) := by decide +kernel
theorem dX1_init_20 : decode cX1_init 20 = .ok (.newarray .int, 2) := by decide +kernel
theorem dX1_init_22 : decode cX1_init 22 = .ok (.putfield 17, 3) := by decide +kernel
theorem dX1_init_25 : decode cX1_init 25 = .ok (.aload_n 0, 1) := by decide +kernel
theorem dX1_init_26 : decode cX1_init 26 = .ok (.bipush 32, 2) := by decide +kernel
theorem dX1_init_28 : decode cX1_init 28 = .ok (.newarray .int, 2) := by decide +kernel
theorem dX1_init_30 : decode cX1_init 30 = .ok (.putfield 20, 3) := by decide +kernel
theorem dX1_init_33 : decode cX1_init 33 = .ok (.aload_n 0, 1) := by decide +kernel
theorem dX1_init_34 : decode cX1_init 34 = .ok (.bipush 32, 2) := by decide +kernel
theorem dX1_init_36 : decode cX1_init 36 = .ok (.newarray .int, 2) := by decide +kernel
theorem dX1_init_38 : decode cX1_init 38 = .ok (.putfield 23, 3) := by decide +kernel
theorem dX1_init_41 : decode cX1_init 41 = .ok (.aload_n 0, 1) := by decide +kernel
theorem dX1_init_42 : decode cX1_init 42 = .ok (.iconst 0, 1) := by decide +kernel
theorem dX1_init_43 : decode cX1_init 43 = .ok (.putfield 26, 3) := by decide +kernel
theorem dX1_init_46 : decode cX1_init 46 = .ok (.aload_n 0, 1) := by decide +kernel
theorem dX1_init_47 : decode cX1_init 47 = .ok (.iconst 0, 1) := by decide +kernel
theorem dX1_init_48 : decode cX1_init 48 = .ok (.putfield 29, 3) := by decide +kernel
theorem dX1_init_51 : decode cX1_init 51 = .ok (.aload_n 0, 1) := by decide +kernel
theorem dX1_init_52 : decode cX1_init 52 = .ok (.bipush 6, 2) := by decide +kernel
theorem dX1_init_54 : decode cX1_init 54 = .ok (.newarray .int, 2) := by decide +kernel
theorem dX1_init_56 : decode cX1_init 56 = .ok (.putfield 32, 3) := by decide +kernel
theorem dX1_init_59 : decode cX1_init 59 = .ok (.aload_n 0, 1) := by decide +kernel
theorem dX1_init_60 : decode cX1_init 60 = .ok (.bipush 7, 2) := by decide +kernel
theorem dX1_init_62 : decode cX1_init 62 = .ok (.newarray .int, 2) := by decide +kernel
theorem dX1_init_64 : decode cX1_init 64 = .ok (.putfield 35, 3) := by decide +kernel
theorem dX1_init_67 : decode cX1_init 67 = .ok (.aload_n 0, 1) := by decide +kernel
theorem dX1_init_68 : decode cX1_init 68 = .ok (.bipush 7, 2) := by decide +kernel
theorem dX1_init_70 : decode cX1_init 70 = .ok (.newarray .int, 2) := by decide +kernel
theorem dX1_init_72 : decode cX1_init 72 = .ok (.putfield 38, 3) := by decide +kernel
theorem dX1_init_75 : decode cX1_init 75 = .ok (.return_, 1) := by decide +kernel
abbrev cX1_type : ByteArray := prog_3_method_2_code
def yX1_type : MethodName := ⟨RX1, "type", "(I)I"⟩
theorem dX1_type_0 : decode cX1_type 0 = .ok (.aload_n 0, 1) := by decide +kernel
theorem dX1_type_1 : decode cX1_type 1 = .ok (.getfield 7, 3) := by decide +kernel
theorem dX1_type_4 : decode cX1_type 4 = .ok (.bipush 32, 2) := by decide +kernel
theorem dX1_type_6 : decode cX1_type 6 = .ok (.if_icmp .ne 6, 3) := by decide +kernel
theorem dX1_type_9 : decode cX1_type 9 = .ok (.bipush (-2), 2) := by decide +kernel
theorem dX1_type_11 : decode cX1_type 11 = .ok (.ireturn, 1) := by decide +kernel
theorem dX1_type_12 : decode cX1_type 12 = .ok (.iload_n 1, 1) := by decide +kernel
theorem dX1_type_13 : decode cX1_type 13 = .ok (.ifCond .lt 8, 3) := by decide +kernel
theorem dX1_type_16 : decode cX1_type 16 = .ok (.iload_n 1, 1) := by decide +kernel
theorem dX1_type_17 : decode cX1_type 17 = .ok (.iconst 5, 1) := by decide +kernel
theorem dX1_type_18 : decode cX1_type 18 = .ok (.if_icmp .le 5, 3) := by decide +kernel
theorem dX1_type_21 : decode cX1_type 21 = .ok (.iconst (-1), 1) := by decide +kernel
theorem dX1_type_22 : decode cX1_type 22 = .ok (.ireturn, 1) := by decide +kernel
theorem dX1_type_23 : decode cX1_type 23 = .ok (.aload_n 0, 1) := by decide +kernel
theorem dX1_type_24 : decode cX1_type 24 = .ok (.getfield 13, 3) := by decide +kernel
theorem dX1_type_27 : decode cX1_type 27 = .ok (.aload_n 0, 1) := by decide +kernel
theorem dX1_type_28 : decode cX1_type 28 = .ok (.getfield 7, 3) := by decide +kernel
theorem dX1_type_31 : decode cX1_type 31 = .ok (.iload_n 1, 1) := by decide +kernel
theorem dX1_type_32 : decode cX1_type 32 = .ok (.iastore, 1) := by decide +kernel
theorem dX1_type_33 : decode cX1_type 33 = .ok (.aload_n 0, 1) := by decide +kernel
theorem dX1_type_34 : decode cX1_type 34 = .ok (.dup, 1) := by decide +kernel
theorem dX1_type_35 : decode cX1_type 35 = .ok (.getfield 7, 3) := by decide +kernel
theorem dX1_type_38 : decode cX1_type 38 = .ok (.iconst 1, 1) := by decide +kernel
theorem dX1_type_39 : decode cX1_type 39 = .ok (.iadd, 1) := by decide +kernel
theorem dX1_type_40 : decode cX1_type 40 = .ok (.putfield 7, 3) := by decide +kernel
theorem dX1_type_43 : decode cX1_type 43 = .ok (.aload_n 0, 1) := by decide +kernel
theorem dX1_type_44 : decode cX1_type 44 = .ok (.getfield 7, 3) := by decide +kernel
theorem dX1_type_47 : decode cX1_type 47 = .ok (.ireturn, 1) := by decide +kernel
abbrev cX1_repeat : ByteArray := prog_3_method_3_code
def yX1_repeat : MethodName := ⟨RX1, "repeat", "(I)I"⟩
theorem dX1_repeat_0 : decode cX1_repeat 0 = .ok (.iload_n 1, 1) := by decide +kernel
theorem dX1_repeat_1 : decode cX1_repeat 1 = .ok (.iconst 1, 1) := by decide +kernel
theorem dX1_repeat_2 : decode cX1_repeat 2 = .ok (.if_icmp .lt 11, 3) := by decide +kernel
theorem dX1_repeat_5 : decode cX1_repeat 5 = .ok (.iload_n 1, 1) := by decide +kernel
theorem dX1_repeat_6 : decode cX1_repeat 6 = .ok (.aload_n 0, 1) := by decide +kernel
theorem dX1_repeat_7 : decode cX1_repeat 7 = .ok (.getfield 7, 3) := by decide +kernel
theorem dX1_repeat_10 : decode cX1_repeat 10 = .ok (.if_icmp .le 5, 3) := by decide +kernel
theorem dX1_repeat_13 : decode cX1_repeat 13 = .ok (.iconst (-1), 1) := by decide +kernel
theorem dX1_repeat_14 : decode cX1_repeat 14 = .ok (.ireturn, 1) := by decide +kernel
theorem dX1_repeat_15 : decode cX1_repeat 15 = .ok (.aload_n 0, 1) := by decide +kernel
theorem dX1_repeat_16 : decode cX1_repeat 16 = .ok (.getfield 7, 3) := by decide +kernel
theorem dX1_repeat_19 : decode cX1_repeat 19 = .ok (.iload_n 1, 1) := by decide +kernel
theorem dX1_repeat_20 : decode cX1_repeat 20 = .ok (.iadd, 1) := by decide +kernel
theorem dX1_repeat_21 : decode cX1_repeat 21 = .ok (.bipush 32, 2) := by decide +kernel
theorem dX1_repeat_23 : decode cX1_repeat 23 = .ok (.if_icmp .le 6, 3) := by decide +kernel
theorem dX1_repeat_26 : decode cX1_repeat 26 = .ok (.bipush (-2), 2) := by decide +kernel
theorem dX1_repeat_28 : decode cX1_repeat 28 = .ok (.ireturn, 1) := by decide +kernel
theorem dX1_repeat_29 : decode cX1_repeat 29 = .ok (.iconst 0, 1) := by decide +kernel
theorem dX1_repeat_30 : decode cX1_repeat 30 = .ok (.istore_n 2, 1) := by decide +kernel
theorem dX1_repeat_31 : decode cX1_repeat 31 = .ok (.iload_n 2, 1) := by decide +kernel
theorem dX1_repeat_32 : decode cX1_repeat 32 = .ok (.iload_n 1, 1) := by decide +kernel
theorem dX1_repeat_33 : decode cX1_repeat 33 = .ok (.if_icmp .ge 33, 3) := by decide +kernel
theorem dX1_repeat_36 : decode cX1_repeat 36 = .ok (.aload_n 0, 1) := by decide +kernel
theorem dX1_repeat_37 : decode cX1_repeat 37 = .ok (.getfield 13, 3) := by decide +kernel
theorem dX1_repeat_40 : decode cX1_repeat 40 = .ok (.aload_n 0, 1) := by decide +kernel
theorem dX1_repeat_41 : decode cX1_repeat 41 = .ok (.getfield 7, 3) := by decide +kernel
theorem dX1_repeat_44 : decode cX1_repeat 44 = .ok (.iload_n 2, 1) := by decide +kernel
theorem dX1_repeat_45 : decode cX1_repeat 45 = .ok (.iadd, 1) := by decide +kernel
theorem dX1_repeat_46 : decode cX1_repeat 46 = .ok (.aload_n 0, 1) := by decide +kernel
theorem dX1_repeat_47 : decode cX1_repeat 47 = .ok (.getfield 13, 3) := by decide +kernel
theorem dX1_repeat_50 : decode cX1_repeat 50 = .ok (.aload_n 0, 1) := by decide +kernel
theorem dX1_repeat_51 : decode cX1_repeat 51 = .ok (.getfield 7, 3) := by decide +kernel
theorem dX1_repeat_54 : decode cX1_repeat 54 = .ok (.iload_n 2, 1) := by decide +kernel
theorem dX1_repeat_55 : decode cX1_repeat 55 = .ok (.iadd, 1) := by decide +kernel
theorem dX1_repeat_56 : decode cX1_repeat 56 = .ok (.iload_n 1, 1) := by decide +kernel
theorem dX1_repeat_57 : decode cX1_repeat 57 = .ok (.isub, 1) := by decide +kernel
theorem dX1_repeat_58 : decode cX1_repeat 58 = .ok (.iaload, 1) := by decide +kernel
theorem dX1_repeat_59 : decode cX1_repeat 59 = .ok (.iastore, 1) := by decide +kernel
theorem dX1_repeat_60 : decode cX1_repeat 60 = .ok (.iinc 2 1, 3) := by decide +kernel
theorem dX1_repeat_63 : decode cX1_repeat 63 = .ok (.goto (-32), 3) := by decide +kernel
theorem dX1_repeat_66 : decode cX1_repeat 66 = .ok (.aload_n 0, 1) := by decide +kernel
theorem dX1_repeat_67 : decode cX1_repeat 67 = .ok (.dup, 1) := by decide +kernel
theorem dX1_repeat_68 : decode cX1_repeat 68 = .ok (.getfield 7, 3) := by decide +kernel
theorem dX1_repeat_71 : decode cX1_repeat 71 = .ok (.iload_n 1, 1) := by decide +kernel
theorem dX1_repeat_72 : decode cX1_repeat 72 = .ok (.iadd, 1) := by decide +kernel
theorem dX1_repeat_73 : decode cX1_repeat 73 = .ok (.putfield 7, 3) := by decide +kernel
theorem dX1_repeat_76 : decode cX1_repeat 76 = .ok (.aload_n 0, 1) := by decide +kernel
theorem dX1_repeat_77 : decode cX1_repeat 77 = .ok (.getfield 7, 3) := by decide +kernel
theorem dX1_repeat_80 : decode cX1_repeat 80 = .ok (.ireturn, 1) := by decide +kernel
abbrev cX1_clear : ByteArray := prog_3_method_4_code
def yX1_clear : MethodName := ⟨RX1, "clear", "()I"⟩
theorem dX1_clear_0 : decode cX1_clear 0 = .ok (.aload_n 0, 1) := by decide +kernel
theorem dX1_clear_1 : decode cX1_clear 1 = .ok (.getfield 7, 3) := by decide +kernel
theorem dX1_clear_4 : decode cX1_clear 4 = .ok (.istore_n 1, 1) := by decide +kernel
theorem dX1_clear_5 : decode cX1_clear 5 = .ok (.aload_n 0, 1) := by decide +kernel
theorem dX1_clear_6 : decode cX1_clear 6 = .ok (.iconst 0, 1) := by decide +kernel
theorem dX1_clear_7 : decode cX1_clear 7 = .ok (.putfield 7, 3) := by decide +kernel
theorem dX1_clear_10 : decode cX1_clear 10 = .ok (.iload_n 1, 1) := by decide +kernel
theorem dX1_clear_11 : decode cX1_clear 11 = .ok (.ireturn, 1) := by decide +kernel
abbrev cX1_column : ByteArray := prog_3_method_11_code
def yX1_column : MethodName := ⟨RX1, "column", "(I)I"⟩
theorem dX1_column_0 : decode cX1_column 0 = .ok (.aload_n 0, 1) := by decide +kernel
theorem dX1_column_1 : decode cX1_column 1 = .ok (.invokevirtual 58, 3) := by decide +kernel
theorem dX1_column_4 : decode cX1_column 4 = .ok (.iload_n 1, 1) := by decide +kernel
theorem dX1_column_5 : decode cX1_column 5 = .ok (.ifCond .lt 20, 3) := by decide +kernel
theorem dX1_column_8 : decode cX1_column 8 = .ok (.iload_n 1, 1) := by decide +kernel
theorem dX1_column_9 : decode cX1_column 9 = .ok (.aload_n 0, 1) := by decide +kernel
theorem dX1_column_10 : decode cX1_column 10 = .ok (.getfield 7, 3) := by decide +kernel
theorem dX1_column_13 : decode cX1_column 13 = .ok (.if_icmp .ge 12, 3) := by decide +kernel
theorem dX1_column_16 : decode cX1_column 16 = .ok (.aload_n 0, 1) := by decide +kernel
theorem dX1_column_17 : decode cX1_column 17 = .ok (.getfield 17, 3) := by decide +kernel
theorem dX1_column_20 : decode cX1_column 20 = .ok (.iload_n 1, 1) := by decide +kernel
theorem dX1_column_21 : decode cX1_column 21 = .ok (.iaload, 1) := by decide +kernel
theorem dX1_column_22 : decode cX1_column 22 = .ok (.goto 5, 3) := by decide +kernel
theorem dX1_column_25 : decode cX1_column 25 = .ok (.bipush (-3), 2) := by decide +kernel
theorem dX1_column_27 : decode cX1_column 27 = .ok (.ireturn, 1) := by decide +kernel
abbrev cX1_encode : ByteArray := prog_3_method_10_code
def yX1_encode : MethodName := ⟨RX1, "encode", "()V"⟩
theorem dX1_encode_0 : decode cX1_encode 0 = .ok (.aload_n 0, 1) := by decide +kernel
theorem dX1_encode_1 : decode cX1_encode 1 = .ok (.invokevirtual 49, 3) := by decide +kernel
theorem dX1_encode_4 : decode cX1_encode 4 = .ok (.aload_n 0, 1) := by decide +kernel
theorem dX1_encode_5 : decode cX1_encode 5 = .ok (.invokevirtual 52, 3) := by decide +kernel
theorem dX1_encode_8 : decode cX1_encode 8 = .ok (.aload_n 0, 1) := by decide +kernel
theorem dX1_encode_9 : decode cX1_encode 9 = .ok (.iconst 0, 1) := by decide +kernel
theorem dX1_encode_10 : decode cX1_encode 10 = .ok (.putfield 26, 3) := by decide +kernel
theorem dX1_encode_13 : decode cX1_encode 13 = .ok (.iconst 0, 1) := by decide +kernel
theorem dX1_encode_14 : decode cX1_encode 14 = .ok (.istore_n 1, 1) := by decide +kernel
theorem dX1_encode_15 : decode cX1_encode 15 = .ok (.iconst 0, 1) := by decide +kernel
theorem dX1_encode_16 : decode cX1_encode 16 = .ok (.istore_n 2, 1) := by decide +kernel
theorem dX1_encode_17 : decode cX1_encode 17 = .ok (.iload_n 2, 1) := by decide +kernel
theorem dX1_encode_18 : decode cX1_encode 18 = .ok (.aload_n 0, 1) := by decide +kernel
theorem dX1_encode_19 : decode cX1_encode 19 = .ok (.getfield 7, 3) := by decide +kernel
theorem dX1_encode_22 : decode cX1_encode 22 = .ok (.if_icmp .ge 43, 3) := by decide +kernel
theorem dX1_encode_25 : decode cX1_encode 25 = .ok (.aload_n 0, 1) := by decide +kernel
theorem dX1_encode_26 : decode cX1_encode 26 = .ok (.getfield 20, 3) := by decide +kernel
theorem dX1_encode_29 : decode cX1_encode 29 = .ok (.iload_n 2, 1) := by decide +kernel
theorem dX1_encode_30 : decode cX1_encode 30 = .ok (.iaload, 1) := by decide +kernel
theorem dX1_encode_31 : decode cX1_encode 31 = .ok (.ifCond .ne 9, 3) := by decide +kernel
theorem dX1_encode_34 : decode cX1_encode 34 = .ok (.iinc 1 1, 3) := by decide +kernel
theorem dX1_encode_37 : decode cX1_encode 37 = .ok (.goto 22, 3) := by decide +kernel
theorem dX1_encode_40 : decode cX1_encode 40 = .ok (.aload_n 0, 1) := by decide +kernel
theorem dX1_encode_41 : decode cX1_encode 41 = .ok (.iload_n 1, 1) := by decide +kernel
theorem dX1_encode_42 : decode cX1_encode 42 = .ok (.invokevirtual 55, 3) := by decide +kernel
theorem dX1_encode_45 : decode cX1_encode 45 = .ok (.iconst 0, 1) := by decide +kernel
theorem dX1_encode_46 : decode cX1_encode 46 = .ok (.istore_n 1, 1) := by decide +kernel
theorem dX1_encode_47 : decode cX1_encode 47 = .ok (.aload_n 0, 1) := by decide +kernel
theorem dX1_encode_48 : decode cX1_encode 48 = .ok (.aload_n 0, 1) := by decide +kernel
theorem dX1_encode_49 : decode cX1_encode 49 = .ok (.getfield 20, 3) := by decide +kernel
theorem dX1_encode_52 : decode cX1_encode 52 = .ok (.iload_n 2, 1) := by decide +kernel
theorem dX1_encode_53 : decode cX1_encode 53 = .ok (.iaload, 1) := by decide +kernel
theorem dX1_encode_54 : decode cX1_encode 54 = .ok (.iconst 1, 1) := by decide +kernel
theorem dX1_encode_55 : decode cX1_encode 55 = .ok (.iadd, 1) := by decide +kernel
theorem dX1_encode_56 : decode cX1_encode 56 = .ok (.invokevirtual 45, 3) := by decide +kernel
theorem dX1_encode_59 : decode cX1_encode 59 = .ok (.iinc 2 1, 3) := by decide +kernel
theorem dX1_encode_62 : decode cX1_encode 62 = .ok (.goto (-45), 3) := by decide +kernel
theorem dX1_encode_65 : decode cX1_encode 65 = .ok (.aload_n 0, 1) := by decide +kernel
theorem dX1_encode_66 : decode cX1_encode 66 = .ok (.iload_n 1, 1) := by decide +kernel
theorem dX1_encode_67 : decode cX1_encode 67 = .ok (.invokevirtual 55, 3) := by decide +kernel
theorem dX1_encode_70 : decode cX1_encode 70 = .ok (.return_, 1) := by decide +kernel
abbrev cX1_sort : ByteArray := prog_3_method_6_code
def yX1_sort : MethodName := ⟨RX1, "sort", "()V"⟩
theorem dX1_sort_0 : decode cX1_sort 0 = .ok (.iconst 0, 1) := by decide +kernel
theorem dX1_sort_1 : decode cX1_sort 1 = .ok (.istore_n 1, 1) := by decide +kernel
theorem dX1_sort_2 : decode cX1_sort 2 = .ok (.iload_n 1, 1) := by decide +kernel
theorem dX1_sort_3 : decode cX1_sort 3 = .ok (.aload_n 0, 1) := by decide +kernel
theorem dX1_sort_4 : decode cX1_sort 4 = .ok (.getfield 7, 3) := by decide +kernel
theorem dX1_sort_7 : decode cX1_sort 7 = .ok (.if_icmp .ge 80, 3) := by decide +kernel
theorem dX1_sort_10 : decode cX1_sort 10 = .ok (.iconst 0, 1) := by decide +kernel
theorem dX1_sort_11 : decode cX1_sort 11 = .ok (.istore_n 2, 1) := by decide +kernel
theorem dX1_sort_12 : decode cX1_sort 12 = .ok (.iconst 0, 1) := by decide +kernel
theorem dX1_sort_13 : decode cX1_sort 13 = .ok (.istore_n 3, 1) := by decide +kernel
theorem dX1_sort_14 : decode cX1_sort 14 = .ok (.iload_n 3, 1) := by decide +kernel
theorem dX1_sort_15 : decode cX1_sort 15 = .ok (.aload_n 0, 1) := by decide +kernel
theorem dX1_sort_16 : decode cX1_sort 16 = .ok (.getfield 7, 3) := by decide +kernel
theorem dX1_sort_19 : decode cX1_sort 19 = .ok (.if_icmp .ge 26, 3) := by decide +kernel
theorem dX1_sort_22 : decode cX1_sort 22 = .ok (.iload_n 3, 1) := by decide +kernel
theorem dX1_sort_23 : decode cX1_sort 23 = .ok (.iload_n 1, 1) := by decide +kernel
theorem dX1_sort_24 : decode cX1_sort 24 = .ok (.if_icmp .eq 15, 3) := by decide +kernel
theorem dX1_sort_27 : decode cX1_sort 27 = .ok (.aload_n 0, 1) := by decide +kernel
theorem dX1_sort_28 : decode cX1_sort 28 = .ok (.iload_n 3, 1) := by decide +kernel
theorem dX1_sort_29 : decode cX1_sort 29 = .ok (.iload_n 1, 1) := by decide +kernel
theorem dX1_sort_30 : decode cX1_sort 30 = .ok (.invokevirtual 41, 3) := by decide +kernel
theorem dX1_sort_33 : decode cX1_sort 33 = .ok (.ifCond .eq 6, 3) := by decide +kernel
theorem dX1_sort_36 : decode cX1_sort 36 = .ok (.iinc 2 1, 3) := by decide +kernel
theorem dX1_sort_39 : decode cX1_sort 39 = .ok (.iinc 3 1, 3) := by decide +kernel
theorem dX1_sort_42 : decode cX1_sort 42 = .ok (.goto (-28), 3) := by decide +kernel
theorem dX1_sort_45 : decode cX1_sort 45 = .ok (.aload_n 0, 1) := by decide +kernel
theorem dX1_sort_46 : decode cX1_sort 46 = .ok (.getfield 17, 3) := by decide +kernel
theorem dX1_sort_49 : decode cX1_sort 49 = .ok (.iload_n 2, 1) := by decide +kernel
theorem dX1_sort_50 : decode cX1_sort 50 = .ok (.aload_n 0, 1) := by decide +kernel
theorem dX1_sort_51 : decode cX1_sort 51 = .ok (.getfield 13, 3) := by decide +kernel
theorem dX1_sort_54 : decode cX1_sort 54 = .ok (.iload_n 1, 1) := by decide +kernel
theorem dX1_sort_55 : decode cX1_sort 55 = .ok (.ifCond .ne 12, 3) := by decide +kernel
theorem dX1_sort_58 : decode cX1_sort 58 = .ok (.aload_n 0, 1) := by decide +kernel
theorem dX1_sort_59 : decode cX1_sort 59 = .ok (.getfield 7, 3) := by decide +kernel
theorem dX1_sort_62 : decode cX1_sort 62 = .ok (.iconst 1, 1) := by decide +kernel
theorem dX1_sort_63 : decode cX1_sort 63 = .ok (.isub, 1) := by decide +kernel
theorem dX1_sort_64 : decode cX1_sort 64 = .ok (.goto 6, 3) := by decide +kernel
theorem dX1_sort_67 : decode cX1_sort 67 = .ok (.iload_n 1, 1) := by decide +kernel
theorem dX1_sort_68 : decode cX1_sort 68 = .ok (.iconst 1, 1) := by decide +kernel
theorem dX1_sort_69 : decode cX1_sort 69 = .ok (.isub, 1) := by decide +kernel
theorem dX1_sort_70 : decode cX1_sort 70 = .ok (.iaload, 1) := by decide +kernel
theorem dX1_sort_71 : decode cX1_sort 71 = .ok (.iastore, 1) := by decide +kernel
theorem dX1_sort_72 : decode cX1_sort 72 = .ok (.iload_n 1, 1) := by decide +kernel
theorem dX1_sort_73 : decode cX1_sort 73 = .ok (.ifCond .ne 8, 3) := by decide +kernel
theorem dX1_sort_76 : decode cX1_sort 76 = .ok (.aload_n 0, 1) := by decide +kernel
theorem dX1_sort_77 : decode cX1_sort 77 = .ok (.iload_n 2, 1) := by decide +kernel
theorem dX1_sort_78 : decode cX1_sort 78 = .ok (.putfield 29, 3) := by decide +kernel
theorem dX1_sort_81 : decode cX1_sort 81 = .ok (.iinc 1 1, 3) := by decide +kernel
theorem dX1_sort_84 : decode cX1_sort 84 = .ok (.goto (-82), 3) := by decide +kernel
theorem dX1_sort_87 : decode cX1_sort 87 = .ok (.return_, 1) := by decide +kernel
abbrev cX1_before : ByteArray := prog_3_method_5_code
def yX1_before : MethodName := ⟨RX1, "before", "(II)Z"⟩
theorem dX1_before_0 : decode cX1_before 0 = .ok (.iconst 0, 1) := by decide +kernel
theorem dX1_before_1 : decode cX1_before 1 = .ok (.istore_n 3, 1) := by decide +kernel
theorem dX1_before_2 : decode cX1_before 2 = .ok (.iload_n 3, 1) := by decide +kernel
theorem dX1_before_3 : decode cX1_before 3 = .ok (.aload_n 0, 1) := by decide +kernel
theorem dX1_before_4 : decode cX1_before 4 = .ok (.getfield 7, 3) := by decide +kernel
theorem dX1_before_7 : decode cX1_before 7 = .ok (.if_icmp .ge 97, 3) := by decide +kernel
theorem dX1_before_10 : decode cX1_before 10 = .ok (.aload_n 0, 1) := by decide +kernel
theorem dX1_before_11 : decode cX1_before 11 = .ok (.getfield 13, 3) := by decide +kernel
theorem dX1_before_14 : decode cX1_before 14 = .ok (.iload_n 1, 1) := by decide +kernel
theorem dX1_before_15 : decode cX1_before 15 = .ok (.iload_n 3, 1) := by decide +kernel
theorem dX1_before_16 : decode cX1_before 16 = .ok (.iadd, 1) := by decide +kernel
theorem dX1_before_17 : decode cX1_before 17 = .ok (.aload_n 0, 1) := by decide +kernel
theorem dX1_before_18 : decode cX1_before 18 = .ok (.getfield 7, 3) := by decide +kernel
theorem dX1_before_21 : decode cX1_before 21 = .ok (.if_icmp .ge 9, 3) := by decide +kernel
theorem dX1_before_24 : decode cX1_before 24 = .ok (.iload_n 1, 1) := by decide +kernel
theorem dX1_before_25 : decode cX1_before 25 = .ok (.iload_n 3, 1) := by decide +kernel
theorem dX1_before_26 : decode cX1_before 26 = .ok (.iadd, 1) := by decide +kernel
theorem dX1_before_27 : decode cX1_before 27 = .ok (.goto 14, 3) := by decide +kernel
theorem dX1_before_30 : decode cX1_before 30 = .ok (.iload_n 1, 1) := by decide +kernel
theorem dX1_before_31 : decode cX1_before 31 = .ok (.iload_n 3, 1) := by decide +kernel
theorem dX1_before_32 : decode cX1_before 32 = .ok (.iadd, 1) := by decide +kernel
theorem dX1_before_33 : decode cX1_before 33 = .ok (.aload_n 0, 1) := by decide +kernel
theorem dX1_before_34 : decode cX1_before 34 = .ok (.getfield 7, 3) := by decide +kernel
theorem dX1_before_37 : decode cX1_before 37 = .ok (.isub, 1) := by decide +kernel
theorem dX1_before_38 : decode cX1_before 38 = .ok (.bipush 31, 2) := by decide +kernel
theorem dX1_before_40 : decode cX1_before 40 = .ok (.iand, 1) := by decide +kernel
theorem dX1_before_41 : decode cX1_before 41 = .ok (.iaload, 1) := by decide +kernel
theorem dX1_before_42 : decode cX1_before 42 = .ok (.istore 4, 2) := by decide +kernel
theorem dX1_before_44 : decode cX1_before 44 = .ok (.aload_n 0, 1) := by decide +kernel
theorem dX1_before_45 : decode cX1_before 45 = .ok (.getfield 13, 3) := by decide +kernel
theorem dX1_before_48 : decode cX1_before 48 = .ok (.iload_n 2, 1) := by decide +kernel
theorem dX1_before_49 : decode cX1_before 49 = .ok (.iload_n 3, 1) := by decide +kernel
theorem dX1_before_50 : decode cX1_before 50 = .ok (.iadd, 1) := by decide +kernel
theorem dX1_before_51 : decode cX1_before 51 = .ok (.aload_n 0, 1) := by decide +kernel
theorem dX1_before_52 : decode cX1_before 52 = .ok (.getfield 7, 3) := by decide +kernel
theorem dX1_before_55 : decode cX1_before 55 = .ok (.if_icmp .ge 9, 3) := by decide +kernel
theorem dX1_before_58 : decode cX1_before 58 = .ok (.iload_n 2, 1) := by decide +kernel
theorem dX1_before_59 : decode cX1_before 59 = .ok (.iload_n 3, 1) := by decide +kernel
theorem dX1_before_60 : decode cX1_before 60 = .ok (.iadd, 1) := by decide +kernel
theorem dX1_before_61 : decode cX1_before 61 = .ok (.goto 14, 3) := by decide +kernel
theorem dX1_before_64 : decode cX1_before 64 = .ok (.iload_n 2, 1) := by decide +kernel
theorem dX1_before_65 : decode cX1_before 65 = .ok (.iload_n 3, 1) := by decide +kernel
theorem dX1_before_66 : decode cX1_before 66 = .ok (.iadd, 1) := by decide +kernel
theorem dX1_before_67 : decode cX1_before 67 = .ok (.aload_n 0, 1) := by decide +kernel
theorem dX1_before_68 : decode cX1_before 68 = .ok (.getfield 7, 3) := by decide +kernel
theorem dX1_before_71 : decode cX1_before 71 = .ok (.isub, 1) := by decide +kernel
theorem dX1_before_72 : decode cX1_before 72 = .ok (.bipush 31, 2) := by decide +kernel
theorem dX1_before_74 : decode cX1_before 74 = .ok (.iand, 1) := by decide +kernel
theorem dX1_before_75 : decode cX1_before 75 = .ok (.iaload, 1) := by decide +kernel
theorem dX1_before_76 : decode cX1_before 76 = .ok (.istore 5, 2) := by decide +kernel
theorem dX1_before_78 : decode cX1_before 78 = .ok (.iload 4, 2) := by decide +kernel
theorem dX1_before_80 : decode cX1_before 80 = .ok (.iload 5, 2) := by decide +kernel
theorem dX1_before_82 : decode cX1_before 82 = .ok (.if_icmp .eq 16, 3) := by decide +kernel
theorem dX1_before_85 : decode cX1_before 85 = .ok (.iload 4, 2) := by decide +kernel
theorem dX1_before_87 : decode cX1_before 87 = .ok (.iload 5, 2) := by decide +kernel
theorem dX1_before_89 : decode cX1_before 89 = .ok (.if_icmp .ge 7, 3) := by decide +kernel
theorem dX1_before_92 : decode cX1_before 92 = .ok (.iconst 1, 1) := by decide +kernel
theorem dX1_before_93 : decode cX1_before 93 = .ok (.goto 4, 3) := by decide +kernel
theorem dX1_before_96 : decode cX1_before 96 = .ok (.iconst 0, 1) := by decide +kernel
theorem dX1_before_97 : decode cX1_before 97 = .ok (.ireturn, 1) := by decide +kernel
theorem dX1_before_98 : decode cX1_before 98 = .ok (.iinc 3 1, 3) := by decide +kernel
theorem dX1_before_101 : decode cX1_before 101 = .ok (.goto (-99), 3) := by decide +kernel
theorem dX1_before_104 : decode cX1_before 104 = .ok (.iload_n 1, 1) := by decide +kernel
theorem dX1_before_105 : decode cX1_before 105 = .ok (.iload_n 2, 1) := by decide +kernel
theorem dX1_before_106 : decode cX1_before 106 = .ok (.if_icmp .ge 7, 3) := by decide +kernel
theorem dX1_before_109 : decode cX1_before 109 = .ok (.iconst 1, 1) := by decide +kernel
theorem dX1_before_110 : decode cX1_before 110 = .ok (.goto 4, 3) := by decide +kernel
theorem dX1_before_113 : decode cX1_before 113 = .ok (.iconst 0, 1) := by decide +kernel
theorem dX1_before_114 : decode cX1_before 114 = .ok (.ireturn, 1) := by decide +kernel
abbrev cX1_rankAll : ByteArray := prog_3_method_7_code
def yX1_rankAll : MethodName := ⟨RX1, "rankAll", "()V"⟩
theorem dX1_rankAll_0 : decode cX1_rankAll 0 = .ok (.iconst 0, 1) := by decide +kernel
theorem dX1_rankAll_1 : decode cX1_rankAll 1 = .ok (.istore_n 1, 1) := by decide +kernel
theorem dX1_rankAll_2 : decode cX1_rankAll 2 = .ok (.iload_n 1, 1) := by decide +kernel
theorem dX1_rankAll_3 : decode cX1_rankAll 3 = .ok (.bipush 6, 2) := by decide +kernel
theorem dX1_rankAll_5 : decode cX1_rankAll 5 = .ok (.if_icmp .ge 16, 3) := by decide +kernel
theorem dX1_rankAll_8 : decode cX1_rankAll 8 = .ok (.aload_n 0, 1) := by decide +kernel
theorem dX1_rankAll_9 : decode cX1_rankAll 9 = .ok (.getfield 32, 3) := by decide +kernel
theorem dX1_rankAll_12 : decode cX1_rankAll 12 = .ok (.iload_n 1, 1) := by decide +kernel
theorem dX1_rankAll_13 : decode cX1_rankAll 13 = .ok (.iload_n 1, 1) := by decide +kernel
theorem dX1_rankAll_14 : decode cX1_rankAll 14 = .ok (.iastore, 1) := by decide +kernel
theorem dX1_rankAll_15 : decode cX1_rankAll 15 = .ok (.iinc 1 1, 3) := by decide +kernel
theorem dX1_rankAll_18 : decode cX1_rankAll 18 = .ok (.goto (-16), 3) := by decide +kernel
theorem dX1_rankAll_21 : decode cX1_rankAll 21 = .ok (.iconst 0, 1) := by decide +kernel
theorem dX1_rankAll_22 : decode cX1_rankAll 22 = .ok (.istore_n 1, 1) := by decide +kernel
theorem dX1_rankAll_23 : decode cX1_rankAll 23 = .ok (.iload_n 1, 1) := by decide +kernel
theorem dX1_rankAll_24 : decode cX1_rankAll 24 = .ok (.aload_n 0, 1) := by decide +kernel
theorem dX1_rankAll_25 : decode cX1_rankAll 25 = .ok (.getfield 7, 3) := by decide +kernel
theorem dX1_rankAll_28 : decode cX1_rankAll 28 = .ok (.if_icmp .ge 92, 3) := by decide +kernel
theorem dX1_rankAll_31 : decode cX1_rankAll 31 = .ok (.iconst 0, 1) := by decide +kernel
theorem dX1_rankAll_32 : decode cX1_rankAll 32 = .ok (.istore_n 2, 1) := by decide +kernel
theorem dX1_rankAll_33 : decode cX1_rankAll 33 = .ok (.iconst 0, 1) := by decide +kernel
theorem dX1_rankAll_34 : decode cX1_rankAll 34 = .ok (.istore_n 3, 1) := by decide +kernel
theorem dX1_rankAll_35 : decode cX1_rankAll 35 = .ok (.iload_n 3, 1) := by decide +kernel
theorem dX1_rankAll_36 : decode cX1_rankAll 36 = .ok (.bipush 6, 2) := by decide +kernel
theorem dX1_rankAll_38 : decode cX1_rankAll 38 = .ok (.if_icmp .ge 26, 3) := by decide +kernel
theorem dX1_rankAll_41 : decode cX1_rankAll 41 = .ok (.aload_n 0, 1) := by decide +kernel
theorem dX1_rankAll_42 : decode cX1_rankAll 42 = .ok (.getfield 32, 3) := by decide +kernel
theorem dX1_rankAll_45 : decode cX1_rankAll 45 = .ok (.iload_n 3, 1) := by decide +kernel
theorem dX1_rankAll_46 : decode cX1_rankAll 46 = .ok (.iaload, 1) := by decide +kernel
theorem dX1_rankAll_47 : decode cX1_rankAll 47 = .ok (.aload_n 0, 1) := by decide +kernel
theorem dX1_rankAll_48 : decode cX1_rankAll 48 = .ok (.getfield 17, 3) := by decide +kernel
theorem dX1_rankAll_51 : decode cX1_rankAll 51 = .ok (.iload_n 1, 1) := by decide +kernel
theorem dX1_rankAll_52 : decode cX1_rankAll 52 = .ok (.iaload, 1) := by decide +kernel
theorem dX1_rankAll_53 : decode cX1_rankAll 53 = .ok (.if_icmp .ne 5, 3) := by decide +kernel
theorem dX1_rankAll_56 : decode cX1_rankAll 56 = .ok (.iload_n 3, 1) := by decide +kernel
theorem dX1_rankAll_57 : decode cX1_rankAll 57 = .ok (.istore_n 2, 1) := by decide +kernel
theorem dX1_rankAll_58 : decode cX1_rankAll 58 = .ok (.iinc 3 1, 3) := by decide +kernel
theorem dX1_rankAll_61 : decode cX1_rankAll 61 = .ok (.goto (-26), 3) := by decide +kernel
theorem dX1_rankAll_64 : decode cX1_rankAll 64 = .ok (.aload_n 0, 1) := by decide +kernel
theorem dX1_rankAll_65 : decode cX1_rankAll 65 = .ok (.getfield 20, 3) := by decide +kernel
theorem dX1_rankAll_68 : decode cX1_rankAll 68 = .ok (.iload_n 1, 1) := by decide +kernel
theorem dX1_rankAll_69 : decode cX1_rankAll 69 = .ok (.iload_n 2, 1) := by decide +kernel
theorem dX1_rankAll_70 : decode cX1_rankAll 70 = .ok (.iastore, 1) := by decide +kernel
theorem dX1_rankAll_71 : decode cX1_rankAll 71 = .ok (.iconst 5, 1) := by decide +kernel
theorem dX1_rankAll_72 : decode cX1_rankAll 72 = .ok (.istore_n 3, 1) := by decide +kernel
theorem dX1_rankAll_73 : decode cX1_rankAll 73 = .ok (.iload_n 3, 1) := by decide +kernel
theorem dX1_rankAll_74 : decode cX1_rankAll 74 = .ok (.ifCond .le 28, 3) := by decide +kernel
theorem dX1_rankAll_77 : decode cX1_rankAll 77 = .ok (.iload_n 3, 1) := by decide +kernel
theorem dX1_rankAll_78 : decode cX1_rankAll 78 = .ok (.iload_n 2, 1) := by decide +kernel
theorem dX1_rankAll_79 : decode cX1_rankAll 79 = .ok (.if_icmp .gt 17, 3) := by decide +kernel
theorem dX1_rankAll_82 : decode cX1_rankAll 82 = .ok (.aload_n 0, 1) := by decide +kernel
theorem dX1_rankAll_83 : decode cX1_rankAll 83 = .ok (.getfield 32, 3) := by decide +kernel
theorem dX1_rankAll_86 : decode cX1_rankAll 86 = .ok (.iload_n 3, 1) := by decide +kernel
theorem dX1_rankAll_87 : decode cX1_rankAll 87 = .ok (.aload_n 0, 1) := by decide +kernel
theorem dX1_rankAll_88 : decode cX1_rankAll 88 = .ok (.getfield 32, 3) := by decide +kernel
theorem dX1_rankAll_91 : decode cX1_rankAll 91 = .ok (.iload_n 3, 1) := by decide +kernel
theorem dX1_rankAll_92 : decode cX1_rankAll 92 = .ok (.iconst 1, 1) := by decide +kernel
theorem dX1_rankAll_93 : decode cX1_rankAll 93 = .ok (.isub, 1) := by decide +kernel
theorem dX1_rankAll_94 : decode cX1_rankAll 94 = .ok (.iaload, 1) := by decide +kernel
theorem dX1_rankAll_95 : decode cX1_rankAll 95 = .ok (.iastore, 1) := by decide +kernel
theorem dX1_rankAll_96 : decode cX1_rankAll 96 = .ok (.iinc 3 (-1), 3) := by decide +kernel
theorem dX1_rankAll_99 : decode cX1_rankAll 99 = .ok (.goto (-26), 3) := by decide +kernel
theorem dX1_rankAll_102 : decode cX1_rankAll 102 = .ok (.aload_n 0, 1) := by decide +kernel
theorem dX1_rankAll_103 : decode cX1_rankAll 103 = .ok (.getfield 32, 3) := by decide +kernel
theorem dX1_rankAll_106 : decode cX1_rankAll 106 = .ok (.iconst 0, 1) := by decide +kernel
theorem dX1_rankAll_107 : decode cX1_rankAll 107 = .ok (.aload_n 0, 1) := by decide +kernel
theorem dX1_rankAll_108 : decode cX1_rankAll 108 = .ok (.getfield 17, 3) := by decide +kernel
theorem dX1_rankAll_111 : decode cX1_rankAll 111 = .ok (.iload_n 1, 1) := by decide +kernel
theorem dX1_rankAll_112 : decode cX1_rankAll 112 = .ok (.iaload, 1) := by decide +kernel
theorem dX1_rankAll_113 : decode cX1_rankAll 113 = .ok (.iastore, 1) := by decide +kernel
theorem dX1_rankAll_114 : decode cX1_rankAll 114 = .ok (.iinc 1 1, 3) := by decide +kernel
theorem dX1_rankAll_117 : decode cX1_rankAll 117 = .ok (.goto (-94), 3) := by decide +kernel
theorem dX1_rankAll_120 : decode cX1_rankAll 120 = .ok (.return_, 1) := by decide +kernel
abbrev cX1_putRun : ByteArray := prog_3_method_9_code
def yX1_putRun : MethodName := ⟨RX1, "putRun", "(I)V"⟩
theorem dX1_putRun_0 : decode cX1_putRun 0 = .ok (.iload_n 1, 1) := by decide +kernel
theorem dX1_putRun_1 : decode cX1_putRun 1 = .ok (.istore_n 2, 1) := by decide +kernel
theorem dX1_putRun_2 : decode cX1_putRun 2 = .ok (.iconst 0, 1) := by decide +kernel
theorem dX1_putRun_3 : decode cX1_putRun 3 = .ok (.istore_n 3, 1) := by decide +kernel
theorem dX1_putRun_4 : decode cX1_putRun 4 = .ok (.iload_n 3, 1) := by decide +kernel
theorem dX1_putRun_5 : decode cX1_putRun 5 = .ok (.bipush 6, 2) := by decide +kernel
theorem dX1_putRun_7 : decode cX1_putRun 7 = .ok (.if_icmp .ge 60, 3) := by decide +kernel
theorem dX1_putRun_10 : decode cX1_putRun 10 = .ok (.iload_n 2, 1) := by decide +kernel
theorem dX1_putRun_11 : decode cX1_putRun 11 = .ok (.ifCond .le 56, 3) := by decide +kernel
theorem dX1_putRun_14 : decode cX1_putRun 14 = .ok (.iload_n 2, 1) := by decide +kernel
theorem dX1_putRun_15 : decode cX1_putRun 15 = .ok (.iconst 2, 1) := by decide +kernel
theorem dX1_putRun_16 : decode cX1_putRun 16 = .ok (.irem, 1) := by decide +kernel
theorem dX1_putRun_17 : decode cX1_putRun 17 = .ok (.iconst 1, 1) := by decide +kernel
theorem dX1_putRun_18 : decode cX1_putRun 18 = .ok (.if_icmp .ne 7, 3) := by decide +kernel
theorem dX1_putRun_21 : decode cX1_putRun 21 = .ok (.iconst 1, 1) := by decide +kernel
theorem dX1_putRun_22 : decode cX1_putRun 22 = .ok (.goto 4, 3) := by decide +kernel
theorem dX1_putRun_25 : decode cX1_putRun 25 = .ok (.iconst 0, 1) := by decide +kernel
theorem dX1_putRun_26 : decode cX1_putRun 26 = .ok (.istore 4, 2) := by decide +kernel
theorem dX1_putRun_28 : decode cX1_putRun 28 = .ok (.aload_n 0, 1) := by decide +kernel
theorem dX1_putRun_29 : decode cX1_putRun 29 = .ok (.iload 4, 2) := by decide +kernel
theorem dX1_putRun_31 : decode cX1_putRun 31 = .ok (.ifCond .eq 7, 3) := by decide +kernel
theorem dX1_putRun_34 : decode cX1_putRun 34 = .ok (.iconst 0, 1) := by decide +kernel
theorem dX1_putRun_35 : decode cX1_putRun 35 = .ok (.goto 4, 3) := by decide +kernel
theorem dX1_putRun_38 : decode cX1_putRun 38 = .ok (.iconst 1, 1) := by decide +kernel
theorem dX1_putRun_39 : decode cX1_putRun 39 = .ok (.invokevirtual 45, 3) := by decide +kernel
theorem dX1_putRun_42 : decode cX1_putRun 42 = .ok (.iload 4, 2) := by decide +kernel
theorem dX1_putRun_44 : decode cX1_putRun 44 = .ok (.ifCond .eq 11, 3) := by decide +kernel
theorem dX1_putRun_47 : decode cX1_putRun 47 = .ok (.iload_n 2, 1) := by decide +kernel
theorem dX1_putRun_48 : decode cX1_putRun 48 = .ok (.iconst 1, 1) := by decide +kernel
theorem dX1_putRun_49 : decode cX1_putRun 49 = .ok (.isub, 1) := by decide +kernel
theorem dX1_putRun_50 : decode cX1_putRun 50 = .ok (.iconst 2, 1) := by decide +kernel
theorem dX1_putRun_51 : decode cX1_putRun 51 = .ok (.idiv, 1) := by decide +kernel
theorem dX1_putRun_52 : decode cX1_putRun 52 = .ok (.goto 8, 3) := by decide +kernel
theorem dX1_putRun_55 : decode cX1_putRun 55 = .ok (.iload_n 2, 1) := by decide +kernel
theorem dX1_putRun_56 : decode cX1_putRun 56 = .ok (.iconst 2, 1) := by decide +kernel
theorem dX1_putRun_57 : decode cX1_putRun 57 = .ok (.isub, 1) := by decide +kernel
theorem dX1_putRun_58 : decode cX1_putRun 58 = .ok (.iconst 2, 1) := by decide +kernel
theorem dX1_putRun_59 : decode cX1_putRun 59 = .ok (.idiv, 1) := by decide +kernel
theorem dX1_putRun_60 : decode cX1_putRun 60 = .ok (.istore_n 2, 1) := by decide +kernel
end
section
set_option maxRecDepth 100000
theorem dX1_putRun_61 : decode cX1_putRun 61 = .ok (.iinc 3 1, 3) := by decide +kernel
theorem dX1_putRun_64 : decode cX1_putRun 64 = .ok (.goto (-60), 3) := by decide +kernel
theorem dX1_putRun_67 : decode cX1_putRun 67 = .ok (.return_, 1) := by decide +kernel
abbrev cX1_put : ByteArray := prog_3_method_8_code
def yX1_put : MethodName := ⟨RX1, "put", "(I)V"⟩
theorem dX1_put_0 : decode cX1_put 0 = .ok (.aload_n 0, 1) := by decide +kernel
theorem dX1_put_1 : decode cX1_put 1 = .ok (.getfield 23, 3) := by decide +kernel
theorem dX1_put_4 : decode cX1_put 4 = .ok (.aload_n 0, 1) := by decide +kernel
theorem dX1_put_5 : decode cX1_put 5 = .ok (.getfield 26, 3) := by decide +kernel
theorem dX1_put_8 : decode cX1_put 8 = .ok (.iload_n 1, 1) := by decide +kernel
theorem dX1_put_9 : decode cX1_put 9 = .ok (.iastore, 1) := by decide +kernel
theorem dX1_put_10 : decode cX1_put 10 = .ok (.aload_n 0, 1) := by decide +kernel
theorem dX1_put_11 : decode cX1_put 11 = .ok (.dup, 1) := by decide +kernel
theorem dX1_put_12 : decode cX1_put 12 = .ok (.getfield 26, 3) := by decide +kernel
theorem dX1_put_15 : decode cX1_put 15 = .ok (.iconst 1, 1) := by decide +kernel
theorem dX1_put_16 : decode cX1_put 16 = .ok (.iadd, 1) := by decide +kernel
theorem dX1_put_17 : decode cX1_put 17 = .ok (.putfield 26, 3) := by decide +kernel
theorem dX1_put_20 : decode cX1_put 20 = .ok (.return_, 1) := by decide +kernel
abbrev cX1_mark : ByteArray := prog_3_method_12_code
def yX1_mark : MethodName := ⟨RX1, "mark", "()I"⟩
theorem dX1_mark_0 : decode cX1_mark 0 = .ok (.aload_n 0, 1) := by decide +kernel
theorem dX1_mark_1 : decode cX1_mark 1 = .ok (.invokevirtual 58, 3) := by decide +kernel
theorem dX1_mark_4 : decode cX1_mark 4 = .ok (.aload_n 0, 1) := by decide +kernel
theorem dX1_mark_5 : decode cX1_mark 5 = .ok (.getfield 7, 3) := by decide +kernel
theorem dX1_mark_8 : decode cX1_mark 8 = .ok (.ifCond .ne 8, 3) := by decide +kernel
theorem dX1_mark_11 : decode cX1_mark 11 = .ok (.bipush (-3), 2) := by decide +kernel
theorem dX1_mark_13 : decode cX1_mark 13 = .ok (.goto 7, 3) := by decide +kernel
theorem dX1_mark_16 : decode cX1_mark 16 = .ok (.aload_n 0, 1) := by decide +kernel
theorem dX1_mark_17 : decode cX1_mark 17 = .ok (.getfield 29, 3) := by decide +kernel
theorem dX1_mark_20 : decode cX1_mark 20 = .ok (.ireturn, 1) := by decide +kernel
abbrev cX1_rank : ByteArray := prog_3_method_13_code
def yX1_rank : MethodName := ⟨RX1, "rank", "(I)I"⟩
theorem dX1_rank_0 : decode cX1_rank 0 = .ok (.aload_n 0, 1) := by decide +kernel
theorem dX1_rank_1 : decode cX1_rank 1 = .ok (.invokevirtual 58, 3) := by decide +kernel
theorem dX1_rank_4 : decode cX1_rank 4 = .ok (.iload_n 1, 1) := by decide +kernel
theorem dX1_rank_5 : decode cX1_rank 5 = .ok (.ifCond .lt 20, 3) := by decide +kernel
theorem dX1_rank_8 : decode cX1_rank 8 = .ok (.iload_n 1, 1) := by decide +kernel
theorem dX1_rank_9 : decode cX1_rank 9 = .ok (.aload_n 0, 1) := by decide +kernel
theorem dX1_rank_10 : decode cX1_rank 10 = .ok (.getfield 7, 3) := by decide +kernel
theorem dX1_rank_13 : decode cX1_rank 13 = .ok (.if_icmp .ge 12, 3) := by decide +kernel
theorem dX1_rank_16 : decode cX1_rank 16 = .ok (.aload_n 0, 1) := by decide +kernel
theorem dX1_rank_17 : decode cX1_rank 17 = .ok (.getfield 20, 3) := by decide +kernel
theorem dX1_rank_20 : decode cX1_rank 20 = .ok (.iload_n 1, 1) := by decide +kernel
theorem dX1_rank_21 : decode cX1_rank 21 = .ok (.iaload, 1) := by decide +kernel
theorem dX1_rank_22 : decode cX1_rank 22 = .ok (.goto 5, 3) := by decide +kernel
theorem dX1_rank_25 : decode cX1_rank 25 = .ok (.bipush (-3), 2) := by decide +kernel
theorem dX1_rank_27 : decode cX1_rank 27 = .ok (.ireturn, 1) := by decide +kernel
abbrev cX1_symbols : ByteArray := prog_3_method_14_code
def yX1_symbols : MethodName := ⟨RX1, "symbols", "()I"⟩
theorem dX1_symbols_0 : decode cX1_symbols 0 = .ok (.aload_n 0, 1) := by decide +kernel
theorem dX1_symbols_1 : decode cX1_symbols 1 = .ok (.invokevirtual 58, 3) := by decide +kernel
theorem dX1_symbols_4 : decode cX1_symbols 4 = .ok (.aload_n 0, 1) := by decide +kernel
theorem dX1_symbols_5 : decode cX1_symbols 5 = .ok (.getfield 26, 3) := by decide +kernel
theorem dX1_symbols_8 : decode cX1_symbols 8 = .ok (.ireturn, 1) := by decide +kernel
abbrev cX1_symbol : ByteArray := prog_3_method_15_code
def yX1_symbol : MethodName := ⟨RX1, "symbol", "(I)I"⟩
theorem dX1_symbol_0 : decode cX1_symbol 0 = .ok (.aload_n 0, 1) := by decide +kernel
theorem dX1_symbol_1 : decode cX1_symbol 1 = .ok (.invokevirtual 58, 3) := by decide +kernel
theorem dX1_symbol_4 : decode cX1_symbol 4 = .ok (.iload_n 1, 1) := by decide +kernel
theorem dX1_symbol_5 : decode cX1_symbol 5 = .ok (.ifCond .lt 20, 3) := by decide +kernel
theorem dX1_symbol_8 : decode cX1_symbol 8 = .ok (.iload_n 1, 1) := by decide +kernel
theorem dX1_symbol_9 : decode cX1_symbol 9 = .ok (.aload_n 0, 1) := by decide +kernel
theorem dX1_symbol_10 : decode cX1_symbol 10 = .ok (.getfield 26, 3) := by decide +kernel
theorem dX1_symbol_13 : decode cX1_symbol 13 = .ok (.if_icmp .ge 12, 3) := by decide +kernel
theorem dX1_symbol_16 : decode cX1_symbol 16 = .ok (.aload_n 0, 1) := by decide +kernel
theorem dX1_symbol_17 : decode cX1_symbol 17 = .ok (.getfield 23, 3) := by decide +kernel
theorem dX1_symbol_20 : decode cX1_symbol 20 = .ok (.iload_n 1, 1) := by decide +kernel
theorem dX1_symbol_21 : decode cX1_symbol 21 = .ok (.iaload, 1) := by decide +kernel
theorem dX1_symbol_22 : decode cX1_symbol 22 = .ok (.goto 5, 3) := by decide +kernel
theorem dX1_symbol_25 : decode cX1_symbol 25 = .ok (.bipush (-3), 2) := by decide +kernel
theorem dX1_symbol_27 : decode cX1_symbol 27 = .ok (.ireturn, 1) := by decide +kernel
abbrev cX1_cost : ByteArray := prog_3_method_19_code
def yX1_cost : MethodName := ⟨RX1, "cost", "()I"⟩
theorem dX1_cost_0 : decode cX1_cost 0 = .ok (.aload_n 0, 1) := by decide +kernel
theorem dX1_cost_1 : decode cX1_cost 1 = .ok (.invokevirtual 61, 3) := by decide +kernel
theorem dX1_cost_4 : decode cX1_cost 4 = .ok (.istore_n 1, 1) := by decide +kernel
theorem dX1_cost_5 : decode cX1_cost 5 = .ok (.iconst 0, 1) := by decide +kernel
theorem dX1_cost_6 : decode cX1_cost 6 = .ok (.istore_n 2, 1) := by decide +kernel
theorem dX1_cost_7 : decode cX1_cost 7 = .ok (.iload_n 1, 1) := by decide +kernel
theorem dX1_cost_8 : decode cX1_cost 8 = .ok (.ifCond .le 7, 3) := by decide +kernel
theorem dX1_cost_11 : decode cX1_cost 11 = .ok (.iconst 1, 1) := by decide +kernel
theorem dX1_cost_12 : decode cX1_cost 12 = .ok (.goto 4, 3) := by decide +kernel
theorem dX1_cost_15 : decode cX1_cost 15 = .ok (.iconst 0, 1) := by decide +kernel
theorem dX1_cost_16 : decode cX1_cost 16 = .ok (.istore_n 3, 1) := by decide +kernel
theorem dX1_cost_17 : decode cX1_cost 17 = .ok (.iconst 0, 1) := by decide +kernel
theorem dX1_cost_18 : decode cX1_cost 18 = .ok (.istore 4, 2) := by decide +kernel
theorem dX1_cost_20 : decode cX1_cost 20 = .ok (.iload 4, 2) := by decide +kernel
theorem dX1_cost_22 : decode cX1_cost 22 = .ok (.bipush 7, 2) := by decide +kernel
theorem dX1_cost_24 : decode cX1_cost 24 = .ok (.if_icmp .ge 17, 3) := by decide +kernel
theorem dX1_cost_27 : decode cX1_cost 27 = .ok (.aload_n 0, 1) := by decide +kernel
theorem dX1_cost_28 : decode cX1_cost 28 = .ok (.getfield 38, 3) := by decide +kernel
theorem dX1_cost_31 : decode cX1_cost 31 = .ok (.iload 4, 2) := by decide +kernel
theorem dX1_cost_33 : decode cX1_cost 33 = .ok (.iconst 1, 1) := by decide +kernel
theorem dX1_cost_34 : decode cX1_cost 34 = .ok (.iastore, 1) := by decide +kernel
theorem dX1_cost_35 : decode cX1_cost 35 = .ok (.iinc 4 1, 3) := by decide +kernel
theorem dX1_cost_38 : decode cX1_cost 38 = .ok (.goto (-18), 3) := by decide +kernel
theorem dX1_cost_41 : decode cX1_cost 41 = .ok (.iconst 0, 1) := by decide +kernel
theorem dX1_cost_42 : decode cX1_cost 42 = .ok (.istore 4, 2) := by decide +kernel
theorem dX1_cost_44 : decode cX1_cost 44 = .ok (.iload 4, 2) := by decide +kernel
theorem dX1_cost_46 : decode cX1_cost 46 = .ok (.sipush 800, 3) := by decide +kernel
theorem dX1_cost_49 : decode cX1_cost 49 = .ok (.if_icmp .ge 78, 3) := by decide +kernel
theorem dX1_cost_52 : decode cX1_cost 52 = .ok (.iload_n 3, 1) := by decide +kernel
theorem dX1_cost_53 : decode cX1_cost 53 = .ok (.ifCond .eq 74, 3) := by decide +kernel
theorem dX1_cost_56 : decode cX1_cost 56 = .ok (.iconst 0, 1) := by decide +kernel
theorem dX1_cost_57 : decode cX1_cost 57 = .ok (.istore 5, 2) := by decide +kernel
theorem dX1_cost_59 : decode cX1_cost 59 = .ok (.iconst 0, 1) := by decide +kernel
theorem dX1_cost_60 : decode cX1_cost 60 = .ok (.istore 6, 2) := by decide +kernel
theorem dX1_cost_62 : decode cX1_cost 62 = .ok (.iload 6, 2) := by decide +kernel
theorem dX1_cost_64 : decode cX1_cost 64 = .ok (.iload_n 1, 1) := by decide +kernel
theorem dX1_cost_65 : decode cX1_cost 65 = .ok (.if_icmp .ge 29, 3) := by decide +kernel
theorem dX1_cost_68 : decode cX1_cost 68 = .ok (.iload 5, 2) := by decide +kernel
theorem dX1_cost_70 : decode cX1_cost 70 = .ok (.aload_n 0, 1) := by decide +kernel
theorem dX1_cost_71 : decode cX1_cost 71 = .ok (.getfield 35, 3) := by decide +kernel
theorem dX1_cost_74 : decode cX1_cost 74 = .ok (.iload 6, 2) := by decide +kernel
theorem dX1_cost_76 : decode cX1_cost 76 = .ok (.iaload, 1) := by decide +kernel
theorem dX1_cost_77 : decode cX1_cost 77 = .ok (.aload_n 0, 1) := by decide +kernel
theorem dX1_cost_78 : decode cX1_cost 78 = .ok (.getfield 38, 3) := by decide +kernel
theorem dX1_cost_81 : decode cX1_cost 81 = .ok (.iload 6, 2) := by decide +kernel
theorem dX1_cost_83 : decode cX1_cost 83 = .ok (.iaload, 1) := by decide +kernel
theorem dX1_cost_84 : decode cX1_cost 84 = .ok (.imul, 1) := by decide +kernel
theorem dX1_cost_85 : decode cX1_cost 85 = .ok (.iadd, 1) := by decide +kernel
theorem dX1_cost_86 : decode cX1_cost 86 = .ok (.istore 5, 2) := by decide +kernel
theorem dX1_cost_88 : decode cX1_cost 88 = .ok (.iinc 6 1, 3) := by decide +kernel
theorem dX1_cost_91 : decode cX1_cost 91 = .ok (.goto (-29), 3) := by decide +kernel
theorem dX1_cost_94 : decode cX1_cost 94 = .ok (.aload_n 0, 1) := by decide +kernel
theorem dX1_cost_95 : decode cX1_cost 95 = .ok (.iload_n 1, 1) := by decide +kernel
theorem dX1_cost_96 : decode cX1_cost 96 = .ok (.invokevirtual 65, 3) := by decide +kernel
theorem dX1_cost_99 : decode cX1_cost 99 = .ok (.ifCond .eq 16, 3) := by decide +kernel
theorem dX1_cost_102 : decode cX1_cost 102 = .ok (.iload_n 2, 1) := by decide +kernel
theorem dX1_cost_103 : decode cX1_cost 103 = .ok (.ifCond .eq 9, 3) := by decide +kernel
theorem dX1_cost_106 : decode cX1_cost 106 = .ok (.iload 5, 2) := by decide +kernel
theorem dX1_cost_108 : decode cX1_cost 108 = .ok (.iload_n 2, 1) := by decide +kernel
theorem dX1_cost_109 : decode cX1_cost 109 = .ok (.if_icmp .ge 6, 3) := by decide +kernel
theorem dX1_cost_112 : decode cX1_cost 112 = .ok (.iload 5, 2) := by decide +kernel
theorem dX1_cost_114 : decode cX1_cost 114 = .ok (.istore_n 2, 1) := by decide +kernel
theorem dX1_cost_115 : decode cX1_cost 115 = .ok (.aload_n 0, 1) := by decide +kernel
theorem dX1_cost_116 : decode cX1_cost 116 = .ok (.iload_n 1, 1) := by decide +kernel
theorem dX1_cost_117 : decode cX1_cost 117 = .ok (.invokevirtual 69, 3) := by decide +kernel
theorem dX1_cost_120 : decode cX1_cost 120 = .ok (.istore_n 3, 1) := by decide +kernel
theorem dX1_cost_121 : decode cX1_cost 121 = .ok (.iinc 4 1, 3) := by decide +kernel
theorem dX1_cost_124 : decode cX1_cost 124 = .ok (.goto (-80), 3) := by decide +kernel
theorem dX1_cost_127 : decode cX1_cost 127 = .ok (.iload_n 2, 1) := by decide +kernel
theorem dX1_cost_128 : decode cX1_cost 128 = .ok (.ireturn, 1) := by decide +kernel
abbrev cX1_countSymbols : ByteArray := prog_3_method_16_code
def yX1_countSymbols : MethodName := ⟨RX1, "countSymbols", "()I"⟩
theorem dX1_countSymbols_0 : decode cX1_countSymbols 0 = .ok (.aload_n 0, 1) := by decide +kernel
theorem dX1_countSymbols_1 : decode cX1_countSymbols 1 = .ok (.invokevirtual 58, 3) := by decide +kernel
theorem dX1_countSymbols_4 : decode cX1_countSymbols 4 = .ok (.iconst 0, 1) := by decide +kernel
theorem dX1_countSymbols_5 : decode cX1_countSymbols 5 = .ok (.istore_n 1, 1) := by decide +kernel
theorem dX1_countSymbols_6 : decode cX1_countSymbols 6 = .ok (.iload_n 1, 1) := by decide +kernel
theorem dX1_countSymbols_7 : decode cX1_countSymbols 7 = .ok (.bipush 7, 2) := by decide +kernel
theorem dX1_countSymbols_9 : decode cX1_countSymbols 9 = .ok (.if_icmp .ge 16, 3) := by decide +kernel
theorem dX1_countSymbols_12 : decode cX1_countSymbols 12 = .ok (.aload_n 0, 1) := by decide +kernel
theorem dX1_countSymbols_13 : decode cX1_countSymbols 13 = .ok (.getfield 35, 3) := by decide +kernel
theorem dX1_countSymbols_16 : decode cX1_countSymbols 16 = .ok (.iload_n 1, 1) := by decide +kernel
theorem dX1_countSymbols_17 : decode cX1_countSymbols 17 = .ok (.iconst 0, 1) := by decide +kernel
theorem dX1_countSymbols_18 : decode cX1_countSymbols 18 = .ok (.iastore, 1) := by decide +kernel
theorem dX1_countSymbols_19 : decode cX1_countSymbols 19 = .ok (.iinc 1 1, 3) := by decide +kernel
theorem dX1_countSymbols_22 : decode cX1_countSymbols 22 = .ok (.goto (-16), 3) := by decide +kernel
theorem dX1_countSymbols_25 : decode cX1_countSymbols 25 = .ok (.iconst 0, 1) := by decide +kernel
theorem dX1_countSymbols_26 : decode cX1_countSymbols 26 = .ok (.istore_n 1, 1) := by decide +kernel
theorem dX1_countSymbols_27 : decode cX1_countSymbols 27 = .ok (.iload_n 1, 1) := by decide +kernel
theorem dX1_countSymbols_28 : decode cX1_countSymbols 28 = .ok (.aload_n 0, 1) := by decide +kernel
theorem dX1_countSymbols_29 : decode cX1_countSymbols 29 = .ok (.getfield 26, 3) := by decide +kernel
theorem dX1_countSymbols_32 : decode cX1_countSymbols 32 = .ok (.if_icmp .ge 24, 3) := by decide +kernel
theorem dX1_countSymbols_35 : decode cX1_countSymbols 35 = .ok (.aload_n 0, 1) := by decide +kernel
theorem dX1_countSymbols_36 : decode cX1_countSymbols 36 = .ok (.getfield 35, 3) := by decide +kernel
theorem dX1_countSymbols_39 : decode cX1_countSymbols 39 = .ok (.aload_n 0, 1) := by decide +kernel
theorem dX1_countSymbols_40 : decode cX1_countSymbols 40 = .ok (.getfield 23, 3) := by decide +kernel
theorem dX1_countSymbols_43 : decode cX1_countSymbols 43 = .ok (.iload_n 1, 1) := by decide +kernel
theorem dX1_countSymbols_44 : decode cX1_countSymbols 44 = .ok (.iaload, 1) := by decide +kernel
theorem dX1_countSymbols_45 : decode cX1_countSymbols 45 = .ok (.dup2, 1) := by decide +kernel
theorem dX1_countSymbols_46 : decode cX1_countSymbols 46 = .ok (.iaload, 1) := by decide +kernel
theorem dX1_countSymbols_47 : decode cX1_countSymbols 47 = .ok (.iconst 1, 1) := by decide +kernel
theorem dX1_countSymbols_48 : decode cX1_countSymbols 48 = .ok (.iadd, 1) := by decide +kernel
theorem dX1_countSymbols_49 : decode cX1_countSymbols 49 = .ok (.iastore, 1) := by decide +kernel
theorem dX1_countSymbols_50 : decode cX1_countSymbols 50 = .ok (.iinc 1 1, 3) := by decide +kernel
theorem dX1_countSymbols_53 : decode cX1_countSymbols 53 = .ok (.goto (-26), 3) := by decide +kernel
theorem dX1_countSymbols_56 : decode cX1_countSymbols 56 = .ok (.iconst 0, 1) := by decide +kernel
theorem dX1_countSymbols_57 : decode cX1_countSymbols 57 = .ok (.istore_n 1, 1) := by decide +kernel
theorem dX1_countSymbols_58 : decode cX1_countSymbols 58 = .ok (.iload_n 1, 1) := by decide +kernel
theorem dX1_countSymbols_59 : decode cX1_countSymbols 59 = .ok (.bipush 36, 2) := by decide +kernel
theorem dX1_countSymbols_61 : decode cX1_countSymbols 61 = .ok (.if_icmp .ge 61, 3) := by decide +kernel
theorem dX1_countSymbols_64 : decode cX1_countSymbols 64 = .ok (.iload_n 1, 1) := by decide +kernel
theorem dX1_countSymbols_65 : decode cX1_countSymbols 65 = .ok (.bipush 6, 2) := by decide +kernel
theorem dX1_countSymbols_67 : decode cX1_countSymbols 67 = .ok (.irem, 1) := by decide +kernel
theorem dX1_countSymbols_68 : decode cX1_countSymbols 68 = .ok (.istore_n 2, 1) := by decide +kernel
theorem dX1_countSymbols_69 : decode cX1_countSymbols 69 = .ok (.aload_n 0, 1) := by decide +kernel
theorem dX1_countSymbols_70 : decode cX1_countSymbols 70 = .ok (.getfield 35, 3) := by decide +kernel
theorem dX1_countSymbols_73 : decode cX1_countSymbols 73 = .ok (.iload_n 2, 1) := by decide +kernel
theorem dX1_countSymbols_74 : decode cX1_countSymbols 74 = .ok (.iaload, 1) := by decide +kernel
theorem dX1_countSymbols_75 : decode cX1_countSymbols 75 = .ok (.aload_n 0, 1) := by decide +kernel
theorem dX1_countSymbols_76 : decode cX1_countSymbols 76 = .ok (.getfield 35, 3) := by decide +kernel
theorem dX1_countSymbols_79 : decode cX1_countSymbols 79 = .ok (.iload_n 2, 1) := by decide +kernel
theorem dX1_countSymbols_80 : decode cX1_countSymbols 80 = .ok (.iconst 1, 1) := by decide +kernel
theorem dX1_countSymbols_81 : decode cX1_countSymbols 81 = .ok (.iadd, 1) := by decide +kernel
theorem dX1_countSymbols_82 : decode cX1_countSymbols 82 = .ok (.iaload, 1) := by decide +kernel
theorem dX1_countSymbols_83 : decode cX1_countSymbols 83 = .ok (.if_icmp .ge 33, 3) := by decide +kernel
theorem dX1_countSymbols_86 : decode cX1_countSymbols 86 = .ok (.aload_n 0, 1) := by decide +kernel
theorem dX1_countSymbols_87 : decode cX1_countSymbols 87 = .ok (.getfield 35, 3) := by decide +kernel
theorem dX1_countSymbols_90 : decode cX1_countSymbols 90 = .ok (.iload_n 2, 1) := by decide +kernel
theorem dX1_countSymbols_91 : decode cX1_countSymbols 91 = .ok (.iconst 1, 1) := by decide +kernel
theorem dX1_countSymbols_92 : decode cX1_countSymbols 92 = .ok (.iadd, 1) := by decide +kernel
theorem dX1_countSymbols_93 : decode cX1_countSymbols 93 = .ok (.iaload, 1) := by decide +kernel
theorem dX1_countSymbols_94 : decode cX1_countSymbols 94 = .ok (.istore_n 3, 1) := by decide +kernel
theorem dX1_countSymbols_95 : decode cX1_countSymbols 95 = .ok (.aload_n 0, 1) := by decide +kernel
theorem dX1_countSymbols_96 : decode cX1_countSymbols 96 = .ok (.getfield 35, 3) := by decide +kernel
theorem dX1_countSymbols_99 : decode cX1_countSymbols 99 = .ok (.iload_n 2, 1) := by decide +kernel
theorem dX1_countSymbols_100 : decode cX1_countSymbols 100 = .ok (.iconst 1, 1) := by decide +kernel
theorem dX1_countSymbols_101 : decode cX1_countSymbols 101 = .ok (.iadd, 1) := by decide +kernel
theorem dX1_countSymbols_102 : decode cX1_countSymbols 102 = .ok (.aload_n 0, 1) := by decide +kernel
theorem dX1_countSymbols_103 : decode cX1_countSymbols 103 = .ok (.getfield 35, 3) := by decide +kernel
theorem dX1_countSymbols_106 : decode cX1_countSymbols 106 = .ok (.iload_n 2, 1) := by decide +kernel
theorem dX1_countSymbols_107 : decode cX1_countSymbols 107 = .ok (.iaload, 1) := by decide +kernel
theorem dX1_countSymbols_108 : decode cX1_countSymbols 108 = .ok (.iastore, 1) := by decide +kernel
theorem dX1_countSymbols_109 : decode cX1_countSymbols 109 = .ok (.aload_n 0, 1) := by decide +kernel
theorem dX1_countSymbols_110 : decode cX1_countSymbols 110 = .ok (.getfield 35, 3) := by decide +kernel
theorem dX1_countSymbols_113 : decode cX1_countSymbols 113 = .ok (.iload_n 2, 1) := by decide +kernel
theorem dX1_countSymbols_114 : decode cX1_countSymbols 114 = .ok (.iload_n 3, 1) := by decide +kernel
theorem dX1_countSymbols_115 : decode cX1_countSymbols 115 = .ok (.iastore, 1) := by decide +kernel
theorem dX1_countSymbols_116 : decode cX1_countSymbols 116 = .ok (.iinc 1 1, 3) := by decide +kernel
theorem dX1_countSymbols_119 : decode cX1_countSymbols 119 = .ok (.goto (-61), 3) := by decide +kernel
theorem dX1_countSymbols_122 : decode cX1_countSymbols 122 = .ok (.iconst 0, 1) := by decide +kernel
theorem dX1_countSymbols_123 : decode cX1_countSymbols 123 = .ok (.istore_n 1, 1) := by decide +kernel
theorem dX1_countSymbols_124 : decode cX1_countSymbols 124 = .ok (.iconst 0, 1) := by decide +kernel
theorem dX1_countSymbols_125 : decode cX1_countSymbols 125 = .ok (.istore_n 2, 1) := by decide +kernel
theorem dX1_countSymbols_126 : decode cX1_countSymbols 126 = .ok (.iload_n 2, 1) := by decide +kernel
theorem dX1_countSymbols_127 : decode cX1_countSymbols 127 = .ok (.bipush 7, 2) := by decide +kernel
theorem dX1_countSymbols_129 : decode cX1_countSymbols 129 = .ok (.if_icmp .ge 21, 3) := by decide +kernel
theorem dX1_countSymbols_132 : decode cX1_countSymbols 132 = .ok (.aload_n 0, 1) := by decide +kernel
theorem dX1_countSymbols_133 : decode cX1_countSymbols 133 = .ok (.getfield 35, 3) := by decide +kernel
theorem dX1_countSymbols_136 : decode cX1_countSymbols 136 = .ok (.iload_n 2, 1) := by decide +kernel
theorem dX1_countSymbols_137 : decode cX1_countSymbols 137 = .ok (.iaload, 1) := by decide +kernel
theorem dX1_countSymbols_138 : decode cX1_countSymbols 138 = .ok (.ifCond .le 6, 3) := by decide +kernel
theorem dX1_countSymbols_141 : decode cX1_countSymbols 141 = .ok (.iinc 1 1, 3) := by decide +kernel
theorem dX1_countSymbols_144 : decode cX1_countSymbols 144 = .ok (.iinc 2 1, 3) := by decide +kernel
theorem dX1_countSymbols_147 : decode cX1_countSymbols 147 = .ok (.goto (-21), 3) := by decide +kernel
theorem dX1_countSymbols_150 : decode cX1_countSymbols 150 = .ok (.iload_n 1, 1) := by decide +kernel
theorem dX1_countSymbols_151 : decode cX1_countSymbols 151 = .ok (.ireturn, 1) := by decide +kernel
abbrev cX1_canBe : ByteArray := prog_3_method_17_code
def yX1_canBe : MethodName := ⟨RX1, "canBe", "(I)Z"⟩
theorem dX1_canBe_0 : decode cX1_canBe 0 = .ok (.iconst 0, 1) := by decide +kernel
theorem dX1_canBe_1 : decode cX1_canBe 1 = .ok (.istore_n 2, 1) := by decide +kernel
theorem dX1_canBe_2 : decode cX1_canBe 2 = .ok (.iconst 0, 1) := by decide +kernel
theorem dX1_canBe_3 : decode cX1_canBe 3 = .ok (.istore_n 3, 1) := by decide +kernel
theorem dX1_canBe_4 : decode cX1_canBe 4 = .ok (.iload_n 3, 1) := by decide +kernel
theorem dX1_canBe_5 : decode cX1_canBe 5 = .ok (.iload_n 1, 1) := by decide +kernel
theorem dX1_canBe_6 : decode cX1_canBe 6 = .ok (.if_icmp .ge 21, 3) := by decide +kernel
theorem dX1_canBe_9 : decode cX1_canBe 9 = .ok (.iload_n 2, 1) := by decide +kernel
theorem dX1_canBe_10 : decode cX1_canBe 10 = .ok (.bipush 64, 2) := by decide +kernel
theorem dX1_canBe_12 : decode cX1_canBe 12 = .ok (.aload_n 0, 1) := by decide +kernel
theorem dX1_canBe_13 : decode cX1_canBe 13 = .ok (.getfield 38, 3) := by decide +kernel
theorem dX1_canBe_16 : decode cX1_canBe 16 = .ok (.iload_n 3, 1) := by decide +kernel
theorem dX1_canBe_17 : decode cX1_canBe 17 = .ok (.iaload, 1) := by decide +kernel
theorem dX1_canBe_18 : decode cX1_canBe 18 = .ok (.ishr, 1) := by decide +kernel
theorem dX1_canBe_19 : decode cX1_canBe 19 = .ok (.iadd, 1) := by decide +kernel
theorem dX1_canBe_20 : decode cX1_canBe 20 = .ok (.istore_n 2, 1) := by decide +kernel
theorem dX1_canBe_21 : decode cX1_canBe 21 = .ok (.iinc 3 1, 3) := by decide +kernel
theorem dX1_canBe_24 : decode cX1_canBe 24 = .ok (.goto (-20), 3) := by decide +kernel
theorem dX1_canBe_27 : decode cX1_canBe 27 = .ok (.iload_n 2, 1) := by decide +kernel
theorem dX1_canBe_28 : decode cX1_canBe 28 = .ok (.bipush 64, 2) := by decide +kernel
theorem dX1_canBe_30 : decode cX1_canBe 30 = .ok (.if_icmp .gt 7, 3) := by decide +kernel
theorem dX1_canBe_33 : decode cX1_canBe 33 = .ok (.iconst 1, 1) := by decide +kernel
theorem dX1_canBe_34 : decode cX1_canBe 34 = .ok (.goto 4, 3) := by decide +kernel
theorem dX1_canBe_37 : decode cX1_canBe 37 = .ok (.iconst 0, 1) := by decide +kernel
theorem dX1_canBe_38 : decode cX1_canBe 38 = .ok (.ireturn, 1) := by decide +kernel
abbrev cX1_nextLengths : ByteArray := prog_3_method_18_code
def yX1_nextLengths : MethodName := ⟨RX1, "nextLengths", "(I)Z"⟩
theorem dX1_nextLengths_0 : decode cX1_nextLengths 0 = .ok (.iconst (-1), 1) := by decide +kernel
theorem dX1_nextLengths_1 : decode cX1_nextLengths 1 = .ok (.istore_n 2, 1) := by decide +kernel
theorem dX1_nextLengths_2 : decode cX1_nextLengths 2 = .ok (.iconst 0, 1) := by decide +kernel
theorem dX1_nextLengths_3 : decode cX1_nextLengths 3 = .ok (.istore_n 3, 1) := by decide +kernel
theorem dX1_nextLengths_4 : decode cX1_nextLengths 4 = .ok (.iload_n 3, 1) := by decide +kernel
theorem dX1_nextLengths_5 : decode cX1_nextLengths 5 = .ok (.iload_n 1, 1) := by decide +kernel
theorem dX1_nextLengths_6 : decode cX1_nextLengths 6 = .ok (.if_icmp .ge 22, 3) := by decide +kernel
theorem dX1_nextLengths_9 : decode cX1_nextLengths 9 = .ok (.aload_n 0, 1) := by decide +kernel
theorem dX1_nextLengths_10 : decode cX1_nextLengths 10 = .ok (.getfield 38, 3) := by decide +kernel
theorem dX1_nextLengths_13 : decode cX1_nextLengths 13 = .ok (.iload_n 3, 1) := by decide +kernel
theorem dX1_nextLengths_14 : decode cX1_nextLengths 14 = .ok (.iaload, 1) := by decide +kernel
theorem dX1_nextLengths_15 : decode cX1_nextLengths 15 = .ok (.bipush 6, 2) := by decide +kernel
theorem dX1_nextLengths_17 : decode cX1_nextLengths 17 = .ok (.if_icmp .ge 5, 3) := by decide +kernel
theorem dX1_nextLengths_20 : decode cX1_nextLengths 20 = .ok (.iload_n 3, 1) := by decide +kernel
theorem dX1_nextLengths_21 : decode cX1_nextLengths 21 = .ok (.istore_n 2, 1) := by decide +kernel
theorem dX1_nextLengths_22 : decode cX1_nextLengths 22 = .ok (.iinc 3 1, 3) := by decide +kernel
theorem dX1_nextLengths_25 : decode cX1_nextLengths 25 = .ok (.goto (-21), 3) := by decide +kernel
theorem dX1_nextLengths_28 : decode cX1_nextLengths 28 = .ok (.iload_n 2, 1) := by decide +kernel
theorem dX1_nextLengths_29 : decode cX1_nextLengths 29 = .ok (.ifCond .ge 5, 3) := by decide +kernel
theorem dX1_nextLengths_32 : decode cX1_nextLengths 32 = .ok (.iconst 0, 1) := by decide +kernel
theorem dX1_nextLengths_33 : decode cX1_nextLengths 33 = .ok (.ireturn, 1) := by decide +kernel
theorem dX1_nextLengths_34 : decode cX1_nextLengths 34 = .ok (.aload_n 0, 1) := by decide +kernel
theorem dX1_nextLengths_35 : decode cX1_nextLengths 35 = .ok (.getfield 38, 3) := by decide +kernel
theorem dX1_nextLengths_38 : decode cX1_nextLengths 38 = .ok (.iload_n 2, 1) := by decide +kernel
theorem dX1_nextLengths_39 : decode cX1_nextLengths 39 = .ok (.iaload, 1) := by decide +kernel
theorem dX1_nextLengths_40 : decode cX1_nextLengths 40 = .ok (.iconst 1, 1) := by decide +kernel
theorem dX1_nextLengths_41 : decode cX1_nextLengths 41 = .ok (.iadd, 1) := by decide +kernel
theorem dX1_nextLengths_42 : decode cX1_nextLengths 42 = .ok (.istore_n 3, 1) := by decide +kernel
theorem dX1_nextLengths_43 : decode cX1_nextLengths 43 = .ok (.iload_n 2, 1) := by decide +kernel
theorem dX1_nextLengths_44 : decode cX1_nextLengths 44 = .ok (.istore 4, 2) := by decide +kernel
theorem dX1_nextLengths_46 : decode cX1_nextLengths 46 = .ok (.iload 4, 2) := by decide +kernel
theorem dX1_nextLengths_48 : decode cX1_nextLengths 48 = .ok (.iload_n 1, 1) := by decide +kernel
theorem dX1_nextLengths_49 : decode cX1_nextLengths 49 = .ok (.if_icmp .ge 17, 3) := by decide +kernel
theorem dX1_nextLengths_52 : decode cX1_nextLengths 52 = .ok (.aload_n 0, 1) := by decide +kernel
theorem dX1_nextLengths_53 : decode cX1_nextLengths 53 = .ok (.getfield 38, 3) := by decide +kernel
theorem dX1_nextLengths_56 : decode cX1_nextLengths 56 = .ok (.iload 4, 2) := by decide +kernel
theorem dX1_nextLengths_58 : decode cX1_nextLengths 58 = .ok (.iload_n 3, 1) := by decide +kernel
theorem dX1_nextLengths_59 : decode cX1_nextLengths 59 = .ok (.iastore, 1) := by decide +kernel
theorem dX1_nextLengths_60 : decode cX1_nextLengths 60 = .ok (.iinc 4 1, 3) := by decide +kernel
theorem dX1_nextLengths_63 : decode cX1_nextLengths 63 = .ok (.goto (-17), 3) := by decide +kernel
theorem dX1_nextLengths_66 : decode cX1_nextLengths 66 = .ok (.iconst 1, 1) := by decide +kernel
theorem dX1_nextLengths_67 : decode cX1_nextLengths 67 = .ok (.ireturn, 1) := by decide +kernel
abbrev cX1_decoded : ByteArray := prog_3_method_20_code
def yX1_decoded : MethodName := ⟨RX1, "decoded", "(I)I"⟩
theorem dX1_decoded_0 : decode cX1_decoded 0 = .ok (.iload_n 1, 1) := by decide +kernel
theorem dX1_decoded_1 : decode cX1_decoded 1 = .ok (.ifCond .lt 20, 3) := by decide +kernel
theorem dX1_decoded_4 : decode cX1_decoded 4 = .ok (.iload_n 1, 1) := by decide +kernel
theorem dX1_decoded_5 : decode cX1_decoded 5 = .ok (.aload_n 0, 1) := by decide +kernel
theorem dX1_decoded_6 : decode cX1_decoded 6 = .ok (.getfield 7, 3) := by decide +kernel
theorem dX1_decoded_9 : decode cX1_decoded 9 = .ok (.if_icmp .ge 12, 3) := by decide +kernel
theorem dX1_decoded_12 : decode cX1_decoded 12 = .ok (.aload_n 0, 1) := by decide +kernel
theorem dX1_decoded_13 : decode cX1_decoded 13 = .ok (.getfield 13, 3) := by decide +kernel
theorem dX1_decoded_16 : decode cX1_decoded 16 = .ok (.iload_n 1, 1) := by decide +kernel
theorem dX1_decoded_17 : decode cX1_decoded 17 = .ok (.iaload, 1) := by decide +kernel
theorem dX1_decoded_18 : decode cX1_decoded 18 = .ok (.goto 5, 3) := by decide +kernel
theorem dX1_decoded_21 : decode cX1_decoded 21 = .ok (.bipush (-3), 2) := by decide +kernel
theorem dX1_decoded_23 : decode cX1_decoded 23 = .ok (.ireturn, 1) := by decide +kernel
abbrev cX1_different : ByteArray := prog_3_method_21_code
def yX1_different : MethodName := ⟨RX1, "different", "()I"⟩
theorem dX1_different_0 : decode cX1_different 0 = .ok (.aload_n 0, 1) := by decide +kernel
theorem dX1_different_1 : decode cX1_different 1 = .ok (.invokevirtual 61, 3) := by decide +kernel
theorem dX1_different_4 : decode cX1_different 4 = .ok (.ireturn, 1) := by decide +kernel
theorem q30 : (Jvm.Cond.initialized "BlockCoderModel") ∈ lw_all := lw_g (lw_at lw_m1 2 rfl) rfl
theorem q224 : (Jvm.Cond.instantiable "BlockCoderModel" (10 : Nat)) ∈ lw_all := lw_g (lw_at lw_m1 196 rfl) rfl
theorem q226 : (Jvm.Cond.instanceMethod ({ cls := "BlockCoderModel", name := "<init>", desc := "()V" } : Jvm.MethodName)) ∈ lw_all := lw_g (lw_at lw_m1 198 rfl) rfl
theorem q227 : (Jvm.Cond.code ({ cls := "BlockCoderModel", name := "<init>", desc := "()V" } : Jvm.MethodName) prog_3_method_1_code (1 : Nat) (Option.none : Option Jvm.ClassFile.FieldType)) ∈ lw_all := lw_g (lw_at lw_m1 199 rfl) rfl
theorem q228 : (Jvm.Cond.methodLink "BlockCoderModel" (1 : Nat) ({ cls := "java/lang/Object", name := "<init>", desc := "()V" } : Jvm.MethodName)) ∈ lw_all := lw_g (lw_at lw_m1 200 rfl) rfl
theorem q229 : (Jvm.Cond.fieldLink "BlockCoderModel" (7 : Nat) "BlockCoderModel" "n" "I") ∈ lw_all := lw_g (lw_at lw_m1 201 rfl) rfl
theorem q230 : (Jvm.Cond.fieldLink "BlockCoderModel" (13 : Nat) "BlockCoderModel" "text" "[I") ∈ lw_all := lw_g (lw_at lw_m1 202 rfl) rfl
theorem q231 : (Jvm.Cond.fieldLink "BlockCoderModel" (17 : Nat) "BlockCoderModel" "column" "[I") ∈ lw_all := lw_g (lw_at lw_m1 203 rfl) rfl
theorem q232 : (Jvm.Cond.fieldLink "BlockCoderModel" (20 : Nat) "BlockCoderModel" "ranks" "[I") ∈ lw_all := lw_g (lw_at lw_m1 204 rfl) rfl
theorem q233 : (Jvm.Cond.fieldLink "BlockCoderModel" (23 : Nat) "BlockCoderModel" "symbols" "[I") ∈ lw_all := lw_g (lw_at lw_m1 205 rfl) rfl
theorem q234 : (Jvm.Cond.fieldLink "BlockCoderModel" (26 : Nat) "BlockCoderModel" "count" "I") ∈ lw_all := lw_g (lw_at lw_m1 206 rfl) rfl
theorem q235 : (Jvm.Cond.fieldLink "BlockCoderModel" (29 : Nat) "BlockCoderModel" "mark" "I") ∈ lw_all := lw_g (lw_at lw_m1 207 rfl) rfl
theorem q236 : (Jvm.Cond.fieldLink "BlockCoderModel" (32 : Nat) "BlockCoderModel" "row" "[I") ∈ lw_all := lw_g (lw_at lw_m1 208 rfl) rfl
theorem q237 : (Jvm.Cond.fieldLink "BlockCoderModel" (35 : Nat) "BlockCoderModel" "often" "[I") ∈ lw_all := lw_g (lw_at lw_m1 209 rfl) rfl
theorem q238 : (Jvm.Cond.fieldLink "BlockCoderModel" (38 : Nat) "BlockCoderModel" "length" "[I") ∈ lw_all := lw_g (lw_at lw_m1 210 rfl) rfl
theorem q239 : (Jvm.Cond.lays "BlockCoderModel" "BlockCoderModel" "n" "I") ∈ lw_all := lw_g (lw_at lw_m1 211 rfl) rfl
theorem q240 : (Jvm.Cond.soleField "BlockCoderModel" "n") ∈ lw_all := lw_g (lw_at lw_m1 212 rfl) rfl
theorem q241 : (Jvm.Cond.lays "BlockCoderModel" "BlockCoderModel" "text" "[I") ∈ lw_all := lw_g (lw_at lw_m1 213 rfl) rfl
theorem q242 : (Jvm.Cond.soleField "BlockCoderModel" "text") ∈ lw_all := lw_g (lw_at lw_m1 214 rfl) rfl
theorem q243 : (Jvm.Cond.lays "BlockCoderModel" "BlockCoderModel" "column" "[I") ∈ lw_all := lw_g (lw_at lw_m1 215 rfl) rfl
theorem q244 : (Jvm.Cond.soleField "BlockCoderModel" "column") ∈ lw_all := lw_g (lw_at lw_m1 216 rfl) rfl
theorem q245 : (Jvm.Cond.lays "BlockCoderModel" "BlockCoderModel" "ranks" "[I") ∈ lw_all := lw_g (lw_at lw_m1 217 rfl) rfl
theorem q246 : (Jvm.Cond.soleField "BlockCoderModel" "ranks") ∈ lw_all := lw_g (lw_at lw_m1 218 rfl) rfl
theorem q247 : (Jvm.Cond.lays "BlockCoderModel" "BlockCoderModel" "symbols" "[I") ∈ lw_all := lw_g (lw_at lw_m1 219 rfl) rfl
theorem q248 : (Jvm.Cond.soleField "BlockCoderModel" "symbols") ∈ lw_all := lw_g (lw_at lw_m1 220 rfl) rfl
theorem q249 : (Jvm.Cond.lays "BlockCoderModel" "BlockCoderModel" "count" "I") ∈ lw_all := lw_g (lw_at lw_m1 221 rfl) rfl
theorem q250 : (Jvm.Cond.soleField "BlockCoderModel" "count") ∈ lw_all := lw_g (lw_at lw_m1 222 rfl) rfl
theorem q251 : (Jvm.Cond.lays "BlockCoderModel" "BlockCoderModel" "mark" "I") ∈ lw_all := lw_g (lw_at lw_m1 223 rfl) rfl
theorem q252 : (Jvm.Cond.soleField "BlockCoderModel" "mark") ∈ lw_all := lw_g (lw_at lw_m1 224 rfl) rfl
theorem q253 : (Jvm.Cond.lays "BlockCoderModel" "BlockCoderModel" "row" "[I") ∈ lw_all := lw_g (lw_at lw_m1 225 rfl) rfl
theorem q254 : (Jvm.Cond.soleField "BlockCoderModel" "row") ∈ lw_all := lw_g (lw_at lw_m1 226 rfl) rfl
theorem q255 : (Jvm.Cond.lays "BlockCoderModel" "BlockCoderModel" "often" "[I") ∈ lw_all := lw_g (lw_at lw_m1 227 rfl) rfl
theorem q256 : (Jvm.Cond.soleField "BlockCoderModel" "often") ∈ lw_all := lw_g (lw_at lw_m1 228 rfl) rfl
theorem q257 : (Jvm.Cond.lays "BlockCoderModel" "BlockCoderModel" "length" "[I") ∈ lw_all := lw_g (lw_at lw_m1 229 rfl) rfl
theorem q258 : (Jvm.Cond.soleField "BlockCoderModel" "length") ∈ lw_all := lw_g (lw_at lw_m1 230 rfl) rfl
theorem q259 : (Jvm.Cond.superclass "BlockCoderModel" "java/lang/Object") ∈ lw_all := lw_g (lw_at lw_m1 231 rfl) rfl
theorem q261 : (Jvm.Cond.instanceMethod ({ cls := "BlockCoderModel", name := "type", desc := "(I)I" } : Jvm.MethodName)) ∈ lw_all := lw_g (lw_at lw_m1 233 rfl) rfl
theorem q262 : (Jvm.Cond.selects "BlockCoderModel" ({ cls := "BlockCoderModel", name := "type", desc := "(I)I" } : Jvm.MethodName) ({ cls := "BlockCoderModel", name := "type", desc := "(I)I" } : Jvm.MethodName)) ∈ lw_all := lw_g (lw_at lw_m1 234 rfl) rfl
theorem q263 : (Jvm.Cond.code ({ cls := "BlockCoderModel", name := "type", desc := "(I)I" } : Jvm.MethodName) prog_3_method_2_code (2 : Nat) (Option.some Jvm.ClassFile.FieldType.int)) ∈ lw_all := lw_g (lw_at lw_m1 235 rfl) rfl
theorem q265 : (Jvm.Cond.instanceMethod ({ cls := "BlockCoderModel", name := "repeat", desc := "(I)I" } : Jvm.MethodName)) ∈ lw_all := lw_g (lw_at lw_m1 237 rfl) rfl
theorem q266 : (Jvm.Cond.selects "BlockCoderModel" ({ cls := "BlockCoderModel", name := "repeat", desc := "(I)I" } : Jvm.MethodName) ({ cls := "BlockCoderModel", name := "repeat", desc := "(I)I" } : Jvm.MethodName)) ∈ lw_all := lw_g (lw_at lw_m1 238 rfl) rfl
theorem q267 : (Jvm.Cond.code ({ cls := "BlockCoderModel", name := "repeat", desc := "(I)I" } : Jvm.MethodName) prog_3_method_3_code (3 : Nat) (Option.some Jvm.ClassFile.FieldType.int)) ∈ lw_all := lw_g (lw_at lw_m1 239 rfl) rfl
theorem q269 : (Jvm.Cond.instanceMethod ({ cls := "BlockCoderModel", name := "clear", desc := "()I" } : Jvm.MethodName)) ∈ lw_all := lw_g (lw_at lw_m2 1 rfl) rfl
theorem q270 : (Jvm.Cond.selects "BlockCoderModel" ({ cls := "BlockCoderModel", name := "clear", desc := "()I" } : Jvm.MethodName) ({ cls := "BlockCoderModel", name := "clear", desc := "()I" } : Jvm.MethodName)) ∈ lw_all := lw_g (lw_at lw_m2 2 rfl) rfl
theorem q271 : (Jvm.Cond.code ({ cls := "BlockCoderModel", name := "clear", desc := "()I" } : Jvm.MethodName) prog_3_method_4_code (2 : Nat) (Option.some Jvm.ClassFile.FieldType.int)) ∈ lw_all := lw_g (lw_at lw_m2 3 rfl) rfl
theorem q273 : (Jvm.Cond.instanceMethod ({ cls := "BlockCoderModel", name := "column", desc := "(I)I" } : Jvm.MethodName)) ∈ lw_all := lw_g (lw_at lw_m2 5 rfl) rfl
theorem q274 : (Jvm.Cond.selects "BlockCoderModel" ({ cls := "BlockCoderModel", name := "column", desc := "(I)I" } : Jvm.MethodName) ({ cls := "BlockCoderModel", name := "column", desc := "(I)I" } : Jvm.MethodName)) ∈ lw_all := lw_g (lw_at lw_m2 6 rfl) rfl
theorem q275 : (Jvm.Cond.code ({ cls := "BlockCoderModel", name := "column", desc := "(I)I" } : Jvm.MethodName) prog_3_method_11_code (2 : Nat) (Option.some Jvm.ClassFile.FieldType.int)) ∈ lw_all := lw_g (lw_at lw_m2 7 rfl) rfl
theorem q276 : (Jvm.Cond.methodLink "BlockCoderModel" (58 : Nat) ({ cls := "BlockCoderModel", name := "encode", desc := "()V" } : Jvm.MethodName)) ∈ lw_all := lw_g (lw_at lw_m2 8 rfl) rfl
theorem q277 : (Jvm.Cond.privateMethod ({ cls := "BlockCoderModel", name := "encode", desc := "()V" } : Jvm.MethodName)) ∈ lw_tbl := lw_at lw_m2 9 rfl
theorem q278 : (Jvm.Cond.instanceMethod ({ cls := "BlockCoderModel", name := "encode", desc := "()V" } : Jvm.MethodName)) ∈ lw_all := lw_g (lw_at lw_m2 10 rfl) rfl
theorem q279 : (Jvm.Cond.code ({ cls := "BlockCoderModel", name := "encode", desc := "()V" } : Jvm.MethodName) prog_3_method_10_code (3 : Nat) (Option.none : Option Jvm.ClassFile.FieldType)) ∈ lw_all := lw_g (lw_at lw_m2 11 rfl) rfl
theorem q280 : (Jvm.Cond.methodLink "BlockCoderModel" (49 : Nat) ({ cls := "BlockCoderModel", name := "sort", desc := "()V" } : Jvm.MethodName)) ∈ lw_all := lw_g (lw_at lw_m2 12 rfl) rfl
theorem q281 : (Jvm.Cond.privateMethod ({ cls := "BlockCoderModel", name := "sort", desc := "()V" } : Jvm.MethodName)) ∈ lw_tbl := lw_at lw_m2 13 rfl
theorem q282 : (Jvm.Cond.instanceMethod ({ cls := "BlockCoderModel", name := "sort", desc := "()V" } : Jvm.MethodName)) ∈ lw_all := lw_g (lw_at lw_m2 14 rfl) rfl
theorem q283 : (Jvm.Cond.code ({ cls := "BlockCoderModel", name := "sort", desc := "()V" } : Jvm.MethodName) prog_3_method_6_code (4 : Nat) (Option.none : Option Jvm.ClassFile.FieldType)) ∈ lw_all := lw_g (lw_at lw_m2 15 rfl) rfl
theorem q284 : (Jvm.Cond.methodLink "BlockCoderModel" (41 : Nat) ({ cls := "BlockCoderModel", name := "before", desc := "(II)Z" } : Jvm.MethodName)) ∈ lw_all := lw_g (lw_at lw_m2 16 rfl) rfl
theorem q285 : (Jvm.Cond.privateMethod ({ cls := "BlockCoderModel", name := "before", desc := "(II)Z" } : Jvm.MethodName)) ∈ lw_tbl := lw_at lw_m2 17 rfl
theorem q286 : (Jvm.Cond.instanceMethod ({ cls := "BlockCoderModel", name := "before", desc := "(II)Z" } : Jvm.MethodName)) ∈ lw_all := lw_g (lw_at lw_m2 18 rfl) rfl
theorem q287 : (Jvm.Cond.code ({ cls := "BlockCoderModel", name := "before", desc := "(II)Z" } : Jvm.MethodName) prog_3_method_5_code (6 : Nat) (Option.some Jvm.ClassFile.FieldType.boolean)) ∈ lw_all := lw_g (lw_at lw_m2 19 rfl) rfl
theorem q288 : (Jvm.Cond.methodLink "BlockCoderModel" (52 : Nat) ({ cls := "BlockCoderModel", name := "rankAll", desc := "()V" } : Jvm.MethodName)) ∈ lw_all := lw_g (lw_at lw_m2 20 rfl) rfl
theorem q289 : (Jvm.Cond.privateMethod ({ cls := "BlockCoderModel", name := "rankAll", desc := "()V" } : Jvm.MethodName)) ∈ lw_tbl := lw_at lw_m2 21 rfl
theorem q290 : (Jvm.Cond.instanceMethod ({ cls := "BlockCoderModel", name := "rankAll", desc := "()V" } : Jvm.MethodName)) ∈ lw_all := lw_g (lw_at lw_m2 22 rfl) rfl
theorem q291 : (Jvm.Cond.code ({ cls := "BlockCoderModel", name := "rankAll", desc := "()V" } : Jvm.MethodName) prog_3_method_7_code (4 : Nat) (Option.none : Option Jvm.ClassFile.FieldType)) ∈ lw_all := lw_g (lw_at lw_m2 23 rfl) rfl
theorem q292 : (Jvm.Cond.methodLink "BlockCoderModel" (55 : Nat) ({ cls := "BlockCoderModel", name := "putRun", desc := "(I)V" } : Jvm.MethodName)) ∈ lw_all := lw_g (lw_at lw_m2 24 rfl) rfl
theorem q293 : (Jvm.Cond.privateMethod ({ cls := "BlockCoderModel", name := "putRun", desc := "(I)V" } : Jvm.MethodName)) ∈ lw_tbl := lw_at lw_m2 25 rfl
theorem q294 : (Jvm.Cond.instanceMethod ({ cls := "BlockCoderModel", name := "putRun", desc := "(I)V" } : Jvm.MethodName)) ∈ lw_all := lw_g (lw_at lw_m2 26 rfl) rfl
theorem q295 : (Jvm.Cond.code ({ cls := "BlockCoderModel", name := "putRun", desc := "(I)V" } : Jvm.MethodName) prog_3_method_9_code (5 : Nat) (Option.none : Option Jvm.ClassFile.FieldType)) ∈ lw_all := lw_g (lw_at lw_m2 27 rfl) rfl
theorem q296 : (Jvm.Cond.methodLink "BlockCoderModel" (45 : Nat) ({ cls := "BlockCoderModel", name := "put", desc := "(I)V" } : Jvm.MethodName)) ∈ lw_all := lw_g (lw_at lw_m2 28 rfl) rfl
theorem q297 : (Jvm.Cond.privateMethod ({ cls := "BlockCoderModel", name := "put", desc := "(I)V" } : Jvm.MethodName)) ∈ lw_tbl := lw_at lw_m2 29 rfl
theorem q298 : (Jvm.Cond.instanceMethod ({ cls := "BlockCoderModel", name := "put", desc := "(I)V" } : Jvm.MethodName)) ∈ lw_all := lw_g (lw_at lw_m2 30 rfl) rfl
theorem q299 : (Jvm.Cond.code ({ cls := "BlockCoderModel", name := "put", desc := "(I)V" } : Jvm.MethodName) prog_3_method_8_code (2 : Nat) (Option.none : Option Jvm.ClassFile.FieldType)) ∈ lw_all := lw_g (lw_at lw_m2 31 rfl) rfl
theorem q301 : (Jvm.Cond.instanceMethod ({ cls := "BlockCoderModel", name := "mark", desc := "()I" } : Jvm.MethodName)) ∈ lw_all := lw_g (lw_at lw_m2 33 rfl) rfl
theorem q302 : (Jvm.Cond.selects "BlockCoderModel" ({ cls := "BlockCoderModel", name := "mark", desc := "()I" } : Jvm.MethodName) ({ cls := "BlockCoderModel", name := "mark", desc := "()I" } : Jvm.MethodName)) ∈ lw_all := lw_g (lw_at lw_m2 34 rfl) rfl
theorem q303 : (Jvm.Cond.code ({ cls := "BlockCoderModel", name := "mark", desc := "()I" } : Jvm.MethodName) prog_3_method_12_code (1 : Nat) (Option.some Jvm.ClassFile.FieldType.int)) ∈ lw_all := lw_g (lw_at lw_m2 35 rfl) rfl
theorem q305 : (Jvm.Cond.instanceMethod ({ cls := "BlockCoderModel", name := "rank", desc := "(I)I" } : Jvm.MethodName)) ∈ lw_all := lw_g (lw_at lw_m2 37 rfl) rfl
theorem q306 : (Jvm.Cond.selects "BlockCoderModel" ({ cls := "BlockCoderModel", name := "rank", desc := "(I)I" } : Jvm.MethodName) ({ cls := "BlockCoderModel", name := "rank", desc := "(I)I" } : Jvm.MethodName)) ∈ lw_all := lw_g (lw_at lw_m2 38 rfl) rfl
theorem q307 : (Jvm.Cond.code ({ cls := "BlockCoderModel", name := "rank", desc := "(I)I" } : Jvm.MethodName) prog_3_method_13_code (2 : Nat) (Option.some Jvm.ClassFile.FieldType.int)) ∈ lw_all := lw_g (lw_at lw_m2 39 rfl) rfl
theorem q309 : (Jvm.Cond.instanceMethod ({ cls := "BlockCoderModel", name := "symbols", desc := "()I" } : Jvm.MethodName)) ∈ lw_all := lw_g (lw_at lw_m2 41 rfl) rfl
theorem q310 : (Jvm.Cond.selects "BlockCoderModel" ({ cls := "BlockCoderModel", name := "symbols", desc := "()I" } : Jvm.MethodName) ({ cls := "BlockCoderModel", name := "symbols", desc := "()I" } : Jvm.MethodName)) ∈ lw_all := lw_g (lw_at lw_m2 42 rfl) rfl
theorem q311 : (Jvm.Cond.code ({ cls := "BlockCoderModel", name := "symbols", desc := "()I" } : Jvm.MethodName) prog_3_method_14_code (1 : Nat) (Option.some Jvm.ClassFile.FieldType.int)) ∈ lw_all := lw_g (lw_at lw_m2 43 rfl) rfl
theorem q313 : (Jvm.Cond.instanceMethod ({ cls := "BlockCoderModel", name := "symbol", desc := "(I)I" } : Jvm.MethodName)) ∈ lw_all := lw_g (lw_at lw_m2 45 rfl) rfl
theorem q314 : (Jvm.Cond.selects "BlockCoderModel" ({ cls := "BlockCoderModel", name := "symbol", desc := "(I)I" } : Jvm.MethodName) ({ cls := "BlockCoderModel", name := "symbol", desc := "(I)I" } : Jvm.MethodName)) ∈ lw_all := lw_g (lw_at lw_m2 46 rfl) rfl
theorem q315 : (Jvm.Cond.code ({ cls := "BlockCoderModel", name := "symbol", desc := "(I)I" } : Jvm.MethodName) prog_3_method_15_code (2 : Nat) (Option.some Jvm.ClassFile.FieldType.int)) ∈ lw_all := lw_g (lw_at lw_m2 47 rfl) rfl
theorem q317 : (Jvm.Cond.instanceMethod ({ cls := "BlockCoderModel", name := "cost", desc := "()I" } : Jvm.MethodName)) ∈ lw_all := lw_g (lw_at lw_m2 49 rfl) rfl
theorem q318 : (Jvm.Cond.selects "BlockCoderModel" ({ cls := "BlockCoderModel", name := "cost", desc := "()I" } : Jvm.MethodName) ({ cls := "BlockCoderModel", name := "cost", desc := "()I" } : Jvm.MethodName)) ∈ lw_all := lw_g (lw_at lw_m2 50 rfl) rfl
theorem q319 : (Jvm.Cond.code ({ cls := "BlockCoderModel", name := "cost", desc := "()I" } : Jvm.MethodName) prog_3_method_19_code (7 : Nat) (Option.some Jvm.ClassFile.FieldType.int)) ∈ lw_all := lw_g (lw_at lw_m2 51 rfl) rfl
theorem q320 : (Jvm.Cond.methodLink "BlockCoderModel" (61 : Nat) ({ cls := "BlockCoderModel", name := "countSymbols", desc := "()I" } : Jvm.MethodName)) ∈ lw_all := lw_g (lw_at lw_m2 52 rfl) rfl
theorem q321 : (Jvm.Cond.privateMethod ({ cls := "BlockCoderModel", name := "countSymbols", desc := "()I" } : Jvm.MethodName)) ∈ lw_tbl := lw_at lw_m2 53 rfl
theorem q322 : (Jvm.Cond.instanceMethod ({ cls := "BlockCoderModel", name := "countSymbols", desc := "()I" } : Jvm.MethodName)) ∈ lw_all := lw_g (lw_at lw_m2 54 rfl) rfl
theorem q323 : (Jvm.Cond.code ({ cls := "BlockCoderModel", name := "countSymbols", desc := "()I" } : Jvm.MethodName) prog_3_method_16_code (4 : Nat) (Option.some Jvm.ClassFile.FieldType.int)) ∈ lw_all := lw_g (lw_at lw_m2 55 rfl) rfl
theorem q324 : (Jvm.Cond.methodLink "BlockCoderModel" (65 : Nat) ({ cls := "BlockCoderModel", name := "canBe", desc := "(I)Z" } : Jvm.MethodName)) ∈ lw_all := lw_g (lw_at lw_m2 56 rfl) rfl
theorem q325 : (Jvm.Cond.privateMethod ({ cls := "BlockCoderModel", name := "canBe", desc := "(I)Z" } : Jvm.MethodName)) ∈ lw_tbl := lw_at lw_m2 57 rfl
theorem q326 : (Jvm.Cond.instanceMethod ({ cls := "BlockCoderModel", name := "canBe", desc := "(I)Z" } : Jvm.MethodName)) ∈ lw_all := lw_g (lw_at lw_m2 58 rfl) rfl
theorem q327 : (Jvm.Cond.code ({ cls := "BlockCoderModel", name := "canBe", desc := "(I)Z" } : Jvm.MethodName) prog_3_method_17_code (4 : Nat) (Option.some Jvm.ClassFile.FieldType.boolean)) ∈ lw_all := lw_g (lw_at lw_m2 59 rfl) rfl
theorem q328 : (Jvm.Cond.methodLink "BlockCoderModel" (69 : Nat) ({ cls := "BlockCoderModel", name := "nextLengths", desc := "(I)Z" } : Jvm.MethodName)) ∈ lw_all := lw_g (lw_at lw_m2 60 rfl) rfl
theorem q329 : (Jvm.Cond.privateMethod ({ cls := "BlockCoderModel", name := "nextLengths", desc := "(I)Z" } : Jvm.MethodName)) ∈ lw_tbl := lw_at lw_m2 61 rfl
theorem q330 : (Jvm.Cond.instanceMethod ({ cls := "BlockCoderModel", name := "nextLengths", desc := "(I)Z" } : Jvm.MethodName)) ∈ lw_all := lw_g (lw_at lw_m2 62 rfl) rfl
theorem q331 : (Jvm.Cond.code ({ cls := "BlockCoderModel", name := "nextLengths", desc := "(I)Z" } : Jvm.MethodName) prog_3_method_18_code (5 : Nat) (Option.some Jvm.ClassFile.FieldType.boolean)) ∈ lw_all := lw_g (lw_at lw_m2 63 rfl) rfl
theorem q333 : (Jvm.Cond.instanceMethod ({ cls := "BlockCoderModel", name := "decoded", desc := "(I)I" } : Jvm.MethodName)) ∈ lw_all := lw_g (lw_at lw_m2 65 rfl) rfl
theorem q334 : (Jvm.Cond.selects "BlockCoderModel" ({ cls := "BlockCoderModel", name := "decoded", desc := "(I)I" } : Jvm.MethodName) ({ cls := "BlockCoderModel", name := "decoded", desc := "(I)I" } : Jvm.MethodName)) ∈ lw_all := lw_g (lw_at lw_m2 66 rfl) rfl
theorem q335 : (Jvm.Cond.code ({ cls := "BlockCoderModel", name := "decoded", desc := "(I)I" } : Jvm.MethodName) prog_3_method_20_code (2 : Nat) (Option.some Jvm.ClassFile.FieldType.int)) ∈ lw_all := lw_g (lw_at lw_m2 67 rfl) rfl
theorem q337 : (Jvm.Cond.instanceMethod ({ cls := "BlockCoderModel", name := "different", desc := "()I" } : Jvm.MethodName)) ∈ lw_all := lw_g (lw_at lw_m2 69 rfl) rfl
theorem q338 : (Jvm.Cond.selects "BlockCoderModel" ({ cls := "BlockCoderModel", name := "different", desc := "()I" } : Jvm.MethodName) ({ cls := "BlockCoderModel", name := "different", desc := "()I" } : Jvm.MethodName)) ∈ lw_all := lw_g (lw_at lw_m2 70 rfl) rfl
theorem q339 : (Jvm.Cond.code ({ cls := "BlockCoderModel", name := "different", desc := "()I" } : Jvm.MethodName) prog_3_method_21_code (1 : Nat) (Option.some Jvm.ClassFile.FieldType.int)) ∈ lw_all := lw_g (lw_at lw_m2 71 rfl) rfl
theorem in_X1 : ∀ w ∈ wsX10, w ∈ lw_all := lw_in wsX10 [239, 241, 243, 245, 247, 249, 251, 253, 255, 257] (by decide +kernel) (by decide +kernel)
end
section
/-! java/lang/Object -/
set_option maxRecDepth 100000
def RJ0 : String := "java/lang/Object"
abbrev cJ0_init : ByteArray := object_method_1_code
def yJ0_init : MethodName := ⟨RJ0, "<init>", "()V"⟩
theorem dJ0_init_0 : decode cJ0_init 0 = .ok (.return_, 1) := by decide +kernel
theorem q37 : (Jvm.Cond.instanceMethod ({ cls := "java/lang/Object", name := "<init>", desc := "()V" } : Jvm.MethodName)) ∈ lw_all := lw_g (lw_at lw_m1 9 rfl) rfl
theorem q38 : (Jvm.Cond.code ({ cls := "java/lang/Object", name := "<init>", desc := "()V" } : Jvm.MethodName) object_method_1_code (1 : Nat) (Option.none : Option Jvm.ClassFile.FieldType)) ∈ lw_all := lw_g (lw_at lw_m1 10 rfl) rfl
/-! the law's own entry -/
set_option maxRecDepth 100000
abbrev cL_law : ByteArray := code
theorem dL_law_0 : decode cL_law 0 = .ok (.new 7, 3) := by decide +kernel
theorem dL_law_3 : decode cL_law 3 = .ok (.dup, 1) := by decide +kernel
theorem dL_law_4 : decode cL_law 4 = .ok (.invokespecial 9, 3) := by decide +kernel
theorem dL_law_7 : decode cL_law 7 = .ok (.astore_n 1, 1) := by decide +kernel
theorem dL_law_8 : decode cL_law 8 = .ok (.new 10, 3) := by decide +kernel
theorem dL_law_11 : decode cL_law 11 = .ok (.dup, 1) := by decide +kernel
theorem dL_law_12 : decode cL_law 12 = .ok (.invokespecial 12, 3) := by decide +kernel
theorem dL_law_15 : decode cL_law 15 = .ok (.astore_n 2, 1) := by decide +kernel
theorem dL_law_16 : decode cL_law 16 = .ok (.iconst 0, 1) := by decide +kernel
theorem dL_law_17 : decode cL_law 17 = .ok (.istore_n 3, 1) := by decide +kernel
theorem dL_law_18 : decode cL_law 18 = .ok (.iload_n 3, 1) := by decide +kernel
theorem dL_law_19 : decode cL_law 19 = .ok (.aload_n 0, 1) := by decide +kernel
theorem dL_law_20 : decode cL_law 20 = .ok (.arraylength, 1) := by decide +kernel
theorem dL_law_21 : decode cL_law 21 = .ok (.iconst 2, 1) := by decide +kernel
theorem dL_law_22 : decode cL_law 22 = .ok (.isub, 1) := by decide +kernel
theorem dL_law_23 : decode cL_law 23 = .ok (.if_icmp .gt 278, 3) := by decide +kernel
theorem dL_law_26 : decode cL_law 26 = .ok (.aload_n 0, 1) := by decide +kernel
theorem dL_law_27 : decode cL_law 27 = .ok (.iload_n 3, 1) := by decide +kernel
theorem dL_law_28 : decode cL_law 28 = .ok (.iaload, 1) := by decide +kernel
theorem dL_law_29 : decode cL_law 29 = .ok (.bipush 15, 2) := by decide +kernel
theorem dL_law_31 : decode cL_law 31 = .ok (.iand, 1) := by decide +kernel
theorem dL_law_32 : decode cL_law 32 = .ok (.tableswitch 263 0 10 #[60, 83, 106, 119, 142, 155, 178, 191, 214, 227, 250], 60) := by decide +kernel
theorem dL_law_92 : decode cL_law 92 = .ok (.aload_n 1, 1) := by decide +kernel
theorem dL_law_93 : decode cL_law 93 = .ok (.aload_n 0, 1) := by decide +kernel
theorem dL_law_94 : decode cL_law 94 = .ok (.iload_n 3, 1) := by decide +kernel
theorem dL_law_95 : decode cL_law 95 = .ok (.iconst 1, 1) := by decide +kernel
theorem dL_law_96 : decode cL_law 96 = .ok (.iadd, 1) := by decide +kernel
theorem dL_law_97 : decode cL_law 97 = .ok (.iaload, 1) := by decide +kernel
theorem dL_law_98 : decode cL_law 98 = .ok (.invokevirtual 13, 3) := by decide +kernel
theorem dL_law_101 : decode cL_law 101 = .ok (.aload_n 2, 1) := by decide +kernel
theorem dL_law_102 : decode cL_law 102 = .ok (.aload_n 0, 1) := by decide +kernel
theorem dL_law_103 : decode cL_law 103 = .ok (.iload_n 3, 1) := by decide +kernel
theorem dL_law_104 : decode cL_law 104 = .ok (.iconst 1, 1) := by decide +kernel
theorem dL_law_105 : decode cL_law 105 = .ok (.iadd, 1) := by decide +kernel
theorem dL_law_106 : decode cL_law 106 = .ok (.iaload, 1) := by decide +kernel
theorem dL_law_107 : decode cL_law 107 = .ok (.invokevirtual 17, 3) := by decide +kernel
theorem dL_law_110 : decode cL_law 110 = .ok (.if_icmp .eq 185, 3) := by decide +kernel
theorem dL_law_113 : decode cL_law 113 = .ok (.iconst 0, 1) := by decide +kernel
theorem dL_law_114 : decode cL_law 114 = .ok (.ireturn, 1) := by decide +kernel
theorem dL_law_115 : decode cL_law 115 = .ok (.aload_n 1, 1) := by decide +kernel
theorem dL_law_116 : decode cL_law 116 = .ok (.aload_n 0, 1) := by decide +kernel
theorem dL_law_117 : decode cL_law 117 = .ok (.iload_n 3, 1) := by decide +kernel
theorem dL_law_118 : decode cL_law 118 = .ok (.iconst 1, 1) := by decide +kernel
theorem dL_law_119 : decode cL_law 119 = .ok (.iadd, 1) := by decide +kernel
theorem dL_law_120 : decode cL_law 120 = .ok (.iaload, 1) := by decide +kernel
theorem dL_law_121 : decode cL_law 121 = .ok (.invokevirtual 18, 3) := by decide +kernel
theorem dL_law_124 : decode cL_law 124 = .ok (.aload_n 2, 1) := by decide +kernel
theorem dL_law_125 : decode cL_law 125 = .ok (.aload_n 0, 1) := by decide +kernel
theorem dL_law_126 : decode cL_law 126 = .ok (.iload_n 3, 1) := by decide +kernel
theorem dL_law_127 : decode cL_law 127 = .ok (.iconst 1, 1) := by decide +kernel
theorem dL_law_128 : decode cL_law 128 = .ok (.iadd, 1) := by decide +kernel
theorem dL_law_129 : decode cL_law 129 = .ok (.iaload, 1) := by decide +kernel
theorem dL_law_130 : decode cL_law 130 = .ok (.invokevirtual 21, 3) := by decide +kernel
theorem dL_law_133 : decode cL_law 133 = .ok (.if_icmp .eq 162, 3) := by decide +kernel
theorem dL_law_136 : decode cL_law 136 = .ok (.iconst 0, 1) := by decide +kernel
theorem dL_law_137 : decode cL_law 137 = .ok (.ireturn, 1) := by decide +kernel
theorem dL_law_138 : decode cL_law 138 = .ok (.aload_n 1, 1) := by decide +kernel
theorem dL_law_139 : decode cL_law 139 = .ok (.invokevirtual 22, 3) := by decide +kernel
theorem dL_law_142 : decode cL_law 142 = .ok (.aload_n 2, 1) := by decide +kernel
theorem dL_law_143 : decode cL_law 143 = .ok (.invokevirtual 26, 3) := by decide +kernel
theorem dL_law_146 : decode cL_law 146 = .ok (.if_icmp .eq 149, 3) := by decide +kernel
theorem dL_law_149 : decode cL_law 149 = .ok (.iconst 0, 1) := by decide +kernel
theorem dL_law_150 : decode cL_law 150 = .ok (.ireturn, 1) := by decide +kernel
theorem dL_law_151 : decode cL_law 151 = .ok (.aload_n 1, 1) := by decide +kernel
theorem dL_law_152 : decode cL_law 152 = .ok (.aload_n 0, 1) := by decide +kernel
theorem dL_law_153 : decode cL_law 153 = .ok (.iload_n 3, 1) := by decide +kernel
theorem dL_law_154 : decode cL_law 154 = .ok (.iconst 1, 1) := by decide +kernel
theorem dL_law_155 : decode cL_law 155 = .ok (.iadd, 1) := by decide +kernel
theorem dL_law_156 : decode cL_law 156 = .ok (.iaload, 1) := by decide +kernel
theorem dL_law_157 : decode cL_law 157 = .ok (.invokevirtual 27, 3) := by decide +kernel
theorem dL_law_160 : decode cL_law 160 = .ok (.aload_n 2, 1) := by decide +kernel
theorem dL_law_161 : decode cL_law 161 = .ok (.aload_n 0, 1) := by decide +kernel
theorem dL_law_162 : decode cL_law 162 = .ok (.iload_n 3, 1) := by decide +kernel
theorem dL_law_163 : decode cL_law 163 = .ok (.iconst 1, 1) := by decide +kernel
theorem dL_law_164 : decode cL_law 164 = .ok (.iadd, 1) := by decide +kernel
theorem dL_law_165 : decode cL_law 165 = .ok (.iaload, 1) := by decide +kernel
theorem dL_law_166 : decode cL_law 166 = .ok (.invokevirtual 30, 3) := by decide +kernel
theorem dL_law_169 : decode cL_law 169 = .ok (.if_icmp .eq 126, 3) := by decide +kernel
theorem dL_law_172 : decode cL_law 172 = .ok (.iconst 0, 1) := by decide +kernel
theorem dL_law_173 : decode cL_law 173 = .ok (.ireturn, 1) := by decide +kernel
theorem dL_law_174 : decode cL_law 174 = .ok (.aload_n 1, 1) := by decide +kernel
theorem dL_law_175 : decode cL_law 175 = .ok (.invokevirtual 31, 3) := by decide +kernel
theorem dL_law_178 : decode cL_law 178 = .ok (.aload_n 2, 1) := by decide +kernel
theorem dL_law_179 : decode cL_law 179 = .ok (.invokevirtual 34, 3) := by decide +kernel
theorem dL_law_182 : decode cL_law 182 = .ok (.if_icmp .eq 113, 3) := by decide +kernel
theorem dL_law_185 : decode cL_law 185 = .ok (.iconst 0, 1) := by decide +kernel
theorem dL_law_186 : decode cL_law 186 = .ok (.ireturn, 1) := by decide +kernel
theorem dL_law_187 : decode cL_law 187 = .ok (.aload_n 1, 1) := by decide +kernel
theorem dL_law_188 : decode cL_law 188 = .ok (.aload_n 0, 1) := by decide +kernel
theorem dL_law_189 : decode cL_law 189 = .ok (.iload_n 3, 1) := by decide +kernel
theorem dL_law_190 : decode cL_law 190 = .ok (.iconst 1, 1) := by decide +kernel
theorem dL_law_191 : decode cL_law 191 = .ok (.iadd, 1) := by decide +kernel
theorem dL_law_192 : decode cL_law 192 = .ok (.iaload, 1) := by decide +kernel
theorem dL_law_193 : decode cL_law 193 = .ok (.invokevirtual 35, 3) := by decide +kernel
theorem dL_law_196 : decode cL_law 196 = .ok (.aload_n 2, 1) := by decide +kernel
theorem dL_law_197 : decode cL_law 197 = .ok (.aload_n 0, 1) := by decide +kernel
theorem dL_law_198 : decode cL_law 198 = .ok (.iload_n 3, 1) := by decide +kernel
theorem dL_law_199 : decode cL_law 199 = .ok (.iconst 1, 1) := by decide +kernel
theorem dL_law_200 : decode cL_law 200 = .ok (.iadd, 1) := by decide +kernel
theorem dL_law_201 : decode cL_law 201 = .ok (.iaload, 1) := by decide +kernel
theorem dL_law_202 : decode cL_law 202 = .ok (.invokevirtual 38, 3) := by decide +kernel
theorem dL_law_205 : decode cL_law 205 = .ok (.if_icmp .eq 90, 3) := by decide +kernel
theorem dL_law_208 : decode cL_law 208 = .ok (.iconst 0, 1) := by decide +kernel
theorem dL_law_209 : decode cL_law 209 = .ok (.ireturn, 1) := by decide +kernel
theorem dL_law_210 : decode cL_law 210 = .ok (.aload_n 1, 1) := by decide +kernel
theorem dL_law_211 : decode cL_law 211 = .ok (.invokevirtual 39, 3) := by decide +kernel
theorem dL_law_214 : decode cL_law 214 = .ok (.aload_n 2, 1) := by decide +kernel
theorem dL_law_215 : decode cL_law 215 = .ok (.invokevirtual 42, 3) := by decide +kernel
theorem dL_law_218 : decode cL_law 218 = .ok (.if_icmp .eq 77, 3) := by decide +kernel
theorem dL_law_221 : decode cL_law 221 = .ok (.iconst 0, 1) := by decide +kernel
theorem dL_law_222 : decode cL_law 222 = .ok (.ireturn, 1) := by decide +kernel
theorem dL_law_223 : decode cL_law 223 = .ok (.aload_n 1, 1) := by decide +kernel
theorem dL_law_224 : decode cL_law 224 = .ok (.aload_n 0, 1) := by decide +kernel
theorem dL_law_225 : decode cL_law 225 = .ok (.iload_n 3, 1) := by decide +kernel
theorem dL_law_226 : decode cL_law 226 = .ok (.iconst 1, 1) := by decide +kernel
theorem dL_law_227 : decode cL_law 227 = .ok (.iadd, 1) := by decide +kernel
theorem dL_law_228 : decode cL_law 228 = .ok (.iaload, 1) := by decide +kernel
theorem dL_law_229 : decode cL_law 229 = .ok (.invokevirtual 43, 3) := by decide +kernel
theorem dL_law_232 : decode cL_law 232 = .ok (.aload_n 2, 1) := by decide +kernel
theorem dL_law_233 : decode cL_law 233 = .ok (.aload_n 0, 1) := by decide +kernel
theorem dL_law_234 : decode cL_law 234 = .ok (.iload_n 3, 1) := by decide +kernel
theorem dL_law_235 : decode cL_law 235 = .ok (.iconst 1, 1) := by decide +kernel
theorem dL_law_236 : decode cL_law 236 = .ok (.iadd, 1) := by decide +kernel
theorem dL_law_237 : decode cL_law 237 = .ok (.iaload, 1) := by decide +kernel
theorem dL_law_238 : decode cL_law 238 = .ok (.invokevirtual 46, 3) := by decide +kernel
theorem dL_law_241 : decode cL_law 241 = .ok (.if_icmp .eq 54, 3) := by decide +kernel
theorem dL_law_244 : decode cL_law 244 = .ok (.iconst 0, 1) := by decide +kernel
theorem dL_law_245 : decode cL_law 245 = .ok (.ireturn, 1) := by decide +kernel
theorem dL_law_246 : decode cL_law 246 = .ok (.aload_n 1, 1) := by decide +kernel
theorem dL_law_247 : decode cL_law 247 = .ok (.invokevirtual 47, 3) := by decide +kernel
theorem dL_law_250 : decode cL_law 250 = .ok (.aload_n 2, 1) := by decide +kernel
theorem dL_law_251 : decode cL_law 251 = .ok (.invokevirtual 50, 3) := by decide +kernel
theorem dL_law_254 : decode cL_law 254 = .ok (.if_icmp .eq 41, 3) := by decide +kernel
theorem dL_law_257 : decode cL_law 257 = .ok (.iconst 0, 1) := by decide +kernel
theorem dL_law_258 : decode cL_law 258 = .ok (.ireturn, 1) := by decide +kernel
theorem dL_law_259 : decode cL_law 259 = .ok (.aload_n 1, 1) := by decide +kernel
theorem dL_law_260 : decode cL_law 260 = .ok (.aload_n 0, 1) := by decide +kernel
theorem dL_law_261 : decode cL_law 261 = .ok (.iload_n 3, 1) := by decide +kernel
theorem dL_law_262 : decode cL_law 262 = .ok (.iconst 1, 1) := by decide +kernel
theorem dL_law_263 : decode cL_law 263 = .ok (.iadd, 1) := by decide +kernel
theorem dL_law_264 : decode cL_law 264 = .ok (.iaload, 1) := by decide +kernel
theorem dL_law_265 : decode cL_law 265 = .ok (.invokevirtual 51, 3) := by decide +kernel
theorem dL_law_268 : decode cL_law 268 = .ok (.aload_n 2, 1) := by decide +kernel
theorem dL_law_269 : decode cL_law 269 = .ok (.aload_n 0, 1) := by decide +kernel
theorem dL_law_270 : decode cL_law 270 = .ok (.iload_n 3, 1) := by decide +kernel
theorem dL_law_271 : decode cL_law 271 = .ok (.iconst 1, 1) := by decide +kernel
theorem dL_law_272 : decode cL_law 272 = .ok (.iadd, 1) := by decide +kernel
theorem dL_law_273 : decode cL_law 273 = .ok (.iaload, 1) := by decide +kernel
theorem dL_law_274 : decode cL_law 274 = .ok (.invokevirtual 54, 3) := by decide +kernel
theorem dL_law_277 : decode cL_law 277 = .ok (.if_icmp .eq 18, 3) := by decide +kernel
theorem dL_law_280 : decode cL_law 280 = .ok (.iconst 0, 1) := by decide +kernel
theorem dL_law_281 : decode cL_law 281 = .ok (.ireturn, 1) := by decide +kernel
theorem dL_law_282 : decode cL_law 282 = .ok (.aload_n 1, 1) := by decide +kernel
theorem dL_law_283 : decode cL_law 283 = .ok (.invokevirtual 55, 3) := by decide +kernel
theorem dL_law_286 : decode cL_law 286 = .ok (.aload_n 2, 1) := by decide +kernel
theorem dL_law_287 : decode cL_law 287 = .ok (.invokevirtual 58, 3) := by decide +kernel
theorem dL_law_290 : decode cL_law 290 = .ok (.if_icmp .eq 5, 3) := by decide +kernel
theorem dL_law_293 : decode cL_law 293 = .ok (.iconst 0, 1) := by decide +kernel
theorem dL_law_294 : decode cL_law 294 = .ok (.ireturn, 1) := by decide +kernel
theorem dL_law_295 : decode cL_law 295 = .ok (.iinc 3 2, 3) := by decide +kernel
theorem dL_law_298 : decode cL_law 298 = .ok (.goto (-280), 3) := by decide +kernel
theorem dL_law_301 : decode cL_law 301 = .ok (.iconst 1, 1) := by decide +kernel
theorem dL_law_302 : decode cL_law 302 = .ok (.ireturn, 1) := by decide +kernel
theorem q28 : (Jvm.Cond.initialized "BlockCoderLaw") ∈ lw_all := lw_g (lw_at lw_m1 0 rfl) rfl
set_option maxRecDepth 100000
theorem q31 : (Jvm.Cond.classLink "BlockCoderLaw" (7 : Nat) "BlockCoder") ∈ lw_all := lw_g (lw_at lw_m1 3 rfl) rfl
theorem q33 : (Jvm.Cond.methodLink "BlockCoderLaw" (9 : Nat) ({ cls := "BlockCoder", name := "<init>", desc := "()V" } : Jvm.MethodName)) ∈ lw_all := lw_g (lw_at lw_m1 5 rfl) rfl
theorem q103 : (Jvm.Cond.methodLink "BlockCoderLaw" (13 : Nat) ({ cls := "BlockCoder", name := "type", desc := "(I)I" } : Jvm.MethodName)) ∈ lw_all := lw_g (lw_at lw_m1 75 rfl) rfl
theorem q107 : (Jvm.Cond.methodLink "BlockCoderLaw" (18 : Nat) ({ cls := "BlockCoder", name := "repeat", desc := "(I)I" } : Jvm.MethodName)) ∈ lw_all := lw_g (lw_at lw_m1 79 rfl) rfl
theorem q111 : (Jvm.Cond.methodLink "BlockCoderLaw" (22 : Nat) ({ cls := "BlockCoder", name := "clear", desc := "()I" } : Jvm.MethodName)) ∈ lw_all := lw_g (lw_at lw_m1 83 rfl) rfl
theorem q115 : (Jvm.Cond.methodLink "BlockCoderLaw" (27 : Nat) ({ cls := "BlockCoder", name := "column", desc := "(I)I" } : Jvm.MethodName)) ∈ lw_all := lw_g (lw_at lw_m1 87 rfl) rfl
theorem q175 : (Jvm.Cond.methodLink "BlockCoderLaw" (31 : Nat) ({ cls := "BlockCoder", name := "mark", desc := "()I" } : Jvm.MethodName)) ∈ lw_all := lw_g (lw_at lw_m1 147 rfl) rfl
theorem q179 : (Jvm.Cond.methodLink "BlockCoderLaw" (35 : Nat) ({ cls := "BlockCoder", name := "rank", desc := "(I)I" } : Jvm.MethodName)) ∈ lw_all := lw_g (lw_at lw_m1 151 rfl) rfl
theorem q183 : (Jvm.Cond.methodLink "BlockCoderLaw" (39 : Nat) ({ cls := "BlockCoder", name := "symbols", desc := "()I" } : Jvm.MethodName)) ∈ lw_all := lw_g (lw_at lw_m1 155 rfl) rfl
theorem q187 : (Jvm.Cond.methodLink "BlockCoderLaw" (43 : Nat) ({ cls := "BlockCoder", name := "symbol", desc := "(I)I" } : Jvm.MethodName)) ∈ lw_all := lw_g (lw_at lw_m1 159 rfl) rfl
theorem q191 : (Jvm.Cond.methodLink "BlockCoderLaw" (47 : Nat) ({ cls := "BlockCoder", name := "cost", desc := "()I" } : Jvm.MethodName)) ∈ lw_all := lw_g (lw_at lw_m1 163 rfl) rfl
theorem q195 : (Jvm.Cond.methodLink "BlockCoderLaw" (51 : Nat) ({ cls := "BlockCoder", name := "decoded", desc := "(I)I" } : Jvm.MethodName)) ∈ lw_all := lw_g (lw_at lw_m1 167 rfl) rfl
theorem q219 : (Jvm.Cond.methodLink "BlockCoderLaw" (55 : Nat) ({ cls := "BlockCoder", name := "different", desc := "()I" } : Jvm.MethodName)) ∈ lw_all := lw_g (lw_at lw_m1 191 rfl) rfl
theorem q223 : (Jvm.Cond.classLink "BlockCoderLaw" (10 : Nat) "BlockCoderModel") ∈ lw_all := lw_g (lw_at lw_m1 195 rfl) rfl
theorem q225 : (Jvm.Cond.methodLink "BlockCoderLaw" (12 : Nat) ({ cls := "BlockCoderModel", name := "<init>", desc := "()V" } : Jvm.MethodName)) ∈ lw_all := lw_g (lw_at lw_m1 197 rfl) rfl
theorem q260 : (Jvm.Cond.methodLink "BlockCoderLaw" (17 : Nat) ({ cls := "BlockCoderModel", name := "type", desc := "(I)I" } : Jvm.MethodName)) ∈ lw_all := lw_g (lw_at lw_m1 232 rfl) rfl
theorem q264 : (Jvm.Cond.methodLink "BlockCoderLaw" (21 : Nat) ({ cls := "BlockCoderModel", name := "repeat", desc := "(I)I" } : Jvm.MethodName)) ∈ lw_all := lw_g (lw_at lw_m1 236 rfl) rfl
theorem q268 : (Jvm.Cond.methodLink "BlockCoderLaw" (26 : Nat) ({ cls := "BlockCoderModel", name := "clear", desc := "()I" } : Jvm.MethodName)) ∈ lw_all := lw_g (lw_at lw_m2 0 rfl) rfl
theorem q272 : (Jvm.Cond.methodLink "BlockCoderLaw" (30 : Nat) ({ cls := "BlockCoderModel", name := "column", desc := "(I)I" } : Jvm.MethodName)) ∈ lw_all := lw_g (lw_at lw_m2 4 rfl) rfl
theorem q300 : (Jvm.Cond.methodLink "BlockCoderLaw" (34 : Nat) ({ cls := "BlockCoderModel", name := "mark", desc := "()I" } : Jvm.MethodName)) ∈ lw_all := lw_g (lw_at lw_m2 32 rfl) rfl
theorem q304 : (Jvm.Cond.methodLink "BlockCoderLaw" (38 : Nat) ({ cls := "BlockCoderModel", name := "rank", desc := "(I)I" } : Jvm.MethodName)) ∈ lw_all := lw_g (lw_at lw_m2 36 rfl) rfl
theorem q308 : (Jvm.Cond.methodLink "BlockCoderLaw" (42 : Nat) ({ cls := "BlockCoderModel", name := "symbols", desc := "()I" } : Jvm.MethodName)) ∈ lw_all := lw_g (lw_at lw_m2 40 rfl) rfl
theorem q312 : (Jvm.Cond.methodLink "BlockCoderLaw" (46 : Nat) ({ cls := "BlockCoderModel", name := "symbol", desc := "(I)I" } : Jvm.MethodName)) ∈ lw_all := lw_g (lw_at lw_m2 44 rfl) rfl
theorem q316 : (Jvm.Cond.methodLink "BlockCoderLaw" (50 : Nat) ({ cls := "BlockCoderModel", name := "cost", desc := "()I" } : Jvm.MethodName)) ∈ lw_all := lw_g (lw_at lw_m2 48 rfl) rfl
theorem q332 : (Jvm.Cond.methodLink "BlockCoderLaw" (54 : Nat) ({ cls := "BlockCoderModel", name := "decoded", desc := "(I)I" } : Jvm.MethodName)) ∈ lw_all := lw_g (lw_at lw_m2 64 rfl) rfl
theorem q336 : (Jvm.Cond.methodLink "BlockCoderLaw" (58 : Nat) ({ cls := "BlockCoderModel", name := "different", desc := "()I" } : Jvm.MethodName)) ∈ lw_all := lw_g (lw_at lw_m2 68 rfl) rfl
theorem q100 : (Jvm.Cond.arrayClass Jvm.ClassFile.FieldType.byte) ∈ lw_all := lw_g (lw_at lw_m1 72 rfl) rfl
set_option maxRecDepth 100000
theorem q101 : (Jvm.Cond.arrayClass Jvm.ClassFile.FieldType.int) ∈ lw_all := lw_g (lw_at lw_m1 73 rfl) rfl
theorem q102 : (Jvm.Cond.arrayClass Jvm.ClassFile.FieldType.long) ∈ lw_all := lw_g (lw_at lw_m1 74 rfl) rfl
end
section
/-! ===== lN n to 2^64: shifts, and, or, masks, one bit ===== -/
theorem wb_tb (n : Nat) : (lN n).toBitVec = BitVec.ofNat 64 n := rfl
theorem wb_inj {a b : Int64} (h : a.toBitVec = b.toBitVec) : a = b := Int64.toBitVec_inj.mp h
theorem wb_tn {n : Nat} (h : n < 2 ^ 64) : (lN n).toBitVec.toNat = n := by rw [wb_tb, BitVec.toNat_ofNat, Nat.mod_eq_of_lt h]
theorem wb_of (x : Int64) : ∃ n, n < 2 ^ 64 ∧ x = lN n := ⟨x.toBitVec.toNat, x.toBitVec.isLt, wb_inj (by rw [wb_tb]; simp)⟩
theorem wb_of32 (x : Int32) : ∃ n, n < 2 ^ 32 ∧ x = nI n := ⟨x.toBitVec.toNat, x.toBitVec.isLt, Int32.toBitVec_inj.mp (by show _ = BitVec.ofNat 32 _; simp)⟩
theorem wb_c : ∀ k, k < 64 → ((nI k).toInt64 &&& 63) = lN k := by decide +kernel
theorem wb_cu : ∀ k, k < 64 → ((nI k).toInt64.toUInt64 &&& Int64.toUInt64 63) = UInt64.ofNat k := by decide +kernel
theorem wb_sm : ∀ k, k < 64 → (BitVec.ofNat 64 k).smod 64 = BitVec.ofNat 64 k := by decide +kernel
theorem wb_pw {a b : Nat} (h : a ≤ b) : 2 ^ b = 2 ^ a * 2 ^ (b - a) := by rw [← Nat.pow_add]; congr 1; omega
theorem wb_lt2 {a b : Nat} (h : a < b) : 2 ^ a < 2 ^ b := Nat.pow_lt_pow_right (by decide) h
theorem wb_mod (n : Nat) : lN n = lN (n % 2 ^ 64) := wb_inj (by rw [wb_tb, wb_tb]; apply BitVec.eq_of_toNat_eq; rw [BitVec.toNat_ofNat, BitVec.toNat_ofNat, Nat.mod_mod])
theorem wb_shr {n k : Nat} (hn : n < 2 ^ 64) (hk : k < 64) : ((lN n).toUInt64 >>> ((nI k).toInt64.toUInt64 &&& Int64.toUInt64 63)).toInt64 = lN (n / 2 ^ k) := by
  rw [wb_cu k hk]
  apply wb_inj
  apply BitVec.eq_of_toNat_eq
  show ((lN n).toUInt64 >>> UInt64.ofNat k).toNat = (BitVec.ofNat 64 _).toNat
  have h1 : (UInt64.ofNat k).toNat = k := by
    show (BitVec.ofNat 64 k).toNat = k
    rw [BitVec.toNat_ofNat, Nat.mod_eq_of_lt (by omega)]
  have h2 : (lN n).toUInt64.toNat = n := wb_tn hn
  rw [UInt64.toNat_shiftRight, h1, h2, Nat.mod_eq_of_lt hk, Nat.shiftRight_eq_div_pow, BitVec.toNat_ofNat, Nat.mod_eq_of_lt (Nat.lt_of_le_of_lt (Nat.div_le_self _ _) hn)]
theorem wb_shl (n : Nat) {k : Nat} (hk : k < 64) : lN n <<< ((nI k).toInt64 &&& 63) = lN (n * 2 ^ k) := by
  rw [wb_c k hk]
  apply wb_inj
  rw [Int64.toBitVec_shiftLeft, wb_tb, wb_tb, wb_tb, wb_sm k hk]
  apply BitVec.eq_of_toNat_eq
  rw [BitVec.shiftLeft_eq', BitVec.toNat_shiftLeft, BitVec.toNat_ofNat, BitVec.toNat_ofNat, BitVec.toNat_ofNat, Nat.mod_eq_of_lt (show k < 2 ^ 64 by omega), Nat.shiftLeft_eq, Nat.mul_mod, Nat.mod_mod, ← Nat.mul_mod]
theorem wb_and {a b : Nat} (ha : a < 2 ^ 64) (hb : b < 2 ^ 64) : lN a &&& lN b = lN (a &&& b) := by
  apply wb_inj
  rw [Int64.toBitVec_and, wb_tb, wb_tb, wb_tb]
  apply BitVec.eq_of_toNat_eq
  rw [BitVec.toNat_and, BitVec.toNat_ofNat, BitVec.toNat_ofNat, BitVec.toNat_ofNat, Nat.mod_eq_of_lt ha, Nat.mod_eq_of_lt hb, Nat.mod_eq_of_lt (Nat.and_lt_two_pow _ hb)]
theorem wb_or {a b : Nat} (ha : a < 2 ^ 64) (hb : b < 2 ^ 64) : lN a ||| lN b = lN (a ||| b) := by
  apply wb_inj
  rw [Int64.toBitVec_or, wb_tb, wb_tb, wb_tb]
  apply BitVec.eq_of_toNat_eq
  rw [BitVec.toNat_or, BitVec.toNat_ofNat, BitVec.toNat_ofNat, BitVec.toNat_ofNat, Nat.mod_eq_of_lt ha, Nat.mod_eq_of_lt hb, Nat.mod_eq_of_lt (Nat.or_lt_two_pow ha hb)]
theorem wb_mask {n k : Nat} (hn : n < 2 ^ 64) (hk : k < 64) : lN n &&& lN (2 ^ k - 1) = lN (n % 2 ^ k) := by
  rw [wb_and hn (by have := wb_lt2 hk; omega), Nat.and_two_pow_sub_one_eq_mod]
theorem wb_a1 {n : Nat} (hn : n < 2 ^ 64) : lN n &&& 1 = lN (n % 2) := wb_mask (k := 1) hn (by decide)
theorem wb_bit {n k : Nat} (hn : n < 2 ^ 64) (hk : k < 64) : ((lN n).toUInt64 >>> ((nI k).toInt64.toUInt64 &&& Int64.toUInt64 63)).toInt64 &&& 1 = lN (n / 2 ^ k % 2) := by
  rw [wb_shr hn hk, wb_a1 (Nat.lt_of_le_of_lt (Nat.div_le_self _ _) hn)]
end
section
/-! THE ABSTRACT MACHINE: one object with its own arrays; ints as Int, references by the field that holds them (0: the object), longs as Nat. Each row turns 'aW at an instruction' into 'aW at the next', on the abstract state alone. -/
set_option maxRecDepth 100000
abbrev vwCl : List vw_C := [(RX0, TX0, 20), (RX1, TX1, 10)]
abbrev am_V : Type := Int ⊕ (Nat ⊕ Nat)
def am_z (z : Int) : Int32 := Int32.ofInt z
def am_g (ad : Nat → Nat) (v : am_V) : Value := match v with
  | .inl z => .int (am_z z)
  | .inr (.inl k) => .ref (ad k)
  | .inr (.inr n) => .long (lN n)
/-- int fields, int and byte arrays by field, the long array -/
abbrev am_S : Type := (Nat → Int) × (Nat → Nat → Int) × (Nat → Nat)
def gF (σ : am_S) (k : Nat) : Int := σ.1 k
def gA (σ : am_S) (k j : Nat) : Int := σ.2.1 k j
def gJ (σ : am_S) (j : Nat) : Nat := σ.2.2 j
def up {α : Type} (f : Nat → α) (k : Nat) (v : α) : Nat → α := fun j => if j = k then v else f j
def pF (σ : am_S) (k : Nat) (v : Int) : am_S := (up σ.1 k v, σ.2)
def wA (σ : am_S) (k : Nat) (f : Nat → Int) : am_S := (σ.1, up σ.2.1 k f, σ.2.2)
def wJ (σ : am_S) (f : Nat → Nat) : am_S := (σ.1, σ.2.1, f)
theorem up_s {α : Type} (f : Nat → α) (k : Nat) (v : α) : up f k v k = v := if_pos rfl
theorem up_n {α : Type} (f : Nat → α) {k j : Nat} (v : α) (h : j ≠ k) : up f k v j = f j := if_neg h
theorem gF_pF (σ : am_S) (k : Nat) (v : Int) (j : Nat) : gF (pF σ k v) j = if j = k then v else gF σ j := rfl
theorem gA_pF (σ : am_S) (k : Nat) (v : Int) (j i : Nat) : gA (pF σ k v) j i = gA σ j i := rfl
theorem gJ_pF (σ : am_S) (k : Nat) (v : Int) (j : Nat) : gJ (pF σ k v) j = gJ σ j := rfl
theorem gF_wA (σ : am_S) (k : Nat) (f : Nat → Int) (j : Nat) : gF (wA σ k f) j = gF σ j := rfl
theorem gA_wA (σ : am_S) (k : Nat) (f : Nat → Int) (j i : Nat) : gA (wA σ k f) j i = if j = k then f i else gA σ j i := by
  show (up σ.2.1 k f) j i = _
  unfold up gA
  split <;> rfl
theorem gJ_wA (σ : am_S) (k : Nat) (f : Nat → Int) (j : Nat) : gJ (wA σ k f) j = gJ σ j := rfl
theorem gF_wJ (σ : am_S) (f : Nat → Nat) (j : Nat) : gF (wJ σ f) j = gF σ j := rfl
theorem gA_wJ (σ : am_S) (f : Nat → Nat) (j i : Nat) : gA (wJ σ f) j i = gA σ j i := rfl
theorem gJ_wJ (σ : am_S) (f : Nat → Nat) (j : Nat) : gJ (wJ σ f) j = f j := rfl
theorem wA_wA (σ : am_S) (k : Nat) (f g : Nat → Int) : wA (wA σ k f) k g = wA σ k g := by
  have e : up (up σ.2.1 k f) k g = up σ.2.1 k g := by
    funext j
    by_cases h : j = k
    · subst h; rw [up_s, up_s]
    · rw [up_n _ _ h, up_n _ _ h, up_n _ _ h]
  show (σ.1, up (up σ.2.1 k f) k g, σ.2.2) = (σ.1, up σ.2.1 k g, σ.2.2)
  rw [e]
/-! numbers -/
theorem am_toInt {a : Int} (h : -2147483648 ≤ a ∧ a < 2147483648) : (am_z a).toInt = a := Int32.toInt_ofInt_of_le (by omega) (by omega)
theorem am_eq {a b : Int} (ha : -2147483648 ≤ a ∧ a < 2147483648) (hb : -2147483648 ≤ b ∧ b < 2147483648) : am_z a = am_z b ↔ a = b := by
  constructor
  · intro h
    have := congrArg Int32.toInt h
    rwa [am_toInt ha, am_toInt hb] at this
  · intro h; rw [h]
theorem am_lt {a b : Int} (ha : -2147483648 ≤ a ∧ a < 2147483648) (hb : -2147483648 ≤ b ∧ b < 2147483648) : am_z a < am_z b ↔ a < b := by
  rw [Int32.lt_iff_toInt_lt, am_toInt ha, am_toInt hb]
theorem am_le {a b : Int} (ha : -2147483648 ≤ a ∧ a < 2147483648) (hb : -2147483648 ≤ b ∧ b < 2147483648) : am_z a ≤ am_z b ↔ a ≤ b := by
  rw [Int32.le_iff_toInt_le, am_toInt ha, am_toInt hb]
theorem am_z0 : (0 : Int32) = am_z 0 := by decide
theorem am_add (a b : Int) : am_z (a + b) = am_z a + am_z b := Int32.ofInt_add a b
theorem am_sub (a b : Int) : am_z (a - b) = am_z a - am_z b := Int32.ofInt_sub a b
theorem am_mul (a b : Int) : am_z (a * b) = am_z a * am_z b := Int32.ofInt_mul a b
theorem am_nI (n : Nat) : am_z (n : Int) = nI n := Int32.ofInt_eq_ofNat
theorem am_in {j n : Nat} (h : j < n) (hn : n < 2147483648) : vp_in (am_z (j : Int)) n := by rw [am_nI]; exact vp_in_nI h hn
theorem am_cl {j : Nat} (h : j < 2147483648) : (am_z (j : Int)).toNatClampNeg = j := by rw [am_nI]; exact nI_clamp h
theorem am_b8 {z : Int} (h1 : -128 ≤ z) (h2 : z < 128) : (am_z z).toInt8.toInt32 = am_z z := lg_i2b_small (by rw [am_toInt (by omega)]; omega) (by rw [am_toInt (by omega)]; omega)
theorem am_sl : ∀ n, n < 32 → ((nI n &&& 31).toBitVec.smod 32).toNat = n := by decide +kernel
theorem am_of (x : Int32) : x = am_z x.toInt := (Int32.ofInt_toInt x).symm
/-! the world of an object: its number, number of fields, its arrays (field, length, 0 byte 1 int 2 long) -/
abbrev am_C : Type := Nat × Nat × List (Nat × Nat × Nat)
def am_ty (t : Nat) : FieldType := if t = 0 then .byte else if t = 1 then .int else .long
def am_el (σ : am_S) (k t : Nat) : (Nat → Int32) ⊕ (Nat → Int64) ⊕ (Nat → UInt32) ⊕ (Nat → UInt64) ⊕ (Nat → Option Nat) := if t = 2 then .inr (.inl (fun j => lN (gJ σ j))) else .inl (fun j => am_z (gA σ k j))
def am_c (dc : Nat → ClassId) (ad : Nat → Nat) (σ : am_S) (q : Nat × Nat × Nat) : Nat × va_E := (ad q.1, .inl (dc q.1, q.2.1, am_el σ q.1 q.2.2))
def am_f (cd : am_C) (ad : Nat → Nat) (σ : am_S) (k : Nat) : Value := if cd.2.2.any (fun q => q.1 == k) = true then .ref (ad k) else .int (am_z (gF σ k))
def am_w (cd : am_C) (dc : Nat → ClassId) (ad : Nat → Nat) (σ : am_S) : va_W := (ad 0, .inr (cd.1, (List.range cd.2.1).map (am_f cd ad σ))) :: cd.2.2.map (am_c dc ad σ)
def am_t (cd : am_C) (dc : Nat → ClassId) : List (ClassId × FieldType) := cd.2.2.map (fun q => (dc q.1, am_ty q.2.2))
def cdX0 : am_C := (0, 20, [(1, 32, 0), (2, 32, 0), (3, 32, 0), (4, 32, 0), (7, 32, 0), (8, 32, 0), (10, 32, 0), (11, 6, 0), (12, 7, 1), (13, 7, 1), (14, 7, 0), (15, 7, 1), (17, 4, 2), (18, 32, 0), (19, 32, 0)])
def cdX1 : am_C := (1, 10, [(1, 32, 1), (2, 32, 1), (3, 32, 1), (4, 32, 1), (7, 6, 1), (8, 7, 1), (9, 7, 1)])
theorem am_set_map {α : Type} (f : Nat → α) (N k : Nat) (x : α) : ((List.range N).map f).set k x = (List.range N).map (up f k x) := by
  apply List.ext_getElem?
  intro i
  rw [List.getElem?_set]
  by_cases hi : i < N
  · have e : (List.range N)[i]? = some i := List.getElem?_range hi
    simp only [List.getElem?_map, e, List.length_map, List.length_range, Option.map_some]
    by_cases h : k = i
    · subst h
      rw [if_pos rfl, if_pos hi, up_s]
    · rw [if_neg h, up_n _ _ (fun q => h q.symm)]
  · have e : (List.range N)[i]? = none := List.getElem?_eq_none (by simp; omega)
    simp only [List.getElem?_map, e, List.length_map, List.length_range, Option.map_none]
    by_cases h : k = i
    · subst h
      rw [if_pos rfl, if_neg hi]
    · rw [if_neg h]
theorem am_w_pF {cd : am_C} {dc : Nat → ClassId} {ad : Nat → Nat} {σ : am_S} {k : Nat} (v : Int) (hk : cd.2.2.any (fun q => q.1 == k) = false) :
    (am_w cd dc ad σ).set 0 (ad 0, .inr (cd.1, ((List.range cd.2.1).map (am_f cd ad σ)).set k (.int (am_z v)))) = am_w cd dc ad (pF σ k v) := by
  have e : up (am_f cd ad σ) k (.int (am_z v)) = am_f cd ad (pF σ k v) := by
    funext j
    by_cases h : j = k
    · subst h
      rw [up_s]
      unfold am_f
      rw [if_neg (by rw [hk]; decide), gF_pF, if_pos rfl]
    · rw [up_n _ _ h]
      unfold am_f
      rw [gF_pF, if_neg h]
  rw [am_set_map, e]
  rfl
/-- of each field at most one array, at most one of longs -/
def am_nd (cd : am_C) : Prop := (∀ (i j : Nat) (p q : Nat × Nat × Nat), cd.2.2[i]? = some p → cd.2.2[j]? = some q → p.1 = q.1 → i = j) ∧ (∀ (i j : Nat) (p q : Nat × Nat × Nat), cd.2.2[i]? = some p → cd.2.2[j]? = some q → p.2.2 = 2 → q.2.2 = 2 → i = j)
theorem am_map_set {α : Type} (L : List (Nat × Nat × Nat)) (f g : Nat × Nat × Nat → α) {q0 : Nat} {q : Nat × Nat × Nat} (hq : L[q0]? = some q) {x : α} (hx : g q = x) (ho : ∀ (i : Nat) (p : Nat × Nat × Nat), L[i]? = some p → i ≠ q0 → g p = f p) : (L.map f).set q0 x = L.map g := by
  apply List.ext_getElem?
  intro i
  rw [List.getElem?_set]
  by_cases h : q0 = i
  · subst h
    have hl : q0 < L.length := (List.getElem?_eq_some_iff.mp hq).1
    rw [if_pos rfl, if_pos (by rw [List.length_map]; exact hl), List.getElem?_map, hq, Option.map_some, hx]
  · rw [if_neg h, List.getElem?_map, List.getElem?_map]
    cases hp : L[i]? with
    | none => rfl
    | some p => rw [Option.map_some, Option.map_some, ho i p hp (fun e => h e.symm)]
theorem am_w_wA {cd : am_C} {dc : Nat → ClassId} {ad : Nat → Nat} {σ : am_S} (hnd : am_nd cd) {q0 k n t : Nat} (hq : cd.2.2[q0]? = some (k, n, t)) (ht : t ≠ 2) (f : Nat → Int) {f' : Nat → Int32} (hf : ∀ j, f' j = am_z (f j)) :
    (am_w cd dc ad σ).set (q0 + 1) (ad k, .inl (dc k, n, .inl f')) = am_w cd dc ad (wA σ k f) := by
  have hf' : f' = fun j => am_z (f j) := funext hf
  subst hf'
  show (ad 0, _) :: (cd.2.2.map (am_c dc ad σ)).set q0 _ = (ad 0, _) :: cd.2.2.map (am_c dc ad (wA σ k f))
  rw [am_map_set cd.2.2 (am_c dc ad σ) (am_c dc ad (wA σ k f)) hq]
  · rfl
  · unfold am_c am_el
    rw [if_neg ht]
    congr 4
    refine congrArg Sum.inl (funext fun j => ?_)
    show am_z (gA (wA σ k f) k j) = _
    rw [gA_wA, if_pos rfl]
  · intro i p hp hne
    have hk : p.1 ≠ k := fun e => hne (hnd.1 i q0 p (k, n, t) hp hq e)
    unfold am_c am_el
    by_cases h2 : p.2.2 = 2
    · rw [if_pos h2, if_pos h2]; rfl
    · rw [if_neg h2, if_neg h2]
      congr 4
      refine congrArg Sum.inl (funext fun j => ?_)
      rw [gA_wA, if_neg hk]
theorem am_w_wJ {cd : am_C} {dc : Nat → ClassId} {ad : Nat → Nat} {σ : am_S} (hnd : am_nd cd) {q0 k n : Nat} (hq : cd.2.2[q0]? = some (k, n, 2)) (f : Nat → Nat) {f' : Nat → Int64} (hf : ∀ j, f' j = lN (f j)) :
    (am_w cd dc ad σ).set (q0 + 1) (ad k, .inl (dc k, n, .inr (.inl f'))) = am_w cd dc ad (wJ σ f) := by
  have hf' : f' = fun j => lN (f j) := funext hf
  subst hf'
  show (ad 0, _) :: (cd.2.2.map (am_c dc ad σ)).set q0 _ = (ad 0, _) :: cd.2.2.map (am_c dc ad (wJ σ f))
  rw [am_map_set cd.2.2 (am_c dc ad σ) (am_c dc ad (wJ σ f)) hq]
  · rfl
  · rfl
  · intro i p hp hne
    have hk : p.2.2 ≠ 2 := fun e => hne (hnd.2 i q0 p (k, n, 2) hp hq e rfl)
    unfold am_c am_el
    rw [if_neg hk, if_neg hk]
    rfl
theorem am_w_at {cd : am_C} {dc : Nat → ClassId} {ad : Nat → Nat} {σ : am_S} {q0 k n t : Nat} (hq : cd.2.2[q0]? = some (k, n, t)) (ht : t ≠ 2) : (am_w cd dc ad σ)[q0 + 1]? = some (ad k, .inl (dc k, n, .inl (fun j => am_z (gA σ k j)))) := by
  show (cd.2.2.map (am_c dc ad σ))[q0]? = _
  rw [List.getElem?_map, hq]
  show some (am_c dc ad σ (k, n, t)) = _
  unfold am_c am_el
  rw [if_neg ht]
theorem am_w_atJ {cd : am_C} {dc : Nat → ClassId} {ad : Nat → Nat} {σ : am_S} {q0 k n : Nat} (hq : cd.2.2[q0]? = some (k, n, 2)) : (am_w cd dc ad σ)[q0 + 1]? = some (ad k, .inl (dc k, n, .inr (.inl (fun j => lN (gJ σ j))))) := by
  show (cd.2.2.map (am_c dc ad σ))[q0]? = _
  rw [List.getElem?_map, hq]
  rfl
theorem am_t_at {cd : am_C} {dc : Nat → ClassId} {q0 k n t : Nat} (hq : cd.2.2[q0]? = some (k, n, t)) : (am_t cd dc)[q0]? = some (dc k, am_ty t) := by
  unfold am_t
  rw [List.getElem?_map, hq]
  rfl
/-! locals -/
def am_has (ad : Nat → Nat) (ls : Array Slot) (nL : Nat) (al : List (Option am_V)) : Prop := ls.size = nL ∧ lv_wf ls ∧ ∀ (i : Nat) (v : am_V), al[i]? = some (some v) → ls[i]? = some (.val (am_g ad v)) ∧ (am_g ad v).category = 1
def am_lv (ad : Nat → Nat) (al : List (Option am_V)) : List (Nat × Value) := (List.range al.length).filterMap (fun i => (al[i]?.join).map (fun v => (i, am_g ad v)))
theorem am_lv_mem {ad : Nat → Nat} {al : List (Option am_V)} {q : Nat × Value} : q ∈ am_lv ad al ↔ ∃ v, al[q.1]? = some (some v) ∧ q.2 = am_g ad v := by
  unfold am_lv
  rw [List.mem_filterMap]
  constructor
  · rintro ⟨i, -, h⟩
    cases hi : al[i]? with
    | none => rw [hi] at h; simp at h
    | some x =>
      cases x with
      | none => rw [hi] at h; simp at h
      | some v =>
        rw [hi] at h
        simp only [Option.join_some, Option.map_some, Option.some.injEq] at h
        subst h
        exact ⟨v, hi, rfl⟩
  · rintro ⟨v, h1, h2⟩
    refine ⟨q.1, List.mem_range.mpr (List.getElem?_eq_some_iff.mp h1).1, ?_⟩
    rw [h1]
    simp only [Option.join_some, Option.map_some, Option.some.injEq]
    rw [← h2]
theorem am_has.lv {ad : Nat → Nat} {ls : Array Slot} {nL : Nat} {al : List (Option am_V)} (h : am_has ad ls nL al) : lv_has ls nL (am_lv ad al) := by
  refine ⟨h.1, h.2.1, fun q hq => ?_⟩
  obtain ⟨v, h1, h2⟩ := am_lv_mem.mp hq
  rw [h2]
  exact (h.2.2 q.1 v h1).1
theorem am_has.st {ad : Nat → Nat} {ls ls' : Array Slot} {nL i : Nat} {al : List (Option am_V)} {v : am_V} (h0 : am_has ad ls nL al) (hc : (am_g ad v).category = 1) (h : lv_has ls' nL ((i, am_g ad v) :: (am_lv ad al).filter (fun q => !(q.1 == i) && !(q.1 + 1 == i && q.2.category == 2)))) : am_has ad ls' nL (al.set i (some v)) := by
  refine ⟨h.1, h.2.1, fun j w hj => ?_⟩
  rw [List.getElem?_set] at hj
  by_cases e : i = j
  · subst e
    rw [if_pos rfl] at hj
    split at hj
    · have e2 : v = w := by simpa using hj
      subst e2
      exact ⟨h.2.2 (i, am_g ad v) List.mem_cons_self, hc⟩
    · cases hj
  · rw [if_neg e] at hj
    have hw := (h0.2.2 j w hj).2
    refine ⟨h.2.2 (j, am_g ad w) (List.mem_cons_of_mem _ (List.mem_filter.mpr ⟨am_lv_mem.mpr ⟨w, hj, rfl⟩, ?_⟩)), hw⟩
    have e' : ¬ j = i := fun q => e q.symm
    simp [hw, e']
/-! the judgement -/
abbrev am_X : Type := Program × Launch × Env × State × MethodId × Array Value × List Frame × Method × Code × va_G × (Nat → ClassId) × (Nat → Nat) × (Nat → Prop)
def am_B (D : va_G) (cd : am_C) (dc : Nat → ClassId) (ad : Nat → Nat) (A : Nat → Prop) (σ : am_S) (t : State) : Prop := va_P D vwCl (am_w cd dc ad σ) t.heap ∧ va_K D vwCl (am_t cd dc) t ∧ va_D A (am_w cd dc ad σ)
def am_Q (P : Option Int → am_S → Prop) (B : am_S → State → Prop) (A : Nat → Prop) : Array Value → State → Outcome → State → Prop := fun _ st oc t => (∃ (r : Option Int) (u : am_S), oc = .returned (r.map fun z => .int (am_z z)) ∧ P r u ∧ B u t) ∧ va_F A st t
def aW (cd : am_C) (nL : Nat) (R : Room) (X : am_X) (P : Option Int → am_S → Prop) (pc : Nat) (al : List (Option am_V)) (st : List am_V) (σ : am_S) : Prop := match X with
  | (p, l, e, s, m, args, below, meth, c, D, dc, ad, A) => ∀ (H : Heap) (locs : List Loc) (ls : Array Slot), am_has ad ls nL al → va_P D vwCl (am_w cd dc ad σ) H → va_D A (am_w cd dc ad σ) → va_S A s.heap H locs →
      W p l e R s m args below meth c H locs 0 0 (MQ below (am_Q P (am_B D cd dc ad A) A) args s 0 0 A) (F0 m pc ls (st.map (am_g ad)))
def am_cls (cd : am_C) (own : String) (T : u_T) (ty : Nat → FieldType) : Prop := vwCl[cd.1]? = some (own, T, cd.2.1) ∧ (∀ w ∈ u_ws own T cd.2.1, w ∈ lw_all) ∧ (∀ k, k < cd.2.1 → parseFieldDescriptor (T k).2.2.1 = some (ty k)) ∧ (∀ a, a < cd.2.1 → ∀ b, b < cd.2.1 → a ≠ b → (T a).2.1 ≠ (T b).2.1) ∧ am_nd cd
def aOK (cd : am_C) (own : String) (T : u_T) (ty : Nat → FieldType) (cc : ByteArray) (nL : Nat) (ret : Option FieldType) (X : am_X) : Prop := match X with
  | (p, _, _, s, m, args, _, meth, c, D, dc, _, A) => p.tables.exec = Jvm.exec ∧ c.code = cc ∧ c.maxLocals = nL ∧ s.vm.findClass own = some m.cls ∧ (∀ w ∈ lw_all, w.before args s = true) ∧ va_K D vwCl (am_t cd dc) s ∧ (∀ q : Nat, s.heap.size ≤ q → A q) ∧ meth.sig.returnType = ret ∧ meth.locks = false ∧ am_cls cd own T ty
theorem am_cls0 : am_cls cdX0 RX0 TX0 tyX0 := by
  refine ⟨rfl, in_X0, tyX0_ok, nmX0, ?_⟩
  have h1 : va_nd (cdX0.2.2.map (·.1)) = true := by decide +kernel
  have h2 : ∀ i, i < 15 → ∀ j, j < 15 → (cdX0.2.2.getD i (0, 0, 0)).2.2 = 2 → (cdX0.2.2.getD j (0, 0, 0)).2.2 = 2 → i = j := by decide +kernel
  refine ⟨fun i j p q hp hq e => va_nd_inj _ h1 i j p.1 (by rw [List.getElem?_map, hp]; rfl) (by rw [List.getElem?_map, hq, e]; rfl), fun i j p q hp hq e1 e2 => ?_⟩
  have l1 : i < 15 := (List.getElem?_eq_some_iff.mp hp).1
  have l2 : j < 15 := (List.getElem?_eq_some_iff.mp hq).1
  refine h2 i l1 j l2 ?_ ?_
  · rw [List.getD_eq_getElem?_getD, hp]; exact e1
  · rw [List.getD_eq_getElem?_getD, hq]; exact e2
theorem am_cls1 : am_cls cdX1 RX1 TX1 tyX1 := by
  refine ⟨rfl, in_X1, tyX1_ok, nmX1, ?_⟩
  have h1 : va_nd (cdX1.2.2.map (·.1)) = true := by decide +kernel
  have h2 : ∀ i, i < 7 → (cdX1.2.2.getD i (0, 0, 0)).2.2 ≠ 2 := by decide +kernel
  refine ⟨fun i j p q hp hq e => va_nd_inj _ h1 i j p.1 (by rw [List.getElem?_map, hp]; rfl) (by rw [List.getElem?_map, hq, e]; rfl), fun i j p q hp hq e1 e2 => ?_⟩
  have l1 : i < 7 := (List.getElem?_eq_some_iff.mp hp).1
  refine absurd ?_ (h2 i l1)
  rw [List.getD_eq_getElem?_getD, hp]; exact e1
end
section
/-! THE ABSTRACT MACHINE's ROWS (written by tools/mkrows.py) -/
set_option maxRecDepth 100000
section AM
variable {cd : am_C} {own : String} {T : u_T} {ty : Nat → FieldType} {cc : ByteArray} {nL : Nat} {ret : Option FieldType} {R : Room} {X : am_X} {P : Option Int → am_S → Prop} {pc : Nat} {al : List (Option am_V)} {st : List am_V} {σ : am_S}
theorem am_iconst (hX : aOK cd own T ty cc nL ret X) {n : Int} (hd : decode cc pc = .ok (.iconst n, 1))
    (kk : aW cd nL R X P (pc + 1) al (.inl n :: st) σ) : aW cd nL R X P pc al st σ := by
  obtain ⟨p, l, e, s, m, args, below, meth, c, D, dc, ad, A⟩ := X
  intro H locs ls hl hP hD hS
  obtain ⟨hx, hb, hml, hown, hts, hK, hA, hr, hlk, hcl⟩ := hX
  exact lv_iconst hx hb hd rfl (kk H locs ls hl hP hD hS)
theorem am_bipush (hX : aOK cd own T ty cc nL ret X) {n : Int} (hd : decode cc pc = .ok (.bipush n, 2)) (hn : (Int8.ofInt n).toInt32 = am_z n)
    (kk : aW cd nL R X P (pc + 2) al (.inl n :: st) σ) : aW cd nL R X P pc al st σ := by
  obtain ⟨p, l, e, s, m, args, below, meth, c, D, dc, ad, A⟩ := X
  intro H locs ls hl hP hD hS
  obtain ⟨hx, hb, hml, hown, hts, hK, hA, hr, hlk, hcl⟩ := hX
  exact lv_bipush hx hb hd hn (kk H locs ls hl hP hD hS)
theorem am_sipush (hX : aOK cd own T ty cc nL ret X) {n : Int} (hd : decode cc pc = .ok (.sipush n, 3)) (hn : (Int16.ofInt n).toInt32 = am_z n)
    (kk : aW cd nL R X P (pc + 3) al (.inl n :: st) σ) : aW cd nL R X P pc al st σ := by
  obtain ⟨p, l, e, s, m, args, below, meth, c, D, dc, ad, A⟩ := X
  intro H locs ls hl hP hD hS
  obtain ⟨hx, hb, hml, hown, hts, hK, hA, hr, hlk, hcl⟩ := hX
  exact lv_sipush hx hb hd hn (kk H locs ls hl hP hD hS)
theorem am_lconst (hX : aOK cd own T ty cc nL ret X) {n : Fin 2} (hd : decode cc pc = .ok (.lconst n, 1))
    (kk : aW cd nL R X P (pc + 1) al (.inr (.inr (n : Nat)) :: st) σ) : aW cd nL R X P pc al st σ := by
  obtain ⟨p, l, e, s, m, args, below, meth, c, D, dc, ad, A⟩ := X
  intro H locs ls hl hP hD hS
  obtain ⟨hx, hb, hml, hown, hts, hK, hA, hr, hlk, hcl⟩ := hX
  exact lv_lconst hx hb hd rfl (kk H locs ls hl hP hD hS)
theorem am_iload_n (hX : aOK cd own T ty cc nL ret X) {k : Fin 4} {i : Nat} {z : Int} (hd : decode cc pc = .ok (.iload_n k, 1)) (hi : (k : Nat) = i) (hv : al[i]? = some (some (.inl z)))
    (kk : aW cd nL R X P (pc + 1) al (.inl z :: st) σ) : aW cd nL R X P pc al st σ := by
  obtain ⟨p, l, e, s, m, args, below, meth, c, D, dc, ad, A⟩ := X
  intro H locs ls hl hP hD hS
  obtain ⟨hx, hb, hml, hown, hts, hK, hA, hr, hlk, hcl⟩ := hX
  exact lv_iload_n hx hb hd hi (hl.2.2 i _ hv).1 (kk H locs ls hl hP hD hS)
theorem am_iload (hX : aOK cd own T ty cc nL ret X) {i : Nat} {z : Int} (hd : decode cc pc = .ok (.iload i, 2)) (hv : al[i]? = some (some (.inl z)))
    (kk : aW cd nL R X P (pc + 2) al (.inl z :: st) σ) : aW cd nL R X P pc al st σ := by
  obtain ⟨p, l, e, s, m, args, below, meth, c, D, dc, ad, A⟩ := X
  intro H locs ls hl hP hD hS
  obtain ⟨hx, hb, hml, hown, hts, hK, hA, hr, hlk, hcl⟩ := hX
  exact lv_iload hx hb hd (hl.2.2 i _ hv).1 (kk H locs ls hl hP hD hS)
theorem am_aload_n (hX : aOK cd own T ty cc nL ret X) {k : Fin 4} {i a : Nat} (hd : decode cc pc = .ok (.aload_n k, 1)) (hi : (k : Nat) = i) (hv : al[i]? = some (some (.inr (.inl a))))
    (kk : aW cd nL R X P (pc + 1) al (.inr (.inl a) :: st) σ) : aW cd nL R X P pc al st σ := by
  obtain ⟨p, l, e, s, m, args, below, meth, c, D, dc, ad, A⟩ := X
  intro H locs ls hl hP hD hS
  obtain ⟨hx, hb, hml, hown, hts, hK, hA, hr, hlk, hcl⟩ := hX
  exact lv_aload_n hx hb hd hi (hl.2.2 i _ hv).1 (kk H locs ls hl hP hD hS)
theorem am_istore_n (hX : aOK cd own T ty cc nL ret X) {k : Fin 4} {i : Nat} {z : Int} (hd : decode cc pc = .ok (.istore_n k, 1)) (hi : (k : Nat) = i) (hn : i < nL)
    (kk : aW cd nL R X P (pc + 1) (al.set i (some (.inl z))) st σ) : aW cd nL R X P pc al (.inl z :: st) σ := by
  obtain ⟨p, l, e, s, m, args, below, meth, c, D, dc, ad, A⟩ := X
  intro H locs ls hl hP hD hS
  obtain ⟨hx, hb, hml, hown, hts, hK, hA, hr, hlk, hcl⟩ := hX
  exact lv_istore_n hx hb hd hi hl.lv hn rfl (fun ls' hl' => kk H locs ls' (hl.st (v := .inl z) rfl hl') hP hD hS)
theorem am_istore (hX : aOK cd own T ty cc nL ret X) {i : Nat} {z : Int} (hd : decode cc pc = .ok (.istore i, 2)) (hn : i < nL)
    (kk : aW cd nL R X P (pc + 2) (al.set i (some (.inl z))) st σ) : aW cd nL R X P pc al (.inl z :: st) σ := by
  obtain ⟨p, l, e, s, m, args, below, meth, c, D, dc, ad, A⟩ := X
  intro H locs ls hl hP hD hS
  obtain ⟨hx, hb, hml, hown, hts, hK, hA, hr, hlk, hcl⟩ := hX
  exact lv_istore hx hb hd hl.lv hn rfl (fun ls' hl' => kk H locs ls' (hl.st (v := .inl z) rfl hl') hP hD hS)
theorem am_iinc (hX : aOK cd own T ty cc nL ret X) {i : Nat} {z n : Int} (hd : decode cc pc = .ok (.iinc i n, 3)) (hv : al[i]? = some (some (.inl z))) (hn : i < nL)
    (kk : aW cd nL R X P (pc + 3) (al.set i (some (.inl (z + n)))) st σ) : aW cd nL R X P pc al st σ := by
  obtain ⟨p, l, e, s, m, args, below, meth, c, D, dc, ad, A⟩ := X
  intro H locs ls hl hP hD hS
  obtain ⟨hx, hb, hml, hown, hts, hK, hA, hr, hlk, hcl⟩ := hX
  obtain ⟨k, hk⟩ := List.getElem?_of_mem (am_lv_mem (ad := ad) (al := al) (q := (i, .int (am_z z))) |>.mpr ⟨.inl z, hv, rfl⟩)
  exact lv_iinc hx hb hd hl.lv hk (v := am_z (z + n)) (by rw [am_add]; rfl) hn rfl (fun ls' hl' => kk H locs ls' (hl.st (v := .inl (z + n)) rfl hl') hP hD hS)
theorem am_iadd (hX : aOK cd own T ty cc nL ret X) {a b : Int} (hd : decode cc pc = .ok (.iadd, 1))
    (kk : aW cd nL R X P (pc + 1) al (.inl (a + b) :: st) σ) : aW cd nL R X P pc al (.inl b :: .inl a :: st) σ := by
  obtain ⟨p, l, e, s, m, args, below, meth, c, D, dc, ad, A⟩ := X
  intro H locs ls hl hP hD hS
  obtain ⟨hx, hb, hml, hown, hts, hK, hA, hr, hlk, hcl⟩ := hX
  have h := kk H locs ls hl hP hD hS
  refine lv_iadd (x := am_z a) (y := am_z b) hx hb hd ?_
  rw [← am_add]
  exact h
theorem am_isub (hX : aOK cd own T ty cc nL ret X) {a b : Int} (hd : decode cc pc = .ok (.isub, 1))
    (kk : aW cd nL R X P (pc + 1) al (.inl (a - b) :: st) σ) : aW cd nL R X P pc al (.inl b :: .inl a :: st) σ := by
  obtain ⟨p, l, e, s, m, args, below, meth, c, D, dc, ad, A⟩ := X
  intro H locs ls hl hP hD hS
  obtain ⟨hx, hb, hml, hown, hts, hK, hA, hr, hlk, hcl⟩ := hX
  have h := kk H locs ls hl hP hD hS
  refine lv_isub (x := am_z a) (y := am_z b) hx hb hd ?_
  rw [← am_sub]
  exact h
theorem am_imul (hX : aOK cd own T ty cc nL ret X) {a b : Int} (hd : decode cc pc = .ok (.imul, 1))
    (kk : aW cd nL R X P (pc + 1) al (.inl (a * b) :: st) σ) : aW cd nL R X P pc al (.inl b :: .inl a :: st) σ := by
  obtain ⟨p, l, e, s, m, args, below, meth, c, D, dc, ad, A⟩ := X
  intro H locs ls hl hP hD hS
  obtain ⟨hx, hb, hml, hown, hts, hK, hA, hr, hlk, hcl⟩ := hX
  have h := kk H locs ls hl hP hD hS
  refine lv_imul (x := am_z a) (y := am_z b) hx hb hd ?_
  rw [← am_mul]
  exact h
theorem am_idiv (hX : aOK cd own T ty cc nL ret X) {a b : Int} {x y : Nat} (hd : decode cc pc = .ok (.idiv, 1)) (ha : a = (x : Int)) (hb0 : b = (y : Int)) (hx0 : x < 2147483648) (hy0 : 0 < y ∧ y < 2147483648)
    (kk : aW cd nL R X P (pc + 1) al (.inl ((x / y : Nat) : Int) :: st) σ) : aW cd nL R X P pc al (.inl b :: .inl a :: st) σ := by
  obtain ⟨p, l, e, s, m, args, below, meth, c, D, dc, ad, A⟩ := X
  intro H locs ls hl hP hD hS
  obtain ⟨hx, hb, hml, hown, hts, hK, hA, hr, hlk, hcl⟩ := hX
  subst ha
  subst hb0
  have h := kk H locs ls hl hP hD hS
  have hne : ¬ am_z (y : Int) = 0 := by rw [am_z0, am_eq (by omega) (by omega)]; omega
  refine lv_idiv (x := am_z (x : Int)) (y := am_z (y : Int)) hx hb hd hne ?_
  rw [am_nI, am_nI, pk_div (by omega) hy0.1 (by omega), ← am_nI]
  exact h
theorem am_irem (hX : aOK cd own T ty cc nL ret X) {a b : Int} {x y : Nat} (hd : decode cc pc = .ok (.irem, 1)) (ha : a = (x : Int)) (hb0 : b = (y : Int)) (hx0 : x < 2147483648) (hy0 : 0 < y ∧ y < 2147483648)
    (kk : aW cd nL R X P (pc + 1) al (.inl ((x % y : Nat) : Int) :: st) σ) : aW cd nL R X P pc al (.inl b :: .inl a :: st) σ := by
  obtain ⟨p, l, e, s, m, args, below, meth, c, D, dc, ad, A⟩ := X
  intro H locs ls hl hP hD hS
  obtain ⟨hx, hb, hml, hown, hts, hK, hA, hr, hlk, hcl⟩ := hX
  subst ha
  subst hb0
  have h := kk H locs ls hl hP hD hS
  have hne : ¬ am_z (y : Int) = 0 := by rw [am_z0, am_eq (by omega) (by omega)]; omega
  refine lv_irem (x := am_z (x : Int)) (y := am_z (y : Int)) hx hb hd hne ?_
  rw [am_nI, am_nI, pk_rem (by omega) hy0.1 (by omega), ← am_nI]
  exact h
theorem am_iand (hX : aOK cd own T ty cc nL ret X) {a b : Int} {x : Nat} (k : Nat) (hd : decode cc pc = .ok (.iand, 1)) (ha : a = (x : Int)) (hx0 : x < 2147483648) (hm : (am_z b).toBitVec.toNat = 2 ^ k - 1)
    (kk : aW cd nL R X P (pc + 1) al (.inl ((x % 2 ^ k : Nat) : Int) :: st) σ) : aW cd nL R X P pc al (.inl b :: .inl a :: st) σ := by
  obtain ⟨p, l, e, s, m, args, below, meth, c, D, dc, ad, A⟩ := X
  intro H locs ls hl hP hD hS
  obtain ⟨hx, hb, hml, hown, hts, hK, hA, hr, hlk, hcl⟩ := hX
  subst ha
  have h := kk H locs ls hl hP hD hS
  refine lv_iand (x := am_z (x : Int)) (y := am_z b) hx hb hd ?_
  rw [am_nI, pk_andN (by omega) k hm, ← am_nI]
  exact h
theorem am_ior (hX : aOK cd own T ty cc nL ret X) {a b : Int} {x y : Nat} (hd : decode cc pc = .ok (.ior, 1)) (ha : a = (x : Int)) (hb0 : b = (y : Int))
    (kk : aW cd nL R X P (pc + 1) al (.inl ((x ||| y : Nat) : Int) :: st) σ) : aW cd nL R X P pc al (.inl b :: .inl a :: st) σ := by
  obtain ⟨p, l, e, s, m, args, below, meth, c, D, dc, ad, A⟩ := X
  intro H locs ls hl hP hD hS
  obtain ⟨hx, hb, hml, hown, hts, hK, hA, hr, hlk, hcl⟩ := hX
  subst ha
  subst hb0
  have h := kk H locs ls hl hP hD hS
  refine lv_ior (x := am_z (x : Int)) (y := am_z (y : Int)) hx hb hd ?_
  have e : am_z (x : Int) ||| am_z (y : Int) = am_z ((x ||| y : Nat) : Int) := by
    rw [am_nI, am_nI, am_nI]
    apply Int32.toBitVec_inj.mp
    rw [Int32.toBitVec_or]
    show BitVec.ofNat 32 x ||| BitVec.ofNat 32 y = BitVec.ofNat 32 (x ||| y)
    rw [BitVec.ofNat_or]
  rw [e]
  exact h
theorem am_ishl (hX : aOK cd own T ty cc nL ret X) {a b : Int} {x k : Nat} (hd : decode cc pc = .ok (.ishl, 1)) (ha : a = (x : Int)) (hb0 : b = (k : Int)) (hk : k < 32) (hx0 : x * 2 ^ k < 4294967296)
    (kk : aW cd nL R X P (pc + 1) al (.inl ((x * 2 ^ k : Nat) : Int) :: st) σ) : aW cd nL R X P pc al (.inl b :: .inl a :: st) σ := by
  obtain ⟨p, l, e, s, m, args, below, meth, c, D, dc, ad, A⟩ := X
  intro H locs ls hl hP hD hS
  obtain ⟨hx, hb, hml, hown, hts, hK, hA, hr, hlk, hcl⟩ := hX
  subst ha
  subst hb0
  have h := kk H locs ls hl hP hD hS
  refine lv_ishl (x := am_z (x : Int)) (y := am_z (k : Int)) hx hb hd ?_
  rw [am_nI, am_nI, pk_shlN _ k (am_sl k hk) (by omega), ← am_nI]
  exact h
theorem am_ishr (hX : aOK cd own T ty cc nL ret X) {a b : Int} {x k : Nat} (hd : decode cc pc = .ok (.ishr, 1)) (ha : a = (x : Int)) (hb0 : b = (k : Int)) (hk : k < 32) (hx0 : x < 2147483648)
    (kk : aW cd nL R X P (pc + 1) al (.inl ((x / 2 ^ k : Nat) : Int) :: st) σ) : aW cd nL R X P pc al (.inl b :: .inl a :: st) σ := by
  obtain ⟨p, l, e, s, m, args, below, meth, c, D, dc, ad, A⟩ := X
  intro H locs ls hl hP hD hS
  obtain ⟨hx, hb, hml, hown, hts, hK, hA, hr, hlk, hcl⟩ := hX
  subst ha
  subst hb0
  have h := kk H locs ls hl hP hD hS
  refine lv_ishr (x := am_z (x : Int)) (y := am_z (k : Int)) hx hb hd ?_
  rw [am_nI, am_nI, pk_shrN (by omega) _ k (am_sl k hk), ← am_nI]
  exact h
theorem am_i2b (hX : aOK cd own T ty cc nL ret X) {a : Int} (hd : decode cc pc = .ok (.i2b, 1)) (ha : -128 ≤ a ∧ a < 128)
    (kk : aW cd nL R X P (pc + 1) al (.inl a :: st) σ) : aW cd nL R X P pc al (.inl a :: st) σ := by
  obtain ⟨p, l, e, s, m, args, below, meth, c, D, dc, ad, A⟩ := X
  intro H locs ls hl hP hD hS
  obtain ⟨hx, hb, hml, hown, hts, hK, hA, hr, hlk, hcl⟩ := hX
  exact lv_i2b hx hb hd (am_b8 ha.1 ha.2) (kk H locs ls hl hP hD hS)
theorem am_lshl (hX : aOK cd own T ty cc nL ret X) {n k : Nat} {b : Int} (hd : decode cc pc = .ok (.lshl, 1)) (hb0 : b = (k : Int)) (hk : k < 64)
    (kk : aW cd nL R X P (pc + 1) al (.inr (.inr (n * 2 ^ k)) :: st) σ) : aW cd nL R X P pc al (.inl b :: .inr (.inr n) :: st) σ := by
  obtain ⟨p, l, e, s, m, args, below, meth, c, D, dc, ad, A⟩ := X
  intro H locs ls hl hP hD hS
  obtain ⟨hx, hb, hml, hown, hts, hK, hA, hr, hlk, hcl⟩ := hX
  subst hb0
  exact lv_lshl hx hb hd (by rw [am_nI]; exact wb_shl n hk) (kk H locs ls hl hP hD hS)
theorem am_lushr (hX : aOK cd own T ty cc nL ret X) {n k : Nat} {b : Int} (hd : decode cc pc = .ok (.lushr, 1)) (hb0 : b = (k : Int)) (hk : k < 64) (hn : n < 2 ^ 64)
    (kk : aW cd nL R X P (pc + 1) al (.inr (.inr (n / 2 ^ k)) :: st) σ) : aW cd nL R X P pc al (.inl b :: .inr (.inr n) :: st) σ := by
  obtain ⟨p, l, e, s, m, args, below, meth, c, D, dc, ad, A⟩ := X
  intro H locs ls hl hP hD hS
  obtain ⟨hx, hb, hml, hown, hts, hK, hA, hr, hlk, hcl⟩ := hX
  subst hb0
  exact lv_lushr hx hb hd (by rw [am_nI]; exact wb_shr hn hk) (kk H locs ls hl hP hD hS)
theorem am_lor (hX : aOK cd own T ty cc nL ret X) {a b : Nat} (hd : decode cc pc = .ok (.lor, 1)) (ha : a < 2 ^ 64) (hb0 : b < 2 ^ 64)
    (kk : aW cd nL R X P (pc + 1) al (.inr (.inr (a ||| b)) :: st) σ) : aW cd nL R X P pc al (.inr (.inr b) :: .inr (.inr a) :: st) σ := by
  obtain ⟨p, l, e, s, m, args, below, meth, c, D, dc, ad, A⟩ := X
  intro H locs ls hl hP hD hS
  obtain ⟨hx, hb, hml, hown, hts, hK, hA, hr, hlk, hcl⟩ := hX
  have h := kk H locs ls hl hP hD hS
  refine lv_lor (x := lN a) (y := lN b) hx hb hd ?_
  rw [wb_or ha hb0]
  exact h
theorem am_land1 (hX : aOK cd own T ty cc nL ret X) {a : Nat} (hd : decode cc pc = .ok (.land, 1)) (ha : a < 2 ^ 64)
    (kk : aW cd nL R X P (pc + 1) al (.inr (.inr (a % 2)) :: st) σ) : aW cd nL R X P pc al (.inr (.inr 1) :: .inr (.inr a) :: st) σ := by
  obtain ⟨p, l, e, s, m, args, below, meth, c, D, dc, ad, A⟩ := X
  intro H locs ls hl hP hD hS
  obtain ⟨hx, hb, hml, hown, hts, hK, hA, hr, hlk, hcl⟩ := hX
  have h := kk H locs ls hl hP hD hS
  refine lv_land (x := lN a) (y := lN 1) hx hb hd ?_
  have e : lN a &&& lN 1 = lN (a % 2) := wb_a1 ha
  rw [e]
  exact h
theorem am_l2i (hX : aOK cd own T ty cc nL ret X) {a : Nat} (hd : decode cc pc = .ok (.l2i, 1))
    (kk : aW cd nL R X P (pc + 1) al (.inl (a : Int) :: st) σ) : aW cd nL R X P pc al (.inr (.inr a) :: st) σ := by
  obtain ⟨p, l, e, s, m, args, below, meth, c, D, dc, ad, A⟩ := X
  intro H locs ls hl hP hD hS
  obtain ⟨hx, hb, hml, hown, hts, hK, hA, hr, hlk, hcl⟩ := hX
  exact lv_l2i hx hb hd (by rw [am_nI]; exact lN_i a) (kk H locs ls hl hP hD hS)
theorem am_dup (hX : aOK cd own T ty cc nL ret X) {v : am_V} (hd : decode cc pc = .ok (.dup, 1)) (hv : ∀ ad : Nat → Nat, (am_g ad v).category = 1)
    (kk : aW cd nL R X P (pc + 1) al (v :: v :: st) σ) : aW cd nL R X P pc al (v :: st) σ := by
  obtain ⟨p, l, e, s, m, args, below, meth, c, D, dc, ad, A⟩ := X
  intro H locs ls hl hP hD hS
  obtain ⟨hx, hb, hml, hown, hts, hK, hA, hr, hlk, hcl⟩ := hX
  exact lv_dup hx hb hd (hv ad) (kk H locs ls hl hP hD hS)
theorem am_dup2 (hX : aOK cd own T ty cc nL ret X) {v w : am_V} (hd : decode cc pc = .ok (.dup2, 1)) (hv : ∀ ad : Nat → Nat, (am_g ad v).category = 1) (hw : ∀ ad : Nat → Nat, (am_g ad w).category = 1)
    (kk : aW cd nL R X P (pc + 1) al (v :: w :: v :: w :: st) σ) : aW cd nL R X P pc al (v :: w :: st) σ := by
  obtain ⟨p, l, e, s, m, args, below, meth, c, D, dc, ad, A⟩ := X
  intro H locs ls hl hP hD hS
  obtain ⟨hx, hb, hml, hown, hts, hK, hA, hr, hlk, hcl⟩ := hX
  exact lv_dup2_11 hx hb hd (hv ad) (hw ad) (kk H locs ls hl hP hD hS)
theorem am_if_eq (hX : aOK cd own T ty cc nL ret X) {off : Int} {tgt : Nat} {a : Int} (hd : decode cc pc = .ok (.ifCond .eq off, 3)) (ht : (pc : Int) + off = (tgt : Int)) (ha : -2147483648 ≤ a ∧ a < 2147483648)
    (kt : a = 0 → aW cd nL R X P tgt al st σ) (kf : ¬ a = 0 → aW cd nL R X P (pc + 3) al st σ) : aW cd nL R X P pc al (.inl a :: st) σ := by
  obtain ⟨p, l, e, s, m, args, below, meth, c, D, dc, ad, A⟩ := X
  intro H locs ls hl hP hD hS
  obtain ⟨hx, hb, hml, hown, hts, hK, hA, hr, hlk, hcl⟩ := hX
  have e : am_z a = 0 ↔ a = 0 := by rw [am_z0]; exact am_eq ha (by omega)
  exact lv_if_eq (x := am_z a) hx hb hd ht (fun h => kt (e.mp h) H locs ls hl hP hD hS) (fun h => kf (fun q => h (e.mpr q)) H locs ls hl hP hD hS)
theorem am_icmp_eq (hX : aOK cd own T ty cc nL ret X) {off : Int} {tgt : Nat} {a b : Int} (hd : decode cc pc = .ok (.if_icmp .eq off, 3)) (ht : (pc : Int) + off = (tgt : Int)) (ha : -2147483648 ≤ a ∧ a < 2147483648) (hb0 : -2147483648 ≤ b ∧ b < 2147483648)
    (kt : a = b → aW cd nL R X P tgt al st σ) (kf : ¬ a = b → aW cd nL R X P (pc + 3) al st σ) : aW cd nL R X P pc al (.inl b :: .inl a :: st) σ := by
  obtain ⟨p, l, e, s, m, args, below, meth, c, D, dc, ad, A⟩ := X
  intro H locs ls hl hP hD hS
  obtain ⟨hx, hb, hml, hown, hts, hK, hA, hr, hlk, hcl⟩ := hX
  have e : am_z a = am_z b ↔ a = b := am_eq ha hb0
  exact lv_icmp_eq (x := am_z a) (y := am_z b) hx hb hd ht (fun h => kt (e.mp h) H locs ls hl hP hD hS) (fun h => kf (fun q => h (e.mpr q)) H locs ls hl hP hD hS)
theorem am_if_ne (hX : aOK cd own T ty cc nL ret X) {off : Int} {tgt : Nat} {a : Int} (hd : decode cc pc = .ok (.ifCond .ne off, 3)) (ht : (pc : Int) + off = (tgt : Int)) (ha : -2147483648 ≤ a ∧ a < 2147483648)
    (kt : a ≠ 0 → aW cd nL R X P tgt al st σ) (kf : a = 0 → aW cd nL R X P (pc + 3) al st σ) : aW cd nL R X P pc al (.inl a :: st) σ := by
  obtain ⟨p, l, e, s, m, args, below, meth, c, D, dc, ad, A⟩ := X
  intro H locs ls hl hP hD hS
  obtain ⟨hx, hb, hml, hown, hts, hK, hA, hr, hlk, hcl⟩ := hX
  have e : am_z a = 0 ↔ a = 0 := by rw [am_z0]; exact am_eq ha (by omega)
  exact lv_if_ne (x := am_z a) hx hb hd ht (fun h => kt (fun q => h (e.mpr q)) H locs ls hl hP hD hS) (fun h => kf (e.mp h) H locs ls hl hP hD hS)
theorem am_icmp_ne (hX : aOK cd own T ty cc nL ret X) {off : Int} {tgt : Nat} {a b : Int} (hd : decode cc pc = .ok (.if_icmp .ne off, 3)) (ht : (pc : Int) + off = (tgt : Int)) (ha : -2147483648 ≤ a ∧ a < 2147483648) (hb0 : -2147483648 ≤ b ∧ b < 2147483648)
    (kt : a ≠ b → aW cd nL R X P tgt al st σ) (kf : a = b → aW cd nL R X P (pc + 3) al st σ) : aW cd nL R X P pc al (.inl b :: .inl a :: st) σ := by
  obtain ⟨p, l, e, s, m, args, below, meth, c, D, dc, ad, A⟩ := X
  intro H locs ls hl hP hD hS
  obtain ⟨hx, hb, hml, hown, hts, hK, hA, hr, hlk, hcl⟩ := hX
  have e : am_z a = am_z b ↔ a = b := am_eq ha hb0
  exact lv_icmp_ne (x := am_z a) (y := am_z b) hx hb hd ht (fun h => kt (fun q => h (e.mpr q)) H locs ls hl hP hD hS) (fun h => kf (e.mp h) H locs ls hl hP hD hS)
theorem am_if_lt (hX : aOK cd own T ty cc nL ret X) {off : Int} {tgt : Nat} {a : Int} (hd : decode cc pc = .ok (.ifCond .lt off, 3)) (ht : (pc : Int) + off = (tgt : Int)) (ha : -2147483648 ≤ a ∧ a < 2147483648)
    (kt : a < 0 → aW cd nL R X P tgt al st σ) (kf : ¬ a < 0 → aW cd nL R X P (pc + 3) al st σ) : aW cd nL R X P pc al (.inl a :: st) σ := by
  obtain ⟨p, l, e, s, m, args, below, meth, c, D, dc, ad, A⟩ := X
  intro H locs ls hl hP hD hS
  obtain ⟨hx, hb, hml, hown, hts, hK, hA, hr, hlk, hcl⟩ := hX
  have e : am_z a < 0 ↔ a < 0 := by rw [am_z0]; exact am_lt ha (by omega)
  exact lv_if_lt (x := am_z a) hx hb hd ht (fun h => kt (e.mp h) H locs ls hl hP hD hS) (fun h => kf (fun q => h (e.mpr q)) H locs ls hl hP hD hS)
theorem am_icmp_lt (hX : aOK cd own T ty cc nL ret X) {off : Int} {tgt : Nat} {a b : Int} (hd : decode cc pc = .ok (.if_icmp .lt off, 3)) (ht : (pc : Int) + off = (tgt : Int)) (ha : -2147483648 ≤ a ∧ a < 2147483648) (hb0 : -2147483648 ≤ b ∧ b < 2147483648)
    (kt : a < b → aW cd nL R X P tgt al st σ) (kf : ¬ a < b → aW cd nL R X P (pc + 3) al st σ) : aW cd nL R X P pc al (.inl b :: .inl a :: st) σ := by
  obtain ⟨p, l, e, s, m, args, below, meth, c, D, dc, ad, A⟩ := X
  intro H locs ls hl hP hD hS
  obtain ⟨hx, hb, hml, hown, hts, hK, hA, hr, hlk, hcl⟩ := hX
  have e : am_z a < am_z b ↔ a < b := am_lt ha hb0
  exact lv_icmp_lt (x := am_z a) (y := am_z b) hx hb hd ht (fun h => kt (e.mp h) H locs ls hl hP hD hS) (fun h => kf (fun q => h (e.mpr q)) H locs ls hl hP hD hS)
theorem am_if_ge (hX : aOK cd own T ty cc nL ret X) {off : Int} {tgt : Nat} {a : Int} (hd : decode cc pc = .ok (.ifCond .ge off, 3)) (ht : (pc : Int) + off = (tgt : Int)) (ha : -2147483648 ≤ a ∧ a < 2147483648)
    (kt : 0 ≤ a → aW cd nL R X P tgt al st σ) (kf : ¬ 0 ≤ a → aW cd nL R X P (pc + 3) al st σ) : aW cd nL R X P pc al (.inl a :: st) σ := by
  obtain ⟨p, l, e, s, m, args, below, meth, c, D, dc, ad, A⟩ := X
  intro H locs ls hl hP hD hS
  obtain ⟨hx, hb, hml, hown, hts, hK, hA, hr, hlk, hcl⟩ := hX
  have e : 0 ≤ am_z a ↔ 0 ≤ a := by rw [am_z0]; exact am_le (by omega) ha
  exact lv_if_ge (x := am_z a) hx hb hd ht (fun h => kt (e.mp h) H locs ls hl hP hD hS) (fun h => kf (fun q => h (e.mpr q)) H locs ls hl hP hD hS)
theorem am_icmp_ge (hX : aOK cd own T ty cc nL ret X) {off : Int} {tgt : Nat} {a b : Int} (hd : decode cc pc = .ok (.if_icmp .ge off, 3)) (ht : (pc : Int) + off = (tgt : Int)) (ha : -2147483648 ≤ a ∧ a < 2147483648) (hb0 : -2147483648 ≤ b ∧ b < 2147483648)
    (kt : b ≤ a → aW cd nL R X P tgt al st σ) (kf : ¬ b ≤ a → aW cd nL R X P (pc + 3) al st σ) : aW cd nL R X P pc al (.inl b :: .inl a :: st) σ := by
  obtain ⟨p, l, e, s, m, args, below, meth, c, D, dc, ad, A⟩ := X
  intro H locs ls hl hP hD hS
  obtain ⟨hx, hb, hml, hown, hts, hK, hA, hr, hlk, hcl⟩ := hX
  have e : am_z b ≤ am_z a ↔ b ≤ a := am_le hb0 ha
  exact lv_icmp_ge (x := am_z a) (y := am_z b) hx hb hd ht (fun h => kt (e.mp h) H locs ls hl hP hD hS) (fun h => kf (fun q => h (e.mpr q)) H locs ls hl hP hD hS)
theorem am_if_gt (hX : aOK cd own T ty cc nL ret X) {off : Int} {tgt : Nat} {a : Int} (hd : decode cc pc = .ok (.ifCond .gt off, 3)) (ht : (pc : Int) + off = (tgt : Int)) (ha : -2147483648 ≤ a ∧ a < 2147483648)
    (kt : 0 < a → aW cd nL R X P tgt al st σ) (kf : ¬ 0 < a → aW cd nL R X P (pc + 3) al st σ) : aW cd nL R X P pc al (.inl a :: st) σ := by
  obtain ⟨p, l, e, s, m, args, below, meth, c, D, dc, ad, A⟩ := X
  intro H locs ls hl hP hD hS
  obtain ⟨hx, hb, hml, hown, hts, hK, hA, hr, hlk, hcl⟩ := hX
  have e : 0 < am_z a ↔ 0 < a := by rw [am_z0]; exact am_lt (by omega) ha
  exact lv_if_gt (x := am_z a) hx hb hd ht (fun h => kt (e.mp h) H locs ls hl hP hD hS) (fun h => kf (fun q => h (e.mpr q)) H locs ls hl hP hD hS)
theorem am_icmp_gt (hX : aOK cd own T ty cc nL ret X) {off : Int} {tgt : Nat} {a b : Int} (hd : decode cc pc = .ok (.if_icmp .gt off, 3)) (ht : (pc : Int) + off = (tgt : Int)) (ha : -2147483648 ≤ a ∧ a < 2147483648) (hb0 : -2147483648 ≤ b ∧ b < 2147483648)
    (kt : b < a → aW cd nL R X P tgt al st σ) (kf : ¬ b < a → aW cd nL R X P (pc + 3) al st σ) : aW cd nL R X P pc al (.inl b :: .inl a :: st) σ := by
  obtain ⟨p, l, e, s, m, args, below, meth, c, D, dc, ad, A⟩ := X
  intro H locs ls hl hP hD hS
  obtain ⟨hx, hb, hml, hown, hts, hK, hA, hr, hlk, hcl⟩ := hX
  have e : am_z b < am_z a ↔ b < a := am_lt hb0 ha
  exact lv_icmp_gt (x := am_z a) (y := am_z b) hx hb hd ht (fun h => kt (e.mp h) H locs ls hl hP hD hS) (fun h => kf (fun q => h (e.mpr q)) H locs ls hl hP hD hS)
theorem am_if_le (hX : aOK cd own T ty cc nL ret X) {off : Int} {tgt : Nat} {a : Int} (hd : decode cc pc = .ok (.ifCond .le off, 3)) (ht : (pc : Int) + off = (tgt : Int)) (ha : -2147483648 ≤ a ∧ a < 2147483648)
    (kt : a ≤ 0 → aW cd nL R X P tgt al st σ) (kf : ¬ a ≤ 0 → aW cd nL R X P (pc + 3) al st σ) : aW cd nL R X P pc al (.inl a :: st) σ := by
  obtain ⟨p, l, e, s, m, args, below, meth, c, D, dc, ad, A⟩ := X
  intro H locs ls hl hP hD hS
  obtain ⟨hx, hb, hml, hown, hts, hK, hA, hr, hlk, hcl⟩ := hX
  have e : am_z a ≤ 0 ↔ a ≤ 0 := by rw [am_z0]; exact am_le ha (by omega)
  exact lv_if_le (x := am_z a) hx hb hd ht (fun h => kt (e.mp h) H locs ls hl hP hD hS) (fun h => kf (fun q => h (e.mpr q)) H locs ls hl hP hD hS)
theorem am_icmp_le (hX : aOK cd own T ty cc nL ret X) {off : Int} {tgt : Nat} {a b : Int} (hd : decode cc pc = .ok (.if_icmp .le off, 3)) (ht : (pc : Int) + off = (tgt : Int)) (ha : -2147483648 ≤ a ∧ a < 2147483648) (hb0 : -2147483648 ≤ b ∧ b < 2147483648)
    (kt : a ≤ b → aW cd nL R X P tgt al st σ) (kf : ¬ a ≤ b → aW cd nL R X P (pc + 3) al st σ) : aW cd nL R X P pc al (.inl b :: .inl a :: st) σ := by
  obtain ⟨p, l, e, s, m, args, below, meth, c, D, dc, ad, A⟩ := X
  intro H locs ls hl hP hD hS
  obtain ⟨hx, hb, hml, hown, hts, hK, hA, hr, hlk, hcl⟩ := hX
  have e : am_z a ≤ am_z b ↔ a ≤ b := am_le ha hb0
  exact lv_icmp_le (x := am_z a) (y := am_z b) hx hb hd ht (fun h => kt (e.mp h) H locs ls hl hP hD hS) (fun h => kf (fun q => h (e.mpr q)) H locs ls hl hP hD hS)
theorem am_goto (hX : aOK cd own T ty cc nL ret X) {off : Int} {tgt : Nat} (hd : decode cc pc = .ok (.goto off, 3)) (ht : (pc : Int) + off = (tgt : Int))
    (kk : aW cd nL R X P tgt al st σ) : aW cd nL R X P pc al st σ := by
  obtain ⟨p, l, e, s, m, args, below, meth, c, D, dc, ad, A⟩ := X
  intro H locs ls hl hP hD hS
  obtain ⟨hx, hb, hml, hown, hts, hK, hA, hr, hlk, hcl⟩ := hX
  exact lv_goto hx hb hd ht (kk H locs ls hl hP hD hS)
theorem am_geti (hX : aOK cd own T ty cc nL ret X) (k : Nat) {index : Nat} (hlink : Cond.fieldLink own index (T k).1 (T k).2.1 (T k).2.2.1 ∈ lw_all) (hk : k < cd.2.1) (hna : cd.2.2.any (fun q => q.1 == k) = false) (hd : decode cc pc = .ok (.getfield index, 3))
    (kk : aW cd nL R X P (pc + 3) al (.inl (gF σ k) :: st) σ) : aW cd nL R X P pc al (.inr (.inl 0) :: st) σ := by
  obtain ⟨p, l, e, s, m, args, below, meth, c, D, dc, ad, A⟩ := X
  intro H locs ls hl hP hD hS
  obtain ⟨hx, hb, hml, hown, hts, hK, hA, hr, hlk, hcl⟩ := hX
  have hv : ((List.range cd.2.1).map (am_f cd ad σ))[k]? = some (.int (am_z (gF σ k))) := by
    rw [List.getElem?_map, List.getElem?_range hk, Option.map_some]
    unfold am_f
    rw [if_neg (by rw [hna]; decide)]
  exact va_get (D := D) (ci := cd.1) hx hb hts hcl.2.1 hown hK hP 0 rfl hcl.1 k hk (hts _ hlink) (fun _ h9 => h9) hv hd (kk H locs ls hl hP hD hS)
theorem am_geta (hX : aOK cd own T ty cc nL ret X) (k : Nat) {index : Nat} (hlink : Cond.fieldLink own index (T k).1 (T k).2.1 (T k).2.2.1 ∈ lw_all) (hk : k < cd.2.1) (hna : cd.2.2.any (fun q => q.1 == k) = true) (hd : decode cc pc = .ok (.getfield index, 3))
    (kk : aW cd nL R X P (pc + 3) al (.inr (.inl k) :: st) σ) : aW cd nL R X P pc al (.inr (.inl 0) :: st) σ := by
  obtain ⟨p, l, e, s, m, args, below, meth, c, D, dc, ad, A⟩ := X
  intro H locs ls hl hP hD hS
  obtain ⟨hx, hb, hml, hown, hts, hK, hA, hr, hlk, hcl⟩ := hX
  have hv : ((List.range cd.2.1).map (am_f cd ad σ))[k]? = some (.ref (ad k)) := by
    rw [List.getElem?_map, List.getElem?_range hk, Option.map_some]
    unfold am_f
    rw [if_pos hna]
  exact va_get (D := D) (ci := cd.1) hx hb hts hcl.2.1 hown hK hP 0 rfl hcl.1 k hk (hts _ hlink) (fun _ h9 => h9) hv hd (kk H locs ls hl hP hD hS)
theorem am_puti (hX : aOK cd own T ty cc nL ret X) (k : Nat) {index : Nat} (hlink : Cond.fieldLink own index (T k).1 (T k).2.1 (T k).2.2.1 ∈ lw_all) (hk : k < cd.2.1) (hna : cd.2.2.any (fun q => q.1 == k) = false) (hfin : (T k).2.2.2 = false) (hty : ty k = .int) {z : Int}  (hd : decode cc pc = .ok (.putfield index, 3))
    (kk : aW cd nL R X P (pc + 3) al st (pF σ k z)) : aW cd nL R X P pc al (.inl z :: .inr (.inl 0) :: st) σ := by
  obtain ⟨p, l, e, s, m, args, below, meth, c, D, dc, ad, A⟩ := X
  intro H locs ls hl hP hD hS
  obtain ⟨hx, hb, hml, hown, hts, hK, hA, hr, hlk, hcl⟩ := hX
  have hd0 : parseFieldDescriptor (T k).2.2.1 = some .int := by rw [hcl.2.2.1 k hk, hty]
  refine va_put (D := D) (ci := cd.1) (v := .int (am_z z)) hx hb hts hcl.2.1 ty hcl.2.2.1 hcl.2.2.2.1 hown hK hP hD hS 0 rfl hcl.1 k hk (hts _ hlink) (fun _ h9 => h9) hfin hd0 rfl rfl (by rw [List.length_map, List.length_range]; exact hk) hd (fun H1 locs1 hP1 hD1 hS1 => ?_)
  rw [am_w_pF z hna] at hP1 hD1
  exact kk H1 locs1 ls hl hP1 hD1 hS1
theorem am_putz (hX : aOK cd own T ty cc nL ret X) (k : Nat) {index : Nat} (hlink : Cond.fieldLink own index (T k).1 (T k).2.1 (T k).2.2.1 ∈ lw_all) (hk : k < cd.2.1) (hna : cd.2.2.any (fun q => q.1 == k) = false) (hfin : (T k).2.2.2 = false) (hty : ty k = .boolean) {z : Int} (hz : z = 0 ∨ z = 1) (hd : decode cc pc = .ok (.putfield index, 3))
    (kk : aW cd nL R X P (pc + 3) al st (pF σ k z)) : aW cd nL R X P pc al (.inl z :: .inr (.inl 0) :: st) σ := by
  obtain ⟨p, l, e, s, m, args, below, meth, c, D, dc, ad, A⟩ := X
  intro H locs ls hl hP hD hS
  obtain ⟨hx, hb, hml, hown, hts, hK, hA, hr, hlk, hcl⟩ := hX
  have hd0 : parseFieldDescriptor (T k).2.2.1 = some .boolean := by rw [hcl.2.2.1 k hk, hty]
  refine va_put (D := D) (ci := cd.1) (v := .int (am_z z)) hx hb hts hcl.2.1 ty hcl.2.2.1 hcl.2.2.2.1 hown hK hP hD hS 0 rfl hcl.1 k hk (hts _ hlink) (fun _ h9 => h9) hfin hd0 (by rcases hz with rfl | rfl <;> decide) (by rcases hz with rfl | rfl <;> decide) (by rw [List.length_map, List.length_range]; exact hk) hd (fun H1 locs1 hP1 hD1 hS1 => ?_)
  rw [am_w_pF z hna] at hP1 hD1
  exact kk H1 locs1 ls hl hP1 hD1 hS1
theorem am_bald (hX : aOK cd own T ty cc nL ret X) (q0 : Nat) {k n : Nat} (hq : cd.2.2[q0]? = some (k, n, 0)) {i : Int} (j : Nat) (hi : i = (j : Int)) (hj : j < n) (hn : n < 2147483648) (hd : decode cc pc = .ok (.baload, 1))
    (kk : aW cd nL R X P (pc + 1) al (.inl (gA σ k j) :: st) σ) : aW cd nL R X P pc al (.inl i :: .inr (.inl k) :: st) σ := by
  obtain ⟨p, l, e, s, m, args, below, meth, c, D, dc, ad, A⟩ := X
  intro H locs ls hl hP hD hS
  obtain ⟨hx, hb, hml, hown, hts, hK, hA, hr, hlk, hcl⟩ := hX
  subst hi
  have h := kk H locs ls hl hP hD hS
  refine va_bald (i := am_z (j : Int)) hx hb hK hP (q0 + 1) q0 (am_w_at hq (by decide)) (am_t_at hq) (am_in hj hn) hd ?_
  rw [am_cl (by omega)]
  exact h
theorem am_iald (hX : aOK cd own T ty cc nL ret X) (q0 : Nat) {k n : Nat} (hq : cd.2.2[q0]? = some (k, n, 1)) {i : Int} (j : Nat) (hi : i = (j : Int)) (hj : j < n) (hn : n < 2147483648) (hd : decode cc pc = .ok (.iaload, 1))
    (kk : aW cd nL R X P (pc + 1) al (.inl (gA σ k j) :: st) σ) : aW cd nL R X P pc al (.inl i :: .inr (.inl k) :: st) σ := by
  obtain ⟨p, l, e, s, m, args, below, meth, c, D, dc, ad, A⟩ := X
  intro H locs ls hl hP hD hS
  obtain ⟨hx, hb, hml, hown, hts, hK, hA, hr, hlk, hcl⟩ := hX
  subst hi
  have h := kk H locs ls hl hP hD hS
  refine va_iald (i := am_z (j : Int)) hx hb hK hP (q0 + 1) q0 (am_w_at hq (by decide)) (am_t_at hq) (am_in hj hn) hd ?_
  rw [am_cl (by omega)]
  exact h
theorem am_lald (hX : aOK cd own T ty cc nL ret X) (q0 : Nat) {k n : Nat} (hq : cd.2.2[q0]? = some (k, n, 2)) {i : Int} (j : Nat) (hi : i = (j : Int)) (hj : j < n) (hn : n < 2147483648) (hd : decode cc pc = .ok (.laload, 1))
    (kk : aW cd nL R X P (pc + 1) al (.inr (.inr (gJ σ j)) :: st) σ) : aW cd nL R X P pc al (.inl i :: .inr (.inl k) :: st) σ := by
  obtain ⟨p, l, e, s, m, args, below, meth, c, D, dc, ad, A⟩ := X
  intro H locs ls hl hP hD hS
  obtain ⟨hx, hb, hml, hown, hts, hK, hA, hr, hlk, hcl⟩ := hX
  subst hi
  have h := kk H locs ls hl hP hD hS
  refine va_lald (i := am_z (j : Int)) hx hb hK hP (q0 + 1) q0 (am_w_atJ hq) (am_t_at hq) (am_in hj hn) hd ?_
  rw [am_cl (by omega)]
  exact h
theorem am_bast (hX : aOK cd own T ty cc nL ret X) (q0 : Nat) {k n : Nat} (hq : cd.2.2[q0]? = some (k, n, 0)) {i z : Int} (j : Nat) (hi : i = (j : Int)) (hj : j < n) (hn : n < 2147483648) (hz : -128 ≤ z ∧ z < 128) (hd : decode cc pc = .ok (.bastore, 1))
    (kk : aW cd nL R X P (pc + 1) al st (wA σ k (up (gA σ k) j z))) : aW cd nL R X P pc al (.inl z :: .inl i :: .inr (.inl k) :: st) σ := by
  obtain ⟨p, l, e, s, m, args, below, meth, c, D, dc, ad, A⟩ := X
  intro H locs ls hl hP hD hS
  obtain ⟨hx, hb, hml, hown, hts, hK, hA, hr, hlk, hcl⟩ := hX
  subst hi
  refine va_bast (i := am_z (j : Int)) (x := am_z z) hx hb hK hP hD hS (q0 + 1) q0 (am_w_at hq (by decide)) (am_t_at hq) (am_in hj hn) hd (fun H1 locs1 hP1 hD1 hS1 => ?_)
  rw [am_w_wA hcl.2.2.2.2 hq (by decide) (up (gA σ k) j z) (fun j' => by
    rw [am_cl (by omega), vp_nar_byte, am_b8 hz.1 hz.2]
    unfold upd up
    split <;> rfl)] at hP1 hD1
  exact kk H1 locs1 ls hl hP1 hD1 hS1
theorem am_iast (hX : aOK cd own T ty cc nL ret X) (q0 : Nat) {k n : Nat} (hq : cd.2.2[q0]? = some (k, n, 1)) {i z : Int} (j : Nat) (hi : i = (j : Int)) (hj : j < n) (hn : n < 2147483648)  (hd : decode cc pc = .ok (.iastore, 1))
    (kk : aW cd nL R X P (pc + 1) al st (wA σ k (up (gA σ k) j z))) : aW cd nL R X P pc al (.inl z :: .inl i :: .inr (.inl k) :: st) σ := by
  obtain ⟨p, l, e, s, m, args, below, meth, c, D, dc, ad, A⟩ := X
  intro H locs ls hl hP hD hS
  obtain ⟨hx, hb, hml, hown, hts, hK, hA, hr, hlk, hcl⟩ := hX
  subst hi
  refine va_iast (i := am_z (j : Int)) (x := am_z z) hx hb hK hP hD hS (q0 + 1) q0 (am_w_at hq (by decide)) (am_t_at hq) (am_in hj hn) hd (fun H1 locs1 hP1 hD1 hS1 => ?_)
  rw [am_w_wA hcl.2.2.2.2 hq (by decide) (up (gA σ k) j z) (fun j' => by
    rw [am_cl (by omega)]
    unfold upd up
    split <;> rfl)] at hP1 hD1
  exact kk H1 locs1 ls hl hP1 hD1 hS1
theorem am_last (hX : aOK cd own T ty cc nL ret X) (q0 : Nat) {k n : Nat} (hq : cd.2.2[q0]? = some (k, n, 2)) {i : Int} {z : Nat} (j : Nat) (hi : i = (j : Int)) (hj : j < n) (hn : n < 2147483648) (hd : decode cc pc = .ok (.lastore, 1))
    (kk : aW cd nL R X P (pc + 1) al st (wJ σ (up (gJ σ) j z))) : aW cd nL R X P pc al (.inr (.inr z) :: .inl i :: .inr (.inl k) :: st) σ := by
  obtain ⟨p, l, e, s, m, args, below, meth, c, D, dc, ad, A⟩ := X
  intro H locs ls hl hP hD hS
  obtain ⟨hx, hb, hml, hown, hts, hK, hA, hr, hlk, hcl⟩ := hX
  subst hi
  refine va_last (i := am_z (j : Int)) (x := lN z) hx hb hK hP hD hS (q0 + 1) q0 (am_w_atJ hq) (am_t_at hq) (am_in hj hn) hd (fun H1 locs1 hP1 hD1 hS1 => ?_)
  rw [am_w_wJ hcl.2.2.2.2 hq (up (gJ σ) j z) (fun j' => by
    rw [am_cl (by omega)]
    unfold vp_updL up
    split <;> rfl)] at hP1 hD1
  exact kk H1 locs1 ls hl hP1 hD1 hS1
theorem am_iret (hX : aOK cd own T ty cc nL (some .int) X) {z : Int} (hd : decode cc pc = .ok (.ireturn, 1)) (hp : P (some z) σ) : aW cd nL R X P pc al [.inl z] σ := by
  obtain ⟨p, l, e, s, m, args, below, meth, c, D, dc, ad, A⟩ := X
  intro H locs ls hl hP hD hS
  obtain ⟨hx, hb, hml, hown, hts, hK, hA, hr, hlk, hcl⟩ := hX
  exact W.iret (v := am_z z) hx hb hr (fun t ht hW => ⟨⟨some z, σ, rfl, hp, by rw [ht]; exact hP, va_K.moved hW.alike hK, hD⟩, hS.F ht⟩) hS.2.2 hd hlk
theorem am_zret (hX : aOK cd own T ty cc nL (some .boolean) X) {z : Int} (hd : decode cc pc = .ok (.ireturn, 1)) (hz : z = 0 ∨ z = 1) (hp : P (some z) σ) : aW cd nL R X P pc al [.inl z] σ := by
  obtain ⟨p, l, e, s, m, args, below, meth, c, D, dc, ad, A⟩ := X
  intro H locs ls hl hP hD hS
  obtain ⟨hx, hb, hml, hown, hts, hK, hA, hr, hlk, hcl⟩ := hX
  exact W.zret (v := am_z z) hx hb hr (by rcases hz with rfl | rfl <;> decide) (fun t ht hW => ⟨⟨some z, σ, rfl, hp, by rw [ht]; exact hP, va_K.moved hW.alike hK, hD⟩, hS.F ht⟩) hS.2.2 hd hlk
theorem am_vret (hX : aOK cd own T ty cc nL none X) (hd : decode cc pc = .ok (.return_, 1)) (hp : P none σ) : aW cd nL R X P pc al [] σ := by
  obtain ⟨p, l, e, s, m, args, below, meth, c, D, dc, ad, A⟩ := X
  intro H locs ls hl hP hD hS
  obtain ⟨hx, hb, hml, hown, hts, hK, hA, hr, hlk, hcl⟩ := hX
  exact W.vret hx hb hr (fun t ht hW => ⟨⟨none, σ, rfl, hp, by rw [ht]; exact hP, va_K.moved hW.alike hK, hD⟩, hS.F ht⟩) hS.2.2 hd hlk
end AM
end
section
/-! contracts over the abstract machine: a method's start, its call -/
set_option maxRecDepth 100000
def aMet (cd : am_C) (y : MethodName) (cc : ByteArray) (nL : Nat) (ret : Option FieldType) (R : Room) (Pre : List Int → am_S → Prop) (Post : List Int → am_S → Option Int → am_S → Prop) : Prop :=
  ∀ (l : Launch) (D : va_G) (dc : Nat → ClassId) (ad : Nat → Nat) (sz : Nat) (as : List Int) (σ : am_S), Pre as σ →
    Met l y (ws_ y cc nL ret) R (va_Pc (Value.ref (ad 0) :: as.map (fun z => .int (am_z z))) (fun U => U.heap.size = sz ∧ va_P D vwCl (am_w cd dc ad σ) U.heap ∧ va_K D vwCl (am_t cd dc) U ∧ va_D (fun _ => True) (am_w cd dc ad σ)))
      (am_Q (Post as σ) (am_B D cd dc ad (va_A (am_w cd dc ad σ) sz)) (va_A (am_w cd dc ad σ) sz)) 0 0 (va_A (am_w cd dc ad σ) sz)
theorem am_args (vs : List Value) (h : ∀ v ∈ vs, v.category = 1) : ∀ (i j : Nat) (v : Value), vs[j]? = some v → (i + j, v) ∈ lv_args i vs := by
  induction vs with
  | nil => intro i j v hj; simp at hj
  | cons w vs ih =>
    intro i j v hj
    have hw : w.category = 1 := h w List.mem_cons_self
    show (i + j, v) ∈ (i, w) :: lv_args (if w.category = 2 then i + 2 else i + 1) vs
    rw [if_neg (by rw [hw]; decide)]
    cases j with
    | zero =>
      have e : w = v := by simpa using hj
      subst e
      exact List.mem_cons_self
    | succ j =>
      have hj' : vs[j]? = some v := by simpa using hj
      have := ih (fun x hx => h x (List.mem_cons_of_mem _ hx)) (i + 1) j v hj'
      rw [show i + 1 + j = i + (j + 1) by omega] at this
      exact List.mem_cons_of_mem _ this
theorem am_sl1 (vs : List Value) (h : ∀ v ∈ vs, v.category = 1) : (lg_sl vs).length = vs.length := by
  induction vs with
  | nil => rfl
  | cons w vs ih =>
    have hw : w.category = 1 := h w List.mem_cons_self
    have e : lg_sl (w :: vs) = [.val w] ++ lg_sl vs := by
      unfold lg_sl
      rw [List.flatMap_cons, if_neg (by rw [hw]; decide)]
    rw [e, List.length_append, ih (fun x hx => h x (List.mem_cons_of_mem _ hx))]
    simp
    omega
theorem aMet.of {cd : am_C} {own : String} {T : u_T} {ty : Nat → FieldType} {y : MethodName} {cc : ByteArray} {nL : Nat} {ret : Option FieldType} {R : Room} {Pre : List Int → am_S → Prop} {Post : List Int → am_S → Option Int → am_S → Prop}
    (hcls : am_cls cd own T ty) (hy : plainName y.cls = true) (hyc : y.cls = own) (hlen : ∀ as σ, Pre as σ → as.length + 1 ≤ nL)
    (body : ∀ (as : List Int) (σ : am_S) (X : am_X), Pre as σ → aOK cd own T ty cc nL ret X → aW cd nL R X (Post as σ) 0 ((some (.inr (.inl 0)) :: as.map (fun z => some (.inl z))) ++ List.replicate (nL - (as.length + 1)) none) [] σ) : aMet cd y cc nL ret R Pre Post := by
  intro l D dc ad sz as σ hpre
  refine Met.ofW (cc := cc) (maxL := nL) (ret := ret) hy rfl ?_
  intro p e s m args below meth c s₁ B hml hv
  obtain ⟨rfl, hsz, hP, hK, hD0⟩ := hv
  have hts := atoms_spec (ws := ws_ y cc nL ret) B.pre
  have hts : ∀ w ∈ lw_all, w.before _ s = true := fun w h => hts w (List.mem_cons_of_mem _ h)
  subst hyc
  have hown : s.vm.findClass y.cls = some m.cls := findClass_of_methodNamed B.named
  subst hsz
  have hD := hD0.self (sz := s.heap.size)
  have hcat : ∀ v ∈ (Value.ref (ad 0) :: as.map (fun z => Value.int (am_z z))), v.category = 1 := by
    intro v hv
    rcases List.mem_cons.mp hv with h | h
    · rw [h]; rfl
    · obtain ⟨z, -, rfl⟩ := List.mem_map.mp h
      rfl
  have hln : (lg_sl (Value.ref (ad 0) :: as.map (fun z => Value.int (am_z z)))).length ≤ nL := by
    rw [am_sl1 _ hcat, List.length_cons, List.length_map]
    exact hlen as σ hpre
  have hl := lv_entry (Value.ref (ad 0) :: as.map (fun z => Value.int (am_z z))) (n := nL) hln
  rw [lg_entry_eq]
  have W0 := body as σ (p, l, e, s, m, (Value.ref (ad 0) :: as.map (fun z => Value.int (am_z z))).toArray, below, meth, c, D, dc, ad, va_A (am_w cd dc ad σ) s.heap.size) hpre ⟨B.exec, B.bytes, hml, hown, hts, hK, fun q h => Or.inr h, B.returns, B.notSynchronized, hcls⟩
  refine W0 s.heap [] _ ⟨hl.1, hl.2.1, fun i v hv => ?_⟩ hP hD va_S.rf
  have hv : (some (.inr (.inl 0)) :: as.map (fun z => some (.inl z)) : List (Option am_V))[i]? = some (some v) := by
    rw [List.getElem?_append] at hv
    split at hv
    · exact hv
    · rw [List.getElem?_replicate] at hv
      split at hv
      · cases hv
      · cases hv
  have key : (Value.ref (ad 0) :: as.map (fun z => Value.int (am_z z)))[i]? = some (am_g ad v) ∧ (am_g ad v).category = 1 := by
    cases i with
    | zero =>
      have e1 : v = .inr (.inl 0) := by
        have : some (some (Sum.inr (Sum.inl 0) : am_V)) = some (some v) := hv
        simpa using this.symm
      subst e1
      exact ⟨rfl, rfl⟩
    | succ i =>
      have h1 : (as.map (fun z => some (Sum.inl z : am_V)))[i]? = some (some v) := hv
      rw [List.getElem?_map] at h1
      cases ha : as[i]? with
      | none => rw [ha] at h1; cases h1
      | some z =>
        rw [ha] at h1
        have e1 : v = .inl z := by
          have : some (some (Sum.inl z : am_V)) = some (some v) := h1
          simpa using this.symm
        subst e1
        refine ⟨?_, rfl⟩
        show (as.map (fun z => Value.int (am_z z)))[i]? = _
        rw [List.getElem?_map, ha]
        rfl
  refine ⟨?_, key.2⟩
  have hm := am_args _ hcat 0 i _ key.1
  rw [Nat.zero_add] at hm
  exact hl.2.2 (i, am_g ad v) hm
section AMC
variable {cd : am_C} {own : String} {T : u_T} {ty : Nat → FieldType} {cc : ByteArray} {nL : Nat} {ret : Option FieldType} {R : Room} {X : am_X} {P : Option Int → am_S → Prop} {pc : Nat} {al : List (Option am_V)} {st : List am_V} {σ : am_S}
theorem am_call (hX : aOK cd own T ty cc nL ret X) {y : MethodName} {bytes : ByteArray} {maxL : Nat} {retc : Option FieldType} {Rc : Room} {Pre : List Int → am_S → Prop} {Post : List Int → am_S → Option Int → am_S → Prop} (hM : aMet cd y bytes maxL retc Rc Pre Post) {index : Nat} (as : List Int) {nA : Nat} {st' : List am_V}
    (hV : GoodIn lw_all (wsV own index own y (ws_ y bytes maxL retc))) (hrc : Rc.cells = 0 ∧ Rc.slots = 0) (hdesc : y.cls = own ∧ y.cls ≠ "java/lang/invoke/MethodHandle" ∧ y.cls ≠ "java/lang/invoke/VarHandle" ∧ (parseMethodDescriptor y.desc).map (fun d => d.parameters.length) = some nA) (hR : Rc.frames + 1 ≤ R.frames ∧ 8 + (maxL + 11) + Rc.locals ≤ R.locals)
    (hnA : as.length = nA) (hst : st' = as.reverse.map (fun z => Sum.inl z) ++ Sum.inr (Sum.inl 0) :: st) (hroom : ∀ ad : Nat → Nat, ((st.map (am_g ad)).map fun v => v.category).sum ≤ 8) (hd : decode cc pc = .ok (.invokevirtual index, 3)) (hpre : Pre as σ)
    (kk : ∀ (r : Option Int) (σ' : am_S), Post as σ r σ' → aW cd nL R X P (pc + 3) al (r.toList.map (fun z => Sum.inl z) ++ st) σ') : aW cd nL R X P pc al st' σ := by
  subst hnA
  obtain ⟨p, l, e, s, m, args, below, meth, c, D, dc, ad, A⟩ := X
  intro H locs ls hl hP hD hS
  obtain ⟨hx, hb, hml, hown, hts, hK, hA, hr, hlk, hcl⟩ := hX
  have hstack : st'.map (am_g ad) = (as.map (fun z => Value.int (am_z z))).reverse ++ Value.ref (ad 0) :: st.map (am_g ad) := by
    rw [hst, List.map_append, List.map_map, List.map_cons, ← List.map_reverse]
    rfl
  have run := va_runV (p := p) (l := l) (e := e) (R := R) (s := s) (m := m) (args := args) (below := below) (meth := meth) (c := c) (H := H) (locs := locs) (cells := 0) (slots := 0) (own := own) (C := own) (As := as.map (fun z => Value.int (am_z z))) (rest := st.map (am_g ad)) (b := ad 0) (g := F0 m pc ls (st'.map (am_g ad))) (nL := nL)
    ⟨hx, hb, hml, hown, hts⟩ (hM l D dc ad H.size as σ hpre) (cwV as.length hts hV rfl hrc.1 hrc.2 hdesc hR)
    ⟨fun a U g mk q => by obtain ⟨q0, q1, qP, qK, qD⟩ := q; exact ⟨q0, q1, qP, va_K.moved (u := U) (U := U.calling g mk a) (Vm.Alike.refl U.vm) qK, qD⟩, va_recv hK hP (ci := cd.1) (q0 := 0) hcl.1 rfl, fun U hU hW => ⟨rfl, by rw [hU], by rw [hU]; exact hP, va_K.moved hW.alike hK, hD.weaken (fun _ _ _ _ => trivial)⟩⟩
    rfl (by rw [List.length_map]) hl.1 hstack (lv_room (hroom ad)) hd ⟨Nat.zero_le _, Nat.zero_le _⟩
  intro T hT X
  obtain ⟨v, st₀, t, T', L, h0, X', hL, e1, e2, ⟨⟨r, u, hv, hp, hPb, hKb, hDb⟩, hz, hk⟩, stp⟩ := run T hT X
  have hF : ∀ q, va_A (am_w cd dc ad σ) H.size q → A q := by
    intro q h
    rcases h with ⟨k, e, h⟩ | h
    · exact hD.2 k (q, e) h
    · exact hA q (Nat.le_trans hS.1 h)
  have hv' : v = r.map (fun z => Value.int (am_z z)) := by
    injection hv
  subst hv'
  rw [h0] at hz hk
  have hS' : va_S A s.heap T'.heap (locs ++ L) := ⟨Nat.le_trans hS.1 (by rw [e1]; exact hz), fun q h1 h2 => by rw [e1, hk q (Nat.lt_of_lt_of_le h1 hS.1) (fun z => h2 (hF q z))]; exact hS.2.1 q h1 h2, fun q hq => by
      rcases List.mem_append.mp hq with h | h
      · exact hS.2.2 q h
      · exact hF _ (hL q h)⟩
  have K := kk r u hp T'.heap (locs ++ L) ls hl (by rw [e1]; exact hPb) (hDb.weaken (fun _ q _ h => hF q.1 h)) hS'
  obtain ⟨t2, a1, b1⟩ := K T' rfl X'
  refine ⟨t2, stp t2 ?_, b1⟩
  cases r with
  | none => exact a1
  | some z => exact a1
theorem am_calli (hX : aOK cd own T ty cc nL ret X) {y : MethodName} {bytes : ByteArray} {maxL : Nat} {retc : Option FieldType} {Rc : Room} {Pre : List Int → am_S → Prop} {Post : List Int → am_S → Int → am_S → Prop} (hM : aMet cd y bytes maxL retc Rc Pre (fun as σ r σ' => ∃ z, r = some z ∧ Post as σ z σ')) {index : Nat} (as : List Int) {nA : Nat} {st' : List am_V}
    (hV : GoodIn lw_all (wsV own index own y (ws_ y bytes maxL retc))) (hrc : Rc.cells = 0 ∧ Rc.slots = 0) (hdesc : y.cls = own ∧ y.cls ≠ "java/lang/invoke/MethodHandle" ∧ y.cls ≠ "java/lang/invoke/VarHandle" ∧ (parseMethodDescriptor y.desc).map (fun d => d.parameters.length) = some nA) (hR : Rc.frames + 1 ≤ R.frames ∧ 8 + (maxL + 11) + Rc.locals ≤ R.locals)
    (hnA : as.length = nA) (hst : st' = as.reverse.map (fun z => Sum.inl z) ++ Sum.inr (Sum.inl 0) :: st) (hroom : ∀ ad : Nat → Nat, ((st.map (am_g ad)).map fun v => v.category).sum ≤ 8) (hd : decode cc pc = .ok (.invokevirtual index, 3)) (hpre : Pre as σ)
    (kk : ∀ (z : Int) (σ' : am_S), Post as σ z σ' → aW cd nL R X P (pc + 3) al (.inl z :: st) σ') : aW cd nL R X P pc al st' σ := by
  refine am_call hX hM as hV hrc hdesc hR hnA hst hroom hd hpre (fun r σ' h => ?_)
  obtain ⟨z, rfl, h⟩ := h
  exact kk z σ' h
theorem am_callv (hX : aOK cd own T ty cc nL ret X) {y : MethodName} {bytes : ByteArray} {maxL : Nat} {retc : Option FieldType} {Rc : Room} {Pre : List Int → am_S → Prop} {Post : List Int → am_S → am_S → Prop} (hM : aMet cd y bytes maxL retc Rc Pre (fun as σ r σ' => r = none ∧ Post as σ σ')) {index : Nat} (as : List Int) {nA : Nat} {st' : List am_V}
    (hV : GoodIn lw_all (wsV own index own y (ws_ y bytes maxL retc))) (hrc : Rc.cells = 0 ∧ Rc.slots = 0) (hdesc : y.cls = own ∧ y.cls ≠ "java/lang/invoke/MethodHandle" ∧ y.cls ≠ "java/lang/invoke/VarHandle" ∧ (parseMethodDescriptor y.desc).map (fun d => d.parameters.length) = some nA) (hR : Rc.frames + 1 ≤ R.frames ∧ 8 + (maxL + 11) + Rc.locals ≤ R.locals)
    (hnA : as.length = nA) (hst : st' = as.reverse.map (fun z => Sum.inl z) ++ Sum.inr (Sum.inl 0) :: st) (hroom : ∀ ad : Nat → Nat, ((st.map (am_g ad)).map fun v => v.category).sum ≤ 8) (hd : decode cc pc = .ok (.invokevirtual index, 3)) (hpre : Pre as σ)
    (kk : ∀ (σ' : am_S), Post as σ σ' → aW cd nL R X P (pc + 3) al st σ') : aW cd nL R X P pc al st' σ := by
  refine am_call hX hM as hV hrc hdesc hR hnA hst hroom hd hpre (fun r σ' h => ?_)
  obtain ⟨rfl, h⟩ := h
  exact kk σ' h
end AMC
end
section
/-! more rows of the abstract machine, frames of states -/
set_option maxRecDepth 100000
abbrev vT : Option am_V := some (.inr (.inl 0))
abbrev vI (z : Int) : Option am_V := some (.inl z)
abbrev vN : Option am_V := none
section AM2
variable {cd : am_C} {own : String} {T : u_T} {ty : Nat → FieldType} {cc : ByteArray} {nL : Nat} {ret : Option FieldType} {R : Room} {X : am_X} {P : Option Int → am_S → Prop} {pc : Nat} {al : List (Option am_V)} {st : List am_V} {σ : am_S}
theorem am_top {a b : Int} (h : a = b) (k : aW cd nL R X P pc al (.inl b :: st) σ) : aW cd nL R X P pc al (.inl a :: st) σ := h ▸ k
theorem am_loc (al' : List (Option am_V)) (h : al = al') (k : aW cd nL R X P pc al' st σ) : aW cd nL R X P pc al st σ := h ▸ k
theorem am_iincv (hX : aOK cd own T ty cc nL ret X) {i : Nat} {z n z2 : Int} (hd : decode cc pc = .ok (.iinc i n, 3)) (hv : al[i]? = some (some (.inl z))) (hn : i < nL) (hz : z + n = z2)
    (kk : aW cd nL R X P (pc + 3) (al.set i (some (.inl z2))) st σ) : aW cd nL R X P pc al st σ := by
  subst hz
  exact am_iinc hX hd hv hn kk
end AM2
/-- the frame: only the fields F and the arrays L (17: the long one) may have changed -/
def fr (F L : List Nat) (σ σ' : am_S) : Prop := (∀ k, k ∉ F → gF σ' k = gF σ k) ∧ (∀ k, k ∉ L → ∀ j, gA σ' k j = gA σ k j) ∧ (17 ∉ L → ∀ j, gJ σ' j = gJ σ j)
theorem fr_refl (F L : List Nat) (σ : am_S) : fr F L σ σ := ⟨fun _ _ => rfl, fun _ _ _ => rfl, fun _ _ => rfl⟩
theorem fr_trans {F L : List Nat} {σ σ1 σ2 : am_S} (h : fr F L σ σ1) (g : fr F L σ1 σ2) : fr F L σ σ2 := ⟨fun k hk => (g.1 k hk).trans (h.1 k hk), fun k hk j => (g.2.1 k hk j).trans (h.2.1 k hk j), fun hk j => (g.2.2 hk j).trans (h.2.2 hk j)⟩
theorem fr_mono {F L F' L' : List Nat} {σ σ1 : am_S} (h : fr F L σ σ1) (hF : ∀ k ∈ F, k ∈ F') (hL : ∀ k ∈ L, k ∈ L') : fr F' L' σ σ1 := ⟨fun k hk => h.1 k (fun q => hk (hF k q)), fun k hk j => h.2.1 k (fun q => hk (hL k q)) j, fun hk j => h.2.2 (fun q => hk (hL 17 q)) j⟩
theorem fr_wA {F L : List Nat} {σ σ1 : am_S} (h : fr F L σ σ1) {k : Nat} (hk : k ∈ L) (f : Nat → Int) : fr F L σ (wA σ1 k f) := ⟨fun j hj => h.1 j hj, fun j hj i => by
  rw [gA_wA, if_neg (fun e => hj (by rw [e]; exact hk))]
  exact h.2.1 j hj i, fun hj i => h.2.2 hj i⟩
theorem fr_pF {F L : List Nat} {σ σ1 : am_S} (h : fr F L σ σ1) {k : Nat} (hk : k ∈ F) (v : Int) : fr F L σ (pF σ1 k v) := ⟨fun j hj => by
  rw [gF_pF, if_neg (fun e => hj (by rw [e]; exact hk))]
  exact h.1 j hj, fun j hj i => h.2.1 j hj i, fun hj i => h.2.2 hj i⟩
theorem fr_wJ {F L : List Nat} {σ σ1 : am_S} (h : fr F L σ σ1) (hk : 17 ∈ L) (f : Nat → Nat) : fr F L σ (wJ σ1 f) := ⟨fun j hj => h.1 j hj, fun j hj i => h.2.1 j hj i, fun hj => absurd hk hj⟩
/-- an array holds the numbers f up to n -/
def hA (σ : am_S) (k n : Nat) (f : Nat → Nat) : Prop := ∀ j, j < n → gA σ k j = (f j : Int)
theorem hA_fr {F L : List Nat} {σ σ' : am_S} {k n : Nat} {f : Nat → Nat} (h : hA σ k n f) (g : fr F L σ σ') (hk : k ∉ L) : hA σ' k n f := fun j hj => (g.2.1 k hk j).trans (h j hj)
theorem hA_up {σ : am_S} {k n : Nat} {f g : Nat → Nat} {i : Nat} {z : Int} (h : hA σ k n f) (hi : z = (g i : Int)) (ho : ∀ j, j < n → j ≠ i → g j = f j) : hA (wA σ k (up (gA σ k) i z)) k n g := by
  intro j hj
  rw [gA_wA, if_pos rfl]
  by_cases e : j = i
  · subst e; rw [up_s, hi]
  · rw [up_n _ _ e, h j hj, ho j hj e]
theorem hA_push {σ : am_S} {k n : Nat} {f : Nat → Nat} {z : Int} (h : hA σ k n f) (hi : z = (f n : Int)) : hA (wA σ k (up (gA σ k) n z)) k (n + 1) f := by
  intro j hj
  rw [gA_wA, if_pos rfl]
  by_cases e : j = n
  · subst e; rw [up_s, hi]
  · rw [up_n _ _ e, h j (by omega)]
theorem hA_congr {σ : am_S} {k n : Nat} {f g : Nat → Nat} (h : hA σ k n f) (e : ∀ j, j < n → f j = g j) : hA σ k n g := fun j hj => by rw [h j hj, e j hj]
theorem hA_le {σ : am_S} {k n m : Nat} {f : Nat → Nat} (h : hA σ k n f) (e : m ≤ n) : hA σ k m f := fun j hj => h j (by omega)
end
section
/-! PURE: shifting, moving to the front, runs -/
def rmD (d : Nat) : Room := { frames := d, cells := 0, slots := 0, locals := 30 * d }
/-- the value of compare: classes c, length n, reach r -/
def cmpI (c : Nat → Nat) (n r p q : Nat) : Int := if c p = c q then (c ((p + r) % n) : Int) - c ((q + r) % n) else (c p : Int) - c q
/-- p comes before q: by the rank, by the rank r further, by number -/
def kl (c : Nat → Nat) (n r p q : Nat) : Prop := c p < c q ∨ (c p = c q ∧ (c ((p + r) % n) < c ((q + r) % n) ∨ (c ((p + r) % n) = c ((q + r) % n) ∧ p < q)))
def shf (o : Nat → Nat) (i a : Nat) : Nat → Nat := fun j => if a < j ∧ j ≤ i then o (j - 1) else o j
def ins (o : Nat → Nat) (i a : Nat) : Nat → Nat := fun j => if j = a then o i else shf o i a j
def mtf (w : Nat → Nat) (p : Nat) : Nat → Nat := fun j => if j = 0 then w p else shf w p 0 j
theorem shf_self (o : Nat → Nat) (i j : Nat) : shf o i i j = o j := if_neg (by omega)
theorem shf_low (o : Nat → Nat) (i : Nat) {a j : Nat} (h : j ≤ a) : shf o i a j = o j := if_neg (by omega)
theorem shf_step (o : Nat → Nat) {i a : Nat} (h : a < i) : shf o i a (a + 1) = o a := by unfold shf; rw [if_pos (by omega)]; rfl
theorem shf_other (o : Nat → Nat) {i a j : Nat} (h : j ≠ a + 1) : shf o i a j = shf o i (a + 1) j := by
  unfold shf
  by_cases h1 : a < j ∧ j ≤ i
  · rw [if_pos h1, if_pos (by omega)]
  · rw [if_neg h1, if_neg (by omega)]
def pos6 (f : Nat → Nat) (v : Nat) : Nat := if f 0 = v then 0 else if f 1 = v then 1 else if f 2 = v then 2 else if f 3 = v then 3 else if f 4 = v then 4 else 5
def RowOK (f : Nat → Nat) : Prop := (∀ j, j < 6 → f j < 6) ∧ (∀ i j, i < 6 → j < 6 → f i = f j → i = j) ∧ ∀ v, v < 6 → ∃ j, j < 6 ∧ f j = v
theorem pos6_lt (f : Nat → Nat) (v : Nat) : pos6 f v < 6 := by unfold pos6; (repeat' split) <;> omega
theorem pos6_at {f : Nat → Nat} (h : RowOK f) {v : Nat} (hv : v < 6) : f (pos6 f v) = v := by
  obtain ⟨j, hj, e⟩ := h.2.2 v hv
  unfold pos6
  split
  · assumption
  split
  · assumption
  split
  · assumption
  split
  · assumption
  split
  · assumption
  have : j = 0 ∨ j = 1 ∨ j = 2 ∨ j = 3 ∨ j = 4 ∨ j = 5 := by omega
  rcases this with rfl | rfl | rfl | rfl | rfl | rfl
  · exact absurd e (by assumption)
  · exact absurd e (by assumption)
  · exact absurd e (by assumption)
  · exact absurd e (by assumption)
  · exact absurd e (by assumption)
  · exact e
theorem pos6_uniq {f : Nat → Nat} (h : RowOK f) {v p : Nat} (hp : p < 6) (e : f p = v) : p = pos6 f v := by
  have hv : v < 6 := by rw [← e]; exact h.1 p hp
  exact h.2.1 p _ hp (pos6_lt f v) (by rw [e, pos6_at h hv])
theorem mtf_eq (f : Nat → Nat) (p j : Nat) : mtf f p j = f (if j = 0 then p else if j ≤ p then j - 1 else j) := by
  unfold mtf shf
  by_cases h0 : j = 0
  · rw [if_pos h0, if_pos h0]
  · rw [if_neg h0, if_neg h0]
    by_cases h1 : j ≤ p
    · rw [if_pos (by omega), if_pos h1]
    · rw [if_neg (by omega), if_neg h1]
theorem mtf_ok {f : Nat → Nat} (h : RowOK f) {p : Nat} (hp : p < 6) : RowOK (mtf f p) := by
  have hg : ∀ j, j < 6 → (if j = 0 then p else if j ≤ p then j - 1 else j) < 6 := by
    intro j hj
    (repeat' split) <;> omega
  refine ⟨fun j hj => ?_, fun i j hi hj e => ?_, fun v hv => ?_⟩
  · rw [mtf_eq]
    exact h.1 _ (hg j hj)
  · rw [mtf_eq, mtf_eq] at e
    have e2 := h.2.1 _ _ (hg i hi) (hg j hj) e
    (repeat' split at e2) <;> omega
  · obtain ⟨j, hj, e⟩ := h.2.2 v hv
    rcases Nat.lt_trichotomy j p with q | q | q
    · exact ⟨j + 1, by omega, by rw [mtf_eq, if_neg (by omega), if_pos (by omega)]; exact e⟩
    · exact ⟨0, by omega, by rw [mtf_eq, if_pos rfl, ← q]; exact e⟩
    · exact ⟨j, hj, by rw [mtf_eq, if_neg (by omega), if_neg (by omega)]; exact e⟩
def rowC (c : Nat → Nat) : Nat → Nat → Nat
  | 0 => fun j => j
  | k + 1 => mtf (rowC c k) (pos6 (rowC c k) (c k))
def rkC (c : Nat → Nat) (k : Nat) : Nat := pos6 (rowC c k) (c k)
theorem rowC_ok (c : Nat → Nat) : ∀ k, RowOK (rowC c k) := by
  intro k
  induction k with
  | zero => exact ⟨fun j hj => hj, fun i j _ _ e => e, fun v hv => ⟨v, hv, rfl⟩⟩
  | succ k ih => exact mtf_ok ih (pos6_lt _ _)
theorem rkC_lt (c : Nat → Nat) (k : Nat) : rkC c k < 6 := pos6_lt _ _
theorem rowC_rk {c : Nat → Nat} {k : Nat} (h : c k < 6) : rowC c k (rkC c k) = c k := pos6_at (rowC_ok c k) h
theorem rowC_congr {c d : Nat → Nat} : ∀ {k : Nat}, (∀ j, j < k → c j = d j) → rowC c k = rowC d k := by
  intro k
  induction k with
  | zero => intro _; rfl
  | succ k ih =>
    intro h
    show mtf (rowC c k) (pos6 (rowC c k) (c k)) = mtf (rowC d k) (pos6 (rowC d k) (d k))
    rw [ih (fun j hj => h j (by omega)), h k (by omega)]
theorem rkC_congr {c d : Nat → Nat} {k : Nat} (h : ∀ j, j ≤ k → c j = d j) : rkC c k = rkC d k := by
  unfold rkC
  rw [rowC_congr (fun j hj => h j (by omega)), h k (Nat.le_refl k)]
/-! runs -/
def run (z : Nat) : List Nat := if h : z = 0 then [] else if z % 2 = 1 then 0 :: run ((z - 1) / 2) else 1 :: run ((z - 2) / 2)
termination_by z
decreasing_by all_goals omega
theorem run_0 : run 0 = [] := by rw [run]; rfl
theorem run_odd {z : Nat} (h : z % 2 = 1) : run z = 0 :: run ((z - 1) / 2) := by rw [run, dif_neg (by omega), if_pos h]
theorem run_even {z : Nat} (h0 : 0 < z) (h : z % 2 = 0) : run z = 1 :: run ((z - 2) / 2) := by rw [run, dif_neg (by omega), if_neg (by omega)]
theorem run_len : ∀ (m z : Nat), z ≤ m → (run z).length ≤ z ∧ ∀ s ∈ run z, s < 2 := by
  intro m
  induction m with
  | zero =>
    intro z hz
    have : z = 0 := by omega
    subst this
    rw [run_0]
    exact ⟨Nat.le_refl 0, fun s h => absurd h List.not_mem_nil⟩
  | succ m ih =>
    intro z hz
    by_cases h0 : z = 0
    · subst h0
      rw [run_0]
      exact ⟨Nat.le_refl 0, fun s h => absurd h List.not_mem_nil⟩
    · by_cases h : z % 2 = 1
      · rw [run_odd h]
        obtain ⟨a, b⟩ := ih ((z - 1) / 2) (by omega)
        refine ⟨by rw [List.length_cons]; omega, fun s hs => ?_⟩
        rcases List.mem_cons.mp hs with e | e
        · omega
        · exact b s e
      · rw [run_even (by omega) (by omega)]
        obtain ⟨a, b⟩ := ih ((z - 2) / 2) (by omega)
        refine ⟨by rw [List.length_cons]; omega, fun s hs => ?_⟩
        rcases List.mem_cons.mp hs with e | e
        · omega
        · exact b s e
def enc : Nat → List Nat → List Nat
  | z, [] => run z
  | z, r :: rs => if r = 0 then enc (z + 1) rs else run z ++ (r + 1) :: enc 0 rs
theorem enc_nil (z : Nat) : enc z [] = run z := rfl
theorem enc_0 (z : Nat) (rs : List Nat) : enc z (0 :: rs) = enc (z + 1) rs := by rw [enc, if_pos rfl]
theorem enc_s (z : Nat) {r : Nat} (h : r ≠ 0) (rs : List Nat) : enc z (r :: rs) = run z ++ (r + 1) :: enc 0 rs := by rw [enc, if_neg h]
theorem enc_len : ∀ (rs : List Nat) (z : Nat), (enc z rs).length ≤ z + rs.length := by
  intro rs
  induction rs with
  | nil => intro z; rw [enc_nil]; exact (run_len z z (Nat.le_refl z)).1
  | cons r rs ih =>
    intro z
    by_cases h : r = 0
    · subst h
      rw [enc_0, List.length_cons]
      have := ih (z + 1)
      omega
    · rw [enc_s z h, List.length_append, List.length_cons, List.length_cons]
      have := ih 0
      have := (run_len z z (Nat.le_refl z)).1
      omega
theorem enc_mem : ∀ (rs : List Nat) (z : Nat), (∀ r ∈ rs, r < 6) → ∀ s ∈ enc z rs, s < 7 := by
  intro rs
  induction rs with
  | nil =>
    intro z _ s hs
    rw [enc_nil] at hs
    have := (run_len z z (Nat.le_refl z)).2 s hs
    omega
  | cons r rs ih =>
    intro z hr s hs
    have hr0 := hr r List.mem_cons_self
    by_cases h : r = 0
    · subst h
      rw [enc_0] at hs
      exact ih _ (fun x hx => hr x (List.mem_cons_of_mem _ hx)) s hs
    · rw [enc_s z h] at hs
      rcases List.mem_append.mp hs with e | e
      · have := (run_len z z (Nat.le_refl z)).2 s e
        omega
      · rcases List.mem_cons.mp e with e | e
        · omega
        · exact ih _ (fun x hx => hr x (List.mem_cons_of_mem _ hx)) s e
/-! decoding runs -/
def dec : Nat → List Nat → List Nat
  | _, [] => []
  | w, s :: L => if 1 < s then (s - 1) :: dec 1 L else List.replicate (w * (s + 1)) 0 ++ dec (w * 2) L
theorem dec_big (w : Nat) {s : Nat} (h : 1 < s) (L : List Nat) : dec w (s :: L) = (s - 1) :: dec 1 L := by rw [dec, if_pos h]
theorem dec_small (w : Nat) {s : Nat} (h : s ≤ 1) (L : List Nat) : dec w (s :: L) = List.replicate (w * (s + 1)) 0 ++ dec (w * 2) L := by rw [dec, if_neg (by omega)]
theorem dec_run (T : List Nat) (hT : ∀ w w', dec w T = dec w' T) : ∀ (m z w : Nat), z ≤ m → dec w (run z ++ T) = List.replicate (w * z) 0 ++ dec 1 T := by
  intro m
  induction m with
  | zero =>
    intro z w hz
    have : z = 0 := by omega
    subst this
    rw [run_0, Nat.mul_zero]
    exact hT w 1
  | succ m ih =>
    intro z w hz
    by_cases h0 : z = 0
    · subst h0
      rw [run_0, Nat.mul_zero]
      exact hT w 1
    · by_cases h : z % 2 = 1
      · rw [run_odd h, List.cons_append, dec_small w (by omega), ih _ _ (by omega), ← List.append_assoc, List.replicate_append_replicate]
        have e : w * (0 + 1) + w * 2 * ((z - 1) / 2) = w * z := by
          rw [Nat.mul_assoc, ← Nat.mul_add]
          congr 1
          omega
        rw [e]
      · rw [run_even (by omega) (by omega), List.cons_append, dec_small w (by omega), ih _ _ (by omega), ← List.append_assoc, List.replicate_append_replicate]
        have e : w * (1 + 1) + w * 2 * ((z - 2) / 2) = w * z := by
          rw [Nat.mul_assoc, ← Nat.mul_add]
          congr 1
          omega
        rw [e]
theorem dec_enc : ∀ (rs : List Nat) (z : Nat), dec 1 (enc z rs) = List.replicate z 0 ++ rs := by
  intro rs
  induction rs with
  | nil =>
    intro z
    have := dec_run [] (fun _ _ => rfl) z z 1 (Nat.le_refl z)
    rw [List.append_nil, Nat.one_mul] at this
    rw [enc_nil, this]
    rfl
  | cons r rs ih =>
    intro z
    by_cases h : r = 0
    · subst h
      rw [enc_0, ih (z + 1), List.replicate_succ']
      simp
    · rw [enc_s z h, dec_run ((r + 1) :: enc 0 rs) (fun w w' => by rw [dec_big w (by omega), dec_big w' (by omega)]) z z 1 (Nat.le_refl z), dec_big 1 (by omega), ih 0]
      simp
/-- a counted list in an int field and an array -/
def SL (fc fa : Nat) (σ : am_S) (L : List Nat) : Prop := gF σ fc = (L.length : Int) ∧ hA σ fa L.length (fun j => L.getD j 0)
theorem SL_fr {F L' : List Nat} {fc fa : Nat} {σ σ' : am_S} {L : List Nat} (h : SL fc fa σ L) (g : fr F L' σ σ') (h1 : fc ∉ F) (h2 : fa ∉ L') : SL fc fa σ' L := ⟨(g.1 fc h1).trans h.1, hA_fr h.2 g h2⟩
theorem getD_snoc (L : List Nat) (s j : Nat) : (L ++ [s]).getD j 0 = if j = L.length then s else L.getD j 0 := by
  rw [List.getD_eq_getElem?_getD, List.getD_eq_getElem?_getD, List.getElem?_append]
  by_cases h : j < L.length
  · rw [if_pos h, if_neg (by omega)]
  · rw [if_neg h]
    by_cases e : j = L.length
    · rw [if_pos e, e, Nat.sub_self]; rfl
    · rw [if_neg e, List.getElem?_eq_none (by simp; omega), List.getElem?_eq_none (by omega)]
theorem SL_push {fc fa : Nat} {σ : am_S} {L : List Nat} (h : SL fc fa σ L) {s : Nat} {z v : Int} (hz : z = (s : Int)) (hv : v = ((L.length + 1 : Nat) : Int)) : SL fc fa (pF (wA σ fa (up (gA σ fa) L.length z)) fc v) (L ++ [s]) := by
  refine ⟨?_, ?_⟩
  · rw [gF_pF, if_pos rfl, hv, List.length_append]; rfl
  · intro j hj
    rw [List.length_append, List.length_singleton] at hj
    rw [gA_pF, gA_wA, if_pos rfl]
    dsimp only
    rw [getD_snoc]
    by_cases e : j = L.length
    · rw [e, up_s, if_pos rfl, hz]
    · rw [up_n _ _ e, if_neg e]
      exact h.2 j (by omega)
end
section
/-! PURE: sums, counting, canonical codes -/
def sm (f : Nat → Nat) : Nat → Nat
  | 0 => 0
  | n + 1 => sm f n + f n
theorem sm_congr {f g : Nat → Nat} : ∀ {n : Nat}, (∀ j, j < n → f j = g j) → sm f n = sm g n := by
  intro n
  induction n with
  | zero => intro _; rfl
  | succ n ih => intro h; show sm f n + f n = sm g n + g n; rw [ih (fun j hj => h j (by omega)), h n (by omega)]
theorem sm_le {f g : Nat → Nat} : ∀ {n : Nat}, (∀ j, j < n → f j ≤ g j) → sm f n ≤ sm g n := by
  intro n
  induction n with
  | zero => intro _; exact Nat.le_refl 0
  | succ n ih =>
    intro h
    show sm f n + f n ≤ sm g n + g n
    have h1 := ih (fun j hj => h j (by omega))
    have h2 := h n (by omega)
    omega
theorem sm_add (f g : Nat → Nat) : ∀ n, sm (fun j => f j + g j) n = sm f n + sm g n := by
  intro n
  induction n with
  | zero => rfl
  | succ n ih => show sm (fun j => f j + g j) n + (f n + g n) = _; rw [ih]; show _ = sm f n + f n + (sm g n + g n); omega
theorem sm_mul (c : Nat) (f : Nat → Nat) : ∀ n, sm (fun j => c * f j) n = c * sm f n := by
  intro n
  induction n with
  | zero => rfl
  | succ n ih => show sm (fun j => c * f j) n + c * f n = c * (sm f n + f n); rw [ih, Nat.mul_add]
theorem sm_zero {f : Nat → Nat} : ∀ {n : Nat}, (∀ j, j < n → f j = 0) → sm f n = 0 := by
  intro n
  induction n with
  | zero => intro _; rfl
  | succ n ih => intro h; show sm f n + f n = 0; rw [ih (fun j hj => h j (by omega)), h n (by omega)]
theorem sm_up (f : Nat → Nat) {k : Nat} (v : Nat) : ∀ {n : Nat}, k < n → sm (up f k v) n + f k = sm f n + v := by
  intro n
  induction n with
  | zero => intro h; exact absurd h (by omega)
  | succ n ih =>
    intro h
    show sm (up f k v) n + up f k v n + f k = sm f n + f n + v
    by_cases e : k = n
    · subst e
      have : sm (up f k v) k = sm f k := sm_congr (fun j hj => up_n _ _ (by omega))
      rw [this, up_s]
      omega
    · have := ih (by omega)
      rw [up_n _ _ (by omega : n ≠ k)]
      omega
theorem sm_one {f : Nat → Nat} {k : Nat} : ∀ {n : Nat}, k < n → f k ≤ sm f n := by
  intro n
  induction n with
  | zero => intro h; exact absurd h (by omega)
  | succ n ih =>
    intro h
    show f k ≤ sm f n + f n
    by_cases e : k = n
    · subst e; omega
    · have := ih (by omega); omega
theorem sm_two {f : Nat → Nat} {a b : Nat} (hab : a ≠ b) : ∀ {n : Nat}, a < n → b < n → f a + f b ≤ sm f n := by
  intro n
  induction n with
  | zero => intro h; exact absurd h (by omega)
  | succ n ih =>
    intro h1 h2
    show f a + f b ≤ sm f n + f n
    by_cases e : a = n
    · subst e
      have := sm_one (f := f) (show b < a by omega)
      omega
    · by_cases e2 : b = n
      · subst e2
        have := sm_one (f := f) (show a < b by omega)
        omega
      · have := ih (by omega) (by omega); omega
/-! counting symbols -/
def cn : List Nat → Nat → Nat
  | [], _ => 0
  | a :: L, s => (if a = s then 1 else 0) + cn L s
theorem cn_append (L M : List Nat) (s : Nat) : cn (L ++ M) s = cn L s + cn M s := by
  induction L with
  | nil => show cn M s = 0 + cn M s; omega
  | cons a L ih => show (if a = s then 1 else 0) + cn (L ++ M) s = (if a = s then 1 else 0) + cn L s + cn M s; rw [ih]; omega
theorem take_snoc (L : List Nat) {k : Nat} (h : k < L.length) : L.take (k + 1) = L.take k ++ [L.getD k 0] := by
  rw [List.take_add_one, List.getD_eq_getElem?_getD, List.getElem?_eq_getElem h]
  rfl
theorem cn_take (L : List Nat) {k : Nat} (h : k < L.length) (s : Nat) : cn (L.take (k + 1)) s = cn (L.take k) s + if L.getD k 0 = s then 1 else 0 := by
  rw [take_snoc L h, cn_append]
  rfl
theorem cn_sum (f : Nat → Nat) : ∀ (L : List Nat), (∀ s ∈ L, s < 7) → (L.map f).sum = sm (fun s => cn L s * f s) 7 := by
  intro L
  induction L with
  | nil => intro _; rw [sm_zero (fun j _ => by show 0 * f j = 0; omega)]; rfl
  | cons a L ih =>
    intro h
    rw [List.map_cons, List.sum_cons, ih (fun s hs => h s (List.mem_cons_of_mem _ hs))]
    have ha := h a List.mem_cons_self
    have e : sm (fun s => cn (a :: L) s * f s) 7 = sm (fun s => (if a = s then f s else 0) + cn L s * f s) 7 := by
      apply sm_congr
      intro j _
      show ((if a = j then 1 else 0) + cn L j) * f j = _
      rw [Nat.add_mul]
      split <;> omega
    rw [e, sm_add]
    have e2 : sm (fun s => if a = s then f s else 0) 7 = f a := by
      have h0 : sm (fun _ => 0) 7 = 0 := rfl
      have := sm_up (fun _ => 0) (k := a) (f a) ha
      rw [h0] at this
      have e3 : sm (fun s => if a = s then f s else 0) 7 = sm (up (fun _ => 0) a (f a)) 7 := by
        apply sm_congr
        intro j _
        by_cases q : a = j
        · subst q; rw [up_s]; exact if_pos rfl
        · rw [up_n _ _ (fun z => q z.symm)]; exact if_neg q
      rw [e3]
      omega
    rw [e2]
theorem cn_len (L : List Nat) (s : Nat) : cn L s ≤ L.length := by
  induction L with
  | nil => exact Nat.le_refl 0
  | cons a L ih => show (if a = s then 1 else 0) + cn L s ≤ L.length + 1; split <;> omega
theorem cn_pos {L : List Nat} {s : Nat} : 0 < cn L s ↔ s ∈ L := by
  induction L with
  | nil => exact ⟨fun h => absurd h (Nat.lt_irrefl 0), fun h => absurd h List.not_mem_nil⟩
  | cons a L ih =>
    show 0 < (if a = s then 1 else 0) + cn L s ↔ _
    rw [List.mem_cons]
    by_cases q : a = s
    · rw [if_pos q]
      exact ⟨fun _ => Or.inl q.symm, fun _ => by omega⟩
    · rw [if_neg q, Nat.zero_add, ih]
      exact ⟨Or.inr, fun h => h.resolve_left (fun e => q e.symm)⟩
/-! canonical codes -/
def ctm (bt : Nat → Nat) (b s t : Nat) : Nat := if 1 ≤ bt t ∧ (bt t < b ∨ (bt t = b ∧ t < s)) then 2 ^ (b - bt t) else 0
def cs (bt : Nat → Nat) (b s : Nat) : Nat := sm (ctm bt b s) 7
theorem cs_first (bt : Nat → Nat) (s : Nat) : cs bt 0 s = 0 := sm_zero (fun j _ => by unfold ctm; rw [if_neg (by omega)])
theorem cs_next (bt : Nat → Nat) (b : Nat) : cs bt (b + 1) 0 = 2 * cs bt b 7 := by
  unfold cs
  rw [← sm_mul]
  apply sm_congr
  intro t ht
  unfold ctm
  by_cases h : 1 ≤ bt t ∧ (bt t < b + 1 ∨ (bt t = b + 1 ∧ t < 0))
  · rw [if_pos h, if_pos (by omega), show b + 1 - bt t = (b - bt t) + 1 by omega, Nat.pow_succ]
    omega
  · rw [if_neg h, if_neg (by omega)]
theorem cs_step (bt : Nat → Nat) {b s : Nat} (hb : 1 ≤ b) (hs : s < 7) : cs bt b (s + 1) = cs bt b s + if bt s = b then 1 else 0 := by
  unfold cs
  by_cases h : bt s = b
  · rw [if_pos h]
    have e : sm (ctm bt b (s + 1)) 7 = sm (up (ctm bt b s) s 1) 7 := by
      apply sm_congr
      intro t ht
      by_cases q : t = s
      · subst q
        rw [up_s]
        unfold ctm
        rw [if_pos (by omega), h, Nat.sub_self]
      · rw [up_n _ _ q]
        unfold ctm
        by_cases g : 1 ≤ bt t ∧ (bt t < b ∨ (bt t = b ∧ t < s))
        · rw [if_pos g, if_pos (by omega)]
        · rw [if_neg g, if_neg (by omega)]
    rw [e]
    have hz : ctm bt b s s = 0 := by unfold ctm; rw [if_neg (by omega)]
    have := sm_up (ctm bt b s) (k := s) 1 hs
    omega
  · rw [if_neg h]
    apply sm_congr
    intro t ht
    unfold ctm
    by_cases g : 1 ≤ bt t ∧ (bt t < b ∨ (bt t = b ∧ t < s))
    · rw [if_pos g, if_pos (by omega)]
    · rw [if_neg g, if_neg (by
        intro q
        have : t ≠ s := fun e => by subst e; omega
        omega)]
end
section
/-! PURE: joining the two lightest is best -/
def kf (w l : Nat → Nat) : Nat → Nat := fun g => if 0 < w g then 64 / 2 ^ (l g) else 0
def Fe (w l : Nat → Nat) : Prop := (∀ g, g < 7 → 0 < w g → l g ≤ 6) ∧ sm (kf w l) 7 ≤ 64
def Cost (w l : Nat → Nat) : Nat := sm (fun g => w g * l g) 7
theorem sm_up2 (f : Nat → Nat) {i j n : Nat} (u v : Nat) (hij : i ≠ j) (hi : i < n) (hj : j < n) : sm (up (up f i u) j v) n + f i + f j = sm f n + u + v := by
  have h1 := sm_up f (k := i) u hi
  have h2 := sm_up (up f i u) (k := j) v hj
  rw [up_n _ _ (fun e => hij e.symm)] at h2
  omega
theorem kr_half : ∀ m, m < 7 → 1 ≤ m → 64 / 2 ^ (m - 1) = 2 * (64 / 2 ^ m) := by decide
theorem kr_half1 : ∀ m, m < 6 → 64 / 2 ^ m = 2 * (64 / 2 ^ (m + 1)) := by decide
theorem kr_pos : ∀ m, m < 7 → 1 ≤ 64 / 2 ^ m := by decide
theorem kr_dvd : ∀ m, m < 7 → ∀ k, k ≤ m → 64 / 2 ^ m ∣ 64 / 2 ^ k := by decide +kernel
theorem ex_max (p : Nat → Prop) (f : Nat → Nat) : ∀ n, (∃ g, g < n ∧ p g) → ∃ x, x < n ∧ p x ∧ ∀ g, g < n → p g → f g ≤ f x := by
  intro n
  induction n with
  | zero => rintro ⟨g, h, _⟩; exact absurd h (by omega)
  | succ n ih =>
    rintro ⟨g, hg, pg⟩
    by_cases hp : ∃ g, g < n ∧ p g
    · obtain ⟨x, h1, h2, h3⟩ := ih hp
      by_cases hn : p n ∧ f x ≤ f n
      · refine ⟨n, by omega, hn.1, fun q hq pq => ?_⟩
        by_cases e : q = n
        · subst e; exact Nat.le_refl _
        · exact Nat.le_trans (h3 q (by omega) pq) hn.2
      · refine ⟨x, by omega, h2, fun q hq pq => ?_⟩
        by_cases e : q = n
        · subst e
          rcases Nat.lt_or_ge (f x) (f q) with z | z
          · exact absurd ⟨pq, Nat.le_of_lt z⟩ hn
          · exact z
        · exact h3 q (by omega) pq
    · have e : g = n := by
        rcases Nat.lt_or_ge g n with q | q
        · exact absurd ⟨g, q, pg⟩ hp
        · omega
      subst e
      refine ⟨g, by omega, pg, fun q hq pq => ?_⟩
      by_cases e : q = g
      · subst e; exact Nat.le_refl _
      · exact absurd ⟨q, by omega, pq⟩ hp
theorem sm_dvd {f : Nat → Nat} {d : Nat} : ∀ {n : Nat}, (∀ j, j < n → d ∣ f j) → d ∣ sm f n := by
  intro n
  induction n with
  | zero => intro _; exact Nat.dvd_zero d
  | succ n ih => intro h; exact Nat.dvd_add (ih (fun j hj => h j (by omega))) (h n (by omega))
theorem kf_up {w l : Nat → Nat} {x v : Nat} (hx : 0 < w x) : kf w (up l x v) = up (kf w l) x (64 / 2 ^ v) := by
  funext g
  by_cases e : g = x
  · subst e
    rw [up_s]
    unfold kf
    rw [if_pos hx, up_s]
  · rw [up_n _ _ e]
    unfold kf
    rw [up_n _ _ e]
theorem cost_up {w l : Nat → Nat} {x v : Nat} : (fun g => w g * up l x v g) = up (fun g => w g * l g) x (w x * v) := by
  funext g
  by_cases e : g = x
  · subst e; rw [up_s, up_s]
  · rw [up_n _ _ e, up_n _ _ e]
/-- A: the longest length is had twice -/
theorem hf_tight {w : Nat → Nat} {a b : Nat} (hab : a ≠ b) (ha : a < 7) (hb : b < 7) (wa : 0 < w a) (wb : 0 < w b) : ∀ (t : Nat) (l : Nat → Nat), sm l 7 ≤ t → Fe w l →
    ∃ l1, Fe w l1 ∧ Cost w l1 ≤ Cost w l ∧ ∃ x y, x < 7 ∧ y < 7 ∧ x ≠ y ∧ 0 < w x ∧ 0 < w y ∧ l1 y = l1 x ∧ 1 ≤ l1 x ∧ ∀ g, g < 7 → 0 < w g → l1 g ≤ l1 x := by
  intro t
  induction t with
  | zero =>
    intro l ht hF
    have h1 := sm_one (f := l) ha
    have h2 := sm_one (f := l) hb
    have e1 : l a = 0 := by omega
    have e2 : l b = 0 := by omega
    have h3 := sm_two (f := kf w l) hab ha hb
    have e3 : kf w l a = 64 := by unfold kf; rw [if_pos wa, e1]
    have e4 : kf w l b = 64 := by unfold kf; rw [if_pos wb, e2]
    have := hF.2
    omega
  | succ t ih =>
    intro l ht hF
    obtain ⟨x, hx, wx, hmax⟩ := ex_max (fun g => 0 < w g) l 7 ⟨a, ha, wa⟩
    by_cases hy : ∃ y, y < 7 ∧ y ≠ x ∧ 0 < w y ∧ l y = l x
    · obtain ⟨y, hy7, hyx, wy, e⟩ := hy
      refine ⟨l, hF, Nat.le_refl _, x, y, hx, hy7, fun q => hyx q.symm, wx, wy, e, ?_, hmax⟩
      rcases Nat.lt_or_ge 0 (l x) with q | q
      · exact q
      · have e1 : l x = 0 := by omega
        have h3 := sm_two (f := kf w l) hyx hy7 hx
        have e3 : kf w l x = 64 := by unfold kf; rw [if_pos wx, e1]
        have e4 : kf w l y = 64 := by unfold kf; rw [if_pos wy, e, e1]
        have := hF.2
        omega
    · have hlt : ∀ g, g < 7 → g ≠ x → 0 < w g → l g < l x := by
        intro g hg hgx wg
        have h1 := hmax g hg wg
        have h2 : l g ≠ l x := fun e => hy ⟨g, hg, hgx, wg, e⟩
        omega
      have hm6 := hF.1 x hx wx
      have hm1 : 1 ≤ l x := by
        by_cases e : a = x
        · have := hlt b hb (fun q => hab (by omega)) wb
          omega
        · have := hlt a ha e wa
          omega
      have hq := kr_half (l x) (by omega) hm1
      have hfx : kf w l x = 64 / 2 ^ (l x) := by unfold kf; rw [if_pos wx]
      have hp := kr_pos (l x) (by omega)
      have ho := sm_up (kf w l) (k := x) 0 hx
      have hd : 64 / 2 ^ (l x - 1) ∣ sm (up (kf w l) x 0) 7 := by
        apply sm_dvd
        intro j hj
        by_cases e : j = x
        · subst e; rw [up_s]; exact Nat.dvd_zero _
        · rw [up_n _ _ e]
          unfold kf
          split
          · next wj =>
            have := hlt j hj e wj
            exact kr_dvd (l x - 1) (by omega) (l j) (by omega)
          · exact Nat.dvd_zero _
      have hd2 : 64 / 2 ^ (l x - 1) ∣ 64 := kr_dvd (l x - 1) (by omega) 0 (by omega)
      have hS := hF.2
      have hfit : sm (up (kf w l) x 0) 7 + 64 / 2 ^ (l x - 1) ≤ 64 := by
        obtain ⟨c, hc⟩ := hd
        obtain ⟨d, hd'⟩ := hd2
        rw [hc]
        have h1 : 64 / 2 ^ (l x - 1) * c < 64 / 2 ^ (l x - 1) * d := by rw [← hc, ← hd']; omega
        have h2 : c < d := Nat.lt_of_mul_lt_mul_left h1
        have h3 : 64 / 2 ^ (l x - 1) * (c + 1) ≤ 64 / 2 ^ (l x - 1) * d := Nat.mul_le_mul_left _ h2
        rw [← hd', Nat.mul_add, Nat.mul_one] at h3
        exact h3
      have hF1 : Fe w (up l x (l x - 1)) := by
        refine ⟨fun g hg wg => ?_, ?_⟩
        · by_cases e : g = x
          · subst e; rw [up_s]; omega
          · rw [up_n _ _ e]; exact hF.1 g hg wg
        · rw [kf_up wx]
          have := sm_up (kf w l) (k := x) (64 / 2 ^ (l x - 1)) hx
          omega
      have hs := sm_up l (k := x) (l x - 1) hx
      obtain ⟨l1, h1, h2, h3⟩ := ih (up l x (l x - 1)) (by omega) hF1
      refine ⟨l1, h1, Nat.le_trans h2 ?_, h3⟩
      unfold Cost
      rw [cost_up]
      have := sm_up (fun g => w g * l g) (k := x) (w x * (l x - 1)) hx
      have hc : w x * (l x - 1) ≤ w x * l x := Nat.mul_le_mul_left _ (by omega)
      omega
/-- B: swapping the lengths of two -/
theorem hf_swap {w l : Nat → Nat} {i j : Nat} (hij : i ≠ j) (hi : i < 7) (hj : j < 7) (wi : 0 < w i) (wj : 0 < w j) (hF : Fe w l) (hw : w i ≤ w j) (hl : l i ≤ l j) : Fe w (up (up l i (l j)) j (l i)) ∧ Cost w (up (up l i (l j)) j (l i)) ≤ Cost w l := by
  refine ⟨⟨fun g hg wg => ?_, ?_⟩, ?_⟩
  · by_cases e : g = j
    · subst e; rw [up_s]; exact hF.1 i hi wi
    · rw [up_n _ _ e]
      by_cases e2 : g = i
      · subst e2; rw [up_s]; exact hF.1 j hj wj
      · rw [up_n _ _ e2]; exact hF.1 g hg wg
  · rw [kf_up wj, kf_up wi]
    have := sm_up2 (kf w l) (64 / 2 ^ (l j)) (64 / 2 ^ (l i)) hij hi hj
    have e1 : kf w l i = 64 / 2 ^ (l i) := by unfold kf; rw [if_pos wi]
    have e2 : kf w l j = 64 / 2 ^ (l j) := by unfold kf; rw [if_pos wj]
    have := hF.2
    omega
  · unfold Cost
    rw [cost_up, cost_up]
    have := sm_up2 (fun g => w g * l g) (w i * l j) (w j * l i) hij hi hj
    obtain ⟨d, hd⟩ : ∃ d, w j = w i + d := ⟨w j - w i, by omega⟩
    obtain ⟨e, he⟩ : ∃ e, l j = l i + e := ⟨l j - l i, by omega⟩
    have k1 : w i * l j + w j * l i ≤ w i * l i + w j * l j := by
      rw [hd, he]
      simp only [Nat.mul_add, Nat.add_mul]
      omega
    omega
theorem hf_merge {w l : Nat → Nat} {a b : Nat} (hab : a ≠ b) (ha : a < 7) (hb : b < 7) (wa : 0 < w a) (wb : 0 < w b) (hm1 : ∀ g, g < 7 → 0 < w g → w a ≤ w g) (hm2 : ∀ g, g < 7 → g ≠ a → 0 < w g → w b ≤ w g) (hF : Fe w l) :
    ∃ l', Fe (up (up w b (w b + w a)) a 0) l' ∧ Cost (up (up w b (w b + w a)) a 0) l' + (w a + w b) ≤ Cost w l := by
  obtain ⟨l1, hF1, hC1, x, y, hx, hy, hxy, wx, wy, eyx, h1, hmax⟩ := hf_tight hab ha hb wa wb (sm l 7) l (Nat.le_refl _) hF
  -- a gets the longest
  obtain ⟨l2, hF2, hC2, ea, y2, hy2, hya, wy2, ey2, hmax2⟩ : ∃ l2, Fe w l2 ∧ Cost w l2 ≤ Cost w l ∧ l2 a = l1 x ∧ ∃ y2, y2 < 7 ∧ y2 ≠ a ∧ 0 < w y2 ∧ l2 y2 = l1 x ∧ ∀ g, g < 7 → 0 < w g → l2 g ≤ l1 x := by
    by_cases e : l1 a = l1 x
    · by_cases ex : x = a
      · exact ⟨l1, hF1, hC1, e, y, hy, fun q => hxy (by omega), wy, eyx, hmax⟩
      · exact ⟨l1, hF1, hC1, e, x, hx, ex, wx, rfl, hmax⟩
    · have hxa : a ≠ x := fun q => e (by rw [q])
      have hya : y ≠ a := fun q => e (by rw [← q]; exact eyx)
      obtain ⟨s1, s2⟩ := hf_swap hxa ha hx wa wx hF1 (hm1 x hx wx) (hmax a ha wa)
      refine ⟨_, s1, Nat.le_trans s2 hC1, by rw [up_n _ _ hxa, up_s], y, hy, hya, wy, by rw [up_n _ _ (fun q => hxy q.symm), up_n _ _ hya]; exact eyx, fun g hg wg => ?_⟩
      by_cases e1 : g = x
      · subst e1; rw [up_s]; exact hmax a ha wa
      · rw [up_n _ _ e1]
        by_cases e2 : g = a
        · subst e2; rw [up_s]; exact Nat.le_refl _
        · rw [up_n _ _ e2]; exact hmax g hg wg
  -- b gets the longest too
  obtain ⟨l3, hF3, hC3, ea3, eb3⟩ : ∃ l3, Fe w l3 ∧ Cost w l3 ≤ Cost w l ∧ l3 a = l1 x ∧ l3 b = l1 x := by
    by_cases e : l2 b = l1 x
    · exact ⟨l2, hF2, hC2, ea, e⟩
    · have hby : b ≠ y2 := fun q => e (by rw [q]; exact ey2)
      obtain ⟨s1, s2⟩ := hf_swap hby hb hy2 wb wy2 hF2 (hm2 y2 hy2 hya wy2) (by rw [ey2]; exact hmax2 b hb wb)
      refine ⟨_, s1, Nat.le_trans s2 hC2, by rw [up_n _ _ (fun q => hya q.symm), up_n _ _ hab]; exact ea, by rw [up_n _ _ hby, up_s]; exact ey2⟩
  have hm6 : l1 x ≤ 6 := hF1.1 x hx wx
  have hk := kr_half (l1 x) (by omega) h1
  have fa : kf w l3 a = 64 / 2 ^ (l1 x) := by unfold kf; rw [if_pos wa, ea3]
  have fb : kf w l3 b = 64 / 2 ^ (l1 x) := by unfold kf; rw [if_pos wb, eb3]
  refine ⟨up l3 b (l1 x - 1), ⟨fun g hg wg => ?_, ?_⟩, ?_⟩
  · by_cases e1 : g = a
    · subst e1; rw [up_s] at wg; omega
    · rw [up_n _ _ e1] at wg
      by_cases e2 : g = b
      · subst e2; rw [up_s]; omega
      · rw [up_n _ _ e2] at wg ⊢; exact hF3.1 g hg wg
  · have e : kf (up (up w b (w b + w a)) a 0) (up l3 b (l1 x - 1)) = up (up (kf w l3) b (64 / 2 ^ (l1 x - 1))) a 0 := by
      funext g
      by_cases e1 : g = a
      · subst e1; rw [up_s]; unfold kf; rw [up_s]; rfl
      · rw [up_n _ _ e1]
        by_cases e2 : g = b
        · subst e2; rw [up_s]; unfold kf; rw [up_n _ _ e1, up_s, up_s, if_pos (by omega)]
        · rw [up_n _ _ e2]; unfold kf; rw [up_n _ _ e1, up_n _ _ e2, up_n _ _ e2]
    rw [e]
    have := sm_up2 (kf w l3) (64 / 2 ^ (l1 x - 1)) 0 (fun q => hab q.symm) hb ha
    have := hF3.2
    omega
  · have e : (fun g => up (up w b (w b + w a)) a 0 g * up l3 b (l1 x - 1) g) = up (up (fun g => w g * l3 g) b ((w b + w a) * (l1 x - 1))) a 0 := by
      funext g
      by_cases e1 : g = a
      · subst e1; rw [up_s, up_s, Nat.zero_mul]
      · rw [up_n _ _ e1, up_n _ _ e1]
        by_cases e2 : g = b
        · subst e2; rw [up_s, up_s, up_s]
        · rw [up_n _ _ e2, up_n _ _ e2, up_n _ _ e2]
    unfold Cost at hC3 ⊢
    rw [e]
    have := sm_up2 (fun g => w g * l3 g) ((w b + w a) * (l1 x - 1)) 0 (fun q => hab q.symm) hb ha
    rw [ea3, eb3] at this
    have k1 : w a * l1 x + w b * l1 x = (w b + w a) * (l1 x - 1) + (w a + w b) := by
      obtain ⟨d, hd⟩ : ∃ d, l1 x = d + 1 := ⟨l1 x - 1, by omega⟩
      rw [hd, Nat.add_sub_cancel, Nat.mul_add, Nat.mul_add, Nat.add_mul]
      omega
    omega
end
section
/-! PURE: the groups while they are joined -/
def mb (M : Nat → Nat) (g s : Nat) : Bool := (M g).testBit s
def gs (M f : Nat → Nat) (g : Nat) : Nat := sm (fun s => if mb M g s = true then f s else 0) 7
def HI (cnt w M bt : Nat → Nat) : Prop :=
  (∀ g, g < 7 → 0 < w g → ∀ s, s < 7 → mb M g s = true → 0 < cnt s) ∧
  (∀ s, s < 7 → 0 < cnt s → ∃ g, g < 7 ∧ 0 < w g ∧ mb M g s = true) ∧
  (∀ g h, g < 7 → h < 7 → 0 < w g → 0 < w h → g ≠ h → ∀ s, s < 7 → mb M g s = true → mb M h s = false) ∧
  (∀ g, g < 7 → 0 < w g → gs M (fun s => 64 / 2 ^ (bt s)) g = 64) ∧
  (∀ g, g < 7 → 0 < w g → ∀ s, s < 7 → mb M g s = true → bt s + 1 ≤ gs M (fun _ => 1) g) ∧
  (∀ s, s < 7 → cnt s = 0 → bt s = 0) ∧
  (∀ g, g < 7 → M g < 128) ∧
  (∀ g, g < 7 → 0 < w g → w g = gs M cnt g) ∧
  (∀ l, Fe cnt l → ∃ l', Fe w l' ∧ Cost w l' + Cost cnt bt ≤ Cost cnt l)
theorem gs_congr {M f g' : Nat → Nat} {g : Nat} (h : ∀ s, s < 7 → mb M g s = true → f s = g' s) : gs M f g = gs M g' g := sm_congr (fun s hs => by
  by_cases e : mb M g s = true
  · rw [if_pos e, if_pos e, h s hs e]
  · rw [if_neg e, if_neg e])
theorem mb_pow {s t : Nat} : Nat.testBit (2 ^ s) t = decide (s = t) := Nat.testBit_two_pow
theorem gs_single (M f : Nat → Nat) {g : Nat} (hg : g < 7) (hM : M g = 2 ^ g) : gs M f g = f g := by
  have e : gs M f g = sm (up (fun _ => 0) g (f g)) 7 := by
    apply sm_congr
    intro s _
    unfold mb
    rw [hM, mb_pow]
    by_cases q : s = g
    · subst q; rw [up_s]; simp
    · rw [up_n _ _ q, if_neg]
      simp
      exact fun z => q z.symm
  have := sm_up (fun _ => 0) (k := g) (f g) hg
  have h0 : sm (fun _ => 0) 7 = 0 := rfl
  rw [e]
  omega
theorem HI_start {cnt M bt : Nat → Nat} (hM : ∀ g, g < 7 → M g = 2 ^ g) (hb : ∀ s, s < 7 → bt s = 0) : HI cnt cnt M bt := by
  have hmb : ∀ g s, g < 7 → (mb M g s = true ↔ g = s) := by
    intro g s hg
    unfold mb
    rw [hM g hg, mb_pow, decide_eq_true_iff]
  refine ⟨fun g hg hw s hs h => ?_, fun s hs hc => ⟨s, hs, hc, (hmb s s hs).mpr rfl⟩, fun g h hg hh _ _ hne s hs e => ?_, fun g hg _ => ?_, fun g hg _ s hs e => ?_, fun s hs _ => hb s hs, fun g hg => ?_, fun g hg _ => (gs_single M cnt hg (hM g hg)).symm, fun l hl => ⟨l, hl, ?_⟩⟩
  · rw [← (hmb g s hg).mp h]; exact hw
  · have e1 := (hmb g s hg).mp e
    cases q : mb M h s with
    | false => rfl
    | true => exact absurd (e1.trans ((hmb h s hh).mp q).symm) hne
  · rw [gs_single M _ hg (hM g hg), hb g hg]
  · rw [gs_single M _ hg (hM g hg), hb s hs]
    exact Nat.le_refl _
  · rw [hM g hg]
    have : g = 0 ∨ g = 1 ∨ g = 2 ∨ g = 3 ∨ g = 4 ∨ g = 5 ∨ g = 6 := by omega
    rcases this with rfl | rfl | rfl | rfl | rfl | rfl | rfl <;> decide
  · have : Cost cnt bt = 0 := sm_zero (fun j hj => by rw [hb j hj, Nat.mul_zero])
    omega
theorem gs_or {M f : Nat → Nat} {a b : Nat} (hd : ∀ s, s < 7 → mb M a s = true → mb M b s = false) {M' : Nat → Nat} {g : Nat} (hM : M' g = M b ||| M a) : gs M' f g = gs M f a + gs M f b := by
  unfold gs
  rw [← sm_add]
  apply sm_congr
  intro s hs
  have e : mb M' g s = (mb M b s || mb M a s) := by unfold mb; rw [hM, Nat.testBit_or]
  rw [e]
  have := hd s hs
  cases h1 : mb M a s <;> cases h2 : mb M b s <;> simp_all
theorem HI_step {cnt w M bt : Nat → Nat} {a b : Nat} (h : HI cnt w M bt) (hab : a ≠ b) (ha : a < 7) (hb : b < 7) (wa : 0 < w a) (wb : 0 < w b) (hm1 : ∀ g, g < 7 → 0 < w g → w a ≤ w g) (hm2 : ∀ g, g < 7 → g ≠ a → 0 < w g → w b ≤ w g)
    {w' M' bt' : Nat → Nat} (hw' : ∀ g, g < 7 → w' g = up (up w b (w b + w a)) a 0 g) (hM' : ∀ g, g < 7 → M' g = up M b (M b ||| M a) g) (hbt' : ∀ s, s < 7 → bt' s = if mb M' b s = true then bt s + 1 else bt s) : HI cnt w' M' bt' := by
  obtain ⟨h1, h2, h3, h4, h5, h6, h7, h8, h9⟩ := h
  have hd : ∀ s, s < 7 → mb M a s = true → mb M b s = false := h3 a b ha hb wa wb hab
  have eMb : M' b = M b ||| M a := by rw [hM' b hb, up_s]
  have eMo : ∀ g, g < 7 → g ≠ b → M' g = M g := fun g hg e => by rw [hM' g hg, up_n _ _ e]
  have mbb : ∀ s, mb M' b s = (mb M b s || mb M a s) := fun s => by unfold mb; rw [eMb, Nat.testBit_or]
  have mbo : ∀ g, g < 7 → g ≠ b → ∀ s, mb M' g s = mb M g s := fun g hg e s => by unfold mb; rw [eMo g hg e]
  have ewa : w' a = 0 := by rw [hw' a ha, up_s]
  have ewb : w' b = w b + w a := by rw [hw' b hb, up_n _ _ (fun q => hab q.symm), up_s]
  have ewo : ∀ g, g < 7 → g ≠ a → g ≠ b → w' g = w g := fun g hg e1 e2 => by rw [hw' g hg, up_n _ _ e1, up_n _ _ e2]
  have sza : 1 ≤ gs M (fun _ => 1) a := by
    rcases Nat.lt_or_ge 0 (gs M (fun _ => 1) a) with q | q
    · exact q
    · exfalso
      have e : gs M (fun s => 64 / 2 ^ (bt s)) a = 0 := by
        apply sm_zero
        intro s hs
        by_cases e : mb M a s = true
        · have := h5 a ha wa s hs e; omega
        · rw [if_neg e]
      have := h4 a ha wa
      omega
  have szb : 1 ≤ gs M (fun _ => 1) b := by
    rcases Nat.lt_or_ge 0 (gs M (fun _ => 1) b) with q | q
    · exact q
    · exfalso
      have e : gs M (fun s => 64 / 2 ^ (bt s)) b = 0 := by
        apply sm_zero
        intro s hs
        by_cases e : mb M b s = true
        · have := h5 b hb wb s hs e; omega
        · rw [if_neg e]
      have := h4 b hb wb
      omega
  have szt : gs M (fun _ => 1) a + gs M (fun _ => 1) b ≤ 7 := by
    rw [← gs_or (f := fun _ => 1) hd (M' := M') (g := b) eMb]
    have : gs M' (fun _ => 1) b ≤ sm (fun _ => 1) 7 := sm_le (fun s _ => by dsimp only; split <;> omega)
    exact this
  -- members of others are not in the new group
  have hoth : ∀ g, g < 7 → g ≠ a → g ≠ b → 0 < w g → ∀ s, s < 7 → mb M g s = true → mb M' b s = false := by
    intro g hg e1 e2 wg s hs e
    rw [mbb, h3 g b hg hb wg wb e2 s hs e, h3 g a hg ha wg wa e1 s hs e]
    rfl
  have live : ∀ g, g < 7 → 0 < w' g → g ≠ a := fun g hg wg e => by subst e; omega
  refine ⟨fun g hg wg s hs e => ?_, fun s hs hc => ?_, fun g g2 hg hg2 wg wg2 hne s hs e => ?_, fun g hg wg => ?_, fun g hg wg s hs e => ?_, fun s hs hc => ?_, fun g hg => ?_, fun g hg wg => ?_, fun l hl => ?_⟩
  · by_cases eb : g = b
    · subst eb
      rw [mbb, Bool.or_eq_true] at e
      rcases e with e | e
      · exact h1 g hg wb s hs e
      · exact h1 a ha wa s hs e
    · rw [mbo g hg eb] at e
      rw [ewo g hg (live g hg wg) eb] at wg
      exact h1 g hg wg s hs e
  · obtain ⟨g, hg, wg, e⟩ := h2 s hs hc
    by_cases ea : g = a
    · subst ea
      exact ⟨b, hb, by omega, by rw [mbb, e, Bool.or_true]⟩
    · by_cases eb : g = b
      · subst eb
        exact ⟨g, hb, by omega, by rw [mbb, e, Bool.true_or]⟩
      · exact ⟨g, hg, by rw [ewo g hg ea eb]; exact wg, by rw [mbo g hg eb]; exact e⟩
  · have na := live g hg wg
    have na2 := live g2 hg2 wg2
    by_cases eb : g = b
    · subst eb
      have eb2 : g2 ≠ g := fun q => hne q.symm
      rw [ewo g2 hg2 na2 eb2] at wg2
      rw [mbo g2 hg2 eb2]
      cases q : mb M g2 s with
      | false => rfl
      | true => rw [hoth g2 hg2 na2 eb2 wg2 s hs q] at e; cases e
    · rw [ewo g hg na eb] at wg
      rw [mbo g hg eb] at e
      by_cases eb2 : g2 = b
      · subst eb2
        exact hoth g hg na eb wg s hs e
      · rw [ewo g2 hg2 na2 eb2] at wg2
        rw [mbo g2 hg2 eb2]
        exact h3 g g2 hg hg2 wg wg2 hne s hs e
  · by_cases eb : g = b
    · subst eb
      have e1 : gs M' (fun s => 64 / 2 ^ (bt' s)) g = gs M' (fun s => 64 / 2 ^ (bt s + 1)) g := gs_congr (fun s hs e => by rw [hbt' s hs, if_pos e])
      rw [e1, gs_or hd eMb]
      have half : ∀ x, x < 7 → 0 < w x → gs M (fun _ => 1) x ≤ 6 → 2 * gs M (fun s => 64 / 2 ^ (bt s + 1)) x = 64 := by
        intro x hx wx hs6
        have : gs M (fun s => 64 / 2 ^ (bt s)) x = 2 * gs M (fun s => 64 / 2 ^ (bt s + 1)) x := by
          unfold gs
          rw [← sm_mul]
          apply sm_congr
          intro s hs
          by_cases e : mb M x s = true
          · rw [if_pos e, if_pos e]
            have := h5 x hx wx s hs e
            exact kr_half1 (bt s) (by omega)
          · rw [if_neg e, if_neg e]
        rw [← this]
        exact h4 x hx wx
      have := half a ha wa (by omega)
      have := half g hg wb (by omega)
      omega
    · have na := live g hg wg
      rw [ewo g hg na eb] at wg
      have e1 : gs M' (fun s => 64 / 2 ^ (bt' s)) g = gs M (fun s => 64 / 2 ^ (bt s)) g := by
        apply sm_congr
        intro s hs
        rw [mbo g hg eb]
        by_cases e : mb M g s = true
        · rw [if_pos e, if_pos e]
          dsimp only
          rw [hbt' s hs, if_neg (by rw [hoth g hg na eb wg s hs e]; decide)]
        · rw [if_neg e, if_neg e]
      rw [e1]
      exact h4 g hg wg
  · by_cases eb : g = b
    · subst eb
      rw [hbt' s hs, if_pos e, gs_or hd eMb]
      rw [mbb, Bool.or_eq_true] at e
      rcases e with e | e
      · have := h5 g hg wb s hs e; omega
      · have := h5 a ha wa s hs e; omega
    · have na := live g hg wg
      rw [ewo g hg na eb] at wg
      rw [mbo g hg eb] at e
      rw [hbt' s hs, if_neg (by rw [hoth g hg na eb wg s hs e]; decide)]
      have e1 : gs M' (fun _ => 1) g = gs M (fun _ => 1) g := sm_congr (fun s _ => by rw [mbo g hg eb])
      rw [e1]
      exact h5 g hg wg s hs e
  · rw [hbt' s hs, if_neg, h6 s hs hc]
    intro e
    rw [mbb, Bool.or_eq_true] at e
    rcases e with e | e
    · have := h1 b hb wb s hs e; omega
    · have := h1 a ha wa s hs e; omega
  · by_cases eb : g = b
    · subst eb
      rw [eMb]
      exact Nat.or_lt_two_pow (n := 7) (h7 g hg) (h7 a ha)
    · rw [eMo g hg eb]; exact h7 g hg
  · by_cases eb : g = b
    · subst eb
      rw [ewb, gs_or hd eMb, h8 g hg wb, h8 a ha wa]
      omega
    · have na := live g hg wg
      have wg' := wg
      rw [ewo g hg na eb] at wg' ⊢
      have e1 : gs M' cnt g = gs M cnt g := sm_congr (fun s _ => by rw [mbo g hg eb])
      rw [e1]
      exact h8 g hg wg'
  · obtain ⟨l1, f1, c1⟩ := h9 l hl
    obtain ⟨l2, f2, c2⟩ := hf_merge hab ha hb wa wb hm1 hm2 f1
    have ek : sm (kf w' l2) 7 = sm (kf (up (up w b (w b + w a)) a 0) l2) 7 := sm_congr (fun g hg => by unfold kf; rw [hw' g hg])
    have ec : Cost w' l2 = Cost (up (up w b (w b + w a)) a 0) l2 := sm_congr (fun g hg => by rw [hw' g hg])
    refine ⟨l2, ⟨fun g hg wg => f2.1 g hg (by rw [← hw' g hg]; exact wg), by rw [ek]; exact f2.2⟩, ?_⟩
    have e1 : Cost cnt bt' = Cost cnt bt + gs M' cnt b := by
      unfold Cost gs
      rw [← sm_add]
      apply sm_congr
      intro s hs
      rw [hbt' s hs]
      by_cases e : mb M' b s = true
      · rw [if_pos e, if_pos e, Nat.mul_add, Nat.mul_one]
      · rw [if_neg e, if_neg e, Nat.add_zero]
    have e2 : gs M' cnt b = w a + w b := by rw [gs_or hd eMb, h8 a ha wa, h8 b hb wb]
    rw [ec, e1, e2]
    omega
/-- what the bits must satisfy -/
def HB (cnt bt : Nat → Nat) : Prop := (∀ s, s < 7 → cnt s = 0 → bt s = 0) ∧ (∀ s, s < 7 → 0 < cnt s → 1 ≤ bt s ∧ bt s ≤ 6) ∧ sm (kf cnt bt) 7 ≤ 64 ∧ ∀ l, (∀ s, s < 7 → 0 < cnt s → 1 ≤ l s) → Fe cnt l → Cost cnt bt ≤ Cost cnt l
theorem HB_none {cnt bt : Nat → Nat} (h : ∀ s, s < 7 → cnt s = 0) (hb : ∀ s, s < 7 → bt s = 0) : HB cnt bt := by
  refine ⟨fun s hs _ => hb s hs, fun s hs q => by have := h s hs; omega, ?_, fun l _ _ => ?_⟩
  · rw [sm_zero (fun j hj => by unfold kf; rw [if_neg (by have := h j hj; omega)])]; omega
  · rw [show Cost cnt bt = 0 from sm_zero (fun j hj => by rw [hb j hj, Nat.mul_zero])]; exact Nat.zero_le _
theorem HB_one {cnt bt : Nat → Nat} {a : Nat} (ha : a < 7) (hc : 0 < cnt a) (h : ∀ s, s < 7 → s ≠ a → cnt s = 0) (hb : ∀ s, s < 7 → bt s = if s = a then 1 else 0) : HB cnt bt := by
  refine ⟨fun s hs q => ?_, fun s hs q => ?_, ?_, fun l h1 _ => ?_⟩
  · rw [hb s hs, if_neg (fun e => by subst e; omega)]
  · have e : s = a := by
      by_cases e : s = a
      · exact e
      · have := h s hs e; omega
    rw [hb s hs, if_pos e]
    omega
  · have e : sm (kf cnt bt) 7 = sm (up (fun _ => 0) a 32) 7 := by
      apply sm_congr
      intro s hs
      unfold kf
      by_cases e : s = a
      · subst e; rw [up_s, if_pos hc, hb s hs, if_pos rfl]
      · rw [up_n _ _ e, if_neg (by have := h s hs e; omega)]
    rw [e]
    have := sm_up (fun _ => 0) (k := a) 32 ha
    have h0 : sm (fun _ => 0) 7 = 0 := rfl
    omega
  · apply sm_le
    intro s hs
    rw [hb s hs]
    by_cases e : s = a
    · subst e; rw [if_pos rfl]; exact Nat.mul_le_mul_left _ (h1 s hs hc)
    · rw [if_neg e, Nat.mul_zero]; exact Nat.zero_le _
theorem HB_end {cnt w M bt : Nat → Nat} (h : HI cnt w M bt) (h1 : ∀ g k, g < 7 → k < 7 → 0 < w g → 0 < w k → g = k) (h2 : ∃ s t, s < 7 ∧ t < 7 ∧ s ≠ t ∧ 0 < cnt s ∧ 0 < cnt t) : HB cnt bt := by
  obtain ⟨i1, i2, i3, i4, i5, i6, i7, i8, i9⟩ := h
  obtain ⟨s0, t0, hs0, ht0, hst, cs0, ct0⟩ := h2
  obtain ⟨g, hg, wg, es0⟩ := i2 s0 hs0 cs0
  have hall : ∀ s, s < 7 → 0 < cnt s → mb M g s = true := by
    intro s hs c
    obtain ⟨k, hk, wk, e⟩ := i2 s hs c
    rw [h1 g k hg hk wg wk]
    exact e
  have hle : ∀ s, s < 7 → 0 < cnt s → bt s ≤ 6 := by
    intro s hs c
    have := i5 g hg wg s hs (hall s hs c)
    have : gs M (fun _ => 1) g ≤ sm (fun _ => 1) 7 := sm_le (fun s _ => by dsimp only; split <;> omega)
    have e7 : sm (fun _ => 1) 7 = 7 := rfl
    omega
  have hK := i4 g hg wg
  have eK : sm (kf cnt bt) 7 = gs M (fun s => 64 / 2 ^ (bt s)) g := by
    apply sm_congr
    intro s hs
    unfold kf
    by_cases c : 0 < cnt s
    · rw [if_pos c, if_pos (hall s hs c)]
    · rw [if_neg c, if_neg (fun e => c (i1 g hg wg s hs e))]
  refine ⟨i6, fun s hs c => ⟨?_, hle s hs c⟩, by omega, fun l _ hl => ?_⟩
  · rcases Nat.lt_or_ge 0 (bt s) with q | q
    · exact q
    · exfalso
      obtain ⟨t, ht, hts, ct⟩ : ∃ t, t < 7 ∧ s ≠ t ∧ 0 < cnt t := by
        by_cases e : s = s0
        · exact ⟨t0, ht0, by omega, ct0⟩
        · exact ⟨s0, hs0, e, cs0⟩
      have := sm_two (f := kf cnt bt) hts hs ht
      have e1 : kf cnt bt s = 64 := by unfold kf; rw [if_pos c, show bt s = 0 by omega]
      have e2 : kf cnt bt t = 64 / 2 ^ (bt t) := by unfold kf; rw [if_pos ct]
      have := kr_pos (bt t) (by have := hle t ht ct; omega)
      omega
  · obtain ⟨l', _, c⟩ := i9 l hl
    omega
end
section
/-! PURE: the bits of a list of symbols, in four words of 64 -/
theorem hA_wA {σ : am_S} {k k' n : Nat} {f : Nat → Nat} (h : hA σ k n f) (hk : k ≠ k') (g : Nat → Int) : hA (wA σ k' g) k n f := fun j hj => by rw [gA_wA, if_neg hk]; exact h j hj
theorem hA_pF {σ : am_S} {k k' n : Nat} {f : Nat → Nat} (h : hA σ k n f) (v : Int) : hA (pF σ k' v) k n f := fun j hj => h j hj
theorem HI_bt {cnt w M bt : Nat → Nat} (h : HI cnt w M bt) : ∀ s, s < 7 → bt s ≤ 6 := by
  intro s hs
  by_cases c : 0 < cnt s
  · obtain ⟨g, hg, wg, e⟩ := h.2.1 s hs c
    have := h.2.2.2.2.1 g hg wg s hs e
    have : gs M (fun _ => 1) g ≤ sm (fun _ => 1) 7 := sm_le (fun s _ => by dsimp only; split <;> omega)
    have e7 : sm (fun _ => 1) 7 = 7 := rfl
    omega
  · have := h.2.2.2.2.2.1 s hs (by omega)
    omega
theorem HI_w {cnt w M bt : Nat → Nat} (h : HI cnt w M bt) {c : Nat} (hc : ∀ s, s < 7 → cnt s ≤ c) : ∀ g, g < 7 → w g ≤ 7 * c := by
  intro g hg
  by_cases wg : 0 < w g
  · rw [h.2.2.2.2.2.2.2.1 g hg wg]
    have : gs M cnt g ≤ sm (fun _ => c) 7 := sm_le (fun s hs => by
      split
      · exact hc s hs
      · exact Nat.zero_le _)
    have e : sm (fun _ => c) 7 = 0 + c + c + c + c + c + c + c := rfl
    omega
  · omega
def sb (c : Nat) : Nat → List Bool
  | 0 => []
  | l + 1 => c.testBit l :: sb c l
theorem sb_len (c : Nat) : ∀ l, (sb c l).length = l := by
  intro l
  induction l with
  | zero => rfl
  | succ l ih => show (sb c l).length + 1 = _; rw [ih]
def bitsL (cv bt : Nat → Nat) : List Nat → List Bool
  | [] => []
  | s :: L => sb (cv s) (bt s) ++ bitsL cv bt L
theorem bitsL_append (cv bt : Nat → Nat) (L M : List Nat) : bitsL cv bt (L ++ M) = bitsL cv bt L ++ bitsL cv bt M := by
  induction L with
  | nil => rfl
  | cons s L ih => show sb (cv s) (bt s) ++ bitsL cv bt (L ++ M) = _; rw [ih, ← List.append_assoc]; rfl
theorem bitsL_len (cv bt : Nat → Nat) (L : List Nat) : (bitsL cv bt L).length = (L.map bt).sum := by
  induction L with
  | nil => rfl
  | cons s L ih => show (sb (cv s) (bt s) ++ bitsL cv bt L).length = _; rw [List.length_append, sb_len, ih, List.map_cons, List.sum_cons]
theorem bitsL_le (cv bt : Nat → Nat) (L : List Nat) (h : ∀ s ∈ L, bt s ≤ 6) : (bitsL cv bt L).length ≤ 6 * L.length := by
  rw [bitsL_len]
  induction L with
  | nil => exact Nat.le_refl 0
  | cons s L ih =>
    rw [List.map_cons, List.sum_cons, List.length_cons]
    have := h s List.mem_cons_self
    have := ih (fun x hx => h x (List.mem_cons_of_mem _ hx))
    omega
theorem bitsL_take (cv bt : Nat → Nat) (L : List Nat) {k : Nat} (h : k < L.length) : bitsL cv bt (L.take (k + 1)) = bitsL cv bt (L.take k) ++ sb (cv (L.getD k 0)) (bt (L.getD k 0)) := by
  rw [take_snoc L h, bitsL_append]
  show _ ++ (sb _ _ ++ []) = _
  rw [List.append_nil]
theorem bitsL_pre (cv bt : Nat → Nat) (L : List Nat) (k : Nat) : (bitsL cv bt (L.take k)).length ≤ (bitsL cv bt L).length := by
  have h : bitsL cv bt L = bitsL cv bt (L.take k) ++ bitsL cv bt (L.drop k) := by rw [← bitsL_append, List.take_append_drop]
  rw [h, List.length_append]
  omega
/-- the four words hold the bits E, and zeros behind them -/
def ST (g : Nat → Nat) (E : List Bool) : Prop := (∀ w, w < 4 → g w < 2 ^ 64) ∧ ∀ i, i < 256 → (g (i / 64)).testBit (i % 64) = E.getD i false
theorem getDb_snoc (E : List Bool) (b : Bool) (j : Nat) : (E ++ [b]).getD j false = if j = E.length then b else E.getD j false := by
  rw [List.getD_eq_getElem?_getD, List.getD_eq_getElem?_getD, List.getElem?_append]
  by_cases h : j < E.length
  · rw [if_pos h, if_neg (by omega)]
  · rw [if_neg h]
    by_cases e : j = E.length
    · rw [if_pos e, e, Nat.sub_self]; rfl
    · rw [if_neg e, List.getElem?_eq_none (by simp; omega), List.getElem?_eq_none (by omega)]
theorem ST_zero {g : Nat → Nat} (h : ∀ w, w < 4 → g w = 0) : ST g [] := by
  refine ⟨fun w hw => by rw [h w hw]; decide, fun i hi => ?_⟩
  rw [h (i / 64) (by omega)]
  simp
theorem ST_false {g : Nat → Nat} {E : List Bool} (h : ST g E) : ST g (E ++ [false]) := by
  refine ⟨h.1, fun i hi => ?_⟩
  rw [getDb_snoc, h.2 i hi]
  split
  · next e => subst e; simp
  · rfl
theorem ST_true {g : Nat → Nat} {E : List Bool} (h : ST g E) (hl : E.length < 256) : ST (up g (E.length / 64) (g (E.length / 64) ||| 2 ^ (E.length % 64))) (E ++ [true]) := by
  have hp : 2 ^ (E.length % 64) < 2 ^ 64 := Nat.pow_lt_pow_right (by decide) (by omega)
  refine ⟨fun w hw => ?_, fun i hi => ?_⟩
  · by_cases e : w = E.length / 64
    · rw [e, up_s]
      exact Nat.or_lt_two_pow (h.1 _ (by omega)) hp
    · rw [up_n _ _ e]; exact h.1 w hw
  · rw [getDb_snoc]
    by_cases e : i / 64 = E.length / 64
    · rw [e, up_s, Nat.testBit_or, Nat.testBit_two_pow, ← e, h.2 i hi]
      by_cases q : i = E.length
      · rw [if_pos q, q]; simp
      · rw [if_neg q]
        have : ¬ E.length % 64 = i % 64 := by omega
        simp [this]
    · rw [up_n _ _ e, if_neg (fun q => e (by rw [q])), h.2 i hi]
end
section
/-! PURE: canonical codes are such that none begins another -/
theorem cs_fit {cnt bt : Nat → Nat} (h : HB cnt bt) {s : Nat} (hs : s < 7) (h1 : 1 ≤ bt s) : cs bt (bt s) s < 2 ^ (bt s) := by
  have hlive : ∀ t, t < 7 → 1 ≤ bt t → 0 < cnt t := by
    intro t ht q
    rcases Nat.eq_zero_or_pos (cnt t) with z | z
    · have := h.1 t ht z; omega
    · exact z
  have hb6 := (h.2.1 s hs (hlive s hs h1)).2
  have hle : sm (up (fun t => 2 ^ (6 - bt s) * ctm bt (bt s) s t) s (64 / 2 ^ (bt s))) 7 ≤ sm (kf cnt bt) 7 := by
    apply sm_le
    intro t ht
    by_cases e : t = s
    · subst e; rw [up_s]; unfold kf; rw [if_pos (hlive t ht h1)]; exact Nat.le_refl _
    · rw [up_n _ _ e]
      unfold ctm
      split
      · next q =>
        have c := hlive t ht q.1
        have b6 := (h.2.1 t ht c).2
        unfold kf
        rw [if_pos c, ← Nat.pow_add]
        have e2 : 6 - bt s + (bt s - bt t) = 6 - bt t := by omega
        rw [e2]
        have : ∀ x, x < 7 → 2 ^ (6 - x) ≤ 64 / 2 ^ x := by decide
        exact this _ (by omega)
      · rw [Nat.mul_zero]; exact Nat.zero_le _
  have hz : ctm bt (bt s) s s = 0 := by unfold ctm; rw [if_neg (by omega)]
  have hu := sm_up (fun t => 2 ^ (6 - bt s) * ctm bt (bt s) s t) (k := s) (64 / 2 ^ (bt s)) hs
  rw [hz, Nat.mul_zero, sm_mul] at hu
  have hK := h.2.2.1
  have h64 : 64 / 2 ^ (bt s) = 2 ^ (6 - bt s) := by
    have : ∀ x, x < 7 → 64 / 2 ^ x = 2 ^ (6 - x) := by decide
    exact this _ (by omega)
  have hp : 2 ^ (6 - bt s) * 2 ^ (bt s) = 64 := by rw [← Nat.pow_add, show 6 - bt s + bt s = 6 by omega]
  have hc : 2 ^ (6 - bt s) * (cs bt (bt s) s + 1) ≤ 2 ^ (6 - bt s) * 2 ^ (bt s) := by
    rw [hp, Nat.mul_add, Nat.mul_one]
    unfold cs
    omega
  exact Nat.le_of_mul_le_mul_left hc (Nat.two_pow_pos _)
theorem cs_order {bt : Nat → Nat} {s t : Nat} (hs : s < 7) (ht : t < 7) (h1 : 1 ≤ bt t) (hlt : bt t < bt s ∨ (bt t = bt s ∧ t < s)) : 2 ^ (bt s - bt t) * (cs bt (bt t) t + 1) ≤ cs bt (bt s) s := by
  have hle : sm (up (fun x => 2 ^ (bt s - bt t) * ctm bt (bt t) t x) t (2 ^ (bt s - bt t))) 7 ≤ cs bt (bt s) s := by
    apply sm_le
    intro x hx
    by_cases e : x = t
    · subst e; rw [up_s]; unfold ctm; rw [if_pos ⟨h1, by omega⟩]; exact Nat.le_refl _
    · rw [up_n _ _ e]
      unfold ctm
      split
      · next q =>
        rw [if_pos ⟨q.1, by omega⟩, ← Nat.pow_add, show bt s - bt t + (bt t - bt x) = bt s - bt x by omega]
        exact Nat.le_refl _
      · rw [Nat.mul_zero]; exact Nat.zero_le _
  have hz : ctm bt (bt t) t t = 0 := by unfold ctm; rw [if_neg (by omega)]
  have hu := sm_up (fun x => 2 ^ (bt s - bt t) * ctm bt (bt t) t x) (k := t) (2 ^ (bt s - bt t)) ht
  rw [hz, Nat.mul_zero, sm_mul] at hu
  rw [Nat.mul_add, Nat.mul_one]
  unfold cs at hle ⊢
  omega
/-- read r bits short of the whole, no symbol fits; read whole, only the one -/
theorem cs_prefix {bt : Nat → Nat} {s t r : Nat} (hs : s < 7) (ht : t < 7) (h1 : 1 ≤ bt t) (hr : 1 ≤ r) (hrs : r < bt s) (hb : bt t = bt s - r) : cs bt (bt t) t ≠ cs bt (bt s) s / 2 ^ r := by
  have h := cs_order hs ht h1 (Or.inl (by omega))
  rw [show bt s - bt t = r by omega, Nat.mul_comm] at h
  have : cs bt (bt t) t + 1 ≤ cs bt (bt s) s / 2 ^ r := (Nat.le_div_iff_mul_le (Nat.two_pow_pos r)).mpr h
  omega
theorem cs_inj {bt : Nat → Nat} {s t : Nat} (hs : s < 7) (ht : t < 7) (h1 : 1 ≤ bt t) (hb : bt t = bt s) (hc : cs bt (bt t) t = cs bt (bt s) s) : t = s := by
  rcases Nat.lt_trichotomy t s with q | q | q
  · have h := cs_order hs ht h1 (Or.inr ⟨hb, q⟩)
    rw [hb, Nat.sub_self, Nat.pow_zero, Nat.one_mul] at h
    rw [hb] at hc
    omega
  · exact q
  · have h := cs_order ht hs (by omega) (Or.inr ⟨hb.symm, q⟩)
    rw [hb, Nat.sub_self, Nat.pow_zero, Nat.one_mul] at h
    rw [hb] at hc
    omega
theorem sb_get (c : Nat) : ∀ l j, j < l → (sb c l).getD j false = c.testBit (l - 1 - j) := by
  intro l
  induction l with
  | zero => intro j h; exact absurd h (by omega)
  | succ l ih =>
    intro j h
    cases j with
    | zero => show c.testBit l = _; rw [show l + 1 - 1 - 0 = l by omega]
    | succ j =>
      show (sb c l).getD j false = _
      rw [ih j (by omega), show l + 1 - 1 - (j + 1) = l - 1 - j by omega]
theorem bitsL_get (cv bt : Nat → Nat) (L : List Nat) {k j : Nat} (hk : k < L.length) (hj : j < bt (L.getD k 0)) : (bitsL cv bt L).getD ((bitsL cv bt (L.take k)).length + j) false = (cv (L.getD k 0)).testBit (bt (L.getD k 0) - 1 - j) := by
  have h : bitsL cv bt L = bitsL cv bt (L.take k) ++ (sb (cv (L.getD k 0)) (bt (L.getD k 0)) ++ bitsL cv bt (L.drop (k + 1))) := by
    have e := bitsL_take cv bt L hk
    have e2 : bitsL cv bt L = bitsL cv bt (L.take (k + 1)) ++ bitsL cv bt (L.drop (k + 1)) := by rw [← bitsL_append, List.take_append_drop]
    rw [e2, e, List.append_assoc]
  rw [h, List.getD_eq_getElem?_getD, List.getElem?_append_right (by omega), Nat.add_sub_cancel_left, List.getElem?_append_left (by rw [sb_len]; exact hj), ← List.getD_eq_getElem?_getD, sb_get _ _ _ hj]
/-! PURE: rearrangements by sums -/
def Pm (o : Nat → Nat) (n : Nat) : Prop := ∀ f : Nat → Nat, sm (fun j => f (o j)) n = sm f n
theorem Pm_id (n : Nat) : Pm (fun j => j) n := fun _ => rfl
theorem Pm_congr {o p : Nat → Nat} {n : Nat} (h : Pm o n) (e : ∀ j, j < n → p j = o j) : Pm p n := fun f => by
  rw [← h f]
  exact sm_congr (fun j hj => by rw [e j hj])
theorem Pm_lt {o : Nat → Nat} {n : Nat} (h : Pm o n) : ∀ j, j < n → o j < n := by
  intro j hj
  rcases Nat.lt_or_ge (o j) n with q | q
  · exact q
  · exfalso
    have h1 := h (fun v => if n ≤ v then 1 else 0)
    have h2 : sm (fun v => if n ≤ v then 1 else 0) n = 0 := sm_zero (fun v hv => if_neg (by omega))
    have h3 := sm_one (f := fun j => if n ≤ o j then 1 else 0) hj
    rw [if_pos q] at h3
    omega
theorem Pm_inj {o : Nat → Nat} {n : Nat} (h : Pm o n) : ∀ i j, i < n → j < n → o i = o j → i = j := by
  intro i j hi hj e
  by_cases hij : i = j
  · exact hij
  · exfalso
    have h1 := h (fun v => if v = o i then 1 else 0)
    have h2 := sm_two (f := fun j => if o j = o i then 1 else 0) hij hi hj
    rw [if_pos rfl, if_pos e.symm] at h2
    have h3 : sm (fun v => if v = o i then 1 else 0) n = sm (up (fun _ => 0) (o i) 1) n := sm_congr (fun v _ => by
      by_cases q : v = o i
      · rw [if_pos q, q, up_s]
      · rw [if_neg q, up_n _ _ q])
    have h4 := sm_up (fun _ => 0) (k := o i) 1 (Pm_lt h i hi)
    have h5 : sm (fun _ => 0) n = 0 := sm_zero (fun _ _ => rfl)
    omega
theorem Pm_sur {o : Nat → Nat} {n : Nat} (h : Pm o n) : ∀ v, v < n → ∃ j, j < n ∧ o j = v := by
  intro v hv
  by_cases q : ∃ j, j < n ∧ o j = v
  · exact q
  · exfalso
    have h1 := h (fun x => if x = v then 1 else 0)
    have h2 : sm (fun j => if o j = v then 1 else 0) n = 0 := sm_zero (fun j hj => if_neg (fun e => q ⟨j, hj, e⟩))
    have h3 := sm_one (f := fun x => if x = v then 1 else 0) hv
    rw [if_pos rfl] at h3
    omega
/-- two neighbours change places -/
theorem sm_swap {f g : Nat → Nat} {a : Nat} : ∀ {n : Nat}, a + 1 < n → g a = f (a + 1) → g (a + 1) = f a → (∀ j, j < n → j ≠ a → j ≠ a + 1 → g j = f j) → sm g n = sm f n := by
  intro n
  induction n with
  | zero => intro h; exact absurd h (by omega)
  | succ n ih =>
    intro h h1 h2 h3
    show sm g n + g n = sm f n + f n
    by_cases e : n = a + 1
    · subst e
      show sm g a + g a + g (a + 1) = sm f a + f a + f (a + 1)
      rw [sm_congr (f := g) (g := f) (fun j hj => h3 j (by omega) (by omega) (by omega))]
      omega
    · rw [ih (by omega) h1 h2 (fun j hj => h3 j (by omega)), h3 n (by omega) (by omega) e]
theorem Pm_ins {o : Nat → Nat} {n i : Nat} (h : Pm o n) (hi : i < n) : ∀ d a, a + d = i → Pm (ins o i a) n := by
  intro d
  induction d with
  | zero =>
    intro a ha
    have e : a = i := by omega
    subst e
    refine Pm_congr h (fun j _ => ?_)
    unfold ins
    split
    · next e => rw [e]
    · exact shf_self o a j
  | succ d ih =>
    intro a ha f
    rw [← ih (a + 1) (by omega) f]
    refine sm_swap (a := a) (by omega) ?_ ?_ (fun j _ h1 h2 => ?_)
    · unfold ins; rw [if_pos rfl, if_pos rfl]
    · unfold ins; rw [if_neg (by omega), if_neg (by omega), shf_step o (by omega), shf_low o i (by omega)]
    · unfold ins; rw [if_neg h1, if_neg h2, shf_other o h2]
end
section
/-! PURE: rotations as numbers to the base 6; sorting them -/
def rl (n : Nat) (t : Nat → Nat) (p k : Nat) : Nat := t ((p + k) % n)
def vv (n : Nat) (t : Nat → Nat) : Nat → Nat → Nat
  | 0, _ => 0
  | m + 1, p => 6 * vv n t m p + rl n t p m
theorem rl_lt {n : Nat} {t : Nat → Nat} (hn : 0 < n) (ht : ∀ j, j < n → t j < 6) (p k : Nat) : rl n t p k < 6 := ht _ (Nat.mod_lt _ hn)
theorem vv_lt {n : Nat} {t : Nat → Nat} (hn : 0 < n) (ht : ∀ j, j < n → t j < 6) (p : Nat) : ∀ m, vv n t m p < 6 ^ m := by
  intro m
  induction m with
  | zero => exact Nat.one_pos
  | succ m ih =>
    show 6 * vv n t m p + rl n t p m < 6 ^ (m + 1)
    have := rl_lt hn ht p m
    rw [Nat.pow_succ]
    omega
theorem vv_eq {n : Nat} {t : Nat → Nat} {p q : Nat} : ∀ {m : Nat}, (∀ j, j < m → rl n t p j = rl n t q j) → vv n t m p = vv n t m q := by
  intro m
  induction m with
  | zero => intro _; rfl
  | succ m ih =>
    intro h
    show 6 * vv n t m p + rl n t p m = 6 * vv n t m q + rl n t q m
    rw [ih (fun j hj => h j (by omega)), h m (by omega)]
theorem vv_digits {n : Nat} {t : Nat → Nat} (hn : 0 < n) (ht : ∀ j, j < n → t j < 6) {p q : Nat} : ∀ {m : Nat}, vv n t m p = vv n t m q → ∀ j, j < m → rl n t p j = rl n t q j := by
  intro m
  induction m with
  | zero => intro _ j hj; exact absurd hj (by omega)
  | succ m ih =>
    intro h j hj
    have h1 : 6 * vv n t m p + rl n t p m = 6 * vv n t m q + rl n t q m := h
    have a := rl_lt hn ht p m
    have b := rl_lt hn ht q m
    by_cases e : j = m
    · subst e; omega
    · exact ih (by omega) j (by omega)
theorem vv_add (n : Nat) (t : Nat → Nat) (r p : Nat) : ∀ m, vv n t (r + m) p = vv n t r p * 6 ^ m + vv n t m ((p + r) % n) := by
  intro m
  induction m with
  | zero => show vv n t r p = vv n t r p * 1 + 0; omega
  | succ m ih =>
    show 6 * vv n t (r + m) p + rl n t p (r + m) = _
    have e : rl n t p (r + m) = rl n t ((p + r) % n) m := by
      unfold rl
      rw [Nat.mod_add_mod, Nat.add_assoc]
    rw [ih, e, Nat.pow_succ, Nat.mul_add]
    show 6 * (vv n t r p * 6 ^ m) + 6 * vv n t m ((p + r) % n) + rl n t ((p + r) % n) m = vv n t r p * (6 ^ m * 6) + (6 * vv n t m ((p + r) % n) + rl n t ((p + r) % n) m)
    rw [← Nat.mul_assoc (vv n t r p), Nat.mul_comm (vv n t r p * 6 ^ m) 6]
    omega
theorem lex2 {a b x y B : Nat} (hx : x < B) (hy : y < B) : (a * B + x < b * B + y ↔ (a < b ∨ (a = b ∧ x < y))) ∧ (a * B + x = b * B + y ↔ (a = b ∧ x = y)) := by
  rcases Nat.lt_trichotomy a b with h | h | h
  · have h1 : (a + 1) * B ≤ b * B := Nat.mul_le_mul_right _ h
    rw [Nat.add_mul, Nat.one_mul] at h1
    omega
  · subst h; omega
  · have h1 : (b + 1) * B ≤ a * B := Nat.mul_le_mul_right _ h
    rw [Nat.add_mul, Nat.one_mul] at h1
    omega
/-- letters that first differ at k -/
theorem vv_less {n : Nat} {t : Nat → Nat} (hn : 0 < n) (ht : ∀ j, j < n → t j < 6) {p q k : Nat} (he : ∀ j, j < k → rl n t p j = rl n t q j) (hl : rl n t p k < rl n t q k) {m : Nat} (hm : k < m) : vv n t m p < vv n t m q := by
  have h1 : vv n t (k + 1) p < vv n t (k + 1) q := by
    show 6 * vv n t k p + rl n t p k < 6 * vv n t k q + rl n t q k
    rw [vv_eq he]
    omega
  have e : m = (k + 1) + (m - (k + 1)) := by omega
  rw [e, vv_add n t (k + 1) p, vv_add n t (k + 1) q]
  exact (lex2 (vv_lt hn ht _ _) (vv_lt hn ht _ _)).1.mpr (Or.inl h1)
theorem vv_same {n : Nat} {t : Nat → Nat} {p q : Nat} (hn : 0 < n) (he : ∀ j, j < n → rl n t p j = rl n t q j) (m : Nat) : vv n t m p = vv n t m q := by
  apply vv_eq
  intro j _
  have h := he (j % n) (Nat.mod_lt _ hn)
  unfold rl at h ⊢
  rw [Nat.add_mod_mod, Nat.add_mod_mod] at h
  exact h
/-- the classes c order the rotations by their first m letters -/
def CI (n : Nat) (t : Nat → Nat) (m : Nat) (c : Nat → Nat) : Prop := ∀ p q, p < n → q < n → (c p < c q ↔ vv n t m p < vv n t m q)
theorem CI_eq {n : Nat} {t : Nat → Nat} {m : Nat} {c : Nat → Nat} (h : CI n t m c) {p q : Nat} (hp : p < n) (hq : q < n) : c p = c q ↔ vv n t m p = vv n t m q := by
  have h1 := h p q hp hq
  have h2 := h q p hq hp
  omega
theorem CI_one (n : Nat) (t : Nat → Nat) : CI n t 1 t := by
  intro p q hp hq
  show t p < t q ↔ 6 * 0 + t ((p + 0) % n) < 6 * 0 + t ((q + 0) % n)
  rw [Nat.add_zero, Nat.add_zero, Nat.mod_eq_of_lt hp, Nat.mod_eq_of_lt hq]
  omega
def keyR (n : Nat) (t : Nat → Nat) (m p : Nat) : Nat := vv n t m p * 64 + p
theorem keyR_lt {n : Nat} {t : Nat → Nat} {m p q : Nat} (hp : p < 64) (hq : q < 64) : keyR n t m p < keyR n t m q ↔ (vv n t m p < vv n t m q ∨ (vv n t m p = vv n t m q ∧ p < q)) := (lex2 hp hq).1
theorem keyR_inj {n : Nat} {t : Nat → Nat} {m p q : Nat} (hp : p < 64) (hq : q < 64) (h : keyR n t m p = keyR n t m q) : p = q := ((lex2 hp hq).2.mp h).2
theorem pair_lt {n : Nat} {t : Nat → Nat} (ht : ∀ j, j < n → t j < 6) {r : Nat} {c : Nat → Nat} (hc : CI n t r c) {p q : Nat} (hp : p < n) (hq : q < n) : (vv n t (r + r) p < vv n t (r + r) q ↔ (c p < c q ∨ (c p = c q ∧ c ((p + r) % n) < c ((q + r) % n)))) ∧ (vv n t (r + r) p = vv n t (r + r) q ↔ (c p = c q ∧ c ((p + r) % n) = c ((q + r) % n))) := by
  have hn : 0 < n := by omega
  have hp2 := Nat.mod_lt (p + r) hn
  have hq2 := Nat.mod_lt (q + r) hn
  rw [vv_add, vv_add]
  have h := lex2 (a := vv n t r p) (b := vv n t r q) (vv_lt hn ht ((p + r) % n) r) (vv_lt hn ht ((q + r) % n) r)
  rw [h.1, h.2, hc p q hp hq, CI_eq hc hp hq, hc _ _ hp2 hq2, CI_eq hc hp2 hq2]
  exact ⟨Iff.rfl, Iff.rfl⟩
theorem kl_key {n : Nat} {t : Nat → Nat} (hn : n ≤ 32) (ht : ∀ j, j < n → t j < 6) {r : Nat} {c : Nat → Nat} (hc : CI n t r c) {p q : Nat} (hp : p < n) (hq : q < n) : kl c n r p q ↔ keyR n t (r + r) p < keyR n t (r + r) q := by
  rw [keyR_lt (by omega) (by omega), (pair_lt ht hc hp hq).1, (pair_lt ht hc hp hq).2]
  unfold kl
  omega
theorem cmp_eq {n : Nat} {t : Nat → Nat} (ht : ∀ j, j < n → t j < 6) {r : Nat} {c : Nat → Nat} (hc : CI n t r c) {p q : Nat} (hp : p < n) (hq : q < n) : cmpI c n r p q = 0 ↔ vv n t (r + r) p = vv n t (r + r) q := by
  rw [(pair_lt ht hc hp hq).2]
  unfold cmpI
  split <;> omega
/-- sorted up to i -/
def Srt (key : Nat → Nat) (o : Nat → Nat) (i : Nat) : Prop := ∀ a b, a < b → b < i → key (o a) < key (o b)
theorem ins_srt {key o : Nat → Nat} {i a : Nat} (h : Srt key o i) (ha : a ≤ i) (h1 : ∀ j, a ≤ j → j < i → key (o i) < key (o j)) (h2 : a = 0 ∨ key (o (a - 1)) < key (o i)) : Srt key (ins o i a) (i + 1) := by
  have low : ∀ j, j < a → ins o i a j = o j := fun j hj => by unfold ins; rw [if_neg (by omega), shf_low o i (by omega)]
  have at' : ins o i a a = o i := by unfold ins; rw [if_pos rfl]
  have high : ∀ j, a < j → j ≤ i → ins o i a j = o (j - 1) := fun j h1 h2 => by unfold ins shf; rw [if_neg (by omega), if_pos ⟨h1, h2⟩]
  have hlow : ∀ j, j < a → key (o j) < key (o i) := by
    intro j hj
    rcases h2 with q | q
    · omega
    · by_cases e : j = a - 1
      · rw [e]; exact q
      · exact Nat.lt_trans (h j (a - 1) (by omega) (by omega)) q
  intro x y hxy hy
  rcases Nat.lt_trichotomy x a with hx | hx | hx
  · rw [low x hx]
    rcases Nat.lt_trichotomy y a with hy2 | hy2 | hy2
    · rw [low y hy2]; exact h x y hxy (by omega)
    · rw [hy2, at']; exact hlow x hx
    · rw [high y hy2 (by omega)]
      exact h x (y - 1) (by omega) (by omega)
  · rw [hx, at', high y (by omega) (by omega)]
    exact h1 (y - 1) (by omega) (by omega)
  · rw [high x hx (by omega), high y (by omega) (by omega)]
    exact h (x - 1) (y - 1) (by omega) (by omega)
/-- classes counted along the sorted order -/
theorem dense {n i : Nat} {v o d : Nat → Nat} (h0 : d 0 = 0) (hd : ∀ j, j + 1 < n → d (j + 1) = d j + if v (o j) = v (o (j + 1)) then 0 else 1) (hs : ∀ a b, a < b → b < n → v (o a) ≤ v (o b)) (hi : i < n) : ∀ j, i ≤ j → j < n → d i ≤ d j ∧ (d i = d j ↔ v (o i) = v (o j)) := by
  intro j
  induction j with
  | zero => intro h1 h2; have : i = 0 := by omega
            subst this; exact ⟨Nat.le_refl _, by simp⟩
  | succ j ih =>
    intro h1 h2
    by_cases e : i = j + 1
    · subst e; exact ⟨Nat.le_refl _, by simp⟩
    · obtain ⟨a, b⟩ := ih (by omega) (by omega)
      have h3 := hd j h2
      have h4 := hs j (j + 1) (by omega) h2
      have h5 : v (o i) ≤ v (o j) := by
        by_cases q : i = j
        · subst q; exact Nat.le_refl _
        · exact hs i j (by omega) (by omega)
      split at h3 <;> omega
theorem CI_next {n : Nat} {t : Nat → Nat} {m : Nat} {c' o d : Nat → Nat} (hP : Pm o n) (h0 : d 0 = 0) (hd : ∀ j, j + 1 < n → d (j + 1) = d j + if vv n t m (o j) = vv n t m (o (j + 1)) then 0 else 1) (hs : Srt (keyR n t m) o n) (hn : n ≤ 32) (hc : ∀ j, j < n → c' (o j) = d j) : CI n t m c' := by
  have hs2 : ∀ a b, a < b → b < n → vv n t m (o a) ≤ vv n t m (o b) := by
    intro a b hab hb
    have := (keyR_lt (by have := Pm_lt hP a (by omega); omega) (by have := Pm_lt hP b hb; omega)).mp (hs a b hab hb)
    omega
  intro p q hp hq
  obtain ⟨i, hi, rfl⟩ := Pm_sur hP p hp
  obtain ⟨j, hj, rfl⟩ := Pm_sur hP q hq
  rw [hc i hi, hc j hj]
  rcases Nat.lt_or_ge i j with h | h
  · obtain ⟨a, b⟩ := dense (v := vv n t m) h0 hd hs2 hi j (by omega) hj
    have := hs2 i j h hj
    omega
  · obtain ⟨a, b⟩ := dense (v := vv n t m) h0 hd hs2 hj i h hi
    have : vv n t m (o j) ≤ vv n t m (o i) := by
      by_cases e : i = j
      · subst e; exact Nat.le_refl _
      · exact hs2 j i (by omega) hi
    omega
/-! places -/
def place (n : Nat) (t : Nat → Nat) (p : Nat) : Nat := sm (fun q => if keyR n t 64 q < keyR n t 64 p then 1 else 0) n
theorem sm_below (k : Nat) : ∀ n, sm (fun j => if j < k then 1 else 0) n = if n ≤ k then n else k := by
  intro n
  induction n with
  | zero => show 0 = _; split <;> omega
  | succ n ih =>
    show sm _ n + (if n < k then 1 else 0) = _
    rw [ih]
    repeat' split
    all_goals omega
theorem place_at {n : Nat} {t o : Nat → Nat} (hP : Pm o n) (hs : Srt (keyR n t 64) o n) {k : Nat} (hk : k < n) : place n t (o k) = k := by
  unfold place
  rw [← hP]
  have e : sm (fun j => if keyR n t 64 (o j) < keyR n t 64 (o k) then 1 else 0) n = sm (fun j => if j < k then 1 else 0) n := by
    apply sm_congr
    intro j hj
    rcases Nat.lt_trichotomy j k with q | q | q
    · rw [if_pos (hs j k q hk), if_pos q]
    · subst q; rw [if_neg (Nat.lt_irrefl _), if_neg (Nat.lt_irrefl _)]
    · have := hs k j q hj
      rw [if_neg (by omega), if_neg (by omega)]
  rw [e, sm_below, if_neg (by omega)]
theorem place_lt {n : Nat} {t : Nat → Nat} {p : Nat} (hp : p < n) : place n t p < n := by
  have h := sm_up (fun q => if keyR n t 64 q < keyR n t 64 p then 1 else 0) (k := p) 1 hp
  rw [if_neg (Nat.lt_irrefl _)] at h
  have h2 : sm (up (fun q => if keyR n t 64 q < keyR n t 64 p then 1 else 0) p 1) n ≤ sm (fun _ => 1) n := sm_le (fun j hj => by
    by_cases e : j = p
    · rw [e, up_s]; exact Nat.le_refl _
    · rw [up_n _ _ e]; split <;> omega)
  have h3 : ∀ m, sm (fun _ => 1) m = m := by
    intro m
    induction m with
    | zero => rfl
    | succ m ih => show sm (fun _ => 1) m + 1 = _; rw [ih]
  rw [h3] at h2
  unfold place
  omega
theorem place_mono {n : Nat} {t : Nat → Nat} {p q : Nat} (hp : p < n) (h : keyR n t 64 p < keyR n t 64 q) : place n t p < place n t q := by
  have h1 := sm_up (fun x => if keyR n t 64 x < keyR n t 64 p then 1 else 0) (k := p) 1 hp
  rw [if_neg (Nat.lt_irrefl _)] at h1
  have h2 : sm (up (fun x => if keyR n t 64 x < keyR n t 64 p then 1 else 0) p 1) n ≤ place n t q := sm_le (fun j hj => by
    by_cases e : j = p
    · rw [e, up_s, if_pos h]; exact Nat.le_refl _
    · rw [up_n _ _ e]
      by_cases z : keyR n t 64 j < keyR n t 64 p
      · rw [if_pos z, if_pos (Nat.lt_trans z h)]; exact Nat.le_refl _
      · rw [if_neg z]; exact Nat.zero_le _)
  unfold place at *
  omega
theorem place_inj {n : Nat} {t : Nat → Nat} (hn : n ≤ 32) {p q : Nat} (hp : p < n) (hq : q < n) (h : place n t p = place n t q) : p = q := by
  rcases Nat.lt_trichotomy (keyR n t 64 p) (keyR n t 64 q) with z | z | z
  · have := place_mono hp z; omega
  · exact keyR_inj (by omega) (by omega) z
  · have := place_mono hq z; omega
/-- the letter before a rotation -/
def prv (n : Nat) (t : Nat → Nat) (p : Nat) : Nat := t (if p = 0 then n - 1 else p - 1)
theorem prv_rl {n : Nat} {t : Nat → Nat} {p : Nat} (hp : p < n) : prv n t p = rl n t p (n - 1) := by
  unfold prv rl
  congr 1
  split
  · next e => rw [e, Nat.zero_add, Nat.mod_eq_of_lt (by omega)]
  · rw [show p + (n - 1) = (p - 1) + n by omega, Nat.add_mod_right, Nat.mod_eq_of_lt (by omega)]
end
section
/-! PURE: undoing the sorting -/
def it (st : Nat → Nat) (a : Nat) : Nat → Nat
  | 0 => a
  | k + 1 => st (it st a k)
def CSo (c : Nat → Nat) (n : Nat) (st : Nat → Nat) : Prop := Pm st n ∧ ∀ i j, i < j → j < n → c (st i) < c (st j) ∨ (c (st i) = c (st j) ∧ st i < st j)
theorem sm_shift (g : Nat → Nat) : ∀ m, sm (fun v => g (v + 1)) m + g 0 = sm g (m + 1) := by
  intro m
  induction m with
  | zero => show 0 + g 0 = 0 + g 0; rfl
  | succ m ih => show sm (fun v => g (v + 1)) m + g (m + 1) + g 0 = sm g (m + 1) + g (m + 1); omega
theorem Pm_shift (n : Nat) : Pm (fun v => (v + 1) % n) n := by
  intro g
  cases n with
  | zero => rfl
  | succ m =>
    rw [← sm_shift g m]
    show sm (fun v => g ((v + 1) % (m + 1))) m + g ((m + 1) % (m + 1)) = _
    rw [Nat.mod_self]
    congr 1
    exact sm_congr (fun j hj => by rw [Nat.mod_eq_of_lt (by omega)])
theorem Pm_inv {o : Nat → Nat} {n : Nat} (h : Pm o n) : ∃ ps : Nat → Nat, (∀ v, v < n → ps v < n ∧ o (ps v) = v) ∧ ∀ j, j < n → ps (o j) = j := by
  have hx : ∀ v, ∃ j, v < n → j < n ∧ o j = v := by
    intro v
    by_cases hv : v < n
    · obtain ⟨j, a, b⟩ := Pm_sur h v hv
      exact ⟨j, fun _ => ⟨a, b⟩⟩
    · exact ⟨0, fun q => absurd q hv⟩
  refine ⟨fun v => Classical.choose (hx v), fun v hv => Classical.choose_spec (hx v) hv, fun j hj => ?_⟩
  have := Classical.choose_spec (hx (o j)) (Pm_lt h j hj)
  exact Pm_inj h _ _ this.1 hj this.2
theorem srt_eq {n : Nat} {f g : Nat → Nat} (hf : ∀ a b, a < b → b < n → f a ≤ f b) (hg : ∀ a b, a < b → b < n → g a ≤ g b) (he : ∀ h : Nat → Nat, sm (fun j => h (f j)) n = sm (fun j => h (g j)) n) : ∀ j, j < n → f j = g j := by
  have key : ∀ (f g : Nat → Nat), (∀ a b, a < b → b < n → f a ≤ f b) → (∀ a b, a < b → b < n → g a ≤ g b) → (∀ h : Nat → Nat, sm (fun j => h (f j)) n = sm (fun j => h (g j)) n) → ∀ j, j < n → ¬ f j < g j := by
    intro f g hf hg he j hj hlt
    have h1 := he (fun v => if v ≤ f j then 1 else 0)
    have h2 : sm (fun i => if i < j + 1 then 1 else 0) n ≤ sm (fun i => if f i ≤ f j then 1 else 0) n := sm_le (fun i hi => by
      by_cases q : i < j + 1
      · rw [if_pos q, if_pos]
        · exact Nat.le_refl _
        · by_cases e : i = j
          · rw [e]; exact Nat.le_refl _
          · exact hf i j (by omega) hj
      · rw [if_neg q]; exact Nat.zero_le _)
    have h3 : sm (fun i => if g i ≤ f j then 1 else 0) n ≤ sm (fun i => if i < j then 1 else 0) n := sm_le (fun i hi => by
      by_cases q : i < j
      · rw [if_pos q]; split <;> omega
      · rw [if_neg q, if_neg]
        · exact Nat.le_refl _
        · have : g j ≤ g i := by
            by_cases e : i = j
            · rw [e]; exact Nat.le_refl _
            · exact hg j i (by omega) hi
          omega)
    rw [sm_below] at h2 h3
    split at h2 <;> split at h3 <;> omega
  intro j hj
  have a := key f g hf hg he j hj
  have b := key g f hg hf (fun h => (he h).symm) j hj
  omega
theorem prv_next {n : Nat} {t : Nat → Nat} {p : Nat} (hp : p < n) : prv n t ((p + 1) % n) = t p := by
  unfold prv
  congr 1
  by_cases e : p + 1 = n
  · rw [e, Nat.mod_self, if_pos rfl]; omega
  · rw [Nat.mod_eq_of_lt (by omega), if_neg (by omega)]; omega
theorem vv_succ {n : Nat} {t : Nat → Nat} {p : Nat} (hp : p < n) (m : Nat) : vv n t (1 + m) p = t p * 6 ^ m + vv n t m ((p + 1) % n) := by
  rw [vv_add]
  have : vv n t 1 p = t p := by
    show 6 * 0 + t ((p + 0) % n) = t p
    rw [Nat.add_zero, Nat.mod_eq_of_lt hp]
    omega
  rw [this]
theorem vv_rot {n : Nat} {t : Nat → Nat} (hn : 0 < n) (hn32 : n ≤ 32) (ht : ∀ j, j < n → t j < 6) {p q : Nat} {m : Nat} (hm : 33 ≤ m) (h : vv n t m p = vv n t m q) : vv n t 64 ((p + 1) % n) = vv n t 64 ((q + 1) % n) := by
  apply vv_same hn
  intro j hj
  have := vv_digits hn ht h (j + 1) (by omega)
  unfold rl at this ⊢
  rw [Nat.mod_add_mod, Nat.mod_add_mod, show p + 1 + j = p + (j + 1) by omega, show q + 1 + j = q + (j + 1) by omega]
  exact this
theorem ibwt {n : Nat} {t o c st : Nat → Nat} {mk : Nat} (hn : n ≤ 32) (ht : ∀ j, j < n → t j < 6) (hP : Pm o n) (hs : Srt (keyR n t 64) o n) (hc : ∀ k, k < n → c k = prv n t (o k)) (hmk : mk < n) (hm0 : o mk = 0) (hst : CSo c n st) : ∀ k, k < n → c (it st mk (k + 1)) = t k := by
  have hn0 : 0 < n := by omega
  obtain ⟨ps, hps, hpo⟩ := Pm_inv hP
  have hlt := Pm_lt hP
  have hV : ∀ a b, a < b → b < n → vv n t 64 (o a) ≤ vv n t 64 (o b) := by
    intro a b hab hb
    have := (keyR_lt (by have := hlt a (by omega); omega) (by have := hlt b hb; omega)).mp (hs a b hab hb)
    omega
  -- the row of the next rotation
  have hph : ∀ j, j < n → ps ((o j + 1) % n) < n ∧ o (ps ((o j + 1) % n)) = (o j + 1) % n := fun j _ => hps _ (Nat.mod_lt _ hn0)
  have hPphi : ∀ f : Nat → Nat, sm (fun j => f (ps ((o j + 1) % n))) n = sm f n := by
    intro f
    rw [hP (fun v => f (ps ((v + 1) % n))), Pm_shift n (fun v => f (ps v)), ← hP (fun v => f (ps v))]
    exact sm_congr (fun j hj => by rw [hpo j hj])
  have hcphi : ∀ j, j < n → c (ps ((o j + 1) % n)) = t (o j) := by
    intro j hj
    rw [hc _ (hph j hj).1, (hph j hj).2, prv_next (hlt j hj)]
  have hB : ∀ p, vv n t 64 p < 6 ^ 64 := fun p => vv_lt hn0 ht p 64
  have mono1 : ∀ a b, a < b → b < n → c (ps ((o a + 1) % n)) * 6 ^ 64 + vv n t 64 (o (ps ((o a + 1) % n))) ≤ c (ps ((o b + 1) % n)) * 6 ^ 64 + vv n t 64 (o (ps ((o b + 1) % n))) := by
    intro a b hab hb
    have ha : a < n := by omega
    rw [hcphi a ha, hcphi b hb, (hph a ha).2, (hph b hb).2]
    have h1 := hV a b hab hb
    have e1 := vv_succ (t := t) (hlt a ha) 63
    have e2 := vv_succ (t := t) (hlt b hb) 63
    have h2 := lex2 (a := t (o b)) (b := t (o a)) (vv_lt hn0 ht ((o b + 1) % n) 63) (vv_lt hn0 ht ((o a + 1) % n) 63)
    have h3 := lex2 (a := t (o b)) (b := t (o a)) (hB ((o b + 1) % n)) (hB ((o a + 1) % n))
    have h4 : vv n t 63 ((o a + 1) % n) ≤ vv n t 63 ((o b + 1) % n) → vv n t 64 ((o a + 1) % n) ≤ vv n t 64 ((o b + 1) % n) := by
      intro q
      have r1 := rl_lt hn0 ht ((o a + 1) % n) 63
      have r2 := rl_lt hn0 ht ((o b + 1) % n) 63
      rcases Nat.lt_or_ge (vv n t 63 ((o a + 1) % n)) (vv n t 63 ((o b + 1) % n)) with z | z
      · have x1 : vv n t 64 ((o a + 1) % n) = 6 * vv n t 63 ((o a + 1) % n) + rl n t ((o a + 1) % n) 63 := rfl
        have x2 : vv n t 64 ((o b + 1) % n) = 6 * vv n t 63 ((o b + 1) % n) + rl n t ((o b + 1) % n) 63 := rfl
        omega
      · have e : vv n t 63 ((o a + 1) % n) = vv n t 63 ((o b + 1) % n) := by omega
        have := vv_same hn0 (fun j hj => vv_digits hn0 ht e j (by omega)) 64
        omega
    rcases Nat.lt_or_ge (t (o b) * 6 ^ 64 + vv n t 64 ((o b + 1) % n)) (t (o a) * 6 ^ 64 + vv n t 64 ((o a + 1) % n)) with z | z
    · exfalso
      have z2 := h3.1.mp z
      have : t (o b) * 6 ^ 63 + vv n t 63 ((o b + 1) % n) < t (o a) * 6 ^ 63 + vv n t 63 ((o a + 1) % n) := by
        apply h2.1.mpr
        rcases z2 with q | ⟨q1, q2⟩
        · exact Or.inl q
        · refine Or.inr ⟨q1, ?_⟩
          rcases Nat.lt_or_ge (vv n t 63 ((o b + 1) % n)) (vv n t 63 ((o a + 1) % n)) with y | y
          · exact y
          · have := h4 y; omega
      have e64 : (1 + 63 : Nat) = 64 := rfl
      rw [e64] at e1 e2
      omega
    · exact z
  have mono2 : ∀ a b, a < b → b < n → c (st a) * 6 ^ 64 + vv n t 64 (o (st a)) ≤ c (st b) * 6 ^ 64 + vv n t 64 (o (st b)) := by
    intro a b hab hb
    rcases hst.2 a b hab hb with q | ⟨q1, q2⟩
    · exact Nat.le_of_lt ((lex2 (hB _) (hB _)).1.mpr (Or.inl q))
    · have := hV (st a) (st b) q2 (Pm_lt hst.1 b hb)
      rw [q1]
      omega
  have heq := srt_eq mono1 mono2 (fun h => by
    rw [hPphi (fun x => h (c x * 6 ^ 64 + vv n t 64 (o x))), hst.1 (fun x => h (c x * 6 ^ 64 + vv n t 64 (o x)))])
  have hat : ∀ k, it st mk k < n := by
    intro k
    induction k with
    | zero => exact hmk
    | succ k ih => exact Pm_lt hst.1 _ ih
  have hcont : ∀ k, vv n t 64 (o (it st mk k)) = vv n t 64 (k % n) := by
    intro k
    induction k with
    | zero => show vv n t 64 (o mk) = _; rw [hm0, Nat.zero_mod]
    | succ k ih =>
      have h1 := ((lex2 (hB _) (hB _)).2.mp (heq _ (hat k))).2
      show vv n t 64 (o (st (it st mk k))) = _
      rw [← h1, (hph _ (hat k)).2, vv_rot hn0 hn ht (by omega) ih, Nat.mod_add_mod]
  intro k hk
  rw [hc _ (hat (k + 1)), prv_rl (hlt _ (hat (k + 1))), vv_digits hn0 ht (hcont (k + 1)) (n - 1) (by omega), ← prv_rl (Nat.mod_lt _ hn0), prv_next hk]
end
section
/-! BlockCoder: comparing and sinking -/
set_option maxRecDepth 100000
theorem met_compare (n : Nat) (c : Nat → Nat) (p q r : Nat) : aMet cdX0 yX0_compare cX0_compare 4 (some .int) (rmD 0)
    (fun as σ => as = [(p : Int), (q : Int), (r : Int)] ∧ gF σ 0 = (n : Int) ∧ n ≤ 32 ∧ p < n ∧ q < n ∧ r < 1000 ∧ hA σ 3 n c ∧ ∀ j, j < n → c j < 100)
    (fun _ σ r' σ' => ∃ z, r' = some z ∧ (σ' = σ ∧ z = cmpI c n r p q)) := by
  refine aMet.of am_cls0 (by decide) rfl (fun as σ h => by rw [h.1]; exact Nat.le_of_ble_eq_true rfl) ?_
  intro as σ X hpre hX
  obtain ⟨rfl, hn, hn32, hp, hq, hr, hc, hcb⟩ := hpre
  have hcp := hcb p hp
  have hcq := hcb q hq
  have hm1 : (p + r) % n < n := Nat.mod_lt _ (by omega)
  have hm2 : (q + r) % n < n := Nat.mod_lt _ (by omega)
  refine am_aload_n hX dX0_compare_0 rfl rfl ?_
  refine am_geta hX 3 q42 (by decide) rfl dX0_compare_1 ?_
  refine am_iload_n hX dX0_compare_4 rfl rfl ?_
  refine am_bald hX 2 rfl (p) (by omega) (by omega) (by decide) dX0_compare_5 ?_
  refine am_top (b := ((c p : Nat) : Int)) (hc p hp) ?_
  refine am_aload_n hX dX0_compare_6 rfl rfl ?_
  refine am_geta hX 3 q42 (by decide) rfl dX0_compare_7 ?_
  refine am_iload_n hX dX0_compare_10 rfl rfl ?_
  refine am_bald hX 2 rfl (q) (by omega) (by omega) (by decide) dX0_compare_11 ?_
  refine am_top (b := ((c q : Nat) : Int)) (hc q hq) ?_
  refine am_icmp_eq hX (tgt := 29) dX0_compare_12 (by decide) (by omega) (by omega) (fun he => ?_) (fun he => ?_)
  · refine am_aload_n hX dX0_compare_29 rfl rfl ?_
    refine am_geta hX 3 q42 (by decide) rfl dX0_compare_30 ?_
    refine am_iload_n hX dX0_compare_33 rfl rfl ?_
    refine am_iload_n hX dX0_compare_34 rfl rfl ?_
    refine am_iadd hX dX0_compare_35 ?_
    refine am_aload_n hX dX0_compare_36 rfl rfl ?_
    refine am_geti hX 0 q39 (by decide) rfl dX0_compare_37 ?_
    refine am_top (b := ((n : Nat) : Int)) hn ?_
    refine am_irem hX (x := p + r) (y := n) dX0_compare_40 (by omega) (by omega) (by omega) (by omega) ?_
    refine am_bald hX 2 rfl ((p + r) % n) (by omega) (by omega) (by decide) dX0_compare_41 ?_
    refine am_top (b := ((c ((p + r) % n) : Nat) : Int)) (hc _ hm1) ?_
    refine am_aload_n hX dX0_compare_42 rfl rfl ?_
    refine am_geta hX 3 q42 (by decide) rfl dX0_compare_43 ?_
    refine am_iload_n hX dX0_compare_46 rfl rfl ?_
    refine am_iload_n hX dX0_compare_47 rfl rfl ?_
    refine am_iadd hX dX0_compare_48 ?_
    refine am_aload_n hX dX0_compare_49 rfl rfl ?_
    refine am_geti hX 0 q39 (by decide) rfl dX0_compare_50 ?_
    refine am_top (b := ((n : Nat) : Int)) hn ?_
    refine am_irem hX (x := q + r) (y := n) dX0_compare_53 (by omega) (by omega) (by omega) (by omega) ?_
    refine am_bald hX 2 rfl ((q + r) % n) (by omega) (by omega) (by decide) dX0_compare_54 ?_
    refine am_top (b := ((c ((q + r) % n) : Nat) : Int)) (hc _ hm2) ?_
    refine am_isub hX dX0_compare_55 ?_
    exact am_iret hX dX0_compare_56 ⟨_, rfl, rfl, by unfold cmpI; rw [if_pos (by omega)]⟩
  · refine am_aload_n hX dX0_compare_15 rfl rfl ?_
    refine am_geta hX 3 q42 (by decide) rfl dX0_compare_16 ?_
    refine am_iload_n hX dX0_compare_19 rfl rfl ?_
    refine am_bald hX 2 rfl (p) (by omega) (by omega) (by decide) dX0_compare_20 ?_
    refine am_top (b := ((c p : Nat) : Int)) (hc p hp) ?_
    refine am_aload_n hX dX0_compare_21 rfl rfl ?_
    refine am_geta hX 3 q42 (by decide) rfl dX0_compare_22 ?_
    refine am_iload_n hX dX0_compare_25 rfl rfl ?_
    refine am_bald hX 2 rfl (q) (by omega) (by omega) (by decide) dX0_compare_26 ?_
    refine am_top (b := ((c q : Nat) : Int)) (hc q hq) ?_
    refine am_isub hX dX0_compare_27 ?_
    exact am_iret hX dX0_compare_28 ⟨_, rfl, rfl, by unfold cmpI; rw [if_neg (by omega)]⟩
theorem met_comesAfter (n : Nat) (c : Nat → Nat) (p q r : Nat) : aMet cdX0 yX0_comesAfter cX0_comesAfter 5 (some .boolean) (rmD 1)
    (fun as σ => as = [(p : Int), (q : Int), (r : Int)] ∧ gF σ 0 = (n : Int) ∧ n ≤ 32 ∧ p < n ∧ q < n ∧ r < 1000 ∧ hA σ 3 n c ∧ ∀ j, j < n → c j < 100)
    (fun _ σ r' σ' => ∃ z, r' = some z ∧ (σ' = σ ∧ ((z = 1 ∧ kl c n r q p) ∨ (z = 0 ∧ ¬ kl c n r q p)))) := by
  refine aMet.of am_cls0 (by decide) rfl (fun as σ h => by rw [h.1]; exact Nat.le_of_ble_eq_true rfl) ?_
  intro as σ X hpre hX
  obtain ⟨rfl, hn, hn32, hp, hq, hr, hc, hcb⟩ := hpre
  have hcp := hcb p hp
  have hcq := hcb q hq
  have hm1 := hcb _ (Nat.mod_lt (p + r) (show 0 < n by omega))
  have hm2 := hcb _ (Nat.mod_lt (q + r) (show 0 < n by omega))
  have hkl : kl c n r q p ↔ (0 < cmpI c n r p q ∨ (cmpI c n r p q = 0 ∧ q < p)) := by
    unfold kl cmpI
    split <;> omega
  have hb : -1000 < cmpI c n r p q ∧ cmpI c n r p q < 1000 := by
    unfold cmpI
    split <;> omega
  refine am_aload_n hX dX0_comesAfter_0 rfl rfl ?_
  refine am_iload_n hX dX0_comesAfter_1 rfl rfl ?_
  refine am_iload_n hX dX0_comesAfter_2 rfl rfl ?_
  refine am_iload_n hX dX0_comesAfter_3 rfl rfl ?_
  refine am_calli hX (met_compare n c p q r) [(p : Int), (q : Int), (r : Int)] (lw_V q135 q137 qs4 q29 q138) ⟨rfl, rfl⟩ (nA := 3) (by decide +kernel) ⟨by decide, by decide⟩ rfl rfl (fun _ => Nat.le_of_ble_eq_true rfl) dX0_comesAfter_4 ⟨rfl, hn, hn32, hp, hq, hr, hc, hcb⟩ (fun z σ1 hz => ?_)
  obtain ⟨rfl, rfl⟩ := hz
  refine am_istore hX dX0_comesAfter_7 (by decide) ?_
  refine am_iload hX dX0_comesAfter_9 rfl ?_
  refine am_if_gt hX (tgt := 24) dX0_comesAfter_11 (by decide) (by omega) (fun h1 => ?_) (fun h1 => ?_)
  · refine am_iconst hX dX0_comesAfter_24 ?_
    refine am_goto hX (tgt := 29) dX0_comesAfter_25 (by decide) ?_
    exact am_zret hX dX0_comesAfter_29 (by decide) ⟨_, rfl, rfl, Or.inl ⟨rfl, hkl.mpr (Or.inl h1)⟩⟩
  · refine am_iload hX dX0_comesAfter_14 rfl ?_
    refine am_if_ne hX (tgt := 28) dX0_comesAfter_16 (by decide) (by omega) (fun h2 => ?_) (fun h2 => ?_)
    · refine am_iconst hX dX0_comesAfter_28 ?_
      exact am_zret hX dX0_comesAfter_29 (by decide) ⟨_, rfl, rfl, Or.inr ⟨rfl, by rw [hkl]; omega⟩⟩
    · refine am_iload_n hX dX0_comesAfter_19 rfl rfl ?_
      refine am_iload_n hX dX0_comesAfter_20 rfl rfl ?_
      refine am_icmp_le hX (tgt := 28) dX0_comesAfter_21 (by decide) (by omega) (by omega) (fun h3 => ?_) (fun h3 => ?_)
      · refine am_iconst hX dX0_comesAfter_28 ?_
        exact am_zret hX dX0_comesAfter_29 (by decide) ⟨_, rfl, rfl, Or.inr ⟨rfl, by rw [hkl]; omega⟩⟩
      · refine am_iconst hX dX0_comesAfter_24 ?_
        refine am_goto hX (tgt := 29) dX0_comesAfter_25 (by decide) ?_
        exact am_zret hX dX0_comesAfter_29 (by decide) ⟨_, rfl, rfl, Or.inl ⟨rfl, hkl.mpr (Or.inr ⟨h2, by omega⟩)⟩⟩
end
section
/-! BlockCoder: sinking, rows, ranks, runs -/
set_option maxRecDepth 100000
section WB
variable {X : am_X} {P : Option Int → am_S → Prop}
theorem sink_loop {n : Nat} {c o : Nat → Nat} {i r : Nat} {σ0 : am_S} (hX : aOK cdX0 RX0 TX0 tyX0 cX0_sink 5 none X) (hn0 : gF σ0 0 = (n : Int)) (hn32 : n ≤ 32) (hi : i < n) (hr : r < 1000) (hc0 : hA σ0 3 n c) (hcb : ∀ j, j < n → c j < 100) (hob : ∀ j, j < n → o j < n)
    (K : ∀ a σ, a ≤ i → (∀ j, a ≤ j → j < i → kl c n r (o i) (o j)) → (a = 0 ∨ ¬ kl c n r (o i) (o (a - 1))) → fr [] [2] σ0 σ → hA σ 2 n (shf o i a) → aW cdX0 5 (rmD 2) X P 55 [vT, vI (i : Int), vI (r : Int), vI (o i : Int), vI (a : Int)] [] σ) :
    ∀ a σ, a ≤ i → (∀ j, a ≤ j → j < i → kl c n r (o i) (o j)) → fr [] [2] σ0 σ → hA σ 2 n (shf o i a) → aW cdX0 5 (rmD 2) X P 10 [vT, vI (i : Int), vI (r : Int), vI (o i : Int), vI (a : Int)] [] σ := by
  intro a
  induction a with
  | zero =>
    intro σ ha hk hf ho
    refine am_iload hX dX0_sink_10 rfl ?_
    refine am_if_le hX (tgt := 55) dX0_sink_12 (by decide) (by omega) (fun h0 => ?_) (fun h0 => ?_)
    · exact K 0 σ ha hk (Or.inl rfl) hf ho
    · exact absurd h0 (by omega)
  | succ a ih =>
    intro σ ha hk hf ho
    have hn : gF σ 0 = (n : Int) := (hf.1 0 (by decide)).trans hn0
    have hc : hA σ 3 n c := hA_fr hc0 hf (by decide)
    have hoa : gA σ 2 a = (o a : Int) := by rw [ho a (by omega), shf_low o i (by omega)]
    have hb1 := hob a (by omega)
    have hb2 := hob i hi
    refine am_iload hX dX0_sink_10 rfl ?_
    refine am_if_le hX (tgt := 55) dX0_sink_12 (by decide) (by omega) (fun h0 => ?_) (fun h0 => ?_)
    · exact absurd h0 (by omega)
    · refine am_aload_n hX dX0_sink_15 rfl rfl ?_
      refine am_aload_n hX dX0_sink_16 rfl rfl ?_
      refine am_geta hX 2 q41 (by decide) rfl dX0_sink_17 ?_
      refine am_iload hX dX0_sink_20 rfl ?_
      refine am_iconst hX dX0_sink_22 ?_
      refine am_isub hX dX0_sink_23 ?_
      refine am_bald hX 1 rfl (a) (by omega) (by omega) (by decide) dX0_sink_24 ?_
      refine am_top (b := ((o a : Nat) : Int)) hoa ?_
      refine am_iload_n hX dX0_sink_25 rfl rfl ?_
      refine am_iload_n hX dX0_sink_26 rfl rfl ?_
      refine am_calli hX (met_comesAfter n c (o a) (o i) r) [(o a : Int), (o i : Int), (r : Int)] (lw_V q131 q133 qs3 q29 q134) ⟨rfl, rfl⟩ (nA := 3) (by decide +kernel) ⟨by decide, by decide⟩ rfl rfl (fun _ => Nat.le_of_ble_eq_true rfl) dX0_sink_27 ⟨rfl, hn, hn32, hb1, hb2, hr, hc, hcb⟩ (fun z σ1 hz => ?_)
      obtain ⟨rfl, hz⟩ := hz
      refine am_if_eq hX (tgt := 55) dX0_sink_30 (by decide) (by omega) (fun h1 => ?_) (fun h1 => ?_)
      · exact K (a + 1) σ1 ha hk (Or.inr (by rcases hz with h | h <;> first | omega | exact h.2)) hf ho
      · refine am_aload_n hX dX0_sink_33 rfl rfl ?_
        refine am_geta hX 2 q41 (by decide) rfl dX0_sink_34 ?_
        refine am_iload hX dX0_sink_37 rfl ?_
        refine am_aload_n hX dX0_sink_39 rfl rfl ?_
        refine am_geta hX 2 q41 (by decide) rfl dX0_sink_40 ?_
        refine am_iload hX dX0_sink_43 rfl ?_
        refine am_iconst hX dX0_sink_45 ?_
        refine am_isub hX dX0_sink_46 ?_
        refine am_bald hX 1 rfl (a) (by omega) (by omega) (by decide) dX0_sink_47 ?_
        refine am_top (b := ((o a : Nat) : Int)) hoa ?_
        refine am_bast hX 1 rfl (a + 1) (by omega) (by omega) (by decide) (by omega) dX0_sink_48 ?_
        refine am_iincv hX dX0_sink_49 rfl (by decide) (z2 := ((a : Nat) : Int)) (by omega) ?_
        refine am_goto hX (tgt := 10) dX0_sink_52 (by decide) ?_
        refine ih _ (by omega) (fun j h2 h3 => ?_) (fr_wA hf (by decide) _) (hA_up ho (by rw [shf_step o (by omega)]) (fun j _ hj => shf_other o hj))
        by_cases e : j = a
        · subst e
          rcases hz with ⟨_, h⟩ | ⟨e, _⟩
          · exact h
          · omega
        · exact hk j (by omega) h3
theorem met_sink (n : Nat) (c o : Nat → Nat) (i r : Nat) : aMet cdX0 yX0_sink cX0_sink 5 none (rmD 2)
    (fun as σ => as = [(i : Int), (r : Int)] ∧ gF σ 0 = (n : Int) ∧ n ≤ 32 ∧ i < n ∧ r < 1000 ∧ hA σ 3 n c ∧ (∀ j, j < n → c j < 100) ∧ hA σ 2 n o ∧ ∀ j, j < n → o j < n)
    (fun _ σ r' σ' => r' = none ∧ (fr [] [2] σ σ' ∧ ∃ a, a ≤ i ∧ (∀ j, a ≤ j → j < i → kl c n r (o i) (o j)) ∧ (a = 0 ∨ ¬ kl c n r (o i) (o (a - 1))) ∧ hA σ' 2 n (ins o i a))) := by
  refine aMet.of am_cls0 (by decide) rfl (fun as σ h => by rw [h.1]; exact Nat.le_of_ble_eq_true rfl) ?_
  intro as σ X hpre hX
  obtain ⟨rfl, hn, hn32, hi, hr, hc, hcb, ho, hob⟩ := hpre
  refine am_aload_n hX dX0_sink_0 rfl rfl ?_
  refine am_geta hX 2 q41 (by decide) rfl dX0_sink_1 ?_
  refine am_iload_n hX dX0_sink_4 rfl rfl ?_
  refine am_bald hX 1 rfl (i) (by omega) (by omega) (by decide) dX0_sink_5 ?_
  refine am_top (b := ((o i : Nat) : Int)) (ho i hi) ?_
  refine am_istore_n hX dX0_sink_6 rfl (by decide) ?_
  refine am_iload_n hX dX0_sink_7 rfl rfl ?_
  refine am_istore hX dX0_sink_8 (by decide) ?_
  refine sink_loop hX hn hn32 hi hr hc hcb hob (fun a σ1 ha hk h0 hf hs => ?_) i σ (Nat.le_refl i) (fun j h1 h2 => by omega) (fr_refl _ _ _) (hA_congr ho (fun j _ => (shf_self o i j).symm))
  have hb2 := hob i hi
  refine am_aload_n hX dX0_sink_55 rfl rfl ?_
  refine am_geta hX 2 q41 (by decide) rfl dX0_sink_56 ?_
  refine am_iload hX dX0_sink_59 rfl ?_
  refine am_iload_n hX dX0_sink_61 rfl rfl ?_
  refine am_bast hX 1 rfl (a) (by omega) (by omega) (by decide) (by omega) dX0_sink_62 ?_
  exact am_vret hX dX0_sink_63 ⟨rfl, fr_wA hf (by decide) _, a, ha, hk, h0, hA_up hs (by unfold ins; rw [if_pos rfl]) (fun j _ hj => by unfold ins; rw [if_neg hj])⟩
theorem resetRow_loop {σ0 : am_S} (hX : aOK cdX0 RX0 TX0 tyX0 cX0_resetRow 2 none X) (K : ∀ σ, fr [] [11] σ0 σ → hA σ 11 6 (fun j => j) → P none σ) :
    ∀ m k σ, k ≤ 6 → 6 < k + m → fr [] [11] σ0 σ → hA σ 11 k (fun j => j) → aW cdX0 2 (rmD 0) X P 2 [vT, vI (k : Int)] [] σ := by
  intro m
  induction m with
  | zero => intro k σ h1 h2; exact absurd h2 (by omega)
  | succ m ih =>
    intro k σ hk hm hf ha
    refine am_iload_n hX dX0_resetRow_2 rfl rfl ?_
    refine am_bipush hX dX0_resetRow_3 (by decide) ?_
    refine am_icmp_ge hX (tgt := 22) dX0_resetRow_5 (by decide) (by omega) (by omega) (fun h => ?_) (fun h => ?_)
    · exact am_vret hX dX0_resetRow_22 (K σ hf (hA_le ha (by omega)))
    · refine am_aload_n hX dX0_resetRow_8 rfl rfl ?_
      refine am_geta hX 11 q50 (by decide) rfl dX0_resetRow_9 ?_
      refine am_iload_n hX dX0_resetRow_12 rfl rfl ?_
      refine am_iload_n hX dX0_resetRow_13 rfl rfl ?_
      refine am_i2b hX dX0_resetRow_14 (by omega) ?_
      refine am_bast hX 7 rfl (k) (by omega) (by omega) (by decide) (by omega) dX0_resetRow_15 ?_
      refine am_iincv hX dX0_resetRow_16 rfl (by decide) (z2 := ((k + 1 : Nat) : Int)) (by omega) ?_
      refine am_goto hX (tgt := 2) dX0_resetRow_19 (by decide) ?_
      exact ih (k + 1) _ (by omega) (by omega) (fr_wA hf (by decide) _) (hA_push ha rfl)
theorem met_resetRow : aMet cdX0 yX0_resetRow cX0_resetRow 2 none (rmD 0) (fun as _ => as = []) (fun _ σ r' σ' => r' = none ∧ (fr [] [11] σ σ' ∧ hA σ' 11 6 (fun j => j))) := by
  refine aMet.of am_cls0 (by decide) rfl (fun as σ h => by rw [h]; exact Nat.le_of_ble_eq_true rfl) ?_
  intro as σ X hpre hX
  subst hpre
  refine am_iconst hX dX0_resetRow_0 ?_
  refine am_top (b := ((0 : Nat) : Int)) (by omega) ?_
  refine am_istore_n hX dX0_resetRow_1 rfl (by decide) ?_
  exact resetRow_loop (σ0 := σ) hX (fun σ1 hf ha => ⟨rfl, hf, ha⟩) 7 0 σ (by omega) (by omega) (fr_refl _ _ _) (fun j hj => absurd hj (by omega))
theorem toFront_loop {p : Nat} {w : Nat → Nat} {σ0 : am_S} (hX : aOK cdX0 RX0 TX0 tyX0 cX0_toFront 4 none X) (hp : p < 6) (hw : ∀ j, j < 6 → w j < 6)
    (K : ∀ σ, fr [] [11] σ0 σ → hA σ 11 6 (shf w p 0) → aW cdX0 4 (rmD 0) X P 33 [vT, vI (p : Int), vI (w p : Int), vI ((0 : Nat) : Int)] [] σ) :
    ∀ r σ, r ≤ p → fr [] [11] σ0 σ → hA σ 11 6 (shf w p r) → aW cdX0 4 (rmD 0) X P 9 [vT, vI (p : Int), vI (w p : Int), vI (r : Int)] [] σ := by
  intro r
  induction r with
  | zero =>
    intro σ hr hf ha
    refine am_iload_n hX dX0_toFront_9 rfl rfl ?_
    refine am_if_le hX (tgt := 33) dX0_toFront_10 (by decide) (by omega) (fun h => ?_) (fun h => ?_)
    · exact K σ hf ha
    · exact absurd h (by omega)
  | succ r ih =>
    intro σ hr hf ha
    have hv : gA σ 11 r = (w r : Int) := by rw [ha r (by omega), shf_low w p (by omega)]
    have hb := hw r (by omega)
    refine am_iload_n hX dX0_toFront_9 rfl rfl ?_
    refine am_if_le hX (tgt := 33) dX0_toFront_10 (by decide) (by omega) (fun h => ?_) (fun h => ?_)
    · exact absurd h (by omega)
    · refine am_aload_n hX dX0_toFront_13 rfl rfl ?_
      refine am_geta hX 11 q50 (by decide) rfl dX0_toFront_14 ?_
      refine am_iload_n hX dX0_toFront_17 rfl rfl ?_
      refine am_aload_n hX dX0_toFront_18 rfl rfl ?_
      refine am_geta hX 11 q50 (by decide) rfl dX0_toFront_19 ?_
      refine am_iload_n hX dX0_toFront_22 rfl rfl ?_
      refine am_iconst hX dX0_toFront_23 ?_
      refine am_isub hX dX0_toFront_24 ?_
      refine am_bald hX 7 rfl (r) (by omega) (by omega) (by decide) dX0_toFront_25 ?_
      refine am_top (b := ((w r : Nat) : Int)) hv ?_
      refine am_bast hX 7 rfl (r + 1) (by omega) (by omega) (by decide) (by omega) dX0_toFront_26 ?_
      refine am_iincv hX dX0_toFront_27 rfl (by decide) (z2 := ((r : Nat) : Int)) (by omega) ?_
      refine am_goto hX (tgt := 9) dX0_toFront_30 (by decide) ?_
      exact ih _ (by omega) (fr_wA hf (by decide) _) (hA_up ha (by rw [shf_step w (by omega)]) (fun j _ hj => shf_other w hj))
theorem met_toFront (w : Nat → Nat) (p : Nat) : aMet cdX0 yX0_toFront cX0_toFront 4 none (rmD 0)
    (fun as σ => as = [(p : Int)] ∧ p < 6 ∧ hA σ 11 6 w ∧ ∀ j, j < 6 → w j < 6)
    (fun _ σ r' σ' => r' = none ∧ (fr [] [11] σ σ' ∧ hA σ' 11 6 (mtf w p))) := by
  refine aMet.of am_cls0 (by decide) rfl (fun as σ h => by rw [h.1]; exact Nat.le_of_ble_eq_true rfl) ?_
  intro as σ X hpre hX
  obtain ⟨rfl, hp, ha, hw⟩ := hpre
  have hb := hw p hp
  refine am_aload_n hX dX0_toFront_0 rfl rfl ?_
  refine am_geta hX 11 q50 (by decide) rfl dX0_toFront_1 ?_
  refine am_iload_n hX dX0_toFront_4 rfl rfl ?_
  refine am_bald hX 7 rfl (p) (by omega) (by omega) (by decide) dX0_toFront_5 ?_
  refine am_top (b := ((w p : Nat) : Int)) (ha p hp) ?_
  refine am_istore_n hX dX0_toFront_6 rfl (by decide) ?_
  refine am_iload_n hX dX0_toFront_7 rfl rfl ?_
  refine am_istore_n hX dX0_toFront_8 rfl (by decide) ?_
  refine toFront_loop (σ0 := σ) hX hp hw (fun σ1 hf h1 => ?_) p σ (Nat.le_refl p) (fr_refl _ _ _) (hA_congr ha (fun j _ => (shf_self w p j).symm))
  refine am_aload_n hX dX0_toFront_33 rfl rfl ?_
  refine am_geta hX 11 q50 (by decide) rfl dX0_toFront_34 ?_
  refine am_iconst hX dX0_toFront_37 ?_
  refine am_iload_n hX dX0_toFront_38 rfl rfl ?_
  refine am_bast hX 7 rfl (0) (by omega) (by omega) (by decide) (by omega) dX0_toFront_39 ?_
  exact am_vret hX dX0_toFront_40 ⟨rfl, fr_wA hf (by decide) _, hA_up h1 (by unfold mtf; rw [if_pos rfl]) (fun j _ hj => by unfold mtf; rw [if_neg hj])⟩
theorem rank_inner {f : Nat → Nat} {k v : Nat} {σ : am_S} (hX : aOK cdX0 RX0 TX0 tyX0 cX0_rankLetters 3 none X) (hk : k < 32) (hf : RowOK f) (hv : v < 6) (hcol : gA σ 7 k = (v : Int)) (hrow : hA σ 11 6 f)
    (K : aW cdX0 3 (rmD 1) X P 37 [vT, vI (k : Int), vI (pos6 f v : Int)] [] σ) :
    ∀ m p, p ≤ pos6 f v → pos6 f v < p + m → aW cdX0 3 (rmD 1) X P 16 [vT, vI (k : Int), vI (p : Int)] [] σ := by
  have hlt := pos6_lt f v
  intro m
  induction m with
  | zero => intro p h1 h2; exact absurd h2 (by omega)
  | succ m ih =>
    intro p h1 h2
    have hb := hf.1 p (by omega)
    refine am_aload_n hX dX0_rankLetters_16 rfl rfl ?_
    refine am_geta hX 11 q50 (by decide) rfl dX0_rankLetters_17 ?_
    refine am_iload_n hX dX0_rankLetters_20 rfl rfl ?_
    refine am_bald hX 7 rfl (p) (by omega) (by omega) (by decide) dX0_rankLetters_21 ?_
    refine am_top (b := ((f p : Nat) : Int)) (hrow p (by omega)) ?_
    refine am_aload_n hX dX0_rankLetters_22 rfl rfl ?_
    refine am_geta hX 7 q46 (by decide) rfl dX0_rankLetters_23 ?_
    refine am_iload_n hX dX0_rankLetters_26 rfl rfl ?_
    refine am_bald hX 4 rfl (k) (by omega) (by omega) (by decide) dX0_rankLetters_27 ?_
    refine am_top (b := ((v : Nat) : Int)) hcol ?_
    refine am_icmp_eq hX (tgt := 37) dX0_rankLetters_28 (by decide) (by omega) (by omega) (fun h => ?_) (fun h => ?_)
    · have e : p = pos6 f v := pos6_uniq hf (by omega) (by omega)
      rw [← e] at K
      exact K
    · have hne : p ≠ pos6 f v := fun e => h (by rw [e, pos6_at hf hv])
      refine am_iincv hX dX0_rankLetters_31 rfl (by decide) (z2 := ((p + 1 : Nat) : Int)) (by omega) ?_
      refine am_goto hX (tgt := 16) dX0_rankLetters_34 (by decide) ?_
      exact ih (p + 1) (by omega) (by omega)
theorem rank_outer {n : Nat} {c : Nat → Nat} {σ0 : am_S} (hX : aOK cdX0 RX0 TX0 tyX0 cX0_rankLetters 3 none X) (hn0 : gF σ0 0 = (n : Int)) (hn32 : n ≤ 32) (hc0 : hA σ0 7 n c) (hcb : ∀ j, j < n → c j < 6)
    (K : ∀ σ, fr [] [8, 11] σ0 σ → hA σ 8 n (rkC c) → P none σ) :
    ∀ m k x σ, k ≤ n → n < k + m → fr [] [8, 11] σ0 σ → hA σ 8 k (rkC c) → hA σ 11 6 (rowC c k) → aW cdX0 3 (rmD 1) X P 6 [vT, vI (k : Int), x] [] σ := by
  intro m
  induction m with
  | zero => intro k x σ h1 h2; exact absurd h2 (by omega)
  | succ m ih =>
    intro k x σ hk hm hf hr hw
    have hn : gF σ 0 = (n : Int) := (hf.1 0 (by decide)).trans hn0
    refine am_iload_n hX dX0_rankLetters_6 rfl rfl ?_
    refine am_aload_n hX dX0_rankLetters_7 rfl rfl ?_
    refine am_geti hX 0 q39 (by decide) rfl dX0_rankLetters_8 ?_
    refine am_top (b := ((n : Nat) : Int)) hn ?_
    refine am_icmp_ge hX (tgt := 56) dX0_rankLetters_11 (by decide) (by omega) (by omega) (fun h => ?_) (fun h => ?_)
    · exact am_vret hX dX0_rankLetters_56 (K σ hf (hA_le hr (by omega)))
    · have hcol : gA σ 7 k = (c k : Int) := hA_fr hc0 hf (by decide) k (by omega)
      have hlt := rkC_lt c k
      refine am_iconst hX dX0_rankLetters_14 ?_
      refine am_top (b := ((0 : Nat) : Int)) (by omega) ?_
      refine am_istore_n hX dX0_rankLetters_15 rfl (by decide) ?_
      refine rank_inner hX (by omega) (rowC_ok c k) (hcb k (by omega)) hcol hw ?_ 7 0 (by omega) (by have := pos6_lt (rowC c k) (c k); omega)
      refine am_loc [vT, vI (k : Int), vI (rkC c k : Int)] rfl ?_
      refine am_aload_n hX dX0_rankLetters_37 rfl rfl ?_
      refine am_geta hX 8 q47 (by decide) rfl dX0_rankLetters_38 ?_
      refine am_iload_n hX dX0_rankLetters_41 rfl rfl ?_
      refine am_iload_n hX dX0_rankLetters_42 rfl rfl ?_
      refine am_i2b hX dX0_rankLetters_43 (by omega) ?_
      refine am_bast hX 5 rfl (k) (by omega) (by omega) (by decide) (by omega) dX0_rankLetters_44 ?_
      refine am_aload_n hX dX0_rankLetters_45 rfl rfl ?_
      refine am_iload_n hX dX0_rankLetters_46 rfl rfl ?_
      refine am_callv hX (met_toFront (rowC c k) (rkC c k)) [(rkC c k : Int)] (lw_V q147 q149 qs7 q29 q150) ⟨rfl, rfl⟩ (nA := 1) (by decide +kernel) ⟨by decide, by decide⟩ rfl rfl (fun _ => Nat.le_of_ble_eq_true rfl) dX0_rankLetters_47 ⟨rfl, hlt, fun j hj => hw j hj, (rowC_ok c k).1⟩ (fun σ1 hq => ?_)
      refine am_iincv hX dX0_rankLetters_50 rfl (by decide) (z2 := ((k + 1 : Nat) : Int)) (by omega) ?_
      refine am_goto hX (tgt := 6) dX0_rankLetters_53 (by decide) ?_
      exact ih (k + 1) _ _ (by omega) (by omega) (fr_trans (fr_wA hf (by decide) _) (fr_mono hq.1 (by decide) (by decide))) (hA_fr (hA_push hr rfl) hq.1 (by decide)) hq.2
theorem met_rankLetters (n : Nat) (c : Nat → Nat) : aMet cdX0 yX0_rankLetters cX0_rankLetters 3 none (rmD 1)
    (fun as σ => as = [] ∧ gF σ 0 = (n : Int) ∧ n ≤ 32 ∧ hA σ 7 n c ∧ ∀ j, j < n → c j < 6)
    (fun _ σ r' σ' => r' = none ∧ (fr [] [8, 11] σ σ' ∧ hA σ' 8 n (rkC c))) := by
  refine aMet.of am_cls0 (by decide) rfl (fun as σ h => by rw [h.1]; exact Nat.le_of_ble_eq_true rfl) ?_
  intro as σ X hpre hX
  obtain ⟨rfl, hn, hn32, hc, hcb⟩ := hpre
  refine am_aload_n hX dX0_rankLetters_0 rfl rfl ?_
  refine am_callv hX (met_resetRow) [] (lw_V q143 q145 qs6 q29 q146) ⟨rfl, rfl⟩ (nA := 0) (by decide +kernel) ⟨by decide, by decide⟩ rfl rfl (fun _ => Nat.le_of_ble_eq_true rfl) dX0_rankLetters_1 rfl (fun σ1 hq => ?_)
  refine am_iconst hX dX0_rankLetters_4 ?_
  refine am_top (b := ((0 : Nat) : Int)) (by omega) ?_
  refine am_istore_n hX dX0_rankLetters_5 rfl (by decide) ?_
  exact rank_outer (σ0 := σ) hX hn hn32 hc hcb (fun σ2 hf hr => ⟨rfl, hf, hr⟩) 33 0 _ σ1 (by omega) (by omega) (fr_mono hq.1 (by decide) (by decide)) (fun j hj => absurd hj (by omega)) hq.2
theorem met_addSymbol (L : List Nat) (s : Nat) : aMet cdX0 yX0_addSymbol cX0_addSymbol 2 none (rmD 0)
    (fun as σ => as = [(s : Int)] ∧ L.length < 32 ∧ s < 128 ∧ SL 9 10 σ L)
    (fun _ σ r' σ' => r' = none ∧ (fr [9] [10] σ σ' ∧ SL 9 10 σ' (L ++ [s]))) := by
  refine aMet.of am_cls0 (by decide) rfl (fun as σ h => by rw [h.1]; exact Nat.le_of_ble_eq_true rfl) ?_
  intro as σ X hpre hX
  obtain ⟨rfl, hl, hs, hL⟩ := hpre
  refine am_aload_n hX dX0_addSymbol_0 rfl rfl ?_
  refine am_geta hX 10 q49 (by decide) rfl dX0_addSymbol_1 ?_
  refine am_aload_n hX dX0_addSymbol_4 rfl rfl ?_
  refine am_geti hX 9 q48 (by decide) rfl dX0_addSymbol_5 ?_
  refine am_top (b := ((L.length : Nat) : Int)) hL.1 ?_
  refine am_iload_n hX dX0_addSymbol_8 rfl rfl ?_
  refine am_i2b hX dX0_addSymbol_9 (by omega) ?_
  refine am_bast hX 6 rfl (L.length) (by omega) (by omega) (by decide) (by omega) dX0_addSymbol_10 ?_
  refine am_aload_n hX dX0_addSymbol_11 rfl rfl ?_
  refine am_dup hX dX0_addSymbol_12 (fun _ => rfl) ?_
  refine am_geti hX 9 q48 (by decide) rfl dX0_addSymbol_13 ?_
  refine am_top (b := ((L.length : Nat) : Int)) hL.1 ?_
  refine am_iconst hX dX0_addSymbol_16 ?_
  refine am_iadd hX dX0_addSymbol_17 ?_
  refine am_top (b := ((L.length + 1 : Nat) : Int)) (by omega) ?_
  refine am_puti hX 9 q48 (by decide) rfl rfl rfl dX0_addSymbol_18 ?_
  exact am_vret hX dX0_addSymbol_21 ⟨rfl, fr_pF (fr_wA (fr_refl _ _ _) (by decide) _) (by decide) _, SL_push hL rfl rfl⟩
end WB
end
section
/-! BlockCoder: runs, the lightest group, codes -/
set_option maxRecDepth 100000
def lst (r : Nat → Nat) : Nat → Nat → List Nat
  | _, 0 => []
  | k, m + 1 => r k :: lst r (k + 1) m
theorem lst_len (r : Nat → Nat) : ∀ m k, (lst r k m).length = m := by
  intro m
  induction m with
  | zero => intro k; rfl
  | succ m ih => intro k; show (lst r (k + 1) m).length + 1 = _; rw [ih]
theorem lst_mem (r : Nat → Nat) : ∀ m k x, x ∈ lst r k m → ∃ j, k ≤ j ∧ j < k + m ∧ x = r j := by
  intro m
  induction m with
  | zero => intro k x h; exact absurd h List.not_mem_nil
  | succ m ih =>
    intro k x h
    rcases List.mem_cons.mp h with e | e
    · exact ⟨k, by omega, by omega, e⟩
    · obtain ⟨j, h1, h2, h3⟩ := ih (k + 1) x e
      exact ⟨j, by omega, by omega, h3⟩
def lightOK (w : Nat → Nat) (e z : Int) (m : Nat) : Prop := (z = -3 ∧ ∀ g, g < m → (g : Int) = e ∨ w g = 0) ∨ (∃ b : Nat, b < m ∧ z = (b : Int) ∧ (b : Int) ≠ e ∧ w b ≠ 0 ∧ ∀ g, g < m → (g : Int) ≠ e → w g ≠ 0 → w b ≤ w g)
section WC
variable {X : am_X} {P : Option Int → am_S → Prop}
theorem short_inner {k : Nat} {σ0 : am_S} {F : List Nat} (hX : aOK cdX0 RX0 TX0 tyX0 cX0_shortenRuns 4 none X)
    (K : ∀ x σ, fr [9] [10] σ0 σ → SL 9 10 σ F → aW cdX0 4 (rmD 1) X P 90 [vT, vI ((0 : Nat) : Int), vI (k : Int), x] [] σ) :
    ∀ m z E x σ, z ≤ m → E.length + z ≤ 32 → E ++ run z = F → fr [9] [10] σ0 σ → SL 9 10 σ E → aW cdX0 4 (rmD 1) X P 40 [vT, vI ((z : Nat) : Int), vI (k : Int), x] [] σ := by
  intro m
  induction m with
  | zero =>
    intro z E x σ hz hl hF hf hL
    have e : z = 0 := by omega
    subst e
    rw [run_0, List.append_nil] at hF
    subst hF
    refine am_iload_n hX dX0_shortenRuns_40 rfl rfl ?_
    refine am_if_le hX (tgt := 90) dX0_shortenRuns_41 (by decide) (by omega) (fun h => ?_) (fun h => ?_)
    · exact K x σ hf hL
    · exact absurd h (by omega)
  | succ m ih =>
    intro z E x σ hz hl hF hf hL
    refine am_iload_n hX dX0_shortenRuns_40 rfl rfl ?_
    refine am_if_le hX (tgt := 90) dX0_shortenRuns_41 (by decide) (by omega) (fun h => ?_) (fun h => ?_)
    · have e : z = 0 := by omega
      subst e
      rw [run_0, List.append_nil] at hF
      subst hF
      exact K x σ hf hL
    · refine am_iload_n hX dX0_shortenRuns_44 rfl rfl ?_
      refine am_iconst hX dX0_shortenRuns_45 ?_
      refine am_iand hX (x := z) 1 dX0_shortenRuns_46 (by omega) (by omega) (by decide) ?_
      refine am_if_eq hX (tgt := 54) dX0_shortenRuns_47 (by decide) (by omega) (fun h2 => ?_) (fun h2 => ?_)
      · rw [run_even (by omega) (by omega)] at hF
        refine am_iconst hX dX0_shortenRuns_54 ?_
        refine am_istore_n hX dX0_shortenRuns_55 rfl (by decide) ?_
        refine am_aload_n hX dX0_shortenRuns_56 rfl rfl ?_
        refine am_iload_n hX dX0_shortenRuns_57 rfl rfl ?_
        refine am_if_eq hX (tgt := 65) dX0_shortenRuns_58 (by decide) (by omega) (fun h3 => ?_) (fun h3 => ?_)
        · refine am_iconst hX dX0_shortenRuns_65 ?_
          refine am_callv hX (met_addSymbol E 1) [1] (lw_V q155 q157 qs9 q29 q158) ⟨rfl, rfl⟩ (nA := 1) (by decide +kernel) ⟨by decide, by decide⟩ rfl rfl (fun _ => Nat.le_of_ble_eq_true rfl) dX0_shortenRuns_66 ⟨rfl, by omega, by omega, hL⟩ (fun σ1 hq => ?_)
          refine am_iload_n hX dX0_shortenRuns_69 rfl rfl ?_
          refine am_if_eq hX (tgt := 81) dX0_shortenRuns_70 (by decide) (by omega) (fun h4 => ?_) (fun h4 => ?_)
          · refine am_iload_n hX dX0_shortenRuns_81 rfl rfl ?_
            refine am_iconst hX dX0_shortenRuns_82 ?_
            refine am_isub hX dX0_shortenRuns_83 ?_
            refine am_top (b := ((z - 2 : Nat) : Int)) (by omega) ?_
            refine am_iconst hX dX0_shortenRuns_84 ?_
            refine am_idiv hX (x := z - 2) (y := 2) dX0_shortenRuns_85 (by omega) (by omega) (by omega) (by omega) ?_
            refine am_istore_n hX dX0_shortenRuns_86 rfl (by decide) ?_
            refine am_goto hX (tgt := 40) dX0_shortenRuns_87 (by decide) ?_
            exact ih ((z - 2) / 2) (E ++ [1]) _ _ (by omega) (by rw [List.length_append, List.length_singleton]; omega) (by rw [← hF]; simp) (fr_trans hf hq.1) hq.2
          · exact absurd rfl h4
        · exact absurd rfl h3
      · rw [run_odd (by omega)] at hF
        refine am_iconst hX dX0_shortenRuns_50 ?_
        refine am_goto hX (tgt := 55) dX0_shortenRuns_51 (by decide) ?_
        refine am_istore_n hX dX0_shortenRuns_55 rfl (by decide) ?_
        refine am_aload_n hX dX0_shortenRuns_56 rfl rfl ?_
        refine am_iload_n hX dX0_shortenRuns_57 rfl rfl ?_
        refine am_if_eq hX (tgt := 65) dX0_shortenRuns_58 (by decide) (by omega) (fun h3 => ?_) (fun h3 => ?_)
        · exact absurd h3 (by decide)
        · refine am_iconst hX dX0_shortenRuns_61 ?_
          refine am_goto hX (tgt := 66) dX0_shortenRuns_62 (by decide) ?_
          refine am_callv hX (met_addSymbol E 0) [0] (lw_V q155 q157 qs9 q29 q158) ⟨rfl, rfl⟩ (nA := 1) (by decide +kernel) ⟨by decide, by decide⟩ rfl rfl (fun _ => Nat.le_of_ble_eq_true rfl) dX0_shortenRuns_66 ⟨rfl, by omega, by omega, hL⟩ (fun σ1 hq => ?_)
          refine am_iload_n hX dX0_shortenRuns_69 rfl rfl ?_
          refine am_if_eq hX (tgt := 81) dX0_shortenRuns_70 (by decide) (by omega) (fun h4 => ?_) (fun h4 => ?_)
          · exact absurd h4 (by decide)
          · refine am_iload_n hX dX0_shortenRuns_73 rfl rfl ?_
            refine am_iconst hX dX0_shortenRuns_74 ?_
            refine am_isub hX dX0_shortenRuns_75 ?_
            refine am_top (b := ((z - 1 : Nat) : Int)) (by omega) ?_
            refine am_iconst hX dX0_shortenRuns_76 ?_
            refine am_idiv hX (x := z - 1) (y := 2) dX0_shortenRuns_77 (by omega) (by omega) (by omega) (by omega) ?_
            refine am_goto hX (tgt := 86) dX0_shortenRuns_78 (by decide) ?_
            refine am_istore_n hX dX0_shortenRuns_86 rfl (by decide) ?_
            refine am_goto hX (tgt := 40) dX0_shortenRuns_87 (by decide) ?_
            exact ih ((z - 1) / 2) (E ++ [0]) _ _ (by omega) (by rw [List.length_append, List.length_singleton]; omega) (by rw [← hF]; simp) (fr_trans hf hq.1) hq.2
theorem short_outer {n : Nat} {r : Nat → Nat} {σ0 : am_S} {F : List Nat} (hX : aOK cdX0 RX0 TX0 tyX0 cX0_shortenRuns 4 none X) (hn0 : gF σ0 0 = (n : Int)) (hn32 : n ≤ 32) (hr0 : hA σ0 8 n r) (hrb : ∀ j, j < n → r j < 6)
    (K : ∀ σ, fr [9] [10] σ0 σ → SL 9 10 σ F → P none σ) :
    ∀ m k z E x σ, k + m = n → E.length + z ≤ k → E ++ enc z (lst r k m) = F → fr [9] [10] σ0 σ → SL 9 10 σ E → aW cdX0 4 (rmD 1) X P 9 [vT, vI ((z : Nat) : Int), vI ((k : Nat) : Int), x] [] σ := by
  intro m
  induction m with
  | zero =>
    intro k z E x σ hk hl hF hf hL
    have hn : gF σ 0 = (n : Int) := (hf.1 0 (by decide)).trans hn0
    refine am_iload_n hX dX0_shortenRuns_9 rfl rfl ?_
    refine am_aload_n hX dX0_shortenRuns_10 rfl rfl ?_
    refine am_geti hX 0 q39 (by decide) rfl dX0_shortenRuns_11 ?_
    refine am_top (b := ((n : Nat) : Int)) hn ?_
    refine am_icmp_gt hX (tgt := 116) dX0_shortenRuns_14 (by decide) (by omega) (by omega) (fun h => ?_) (fun h => ?_)
    · exact absurd h (by omega)
    · refine am_iload_n hX dX0_shortenRuns_17 rfl rfl ?_
      refine am_aload_n hX dX0_shortenRuns_18 rfl rfl ?_
      refine am_geti hX 0 q39 (by decide) rfl dX0_shortenRuns_19 ?_
      refine am_top (b := ((n : Nat) : Int)) hn ?_
      refine am_icmp_ge hX (tgt := 40) dX0_shortenRuns_22 (by decide) (by omega) (by omega) (fun h2 => ?_) (fun h2 => ?_)
      · refine short_inner (σ0 := σ0) hX (fun x2 σ2 hf2 hL2 => ?_) z z E x σ (Nat.le_refl z) (by omega) hF hf hL
        have hn : gF σ2 0 = (n : Int) := (hf2.1 0 (by decide)).trans hn0
        refine am_iload_n hX dX0_shortenRuns_90 rfl rfl ?_
        refine am_aload_n hX dX0_shortenRuns_91 rfl rfl ?_
        refine am_geti hX 0 q39 (by decide) rfl dX0_shortenRuns_92 ?_
        refine am_top (b := ((n : Nat) : Int)) hn ?_
        refine am_icmp_ge hX (tgt := 110) dX0_shortenRuns_95 (by decide) (by omega) (by omega) (fun h3 => ?_) (fun h3 => ?_)
        · refine am_iincv hX dX0_shortenRuns_110 rfl (by decide) (z2 := ((k + 1 : Nat) : Int)) (by omega) ?_
          refine am_goto hX (tgt := 9) dX0_shortenRuns_113 (by decide) ?_
          refine am_iload_n hX dX0_shortenRuns_9 rfl rfl ?_
          refine am_aload_n hX dX0_shortenRuns_10 rfl rfl ?_
          refine am_geti hX 0 q39 (by decide) rfl dX0_shortenRuns_11 ?_
          refine am_top (b := ((n : Nat) : Int)) hn ?_
          refine am_icmp_gt hX (tgt := 116) dX0_shortenRuns_14 (by decide) (by omega) (by omega) (fun h4 => ?_) (fun h4 => ?_)
          · exact am_vret hX dX0_shortenRuns_116 (K σ2 hf2 hL2)
          · exact absurd h4 (by omega)
        · exact absurd h3 (by omega)
      · exact absurd h2 (by omega)
  | succ m ih =>
    intro k z E x σ hk hl hF hf hL
    have hn : gF σ 0 = (n : Int) := (hf.1 0 (by decide)).trans hn0
    have hrk := hrb k (by omega)
    refine am_iload_n hX dX0_shortenRuns_9 rfl rfl ?_
    refine am_aload_n hX dX0_shortenRuns_10 rfl rfl ?_
    refine am_geti hX 0 q39 (by decide) rfl dX0_shortenRuns_11 ?_
    refine am_top (b := ((n : Nat) : Int)) hn ?_
    refine am_icmp_gt hX (tgt := 116) dX0_shortenRuns_14 (by decide) (by omega) (by omega) (fun h => ?_) (fun h => ?_)
    · exact absurd h (by omega)
    · refine am_iload_n hX dX0_shortenRuns_17 rfl rfl ?_
      refine am_aload_n hX dX0_shortenRuns_18 rfl rfl ?_
      refine am_geti hX 0 q39 (by decide) rfl dX0_shortenRuns_19 ?_
      refine am_top (b := ((n : Nat) : Int)) hn ?_
      refine am_icmp_ge hX (tgt := 40) dX0_shortenRuns_22 (by decide) (by omega) (by omega) (fun h2 => ?_) (fun h2 => ?_)
      · exact absurd h2 (by omega)
      · refine am_aload_n hX dX0_shortenRuns_25 rfl rfl ?_
        refine am_geta hX 8 q47 (by decide) rfl dX0_shortenRuns_26 ?_
        refine am_iload_n hX dX0_shortenRuns_29 rfl rfl ?_
        refine am_bald hX 5 rfl (k) (by omega) (by omega) (by decide) dX0_shortenRuns_30 ?_
        refine am_top (b := ((r k : Nat) : Int)) (hA_fr hr0 hf (by decide) k (by omega)) ?_
        refine am_if_ne hX (tgt := 40) dX0_shortenRuns_31 (by decide) (by omega) (fun h3 => ?_) (fun h3 => ?_)
        · have hF2 : E ++ enc z (r k :: lst r (k + 1) m) = F := hF
          rw [enc_s z (by omega)] at hF2
          refine short_inner (σ0 := σ0) (F := E ++ run z) hX (fun x2 σ2 hf2 hL2 => ?_) z z E x σ (Nat.le_refl z) (by omega) rfl hf hL
          have hn : gF σ2 0 = (n : Int) := (hf2.1 0 (by decide)).trans hn0
          have hlen : (E ++ run z).length ≤ k := by
            rw [List.length_append]
            have := (run_len z z (Nat.le_refl z)).1
            omega
          refine am_iload_n hX dX0_shortenRuns_90 rfl rfl ?_
          refine am_aload_n hX dX0_shortenRuns_91 rfl rfl ?_
          refine am_geti hX 0 q39 (by decide) rfl dX0_shortenRuns_92 ?_
          refine am_top (b := ((n : Nat) : Int)) hn ?_
          refine am_icmp_ge hX (tgt := 110) dX0_shortenRuns_95 (by decide) (by omega) (by omega) (fun h4 => ?_) (fun h4 => ?_)
          · exact absurd h4 (by omega)
          · refine am_aload_n hX dX0_shortenRuns_98 rfl rfl ?_
            refine am_aload_n hX dX0_shortenRuns_99 rfl rfl ?_
            refine am_geta hX 8 q47 (by decide) rfl dX0_shortenRuns_100 ?_
            refine am_iload_n hX dX0_shortenRuns_103 rfl rfl ?_
            refine am_bald hX 5 rfl (k) (by omega) (by omega) (by decide) dX0_shortenRuns_104 ?_
            refine am_top (b := ((r k : Nat) : Int)) (hA_fr hr0 hf2 (by decide) k (by omega)) ?_
            refine am_iconst hX dX0_shortenRuns_105 ?_
            refine am_iadd hX dX0_shortenRuns_106 ?_
            refine am_top (b := ((r k + 1 : Nat) : Int)) (by omega) ?_
            refine am_callv hX (met_addSymbol (E ++ run z) (r k + 1)) [((r k + 1 : Nat) : Int)] (lw_V q155 q157 qs9 q29 q158) ⟨rfl, rfl⟩ (nA := 1) (by decide +kernel) ⟨by decide, by decide⟩ rfl rfl (fun _ => Nat.le_of_ble_eq_true rfl) dX0_shortenRuns_107 ⟨rfl, by omega, by omega, hL2⟩ (fun σ3 hq => ?_)
            refine am_iincv hX dX0_shortenRuns_110 rfl (by decide) (z2 := ((k + 1 : Nat) : Int)) (by omega) ?_
            refine am_goto hX (tgt := 9) dX0_shortenRuns_113 (by decide) ?_
            exact ih (k + 1) 0 (E ++ run z ++ [r k + 1]) _ _ (by omega) (by rw [List.length_append, List.length_singleton]; omega) (by rw [← hF2]; simp) (fr_trans hf2 hq.1) hq.2
        · have hF2 : E ++ enc z (r k :: lst r (k + 1) m) = F := hF
          have e0 : r k = 0 := by omega
          rw [e0, enc_0] at hF2
          refine am_iincv hX dX0_shortenRuns_34 rfl (by decide) (z2 := ((z + 1 : Nat) : Int)) (by omega) ?_
          refine am_goto hX (tgt := 110) dX0_shortenRuns_37 (by decide) ?_
          refine am_iincv hX dX0_shortenRuns_110 rfl (by decide) (z2 := ((k + 1 : Nat) : Int)) (by omega) ?_
          refine am_goto hX (tgt := 9) dX0_shortenRuns_113 (by decide) ?_
          exact ih (k + 1) (z + 1) E _ _ (by omega) (by omega) hF2 hf hL
theorem met_shortenRuns (n : Nat) (r : Nat → Nat) : aMet cdX0 yX0_shortenRuns cX0_shortenRuns 4 none (rmD 1)
    (fun as σ => as = [] ∧ gF σ 0 = (n : Int) ∧ n ≤ 32 ∧ hA σ 8 n r ∧ ∀ j, j < n → r j < 6)
    (fun _ σ r' σ' => r' = none ∧ (fr [9] [10] σ σ' ∧ SL 9 10 σ' (enc 0 (lst r 0 n)))) := by
  refine aMet.of am_cls0 (by decide) rfl (fun as σ h => by rw [h.1]; exact Nat.le_of_ble_eq_true rfl) ?_
  intro as σ X hpre hX
  obtain ⟨rfl, hn, hn32, hr, hrb⟩ := hpre
  refine am_aload_n hX dX0_shortenRuns_0 rfl rfl ?_
  refine am_iconst hX dX0_shortenRuns_1 ?_
  refine am_puti hX 9 q48 (by decide) rfl rfl rfl dX0_shortenRuns_2 ?_
  refine am_iconst hX dX0_shortenRuns_5 ?_
  refine am_top (b := ((0 : Nat) : Int)) (by omega) ?_
  refine am_istore_n hX dX0_shortenRuns_6 rfl (by decide) ?_
  refine am_iconst hX dX0_shortenRuns_7 ?_
  refine am_top (b := ((0 : Nat) : Int)) (by omega) ?_
  refine am_istore_n hX dX0_shortenRuns_8 rfl (by decide) ?_
  exact short_outer (σ0 := σ) hX hn hn32 hr hrb (fun σ2 hf hL => ⟨rfl, hf, hL⟩) n 0 0 [] _ _ (by omega) (by simp) rfl (fr_pF (fr_refl _ _ _) (by decide) _) ⟨rfl, fun j hj => absurd hj (by simp)⟩
theorem light_loop {w : Nat → Nat} {e : Int} {σ : am_S} (hX : aOK cdX0 RX0 TX0 tyX0 cX0_lightest 4 (some .int) X) (hw : hA σ 12 7 w) (hwb : ∀ j, j < 7 → w j < 1000) (he : -10 < e ∧ e < 10)
    (K : ∀ z, lightOK w e z 7 → P (some z) σ) :
    ∀ m g z, g ≤ 7 → 7 < g + m → lightOK w e z g → aW cdX0 4 (rmD 0) X P 5 [vT, vI e, vI z, vI (g : Int)] [] σ := by
  intro m
  induction m with
  | zero => intro g z h1 h2; exact absurd h2 (by omega)
  | succ m ih =>
    intro g z hg hm hz
    have hzr : -3 ≤ z ∧ z < 7 := by
      rcases hz with ⟨h, _⟩ | ⟨b, h1, h2, _⟩ <;> omega
    have keep : ((g : Int) = e ∨ w g = 0 ∨ ∃ b : Nat, z = (b : Int) ∧ w b ≤ w g) → lightOK w e z (g + 1) := by
      intro q
      rcases hz with ⟨h1, h2⟩ | ⟨b, h1, h2, h3, h4, h5⟩
      · rcases q with q | q | ⟨b, q, _⟩
        · exact Or.inl ⟨h1, fun i hi => by by_cases d : i = g; · subst d; exact Or.inl q
                                           · exact h2 i (by omega)⟩
        · exact Or.inl ⟨h1, fun i hi => by by_cases d : i = g; · subst d; exact Or.inr q
                                           · exact h2 i (by omega)⟩
        · omega
      · refine Or.inr ⟨b, by omega, h2, h3, h4, fun i hi a1 a2 => ?_⟩
        by_cases d : i = g
        · subst d
          rcases q with q | q | ⟨b', q, q2⟩
          · exact absurd q a1
          · exact absurd q a2
          · have : b' = b := by omega
            subst this
            exact q2
        · exact h5 i (by omega) a1 a2
    have take : (g : Int) ≠ e → w g ≠ 0 → (∀ b : Nat, z = (b : Int) → w g ≤ w b) → g < 7 → lightOK w e (g : Int) (g + 1) := by
      intro q1 q2 q3 q4
      refine Or.inr ⟨g, by omega, rfl, q1, q2, fun i hi a1 a2 => ?_⟩
      by_cases d : i = g
      · subst d; exact Nat.le_refl _
      · rcases hz with ⟨h1, h2⟩ | ⟨b, h1, h2, h3, h4, h5⟩
        · rcases h2 i (by omega) with x | x
          · exact absurd x a1
          · exact absurd x a2
        · exact Nat.le_trans (q3 b h2) (h5 i (by omega) a1 a2)
    refine am_iload_n hX dX0_lightest_5 rfl rfl ?_
    refine am_bipush hX dX0_lightest_6 (by decide) ?_
    refine am_icmp_ge hX (tgt := 55) dX0_lightest_8 (by decide) (by omega) (by omega) (fun h => ?_) (fun h => ?_)
    · have e7 : g = 7 := by omega
      subst e7
      refine am_iload_n hX dX0_lightest_55 rfl rfl ?_
      exact am_iret hX dX0_lightest_56 (K z hz)
    · have hwg := hwb g (by omega)
      refine am_iload_n hX dX0_lightest_11 rfl rfl ?_
      refine am_iload_n hX dX0_lightest_12 rfl rfl ?_
      refine am_icmp_eq hX (tgt := 49) dX0_lightest_13 (by decide) (by omega) (by omega) (fun h1 => ?_) (fun h1 => ?_)
      · refine am_iincv hX dX0_lightest_49 rfl (by decide) (z2 := ((g + 1 : Nat) : Int)) (by omega) ?_
        refine am_goto hX (tgt := 5) dX0_lightest_52 (by decide) ?_
        exact ih (g + 1) z (by omega) (by omega) (keep (Or.inl h1))
      · refine am_aload_n hX dX0_lightest_16 rfl rfl ?_
        refine am_geta hX 12 q51 (by decide) rfl dX0_lightest_17 ?_
        refine am_iload_n hX dX0_lightest_20 rfl rfl ?_
        refine am_iald hX 8 rfl (g) (by omega) (by omega) (by decide) dX0_lightest_21 ?_
        refine am_top (b := ((w g : Nat) : Int)) (hw g (by omega)) ?_
        refine am_if_ne hX (tgt := 28) dX0_lightest_22 (by decide) (by omega) (fun h2 => ?_) (fun h2 => ?_)
        · refine am_iload_n hX dX0_lightest_28 rfl rfl ?_
          refine am_if_lt hX (tgt := 47) dX0_lightest_29 (by decide) (by omega) (fun h3 => ?_) (fun h3 => ?_)
          · refine am_iload_n hX dX0_lightest_47 rfl rfl ?_
            refine am_istore_n hX dX0_lightest_48 rfl (by decide) ?_
            refine am_iincv hX dX0_lightest_49 rfl (by decide) (z2 := ((g + 1 : Nat) : Int)) (by omega) ?_
            refine am_goto hX (tgt := 5) dX0_lightest_52 (by decide) ?_
            exact ih (g + 1) (g : Int) (by omega) (by omega) (take h1 (by omega) (fun b hb => by omega) (by omega))
          · obtain ⟨b, hb7, hzb⟩ : ∃ b : Nat, b < 7 ∧ z = (b : Int) := ⟨z.toNat, by omega, by omega⟩
            have hwb2 := hwb b hb7
            refine am_aload_n hX dX0_lightest_32 rfl rfl ?_
            refine am_geta hX 12 q51 (by decide) rfl dX0_lightest_33 ?_
            refine am_iload_n hX dX0_lightest_36 rfl rfl ?_
            refine am_iald hX 8 rfl (g) (by omega) (by omega) (by decide) dX0_lightest_37 ?_
            refine am_top (b := ((w g : Nat) : Int)) (hw g (by omega)) ?_
            refine am_aload_n hX dX0_lightest_38 rfl rfl ?_
            refine am_geta hX 12 q51 (by decide) rfl dX0_lightest_39 ?_
            refine am_iload_n hX dX0_lightest_42 rfl rfl ?_
            refine am_iald hX 8 rfl (b) (by omega) (by omega) (by decide) dX0_lightest_43 ?_
            refine am_top (b := ((w b : Nat) : Int)) (hw b hb7) ?_
            refine am_icmp_ge hX (tgt := 49) dX0_lightest_44 (by decide) (by omega) (by omega) (fun h4 => ?_) (fun h4 => ?_)
            · refine am_iincv hX dX0_lightest_49 rfl (by decide) (z2 := ((g + 1 : Nat) : Int)) (by omega) ?_
              refine am_goto hX (tgt := 5) dX0_lightest_52 (by decide) ?_
              exact ih (g + 1) z (by omega) (by omega) (keep (Or.inr (Or.inr ⟨b, hzb, by omega⟩)))
            · refine am_iload_n hX dX0_lightest_47 rfl rfl ?_
              refine am_istore_n hX dX0_lightest_48 rfl (by decide) ?_
              refine am_iincv hX dX0_lightest_49 rfl (by decide) (z2 := ((g + 1 : Nat) : Int)) (by omega) ?_
              refine am_goto hX (tgt := 5) dX0_lightest_52 (by decide) ?_
              exact ih (g + 1) (g : Int) (by omega) (by omega) (take h1 (by omega) (fun b' hb' => by
                have : b' = b := by omega
                subst this
                omega) (by omega))
        · refine am_goto hX (tgt := 49) dX0_lightest_25 (by decide) ?_
          refine am_iincv hX dX0_lightest_49 rfl (by decide) (z2 := ((g + 1 : Nat) : Int)) (by omega) ?_
          refine am_goto hX (tgt := 5) dX0_lightest_52 (by decide) ?_
          exact ih (g + 1) z (by omega) (by omega) (keep (Or.inr (Or.inl (by omega))))
theorem met_lightest (w : Nat → Nat) (e : Int) : aMet cdX0 yX0_lightest cX0_lightest 4 (some .int) (rmD 0)
    (fun as σ => as = [e] ∧ hA σ 12 7 w ∧ (∀ j, j < 7 → w j < 1000) ∧ (-10 < e ∧ e < 10))
    (fun _ σ r' σ' => ∃ z, r' = some z ∧ (σ' = σ ∧ lightOK w e z 7)) := by
  refine aMet.of am_cls0 (by decide) rfl (fun as σ h => by rw [h.1]; exact Nat.le_of_ble_eq_true rfl) ?_
  intro as σ X hpre hX
  obtain ⟨rfl, hw, hwb, he⟩ := hpre
  refine am_bipush hX dX0_lightest_0 (by decide) ?_
  refine am_istore_n hX dX0_lightest_2 rfl (by decide) ?_
  refine am_iconst hX dX0_lightest_3 ?_
  refine am_top (b := ((0 : Nat) : Int)) (by omega) ?_
  refine am_istore_n hX dX0_lightest_4 rfl (by decide) ?_
  exact light_loop hX hw hwb he (fun z hz => ⟨z, rfl, rfl, hz⟩) 8 0 (-3) (by omega) (by omega) (Or.inl ⟨rfl, fun g hg => absurd hg (by omega)⟩)
end WC
end
section
/-! BlockCoder: codes, bits, the stream -/
set_option maxRecDepth 100000
section WD
variable {X : am_X} {P : Option Int → am_S → Prop}
def nc_ok (bt : Nat → Nat) (σ : am_S) (b s : Nat) : Prop := ∀ t, t < 7 → 1 ≤ bt t → (bt t < b ∨ (bt t = b ∧ t < s)) → gA σ 15 t = (cs bt (bt t) t : Int)
theorem nc_inner {bt : Nat → Nat} {b : Nat} {σ0 : am_S} (hX : aOK cdX0 RX0 TX0 tyX0 cX0_numberCodes 4 none X) (hbt0 : hA σ0 14 7 bt) (hbb : ∀ j, j < 7 → bt j < 8) (hb : 1 ≤ b ∧ b < 8)
    (K : ∀ σ, fr [] [15] σ0 σ → nc_ok bt σ b 7 → aW cdX0 4 (rmD 0) X P 51 [vT, vI (cs bt b 7 : Int), vI (b : Int), vI ((7 : Nat) : Int)] [] σ) :
    ∀ m s σ, s + m = 7 → fr [] [15] σ0 σ → nc_ok bt σ b s → aW cdX0 4 (rmD 0) X P 16 [vT, vI (cs bt b s : Int), vI (b : Int), vI (s : Int)] [] σ := by
  intro m
  induction m with
  | zero =>
    intro s σ hs hf hc
    have e : s = 7 := by omega
    subst e
    refine am_iload_n hX dX0_numberCodes_16 rfl rfl ?_
    refine am_bipush hX dX0_numberCodes_17 (by decide) ?_
    refine am_icmp_ge hX (tgt := 51) dX0_numberCodes_19 (by decide) (by omega) (by omega) (fun h => ?_) (fun h => ?_)
    · exact K σ hf hc
    · exact absurd h (by omega)
  | succ m ih =>
    intro s σ hs hf hc
    have hbs := hbb s (by omega)
    have hst := cs_step bt hb.1 (show s < 7 by omega)
    refine am_iload_n hX dX0_numberCodes_16 rfl rfl ?_
    refine am_bipush hX dX0_numberCodes_17 (by decide) ?_
    refine am_icmp_ge hX (tgt := 51) dX0_numberCodes_19 (by decide) (by omega) (by omega) (fun h => ?_) (fun h => ?_)
    · exact absurd h (by omega)
    · refine am_aload_n hX dX0_numberCodes_22 rfl rfl ?_
      refine am_geta hX 14 q53 (by decide) rfl dX0_numberCodes_23 ?_
      refine am_iload_n hX dX0_numberCodes_26 rfl rfl ?_
      refine am_bald hX 10 rfl (s) (by omega) (by omega) (by decide) dX0_numberCodes_27 ?_
      refine am_top (b := ((bt s : Nat) : Int)) (hA_fr hbt0 hf (by decide) s (by omega)) ?_
      refine am_iload_n hX dX0_numberCodes_28 rfl rfl ?_
      refine am_icmp_eq hX (tgt := 35) dX0_numberCodes_29 (by decide) (by omega) (by omega) (fun h2 => ?_) (fun h2 => ?_)
      · rw [if_pos (by omega)] at hst
        refine am_aload_n hX dX0_numberCodes_35 rfl rfl ?_
        refine am_geta hX 15 q54 (by decide) rfl dX0_numberCodes_36 ?_
        refine am_iload_n hX dX0_numberCodes_39 rfl rfl ?_
        refine am_iload_n hX dX0_numberCodes_40 rfl rfl ?_
        refine am_iast hX 11 rfl (s) (by omega) (by omega) (by decide) dX0_numberCodes_41 ?_
        refine am_iincv hX dX0_numberCodes_42 rfl (by decide) (z2 := ((cs bt b (s + 1) : Nat) : Int)) (by omega) ?_
        refine am_iincv hX dX0_numberCodes_45 rfl (by decide) (z2 := ((s + 1 : Nat) : Int)) (by omega) ?_
        refine am_goto hX (tgt := 16) dX0_numberCodes_48 (by decide) ?_
        refine ih (s + 1) _ (by omega) (fr_wA hf (by decide) _) (fun t ht h1 h3 => ?_)
        rw [gA_wA, if_pos rfl]
        by_cases e : t = s
        · subst e; rw [up_s, show bt t = b by omega]
        · rw [up_n _ _ e]; exact hc t ht h1 (by omega)
      · rw [if_neg (by omega)] at hst
        refine am_goto hX (tgt := 45) dX0_numberCodes_32 (by decide) ?_
        refine am_iincv hX dX0_numberCodes_45 rfl (by decide) (z2 := ((s + 1 : Nat) : Int)) (by omega) ?_
        refine am_goto hX (tgt := 16) dX0_numberCodes_48 (by decide) ?_
        refine am_loc [vT, vI (cs bt b (s + 1) : Int), vI (b : Int), vI ((s + 1 : Nat) : Int)] (by rw [hst]; rfl) ?_
        refine ih (s + 1) _ (by omega) hf (fun t ht h1 h3 => ?_)
        by_cases e : t = s
        · subst e; exact hc t ht h1 (by omega)
        · exact hc t ht h1 (by omega)
theorem nc_outer {bt : Nat → Nat} {σ0 : am_S} (hX : aOK cdX0 RX0 TX0 tyX0 cX0_numberCodes 4 none X) (hbt0 : hA σ0 14 7 bt) (hbb : ∀ j, j < 7 → bt j < 8)
    (K : ∀ σ, fr [] [15] σ0 σ → nc_ok bt σ 7 7 → P none σ) :
    ∀ m b x σ, b ≤ 7 → 7 < b + m → fr [] [15] σ0 σ → nc_ok bt σ b 7 → aW cdX0 4 (rmD 0) X P 4 [vT, vI (cs bt b 7 : Int), vI ((b + 1 : Nat) : Int), x] [] σ := by
  intro m
  induction m with
  | zero => intro b x σ h1 h2; exact absurd h2 (by omega)
  | succ m ih =>
    intro b x σ hb hm hf hc
    refine am_iload_n hX dX0_numberCodes_4 rfl rfl ?_
    refine am_bipush hX dX0_numberCodes_5 (by decide) ?_
    refine am_icmp_ge hX (tgt := 57) dX0_numberCodes_7 (by decide) (by omega) (by omega) (fun h => ?_) (fun h => ?_)
    · have e : b = 7 := by omega
      subst e
      exact am_vret hX dX0_numberCodes_57 (K σ hf hc)
    · have hnx := cs_next bt b
      refine am_iload_n hX dX0_numberCodes_10 rfl rfl ?_
      refine am_iconst hX dX0_numberCodes_11 ?_
      refine am_imul hX dX0_numberCodes_12 ?_
      refine am_top (b := ((cs bt (b + 1) 0 : Nat) : Int)) (by omega) ?_
      refine am_istore_n hX dX0_numberCodes_13 rfl (by decide) ?_
      refine am_iconst hX dX0_numberCodes_14 ?_
      refine am_top (b := ((0 : Nat) : Int)) (by omega) ?_
      refine am_istore_n hX dX0_numberCodes_15 rfl (by decide) ?_
      refine nc_inner (σ0 := σ0) (b := b + 1) hX hbt0 hbb (by omega) (fun σ1 hf1 hc1 => ?_) 7 0 σ (by omega) hf (fun t ht h1 h3 => hc t ht h1 (by omega))
      refine am_iincv hX dX0_numberCodes_51 rfl (by decide) (z2 := ((b + 1 + 1 : Nat) : Int)) (by omega) ?_
      refine am_goto hX (tgt := 4) dX0_numberCodes_54 (by decide) ?_
      exact ih (b + 1) _ _ (by omega) (by omega) hf1 hc1
theorem met_numberCodes (bt : Nat → Nat) : aMet cdX0 yX0_numberCodes cX0_numberCodes 4 none (rmD 0)
    (fun as σ => as = [] ∧ hA σ 14 7 bt ∧ ∀ j, j < 7 → bt j < 8)
    (fun _ σ r' σ' => r' = none ∧ (fr [] [15] σ σ' ∧ ∀ s, s < 7 → 1 ≤ bt s → gA σ' 15 s = (cs bt (bt s) s : Int))) := by
  refine aMet.of am_cls0 (by decide) rfl (fun as σ h => by rw [h.1]; exact Nat.le_of_ble_eq_true rfl) ?_
  intro as σ X hpre hX
  obtain ⟨rfl, hbt, hbb⟩ := hpre
  refine am_iconst hX dX0_numberCodes_0 ?_
  refine am_top (b := ((cs bt 0 7 : Nat) : Int)) (by rw [cs_first]; rfl) ?_
  refine am_istore_n hX dX0_numberCodes_1 rfl (by decide) ?_
  refine am_iconst hX dX0_numberCodes_2 ?_
  refine am_top (b := ((0 + 1 : Nat) : Int)) (by omega) ?_
  refine am_istore_n hX dX0_numberCodes_3 rfl (by decide) ?_
  exact nc_outer (σ0 := σ) hX hbt hbb (fun σ1 hf hc => ⟨rfl, hf, fun s hs h1 => hc s hs h1 (by have := hbb s hs; omega)⟩) 8 0 _ σ (by omega) (by omega) (fr_refl _ _ _) (fun t ht h1 h3 => absurd h3 (by omega))
theorem wb_zero {σ0 : am_S} (hX : aOK cdX0 RX0 TX0 tyX0 cX0_writeBits 4 none X)
    (K : ∀ x1 σ, fr [16] [17] σ0 σ → gF σ 16 = 0 → (∀ w, w < 4 → gJ σ w = 0) → aW cdX0 4 (rmD 0) X P 25 [vT, x1, vN, vN] [] σ) :
    ∀ m w σ, w ≤ 4 → 4 < w + m → fr [16] [17] σ0 σ → gF σ 16 = 0 → (∀ j, j < w → gJ σ j = 0) → aW cdX0 4 (rmD 0) X P 7 [vT, vI (w : Int), vN, vN] [] σ := by
  intro m
  induction m with
  | zero => intro w σ h1 h2; exact absurd h2 (by omega)
  | succ m ih =>
    intro w σ hw hm hf h16 hz
    refine am_iload_n hX dX0_writeBits_7 rfl rfl ?_
    refine am_iconst hX dX0_writeBits_8 ?_
    refine am_icmp_ge hX (tgt := 25) dX0_writeBits_9 (by decide) (by omega) (by omega) (fun h => ?_) (fun h => ?_)
    · exact K _ σ hf h16 (fun j hj => hz j (by omega))
    · refine am_aload_n hX dX0_writeBits_12 rfl rfl ?_
      refine am_geta hX 17 q56 (by decide) rfl dX0_writeBits_13 ?_
      refine am_iload_n hX dX0_writeBits_16 rfl rfl ?_
      refine am_lconst hX dX0_writeBits_17 ?_
      refine am_last hX 12 rfl (w) (by omega) (by omega) (by decide) dX0_writeBits_18 ?_
      refine am_iincv hX dX0_writeBits_19 rfl (by decide) (z2 := ((w + 1 : Nat) : Int)) (by omega) ?_
      refine am_goto hX (tgt := 7) dX0_writeBits_22 (by decide) ?_
      refine ih (w + 1) _ (by omega) (by omega) (fr_wJ hf (by decide) _) h16 (fun j hj => ?_)
      rw [gJ_wJ]
      by_cases e : j = w
      · subst e; rw [up_s]; rfl
      · rw [up_n _ _ e]; exact hz j (by omega)
theorem wb_inner {cv bt : Nat → Nat} {L : List Nat} {k s : Nat} {σ0 : am_S} {T : List Bool} (hX : aOK cdX0 RX0 TX0 tyX0 cX0_writeBits 4 none X) (hs : s < 7) (hcv : gA σ0 15 s = (cv s : Int)) (hcb : cv s < 2 ^ 20) (hbs : bt s ≤ 6) (hT : T.length ≤ 200)
    (K : ∀ x σ, fr [16] [17] σ0 σ → gF σ 16 = (T.length : Int) → ST (gJ σ) T → aW cdX0 4 (rmD 0) X P 108 [vT, vI (k : Int), vI (s : Int), x] [] σ) :
    ∀ r E σ, r ≤ 6 → E ++ sb (cv s) r = T → fr [16] [17] σ0 σ → gF σ 16 = (E.length : Int) → ST (gJ σ) E → aW cdX0 4 (rmD 0) X P 51 [vT, vI (k : Int), vI (s : Int), vI ((r : Int) - 1)] [] σ := by
  intro r
  induction r with
  | zero =>
    intro E σ hr he hf hE hS
    have e : E = T := by rw [← he]; exact (List.append_nil E).symm
    subst e
    refine am_iload_n hX dX0_writeBits_51 rfl rfl ?_
    refine am_if_lt hX (tgt := 108) dX0_writeBits_52 (by decide) (by omega) (fun h => ?_) (fun h => ?_)
    · exact K _ σ hf hE hS
    · exact absurd h (by omega)
  | succ r ih =>
    intro E σ hr he hf hE hS
    have he2 : E ++ (cv s).testBit r :: sb (cv s) r = T := he
    have hl : E.length < 200 := by
      have := congrArg List.length he2
      rw [List.length_append, List.length_cons] at this
      omega
    have hc : gA σ 15 s = (cv s : Int) := (hf.2.1 15 (by decide) s).trans hcv
    have htb : (cv s).testBit r = decide (cv s / 2 ^ r % 2 = 1) := Nat.testBit_eq_decide_div_mod_eq
    have hdv : cv s / 2 ^ r ≤ cv s := Nat.div_le_self _ _
    refine am_iload_n hX dX0_writeBits_51 rfl rfl ?_
    refine am_if_lt hX (tgt := 108) dX0_writeBits_52 (by decide) (by omega) (fun h => ?_) (fun h => ?_)
    · exact absurd h (by omega)
    · refine am_aload_n hX dX0_writeBits_55 rfl rfl ?_
      refine am_geta hX 15 q54 (by decide) rfl dX0_writeBits_56 ?_
      refine am_iload_n hX dX0_writeBits_59 rfl rfl ?_
      refine am_iald hX 11 rfl (s) (by omega) (by omega) (by decide) dX0_writeBits_60 ?_
      refine am_top (b := ((cv s : Nat) : Int)) hc ?_
      refine am_iload_n hX dX0_writeBits_61 rfl rfl ?_
      refine am_ishr hX (x := cv s) (k := r) dX0_writeBits_62 (by omega) (by omega) (by omega) (by omega) ?_
      refine am_iconst hX dX0_writeBits_63 ?_
      refine am_iand hX (x := cv s / 2 ^ r) 1 dX0_writeBits_64 (by omega) (by omega) (by decide) ?_
      refine am_if_eq hX (tgt := 92) dX0_writeBits_65 (by decide) (by omega) (fun h2 => ?_) (fun h2 => ?_)
      · rw [show (cv s).testBit r = false by rw [htb, decide_eq_false]; omega] at he2
        refine am_aload_n hX dX0_writeBits_92 rfl rfl ?_
        refine am_dup hX dX0_writeBits_93 (fun _ => rfl) ?_
        refine am_geti hX 16 q55 (by decide) rfl dX0_writeBits_94 ?_
        refine am_top (b := ((E.length : Nat) : Int)) hE ?_
        refine am_iconst hX dX0_writeBits_97 ?_
        refine am_iadd hX dX0_writeBits_98 ?_
        refine am_top (b := ((E.length + 1 : Nat) : Int)) (by omega) ?_
        refine am_puti hX 16 q55 (by decide) rfl rfl rfl dX0_writeBits_99 ?_
        refine am_iincv hX dX0_writeBits_102 rfl (by decide) (z2 := ((r : Int) - 1)) (by omega) ?_
        refine am_goto hX (tgt := 51) dX0_writeBits_105 (by decide) ?_
        exact ih (E ++ [false]) _ (by omega) (by rw [← he2]; simp) (fr_pF hf (by decide) _) (by rw [gF_pF, if_pos rfl, List.length_append]; rfl) (ST_false hS)
      · rw [show (cv s).testBit r = true by rw [htb, decide_eq_true]; omega] at he2
        have h1 := hS.1 (E.length / 64) (by omega)
        have h3 : 1 * 2 ^ (E.length % 2 ^ 6) < 2 ^ 64 := by rw [Nat.one_mul]; exact Nat.pow_lt_pow_right (by decide) (by omega)
        refine am_aload_n hX dX0_writeBits_68 rfl rfl ?_
        refine am_geta hX 17 q56 (by decide) rfl dX0_writeBits_69 ?_
        refine am_aload_n hX dX0_writeBits_72 rfl rfl ?_
        refine am_geti hX 16 q55 (by decide) rfl dX0_writeBits_73 ?_
        refine am_top (b := ((E.length : Nat) : Int)) hE ?_
        refine am_bipush hX dX0_writeBits_76 (by decide) ?_
        refine am_ishr hX (x := E.length) (k := 6) dX0_writeBits_78 (by omega) (by omega) (by omega) (by omega) ?_
        refine am_dup2 hX dX0_writeBits_79 (fun _ => rfl) (fun _ => rfl) ?_
        refine am_lald hX 12 rfl (E.length / 64) (by omega) (by omega) (by decide) dX0_writeBits_80 ?_
        refine am_lconst hX dX0_writeBits_81 ?_
        refine am_aload_n hX dX0_writeBits_82 rfl rfl ?_
        refine am_geti hX 16 q55 (by decide) rfl dX0_writeBits_83 ?_
        refine am_top (b := ((E.length : Nat) : Int)) hE ?_
        refine am_bipush hX dX0_writeBits_86 (by decide) ?_
        refine am_iand hX (x := E.length) 6 dX0_writeBits_88 (by omega) (by omega) (by decide) ?_
        refine am_lshl hX (k := E.length % 2 ^ 6) dX0_writeBits_89 (by omega) (by omega) ?_
        refine am_lor hX dX0_writeBits_90 h1 h3 ?_
        refine am_last hX 12 rfl (E.length / 64) (by omega) (by omega) (by decide) dX0_writeBits_91 ?_
        refine am_aload_n hX dX0_writeBits_92 rfl rfl ?_
        refine am_dup hX dX0_writeBits_93 (fun _ => rfl) ?_
        refine am_geti hX 16 q55 (by decide) rfl dX0_writeBits_94 ?_
        refine am_top (b := ((E.length : Nat) : Int)) hE ?_
        refine am_iconst hX dX0_writeBits_97 ?_
        refine am_iadd hX dX0_writeBits_98 ?_
        refine am_top (b := ((E.length + 1 : Nat) : Int)) (by omega) ?_
        refine am_puti hX 16 q55 (by decide) rfl rfl rfl dX0_writeBits_99 ?_
        refine am_iincv hX dX0_writeBits_102 rfl (by decide) (z2 := ((r : Int) - 1)) (by omega) ?_
        refine am_goto hX (tgt := 51) dX0_writeBits_105 (by decide) ?_
        refine ih (E ++ [true]) _ (by omega) (by rw [← he2]; simp) (fr_pF (fr_wJ hf (by decide) _) (by decide) _) (by rw [gF_pF, if_pos rfl, List.length_append]; rfl) ?_
        have := ST_true hS (by omega)
        rw [← Nat.one_mul (2 ^ (E.length % 64))] at this
        exact this
theorem wb_outer {cv bt : Nat → Nat} {L : List Nat} {σ0 : am_S} (hX : aOK cdX0 RX0 TX0 tyX0 cX0_writeBits 4 none X) (hL0 : SL 9 10 σ0 L) (hlen : L.length ≤ 32) (hbt0 : hA σ0 14 7 bt) (hmem : ∀ j, j < L.length → L.getD j 0 < 7 ∧ bt (L.getD j 0) ≤ 6 ∧ cv (L.getD j 0) < 2 ^ 20 ∧ gA σ0 15 (L.getD j 0) = (cv (L.getD j 0) : Int)) (hB : (bitsL cv bt L).length ≤ 200)
    (K : ∀ σ, fr [16] [17] σ0 σ → gF σ 16 = ((bitsL cv bt L).length : Int) → ST (gJ σ) (bitsL cv bt L) → P none σ) :
    ∀ m k x2 x3 σ, k ≤ L.length → L.length < k + m → fr [16] [17] σ0 σ → gF σ 16 = ((bitsL cv bt (L.take k)).length : Int) → ST (gJ σ) (bitsL cv bt (L.take k)) → aW cdX0 4 (rmD 0) X P 27 [vT, vI (k : Int), x2, x3] [] σ := by
  intro m
  induction m with
  | zero => intro k x2 x3 σ h1 h2; exact absurd h2 (by omega)
  | succ m ih =>
    intro k x2 x3 σ hk hm hf hE hS
    have hL : SL 9 10 σ L := SL_fr hL0 hf (by decide) (by decide)
    refine am_iload_n hX dX0_writeBits_27 rfl rfl ?_
    refine am_aload_n hX dX0_writeBits_28 rfl rfl ?_
    refine am_geti hX 9 q48 (by decide) rfl dX0_writeBits_29 ?_
    refine am_top (b := ((L.length : Nat) : Int)) hL.1 ?_
    refine am_icmp_ge hX (tgt := 114) dX0_writeBits_32 (by decide) (by omega) (by omega) (fun h => ?_) (fun h => ?_)
    · have e : L.take k = L := List.take_of_length_le (by omega)
      rw [e] at hE hS
      exact am_vret hX dX0_writeBits_114 (K σ hf hE hS)
    · obtain ⟨m1, m2, m3, m4⟩ := hmem k (by omega)
      have hbs : gA σ 14 (L.getD k 0) = (bt (L.getD k 0) : Int) := hA_fr hbt0 hf (by decide) _ m1
      have htk := bitsL_take cv bt L (show k < L.length by omega)
      have hpl := bitsL_pre cv bt L (k + 1)
      refine am_aload_n hX dX0_writeBits_35 rfl rfl ?_
      refine am_geta hX 10 q49 (by decide) rfl dX0_writeBits_36 ?_
      refine am_iload_n hX dX0_writeBits_39 rfl rfl ?_
      refine am_bald hX 6 rfl (k) (by omega) (by omega) (by decide) dX0_writeBits_40 ?_
      refine am_top (b := ((L.getD k 0 : Nat) : Int)) (hL.2 k (by omega)) ?_
      refine am_istore_n hX dX0_writeBits_41 rfl (by decide) ?_
      refine am_aload_n hX dX0_writeBits_42 rfl rfl ?_
      refine am_geta hX 14 q53 (by decide) rfl dX0_writeBits_43 ?_
      refine am_iload_n hX dX0_writeBits_46 rfl rfl ?_
      refine am_bald hX 10 rfl (L.getD k 0) (by omega) (by omega) (by decide) dX0_writeBits_47 ?_
      refine am_top (b := ((bt (L.getD k 0) : Nat) : Int)) hbs ?_
      refine am_iconst hX dX0_writeBits_48 ?_
      refine am_isub hX dX0_writeBits_49 ?_
      refine am_istore_n hX dX0_writeBits_50 rfl (by decide) ?_
      refine wb_inner (σ0 := σ0) (bt := bt) (L := L) (cv := cv) (T := bitsL cv bt (L.take (k + 1))) hX m1 m4 m3 m2 (by omega) (fun x σ1 hf1 hE1 hS1 => ?_) (bt (L.getD k 0)) (bitsL cv bt (L.take k)) σ m2 htk.symm hf hE hS
      refine am_iincv hX dX0_writeBits_108 rfl (by decide) (z2 := ((k + 1 : Nat) : Int)) (by omega) ?_
      refine am_goto hX (tgt := 27) dX0_writeBits_111 (by decide) ?_
      exact ih (k + 1) _ _ _ (by omega) (by omega) hf1 hE1 hS1
theorem met_writeBits (cv bt : Nat → Nat) (L : List Nat) : aMet cdX0 yX0_writeBits cX0_writeBits 4 none (rmD 0)
    (fun as σ => as = [] ∧ SL 9 10 σ L ∧ L.length ≤ 32 ∧ hA σ 14 7 bt ∧ (∀ j, j < L.length → L.getD j 0 < 7 ∧ bt (L.getD j 0) ≤ 6 ∧ cv (L.getD j 0) < 2 ^ 20 ∧ gA σ 15 (L.getD j 0) = (cv (L.getD j 0) : Int)) ∧ (bitsL cv bt L).length ≤ 200)
    (fun _ σ r' σ' => r' = none ∧ (fr [16] [17] σ σ' ∧ gF σ' 16 = ((bitsL cv bt L).length : Int) ∧ ST (gJ σ') (bitsL cv bt L))) := by
  refine aMet.of am_cls0 (by decide) rfl (fun as σ h => by rw [h.1]; exact Nat.le_of_ble_eq_true rfl) ?_
  intro as σ X hpre hX
  obtain ⟨rfl, hL, hlen, hbt, hmem, hB⟩ := hpre
  refine am_aload_n hX dX0_writeBits_0 rfl rfl ?_
  refine am_iconst hX dX0_writeBits_1 ?_
  refine am_puti hX 16 q55 (by decide) rfl rfl rfl dX0_writeBits_2 ?_
  refine am_iconst hX dX0_writeBits_5 ?_
  refine am_top (b := ((0 : Nat) : Int)) (by omega) ?_
  refine am_istore_n hX dX0_writeBits_6 rfl (by decide) ?_
  refine wb_zero (σ0 := σ) hX (fun x1 σ1 hf h16 hz => ?_) 5 0 _ (by omega) (by omega) (fr_pF (fr_refl _ _ _) (by decide) _) rfl (fun j hj => absurd hj (by omega))
  refine am_iconst hX dX0_writeBits_25 ?_
  refine am_top (b := ((0 : Nat) : Int)) (by omega) ?_
  refine am_istore_n hX dX0_writeBits_26 rfl (by decide) ?_
  exact wb_outer (σ0 := σ) hX hL hlen hbt hmem hB (fun σ2 a b c => ⟨rfl, a, b, c⟩) 33 0 _ _ σ1 (by omega) (by omega) hf h16 (ST_zero hz)
end WD
end
section
/-! BlockCoder: findBits -/
set_option maxRecDepth 100000
theorem pow7 : ∀ s, s < 7 → 2 ^ s < 128 := by decide
section WE
variable {X : am_X} {P : Option Int → am_S → Prop}
theorem fb_init {σ0 : am_S} (hX : aOK cdX0 RX0 TX0 tyX0 cX0_findBits 4 none X)
    (K : ∀ x σ, fr [] [12, 13, 14, 15] σ0 σ → hA σ 12 7 (fun _ => 0) → hA σ 13 7 (fun j => 2 ^ j) → hA σ 14 7 (fun _ => 0) → aW cdX0 4 (rmD 1) X P 37 [vT, x, vN, vN] [] σ) :
    ∀ m s σ, s ≤ 7 → 7 < s + m → fr [] [12, 13, 14, 15] σ0 σ → hA σ 12 s (fun _ => 0) → hA σ 13 s (fun j => 2 ^ j) → hA σ 14 s (fun _ => 0) → aW cdX0 4 (rmD 1) X P 2 [vT, vI (s : Int), vN, vN] [] σ := by
  intro m
  induction m with
  | zero => intro s σ h1 h2; exact absurd h2 (by omega)
  | succ m ih =>
    intro s σ hs hm hf h12 h13 h14
    refine am_iload_n hX dX0_findBits_2 rfl rfl ?_
    refine am_bipush hX dX0_findBits_3 (by decide) ?_
    refine am_icmp_ge hX (tgt := 37) dX0_findBits_5 (by decide) (by omega) (by omega) (fun h => ?_) (fun h => ?_)
    · exact K _ σ hf (hA_le h12 (by omega)) (hA_le h13 (by omega)) (hA_le h14 (by omega))
    · have hp := pow7 s (by omega)
      refine am_aload_n hX dX0_findBits_8 rfl rfl ?_
      refine am_geta hX 12 q51 (by decide) rfl dX0_findBits_9 ?_
      refine am_iload_n hX dX0_findBits_12 rfl rfl ?_
      refine am_iconst hX dX0_findBits_13 ?_
      refine am_iast hX 8 rfl (s) (by omega) (by omega) (by decide) dX0_findBits_14 ?_
      refine am_aload_n hX dX0_findBits_15 rfl rfl ?_
      refine am_geta hX 13 q52 (by decide) rfl dX0_findBits_16 ?_
      refine am_iload_n hX dX0_findBits_19 rfl rfl ?_
      refine am_iconst hX dX0_findBits_20 ?_
      refine am_iload_n hX dX0_findBits_21 rfl rfl ?_
      refine am_ishl hX (x := 1) (k := s) dX0_findBits_22 rfl (by omega) (by omega) (by rw [Nat.one_mul]; omega) ?_
      refine am_iast hX 9 rfl (s) (by omega) (by omega) (by decide) dX0_findBits_23 ?_
      refine am_aload_n hX dX0_findBits_24 rfl rfl ?_
      refine am_geta hX 14 q53 (by decide) rfl dX0_findBits_25 ?_
      refine am_iload_n hX dX0_findBits_28 rfl rfl ?_
      refine am_iconst hX dX0_findBits_29 ?_
      refine am_bast hX 10 rfl (s) (by omega) (by omega) (by decide) (by omega) dX0_findBits_30 ?_
      refine am_iincv hX dX0_findBits_31 rfl (by decide) (z2 := ((s + 1 : Nat) : Int)) (by omega) ?_
      refine am_goto hX (tgt := 2) dX0_findBits_34 (by decide) ?_
      exact ih (s + 1) _ (by omega) (by omega) (fr_wA (fr_wA (fr_wA hf (by decide) _) (by decide) _) (by decide) _) (hA_wA (hA_wA (hA_push h12 rfl) (by decide) _) (by decide) _) (hA_wA (hA_push (hA_wA h13 (by decide) _) (by rw [Nat.one_mul])) (by decide) _) (hA_push (hA_wA (hA_wA h14 (by decide) _) (by decide) _) rfl)
theorem fb_count {L : List Nat} {σ0 : am_S} (hX : aOK cdX0 RX0 TX0 tyX0 cX0_findBits 4 none X) (hL0 : SL 9 10 σ0 L) (hlen : L.length ≤ 32) (hmem : ∀ j, j < L.length → L.getD j 0 < 7)
    (K : ∀ x σ, fr [] [12, 13, 14, 15] σ0 σ → hA σ 12 7 (cn L) → hA σ 13 7 (fun j => 2 ^ j) → hA σ 14 7 (fun _ => 0) → aW cdX0 4 (rmD 1) X P 68 [vT, x, vN, vN] [] σ) :
    ∀ m k σ, k ≤ L.length → L.length < k + m → fr [] [12, 13, 14, 15] σ0 σ → hA σ 12 7 (cn (L.take k)) → hA σ 13 7 (fun j => 2 ^ j) → hA σ 14 7 (fun _ => 0) → aW cdX0 4 (rmD 1) X P 39 [vT, vI (k : Int), vN, vN] [] σ := by
  intro m
  induction m with
  | zero => intro k σ h1 h2; exact absurd h2 (by omega)
  | succ m ih =>
    intro k σ hk hm hf h12 h13 h14
    have hL : SL 9 10 σ L := SL_fr hL0 hf (by decide) (by decide)
    refine am_iload_n hX dX0_findBits_39 rfl rfl ?_
    refine am_aload_n hX dX0_findBits_40 rfl rfl ?_
    refine am_geti hX 9 q48 (by decide) rfl dX0_findBits_41 ?_
    refine am_top (b := ((L.length : Nat) : Int)) hL.1 ?_
    refine am_icmp_ge hX (tgt := 68) dX0_findBits_44 (by decide) (by omega) (by omega) (fun h => ?_) (fun h => ?_)
    · rw [show L.take k = L from List.take_of_length_le (by omega)] at h12
      exact K _ σ hf h12 h13 h14
    · have ha := hmem k (by omega)
      have hct := cn_take L (show k < L.length by omega)
      refine am_aload_n hX dX0_findBits_47 rfl rfl ?_
      refine am_geta hX 12 q51 (by decide) rfl dX0_findBits_48 ?_
      refine am_aload_n hX dX0_findBits_51 rfl rfl ?_
      refine am_geta hX 10 q49 (by decide) rfl dX0_findBits_52 ?_
      refine am_iload_n hX dX0_findBits_55 rfl rfl ?_
      refine am_bald hX 6 rfl (k) (by omega) (by omega) (by decide) dX0_findBits_56 ?_
      refine am_top (b := ((L.getD k 0 : Nat) : Int)) (hL.2 k (by omega)) ?_
      refine am_dup2 hX dX0_findBits_57 (fun _ => rfl) (fun _ => rfl) ?_
      refine am_iald hX 8 rfl (L.getD k 0) (by omega) (by omega) (by decide) dX0_findBits_58 ?_
      refine am_top (b := ((cn (L.take k) (L.getD k 0) : Nat) : Int)) (h12 _ ha) ?_
      refine am_iconst hX dX0_findBits_59 ?_
      refine am_iadd hX dX0_findBits_60 ?_
      refine am_top (b := ((cn (L.take (k + 1)) (L.getD k 0) : Nat) : Int)) (by rw [hct, if_pos rfl]; rfl) ?_
      refine am_iast hX 8 rfl (L.getD k 0) (by omega) (by omega) (by decide) dX0_findBits_61 ?_
      refine am_iincv hX dX0_findBits_62 rfl (by decide) (z2 := ((k + 1 : Nat) : Int)) (by omega) ?_
      refine am_goto hX (tgt := 39) dX0_findBits_65 (by decide) ?_
      exact ih (k + 1) _ (by omega) (by omega) (fr_wA hf (by decide) _) (hA_up h12 rfl (fun j _ hj => by rw [hct, if_neg (fun e => hj e.symm)]; rfl)) (hA_wA h13 (by decide) _) (hA_wA h14 (by decide) _)
theorem fb_bits {M bt : Nat → Nat} {a b : Nat} {σ0 : am_S} (hX : aOK cdX0 RX0 TX0 tyX0 cX0_findBits 4 none X) (hb : b < 7) (hM : hA σ0 13 7 M) (hMb : M b < 128) (hbb : ∀ j, j < 7 → bt j ≤ 6)
    (K : ∀ x σ, fr [] [14] σ0 σ → hA σ 14 7 (fun s => if mb M b s = true then bt s + 1 else bt s) → aW cdX0 4 (rmD 1) X P 179 [vT, vI (a : Int), vI (b : Int), x] [] σ) :
    ∀ m s σ, s ≤ 7 → 7 < s + m → fr [] [14] σ0 σ → hA σ 14 7 (fun j => if j < s ∧ mb M b j = true then bt j + 1 else bt j) → aW cdX0 4 (rmD 1) X P 143 [vT, vI (a : Int), vI (b : Int), vI (s : Int)] [] σ := by
  intro m
  induction m with
  | zero => intro s σ h1 h2; exact absurd h2 (by omega)
  | succ m ih =>
    intro s σ hs hm hf h14
    refine am_iload_n hX dX0_findBits_143 rfl rfl ?_
    refine am_bipush hX dX0_findBits_144 (by decide) ?_
    refine am_icmp_ge hX (tgt := 179) dX0_findBits_146 (by decide) (by omega) (by omega) (fun h => ?_) (fun h => ?_)
    · refine K _ σ hf (hA_congr h14 (fun j hj => ?_))
      by_cases e : mb M b j = true
      · rw [if_pos ⟨by omega, e⟩, if_pos e]
      · rw [if_neg (fun q => e q.2), if_neg e]
    · have hdv : M b / 2 ^ s ≤ M b := Nat.div_le_self _ _
      have htb : mb M b s = decide (M b / 2 ^ s % 2 = 1) := Nat.testBit_eq_decide_div_mod_eq
      have hMσ : gA σ 13 b = (M b : Int) := (hf.2.1 13 (by decide) b).trans (hM b hb)
      have hbs := hbb s (by omega)
      have hcur : gA σ 14 s = (bt s : Int) := by
        rw [h14 s (by omega)]
        dsimp only
        rw [if_neg (by omega)]
      refine am_aload_n hX dX0_findBits_149 rfl rfl ?_
      refine am_geta hX 13 q52 (by decide) rfl dX0_findBits_150 ?_
      refine am_iload_n hX dX0_findBits_153 rfl rfl ?_
      refine am_iald hX 9 rfl (b) (by omega) (by omega) (by decide) dX0_findBits_154 ?_
      refine am_top (b := ((M b : Nat) : Int)) hMσ ?_
      refine am_iload_n hX dX0_findBits_155 rfl rfl ?_
      refine am_ishr hX (x := M b) (k := s) dX0_findBits_156 (by omega) (by omega) (by omega) (by omega) ?_
      refine am_iconst hX dX0_findBits_157 ?_
      refine am_iand hX (x := M b / 2 ^ s) 1 dX0_findBits_158 (by omega) (by omega) (by decide) ?_
      refine am_if_eq hX (tgt := 173) dX0_findBits_159 (by decide) (by omega) (fun h2 => ?_) (fun h2 => ?_)
      · have e0 : mb M b s = false := by rw [htb, decide_eq_false]; omega
        refine am_iincv hX dX0_findBits_173 rfl (by decide) (z2 := ((s + 1 : Nat) : Int)) (by omega) ?_
        refine am_goto hX (tgt := 143) dX0_findBits_176 (by decide) ?_
        refine ih (s + 1) _ (by omega) (by omega) hf (hA_congr h14 (fun j hj => ?_))
        by_cases e : j = s
        · subst e; rw [if_neg (by omega), if_neg (by rw [e0]; simp)]
        · by_cases q : j < s ∧ mb M b j = true
          · rw [if_pos q, if_pos ⟨by omega, q.2⟩]
          · rw [if_neg q, if_neg (fun z => q ⟨by omega, z.2⟩)]
      · have e0 : mb M b s = true := by rw [htb, decide_eq_true]; omega
        refine am_aload_n hX dX0_findBits_162 rfl rfl ?_
        refine am_geta hX 14 q53 (by decide) rfl dX0_findBits_163 ?_
        refine am_iload_n hX dX0_findBits_166 rfl rfl ?_
        refine am_dup2 hX dX0_findBits_167 (fun _ => rfl) (fun _ => rfl) ?_
        refine am_bald hX 10 rfl (s) (by omega) (by omega) (by decide) dX0_findBits_168 ?_
        refine am_top (b := ((bt s : Nat) : Int)) hcur ?_
        refine am_iconst hX dX0_findBits_169 ?_
        refine am_iadd hX dX0_findBits_170 ?_
        refine am_top (b := ((bt s + 1 : Nat) : Int)) (by omega) ?_
        refine am_i2b hX dX0_findBits_171 (by omega) ?_
        refine am_bast hX 10 rfl (s) (by omega) (by omega) (by decide) (by omega) dX0_findBits_172 ?_
        refine am_iincv hX dX0_findBits_173 rfl (by decide) (z2 := ((s + 1 : Nat) : Int)) (by omega) ?_
        refine am_goto hX (tgt := 143) dX0_findBits_176 (by decide) ?_
        refine ih (s + 1) _ (by omega) (by omega) (fr_wA hf (by decide) _) (hA_up h14 ?_ (fun j hj hne => ?_))
        · rw [if_pos ⟨by omega, e0⟩]
        · by_cases q : j < s ∧ mb M b j = true
          · rw [if_pos q, if_pos ⟨by omega, q.2⟩]
          · rw [if_neg q, if_neg (fun z => q ⟨by omega, z.2⟩)]
def live (w : Nat → Nat) : Nat := sm (fun g => if 0 < w g then 1 else 0) 7
theorem live_merge {w w' : Nat → Nat} {a b : Nat} (hab : a ≠ b) (ha : a < 7) (hb : b < 7) (wa : 0 < w a) (wb : 0 < w b) (hw' : ∀ g, g < 7 → w' g = up (up w b (w b + w a)) a 0 g) : live w' < live w := by
  have e : live w' = sm (up (fun g => if 0 < w g then 1 else 0) a 0) 7 := by
    apply sm_congr
    intro g hg
    rw [hw' g hg]
    by_cases e1 : g = a
    · subst e1; rw [up_s, up_s]; rfl
    · rw [up_n _ _ e1, up_n _ _ e1]
      by_cases e2 : g = b
      · subst e2; rw [up_s, if_pos (by omega), if_pos wb]
      · rw [up_n _ _ e2]
  have := sm_up (fun g => if 0 < w g then 1 else 0) (k := a) 0 ha
  rw [if_pos wa] at this
  unfold live at e ⊢
  omega
theorem fb_loop {cnt : Nat → Nat} {σ0 : am_S} (hX : aOK cdX0 RX0 TX0 tyX0 cX0_findBits 4 none X) (hcnt : ∀ s, s < 7 → cnt s ≤ 32) (h2 : ∃ s t, s < 7 ∧ t < 7 ∧ s ≠ t ∧ 0 < cnt s ∧ 0 < cnt t)
    (K : ∀ x1 x2 x3 bt σ, fr [] [12, 13, 14, 15] σ0 σ → hA σ 14 7 bt → HB cnt bt → aW cdX0 4 (rmD 1) X P 195 [vT, x1, x2, x3] [] σ) :
    ∀ m w M bt z1 z2 x σ, live w ≤ m → HI cnt w M bt → lightOK w (-3) z1 7 → lightOK w z1 z2 7 → fr [] [12, 13, 14, 15] σ0 σ → hA σ 12 7 w → hA σ 13 7 M → hA σ 14 7 bt → aW cdX0 4 (rmD 1) X P 96 [vT, vI z1, vI z2, x] [] σ := by
  intro m
  induction m with
  | zero =>
    intro w M bt z1 z2 x σ hm hI
    exfalso
    obtain ⟨s, t, hs, _, _, c, _⟩ := h2
    obtain ⟨g, hg, wg, _⟩ := hI.2.1 s hs c
    have := sm_one (f := fun g => if 0 < w g then 1 else 0) hg
    rw [if_pos wg] at this
    unfold live at hm
    omega
  | succ m ih =>
    intro w M bt z1 z2 x σ hm hI hz1 hz2 hf h12 h13 h14
    obtain ⟨a, ha, ez1, -, wa0, hmin⟩ : ∃ a : Nat, a < 7 ∧ z1 = (a : Int) ∧ (a : Int) ≠ -3 ∧ w a ≠ 0 ∧ ∀ g : Nat, g < 7 → (g : Int) ≠ -3 → w g ≠ 0 → w a ≤ w g := by
      rcases hz1 with ⟨_, q⟩ | q
      · exfalso
        obtain ⟨s, t, hs, _, _, c, _⟩ := h2
        obtain ⟨g, hg, wg, _⟩ := hI.2.1 s hs c
        rcases q g hg with q | q <;> omega
      · exact q
    subst ez1
    have hzr : -3 ≤ z2 ∧ z2 < 7 := by rcases hz2 with ⟨q, _⟩ | ⟨b, q1, q2, _⟩ <;> omega
    refine am_iload_n hX dX0_findBits_96 rfl rfl ?_
    refine am_if_lt hX (tgt := 195) dX0_findBits_97 (by decide) (by omega) (fun c1 => ?_) (fun c1 => ?_)
    · exact absurd c1 (by omega)
    · refine am_iload_n hX dX0_findBits_100 rfl rfl ?_
      refine am_if_lt hX (tgt := 195) dX0_findBits_101 (by decide) (by omega) (fun c2 => ?_) (fun c2 => ?_)
      · refine K _ _ _ bt σ hf h14 (HB_end hI (fun g k hg hk wg wk => ?_) h2)
        have only : ∀ g, g < 7 → 0 < w g → g = a := by
          intro g hg wg
          rcases hz2 with ⟨_, q⟩ | ⟨b, _, q2, _⟩
          · rcases q g hg with q | q <;> omega
          · omega
        rw [only g hg wg, only k hk wk]
      · obtain ⟨b, hb, ez2, hba, wb0, hmin2⟩ : ∃ b : Nat, b < 7 ∧ z2 = (b : Int) ∧ (b : Int) ≠ (a : Int) ∧ w b ≠ 0 ∧ ∀ g : Nat, g < 7 → (g : Int) ≠ (a : Int) → w g ≠ 0 → w b ≤ w g := by
          rcases hz2 with ⟨q, _⟩ | q
          · exact absurd c2 (by omega)
          · exact q
        subst ez2
        have hab : a ≠ b := by omega
        have hM7 := hI.2.2.2.2.2.2.1
        have hMb := hM7 b hb
        have hMa := hM7 a ha
        have hwl := HI_w hI hcnt
        have hw' : ∀ g, g < 7 → up (up w b (w b + w a)) a 0 g = up (up w b (w b + w a)) a 0 g := fun _ _ => rfl
        have hlv := live_merge hab ha hb (by omega) (by omega) hw'
        have hI' := HI_step hI hab ha hb (by omega) (by omega) (fun g hg wg => hmin g hg (by omega) (by omega)) (fun g hg hne wg => hmin2 g hg (by omega) (by omega)) (w' := up (up w b (w b + w a)) a 0) (M' := up M b (M b ||| M a)) (bt' := fun s => if mb (up M b (M b ||| M a)) b s = true then bt s + 1 else bt s) hw' (fun _ _ => rfl) (fun _ _ => rfl)
        have hwl' := HI_w hI' hcnt
        refine am_aload_n hX dX0_findBits_104 rfl rfl ?_
        refine am_geta hX 13 q52 (by decide) rfl dX0_findBits_105 ?_
        refine am_iload_n hX dX0_findBits_108 rfl rfl ?_
        refine am_dup2 hX dX0_findBits_109 (fun _ => rfl) (fun _ => rfl) ?_
        refine am_iald hX 9 rfl (b) (by omega) (by omega) (by decide) dX0_findBits_110 ?_
        refine am_top (b := ((M b : Nat) : Int)) (h13 b hb) ?_
        refine am_aload_n hX dX0_findBits_111 rfl rfl ?_
        refine am_geta hX 13 q52 (by decide) rfl dX0_findBits_112 ?_
        refine am_iload_n hX dX0_findBits_115 rfl rfl ?_
        refine am_iald hX 9 rfl (a) (by omega) (by omega) (by decide) dX0_findBits_116 ?_
        refine am_top (b := ((M a : Nat) : Int)) (h13 a ha) ?_
        refine am_ior hX (x := M b) (y := M a) dX0_findBits_117 (by omega) (by omega) ?_
        refine am_iast hX 9 rfl (b) (by omega) (by omega) (by decide) dX0_findBits_118 ?_
        refine am_aload_n hX dX0_findBits_119 rfl rfl ?_
        refine am_geta hX 12 q51 (by decide) rfl dX0_findBits_120 ?_
        refine am_iload_n hX dX0_findBits_123 rfl rfl ?_
        refine am_dup2 hX dX0_findBits_124 (fun _ => rfl) (fun _ => rfl) ?_
        refine am_iald hX 8 rfl (b) (by omega) (by omega) (by decide) dX0_findBits_125 ?_
        refine am_top (b := ((w b : Nat) : Int)) (h12 b hb) ?_
        refine am_aload_n hX dX0_findBits_126 rfl rfl ?_
        refine am_geta hX 12 q51 (by decide) rfl dX0_findBits_127 ?_
        refine am_iload_n hX dX0_findBits_130 rfl rfl ?_
        refine am_iald hX 8 rfl (a) (by omega) (by omega) (by decide) dX0_findBits_131 ?_
        refine am_top (b := ((w a : Nat) : Int)) (h12 a ha) ?_
        refine am_iadd hX dX0_findBits_132 ?_
        refine am_top (b := ((w b + w a : Nat) : Int)) (by omega) ?_
        refine am_iast hX 8 rfl (b) (by omega) (by omega) (by decide) dX0_findBits_133 ?_
        refine am_aload_n hX dX0_findBits_134 rfl rfl ?_
        refine am_geta hX 12 q51 (by decide) rfl dX0_findBits_135 ?_
        refine am_iload_n hX dX0_findBits_138 rfl rfl ?_
        refine am_iconst hX dX0_findBits_139 ?_
        refine am_iast hX 8 rfl (a) (by omega) (by omega) (by decide) dX0_findBits_140 ?_
        refine am_iconst hX dX0_findBits_141 ?_
        refine am_top (b := ((0 : Nat) : Int)) (by omega) ?_
        refine am_istore_n hX dX0_findBits_142 rfl (by decide) ?_
        have k13 : hA (wA σ 13 (up (gA σ 13) b ((M b ||| M a : Nat) : Int))) 13 7 (up M b (M b ||| M a)) := hA_up h13 (by rw [up_s]) (fun j _ hj => up_n _ _ hj)
        have k12 : hA (wA σ 13 (up (gA σ 13) b ((M b ||| M a : Nat) : Int))) 12 7 w := hA_wA h12 (by decide) _
        have k12b := hA_up k12 (g := up w b (w b + w a)) (i := b) (z := ((w b + w a : Nat) : Int)) (by rw [up_s]) (fun j _ hj => up_n _ _ hj)
        have k12c := hA_up k12b (g := up (up w b (w b + w a)) a 0) (i := a) (z := 0) (by rw [up_s]; rfl) (fun j _ hj => up_n _ _ hj)
        refine fb_bits (σ0 := _) (M := up M b (M b ||| M a)) (bt := bt) hX hb (hA_wA (hA_wA k13 (by decide) _) (by decide) _) (hI'.2.2.2.2.2.2.1 b hb) (HI_bt hI) (fun x3 σ1 hf1 h141 => ?_) 8 0 _ (by omega) (by omega) (fr_refl _ _ _) (hA_congr (hA_wA (hA_wA (hA_wA h14 (by decide) _) (by decide) _) (by decide) _) (fun j _ => by rw [if_neg (by omega)]))
        have h121 : hA σ1 12 7 (up (up w b (w b + w a)) a 0) := hA_fr k12c hf1 (by decide)
        have h131 : hA σ1 13 7 (up M b (M b ||| M a)) := hA_fr (hA_wA (hA_wA k13 (by decide) _) (by decide) _) hf1 (by decide)
        have hf2 : fr [] [12, 13, 14, 15] σ0 σ1 := fr_trans (fr_wA (fr_wA (fr_wA hf (by decide) _) (by decide) _) (by decide) _) (fr_mono hf1 (by decide) (by decide))
        refine am_aload_n hX dX0_findBits_179 rfl rfl ?_
        refine am_bipush hX dX0_findBits_180 (by decide) ?_
        refine am_calli hX (met_lightest (up (up w b (w b + w a)) a 0) (-3)) [-3] (lw_V q163 q165 qs11 q29 q166) ⟨rfl, rfl⟩ (nA := 1) (by decide +kernel) ⟨by decide, by decide⟩ rfl rfl (fun _ => Nat.le_of_ble_eq_true rfl) dX0_findBits_182 ⟨rfl, h121, fun j hj => by have := hwl' j hj; omega, by omega⟩ (fun y1 σ2 hy1 => ?_)
        obtain ⟨rfl, hy1⟩ := hy1
        have hyr : -3 ≤ y1 ∧ y1 < 7 := by rcases hy1 with ⟨q, _⟩ | ⟨b, q1, q2, _⟩ <;> omega
        refine am_istore_n hX dX0_findBits_185 rfl (by decide) ?_
        refine am_aload_n hX dX0_findBits_186 rfl rfl ?_
        refine am_iload_n hX dX0_findBits_187 rfl rfl ?_
        refine am_calli hX (met_lightest (up (up w b (w b + w a)) a 0) y1) [y1] (lw_V q163 q165 qs11 q29 q166) ⟨rfl, rfl⟩ (nA := 1) (by decide +kernel) ⟨by decide, by decide⟩ rfl rfl (fun _ => Nat.le_of_ble_eq_true rfl) dX0_findBits_188 ⟨rfl, h121, fun j hj => by have := hwl' j hj; omega, by omega⟩ (fun y2 σ3 hy2 => ?_)
        obtain ⟨rfl, hy2⟩ := hy2
        refine am_istore_n hX dX0_findBits_191 rfl (by decide) ?_
        refine am_goto hX (tgt := 96) dX0_findBits_192 (by decide) ?_
        exact ih _ _ _ y1 y2 _ _ (by omega) hI' hy1 hy2 hf2 h121 h131 h141
theorem met_findBits (L : List Nat) : aMet cdX0 yX0_findBits cX0_findBits 4 none (rmD 1)
    (fun as σ => as = [] ∧ SL 9 10 σ L ∧ L.length ≤ 32 ∧ ∀ j, j < L.length → L.getD j 0 < 7)
    (fun _ σ r' σ' => r' = none ∧ (fr [] [12, 13, 14, 15] σ σ' ∧ ∃ bt, hA σ' 14 7 bt ∧ HB (cn L) bt ∧ ∀ s, s < 7 → 1 ≤ bt s → gA σ' 15 s = (cs bt (bt s) s : Int))) := by
  refine aMet.of am_cls0 (by decide) rfl (fun as σ h => by rw [h.1]; exact Nat.le_of_ble_eq_true rfl) ?_
  intro as σ X hpre hX
  obtain ⟨rfl, hL, hlen, hmem⟩ := hpre
  have hcnt : ∀ s, s < 7 → cn L s ≤ 32 := fun s _ => Nat.le_trans (cn_len L s) hlen
  have fin : ∀ x1 x2 x3 bt σ1, fr [] [12, 13, 14, 15] σ σ1 → hA σ1 14 7 bt → HB (cn L) bt → aW cdX0 4 (rmD 1) X (fun r' σ' => r' = none ∧ (fr [] [12, 13, 14, 15] σ σ' ∧ ∃ bt, hA σ' 14 7 bt ∧ HB (cn L) bt ∧ ∀ s, s < 7 → 1 ≤ bt s → gA σ' 15 s = (cs bt (bt s) s : Int))) 195 [vT, x1, x2, x3] [] σ1 := by
    intro x1 x2 x3 bt σ1 hf h14 hB
    refine am_aload_n hX dX0_findBits_195 rfl rfl ?_
    refine am_callv hX (met_numberCodes bt) [] (lw_V q167 q169 qs12 q29 q170) ⟨rfl, rfl⟩ (nA := 0) (by decide +kernel) ⟨by decide, by decide⟩ rfl rfl (fun _ => Nat.le_of_ble_eq_true rfl) dX0_findBits_196 ⟨rfl, h14, fun j hj => by rcases Nat.eq_zero_or_pos (cn L j) with q | q; · { have := hB.1 j hj q; omega }; · { have := hB.2.1 j hj q; omega }⟩ (fun σ2 hq => ?_)
    exact am_vret hX dX0_findBits_199 ⟨rfl, fr_trans hf (fr_mono hq.1 (by decide) (by decide)), bt, hA_fr h14 hq.1 (by decide), hB, hq.2⟩
  refine am_iconst hX dX0_findBits_0 ?_
  refine am_top (b := ((0 : Nat) : Int)) (by omega) ?_
  refine am_istore_n hX dX0_findBits_1 rfl (by decide) ?_
  refine fb_init (σ0 := σ) hX (fun x σ1 hf1 a12 a13 a14 => ?_) 8 0 σ (by omega) (by omega) (fr_refl _ _ _) (fun j hj => absurd hj (by omega)) (fun j hj => absurd hj (by omega)) (fun j hj => absurd hj (by omega))
  refine am_iconst hX dX0_findBits_37 ?_
  refine am_top (b := ((0 : Nat) : Int)) (by omega) ?_
  refine am_istore_n hX dX0_findBits_38 rfl (by decide) ?_
  refine fb_count (σ0 := σ) hX hL hlen hmem (fun x σ2 hf2 h12 h13 h14 => ?_) 33 0 σ1 (by omega) (by omega) hf1 a12 a13 a14
  refine am_aload_n hX dX0_findBits_68 rfl rfl ?_
  refine am_bipush hX dX0_findBits_69 (by decide) ?_
  refine am_calli hX (met_lightest (cn L) (-3)) [-3] (lw_V q163 q165 qs11 q29 q166) ⟨rfl, rfl⟩ (nA := 1) (by decide +kernel) ⟨by decide, by decide⟩ rfl rfl (fun _ => Nat.le_of_ble_eq_true rfl) dX0_findBits_71 ⟨rfl, h12, fun j hj => by have := hcnt j hj; omega, by omega⟩ (fun z1 σ3 hz1 => ?_)
  obtain ⟨rfl, hz1⟩ := hz1
  have hzr1 : -3 ≤ z1 ∧ z1 < 7 := by rcases hz1 with ⟨q, _⟩ | ⟨b, q1, q2, _⟩ <;> omega
  refine am_istore_n hX dX0_findBits_74 rfl (by decide) ?_
  refine am_aload_n hX dX0_findBits_75 rfl rfl ?_
  refine am_iload_n hX dX0_findBits_76 rfl rfl ?_
  refine am_calli hX (met_lightest (cn L) z1) [z1] (lw_V q163 q165 qs11 q29 q166) ⟨rfl, rfl⟩ (nA := 1) (by decide +kernel) ⟨by decide, by decide⟩ rfl rfl (fun _ => Nat.le_of_ble_eq_true rfl) dX0_findBits_77 ⟨rfl, h12, fun j hj => by have := hcnt j hj; omega, by omega⟩ (fun z2 σ4 hz2 => ?_)
  obtain ⟨rfl, hz2⟩ := hz2
  have hzr2 : -3 ≤ z2 ∧ z2 < 7 := by rcases hz2 with ⟨q, _⟩ | ⟨b, q1, q2, _⟩ <;> omega
  refine am_istore_n hX dX0_findBits_80 rfl (by decide) ?_
  refine am_iload_n hX dX0_findBits_81 rfl rfl ?_
  refine am_if_lt hX (tgt := 96) dX0_findBits_82 (by decide) (by omega) (fun c1 => ?_) (fun c1 => ?_)
  · refine am_iload_n hX dX0_findBits_96 rfl rfl ?_
    refine am_if_lt hX (tgt := 195) dX0_findBits_97 (by decide) (by omega) (fun c2 => ?_) (fun c2 => ?_)
    · refine fin _ _ _ _ _ hf2 h14 (HB_none (fun s hs => ?_) (fun _ _ => rfl))
      rcases hz1 with ⟨_, q⟩ | ⟨b, _, q, _⟩
      · rcases q s hs with q | q <;> omega
      · omega
    · exact absurd c1 c2
  · obtain ⟨a, ha, ez1, -, wa0, hmin⟩ : ∃ a : Nat, a < 7 ∧ z1 = (a : Int) ∧ (a : Int) ≠ -3 ∧ cn L a ≠ 0 ∧ ∀ g : Nat, g < 7 → (g : Int) ≠ -3 → cn L g ≠ 0 → cn L a ≤ cn L g := by
      rcases hz1 with ⟨q, _⟩ | q
      · exact absurd q (by omega)
      · exact q
    subst ez1
    refine am_iload_n hX dX0_findBits_85 rfl rfl ?_
    refine am_if_ge hX (tgt := 96) dX0_findBits_86 (by decide) (by omega) (fun c2 => ?_) (fun c2 => ?_)
    · refine fb_loop (σ0 := σ) (cnt := cn L) hX hcnt ?_ (fun x1 x2 x3 bt σ5 q1 q2 q3 => fin x1 x2 x3 bt σ5 q1 q2 q3) (live (cn L)) (cn L) (fun j => 2 ^ j) (fun _ => 0) (a : Int) z2 _ _ (Nat.le_refl _) (HI_start (fun _ _ => rfl) (fun _ _ => rfl)) hz1 hz2 hf2 h12 h13 h14
      rcases hz2 with ⟨q, _⟩ | ⟨b, q1, q2, q3, q4, _⟩
      · omega
      · exact ⟨a, b, ha, q1, by omega, by omega, by omega⟩
    · refine am_aload_n hX dX0_findBits_89 rfl rfl ?_
      refine am_geta hX 14 q53 (by decide) rfl dX0_findBits_90 ?_
      refine am_iload_n hX dX0_findBits_93 rfl rfl ?_
      refine am_iconst hX dX0_findBits_94 ?_
      refine am_bast hX 10 rfl (a) (by omega) (by omega) (by decide) (by omega) dX0_findBits_95 ?_
      refine am_iload_n hX dX0_findBits_96 rfl rfl ?_
      refine am_if_lt hX (tgt := 195) dX0_findBits_97 (by decide) (by omega) (fun c3 => ?_) (fun c3 => ?_)
      · exact absurd c3 (by omega)
      · refine am_iload_n hX dX0_findBits_100 rfl rfl ?_
        refine am_if_lt hX (tgt := 195) dX0_findBits_101 (by decide) (by omega) (fun c4 => ?_) (fun c4 => ?_)
        · refine fin _ _ _ (fun s => if s = a then 1 else 0) _ (fr_wA hf2 (by decide) _) (hA_up h14 (by rw [if_pos rfl]; rfl) (fun j _ hj => by rw [if_neg hj])) (HB_one ha (by omega) (fun s hs hne => ?_) (fun _ _ => rfl))
          rcases hz2 with ⟨_, q⟩ | ⟨b, _, q, _⟩
          · rcases q s hs with q | q <;> omega
          · omega
        · exact absurd c4 (by omega)
end WE
end
section
/-! PURE: what the coder answers, as functions of the text -/
theorem sm_one_at {n k : Nat} (f : Nat → Nat) (hk : k < n) (h0 : ∀ j, j < n → j ≠ k → f j = 0) : sm f n = f k := by
  have h1 := sm_up f (k := k) 0 hk
  have h2 : sm (up f k 0) n = 0 := sm_zero (fun j hj => by
    by_cases e : j = k
    · subst e; rw [up_s]
    · rw [up_n _ _ e]; exact h0 j hj e)
  omega
def oF (n : Nat) (t : Nat → Nat) (k : Nat) : Nat := sm (fun p => if place n t p = k then p else 0) n
theorem oF_place {n : Nat} {t : Nat → Nat} (hn : n ≤ 32) {p k : Nat} (hp : p < n) (h : place n t p = k) : oF n t k = p := by
  unfold oF
  rw [sm_one_at _ hp (fun j hj hne => if_neg (fun e => hne (place_inj hn hj hp (e.trans h.symm)))), if_pos h]
theorem ins_spot {key o : Nat → Nat} {i : Nat} (hinj : ∀ j, j < i → key (o j) ≠ key (o i)) : ∀ a, a ≤ i → (∀ j, a ≤ j → j < i → key (o i) < key (o j)) → ∃ b, b ≤ i ∧ (∀ j, b ≤ j → j < i → key (o i) < key (o j)) ∧ (b = 0 ∨ key (o (b - 1)) < key (o i)) := by
  intro a
  induction a with
  | zero => intro h1 h2; exact ⟨0, h1, h2, Or.inl rfl⟩
  | succ a ih =>
    intro h1 h2
    by_cases h : key (o a) < key (o i)
    · exact ⟨a + 1, h1, h2, Or.inr h⟩
    · refine ih (by omega) (fun j h3 h4 => ?_)
      by_cases e : j = a
      · subst e; have := hinj j h4; omega
      · exact h2 j (by omega) h4
theorem ex_sorted {key : Nat → Nat} {n : Nat} (hinj : ∀ p q, p < n → q < n → key p = key q → p = q) : ∀ i, i ≤ n → ∃ o, Pm o n ∧ Srt key o i := by
  intro i
  induction i with
  | zero => intro _; exact ⟨fun j => j, Pm_id n, fun a b h1 h2 => absurd h2 (by omega)⟩
  | succ i ih =>
    intro hi
    obtain ⟨o, hP, hS⟩ := ih (by omega)
    have hlt := Pm_lt hP
    obtain ⟨b, h1, h2, h3⟩ := ins_spot (key := key) (o := o) (i := i) (fun j hj e => by
      have := Pm_inj hP j i (by omega) (by omega) (hinj _ _ (hlt j (by omega)) (hlt i (by omega)) e)
      omega) i (Nat.le_refl i) (fun j h1 h2 => absurd h2 (by omega))
    exact ⟨ins o i b, Pm_ins hP (by omega) (i - b) b (by omega), ins_srt hS h1 h2 h3⟩
theorem oF_eq {n : Nat} {t o : Nat → Nat} (hn : n ≤ 32) (hP : Pm o n) (hs : Srt (keyR n t 64) o n) {k : Nat} (hk : k < n) : oF n t k = o k := oF_place hn (Pm_lt hP k hk) (place_at hP hs hk)
theorem oF_ok {n : Nat} (t : Nat → Nat) (hn : n ≤ 32) : Pm (oF n t) n ∧ Srt (keyR n t 64) (oF n t) n := by
  obtain ⟨o, hP, hs⟩ := ex_sorted (key := keyR n t 64) (n := n) (fun p q hp hq e => keyR_inj (by omega) (by omega) e) n (Nat.le_refl n)
  have he : ∀ k, k < n → oF n t k = o k := fun k hk => oF_eq hn hP hs hk
  refine ⟨Pm_congr hP he, fun a b h1 h2 => ?_⟩
  rw [he a (by omega), he b h2]
  exact hs a b h1 h2
theorem place_oF {n : Nat} {t : Nat → Nat} (hn : n ≤ 32) {k : Nat} (hk : k < n) : place n t (oF n t k) = k := place_at (oF_ok t hn).1 (oF_ok t hn).2 hk
def colF (n : Nat) (t : Nat → Nat) (k : Nat) : Nat := prv n t (oF n t k)
theorem prv_lt {n : Nat} {t : Nat → Nat} (ht : ∀ j, j < n → t j < 6) {p : Nat} (hp : p < n) : prv n t p < 6 := ht _ (by split <;> omega)
theorem colF_lt {n : Nat} {t : Nat → Nat} (hn : n ≤ 32) (ht : ∀ j, j < n → t j < 6) {k : Nat} (hk : k < n) : colF n t k < 6 := prv_lt ht (Pm_lt (oF_ok t hn).1 k hk)
def rkF (n : Nat) (t : Nat → Nat) : Nat → Nat := rkC (colF n t)
def symF (n : Nat) (t : Nat → Nat) : List Nat := enc 0 (lst (rkF n t) 0 n)
theorem symF_len (n : Nat) (t : Nat → Nat) : (symF n t).length ≤ n := by
  have h := enc_len (lst (rkF n t) 0 n) 0
  rw [lst_len] at h
  unfold symF
  omega
theorem symF_lt (n : Nat) (t : Nat → Nat) : ∀ s, s ∈ symF n t → s < 7 := enc_mem _ 0 (fun r hr => by
  obtain ⟨j, _, _, rfl⟩ := lst_mem _ _ _ _ hr
  exact rkC_lt _ _)
theorem getD_mem {L : List Nat} {j : Nat} (h : j < L.length) : L.getD j 0 ∈ L := by
  have e : L.getD j 0 = L[j] := by rw [List.getD_eq_getElem?_getD, List.getElem?_eq_getElem h]; rfl
  rw [e]
  exact List.getElem_mem h
theorem lst_getD (r : Nat → Nat) : ∀ m k j, j < m → (lst r k m).getD j 0 = r (k + j) := by
  intro m
  induction m with
  | zero => intro k j h; exact absurd h (by omega)
  | succ m ih =>
    intro k j h
    cases j with
    | zero => rfl
    | succ j =>
      show (lst r (k + 1) m).getD j 0 = _
      rw [ih (k + 1) j (by omega), show k + 1 + j = k + (j + 1) by omega]
/-! codes -/
def cvF (bt : Nat → Nat) (s : Nat) : Nat := cs bt (bt s) s
theorem cvF_lt {cnt bt : Nat → Nat} (h : HB cnt bt) {s : Nat} (hs : s < 7) : cvF bt s < 2 ^ (bt s) := by
  unfold cvF
  rcases Nat.eq_zero_or_pos (bt s) with q | q
  · rw [q, cs_first]; decide
  · exact cs_fit h hs q
theorem HB_le {cnt bt : Nat → Nat} (h : HB cnt bt) {s : Nat} (hs : s < 7) : bt s ≤ 6 := by
  rcases Nat.eq_zero_or_pos (cnt s) with q | q
  · have := h.1 s hs q; omega
  · exact (h.2.1 s hs q).2
theorem cvF_64 {cnt bt : Nat → Nat} (h : HB cnt bt) {s : Nat} (hs : s < 7) : cvF bt s < 64 := by
  have h1 := cvF_lt h hs
  have h2 : 2 ^ (bt s) ≤ 2 ^ 6 := Nat.pow_le_pow_right (by decide) (HB_le h hs)
  have h3 : (2 : Nat) ^ 6 = 64 := rfl
  omega
/-- the least cost -/
def LF (cnt l : Nat → Nat) : Prop := (∀ s, s < 7 → 0 < cnt s → 1 ≤ l s) ∧ Fe cnt l
def MinC (cnt : Nat → Nat) (v : Nat) : Prop := (∃ l, LF cnt l ∧ Cost cnt l = v) ∧ ∀ l, LF cnt l → v ≤ Cost cnt l
theorem MinC_uniq {cnt : Nat → Nat} {u v : Nat} (hu : MinC cnt u) (hv : MinC cnt v) : u = v := by
  obtain ⟨⟨l, l1, l2⟩, hl⟩ := hu
  obtain ⟨⟨k, k1, k2⟩, hk⟩ := hv
  have a := hl k k1
  have b := hk l l1
  omega
theorem MinC_HB {cnt bt : Nat → Nat} (h : HB cnt bt) : MinC cnt (Cost cnt bt) := ⟨⟨bt, ⟨fun s hs c => (h.2.1 s hs c).1, fun s hs _ => HB_le h hs, h.2.2.1⟩, rfl⟩, fun l hl => h.2.2.2 l hl.1 hl.2⟩
theorem bits_cost (cv bt : Nat → Nat) (L : List Nat) (hL : ∀ s, s ∈ L → s < 7) : (bitsL cv bt L).length = Cost (cn L) bt := by
  rw [bitsL_len, cn_sum bt L hL]
  rfl
/-! the object's invariant -/
def CDb (L : List Nat) (σ : am_S) : Prop := ∃ bt, hA σ 14 7 bt ∧ HB (cn L) bt ∧ (∀ s, s < 7 → 1 ≤ bt s → gA σ 15 s = (cvF bt s : Int)) ∧ gF σ 16 = ((bitsL (cvF bt) bt L).length : Int) ∧ ST (gJ σ) (bitsL (cvF bt) bt L)
def CD (n : Nat) (t : Nat → Nat) (σ : am_S) : Prop := gF σ 6 = (place n t 0 : Int) ∧ hA σ 7 n (colF n t) ∧ hA σ 8 n (rkF n t) ∧ SL 9 10 σ (symF n t) ∧ CDb (symF n t) σ
def I0 (n : Nat) (t : Nat → Nat) (σ : am_S) : Prop := gF σ 0 = (n : Int) ∧ n ≤ 32 ∧ hA σ 1 n t ∧ (∀ j, j < n → t j < 6) ∧ (gF σ 5 = 0 ∨ (gF σ 5 = 1 ∧ CD n t σ))
def I1 (n : Nat) (t : Nat → Nat) (σ : am_S) : Prop := gF σ 0 = (n : Int) ∧ n ≤ 32 ∧ hA σ 1 n t ∧ (∀ j, j < n → t j < 6) ∧ gF σ 5 = 1 ∧ CD n t σ
theorem I1.I0 {n : Nat} {t : Nat → Nat} {σ : am_S} (h : I1 n t σ) : I0 n t σ := ⟨h.1, h.2.1, h.2.2.1, h.2.2.2.1, Or.inr h.2.2.2.2⟩
theorem ST_congr {g g' : Nat → Nat} {E : List Bool} (h : ST g E) (e : ∀ j, g' j = g j) : ST g' E := by
  have : g' = g := funext e
  rw [this]
  exact h
theorem I1.fr {n : Nat} {t : Nat → Nat} {σ σ' : am_S} (h : I1 n t σ) (g : fr [] [4, 11, 18, 19] σ σ') : I1 n t σ' := by
  obtain ⟨h0, h1, h2, h3, h5, h6, h7, h8, h9, bt, b1, b2, b3, b4, b5⟩ := h
  exact ⟨(g.1 0 (by decide)).trans h0, h1, hA_fr h2 g (by decide), h3, (g.1 5 (by decide)).trans h5, (g.1 6 (by decide)).trans h6, hA_fr h7 g (by decide), hA_fr h8 g (by decide), SL_fr h9 g (by decide) (by decide), bt, hA_fr b1 g (by decide), b2, fun s hs q => (g.2.1 15 (by decide) s).trans (b3 s hs q), (g.1 16 (by decide)).trans b4, ST_congr b5 (g.2.2 (by decide))⟩
/-- an answer of an index -/
def gt (n : Nat) (f : Nat → Nat) (z : Int) : Int := if 0 ≤ z ∧ z < (n : Int) then (f z.toNat : Int) else -3
theorem gt_in {n : Nat} {f : Nat → Nat} {k : Nat} (h : k < n) : gt n f (k : Int) = (f k : Int) := by
  unfold gt
  rw [if_pos (by omega), Int.toNat_natCast]
theorem gt_out {n : Nat} {f : Nat → Nat} {z : Int} (h : ¬ (0 ≤ z ∧ z < (n : Int))) : gt n f z = -3 := if_neg h
end
section
/-! BlockCoder: sorting the rotations -/
set_option maxRecDepth 100000
def pw (e : Nat) : Nat := 2 ^ e
theorem pw6 : ∀ e, e < 6 → pw e < 64 ∧ 1 ≤ pw e ∧ pw e + pw e = pw (e + 1) := by decide
def dcl (v o : Nat → Nat) : Nat → Nat
  | 0 => 0
  | j + 1 => dcl v o j + if v (o j) = v (o (j + 1)) then 0 else 1
def dcp (v o : Nat → Nat) : Nat → Nat
  | 0 => 0
  | j + 1 => dcl v o j
theorem dcl_le (v o : Nat → Nat) : ∀ j, dcl v o j ≤ j := by
  intro j
  induction j with
  | zero => exact Nat.le_refl 0
  | succ j ih => show dcl v o j + (if v (o j) = v (o (j + 1)) then 0 else 1) ≤ j + 1; split <;> omega
theorem Srt_le {key o : Nat → Nat} {i j : Nat} (h : Srt key o i) (hj : j ≤ i) : Srt key o j := fun a b h1 h2 => h a b h1 (by omega)
section WF
variable {X : am_X} {P : Option Int → am_S → Prop}
theorem so_init {n : Nat} {t : Nat → Nat} {σ0 : am_S} (hX : aOK cdX0 RX0 TX0 tyX0 cX0_sortRotations 4 none X) (hn0 : gF σ0 0 = (n : Int)) (hn32 : n ≤ 32) (ht0 : hA σ0 1 n t) (htb : ∀ j, j < n → t j < 6)
    (K : ∀ x σ, fr [] [2, 3, 4] σ0 σ → hA σ 2 n (fun j => j) → hA σ 3 n t → aW cdX0 4 (rmD 3) X P 36 [vT, x, vN, vN] [] σ) :
    ∀ m p σ, p ≤ n → n < p + m → fr [] [2, 3, 4] σ0 σ → hA σ 2 p (fun j => j) → hA σ 3 p t → aW cdX0 4 (rmD 3) X P 2 [vT, vI (p : Int), vN, vN] [] σ := by
  intro m
  induction m with
  | zero => intro p σ h1 h2; exact absurd h2 (by omega)
  | succ m ih =>
    intro p σ hp hm hf h2 h3
    have hn : gF σ 0 = (n : Int) := (hf.1 0 (by decide)).trans hn0
    refine am_iload_n hX dX0_sortRotations_2 rfl rfl ?_
    refine am_aload_n hX dX0_sortRotations_3 rfl rfl ?_
    refine am_geti hX 0 q39 (by decide) rfl dX0_sortRotations_4 ?_
    refine am_top (b := ((n : Nat) : Int)) hn ?_
    refine am_icmp_ge hX (tgt := 36) dX0_sortRotations_7 (by decide) (by omega) (by omega) (fun h => ?_) (fun h => ?_)
    · exact K _ σ hf (hA_le h2 (by omega)) (hA_le h3 (by omega))
    · have htp : gA σ 1 p = (t p : Int) := hA_fr ht0 hf (by decide) p (by omega)
      have hb := htb p (by omega)
      refine am_aload_n hX dX0_sortRotations_10 rfl rfl ?_
      refine am_geta hX 2 q41 (by decide) rfl dX0_sortRotations_11 ?_
      refine am_iload_n hX dX0_sortRotations_14 rfl rfl ?_
      refine am_iload_n hX dX0_sortRotations_15 rfl rfl ?_
      refine am_i2b hX dX0_sortRotations_16 (by omega) ?_
      refine am_bast hX 1 rfl (p) (by omega) (by omega) (by decide) (by omega) dX0_sortRotations_17 ?_
      refine am_aload_n hX dX0_sortRotations_18 rfl rfl ?_
      refine am_geta hX 3 q42 (by decide) rfl dX0_sortRotations_19 ?_
      refine am_iload_n hX dX0_sortRotations_22 rfl rfl ?_
      refine am_aload_n hX dX0_sortRotations_23 rfl rfl ?_
      refine am_geta hX 1 q40 (by decide) rfl dX0_sortRotations_24 ?_
      refine am_iload_n hX dX0_sortRotations_27 rfl rfl ?_
      refine am_bald hX 0 rfl (p) (by omega) (by omega) (by decide) dX0_sortRotations_28 ?_
      refine am_top (b := ((t p : Nat) : Int)) htp ?_
      refine am_bast hX 2 rfl (p) (by omega) (by omega) (by decide) (by omega) dX0_sortRotations_29 ?_
      refine am_iincv hX dX0_sortRotations_30 rfl (by decide) (z2 := ((p + 1 : Nat) : Int)) (by omega) ?_
      refine am_goto hX (tgt := 2) dX0_sortRotations_33 (by decide) ?_
      exact ih (p + 1) _ (by omega) (by omega) (fr_wA (fr_wA hf (by decide) _) (by decide) _) (hA_wA (hA_push h2 rfl) (by decide) _) (hA_push (hA_wA h3 (by decide) _) rfl)
theorem so_sink {n : Nat} {t c : Nat → Nat} {r : Nat} {y3 : Option am_V} {σ0 : am_S} (hX : aOK cdX0 RX0 TX0 tyX0 cX0_sortRotations 4 none X) (hn0 : gF σ0 0 = (n : Int)) (hn32 : n ≤ 32) (htb : ∀ j, j < n → t j < 6) (hr : r < 64) (hc0 : hA σ0 3 n c) (hcb : ∀ j, j < n → c j < 100) (hCI : CI n t r c)
    (K : ∀ x o σ, fr [] [2] σ0 σ → hA σ 2 n o → Pm o n → Srt (keyR n t (r + r)) o n → aW cdX0 4 (rmD 3) X P 66 [vT, vI (r : Int), x, y3] [] σ) :
    ∀ m i o σ, i ≤ n + 1 → n + 1 < i + m → fr [] [2] σ0 σ → hA σ 2 n o → Pm o n → Srt (keyR n t (r + r)) o i → aW cdX0 4 (rmD 3) X P 46 [vT, vI (r : Int), vI (i : Int), y3] [] σ := by
  intro m
  induction m with
  | zero => intro i o σ h1 h2; exact absurd h2 (by omega)
  | succ m ih =>
    intro i o σ hi hm hf ho hP hS
    have hn : gF σ 0 = (n : Int) := (hf.1 0 (by decide)).trans hn0
    refine am_iload_n hX dX0_sortRotations_46 rfl rfl ?_
    refine am_aload_n hX dX0_sortRotations_47 rfl rfl ?_
    refine am_geti hX 0 q39 (by decide) rfl dX0_sortRotations_48 ?_
    refine am_top (b := ((n : Nat) : Int)) hn ?_
    refine am_icmp_ge hX (tgt := 66) dX0_sortRotations_51 (by decide) (by omega) (by omega) (fun h => ?_) (fun h => ?_)
    · exact K _ o σ hf ho hP (Srt_le hS (by omega))
    · have hob := Pm_lt hP
      have hc : hA σ 3 n c := hA_fr hc0 hf (by decide)
      refine am_aload_n hX dX0_sortRotations_54 rfl rfl ?_
      refine am_iload_n hX dX0_sortRotations_55 rfl rfl ?_
      refine am_iload_n hX dX0_sortRotations_56 rfl rfl ?_
      refine am_callv hX (met_sink n c o i r) [(i : Int), (r : Int)] (lw_V q127 q129 qs2 q29 q130) ⟨rfl, rfl⟩ (nA := 2) (by decide +kernel) ⟨by decide, by decide⟩ rfl rfl (fun _ => Nat.le_of_ble_eq_true rfl) dX0_sortRotations_57 ⟨rfl, hn, hn32, by omega, by omega, hc, hcb, ho, hob⟩ (fun σ1 hq => ?_)
      refine am_iincv hX dX0_sortRotations_60 rfl (by decide) (z2 := ((i + 1 : Nat) : Int)) (by omega) ?_
      refine am_goto hX (tgt := 46) dX0_sortRotations_63 (by decide) ?_
      obtain ⟨hf1, a, ha, hk, h0, ho1⟩ := hq
      have hio : ∀ j, j < i → (kl c n r (o i) (o j) ↔ keyR n t (r + r) (o i) < keyR n t (r + r) (o j)) := fun j hj => kl_key hn32 htb hCI (hob i (by omega)) (hob j (by omega))
      refine ih (i + 1) (ins o i a) σ1 (by omega) (by omega) (fr_trans hf hf1) ho1 (Pm_ins hP (by omega) (i - a) a (by omega)) (ins_srt hS ha (fun j h1 h2 => (hio j h2).mp (hk j h1 h2)) ?_)
      rcases h0 with h0 | h0
      · exact Or.inl h0
      · by_cases ea : a = 0
        · exact Or.inl ea
        · refine Or.inr ?_
          rw [hio (a - 1) (by omega)] at h0
          have hne : keyR n t (r + r) (o (a - 1)) ≠ keyR n t (r + r) (o i) := fun e => by
            have := Pm_inj hP (a - 1) i (by omega) (by omega) (keyR_inj (by have := hob (a - 1) (by omega); omega) (by have := hob i (by omega); omega) e)
            omega
          omega
theorem so_next {n : Nat} {t c o : Nat → Nat} {r : Nat} {σ0 : am_S} (hX : aOK cdX0 RX0 TX0 tyX0 cX0_sortRotations 4 none X) (hn0 : gF σ0 0 = (n : Int)) (hn32 : n ≤ 32) (htb : ∀ j, j < n → t j < 6) (hr : r < 64) (hc0 : hA σ0 3 n c) (hcb : ∀ j, j < n → c j < 100) (hCI : CI n t r c) (ho0 : hA σ0 2 n o) (hP : Pm o n)
    (K : ∀ x2 x3 σ, fr [] [4] σ0 σ → (∀ j, j < n → gA σ 4 (o j) = (dcl (vv n t (r + r)) o j : Int)) → aW cdX0 4 (rmD 3) X P 126 [vT, vI (r : Int), x2, x3] [] σ) :
    ∀ m i σ, i ≤ n → n < i + m → fr [] [4] σ0 σ → (∀ j, j < i → gA σ 4 (o j) = (dcl (vv n t (r + r)) o j : Int)) → aW cdX0 4 (rmD 3) X P 70 [vT, vI (r : Int), vI (dcp (vv n t (r + r)) o i : Int), vI (i : Int)] [] σ := by
  have hob := Pm_lt hP
  intro m
  induction m with
  | zero => intro i σ h1 h2; exact absurd h2 (by omega)
  | succ m ih =>
    intro i σ hi hm hf hd
    have hn : gF σ 0 = (n : Int) := (hf.1 0 (by decide)).trans hn0
    have ho : hA σ 2 n o := hA_fr ho0 hf (by decide)
    have hc : hA σ 3 n c := hA_fr hc0 hf (by decide)
    refine am_iload_n hX dX0_sortRotations_70 rfl rfl ?_
    refine am_aload_n hX dX0_sortRotations_71 rfl rfl ?_
    refine am_geti hX 0 q39 (by decide) rfl dX0_sortRotations_72 ?_
    refine am_top (b := ((n : Nat) : Int)) hn ?_
    refine am_icmp_ge hX (tgt := 126) dX0_sortRotations_75 (by decide) (by omega) (by omega) (fun h => ?_) (fun h => ?_)
    · exact K _ _ σ hf (fun j hj => hd j (by omega))
    · have hoi := hob i (by omega)
      have hdl := dcl_le (vv n t (r + r)) o i
      have tail : aW cdX0 4 (rmD 3) X P 107 [vT, vI (r : Int), vI (dcl (vv n t (r + r)) o i : Int), vI (i : Int)] [] σ := by
        refine am_aload_n hX dX0_sortRotations_107 rfl rfl ?_
        refine am_geta hX 4 q43 (by decide) rfl dX0_sortRotations_108 ?_
        refine am_aload_n hX dX0_sortRotations_111 rfl rfl ?_
        refine am_geta hX 2 q41 (by decide) rfl dX0_sortRotations_112 ?_
        refine am_iload_n hX dX0_sortRotations_115 rfl rfl ?_
        refine am_bald hX 1 rfl (i) (by omega) (by omega) (by decide) dX0_sortRotations_116 ?_
        refine am_top (b := ((o i : Nat) : Int)) (ho i (by omega)) ?_
        refine am_iload_n hX dX0_sortRotations_117 rfl rfl ?_
        refine am_i2b hX dX0_sortRotations_118 (by omega) ?_
        refine am_bast hX 3 rfl (o i) (by omega) (by omega) (by decide) (by omega) dX0_sortRotations_119 ?_
        refine am_iincv hX dX0_sortRotations_120 rfl (by decide) (z2 := ((i + 1 : Nat) : Int)) (by omega) ?_
        refine am_goto hX (tgt := 70) dX0_sortRotations_123 (by decide) ?_
        refine ih (i + 1) _ (by omega) (by omega) (fr_wA hf (by decide) _) (fun j hj => ?_)
        rw [gA_wA, if_pos rfl]
        by_cases e : o j = o i
        · have e2 : j = i := Pm_inj hP j i (by omega) (by omega) e
          rw [e, up_s, e2]
        · have e2 : j ≠ i := fun q => e (by rw [q])
          rw [up_n _ _ e]
          exact hd j (by omega)
      refine am_iload_n hX dX0_sortRotations_78 rfl rfl ?_
      refine am_if_le hX (tgt := 107) dX0_sortRotations_79 (by decide) (by omega) (fun h2 => ?_) (fun h2 => ?_)
      · have e : i = 0 := by omega
        subst e
        exact tail
      · obtain ⟨k, rfl⟩ : ∃ k, i = k + 1 := ⟨i - 1, by omega⟩
        have hok := hob k (by omega)
        have hcm := cmp_eq htb hCI hok hoi
        have hcp := hcb _ hok
        have hcq := hcb _ hoi
        have hm1 := hcb _ (Nat.mod_lt (o k + r) (show 0 < n by omega))
        have hm2 := hcb _ (Nat.mod_lt (o (k + 1) + r) (show 0 < n by omega))
        have hrg : -1000 < cmpI c n r (o k) (o (k + 1)) ∧ cmpI c n r (o k) (o (k + 1)) < 1000 := by
          unfold cmpI
          split <;> omega
        have hdd : dcl (vv n t (r + r)) o (k + 1) = dcl (vv n t (r + r)) o k + if vv n t (r + r) (o k) = vv n t (r + r) (o (k + 1)) then 0 else 1 := rfl
        refine am_aload_n hX dX0_sortRotations_82 rfl rfl ?_
        refine am_aload_n hX dX0_sortRotations_83 rfl rfl ?_
        refine am_geta hX 2 q41 (by decide) rfl dX0_sortRotations_84 ?_
        refine am_iload_n hX dX0_sortRotations_87 rfl rfl ?_
        refine am_iconst hX dX0_sortRotations_88 ?_
        refine am_isub hX dX0_sortRotations_89 ?_
        refine am_bald hX 1 rfl (k) (by omega) (by omega) (by decide) dX0_sortRotations_90 ?_
        refine am_top (b := ((o k : Nat) : Int)) (ho k (by omega)) ?_
        refine am_aload_n hX dX0_sortRotations_91 rfl rfl ?_
        refine am_geta hX 2 q41 (by decide) rfl dX0_sortRotations_92 ?_
        refine am_iload_n hX dX0_sortRotations_95 rfl rfl ?_
        refine am_bald hX 1 rfl (k + 1) (by omega) (by omega) (by decide) dX0_sortRotations_96 ?_
        refine am_top (b := ((o (k + 1) : Nat) : Int)) (ho (k + 1) (by omega)) ?_
        refine am_iload_n hX dX0_sortRotations_97 rfl rfl ?_
        refine am_calli hX (met_compare n c (o k) (o (k + 1)) r) [(o k : Int), (o (k + 1) : Int), (r : Int)] (lw_V q135 q137 qs4 q29 q138) ⟨rfl, rfl⟩ (nA := 3) (by decide +kernel) ⟨by decide, by decide⟩ rfl rfl (fun _ => Nat.le_of_ble_eq_true rfl) dX0_sortRotations_98 ⟨rfl, hn, hn32, hok, hoi, by omega, hc, hcb⟩ (fun z σ1 hz => ?_)
        obtain ⟨rfl, rfl⟩ := hz
        refine am_if_eq hX (tgt := 107) dX0_sortRotations_101 (by decide) (by omega) (fun h3 => ?_) (fun h3 => ?_)
        · rw [if_pos (hcm.mp h3)] at hdd
          rw [hdd] at tail
          exact tail
        · rw [if_neg (fun q => h3 (hcm.mpr q))] at hdd
          rw [hdd] at tail
          refine am_iincv hX dX0_sortRotations_104 rfl (by decide) (z2 := ((dcl (vv n t (r + r)) o k + 1 : Nat) : Int)) rfl ?_
          exact tail
theorem so_copy {n : Nat} {c' : Nat → Nat} {r : Nat} {y2 : Option am_V} {σ0 : am_S} (hX : aOK cdX0 RX0 TX0 tyX0 cX0_sortRotations 4 none X) (hn0 : gF σ0 0 = (n : Int)) (hn32 : n ≤ 32) (h40 : hA σ0 4 n c') (hcb : ∀ j, j < n → c' j < 100)
    (K : ∀ x3 σ, fr [] [3] σ0 σ → hA σ 3 n c' → aW cdX0 4 (rmD 3) X P 154 [vT, vI (r : Int), y2, x3] [] σ) :
    ∀ m p σ, p ≤ n → n < p + m → fr [] [3] σ0 σ → hA σ 3 p c' → aW cdX0 4 (rmD 3) X P 128 [vT, vI (r : Int), y2, vI (p : Int)] [] σ := by
  intro m
  induction m with
  | zero => intro p σ h1 h2; exact absurd h2 (by omega)
  | succ m ih =>
    intro p σ hp hm hf h3
    have hn : gF σ 0 = (n : Int) := (hf.1 0 (by decide)).trans hn0
    refine am_iload_n hX dX0_sortRotations_128 rfl rfl ?_
    refine am_aload_n hX dX0_sortRotations_129 rfl rfl ?_
    refine am_geti hX 0 q39 (by decide) rfl dX0_sortRotations_130 ?_
    refine am_top (b := ((n : Nat) : Int)) hn ?_
    refine am_icmp_ge hX (tgt := 154) dX0_sortRotations_133 (by decide) (by omega) (by omega) (fun h => ?_) (fun h => ?_)
    · exact K _ σ hf (hA_le h3 (by omega))
    · have hb := hcb p (by omega)
      refine am_aload_n hX dX0_sortRotations_136 rfl rfl ?_
      refine am_geta hX 3 q42 (by decide) rfl dX0_sortRotations_137 ?_
      refine am_iload_n hX dX0_sortRotations_140 rfl rfl ?_
      refine am_aload_n hX dX0_sortRotations_141 rfl rfl ?_
      refine am_geta hX 4 q43 (by decide) rfl dX0_sortRotations_142 ?_
      refine am_iload_n hX dX0_sortRotations_145 rfl rfl ?_
      refine am_bald hX 3 rfl (p) (by omega) (by omega) (by decide) dX0_sortRotations_146 ?_
      refine am_top (b := ((c' p : Nat) : Int)) (hA_fr h40 hf (by decide) p (by omega)) ?_
      refine am_bast hX 2 rfl (p) (by omega) (by omega) (by decide) (by omega) dX0_sortRotations_147 ?_
      refine am_iincv hX dX0_sortRotations_148 rfl (by decide) (z2 := ((p + 1 : Nat) : Int)) (by omega) ?_
      refine am_goto hX (tgt := 128) dX0_sortRotations_151 (by decide) ?_
      exact ih (p + 1) _ (by omega) (by omega) (fr_wA hf (by decide) _) (hA_push h3 rfl)
theorem so_outer {n : Nat} {t : Nat → Nat} {σ0 : am_S} (hX : aOK cdX0 RX0 TX0 tyX0 cX0_sortRotations 4 none X) (hn0 : gF σ0 0 = (n : Int)) (hn32 : n ≤ 32) (htb : ∀ j, j < n → t j < 6)
    (K : ∀ σ o, fr [] [2, 3, 4] σ0 σ → hA σ 2 n o → Pm o n → Srt (keyR n t 64) o n → P none σ) :
    ∀ m e c o x2 x3 σ, e + m = 6 → fr [] [2, 3, 4] σ0 σ → hA σ 3 n c → (∀ j, j < n → c j < 100) → CI n t (pw e) c → hA σ 2 n o → Pm o n → (e = 6 → Srt (keyR n t 64) o n) → aW cdX0 4 (rmD 3) X P 38 [vT, vI ((pw e : Nat) : Int), x2, x3] [] σ := by
  intro m
  induction m with
  | zero =>
    intro e c o x2 x3 σ he hf h3 hcb hCI ho hP hS
    have e6 : e = 6 := by omega
    subst e6
    have h64 : pw 6 = 64 := rfl
    refine am_iload_n hX dX0_sortRotations_38 rfl rfl ?_
    refine am_bipush hX dX0_sortRotations_39 (by decide) ?_
    refine am_icmp_ge hX (tgt := 161) dX0_sortRotations_41 (by decide) (by omega) (by omega) (fun h => ?_) (fun h => ?_)
    · exact am_vret hX dX0_sortRotations_161 (K σ o hf ho hP (hS rfl))
    · exact absurd h (by omega)
  | succ m ih =>
    intro e c o x2 x3 σ he hf h3 hcb hCI ho hP hS
    have hr := pw6 e (by omega)
    have hn : gF σ 0 = (n : Int) := (hf.1 0 (by decide)).trans hn0
    refine am_iload_n hX dX0_sortRotations_38 rfl rfl ?_
    refine am_bipush hX dX0_sortRotations_39 (by decide) ?_
    refine am_icmp_ge hX (tgt := 161) dX0_sortRotations_41 (by decide) (by omega) (by omega) (fun h => ?_) (fun h => ?_)
    · exact absurd h (by omega)
    · refine am_iconst hX dX0_sortRotations_44 ?_
      refine am_top (b := ((1 : Nat) : Int)) (by omega) ?_
      refine am_istore_n hX dX0_sortRotations_45 rfl (by decide) ?_
      refine so_sink (σ0 := σ) (t := t) (c := c) hX hn hn32 htb hr.1 h3 hcb hCI (fun x o1 σ1 hf1 ho1 hP1 hS1 => ?_) (n + 2) 1 o σ (by omega) (by omega) (fr_refl _ _ _) ho hP (fun a b h1 h2 => absurd h2 (by omega))
      have hn1 : gF σ1 0 = (n : Int) := (hf1.1 0 (by decide)).trans hn
      have h31 : hA σ1 3 n c := hA_fr h3 hf1 (by decide)
      refine am_iconst hX dX0_sortRotations_66 ?_
      refine am_top (b := ((dcp (vv n t (pw e + pw e)) o1 0 : Nat) : Int)) rfl ?_
      refine am_istore_n hX dX0_sortRotations_67 rfl (by decide) ?_
      refine am_iconst hX dX0_sortRotations_68 ?_
      refine am_top (b := ((0 : Nat) : Int)) (by omega) ?_
      refine am_istore_n hX dX0_sortRotations_69 rfl (by decide) ?_
      refine so_next (σ0 := σ1) (t := t) (c := c) hX hn1 hn32 htb hr.1 h31 hcb hCI ho1 hP1 (fun x2 x3 σ2 hf2 hd => ?_) 33 0 σ1 (by omega) (by omega) (fr_refl _ _ _) (fun j hj => absurd hj (by omega))
      have hn2 : gF σ2 0 = (n : Int) := (hf2.1 0 (by decide)).trans hn1
      have hcd : ∀ j, j < n → (gA σ2 4 (o1 j)).toNat = dcl (vv n t (pw e + pw e)) o1 j := fun j hj => by rw [hd j hj, Int.toNat_natCast]
      have h42 : hA σ2 4 n (fun p => (gA σ2 4 p).toNat) := by
        intro p hp
        obtain ⟨j, hj, rfl⟩ := Pm_sur hP1 p hp
        dsimp only
        rw [hcd j hj, hd j hj]
      have hcb2 : ∀ p, p < n → (fun p => (gA σ2 4 p).toNat) p < 100 := by
        intro p hp
        obtain ⟨j, hj, rfl⟩ := Pm_sur hP1 p hp
        dsimp only
        rw [hcd j hj]
        have := dcl_le (vv n t (pw e + pw e)) o1 j
        omega
      have hCI2 : CI n t (pw e + pw e) (fun p => (gA σ2 4 p).toNat) := CI_next hP1 (d := dcl (vv n t (pw e + pw e)) o1) rfl (fun j _ => rfl) hS1 hn32 hcd
      refine am_iconst hX dX0_sortRotations_126 ?_
      refine am_top (b := ((0 : Nat) : Int)) (by omega) ?_
      refine am_istore_n hX dX0_sortRotations_127 rfl (by decide) ?_
      refine so_copy (σ0 := σ2) hX hn2 hn32 h42 hcb2 (fun x3 σ3 hf3 h33 => ?_) 33 0 σ2 (by omega) (by omega) (fr_refl _ _ _) (fun j hj => absurd hj (by omega))
      refine am_iload_n hX dX0_sortRotations_154 rfl rfl ?_
      refine am_iconst hX dX0_sortRotations_155 ?_
      refine am_imul hX dX0_sortRotations_156 ?_
      refine am_top (b := ((pw (e + 1) : Nat) : Int)) (by omega) ?_
      refine am_istore_n hX dX0_sortRotations_157 rfl (by decide) ?_
      refine am_goto hX (tgt := 38) dX0_sortRotations_158 (by decide) ?_
      rw [hr.2.2] at hCI2
      refine ih (e + 1) _ o1 _ _ _ (by omega) (fr_trans hf (fr_trans (fr_mono hf1 (by decide) (by decide)) (fr_trans (fr_mono hf2 (by decide) (by decide)) (fr_mono hf3 (by decide) (by decide))))) h33 hcb2 hCI2 (hA_fr (hA_fr ho1 hf2 (by decide)) hf3 (by decide)) hP1 (fun e6 => ?_)
      have e5 : e = 5 := by omega
      subst e5
      exact hS1
theorem met_sortRotations (n : Nat) (t : Nat → Nat) : aMet cdX0 yX0_sortRotations cX0_sortRotations 4 none (rmD 3)
    (fun as σ => as = [] ∧ gF σ 0 = (n : Int) ∧ n ≤ 32 ∧ hA σ 1 n t ∧ ∀ j, j < n → t j < 6)
    (fun _ σ r' σ' => r' = none ∧ (fr [] [2, 3, 4] σ σ' ∧ ∃ o, hA σ' 2 n o ∧ Pm o n ∧ Srt (keyR n t 64) o n)) := by
  refine aMet.of am_cls0 (by decide) rfl (fun as σ h => by rw [h.1]; exact Nat.le_of_ble_eq_true rfl) ?_
  intro as σ X hpre hX
  obtain ⟨rfl, hn, hn32, ht, htb⟩ := hpre
  refine am_iconst hX dX0_sortRotations_0 ?_
  refine am_top (b := ((0 : Nat) : Int)) (by omega) ?_
  refine am_istore_n hX dX0_sortRotations_1 rfl (by decide) ?_
  refine so_init (σ0 := σ) hX hn hn32 ht htb (fun x σ1 hf1 h2 h3 => ?_) 33 0 σ (by omega) (by omega) (fr_refl _ _ _) (fun j hj => absurd hj (by omega)) (fun j hj => absurd hj (by omega))
  refine am_iconst hX dX0_sortRotations_36 ?_
  refine am_top (b := ((pw 0 : Nat) : Int)) rfl ?_
  refine am_istore_n hX dX0_sortRotations_37 rfl (by decide) ?_
  exact so_outer (σ0 := σ) (t := t) hX hn hn32 htb (fun σ2 o hf ho hP hS => ⟨rfl, hf, o, ho, hP, hS⟩) 6 0 t (fun j => j) _ _ σ1 (by omega) hf1 h3 (fun j hj => by have := htb j hj; omega) (CI_one n t) h2 (Pm_id n) (fun q => absurd q (by omega))
end WF
end
section
/-! BlockCoder: code -/
set_option maxRecDepth 100000
def mkI (o : Nat → Nat) (k : Nat) (z : Int) : Prop := (∀ j, j < k → o j = 0 → z = (j : Int)) ∧ ((∀ j, j < k → o j ≠ 0) → z = 0)
section WG
variable {X : am_X} {P : Option Int → am_S → Prop}
theorem code_loop {n : Nat} {t o : Nat → Nat} {σ0 : am_S} (hX : aOK cdX0 RX0 TX0 tyX0 cX0_code 3 none X) (hn0 : gF σ0 0 = (n : Int)) (hn32 : n ≤ 32) (ht0 : hA σ0 1 n t) (htb : ∀ j, j < n → t j < 6) (ho0 : hA σ0 2 n o) (hP : Pm o n)
    (K : ∀ x1 x2 σ, fr [6] [7] σ0 σ → mkI o n (gF σ 6) → hA σ 7 n (fun k => prv n t (o k)) → aW cdX0 3 (rmD 4) X P 81 [vT, x1, x2] [] σ) :
    ∀ m k x2 σ, k ≤ n → n < k + m → fr [6] [7] σ0 σ → mkI o k (gF σ 6) → hA σ 7 k (fun k => prv n t (o k)) → aW cdX0 3 (rmD 4) X P 24 [vT, vI (k : Int), x2] [] σ := by
  have hob := Pm_lt hP
  intro m
  induction m with
  | zero => intro k x2 σ h1 h2; exact absurd h2 (by omega)
  | succ m ih =>
    intro k x2 σ hk hm hf hmk h7
    have hn : gF σ 0 = (n : Int) := (hf.1 0 (by decide)).trans hn0
    have ht : hA σ 1 n t := hA_fr ht0 hf (by decide)
    have ho : hA σ 2 n o := hA_fr ho0 hf (by decide)
    refine am_iload_n hX dX0_code_24 rfl rfl ?_
    refine am_aload_n hX dX0_code_25 rfl rfl ?_
    refine am_geti hX 0 q39 (by decide) rfl dX0_code_26 ?_
    refine am_top (b := ((n : Nat) : Int)) hn ?_
    refine am_icmp_ge hX (tgt := 81) dX0_code_29 (by decide) (by omega) (by omega) (fun h => ?_) (fun h => ?_)
    · have e : k = n := by omega
      subst e
      exact K _ _ σ hf hmk h7
    · have hok := hob k (by omega)
      have hpb := prv_lt htb hok
      refine am_aload_n hX dX0_code_32 rfl rfl ?_
      refine am_geta hX 2 q41 (by decide) rfl dX0_code_33 ?_
      refine am_iload_n hX dX0_code_36 rfl rfl ?_
      refine am_bald hX 1 rfl (k) (by omega) (by omega) (by decide) dX0_code_37 ?_
      refine am_top (b := ((o k : Nat) : Int)) (ho k (by omega)) ?_
      refine am_istore_n hX dX0_code_38 rfl (by decide) ?_
      refine am_iload_n hX dX0_code_39 rfl rfl ?_
      refine am_if_ne hX (tgt := 48) dX0_code_40 (by decide) (by omega) (fun c1 => ?_) (fun c1 => ?_)
      · have hne : o k ≠ 0 := by omega
        have hpv : gA σ 1 (o k - 1) = (prv n t (o k) : Int) := by
          rw [ht _ (by omega)]
          unfold prv
          rw [if_neg hne]
        refine am_aload_n hX dX0_code_48 rfl rfl ?_
        refine am_geta hX 7 q46 (by decide) rfl dX0_code_49 ?_
        refine am_iload_n hX dX0_code_52 rfl rfl ?_
        refine am_aload_n hX dX0_code_53 rfl rfl ?_
        refine am_geta hX 1 q40 (by decide) rfl dX0_code_54 ?_
        refine am_iload_n hX dX0_code_57 rfl rfl ?_
        refine am_if_ne hX (tgt := 70) dX0_code_58 (by decide) (by omega) (fun c2 => ?_) (fun c2 => ?_)
        · refine am_iload_n hX dX0_code_70 rfl rfl ?_
          refine am_iconst hX dX0_code_71 ?_
          refine am_isub hX dX0_code_72 ?_
          refine am_bald hX 0 rfl (o k - 1) (by omega) (by omega) (by decide) dX0_code_73 ?_
          refine am_top (b := ((prv n t (o k) : Nat) : Int)) hpv ?_
          refine am_bast hX 4 rfl (k) (by omega) (by omega) (by decide) (by omega) dX0_code_74 ?_
          refine am_iincv hX dX0_code_75 rfl (by decide) (z2 := ((k + 1 : Nat) : Int)) (by omega) ?_
          refine am_goto hX (tgt := 24) dX0_code_78 (by decide) ?_
          refine ih (k + 1) _ _ (by omega) (by omega) (fr_wA hf (by decide) _) ⟨fun j hj e => ?_, fun q => hmk.2 (fun j hj => q j (by omega))⟩ (hA_push h7 rfl)
          have : j ≠ k := fun q => hne (by rw [← q]; exact e)
          exact hmk.1 j (by omega) e
        · exact absurd c2 (by omega)
      · have he0 : o k = 0 := by omega
        have hpv : gA σ 1 (n - 1) = (prv n t (o k) : Int) := by
          rw [ht _ (by omega)]
          unfold prv
          rw [if_pos he0]
        refine am_aload_n hX dX0_code_43 rfl rfl ?_
        refine am_iload_n hX dX0_code_44 rfl rfl ?_
        refine am_puti hX 6 q45 (by decide) rfl rfl rfl dX0_code_45 ?_
        refine am_aload_n hX dX0_code_48 rfl rfl ?_
        refine am_geta hX 7 q46 (by decide) rfl dX0_code_49 ?_
        refine am_iload_n hX dX0_code_52 rfl rfl ?_
        refine am_aload_n hX dX0_code_53 rfl rfl ?_
        refine am_geta hX 1 q40 (by decide) rfl dX0_code_54 ?_
        refine am_iload_n hX dX0_code_57 rfl rfl ?_
        refine am_if_ne hX (tgt := 70) dX0_code_58 (by decide) (by omega) (fun c2 => ?_) (fun c2 => ?_)
        · exact absurd he0 (by omega)
        · refine am_aload_n hX dX0_code_61 rfl rfl ?_
          refine am_geti hX 0 q39 (by decide) rfl dX0_code_62 ?_
          refine am_top (b := ((n : Nat) : Int)) hn ?_
          refine am_iconst hX dX0_code_65 ?_
          refine am_isub hX dX0_code_66 ?_
          refine am_goto hX (tgt := 73) dX0_code_67 (by decide) ?_
          refine am_bald hX 0 rfl (n - 1) (by omega) (by omega) (by decide) dX0_code_73 ?_
          refine am_top (b := ((prv n t (o k) : Nat) : Int)) hpv ?_
          refine am_bast hX 4 rfl (k) (by omega) (by omega) (by decide) (by omega) dX0_code_74 ?_
          refine am_iincv hX dX0_code_75 rfl (by decide) (z2 := ((k + 1 : Nat) : Int)) (by omega) ?_
          refine am_goto hX (tgt := 24) dX0_code_78 (by decide) ?_
          refine ih (k + 1) _ _ (by omega) (by omega) (fr_wA (fr_pF hf (by decide) _) (by decide) _) ⟨fun j hj e => ?_, fun q => absurd he0 (q k (by omega))⟩ (hA_push (hA_pF h7 _) rfl)
          have : j = k := Pm_inj hP j k (by omega) (by omega) (by omega)
          rw [this]
          rfl
theorem met_code (n : Nat) (t : Nat → Nat) : aMet cdX0 yX0_code cX0_code 3 none (rmD 4)
    (fun as σ => as = [] ∧ I0 n t σ)
    (fun _ _ r' σ' => r' = none ∧ I1 n t σ') := by
  refine aMet.of am_cls0 (by decide) rfl (fun as σ h => by rw [h.1]; exact Nat.le_of_ble_eq_true rfl) ?_
  intro as σ X hpre hX
  obtain ⟨rfl, hn, hn32, ht, htb, hcd⟩ := hpre
  refine am_aload_n hX dX0_code_0 rfl rfl ?_
  refine am_geti hX 5 q44 (by decide) rfl dX0_code_1 ?_
  refine am_if_eq hX (tgt := 8) dX0_code_4 (by decide) (by omega) (fun c0 => ?_) (fun c0 => ?_)
  · refine am_aload_n hX dX0_code_8 rfl rfl ?_
    refine am_iconst hX dX0_code_9 ?_
    refine am_putz hX 5 q44 (by decide) rfl rfl rfl (Or.inr rfl) dX0_code_10 ?_
    refine am_aload_n hX dX0_code_13 rfl rfl ?_
    refine am_callv hX (met_sortRotations n t) [] (lw_V q123 q125 qs1 q29 q126) ⟨rfl, rfl⟩ (nA := 0) (by decide +kernel) ⟨by decide, by decide⟩ rfl rfl (fun _ => Nat.le_of_ble_eq_true rfl) dX0_code_14 ⟨rfl, hn, hn32, ht, htb⟩ (fun σ1 hq => ?_)
    obtain ⟨hf1, o, ho, hP, hS⟩ := hq
    refine am_aload_n hX dX0_code_17 rfl rfl ?_
    refine am_iconst hX dX0_code_18 ?_
    refine am_puti hX 6 q45 (by decide) rfl rfl rfl dX0_code_19 ?_
    refine am_iconst hX dX0_code_22 ?_
    refine am_top (b := ((0 : Nat) : Int)) (by omega) ?_
    refine am_istore_n hX dX0_code_23 rfl (by decide) ?_
    have hn1 : gF σ1 0 = (n : Int) := (hf1.1 0 (by decide)).trans hn
    have h51 : gF σ1 5 = 1 := (hf1.1 5 (by decide)).trans rfl
    have ht1 : hA σ1 1 n t := hA_fr (hA_pF ht _) hf1 (by decide)
    refine code_loop (σ0 := pF σ1 6 0) hX hn1 hn32 (hA_pF ht1 _) htb (hA_pF ho _) hP (fun x1 x2 σ2 hf2 hmk h7 => ?_) 33 0 _ _ (by omega) (by omega) (fr_refl _ _ _) ⟨fun j hj => absurd hj (by omega), fun _ => rfl⟩ (fun j hj => absurd hj (by omega))
    have hn2 : gF σ2 0 = (n : Int) := (hf2.1 0 (by decide)).trans hn1
    have h52 : gF σ2 5 = 1 := (hf2.1 5 (by decide)).trans h51
    have ht2 : hA σ2 1 n t := hA_fr (hA_pF ht1 _) hf2 (by decide)
    have h7c : hA σ2 7 n (colF n t) := hA_congr h7 (fun k hk => by unfold colF; rw [oF_eq hn32 hP hS hk])
    have h62 : gF σ2 6 = (place n t 0 : Int) := by
      by_cases e : n = 0
      · subst e
        rw [hmk.2 (fun j hj => absurd hj (by omega))]
        rfl
      · obtain ⟨j, hj, ej⟩ := Pm_sur hP 0 (by omega)
        have := place_at hP hS hj
        rw [ej] at this
        rw [hmk.1 j hj ej, this]
    refine am_aload_n hX dX0_code_81 rfl rfl ?_
    refine am_callv hX (met_rankLetters n (colF n t)) [] (lw_V q139 q141 qs5 q29 q142) ⟨rfl, rfl⟩ (nA := 0) (by decide +kernel) ⟨by decide, by decide⟩ rfl rfl (fun _ => Nat.le_of_ble_eq_true rfl) dX0_code_82 ⟨rfl, hn2, hn32, h7c, fun j hj => colF_lt hn32 htb hj⟩ (fun σ3 hq3 => ?_)
    obtain ⟨hf3, h8⟩ := hq3
    refine am_aload_n hX dX0_code_85 rfl rfl ?_
    refine am_callv hX (met_shortenRuns n (rkF n t)) [] (lw_V q151 q153 qs8 q29 q154) ⟨rfl, rfl⟩ (nA := 0) (by decide +kernel) ⟨by decide, by decide⟩ rfl rfl (fun _ => Nat.le_of_ble_eq_true rfl) dX0_code_86 ⟨rfl, (hf3.1 0 (by decide)).trans hn2, hn32, h8, fun j _ => rkC_lt _ j⟩ (fun σ4 hq4 => ?_)
    obtain ⟨hf4, hL⟩ := hq4
    have hlen : (symF n t).length ≤ 32 := Nat.le_trans (symF_len n t) hn32
    refine am_aload_n hX dX0_code_89 rfl rfl ?_
    refine am_callv hX (met_findBits (symF n t)) [] (lw_V q159 q161 qs10 q29 q162) ⟨rfl, rfl⟩ (nA := 0) (by decide +kernel) ⟨by decide, by decide⟩ rfl rfl (fun _ => Nat.le_of_ble_eq_true rfl) dX0_code_90 ⟨rfl, hL, hlen, fun j hj => symF_lt n t _ (getD_mem hj)⟩ (fun σ5 hq5 => ?_)
    obtain ⟨hf5, bt, h14, hB, h15⟩ := hq5
    have hL5 : SL 9 10 σ5 (symF n t) := SL_fr hL hf5 (by decide) (by decide)
    have hmem : ∀ j, j < (symF n t).length → (symF n t).getD j 0 < 7 ∧ bt ((symF n t).getD j 0) ≤ 6 ∧ cvF bt ((symF n t).getD j 0) < 2 ^ 20 ∧ gA σ5 15 ((symF n t).getD j 0) = (cvF bt ((symF n t).getD j 0) : Int) := fun j hj => by
      have hm := getD_mem hj
      have h7 := symF_lt n t _ hm
      have hc := hB.2.1 _ h7 (cn_pos.mpr hm)
      have h64 := cvF_64 hB h7
      exact ⟨h7, hc.2, by omega, h15 _ h7 hc.1⟩
    have hbl : (bitsL (cvF bt) bt (symF n t)).length ≤ 200 := by
      have := bitsL_le (cvF bt) bt (symF n t) (fun s hs => HB_le hB (symF_lt n t s hs))
      omega
    refine am_aload_n hX dX0_code_93 rfl rfl ?_
    refine am_callv hX (met_writeBits (cvF bt) bt (symF n t)) [] (lw_V q171 q173 qs13 q29 q174) ⟨rfl, rfl⟩ (nA := 0) (by decide +kernel) ⟨by decide, by decide⟩ rfl rfl (fun _ => Nat.le_of_ble_eq_true rfl) dX0_code_94 ⟨rfl, hL5, hlen, h14, hmem, hbl⟩ (fun σ6 hq6 => ?_)
    obtain ⟨hf6, h16, hST⟩ := hq6
    have hA23 : fr [9, 16] [8, 10, 11, 12, 13, 14, 15, 17] σ2 σ6 := fr_trans (fr_mono hf3 (by decide) (by decide)) (fr_trans (fr_mono hf4 (by decide) (by decide)) (fr_trans (fr_mono hf5 (by decide) (by decide)) (fr_mono hf6 (by decide) (by decide))))
    have h86 : hA σ6 8 n (rkF n t) := hA_fr (hA_fr (hA_fr h8 hf4 (by decide)) hf5 (by decide)) hf6 (by decide)
    exact am_vret hX dX0_code_97 ⟨rfl, (hA23.1 0 (by decide)).trans hn2, hn32, hA_fr ht2 hA23 (by decide), htb, (hA23.1 5 (by decide)).trans h52, (hA23.1 6 (by decide)).trans h62, hA_fr h7c hA23 (by decide), h86, SL_fr hL5 hf6 (by decide) (by decide), bt, hA_fr h14 hf6 (by decide), hB, fun s hs q => (hf6.2.1 15 (by decide) s).trans (h15 s hs q), h16, hST⟩
  · have h1 : gF σ 5 = 1 ∧ CD n t σ := by
      rcases hcd with q | q
      · exact absurd q c0
      · exact q
    exact am_vret hX dX0_code_7 ⟨rfl, hn, hn32, ht, htb, h1.1, h1.2⟩
end WG
end
section
/-! BlockCoder: reading the symbols, undoing the runs and the ranks -/
set_option maxRecDepth 100000
def swOK (bt : Nat → Nat) (b c : Nat) (z : Int) : Prop := (z = -3 ∧ ∀ s, s < 7 → ¬ (bt s = b ∧ cvF bt s = c)) ∨ (∃ s : Nat, s < 7 ∧ z = (s : Int) ∧ bt s = b ∧ cvF bt s = c)
section WH
variable {X : am_X} {P : Option Int → am_S → Prop}
theorem sw_loop {bt : Nat → Nat} {b c : Nat} {σ : am_S} (hX : aOK cdX0 RX0 TX0 tyX0 cX0_symbolWith 4 (some .int) X) (h14 : hA σ 14 7 bt) (hbb : ∀ s, s < 7 → bt s ≤ 6) (h15 : ∀ s, s < 7 → 1 ≤ bt s → gA σ 15 s = (cvF bt s : Int)) (hcb : ∀ s, s < 7 → cvF bt s < 64) (hb : 1 ≤ b ∧ b < 100) (hc : c < 10000)
    (K : ∀ z, swOK bt b c z → P (some z) σ) :
    ∀ m s, s ≤ 7 → 7 < s + m → (∀ s', s' < s → ¬ (bt s' = b ∧ cvF bt s' = c)) → aW cdX0 4 (rmD 0) X P 2 [vT, vI (b : Int), vI (c : Int), vI (s : Int)] [] σ := by
  intro m
  induction m with
  | zero => intro s h1 h2; exact absurd h2 (by omega)
  | succ m ih =>
    intro s hs hm hno
    refine am_iload_n hX dX0_symbolWith_2 rfl rfl ?_
    refine am_bipush hX dX0_symbolWith_3 (by decide) ?_
    refine am_icmp_ge hX (tgt := 36) dX0_symbolWith_5 (by decide) (by omega) (by omega) (fun h => ?_) (fun h => ?_)
    · refine am_bipush hX dX0_symbolWith_36 (by decide) ?_
      exact am_iret hX dX0_symbolWith_38 (K (-3) (Or.inl ⟨rfl, fun s' h' => hno s' (by omega)⟩))
    · have hbs := hbb s (by omega)
      have hcs := hcb s (by omega)
      have next : ¬ (bt s = b ∧ cvF bt s = c) → aW cdX0 4 (rmD 0) X P 30 [vT, vI (b : Int), vI (c : Int), vI (s : Int)] [] σ := by
        intro hne
        refine am_iincv hX dX0_symbolWith_30 rfl (by decide) (z2 := ((s + 1 : Nat) : Int)) (by omega) ?_
        refine am_goto hX (tgt := 2) dX0_symbolWith_33 (by decide) ?_
        refine ih (s + 1) (by omega) (by omega) (fun s' h' => ?_)
        by_cases e : s' = s
        · rw [e]; exact hne
        · exact hno s' (by omega)
      refine am_aload_n hX dX0_symbolWith_8 rfl rfl ?_
      refine am_geta hX 14 q53 (by decide) rfl dX0_symbolWith_9 ?_
      refine am_iload_n hX dX0_symbolWith_12 rfl rfl ?_
      refine am_bald hX 10 rfl (s) (by omega) (by omega) (by decide) dX0_symbolWith_13 ?_
      refine am_top (b := ((bt s : Nat) : Int)) (h14 s (by omega)) ?_
      refine am_iload_n hX dX0_symbolWith_14 rfl rfl ?_
      refine am_icmp_ne hX (tgt := 30) dX0_symbolWith_15 (by decide) (by omega) (by omega) (fun h2 => ?_) (fun h2 => ?_)
      · exact next (fun q => h2 (by rw [q.1]))
      · have hbe : bt s = b := by omega
        refine am_aload_n hX dX0_symbolWith_18 rfl rfl ?_
        refine am_geta hX 15 q54 (by decide) rfl dX0_symbolWith_19 ?_
        refine am_iload_n hX dX0_symbolWith_22 rfl rfl ?_
        refine am_iald hX 11 rfl (s) (by omega) (by omega) (by decide) dX0_symbolWith_23 ?_
        refine am_top (b := ((cvF bt s : Nat) : Int)) (h15 s (by omega) (by omega)) ?_
        refine am_iload_n hX dX0_symbolWith_24 rfl rfl ?_
        refine am_icmp_ne hX (tgt := 30) dX0_symbolWith_25 (by decide) (by omega) (by omega) (fun h3 => ?_) (fun h3 => ?_)
        · exact next (fun q => h3 (by rw [q.2]))
        · refine am_iload_n hX dX0_symbolWith_28 rfl rfl ?_
          exact am_iret hX dX0_symbolWith_29 (K (s : Int) (Or.inr ⟨s, by omega, rfl, hbe, by omega⟩))
theorem met_symbolWith (bt : Nat → Nat) (b c : Nat) : aMet cdX0 yX0_symbolWith cX0_symbolWith 4 (some .int) (rmD 0)
    (fun as σ => as = [(b : Int), (c : Int)] ∧ hA σ 14 7 bt ∧ (∀ s, s < 7 → bt s ≤ 6) ∧ (∀ s, s < 7 → 1 ≤ bt s → gA σ 15 s = (cvF bt s : Int)) ∧ (∀ s, s < 7 → cvF bt s < 64) ∧ (1 ≤ b ∧ b < 100) ∧ c < 10000)
    (fun _ σ r' σ' => ∃ z, r' = some z ∧ (σ' = σ ∧ swOK bt b c z)) := by
  refine aMet.of am_cls0 (by decide) rfl (fun as σ h => by rw [h.1]; exact Nat.le_of_ble_eq_true rfl) ?_
  intro as σ X hpre hX
  obtain ⟨rfl, h14, hbb, h15, hcb, hb, hc⟩ := hpre
  refine am_iconst hX dX0_symbolWith_0 ?_
  refine am_top (b := ((0 : Nat) : Int)) (by omega) ?_
  refine am_istore_n hX dX0_symbolWith_1 rfl (by decide) ?_
  exact sw_loop hX h14 hbb h15 hcb hb hc (fun z hz => ⟨z, rfl, rfl, hz⟩) 8 0 (by omega) (by omega) (fun s' h' => absurd h' (by omega))
/-- bits of the k-th symbol -/
theorem rd_bit {bt : Nat → Nat} {L : List Nat} {g : Nat → Nat} (hST : ST g (bitsL (cvF bt) bt L)) {k r a : Nat} (hk : k < L.length) (hr : r < bt (L.getD k 0)) (ha : a = (bitsL (cvF bt) bt (L.take k)).length + r) (ha2 : a < 256) : 2 * (cvF bt (L.getD k 0) / 2 ^ (bt (L.getD k 0) - r)) + g (a / 64) / 2 ^ (a % 64) % 2 = cvF bt (L.getD k 0) / 2 ^ (bt (L.getD k 0) - (r + 1)) := by
  have h1 := hST.2 a ha2
  rw [ha, bitsL_get (cvF bt) bt L hk hr, ← ha, Nat.testBit_eq_decide_div_mod_eq, Nat.testBit_eq_decide_div_mod_eq, decide_eq_decide] at h1
  have e1 : bt (L.getD k 0) - r = (bt (L.getD k 0) - (r + 1)) + 1 := by omega
  have e2 : bt (L.getD k 0) - 1 - r = bt (L.getD k 0) - (r + 1) := by omega
  rw [e2] at h1
  rw [e1, Nat.pow_succ, ← Nat.div_div_eq_div_mul]
  have h2 : g (a / 64) / 2 ^ (a % 64) % 2 < 2 := Nat.mod_lt _ (by decide)
  have h3 : cvF bt (L.getD k 0) / 2 ^ (bt (L.getD k 0) - (r + 1)) % 2 < 2 := Nat.mod_lt _ (by decide)
  omega
theorem rs_loop {bt : Nat → Nat} {L : List Nat} {σ0 : am_S} (hX : aOK cdX0 RX0 TX0 tyX0 cX0_readSymbols 6 (some .int) X) (hlen : L.length ≤ 32) (hL7 : ∀ s, s ∈ L → s < 7) (h140 : hA σ0 14 7 bt) (hB : HB (cn L) bt) (h150 : ∀ s, s < 7 → 1 ≤ bt s → gA σ0 15 s = (cvF bt s : Int)) (h160 : gF σ0 16 = ((bitsL (cvF bt) bt L).length : Int)) (hST0 : ST (gJ σ0) (bitsL (cvF bt) bt L)) (hbl : (bitsL (cvF bt) bt L).length ≤ 200)
    (K : ∀ σ, fr [] [18] σ0 σ → hA σ 18 L.length (fun j => L.getD j 0) → P (some (L.length : Int)) σ) :
    ∀ m k r a x5 σ, a + m = (bitsL (cvF bt) bt L).length → a = (bitsL (cvF bt) bt (L.take k)).length + r → k ≤ L.length → (r = 0 ∨ (k < L.length ∧ r < bt (L.getD k 0))) → fr [] [18] σ0 σ → hA σ 18 k (fun j => L.getD j 0) →
      aW cdX0 6 (rmD 1) X P 9 [vT, vI (k : Int), vI (r : Int), vI ((cvF bt (L.getD k 0) / 2 ^ (bt (L.getD k 0) - r) : Nat) : Int), vI (a : Int), x5] [] σ := by
  have hmem : ∀ k, k < L.length → L.getD k 0 < 7 ∧ 1 ≤ bt (L.getD k 0) ∧ bt (L.getD k 0) ≤ 6 := fun k hk => by
    have hm := getD_mem hk
    have h7 := hL7 _ hm
    have hc := hB.2.1 _ h7 (cn_pos.mpr hm)
    exact ⟨h7, hc⟩
  have hcb : ∀ s, s < 7 → cvF bt s < 64 := fun s hs => cvF_64 hB hs
  have hd7 : ∀ k, L.getD k 0 < 7 := fun k => by
    by_cases q : k < L.length
    · exact (hmem k q).1
    · rw [List.getD_eq_getElem?_getD, List.getElem?_eq_none (by omega)]; show 0 < 7; omega
  intro m
  induction m with
  | zero =>
    intro k r a x5 σ ham ha hk hr hf h18
    have h16 : gF σ 16 = ((bitsL (cvF bt) bt L).length : Int) := (hf.1 16 (by decide)).trans h160
    have ek : k = L.length := by
      rcases Nat.lt_or_ge k L.length with q | q
      · exfalso
        have h1 := bitsL_take (cvF bt) bt L q
        have h2 := congrArg List.length h1
        rw [List.length_append, sb_len] at h2
        have h3 := bitsL_pre (cvF bt) bt L (k + 1)
        have h4 := (hmem k q).2.1
        have : r < bt (L.getD k 0) := by
          rcases hr with e | e
          · omega
          · exact e.2
        omega
      · omega
    subst ek
    refine am_iload hX dX0_readSymbols_9 rfl ?_
    refine am_aload_n hX dX0_readSymbols_11 rfl rfl ?_
    refine am_geti hX 16 q55 (by decide) rfl dX0_readSymbols_12 ?_
    refine am_top (b := (((bitsL (cvF bt) bt L).length : Nat) : Int)) h16 ?_
    refine am_icmp_ge hX (tgt := 83) dX0_readSymbols_15 (by decide) (by omega) (by omega) (fun h => ?_) (fun h => ?_)
    · refine am_iload_n hX dX0_readSymbols_83 rfl rfl ?_
      exact am_iret hX dX0_readSymbols_84 (K σ hf h18)
    · exact absurd h (by omega)
  | succ m ih =>
    intro k r a x5 σ ham ha hk hr hf h18
    have h16 : gF σ 16 = ((bitsL (cvF bt) bt L).length : Int) := (hf.1 16 (by decide)).trans h160
    have h14 : hA σ 14 7 bt := hA_fr h140 hf (by decide)
    have h15 : ∀ s, s < 7 → 1 ≤ bt s → gA σ 15 s = (cvF bt s : Int) := fun s hs q => (hf.2.1 15 (by decide) s).trans (h150 s hs q)
    have hST : ST (gJ σ) (bitsL (cvF bt) bt L) := ST_congr hST0 (hf.2.2 (by decide))
    have hkl : k < L.length := by
      rcases Nat.lt_or_ge k L.length with q | q
      · exact q
      · exfalso
        rw [List.take_of_length_le q] at ha
        rcases hr with e | e <;> omega
    obtain ⟨m1, m2, m3⟩ := hmem k hkl
    have hr' : r < bt (L.getD k 0) := by
      rcases hr with e | e
      · omega
      · exact e.2
    have hbit := rd_bit hST hkl hr' ha (by omega)
    have hg64 := hST.1 (a / 64) (by omega)
    have hcs := hcb _ m1
    have hdv1 : cvF bt (L.getD k 0) / 2 ^ (bt (L.getD k 0) - r) ≤ cvF bt (L.getD k 0) := Nat.div_le_self _ _
    have hdv2 : cvF bt (L.getD k 0) / 2 ^ (bt (L.getD k 0) - (r + 1)) ≤ cvF bt (L.getD k 0) := Nat.div_le_self _ _
    have hdg : gJ σ (a / 64) / 2 ^ (a % 64) < 2 ^ 64 := Nat.lt_of_le_of_lt (Nat.div_le_self _ _) hg64
    refine am_iload hX dX0_readSymbols_9 rfl ?_
    refine am_aload_n hX dX0_readSymbols_11 rfl rfl ?_
    refine am_geti hX 16 q55 (by decide) rfl dX0_readSymbols_12 ?_
    refine am_top (b := (((bitsL (cvF bt) bt L).length : Nat) : Int)) h16 ?_
    refine am_icmp_ge hX (tgt := 83) dX0_readSymbols_15 (by decide) (by omega) (by omega) (fun h => ?_) (fun h => ?_)
    · exact absurd h (by omega)
    · refine am_iconst hX dX0_readSymbols_18 ?_
      refine am_iload_n hX dX0_readSymbols_19 rfl rfl ?_
      refine am_imul hX dX0_readSymbols_20 ?_
      refine am_aload_n hX dX0_readSymbols_21 rfl rfl ?_
      refine am_geta hX 17 q56 (by decide) rfl dX0_readSymbols_22 ?_
      refine am_iload hX dX0_readSymbols_25 rfl ?_
      refine am_bipush hX dX0_readSymbols_27 (by decide) ?_
      refine am_ishr hX (x := a) (k := 6) dX0_readSymbols_29 (by omega) (by omega) (by omega) (by omega) ?_
      refine am_lald hX 12 rfl (a / 64) (by omega) (by omega) (by decide) dX0_readSymbols_30 ?_
      refine am_iload hX dX0_readSymbols_31 rfl ?_
      refine am_bipush hX dX0_readSymbols_33 (by decide) ?_
      refine am_iand hX (x := a) 6 dX0_readSymbols_35 (by omega) (by omega) (by decide) ?_
      refine am_lushr hX (k := a % 64) dX0_readSymbols_36 (by rfl) (by omega) hg64 ?_
      refine am_lconst hX dX0_readSymbols_37 ?_
      refine am_land1 hX dX0_readSymbols_38 hdg ?_
      refine am_l2i hX dX0_readSymbols_39 ?_
      refine am_iadd hX dX0_readSymbols_40 ?_
      refine am_top (b := ((cvF bt (L.getD k 0) / 2 ^ (bt (L.getD k 0) - (r + 1)) : Nat) : Int)) (by rw [← hbit]; omega) ?_
      refine am_istore_n hX dX0_readSymbols_41 rfl (by decide) ?_
      refine am_iincv hX dX0_readSymbols_42 rfl (by decide) (z2 := ((r + 1 : Nat) : Int)) (by omega) ?_
      refine am_aload_n hX dX0_readSymbols_45 rfl rfl ?_
      refine am_iload_n hX dX0_readSymbols_46 rfl rfl ?_
      refine am_iload_n hX dX0_readSymbols_47 rfl rfl ?_
      refine am_calli hX (met_symbolWith bt (r + 1) (cvF bt (L.getD k 0) / 2 ^ (bt (L.getD k 0) - (r + 1)))) [((r + 1 : Nat) : Int), ((cvF bt (L.getD k 0) / 2 ^ (bt (L.getD k 0) - (r + 1)) : Nat) : Int)] (lw_V q203 q205 qs15 q29 q206) ⟨rfl, rfl⟩ (nA := 2) (by decide +kernel) ⟨by decide, by decide⟩ rfl rfl (fun _ => Nat.le_of_ble_eq_true rfl) dX0_readSymbols_48 ⟨rfl, h14, fun s hs => HB_le hB hs, h15, hcb, by omega, by omega⟩ (fun z σ1 hz => ?_)
      obtain ⟨rfl, hz⟩ := hz
      have hzr : -3 ≤ z ∧ z < 7 := by rcases hz with ⟨q, _⟩ | ⟨b, q1, q2, _⟩ <;> omega
      refine am_istore hX dX0_readSymbols_51 (by decide) ?_
      refine am_iload hX dX0_readSymbols_53 rfl ?_
      refine am_if_ge hX (tgt := 61) dX0_readSymbols_55 (by decide) (by omega) (fun h2 => ?_) (fun h2 => ?_)
      · obtain ⟨s, hs, ez, eb, ec⟩ : ∃ s : Nat, s < 7 ∧ z = (s : Int) ∧ bt s = r + 1 ∧ cvF bt s = cvF bt (L.getD k 0) / 2 ^ (bt (L.getD k 0) - (r + 1)) := by
          rcases hz with ⟨q, _⟩ | q
          · omega
          · exact q
        subst ez
        have hfull : r + 1 = bt (L.getD k 0) := by
          rcases Nat.lt_or_ge (r + 1) (bt (L.getD k 0)) with q | q
          · exfalso
            exact cs_prefix m1 hs (by omega) (r := bt (L.getD k 0) - (r + 1)) (by omega) (by omega) (by omega) ec
          · omega
        have es : s = L.getD k 0 := by
          rw [hfull, Nat.sub_self, Nat.pow_zero, Nat.div_one] at ec
          exact cs_inj m1 hs (by omega) (by omega) ec
        subst es
        have htk := congrArg List.length (bitsL_take (cvF bt) bt L hkl)
        rw [List.length_append, sb_len] at htk
        have hc0 : cvF bt (L.getD (k + 1) 0) / 2 ^ (bt (L.getD (k + 1) 0) - 0) = 0 := by
          rw [Nat.sub_zero]
          exact Nat.div_eq_of_lt (cvF_lt hB (hd7 (k + 1)))
        refine am_aload_n hX dX0_readSymbols_61 rfl rfl ?_
        refine am_geta hX 18 q57 (by decide) rfl dX0_readSymbols_62 ?_
        refine am_iload_n hX dX0_readSymbols_65 rfl rfl ?_
        refine am_iload hX dX0_readSymbols_66 rfl ?_
        refine am_i2b hX dX0_readSymbols_68 (by omega) ?_
        refine am_bast hX 13 rfl (k) (by omega) (by omega) (by decide) (by omega) dX0_readSymbols_69 ?_
        refine am_iincv hX dX0_readSymbols_70 rfl (by decide) (z2 := ((k + 1 : Nat) : Int)) (by omega) ?_
        refine am_iconst hX dX0_readSymbols_73 ?_
        refine am_top (b := ((0 : Nat) : Int)) (by omega) ?_
        refine am_istore_n hX dX0_readSymbols_74 rfl (by decide) ?_
        refine am_iconst hX dX0_readSymbols_75 ?_
        refine am_top (b := ((cvF bt (L.getD (k + 1) 0) / 2 ^ (bt (L.getD (k + 1) 0) - 0) : Nat) : Int)) (by rw [hc0]; rfl) ?_
        refine am_istore_n hX dX0_readSymbols_76 rfl (by decide) ?_
        refine am_iincv hX dX0_readSymbols_77 rfl (by decide) (z2 := ((a + 1 : Nat) : Int)) (by omega) ?_
        refine am_goto hX (tgt := 9) dX0_readSymbols_80 (by decide) ?_
        exact ih (k + 1) 0 (a + 1) _ _ (by omega) (by omega) (by omega) (Or.inl rfl) (fr_wA hf (by decide) _) (hA_push h18 rfl)
      · have hpart : r + 1 < bt (L.getD k 0) := by
          rcases hz with ⟨_, q⟩ | ⟨s, _, q, _⟩
          · rcases Nat.lt_or_ge (r + 1) (bt (L.getD k 0)) with q2 | q2
            · exact q2
            · exfalso
              refine q (L.getD k 0) m1 ⟨by omega, ?_⟩
              rw [show bt (L.getD k 0) - (r + 1) = 0 by omega, Nat.pow_zero, Nat.div_one]
          · omega
        refine am_goto hX (tgt := 77) dX0_readSymbols_58 (by decide) ?_
        refine am_iincv hX dX0_readSymbols_77 rfl (by decide) (z2 := ((a + 1 : Nat) : Int)) (by omega) ?_
        refine am_goto hX (tgt := 9) dX0_readSymbols_80 (by decide) ?_
        exact ih k (r + 1) (a + 1) _ _ (by omega) (by omega) hk (Or.inr ⟨hkl, hpart⟩) hf h18
theorem met_readSymbols (bt : Nat → Nat) (L : List Nat) : aMet cdX0 yX0_readSymbols cX0_readSymbols 6 (some .int) (rmD 1)
    (fun as σ => as = [] ∧ L.length ≤ 32 ∧ (∀ s, s ∈ L → s < 7) ∧ hA σ 14 7 bt ∧ HB (cn L) bt ∧ (∀ s, s < 7 → 1 ≤ bt s → gA σ 15 s = (cvF bt s : Int)) ∧ gF σ 16 = ((bitsL (cvF bt) bt L).length : Int) ∧ ST (gJ σ) (bitsL (cvF bt) bt L))
    (fun _ σ r' σ' => ∃ z, r' = some z ∧ (z = (L.length : Int) ∧ fr [] [18] σ σ' ∧ hA σ' 18 L.length (fun j => L.getD j 0))) := by
  refine aMet.of am_cls0 (by decide) rfl (fun as σ h => by rw [h.1]; exact Nat.le_of_ble_eq_true rfl) ?_
  intro as σ X hpre hX
  obtain ⟨rfl, hlen, hL7, h14, hB, h15, h16, hST⟩ := hpre
  have hbl : (bitsL (cvF bt) bt L).length ≤ 200 := by
    have := bitsL_le (cvF bt) bt L (fun s hs => HB_le hB (hL7 s hs))
    omega
  have hd7 : L.getD 0 0 < 7 := by
    by_cases q : 0 < L.length
    · exact hL7 _ (getD_mem q)
    · rw [List.getD_eq_getElem?_getD, List.getElem?_eq_none (by omega)]; show 0 < 7; omega
  have hc0 : cvF bt (L.getD 0 0) / 2 ^ (bt (L.getD 0 0) - 0) = 0 := by
    rw [Nat.sub_zero]
    exact Nat.div_eq_of_lt (cvF_lt hB hd7)
  refine am_iconst hX dX0_readSymbols_0 ?_
  refine am_top (b := ((0 : Nat) : Int)) (by omega) ?_
  refine am_istore_n hX dX0_readSymbols_1 rfl (by decide) ?_
  refine am_iconst hX dX0_readSymbols_2 ?_
  refine am_top (b := ((0 : Nat) : Int)) (by omega) ?_
  refine am_istore_n hX dX0_readSymbols_3 rfl (by decide) ?_
  refine am_iconst hX dX0_readSymbols_4 ?_
  refine am_top (b := ((cvF bt (L.getD 0 0) / 2 ^ (bt (L.getD 0 0) - 0) : Nat) : Int)) (by rw [hc0]; rfl) ?_
  refine am_istore_n hX dX0_readSymbols_5 rfl (by decide) ?_
  refine am_iconst hX dX0_readSymbols_6 ?_
  refine am_top (b := ((0 : Nat) : Int)) (by omega) ?_
  refine am_istore hX dX0_readSymbols_7 (by decide) ?_
  exact rs_loop (σ0 := σ) hX hlen hL7 h14 hB h15 h16 hST hbl (fun σ1 hf h18 => ⟨_, rfl, rfl, hf, h18⟩) (bitsL (cvF bt) bt L).length 0 0 0 _ σ (by omega) rfl (by omega) (Or.inl rfl) (fr_refl _ _ _) (fun j hj => absurd hj (by omega))
/-! runs -/
theorem getD_app_l (E F : List Nat) {j : Nat} (h : j < E.length) : (E ++ F).getD j 0 = E.getD j 0 := by
  rw [List.getD_eq_getElem?_getD, List.getD_eq_getElem?_getD, List.getElem?_append_left h]
theorem ur_zero {c w k zs : Nat} {x1 x3 x4 x5 : Option am_V} {Z : List Nat} {σ0 : am_S} (hX : aOK cdX0 RX0 TX0 tyX0 cX0_undoRuns 8 (some .int) X) (hZ : c + zs ≤ 32) (hz0 : ∀ j, j < zs → Z.getD (c + j) 0 = 0)
    (K : ∀ x7 σ, fr [] [19] σ0 σ → hA σ 19 (c + zs) (fun j => Z.getD j 0) → aW cdX0 8 (rmD 0) X P 81 [vT, x1, vI (c : Int), x3, x4, x5, vI (zs : Int), x7] [] σ) :
    ∀ m z σ, z ≤ zs → zs < z + m → fr [] [19] σ0 σ → hA σ 19 (c + z) (fun j => Z.getD j 0) → aW cdX0 8 (rmD 0) X P 58 [vT, x1, vI (c : Int), x3, x4, x5, vI (zs : Int), vI (z : Int)] [] σ := by
  intro m
  induction m with
  | zero => intro z σ h1 h2; exact absurd h2 (by omega)
  | succ m ih =>
    intro z σ hz hm hf h19
    refine am_iload hX dX0_undoRuns_58 rfl ?_
    refine am_iload hX dX0_undoRuns_60 rfl ?_
    refine am_icmp_ge hX (tgt := 81) dX0_undoRuns_62 (by decide) (by omega) (by omega) (fun h => ?_) (fun h => ?_)
    · exact K _ σ hf (hA_le h19 (by omega))
    · refine am_aload_n hX dX0_undoRuns_65 rfl rfl ?_
      refine am_geta hX 19 q58 (by decide) rfl dX0_undoRuns_66 ?_
      refine am_iload_n hX dX0_undoRuns_69 rfl rfl ?_
      refine am_iload hX dX0_undoRuns_70 rfl ?_
      refine am_iadd hX dX0_undoRuns_72 ?_
      refine am_iconst hX dX0_undoRuns_73 ?_
      refine am_bast hX 14 rfl (c + z) (by omega) (by omega) (by decide) (by omega) dX0_undoRuns_74 ?_
      refine am_iincv hX dX0_undoRuns_75 rfl (by decide) (z2 := ((z + 1 : Nat) : Int)) (by omega) ?_
      refine am_goto hX (tgt := 58) dX0_undoRuns_78 (by decide) ?_
      exact ih (z + 1) _ (by omega) (by omega) (fr_wA hf (by decide) _) (hA_push (n := c + z) h19 (by rw [hz0 z (by omega)]; rfl))
theorem ur_loop {L Z : List Nat} {σ0 : am_S} (hX : aOK cdX0 RX0 TX0 tyX0 cX0_undoRuns 8 (some .int) X) (hlen : L.length ≤ 32) (hL7 : ∀ s, s ∈ L → s < 7) (hZ : Z.length ≤ 32) (h180 : hA σ0 18 L.length (fun j => L.getD j 0))
    (K : ∀ σ, fr [] [19] σ0 σ → hA σ 19 Z.length (fun j => Z.getD j 0) → P (some (Z.length : Int)) σ) :
    ∀ m k w E x5 x6 x7 σ, k + m = L.length → E ++ dec w (L.drop k) = Z → 1 ≤ w → w ≤ 64 → fr [] [19] σ0 σ → hA σ 19 E.length (fun j => Z.getD j 0) →
      aW cdX0 8 (rmD 0) X P 7 [vT, vI (L.length : Int), vI (E.length : Int), vI (w : Int), vI (k : Int), x5, x6, x7] [] σ := by
  intro m
  induction m with
  | zero =>
    intro k w E x5 x6 x7 σ hk hE hw1 hw hf h19
    rw [List.drop_of_length_le (by omega)] at hE
    have e : E = Z := by rw [← hE]; exact (List.append_nil E).symm
    subst e
    refine am_iload hX dX0_undoRuns_7 rfl ?_
    refine am_iload_n hX dX0_undoRuns_9 rfl rfl ?_
    refine am_icmp_ge hX (tgt := 96) dX0_undoRuns_10 (by decide) (by omega) (by omega) (fun h => ?_) (fun h => ?_)
    · refine am_iload_n hX dX0_undoRuns_96 rfl rfl ?_
      exact am_iret hX dX0_undoRuns_97 (K σ hf h19)
    · exact absurd h (by omega)
  | succ m ih =>
    intro k w E x5 x6 x7 σ hk hE hw1 hw hf h19
    have hkl : k < L.length := by omega
    have hs7 := hL7 _ (getD_mem hkl)
    have hdr : L.drop k = L.getD k 0 :: L.drop (k + 1) := by
      rw [List.drop_eq_getElem_cons hkl, List.getD_eq_getElem?_getD, List.getElem?_eq_getElem hkl]
      rfl
    rw [hdr] at hE
    refine am_iload hX dX0_undoRuns_7 rfl ?_
    refine am_iload_n hX dX0_undoRuns_9 rfl rfl ?_
    refine am_icmp_ge hX (tgt := 96) dX0_undoRuns_10 (by decide) (by omega) (by omega) (fun h => ?_) (fun h => ?_)
    · exact absurd h (by omega)
    · refine am_aload_n hX dX0_undoRuns_13 rfl rfl ?_
      refine am_geta hX 18 q57 (by decide) rfl dX0_undoRuns_14 ?_
      refine am_iload hX dX0_undoRuns_17 rfl ?_
      refine am_bald hX 13 rfl (k) (by omega) (by omega) (by decide) dX0_undoRuns_19 ?_
      refine am_top (b := ((L.getD k 0 : Nat) : Int)) (hA_fr h180 hf (by decide) k hkl) ?_
      refine am_istore hX dX0_undoRuns_20 (by decide) ?_
      refine am_iload hX dX0_undoRuns_22 rfl ?_
      refine am_iconst hX dX0_undoRuns_24 ?_
      refine am_icmp_le hX (tgt := 47) dX0_undoRuns_25 (by decide) (by omega) (by omega) (fun h2 => ?_) (fun h2 => ?_)
      · rw [dec_small w (by omega)] at hE
        have hle : E.length + w * (L.getD k 0 + 1) ≤ Z.length := by
          have := congrArg List.length hE
          rw [List.length_append, List.length_append, List.length_replicate] at this
          omega
        have hmul : w * 1 ≤ w * (L.getD k 0 + 1) := Nat.mul_le_mul_left _ (by omega)
        have hz0 : ∀ j, j < w * (L.getD k 0 + 1) → Z.getD (E.length + j) 0 = 0 := by
          intro j hj
          rw [← hE, List.getD_eq_getElem?_getD, List.getElem?_append_right (by omega), Nat.add_sub_cancel_left, List.getElem?_append_left (by rw [List.length_replicate]; exact hj), List.getElem?_replicate, if_pos hj]
          rfl
        refine am_iload_n hX dX0_undoRuns_47 rfl rfl ?_
        refine am_iload hX dX0_undoRuns_48 rfl ?_
        refine am_iconst hX dX0_undoRuns_50 ?_
        refine am_iadd hX dX0_undoRuns_51 ?_
        refine am_imul hX dX0_undoRuns_52 ?_
        refine am_top (b := ((w * (L.getD k 0 + 1) : Nat) : Int)) (by rw [Int.natCast_mul]; rfl) ?_
        refine am_istore hX dX0_undoRuns_53 (by decide) ?_
        refine am_iconst hX dX0_undoRuns_55 ?_
        refine am_top (b := ((0 : Nat) : Int)) (by omega) ?_
        refine am_istore hX dX0_undoRuns_56 (by decide) ?_
        refine ur_zero (σ0 := σ0) (Z := Z) (w := w) (k := k) hX (by omega) hz0 (fun x7 σ1 hf1 h191 => ?_) (w * (L.getD k 0 + 1) + 1) 0 σ (by omega) (by omega) hf h19
        have hEl : (E ++ List.replicate (w * (L.getD k 0 + 1)) 0).length = E.length + w * (L.getD k 0 + 1) := by rw [List.length_append, List.length_replicate]
        refine am_iload_n hX dX0_undoRuns_81 rfl rfl ?_
        refine am_iload hX dX0_undoRuns_82 rfl ?_
        refine am_iadd hX dX0_undoRuns_84 ?_
        refine am_top (b := (((E ++ List.replicate (w * (L.getD k 0 + 1)) 0).length : Nat) : Int)) (by rw [hEl]; rfl) ?_
        refine am_istore_n hX dX0_undoRuns_85 rfl (by decide) ?_
        refine am_iload_n hX dX0_undoRuns_86 rfl rfl ?_
        refine am_iconst hX dX0_undoRuns_87 ?_
        refine am_imul hX dX0_undoRuns_88 ?_
        refine am_top (b := ((w * 2 : Nat) : Int)) (by omega) ?_
        refine am_istore_n hX dX0_undoRuns_89 rfl (by decide) ?_
        refine am_iincv hX dX0_undoRuns_90 rfl (by decide) (z2 := ((k + 1 : Nat) : Int)) (by omega) ?_
        refine am_goto hX (tgt := 7) dX0_undoRuns_93 (by decide) ?_
        exact ih (k + 1) (w * 2) (E ++ List.replicate (w * (L.getD k 0 + 1)) 0) _ _ _ _ (by omega) (by rw [← hE, List.append_assoc]) (by omega) (by omega) hf1 (by rw [hEl]; exact h191)
      · rw [dec_big w (by omega)] at hE
        have hle : E.length + 1 ≤ Z.length := by
          have := congrArg List.length hE
          rw [List.length_append, List.length_cons] at this
          omega
        have hv : Z.getD E.length 0 = L.getD k 0 - 1 := by
          rw [← hE, List.getD_eq_getElem?_getD, List.getElem?_append_right (by omega), Nat.sub_self]
          rfl
        have hEl : (E ++ [L.getD k 0 - 1]).length = E.length + 1 := by rw [List.length_append]; rfl
        refine am_aload_n hX dX0_undoRuns_28 rfl rfl ?_
        refine am_geta hX 19 q58 (by decide) rfl dX0_undoRuns_29 ?_
        refine am_iload_n hX dX0_undoRuns_32 rfl rfl ?_
        refine am_iload hX dX0_undoRuns_33 rfl ?_
        refine am_iconst hX dX0_undoRuns_35 ?_
        refine am_isub hX dX0_undoRuns_36 ?_
        refine am_top (b := ((L.getD k 0 - 1 : Nat) : Int)) (by omega) ?_
        refine am_i2b hX dX0_undoRuns_37 (by omega) ?_
        refine am_bast hX 14 rfl (E.length) (by omega) (by omega) (by decide) (by omega) dX0_undoRuns_38 ?_
        refine am_iincv hX dX0_undoRuns_39 rfl (by decide) (z2 := (((E ++ [L.getD k 0 - 1]).length : Nat) : Int)) (by rw [hEl]; rfl) ?_
        refine am_iconst hX dX0_undoRuns_42 ?_
        refine am_top (b := ((1 : Nat) : Int)) (by omega) ?_
        refine am_istore_n hX dX0_undoRuns_43 rfl (by decide) ?_
        refine am_goto hX (tgt := 90) dX0_undoRuns_44 (by decide) ?_
        refine am_iincv hX dX0_undoRuns_90 rfl (by decide) (z2 := ((k + 1 : Nat) : Int)) (by omega) ?_
        refine am_goto hX (tgt := 7) dX0_undoRuns_93 (by decide) ?_
        exact ih (k + 1) 1 (E ++ [L.getD k 0 - 1]) _ _ _ _ (by omega) (by rw [← hE]; simp) (by omega) (by omega) (fr_wA hf (by decide) _) (by rw [hEl]; exact hA_push h19 (by rw [hv]))
theorem met_undoRuns (L Z : List Nat) : aMet cdX0 yX0_undoRuns cX0_undoRuns 8 (some .int) (rmD 0)
    (fun as σ => as = [(L.length : Int)] ∧ L.length ≤ 32 ∧ (∀ s, s ∈ L → s < 7) ∧ Z.length ≤ 32 ∧ dec 1 L = Z ∧ hA σ 18 L.length (fun j => L.getD j 0))
    (fun _ σ r' σ' => ∃ z, r' = some z ∧ (z = (Z.length : Int) ∧ fr [] [19] σ σ' ∧ hA σ' 19 Z.length (fun j => Z.getD j 0))) := by
  refine aMet.of am_cls0 (by decide) rfl (fun as σ h => by rw [h.1]; exact Nat.le_of_ble_eq_true rfl) ?_
  intro as σ X hpre hX
  obtain ⟨rfl, hlen, hL7, hZ, hdec, h18⟩ := hpre
  refine am_iconst hX dX0_undoRuns_0 ?_
  refine am_top (b := ((([] : List Nat).length : Nat) : Int)) rfl ?_
  refine am_istore_n hX dX0_undoRuns_1 rfl (by decide) ?_
  refine am_iconst hX dX0_undoRuns_2 ?_
  refine am_top (b := ((1 : Nat) : Int)) (by omega) ?_
  refine am_istore_n hX dX0_undoRuns_3 rfl (by decide) ?_
  refine am_iconst hX dX0_undoRuns_4 ?_
  refine am_top (b := ((0 : Nat) : Int)) (by omega) ?_
  refine am_istore hX dX0_undoRuns_5 (by decide) ?_
  exact ur_loop (σ0 := σ) hX hlen hL7 hZ h18 (fun σ1 hf h19 => ⟨_, rfl, rfl, hf, h19⟩) L.length 0 1 [] _ _ _ σ (by omega) hdec (by omega) (by omega) (fr_refl _ _ _) (fun j hj => absurd hj (by simp))
/-! ranks -/
theorem uk_loop {n : Nat} {c : Nat → Nat} {σ0 : am_S} (hX : aOK cdX0 RX0 TX0 tyX0 cX0_undoRanks 4 none X) (hn32 : n ≤ 32) (hcb : ∀ j, j < n → c j < 6) (h190 : hA σ0 19 n (rkC c))
    (K : ∀ σ, fr [] [11, 18] σ0 σ → hA σ 18 n c → P none σ) :
    ∀ m k x3 σ, k ≤ n → n < k + m → fr [] [11, 18] σ0 σ → hA σ 11 6 (rowC c k) → hA σ 18 k c → aW cdX0 4 (rmD 1) X P 6 [vT, vI (n : Int), vI (k : Int), x3] [] σ := by
  intro m
  induction m with
  | zero => intro k x3 σ h1 h2; exact absurd h2 (by omega)
  | succ m ih =>
    intro k x3 σ hk hm hf hw h18
    refine am_iload_n hX dX0_undoRanks_6 rfl rfl ?_
    refine am_iload_n hX dX0_undoRanks_7 rfl rfl ?_
    refine am_icmp_ge hX (tgt := 41) dX0_undoRanks_8 (by decide) (by omega) (by omega) (fun h => ?_) (fun h => ?_)
    · exact am_vret hX dX0_undoRanks_41 (K σ hf (hA_le h18 (by omega)))
    · have hrk := rkC_lt c k
      have hck := hcb k (by omega)
      have hv : gA σ 11 (rkC c k) = (c k : Int) := by rw [hw _ hrk, rowC_rk hck]
      refine am_aload_n hX dX0_undoRanks_11 rfl rfl ?_
      refine am_geta hX 19 q58 (by decide) rfl dX0_undoRanks_12 ?_
      refine am_iload_n hX dX0_undoRanks_15 rfl rfl ?_
      refine am_bald hX 14 rfl (k) (by omega) (by omega) (by decide) dX0_undoRanks_16 ?_
      refine am_top (b := ((rkC c k : Nat) : Int)) (hA_fr h190 hf (by decide) k (by omega)) ?_
      refine am_istore_n hX dX0_undoRanks_17 rfl (by decide) ?_
      refine am_aload_n hX dX0_undoRanks_18 rfl rfl ?_
      refine am_geta hX 18 q57 (by decide) rfl dX0_undoRanks_19 ?_
      refine am_iload_n hX dX0_undoRanks_22 rfl rfl ?_
      refine am_aload_n hX dX0_undoRanks_23 rfl rfl ?_
      refine am_geta hX 11 q50 (by decide) rfl dX0_undoRanks_24 ?_
      refine am_iload_n hX dX0_undoRanks_27 rfl rfl ?_
      refine am_bald hX 7 rfl (rkC c k) (by omega) (by omega) (by decide) dX0_undoRanks_28 ?_
      refine am_top (b := ((c k : Nat) : Int)) hv ?_
      refine am_bast hX 13 rfl (k) (by omega) (by omega) (by decide) (by omega) dX0_undoRanks_29 ?_
      refine am_aload_n hX dX0_undoRanks_30 rfl rfl ?_
      refine am_iload_n hX dX0_undoRanks_31 rfl rfl ?_
      refine am_callv hX (met_toFront (rowC c k) (rkC c k)) [(rkC c k : Int)] (lw_V q147 q149 qs7 q29 q150) ⟨rfl, rfl⟩ (nA := 1) (by decide +kernel) ⟨by decide, by decide⟩ rfl rfl (fun _ => Nat.le_of_ble_eq_true rfl) dX0_undoRanks_32 ⟨rfl, hrk, fun j hj => hw j hj, (rowC_ok c k).1⟩ (fun σ1 hq => ?_)
      refine am_iincv hX dX0_undoRanks_35 rfl (by decide) (z2 := ((k + 1 : Nat) : Int)) (by omega) ?_
      refine am_goto hX (tgt := 6) dX0_undoRanks_38 (by decide) ?_
      exact ih (k + 1) _ _ (by omega) (by omega) (fr_trans (fr_wA hf (by decide) _) (fr_mono hq.1 (by decide) (by decide))) hq.2 (hA_fr (hA_push h18 rfl) hq.1 (by decide))
theorem met_undoRanks (n : Nat) (c : Nat → Nat) : aMet cdX0 yX0_undoRanks cX0_undoRanks 4 none (rmD 1)
    (fun as σ => as = [(n : Int)] ∧ n ≤ 32 ∧ (∀ j, j < n → c j < 6) ∧ hA σ 19 n (rkC c))
    (fun _ σ r' σ' => r' = none ∧ (fr [] [11, 18] σ σ' ∧ hA σ' 18 n c)) := by
  refine aMet.of am_cls0 (by decide) rfl (fun as σ h => by rw [h.1]; exact Nat.le_of_ble_eq_true rfl) ?_
  intro as σ X hpre hX
  obtain ⟨rfl, hn32, hcb, h19⟩ := hpre
  refine am_aload_n hX dX0_undoRanks_0 rfl rfl ?_
  refine am_callv hX (met_resetRow) [] (lw_V q143 q145 qs6 q29 q146) ⟨rfl, rfl⟩ (nA := 0) (by decide +kernel) ⟨by decide, by decide⟩ rfl rfl (fun _ => Nat.le_of_ble_eq_true rfl) dX0_undoRanks_1 rfl (fun σ1 hq => ?_)
  refine am_iconst hX dX0_undoRanks_4 ?_
  refine am_top (b := ((0 : Nat) : Int)) (by omega) ?_
  refine am_istore_n hX dX0_undoRanks_5 rfl (by decide) ?_
  exact uk_loop (σ0 := σ) hX hn32 hcb h19 (fun σ2 hf h18 => ⟨rfl, hf, h18⟩) 33 0 _ σ1 (by omega) (by omega) (fr_mono hq.1 (by decide) (by decide)) hq.2 (fun j hj => absurd hj (by omega))
end WH
end
section
/-! PURE: counting sort, the operations on the text -/
def ind (c : Nat → Nat) (l k q : Nat) : Nat := if c q < l ∨ (c q = l ∧ q < k) then 1 else 0
theorem ind_congr {c : Nat → Nat} {l k l' k' q : Nat} (h : (c q < l ∨ (c q = l ∧ q < k)) ↔ (c q < l' ∨ (c q = l' ∧ q < k'))) : ind c l k q = ind c l' k' q := by
  unfold ind
  by_cases e : c q < l ∨ (c q = l ∧ q < k)
  · rw [if_pos e, if_pos (h.mp e)]
  · rw [if_neg e, if_neg (fun z => e (h.mpr z))]
theorem sm_ones : ∀ m, sm (fun _ => 1) m = m := by
  intro m
  induction m with
  | zero => rfl
  | succ m ih => show sm (fun _ => 1) m + 1 = _; rw [ih]
def US (c : Nat → Nat) (n : Nat) (st : Nat → Nat) (to l k : Nat) : Prop := (∀ f : Nat → Nat, sm (fun j => f (st j)) to = sm (fun q => ind c l k q * f q) n) ∧ (∀ i, i < to → st i < n ∧ ind c l k (st i) = 1) ∧ ∀ i j, i < j → j < to → c (st i) < c (st j) ∨ (c (st i) = c (st j) ∧ st i < st j)
theorem US_start (c : Nat → Nat) (n : Nat) (st : Nat → Nat) : US c n st 0 0 0 := by
  refine ⟨fun f => ?_, fun i hi => absurd hi (by omega), fun i j _ hj => absurd hj (by omega)⟩
  rw [sm_zero (f := fun q => ind c 0 0 q * f q) (fun q _ => by unfold ind; rw [if_neg (by omega), Nat.zero_mul])]
  rfl
theorem US_same {c st : Nat → Nat} {n to l k l' k' : Nat} (h : US c n st to l k) (e : ∀ q, q < n → ind c l k q = ind c l' k' q) : US c n st to l' k' := by
  refine ⟨fun f => ?_, fun i hi => ⟨(h.2.1 i hi).1, ?_⟩, h.2.2⟩
  · rw [h.1 f]
    exact sm_congr (fun q hq => by rw [e q hq])
  · rw [← e _ (h.2.1 i hi).1]
    exact (h.2.1 i hi).2
theorem US_skip {c st : Nat → Nat} {n to l k : Nat} (h : US c n st to l k) (hc : c k ≠ l) : US c n st to l (k + 1) := US_same h (fun q _ => ind_congr (by
  by_cases e : q = k
  · subst e; omega
  · omega))
theorem US_next {c st : Nat → Nat} {n to l : Nat} (h : US c n st to l n) : US c n st to (l + 1) 0 := US_same h (fun q _ => ind_congr (by omega))
theorem US_push {c st : Nat → Nat} {n to l k : Nat} (h : US c n st to l k) (hk : k < n) (hc : c k = l) : to < n ∧ US c n (up st to k) (to + 1) l (k + 1) := by
  have h0 : ind c l k k = 0 := by unfold ind; rw [if_neg (by omega)]
  have h1 : ind c l (k + 1) k = 1 := by unfold ind; rw [if_pos (by omega)]
  have ho : ∀ q, q ≠ k → ind c l (k + 1) q = ind c l k q := fun q hq => ind_congr (by omega)
  have key : ∀ f : Nat → Nat, sm (fun q => ind c l (k + 1) q * f q) n = sm (fun q => ind c l k q * f q) n + f k := by
    intro f
    have h2 := sm_up (fun q => ind c l k q * f q) (k := k) (f k) hk
    rw [h0, Nat.zero_mul] at h2
    have h3 : sm (fun q => ind c l (k + 1) q * f q) n = sm (up (fun q => ind c l k q * f q) k (f k)) n := sm_congr (fun q _ => by
      by_cases e : q = k
      · subst e; rw [up_s, h1, Nat.one_mul]
      · rw [up_n _ _ e, ho q e])
    omega
  refine ⟨?_, fun f => ?_, fun i hi => ?_, fun i j hij hj => ?_⟩
  · have a := h.1 (fun _ => 1)
    have b := key (fun _ => 1)
    rw [sm_ones] at a
    have c1 : sm (fun q => ind c l (k + 1) q * 1) n ≤ sm (fun _ => 1) n := sm_le (fun q _ => by unfold ind; split <;> omega)
    rw [sm_ones] at c1
    omega
  · rw [key f, ← h.1 f]
    show sm (fun j => f (up st to k j)) to + f (up st to k to) = _
    rw [up_s, sm_congr (f := fun j => f (up st to k j)) (g := fun j => f (st j)) (fun j hj => by rw [up_n _ _ (by omega)])]
  · by_cases e : i = to
    · subst e; rw [up_s]; exact ⟨hk, h1⟩
    · rw [up_n _ _ e]
      obtain ⟨a, b⟩ := h.2.1 i (by omega)
      refine ⟨a, ?_⟩
      by_cases q : st i = k
      · rw [q]; exact h1
      · rw [ho _ q]; exact b
  · rw [up_n _ _ (by omega : i ≠ to)]
    by_cases e : j = to
    · subst e
      rw [up_s]
      have b := (h.2.1 i hij).2
      unfold ind at b
      split at b
      · next q => omega
      · omega
    · rw [up_n _ _ e]
      exact h.2.2 i j hij (by omega)
theorem US_end {c st : Nat → Nat} {n to : Nat} (h : US c n st to 6 0) (hc : ∀ q, q < n → c q < 6) : to = n ∧ CSo c n st := by
  have key : ∀ f : Nat → Nat, sm (fun j => f (st j)) to = sm f n := fun f => by
    rw [h.1 f]
    exact sm_congr (fun q hq => by unfold ind; rw [if_pos (Or.inl (hc q hq)), Nat.one_mul])
  have e := key (fun _ => 1)
  rw [sm_ones, sm_ones] at e
  subst e
  exact ⟨rfl, key, h.2.2⟩
/-! operations on the text -/
def tyR (n : Nat) (z : Int) : Int := if n = 32 then -2 else if z < 0 ∨ 6 ≤ z then -1 else (n : Int) + 1
def tyN (n : Nat) (z : Int) : Nat := if n = 32 then n else if z < 0 ∨ 6 ≤ z then n else n + 1
def tyT (n : Nat) (t : Nat → Nat) (z : Int) : Nat → Nat := if n = 32 then t else if z < 0 ∨ 6 ≤ z then t else up t n z.toNat
def rpR (n : Nat) (z : Int) : Int := if z < 1 ∨ (n : Int) < z then -1 else if 32 < (n : Int) + z then -2 else (n : Int) + z
def rpN (n : Nat) (z : Int) : Nat := if z < 1 ∨ (n : Int) < z then n else if 32 < (n : Int) + z then n else n + z.toNat
def rpF (n : Nat) (t : Nat → Nat) (c : Nat) : Nat → Nat := fun j => if j < n then t j else t (j - c)
def rpT (n : Nat) (t : Nat → Nat) (z : Int) : Nat → Nat := if z < 1 ∨ (n : Int) < z then t else if 32 < (n : Int) + z then t else rpF n t z.toNat
theorem ty_full {z : Int} : tyR 32 z = -2 ∧ tyN 32 z = 32 ∧ ∀ t, tyT 32 t z = t := ⟨rfl, rfl, fun _ => rfl⟩
theorem ty_bad {n : Nat} {z : Int} (h : n ≠ 32) (hz : z < 0 ∨ 6 ≤ z) : tyR n z = -1 ∧ tyN n z = n ∧ ∀ t, tyT n t z = t := by
  unfold tyR tyN tyT
  rw [if_neg h, if_neg h, if_pos hz, if_pos hz]
  exact ⟨rfl, rfl, fun t => by rw [if_neg h, if_pos hz]⟩
theorem ty_ok {n k : Nat} (h : n ≠ 32) (hk : k < 6) : tyR n (k : Int) = (n : Int) + 1 ∧ tyN n (k : Int) = n + 1 ∧ ∀ t, tyT n t (k : Int) = up t n k := by
  have hz : ¬ ((k : Int) < 0 ∨ 6 ≤ (k : Int)) := by omega
  unfold tyR tyN tyT
  rw [if_neg h, if_neg h, if_neg hz, if_neg hz]
  exact ⟨rfl, rfl, fun t => by rw [if_neg h, if_neg hz, Int.toNat_natCast]⟩
theorem rp_bad {n : Nat} {z : Int} (hz : z < 1 ∨ (n : Int) < z) : rpR n z = -1 ∧ rpN n z = n ∧ ∀ t, rpT n t z = t := by
  unfold rpR rpN rpT
  rw [if_pos hz, if_pos hz]
  exact ⟨rfl, rfl, fun t => by rw [if_pos hz]⟩
theorem rp_full {n : Nat} {z : Int} (hz : ¬ (z < 1 ∨ (n : Int) < z)) (hf : 32 < (n : Int) + z) : rpR n z = -2 ∧ rpN n z = n ∧ ∀ t, rpT n t z = t := by
  unfold rpR rpN rpT
  rw [if_neg hz, if_neg hz, if_pos hf, if_pos hf]
  exact ⟨rfl, rfl, fun t => by rw [if_neg hz, if_pos hf]⟩
theorem rp_ok {n k : Nat} (h1 : 1 ≤ k) (h2 : k ≤ n) (hf : n + k ≤ 32) : rpR n (k : Int) = ((n + k : Nat) : Int) ∧ rpN n (k : Int) = n + k ∧ ∀ t, rpT n t (k : Int) = rpF n t k := by
  have hz : ¬ ((k : Int) < 1 ∨ (n : Int) < (k : Int)) := by omega
  have hg : ¬ 32 < (n : Int) + (k : Int) := by omega
  unfold rpR rpN rpT
  rw [if_neg hz, if_neg hz, if_neg hg, if_neg hg, Int.toNat_natCast]
  exact ⟨by omega, rfl, fun t => by rw [if_neg hz, if_neg hg]⟩
theorem rpF_lt {n k : Nat} {t : Nat → Nat} (h1 : 1 ≤ k) (h2 : k ≤ n) (ht : ∀ j, j < n → t j < 6) : ∀ j, j < n + k → rpF n t k j < 6 := by
  intro j hj
  unfold rpF
  split
  · exact ht j (by assumption)
  · exact ht _ (by omega)
theorem up_lt {n k : Nat} {t : Nat → Nat} (hk : k < 6) (ht : ∀ j, j < n → t j < 6) : ∀ j, j < n + 1 → up t n k j < 6 := by
  intro j hj
  by_cases e : j = n
  · rw [e, up_s]; exact hk
  · rw [up_n _ _ e]; exact ht j (by omega)
/-! sets of symbols -/
def SS (L : List Nat) (k S : Nat) : Prop := S < 128 ∧ ∀ s, s < 7 → S.testBit s = decide (0 < cn (L.take k) s)
theorem SS_start (L : List Nat) : SS L 0 0 := by
  refine ⟨by omega, fun s _ => ?_⟩
  rw [Nat.zero_testBit, List.take_zero]
  rfl
theorem SS_step {L : List Nat} {k S : Nat} (h : SS L k S) (hk : k < L.length) (h7 : L.getD k 0 < 7) : SS L (k + 1) (S ||| 1 * 2 ^ (L.getD k 0)) := by
  rw [Nat.one_mul]
  refine ⟨Nat.or_lt_two_pow (n := 7) h.1 (Nat.pow_lt_pow_right (by decide) h7), fun s hs => ?_⟩
  rw [Nat.testBit_or, h.2 s hs, Nat.testBit_two_pow, cn_take L hk]
  by_cases e : L.getD k 0 = s
  · rw [if_pos e, decide_eq_true e, Bool.or_true]
    symm
    rw [decide_eq_true_iff]
    omega
  · rw [if_neg e, decide_eq_false e, Bool.or_false, Nat.add_zero]
theorem SS_bit {L : List Nat} {S s : Nat} (h : SS L L.length S) (hs : s < 7) : S / 2 ^ s % 2 ^ 1 = if 0 < cn L s then 1 else 0 := by
  have h1 := h.2 s hs
  rw [List.take_length, Nat.testBit_eq_decide_div_mod_eq, decide_eq_decide] at h1
  rw [Nat.pow_one]
  have h2 : S / 2 ^ s % 2 < 2 := Nat.mod_lt _ (by decide)
  by_cases e : 0 < cn L s
  · rw [if_pos e]; exact h1.mpr e
  · rw [if_neg e]
    have : ¬ S / 2 ^ s % 2 = 1 := fun q => e (h1.mp q)
    omega
end
section
/-! BlockCoder: undoing the sorting; what is asked of it -/
set_option maxRecDepth 100000
section WI
variable {X : am_X} {P : Option Int → am_S → Prop}
theorem us_in {n : Nat} {c : Nat → Nat} {l : Nat} {σ0 : am_S} (hX : aOK cdX0 RX0 TX0 tyX0 cX0_undoSorting 5 none X) (hn32 : n ≤ 32) (hcb : ∀ j, j < n → c j < 6) (hl : l < 6) (h180 : hA σ0 18 n c)
    (K : ∀ to st σ, fr [] [19] σ0 σ → to ≤ n → hA σ 19 to st → US c n st to l n → aW cdX0 5 (rmD 0) X P 51 [vT, vI (n : Int), vI (to : Int), vI (l : Int), vI (n : Int)] [] σ) :
    ∀ m k to st σ, k ≤ n → n < k + m → fr [] [19] σ0 σ → to ≤ n → hA σ 19 to st → US c n st to l k → aW cdX0 5 (rmD 0) X P 13 [vT, vI (n : Int), vI (to : Int), vI (l : Int), vI (k : Int)] [] σ := by
  intro m
  induction m with
  | zero => intro k to st σ h1 h2; exact absurd h2 (by omega)
  | succ m ih =>
    intro k to st σ hk hm hf hto h19 hU
    refine am_iload hX dX0_undoSorting_13 rfl ?_
    refine am_iload_n hX dX0_undoSorting_15 rfl rfl ?_
    refine am_icmp_ge hX (tgt := 51) dX0_undoSorting_16 (by decide) (by omega) (by omega) (fun h => ?_) (fun h => ?_)
    · have e : k = n := by omega
      subst e
      exact K to st σ hf hto h19 hU
    · have hck := hcb k (by omega)
      refine am_aload_n hX dX0_undoSorting_19 rfl rfl ?_
      refine am_geta hX 18 q57 (by decide) rfl dX0_undoSorting_20 ?_
      refine am_iload hX dX0_undoSorting_23 rfl ?_
      refine am_bald hX 13 rfl (k) (by omega) (by omega) (by decide) dX0_undoSorting_25 ?_
      refine am_top (b := ((c k : Nat) : Int)) (hA_fr h180 hf (by decide) k (by omega)) ?_
      refine am_iload_n hX dX0_undoSorting_26 rfl rfl ?_
      refine am_icmp_eq hX (tgt := 33) dX0_undoSorting_27 (by decide) (by omega) (by omega) (fun h2 => ?_) (fun h2 => ?_)
      · obtain ⟨hlt, hU2⟩ := US_push hU (show k < n by omega) (show c k = l by omega)
        refine am_aload_n hX dX0_undoSorting_33 rfl rfl ?_
        refine am_geta hX 19 q58 (by decide) rfl dX0_undoSorting_34 ?_
        refine am_iload_n hX dX0_undoSorting_37 rfl rfl ?_
        refine am_iload hX dX0_undoSorting_38 rfl ?_
        refine am_i2b hX dX0_undoSorting_40 (by omega) ?_
        refine am_bast hX 14 rfl (to) (by omega) (by omega) (by decide) (by omega) dX0_undoSorting_41 ?_
        refine am_iincv hX dX0_undoSorting_42 rfl (by decide) (z2 := ((to + 1 : Nat) : Int)) (by omega) ?_
        refine am_iincv hX dX0_undoSorting_45 rfl (by decide) (z2 := ((k + 1 : Nat) : Int)) (by omega) ?_
        refine am_goto hX (tgt := 13) dX0_undoSorting_48 (by decide) ?_
        exact ih (k + 1) (to + 1) (up st to k) _ (by omega) (by omega) (fr_wA hf (by decide) _) hlt (hA_push (hA_congr h19 (fun j hj => (up_n _ _ (by omega)).symm)) (by rw [up_s])) hU2
      · refine am_goto hX (tgt := 45) dX0_undoSorting_30 (by decide) ?_
        refine am_iincv hX dX0_undoSorting_45 rfl (by decide) (z2 := ((k + 1 : Nat) : Int)) (by omega) ?_
        refine am_goto hX (tgt := 13) dX0_undoSorting_48 (by decide) ?_
        exact ih (k + 1) to st _ (by omega) (by omega) hf hto h19 (US_skip hU (fun q => h2 (by rw [q])))
theorem us_out {n : Nat} {c : Nat → Nat} {σ0 : am_S} (hX : aOK cdX0 RX0 TX0 tyX0 cX0_undoSorting 5 none X) (hn32 : n ≤ 32) (hcb : ∀ j, j < n → c j < 6) (h180 : hA σ0 18 n c)
    (K : ∀ x2 x3 x4 st σ, fr [] [19] σ0 σ → hA σ 19 n st → CSo c n st → aW cdX0 5 (rmD 0) X P 57 [vT, vI (n : Int), x2, x3, x4] [] σ) :
    ∀ m l to st x4 σ, l ≤ 6 → 6 < l + m → fr [] [19] σ0 σ → to ≤ n → hA σ 19 to st → US c n st to l 0 → aW cdX0 5 (rmD 0) X P 4 [vT, vI (n : Int), vI (to : Int), vI (l : Int), x4] [] σ := by
  intro m
  induction m with
  | zero => intro l to st x4 σ h1 h2; exact absurd h2 (by omega)
  | succ m ih =>
    intro l to st x4 σ hl hm hf hto h19 hU
    refine am_iload_n hX dX0_undoSorting_4 rfl rfl ?_
    refine am_bipush hX dX0_undoSorting_5 (by decide) ?_
    refine am_icmp_ge hX (tgt := 57) dX0_undoSorting_7 (by decide) (by omega) (by omega) (fun h => ?_) (fun h => ?_)
    · have e : l = 6 := by omega
      subst e
      obtain ⟨et, hC⟩ := US_end hU hcb
      subst et
      exact K _ _ _ st σ hf h19 hC
    · refine am_iconst hX dX0_undoSorting_10 ?_
      refine am_top (b := ((0 : Nat) : Int)) (by omega) ?_
      refine am_istore hX dX0_undoSorting_11 (by decide) ?_
      refine us_in (σ0 := σ0) hX hn32 hcb (by omega) h180 (fun to2 st2 σ2 hf2 hto2 h192 hU2 => ?_) 33 0 to st σ (by omega) (by omega) hf hto h19 hU
      refine am_iincv hX dX0_undoSorting_51 rfl (by decide) (z2 := ((l + 1 : Nat) : Int)) (by omega) ?_
      refine am_goto hX (tgt := 4) dX0_undoSorting_54 (by decide) ?_
      exact ih (l + 1) to2 st2 _ _ (by omega) (by omega) hf2 hto2 h192 (US_next hU2)
theorem us_copy {n : Nat} {c : Nat → Nat} {y2 y4 : Option am_V} {σ0 : am_S} (hX : aOK cdX0 RX0 TX0 tyX0 cX0_undoSorting 5 none X) (hn32 : n ≤ 32) (hcb : ∀ j, j < n → c j < 6) (h180 : hA σ0 18 n c)
    (K : ∀ x3 σ, fr [] [4] σ0 σ → hA σ 4 n c → aW cdX0 5 (rmD 0) X P 82 [vT, vI (n : Int), y2, x3, y4] [] σ) :
    ∀ m k σ, k ≤ n → n < k + m → fr [] [4] σ0 σ → hA σ 4 k c → aW cdX0 5 (rmD 0) X P 59 [vT, vI (n : Int), y2, vI (k : Int), y4] [] σ := by
  intro m
  induction m with
  | zero => intro k σ h1 h2; exact absurd h2 (by omega)
  | succ m ih =>
    intro k σ hk hm hf h4
    refine am_iload_n hX dX0_undoSorting_59 rfl rfl ?_
    refine am_iload_n hX dX0_undoSorting_60 rfl rfl ?_
    refine am_icmp_ge hX (tgt := 82) dX0_undoSorting_61 (by decide) (by omega) (by omega) (fun h => ?_) (fun h => ?_)
    · exact K _ σ hf (hA_le h4 (by omega))
    · have hck := hcb k (by omega)
      refine am_aload_n hX dX0_undoSorting_64 rfl rfl ?_
      refine am_geta hX 4 q43 (by decide) rfl dX0_undoSorting_65 ?_
      refine am_iload_n hX dX0_undoSorting_68 rfl rfl ?_
      refine am_aload_n hX dX0_undoSorting_69 rfl rfl ?_
      refine am_geta hX 18 q57 (by decide) rfl dX0_undoSorting_70 ?_
      refine am_iload_n hX dX0_undoSorting_73 rfl rfl ?_
      refine am_bald hX 13 rfl (k) (by omega) (by omega) (by decide) dX0_undoSorting_74 ?_
      refine am_top (b := ((c k : Nat) : Int)) (hA_fr h180 hf (by decide) k (by omega)) ?_
      refine am_bast hX 3 rfl (k) (by omega) (by omega) (by decide) (by omega) dX0_undoSorting_75 ?_
      refine am_iincv hX dX0_undoSorting_76 rfl (by decide) (z2 := ((k + 1 : Nat) : Int)) (by omega) ?_
      refine am_goto hX (tgt := 59) dX0_undoSorting_79 (by decide) ?_
      exact ih (k + 1) _ (by omega) (by omega) (fr_wA hf (by decide) _) (hA_push h4 rfl)
theorem us_back {n : Nat} {c st t : Nat → Nat} {mk : Nat} {y2 : Option am_V} {σ0 : am_S} (hX : aOK cdX0 RX0 TX0 tyX0 cX0_undoSorting 5 none X) (hn32 : n ≤ 32) (htb : ∀ j, j < n → t j < 6) (hat : ∀ k, it st mk k < n) (hib : ∀ k, k < n → c (it st mk (k + 1)) = t k) (h40 : hA σ0 4 n c) (h190 : hA σ0 19 n st)
    (K : ∀ σ, fr [] [18] σ0 σ → hA σ 18 n t → P none σ) :
    ∀ m k σ, k ≤ n → n < k + m → fr [] [18] σ0 σ → hA σ 18 k t → aW cdX0 5 (rmD 0) X P 90 [vT, vI (n : Int), y2, vI (it st mk k : Int), vI (k : Int)] [] σ := by
  intro m
  induction m with
  | zero => intro k σ h1 h2; exact absurd h2 (by omega)
  | succ m ih =>
    intro k σ hk hm hf h18
    refine am_iload hX dX0_undoSorting_90 rfl ?_
    refine am_iload_n hX dX0_undoSorting_92 rfl rfl ?_
    refine am_icmp_ge hX (tgt := 122) dX0_undoSorting_93 (by decide) (by omega) (by omega) (fun h => ?_) (fun h => ?_)
    · exact am_vret hX dX0_undoSorting_122 (K σ hf (hA_le h18 (by omega)))
    · have ha := hat k
      have ha1 := hat (k + 1)
      have htk := htb k (by omega)
      have hs : gA σ 19 (it st mk k) = (it st mk (k + 1) : Int) := hA_fr h190 hf (by decide) _ ha
      have hv : gA σ 4 (it st mk (k + 1)) = (t k : Int) := by rw [hA_fr h40 hf (by decide) _ ha1, hib k (by omega)]
      refine am_aload_n hX dX0_undoSorting_96 rfl rfl ?_
      refine am_geta hX 19 q58 (by decide) rfl dX0_undoSorting_97 ?_
      refine am_iload_n hX dX0_undoSorting_100 rfl rfl ?_
      refine am_bald hX 14 rfl (it st mk k) (by omega) (by omega) (by decide) dX0_undoSorting_101 ?_
      refine am_top (b := ((it st mk (k + 1) : Nat) : Int)) hs ?_
      refine am_istore_n hX dX0_undoSorting_102 rfl (by decide) ?_
      refine am_aload_n hX dX0_undoSorting_103 rfl rfl ?_
      refine am_geta hX 18 q57 (by decide) rfl dX0_undoSorting_104 ?_
      refine am_iload hX dX0_undoSorting_107 rfl ?_
      refine am_aload_n hX dX0_undoSorting_109 rfl rfl ?_
      refine am_geta hX 4 q43 (by decide) rfl dX0_undoSorting_110 ?_
      refine am_iload_n hX dX0_undoSorting_113 rfl rfl ?_
      refine am_bald hX 3 rfl (it st mk (k + 1)) (by omega) (by omega) (by decide) dX0_undoSorting_114 ?_
      refine am_top (b := ((t k : Nat) : Int)) hv ?_
      refine am_bast hX 13 rfl (k) (by omega) (by omega) (by decide) (by omega) dX0_undoSorting_115 ?_
      refine am_iincv hX dX0_undoSorting_116 rfl (by decide) (z2 := ((k + 1 : Nat) : Int)) (by omega) ?_
      refine am_goto hX (tgt := 90) dX0_undoSorting_119 (by decide) ?_
      exact ih (k + 1) _ (by omega) (by omega) (fr_wA hf (by decide) _) (hA_push h18 rfl)
theorem met_undoSorting (n : Nat) (t : Nat → Nat) : aMet cdX0 yX0_undoSorting cX0_undoSorting 5 none (rmD 0)
    (fun as σ => as = [(n : Int)] ∧ 1 ≤ n ∧ n ≤ 32 ∧ (∀ j, j < n → t j < 6) ∧ gF σ 6 = (place n t 0 : Int) ∧ hA σ 18 n (colF n t))
    (fun _ σ r' σ' => r' = none ∧ (fr [] [4, 18, 19] σ σ' ∧ hA σ' 18 n t)) := by
  refine aMet.of am_cls0 (by decide) rfl (fun as σ h => by rw [h.1]; exact Nat.le_of_ble_eq_true rfl) ?_
  intro as σ X hpre hX
  obtain ⟨rfl, hn1, hn32, htb, h6, h18⟩ := hpre
  have hcb : ∀ j, j < n → colF n t j < 6 := fun j hj => colF_lt hn32 htb hj
  have hmk : place n t 0 < n := place_lt (by omega)
  refine am_iconst hX dX0_undoSorting_0 ?_
  refine am_top (b := ((0 : Nat) : Int)) (by omega) ?_
  refine am_istore_n hX dX0_undoSorting_1 rfl (by decide) ?_
  refine am_iconst hX dX0_undoSorting_2 ?_
  refine am_top (b := ((0 : Nat) : Int)) (by omega) ?_
  refine am_istore_n hX dX0_undoSorting_3 rfl (by decide) ?_
  refine us_out (σ0 := σ) hX hn32 hcb h18 (fun x2 x3 x4 st σ1 hf1 h19 hC => ?_) 7 0 0 (fun _ => 0) _ σ (by omega) (by omega) (fr_refl _ _ _) (by omega) (fun j hj => absurd hj (by omega)) (US_start _ _ _)
  have hat : ∀ k, it st (place n t 0) k < n := by
    intro k
    induction k with
    | zero => exact hmk
    | succ k ih => exact Pm_lt hC.1 _ ih
  have hib := ibwt (t := t) (o := oF n t) (c := colF n t) (st := st) (mk := place n t 0) hn32 htb (oF_ok t hn32).1 (oF_ok t hn32).2 (fun k _ => rfl) hmk (oF_place hn32 (by omega) rfl) hC
  refine am_iconst hX dX0_undoSorting_57 ?_
  refine am_top (b := ((0 : Nat) : Int)) (by omega) ?_
  refine am_istore_n hX dX0_undoSorting_58 rfl (by decide) ?_
  refine us_copy (σ0 := σ1) hX hn32 hcb (hA_fr h18 hf1 (by decide)) (fun x3 σ2 hf2 h4 => ?_) 33 0 σ1 (by omega) (by omega) (fr_refl _ _ _) (fun j hj => absurd hj (by omega))
  have h62 : gF σ2 6 = (place n t 0 : Int) := (hf2.1 6 (by decide)).trans ((hf1.1 6 (by decide)).trans h6)
  refine am_aload_n hX dX0_undoSorting_82 rfl rfl ?_
  refine am_geti hX 6 q45 (by decide) rfl dX0_undoSorting_83 ?_
  refine am_top (b := ((it st (place n t 0) 0 : Nat) : Int)) h62 ?_
  refine am_istore_n hX dX0_undoSorting_86 rfl (by decide) ?_
  refine am_iconst hX dX0_undoSorting_87 ?_
  refine am_top (b := ((0 : Nat) : Int)) (by omega) ?_
  refine am_istore hX dX0_undoSorting_88 (by decide) ?_
  exact us_back (σ0 := σ2) hX hn32 htb hat hib h4 (hA_fr h19 hf2 (by decide)) (fun σ3 hf3 h183 => ⟨rfl, fr_trans (fr_mono hf1 (by decide) (by decide)) (fr_trans (fr_mono hf2 (by decide) (by decide)) (fr_mono hf3 (by decide) (by decide))), h183⟩) 33 0 σ2 (by omega) (by omega) (fr_refl _ _ _) (fun j hj => absurd hj (by omega))
/-! what is asked -/
theorem met_type (n : Nat) (t : Nat → Nat) (z : Int) : aMet cdX0 yX0_type cX0_type 2 (some .int) (rmD 0)
    (fun as σ => as = [z] ∧ (-2147483648 ≤ z ∧ z < 2147483648) ∧ I0 n t σ)
    (fun _ _ r' σ' => ∃ v, r' = some v ∧ (v = tyR n z ∧ I0 (tyN n z) (tyT n t z) σ')) := by
  refine aMet.of am_cls0 (by decide) rfl (fun as σ h => by rw [h.1]; exact Nat.le_of_ble_eq_true rfl) ?_
  intro as σ X hpre hX
  obtain ⟨rfl, hz, hn, hn32, ht, htb, hcd⟩ := hpre
  refine am_aload_n hX dX0_type_0 rfl rfl ?_
  refine am_geti hX 0 q39 (by decide) rfl dX0_type_1 ?_
  refine am_top (b := ((n : Nat) : Int)) hn ?_
  refine am_bipush hX dX0_type_4 (by decide) ?_
  refine am_icmp_lt hX (tgt := 12) dX0_type_6 (by decide) (by omega) (by omega) (fun c1 => ?_) (fun c1 => ?_)
  · have hne : n ≠ 32 := by omega
    refine am_iload_n hX dX0_type_12 rfl rfl ?_
    refine am_if_lt hX (tgt := 22) dX0_type_13 (by decide) (by omega) (fun c2 => ?_) (fun c2 => ?_)
    · obtain ⟨e1, e2, e3⟩ := ty_bad hne (show z < 0 ∨ 6 ≤ z by omega)
      refine am_iconst hX dX0_type_22 ?_
      exact am_iret hX dX0_type_23 ⟨_, rfl, e1.symm, by rw [e2, e3]; exact ⟨hn, hn32, ht, htb, hcd⟩⟩
    · refine am_iload_n hX dX0_type_16 rfl rfl ?_
      refine am_bipush hX dX0_type_17 (by decide) ?_
      refine am_icmp_lt hX (tgt := 24) dX0_type_19 (by decide) (by omega) (by omega) (fun c3 => ?_) (fun c3 => ?_)
      · obtain ⟨k, rfl⟩ : ∃ k : Nat, z = (k : Int) := ⟨z.toNat, by omega⟩
        obtain ⟨e1, e2, e3⟩ := ty_ok (k := k) hne (by omega)
        refine am_aload_n hX dX0_type_24 rfl rfl ?_
        refine am_geta hX 1 q40 (by decide) rfl dX0_type_25 ?_
        refine am_aload_n hX dX0_type_28 rfl rfl ?_
        refine am_geti hX 0 q39 (by decide) rfl dX0_type_29 ?_
        refine am_top (b := ((n : Nat) : Int)) hn ?_
        refine am_iload_n hX dX0_type_32 rfl rfl ?_
        refine am_i2b hX dX0_type_33 (by omega) ?_
        refine am_bast hX 0 rfl (n) (by omega) (by omega) (by decide) (by omega) dX0_type_34 ?_
        refine am_aload_n hX dX0_type_35 rfl rfl ?_
        refine am_dup hX dX0_type_36 (fun _ => rfl) ?_
        refine am_geti hX 0 q39 (by decide) rfl dX0_type_37 ?_
        refine am_top (b := ((n : Nat) : Int)) hn ?_
        refine am_iconst hX dX0_type_40 ?_
        refine am_iadd hX dX0_type_41 ?_
        refine am_puti hX 0 q39 (by decide) rfl rfl rfl dX0_type_42 ?_
        refine am_aload_n hX dX0_type_45 rfl rfl ?_
        refine am_iconst hX dX0_type_46 ?_
        refine am_putz hX 5 q44 (by decide) rfl rfl rfl (by decide) dX0_type_47 ?_
        refine am_aload_n hX dX0_type_50 rfl rfl ?_
        refine am_geti hX 0 q39 (by decide) rfl dX0_type_51 ?_
        refine am_top (b := ((n + 1 : Nat) : Int)) rfl ?_
        exact am_iret hX dX0_type_54 ⟨_, rfl, e1.symm, by rw [e2, e3]; exact ⟨rfl, by omega, hA_push (hA_congr ht (fun j hj => (up_n _ _ (by omega)).symm)) (by rw [up_s]), up_lt (by omega) htb, Or.inl rfl⟩⟩
      · obtain ⟨e1, e2, e3⟩ := ty_bad hne (show z < 0 ∨ 6 ≤ z by omega)
        refine am_iconst hX dX0_type_22 ?_
        exact am_iret hX dX0_type_23 ⟨_, rfl, e1.symm, by rw [e2, e3]; exact ⟨hn, hn32, ht, htb, hcd⟩⟩
  · have e : n = 32 := by omega
    subst e
    refine am_bipush hX dX0_type_9 (by decide) ?_
    exact am_iret hX dX0_type_11 ⟨_, rfl, rfl, hn, hn32, ht, htb, hcd⟩
theorem rp_loop {n k : Nat} {t : Nat → Nat} {σ0 : am_S} (hX : aOK cdX0 RX0 TX0 tyX0 cX0_repeat 4 (some .int) X) (hn0 : gF σ0 0 = (n : Int)) (h1 : 1 ≤ k) (h2 : k ≤ n) (h3 : n + k ≤ 32) (htb : ∀ j, j < n → t j < 6)
    (K : ∀ x3 σ, fr [] [1] σ0 σ → hA σ 1 (n + k) (rpF n t k) → aW cdX0 4 (rmD 0) X P 68 [vT, vI (k : Int), vI ((n - k : Nat) : Int), x3] [] σ) :
    ∀ m i σ, i ≤ k → k < i + m → fr [] [1] σ0 σ → hA σ 1 (n + i) (rpF n t k) → aW cdX0 4 (rmD 0) X P 38 [vT, vI (k : Int), vI ((n - k : Nat) : Int), vI (i : Int)] [] σ := by
  have hlt := rpF_lt h1 h2 htb
  intro m
  induction m with
  | zero => intro i σ a b; exact absurd b (by omega)
  | succ m ih =>
    intro i σ hi hm hf h1'
    have hn : gF σ 0 = (n : Int) := (hf.1 0 (by decide)).trans hn0
    refine am_iload_n hX dX0_repeat_38 rfl rfl ?_
    refine am_iload_n hX dX0_repeat_39 rfl rfl ?_
    refine am_icmp_ge hX (tgt := 68) dX0_repeat_40 (by decide) (by omega) (by omega) (fun h => ?_) (fun h => ?_)
    · have e : i = k := by omega
      subst e
      exact K _ σ hf h1'
    · have hb := hlt (n + i) (by omega)
      have hv : gA σ 1 (n - k + i) = (rpF n t k (n + i) : Int) := by
        rw [h1' _ (by omega)]
        unfold rpF
        rw [if_pos (by omega), if_neg (by omega), show n + i - k = n - k + i by omega]
      refine am_aload_n hX dX0_repeat_43 rfl rfl ?_
      refine am_geta hX 1 q40 (by decide) rfl dX0_repeat_44 ?_
      refine am_aload_n hX dX0_repeat_47 rfl rfl ?_
      refine am_geti hX 0 q39 (by decide) rfl dX0_repeat_48 ?_
      refine am_top (b := ((n : Nat) : Int)) hn ?_
      refine am_iload_n hX dX0_repeat_51 rfl rfl ?_
      refine am_iadd hX dX0_repeat_52 ?_
      refine am_aload_n hX dX0_repeat_53 rfl rfl ?_
      refine am_geta hX 1 q40 (by decide) rfl dX0_repeat_54 ?_
      refine am_iload_n hX dX0_repeat_57 rfl rfl ?_
      refine am_iload_n hX dX0_repeat_58 rfl rfl ?_
      refine am_iadd hX dX0_repeat_59 ?_
      refine am_bald hX 0 rfl (n - k + i) (by omega) (by omega) (by decide) dX0_repeat_60 ?_
      refine am_top (b := ((rpF n t k (n + i) : Nat) : Int)) hv ?_
      refine am_bast hX 0 rfl (n + i) (by omega) (by omega) (by decide) (by omega) dX0_repeat_61 ?_
      refine am_iincv hX dX0_repeat_62 rfl (by decide) (z2 := ((i + 1 : Nat) : Int)) (by omega) ?_
      refine am_goto hX (tgt := 38) dX0_repeat_65 (by decide) ?_
      exact ih (i + 1) _ (by omega) (by omega) (fr_wA hf (by decide) _) (hA_push (n := n + i) h1' rfl)
theorem met_repeat (n : Nat) (t : Nat → Nat) (z : Int) : aMet cdX0 yX0_repeat cX0_repeat 4 (some .int) (rmD 0)
    (fun as σ => as = [z] ∧ (-2147483648 ≤ z ∧ z < 2147483648) ∧ I0 n t σ)
    (fun _ _ r' σ' => ∃ v, r' = some v ∧ (v = rpR n z ∧ I0 (rpN n z) (rpT n t z) σ')) := by
  refine aMet.of am_cls0 (by decide) rfl (fun as σ h => by rw [h.1]; exact Nat.le_of_ble_eq_true rfl) ?_
  intro as σ X hpre hX
  obtain ⟨rfl, hz, hn, hn32, ht, htb, hcd⟩ := hpre
  have bad : (z < 1 ∨ (n : Int) < z) → aW cdX0 4 (rmD 0) X (fun r' σ' => ∃ v, r' = some v ∧ (v = rpR n z ∧ I0 (rpN n z) (rpT n t z) σ')) 13 [vT, vI z, vN, vN] [] σ := by
    intro q
    obtain ⟨e1, e2, e3⟩ := rp_bad q
    refine am_iconst hX dX0_repeat_13 ?_
    exact am_iret hX dX0_repeat_14 ⟨_, rfl, e1.symm, by rw [e2, e3]; exact ⟨hn, hn32, ht, htb, hcd⟩⟩
  refine am_iload_n hX dX0_repeat_0 rfl rfl ?_
  refine am_iconst hX dX0_repeat_1 ?_
  refine am_icmp_lt hX (tgt := 13) dX0_repeat_2 (by decide) (by omega) (by omega) (fun c1 => ?_) (fun c1 => ?_)
  · exact bad (Or.inl c1)
  · refine am_iload_n hX dX0_repeat_5 rfl rfl ?_
    refine am_aload_n hX dX0_repeat_6 rfl rfl ?_
    refine am_geti hX 0 q39 (by decide) rfl dX0_repeat_7 ?_
    refine am_top (b := ((n : Nat) : Int)) hn ?_
    refine am_icmp_le hX (tgt := 15) dX0_repeat_10 (by decide) (by omega) (by omega) (fun c2 => ?_) (fun c2 => ?_)
    · refine am_aload_n hX dX0_repeat_15 rfl rfl ?_
      refine am_geti hX 0 q39 (by decide) rfl dX0_repeat_16 ?_
      refine am_top (b := ((n : Nat) : Int)) hn ?_
      refine am_iload_n hX dX0_repeat_19 rfl rfl ?_
      refine am_iadd hX dX0_repeat_20 ?_
      refine am_bipush hX dX0_repeat_21 (by decide) ?_
      refine am_icmp_le hX (tgt := 29) dX0_repeat_23 (by decide) (by omega) (by omega) (fun c3 => ?_) (fun c3 => ?_)
      · obtain ⟨k, rfl⟩ : ∃ k : Nat, z = (k : Int) := ⟨z.toNat, by omega⟩
        obtain ⟨e1, e2, e3⟩ := rp_ok (n := n) (k := k) (by omega) (by omega) (by omega)
        refine am_aload_n hX dX0_repeat_29 rfl rfl ?_
        refine am_geti hX 0 q39 (by decide) rfl dX0_repeat_30 ?_
        refine am_top (b := ((n : Nat) : Int)) hn ?_
        refine am_iload_n hX dX0_repeat_33 rfl rfl ?_
        refine am_isub hX dX0_repeat_34 ?_
        refine am_top (b := ((n - k : Nat) : Int)) (by omega) ?_
        refine am_istore_n hX dX0_repeat_35 rfl (by decide) ?_
        refine am_iconst hX dX0_repeat_36 ?_
        refine am_top (b := ((0 : Nat) : Int)) (by omega) ?_
        refine am_istore_n hX dX0_repeat_37 rfl (by decide) ?_
        refine rp_loop (σ0 := σ) (t := t) hX hn (by omega) (by omega) (by omega) htb (fun x3 σ1 hf1 h1 => ?_) (k + 1) 0 σ (by omega) (by omega) (fr_refl _ _ _) (hA_congr ht (fun j hj => by unfold rpF; rw [if_pos (by omega)]))
        have hn1 : gF σ1 0 = (n : Int) := (hf1.1 0 (by decide)).trans hn
        refine am_aload_n hX dX0_repeat_68 rfl rfl ?_
        refine am_dup hX dX0_repeat_69 (fun _ => rfl) ?_
        refine am_geti hX 0 q39 (by decide) rfl dX0_repeat_70 ?_
        refine am_top (b := ((n : Nat) : Int)) hn1 ?_
        refine am_iload_n hX dX0_repeat_73 rfl rfl ?_
        refine am_iadd hX dX0_repeat_74 ?_
        refine am_puti hX 0 q39 (by decide) rfl rfl rfl dX0_repeat_75 ?_
        refine am_aload_n hX dX0_repeat_78 rfl rfl ?_
        refine am_iconst hX dX0_repeat_79 ?_
        refine am_putz hX 5 q44 (by decide) rfl rfl rfl (by decide) dX0_repeat_80 ?_
        refine am_aload_n hX dX0_repeat_83 rfl rfl ?_
        refine am_geti hX 0 q39 (by decide) rfl dX0_repeat_84 ?_
        refine am_top (b := ((n + k : Nat) : Int)) rfl ?_
        exact am_iret hX dX0_repeat_87 ⟨_, rfl, e1.symm, by rw [e2, e3]; exact ⟨rfl, by omega, hA_pF (hA_pF h1 _) _, rpF_lt (by omega) (by omega) htb, Or.inl rfl⟩⟩
      · obtain ⟨e1, e2, e3⟩ := rp_full (n := n) (z := z) (by omega) (by omega)
        refine am_bipush hX dX0_repeat_26 (by decide) ?_
        exact am_iret hX dX0_repeat_28 ⟨_, rfl, e1.symm, by rw [e2, e3]; exact ⟨hn, hn32, ht, htb, hcd⟩⟩
    · exact bad (Or.inr (by omega))
theorem met_clear (n : Nat) (t : Nat → Nat) : aMet cdX0 yX0_clear cX0_clear 2 (some .int) (rmD 0)
    (fun as σ => as = [] ∧ I0 n t σ)
    (fun _ _ r' σ' => ∃ v, r' = some v ∧ (v = (n : Int) ∧ I0 0 t σ')) := by
  refine aMet.of am_cls0 (by decide) rfl (fun as σ h => by rw [h.1]; exact Nat.le_of_ble_eq_true rfl) ?_
  intro as σ X hpre hX
  obtain ⟨rfl, hn, hn32, ht, htb, hcd⟩ := hpre
  refine am_aload_n hX dX0_clear_0 rfl rfl ?_
  refine am_geti hX 0 q39 (by decide) rfl dX0_clear_1 ?_
  refine am_top (b := ((n : Nat) : Int)) hn ?_
  refine am_istore_n hX dX0_clear_4 rfl (by decide) ?_
  refine am_aload_n hX dX0_clear_5 rfl rfl ?_
  refine am_iconst hX dX0_clear_6 ?_
  refine am_puti hX 0 q39 (by decide) rfl rfl rfl dX0_clear_7 ?_
  refine am_aload_n hX dX0_clear_10 rfl rfl ?_
  refine am_iconst hX dX0_clear_11 ?_
  refine am_putz hX 5 q44 (by decide) rfl rfl rfl (by decide) dX0_clear_12 ?_
  refine am_iload_n hX dX0_clear_15 rfl rfl ?_
  exact am_iret hX dX0_clear_16 ⟨_, rfl, rfl, rfl, by omega, fun j hj => absurd hj (by omega), fun j hj => absurd hj (by omega), Or.inl rfl⟩
theorem met_column (n : Nat) (t : Nat → Nat) (z : Int) : aMet cdX0 yX0_column cX0_column 2 (some .int) (rmD 5)
    (fun as σ => as = [z] ∧ (-2147483648 ≤ z ∧ z < 2147483648) ∧ I0 n t σ)
    (fun _ _ r' σ' => ∃ v, r' = some v ∧ (v = gt n (colF n t) z ∧ I0 n t σ')) := by
  refine aMet.of am_cls0 (by decide) rfl (fun as σ h => by rw [h.1]; exact Nat.le_of_ble_eq_true rfl) ?_
  intro as σ X hpre hX
  obtain ⟨rfl, hz, hI⟩ := hpre
  refine am_aload_n hX dX0_column_0 rfl rfl ?_
  refine am_callv hX (met_code n t) [] (lw_V q119 q121 qs0 q29 q122) ⟨rfl, rfl⟩ (nA := 0) (by decide +kernel) ⟨by decide, by decide⟩ rfl rfl (fun _ => Nat.le_of_ble_eq_true rfl) dX0_column_1 ⟨rfl, hI⟩ (fun σ1 hq => ?_)
  have hn := hq.1
  have hn32 := hq.2.1
  refine am_iload_n hX dX0_column_4 rfl rfl ?_
  refine am_if_lt hX (tgt := 16) dX0_column_5 (by decide) (by omega) (fun c1 => ?_) (fun c1 => ?_)
  · refine am_bipush hX dX0_column_16 (by decide) ?_
    refine am_goto hX (tgt := 27) dX0_column_18 (by decide) ?_
    exact am_iret hX dX0_column_27 ⟨_, rfl, (gt_out (by omega)).symm, hq.I0⟩
  · refine am_iload_n hX dX0_column_8 rfl rfl ?_
    refine am_aload_n hX dX0_column_9 rfl rfl ?_
    refine am_geti hX 0 q39 (by decide) rfl dX0_column_10 ?_
    refine am_top (b := ((n : Nat) : Int)) hn ?_
    refine am_icmp_lt hX (tgt := 21) dX0_column_13 (by decide) (by omega) (by omega) (fun c2 => ?_) (fun c2 => ?_)
    · obtain ⟨k, rfl⟩ : ∃ k : Nat, z = (k : Int) := ⟨z.toNat, by omega⟩
      refine am_aload_n hX dX0_column_21 rfl rfl ?_
      refine am_geta hX 7 q46 (by decide) rfl dX0_column_22 ?_
      refine am_iload_n hX dX0_column_25 rfl rfl ?_
      refine am_bald hX 4 rfl (k) (by omega) (by omega) (by decide) dX0_column_26 ?_
      refine am_top (b := ((colF n t k : Nat) : Int)) (hq.2.2.2.2.2.2.1 k (by omega)) ?_
      exact am_iret hX dX0_column_27 ⟨_, rfl, (gt_in (by omega)).symm, hq.I0⟩
    · refine am_bipush hX dX0_column_16 (by decide) ?_
      refine am_goto hX (tgt := 27) dX0_column_18 (by decide) ?_
      exact am_iret hX dX0_column_27 ⟨_, rfl, (gt_out (by omega)).symm, hq.I0⟩
theorem met_rank (n : Nat) (t : Nat → Nat) (z : Int) : aMet cdX0 yX0_rank cX0_rank 2 (some .int) (rmD 5)
    (fun as σ => as = [z] ∧ (-2147483648 ≤ z ∧ z < 2147483648) ∧ I0 n t σ)
    (fun _ _ r' σ' => ∃ v, r' = some v ∧ (v = gt n (rkF n t) z ∧ I0 n t σ')) := by
  refine aMet.of am_cls0 (by decide) rfl (fun as σ h => by rw [h.1]; exact Nat.le_of_ble_eq_true rfl) ?_
  intro as σ X hpre hX
  obtain ⟨rfl, hz, hI⟩ := hpre
  refine am_aload_n hX dX0_rank_0 rfl rfl ?_
  refine am_callv hX (met_code n t) [] (lw_V q119 q121 qs0 q29 q122) ⟨rfl, rfl⟩ (nA := 0) (by decide +kernel) ⟨by decide, by decide⟩ rfl rfl (fun _ => Nat.le_of_ble_eq_true rfl) dX0_rank_1 ⟨rfl, hI⟩ (fun σ1 hq => ?_)
  have hn := hq.1
  have hn32 := hq.2.1
  refine am_iload_n hX dX0_rank_4 rfl rfl ?_
  refine am_if_lt hX (tgt := 16) dX0_rank_5 (by decide) (by omega) (fun c1 => ?_) (fun c1 => ?_)
  · refine am_bipush hX dX0_rank_16 (by decide) ?_
    refine am_goto hX (tgt := 27) dX0_rank_18 (by decide) ?_
    exact am_iret hX dX0_rank_27 ⟨_, rfl, (gt_out (by omega)).symm, hq.I0⟩
  · refine am_iload_n hX dX0_rank_8 rfl rfl ?_
    refine am_aload_n hX dX0_rank_9 rfl rfl ?_
    refine am_geti hX 0 q39 (by decide) rfl dX0_rank_10 ?_
    refine am_top (b := ((n : Nat) : Int)) hn ?_
    refine am_icmp_lt hX (tgt := 21) dX0_rank_13 (by decide) (by omega) (by omega) (fun c2 => ?_) (fun c2 => ?_)
    · obtain ⟨k, rfl⟩ : ∃ k : Nat, z = (k : Int) := ⟨z.toNat, by omega⟩
      refine am_aload_n hX dX0_rank_21 rfl rfl ?_
      refine am_geta hX 8 q47 (by decide) rfl dX0_rank_22 ?_
      refine am_iload_n hX dX0_rank_25 rfl rfl ?_
      refine am_bald hX 5 rfl (k) (by omega) (by omega) (by decide) dX0_rank_26 ?_
      refine am_top (b := ((rkF n t k : Nat) : Int)) (hq.2.2.2.2.2.2.2.1 k (by omega)) ?_
      exact am_iret hX dX0_rank_27 ⟨_, rfl, (gt_in (by omega)).symm, hq.I0⟩
    · refine am_bipush hX dX0_rank_16 (by decide) ?_
      refine am_goto hX (tgt := 27) dX0_rank_18 (by decide) ?_
      exact am_iret hX dX0_rank_27 ⟨_, rfl, (gt_out (by omega)).symm, hq.I0⟩
theorem met_mark (n : Nat) (t : Nat → Nat) : aMet cdX0 yX0_mark cX0_mark 1 (some .int) (rmD 5)
    (fun as σ => as = [] ∧ I0 n t σ)
    (fun _ _ r' σ' => ∃ v, r' = some v ∧ (v = (if n = 0 then -3 else (place n t 0 : Int)) ∧ I0 n t σ')) := by
  refine aMet.of am_cls0 (by decide) rfl (fun as σ h => by rw [h.1]; exact Nat.le_of_ble_eq_true rfl) ?_
  intro as σ X hpre hX
  obtain ⟨rfl, hI⟩ := hpre
  refine am_aload_n hX dX0_mark_0 rfl rfl ?_
  refine am_callv hX (met_code n t) [] (lw_V q119 q121 qs0 q29 q122) ⟨rfl, rfl⟩ (nA := 0) (by decide +kernel) ⟨by decide, by decide⟩ rfl rfl (fun _ => Nat.le_of_ble_eq_true rfl) dX0_mark_1 ⟨rfl, hI⟩ (fun σ1 hq => ?_)
  have hn := hq.1
  have hn32 := hq.2.1
  refine am_aload_n hX dX0_mark_4 rfl rfl ?_
  refine am_geti hX 0 q39 (by decide) rfl dX0_mark_5 ?_
  refine am_top (b := ((n : Nat) : Int)) hn ?_
  refine am_if_ne hX (tgt := 16) dX0_mark_8 (by decide) (by omega) (fun c1 => ?_) (fun c1 => ?_)
  · refine am_aload_n hX dX0_mark_16 rfl rfl ?_
    refine am_geti hX 6 q45 (by decide) rfl dX0_mark_17 ?_
    refine am_top (b := ((place n t 0 : Nat) : Int)) hq.2.2.2.2.2.1 ?_
    exact am_iret hX dX0_mark_20 ⟨_, rfl, (if_neg (by omega)).symm, hq.I0⟩
  · refine am_bipush hX dX0_mark_11 (by decide) ?_
    refine am_goto hX (tgt := 20) dX0_mark_13 (by decide) ?_
    exact am_iret hX dX0_mark_20 ⟨_, rfl, (if_pos (by omega)).symm, hq.I0⟩
theorem met_symbols (n : Nat) (t : Nat → Nat) : aMet cdX0 yX0_symbols cX0_symbols 1 (some .int) (rmD 5)
    (fun as σ => as = [] ∧ I0 n t σ)
    (fun _ _ r' σ' => ∃ v, r' = some v ∧ (v = ((symF n t).length : Int) ∧ I0 n t σ')) := by
  refine aMet.of am_cls0 (by decide) rfl (fun as σ h => by rw [h.1]; exact Nat.le_of_ble_eq_true rfl) ?_
  intro as σ X hpre hX
  obtain ⟨rfl, hI⟩ := hpre
  refine am_aload_n hX dX0_symbols_0 rfl rfl ?_
  refine am_callv hX (met_code n t) [] (lw_V q119 q121 qs0 q29 q122) ⟨rfl, rfl⟩ (nA := 0) (by decide +kernel) ⟨by decide, by decide⟩ rfl rfl (fun _ => Nat.le_of_ble_eq_true rfl) dX0_symbols_1 ⟨rfl, hI⟩ (fun σ1 hq => ?_)
  refine am_aload_n hX dX0_symbols_4 rfl rfl ?_
  refine am_geti hX 9 q48 (by decide) rfl dX0_symbols_5 ?_
  exact am_iret hX dX0_symbols_8 ⟨_, rfl, hq.2.2.2.2.2.2.2.2.1.1, hq.I0⟩
theorem met_symbol (n : Nat) (t : Nat → Nat) (z : Int) : aMet cdX0 yX0_symbol cX0_symbol 2 (some .int) (rmD 5)
    (fun as σ => as = [z] ∧ (-2147483648 ≤ z ∧ z < 2147483648) ∧ I0 n t σ)
    (fun _ _ r' σ' => ∃ v, r' = some v ∧ (v = gt (symF n t).length (fun j => (symF n t).getD j 0) z ∧ I0 n t σ')) := by
  refine aMet.of am_cls0 (by decide) rfl (fun as σ h => by rw [h.1]; exact Nat.le_of_ble_eq_true rfl) ?_
  intro as σ X hpre hX
  obtain ⟨rfl, hz, hI⟩ := hpre
  refine am_aload_n hX dX0_symbol_0 rfl rfl ?_
  refine am_callv hX (met_code n t) [] (lw_V q119 q121 qs0 q29 q122) ⟨rfl, rfl⟩ (nA := 0) (by decide +kernel) ⟨by decide, by decide⟩ rfl rfl (fun _ => Nat.le_of_ble_eq_true rfl) dX0_symbol_1 ⟨rfl, hI⟩ (fun σ1 hq => ?_)
  have hSL := hq.2.2.2.2.2.2.2.2.1
  have hlen : (symF n t).length ≤ 32 := Nat.le_trans (symF_len n t) hq.2.1
  refine am_iload_n hX dX0_symbol_4 rfl rfl ?_
  refine am_if_lt hX (tgt := 16) dX0_symbol_5 (by decide) (by omega) (fun c1 => ?_) (fun c1 => ?_)
  · refine am_bipush hX dX0_symbol_16 (by decide) ?_
    refine am_goto hX (tgt := 27) dX0_symbol_18 (by decide) ?_
    exact am_iret hX dX0_symbol_27 ⟨_, rfl, (gt_out (by omega)).symm, hq.I0⟩
  · refine am_iload_n hX dX0_symbol_8 rfl rfl ?_
    refine am_aload_n hX dX0_symbol_9 rfl rfl ?_
    refine am_geti hX 9 q48 (by decide) rfl dX0_symbol_10 ?_
    refine am_top (b := (((symF n t).length : Nat) : Int)) hSL.1 ?_
    refine am_icmp_lt hX (tgt := 21) dX0_symbol_13 (by decide) (by omega) (by omega) (fun c2 => ?_) (fun c2 => ?_)
    · obtain ⟨k, rfl⟩ : ∃ k : Nat, z = (k : Int) := ⟨z.toNat, by omega⟩
      refine am_aload_n hX dX0_symbol_21 rfl rfl ?_
      refine am_geta hX 10 q49 (by decide) rfl dX0_symbol_22 ?_
      refine am_iload_n hX dX0_symbol_25 rfl rfl ?_
      refine am_bald hX 6 rfl (k) (by omega) (by omega) (by decide) dX0_symbol_26 ?_
      refine am_top (b := (((symF n t).getD k 0 : Nat) : Int)) (hSL.2 k (by omega)) ?_
      exact am_iret hX dX0_symbol_27 ⟨_, rfl, (gt_in (n := (symF n t).length) (f := fun j => (symF n t).getD j 0) (by omega)).symm, hq.I0⟩
    · refine am_bipush hX dX0_symbol_16 (by decide) ?_
      refine am_goto hX (tgt := 27) dX0_symbol_18 (by decide) ?_
      exact am_iret hX dX0_symbol_27 ⟨_, rfl, (gt_out (by omega)).symm, hq.I0⟩
theorem met_cost (n : Nat) (t : Nat → Nat) : aMet cdX0 yX0_cost cX0_cost 1 (some .int) (rmD 5)
    (fun as σ => as = [] ∧ I0 n t σ)
    (fun _ _ r' σ' => ∃ v, r' = some v ∧ ((∃ u : Nat, v = (u : Int) ∧ MinC (cn (symF n t)) u) ∧ I0 n t σ')) := by
  refine aMet.of am_cls0 (by decide) rfl (fun as σ h => by rw [h.1]; exact Nat.le_of_ble_eq_true rfl) ?_
  intro as σ X hpre hX
  obtain ⟨rfl, hI⟩ := hpre
  refine am_aload_n hX dX0_cost_0 rfl rfl ?_
  refine am_callv hX (met_code n t) [] (lw_V q119 q121 qs0 q29 q122) ⟨rfl, rfl⟩ (nA := 0) (by decide +kernel) ⟨by decide, by decide⟩ rfl rfl (fun _ => Nat.le_of_ble_eq_true rfl) dX0_cost_1 ⟨rfl, hI⟩ (fun σ1 hq => ?_)
  obtain ⟨bt, b1, b2, b3, b4, b5⟩ := hq.2.2.2.2.2.2.2.2.2
  refine am_aload_n hX dX0_cost_4 rfl rfl ?_
  refine am_geti hX 16 q55 (by decide) rfl dX0_cost_5 ?_
  exact am_iret hX dX0_cost_8 ⟨_, rfl, ⟨_, b4, by rw [bits_cost _ _ _ (symF_lt n t)]; exact MinC_HB b2⟩, hq.I0⟩
theorem met_decoded (n : Nat) (t : Nat → Nat) (z : Int) : aMet cdX0 yX0_decoded cX0_decoded 4 (some .int) (rmD 5)
    (fun as σ => as = [z] ∧ (-2147483648 ≤ z ∧ z < 2147483648) ∧ I0 n t σ)
    (fun _ _ r' σ' => ∃ v, r' = some v ∧ (v = gt n t z ∧ I0 n t σ')) := by
  refine aMet.of am_cls0 (by decide) rfl (fun as σ h => by rw [h.1]; exact Nat.le_of_ble_eq_true rfl) ?_
  intro as σ X hpre hX
  obtain ⟨rfl, hz, hI⟩ := hpre
  have hn := hI.1
  have hn32 := hI.2.1
  have htb := hI.2.2.2.1
  refine am_iload_n hX dX0_decoded_0 rfl rfl ?_
  refine am_if_lt hX (tgt := 12) dX0_decoded_1 (by decide) (by omega) (fun c1 => ?_) (fun c1 => ?_)
  · refine am_bipush hX dX0_decoded_12 (by decide) ?_
    exact am_iret hX dX0_decoded_14 ⟨_, rfl, (gt_out (by omega)).symm, hI⟩
  · refine am_iload_n hX dX0_decoded_4 rfl rfl ?_
    refine am_aload_n hX dX0_decoded_5 rfl rfl ?_
    refine am_geti hX 0 q39 (by decide) rfl dX0_decoded_6 ?_
    refine am_top (b := ((n : Nat) : Int)) hn ?_
    refine am_icmp_lt hX (tgt := 15) dX0_decoded_9 (by decide) (by omega) (by omega) (fun c2 => ?_) (fun c2 => ?_)
    · obtain ⟨i, rfl⟩ : ∃ k : Nat, z = (k : Int) := ⟨z.toNat, by omega⟩
      have hlen : (symF n t).length ≤ 32 := Nat.le_trans (symF_len n t) hn32
      have hdec : dec 1 (symF n t) = lst (rkF n t) 0 n := by
        unfold symF
        rw [dec_enc]
        rfl
      have hll := lst_len (rkF n t) n 0
      refine am_aload_n hX dX0_decoded_15 rfl rfl ?_
      refine am_callv hX (met_code n t) [] (lw_V q119 q121 qs0 q29 q122) ⟨rfl, rfl⟩ (nA := 0) (by decide +kernel) ⟨by decide, by decide⟩ rfl rfl (fun _ => Nat.le_of_ble_eq_true rfl) dX0_decoded_16 ⟨rfl, hI⟩ (fun σ1 hq1 => ?_)
      obtain ⟨bt, b1, b2, b3, b4, b5⟩ := hq1.2.2.2.2.2.2.2.2.2
      refine am_aload_n hX dX0_decoded_19 rfl rfl ?_
      refine am_calli hX (met_readSymbols bt (symF n t)) [] (lw_V q199 q201 qs14 q29 q202) ⟨rfl, rfl⟩ (nA := 0) (by decide +kernel) ⟨by decide, by decide⟩ rfl rfl (fun _ => Nat.le_of_ble_eq_true rfl) dX0_decoded_20 ⟨rfl, hlen, symF_lt n t, b1, b2, b3, b4, b5⟩ (fun z2 σ2 hq2 => ?_)
      obtain ⟨rfl, hf2, h18⟩ := hq2
      refine am_istore_n hX dX0_decoded_23 rfl (by decide) ?_
      refine am_aload_n hX dX0_decoded_24 rfl rfl ?_
      refine am_iload_n hX dX0_decoded_25 rfl rfl ?_
      refine am_calli hX (met_undoRuns (symF n t) (lst (rkF n t) 0 n)) [((symF n t).length : Int)] (lw_V q207 q209 qs16 q29 q210) ⟨rfl, rfl⟩ (nA := 1) (by decide +kernel) ⟨by decide, by decide⟩ rfl rfl (fun _ => Nat.le_of_ble_eq_true rfl) dX0_decoded_26 ⟨rfl, hlen, symF_lt n t, by omega, hdec, h18⟩ (fun z3 σ3 hq3 => ?_)
      obtain ⟨ez3, hf3, h19⟩ := hq3
      rw [hll] at ez3 h19
      subst ez3
      have h19r : hA σ3 19 n (rkC (colF n t)) := hA_congr h19 (fun j hj => by rw [lst_getD _ _ _ _ hj, Nat.zero_add]; rfl)
      refine am_istore_n hX dX0_decoded_29 rfl (by decide) ?_
      refine am_aload_n hX dX0_decoded_30 rfl rfl ?_
      refine am_iload_n hX dX0_decoded_31 rfl rfl ?_
      refine am_callv hX (met_undoRanks n (colF n t)) [(n : Int)] (lw_V q211 q213 qs17 q29 q214) ⟨rfl, rfl⟩ (nA := 1) (by decide +kernel) ⟨by decide, by decide⟩ rfl rfl (fun _ => Nat.le_of_ble_eq_true rfl) dX0_decoded_32 ⟨rfl, hn32, fun j hj => colF_lt hn32 htb hj, h19r⟩ (fun σ4 hq4 => ?_)
      obtain ⟨hf4, h184⟩ := hq4
      have hf14 : fr [] [4, 11, 18, 19] σ1 σ4 := fr_trans (fr_mono hf2 (by decide) (by decide)) (fr_trans (fr_mono hf3 (by decide) (by decide)) (fr_mono hf4 (by decide) (by decide)))
      have hq4' := hq1.fr hf14
      refine am_aload_n hX dX0_decoded_35 rfl rfl ?_
      refine am_iload_n hX dX0_decoded_36 rfl rfl ?_
      refine am_callv hX (met_undoSorting n t) [(n : Int)] (lw_V q215 q217 qs18 q29 q218) ⟨rfl, rfl⟩ (nA := 1) (by decide +kernel) ⟨by decide, by decide⟩ rfl rfl (fun _ => Nat.le_of_ble_eq_true rfl) dX0_decoded_37 ⟨rfl, by omega, hn32, htb, hq4'.2.2.2.2.2.1, h184⟩ (fun σ5 hq5 => ?_)
      obtain ⟨hf5, h185⟩ := hq5
      refine am_aload_n hX dX0_decoded_40 rfl rfl ?_
      refine am_geta hX 18 q57 (by decide) rfl dX0_decoded_41 ?_
      refine am_iload_n hX dX0_decoded_44 rfl rfl ?_
      refine am_bald hX 13 rfl (i) (by omega) (by omega) (by decide) dX0_decoded_45 ?_
      refine am_top (b := ((t i : Nat) : Int)) (h185 i (by omega)) ?_
      exact am_iret hX dX0_decoded_46 ⟨_, rfl, (gt_in (by omega)).symm, (hq4'.fr (fr_mono hf5 (by decide) (by decide))).I0⟩
    · refine am_bipush hX dX0_decoded_12 (by decide) ?_
      exact am_iret hX dX0_decoded_14 ⟨_, rfl, (gt_out (by omega)).symm, hI⟩
theorem df_set {L : List Nat} {σ : am_S} (hX : aOK cdX0 RX0 TX0 tyX0 cX0_different 4 (some .int) X) (hSL : SL 9 10 σ L) (hlen : L.length ≤ 32) (hL7 : ∀ s, s ∈ L → s < 7)
    (K : ∀ S x2, SS L L.length S → aW cdX0 4 (rmD 5) X P 33 [vT, vI (S : Int), x2, vN] [] σ) :
    ∀ m k S, k ≤ L.length → L.length < k + m → SS L k S → aW cdX0 4 (rmD 5) X P 8 [vT, vI (S : Int), vI (k : Int), vN] [] σ := by
  intro m
  induction m with
  | zero => intro k S h1 h2; exact absurd h2 (by omega)
  | succ m ih =>
    intro k S hk hm hS
    refine am_iload_n hX dX0_different_8 rfl rfl ?_
    refine am_aload_n hX dX0_different_9 rfl rfl ?_
    refine am_geti hX 9 q48 (by decide) rfl dX0_different_10 ?_
    refine am_top (b := ((L.length : Nat) : Int)) hSL.1 ?_
    refine am_icmp_ge hX (tgt := 33) dX0_different_13 (by decide) (by omega) (by omega) (fun h => ?_) (fun h => ?_)
    · have e : k = L.length := by omega
      subst e
      exact K S _ hS
    · have h7 := hL7 _ (getD_mem (show k < L.length by omega))
      have hp := pow7 _ h7
      refine am_iload_n hX dX0_different_16 rfl rfl ?_
      refine am_iconst hX dX0_different_17 ?_
      refine am_aload_n hX dX0_different_18 rfl rfl ?_
      refine am_geta hX 10 q49 (by decide) rfl dX0_different_19 ?_
      refine am_iload_n hX dX0_different_22 rfl rfl ?_
      refine am_bald hX 6 rfl (k) (by omega) (by omega) (by decide) dX0_different_23 ?_
      refine am_top (b := ((L.getD k 0 : Nat) : Int)) (hSL.2 k (by omega)) ?_
      refine am_ishl hX (x := 1) (k := L.getD k 0) dX0_different_24 rfl rfl (by omega) (by rw [Nat.one_mul]; omega) ?_
      refine am_ior hX (x := S) (y := 1 * 2 ^ (L.getD k 0)) dX0_different_25 rfl rfl ?_
      refine am_istore_n hX dX0_different_26 rfl (by decide) ?_
      refine am_iincv hX dX0_different_27 rfl (by decide) (z2 := ((k + 1 : Nat) : Int)) (by omega) ?_
      refine am_goto hX (tgt := 8) dX0_different_30 (by decide) ?_
      exact ih (k + 1) _ (by omega) (by omega) (SS_step hS (by omega) h7)
theorem df_count {L : List Nat} {S : Nat} {σ : am_S} (hX : aOK cdX0 RX0 TX0 tyX0 cX0_different 4 (some .int) X) (hS : SS L L.length S)
    (K : P (some (live (cn L) : Int)) σ) :
    ∀ m s, s ≤ 7 → 7 < s + m → aW cdX0 4 (rmD 5) X P 37 [vT, vI (S : Int), vI ((sm (fun g => if 0 < cn L g then 1 else 0) s : Nat) : Int), vI (s : Int)] [] σ := by
  intro m
  induction m with
  | zero => intro s h1 h2; exact absurd h2 (by omega)
  | succ m ih =>
    intro s hs hm
    refine am_iload_n hX dX0_different_37 rfl rfl ?_
    refine am_bipush hX dX0_different_38 (by decide) ?_
    refine am_icmp_ge hX (tgt := 57) dX0_different_40 (by decide) (by omega) (by omega) (fun h => ?_) (fun h => ?_)
    · have e : s = 7 := by omega
      subst e
      refine am_iload_n hX dX0_different_57 rfl rfl ?_
      exact am_iret hX dX0_different_58 K
    · have hb := SS_bit hS (show s < 7 by omega)
      have hdv : S / 2 ^ s ≤ S := Nat.div_le_self _ _
      have h128 := hS.1
      refine am_iload_n hX dX0_different_43 rfl rfl ?_
      refine am_iload_n hX dX0_different_44 rfl rfl ?_
      refine am_iload_n hX dX0_different_45 rfl rfl ?_
      refine am_ishr hX (x := S) (k := s) dX0_different_46 (by omega) (by omega) (by omega) (by omega) ?_
      refine am_iconst hX dX0_different_47 ?_
      refine am_iand hX (x := S / 2 ^ s) 1 dX0_different_48 (by omega) (by omega) (by decide) ?_
      refine am_iadd hX dX0_different_49 ?_
      refine am_top (b := ((sm (fun g => if 0 < cn L g then 1 else 0) (s + 1) : Nat) : Int)) (by rw [hb]; rfl) ?_
      refine am_istore_n hX dX0_different_50 rfl (by decide) ?_
      refine am_iincv hX dX0_different_51 rfl (by decide) (z2 := ((s + 1 : Nat) : Int)) (by omega) ?_
      refine am_goto hX (tgt := 37) dX0_different_54 (by decide) ?_
      exact ih (s + 1) (by omega) (by omega)
theorem met_different (n : Nat) (t : Nat → Nat) : aMet cdX0 yX0_different cX0_different 4 (some .int) (rmD 5)
    (fun as σ => as = [] ∧ I0 n t σ)
    (fun _ _ r' σ' => ∃ v, r' = some v ∧ (v = (live (cn (symF n t)) : Int) ∧ I0 n t σ')) := by
  refine aMet.of am_cls0 (by decide) rfl (fun as σ h => by rw [h.1]; exact Nat.le_of_ble_eq_true rfl) ?_
  intro as σ X hpre hX
  obtain ⟨rfl, hI⟩ := hpre
  refine am_aload_n hX dX0_different_0 rfl rfl ?_
  refine am_callv hX (met_code n t) [] (lw_V q119 q121 qs0 q29 q122) ⟨rfl, rfl⟩ (nA := 0) (by decide +kernel) ⟨by decide, by decide⟩ rfl rfl (fun _ => Nat.le_of_ble_eq_true rfl) dX0_different_1 ⟨rfl, hI⟩ (fun σ1 hq => ?_)
  refine am_iconst hX dX0_different_4 ?_
  refine am_top (b := ((0 : Nat) : Int)) (by omega) ?_
  refine am_istore_n hX dX0_different_5 rfl (by decide) ?_
  refine am_iconst hX dX0_different_6 ?_
  refine am_top (b := ((0 : Nat) : Int)) (by omega) ?_
  refine am_istore_n hX dX0_different_7 rfl (by decide) ?_
  have hlen : (symF n t).length ≤ 32 := Nat.le_trans (symF_len n t) hq.2.1
  refine df_set hX hq.2.2.2.2.2.2.2.2.1 hlen (symF_lt n t) (fun S x2 hS => ?_) 33 0 0 (by omega) (by omega) (SS_start _)
  refine am_iconst hX dX0_different_33 ?_
  refine am_top (b := ((sm (fun g => if 0 < cn (symF n t) g then 1 else 0) 0 : Nat) : Int)) rfl ?_
  refine am_istore_n hX dX0_different_34 rfl (by decide) ?_
  refine am_iconst hX dX0_different_35 ?_
  refine am_top (b := ((0 : Nat) : Int)) (by omega) ?_
  refine am_istore_n hX dX0_different_36 rfl (by decide) ?_
  exact df_count hX hS ⟨_, rfl, rfl, hq.I0⟩ 8 0 (by omega) (by omega)
end WI
end
section
/-! PURE: the reference's least cost: sorting the counts, going through all lengths -/
def Bub (a : Nat → Nat) (p s : Nat) : Prop := (∀ i j, 7 - p ≤ i → i < 7 → j < i → a i ≤ a j) ∧ (∀ j, j < s → a s ≤ a j) ∧ (6 - p ≤ s → ∀ j, j < 6 - p → a (6 - p) ≤ a j)
def swp (a : Nat → Nat) (s : Nat) : Nat → Nat := up (up a (s + 1) (a s)) s (a (s + 1))
theorem swp_l (a : Nat → Nat) (s : Nat) : swp a s s = a (s + 1) := up_s _ _ _
theorem swp_r (a : Nat → Nat) (s : Nat) : swp a s (s + 1) = a s := by unfold swp; rw [up_n _ _ (by omega), up_s]
theorem swp_o (a : Nat → Nat) {s j : Nat} (h1 : j ≠ s) (h2 : j ≠ s + 1) : swp a s j = a j := by unfold swp; rw [up_n _ _ h1, up_n _ _ h2]
theorem Bub_start (a : Nat → Nat) : Bub a 0 0 := ⟨fun i j h1 h2 => absurd h1 (by omega), fun j h => absurd h (by omega), fun h => absurd h (by omega)⟩
theorem Bub_keep {a : Nat → Nat} {p s : Nat} (h : Bub a p s) (hs : s < 6) (hp : p < 6) (hc : a (s + 1) ≤ a s) : Bub a p (s + 1) := by
  have h2 : ∀ j, j < s + 1 → a (s + 1) ≤ a j := by
    intro j hj
    by_cases e : j = s
    · rw [e]; exact hc
    · exact Nat.le_trans hc (h.2.1 j (by omega))
  refine ⟨h.1, h2, fun hle j hj => ?_⟩
  by_cases e : 6 - p = s + 1
  · rw [e] at hj ⊢
    exact h2 j hj
  · exact h.2.2 (by omega) j hj
theorem Bub_swap {a : Nat → Nat} {p s : Nat} (h : Bub a p s) (hs : s < 6) (hp : p < 6) (hc : a s < a (s + 1)) : Bub (swp a s) p (s + 1) := by
  -- a swap happens ahead of what is in place
  have hlow : s + 1 < 7 - p := by
    rcases Nat.lt_or_ge (s + 1) (7 - p) with q | q
    · exact q
    · have := h.1 (s + 1) s q (by omega) (by omega)
      omega
  have h2 : ∀ j, j < s + 1 → swp a s (s + 1) ≤ swp a s j := by
    intro j hj
    rw [swp_r]
    by_cases e : j = s
    · rw [e, swp_l]; omega
    · rw [swp_o a e (by omega)]; exact h.2.1 j (by omega)
  refine ⟨fun i j hi hi7 hj => ?_, h2, fun hle j hj => ?_⟩
  · rw [swp_o a (show i ≠ s by omega) (show i ≠ s + 1 by omega)]
    by_cases e1 : j = s
    · rw [e1, swp_l]; exact h.1 i (s + 1) hi hi7 (by omega)
    · by_cases e2 : j = s + 1
      · rw [e2, swp_r]; exact h.1 i s hi hi7 (by omega)
      · rw [swp_o a e1 e2]; exact h.1 i j hi hi7 hj
  · have e : 6 - p = s + 1 := by omega
    rw [e] at hj ⊢
    exact h2 j hj
theorem Bub_pass {a : Nat → Nat} {p : Nat} (h : Bub a p 6) (hp : p < 6) : Bub a (p + 1) 0 := by
  refine ⟨fun i j hi hi7 hj => ?_, fun j hj => absurd hj (by omega), fun hle j hj => absurd hj (by omega)⟩
  by_cases e : i = 6 - p
  · rw [e]; exact h.2.2 (by omega) j (by omega)
  · exact h.1 i j (by omega) hi7 hj
/-- the counts in another order -/
def PmA (c a : Nat → Nat) : Prop := ∃ π, Pm π 7 ∧ ∀ j, j < 7 → a j = c (π j)
theorem PmA_refl (c : Nat → Nat) : PmA c c := ⟨fun j => j, Pm_id 7, fun _ _ => rfl⟩
theorem PmA_swp {c a : Nat → Nat} {s : Nat} (h : PmA c a) (hs : s < 6) : PmA c (swp a s) := by
  obtain ⟨π, hP, he⟩ := h
  refine ⟨swp π s, fun f => ?_, fun j hj => ?_⟩
  · rw [← hP f]
    exact sm_swap (a := s) (by omega) (by rw [swp_l]) (by rw [swp_r]) (fun j _ h1 h2 => by rw [swp_o π h1 h2])
  · by_cases e1 : j = s
    · rw [e1, swp_l, swp_l]; exact he _ (by omega)
    · by_cases e2 : j = s + 1
      · rw [e2, swp_r, swp_r]; exact he _ (by omega)
      · rw [swp_o a e1 e2, swp_o π e1 e2]; exact he j hj
theorem PmA_live {c a : Nat → Nat} (h : PmA c a) : live a = live c := by
  obtain ⟨π, hP, he⟩ := h
  unfold live
  rw [← hP (fun g => if 0 < c g then 1 else 0)]
  exact sm_congr (fun j hj => by rw [he j hj])
theorem LF_pm {c a π : Nat → Nat} (hP : Pm π 7) (he : ∀ j, j < 7 → a j = c (π j)) {l : Nat → Nat} (h : LF c l) : LF a (fun j => l (π j)) ∧ Cost a (fun j => l (π j)) = Cost c l := by
  have hlt := Pm_lt hP
  refine ⟨⟨fun s hs q => h.1 _ (hlt s hs) (by rw [← he s hs]; exact q), fun s hs q => h.2.1 _ (hlt s hs) (by rw [← he s hs]; exact q), ?_⟩, ?_⟩
  · have e : sm (kf a (fun j => l (π j))) 7 = sm (kf c l) 7 := by
      rw [← hP (kf c l)]
      exact sm_congr (fun j hj => by unfold kf; rw [he j hj])
    rw [e]
    exact h.2.2
  · unfold Cost
    rw [← hP (fun g => c g * l g)]
    exact sm_congr (fun j hj => by rw [he j hj])
theorem LF_pm' {c a π ps : Nat → Nat} (hP : Pm π 7) (he : ∀ j, j < 7 → a j = c (π j)) (h1 : ∀ v, v < 7 → ps v < 7 ∧ π (ps v) = v) (h2 : ∀ j, j < 7 → ps (π j) = j) {l : Nat → Nat} (h : LF a l) : LF c (fun j => l (ps j)) ∧ Cost c (fun j => l (ps j)) = Cost a l := by
  have hc : ∀ s, s < 7 → c s = a (ps s) := fun s hs => by rw [he _ (h1 s hs).1, (h1 s hs).2]
  refine ⟨⟨fun s hs q => h.1 _ (h1 s hs).1 (by rw [← hc s hs]; exact q), fun s hs q => h.2.1 _ (h1 s hs).1 (by rw [← hc s hs]; exact q), ?_⟩, ?_⟩
  · have e : sm (kf c (fun j => l (ps j))) 7 = sm (kf a l) 7 := by
      rw [← hP (kf c (fun j => l (ps j)))]
      exact sm_congr (fun j hj => by unfold kf; dsimp only; rw [he j hj, h2 j hj])
    rw [e]
    exact h.2.2
  · unfold Cost
    rw [← hP (fun g => c g * l (ps g))]
    exact sm_congr (fun j hj => by rw [he j hj, h2 j hj])
theorem PmA_min {c a : Nat → Nat} (h : PmA c a) {v : Nat} (hv : MinC a v) : MinC c v := by
  obtain ⟨π, hP, he⟩ := h
  obtain ⟨ps, h1, h2⟩ := Pm_inv hP
  obtain ⟨⟨l, l1, l2⟩, hm⟩ := hv
  obtain ⟨a1, a2⟩ := LF_pm' hP he h1 h2 l1
  refine ⟨⟨_, a1, a2.trans l2⟩, fun k hk => ?_⟩
  obtain ⟨b1, b2⟩ := LF_pm hP he hk
  rw [← b2]
  exact hm _ b1
def Dsc (a : Nat → Nat) : Prop := ∀ i j, i < 7 → j < i → a i ≤ a j
theorem Dsc_of {a : Nat → Nat} (h : Bub a 6 0) : Dsc a := fun i j h1 h2 => h.1 i j (by omega) h1 h2
theorem Dsc_kinds {a : Nat → Nat} (h : Dsc a) : ∀ m, m ≤ 7 → ∃ K, K ≤ m ∧ ∀ j, j < m → (0 < a j ↔ j < K) := by
  intro m
  induction m with
  | zero => intro _; exact ⟨0, Nat.le_refl 0, fun j hj => absurd hj (by omega)⟩
  | succ m ih =>
    intro hm
    obtain ⟨K, hK, he⟩ := ih (by omega)
    by_cases q : 0 < a m
    · refine ⟨m + 1, Nat.le_refl _, fun j hj => ⟨fun _ => hj, fun _ => ?_⟩⟩
      by_cases e : j = m
      · rw [e]; exact q
      · have := h m j (by omega) (by omega); omega
    · refine ⟨K, by omega, fun j hj => ?_⟩
      by_cases e : j = m
      · rw [e]; exact ⟨fun z => absurd z q, fun z => absurd z (by omega)⟩
      · exact he j (by omega)
theorem Dsc_live {a : Nat → Nat} (h : Dsc a) : live a ≤ 7 ∧ ∀ j, j < 7 → (0 < a j ↔ j < live a) := by
  obtain ⟨K, hK, he⟩ := Dsc_kinds h 7 (Nat.le_refl 7)
  have e : live a = K := by
    unfold live
    rw [sm_congr (g := fun j => if j < K then 1 else 0) (fun j hj => by
      by_cases q : 0 < a j
      · rw [if_pos q, if_pos ((he j hj).mp q)]
      · rw [if_neg q, if_neg (fun z => q ((he j hj).mpr z))]), sm_below]
    split <;> omega
  rw [e]
  exact ⟨hK, he⟩
/-! all lengths that never fall -/
def Sq (K : Nat) (l : Nat → Nat) : Prop := (∀ j, j < K → 1 ≤ l j ∧ l j ≤ 6) ∧ ∀ i j, i < j → j < K → l i ≤ l j
def canB (K : Nat) (l : Nat → Nat) : Prop := sm (fun s => 64 / 2 ^ (l s)) K ≤ 64
def bits (a : Nat → Nat) (K : Nat) (l : Nat → Nat) : Nat := sm (fun s => a s * l s) K
def eqK (K : Nat) (l l' : Nat → Nat) : Prop := ∀ j, j < K → l j = l' j
def lxl (K : Nat) (l l' : Nat → Nat) : Prop := ∃ i, i < K ∧ (∀ j, j < i → l j = l' j) ∧ l i < l' i
theorem first_diff (l l' : Nat → Nat) : ∀ K, eqK K l l' ∨ ∃ i, i < K ∧ (∀ j, j < i → l j = l' j) ∧ l i ≠ l' i := by
  intro K
  induction K with
  | zero => exact Or.inl (fun j hj => absurd hj (by omega))
  | succ K ih =>
    rcases ih with h | ⟨i, h1, h2, h3⟩
    · by_cases e : l K = l' K
      · refine Or.inl (fun j hj => ?_)
        by_cases q : j = K
        · rw [q]; exact e
        · exact h j (by omega)
      · exact Or.inr ⟨K, by omega, h, e⟩
    · exact Or.inr ⟨i, by omega, h2, h3⟩
def nx (K : Nat) (l : Nat → Nat) (at' : Nat) : Nat → Nat := fun j => if at' ≤ j ∧ j < K then l at' + 1 else l j
theorem nx_low {K at' j : Nat} {l : Nat → Nat} (h : j < at') : nx K l at' j = l j := if_neg (by omega)
theorem nx_high {K at' j : Nat} {l : Nat → Nat} (h : at' ≤ j) (hj : j < K) : nx K l at' j = l at' + 1 := if_pos ⟨h, hj⟩
theorem Sq_nx {K at' : Nat} {l : Nat → Nat} (h : Sq K l) (ha : at' < K) (h6 : l at' < 6) : Sq K (nx K l at') := by
  refine ⟨fun j hj => ?_, fun i j hij hj => ?_⟩
  · rcases Nat.lt_or_ge j at' with q | q
    · rw [nx_low q]; exact h.1 j hj
    · rw [nx_high q hj]; omega
  · rcases Nat.lt_or_ge j at' with q | q
    · rw [nx_low q, nx_low (by omega)]; exact h.2 i j hij hj
    · rw [nx_high q hj]
      rcases Nat.lt_or_ge i at' with q2 | q2
      · rw [nx_low q2]
        have := h.2 i at' q2 ha
        omega
      · rw [nx_high q2 (by omega)]; exact Nat.le_refl _
theorem nx_lex {K at' : Nat} {l l' : Nat → Nat} (hl' : Sq K l') (ha : at' < K) (h6 : ∀ j, at' < j → j < K → 6 ≤ l j) (hx : lxl K l l') : eqK K (nx K l at') l' ∨ lxl K (nx K l at') l' := by
  obtain ⟨i, hi, he, hlt⟩ := hx
  rcases Nat.lt_trichotomy i at' with q | q | q
  · exact Or.inr ⟨i, hi, fun j hj => by rw [nx_low (by omega)]; exact he j hj, by rw [nx_low q]; exact hlt⟩
  · subst q
    rcases first_diff (nx K l i) l' K with h | ⟨k, hk, hke, hkn⟩
    · exact Or.inl h
    · refine Or.inr ⟨k, hk, hke, ?_⟩
      rcases Nat.lt_or_ge k i with q | q
      · rw [nx_low q] at hkn; exact absurd (he k q) hkn
      · rw [nx_high q hk] at hkn ⊢
        by_cases e : k = i
        · subst e; omega
        · have := hl'.2 i k (by omega) hk
          omega
  · have h1 := h6 i q hi
    have h2 := (hl'.1 i hi).2
    omega
/-! how many there are -/
def Nn : Nat → Nat → Nat
  | 0 => fun _ => 1
  | j + 1 => fun d => sm (fun x => Nn j (x + 1)) d
def muR (l : Nat → Nat) : Nat → Nat → Nat
  | _, 0 => 1
  | i, j + 1 => Nn (j + 1) (6 - l i) + muR l (i + 1) j
theorem muR_pos (l : Nat → Nat) : ∀ j i, 1 ≤ muR l i j := by
  intro j
  induction j with
  | zero => intro i; exact Nat.le_refl 1
  | succ j ih => intro i; show 1 ≤ Nn (j + 1) (6 - l i) + muR l (i + 1) j; have := ih (i + 1); omega
theorem Nn_zero : ∀ j, Nn (j + 1) 0 = 0 := fun _ => rfl
theorem Nn_succ (j d : Nat) : Nn (j + 1) (d + 1) = Nn (j + 1) d + Nn j (d + 1) := rfl
theorem muR_six {l : Nat → Nat} : ∀ j i, (∀ x, i ≤ x → x < i + j → 6 ≤ l x) → muR l i j = 1 := by
  intro j
  induction j with
  | zero => intro i _; rfl
  | succ j ih =>
    intro i h
    show Nn (j + 1) (6 - l i) + muR l (i + 1) j = 1
    rw [ih (i + 1) (fun x h1 h2 => h x (by omega) (by omega)), show 6 - l i = 0 by have := h i (by omega) (by omega); omega, Nn_zero]
theorem muR_const {l : Nat → Nat} {d : Nat} : ∀ j i, (∀ x, i ≤ x → x < i + j → 6 - l x = d) → muR l i j = Nn j (d + 1) := by
  intro j
  induction j with
  | zero => intro i _; rfl
  | succ j ih =>
    intro i h
    show Nn (j + 1) (6 - l i) + muR l (i + 1) j = _
    rw [ih (i + 1) (fun x h1 h2 => h x (by omega) (by omega)), h i (by omega) (by omega), Nn_succ]
theorem muR_pre {l l' : Nat → Nat} {j : Nat} : ∀ d i, (∀ x, i ≤ x → x < i + d → l x = l' x) → muR l (i + d) j = muR l' (i + d) j + 1 → muR l i (d + j) = muR l' i (d + j) + 1 := by
  intro d
  induction d with
  | zero => intro i _ h; rw [Nat.zero_add]; exact h
  | succ d ih =>
    intro i h1 h2
    rw [show d + 1 + j = (d + j) + 1 by omega]
    show Nn (d + j + 1) (6 - l i) + muR l (i + 1) (d + j) = Nn (d + j + 1) (6 - l' i) + muR l' (i + 1) (d + j) + 1
    rw [ih (i + 1) (fun x a b => h1 x (by omega) (by omega)) (by rw [show i + 1 + d = i + (d + 1) by omega]; exact h2), h1 i (by omega) (by omega)]
    omega
theorem muR_nx {K at' : Nat} {l : Nat → Nat} (ha : at' < K) (h6 : l at' < 6) (hh : ∀ j, at' < j → j < K → 6 ≤ l j) : muR l 0 K = muR (nx K l at') 0 K + 1 := by
  have e : K = at' + (K - at' - 1 + 1) := by omega
  have key : muR l at' (K - at' - 1 + 1) = muR (nx K l at') at' (K - at' - 1 + 1) + 1 := by
    rw [muR_const (l := nx K l at') (d := 6 - (l at' + 1)) (K - at' - 1 + 1) at' (fun x h1 h2 => by rw [nx_high h1 (by omega)])]
    show Nn (K - at' - 1 + 1) (6 - l at') + muR l (at' + 1) (K - at' - 1) = _
    rw [muR_six (K - at' - 1) (at' + 1) (fun x h1 h2 => hh x (by omega) (by omega)), show 6 - (l at' + 1) + 1 = 6 - l at' by omega]
  have := muR_pre (l := l) (l' := nx K l at') (j := K - at' - 1 + 1) at' 0 (fun x _ h2 => (nx_low (by omega)).symm) (by rw [Nat.zero_add]; exact key)
  rw [← e] at this
  exact this
theorem Nn_792 : ∀ K, K ≤ 7 → Nn K 6 ≤ 792 := by decide +kernel
theorem mu_start {K : Nat} (hK : K ≤ 7) {l : Nat → Nat} (h : ∀ j, j < 7 → l j = 1) : muR l 0 K ≤ 792 := by
  rw [muR_const (l := l) (d := 5) K 0 (fun x _ h2 => by rw [h x (by omega)])]
  exact Nn_792 K hK
/-! the search -/
def Best (a : Nat → Nat) (K v : Nat) (l : Nat → Nat) : Prop := (∀ l', Sq K l' → canB K l' → (eqK K l l' ∨ lxl K l l') ∨ (v ≠ 0 ∧ v ≤ bits a K l')) ∧ (v ≠ 0 → ∃ l0, Sq K l0 ∧ canB K l0 ∧ bits a K l0 = v)
def BestE (a : Nat → Nat) (K v : Nat) : Prop := (∀ l', Sq K l' → canB K l' → v ≠ 0 ∧ v ≤ bits a K l') ∧ (v ≠ 0 → ∃ l0, Sq K l0 ∧ canB K l0 ∧ bits a K l0 = v)
theorem canB_congr {K : Nat} {l l' : Nat → Nat} (h : eqK K l l') : canB K l' → canB K l := fun q => by
  unfold canB at q ⊢
  rw [sm_congr (g := fun s => 64 / 2 ^ (l' s)) (fun j hj => by rw [h j hj])]
  exact q
theorem bits_congr {a : Nat → Nat} {K : Nat} {l l' : Nat → Nat} (h : eqK K l l') : bits a K l = bits a K l' := sm_congr (fun j hj => by rw [h j hj])
theorem Best_start (a : Nat → Nat) {K : Nat} (hK : K ≤ 7) {l : Nat → Nat} (h : ∀ j, j < 7 → l j = 1) : Best a K 0 l := by
  refine ⟨fun l' hl' _ => Or.inl ?_, fun q => absurd rfl q⟩
  rcases first_diff l l' K with q | ⟨i, h1, h2, h3⟩
  · exact Or.inl q
  · refine Or.inr ⟨i, h1, h2, ?_⟩
    have := (hl'.1 i h1).1
    have := h i (by omega)
    omega
/-- the current one is looked at: those ahead and this one are done -/
def Past (a : Nat → Nat) (K v : Nat) (l : Nat → Nat) : Prop := (∀ l', Sq K l' → canB K l' → lxl K l l' ∨ (v ≠ 0 ∧ v ≤ bits a K l')) ∧ (v ≠ 0 → ∃ l0, Sq K l0 ∧ canB K l0 ∧ bits a K l0 = v)
theorem Past_no {a : Nat → Nat} {K v : Nat} {l : Nat → Nat} (h : Best a K v l) (hc : ¬ canB K l) : Past a K v l := ⟨fun l' h1 h2 => by
  rcases h.1 l' h1 h2 with (q | q) | q
  · exact absurd (canB_congr q h2) hc
  · exact Or.inl q
  · exact Or.inr q, h.2⟩
theorem Past_keep {a : Nat → Nat} {K v : Nat} {l : Nat → Nat} (h : Best a K v l) (h0 : v ≠ 0) (hv : v ≤ bits a K l) : Past a K v l := ⟨fun l' h1 h2 => by
  rcases h.1 l' h1 h2 with (q | q) | q
  · exact Or.inr ⟨h0, by rw [← bits_congr q]; exact hv⟩
  · exact Or.inl q
  · exact Or.inr q, h.2⟩
theorem Past_take {a : Nat → Nat} {K v : Nat} {l : Nat → Nat} (h : Best a K v l) (hS : Sq K l) (hc : canB K l) (h0 : bits a K l ≠ 0) (hv : v = 0 ∨ bits a K l < v) : Past a K (bits a K l) l := ⟨fun l' h1 h2 => by
  rcases h.1 l' h1 h2 with (q | q) | q
  · exact Or.inr ⟨h0, by rw [← bits_congr q]; exact Nat.le_refl _⟩
  · exact Or.inl q
  · exact Or.inr ⟨h0, by omega⟩, fun _ => ⟨l, hS, hc, rfl⟩⟩
theorem Past_next {a : Nat → Nat} {K v at' : Nat} {l : Nat → Nat} (h : Past a K v l) (ha : at' < K) (hh : ∀ j, at' < j → j < K → 6 ≤ l j) : Best a K v (nx K l at') := ⟨fun l' h1 h2 => by
  rcases h.1 l' h1 h2 with q | q
  · exact Or.inl (nx_lex h1 ha hh q)
  · exact Or.inr q, h.2⟩
theorem Past_end {a : Nat → Nat} {K v : Nat} {l : Nat → Nat} (h : Past a K v l) (hh : ∀ j, j < K → 6 ≤ l j) : BestE a K v := ⟨fun l' h1 h2 => by
  rcases h.1 l' h1 h2 with ⟨i, hi, _, hlt⟩ | q
  · have := (h1.1 i hi).2
    have := hh i hi
    omega
  · exact q, h.2⟩
theorem bits_pos {a : Nat → Nat} {K : Nat} {l : Nat → Nat} (hK : 0 < K) (hS : Sq K l) (ha : 0 < a 0) : bits a K l ≠ 0 := by
  have h := sm_one (f := fun s => a s * l s) hK
  have h1 := (hS.1 0 hK).1
  have h2 : 0 < a 0 * l 0 := Nat.mul_pos ha (by omega)
  unfold bits
  omega
/-- lengths in the order of the counts cost no more -/
theorem sortL {a : Nat → Nat} {K : Nat} (hK : K ≤ 7) (hD : Dsc a) : ∀ (m : Nat) (l : Nat → Nat), 126 ≤ m + sm (fun j => j * l j) K → (∀ j, j < K → 1 ≤ l j ∧ l j ≤ 6) → canB K l → ∃ l', Sq K l' ∧ canB K l' ∧ bits a K l' ≤ bits a K l := by
  have hmax : ∀ l : Nat → Nat, (∀ j, j < K → 1 ≤ l j ∧ l j ≤ 6) → sm (fun j => j * l j) K ≤ 126 := by
    intro l hl
    have h1 : sm (fun j => j * l j) K ≤ sm (fun j => j * 6) K := sm_le (fun j hj => Nat.mul_le_mul_left _ (hl j hj).2)
    have h2 : ∀ K, K ≤ 7 → sm (fun j => j * 6) K ≤ 126 := by decide +kernel
    exact Nat.le_trans h1 (h2 K hK)
  intro m
  induction m with
  | zero =>
    intro l hm hl hc
    by_cases h : ∃ i, i + 1 < K ∧ l (i + 1) < l i
    · exfalso
      obtain ⟨i, hi, hlt⟩ := h
      have hl2 : ∀ j, j < K → 1 ≤ swp l i j ∧ swp l i j ≤ 6 := by
        intro j hj
        by_cases e1 : j = i
        · rw [e1, swp_l]; exact hl _ hi
        · by_cases e2 : j = i + 1
          · rw [e2, swp_r]; exact hl _ (by omega)
          · rw [swp_o l e1 e2]; exact hl j hj
      have h1 := hmax _ hl2
      have h2 := sm_up2 (fun j => j * l j) ((i + 1) * l i) (i * l (i + 1)) (show i + 1 ≠ i by omega) hi (show i < K by omega)
      have e : sm (fun j => j * swp l i j) K = sm (up (up (fun j => j * l j) (i + 1) ((i + 1) * l i)) i (i * l (i + 1))) K := sm_congr (fun j _ => by
        by_cases e1 : j = i
        · rw [e1, swp_l, up_s]
        · by_cases e2 : j = i + 1
          · rw [e2, swp_r, up_n _ _ (by omega), up_s]
          · rw [swp_o l e1 e2, up_n _ _ e1, up_n _ _ e2])
      rw [← e, Nat.add_mul, Nat.add_mul] at h2
      omega
    · refine ⟨l, ⟨hl, ?_⟩, hc, Nat.le_refl _⟩
      intro i j
      induction j with
      | zero => intro h1; exact absurd h1 (by omega)
      | succ j ihj =>
        intro h1 h2
        have h3 : l j ≤ l (j + 1) := by
          rcases Nat.lt_or_ge (l (j + 1)) (l j) with q | q
          · exact absurd ⟨j, h2, q⟩ h
          · exact q
        by_cases e : i = j
        · rw [e]; exact h3
        · exact Nat.le_trans (ihj (by omega) (by omega)) h3
  | succ m ih =>
    intro l hm hl hc
    by_cases h : ∃ i, i + 1 < K ∧ l (i + 1) < l i
    · obtain ⟨i, hi, hlt⟩ := h
      have hl2 : ∀ j, j < K → 1 ≤ swp l i j ∧ swp l i j ≤ 6 := by
        intro j hj
        by_cases e1 : j = i
        · rw [e1, swp_l]; exact hl _ hi
        · by_cases e2 : j = i + 1
          · rw [e2, swp_r]; exact hl _ (by omega)
          · rw [swp_o l e1 e2]; exact hl j hj
      have h2 := sm_up2 (fun j => j * l j) ((i + 1) * l i) (i * l (i + 1)) (show i + 1 ≠ i by omega) hi (show i < K by omega)
      have e : sm (fun j => j * swp l i j) K = sm (up (up (fun j => j * l j) (i + 1) ((i + 1) * l i)) i (i * l (i + 1))) K := sm_congr (fun j _ => by
        by_cases e1 : j = i
        · rw [e1, swp_l, up_s]
        · by_cases e2 : j = i + 1
          · rw [e2, swp_r, up_n _ _ (by omega), up_s]
          · rw [swp_o l e1 e2, up_n _ _ e1, up_n _ _ e2])
      rw [← e, Nat.add_mul, Nat.add_mul] at h2
      have hc2 : canB K (swp l i) := by
        unfold canB at hc ⊢
        rw [sm_swap (f := fun s => 64 / 2 ^ (l s)) (g := fun s => 64 / 2 ^ (swp l i s)) (a := i) hi (by rw [swp_l]) (by rw [swp_r]) (fun j _ q1 q2 => by rw [swp_o l q1 q2])]
        exact hc
      obtain ⟨l', s1, s2, s3⟩ := ih (swp l i) (by omega) hl2 hc2
      refine ⟨l', s1, s2, Nat.le_trans s3 ?_⟩
      have h3 := sm_up2 (fun j => a j * l j) (a (i + 1) * l i) (a i * l (i + 1)) (show i + 1 ≠ i by omega) hi (show i < K by omega)
      have e3 : bits a K (swp l i) = sm (up (up (fun j => a j * l j) (i + 1) (a (i + 1) * l i)) i (a i * l (i + 1))) K := sm_congr (fun j _ => by
        by_cases e1 : j = i
        · rw [e1, swp_l, up_s]
        · by_cases e2 : j = i + 1
          · rw [e2, swp_r, up_n _ _ (by omega), up_s]
          · rw [swp_o l e1 e2, up_n _ _ e1, up_n _ _ e2])
      have hd := hD (i + 1) i (by omega) (by omega)
      obtain ⟨x, hx⟩ : ∃ x, a i = a (i + 1) + x := ⟨a i - a (i + 1), by omega⟩
      obtain ⟨y, hy⟩ : ∃ y, l i = l (i + 1) + y := ⟨l i - l (i + 1), by omega⟩
      have k1 : a (i + 1) * l i + a i * l (i + 1) ≤ a i * l i + a (i + 1) * l (i + 1) := by
        rw [hx, hy]
        simp only [Nat.mul_add, Nat.add_mul]
        omega
      rw [e3]
      unfold bits
      omega
    · refine ⟨l, ⟨hl, ?_⟩, hc, Nat.le_refl _⟩
      intro i j
      induction j with
      | zero => intro h1; exact absurd h1 (by omega)
      | succ j ihj =>
        intro h1 h2
        have h3 : l j ≤ l (j + 1) := by
          rcases Nat.lt_or_ge (l (j + 1)) (l j) with q | q
          · exact absurd ⟨j, h2, q⟩ h
          · exact q
        by_cases e : i = j
        · rw [e]; exact h3
        · exact Nat.le_trans (ihj (by omega) (by omega)) h3
theorem sm_cut {f : Nat → Nat} {K : Nat} : ∀ {N : Nat}, K ≤ N → (∀ j, K ≤ j → j < N → f j = 0) → sm f N = sm f K := by
  intro N
  induction N with
  | zero => intro h _; rw [show K = 0 by omega]
  | succ N ih =>
    intro h h0
    by_cases e : K = N + 1
    · rw [e]
    · show sm f N + f N = sm f K
      rw [ih (by omega) (fun j h1 h2 => h0 j h1 (by omega)), h0 N (by omega) (by omega)]
      omega
theorem BestE_min {a : Nat → Nat} {v : Nat} (hD : Dsc a) (hb : BestE a (live a) v) (hex : ∃ l, LF a l) (hpos : 0 < live a) : MinC a v := by
  obtain ⟨hK, he⟩ := Dsc_live hD
  have hkf : ∀ l, sm (kf a l) 7 = sm (fun s => 64 / 2 ^ (l s)) (live a) := by
    intro l
    rw [sm_cut (K := live a) hK (fun j h1 h2 => by unfold kf; rw [if_neg (fun q => by have := (he j h2).mp q; omega)])]
    exact sm_congr (fun j hj => by unfold kf; rw [if_pos ((he j (by omega)).mpr hj)])
  have hco : ∀ l, Cost a l = bits a (live a) l := by
    intro l
    unfold Cost bits
    rw [sm_cut (K := live a) hK (fun j h1 h2 => by rw [show a j = 0 by rcases Nat.eq_zero_or_pos (a j) with q | q; · { exact q }; · { have := (he j h2).mp q; omega }, Nat.zero_mul])]
  have hlow : ∀ l, LF a l → v ≠ 0 ∧ v ≤ Cost a l := by
    intro l hl
    have h1 : ∀ j, j < live a → 1 ≤ l j ∧ l j ≤ 6 := fun j hj => ⟨hl.1 j (by omega) ((he j (by omega)).mpr hj), hl.2.1 j (by omega) ((he j (by omega)).mpr hj)⟩
    have h2 : canB (live a) l := by
      have := hl.2.2
      rw [hkf] at this
      exact this
    obtain ⟨l', s1, s2, s3⟩ := sortL hK hD 126 l (by omega) h1 h2
    obtain ⟨b1, b2⟩ := hb.1 l' s1 s2
    rw [hco]
    exact ⟨b1, Nat.le_trans b2 s3⟩
  obtain ⟨l1, hl1⟩ := hex
  obtain ⟨l0, s1, s2, s3⟩ := hb.2 (hlow l1 hl1).1
  refine ⟨⟨l0, ⟨fun s hs q => (s1.1 s ((he s hs).mp q)).1, fun s hs q => (s1.1 s ((he s hs).mp q)).2, by rw [hkf]; exact s2⟩, by rw [hco]; exact s3⟩, fun l hl => (hlow l hl).2⟩
theorem LF_ex (a : Nat → Nat) : ∃ l, LF a l := ⟨fun _ => 6, fun _ _ _ => (by decide : 1 ≤ 6), fun _ _ _ => Nat.le_refl 6, by
  have h : sm (kf a (fun _ => 6)) 7 ≤ sm (fun _ => 1) 7 := sm_le (fun j _ => by unfold kf; dsimp only; split <;> decide)
  have e : sm (fun _ => 1) 7 = 7 := rfl
  omega⟩
theorem MinC_zero {a : Nat → Nat} (h : ∀ s, s < 7 → a s = 0) : MinC a 0 := ⟨⟨fun _ => 6, (by
  refine ⟨fun _ _ _ => (by decide : 1 ≤ 6), fun _ _ _ => Nat.le_refl 6, ?_⟩
  rw [sm_zero (fun j hj => by unfold kf; rw [if_neg (by have := h j hj; omega)])]
  omega), sm_zero (fun j hj => by rw [h j hj, Nat.zero_mul])⟩, fun _ _ => Nat.zero_le _⟩
end
section
/-! BlockCoderModel: sorting, ranks, runs -/
set_option maxRecDepth 100000
def J0 (n : Nat) (t : Nat → Nat) (σ : am_S) : Prop := gF σ 0 = (n : Int) ∧ n ≤ 32 ∧ hA σ 1 n t ∧ ∀ j, j < n → t j < 6
theorem J0.fr {n : Nat} {t : Nat → Nat} {σ σ' : am_S} {F L : List Nat} (h : J0 n t σ) (g : fr F L σ σ') (hF : 0 ∉ F) (hL : 1 ∉ L) : J0 n t σ' := ⟨(g.1 0 hF).trans h.1, h.2.1, hA_fr h.2.2.1 g hL, h.2.2.2⟩
theorem rl_lo {n : Nat} {t : Nat → Nat} {p k : Nat} (h : p + k < n) : rl n t p k = t (p + k) := by unfold rl; rw [Nat.mod_eq_of_lt h]
theorem rl_hi {n : Nat} {t : Nat → Nat} {p k : Nat} (hp : p < n) (hk : k < n) (h : n ≤ p + k) : rl n t p k = t (p + k - n) := by unfold rl; rw [Nat.mod_eq_sub_mod h, Nat.mod_eq_of_lt (by omega)]
def fd (f : Nat → Nat) (v k : Nat) : Nat := if pos6 f v < k then pos6 f v else 0
theorem shf_skip (o : Nat → Nat) {i a : Nat} (h : i < a + 1) (j : Nat) : shf o i a j = shf o i (a + 1) j := by
  unfold shf
  by_cases h1 : a < j ∧ j ≤ i
  · exact absurd h1 (by omega)
  · rw [if_neg h1, if_neg (by omega)]
section WM
variable {X : am_X} {P : Option Int → am_S → Prop}
theorem bf_loop {n p q : Nat} {t : Nat → Nat} {σ : am_S} (hX : aOK cdX1 RX1 TX1 tyX1 cX1_before 6 (some .boolean) X) (J : J0 n t σ) (hp : p < n) (hq : q < n)
    (K1 : keyR n t 64 p < keyR n t 64 q → P (some 1) σ) (K0 : ¬ keyR n t 64 p < keyR n t 64 q → P (some 0) σ) :
    ∀ m k x4 x5, k ≤ n → n < k + m → (∀ j, j < k → rl n t p j = rl n t q j) → aW cdX1 6 (rmD 0) X P 2 [vT, vI (p : Int), vI (q : Int), vI (k : Int), x4, x5] [] σ := by
  obtain ⟨hn, hn32, ht, htb⟩ := J
  have hky := keyR_lt (n := n) (t := t) (m := 64) (show p < 64 by omega) (show q < 64 by omega)
  intro m
  induction m with
  | zero => intro k x4 x5 h1 h2; exact absurd h2 (by omega)
  | succ m ih =>
    intro k x4 x5 hk hm he
    refine am_iload_n hX dX1_before_2 rfl rfl ?_
    refine am_aload_n hX dX1_before_3 rfl rfl ?_
    refine am_geti hX 0 q229 (by decide) rfl dX1_before_4 ?_
    refine am_top (b := ((n : Nat) : Int)) hn ?_
    refine am_icmp_ge hX (tgt := 104) dX1_before_7 (by decide) (by omega) (by omega) (fun h => ?_) (fun h => ?_)
    · have e := vv_same (t := t) (show 0 < n by omega) (fun j hj => he j (by omega)) 64
      refine am_iload_n hX dX1_before_104 rfl rfl ?_
      refine am_iload_n hX dX1_before_105 rfl rfl ?_
      refine am_icmp_ge hX (tgt := 113) dX1_before_106 (by decide) (by omega) (by omega) (fun h2 => ?_) (fun h2 => ?_)
      · refine am_iconst hX dX1_before_113 ?_
        exact am_zret hX dX1_before_114 (by decide) (K0 (by rw [hky]; omega))
      · refine am_iconst hX dX1_before_109 ?_
        refine am_goto hX (tgt := 114) dX1_before_110 (by decide) ?_
        exact am_zret hX dX1_before_114 (by decide) (K1 (by rw [hky]; omega))
    · have hkn : k < n := by omega
      have b1 := rl_lt (t := t) (show 0 < n by omega) htb p k
      have b2 := rl_lt (t := t) (show 0 < n by omega) htb q k
      have T2 : aW cdX1 6 (rmD 0) X P 76 [vT, vI (p : Int), vI (q : Int), vI (k : Int), vI ((rl n t p k : Nat) : Int), x5] [.inl ((rl n t q k : Nat) : Int)] σ := by
        refine am_istore hX dX1_before_76 (by decide) ?_
        refine am_iload hX dX1_before_78 rfl ?_
        refine am_iload hX dX1_before_80 rfl ?_
        refine am_icmp_eq hX (tgt := 98) dX1_before_82 (by decide) (by omega) (by omega) (fun h2 => ?_) (fun h2 => ?_)
        · refine am_iincv hX dX1_before_98 rfl (by decide) (z2 := ((k + 1 : Nat) : Int)) (by omega) ?_
          refine am_goto hX (tgt := 2) dX1_before_101 (by decide) ?_
          refine ih (k + 1) _ _ (by omega) (by omega) (fun j hj => ?_)
          by_cases e : j = k
          · rw [e]; omega
          · exact he j (by omega)
        · refine am_iload hX dX1_before_85 rfl ?_
          refine am_iload hX dX1_before_87 rfl ?_
          refine am_icmp_ge hX (tgt := 96) dX1_before_89 (by decide) (by omega) (by omega) (fun h3 => ?_) (fun h3 => ?_)
          · have hl := vv_less (t := t) (show 0 < n by omega) htb (p := q) (q := p) (fun j hj => (he j hj).symm) (show rl n t q k < rl n t p k by omega) (show k < 64 by omega)
            refine am_iconst hX dX1_before_96 ?_
            exact am_zret hX dX1_before_97 (by decide) (K0 (by rw [hky]; omega))
          · have hl := vv_less (t := t) (show 0 < n by omega) htb he (show rl n t p k < rl n t q k by omega) (show k < 64 by omega)
            refine am_iconst hX dX1_before_92 ?_
            refine am_goto hX (tgt := 97) dX1_before_93 (by decide) ?_
            exact am_zret hX dX1_before_97 (by decide) (K1 (hky.mpr (Or.inl hl)))
      have T1 : aW cdX1 6 (rmD 0) X P 42 [vT, vI (p : Int), vI (q : Int), vI (k : Int), x4, x5] [.inl ((rl n t p k : Nat) : Int)] σ := by
        refine am_istore hX dX1_before_42 (by decide) ?_
        refine am_aload_n hX dX1_before_44 rfl rfl ?_
        refine am_geta hX 1 q230 (by decide) rfl dX1_before_45 ?_
        refine am_iload_n hX dX1_before_48 rfl rfl ?_
        refine am_iload_n hX dX1_before_49 rfl rfl ?_
        refine am_iadd hX dX1_before_50 ?_
        refine am_aload_n hX dX1_before_51 rfl rfl ?_
        refine am_geti hX 0 q229 (by decide) rfl dX1_before_52 ?_
        refine am_top (b := ((n : Nat) : Int)) hn ?_
        refine am_icmp_ge hX (tgt := 64) dX1_before_55 (by decide) (by omega) (by omega) (fun h2 => ?_) (fun h2 => ?_)
        · have hv : gA σ 1 (q + k - n) = (rl n t q k : Int) := by rw [ht _ (by omega), rl_hi hq hkn (by omega)]
          refine am_iload_n hX dX1_before_64 rfl rfl ?_
          refine am_iload_n hX dX1_before_65 rfl rfl ?_
          refine am_iadd hX dX1_before_66 ?_
          refine am_aload_n hX dX1_before_67 rfl rfl ?_
          refine am_geti hX 0 q229 (by decide) rfl dX1_before_68 ?_
          refine am_top (b := ((n : Nat) : Int)) hn ?_
          refine am_isub hX dX1_before_71 ?_
          refine am_bipush hX dX1_before_72 (by decide) ?_
          refine am_iand hX (x := q + k - n) 5 dX1_before_74 (by omega) (by omega) (by decide) ?_
          refine am_iald hX 0 rfl (q + k - n) (by omega) (by omega) (by decide) dX1_before_75 ?_
          refine am_top (b := ((rl n t q k : Nat) : Int)) hv ?_
          exact T2
        · have hv : gA σ 1 (q + k) = (rl n t q k : Int) := by rw [ht _ (by omega), rl_lo (by omega)]
          refine am_iload_n hX dX1_before_58 rfl rfl ?_
          refine am_iload_n hX dX1_before_59 rfl rfl ?_
          refine am_iadd hX dX1_before_60 ?_
          refine am_goto hX (tgt := 75) dX1_before_61 (by decide) ?_
          refine am_iald hX 0 rfl (q + k) (by omega) (by omega) (by decide) dX1_before_75 ?_
          refine am_top (b := ((rl n t q k : Nat) : Int)) hv ?_
          exact T2
      refine am_aload_n hX dX1_before_10 rfl rfl ?_
      refine am_geta hX 1 q230 (by decide) rfl dX1_before_11 ?_
      refine am_iload_n hX dX1_before_14 rfl rfl ?_
      refine am_iload_n hX dX1_before_15 rfl rfl ?_
      refine am_iadd hX dX1_before_16 ?_
      refine am_aload_n hX dX1_before_17 rfl rfl ?_
      refine am_geti hX 0 q229 (by decide) rfl dX1_before_18 ?_
      refine am_top (b := ((n : Nat) : Int)) hn ?_
      refine am_icmp_ge hX (tgt := 30) dX1_before_21 (by decide) (by omega) (by omega) (fun h2 => ?_) (fun h2 => ?_)
      · have hv : gA σ 1 (p + k - n) = (rl n t p k : Int) := by rw [ht _ (by omega), rl_hi hp hkn (by omega)]
        refine am_iload_n hX dX1_before_30 rfl rfl ?_
        refine am_iload_n hX dX1_before_31 rfl rfl ?_
        refine am_iadd hX dX1_before_32 ?_
        refine am_aload_n hX dX1_before_33 rfl rfl ?_
        refine am_geti hX 0 q229 (by decide) rfl dX1_before_34 ?_
        refine am_top (b := ((n : Nat) : Int)) hn ?_
        refine am_isub hX dX1_before_37 ?_
        refine am_bipush hX dX1_before_38 (by decide) ?_
        refine am_iand hX (x := p + k - n) 5 dX1_before_40 (by omega) (by omega) (by decide) ?_
        refine am_iald hX 0 rfl (p + k - n) (by omega) (by omega) (by decide) dX1_before_41 ?_
        refine am_top (b := ((rl n t p k : Nat) : Int)) hv ?_
        exact T1
      · have hv : gA σ 1 (p + k) = (rl n t p k : Int) := by rw [ht _ (by omega), rl_lo (by omega)]
        refine am_iload_n hX dX1_before_24 rfl rfl ?_
        refine am_iload_n hX dX1_before_25 rfl rfl ?_
        refine am_iadd hX dX1_before_26 ?_
        refine am_goto hX (tgt := 41) dX1_before_27 (by decide) ?_
        refine am_iald hX 0 rfl (p + k) (by omega) (by omega) (by decide) dX1_before_41 ?_
        refine am_top (b := ((rl n t p k : Nat) : Int)) hv ?_
        exact T1
theorem mm_before (n : Nat) (t : Nat → Nat) (p q : Nat) : aMet cdX1 yX1_before cX1_before 6 (some .boolean) (rmD 0)
    (fun as σ => as = [(p : Int), (q : Int)] ∧ J0 n t σ ∧ p < n ∧ q < n)
    (fun _ σ r' σ' => ∃ z, r' = some z ∧ (σ' = σ ∧ ((z = 1 ∧ keyR n t 64 p < keyR n t 64 q) ∨ (z = 0 ∧ ¬ keyR n t 64 p < keyR n t 64 q)))) := by
  refine aMet.of am_cls1 (by decide) rfl (fun as σ h => by rw [h.1]; exact Nat.le_of_ble_eq_true rfl) ?_
  intro as σ X hpre hX
  obtain ⟨rfl, J, hp, hq⟩ := hpre
  refine am_iconst hX dX1_before_0 ?_
  refine am_top (b := ((0 : Nat) : Int)) (by omega) ?_
  refine am_istore_n hX dX1_before_1 rfl (by decide) ?_
  exact bf_loop hX J hp hq (fun h => ⟨_, rfl, rfl, Or.inl ⟨rfl, h⟩⟩) (fun h => ⟨_, rfl, rfl, Or.inr ⟨rfl, h⟩⟩) (n + 1) 0 _ _ (by omega) (by omega) (fun j hj => absurd hj (by omega))
theorem st_in {n p : Nat} {t : Nat → Nat} {σ : am_S} (hX : aOK cdX1 RX1 TX1 tyX1 cX1_sort 4 none X) (J : J0 n t σ) (hp : p < n)
    (K : aW cdX1 4 (rmD 1) X P 45 [vT, vI (p : Int), vI (place n t p : Int), vI (n : Int)] [] σ) :
    ∀ m q, q ≤ n → n < q + m → aW cdX1 4 (rmD 1) X P 14 [vT, vI (p : Int), vI ((sm (fun x => if keyR n t 64 x < keyR n t 64 p then 1 else 0) q : Nat) : Int), vI (q : Int)] [] σ := by
  have hn := J.1
  have hn32 := J.2.1
  intro m
  induction m with
  | zero => intro q h1 h2; exact absurd h2 (by omega)
  | succ m ih =>
    intro q hq hm
    have hs : sm (fun x => if keyR n t 64 x < keyR n t 64 p then 1 else 0) (q + 1) = sm (fun x => if keyR n t 64 x < keyR n t 64 p then 1 else 0) q + if keyR n t 64 q < keyR n t 64 p then 1 else 0 := rfl
    have tail : ∀ v, v = sm (fun x => if keyR n t 64 x < keyR n t 64 p then 1 else 0) (q + 1) → q < n → aW cdX1 4 (rmD 1) X P 39 [vT, vI (p : Int), vI (v : Int), vI (q : Int)] [] σ := by
      intro v hv hqn
      subst hv
      refine am_iincv hX dX1_sort_39 rfl (by decide) (z2 := ((q + 1 : Nat) : Int)) (by omega) ?_
      refine am_goto hX (tgt := 14) dX1_sort_42 (by decide) ?_
      exact ih (q + 1) (by omega) (by omega)
    refine am_iload_n hX dX1_sort_14 rfl rfl ?_
    refine am_aload_n hX dX1_sort_15 rfl rfl ?_
    refine am_geti hX 0 q229 (by decide) rfl dX1_sort_16 ?_
    refine am_top (b := ((n : Nat) : Int)) hn ?_
    refine am_icmp_ge hX (tgt := 45) dX1_sort_19 (by decide) (by omega) (by omega) (fun h => ?_) (fun h => ?_)
    · have e : q = n := by omega
      subst e
      exact K
    · refine am_iload_n hX dX1_sort_22 rfl rfl ?_
      refine am_iload_n hX dX1_sort_23 rfl rfl ?_
      refine am_icmp_eq hX (tgt := 39) dX1_sort_24 (by decide) (by omega) (by omega) (fun h2 => ?_) (fun h2 => ?_)
      · have e : q = p := by omega
        refine tail _ ?_ (by omega)
        rw [hs, e, if_neg (Nat.lt_irrefl _), Nat.add_zero]
      · refine am_aload_n hX dX1_sort_27 rfl rfl ?_
        refine am_iload_n hX dX1_sort_28 rfl rfl ?_
        refine am_iload_n hX dX1_sort_29 rfl rfl ?_
        refine am_calli hX (mm_before n t q p) [(q : Int), (p : Int)] (lw_V q284 q286 qs21 q30 q287) ⟨rfl, rfl⟩ (nA := 2) (by decide +kernel) ⟨by decide, by decide⟩ rfl rfl (fun _ => Nat.le_of_ble_eq_true rfl) dX1_sort_30 ⟨rfl, J, by omega, hp⟩ (fun z σ1 hz => ?_)
        obtain ⟨rfl, hz⟩ := hz
        refine am_if_eq hX (tgt := 39) dX1_sort_33 (by decide) (by omega) (fun h3 => ?_) (fun h3 => ?_)
        · refine tail _ ?_ (by omega)
          rw [hs, if_neg (by omega), Nat.add_zero]
        · refine am_iincv hX dX1_sort_36 rfl (by decide) (z2 := ((sm (fun x => if keyR n t 64 x < keyR n t 64 p then 1 else 0) q + 1 : Nat) : Int)) rfl ?_
          refine tail _ ?_ (by omega)
          rw [hs, if_pos (by omega)]
theorem st_out {n : Nat} {t : Nat → Nat} {σ0 : am_S} (hX : aOK cdX1 RX1 TX1 tyX1 cX1_sort 4 none X) (J0' : J0 n t σ0)
    (K : ∀ σ, fr [6] [2] σ0 σ → hA σ 2 n (colF n t) → (0 < n → gF σ 6 = (place n t 0 : Int)) → P none σ) :
    ∀ m p x2 x3 σ, p ≤ n → n < p + m → fr [6] [2] σ0 σ → (∀ j, j < p → gA σ 2 (place n t j) = (prv n t j : Int)) → (0 < p → gF σ 6 = (place n t 0 : Int)) → aW cdX1 4 (rmD 1) X P 2 [vT, vI (p : Int), x2, x3] [] σ := by
  intro m
  induction m with
  | zero => intro p x2 x3 σ h1 h2; exact absurd h2 (by omega)
  | succ m ih =>
    intro p x2 x3 σ hp hm hf hcol hmk
    have J : J0 n t σ := J0'.fr hf (by decide) (by decide)
    have hn := J.1
    have hn32 := J.2.1
    have ht := J.2.2.1
    have htb := J.2.2.2
    refine am_iload_n hX dX1_sort_2 rfl rfl ?_
    refine am_aload_n hX dX1_sort_3 rfl rfl ?_
    refine am_geti hX 0 q229 (by decide) rfl dX1_sort_4 ?_
    refine am_top (b := ((n : Nat) : Int)) hn ?_
    refine am_icmp_ge hX (tgt := 87) dX1_sort_7 (by decide) (by omega) (by omega) (fun h => ?_) (fun h => ?_)
    · have e : p = n := by omega
      subst e
      refine am_vret hX dX1_sort_87 (K σ hf (fun k hk => ?_) hmk)
      have h1 := hcol (oF p t k) (Pm_lt (oF_ok t hn32).1 k hk)
      rw [place_oF hn32 hk] at h1
      exact h1
    · have hpn : p < n := by omega
      have hpl := place_lt (t := t) hpn
      have step : ∀ (σ1 : am_S), fr [6] [2] σ0 σ1 → (∀ j, gA σ1 2 j = up (gA σ 2) (place n t p) ((prv n t p : Nat) : Int) j) → gF σ1 6 = (place n t 0 : Int) → ∀ y2 y3, aW cdX1 4 (rmD 1) X P 81 [vT, vI (p : Int), y2, y3] [] σ1 := by
        intro σ1 hf1 hc1 hm1 y2 y3
        refine am_iincv hX dX1_sort_81 rfl (by decide) (z2 := ((p + 1 : Nat) : Int)) (by omega) ?_
        refine am_goto hX (tgt := 2) dX1_sort_84 (by decide) ?_
        refine ih (p + 1) _ _ _ (by omega) (by omega) hf1 (fun j hj => ?_) (fun _ => hm1)
        rw [hc1]
        by_cases e : j = p
        · rw [e, up_s]
        · rw [up_n _ _ (fun q => e (place_inj hn32 (by omega) hpn q))]
          exact hcol j (by omega)
      refine am_iconst hX dX1_sort_10 ?_
      refine am_top (b := ((sm (fun x => if keyR n t 64 x < keyR n t 64 p then 1 else 0) 0 : Nat) : Int)) rfl ?_
      refine am_istore_n hX dX1_sort_11 rfl (by decide) ?_
      refine am_iconst hX dX1_sort_12 ?_
      refine am_top (b := ((0 : Nat) : Int)) (by omega) ?_
      refine am_istore_n hX dX1_sort_13 rfl (by decide) ?_
      refine st_in hX J hpn ?_ (n + 1) 0 (by omega) (by omega)
      refine am_aload_n hX dX1_sort_45 rfl rfl ?_
      refine am_geta hX 2 q231 (by decide) rfl dX1_sort_46 ?_
      refine am_iload_n hX dX1_sort_49 rfl rfl ?_
      refine am_aload_n hX dX1_sort_50 rfl rfl ?_
      refine am_geta hX 1 q230 (by decide) rfl dX1_sort_51 ?_
      refine am_iload_n hX dX1_sort_54 rfl rfl ?_
      refine am_if_ne hX (tgt := 67) dX1_sort_55 (by decide) (by omega) (fun c1 => ?_) (fun c1 => ?_)
      · have hpv : gA σ 1 (p - 1) = (prv n t p : Int) := by
          rw [ht _ (by omega)]
          unfold prv
          rw [if_neg (by omega)]
        refine am_iload_n hX dX1_sort_67 rfl rfl ?_
        refine am_iconst hX dX1_sort_68 ?_
        refine am_isub hX dX1_sort_69 ?_
        refine am_iald hX 0 rfl (p - 1) (by omega) (by omega) (by decide) dX1_sort_70 ?_
        refine am_top (b := ((prv n t p : Nat) : Int)) hpv ?_
        refine am_iast hX 1 rfl (place n t p) (by omega) (by omega) (by decide) dX1_sort_71 ?_
        refine am_iload_n hX dX1_sort_72 rfl rfl ?_
        refine am_if_ne hX (tgt := 81) dX1_sort_73 (by decide) (by omega) (fun c2 => ?_) (fun c2 => ?_)
        · exact step _ (fr_wA hf (by decide) _) (fun j => by rw [gA_wA, if_pos rfl]) (hmk (by omega)) _ _
        · exact absurd c2 c1
      · have e0 : p = 0 := by omega
        have hpv : gA σ 1 (n - 1) = (prv n t p : Int) := by
          rw [ht _ (by omega)]
          unfold prv
          rw [if_pos e0]
        refine am_aload_n hX dX1_sort_58 rfl rfl ?_
        refine am_geti hX 0 q229 (by decide) rfl dX1_sort_59 ?_
        refine am_top (b := ((n : Nat) : Int)) hn ?_
        refine am_iconst hX dX1_sort_62 ?_
        refine am_isub hX dX1_sort_63 ?_
        refine am_goto hX (tgt := 70) dX1_sort_64 (by decide) ?_
        refine am_iald hX 0 rfl (n - 1) (by omega) (by omega) (by decide) dX1_sort_70 ?_
        refine am_top (b := ((prv n t p : Nat) : Int)) hpv ?_
        refine am_iast hX 1 rfl (place n t p) (by omega) (by omega) (by decide) dX1_sort_71 ?_
        refine am_iload_n hX dX1_sort_72 rfl rfl ?_
        refine am_if_ne hX (tgt := 81) dX1_sort_73 (by decide) (by omega) (fun c2 => ?_) (fun c2 => ?_)
        · exact absurd c1 c2
        · refine am_aload_n hX dX1_sort_76 rfl rfl ?_
          refine am_iload_n hX dX1_sort_77 rfl rfl ?_
          refine am_puti hX 6 q235 (by decide) rfl rfl rfl dX1_sort_78 ?_
          exact step _ (fr_pF (fr_wA hf (by decide) _) (by decide) _) (fun j => by rw [gA_pF, gA_wA, if_pos rfl]) (by rw [gF_pF, if_pos rfl, e0]) _ _
theorem mm_sort (n : Nat) (t : Nat → Nat) : aMet cdX1 yX1_sort cX1_sort 4 none (rmD 1)
    (fun as σ => as = [] ∧ J0 n t σ)
    (fun _ σ r' σ' => r' = none ∧ (fr [6] [2] σ σ' ∧ hA σ' 2 n (colF n t) ∧ (0 < n → gF σ' 6 = (place n t 0 : Int)))) := by
  refine aMet.of am_cls1 (by decide) rfl (fun as σ h => by rw [h.1]; exact Nat.le_of_ble_eq_true rfl) ?_
  intro as σ X hpre hX
  obtain ⟨rfl, J⟩ := hpre
  refine am_iconst hX dX1_sort_0 ?_
  refine am_top (b := ((0 : Nat) : Int)) (by omega) ?_
  refine am_istore_n hX dX1_sort_1 rfl (by decide) ?_
  exact st_out hX J (fun σ1 a b c => ⟨rfl, a, b, c⟩) (n + 1) 0 _ _ σ (by omega) (by omega) (fr_refl _ _ _) (fun j hj => absurd hj (by omega)) (fun q => absurd q (by omega))
/-! ranks -/
theorem ra_init {σ0 : am_S} (hX : aOK cdX1 RX1 TX1 tyX1 cX1_rankAll 4 none X) (K : ∀ x σ, fr [] [3, 7] σ0 σ → hA σ 7 6 (fun j => j) → aW cdX1 4 (rmD 0) X P 21 [vT, x, vN, vN] [] σ) :
    ∀ m k σ, k ≤ 6 → 6 < k + m → fr [] [3, 7] σ0 σ → hA σ 7 k (fun j => j) → aW cdX1 4 (rmD 0) X P 2 [vT, vI (k : Int), vN, vN] [] σ := by
  intro m
  induction m with
  | zero => intro k σ h1 h2; exact absurd h2 (by omega)
  | succ m ih =>
    intro k σ hk hm hf ha
    refine am_iload_n hX dX1_rankAll_2 rfl rfl ?_
    refine am_bipush hX dX1_rankAll_3 (by decide) ?_
    refine am_icmp_ge hX (tgt := 21) dX1_rankAll_5 (by decide) (by omega) (by omega) (fun h => ?_) (fun h => ?_)
    · exact K _ σ hf (hA_le ha (by omega))
    · refine am_aload_n hX dX1_rankAll_8 rfl rfl ?_
      refine am_geta hX 7 q236 (by decide) rfl dX1_rankAll_9 ?_
      refine am_iload_n hX dX1_rankAll_12 rfl rfl ?_
      refine am_iload_n hX dX1_rankAll_13 rfl rfl ?_
      refine am_iast hX 4 rfl (k) (by omega) (by omega) (by decide) dX1_rankAll_14 ?_
      refine am_iincv hX dX1_rankAll_15 rfl (by decide) (z2 := ((k + 1 : Nat) : Int)) (by omega) ?_
      refine am_goto hX (tgt := 2) dX1_rankAll_18 (by decide) ?_
      exact ih (k + 1) _ (by omega) (by omega) (fr_wA hf (by decide) _) (hA_push ha rfl)
theorem ra_find {f : Nat → Nat} {i v : Nat} {σ : am_S} (hX : aOK cdX1 RX1 TX1 tyX1 cX1_rankAll 4 none X) (hi : i < 32) (hf : RowOK f) (hv : v < 6) (hcol : gA σ 2 i = (v : Int)) (hrow : hA σ 7 6 f)
    (K : aW cdX1 4 (rmD 0) X P 64 [vT, vI (i : Int), vI (pos6 f v : Int), vI ((6 : Nat) : Int)] [] σ) :
    ∀ m k, k ≤ 6 → 6 < k + m → aW cdX1 4 (rmD 0) X P 35 [vT, vI (i : Int), vI (fd f v k : Int), vI (k : Int)] [] σ := by
  have hlt := pos6_lt f v
  intro m
  induction m with
  | zero => intro k h1 h2; exact absurd h2 (by omega)
  | succ m ih =>
    intro k hk hm
    have tail : ∀ r, r = fd f v (k + 1) → k < 6 → aW cdX1 4 (rmD 0) X P 58 [vT, vI (i : Int), vI (r : Int), vI (k : Int)] [] σ := by
      intro r hr hk6
      subst hr
      refine am_iincv hX dX1_rankAll_58 rfl (by decide) (z2 := ((k + 1 : Nat) : Int)) (by omega) ?_
      refine am_goto hX (tgt := 35) dX1_rankAll_61 (by decide) ?_
      exact ih (k + 1) (by omega) (by omega)
    refine am_iload_n hX dX1_rankAll_35 rfl rfl ?_
    refine am_bipush hX dX1_rankAll_36 (by decide) ?_
    refine am_icmp_ge hX (tgt := 64) dX1_rankAll_38 (by decide) (by omega) (by omega) (fun h => ?_) (fun h => ?_)
    · have e : k = 6 := by omega
      subst e
      have e2 : fd f v 6 = pos6 f v := if_pos hlt
      rw [e2]
      exact K
    · have hb := hf.1 k (by omega)
      refine am_aload_n hX dX1_rankAll_41 rfl rfl ?_
      refine am_geta hX 7 q236 (by decide) rfl dX1_rankAll_42 ?_
      refine am_iload_n hX dX1_rankAll_45 rfl rfl ?_
      refine am_iald hX 4 rfl (k) (by omega) (by omega) (by decide) dX1_rankAll_46 ?_
      refine am_top (b := ((f k : Nat) : Int)) (hrow k (by omega)) ?_
      refine am_aload_n hX dX1_rankAll_47 rfl rfl ?_
      refine am_geta hX 2 q231 (by decide) rfl dX1_rankAll_48 ?_
      refine am_iload_n hX dX1_rankAll_51 rfl rfl ?_
      refine am_iald hX 1 rfl (i) (by omega) (by omega) (by decide) dX1_rankAll_52 ?_
      refine am_top (b := ((v : Nat) : Int)) hcol ?_
      refine am_icmp_ne hX (tgt := 58) dX1_rankAll_53 (by decide) (by omega) (by omega) (fun h2 => ?_) (fun h2 => ?_)
      · refine tail _ ?_ (by omega)
        have hne : k ≠ pos6 f v := fun e => h2 (by rw [e, pos6_at hf hv])
        unfold fd
        by_cases q : pos6 f v < k
        · rw [if_pos q, if_pos (by omega)]
        · rw [if_neg q, if_neg (by omega)]
      · have e : k = pos6 f v := pos6_uniq hf (by omega) (by omega)
        refine am_iload_n hX dX1_rankAll_56 rfl rfl ?_
        refine am_istore_n hX dX1_rankAll_57 rfl (by decide) ?_
        refine tail k ?_ (by omega)
        unfold fd
        rw [if_pos (by omega)]
        exact e
theorem ra_shift {f : Nat → Nat} {i r : Nat} {σ0 : am_S} (hX : aOK cdX1 RX1 TX1 tyX1 cX1_rankAll 4 none X) (hr : r < 6)
    (K : ∀ σ, fr [] [3, 7] σ0 σ → fr [] [7] σ0 σ → hA σ 7 6 (shf f r 0) → aW cdX1 4 (rmD 0) X P 102 [vT, vI (i : Int), vI (r : Int), vI ((0 : Nat) : Int)] [] σ) :
    ∀ k σ, k ≤ 5 → fr [] [7] σ0 σ → hA σ 7 6 (shf f r k) → aW cdX1 4 (rmD 0) X P 73 [vT, vI (i : Int), vI (r : Int), vI (k : Int)] [] σ := by
  intro k
  induction k with
  | zero =>
    intro σ hk hf ha
    refine am_iload_n hX dX1_rankAll_73 rfl rfl ?_
    refine am_if_le hX (tgt := 102) dX1_rankAll_74 (by decide) (by omega) (fun h => ?_) (fun h => ?_)
    · exact K σ (fr_mono hf (by decide) (by decide)) hf ha
    · exact absurd h (by omega)
  | succ k ih =>
    intro σ hk hf ha
    refine am_iload_n hX dX1_rankAll_73 rfl rfl ?_
    refine am_if_le hX (tgt := 102) dX1_rankAll_74 (by decide) (by omega) (fun h => ?_) (fun h => ?_)
    · exact absurd h (by omega)
    · refine am_iload_n hX dX1_rankAll_77 rfl rfl ?_
      refine am_iload_n hX dX1_rankAll_78 rfl rfl ?_
      refine am_icmp_gt hX (tgt := 96) dX1_rankAll_79 (by decide) (by omega) (by omega) (fun h2 => ?_) (fun h2 => ?_)
      · refine am_iincv hX dX1_rankAll_96 rfl (by decide) (z2 := ((k : Nat) : Int)) (by omega) ?_
        refine am_goto hX (tgt := 73) dX1_rankAll_99 (by decide) ?_
        exact ih _ (by omega) hf (hA_congr ha (fun j _ => (shf_skip f (by omega) j).symm))
      · have hv : gA σ 7 k = (f k : Int) := by rw [ha k (by omega), shf_low f r (by omega)]
        refine am_aload_n hX dX1_rankAll_82 rfl rfl ?_
        refine am_geta hX 7 q236 (by decide) rfl dX1_rankAll_83 ?_
        refine am_iload_n hX dX1_rankAll_86 rfl rfl ?_
        refine am_aload_n hX dX1_rankAll_87 rfl rfl ?_
        refine am_geta hX 7 q236 (by decide) rfl dX1_rankAll_88 ?_
        refine am_iload_n hX dX1_rankAll_91 rfl rfl ?_
        refine am_iconst hX dX1_rankAll_92 ?_
        refine am_isub hX dX1_rankAll_93 ?_
        refine am_iald hX 4 rfl (k) (by omega) (by omega) (by decide) dX1_rankAll_94 ?_
        refine am_top (b := ((f k : Nat) : Int)) hv ?_
        refine am_iast hX 4 rfl (k + 1) (by omega) (by omega) (by decide) dX1_rankAll_95 ?_
        refine am_iincv hX dX1_rankAll_96 rfl (by decide) (z2 := ((k : Nat) : Int)) (by omega) ?_
        refine am_goto hX (tgt := 73) dX1_rankAll_99 (by decide) ?_
        exact ih _ (by omega) (fr_wA hf (by decide) _) (hA_up ha (by rw [shf_step f (by omega)]) (fun j _ hj => shf_other f hj))
theorem ra_out {n : Nat} {c : Nat → Nat} {σ0 : am_S} (hX : aOK cdX1 RX1 TX1 tyX1 cX1_rankAll 4 none X) (hn0 : gF σ0 0 = (n : Int)) (hn32 : n ≤ 32) (hc0 : hA σ0 2 n c) (hcb : ∀ j, j < n → c j < 6)
    (K : ∀ σ, fr [] [3, 7] σ0 σ → hA σ 3 n (rkC c) → P none σ) :
    ∀ m i x2 x3 σ, i ≤ n → n < i + m → fr [] [3, 7] σ0 σ → hA σ 3 i (rkC c) → hA σ 7 6 (rowC c i) → aW cdX1 4 (rmD 0) X P 23 [vT, vI (i : Int), x2, x3] [] σ := by
  intro m
  induction m with
  | zero => intro i x2 x3 σ h1 h2; exact absurd h2 (by omega)
  | succ m ih =>
    intro i x2 x3 σ hi hm hf hr hw
    have hn : gF σ 0 = (n : Int) := (hf.1 0 (by decide)).trans hn0
    refine am_iload_n hX dX1_rankAll_23 rfl rfl ?_
    refine am_aload_n hX dX1_rankAll_24 rfl rfl ?_
    refine am_geti hX 0 q229 (by decide) rfl dX1_rankAll_25 ?_
    refine am_top (b := ((n : Nat) : Int)) hn ?_
    refine am_icmp_ge hX (tgt := 120) dX1_rankAll_28 (by decide) (by omega) (by omega) (fun h => ?_) (fun h => ?_)
    · exact am_vret hX dX1_rankAll_120 (K σ hf (hA_le hr (by omega)))
    · have hcol : gA σ 2 i = (c i : Int) := hA_fr hc0 hf (by decide) i (by omega)
      have hci := hcb i (by omega)
      have hlt := rkC_lt c i
      refine am_iconst hX dX1_rankAll_31 ?_
      refine am_top (b := ((fd (rowC c i) (c i) 0 : Nat) : Int)) rfl ?_
      refine am_istore_n hX dX1_rankAll_32 rfl (by decide) ?_
      refine am_iconst hX dX1_rankAll_33 ?_
      refine am_top (b := ((0 : Nat) : Int)) (by omega) ?_
      refine am_istore_n hX dX1_rankAll_34 rfl (by decide) ?_
      refine ra_find hX (by omega) (rowC_ok c i) hci hcol hw ?_ 7 0 (by omega) (by omega)
      refine am_loc [vT, vI (i : Int), vI (rkC c i : Int), vI ((6 : Nat) : Int)] rfl ?_
      refine am_aload_n hX dX1_rankAll_64 rfl rfl ?_
      refine am_geta hX 3 q232 (by decide) rfl dX1_rankAll_65 ?_
      refine am_iload_n hX dX1_rankAll_68 rfl rfl ?_
      refine am_iload_n hX dX1_rankAll_69 rfl rfl ?_
      refine am_iast hX 2 rfl (i) (by omega) (by omega) (by decide) dX1_rankAll_70 ?_
      refine am_iconst hX dX1_rankAll_71 ?_
      refine am_top (b := ((5 : Nat) : Int)) (by omega) ?_
      refine am_istore_n hX dX1_rankAll_72 rfl (by decide) ?_
      refine ra_shift (f := rowC c i) hX hlt (fun σ1 hf1 hf1' h7 => ?_) 5 _ (by omega) (fr_refl _ _ _) (hA_congr (hA_wA hw (by decide) _) (fun j hj => (shf_low _ _ (by omega)).symm))
      have hcol1 : gA σ1 2 i = (c i : Int) := (hf1.2.1 2 (by decide) i).trans hcol
      refine am_aload_n hX dX1_rankAll_102 rfl rfl ?_
      refine am_geta hX 7 q236 (by decide) rfl dX1_rankAll_103 ?_
      refine am_iconst hX dX1_rankAll_106 ?_
      refine am_aload_n hX dX1_rankAll_107 rfl rfl ?_
      refine am_geta hX 2 q231 (by decide) rfl dX1_rankAll_108 ?_
      refine am_iload_n hX dX1_rankAll_111 rfl rfl ?_
      refine am_iald hX 1 rfl (i) (by omega) (by omega) (by decide) dX1_rankAll_112 ?_
      refine am_top (b := ((c i : Nat) : Int)) hcol1 ?_
      refine am_iast hX 4 rfl (0) (by omega) (by omega) (by decide) dX1_rankAll_113 ?_
      refine am_iincv hX dX1_rankAll_114 rfl (by decide) (z2 := ((i + 1 : Nat) : Int)) (by omega) ?_
      refine am_goto hX (tgt := 23) dX1_rankAll_117 (by decide) ?_
      refine ih (i + 1) _ _ _ (by omega) (by omega) (fr_wA (fr_trans (fr_wA hf (by decide) _) hf1) (by decide) _) (hA_wA (hA_fr (hA_push hr rfl) hf1' (by decide)) (by decide) _) (hA_up h7 ?_ (fun j _ hj => ?_))
      · show (c i : Int) = ((mtf (rowC c i) (rkC c i) 0 : Nat) : Int)
        unfold mtf
        rw [if_pos rfl, rowC_rk hci]
      · show mtf (rowC c i) (rkC c i) j = _
        unfold mtf
        rw [if_neg hj]
theorem mm_rankAll (n : Nat) (c : Nat → Nat) : aMet cdX1 yX1_rankAll cX1_rankAll 4 none (rmD 0)
    (fun as σ => as = [] ∧ gF σ 0 = (n : Int) ∧ n ≤ 32 ∧ hA σ 2 n c ∧ ∀ j, j < n → c j < 6)
    (fun _ σ r' σ' => r' = none ∧ (fr [] [3, 7] σ σ' ∧ hA σ' 3 n (rkC c))) := by
  refine aMet.of am_cls1 (by decide) rfl (fun as σ h => by rw [h.1]; exact Nat.le_of_ble_eq_true rfl) ?_
  intro as σ X hpre hX
  obtain ⟨rfl, hn, hn32, hc, hcb⟩ := hpre
  refine am_iconst hX dX1_rankAll_0 ?_
  refine am_top (b := ((0 : Nat) : Int)) (by omega) ?_
  refine am_istore_n hX dX1_rankAll_1 rfl (by decide) ?_
  refine ra_init (σ0 := σ) hX (fun x σ1 hf1 h7 => ?_) 7 0 σ (by omega) (by omega) (fr_refl _ _ _) (fun j hj => absurd hj (by omega))
  refine am_iconst hX dX1_rankAll_21 ?_
  refine am_top (b := ((0 : Nat) : Int)) (by omega) ?_
  refine am_istore_n hX dX1_rankAll_22 rfl (by decide) ?_
  exact ra_out (σ0 := σ) hX hn hn32 hc hcb (fun σ2 a b => ⟨rfl, a, b⟩) 33 0 _ _ σ1 (by omega) (by omega) hf1 (fun j hj => absurd hj (by omega)) h7
/-! runs -/
theorem mm_put (L : List Nat) (s : Nat) : aMet cdX1 yX1_put cX1_put 2 none (rmD 0)
    (fun as σ => as = [(s : Int)] ∧ L.length < 32 ∧ SL 5 4 σ L)
    (fun _ σ r' σ' => r' = none ∧ (fr [5] [4] σ σ' ∧ SL 5 4 σ' (L ++ [s]))) := by
  refine aMet.of am_cls1 (by decide) rfl (fun as σ h => by rw [h.1]; exact Nat.le_of_ble_eq_true rfl) ?_
  intro as σ X hpre hX
  obtain ⟨rfl, hl, hL⟩ := hpre
  refine am_aload_n hX dX1_put_0 rfl rfl ?_
  refine am_geta hX 4 q233 (by decide) rfl dX1_put_1 ?_
  refine am_aload_n hX dX1_put_4 rfl rfl ?_
  refine am_geti hX 5 q234 (by decide) rfl dX1_put_5 ?_
  refine am_top (b := ((L.length : Nat) : Int)) hL.1 ?_
  refine am_iload_n hX dX1_put_8 rfl rfl ?_
  refine am_iast hX 3 rfl (L.length) (by omega) (by omega) (by decide) dX1_put_9 ?_
  refine am_aload_n hX dX1_put_10 rfl rfl ?_
  refine am_dup hX dX1_put_11 (fun _ => rfl) ?_
  refine am_geti hX 5 q234 (by decide) rfl dX1_put_12 ?_
  refine am_top (b := ((L.length : Nat) : Int)) hL.1 ?_
  refine am_iconst hX dX1_put_15 ?_
  refine am_iadd hX dX1_put_16 ?_
  refine am_top (b := ((L.length + 1 : Nat) : Int)) (by omega) ?_
  refine am_puti hX 5 q234 (by decide) rfl rfl rfl dX1_put_17 ?_
  exact am_vret hX dX1_put_20 ⟨rfl, fr_pF (fr_wA (fr_refl _ _ _) (by decide) _) (by decide) _, SL_push hL rfl rfl⟩
theorem pr_loop {F : List Nat} {y1 : Option am_V} {σ0 : am_S} (hX : aOK cdX1 RX1 TX1 tyX1 cX1_putRun 5 none X)
    (K : ∀ σ, fr [5] [4] σ0 σ → SL 5 4 σ F → P none σ) :
    ∀ (f k z : Nat) E x4 σ, k + f = 6 → z < 2 ^ f → E.length + z ≤ 32 → E ++ run z = F → fr [5] [4] σ0 σ → SL 5 4 σ E → aW cdX1 5 (rmD 1) X P 4 [vT, y1, vI (z : Int), vI (k : Int), x4] [] σ := by
  intro f
  induction f with
  | zero =>
    intro k z E x4 σ hk hz hl hF hf hL
    have e : z = 0 := by
      rw [Nat.pow_zero] at hz
      omega
    subst e
    rw [run_0, List.append_nil] at hF
    subst hF
    refine am_iload_n hX dX1_putRun_4 rfl rfl ?_
    refine am_bipush hX dX1_putRun_5 (by decide) ?_
    refine am_icmp_ge hX (tgt := 67) dX1_putRun_7 (by decide) (by omega) (by omega) (fun h => ?_) (fun h => ?_)
    · exact am_vret hX dX1_putRun_67 (K σ hf hL)
    · exact absurd h (by omega)
  | succ f ih =>
    intro k z E x4 σ hk hz hl hF hf hL
    rw [Nat.pow_succ] at hz
    refine am_iload_n hX dX1_putRun_4 rfl rfl ?_
    refine am_bipush hX dX1_putRun_5 (by decide) ?_
    refine am_icmp_ge hX (tgt := 67) dX1_putRun_7 (by decide) (by omega) (by omega) (fun h => ?_) (fun h => ?_)
    · exact absurd h (by omega)
    · refine am_iload_n hX dX1_putRun_10 rfl rfl ?_
      refine am_if_le hX (tgt := 67) dX1_putRun_11 (by decide) (by omega) (fun h2 => ?_) (fun h2 => ?_)
      · have e : z = 0 := by omega
        subst e
        rw [run_0, List.append_nil] at hF
        subst hF
        exact am_vret hX dX1_putRun_67 (K σ hf hL)
      · refine am_iload_n hX dX1_putRun_14 rfl rfl ?_
        refine am_iconst hX dX1_putRun_15 ?_
        refine am_irem hX (x := z) (y := 2) dX1_putRun_16 (by omega) (by omega) (by omega) (by omega) ?_
        refine am_iconst hX dX1_putRun_17 ?_
        refine am_icmp_ne hX (tgt := 25) dX1_putRun_18 (by decide) (by omega) (by omega) (fun h3 => ?_) (fun h3 => ?_)
        · rw [run_even (by omega) (by omega)] at hF
          refine am_iconst hX dX1_putRun_25 ?_
          refine am_istore hX dX1_putRun_26 (by decide) ?_
          refine am_aload_n hX dX1_putRun_28 rfl rfl ?_
          refine am_iload hX dX1_putRun_29 rfl ?_
          refine am_if_eq hX (tgt := 38) dX1_putRun_31 (by decide) (by omega) (fun h4 => ?_) (fun h4 => ?_)
          · refine am_iconst hX dX1_putRun_38 ?_
            refine am_callv hX (mm_put E 1) [1] (lw_V q296 q298 qs24 q30 q299) ⟨rfl, rfl⟩ (nA := 1) (by decide +kernel) ⟨by decide, by decide⟩ rfl rfl (fun _ => Nat.le_of_ble_eq_true rfl) dX1_putRun_39 ⟨rfl, by omega, hL⟩ (fun σ1 hq => ?_)
            refine am_iload hX dX1_putRun_42 rfl ?_
            refine am_if_eq hX (tgt := 55) dX1_putRun_44 (by decide) (by omega) (fun h5 => ?_) (fun h5 => ?_)
            · refine am_iload_n hX dX1_putRun_55 rfl rfl ?_
              refine am_iconst hX dX1_putRun_56 ?_
              refine am_isub hX dX1_putRun_57 ?_
              refine am_top (b := ((z - 2 : Nat) : Int)) (by omega) ?_
              refine am_iconst hX dX1_putRun_58 ?_
              refine am_idiv hX (x := z - 2) (y := 2) dX1_putRun_59 (by omega) (by omega) (by omega) (by omega) ?_
              refine am_istore_n hX dX1_putRun_60 rfl (by decide) ?_
              refine am_iincv hX dX1_putRun_61 rfl (by decide) (z2 := ((k + 1 : Nat) : Int)) (by omega) ?_
              refine am_goto hX (tgt := 4) dX1_putRun_64 (by decide) ?_
              exact ih (k + 1) ((z - 2) / 2) (E ++ [1]) _ _ (by omega) (by omega) (by rw [List.length_append, List.length_singleton]; omega) (by rw [← hF]; simp) (fr_trans hf hq.1) hq.2
            · exact absurd rfl h5
          · exact absurd rfl h4
        · rw [run_odd (by omega)] at hF
          refine am_iconst hX dX1_putRun_21 ?_
          refine am_goto hX (tgt := 26) dX1_putRun_22 (by decide) ?_
          refine am_istore hX dX1_putRun_26 (by decide) ?_
          refine am_aload_n hX dX1_putRun_28 rfl rfl ?_
          refine am_iload hX dX1_putRun_29 rfl ?_
          refine am_if_eq hX (tgt := 38) dX1_putRun_31 (by decide) (by omega) (fun h4 => ?_) (fun h4 => ?_)
          · exact absurd h4 (by decide)
          · refine am_iconst hX dX1_putRun_34 ?_
            refine am_goto hX (tgt := 39) dX1_putRun_35 (by decide) ?_
            refine am_callv hX (mm_put E 0) [0] (lw_V q296 q298 qs24 q30 q299) ⟨rfl, rfl⟩ (nA := 1) (by decide +kernel) ⟨by decide, by decide⟩ rfl rfl (fun _ => Nat.le_of_ble_eq_true rfl) dX1_putRun_39 ⟨rfl, by omega, hL⟩ (fun σ1 hq => ?_)
            refine am_iload hX dX1_putRun_42 rfl ?_
            refine am_if_eq hX (tgt := 55) dX1_putRun_44 (by decide) (by omega) (fun h5 => ?_) (fun h5 => ?_)
            · exact absurd h5 (by decide)
            · refine am_iload_n hX dX1_putRun_47 rfl rfl ?_
              refine am_iconst hX dX1_putRun_48 ?_
              refine am_isub hX dX1_putRun_49 ?_
              refine am_top (b := ((z - 1 : Nat) : Int)) (by omega) ?_
              refine am_iconst hX dX1_putRun_50 ?_
              refine am_idiv hX (x := z - 1) (y := 2) dX1_putRun_51 (by omega) (by omega) (by omega) (by omega) ?_
              refine am_goto hX (tgt := 60) dX1_putRun_52 (by decide) ?_
              refine am_istore_n hX dX1_putRun_60 rfl (by decide) ?_
              refine am_iincv hX dX1_putRun_61 rfl (by decide) (z2 := ((k + 1 : Nat) : Int)) (by omega) ?_
              refine am_goto hX (tgt := 4) dX1_putRun_64 (by decide) ?_
              exact ih (k + 1) ((z - 1) / 2) (E ++ [0]) _ _ (by omega) (by omega) (by rw [List.length_append, List.length_singleton]; omega) (by rw [← hF]; simp) (fr_trans hf hq.1) hq.2
theorem mm_putRun (L : List Nat) (z : Nat) : aMet cdX1 yX1_putRun cX1_putRun 5 none (rmD 1)
    (fun as σ => as = [(z : Int)] ∧ L.length + z ≤ 32 ∧ SL 5 4 σ L)
    (fun _ σ r' σ' => r' = none ∧ (fr [5] [4] σ σ' ∧ SL 5 4 σ' (L ++ run z))) := by
  refine aMet.of am_cls1 (by decide) rfl (fun as σ h => by rw [h.1]; exact Nat.le_of_ble_eq_true rfl) ?_
  intro as σ X hpre hX
  obtain ⟨rfl, hl, hL⟩ := hpre
  have h64 : (2 : Nat) ^ 6 = 64 := rfl
  refine am_iload_n hX dX1_putRun_0 rfl rfl ?_
  refine am_istore_n hX dX1_putRun_1 rfl (by decide) ?_
  refine am_iconst hX dX1_putRun_2 ?_
  refine am_top (b := ((0 : Nat) : Int)) (by omega) ?_
  refine am_istore_n hX dX1_putRun_3 rfl (by decide) ?_
  exact pr_loop (σ0 := σ) hX (fun σ1 a b => ⟨rfl, a, b⟩) 6 0 z L _ σ (by omega) (by omega) hl rfl (fr_refl _ _ _) hL
theorem en_loop {n : Nat} {r : Nat → Nat} {F : List Nat} {σ0 : am_S} (hX : aOK cdX1 RX1 TX1 tyX1 cX1_encode 3 none X) (hn0 : gF σ0 0 = (n : Int)) (hn32 : n ≤ 32) (hr0 : hA σ0 3 n r) (hrb : ∀ j, j < n → r j < 6)
    (K : ∀ σ, fr [5] [4] σ0 σ → SL 5 4 σ F → P none σ) :
    ∀ m i z E σ, i + m = n → E.length + z ≤ i → E ++ enc z (lst r i m) = F → fr [5] [4] σ0 σ → SL 5 4 σ E → aW cdX1 3 (rmD 2) X P 17 [vT, vI (z : Int), vI (i : Int)] [] σ := by
  intro m
  induction m with
  | zero =>
    intro i z E σ hi hl hF hf hL
    have hn : gF σ 0 = (n : Int) := (hf.1 0 (by decide)).trans hn0
    have hF2 : E ++ run z = F := hF
    refine am_iload_n hX dX1_encode_17 rfl rfl ?_
    refine am_aload_n hX dX1_encode_18 rfl rfl ?_
    refine am_geti hX 0 q229 (by decide) rfl dX1_encode_19 ?_
    refine am_top (b := ((n : Nat) : Int)) hn ?_
    refine am_icmp_ge hX (tgt := 65) dX1_encode_22 (by decide) (by omega) (by omega) (fun h => ?_) (fun h => ?_)
    · refine am_aload_n hX dX1_encode_65 rfl rfl ?_
      refine am_iload_n hX dX1_encode_66 rfl rfl ?_
      refine am_callv hX (mm_putRun E z) [(z : Int)] (lw_V q292 q294 qs23 q30 q295) ⟨rfl, rfl⟩ (nA := 1) (by decide +kernel) ⟨by decide, by decide⟩ rfl rfl (fun _ => Nat.le_of_ble_eq_true rfl) dX1_encode_67 ⟨rfl, by omega, hL⟩ (fun σ1 hq => ?_)
      exact am_vret hX dX1_encode_70 (K σ1 (fr_trans hf hq.1) (by rw [← hF2]; exact hq.2))
    · exact absurd h (by omega)
  | succ m ih =>
    intro i z E σ hi hl hF hf hL
    have hn : gF σ 0 = (n : Int) := (hf.1 0 (by decide)).trans hn0
    have hri := hrb i (by omega)
    have hF2 : E ++ enc z (r i :: lst r (i + 1) m) = F := hF
    refine am_iload_n hX dX1_encode_17 rfl rfl ?_
    refine am_aload_n hX dX1_encode_18 rfl rfl ?_
    refine am_geti hX 0 q229 (by decide) rfl dX1_encode_19 ?_
    refine am_top (b := ((n : Nat) : Int)) hn ?_
    refine am_icmp_ge hX (tgt := 65) dX1_encode_22 (by decide) (by omega) (by omega) (fun h => ?_) (fun h => ?_)
    · exact absurd h (by omega)
    · refine am_aload_n hX dX1_encode_25 rfl rfl ?_
      refine am_geta hX 3 q232 (by decide) rfl dX1_encode_26 ?_
      refine am_iload_n hX dX1_encode_29 rfl rfl ?_
      refine am_iald hX 2 rfl (i) (by omega) (by omega) (by decide) dX1_encode_30 ?_
      refine am_top (b := ((r i : Nat) : Int)) (hA_fr hr0 hf (by decide) i (by omega)) ?_
      refine am_if_ne hX (tgt := 40) dX1_encode_31 (by decide) (by omega) (fun h2 => ?_) (fun h2 => ?_)
      · rw [enc_s z (by omega)] at hF2
        have hlen : (E ++ run z).length ≤ i := by
          rw [List.length_append]
          have := (run_len z z (Nat.le_refl z)).1
          omega
        refine am_aload_n hX dX1_encode_40 rfl rfl ?_
        refine am_iload_n hX dX1_encode_41 rfl rfl ?_
        refine am_callv hX (mm_putRun E z) [(z : Int)] (lw_V q292 q294 qs23 q30 q295) ⟨rfl, rfl⟩ (nA := 1) (by decide +kernel) ⟨by decide, by decide⟩ rfl rfl (fun _ => Nat.le_of_ble_eq_true rfl) dX1_encode_42 ⟨rfl, by omega, hL⟩ (fun σ1 hq => ?_)
        have hr1 : gA σ1 3 i = (r i : Int) := hA_fr (hA_fr hr0 hf (by decide)) hq.1 (by decide) i (by omega)
        refine am_iconst hX dX1_encode_45 ?_
        refine am_top (b := ((0 : Nat) : Int)) (by omega) ?_
        refine am_istore_n hX dX1_encode_46 rfl (by decide) ?_
        refine am_aload_n hX dX1_encode_47 rfl rfl ?_
        refine am_aload_n hX dX1_encode_48 rfl rfl ?_
        refine am_geta hX 3 q232 (by decide) rfl dX1_encode_49 ?_
        refine am_iload_n hX dX1_encode_52 rfl rfl ?_
        refine am_iald hX 2 rfl (i) (by omega) (by omega) (by decide) dX1_encode_53 ?_
        refine am_top (b := ((r i : Nat) : Int)) hr1 ?_
        refine am_iconst hX dX1_encode_54 ?_
        refine am_iadd hX dX1_encode_55 ?_
        refine am_top (b := ((r i + 1 : Nat) : Int)) (by omega) ?_
        refine am_callv hX (mm_put (E ++ run z) (r i + 1)) [((r i + 1 : Nat) : Int)] (lw_V q296 q298 qs24 q30 q299) ⟨rfl, rfl⟩ (nA := 1) (by decide +kernel) ⟨by decide, by decide⟩ rfl rfl (fun _ => Nat.le_of_ble_eq_true rfl) dX1_encode_56 ⟨rfl, by omega, hq.2⟩ (fun σ2 hq2 => ?_)
        refine am_iincv hX dX1_encode_59 rfl (by decide) (z2 := ((i + 1 : Nat) : Int)) (by omega) ?_
        refine am_goto hX (tgt := 17) dX1_encode_62 (by decide) ?_
        exact ih (i + 1) 0 (E ++ run z ++ [r i + 1]) _ (by omega) (by rw [List.length_append, List.length_singleton]; omega) (by rw [← hF2]; simp) (fr_trans (fr_trans hf hq.1) hq2.1) hq2.2
      · have e0 : r i = 0 := by omega
        rw [e0, enc_0] at hF2
        refine am_iincv hX dX1_encode_34 rfl (by decide) (z2 := ((z + 1 : Nat) : Int)) (by omega) ?_
        refine am_goto hX (tgt := 59) dX1_encode_37 (by decide) ?_
        refine am_iincv hX dX1_encode_59 rfl (by decide) (z2 := ((i + 1 : Nat) : Int)) (by omega) ?_
        refine am_goto hX (tgt := 17) dX1_encode_62 (by decide) ?_
        exact ih (i + 1) (z + 1) E _ (by omega) (by omega) hF2 hf hL
def E1 (n : Nat) (t : Nat → Nat) (σ : am_S) : Prop := (0 < n → gF σ 6 = (place n t 0 : Int)) ∧ hA σ 2 n (colF n t) ∧ hA σ 3 n (rkF n t) ∧ SL 5 4 σ (symF n t)
theorem mm_encode (n : Nat) (t : Nat → Nat) : aMet cdX1 yX1_encode cX1_encode 3 none (rmD 2)
    (fun as σ => as = [] ∧ J0 n t σ)
    (fun _ _ r' σ' => r' = none ∧ (J0 n t σ' ∧ E1 n t σ')) := by
  refine aMet.of am_cls1 (by decide) rfl (fun as σ h => by rw [h.1]; exact Nat.le_of_ble_eq_true rfl) ?_
  intro as σ X hpre hX
  obtain ⟨rfl, J⟩ := hpre
  have hn32 := J.2.1
  have htb := J.2.2.2
  refine am_aload_n hX dX1_encode_0 rfl rfl ?_
  refine am_callv hX (mm_sort n t) [] (lw_V q280 q282 qs20 q30 q283) ⟨rfl, rfl⟩ (nA := 0) (by decide +kernel) ⟨by decide, by decide⟩ rfl rfl (fun _ => Nat.le_of_ble_eq_true rfl) dX1_encode_1 ⟨rfl, J⟩ (fun σ1 hq1 => ?_)
  obtain ⟨hf1, h2, h6⟩ := hq1
  have J1 : J0 n t σ1 := J.fr hf1 (by decide) (by decide)
  refine am_aload_n hX dX1_encode_4 rfl rfl ?_
  refine am_callv hX (mm_rankAll n (colF n t)) [] (lw_V q288 q290 qs22 q30 q291) ⟨rfl, rfl⟩ (nA := 0) (by decide +kernel) ⟨by decide, by decide⟩ rfl rfl (fun _ => Nat.le_of_ble_eq_true rfl) dX1_encode_5 ⟨rfl, J1.1, hn32, h2, fun j hj => colF_lt hn32 htb hj⟩ (fun σ2 hq2 => ?_)
  obtain ⟨hf2, h3⟩ := hq2
  have J2 : J0 n t σ2 := J1.fr hf2 (by decide) (by decide)
  refine am_aload_n hX dX1_encode_8 rfl rfl ?_
  refine am_iconst hX dX1_encode_9 ?_
  refine am_puti hX 5 q234 (by decide) rfl rfl rfl dX1_encode_10 ?_
  refine am_iconst hX dX1_encode_13 ?_
  refine am_top (b := ((0 : Nat) : Int)) (by omega) ?_
  refine am_istore_n hX dX1_encode_14 rfl (by decide) ?_
  refine am_iconst hX dX1_encode_15 ?_
  refine am_top (b := ((0 : Nat) : Int)) (by omega) ?_
  refine am_istore_n hX dX1_encode_16 rfl (by decide) ?_
  have h3' : hA σ2 3 n (rkF n t) := h3
  refine en_loop (σ0 := pF σ2 5 0) (F := symF n t) hX J2.1 hn32 (hA_pF h3' _) (fun j _ => rkC_lt _ j) (fun σ3 hf3 hL => ⟨rfl, ?_, ?_, ?_, ?_, hL⟩) n 0 0 [] _ (by omega) (by simp) rfl (fr_refl _ _ _) ⟨rfl, fun j hj => absurd hj (by simp)⟩
  · exact J0.fr (σ := pF σ2 5 0) ⟨J2.1, hn32, hA_pF J2.2.2.1 _, htb⟩ hf3 (by decide) (by decide)
  · intro q
    exact (hf3.1 6 (by decide)).trans ((hf2.1 6 (by decide)).trans (h6 q))
  · exact hA_fr (hA_pF (hA_fr h2 hf2 (by decide)) _) hf3 (by decide)
  · exact hA_fr (hA_pF h3' _) hf3 (by decide)
/-! what is asked -/
theorem mm_column (n : Nat) (t : Nat → Nat) (z : Int) : aMet cdX1 yX1_column cX1_column 2 (some .int) (rmD 3)
    (fun as σ => as = [z] ∧ (-2147483648 ≤ z ∧ z < 2147483648) ∧ J0 n t σ)
    (fun _ _ r' σ' => ∃ v, r' = some v ∧ (v = gt n (colF n t) z ∧ J0 n t σ')) := by
  refine aMet.of am_cls1 (by decide) rfl (fun as σ h => by rw [h.1]; exact Nat.le_of_ble_eq_true rfl) ?_
  intro as σ X hpre hX
  obtain ⟨rfl, hz, J⟩ := hpre
  refine am_aload_n hX dX1_column_0 rfl rfl ?_
  refine am_callv hX (mm_encode n t) [] (lw_V q276 q278 qs19 q30 q279) ⟨rfl, rfl⟩ (nA := 0) (by decide +kernel) ⟨by decide, by decide⟩ rfl rfl (fun _ => Nat.le_of_ble_eq_true rfl) dX1_column_1 ⟨rfl, J⟩ (fun σ1 hq => ?_)
  obtain ⟨J, hE⟩ := hq
  have hn := J.1
  have hn32 := J.2.1
  refine am_iload_n hX dX1_column_4 rfl rfl ?_
  refine am_if_lt hX (tgt := 25) dX1_column_5 (by decide) (by omega) (fun c1 => ?_) (fun c1 => ?_)
  · refine am_bipush hX dX1_column_25 (by decide) ?_
    exact am_iret hX dX1_column_27 ⟨_, rfl, (gt_out (by omega)).symm, J⟩
  · refine am_iload_n hX dX1_column_8 rfl rfl ?_
    refine am_aload_n hX dX1_column_9 rfl rfl ?_
    refine am_geti hX 0 q229 (by decide) rfl dX1_column_10 ?_
    refine am_top (b := ((n : Nat) : Int)) hn ?_
    refine am_icmp_ge hX (tgt := 25) dX1_column_13 (by decide) (by omega) (by omega) (fun c2 => ?_) (fun c2 => ?_)
    · refine am_bipush hX dX1_column_25 (by decide) ?_
      exact am_iret hX dX1_column_27 ⟨_, rfl, (gt_out (by omega)).symm, J⟩
    · obtain ⟨k, rfl⟩ : ∃ k : Nat, z = (k : Int) := ⟨z.toNat, by omega⟩
      refine am_aload_n hX dX1_column_16 rfl rfl ?_
      refine am_geta hX 2 q231 (by decide) rfl dX1_column_17 ?_
      refine am_iload_n hX dX1_column_20 rfl rfl ?_
      refine am_iald hX 1 rfl (k) (by omega) (by omega) (by decide) dX1_column_21 ?_
      refine am_top (b := ((colF n t k : Nat) : Int)) (hE.2.1 k (by omega)) ?_
      refine am_goto hX (tgt := 27) dX1_column_22 (by decide) ?_
      exact am_iret hX dX1_column_27 ⟨_, rfl, (gt_in (by omega)).symm, J⟩
theorem mm_rank (n : Nat) (t : Nat → Nat) (z : Int) : aMet cdX1 yX1_rank cX1_rank 2 (some .int) (rmD 3)
    (fun as σ => as = [z] ∧ (-2147483648 ≤ z ∧ z < 2147483648) ∧ J0 n t σ)
    (fun _ _ r' σ' => ∃ v, r' = some v ∧ (v = gt n (rkF n t) z ∧ J0 n t σ')) := by
  refine aMet.of am_cls1 (by decide) rfl (fun as σ h => by rw [h.1]; exact Nat.le_of_ble_eq_true rfl) ?_
  intro as σ X hpre hX
  obtain ⟨rfl, hz, J⟩ := hpre
  refine am_aload_n hX dX1_rank_0 rfl rfl ?_
  refine am_callv hX (mm_encode n t) [] (lw_V q276 q278 qs19 q30 q279) ⟨rfl, rfl⟩ (nA := 0) (by decide +kernel) ⟨by decide, by decide⟩ rfl rfl (fun _ => Nat.le_of_ble_eq_true rfl) dX1_rank_1 ⟨rfl, J⟩ (fun σ1 hq => ?_)
  obtain ⟨J, hE⟩ := hq
  have hn := J.1
  have hn32 := J.2.1
  refine am_iload_n hX dX1_rank_4 rfl rfl ?_
  refine am_if_lt hX (tgt := 25) dX1_rank_5 (by decide) (by omega) (fun c1 => ?_) (fun c1 => ?_)
  · refine am_bipush hX dX1_rank_25 (by decide) ?_
    exact am_iret hX dX1_rank_27 ⟨_, rfl, (gt_out (by omega)).symm, J⟩
  · refine am_iload_n hX dX1_rank_8 rfl rfl ?_
    refine am_aload_n hX dX1_rank_9 rfl rfl ?_
    refine am_geti hX 0 q229 (by decide) rfl dX1_rank_10 ?_
    refine am_top (b := ((n : Nat) : Int)) hn ?_
    refine am_icmp_ge hX (tgt := 25) dX1_rank_13 (by decide) (by omega) (by omega) (fun c2 => ?_) (fun c2 => ?_)
    · refine am_bipush hX dX1_rank_25 (by decide) ?_
      exact am_iret hX dX1_rank_27 ⟨_, rfl, (gt_out (by omega)).symm, J⟩
    · obtain ⟨k, rfl⟩ : ∃ k : Nat, z = (k : Int) := ⟨z.toNat, by omega⟩
      refine am_aload_n hX dX1_rank_16 rfl rfl ?_
      refine am_geta hX 3 q232 (by decide) rfl dX1_rank_17 ?_
      refine am_iload_n hX dX1_rank_20 rfl rfl ?_
      refine am_iald hX 2 rfl (k) (by omega) (by omega) (by decide) dX1_rank_21 ?_
      refine am_top (b := ((rkF n t k : Nat) : Int)) (hE.2.2.1 k (by omega)) ?_
      refine am_goto hX (tgt := 27) dX1_rank_22 (by decide) ?_
      exact am_iret hX dX1_rank_27 ⟨_, rfl, (gt_in (by omega)).symm, J⟩
theorem mm_mark (n : Nat) (t : Nat → Nat) : aMet cdX1 yX1_mark cX1_mark 1 (some .int) (rmD 3)
    (fun as σ => as = [] ∧ J0 n t σ)
    (fun _ _ r' σ' => ∃ v, r' = some v ∧ (v = (if n = 0 then -3 else (place n t 0 : Int)) ∧ J0 n t σ')) := by
  refine aMet.of am_cls1 (by decide) rfl (fun as σ h => by rw [h.1]; exact Nat.le_of_ble_eq_true rfl) ?_
  intro as σ X hpre hX
  obtain ⟨rfl, J⟩ := hpre
  refine am_aload_n hX dX1_mark_0 rfl rfl ?_
  refine am_callv hX (mm_encode n t) [] (lw_V q276 q278 qs19 q30 q279) ⟨rfl, rfl⟩ (nA := 0) (by decide +kernel) ⟨by decide, by decide⟩ rfl rfl (fun _ => Nat.le_of_ble_eq_true rfl) dX1_mark_1 ⟨rfl, J⟩ (fun σ1 hq => ?_)
  obtain ⟨J, hE⟩ := hq
  have hn := J.1
  have hn32 := J.2.1
  refine am_aload_n hX dX1_mark_4 rfl rfl ?_
  refine am_geti hX 0 q229 (by decide) rfl dX1_mark_5 ?_
  refine am_top (b := ((n : Nat) : Int)) hn ?_
  refine am_if_ne hX (tgt := 16) dX1_mark_8 (by decide) (by omega) (fun c1 => ?_) (fun c1 => ?_)
  · refine am_aload_n hX dX1_mark_16 rfl rfl ?_
    refine am_geti hX 6 q235 (by decide) rfl dX1_mark_17 ?_
    refine am_top (b := ((place n t 0 : Nat) : Int)) (hE.1 (by omega)) ?_
    exact am_iret hX dX1_mark_20 ⟨_, rfl, (if_neg (by omega)).symm, J⟩
  · refine am_bipush hX dX1_mark_11 (by decide) ?_
    refine am_goto hX (tgt := 20) dX1_mark_13 (by decide) ?_
    exact am_iret hX dX1_mark_20 ⟨_, rfl, (if_pos (by omega)).symm, J⟩
theorem mm_symbols (n : Nat) (t : Nat → Nat) : aMet cdX1 yX1_symbols cX1_symbols 1 (some .int) (rmD 3)
    (fun as σ => as = [] ∧ J0 n t σ)
    (fun _ _ r' σ' => ∃ v, r' = some v ∧ (v = ((symF n t).length : Int) ∧ J0 n t σ')) := by
  refine aMet.of am_cls1 (by decide) rfl (fun as σ h => by rw [h.1]; exact Nat.le_of_ble_eq_true rfl) ?_
  intro as σ X hpre hX
  obtain ⟨rfl, J⟩ := hpre
  refine am_aload_n hX dX1_symbols_0 rfl rfl ?_
  refine am_callv hX (mm_encode n t) [] (lw_V q276 q278 qs19 q30 q279) ⟨rfl, rfl⟩ (nA := 0) (by decide +kernel) ⟨by decide, by decide⟩ rfl rfl (fun _ => Nat.le_of_ble_eq_true rfl) dX1_symbols_1 ⟨rfl, J⟩ (fun σ1 hq => ?_)
  refine am_aload_n hX dX1_symbols_4 rfl rfl ?_
  refine am_geti hX 5 q234 (by decide) rfl dX1_symbols_5 ?_
  exact am_iret hX dX1_symbols_8 ⟨_, rfl, hq.2.2.2.2.1, hq.1⟩
theorem mm_symbol (n : Nat) (t : Nat → Nat) (z : Int) : aMet cdX1 yX1_symbol cX1_symbol 2 (some .int) (rmD 3)
    (fun as σ => as = [z] ∧ (-2147483648 ≤ z ∧ z < 2147483648) ∧ J0 n t σ)
    (fun _ _ r' σ' => ∃ v, r' = some v ∧ (v = gt (symF n t).length (fun j => (symF n t).getD j 0) z ∧ J0 n t σ')) := by
  refine aMet.of am_cls1 (by decide) rfl (fun as σ h => by rw [h.1]; exact Nat.le_of_ble_eq_true rfl) ?_
  intro as σ X hpre hX
  obtain ⟨rfl, hz, J⟩ := hpre
  refine am_aload_n hX dX1_symbol_0 rfl rfl ?_
  refine am_callv hX (mm_encode n t) [] (lw_V q276 q278 qs19 q30 q279) ⟨rfl, rfl⟩ (nA := 0) (by decide +kernel) ⟨by decide, by decide⟩ rfl rfl (fun _ => Nat.le_of_ble_eq_true rfl) dX1_symbol_1 ⟨rfl, J⟩ (fun σ1 hq => ?_)
  obtain ⟨J, hE⟩ := hq
  have hSL := hE.2.2.2
  have hlen : (symF n t).length ≤ 32 := Nat.le_trans (symF_len n t) J.2.1
  refine am_iload_n hX dX1_symbol_4 rfl rfl ?_
  refine am_if_lt hX (tgt := 25) dX1_symbol_5 (by decide) (by omega) (fun c1 => ?_) (fun c1 => ?_)
  · refine am_bipush hX dX1_symbol_25 (by decide) ?_
    exact am_iret hX dX1_symbol_27 ⟨_, rfl, (gt_out (by omega)).symm, J⟩
  · refine am_iload_n hX dX1_symbol_8 rfl rfl ?_
    refine am_aload_n hX dX1_symbol_9 rfl rfl ?_
    refine am_geti hX 5 q234 (by decide) rfl dX1_symbol_10 ?_
    refine am_top (b := (((symF n t).length : Nat) : Int)) hSL.1 ?_
    refine am_icmp_ge hX (tgt := 25) dX1_symbol_13 (by decide) (by omega) (by omega) (fun c2 => ?_) (fun c2 => ?_)
    · refine am_bipush hX dX1_symbol_25 (by decide) ?_
      exact am_iret hX dX1_symbol_27 ⟨_, rfl, (gt_out (by omega)).symm, J⟩
    · obtain ⟨k, rfl⟩ : ∃ k : Nat, z = (k : Int) := ⟨z.toNat, by omega⟩
      refine am_aload_n hX dX1_symbol_16 rfl rfl ?_
      refine am_geta hX 4 q233 (by decide) rfl dX1_symbol_17 ?_
      refine am_iload_n hX dX1_symbol_20 rfl rfl ?_
      refine am_iald hX 3 rfl (k) (by omega) (by omega) (by decide) dX1_symbol_21 ?_
      refine am_top (b := (((symF n t).getD k 0 : Nat) : Int)) (hSL.2 k (by omega)) ?_
      refine am_goto hX (tgt := 27) dX1_symbol_22 (by decide) ?_
      exact am_iret hX dX1_symbol_27 ⟨_, rfl, (gt_in (n := (symF n t).length) (f := fun j => (symF n t).getD j 0) (by omega)).symm, J⟩
theorem mm_decoded (n : Nat) (t : Nat → Nat) (z : Int) : aMet cdX1 yX1_decoded cX1_decoded 2 (some .int) (rmD 0)
    (fun as σ => as = [z] ∧ (-2147483648 ≤ z ∧ z < 2147483648) ∧ J0 n t σ)
    (fun _ _ r' σ' => ∃ v, r' = some v ∧ (v = gt n t z ∧ J0 n t σ')) := by
  refine aMet.of am_cls1 (by decide) rfl (fun as σ h => by rw [h.1]; exact Nat.le_of_ble_eq_true rfl) ?_
  intro as σ X hpre hX
  obtain ⟨rfl, hz, J⟩ := hpre
  have hn := J.1
  have hn32 := J.2.1
  refine am_iload_n hX dX1_decoded_0 rfl rfl ?_
  refine am_if_lt hX (tgt := 21) dX1_decoded_1 (by decide) (by omega) (fun c1 => ?_) (fun c1 => ?_)
  · refine am_bipush hX dX1_decoded_21 (by decide) ?_
    exact am_iret hX dX1_decoded_23 ⟨_, rfl, (gt_out (by omega)).symm, J⟩
  · refine am_iload_n hX dX1_decoded_4 rfl rfl ?_
    refine am_aload_n hX dX1_decoded_5 rfl rfl ?_
    refine am_geti hX 0 q229 (by decide) rfl dX1_decoded_6 ?_
    refine am_top (b := ((n : Nat) : Int)) hn ?_
    refine am_icmp_ge hX (tgt := 21) dX1_decoded_9 (by decide) (by omega) (by omega) (fun c2 => ?_) (fun c2 => ?_)
    · refine am_bipush hX dX1_decoded_21 (by decide) ?_
      exact am_iret hX dX1_decoded_23 ⟨_, rfl, (gt_out (by omega)).symm, J⟩
    · obtain ⟨k, rfl⟩ : ∃ k : Nat, z = (k : Int) := ⟨z.toNat, by omega⟩
      refine am_aload_n hX dX1_decoded_12 rfl rfl ?_
      refine am_geta hX 1 q230 (by decide) rfl dX1_decoded_13 ?_
      refine am_iload_n hX dX1_decoded_16 rfl rfl ?_
      refine am_iald hX 0 rfl (k) (by omega) (by omega) (by decide) dX1_decoded_17 ?_
      refine am_top (b := ((t k : Nat) : Int)) (J.2.2.1 k (by omega)) ?_
      refine am_goto hX (tgt := 23) dX1_decoded_18 (by decide) ?_
      exact am_iret hX dX1_decoded_23 ⟨_, rfl, (gt_in (by omega)).symm, J⟩
theorem mm_type (n : Nat) (t : Nat → Nat) (z : Int) : aMet cdX1 yX1_type cX1_type 2 (some .int) (rmD 0)
    (fun as σ => as = [z] ∧ (-2147483648 ≤ z ∧ z < 2147483648) ∧ J0 n t σ)
    (fun _ _ r' σ' => ∃ v, r' = some v ∧ (v = tyR n z ∧ J0 (tyN n z) (tyT n t z) σ')) := by
  refine aMet.of am_cls1 (by decide) rfl (fun as σ h => by rw [h.1]; exact Nat.le_of_ble_eq_true rfl) ?_
  intro as σ X hpre hX
  obtain ⟨rfl, hz, hn, hn32, ht, htb⟩ := hpre
  refine am_aload_n hX dX1_type_0 rfl rfl ?_
  refine am_geti hX 0 q229 (by decide) rfl dX1_type_1 ?_
  refine am_top (b := ((n : Nat) : Int)) hn ?_
  refine am_bipush hX dX1_type_4 (by decide) ?_
  refine am_icmp_ne hX (tgt := 12) dX1_type_6 (by decide) (by omega) (by omega) (fun c1 => ?_) (fun c1 => ?_)
  · have hne : n ≠ 32 := by omega
    refine am_iload_n hX dX1_type_12 rfl rfl ?_
    refine am_if_lt hX (tgt := 21) dX1_type_13 (by decide) (by omega) (fun c2 => ?_) (fun c2 => ?_)
    · obtain ⟨e1, e2, e3⟩ := ty_bad hne (show z < 0 ∨ 6 ≤ z by omega)
      refine am_iconst hX dX1_type_21 ?_
      exact am_iret hX dX1_type_22 ⟨_, rfl, e1.symm, by rw [e2, e3]; exact ⟨hn, hn32, ht, htb⟩⟩
    · refine am_iload_n hX dX1_type_16 rfl rfl ?_
      refine am_iconst hX dX1_type_17 ?_
      refine am_icmp_le hX (tgt := 23) dX1_type_18 (by decide) (by omega) (by omega) (fun c3 => ?_) (fun c3 => ?_)
      · obtain ⟨k, rfl⟩ : ∃ k : Nat, z = (k : Int) := ⟨z.toNat, by omega⟩
        obtain ⟨e1, e2, e3⟩ := ty_ok (k := k) hne (by omega)
        refine am_aload_n hX dX1_type_23 rfl rfl ?_
        refine am_geta hX 1 q230 (by decide) rfl dX1_type_24 ?_
        refine am_aload_n hX dX1_type_27 rfl rfl ?_
        refine am_geti hX 0 q229 (by decide) rfl dX1_type_28 ?_
        refine am_top (b := ((n : Nat) : Int)) hn ?_
        refine am_iload_n hX dX1_type_31 rfl rfl ?_
        refine am_iast hX 0 rfl (n) (by omega) (by omega) (by decide) dX1_type_32 ?_
        refine am_aload_n hX dX1_type_33 rfl rfl ?_
        refine am_dup hX dX1_type_34 (fun _ => rfl) ?_
        refine am_geti hX 0 q229 (by decide) rfl dX1_type_35 ?_
        refine am_top (b := ((n : Nat) : Int)) hn ?_
        refine am_iconst hX dX1_type_38 ?_
        refine am_iadd hX dX1_type_39 ?_
        refine am_puti hX 0 q229 (by decide) rfl rfl rfl dX1_type_40 ?_
        refine am_aload_n hX dX1_type_43 rfl rfl ?_
        refine am_geti hX 0 q229 (by decide) rfl dX1_type_44 ?_
        refine am_top (b := ((n + 1 : Nat) : Int)) rfl ?_
        exact am_iret hX dX1_type_47 ⟨_, rfl, e1.symm, by rw [e2, e3]; exact ⟨rfl, by omega, hA_push (hA_congr ht (fun j hj => (up_n _ _ (by omega)).symm)) (by rw [up_s]), up_lt (by omega) htb⟩⟩
      · obtain ⟨e1, e2, e3⟩ := ty_bad hne (show z < 0 ∨ 6 ≤ z by omega)
        refine am_iconst hX dX1_type_21 ?_
        exact am_iret hX dX1_type_22 ⟨_, rfl, e1.symm, by rw [e2, e3]; exact ⟨hn, hn32, ht, htb⟩⟩
  · have e : n = 32 := by omega
    subst e
    refine am_bipush hX dX1_type_9 (by decide) ?_
    exact am_iret hX dX1_type_11 ⟨_, rfl, rfl, hn, hn32, ht, htb⟩
theorem mr_loop {n k : Nat} {t : Nat → Nat} {σ0 : am_S} (hX : aOK cdX1 RX1 TX1 tyX1 cX1_repeat 3 (some .int) X) (hn0 : gF σ0 0 = (n : Int)) (h1 : 1 ≤ k) (h2 : k ≤ n) (h3 : n + k ≤ 32) (htb : ∀ j, j < n → t j < 6)
    (K : ∀ x σ, fr [] [1] σ0 σ → hA σ 1 (n + k) (rpF n t k) → aW cdX1 3 (rmD 0) X P 66 [vT, vI (k : Int), x] [] σ) :
    ∀ m i σ, i ≤ k → k < i + m → fr [] [1] σ0 σ → hA σ 1 (n + i) (rpF n t k) → aW cdX1 3 (rmD 0) X P 31 [vT, vI (k : Int), vI (i : Int)] [] σ := by
  intro m
  induction m with
  | zero => intro i σ a b; exact absurd b (by omega)
  | succ m ih =>
    intro i σ hi hm hf h1'
    have hn : gF σ 0 = (n : Int) := (hf.1 0 (by decide)).trans hn0
    refine am_iload_n hX dX1_repeat_31 rfl rfl ?_
    refine am_iload_n hX dX1_repeat_32 rfl rfl ?_
    refine am_icmp_ge hX (tgt := 66) dX1_repeat_33 (by decide) (by omega) (by omega) (fun h => ?_) (fun h => ?_)
    · have e : i = k := by omega
      subst e
      exact K _ σ hf h1'
    · have hv : gA σ 1 (n + i - k) = (rpF n t k (n + i) : Int) := by
        rw [h1' _ (by omega)]
        unfold rpF
        rw [if_pos (by omega), if_neg (by omega)]
      refine am_aload_n hX dX1_repeat_36 rfl rfl ?_
      refine am_geta hX 1 q230 (by decide) rfl dX1_repeat_37 ?_
      refine am_aload_n hX dX1_repeat_40 rfl rfl ?_
      refine am_geti hX 0 q229 (by decide) rfl dX1_repeat_41 ?_
      refine am_top (b := ((n : Nat) : Int)) hn ?_
      refine am_iload_n hX dX1_repeat_44 rfl rfl ?_
      refine am_iadd hX dX1_repeat_45 ?_
      refine am_aload_n hX dX1_repeat_46 rfl rfl ?_
      refine am_geta hX 1 q230 (by decide) rfl dX1_repeat_47 ?_
      refine am_aload_n hX dX1_repeat_50 rfl rfl ?_
      refine am_geti hX 0 q229 (by decide) rfl dX1_repeat_51 ?_
      refine am_top (b := ((n : Nat) : Int)) hn ?_
      refine am_iload_n hX dX1_repeat_54 rfl rfl ?_
      refine am_iadd hX dX1_repeat_55 ?_
      refine am_iload_n hX dX1_repeat_56 rfl rfl ?_
      refine am_isub hX dX1_repeat_57 ?_
      refine am_iald hX 0 rfl (n + i - k) (by omega) (by omega) (by decide) dX1_repeat_58 ?_
      refine am_top (b := ((rpF n t k (n + i) : Nat) : Int)) hv ?_
      refine am_iast hX 0 rfl (n + i) (by omega) (by omega) (by decide) dX1_repeat_59 ?_
      refine am_iincv hX dX1_repeat_60 rfl (by decide) (z2 := ((i + 1 : Nat) : Int)) (by omega) ?_
      refine am_goto hX (tgt := 31) dX1_repeat_63 (by decide) ?_
      exact ih (i + 1) _ (by omega) (by omega) (fr_wA hf (by decide) _) (hA_push (n := n + i) h1' rfl)
theorem mm_repeat (n : Nat) (t : Nat → Nat) (z : Int) : aMet cdX1 yX1_repeat cX1_repeat 3 (some .int) (rmD 0)
    (fun as σ => as = [z] ∧ (-2147483648 ≤ z ∧ z < 2147483648) ∧ J0 n t σ)
    (fun _ _ r' σ' => ∃ v, r' = some v ∧ (v = rpR n z ∧ J0 (rpN n z) (rpT n t z) σ')) := by
  refine aMet.of am_cls1 (by decide) rfl (fun as σ h => by rw [h.1]; exact Nat.le_of_ble_eq_true rfl) ?_
  intro as σ X hpre hX
  obtain ⟨rfl, hz, hn, hn32, ht, htb⟩ := hpre
  have bad : (z < 1 ∨ (n : Int) < z) → aW cdX1 3 (rmD 0) X (fun r' σ' => ∃ v, r' = some v ∧ (v = rpR n z ∧ J0 (rpN n z) (rpT n t z) σ')) 13 [vT, vI z, vN] [] σ := by
    intro q
    obtain ⟨e1, e2, e3⟩ := rp_bad q
    refine am_iconst hX dX1_repeat_13 ?_
    exact am_iret hX dX1_repeat_14 ⟨_, rfl, e1.symm, by rw [e2, e3]; exact ⟨hn, hn32, ht, htb⟩⟩
  refine am_iload_n hX dX1_repeat_0 rfl rfl ?_
  refine am_iconst hX dX1_repeat_1 ?_
  refine am_icmp_lt hX (tgt := 13) dX1_repeat_2 (by decide) (by omega) (by omega) (fun c1 => ?_) (fun c1 => ?_)
  · exact bad (Or.inl c1)
  · refine am_iload_n hX dX1_repeat_5 rfl rfl ?_
    refine am_aload_n hX dX1_repeat_6 rfl rfl ?_
    refine am_geti hX 0 q229 (by decide) rfl dX1_repeat_7 ?_
    refine am_top (b := ((n : Nat) : Int)) hn ?_
    refine am_icmp_le hX (tgt := 15) dX1_repeat_10 (by decide) (by omega) (by omega) (fun c2 => ?_) (fun c2 => ?_)
    · refine am_aload_n hX dX1_repeat_15 rfl rfl ?_
      refine am_geti hX 0 q229 (by decide) rfl dX1_repeat_16 ?_
      refine am_top (b := ((n : Nat) : Int)) hn ?_
      refine am_iload_n hX dX1_repeat_19 rfl rfl ?_
      refine am_iadd hX dX1_repeat_20 ?_
      refine am_bipush hX dX1_repeat_21 (by decide) ?_
      refine am_icmp_le hX (tgt := 29) dX1_repeat_23 (by decide) (by omega) (by omega) (fun c3 => ?_) (fun c3 => ?_)
      · obtain ⟨k, rfl⟩ : ∃ k : Nat, z = (k : Int) := ⟨z.toNat, by omega⟩
        obtain ⟨e1, e2, e3⟩ := rp_ok (n := n) (k := k) (by omega) (by omega) (by omega)
        refine am_iconst hX dX1_repeat_29 ?_
        refine am_top (b := ((0 : Nat) : Int)) (by omega) ?_
        refine am_istore_n hX dX1_repeat_30 rfl (by decide) ?_
        refine mr_loop (σ0 := σ) (t := t) hX hn (by omega) (by omega) (by omega) htb (fun x3 σ1 hf1 h1 => ?_) (k + 1) 0 σ (by omega) (by omega) (fr_refl _ _ _) (hA_congr ht (fun j hj => by unfold rpF; rw [if_pos (by omega)]))
        have hn1 : gF σ1 0 = (n : Int) := (hf1.1 0 (by decide)).trans hn
        refine am_aload_n hX dX1_repeat_66 rfl rfl ?_
        refine am_dup hX dX1_repeat_67 (fun _ => rfl) ?_
        refine am_geti hX 0 q229 (by decide) rfl dX1_repeat_68 ?_
        refine am_top (b := ((n : Nat) : Int)) hn1 ?_
        refine am_iload_n hX dX1_repeat_71 rfl rfl ?_
        refine am_iadd hX dX1_repeat_72 ?_
        refine am_puti hX 0 q229 (by decide) rfl rfl rfl dX1_repeat_73 ?_
        refine am_aload_n hX dX1_repeat_76 rfl rfl ?_
        refine am_geti hX 0 q229 (by decide) rfl dX1_repeat_77 ?_
        refine am_top (b := ((n + k : Nat) : Int)) rfl ?_
        exact am_iret hX dX1_repeat_80 ⟨_, rfl, e1.symm, by rw [e2, e3]; exact ⟨rfl, by omega, hA_pF h1 _, rpF_lt (by omega) (by omega) htb⟩⟩
      · obtain ⟨e1, e2, e3⟩ := rp_full (n := n) (z := z) (by omega) (by omega)
        refine am_bipush hX dX1_repeat_26 (by decide) ?_
        exact am_iret hX dX1_repeat_28 ⟨_, rfl, e1.symm, by rw [e2, e3]; exact ⟨hn, hn32, ht, htb⟩⟩
    · exact bad (Or.inr (by omega))
theorem mm_clear (n : Nat) (t : Nat → Nat) : aMet cdX1 yX1_clear cX1_clear 2 (some .int) (rmD 0)
    (fun as σ => as = [] ∧ J0 n t σ)
    (fun _ _ r' σ' => ∃ v, r' = some v ∧ (v = (n : Int) ∧ J0 0 t σ')) := by
  refine aMet.of am_cls1 (by decide) rfl (fun as σ h => by rw [h.1]; exact Nat.le_of_ble_eq_true rfl) ?_
  intro as σ X hpre hX
  obtain ⟨rfl, hn, hn32, ht, htb⟩ := hpre
  refine am_aload_n hX dX1_clear_0 rfl rfl ?_
  refine am_geti hX 0 q229 (by decide) rfl dX1_clear_1 ?_
  refine am_top (b := ((n : Nat) : Int)) hn ?_
  refine am_istore_n hX dX1_clear_4 rfl (by decide) ?_
  refine am_aload_n hX dX1_clear_5 rfl rfl ?_
  refine am_iconst hX dX1_clear_6 ?_
  refine am_puti hX 0 q229 (by decide) rfl rfl rfl dX1_clear_7 ?_
  refine am_iload_n hX dX1_clear_10 rfl rfl ?_
  exact am_iret hX dX1_clear_11 ⟨_, rfl, rfl, rfl, by omega, fun j hj => absurd hj (by omega), fun j hj => absurd hj (by omega)⟩
end WM
end
section
/-! BlockCoderModel: the least cost -/
set_option maxRecDepth 100000
section WN
variable {X : am_X} {P : Option Int → am_S → Prop}
theorem cy_zero {σ0 : am_S} (hX : aOK cdX1 RX1 TX1 tyX1 cX1_countSymbols 4 (some .int) X)
    (K : ∀ x σ, fr [] [8] σ0 σ → hA σ 8 7 (fun _ => 0) → aW cdX1 4 (rmD 3) X P 25 [vT, x, vN, vN] [] σ) :
    ∀ m s σ, s ≤ 7 → 7 < s + m → fr [] [8] σ0 σ → hA σ 8 s (fun _ => 0) → aW cdX1 4 (rmD 3) X P 6 [vT, vI (s : Int), vN, vN] [] σ := by
  intro m
  induction m with
  | zero => intro s σ h1 h2; exact absurd h2 (by omega)
  | succ m ih =>
    intro s σ hs hm hf h8
    refine am_iload_n hX dX1_countSymbols_6 rfl rfl ?_
    refine am_bipush hX dX1_countSymbols_7 (by decide) ?_
    refine am_icmp_ge hX (tgt := 25) dX1_countSymbols_9 (by decide) (by omega) (by omega) (fun h => ?_) (fun h => ?_)
    · exact K _ σ hf (hA_le h8 (by omega))
    · refine am_aload_n hX dX1_countSymbols_12 rfl rfl ?_
      refine am_geta hX 8 q237 (by decide) rfl dX1_countSymbols_13 ?_
      refine am_iload_n hX dX1_countSymbols_16 rfl rfl ?_
      refine am_iconst hX dX1_countSymbols_17 ?_
      refine am_iast hX 5 rfl (s) (by omega) (by omega) (by decide) dX1_countSymbols_18 ?_
      refine am_iincv hX dX1_countSymbols_19 rfl (by decide) (z2 := ((s + 1 : Nat) : Int)) (by omega) ?_
      refine am_goto hX (tgt := 6) dX1_countSymbols_22 (by decide) ?_
      exact ih (s + 1) _ (by omega) (by omega) (fr_wA hf (by decide) _) (hA_push h8 rfl)
theorem cy_count {L : List Nat} {σ0 : am_S} (hX : aOK cdX1 RX1 TX1 tyX1 cX1_countSymbols 4 (some .int) X) (hL0 : SL 5 4 σ0 L) (hlen : L.length ≤ 32) (hL7 : ∀ s, s ∈ L → s < 7)
    (K : ∀ x σ, fr [] [8] σ0 σ → hA σ 8 7 (cn L) → aW cdX1 4 (rmD 3) X P 56 [vT, x, vN, vN] [] σ) :
    ∀ m k σ, k ≤ L.length → L.length < k + m → fr [] [8] σ0 σ → hA σ 8 7 (cn (L.take k)) → aW cdX1 4 (rmD 3) X P 27 [vT, vI (k : Int), vN, vN] [] σ := by
  intro m
  induction m with
  | zero => intro k σ h1 h2; exact absurd h2 (by omega)
  | succ m ih =>
    intro k σ hk hm hf h8
    have hL : SL 5 4 σ L := SL_fr hL0 hf (by decide) (by decide)
    refine am_iload_n hX dX1_countSymbols_27 rfl rfl ?_
    refine am_aload_n hX dX1_countSymbols_28 rfl rfl ?_
    refine am_geti hX 5 q234 (by decide) rfl dX1_countSymbols_29 ?_
    refine am_top (b := ((L.length : Nat) : Int)) hL.1 ?_
    refine am_icmp_ge hX (tgt := 56) dX1_countSymbols_32 (by decide) (by omega) (by omega) (fun h => ?_) (fun h => ?_)
    · rw [show L.take k = L from List.take_of_length_le (by omega)] at h8
      exact K _ σ hf h8
    · have ha := hL7 _ (getD_mem (show k < L.length by omega))
      have hct := cn_take L (show k < L.length by omega)
      refine am_aload_n hX dX1_countSymbols_35 rfl rfl ?_
      refine am_geta hX 8 q237 (by decide) rfl dX1_countSymbols_36 ?_
      refine am_aload_n hX dX1_countSymbols_39 rfl rfl ?_
      refine am_geta hX 4 q233 (by decide) rfl dX1_countSymbols_40 ?_
      refine am_iload_n hX dX1_countSymbols_43 rfl rfl ?_
      refine am_iald hX 3 rfl (k) (by omega) (by omega) (by decide) dX1_countSymbols_44 ?_
      refine am_top (b := ((L.getD k 0 : Nat) : Int)) (hL.2 k (by omega)) ?_
      refine am_dup2 hX dX1_countSymbols_45 (fun _ => rfl) (fun _ => rfl) ?_
      refine am_iald hX 5 rfl (L.getD k 0) (by omega) (by omega) (by decide) dX1_countSymbols_46 ?_
      refine am_top (b := ((cn (L.take k) (L.getD k 0) : Nat) : Int)) (h8 _ ha) ?_
      refine am_iconst hX dX1_countSymbols_47 ?_
      refine am_iadd hX dX1_countSymbols_48 ?_
      refine am_top (b := ((cn (L.take (k + 1)) (L.getD k 0) : Nat) : Int)) (by rw [hct, if_pos rfl]; rfl) ?_
      refine am_iast hX 5 rfl (L.getD k 0) (by omega) (by omega) (by decide) dX1_countSymbols_49 ?_
      refine am_iincv hX dX1_countSymbols_50 rfl (by decide) (z2 := ((k + 1 : Nat) : Int)) (by omega) ?_
      refine am_goto hX (tgt := 27) dX1_countSymbols_53 (by decide) ?_
      exact ih (k + 1) _ (by omega) (by omega) (fr_wA hf (by decide) _) (hA_up h8 rfl (fun j _ hj => by rw [hct, if_neg (fun e => hj e.symm)]; rfl))
theorem cy_sort {c : Nat → Nat} {σ0 : am_S} (hX : aOK cdX1 RX1 TX1 tyX1 cX1_countSymbols 4 (some .int) X) (hcb : ∀ s, s < 7 → c s ≤ 32)
    (K : ∀ x1 x2 x3 a σ, fr [] [8] σ0 σ → hA σ 8 7 a → PmA c a → Dsc a → aW cdX1 4 (rmD 3) X P 122 [vT, x1, x2, x3] [] σ) :
    ∀ m k a x2 x3 σ, k ≤ 36 → 36 < k + m → fr [] [8] σ0 σ → hA σ 8 7 a → PmA c a → Bub a (k / 6) (k % 6) → aW cdX1 4 (rmD 3) X P 58 [vT, vI (k : Int), x2, x3] [] σ := by
  intro m
  induction m with
  | zero => intro k a x2 x3 σ h1 h2; exact absurd h2 (by omega)
  | succ m ih =>
    intro k a x2 x3 σ hk hm hf h8 hP hB
    have hab : ∀ j, j < 7 → a j ≤ 32 := by
      obtain ⟨π, hp, he⟩ := hP
      intro j hj
      rw [he j hj]
      exact hcb _ (Pm_lt hp j hj)
    have adv : ∀ b : Nat → Nat, k < 36 → Bub b (k / 6) (k % 6 + 1) → Bub b ((k + 1) / 6) ((k + 1) % 6) := by
      intro b hk36 hb
      by_cases e : k % 6 = 5
      · rw [show (k + 1) / 6 = k / 6 + 1 by omega, show (k + 1) % 6 = 0 by omega]
        rw [e] at hb
        exact Bub_pass hb (by omega)
      · rw [show (k + 1) / 6 = k / 6 by omega, show (k + 1) % 6 = k % 6 + 1 by omega]
        exact hb
    refine am_iload_n hX dX1_countSymbols_58 rfl rfl ?_
    refine am_bipush hX dX1_countSymbols_59 (by decide) ?_
    refine am_icmp_ge hX (tgt := 122) dX1_countSymbols_61 (by decide) (by omega) (by omega) (fun h => ?_) (fun h => ?_)
    · have e : k = 36 := by omega
      subst e
      exact K _ _ _ a σ hf h8 hP (Dsc_of hB)
    · obtain ⟨s, es⟩ : ∃ s, s = k % 6 := ⟨_, rfl⟩
      have hs : s < 6 := by omega
      rw [← es] at hB
      have b1 := hab s (by omega)
      have b2 := hab (s + 1) (by omega)
      refine am_iload_n hX dX1_countSymbols_64 rfl rfl ?_
      refine am_bipush hX dX1_countSymbols_65 (by decide) ?_
      refine am_irem hX (x := k) (y := 6) dX1_countSymbols_67 (by omega) (by omega) (by omega) (by omega) ?_
      refine am_top (b := ((s : Nat) : Int)) (by rw [es]) ?_
      refine am_istore_n hX dX1_countSymbols_68 rfl (by decide) ?_
      refine am_aload_n hX dX1_countSymbols_69 rfl rfl ?_
      refine am_geta hX 8 q237 (by decide) rfl dX1_countSymbols_70 ?_
      refine am_iload_n hX dX1_countSymbols_73 rfl rfl ?_
      refine am_iald hX 5 rfl (s) (by omega) (by omega) (by decide) dX1_countSymbols_74 ?_
      refine am_top (b := ((a s : Nat) : Int)) (h8 s (by omega)) ?_
      refine am_aload_n hX dX1_countSymbols_75 rfl rfl ?_
      refine am_geta hX 8 q237 (by decide) rfl dX1_countSymbols_76 ?_
      refine am_iload_n hX dX1_countSymbols_79 rfl rfl ?_
      refine am_iconst hX dX1_countSymbols_80 ?_
      refine am_iadd hX dX1_countSymbols_81 ?_
      refine am_iald hX 5 rfl (s + 1) (by omega) (by omega) (by decide) dX1_countSymbols_82 ?_
      refine am_top (b := ((a (s + 1) : Nat) : Int)) (h8 (s + 1) (by omega)) ?_
      refine am_icmp_ge hX (tgt := 116) dX1_countSymbols_83 (by decide) (by omega) (by omega) (fun h2 => ?_) (fun h2 => ?_)
      · refine am_iincv hX dX1_countSymbols_116 rfl (by decide) (z2 := ((k + 1 : Nat) : Int)) (by omega) ?_
        refine am_goto hX (tgt := 58) dX1_countSymbols_119 (by decide) ?_
        exact ih (k + 1) a _ _ _ (by omega) (by omega) hf h8 hP (adv a (by omega) (by rw [← es]; exact Bub_keep hB hs (by omega) (by omega)))
      · refine am_aload_n hX dX1_countSymbols_86 rfl rfl ?_
        refine am_geta hX 8 q237 (by decide) rfl dX1_countSymbols_87 ?_
        refine am_iload_n hX dX1_countSymbols_90 rfl rfl ?_
        refine am_iconst hX dX1_countSymbols_91 ?_
        refine am_iadd hX dX1_countSymbols_92 ?_
        refine am_iald hX 5 rfl (s + 1) (by omega) (by omega) (by decide) dX1_countSymbols_93 ?_
        refine am_top (b := ((a (s + 1) : Nat) : Int)) (h8 (s + 1) (by omega)) ?_
        refine am_istore_n hX dX1_countSymbols_94 rfl (by decide) ?_
        refine am_aload_n hX dX1_countSymbols_95 rfl rfl ?_
        refine am_geta hX 8 q237 (by decide) rfl dX1_countSymbols_96 ?_
        refine am_iload_n hX dX1_countSymbols_99 rfl rfl ?_
        refine am_iconst hX dX1_countSymbols_100 ?_
        refine am_iadd hX dX1_countSymbols_101 ?_
        refine am_aload_n hX dX1_countSymbols_102 rfl rfl ?_
        refine am_geta hX 8 q237 (by decide) rfl dX1_countSymbols_103 ?_
        refine am_iload_n hX dX1_countSymbols_106 rfl rfl ?_
        refine am_iald hX 5 rfl (s) (by omega) (by omega) (by decide) dX1_countSymbols_107 ?_
        refine am_top (b := ((a s : Nat) : Int)) (h8 s (by omega)) ?_
        refine am_iast hX 5 rfl (s + 1) (by omega) (by omega) (by decide) dX1_countSymbols_108 ?_
        refine am_aload_n hX dX1_countSymbols_109 rfl rfl ?_
        refine am_geta hX 8 q237 (by decide) rfl dX1_countSymbols_110 ?_
        refine am_iload_n hX dX1_countSymbols_113 rfl rfl ?_
        refine am_iload_n hX dX1_countSymbols_114 rfl rfl ?_
        refine am_iast hX 5 rfl (s) (by omega) (by omega) (by decide) dX1_countSymbols_115 ?_
        refine am_iincv hX dX1_countSymbols_116 rfl (by decide) (z2 := ((k + 1 : Nat) : Int)) (by omega) ?_
        refine am_goto hX (tgt := 58) dX1_countSymbols_119 (by decide) ?_
        have k1 := hA_up h8 (g := up a (s + 1) (a s)) (i := s + 1) (z := ((a s : Nat) : Int)) (by rw [up_s]) (fun j _ hj => up_n _ _ hj)
        have k2 := hA_up k1 (g := swp a s) (i := s) (z := ((a (s + 1) : Nat) : Int)) (by rw [swp_l]) (fun j _ hj => by unfold swp; rw [up_n _ _ hj])
        exact ih (k + 1) (swp a s) _ _ _ (by omega) (by omega) (fr_wA (fr_wA hf (by decide) _) (by decide) _) k2 (PmA_swp hP hs) (adv _ (by omega) (by rw [← es]; exact Bub_swap hB hs (by omega) (by omega)))
theorem cy_kinds {a : Nat → Nat} {x3 : Option am_V} {σ : am_S} (hX : aOK cdX1 RX1 TX1 tyX1 cX1_countSymbols 4 (some .int) X) (h8 : hA σ 8 7 a) (hab : ∀ j, j < 7 → a j ≤ 32)
    (K : P (some (live a : Int)) σ) :
    ∀ m s, s ≤ 7 → 7 < s + m → aW cdX1 4 (rmD 3) X P 126 [vT, vI ((sm (fun g => if 0 < a g then 1 else 0) s : Nat) : Int), vI (s : Int), x3] [] σ := by
  intro m
  induction m with
  | zero => intro s h1 h2; exact absurd h2 (by omega)
  | succ m ih =>
    intro s hs hm
    have hss : sm (fun g => if 0 < a g then 1 else 0) (s + 1) = sm (fun g => if 0 < a g then 1 else 0) s + if 0 < a s then 1 else 0 := rfl
    have tail : ∀ v, v = sm (fun g => if 0 < a g then 1 else 0) (s + 1) → s < 7 → aW cdX1 4 (rmD 3) X P 144 [vT, vI (v : Int), vI (s : Int), x3] [] σ := by
      intro v hv h7
      subst hv
      refine am_iincv hX dX1_countSymbols_144 rfl (by decide) (z2 := ((s + 1 : Nat) : Int)) (by omega) ?_
      refine am_goto hX (tgt := 126) dX1_countSymbols_147 (by decide) ?_
      exact ih (s + 1) (by omega) (by omega)
    refine am_iload_n hX dX1_countSymbols_126 rfl rfl ?_
    refine am_bipush hX dX1_countSymbols_127 (by decide) ?_
    refine am_icmp_ge hX (tgt := 150) dX1_countSymbols_129 (by decide) (by omega) (by omega) (fun h => ?_) (fun h => ?_)
    · have e : s = 7 := by omega
      subst e
      refine am_iload_n hX dX1_countSymbols_150 rfl rfl ?_
      exact am_iret hX dX1_countSymbols_151 K
    · have hb := hab s (by omega)
      refine am_aload_n hX dX1_countSymbols_132 rfl rfl ?_
      refine am_geta hX 8 q237 (by decide) rfl dX1_countSymbols_133 ?_
      refine am_iload_n hX dX1_countSymbols_136 rfl rfl ?_
      refine am_iald hX 5 rfl (s) (by omega) (by omega) (by decide) dX1_countSymbols_137 ?_
      refine am_top (b := ((a s : Nat) : Int)) (h8 s (by omega)) ?_
      refine am_if_le hX (tgt := 144) dX1_countSymbols_138 (by decide) (by omega) (fun h2 => ?_) (fun h2 => ?_)
      · refine tail _ ?_ (by omega)
        rw [hss, if_neg (by omega), Nat.add_zero]
      · refine am_iincv hX dX1_countSymbols_141 rfl (by decide) (z2 := ((sm (fun g => if 0 < a g then 1 else 0) s + 1 : Nat) : Int)) rfl ?_
        refine tail _ ?_ (by omega)
        rw [hss, if_pos (by omega)]
theorem mm_countSymbols (n : Nat) (t : Nat → Nat) : aMet cdX1 yX1_countSymbols cX1_countSymbols 4 (some .int) (rmD 3)
    (fun as σ => as = [] ∧ J0 n t σ)
    (fun _ _ r' σ' => ∃ v, r' = some v ∧ (v = (live (cn (symF n t)) : Int) ∧ J0 n t σ' ∧ ∃ a, hA σ' 8 7 a ∧ PmA (cn (symF n t)) a ∧ Dsc a)) := by
  refine aMet.of am_cls1 (by decide) rfl (fun as σ h => by rw [h.1]; exact Nat.le_of_ble_eq_true rfl) ?_
  intro as σ X hpre hX
  obtain ⟨rfl, J⟩ := hpre
  have hlen : (symF n t).length ≤ 32 := Nat.le_trans (symF_len n t) J.2.1
  have hcb : ∀ s, s < 7 → cn (symF n t) s ≤ 32 := fun s _ => Nat.le_trans (cn_len _ s) hlen
  refine am_aload_n hX dX1_countSymbols_0 rfl rfl ?_
  refine am_callv hX (mm_encode n t) [] (lw_V q276 q278 qs19 q30 q279) ⟨rfl, rfl⟩ (nA := 0) (by decide +kernel) ⟨by decide, by decide⟩ rfl rfl (fun _ => Nat.le_of_ble_eq_true rfl) dX1_countSymbols_1 ⟨rfl, J⟩ (fun σ1 hq => ?_)
  refine am_iconst hX dX1_countSymbols_4 ?_
  refine am_top (b := ((0 : Nat) : Int)) (by omega) ?_
  refine am_istore_n hX dX1_countSymbols_5 rfl (by decide) ?_
  obtain ⟨J1, hE⟩ := hq
  refine cy_zero (σ0 := σ1) hX (fun x σ2 hf2 h80 => ?_) 8 0 σ1 (by omega) (by omega) (fr_refl _ _ _) (fun j hj => absurd hj (by omega))
  refine am_iconst hX dX1_countSymbols_25 ?_
  refine am_top (b := ((0 : Nat) : Int)) (by omega) ?_
  refine am_istore_n hX dX1_countSymbols_26 rfl (by decide) ?_
  refine cy_count (σ0 := σ1) hX hE.2.2.2 hlen (symF_lt n t) (fun x σ3 hf3 h8 => ?_) 33 0 σ2 (by omega) (by omega) hf2 h80
  refine am_iconst hX dX1_countSymbols_56 ?_
  refine am_top (b := ((0 : Nat) : Int)) (by omega) ?_
  refine am_istore_n hX dX1_countSymbols_57 rfl (by decide) ?_
  refine cy_sort (σ0 := σ1) (c := cn (symF n t)) hX hcb (fun x1 x2 x3 a σ4 hf4 h84 hP hD => ?_) 37 0 _ _ _ σ3 (by omega) (by omega) hf3 h8 (PmA_refl _) (Bub_start _)
  have hab : ∀ j, j < 7 → a j ≤ 32 := by
    obtain ⟨π, hp, he⟩ := hP
    intro j hj
    rw [he j hj]
    exact hcb _ (Pm_lt hp j hj)
  refine am_iconst hX dX1_countSymbols_122 ?_
  refine am_top (b := ((sm (fun g => if 0 < a g then 1 else 0) 0 : Nat) : Int)) rfl ?_
  refine am_istore_n hX dX1_countSymbols_123 rfl (by decide) ?_
  refine am_iconst hX dX1_countSymbols_124 ?_
  refine am_top (b := ((0 : Nat) : Int)) (by omega) ?_
  refine am_istore_n hX dX1_countSymbols_125 rfl (by decide) ?_
  exact cy_kinds hX h84 hab ⟨_, rfl, by rw [PmA_live hP], J1.fr hf4 (by decide) (by decide), a, h84, hP, hD⟩ 8 0 (by omega) (by omega)
theorem mm_different (n : Nat) (t : Nat → Nat) : aMet cdX1 yX1_different cX1_different 1 (some .int) (rmD 4)
    (fun as σ => as = [] ∧ J0 n t σ)
    (fun _ _ r' σ' => ∃ v, r' = some v ∧ (v = (live (cn (symF n t)) : Int) ∧ J0 n t σ')) := by
  refine aMet.of am_cls1 (by decide) rfl (fun as σ h => by rw [h.1]; exact Nat.le_of_ble_eq_true rfl) ?_
  intro as σ X hpre hX
  obtain ⟨rfl, J⟩ := hpre
  refine am_aload_n hX dX1_different_0 rfl rfl ?_
  refine am_calli hX (mm_countSymbols n t) [] (lw_V q320 q322 qs25 q30 q323) ⟨rfl, rfl⟩ (nA := 0) (by decide +kernel) ⟨by decide, by decide⟩ rfl rfl (fun _ => Nat.le_of_ble_eq_true rfl) dX1_different_1 ⟨rfl, J⟩ (fun v σ1 hq => ?_)
  exact am_iret hX dX1_different_4 ⟨_, rfl, hq.1, hq.2.1⟩
theorem cb_loop {l : Nat → Nat} {K0 : Nat} {σ : am_S} (hX : aOK cdX1 RX1 TX1 tyX1 cX1_canBe 4 (some .boolean) X) (hK : K0 ≤ 7) (h9 : hA σ 9 7 l) (hl : ∀ j, j < K0 → l j ≤ 6)
    (K : ∀ z : Int, (z = 1 ∧ canB K0 l) ∨ (z = 0 ∧ ¬ canB K0 l) → P (some z) σ) :
    ∀ m s, s ≤ K0 → K0 < s + m → aW cdX1 4 (rmD 0) X P 4 [vT, vI (K0 : Int), vI ((sm (fun s => 64 / 2 ^ (l s)) s : Nat) : Int), vI (s : Int)] [] σ := by
  have hle : ∀ s, s ≤ K0 → sm (fun s => 64 / 2 ^ (l s)) s ≤ 64 * s := by
    intro s
    induction s with
    | zero => intro _; exact Nat.le_refl 0
    | succ s ihs =>
      intro hs
      have h1 := ihs (by omega)
      have h2 : 64 / 2 ^ (l s) ≤ 64 := Nat.div_le_self _ _
      show sm (fun s => 64 / 2 ^ (l s)) s + 64 / 2 ^ (l s) ≤ _
      omega
  intro m
  induction m with
  | zero => intro s h1 h2; exact absurd h2 (by omega)
  | succ m ih =>
    intro s hs hm
    have hb := hle s hs
    refine am_iload_n hX dX1_canBe_4 rfl rfl ?_
    refine am_iload_n hX dX1_canBe_5 rfl rfl ?_
    refine am_icmp_ge hX (tgt := 27) dX1_canBe_6 (by decide) (by omega) (by omega) (fun h => ?_) (fun h => ?_)
    · have e : s = K0 := by omega
      subst e
      refine am_iload_n hX dX1_canBe_27 rfl rfl ?_
      refine am_bipush hX dX1_canBe_28 (by decide) ?_
      refine am_icmp_gt hX (tgt := 37) dX1_canBe_30 (by decide) (by omega) (by omega) (fun h2 => ?_) (fun h2 => ?_)
      · refine am_iconst hX dX1_canBe_37 ?_
        exact am_zret hX dX1_canBe_38 (by decide) (K 0 (Or.inr ⟨rfl, by unfold canB; omega⟩))
      · refine am_iconst hX dX1_canBe_33 ?_
        refine am_goto hX (tgt := 38) dX1_canBe_34 (by decide) ?_
        exact am_zret hX dX1_canBe_38 (by decide) (K 1 (Or.inl ⟨rfl, by unfold canB; omega⟩))
    · have hls := hl s (by omega)
      have hd : 64 / 2 ^ (l s) ≤ 64 := Nat.div_le_self _ _
      refine am_iload_n hX dX1_canBe_9 rfl rfl ?_
      refine am_bipush hX dX1_canBe_10 (by decide) ?_
      refine am_aload_n hX dX1_canBe_12 rfl rfl ?_
      refine am_geta hX 9 q238 (by decide) rfl dX1_canBe_13 ?_
      refine am_iload_n hX dX1_canBe_16 rfl rfl ?_
      refine am_iald hX 6 rfl (s) (by omega) (by omega) (by decide) dX1_canBe_17 ?_
      refine am_top (b := ((l s : Nat) : Int)) (h9 s (by omega)) ?_
      refine am_ishr hX (x := 64) (k := l s) dX1_canBe_18 (by omega) (by omega) (by omega) (by omega) ?_
      refine am_iadd hX dX1_canBe_19 ?_
      refine am_top (b := ((sm (fun s => 64 / 2 ^ (l s)) (s + 1) : Nat) : Int)) rfl ?_
      refine am_istore_n hX dX1_canBe_20 rfl (by decide) ?_
      refine am_iincv hX dX1_canBe_21 rfl (by decide) (z2 := ((s + 1 : Nat) : Int)) (by omega) ?_
      refine am_goto hX (tgt := 4) dX1_canBe_24 (by decide) ?_
      exact ih (s + 1) (by omega) (by omega)
theorem mm_canBe (l : Nat → Nat) (K0 : Nat) : aMet cdX1 yX1_canBe cX1_canBe 4 (some .boolean) (rmD 0)
    (fun as σ => as = [(K0 : Int)] ∧ K0 ≤ 7 ∧ hA σ 9 7 l ∧ ∀ j, j < K0 → l j ≤ 6)
    (fun _ σ r' σ' => ∃ z, r' = some z ∧ (σ' = σ ∧ ((z = 1 ∧ canB K0 l) ∨ (z = 0 ∧ ¬ canB K0 l)))) := by
  refine aMet.of am_cls1 (by decide) rfl (fun as σ h => by rw [h.1]; exact Nat.le_of_ble_eq_true rfl) ?_
  intro as σ X hpre hX
  obtain ⟨rfl, hK, h9, hl⟩ := hpre
  refine am_iconst hX dX1_canBe_0 ?_
  refine am_top (b := ((sm (fun s => 64 / 2 ^ (l s)) 0 : Nat) : Int)) rfl ?_
  refine am_istore_n hX dX1_canBe_1 rfl (by decide) ?_
  refine am_iconst hX dX1_canBe_2 ?_
  refine am_top (b := ((0 : Nat) : Int)) (by omega) ?_
  refine am_istore_n hX dX1_canBe_3 rfl (by decide) ?_
  exact cb_loop hX hK h9 hl (fun z hz => ⟨z, rfl, rfl, hz⟩) 8 0 (by omega) (by omega)
def atI (l : Nat → Nat) (s : Nat) (z : Int) : Prop := (z = -1 ∧ ∀ j, j < s → 6 ≤ l j) ∨ ∃ a : Nat, a < s ∧ z = (a : Int) ∧ l a < 6 ∧ ∀ j, a < j → j < s → 6 ≤ l j
theorem nl_find {l : Nat → Nat} {K0 : Nat} {σ : am_S} (hX : aOK cdX1 RX1 TX1 tyX1 cX1_nextLengths 5 (some .boolean) X) (hK : K0 ≤ 7) (h9 : hA σ 9 7 l) (hl : ∀ j, j < K0 → l j ≤ 6)
    (K : ∀ z x3, atI l K0 z → aW cdX1 5 (rmD 0) X P 28 [vT, vI (K0 : Int), vI z, x3, vN] [] σ) :
    ∀ m s z, s ≤ K0 → K0 < s + m → atI l s z → aW cdX1 5 (rmD 0) X P 4 [vT, vI (K0 : Int), vI z, vI (s : Int), vN] [] σ := by
  intro m
  induction m with
  | zero => intro s z h1 h2; exact absurd h2 (by omega)
  | succ m ih =>
    intro s z hs hm hz
    refine am_iload_n hX dX1_nextLengths_4 rfl rfl ?_
    refine am_iload_n hX dX1_nextLengths_5 rfl rfl ?_
    refine am_icmp_ge hX (tgt := 28) dX1_nextLengths_6 (by decide) (by omega) (by omega) (fun h => ?_) (fun h => ?_)
    · have e : s = K0 := by omega
      subst e
      exact K z _ hz
    · have hls := hl s (by omega)
      refine am_aload_n hX dX1_nextLengths_9 rfl rfl ?_
      refine am_geta hX 9 q238 (by decide) rfl dX1_nextLengths_10 ?_
      refine am_iload_n hX dX1_nextLengths_13 rfl rfl ?_
      refine am_iald hX 6 rfl (s) (by omega) (by omega) (by decide) dX1_nextLengths_14 ?_
      refine am_top (b := ((l s : Nat) : Int)) (h9 s (by omega)) ?_
      refine am_bipush hX dX1_nextLengths_15 (by decide) ?_
      refine am_icmp_ge hX (tgt := 22) dX1_nextLengths_17 (by decide) (by omega) (by omega) (fun h2 => ?_) (fun h2 => ?_)
      · refine am_iincv hX dX1_nextLengths_22 rfl (by decide) (z2 := ((s + 1 : Nat) : Int)) (by omega) ?_
        refine am_goto hX (tgt := 4) dX1_nextLengths_25 (by decide) ?_
        refine ih (s + 1) z (by omega) (by omega) ?_
        rcases hz with ⟨q1, q2⟩ | ⟨a, q1, q2, q3, q4⟩
        · refine Or.inl ⟨q1, fun j hj => ?_⟩
          by_cases e : j = s
          · rw [e]; omega
          · exact q2 j (by omega)
        · refine Or.inr ⟨a, by omega, q2, q3, fun j h3 hj => ?_⟩
          by_cases e : j = s
          · rw [e]; omega
          · exact q4 j h3 (by omega)
      · refine am_iload_n hX dX1_nextLengths_20 rfl rfl ?_
        refine am_istore_n hX dX1_nextLengths_21 rfl (by decide) ?_
        refine am_iincv hX dX1_nextLengths_22 rfl (by decide) (z2 := ((s + 1 : Nat) : Int)) (by omega) ?_
        refine am_goto hX (tgt := 4) dX1_nextLengths_25 (by decide) ?_
        exact ih (s + 1) (s : Int) (by omega) (by omega) (Or.inr ⟨s, by omega, rfl, by omega, fun j h3 hj => absurd hj (by omega)⟩)
theorem nl_fill {l : Nat → Nat} {K0 a : Nat} {σ0 : am_S} (hX : aOK cdX1 RX1 TX1 tyX1 cX1_nextLengths 5 (some .boolean) X) (hK : K0 ≤ 7) (ha : a < K0)
    (K : ∀ σ, fr [] [9] σ0 σ → hA σ 9 7 (nx K0 l a) → P (some 1) σ) :
    ∀ m s σ, a ≤ s → s ≤ K0 → K0 < s + m → fr [] [9] σ0 σ → hA σ 9 7 (nx s l a) → aW cdX1 5 (rmD 0) X P 46 [vT, vI (K0 : Int), vI (a : Int), vI ((l a + 1 : Nat) : Int), vI (s : Int)] [] σ := by
  intro m
  induction m with
  | zero => intro s σ h0 h1 h2; exact absurd h2 (by omega)
  | succ m ih =>
    intro s σ has hs hm hf h9
    refine am_iload hX dX1_nextLengths_46 rfl ?_
    refine am_iload_n hX dX1_nextLengths_48 rfl rfl ?_
    refine am_icmp_ge hX (tgt := 66) dX1_nextLengths_49 (by decide) (by omega) (by omega) (fun h => ?_) (fun h => ?_)
    · have e : s = K0 := by omega
      subst e
      refine am_iconst hX dX1_nextLengths_66 ?_
      exact am_zret hX dX1_nextLengths_67 (by decide) (K σ hf h9)
    · refine am_aload_n hX dX1_nextLengths_52 rfl rfl ?_
      refine am_geta hX 9 q238 (by decide) rfl dX1_nextLengths_53 ?_
      refine am_iload hX dX1_nextLengths_56 rfl ?_
      refine am_iload_n hX dX1_nextLengths_58 rfl rfl ?_
      refine am_iast hX 6 rfl (s) (by omega) (by omega) (by decide) dX1_nextLengths_59 ?_
      refine am_iincv hX dX1_nextLengths_60 rfl (by decide) (z2 := ((s + 1 : Nat) : Int)) (by omega) ?_
      refine am_goto hX (tgt := 46) dX1_nextLengths_63 (by decide) ?_
      refine ih (s + 1) _ (by omega) (by omega) (by omega) (fr_wA hf (by decide) _) (hA_up h9 (by rw [nx_high has (by omega)]) (fun j _ hj => ?_))
      unfold nx
      by_cases q : a ≤ j ∧ j < s
      · rw [if_pos q, if_pos (by omega)]
      · rw [if_neg q, if_neg (by omega)]
theorem mm_nextLengths (l : Nat → Nat) (K0 : Nat) : aMet cdX1 yX1_nextLengths cX1_nextLengths 5 (some .boolean) (rmD 0)
    (fun as σ => as = [(K0 : Int)] ∧ K0 ≤ 7 ∧ hA σ 9 7 l ∧ ∀ j, j < K0 → l j ≤ 6)
    (fun _ σ r' σ' => ∃ z, r' = some z ∧ (fr [] [9] σ σ' ∧ ((z = 0 ∧ ∀ j, j < K0 → 6 ≤ l j) ∨ (z = 1 ∧ ∃ a, a < K0 ∧ l a < 6 ∧ (∀ j, a < j → j < K0 → 6 ≤ l j) ∧ hA σ' 9 7 (nx K0 l a))))) := by
  refine aMet.of am_cls1 (by decide) rfl (fun as σ h => by rw [h.1]; exact Nat.le_of_ble_eq_true rfl) ?_
  intro as σ X hpre hX
  obtain ⟨rfl, hK, h9, hl⟩ := hpre
  refine am_iconst hX dX1_nextLengths_0 ?_
  refine am_istore_n hX dX1_nextLengths_1 rfl (by decide) ?_
  refine am_iconst hX dX1_nextLengths_2 ?_
  refine am_top (b := ((0 : Nat) : Int)) (by omega) ?_
  refine am_istore_n hX dX1_nextLengths_3 rfl (by decide) ?_
  refine nl_find hX hK h9 hl (fun z x3 hz => ?_) 8 0 (-1) (by omega) (by omega) (Or.inl ⟨rfl, fun j hj => absurd hj (by omega)⟩)
  have hzr : -1 ≤ z ∧ z < 7 := by
    rcases hz with ⟨q, _⟩ | ⟨a, q1, q2, _⟩ <;> omega
  refine am_iload_n hX dX1_nextLengths_28 rfl rfl ?_
  refine am_if_ge hX (tgt := 34) dX1_nextLengths_29 (by decide) (by omega) (fun h => ?_) (fun h => ?_)
  · obtain ⟨a, ha, ez, h6, hh⟩ : ∃ a : Nat, a < K0 ∧ z = (a : Int) ∧ l a < 6 ∧ ∀ j, a < j → j < K0 → 6 ≤ l j := by
      rcases hz with ⟨q, _⟩ | q
      · omega
      · exact q
    subst ez
    refine am_aload_n hX dX1_nextLengths_34 rfl rfl ?_
    refine am_geta hX 9 q238 (by decide) rfl dX1_nextLengths_35 ?_
    refine am_iload_n hX dX1_nextLengths_38 rfl rfl ?_
    refine am_iald hX 6 rfl (a) (by omega) (by omega) (by decide) dX1_nextLengths_39 ?_
    refine am_top (b := ((l a : Nat) : Int)) (h9 a (by omega)) ?_
    refine am_iconst hX dX1_nextLengths_40 ?_
    refine am_iadd hX dX1_nextLengths_41 ?_
    refine am_top (b := ((l a + 1 : Nat) : Int)) (by omega) ?_
    refine am_istore_n hX dX1_nextLengths_42 rfl (by decide) ?_
    refine am_iload_n hX dX1_nextLengths_43 rfl rfl ?_
    refine am_istore hX dX1_nextLengths_44 (by decide) ?_
    exact nl_fill (σ0 := σ) hX hK ha (fun σ1 hf h91 => ⟨_, rfl, hf, Or.inr ⟨rfl, a, ha, h6, hh, h91⟩⟩) 8 a σ (Nat.le_refl a) (by omega) (by omega) (fr_refl _ _ _) (hA_congr h9 (fun j _ => by unfold nx; rw [if_neg (by omega)]))
  · have hh : ∀ j, j < K0 → 6 ≤ l j := by
      rcases hz with ⟨_, q⟩ | ⟨a, _, q, _⟩
      · exact q
      · omega
    refine am_iconst hX dX1_nextLengths_32 ?_
    exact am_zret hX dX1_nextLengths_33 (by decide) ⟨_, rfl, fr_refl _ _ _, Or.inl ⟨rfl, hh⟩⟩
theorem co_ones {K0 : Nat} {y1 y2 y3 : Option am_V} {σ0 : am_S} (hX : aOK cdX1 RX1 TX1 tyX1 cX1_cost 7 (some .int) X)
    (K : ∀ x σ, fr [] [9] σ0 σ → hA σ 9 7 (fun _ => 1) → aW cdX1 7 (rmD 4) X P 41 [vT, y1, y2, y3, x, vN, vN] [] σ) :
    ∀ m s σ, s ≤ 7 → 7 < s + m → fr [] [9] σ0 σ → hA σ 9 s (fun _ => 1) → aW cdX1 7 (rmD 4) X P 20 [vT, y1, y2, y3, vI (s : Int), vN, vN] [] σ := by
  intro m
  induction m with
  | zero => intro s σ h1 h2; exact absurd h2 (by omega)
  | succ m ih =>
    intro s σ hs hm hf h9
    refine am_iload hX dX1_cost_20 rfl ?_
    refine am_bipush hX dX1_cost_22 (by decide) ?_
    refine am_icmp_ge hX (tgt := 41) dX1_cost_24 (by decide) (by omega) (by omega) (fun h => ?_) (fun h => ?_)
    · exact K _ σ hf (hA_le h9 (by omega))
    · refine am_aload_n hX dX1_cost_27 rfl rfl ?_
      refine am_geta hX 9 q238 (by decide) rfl dX1_cost_28 ?_
      refine am_iload hX dX1_cost_31 rfl ?_
      refine am_iconst hX dX1_cost_33 ?_
      refine am_iast hX 6 rfl (s) (by omega) (by omega) (by decide) dX1_cost_34 ?_
      refine am_iincv hX dX1_cost_35 rfl (by decide) (z2 := ((s + 1 : Nat) : Int)) (by omega) ?_
      refine am_goto hX (tgt := 20) dX1_cost_38 (by decide) ?_
      exact ih (s + 1) _ (by omega) (by omega) (fr_wA hf (by decide) _) (hA_push h9 rfl)
theorem co_bits {a l : Nat → Nat} {K0 : Nat} {y2 y3 y4 : Option am_V} {σ : am_S} (hX : aOK cdX1 RX1 TX1 tyX1 cX1_cost 7 (some .int) X) (hK : K0 ≤ 7) (h8 : hA σ 8 7 a) (h9 : hA σ 9 7 l)
    (K : ∀ x, aW cdX1 7 (rmD 4) X P 94 [vT, vI (K0 : Int), y2, y3, y4, vI (bits a K0 l : Int), x] [] σ) :
    ∀ m s, s ≤ K0 → K0 < s + m → aW cdX1 7 (rmD 4) X P 62 [vT, vI (K0 : Int), y2, y3, y4, vI ((sm (fun s => a s * l s) s : Nat) : Int), vI (s : Int)] [] σ := by
  intro m
  induction m with
  | zero => intro s h1 h2; exact absurd h2 (by omega)
  | succ m ih =>
    intro s hs hm
    refine am_iload hX dX1_cost_62 rfl ?_
    refine am_iload_n hX dX1_cost_64 rfl rfl ?_
    refine am_icmp_ge hX (tgt := 94) dX1_cost_65 (by decide) (by omega) (by omega) (fun h => ?_) (fun h => ?_)
    · have e : s = K0 := by omega
      subst e
      exact K _
    · refine am_iload hX dX1_cost_68 rfl ?_
      refine am_aload_n hX dX1_cost_70 rfl rfl ?_
      refine am_geta hX 8 q237 (by decide) rfl dX1_cost_71 ?_
      refine am_iload hX dX1_cost_74 rfl ?_
      refine am_iald hX 5 rfl (s) (by omega) (by omega) (by decide) dX1_cost_76 ?_
      refine am_top (b := ((a s : Nat) : Int)) (h8 s (by omega)) ?_
      refine am_aload_n hX dX1_cost_77 rfl rfl ?_
      refine am_geta hX 9 q238 (by decide) rfl dX1_cost_78 ?_
      refine am_iload hX dX1_cost_81 rfl ?_
      refine am_iald hX 6 rfl (s) (by omega) (by omega) (by decide) dX1_cost_83 ?_
      refine am_top (b := ((l s : Nat) : Int)) (h9 s (by omega)) ?_
      refine am_imul hX dX1_cost_84 ?_
      refine am_iadd hX dX1_cost_85 ?_
      refine am_top (b := ((sm (fun s => a s * l s) (s + 1) : Nat) : Int)) (by show _ = ((sm (fun s => a s * l s) s + a s * l s : Nat) : Int); rw [Int.natCast_add, Int.natCast_mul]) ?_
      refine am_istore hX dX1_cost_86 (by decide) ?_
      refine am_iincv hX dX1_cost_88 rfl (by decide) (z2 := ((s + 1 : Nat) : Int)) (by omega) ?_
      refine am_goto hX (tgt := 62) dX1_cost_91 (by decide) ?_
      exact ih (s + 1) (by omega) (by omega)
theorem bits_le {a l : Nat → Nat} {K0 : Nat} (hK : K0 ≤ 7) (hab : ∀ j, j < 7 → a j ≤ 32) (hl : ∀ j, j < K0 → l j ≤ 6) : bits a K0 l ≤ 1344 := by
  have h1 : bits a K0 l ≤ sm (fun _ => 192) K0 := sm_le (fun j hj => Nat.mul_le_mul (hab j (by omega)) (hl j hj))
  have h2 : ∀ K, K ≤ 7 → sm (fun _ => 192) K ≤ 1344 := by decide +kernel
  exact Nat.le_trans h1 (h2 K0 hK)
theorem co_loop {a : Nat → Nat} {K0 : Nat} {σ0 : am_S} (hX : aOK cdX1 RX1 TX1 tyX1 cX1_cost 7 (some .int) X) (hK : K0 ≤ 7) (hK1 : 0 < K0) (ha0 : 0 < a 0) (hab : ∀ j, j < 7 → a j ≤ 32) (h80 : hA σ0 8 7 a)
    (K : ∀ v σ, fr [] [9] σ0 σ → BestE a K0 v → P (some (v : Int)) σ) :
    ∀ m w v l x5 x6 σ, w + muR l 0 K0 ≤ 792 → muR l 0 K0 ≤ m → v ≤ 2000 → Sq K0 l → Best a K0 v l → fr [] [9] σ0 σ → hA σ 9 7 l → aW cdX1 7 (rmD 4) X P 44 [vT, vI (K0 : Int), vI (v : Int), vI 1, vI (w : Int), x5, x6] [] σ := by
  intro m
  induction m with
  | zero =>
    intro w v l x5 x6 σ hw hm
    have := muR_pos l K0 0
    exact absurd hm (by omega)
  | succ m ih =>
    intro w v l x5 x6 σ hw hm hv hS hB hf h9
    have hmp := muR_pos l K0 0
    have hl6 : ∀ j, j < K0 → l j ≤ 6 := fun j hj => (hS.1 j hj).2
    have h8 : hA σ 8 7 a := hA_fr h80 hf (by decide)
    have hbl := bits_le (a := a) (l := l) hK hab hl6
    have hb0 := bits_pos hK1 hS ha0
    -- behind the comparison
    have tail : ∀ u y5 y6, u ≤ 2000 → Past a K0 u l → aW cdX1 7 (rmD 4) X P 115 [vT, vI (K0 : Int), vI (u : Int), vI 1, vI (w : Int), y5, y6] [] σ := by
      intro u y5 y6 hu hP
      refine am_aload_n hX dX1_cost_115 rfl rfl ?_
      refine am_iload_n hX dX1_cost_116 rfl rfl ?_
      refine am_calli hX (mm_nextLengths l K0) [(K0 : Int)] (lw_V q328 q330 qs27 q30 q331) ⟨rfl, rfl⟩ (nA := 1) (by decide +kernel) ⟨by decide, by decide⟩ rfl rfl (fun _ => Nat.le_of_ble_eq_true rfl) dX1_cost_117 ⟨rfl, hK, h9, hl6⟩ (fun z σ1 hz => ?_)
      refine am_istore_n hX dX1_cost_120 rfl (by decide) ?_
      obtain ⟨hf1, hz⟩ := hz
      rcases hz with ⟨rfl, hend⟩ | ⟨rfl, at', ha, h6, hh, h91⟩
      · refine am_iincv hX dX1_cost_121 rfl (by decide) (z2 := ((w + 1 : Nat) : Int)) (by omega) ?_
        refine am_goto hX (tgt := 44) dX1_cost_124 (by decide) ?_
        refine am_iload hX dX1_cost_44 rfl ?_
        refine am_sipush hX dX1_cost_46 (by decide) ?_
        refine am_icmp_ge hX (tgt := 127) dX1_cost_49 (by decide) (by omega) (by omega) (fun q1 => ?_) (fun q1 => ?_)
        · refine am_iload_n hX dX1_cost_127 rfl rfl ?_
          exact am_iret hX dX1_cost_128 (K u σ1 (fr_trans hf hf1) (Past_end hP hend))
        · refine am_iload_n hX dX1_cost_52 rfl rfl ?_
          refine am_if_eq hX (tgt := 127) dX1_cost_53 (by decide) (by omega) (fun q2 => ?_) (fun q2 => ?_)
          · refine am_iload_n hX dX1_cost_127 rfl rfl ?_
            exact am_iret hX dX1_cost_128 (K u σ1 (fr_trans hf hf1) (Past_end hP hend))
          · exact absurd rfl q2
      · have hmu := muR_nx ha h6 hh
        refine am_iincv hX dX1_cost_121 rfl (by decide) (z2 := ((w + 1 : Nat) : Int)) (by omega) ?_
        refine am_goto hX (tgt := 44) dX1_cost_124 (by decide) ?_
        exact ih (w + 1) u (nx K0 l at') _ _ σ1 (by omega) (by omega) hu (Sq_nx hS ha h6) (Past_next hP ha hh) (fr_trans hf hf1) h91
    refine am_iload hX dX1_cost_44 rfl ?_
    refine am_sipush hX dX1_cost_46 (by decide) ?_
    refine am_icmp_ge hX (tgt := 127) dX1_cost_49 (by decide) (by omega) (by omega) (fun q1 => ?_) (fun q1 => ?_)
    · exact absurd q1 (by omega)
    · refine am_iload_n hX dX1_cost_52 rfl rfl ?_
      refine am_if_eq hX (tgt := 127) dX1_cost_53 (by decide) (by omega) (fun q2 => ?_) (fun q2 => ?_)
      · exact absurd q2 (by decide)
      · refine am_iconst hX dX1_cost_56 ?_
        refine am_top (b := ((sm (fun s => a s * l s) 0 : Nat) : Int)) rfl ?_
        refine am_istore hX dX1_cost_57 (by decide) ?_
        refine am_iconst hX dX1_cost_59 ?_
        refine am_top (b := ((0 : Nat) : Int)) (by omega) ?_
        refine am_istore hX dX1_cost_60 (by decide) ?_
        refine co_bits (a := a) (l := l) hX hK h8 h9 (fun x => ?_) 8 0 (by omega) (by omega)
        refine am_aload_n hX dX1_cost_94 rfl rfl ?_
        refine am_iload_n hX dX1_cost_95 rfl rfl ?_
        refine am_calli hX (mm_canBe l K0) [(K0 : Int)] (lw_V q324 q326 qs26 q30 q327) ⟨rfl, rfl⟩ (nA := 1) (by decide +kernel) ⟨by decide, by decide⟩ rfl rfl (fun _ => Nat.le_of_ble_eq_true rfl) dX1_cost_96 ⟨rfl, hK, h9, hl6⟩ (fun z σ1 hz => ?_)
        obtain ⟨rfl, hz⟩ := hz
        refine am_if_eq hX (tgt := 115) dX1_cost_99 (by decide) (by omega) (fun q3 => ?_) (fun q3 => ?_)
        · refine tail v _ _ hv (Past_no hB ?_)
          rcases hz with ⟨e, _⟩ | ⟨_, q⟩
          · omega
          · exact q
        · have hc : canB K0 l := by
            rcases hz with ⟨_, q⟩ | ⟨e, _⟩
            · exact q
            · omega
          refine am_iload_n hX dX1_cost_102 rfl rfl ?_
          refine am_if_eq hX (tgt := 112) dX1_cost_103 (by decide) (by omega) (fun q4 => ?_) (fun q4 => ?_)
          · refine am_iload hX dX1_cost_112 rfl ?_
            refine am_istore_n hX dX1_cost_114 rfl (by decide) ?_
            exact tail (bits a K0 l) _ _ (by omega) (Past_take hB hS hc hb0 (Or.inl (by omega)))
          · refine am_iload hX dX1_cost_106 rfl ?_
            refine am_iload_n hX dX1_cost_108 rfl rfl ?_
            refine am_icmp_ge hX (tgt := 115) dX1_cost_109 (by decide) (by omega) (by omega) (fun q5 => ?_) (fun q5 => ?_)
            · exact tail v _ _ hv (Past_keep hB (by omega) (by omega))
            · refine am_iload hX dX1_cost_112 rfl ?_
              refine am_istore_n hX dX1_cost_114 rfl (by decide) ?_
              exact tail (bits a K0 l) _ _ (by omega) (Past_take hB hS hc hb0 (Or.inr (by omega)))
theorem mm_cost (n : Nat) (t : Nat → Nat) : aMet cdX1 yX1_cost cX1_cost 7 (some .int) (rmD 4)
    (fun as σ => as = [] ∧ J0 n t σ)
    (fun _ _ r' σ' => ∃ v, r' = some v ∧ ((∃ u : Nat, v = (u : Int) ∧ MinC (cn (symF n t)) u) ∧ J0 n t σ')) := by
  refine aMet.of am_cls1 (by decide) rfl (fun as σ h => by rw [h.1]; exact Nat.le_of_ble_eq_true rfl) ?_
  intro as σ X hpre hX
  obtain ⟨rfl, J⟩ := hpre
  have hlen : (symF n t).length ≤ 32 := Nat.le_trans (symF_len n t) J.2.1
  have hcb : ∀ s, s < 7 → cn (symF n t) s ≤ 32 := fun s _ => Nat.le_trans (cn_len _ s) hlen
  refine am_aload_n hX dX1_cost_0 rfl rfl ?_
  refine am_calli hX (mm_countSymbols n t) [] (lw_V q320 q322 qs25 q30 q323) ⟨rfl, rfl⟩ (nA := 0) (by decide +kernel) ⟨by decide, by decide⟩ rfl rfl (fun _ => Nat.le_of_ble_eq_true rfl) dX1_cost_1 ⟨rfl, J⟩ (fun v σ1 hq => ?_)
  refine am_istore_n hX dX1_cost_4 rfl (by decide) ?_
  obtain ⟨ev, J1, a, h8, hP, hD⟩ := hq
  rw [← PmA_live hP] at ev
  subst ev
  have hab : ∀ j, j < 7 → a j ≤ 32 := by
    obtain ⟨π, hp, he⟩ := hP
    intro j hj
    rw [he j hj]
    exact hcb _ (Pm_lt hp j hj)
  obtain ⟨hK, he⟩ := Dsc_live hD
  refine am_iconst hX dX1_cost_5 ?_
  refine am_top (b := ((0 : Nat) : Int)) (by omega) ?_
  refine am_istore_n hX dX1_cost_6 rfl (by decide) ?_
  refine am_iload_n hX dX1_cost_7 rfl rfl ?_
  refine am_if_le hX (tgt := 15) dX1_cost_8 (by decide) (by omega) (fun q1 => ?_) (fun q1 => ?_)
  · have hz : ∀ s, s < 7 → cn (symF n t) s = 0 := by
      have hl0 : live (cn (symF n t)) = 0 := by rw [← PmA_live hP]; omega
      intro s hs
      rcases Nat.eq_zero_or_pos (cn (symF n t) s) with q | q
      · exact q
      · have h1 := sm_one (f := fun g => if 0 < cn (symF n t) g then 1 else 0) hs
        rw [if_pos q] at h1
        unfold live at hl0
        omega
    refine am_iconst hX dX1_cost_15 ?_
    refine am_istore_n hX dX1_cost_16 rfl (by decide) ?_
    refine am_iconst hX dX1_cost_17 ?_
    refine am_top (b := ((0 : Nat) : Int)) (by omega) ?_
    refine am_istore hX dX1_cost_18 (by decide) ?_
    refine co_ones (K0 := 0) (σ0 := σ1) hX (fun x σ2 hf2 h9 => ?_) 8 0 σ1 (by omega) (by omega) (fr_refl _ _ _) (fun j hj => absurd hj (by omega))
    refine am_iconst hX dX1_cost_41 ?_
    refine am_istore hX dX1_cost_42 (by decide) ?_
    refine am_iload hX dX1_cost_44 rfl ?_
    refine am_sipush hX dX1_cost_46 (by decide) ?_
    refine am_icmp_ge hX (tgt := 127) dX1_cost_49 (by decide) (by omega) (by omega) (fun q2 => ?_) (fun q2 => ?_)
    · exact absurd q2 (by decide)
    · refine am_iload_n hX dX1_cost_52 rfl rfl ?_
      refine am_if_eq hX (tgt := 127) dX1_cost_53 (by decide) (by omega) (fun q3 => ?_) (fun q3 => ?_)
      · refine am_iload_n hX dX1_cost_127 rfl rfl ?_
        exact am_iret hX dX1_cost_128 ⟨_, rfl, ⟨0, rfl, MinC_zero hz⟩, J1.fr hf2 (by decide) (by decide)⟩
      · exact absurd rfl q3
  · have hpos : 0 < live a := by omega
    refine am_iconst hX dX1_cost_11 ?_
    refine am_goto hX (tgt := 16) dX1_cost_12 (by decide) ?_
    refine am_istore_n hX dX1_cost_16 rfl (by decide) ?_
    refine am_iconst hX dX1_cost_17 ?_
    refine am_top (b := ((0 : Nat) : Int)) (by omega) ?_
    refine am_istore hX dX1_cost_18 (by decide) ?_
    refine co_ones (K0 := 0) (σ0 := σ1) hX (fun x σ2 hf2 h9 => ?_) 8 0 σ1 (by omega) (by omega) (fr_refl _ _ _) (fun j hj => absurd hj (by omega))
    refine am_iconst hX dX1_cost_41 ?_
    refine am_top (b := ((0 : Nat) : Int)) (by omega) ?_
    refine am_istore hX dX1_cost_42 (by decide) ?_
    have hms := mu_start (K := live a) hK (l := fun _ => 1) (fun _ _ => rfl)
    refine co_loop (a := a) (K0 := live a) (σ0 := σ2) hX hK hpos ((he 0 (by omega)).mpr hpos) hab (hA_fr h8 hf2 (by decide)) (fun v σ3 hf3 hb => ⟨_, rfl, ⟨v, rfl, PmA_min hP (BestE_min hD hb (LF_ex a) hpos)⟩, J1.fr (fr_trans hf2 hf3) (by decide) (by decide)⟩) 792 0 0 (fun _ => 1) _ _ σ2 (by omega) hms (by omega) ⟨fun _ _ => ⟨(by decide : 1 ≤ 1), (by decide : 1 ≤ 6)⟩, fun _ _ _ _ => Nat.le_refl _⟩ (Best_start a hK (fun _ _ => rfl)) (fr_refl _ _ _) h9
end WN
end
section
/-! the constructors (written by tools/mkinit.py) -/
set_option maxRecDepth 100000
def zeS : am_S := (fun _ => 0, fun _ _ => 0, fun _ => 0)
def fsX0 : List Value := [.int (am_z 0), .null, .null, .null, .null, .int (am_z 0), .int (am_z 0), .null, .null, .int (am_z 0), .null, .null, .null, .null, .null, .null, .int (am_z 0), .null, .null, .null]
set_option maxHeartbeats 4000000 in
theorem metX0_init (l : Launch) (D : va_G) (h0 sz : Nat) : Met l yX0_init (ws_ yX0_init cX0_init 1 none) ({ frames := 1, cells := 15, slots := 326, locals := 20 }) (va_Pc [.ref h0] (fun U => U.heap.size = sz ∧ va_P D vwCl [(h0, .inr (0, fsX0))] U.heap ∧ va_K D vwCl [] U ∧ va_D (fun _ => True) [(h0, .inr (0, fsX0))]))
    (va_Qv (fun u : (Nat → ClassId) × (Nat → Nat) => u.2 0 = h0) (fun u t => va_P D vwCl (am_w cdX0 u.1 u.2 zeS) t.heap ∧ va_K D vwCl (am_t cdX0 u.1) t ∧ va_D (va_A [(h0, .inr (0, fsX0))] sz) (am_w cdX0 u.1 u.2 zeS)) (va_A [(h0, .inr (0, fsX0))] sz)) 15 326 (va_A [(h0, .inr (0, fsX0))] sz) := by
  refine Met.ofW (cc := cX0_init) (maxL := 1) (ret := none) (by decide) rfl ?_
  intro p e s m args below meth c s₁ B hml hv
  obtain ⟨rfl, hsz, hP, hK, hD0⟩ := hv
  have hx := B.exec
  have hb := B.bytes
  have hr := B.returns
  have hts := atoms_spec (ws := ws_ yX0_init cX0_init 1 none) B.pre
  have hts : ∀ w ∈ lw_all, w.before _ s = true := fun w h => hts w (List.mem_cons_of_mem _ h)
  have hown : s.vm.findClass RX0 = some m.cls := findClass_of_methodNamed B.named
  have hlocks := B.notSynchronized
  have hin : meth.name = "<init>" := (name_of_methodNamed B.named B.method).1
  subst hsz
  have hD := hD0.self (sz := s.heap.size)
  generalize hAe : va_A [(h0, .inr (0, fsX0))] s.heap.size = A at hD ⊢
  have hA : ∀ q : Nat, s.heap.size ≤ q → A q := fun q h => by rw [← hAe]; exact Or.inr h
  have hS : va_S A s.heap s.heap [] := va_S.rf
  have hl := lv_entry ([.ref h0]) (n := 1) (Nat.le_of_ble_eq_true rfl)
  rw [lg_entry_eq]
  generalize (lg_sl ([.ref h0]) ++ List.replicate (1 - (lg_sl ([.ref h0])).length) Slot.unset).toArray = ls at hl ⊢
  have hl : lv_has ls 1 [(0, .ref h0)] := hl
  refine lv_aload_n hx hb dX0_init_0 rfl (lv_at hl 0 rfl) ?_
  refine W.objInit hx hb hown (hts _ q36) (hts _ q37) (hts _ q38) rfl (by rw [hml]; exact hl.1) rfl dX0_init_1 (Nat.le_of_ble_eq_true rfl) (Nat.le_of_ble_eq_true rfl) ?_
  refine W.eq (g2 := F0 m 4 ls []) rfl ?_
  refine lv_aload_n hx hb dX0_init_4 rfl (lv_at hl 0 rfl) ?_
  refine lv_bipush (v := 32) hx hb dX0_init_5 (by decide) ?_
  refine va_newa (atype := .byte) (ty := .byte) (N' := 32) (a0 := (32, .inl (fun _ => am_z 0))) hx hb (hts _ q100) rfl hK hP hD hS hA (fun cA => rfl) (by decide) (by decide) (by decide) (Nat.le_of_ble_eq_true rfl) (Nat.le_of_ble_eq_true rfl) dX0_init_7 (fun q1 c1 H hK hP hD hS => ?_)
  have hP : va_P D vwCl [(h0, .inr (0, [.int (am_z 0), .null, .null, .null, .null, .int (am_z 0), .int (am_z 0), .null, .null, .int (am_z 0), .null, .null, .null, .null, .null, .null, .int (am_z 0), .null, .null, .null])), (q1, .inl (c1, 32, .inl (fun _ => am_z 0)))] H := hP
  have hD : va_D A [(h0, .inr (0, [.int (am_z 0), .null, .null, .null, .null, .int (am_z 0), .int (am_z 0), .null, .null, .int (am_z 0), .null, .null, .null, .null, .null, .null, .int (am_z 0), .null, .null, .null])), (q1, .inl (c1, 32, .inl (fun _ => am_z 0)))] := hD
  have hK : va_K D vwCl [(c1, .byte)] s := hK
  refine va_putF (D := D) (ci := 0) (v := .ref q1) (ty := .array .byte) (C := RX0) (T := TX0) (N := 20) hx hb hts in_X0 tyX0 tyX0_ok nmX0 hown hK hP hD hS 0 rfl rfl 1 (by decide) (hts _ q40) (fun _ h9 => h9) rfl hin rfl (by decide +kernel) rfl rfl (Nat.le_of_ble_eq_true rfl) dX0_init_9 (fun H locs hP hD hS => ?_)
  have hP : va_P D vwCl [(h0, .inr (0, [.int (am_z 0), .ref q1, .null, .null, .null, .int (am_z 0), .int (am_z 0), .null, .null, .int (am_z 0), .null, .null, .null, .null, .null, .null, .int (am_z 0), .null, .null, .null])), (q1, .inl (c1, 32, .inl (fun _ => am_z 0)))] H := hP
  have hD : va_D A [(h0, .inr (0, [.int (am_z 0), .ref q1, .null, .null, .null, .int (am_z 0), .int (am_z 0), .null, .null, .int (am_z 0), .null, .null, .null, .null, .null, .null, .int (am_z 0), .null, .null, .null])), (q1, .inl (c1, 32, .inl (fun _ => am_z 0)))] := hD
  refine lv_aload_n hx hb dX0_init_12 rfl (lv_at hl 0 rfl) ?_
  refine lv_bipush (v := 32) hx hb dX0_init_13 (by decide) ?_
  refine va_newa (atype := .byte) (ty := .byte) (N' := 32) (a0 := (32, .inl (fun _ => am_z 0))) hx hb (hts _ q100) rfl hK hP hD hS hA (fun cA => rfl) (by decide) (by decide) (by decide) (Nat.le_of_ble_eq_true rfl) (Nat.le_of_ble_eq_true rfl) dX0_init_15 (fun q2 c2 H hK hP hD hS => ?_)
  have hP : va_P D vwCl [(h0, .inr (0, [.int (am_z 0), .ref q1, .null, .null, .null, .int (am_z 0), .int (am_z 0), .null, .null, .int (am_z 0), .null, .null, .null, .null, .null, .null, .int (am_z 0), .null, .null, .null])), (q1, .inl (c1, 32, .inl (fun _ => am_z 0))), (q2, .inl (c2, 32, .inl (fun _ => am_z 0)))] H := hP
  have hD : va_D A [(h0, .inr (0, [.int (am_z 0), .ref q1, .null, .null, .null, .int (am_z 0), .int (am_z 0), .null, .null, .int (am_z 0), .null, .null, .null, .null, .null, .null, .int (am_z 0), .null, .null, .null])), (q1, .inl (c1, 32, .inl (fun _ => am_z 0))), (q2, .inl (c2, 32, .inl (fun _ => am_z 0)))] := hD
  have hK : va_K D vwCl [(c1, .byte), (c2, .byte)] s := hK
  refine va_putF (D := D) (ci := 0) (v := .ref q2) (ty := .array .byte) (C := RX0) (T := TX0) (N := 20) hx hb hts in_X0 tyX0 tyX0_ok nmX0 hown hK hP hD hS 0 rfl rfl 2 (by decide) (hts _ q41) (fun _ h9 => h9) rfl hin rfl (by decide +kernel) rfl rfl (Nat.le_of_ble_eq_true rfl) dX0_init_17 (fun H locs hP hD hS => ?_)
  have hP : va_P D vwCl [(h0, .inr (0, [.int (am_z 0), .ref q1, .ref q2, .null, .null, .int (am_z 0), .int (am_z 0), .null, .null, .int (am_z 0), .null, .null, .null, .null, .null, .null, .int (am_z 0), .null, .null, .null])), (q1, .inl (c1, 32, .inl (fun _ => am_z 0))), (q2, .inl (c2, 32, .inl (fun _ => am_z 0)))] H := hP
  have hD : va_D A [(h0, .inr (0, [.int (am_z 0), .ref q1, .ref q2, .null, .null, .int (am_z 0), .int (am_z 0), .null, .null, .int (am_z 0), .null, .null, .null, .null, .null, .null, .int (am_z 0), .null, .null, .null])), (q1, .inl (c1, 32, .inl (fun _ => am_z 0))), (q2, .inl (c2, 32, .inl (fun _ => am_z 0)))] := hD
  refine lv_aload_n hx hb dX0_init_20 rfl (lv_at hl 0 rfl) ?_
  refine lv_bipush (v := 32) hx hb dX0_init_21 (by decide) ?_
  refine va_newa (atype := .byte) (ty := .byte) (N' := 32) (a0 := (32, .inl (fun _ => am_z 0))) hx hb (hts _ q100) rfl hK hP hD hS hA (fun cA => rfl) (by decide) (by decide) (by decide) (Nat.le_of_ble_eq_true rfl) (Nat.le_of_ble_eq_true rfl) dX0_init_23 (fun q3 c3 H hK hP hD hS => ?_)
  have hP : va_P D vwCl [(h0, .inr (0, [.int (am_z 0), .ref q1, .ref q2, .null, .null, .int (am_z 0), .int (am_z 0), .null, .null, .int (am_z 0), .null, .null, .null, .null, .null, .null, .int (am_z 0), .null, .null, .null])), (q1, .inl (c1, 32, .inl (fun _ => am_z 0))), (q2, .inl (c2, 32, .inl (fun _ => am_z 0))), (q3, .inl (c3, 32, .inl (fun _ => am_z 0)))] H := hP
  have hD : va_D A [(h0, .inr (0, [.int (am_z 0), .ref q1, .ref q2, .null, .null, .int (am_z 0), .int (am_z 0), .null, .null, .int (am_z 0), .null, .null, .null, .null, .null, .null, .int (am_z 0), .null, .null, .null])), (q1, .inl (c1, 32, .inl (fun _ => am_z 0))), (q2, .inl (c2, 32, .inl (fun _ => am_z 0))), (q3, .inl (c3, 32, .inl (fun _ => am_z 0)))] := hD
  have hK : va_K D vwCl [(c1, .byte), (c2, .byte), (c3, .byte)] s := hK
  refine va_putF (D := D) (ci := 0) (v := .ref q3) (ty := .array .byte) (C := RX0) (T := TX0) (N := 20) hx hb hts in_X0 tyX0 tyX0_ok nmX0 hown hK hP hD hS 0 rfl rfl 3 (by decide) (hts _ q42) (fun _ h9 => h9) rfl hin rfl (by decide +kernel) rfl rfl (Nat.le_of_ble_eq_true rfl) dX0_init_25 (fun H locs hP hD hS => ?_)
  have hP : va_P D vwCl [(h0, .inr (0, [.int (am_z 0), .ref q1, .ref q2, .ref q3, .null, .int (am_z 0), .int (am_z 0), .null, .null, .int (am_z 0), .null, .null, .null, .null, .null, .null, .int (am_z 0), .null, .null, .null])), (q1, .inl (c1, 32, .inl (fun _ => am_z 0))), (q2, .inl (c2, 32, .inl (fun _ => am_z 0))), (q3, .inl (c3, 32, .inl (fun _ => am_z 0)))] H := hP
  have hD : va_D A [(h0, .inr (0, [.int (am_z 0), .ref q1, .ref q2, .ref q3, .null, .int (am_z 0), .int (am_z 0), .null, .null, .int (am_z 0), .null, .null, .null, .null, .null, .null, .int (am_z 0), .null, .null, .null])), (q1, .inl (c1, 32, .inl (fun _ => am_z 0))), (q2, .inl (c2, 32, .inl (fun _ => am_z 0))), (q3, .inl (c3, 32, .inl (fun _ => am_z 0)))] := hD
  refine lv_aload_n hx hb dX0_init_28 rfl (lv_at hl 0 rfl) ?_
  refine lv_bipush (v := 32) hx hb dX0_init_29 (by decide) ?_
  refine va_newa (atype := .byte) (ty := .byte) (N' := 32) (a0 := (32, .inl (fun _ => am_z 0))) hx hb (hts _ q100) rfl hK hP hD hS hA (fun cA => rfl) (by decide) (by decide) (by decide) (Nat.le_of_ble_eq_true rfl) (Nat.le_of_ble_eq_true rfl) dX0_init_31 (fun q4 c4 H hK hP hD hS => ?_)
  have hP : va_P D vwCl [(h0, .inr (0, [.int (am_z 0), .ref q1, .ref q2, .ref q3, .null, .int (am_z 0), .int (am_z 0), .null, .null, .int (am_z 0), .null, .null, .null, .null, .null, .null, .int (am_z 0), .null, .null, .null])), (q1, .inl (c1, 32, .inl (fun _ => am_z 0))), (q2, .inl (c2, 32, .inl (fun _ => am_z 0))), (q3, .inl (c3, 32, .inl (fun _ => am_z 0))), (q4, .inl (c4, 32, .inl (fun _ => am_z 0)))] H := hP
  have hD : va_D A [(h0, .inr (0, [.int (am_z 0), .ref q1, .ref q2, .ref q3, .null, .int (am_z 0), .int (am_z 0), .null, .null, .int (am_z 0), .null, .null, .null, .null, .null, .null, .int (am_z 0), .null, .null, .null])), (q1, .inl (c1, 32, .inl (fun _ => am_z 0))), (q2, .inl (c2, 32, .inl (fun _ => am_z 0))), (q3, .inl (c3, 32, .inl (fun _ => am_z 0))), (q4, .inl (c4, 32, .inl (fun _ => am_z 0)))] := hD
  have hK : va_K D vwCl [(c1, .byte), (c2, .byte), (c3, .byte), (c4, .byte)] s := hK
  refine va_putF (D := D) (ci := 0) (v := .ref q4) (ty := .array .byte) (C := RX0) (T := TX0) (N := 20) hx hb hts in_X0 tyX0 tyX0_ok nmX0 hown hK hP hD hS 0 rfl rfl 4 (by decide) (hts _ q43) (fun _ h9 => h9) rfl hin rfl (by decide +kernel) rfl rfl (Nat.le_of_ble_eq_true rfl) dX0_init_33 (fun H locs hP hD hS => ?_)
  have hP : va_P D vwCl [(h0, .inr (0, [.int (am_z 0), .ref q1, .ref q2, .ref q3, .ref q4, .int (am_z 0), .int (am_z 0), .null, .null, .int (am_z 0), .null, .null, .null, .null, .null, .null, .int (am_z 0), .null, .null, .null])), (q1, .inl (c1, 32, .inl (fun _ => am_z 0))), (q2, .inl (c2, 32, .inl (fun _ => am_z 0))), (q3, .inl (c3, 32, .inl (fun _ => am_z 0))), (q4, .inl (c4, 32, .inl (fun _ => am_z 0)))] H := hP
  have hD : va_D A [(h0, .inr (0, [.int (am_z 0), .ref q1, .ref q2, .ref q3, .ref q4, .int (am_z 0), .int (am_z 0), .null, .null, .int (am_z 0), .null, .null, .null, .null, .null, .null, .int (am_z 0), .null, .null, .null])), (q1, .inl (c1, 32, .inl (fun _ => am_z 0))), (q2, .inl (c2, 32, .inl (fun _ => am_z 0))), (q3, .inl (c3, 32, .inl (fun _ => am_z 0))), (q4, .inl (c4, 32, .inl (fun _ => am_z 0)))] := hD
  refine lv_aload_n hx hb dX0_init_36 rfl (lv_at hl 0 rfl) ?_
  refine lv_bipush (v := 32) hx hb dX0_init_37 (by decide) ?_
  refine va_newa (atype := .byte) (ty := .byte) (N' := 32) (a0 := (32, .inl (fun _ => am_z 0))) hx hb (hts _ q100) rfl hK hP hD hS hA (fun cA => rfl) (by decide) (by decide) (by decide) (Nat.le_of_ble_eq_true rfl) (Nat.le_of_ble_eq_true rfl) dX0_init_39 (fun q7 c7 H hK hP hD hS => ?_)
  have hP : va_P D vwCl [(h0, .inr (0, [.int (am_z 0), .ref q1, .ref q2, .ref q3, .ref q4, .int (am_z 0), .int (am_z 0), .null, .null, .int (am_z 0), .null, .null, .null, .null, .null, .null, .int (am_z 0), .null, .null, .null])), (q1, .inl (c1, 32, .inl (fun _ => am_z 0))), (q2, .inl (c2, 32, .inl (fun _ => am_z 0))), (q3, .inl (c3, 32, .inl (fun _ => am_z 0))), (q4, .inl (c4, 32, .inl (fun _ => am_z 0))), (q7, .inl (c7, 32, .inl (fun _ => am_z 0)))] H := hP
  have hD : va_D A [(h0, .inr (0, [.int (am_z 0), .ref q1, .ref q2, .ref q3, .ref q4, .int (am_z 0), .int (am_z 0), .null, .null, .int (am_z 0), .null, .null, .null, .null, .null, .null, .int (am_z 0), .null, .null, .null])), (q1, .inl (c1, 32, .inl (fun _ => am_z 0))), (q2, .inl (c2, 32, .inl (fun _ => am_z 0))), (q3, .inl (c3, 32, .inl (fun _ => am_z 0))), (q4, .inl (c4, 32, .inl (fun _ => am_z 0))), (q7, .inl (c7, 32, .inl (fun _ => am_z 0)))] := hD
  have hK : va_K D vwCl [(c1, .byte), (c2, .byte), (c3, .byte), (c4, .byte), (c7, .byte)] s := hK
  refine va_putF (D := D) (ci := 0) (v := .ref q7) (ty := .array .byte) (C := RX0) (T := TX0) (N := 20) hx hb hts in_X0 tyX0 tyX0_ok nmX0 hown hK hP hD hS 0 rfl rfl 7 (by decide) (hts _ q46) (fun _ h9 => h9) rfl hin rfl (by decide +kernel) rfl rfl (Nat.le_of_ble_eq_true rfl) dX0_init_41 (fun H locs hP hD hS => ?_)
  have hP : va_P D vwCl [(h0, .inr (0, [.int (am_z 0), .ref q1, .ref q2, .ref q3, .ref q4, .int (am_z 0), .int (am_z 0), .ref q7, .null, .int (am_z 0), .null, .null, .null, .null, .null, .null, .int (am_z 0), .null, .null, .null])), (q1, .inl (c1, 32, .inl (fun _ => am_z 0))), (q2, .inl (c2, 32, .inl (fun _ => am_z 0))), (q3, .inl (c3, 32, .inl (fun _ => am_z 0))), (q4, .inl (c4, 32, .inl (fun _ => am_z 0))), (q7, .inl (c7, 32, .inl (fun _ => am_z 0)))] H := hP
  have hD : va_D A [(h0, .inr (0, [.int (am_z 0), .ref q1, .ref q2, .ref q3, .ref q4, .int (am_z 0), .int (am_z 0), .ref q7, .null, .int (am_z 0), .null, .null, .null, .null, .null, .null, .int (am_z 0), .null, .null, .null])), (q1, .inl (c1, 32, .inl (fun _ => am_z 0))), (q2, .inl (c2, 32, .inl (fun _ => am_z 0))), (q3, .inl (c3, 32, .inl (fun _ => am_z 0))), (q4, .inl (c4, 32, .inl (fun _ => am_z 0))), (q7, .inl (c7, 32, .inl (fun _ => am_z 0)))] := hD
  refine lv_aload_n hx hb dX0_init_44 rfl (lv_at hl 0 rfl) ?_
  refine lv_bipush (v := 32) hx hb dX0_init_45 (by decide) ?_
  refine va_newa (atype := .byte) (ty := .byte) (N' := 32) (a0 := (32, .inl (fun _ => am_z 0))) hx hb (hts _ q100) rfl hK hP hD hS hA (fun cA => rfl) (by decide) (by decide) (by decide) (Nat.le_of_ble_eq_true rfl) (Nat.le_of_ble_eq_true rfl) dX0_init_47 (fun q8 c8 H hK hP hD hS => ?_)
  have hP : va_P D vwCl [(h0, .inr (0, [.int (am_z 0), .ref q1, .ref q2, .ref q3, .ref q4, .int (am_z 0), .int (am_z 0), .ref q7, .null, .int (am_z 0), .null, .null, .null, .null, .null, .null, .int (am_z 0), .null, .null, .null])), (q1, .inl (c1, 32, .inl (fun _ => am_z 0))), (q2, .inl (c2, 32, .inl (fun _ => am_z 0))), (q3, .inl (c3, 32, .inl (fun _ => am_z 0))), (q4, .inl (c4, 32, .inl (fun _ => am_z 0))), (q7, .inl (c7, 32, .inl (fun _ => am_z 0))), (q8, .inl (c8, 32, .inl (fun _ => am_z 0)))] H := hP
  have hD : va_D A [(h0, .inr (0, [.int (am_z 0), .ref q1, .ref q2, .ref q3, .ref q4, .int (am_z 0), .int (am_z 0), .ref q7, .null, .int (am_z 0), .null, .null, .null, .null, .null, .null, .int (am_z 0), .null, .null, .null])), (q1, .inl (c1, 32, .inl (fun _ => am_z 0))), (q2, .inl (c2, 32, .inl (fun _ => am_z 0))), (q3, .inl (c3, 32, .inl (fun _ => am_z 0))), (q4, .inl (c4, 32, .inl (fun _ => am_z 0))), (q7, .inl (c7, 32, .inl (fun _ => am_z 0))), (q8, .inl (c8, 32, .inl (fun _ => am_z 0)))] := hD
  have hK : va_K D vwCl [(c1, .byte), (c2, .byte), (c3, .byte), (c4, .byte), (c7, .byte), (c8, .byte)] s := hK
  refine va_putF (D := D) (ci := 0) (v := .ref q8) (ty := .array .byte) (C := RX0) (T := TX0) (N := 20) hx hb hts in_X0 tyX0 tyX0_ok nmX0 hown hK hP hD hS 0 rfl rfl 8 (by decide) (hts _ q47) (fun _ h9 => h9) rfl hin rfl (by decide +kernel) rfl rfl (Nat.le_of_ble_eq_true rfl) dX0_init_49 (fun H locs hP hD hS => ?_)
  have hP : va_P D vwCl [(h0, .inr (0, [.int (am_z 0), .ref q1, .ref q2, .ref q3, .ref q4, .int (am_z 0), .int (am_z 0), .ref q7, .ref q8, .int (am_z 0), .null, .null, .null, .null, .null, .null, .int (am_z 0), .null, .null, .null])), (q1, .inl (c1, 32, .inl (fun _ => am_z 0))), (q2, .inl (c2, 32, .inl (fun _ => am_z 0))), (q3, .inl (c3, 32, .inl (fun _ => am_z 0))), (q4, .inl (c4, 32, .inl (fun _ => am_z 0))), (q7, .inl (c7, 32, .inl (fun _ => am_z 0))), (q8, .inl (c8, 32, .inl (fun _ => am_z 0)))] H := hP
  have hD : va_D A [(h0, .inr (0, [.int (am_z 0), .ref q1, .ref q2, .ref q3, .ref q4, .int (am_z 0), .int (am_z 0), .ref q7, .ref q8, .int (am_z 0), .null, .null, .null, .null, .null, .null, .int (am_z 0), .null, .null, .null])), (q1, .inl (c1, 32, .inl (fun _ => am_z 0))), (q2, .inl (c2, 32, .inl (fun _ => am_z 0))), (q3, .inl (c3, 32, .inl (fun _ => am_z 0))), (q4, .inl (c4, 32, .inl (fun _ => am_z 0))), (q7, .inl (c7, 32, .inl (fun _ => am_z 0))), (q8, .inl (c8, 32, .inl (fun _ => am_z 0)))] := hD
  refine lv_aload_n hx hb dX0_init_52 rfl (lv_at hl 0 rfl) ?_
  refine lv_bipush (v := 32) hx hb dX0_init_53 (by decide) ?_
  refine va_newa (atype := .byte) (ty := .byte) (N' := 32) (a0 := (32, .inl (fun _ => am_z 0))) hx hb (hts _ q100) rfl hK hP hD hS hA (fun cA => rfl) (by decide) (by decide) (by decide) (Nat.le_of_ble_eq_true rfl) (Nat.le_of_ble_eq_true rfl) dX0_init_55 (fun q10 c10 H hK hP hD hS => ?_)
  have hP : va_P D vwCl [(h0, .inr (0, [.int (am_z 0), .ref q1, .ref q2, .ref q3, .ref q4, .int (am_z 0), .int (am_z 0), .ref q7, .ref q8, .int (am_z 0), .null, .null, .null, .null, .null, .null, .int (am_z 0), .null, .null, .null])), (q1, .inl (c1, 32, .inl (fun _ => am_z 0))), (q2, .inl (c2, 32, .inl (fun _ => am_z 0))), (q3, .inl (c3, 32, .inl (fun _ => am_z 0))), (q4, .inl (c4, 32, .inl (fun _ => am_z 0))), (q7, .inl (c7, 32, .inl (fun _ => am_z 0))), (q8, .inl (c8, 32, .inl (fun _ => am_z 0))), (q10, .inl (c10, 32, .inl (fun _ => am_z 0)))] H := hP
  have hD : va_D A [(h0, .inr (0, [.int (am_z 0), .ref q1, .ref q2, .ref q3, .ref q4, .int (am_z 0), .int (am_z 0), .ref q7, .ref q8, .int (am_z 0), .null, .null, .null, .null, .null, .null, .int (am_z 0), .null, .null, .null])), (q1, .inl (c1, 32, .inl (fun _ => am_z 0))), (q2, .inl (c2, 32, .inl (fun _ => am_z 0))), (q3, .inl (c3, 32, .inl (fun _ => am_z 0))), (q4, .inl (c4, 32, .inl (fun _ => am_z 0))), (q7, .inl (c7, 32, .inl (fun _ => am_z 0))), (q8, .inl (c8, 32, .inl (fun _ => am_z 0))), (q10, .inl (c10, 32, .inl (fun _ => am_z 0)))] := hD
  have hK : va_K D vwCl [(c1, .byte), (c2, .byte), (c3, .byte), (c4, .byte), (c7, .byte), (c8, .byte), (c10, .byte)] s := hK
  refine va_putF (D := D) (ci := 0) (v := .ref q10) (ty := .array .byte) (C := RX0) (T := TX0) (N := 20) hx hb hts in_X0 tyX0 tyX0_ok nmX0 hown hK hP hD hS 0 rfl rfl 10 (by decide) (hts _ q49) (fun _ h9 => h9) rfl hin rfl (by decide +kernel) rfl rfl (Nat.le_of_ble_eq_true rfl) dX0_init_57 (fun H locs hP hD hS => ?_)
  have hP : va_P D vwCl [(h0, .inr (0, [.int (am_z 0), .ref q1, .ref q2, .ref q3, .ref q4, .int (am_z 0), .int (am_z 0), .ref q7, .ref q8, .int (am_z 0), .ref q10, .null, .null, .null, .null, .null, .int (am_z 0), .null, .null, .null])), (q1, .inl (c1, 32, .inl (fun _ => am_z 0))), (q2, .inl (c2, 32, .inl (fun _ => am_z 0))), (q3, .inl (c3, 32, .inl (fun _ => am_z 0))), (q4, .inl (c4, 32, .inl (fun _ => am_z 0))), (q7, .inl (c7, 32, .inl (fun _ => am_z 0))), (q8, .inl (c8, 32, .inl (fun _ => am_z 0))), (q10, .inl (c10, 32, .inl (fun _ => am_z 0)))] H := hP
  have hD : va_D A [(h0, .inr (0, [.int (am_z 0), .ref q1, .ref q2, .ref q3, .ref q4, .int (am_z 0), .int (am_z 0), .ref q7, .ref q8, .int (am_z 0), .ref q10, .null, .null, .null, .null, .null, .int (am_z 0), .null, .null, .null])), (q1, .inl (c1, 32, .inl (fun _ => am_z 0))), (q2, .inl (c2, 32, .inl (fun _ => am_z 0))), (q3, .inl (c3, 32, .inl (fun _ => am_z 0))), (q4, .inl (c4, 32, .inl (fun _ => am_z 0))), (q7, .inl (c7, 32, .inl (fun _ => am_z 0))), (q8, .inl (c8, 32, .inl (fun _ => am_z 0))), (q10, .inl (c10, 32, .inl (fun _ => am_z 0)))] := hD
  refine lv_aload_n hx hb dX0_init_60 rfl (lv_at hl 0 rfl) ?_
  refine lv_bipush (v := 6) hx hb dX0_init_61 (by decide) ?_
  refine va_newa (atype := .byte) (ty := .byte) (N' := 6) (a0 := (6, .inl (fun _ => am_z 0))) hx hb (hts _ q100) rfl hK hP hD hS hA (fun cA => rfl) (by decide) (by decide) (by decide) (Nat.le_of_ble_eq_true rfl) (Nat.le_of_ble_eq_true rfl) dX0_init_63 (fun q11 c11 H hK hP hD hS => ?_)
  have hP : va_P D vwCl [(h0, .inr (0, [.int (am_z 0), .ref q1, .ref q2, .ref q3, .ref q4, .int (am_z 0), .int (am_z 0), .ref q7, .ref q8, .int (am_z 0), .ref q10, .null, .null, .null, .null, .null, .int (am_z 0), .null, .null, .null])), (q1, .inl (c1, 32, .inl (fun _ => am_z 0))), (q2, .inl (c2, 32, .inl (fun _ => am_z 0))), (q3, .inl (c3, 32, .inl (fun _ => am_z 0))), (q4, .inl (c4, 32, .inl (fun _ => am_z 0))), (q7, .inl (c7, 32, .inl (fun _ => am_z 0))), (q8, .inl (c8, 32, .inl (fun _ => am_z 0))), (q10, .inl (c10, 32, .inl (fun _ => am_z 0))), (q11, .inl (c11, 6, .inl (fun _ => am_z 0)))] H := hP
  have hD : va_D A [(h0, .inr (0, [.int (am_z 0), .ref q1, .ref q2, .ref q3, .ref q4, .int (am_z 0), .int (am_z 0), .ref q7, .ref q8, .int (am_z 0), .ref q10, .null, .null, .null, .null, .null, .int (am_z 0), .null, .null, .null])), (q1, .inl (c1, 32, .inl (fun _ => am_z 0))), (q2, .inl (c2, 32, .inl (fun _ => am_z 0))), (q3, .inl (c3, 32, .inl (fun _ => am_z 0))), (q4, .inl (c4, 32, .inl (fun _ => am_z 0))), (q7, .inl (c7, 32, .inl (fun _ => am_z 0))), (q8, .inl (c8, 32, .inl (fun _ => am_z 0))), (q10, .inl (c10, 32, .inl (fun _ => am_z 0))), (q11, .inl (c11, 6, .inl (fun _ => am_z 0)))] := hD
  have hK : va_K D vwCl [(c1, .byte), (c2, .byte), (c3, .byte), (c4, .byte), (c7, .byte), (c8, .byte), (c10, .byte), (c11, .byte)] s := hK
  refine va_putF (D := D) (ci := 0) (v := .ref q11) (ty := .array .byte) (C := RX0) (T := TX0) (N := 20) hx hb hts in_X0 tyX0 tyX0_ok nmX0 hown hK hP hD hS 0 rfl rfl 11 (by decide) (hts _ q50) (fun _ h9 => h9) rfl hin rfl (by decide +kernel) rfl rfl (Nat.le_of_ble_eq_true rfl) dX0_init_65 (fun H locs hP hD hS => ?_)
  have hP : va_P D vwCl [(h0, .inr (0, [.int (am_z 0), .ref q1, .ref q2, .ref q3, .ref q4, .int (am_z 0), .int (am_z 0), .ref q7, .ref q8, .int (am_z 0), .ref q10, .ref q11, .null, .null, .null, .null, .int (am_z 0), .null, .null, .null])), (q1, .inl (c1, 32, .inl (fun _ => am_z 0))), (q2, .inl (c2, 32, .inl (fun _ => am_z 0))), (q3, .inl (c3, 32, .inl (fun _ => am_z 0))), (q4, .inl (c4, 32, .inl (fun _ => am_z 0))), (q7, .inl (c7, 32, .inl (fun _ => am_z 0))), (q8, .inl (c8, 32, .inl (fun _ => am_z 0))), (q10, .inl (c10, 32, .inl (fun _ => am_z 0))), (q11, .inl (c11, 6, .inl (fun _ => am_z 0)))] H := hP
  have hD : va_D A [(h0, .inr (0, [.int (am_z 0), .ref q1, .ref q2, .ref q3, .ref q4, .int (am_z 0), .int (am_z 0), .ref q7, .ref q8, .int (am_z 0), .ref q10, .ref q11, .null, .null, .null, .null, .int (am_z 0), .null, .null, .null])), (q1, .inl (c1, 32, .inl (fun _ => am_z 0))), (q2, .inl (c2, 32, .inl (fun _ => am_z 0))), (q3, .inl (c3, 32, .inl (fun _ => am_z 0))), (q4, .inl (c4, 32, .inl (fun _ => am_z 0))), (q7, .inl (c7, 32, .inl (fun _ => am_z 0))), (q8, .inl (c8, 32, .inl (fun _ => am_z 0))), (q10, .inl (c10, 32, .inl (fun _ => am_z 0))), (q11, .inl (c11, 6, .inl (fun _ => am_z 0)))] := hD
  refine lv_aload_n hx hb dX0_init_68 rfl (lv_at hl 0 rfl) ?_
  refine lv_bipush (v := 7) hx hb dX0_init_69 (by decide) ?_
  refine va_newa (atype := .int) (ty := .int) (N' := 7) (a0 := (7, .inl (fun _ => am_z 0))) hx hb (hts _ q101) rfl hK hP hD hS hA (fun cA => rfl) (by decide) (by decide) (by decide) (Nat.le_of_ble_eq_true rfl) (Nat.le_of_ble_eq_true rfl) dX0_init_71 (fun q12 c12 H hK hP hD hS => ?_)
  have hP : va_P D vwCl [(h0, .inr (0, [.int (am_z 0), .ref q1, .ref q2, .ref q3, .ref q4, .int (am_z 0), .int (am_z 0), .ref q7, .ref q8, .int (am_z 0), .ref q10, .ref q11, .null, .null, .null, .null, .int (am_z 0), .null, .null, .null])), (q1, .inl (c1, 32, .inl (fun _ => am_z 0))), (q2, .inl (c2, 32, .inl (fun _ => am_z 0))), (q3, .inl (c3, 32, .inl (fun _ => am_z 0))), (q4, .inl (c4, 32, .inl (fun _ => am_z 0))), (q7, .inl (c7, 32, .inl (fun _ => am_z 0))), (q8, .inl (c8, 32, .inl (fun _ => am_z 0))), (q10, .inl (c10, 32, .inl (fun _ => am_z 0))), (q11, .inl (c11, 6, .inl (fun _ => am_z 0))), (q12, .inl (c12, 7, .inl (fun _ => am_z 0)))] H := hP
  have hD : va_D A [(h0, .inr (0, [.int (am_z 0), .ref q1, .ref q2, .ref q3, .ref q4, .int (am_z 0), .int (am_z 0), .ref q7, .ref q8, .int (am_z 0), .ref q10, .ref q11, .null, .null, .null, .null, .int (am_z 0), .null, .null, .null])), (q1, .inl (c1, 32, .inl (fun _ => am_z 0))), (q2, .inl (c2, 32, .inl (fun _ => am_z 0))), (q3, .inl (c3, 32, .inl (fun _ => am_z 0))), (q4, .inl (c4, 32, .inl (fun _ => am_z 0))), (q7, .inl (c7, 32, .inl (fun _ => am_z 0))), (q8, .inl (c8, 32, .inl (fun _ => am_z 0))), (q10, .inl (c10, 32, .inl (fun _ => am_z 0))), (q11, .inl (c11, 6, .inl (fun _ => am_z 0))), (q12, .inl (c12, 7, .inl (fun _ => am_z 0)))] := hD
  have hK : va_K D vwCl [(c1, .byte), (c2, .byte), (c3, .byte), (c4, .byte), (c7, .byte), (c8, .byte), (c10, .byte), (c11, .byte), (c12, .int)] s := hK
  refine va_putF (D := D) (ci := 0) (v := .ref q12) (ty := .array .int) (C := RX0) (T := TX0) (N := 20) hx hb hts in_X0 tyX0 tyX0_ok nmX0 hown hK hP hD hS 0 rfl rfl 12 (by decide) (hts _ q51) (fun _ h9 => h9) rfl hin rfl (by decide +kernel) rfl rfl (Nat.le_of_ble_eq_true rfl) dX0_init_73 (fun H locs hP hD hS => ?_)
  have hP : va_P D vwCl [(h0, .inr (0, [.int (am_z 0), .ref q1, .ref q2, .ref q3, .ref q4, .int (am_z 0), .int (am_z 0), .ref q7, .ref q8, .int (am_z 0), .ref q10, .ref q11, .ref q12, .null, .null, .null, .int (am_z 0), .null, .null, .null])), (q1, .inl (c1, 32, .inl (fun _ => am_z 0))), (q2, .inl (c2, 32, .inl (fun _ => am_z 0))), (q3, .inl (c3, 32, .inl (fun _ => am_z 0))), (q4, .inl (c4, 32, .inl (fun _ => am_z 0))), (q7, .inl (c7, 32, .inl (fun _ => am_z 0))), (q8, .inl (c8, 32, .inl (fun _ => am_z 0))), (q10, .inl (c10, 32, .inl (fun _ => am_z 0))), (q11, .inl (c11, 6, .inl (fun _ => am_z 0))), (q12, .inl (c12, 7, .inl (fun _ => am_z 0)))] H := hP
  have hD : va_D A [(h0, .inr (0, [.int (am_z 0), .ref q1, .ref q2, .ref q3, .ref q4, .int (am_z 0), .int (am_z 0), .ref q7, .ref q8, .int (am_z 0), .ref q10, .ref q11, .ref q12, .null, .null, .null, .int (am_z 0), .null, .null, .null])), (q1, .inl (c1, 32, .inl (fun _ => am_z 0))), (q2, .inl (c2, 32, .inl (fun _ => am_z 0))), (q3, .inl (c3, 32, .inl (fun _ => am_z 0))), (q4, .inl (c4, 32, .inl (fun _ => am_z 0))), (q7, .inl (c7, 32, .inl (fun _ => am_z 0))), (q8, .inl (c8, 32, .inl (fun _ => am_z 0))), (q10, .inl (c10, 32, .inl (fun _ => am_z 0))), (q11, .inl (c11, 6, .inl (fun _ => am_z 0))), (q12, .inl (c12, 7, .inl (fun _ => am_z 0)))] := hD
  refine lv_aload_n hx hb dX0_init_76 rfl (lv_at hl 0 rfl) ?_
  refine lv_bipush (v := 7) hx hb dX0_init_77 (by decide) ?_
  refine va_newa (atype := .int) (ty := .int) (N' := 7) (a0 := (7, .inl (fun _ => am_z 0))) hx hb (hts _ q101) rfl hK hP hD hS hA (fun cA => rfl) (by decide) (by decide) (by decide) (Nat.le_of_ble_eq_true rfl) (Nat.le_of_ble_eq_true rfl) dX0_init_79 (fun q13 c13 H hK hP hD hS => ?_)
  have hP : va_P D vwCl [(h0, .inr (0, [.int (am_z 0), .ref q1, .ref q2, .ref q3, .ref q4, .int (am_z 0), .int (am_z 0), .ref q7, .ref q8, .int (am_z 0), .ref q10, .ref q11, .ref q12, .null, .null, .null, .int (am_z 0), .null, .null, .null])), (q1, .inl (c1, 32, .inl (fun _ => am_z 0))), (q2, .inl (c2, 32, .inl (fun _ => am_z 0))), (q3, .inl (c3, 32, .inl (fun _ => am_z 0))), (q4, .inl (c4, 32, .inl (fun _ => am_z 0))), (q7, .inl (c7, 32, .inl (fun _ => am_z 0))), (q8, .inl (c8, 32, .inl (fun _ => am_z 0))), (q10, .inl (c10, 32, .inl (fun _ => am_z 0))), (q11, .inl (c11, 6, .inl (fun _ => am_z 0))), (q12, .inl (c12, 7, .inl (fun _ => am_z 0))), (q13, .inl (c13, 7, .inl (fun _ => am_z 0)))] H := hP
  have hD : va_D A [(h0, .inr (0, [.int (am_z 0), .ref q1, .ref q2, .ref q3, .ref q4, .int (am_z 0), .int (am_z 0), .ref q7, .ref q8, .int (am_z 0), .ref q10, .ref q11, .ref q12, .null, .null, .null, .int (am_z 0), .null, .null, .null])), (q1, .inl (c1, 32, .inl (fun _ => am_z 0))), (q2, .inl (c2, 32, .inl (fun _ => am_z 0))), (q3, .inl (c3, 32, .inl (fun _ => am_z 0))), (q4, .inl (c4, 32, .inl (fun _ => am_z 0))), (q7, .inl (c7, 32, .inl (fun _ => am_z 0))), (q8, .inl (c8, 32, .inl (fun _ => am_z 0))), (q10, .inl (c10, 32, .inl (fun _ => am_z 0))), (q11, .inl (c11, 6, .inl (fun _ => am_z 0))), (q12, .inl (c12, 7, .inl (fun _ => am_z 0))), (q13, .inl (c13, 7, .inl (fun _ => am_z 0)))] := hD
  have hK : va_K D vwCl [(c1, .byte), (c2, .byte), (c3, .byte), (c4, .byte), (c7, .byte), (c8, .byte), (c10, .byte), (c11, .byte), (c12, .int), (c13, .int)] s := hK
  refine va_putF (D := D) (ci := 0) (v := .ref q13) (ty := .array .int) (C := RX0) (T := TX0) (N := 20) hx hb hts in_X0 tyX0 tyX0_ok nmX0 hown hK hP hD hS 0 rfl rfl 13 (by decide) (hts _ q52) (fun _ h9 => h9) rfl hin rfl (by decide +kernel) rfl rfl (Nat.le_of_ble_eq_true rfl) dX0_init_81 (fun H locs hP hD hS => ?_)
  have hP : va_P D vwCl [(h0, .inr (0, [.int (am_z 0), .ref q1, .ref q2, .ref q3, .ref q4, .int (am_z 0), .int (am_z 0), .ref q7, .ref q8, .int (am_z 0), .ref q10, .ref q11, .ref q12, .ref q13, .null, .null, .int (am_z 0), .null, .null, .null])), (q1, .inl (c1, 32, .inl (fun _ => am_z 0))), (q2, .inl (c2, 32, .inl (fun _ => am_z 0))), (q3, .inl (c3, 32, .inl (fun _ => am_z 0))), (q4, .inl (c4, 32, .inl (fun _ => am_z 0))), (q7, .inl (c7, 32, .inl (fun _ => am_z 0))), (q8, .inl (c8, 32, .inl (fun _ => am_z 0))), (q10, .inl (c10, 32, .inl (fun _ => am_z 0))), (q11, .inl (c11, 6, .inl (fun _ => am_z 0))), (q12, .inl (c12, 7, .inl (fun _ => am_z 0))), (q13, .inl (c13, 7, .inl (fun _ => am_z 0)))] H := hP
  have hD : va_D A [(h0, .inr (0, [.int (am_z 0), .ref q1, .ref q2, .ref q3, .ref q4, .int (am_z 0), .int (am_z 0), .ref q7, .ref q8, .int (am_z 0), .ref q10, .ref q11, .ref q12, .ref q13, .null, .null, .int (am_z 0), .null, .null, .null])), (q1, .inl (c1, 32, .inl (fun _ => am_z 0))), (q2, .inl (c2, 32, .inl (fun _ => am_z 0))), (q3, .inl (c3, 32, .inl (fun _ => am_z 0))), (q4, .inl (c4, 32, .inl (fun _ => am_z 0))), (q7, .inl (c7, 32, .inl (fun _ => am_z 0))), (q8, .inl (c8, 32, .inl (fun _ => am_z 0))), (q10, .inl (c10, 32, .inl (fun _ => am_z 0))), (q11, .inl (c11, 6, .inl (fun _ => am_z 0))), (q12, .inl (c12, 7, .inl (fun _ => am_z 0))), (q13, .inl (c13, 7, .inl (fun _ => am_z 0)))] := hD
  refine lv_aload_n hx hb dX0_init_84 rfl (lv_at hl 0 rfl) ?_
  refine lv_bipush (v := 7) hx hb dX0_init_85 (by decide) ?_
  refine va_newa (atype := .byte) (ty := .byte) (N' := 7) (a0 := (7, .inl (fun _ => am_z 0))) hx hb (hts _ q100) rfl hK hP hD hS hA (fun cA => rfl) (by decide) (by decide) (by decide) (Nat.le_of_ble_eq_true rfl) (Nat.le_of_ble_eq_true rfl) dX0_init_87 (fun q14 c14 H hK hP hD hS => ?_)
  have hP : va_P D vwCl [(h0, .inr (0, [.int (am_z 0), .ref q1, .ref q2, .ref q3, .ref q4, .int (am_z 0), .int (am_z 0), .ref q7, .ref q8, .int (am_z 0), .ref q10, .ref q11, .ref q12, .ref q13, .null, .null, .int (am_z 0), .null, .null, .null])), (q1, .inl (c1, 32, .inl (fun _ => am_z 0))), (q2, .inl (c2, 32, .inl (fun _ => am_z 0))), (q3, .inl (c3, 32, .inl (fun _ => am_z 0))), (q4, .inl (c4, 32, .inl (fun _ => am_z 0))), (q7, .inl (c7, 32, .inl (fun _ => am_z 0))), (q8, .inl (c8, 32, .inl (fun _ => am_z 0))), (q10, .inl (c10, 32, .inl (fun _ => am_z 0))), (q11, .inl (c11, 6, .inl (fun _ => am_z 0))), (q12, .inl (c12, 7, .inl (fun _ => am_z 0))), (q13, .inl (c13, 7, .inl (fun _ => am_z 0))), (q14, .inl (c14, 7, .inl (fun _ => am_z 0)))] H := hP
  have hD : va_D A [(h0, .inr (0, [.int (am_z 0), .ref q1, .ref q2, .ref q3, .ref q4, .int (am_z 0), .int (am_z 0), .ref q7, .ref q8, .int (am_z 0), .ref q10, .ref q11, .ref q12, .ref q13, .null, .null, .int (am_z 0), .null, .null, .null])), (q1, .inl (c1, 32, .inl (fun _ => am_z 0))), (q2, .inl (c2, 32, .inl (fun _ => am_z 0))), (q3, .inl (c3, 32, .inl (fun _ => am_z 0))), (q4, .inl (c4, 32, .inl (fun _ => am_z 0))), (q7, .inl (c7, 32, .inl (fun _ => am_z 0))), (q8, .inl (c8, 32, .inl (fun _ => am_z 0))), (q10, .inl (c10, 32, .inl (fun _ => am_z 0))), (q11, .inl (c11, 6, .inl (fun _ => am_z 0))), (q12, .inl (c12, 7, .inl (fun _ => am_z 0))), (q13, .inl (c13, 7, .inl (fun _ => am_z 0))), (q14, .inl (c14, 7, .inl (fun _ => am_z 0)))] := hD
  have hK : va_K D vwCl [(c1, .byte), (c2, .byte), (c3, .byte), (c4, .byte), (c7, .byte), (c8, .byte), (c10, .byte), (c11, .byte), (c12, .int), (c13, .int), (c14, .byte)] s := hK
  refine va_putF (D := D) (ci := 0) (v := .ref q14) (ty := .array .byte) (C := RX0) (T := TX0) (N := 20) hx hb hts in_X0 tyX0 tyX0_ok nmX0 hown hK hP hD hS 0 rfl rfl 14 (by decide) (hts _ q53) (fun _ h9 => h9) rfl hin rfl (by decide +kernel) rfl rfl (Nat.le_of_ble_eq_true rfl) dX0_init_89 (fun H locs hP hD hS => ?_)
  have hP : va_P D vwCl [(h0, .inr (0, [.int (am_z 0), .ref q1, .ref q2, .ref q3, .ref q4, .int (am_z 0), .int (am_z 0), .ref q7, .ref q8, .int (am_z 0), .ref q10, .ref q11, .ref q12, .ref q13, .ref q14, .null, .int (am_z 0), .null, .null, .null])), (q1, .inl (c1, 32, .inl (fun _ => am_z 0))), (q2, .inl (c2, 32, .inl (fun _ => am_z 0))), (q3, .inl (c3, 32, .inl (fun _ => am_z 0))), (q4, .inl (c4, 32, .inl (fun _ => am_z 0))), (q7, .inl (c7, 32, .inl (fun _ => am_z 0))), (q8, .inl (c8, 32, .inl (fun _ => am_z 0))), (q10, .inl (c10, 32, .inl (fun _ => am_z 0))), (q11, .inl (c11, 6, .inl (fun _ => am_z 0))), (q12, .inl (c12, 7, .inl (fun _ => am_z 0))), (q13, .inl (c13, 7, .inl (fun _ => am_z 0))), (q14, .inl (c14, 7, .inl (fun _ => am_z 0)))] H := hP
  have hD : va_D A [(h0, .inr (0, [.int (am_z 0), .ref q1, .ref q2, .ref q3, .ref q4, .int (am_z 0), .int (am_z 0), .ref q7, .ref q8, .int (am_z 0), .ref q10, .ref q11, .ref q12, .ref q13, .ref q14, .null, .int (am_z 0), .null, .null, .null])), (q1, .inl (c1, 32, .inl (fun _ => am_z 0))), (q2, .inl (c2, 32, .inl (fun _ => am_z 0))), (q3, .inl (c3, 32, .inl (fun _ => am_z 0))), (q4, .inl (c4, 32, .inl (fun _ => am_z 0))), (q7, .inl (c7, 32, .inl (fun _ => am_z 0))), (q8, .inl (c8, 32, .inl (fun _ => am_z 0))), (q10, .inl (c10, 32, .inl (fun _ => am_z 0))), (q11, .inl (c11, 6, .inl (fun _ => am_z 0))), (q12, .inl (c12, 7, .inl (fun _ => am_z 0))), (q13, .inl (c13, 7, .inl (fun _ => am_z 0))), (q14, .inl (c14, 7, .inl (fun _ => am_z 0)))] := hD
  refine lv_aload_n hx hb dX0_init_92 rfl (lv_at hl 0 rfl) ?_
  refine lv_bipush (v := 7) hx hb dX0_init_93 (by decide) ?_
  refine va_newa (atype := .int) (ty := .int) (N' := 7) (a0 := (7, .inl (fun _ => am_z 0))) hx hb (hts _ q101) rfl hK hP hD hS hA (fun cA => rfl) (by decide) (by decide) (by decide) (Nat.le_of_ble_eq_true rfl) (Nat.le_of_ble_eq_true rfl) dX0_init_95 (fun q15 c15 H hK hP hD hS => ?_)
  have hP : va_P D vwCl [(h0, .inr (0, [.int (am_z 0), .ref q1, .ref q2, .ref q3, .ref q4, .int (am_z 0), .int (am_z 0), .ref q7, .ref q8, .int (am_z 0), .ref q10, .ref q11, .ref q12, .ref q13, .ref q14, .null, .int (am_z 0), .null, .null, .null])), (q1, .inl (c1, 32, .inl (fun _ => am_z 0))), (q2, .inl (c2, 32, .inl (fun _ => am_z 0))), (q3, .inl (c3, 32, .inl (fun _ => am_z 0))), (q4, .inl (c4, 32, .inl (fun _ => am_z 0))), (q7, .inl (c7, 32, .inl (fun _ => am_z 0))), (q8, .inl (c8, 32, .inl (fun _ => am_z 0))), (q10, .inl (c10, 32, .inl (fun _ => am_z 0))), (q11, .inl (c11, 6, .inl (fun _ => am_z 0))), (q12, .inl (c12, 7, .inl (fun _ => am_z 0))), (q13, .inl (c13, 7, .inl (fun _ => am_z 0))), (q14, .inl (c14, 7, .inl (fun _ => am_z 0))), (q15, .inl (c15, 7, .inl (fun _ => am_z 0)))] H := hP
  have hD : va_D A [(h0, .inr (0, [.int (am_z 0), .ref q1, .ref q2, .ref q3, .ref q4, .int (am_z 0), .int (am_z 0), .ref q7, .ref q8, .int (am_z 0), .ref q10, .ref q11, .ref q12, .ref q13, .ref q14, .null, .int (am_z 0), .null, .null, .null])), (q1, .inl (c1, 32, .inl (fun _ => am_z 0))), (q2, .inl (c2, 32, .inl (fun _ => am_z 0))), (q3, .inl (c3, 32, .inl (fun _ => am_z 0))), (q4, .inl (c4, 32, .inl (fun _ => am_z 0))), (q7, .inl (c7, 32, .inl (fun _ => am_z 0))), (q8, .inl (c8, 32, .inl (fun _ => am_z 0))), (q10, .inl (c10, 32, .inl (fun _ => am_z 0))), (q11, .inl (c11, 6, .inl (fun _ => am_z 0))), (q12, .inl (c12, 7, .inl (fun _ => am_z 0))), (q13, .inl (c13, 7, .inl (fun _ => am_z 0))), (q14, .inl (c14, 7, .inl (fun _ => am_z 0))), (q15, .inl (c15, 7, .inl (fun _ => am_z 0)))] := hD
  have hK : va_K D vwCl [(c1, .byte), (c2, .byte), (c3, .byte), (c4, .byte), (c7, .byte), (c8, .byte), (c10, .byte), (c11, .byte), (c12, .int), (c13, .int), (c14, .byte), (c15, .int)] s := hK
  refine va_putF (D := D) (ci := 0) (v := .ref q15) (ty := .array .int) (C := RX0) (T := TX0) (N := 20) hx hb hts in_X0 tyX0 tyX0_ok nmX0 hown hK hP hD hS 0 rfl rfl 15 (by decide) (hts _ q54) (fun _ h9 => h9) rfl hin rfl (by decide +kernel) rfl rfl (Nat.le_of_ble_eq_true rfl) dX0_init_97 (fun H locs hP hD hS => ?_)
  have hP : va_P D vwCl [(h0, .inr (0, [.int (am_z 0), .ref q1, .ref q2, .ref q3, .ref q4, .int (am_z 0), .int (am_z 0), .ref q7, .ref q8, .int (am_z 0), .ref q10, .ref q11, .ref q12, .ref q13, .ref q14, .ref q15, .int (am_z 0), .null, .null, .null])), (q1, .inl (c1, 32, .inl (fun _ => am_z 0))), (q2, .inl (c2, 32, .inl (fun _ => am_z 0))), (q3, .inl (c3, 32, .inl (fun _ => am_z 0))), (q4, .inl (c4, 32, .inl (fun _ => am_z 0))), (q7, .inl (c7, 32, .inl (fun _ => am_z 0))), (q8, .inl (c8, 32, .inl (fun _ => am_z 0))), (q10, .inl (c10, 32, .inl (fun _ => am_z 0))), (q11, .inl (c11, 6, .inl (fun _ => am_z 0))), (q12, .inl (c12, 7, .inl (fun _ => am_z 0))), (q13, .inl (c13, 7, .inl (fun _ => am_z 0))), (q14, .inl (c14, 7, .inl (fun _ => am_z 0))), (q15, .inl (c15, 7, .inl (fun _ => am_z 0)))] H := hP
  have hD : va_D A [(h0, .inr (0, [.int (am_z 0), .ref q1, .ref q2, .ref q3, .ref q4, .int (am_z 0), .int (am_z 0), .ref q7, .ref q8, .int (am_z 0), .ref q10, .ref q11, .ref q12, .ref q13, .ref q14, .ref q15, .int (am_z 0), .null, .null, .null])), (q1, .inl (c1, 32, .inl (fun _ => am_z 0))), (q2, .inl (c2, 32, .inl (fun _ => am_z 0))), (q3, .inl (c3, 32, .inl (fun _ => am_z 0))), (q4, .inl (c4, 32, .inl (fun _ => am_z 0))), (q7, .inl (c7, 32, .inl (fun _ => am_z 0))), (q8, .inl (c8, 32, .inl (fun _ => am_z 0))), (q10, .inl (c10, 32, .inl (fun _ => am_z 0))), (q11, .inl (c11, 6, .inl (fun _ => am_z 0))), (q12, .inl (c12, 7, .inl (fun _ => am_z 0))), (q13, .inl (c13, 7, .inl (fun _ => am_z 0))), (q14, .inl (c14, 7, .inl (fun _ => am_z 0))), (q15, .inl (c15, 7, .inl (fun _ => am_z 0)))] := hD
  refine lv_aload_n hx hb dX0_init_100 rfl (lv_at hl 0 rfl) ?_
  refine lv_iconst (v := 4) hx hb dX0_init_101 (by decide) ?_
  refine va_newa (atype := .long) (ty := .long) (N' := 4) (a0 := (4, .inr (.inl (fun _ => lN 0)))) hx hb (hts _ q102) rfl hK hP hD hS hA (fun cA => rfl) (by decide) (by decide) (by decide) (Nat.le_of_ble_eq_true rfl) (Nat.le_of_ble_eq_true rfl) dX0_init_102 (fun q17 c17 H hK hP hD hS => ?_)
  have hP : va_P D vwCl [(h0, .inr (0, [.int (am_z 0), .ref q1, .ref q2, .ref q3, .ref q4, .int (am_z 0), .int (am_z 0), .ref q7, .ref q8, .int (am_z 0), .ref q10, .ref q11, .ref q12, .ref q13, .ref q14, .ref q15, .int (am_z 0), .null, .null, .null])), (q1, .inl (c1, 32, .inl (fun _ => am_z 0))), (q2, .inl (c2, 32, .inl (fun _ => am_z 0))), (q3, .inl (c3, 32, .inl (fun _ => am_z 0))), (q4, .inl (c4, 32, .inl (fun _ => am_z 0))), (q7, .inl (c7, 32, .inl (fun _ => am_z 0))), (q8, .inl (c8, 32, .inl (fun _ => am_z 0))), (q10, .inl (c10, 32, .inl (fun _ => am_z 0))), (q11, .inl (c11, 6, .inl (fun _ => am_z 0))), (q12, .inl (c12, 7, .inl (fun _ => am_z 0))), (q13, .inl (c13, 7, .inl (fun _ => am_z 0))), (q14, .inl (c14, 7, .inl (fun _ => am_z 0))), (q15, .inl (c15, 7, .inl (fun _ => am_z 0))), (q17, .inl (c17, 4, .inr (.inl (fun _ => lN 0))))] H := hP
  have hD : va_D A [(h0, .inr (0, [.int (am_z 0), .ref q1, .ref q2, .ref q3, .ref q4, .int (am_z 0), .int (am_z 0), .ref q7, .ref q8, .int (am_z 0), .ref q10, .ref q11, .ref q12, .ref q13, .ref q14, .ref q15, .int (am_z 0), .null, .null, .null])), (q1, .inl (c1, 32, .inl (fun _ => am_z 0))), (q2, .inl (c2, 32, .inl (fun _ => am_z 0))), (q3, .inl (c3, 32, .inl (fun _ => am_z 0))), (q4, .inl (c4, 32, .inl (fun _ => am_z 0))), (q7, .inl (c7, 32, .inl (fun _ => am_z 0))), (q8, .inl (c8, 32, .inl (fun _ => am_z 0))), (q10, .inl (c10, 32, .inl (fun _ => am_z 0))), (q11, .inl (c11, 6, .inl (fun _ => am_z 0))), (q12, .inl (c12, 7, .inl (fun _ => am_z 0))), (q13, .inl (c13, 7, .inl (fun _ => am_z 0))), (q14, .inl (c14, 7, .inl (fun _ => am_z 0))), (q15, .inl (c15, 7, .inl (fun _ => am_z 0))), (q17, .inl (c17, 4, .inr (.inl (fun _ => lN 0))))] := hD
  have hK : va_K D vwCl [(c1, .byte), (c2, .byte), (c3, .byte), (c4, .byte), (c7, .byte), (c8, .byte), (c10, .byte), (c11, .byte), (c12, .int), (c13, .int), (c14, .byte), (c15, .int), (c17, .long)] s := hK
  refine va_putF (D := D) (ci := 0) (v := .ref q17) (ty := .array .long) (C := RX0) (T := TX0) (N := 20) hx hb hts in_X0 tyX0 tyX0_ok nmX0 hown hK hP hD hS 0 rfl rfl 17 (by decide) (hts _ q56) (fun _ h9 => h9) rfl hin rfl (by decide +kernel) rfl rfl (Nat.le_of_ble_eq_true rfl) dX0_init_104 (fun H locs hP hD hS => ?_)
  have hP : va_P D vwCl [(h0, .inr (0, [.int (am_z 0), .ref q1, .ref q2, .ref q3, .ref q4, .int (am_z 0), .int (am_z 0), .ref q7, .ref q8, .int (am_z 0), .ref q10, .ref q11, .ref q12, .ref q13, .ref q14, .ref q15, .int (am_z 0), .ref q17, .null, .null])), (q1, .inl (c1, 32, .inl (fun _ => am_z 0))), (q2, .inl (c2, 32, .inl (fun _ => am_z 0))), (q3, .inl (c3, 32, .inl (fun _ => am_z 0))), (q4, .inl (c4, 32, .inl (fun _ => am_z 0))), (q7, .inl (c7, 32, .inl (fun _ => am_z 0))), (q8, .inl (c8, 32, .inl (fun _ => am_z 0))), (q10, .inl (c10, 32, .inl (fun _ => am_z 0))), (q11, .inl (c11, 6, .inl (fun _ => am_z 0))), (q12, .inl (c12, 7, .inl (fun _ => am_z 0))), (q13, .inl (c13, 7, .inl (fun _ => am_z 0))), (q14, .inl (c14, 7, .inl (fun _ => am_z 0))), (q15, .inl (c15, 7, .inl (fun _ => am_z 0))), (q17, .inl (c17, 4, .inr (.inl (fun _ => lN 0))))] H := hP
  have hD : va_D A [(h0, .inr (0, [.int (am_z 0), .ref q1, .ref q2, .ref q3, .ref q4, .int (am_z 0), .int (am_z 0), .ref q7, .ref q8, .int (am_z 0), .ref q10, .ref q11, .ref q12, .ref q13, .ref q14, .ref q15, .int (am_z 0), .ref q17, .null, .null])), (q1, .inl (c1, 32, .inl (fun _ => am_z 0))), (q2, .inl (c2, 32, .inl (fun _ => am_z 0))), (q3, .inl (c3, 32, .inl (fun _ => am_z 0))), (q4, .inl (c4, 32, .inl (fun _ => am_z 0))), (q7, .inl (c7, 32, .inl (fun _ => am_z 0))), (q8, .inl (c8, 32, .inl (fun _ => am_z 0))), (q10, .inl (c10, 32, .inl (fun _ => am_z 0))), (q11, .inl (c11, 6, .inl (fun _ => am_z 0))), (q12, .inl (c12, 7, .inl (fun _ => am_z 0))), (q13, .inl (c13, 7, .inl (fun _ => am_z 0))), (q14, .inl (c14, 7, .inl (fun _ => am_z 0))), (q15, .inl (c15, 7, .inl (fun _ => am_z 0))), (q17, .inl (c17, 4, .inr (.inl (fun _ => lN 0))))] := hD
  refine lv_aload_n hx hb dX0_init_107 rfl (lv_at hl 0 rfl) ?_
  refine lv_bipush (v := 32) hx hb dX0_init_108 (by decide) ?_
  refine va_newa (atype := .byte) (ty := .byte) (N' := 32) (a0 := (32, .inl (fun _ => am_z 0))) hx hb (hts _ q100) rfl hK hP hD hS hA (fun cA => rfl) (by decide) (by decide) (by decide) (Nat.le_of_ble_eq_true rfl) (Nat.le_of_ble_eq_true rfl) dX0_init_110 (fun q18 c18 H hK hP hD hS => ?_)
  have hP : va_P D vwCl [(h0, .inr (0, [.int (am_z 0), .ref q1, .ref q2, .ref q3, .ref q4, .int (am_z 0), .int (am_z 0), .ref q7, .ref q8, .int (am_z 0), .ref q10, .ref q11, .ref q12, .ref q13, .ref q14, .ref q15, .int (am_z 0), .ref q17, .null, .null])), (q1, .inl (c1, 32, .inl (fun _ => am_z 0))), (q2, .inl (c2, 32, .inl (fun _ => am_z 0))), (q3, .inl (c3, 32, .inl (fun _ => am_z 0))), (q4, .inl (c4, 32, .inl (fun _ => am_z 0))), (q7, .inl (c7, 32, .inl (fun _ => am_z 0))), (q8, .inl (c8, 32, .inl (fun _ => am_z 0))), (q10, .inl (c10, 32, .inl (fun _ => am_z 0))), (q11, .inl (c11, 6, .inl (fun _ => am_z 0))), (q12, .inl (c12, 7, .inl (fun _ => am_z 0))), (q13, .inl (c13, 7, .inl (fun _ => am_z 0))), (q14, .inl (c14, 7, .inl (fun _ => am_z 0))), (q15, .inl (c15, 7, .inl (fun _ => am_z 0))), (q17, .inl (c17, 4, .inr (.inl (fun _ => lN 0)))), (q18, .inl (c18, 32, .inl (fun _ => am_z 0)))] H := hP
  have hD : va_D A [(h0, .inr (0, [.int (am_z 0), .ref q1, .ref q2, .ref q3, .ref q4, .int (am_z 0), .int (am_z 0), .ref q7, .ref q8, .int (am_z 0), .ref q10, .ref q11, .ref q12, .ref q13, .ref q14, .ref q15, .int (am_z 0), .ref q17, .null, .null])), (q1, .inl (c1, 32, .inl (fun _ => am_z 0))), (q2, .inl (c2, 32, .inl (fun _ => am_z 0))), (q3, .inl (c3, 32, .inl (fun _ => am_z 0))), (q4, .inl (c4, 32, .inl (fun _ => am_z 0))), (q7, .inl (c7, 32, .inl (fun _ => am_z 0))), (q8, .inl (c8, 32, .inl (fun _ => am_z 0))), (q10, .inl (c10, 32, .inl (fun _ => am_z 0))), (q11, .inl (c11, 6, .inl (fun _ => am_z 0))), (q12, .inl (c12, 7, .inl (fun _ => am_z 0))), (q13, .inl (c13, 7, .inl (fun _ => am_z 0))), (q14, .inl (c14, 7, .inl (fun _ => am_z 0))), (q15, .inl (c15, 7, .inl (fun _ => am_z 0))), (q17, .inl (c17, 4, .inr (.inl (fun _ => lN 0)))), (q18, .inl (c18, 32, .inl (fun _ => am_z 0)))] := hD
  have hK : va_K D vwCl [(c1, .byte), (c2, .byte), (c3, .byte), (c4, .byte), (c7, .byte), (c8, .byte), (c10, .byte), (c11, .byte), (c12, .int), (c13, .int), (c14, .byte), (c15, .int), (c17, .long), (c18, .byte)] s := hK
  refine va_putF (D := D) (ci := 0) (v := .ref q18) (ty := .array .byte) (C := RX0) (T := TX0) (N := 20) hx hb hts in_X0 tyX0 tyX0_ok nmX0 hown hK hP hD hS 0 rfl rfl 18 (by decide) (hts _ q57) (fun _ h9 => h9) rfl hin rfl (by decide +kernel) rfl rfl (Nat.le_of_ble_eq_true rfl) dX0_init_112 (fun H locs hP hD hS => ?_)
  have hP : va_P D vwCl [(h0, .inr (0, [.int (am_z 0), .ref q1, .ref q2, .ref q3, .ref q4, .int (am_z 0), .int (am_z 0), .ref q7, .ref q8, .int (am_z 0), .ref q10, .ref q11, .ref q12, .ref q13, .ref q14, .ref q15, .int (am_z 0), .ref q17, .ref q18, .null])), (q1, .inl (c1, 32, .inl (fun _ => am_z 0))), (q2, .inl (c2, 32, .inl (fun _ => am_z 0))), (q3, .inl (c3, 32, .inl (fun _ => am_z 0))), (q4, .inl (c4, 32, .inl (fun _ => am_z 0))), (q7, .inl (c7, 32, .inl (fun _ => am_z 0))), (q8, .inl (c8, 32, .inl (fun _ => am_z 0))), (q10, .inl (c10, 32, .inl (fun _ => am_z 0))), (q11, .inl (c11, 6, .inl (fun _ => am_z 0))), (q12, .inl (c12, 7, .inl (fun _ => am_z 0))), (q13, .inl (c13, 7, .inl (fun _ => am_z 0))), (q14, .inl (c14, 7, .inl (fun _ => am_z 0))), (q15, .inl (c15, 7, .inl (fun _ => am_z 0))), (q17, .inl (c17, 4, .inr (.inl (fun _ => lN 0)))), (q18, .inl (c18, 32, .inl (fun _ => am_z 0)))] H := hP
  have hD : va_D A [(h0, .inr (0, [.int (am_z 0), .ref q1, .ref q2, .ref q3, .ref q4, .int (am_z 0), .int (am_z 0), .ref q7, .ref q8, .int (am_z 0), .ref q10, .ref q11, .ref q12, .ref q13, .ref q14, .ref q15, .int (am_z 0), .ref q17, .ref q18, .null])), (q1, .inl (c1, 32, .inl (fun _ => am_z 0))), (q2, .inl (c2, 32, .inl (fun _ => am_z 0))), (q3, .inl (c3, 32, .inl (fun _ => am_z 0))), (q4, .inl (c4, 32, .inl (fun _ => am_z 0))), (q7, .inl (c7, 32, .inl (fun _ => am_z 0))), (q8, .inl (c8, 32, .inl (fun _ => am_z 0))), (q10, .inl (c10, 32, .inl (fun _ => am_z 0))), (q11, .inl (c11, 6, .inl (fun _ => am_z 0))), (q12, .inl (c12, 7, .inl (fun _ => am_z 0))), (q13, .inl (c13, 7, .inl (fun _ => am_z 0))), (q14, .inl (c14, 7, .inl (fun _ => am_z 0))), (q15, .inl (c15, 7, .inl (fun _ => am_z 0))), (q17, .inl (c17, 4, .inr (.inl (fun _ => lN 0)))), (q18, .inl (c18, 32, .inl (fun _ => am_z 0)))] := hD
  refine lv_aload_n hx hb dX0_init_115 rfl (lv_at hl 0 rfl) ?_
  refine lv_bipush (v := 32) hx hb dX0_init_116 (by decide) ?_
  refine va_newa (atype := .byte) (ty := .byte) (N' := 32) (a0 := (32, .inl (fun _ => am_z 0))) hx hb (hts _ q100) rfl hK hP hD hS hA (fun cA => rfl) (by decide) (by decide) (by decide) (Nat.le_of_ble_eq_true rfl) (Nat.le_of_ble_eq_true rfl) dX0_init_118 (fun q19 c19 H hK hP hD hS => ?_)
  have hP : va_P D vwCl [(h0, .inr (0, [.int (am_z 0), .ref q1, .ref q2, .ref q3, .ref q4, .int (am_z 0), .int (am_z 0), .ref q7, .ref q8, .int (am_z 0), .ref q10, .ref q11, .ref q12, .ref q13, .ref q14, .ref q15, .int (am_z 0), .ref q17, .ref q18, .null])), (q1, .inl (c1, 32, .inl (fun _ => am_z 0))), (q2, .inl (c2, 32, .inl (fun _ => am_z 0))), (q3, .inl (c3, 32, .inl (fun _ => am_z 0))), (q4, .inl (c4, 32, .inl (fun _ => am_z 0))), (q7, .inl (c7, 32, .inl (fun _ => am_z 0))), (q8, .inl (c8, 32, .inl (fun _ => am_z 0))), (q10, .inl (c10, 32, .inl (fun _ => am_z 0))), (q11, .inl (c11, 6, .inl (fun _ => am_z 0))), (q12, .inl (c12, 7, .inl (fun _ => am_z 0))), (q13, .inl (c13, 7, .inl (fun _ => am_z 0))), (q14, .inl (c14, 7, .inl (fun _ => am_z 0))), (q15, .inl (c15, 7, .inl (fun _ => am_z 0))), (q17, .inl (c17, 4, .inr (.inl (fun _ => lN 0)))), (q18, .inl (c18, 32, .inl (fun _ => am_z 0))), (q19, .inl (c19, 32, .inl (fun _ => am_z 0)))] H := hP
  have hD : va_D A [(h0, .inr (0, [.int (am_z 0), .ref q1, .ref q2, .ref q3, .ref q4, .int (am_z 0), .int (am_z 0), .ref q7, .ref q8, .int (am_z 0), .ref q10, .ref q11, .ref q12, .ref q13, .ref q14, .ref q15, .int (am_z 0), .ref q17, .ref q18, .null])), (q1, .inl (c1, 32, .inl (fun _ => am_z 0))), (q2, .inl (c2, 32, .inl (fun _ => am_z 0))), (q3, .inl (c3, 32, .inl (fun _ => am_z 0))), (q4, .inl (c4, 32, .inl (fun _ => am_z 0))), (q7, .inl (c7, 32, .inl (fun _ => am_z 0))), (q8, .inl (c8, 32, .inl (fun _ => am_z 0))), (q10, .inl (c10, 32, .inl (fun _ => am_z 0))), (q11, .inl (c11, 6, .inl (fun _ => am_z 0))), (q12, .inl (c12, 7, .inl (fun _ => am_z 0))), (q13, .inl (c13, 7, .inl (fun _ => am_z 0))), (q14, .inl (c14, 7, .inl (fun _ => am_z 0))), (q15, .inl (c15, 7, .inl (fun _ => am_z 0))), (q17, .inl (c17, 4, .inr (.inl (fun _ => lN 0)))), (q18, .inl (c18, 32, .inl (fun _ => am_z 0))), (q19, .inl (c19, 32, .inl (fun _ => am_z 0)))] := hD
  have hK : va_K D vwCl [(c1, .byte), (c2, .byte), (c3, .byte), (c4, .byte), (c7, .byte), (c8, .byte), (c10, .byte), (c11, .byte), (c12, .int), (c13, .int), (c14, .byte), (c15, .int), (c17, .long), (c18, .byte), (c19, .byte)] s := hK
  refine va_putF (D := D) (ci := 0) (v := .ref q19) (ty := .array .byte) (C := RX0) (T := TX0) (N := 20) hx hb hts in_X0 tyX0 tyX0_ok nmX0 hown hK hP hD hS 0 rfl rfl 19 (by decide) (hts _ q58) (fun _ h9 => h9) rfl hin rfl (by decide +kernel) rfl rfl (Nat.le_of_ble_eq_true rfl) dX0_init_120 (fun H locs hP hD hS => ?_)
  have hP : va_P D vwCl [(h0, .inr (0, [.int (am_z 0), .ref q1, .ref q2, .ref q3, .ref q4, .int (am_z 0), .int (am_z 0), .ref q7, .ref q8, .int (am_z 0), .ref q10, .ref q11, .ref q12, .ref q13, .ref q14, .ref q15, .int (am_z 0), .ref q17, .ref q18, .ref q19])), (q1, .inl (c1, 32, .inl (fun _ => am_z 0))), (q2, .inl (c2, 32, .inl (fun _ => am_z 0))), (q3, .inl (c3, 32, .inl (fun _ => am_z 0))), (q4, .inl (c4, 32, .inl (fun _ => am_z 0))), (q7, .inl (c7, 32, .inl (fun _ => am_z 0))), (q8, .inl (c8, 32, .inl (fun _ => am_z 0))), (q10, .inl (c10, 32, .inl (fun _ => am_z 0))), (q11, .inl (c11, 6, .inl (fun _ => am_z 0))), (q12, .inl (c12, 7, .inl (fun _ => am_z 0))), (q13, .inl (c13, 7, .inl (fun _ => am_z 0))), (q14, .inl (c14, 7, .inl (fun _ => am_z 0))), (q15, .inl (c15, 7, .inl (fun _ => am_z 0))), (q17, .inl (c17, 4, .inr (.inl (fun _ => lN 0)))), (q18, .inl (c18, 32, .inl (fun _ => am_z 0))), (q19, .inl (c19, 32, .inl (fun _ => am_z 0)))] H := hP
  have hD : va_D A [(h0, .inr (0, [.int (am_z 0), .ref q1, .ref q2, .ref q3, .ref q4, .int (am_z 0), .int (am_z 0), .ref q7, .ref q8, .int (am_z 0), .ref q10, .ref q11, .ref q12, .ref q13, .ref q14, .ref q15, .int (am_z 0), .ref q17, .ref q18, .ref q19])), (q1, .inl (c1, 32, .inl (fun _ => am_z 0))), (q2, .inl (c2, 32, .inl (fun _ => am_z 0))), (q3, .inl (c3, 32, .inl (fun _ => am_z 0))), (q4, .inl (c4, 32, .inl (fun _ => am_z 0))), (q7, .inl (c7, 32, .inl (fun _ => am_z 0))), (q8, .inl (c8, 32, .inl (fun _ => am_z 0))), (q10, .inl (c10, 32, .inl (fun _ => am_z 0))), (q11, .inl (c11, 6, .inl (fun _ => am_z 0))), (q12, .inl (c12, 7, .inl (fun _ => am_z 0))), (q13, .inl (c13, 7, .inl (fun _ => am_z 0))), (q14, .inl (c14, 7, .inl (fun _ => am_z 0))), (q15, .inl (c15, 7, .inl (fun _ => am_z 0))), (q17, .inl (c17, 4, .inr (.inl (fun _ => lN 0)))), (q18, .inl (c18, 32, .inl (fun _ => am_z 0))), (q19, .inl (c19, 32, .inl (fun _ => am_z 0)))] := hD
  have ew : am_w cdX0 (fun k => ([c1, c1, c2, c3, c4, c1, c1, c7, c8, c1, c10, c11, c12, c13, c14, c15, c1, c17, c18, c19] : List ClassId).getD k c1) (fun k => ([h0, q1, q2, q3, q4, 0, 0, q7, q8, 0, q10, q11, q12, q13, q14, q15, 0, q17, q18, q19] : List Nat).getD k 0) zeS = [(h0, .inr (0, [.int (am_z 0), .ref q1, .ref q2, .ref q3, .ref q4, .int (am_z 0), .int (am_z 0), .ref q7, .ref q8, .int (am_z 0), .ref q10, .ref q11, .ref q12, .ref q13, .ref q14, .ref q15, .int (am_z 0), .ref q17, .ref q18, .ref q19])), (q1, .inl (c1, 32, .inl (fun _ => am_z 0))), (q2, .inl (c2, 32, .inl (fun _ => am_z 0))), (q3, .inl (c3, 32, .inl (fun _ => am_z 0))), (q4, .inl (c4, 32, .inl (fun _ => am_z 0))), (q7, .inl (c7, 32, .inl (fun _ => am_z 0))), (q8, .inl (c8, 32, .inl (fun _ => am_z 0))), (q10, .inl (c10, 32, .inl (fun _ => am_z 0))), (q11, .inl (c11, 6, .inl (fun _ => am_z 0))), (q12, .inl (c12, 7, .inl (fun _ => am_z 0))), (q13, .inl (c13, 7, .inl (fun _ => am_z 0))), (q14, .inl (c14, 7, .inl (fun _ => am_z 0))), (q15, .inl (c15, 7, .inl (fun _ => am_z 0))), (q17, .inl (c17, 4, .inr (.inl (fun _ => lN 0)))), (q18, .inl (c18, 32, .inl (fun _ => am_z 0))), (q19, .inl (c19, 32, .inl (fun _ => am_z 0)))] := rfl
  have et : am_t cdX0 (fun k => ([c1, c1, c2, c3, c4, c1, c1, c7, c8, c1, c10, c11, c12, c13, c14, c15, c1, c17, c18, c19] : List ClassId).getD k c1) = [(c1, .byte), (c2, .byte), (c3, .byte), (c4, .byte), (c7, .byte), (c8, .byte), (c10, .byte), (c11, .byte), (c12, .int), (c13, .int), (c14, .byte), (c15, .int), (c17, .long), (c18, .byte), (c19, .byte)] := rfl
  rw [← ew] at hP hD
  rw [← et] at hK
  refine W.widen (k := 15) (n := 326) (Nat.le_of_ble_eq_true rfl) (Nat.le_of_ble_eq_true rfl) ?_
  exact W.vret hx hb hr (fun t ht hW => ⟨⟨(_, _), rfl, rfl, by rw [ht]; exact hP, va_K.moved hW.alike hK, hD⟩, hS.F ht⟩) hS.2.2 dX0_init_123 hlocks
def fsX1 : List Value := [.int (am_z 0), .null, .null, .null, .null, .int (am_z 0), .int (am_z 0), .null, .null, .null]
set_option maxHeartbeats 4000000 in
theorem metX1_init (l : Launch) (D : va_G) (h0 sz : Nat) : Met l yX1_init (ws_ yX1_init cX1_init 1 none) ({ frames := 1, cells := 7, slots := 148, locals := 20 }) (va_Pc [.ref h0] (fun U => U.heap.size = sz ∧ va_P D vwCl [(h0, .inr (1, fsX1))] U.heap ∧ va_K D vwCl [] U ∧ va_D (fun _ => True) [(h0, .inr (1, fsX1))]))
    (va_Qv (fun u : (Nat → ClassId) × (Nat → Nat) => u.2 0 = h0) (fun u t => va_P D vwCl (am_w cdX1 u.1 u.2 zeS) t.heap ∧ va_K D vwCl (am_t cdX1 u.1) t ∧ va_D (va_A [(h0, .inr (1, fsX1))] sz) (am_w cdX1 u.1 u.2 zeS)) (va_A [(h0, .inr (1, fsX1))] sz)) 7 148 (va_A [(h0, .inr (1, fsX1))] sz) := by
  refine Met.ofW (cc := cX1_init) (maxL := 1) (ret := none) (by decide) rfl ?_
  intro p e s m args below meth c s₁ B hml hv
  obtain ⟨rfl, hsz, hP, hK, hD0⟩ := hv
  have hx := B.exec
  have hb := B.bytes
  have hr := B.returns
  have hts := atoms_spec (ws := ws_ yX1_init cX1_init 1 none) B.pre
  have hts : ∀ w ∈ lw_all, w.before _ s = true := fun w h => hts w (List.mem_cons_of_mem _ h)
  have hown : s.vm.findClass RX1 = some m.cls := findClass_of_methodNamed B.named
  have hlocks := B.notSynchronized
  have hin : meth.name = "<init>" := (name_of_methodNamed B.named B.method).1
  subst hsz
  have hD := hD0.self (sz := s.heap.size)
  generalize hAe : va_A [(h0, .inr (1, fsX1))] s.heap.size = A at hD ⊢
  have hA : ∀ q : Nat, s.heap.size ≤ q → A q := fun q h => by rw [← hAe]; exact Or.inr h
  have hS : va_S A s.heap s.heap [] := va_S.rf
  have hl := lv_entry ([.ref h0]) (n := 1) (Nat.le_of_ble_eq_true rfl)
  rw [lg_entry_eq]
  generalize (lg_sl ([.ref h0]) ++ List.replicate (1 - (lg_sl ([.ref h0])).length) Slot.unset).toArray = ls at hl ⊢
  have hl : lv_has ls 1 [(0, .ref h0)] := hl
  refine lv_aload_n hx hb dX1_init_0 rfl (lv_at hl 0 rfl) ?_
  refine W.objInit hx hb hown (hts _ q228) (hts _ q37) (hts _ q38) rfl (by rw [hml]; exact hl.1) rfl dX1_init_1 (Nat.le_of_ble_eq_true rfl) (Nat.le_of_ble_eq_true rfl) ?_
  refine W.eq (g2 := F0 m 4 ls []) rfl ?_
  refine lv_aload_n hx hb dX1_init_4 rfl (lv_at hl 0 rfl) ?_
  refine lv_iconst (v := am_z 0) hx hb dX1_init_5 (by decide) ?_
  refine va_put (D := D) (ci := 1) (v := .int (am_z 0)) (ty := .int) (C := RX1) (T := TX1) (N := 10) hx hb hts in_X1 tyX1 tyX1_ok nmX1 hown hK hP hD hS 0 rfl rfl 0 (by decide) (hts _ q229) (fun _ h9 => h9) rfl (by decide +kernel) rfl rfl (Nat.le_of_ble_eq_true rfl) dX1_init_6 (fun H locs hP hD hS => ?_)
  have hP : va_P D vwCl [(h0, .inr (1, [.int (am_z 0), .null, .null, .null, .null, .int (am_z 0), .int (am_z 0), .null, .null, .null]))] H := hP
  have hD : va_D A [(h0, .inr (1, [.int (am_z 0), .null, .null, .null, .null, .int (am_z 0), .int (am_z 0), .null, .null, .null]))] := hD
  refine lv_aload_n hx hb dX1_init_9 rfl (lv_at hl 0 rfl) ?_
  refine lv_bipush (v := 32) hx hb dX1_init_10 (by decide) ?_
  refine va_newa (atype := .int) (ty := .int) (N' := 32) (a0 := (32, .inl (fun _ => am_z 0))) hx hb (hts _ q101) rfl hK hP hD hS hA (fun cA => rfl) (by decide) (by decide) (by decide) (Nat.le_of_ble_eq_true rfl) (Nat.le_of_ble_eq_true rfl) dX1_init_12 (fun q1 c1 H hK hP hD hS => ?_)
  have hP : va_P D vwCl [(h0, .inr (1, [.int (am_z 0), .null, .null, .null, .null, .int (am_z 0), .int (am_z 0), .null, .null, .null])), (q1, .inl (c1, 32, .inl (fun _ => am_z 0)))] H := hP
  have hD : va_D A [(h0, .inr (1, [.int (am_z 0), .null, .null, .null, .null, .int (am_z 0), .int (am_z 0), .null, .null, .null])), (q1, .inl (c1, 32, .inl (fun _ => am_z 0)))] := hD
  have hK : va_K D vwCl [(c1, .int)] s := hK
  refine va_put (D := D) (ci := 1) (v := .ref q1) (ty := .array .int) (C := RX1) (T := TX1) (N := 10) hx hb hts in_X1 tyX1 tyX1_ok nmX1 hown hK hP hD hS 0 rfl rfl 1 (by decide) (hts _ q230) (fun _ h9 => h9) rfl (by decide +kernel) rfl rfl (Nat.le_of_ble_eq_true rfl) dX1_init_14 (fun H locs hP hD hS => ?_)
  have hP : va_P D vwCl [(h0, .inr (1, [.int (am_z 0), .ref q1, .null, .null, .null, .int (am_z 0), .int (am_z 0), .null, .null, .null])), (q1, .inl (c1, 32, .inl (fun _ => am_z 0)))] H := hP
  have hD : va_D A [(h0, .inr (1, [.int (am_z 0), .ref q1, .null, .null, .null, .int (am_z 0), .int (am_z 0), .null, .null, .null])), (q1, .inl (c1, 32, .inl (fun _ => am_z 0)))] := hD
  refine lv_aload_n hx hb dX1_init_17 rfl (lv_at hl 0 rfl) ?_
  refine lv_bipush (v := 32) hx hb dX1_init_18 (by decide) ?_
  refine va_newa (atype := .int) (ty := .int) (N' := 32) (a0 := (32, .inl (fun _ => am_z 0))) hx hb (hts _ q101) rfl hK hP hD hS hA (fun cA => rfl) (by decide) (by decide) (by decide) (Nat.le_of_ble_eq_true rfl) (Nat.le_of_ble_eq_true rfl) dX1_init_20 (fun q2 c2 H hK hP hD hS => ?_)
  have hP : va_P D vwCl [(h0, .inr (1, [.int (am_z 0), .ref q1, .null, .null, .null, .int (am_z 0), .int (am_z 0), .null, .null, .null])), (q1, .inl (c1, 32, .inl (fun _ => am_z 0))), (q2, .inl (c2, 32, .inl (fun _ => am_z 0)))] H := hP
  have hD : va_D A [(h0, .inr (1, [.int (am_z 0), .ref q1, .null, .null, .null, .int (am_z 0), .int (am_z 0), .null, .null, .null])), (q1, .inl (c1, 32, .inl (fun _ => am_z 0))), (q2, .inl (c2, 32, .inl (fun _ => am_z 0)))] := hD
  have hK : va_K D vwCl [(c1, .int), (c2, .int)] s := hK
  refine va_put (D := D) (ci := 1) (v := .ref q2) (ty := .array .int) (C := RX1) (T := TX1) (N := 10) hx hb hts in_X1 tyX1 tyX1_ok nmX1 hown hK hP hD hS 0 rfl rfl 2 (by decide) (hts _ q231) (fun _ h9 => h9) rfl (by decide +kernel) rfl rfl (Nat.le_of_ble_eq_true rfl) dX1_init_22 (fun H locs hP hD hS => ?_)
  have hP : va_P D vwCl [(h0, .inr (1, [.int (am_z 0), .ref q1, .ref q2, .null, .null, .int (am_z 0), .int (am_z 0), .null, .null, .null])), (q1, .inl (c1, 32, .inl (fun _ => am_z 0))), (q2, .inl (c2, 32, .inl (fun _ => am_z 0)))] H := hP
  have hD : va_D A [(h0, .inr (1, [.int (am_z 0), .ref q1, .ref q2, .null, .null, .int (am_z 0), .int (am_z 0), .null, .null, .null])), (q1, .inl (c1, 32, .inl (fun _ => am_z 0))), (q2, .inl (c2, 32, .inl (fun _ => am_z 0)))] := hD
  refine lv_aload_n hx hb dX1_init_25 rfl (lv_at hl 0 rfl) ?_
  refine lv_bipush (v := 32) hx hb dX1_init_26 (by decide) ?_
  refine va_newa (atype := .int) (ty := .int) (N' := 32) (a0 := (32, .inl (fun _ => am_z 0))) hx hb (hts _ q101) rfl hK hP hD hS hA (fun cA => rfl) (by decide) (by decide) (by decide) (Nat.le_of_ble_eq_true rfl) (Nat.le_of_ble_eq_true rfl) dX1_init_28 (fun q3 c3 H hK hP hD hS => ?_)
  have hP : va_P D vwCl [(h0, .inr (1, [.int (am_z 0), .ref q1, .ref q2, .null, .null, .int (am_z 0), .int (am_z 0), .null, .null, .null])), (q1, .inl (c1, 32, .inl (fun _ => am_z 0))), (q2, .inl (c2, 32, .inl (fun _ => am_z 0))), (q3, .inl (c3, 32, .inl (fun _ => am_z 0)))] H := hP
  have hD : va_D A [(h0, .inr (1, [.int (am_z 0), .ref q1, .ref q2, .null, .null, .int (am_z 0), .int (am_z 0), .null, .null, .null])), (q1, .inl (c1, 32, .inl (fun _ => am_z 0))), (q2, .inl (c2, 32, .inl (fun _ => am_z 0))), (q3, .inl (c3, 32, .inl (fun _ => am_z 0)))] := hD
  have hK : va_K D vwCl [(c1, .int), (c2, .int), (c3, .int)] s := hK
  refine va_put (D := D) (ci := 1) (v := .ref q3) (ty := .array .int) (C := RX1) (T := TX1) (N := 10) hx hb hts in_X1 tyX1 tyX1_ok nmX1 hown hK hP hD hS 0 rfl rfl 3 (by decide) (hts _ q232) (fun _ h9 => h9) rfl (by decide +kernel) rfl rfl (Nat.le_of_ble_eq_true rfl) dX1_init_30 (fun H locs hP hD hS => ?_)
  have hP : va_P D vwCl [(h0, .inr (1, [.int (am_z 0), .ref q1, .ref q2, .ref q3, .null, .int (am_z 0), .int (am_z 0), .null, .null, .null])), (q1, .inl (c1, 32, .inl (fun _ => am_z 0))), (q2, .inl (c2, 32, .inl (fun _ => am_z 0))), (q3, .inl (c3, 32, .inl (fun _ => am_z 0)))] H := hP
  have hD : va_D A [(h0, .inr (1, [.int (am_z 0), .ref q1, .ref q2, .ref q3, .null, .int (am_z 0), .int (am_z 0), .null, .null, .null])), (q1, .inl (c1, 32, .inl (fun _ => am_z 0))), (q2, .inl (c2, 32, .inl (fun _ => am_z 0))), (q3, .inl (c3, 32, .inl (fun _ => am_z 0)))] := hD
  refine lv_aload_n hx hb dX1_init_33 rfl (lv_at hl 0 rfl) ?_
  refine lv_bipush (v := 32) hx hb dX1_init_34 (by decide) ?_
  refine va_newa (atype := .int) (ty := .int) (N' := 32) (a0 := (32, .inl (fun _ => am_z 0))) hx hb (hts _ q101) rfl hK hP hD hS hA (fun cA => rfl) (by decide) (by decide) (by decide) (Nat.le_of_ble_eq_true rfl) (Nat.le_of_ble_eq_true rfl) dX1_init_36 (fun q4 c4 H hK hP hD hS => ?_)
  have hP : va_P D vwCl [(h0, .inr (1, [.int (am_z 0), .ref q1, .ref q2, .ref q3, .null, .int (am_z 0), .int (am_z 0), .null, .null, .null])), (q1, .inl (c1, 32, .inl (fun _ => am_z 0))), (q2, .inl (c2, 32, .inl (fun _ => am_z 0))), (q3, .inl (c3, 32, .inl (fun _ => am_z 0))), (q4, .inl (c4, 32, .inl (fun _ => am_z 0)))] H := hP
  have hD : va_D A [(h0, .inr (1, [.int (am_z 0), .ref q1, .ref q2, .ref q3, .null, .int (am_z 0), .int (am_z 0), .null, .null, .null])), (q1, .inl (c1, 32, .inl (fun _ => am_z 0))), (q2, .inl (c2, 32, .inl (fun _ => am_z 0))), (q3, .inl (c3, 32, .inl (fun _ => am_z 0))), (q4, .inl (c4, 32, .inl (fun _ => am_z 0)))] := hD
  have hK : va_K D vwCl [(c1, .int), (c2, .int), (c3, .int), (c4, .int)] s := hK
  refine va_put (D := D) (ci := 1) (v := .ref q4) (ty := .array .int) (C := RX1) (T := TX1) (N := 10) hx hb hts in_X1 tyX1 tyX1_ok nmX1 hown hK hP hD hS 0 rfl rfl 4 (by decide) (hts _ q233) (fun _ h9 => h9) rfl (by decide +kernel) rfl rfl (Nat.le_of_ble_eq_true rfl) dX1_init_38 (fun H locs hP hD hS => ?_)
  have hP : va_P D vwCl [(h0, .inr (1, [.int (am_z 0), .ref q1, .ref q2, .ref q3, .ref q4, .int (am_z 0), .int (am_z 0), .null, .null, .null])), (q1, .inl (c1, 32, .inl (fun _ => am_z 0))), (q2, .inl (c2, 32, .inl (fun _ => am_z 0))), (q3, .inl (c3, 32, .inl (fun _ => am_z 0))), (q4, .inl (c4, 32, .inl (fun _ => am_z 0)))] H := hP
  have hD : va_D A [(h0, .inr (1, [.int (am_z 0), .ref q1, .ref q2, .ref q3, .ref q4, .int (am_z 0), .int (am_z 0), .null, .null, .null])), (q1, .inl (c1, 32, .inl (fun _ => am_z 0))), (q2, .inl (c2, 32, .inl (fun _ => am_z 0))), (q3, .inl (c3, 32, .inl (fun _ => am_z 0))), (q4, .inl (c4, 32, .inl (fun _ => am_z 0)))] := hD
  refine lv_aload_n hx hb dX1_init_41 rfl (lv_at hl 0 rfl) ?_
  refine lv_iconst (v := am_z 0) hx hb dX1_init_42 (by decide) ?_
  refine va_put (D := D) (ci := 1) (v := .int (am_z 0)) (ty := .int) (C := RX1) (T := TX1) (N := 10) hx hb hts in_X1 tyX1 tyX1_ok nmX1 hown hK hP hD hS 0 rfl rfl 5 (by decide) (hts _ q234) (fun _ h9 => h9) rfl (by decide +kernel) rfl rfl (Nat.le_of_ble_eq_true rfl) dX1_init_43 (fun H locs hP hD hS => ?_)
  have hP : va_P D vwCl [(h0, .inr (1, [.int (am_z 0), .ref q1, .ref q2, .ref q3, .ref q4, .int (am_z 0), .int (am_z 0), .null, .null, .null])), (q1, .inl (c1, 32, .inl (fun _ => am_z 0))), (q2, .inl (c2, 32, .inl (fun _ => am_z 0))), (q3, .inl (c3, 32, .inl (fun _ => am_z 0))), (q4, .inl (c4, 32, .inl (fun _ => am_z 0)))] H := hP
  have hD : va_D A [(h0, .inr (1, [.int (am_z 0), .ref q1, .ref q2, .ref q3, .ref q4, .int (am_z 0), .int (am_z 0), .null, .null, .null])), (q1, .inl (c1, 32, .inl (fun _ => am_z 0))), (q2, .inl (c2, 32, .inl (fun _ => am_z 0))), (q3, .inl (c3, 32, .inl (fun _ => am_z 0))), (q4, .inl (c4, 32, .inl (fun _ => am_z 0)))] := hD
  refine lv_aload_n hx hb dX1_init_46 rfl (lv_at hl 0 rfl) ?_
  refine lv_iconst (v := am_z 0) hx hb dX1_init_47 (by decide) ?_
  refine va_put (D := D) (ci := 1) (v := .int (am_z 0)) (ty := .int) (C := RX1) (T := TX1) (N := 10) hx hb hts in_X1 tyX1 tyX1_ok nmX1 hown hK hP hD hS 0 rfl rfl 6 (by decide) (hts _ q235) (fun _ h9 => h9) rfl (by decide +kernel) rfl rfl (Nat.le_of_ble_eq_true rfl) dX1_init_48 (fun H locs hP hD hS => ?_)
  have hP : va_P D vwCl [(h0, .inr (1, [.int (am_z 0), .ref q1, .ref q2, .ref q3, .ref q4, .int (am_z 0), .int (am_z 0), .null, .null, .null])), (q1, .inl (c1, 32, .inl (fun _ => am_z 0))), (q2, .inl (c2, 32, .inl (fun _ => am_z 0))), (q3, .inl (c3, 32, .inl (fun _ => am_z 0))), (q4, .inl (c4, 32, .inl (fun _ => am_z 0)))] H := hP
  have hD : va_D A [(h0, .inr (1, [.int (am_z 0), .ref q1, .ref q2, .ref q3, .ref q4, .int (am_z 0), .int (am_z 0), .null, .null, .null])), (q1, .inl (c1, 32, .inl (fun _ => am_z 0))), (q2, .inl (c2, 32, .inl (fun _ => am_z 0))), (q3, .inl (c3, 32, .inl (fun _ => am_z 0))), (q4, .inl (c4, 32, .inl (fun _ => am_z 0)))] := hD
  refine lv_aload_n hx hb dX1_init_51 rfl (lv_at hl 0 rfl) ?_
  refine lv_bipush (v := 6) hx hb dX1_init_52 (by decide) ?_
  refine va_newa (atype := .int) (ty := .int) (N' := 6) (a0 := (6, .inl (fun _ => am_z 0))) hx hb (hts _ q101) rfl hK hP hD hS hA (fun cA => rfl) (by decide) (by decide) (by decide) (Nat.le_of_ble_eq_true rfl) (Nat.le_of_ble_eq_true rfl) dX1_init_54 (fun q7 c7 H hK hP hD hS => ?_)
  have hP : va_P D vwCl [(h0, .inr (1, [.int (am_z 0), .ref q1, .ref q2, .ref q3, .ref q4, .int (am_z 0), .int (am_z 0), .null, .null, .null])), (q1, .inl (c1, 32, .inl (fun _ => am_z 0))), (q2, .inl (c2, 32, .inl (fun _ => am_z 0))), (q3, .inl (c3, 32, .inl (fun _ => am_z 0))), (q4, .inl (c4, 32, .inl (fun _ => am_z 0))), (q7, .inl (c7, 6, .inl (fun _ => am_z 0)))] H := hP
  have hD : va_D A [(h0, .inr (1, [.int (am_z 0), .ref q1, .ref q2, .ref q3, .ref q4, .int (am_z 0), .int (am_z 0), .null, .null, .null])), (q1, .inl (c1, 32, .inl (fun _ => am_z 0))), (q2, .inl (c2, 32, .inl (fun _ => am_z 0))), (q3, .inl (c3, 32, .inl (fun _ => am_z 0))), (q4, .inl (c4, 32, .inl (fun _ => am_z 0))), (q7, .inl (c7, 6, .inl (fun _ => am_z 0)))] := hD
  have hK : va_K D vwCl [(c1, .int), (c2, .int), (c3, .int), (c4, .int), (c7, .int)] s := hK
  refine va_put (D := D) (ci := 1) (v := .ref q7) (ty := .array .int) (C := RX1) (T := TX1) (N := 10) hx hb hts in_X1 tyX1 tyX1_ok nmX1 hown hK hP hD hS 0 rfl rfl 7 (by decide) (hts _ q236) (fun _ h9 => h9) rfl (by decide +kernel) rfl rfl (Nat.le_of_ble_eq_true rfl) dX1_init_56 (fun H locs hP hD hS => ?_)
  have hP : va_P D vwCl [(h0, .inr (1, [.int (am_z 0), .ref q1, .ref q2, .ref q3, .ref q4, .int (am_z 0), .int (am_z 0), .ref q7, .null, .null])), (q1, .inl (c1, 32, .inl (fun _ => am_z 0))), (q2, .inl (c2, 32, .inl (fun _ => am_z 0))), (q3, .inl (c3, 32, .inl (fun _ => am_z 0))), (q4, .inl (c4, 32, .inl (fun _ => am_z 0))), (q7, .inl (c7, 6, .inl (fun _ => am_z 0)))] H := hP
  have hD : va_D A [(h0, .inr (1, [.int (am_z 0), .ref q1, .ref q2, .ref q3, .ref q4, .int (am_z 0), .int (am_z 0), .ref q7, .null, .null])), (q1, .inl (c1, 32, .inl (fun _ => am_z 0))), (q2, .inl (c2, 32, .inl (fun _ => am_z 0))), (q3, .inl (c3, 32, .inl (fun _ => am_z 0))), (q4, .inl (c4, 32, .inl (fun _ => am_z 0))), (q7, .inl (c7, 6, .inl (fun _ => am_z 0)))] := hD
  refine lv_aload_n hx hb dX1_init_59 rfl (lv_at hl 0 rfl) ?_
  refine lv_bipush (v := 7) hx hb dX1_init_60 (by decide) ?_
  refine va_newa (atype := .int) (ty := .int) (N' := 7) (a0 := (7, .inl (fun _ => am_z 0))) hx hb (hts _ q101) rfl hK hP hD hS hA (fun cA => rfl) (by decide) (by decide) (by decide) (Nat.le_of_ble_eq_true rfl) (Nat.le_of_ble_eq_true rfl) dX1_init_62 (fun q8 c8 H hK hP hD hS => ?_)
  have hP : va_P D vwCl [(h0, .inr (1, [.int (am_z 0), .ref q1, .ref q2, .ref q3, .ref q4, .int (am_z 0), .int (am_z 0), .ref q7, .null, .null])), (q1, .inl (c1, 32, .inl (fun _ => am_z 0))), (q2, .inl (c2, 32, .inl (fun _ => am_z 0))), (q3, .inl (c3, 32, .inl (fun _ => am_z 0))), (q4, .inl (c4, 32, .inl (fun _ => am_z 0))), (q7, .inl (c7, 6, .inl (fun _ => am_z 0))), (q8, .inl (c8, 7, .inl (fun _ => am_z 0)))] H := hP
  have hD : va_D A [(h0, .inr (1, [.int (am_z 0), .ref q1, .ref q2, .ref q3, .ref q4, .int (am_z 0), .int (am_z 0), .ref q7, .null, .null])), (q1, .inl (c1, 32, .inl (fun _ => am_z 0))), (q2, .inl (c2, 32, .inl (fun _ => am_z 0))), (q3, .inl (c3, 32, .inl (fun _ => am_z 0))), (q4, .inl (c4, 32, .inl (fun _ => am_z 0))), (q7, .inl (c7, 6, .inl (fun _ => am_z 0))), (q8, .inl (c8, 7, .inl (fun _ => am_z 0)))] := hD
  have hK : va_K D vwCl [(c1, .int), (c2, .int), (c3, .int), (c4, .int), (c7, .int), (c8, .int)] s := hK
  refine va_put (D := D) (ci := 1) (v := .ref q8) (ty := .array .int) (C := RX1) (T := TX1) (N := 10) hx hb hts in_X1 tyX1 tyX1_ok nmX1 hown hK hP hD hS 0 rfl rfl 8 (by decide) (hts _ q237) (fun _ h9 => h9) rfl (by decide +kernel) rfl rfl (Nat.le_of_ble_eq_true rfl) dX1_init_64 (fun H locs hP hD hS => ?_)
  have hP : va_P D vwCl [(h0, .inr (1, [.int (am_z 0), .ref q1, .ref q2, .ref q3, .ref q4, .int (am_z 0), .int (am_z 0), .ref q7, .ref q8, .null])), (q1, .inl (c1, 32, .inl (fun _ => am_z 0))), (q2, .inl (c2, 32, .inl (fun _ => am_z 0))), (q3, .inl (c3, 32, .inl (fun _ => am_z 0))), (q4, .inl (c4, 32, .inl (fun _ => am_z 0))), (q7, .inl (c7, 6, .inl (fun _ => am_z 0))), (q8, .inl (c8, 7, .inl (fun _ => am_z 0)))] H := hP
  have hD : va_D A [(h0, .inr (1, [.int (am_z 0), .ref q1, .ref q2, .ref q3, .ref q4, .int (am_z 0), .int (am_z 0), .ref q7, .ref q8, .null])), (q1, .inl (c1, 32, .inl (fun _ => am_z 0))), (q2, .inl (c2, 32, .inl (fun _ => am_z 0))), (q3, .inl (c3, 32, .inl (fun _ => am_z 0))), (q4, .inl (c4, 32, .inl (fun _ => am_z 0))), (q7, .inl (c7, 6, .inl (fun _ => am_z 0))), (q8, .inl (c8, 7, .inl (fun _ => am_z 0)))] := hD
  refine lv_aload_n hx hb dX1_init_67 rfl (lv_at hl 0 rfl) ?_
  refine lv_bipush (v := 7) hx hb dX1_init_68 (by decide) ?_
  refine va_newa (atype := .int) (ty := .int) (N' := 7) (a0 := (7, .inl (fun _ => am_z 0))) hx hb (hts _ q101) rfl hK hP hD hS hA (fun cA => rfl) (by decide) (by decide) (by decide) (Nat.le_of_ble_eq_true rfl) (Nat.le_of_ble_eq_true rfl) dX1_init_70 (fun q9 c9 H hK hP hD hS => ?_)
  have hP : va_P D vwCl [(h0, .inr (1, [.int (am_z 0), .ref q1, .ref q2, .ref q3, .ref q4, .int (am_z 0), .int (am_z 0), .ref q7, .ref q8, .null])), (q1, .inl (c1, 32, .inl (fun _ => am_z 0))), (q2, .inl (c2, 32, .inl (fun _ => am_z 0))), (q3, .inl (c3, 32, .inl (fun _ => am_z 0))), (q4, .inl (c4, 32, .inl (fun _ => am_z 0))), (q7, .inl (c7, 6, .inl (fun _ => am_z 0))), (q8, .inl (c8, 7, .inl (fun _ => am_z 0))), (q9, .inl (c9, 7, .inl (fun _ => am_z 0)))] H := hP
  have hD : va_D A [(h0, .inr (1, [.int (am_z 0), .ref q1, .ref q2, .ref q3, .ref q4, .int (am_z 0), .int (am_z 0), .ref q7, .ref q8, .null])), (q1, .inl (c1, 32, .inl (fun _ => am_z 0))), (q2, .inl (c2, 32, .inl (fun _ => am_z 0))), (q3, .inl (c3, 32, .inl (fun _ => am_z 0))), (q4, .inl (c4, 32, .inl (fun _ => am_z 0))), (q7, .inl (c7, 6, .inl (fun _ => am_z 0))), (q8, .inl (c8, 7, .inl (fun _ => am_z 0))), (q9, .inl (c9, 7, .inl (fun _ => am_z 0)))] := hD
  have hK : va_K D vwCl [(c1, .int), (c2, .int), (c3, .int), (c4, .int), (c7, .int), (c8, .int), (c9, .int)] s := hK
  refine va_put (D := D) (ci := 1) (v := .ref q9) (ty := .array .int) (C := RX1) (T := TX1) (N := 10) hx hb hts in_X1 tyX1 tyX1_ok nmX1 hown hK hP hD hS 0 rfl rfl 9 (by decide) (hts _ q238) (fun _ h9 => h9) rfl (by decide +kernel) rfl rfl (Nat.le_of_ble_eq_true rfl) dX1_init_72 (fun H locs hP hD hS => ?_)
  have hP : va_P D vwCl [(h0, .inr (1, [.int (am_z 0), .ref q1, .ref q2, .ref q3, .ref q4, .int (am_z 0), .int (am_z 0), .ref q7, .ref q8, .ref q9])), (q1, .inl (c1, 32, .inl (fun _ => am_z 0))), (q2, .inl (c2, 32, .inl (fun _ => am_z 0))), (q3, .inl (c3, 32, .inl (fun _ => am_z 0))), (q4, .inl (c4, 32, .inl (fun _ => am_z 0))), (q7, .inl (c7, 6, .inl (fun _ => am_z 0))), (q8, .inl (c8, 7, .inl (fun _ => am_z 0))), (q9, .inl (c9, 7, .inl (fun _ => am_z 0)))] H := hP
  have hD : va_D A [(h0, .inr (1, [.int (am_z 0), .ref q1, .ref q2, .ref q3, .ref q4, .int (am_z 0), .int (am_z 0), .ref q7, .ref q8, .ref q9])), (q1, .inl (c1, 32, .inl (fun _ => am_z 0))), (q2, .inl (c2, 32, .inl (fun _ => am_z 0))), (q3, .inl (c3, 32, .inl (fun _ => am_z 0))), (q4, .inl (c4, 32, .inl (fun _ => am_z 0))), (q7, .inl (c7, 6, .inl (fun _ => am_z 0))), (q8, .inl (c8, 7, .inl (fun _ => am_z 0))), (q9, .inl (c9, 7, .inl (fun _ => am_z 0)))] := hD
  have ew : am_w cdX1 (fun k => ([c1, c1, c2, c3, c4, c1, c1, c7, c8, c9] : List ClassId).getD k c1) (fun k => ([h0, q1, q2, q3, q4, 0, 0, q7, q8, q9] : List Nat).getD k 0) zeS = [(h0, .inr (1, [.int (am_z 0), .ref q1, .ref q2, .ref q3, .ref q4, .int (am_z 0), .int (am_z 0), .ref q7, .ref q8, .ref q9])), (q1, .inl (c1, 32, .inl (fun _ => am_z 0))), (q2, .inl (c2, 32, .inl (fun _ => am_z 0))), (q3, .inl (c3, 32, .inl (fun _ => am_z 0))), (q4, .inl (c4, 32, .inl (fun _ => am_z 0))), (q7, .inl (c7, 6, .inl (fun _ => am_z 0))), (q8, .inl (c8, 7, .inl (fun _ => am_z 0))), (q9, .inl (c9, 7, .inl (fun _ => am_z 0)))] := rfl
  have et : am_t cdX1 (fun k => ([c1, c1, c2, c3, c4, c1, c1, c7, c8, c9] : List ClassId).getD k c1) = [(c1, .int), (c2, .int), (c3, .int), (c4, .int), (c7, .int), (c8, .int), (c9, .int)] := rfl
  rw [← ew] at hP hD
  rw [← et] at hK
  refine W.widen (k := 7) (n := 148) (Nat.le_of_ble_eq_true rfl) (Nat.le_of_ble_eq_true rfl) ?_
  exact W.vret hx hb hr (fun t ht hW => ⟨⟨(_, _), rfl, rfl, by rw [ht]; exact hP, va_K.moved hW.alike hK, hD⟩, hS.F ht⟩) hS.2.2 dX1_init_75 hlocks
end
section
set_option maxRecDepth 100000
/-! THE CLAIM OUT OF ONE WALK OF THE LAW'S BODY. Your part is whole_start (and what it stands on); all else here is the same for every law, but numbers. -/
def R_law : String := "BlockCoderLaw"
def lw_P (b : Addr) (xs : List Int32) (args : Array Value) (s : State) : Prop := args = #[.ref b] ∧ s.IntsAt b xs ∧ xs.length ≤ 128 ∧ (Jvm.Cond.and given_1 narrow_1).before args s = true
def lw_Q (_ : Array Value) (s : State) (o : Outcome) (t : State) : Prop := o = .returned (some (.int 1)) ∧ Framed s o t [] 600000 7290000
def lw_Z (below : List Frame) (a : Array Value) (s : State) : State → Prop := fun t => ∃ o, t.status = .running ∧ Ended t below o ∧ lw_Q a s o t
/-- the law's own end, with 1 on the stack, nothing written that was there before, its room as the claim has it -/
theorem lw_ret {p : Program} {l : Launch} {e : Env} {s : State} {m : MethodId} {below : List Frame} {meth : Method} {c : Code} {b : Nat} (hx : p.tables.exec = Jvm.exec) (hb : c.code = code) (hr : meth.sig.returnType = ret) (hlocks : meth.locks = false) {pc : Nat} {H : Heap} {ls : Array Slot} (hdg : decode code pc = .ok (.ireturn, 1)) : W p l e room_1 s m #[Value.ref b] below meth c H [] 600000 7290000 (lw_Z below #[Value.ref b] s) (F0 m pc ls [.int 1]) := by
  intro T hT X
  obtain ⟨fs, hret, hrun, hended, hW, hframe⟩ := X.leave (v := some (.int 1)) (hlocks := hlocks) (fun h => by rw [hr] at h; cases h)
  have hmeth' : T.vm.method? m = some meth := X.method'
  refine ⟨T.setFrames fs, ?_, .returned (some (.int 1)), hrun, hended, rfl, ⟨_, rfl⟩, hW, hframe⟩
  jvm_step X.here [X.here.top, hx, hb, hdg, hmeth', hr, ret, narrow_b1]
  (try refine ⟨rfl, ?_⟩); (try refine ⟨rfl, ?_⟩)
  first | (intro acts; rw [hret _ acts rfl rfl rfl]) | rw [hret _ _ rfl rfl rfl]
  exact Steps.refl _
/-- what holds at the law's entry: the machine, the code, the tables' words (any of lw_tbl by 'hts w (by decide +kernel)'), the script of L ints xs at the cell b, what the Statement gives of the start (any of its parts by flat_of_before) -/
def lw_At (p : Program) (s : State) (m : MethodId) (meth : Method) (c : Code) (b L : Nat) (xs : Nat → Int32) : Prop :=
  p.tables.exec = Jvm.exec ∧ c.code = code ∧ meth.sig.returnType = ret ∧ c.maxLocals = 4 ∧ s.vm.findClass R_law = some m.cls ∧ (∀ w ∈ lw_tbl, w.before #[Value.ref b] s = true) ∧ va_X b L xs s s.heap ∧ b < s.heap.size ∧ meth.locks = false ∧ (Jvm.Cond.and given_1 narrow_1).before #[Value.ref b] s = true
end
section
/-! THE LAW: calls of one object beside another -/
set_option maxRecDepth 100000
def am_ads (cd : am_C) (ad : Nat → Nat) : List Nat := ad 0 :: cd.2.2.map (fun q => ad q.1)
theorem am_w_map (cd : am_C) (dc : Nat → ClassId) (ad : Nat → Nat) (σ : am_S) : (am_w cd dc ad σ).map Prod.fst = am_ads cd ad := by
  unfold am_w am_ads
  rw [List.map_cons, List.map_map]
  rfl
theorem am_w_ad {cd : am_C} {dc : Nat → ClassId} {ad : Nat → Nat} {σ : am_S} {k : Nat} {x : Nat × va_E} (h : (am_w cd dc ad σ)[k]? = some x) : x.1 ∈ am_ads cd ad := by
  have h1 : ((am_w cd dc ad σ).map Prod.fst)[k]? = some x.1 := by rw [List.getElem?_map, h]; rfl
  rw [am_w_map] at h1
  exact List.mem_of_getElem? h1
theorem am_ad_w {cd : am_C} (dc : Nat → ClassId) {ad : Nat → Nat} (σ : am_S) {a : Nat} (h : a ∈ am_ads cd ad) : ∃ (k : Nat) (x : Nat × va_E), (am_w cd dc ad σ)[k]? = some x ∧ x.1 = a := by
  rw [← am_w_map cd dc ad σ] at h
  obtain ⟨x, hx, e⟩ := List.mem_map.mp h
  obtain ⟨k, hk⟩ := List.getElem?_of_mem hx
  exact ⟨k, x, hk, e⟩
theorem rest_kept {D : va_G} {wc wr : va_W} {H H1 : Heap} (hPr : va_P D vwCl wr H) (hap : ∀ (k : Nat) (x : Nat × va_E), wr[k]? = some x → ∀ (k' : Nat) (y : Nat × va_E), wc[k']? = some y → y.1 ≠ x.1) (hk : ∀ q : Nat, q < H.size → ¬ va_A wc H.size q → H1[q]? = H[q]?) : va_P D vwCl wr H1 :=
  hPr.kept (fun k x hx => hk x.1 (hPr k x hx).lt (fun h => by
    have hl := (hPr k x hx).lt
    rcases h with ⟨k', e, h⟩ | h
    · exact hap k x hx k' _ h rfl
    · omega))
theorem lw_call {p : Program} {l : Launch} {e : Env} {R : Room} {s : State} {m : MethodId} {args : Array Value} {below : List Frame} {meth : Method} {c : Code} {H : Heap} {locs : List Loc} {cells slots : Nat} {Q : State → Prop} {A : Nat → Prop} {cc : ByteArray} {nL pc : Nat} {ls : Array Slot} {own C : String} {T : u_T} {cd : am_C} {D : va_G} {dc : Nat → ClassId} {ad : Nat → Nat} {σ : am_S} {y : MethodName} {bytes : ByteArray} {maxL : Nat} {retc : Option FieldType} {Rc : Room} {Pre : List Int → am_S → Prop} {Post : List Int → am_S → Int → am_S → Prop} {index nA : Nat} {wr : va_W} {rest st' : List Value}
    (S : CallFix p m c cc nL s args lw_all own) (hM : aMet cd y bytes maxL retc Rc Pre (fun as σ r σ' => ∃ z, r = some z ∧ Post as σ z σ')) (as : List Int) (hC : vwCl[cd.1]? = some (C, T, cd.2.1))
    (hV : GoodIn lw_all (wsV own index C y (ws_ y bytes maxL retc))) (hrc : Rc.cells = 0 ∧ Rc.slots = 0) (hdesc : y.cls = C ∧ y.cls ≠ "java/lang/invoke/MethodHandle" ∧ y.cls ≠ "java/lang/invoke/VarHandle" ∧ (parseMethodDescriptor y.desc).map (fun d => d.parameters.length) = some nA) (hR : Rc.frames + 1 ≤ R.frames ∧ 8 + (maxL + 11) + Rc.locals ≤ R.locals) (hnA : as.length = nA)
    (hst : st' = (as.map (fun z => Value.int (am_z z))).reverse ++ Value.ref (ad 0) :: rest) (hroom : (rest.map fun v => v.category).sum ≤ 8) (hsz : ls.size = nL) (hd : decode cc pc = .ok (.invokevirtual index, 3)) (hcs : cells ≤ R.cells ∧ slots ≤ R.slots)
    (hK : va_K D vwCl (am_t cd dc) s) (hP : va_P D vwCl (am_w cd dc ad σ) H) (hD : va_D A (am_w cd dc ad σ)) (hS : va_S A s.heap H locs) (hA : ∀ q : Nat, s.heap.size ≤ q → A q) (hPr : va_P D vwCl wr H) (hap : ∀ (k : Nat) (x : Nat × va_E), wr[k]? = some x → x.1 ∉ am_ads cd ad) (hpre : Pre as σ)
    (kk : ∀ (z : Int) (σ' : am_S) (H1 : Heap) (locs1 : List Loc), Post as σ z σ' → va_P D vwCl (am_w cd dc ad σ') H1 → va_D A (am_w cd dc ad σ') → va_P D vwCl wr H1 → va_S A s.heap H1 locs1 → W p l e R s m args below meth c H1 locs1 cells slots Q (F0 m (pc + 3) ls (.int (am_z z) :: rest))) : W p l e R s m args below meth c H locs cells slots Q (F0 m pc ls st') := by
  subst hnA
  obtain ⟨hx, hb, hml, hown, hts⟩ := S
  have run := va_runV (p := p) (l := l) (e := e) (R := R) (s := s) (m := m) (args := args) (below := below) (meth := meth) (c := c) (H := H) (locs := locs) (cells := cells) (slots := slots) (own := own) (C := C) (As := as.map (fun z => Value.int (am_z z))) (rest := rest) (b := ad 0) (g := F0 m pc ls st') (nL := nL)
    ⟨hx, hb, hml, hown, hts⟩ (hM l D dc ad H.size as σ hpre) (cwV as.length hts hV rfl hrc.1 hrc.2 hdesc hR)
    ⟨fun a U g mk q => by obtain ⟨q0, q1, qP, qK, qD⟩ := q; exact ⟨q0, q1, qP, va_K.moved (u := U) (U := U.calling g mk a) (Vm.Alike.refl U.vm) qK, qD⟩, va_recv hK hP (ci := cd.1) (q0 := 0) hC rfl, fun U hU hW => ⟨rfl, by rw [hU], by rw [hU]; exact hP, va_K.moved hW.alike hK, hD.weaken (fun _ _ _ _ => trivial)⟩⟩
    rfl (by rw [List.length_map]) hsz hst (lv_room hroom) hd hcs
  intro T0 hT X
  obtain ⟨v, st₀, t, T', L, h0, X', hL, e1, e2, ⟨⟨r, u, hv, ⟨z, hz, hp⟩, hPb, hKb, hDb⟩, hz1, hk⟩, stp⟩ := run T0 hT X
  have hF : ∀ q, va_A (am_w cd dc ad σ) H.size q → A q := by
    intro q h
    rcases h with ⟨k, e, h⟩ | h
    · exact hD.2 k (q, e) h
    · exact hA q (Nat.le_trans hS.1 h)
  subst hz
  have hv' : v = some (Value.int (am_z z)) := by
    injection hv
  subst hv'
  rw [h0] at hz1 hk
  have hS' : va_S A s.heap T'.heap (locs ++ L) := ⟨Nat.le_trans hS.1 (by rw [e1]; exact hz1), fun q h1 h2 => by rw [e1, hk q (Nat.lt_of_lt_of_le h1 hS.1) (fun z => h2 (hF q z))]; exact hS.2.1 q h1 h2, fun q hq => by
      rcases List.mem_append.mp hq with h | h
      · exact hS.2.2 q h
      · exact hF _ (hL q h)⟩
  have hPr' : va_P D vwCl wr T'.heap := rest_kept (wc := am_w cd dc ad σ) hPr (fun k x hx k' y hy e => hap k x hx (by rw [← e]; exact am_w_ad hy)) (fun q h1 h2 => by rw [e1]; exact hk q h1 h2)
  have K := kk z u T'.heap (locs ++ L) hp (by rw [e1]; exact hPb) (hDb.weaken (fun _ q _ h => hF q.1 h)) hPr' hS'
  obtain ⟨t2, a1, b1⟩ := K T' rfl X'
  exact ⟨t2, stp t2 a1, b1⟩
end
section
/-! THE LAW: its loop, its start (written by tools/mklaw.py) -/
set_option maxRecDepth 100000
def lwA (s : State) : Nat → Prop := fun q => s.heap.size ≤ q
theorem law_and (x : Int32) : ∃ d : Nat, d < 16 ∧ x &&& 15 = am_z (d : Int) := by
  refine ⟨x.toBitVec.toNat % 16, Nat.mod_lt _ (by decide), ?_⟩
  rw [am_nI]
  apply Int32.toBitVec_inj.mp
  rw [Int32.toBitVec_and]
  apply BitVec.eq_of_toNat_eq
  rw [BitVec.toNat_and]
  have h1 : (15 : Int32).toBitVec.toNat = 2 ^ 4 - 1 := by decide
  rw [h1, Nat.and_two_pow_sub_one_eq_mod]
  show x.toBitVec.toNat % 16 = (BitVec.ofNat 32 (x.toBitVec.toNat % 16)).toNat
  have h3 := Nat.mod_lt x.toBitVec.toNat (show 0 < 16 by decide)
  have h2 : (2 : Nat) ^ 32 = 4294967296 := by decide
  rw [BitVec.toNat_ofNat]
  exact (Nat.mod_eq_of_lt (by omega)).symm
set_option maxHeartbeats 4000000 in
theorem law_loop {p : Program} {l : Launch} {e : Env} {s : State} {m : MethodId} {below : List Frame} {meth : Method} {c : Code} {b L : Nat} {xs : Nat → Int32} {D : va_G} {dc0 dc1 : Nat → ClassId} {ad0 ad1 : Nat → Nat} {cells slots : Nat} (hL : L ≤ 128) (C0 : lw_At p s m meth c b L xs) (hcs : cells ≤ 600000 ∧ slots ≤ 7290000) (hK0 : va_K D vwCl (am_t cdX0 dc0) s) (hK1 : va_K D vwCl (am_t cdX1 dc1) s) (hap : ∀ a, a ∈ am_ads cdX0 ad0 → a ∉ am_ads cdX1 ad1) :
    ∀ (k i n : Nat) (t : Nat → Nat) (σ0 σ1 : am_S) (H : Heap) (locs : List Loc) (ls : Array Slot), L + 2 < i + k → i ≤ L + 1 → I0 n t σ0 → J0 n t σ1 → va_P D vwCl (am_w cdX0 dc0 ad0 σ0) H → va_P D vwCl (am_w cdX1 dc1 ad1 σ1) H → va_D (lwA s) (am_w cdX0 dc0 ad0 σ0) → va_D (lwA s) (am_w cdX1 dc1 ad1 σ1) → va_S (lwA s) s.heap H locs → lv_has ls 4 [(0, .ref b), (1, .ref (ad0 0)), (2, .ref (ad1 0)), (3, .int (am_z (i : Int)))] →
      W p l e room_1 s m #[Value.ref b] below meth c H locs cells slots (lw_Z below #[Value.ref b] s) (F0 m 18 ls []) := by
  obtain ⟨hx, hb, hr, hml, hown, htsT, hXs, hbl, hlk, hgv⟩ := C0
  have hts : ∀ w ∈ lw_all, w.before #[Value.ref b] s = true := fun w h => htsT w (lw_all_tbl h)
  have hA : ∀ q : Nat, s.heap.size ≤ q → lwA s q := fun q h => h
  have hbA : ¬ lwA s b := fun h => absurd hbl (Nat.not_lt.mpr h)
  have S : CallFix p m c code 4 s #[Value.ref b] lw_all R_law := ⟨hx, hb, hml, hown, hts⟩
  have hap01 : ∀ (σ : am_S) (k : Nat) (x : Nat × va_E), (am_w cdX1 dc1 ad1 σ)[k]? = some x → x.1 ∉ am_ads cdX0 ad0 := fun σ k x h q => hap x.1 q (am_w_ad h)
  have hap10 : ∀ (σ : am_S) (k : Nat) (x : Nat × va_E), (am_w cdX0 dc0 ad0 σ)[k]? = some x → x.1 ∉ am_ads cdX1 ad1 := fun σ k x h => hap x.1 (am_w_ad h)
  intro k
  induction k with
  | zero => intro i n t σ0 σ1 H locs ls h1 h2; exact absurd h1 (by omega)
  | succ k ih =>
    intro i n t σ0 σ1 H locs ls hk hi hI hJ hP0 hP1 hD0 hD1 hS hl
    have esub : Int32.ofNat L - am_z 2 = am_z ((L : Int) - 2) := by rw [am_sub, am_nI]; rfl
    refine lv_iload_n hx hb dL_law_18 rfl (lv_at hl 3 rfl) ?_
    refine lv_aload_n hx hb dL_law_19 rfl (lv_at hl 0 rfl) ?_
    refine va_slen hx hb hXs hbl hbA hS dL_law_20 ?_
    refine lv_iconst (v := am_z 2) hx hb dL_law_21 (by decide) ?_
    refine lv_isub (x := Int32.ofNat L) (y := am_z 2) hx hb dL_law_22 ?_
    rw [esub]
    refine lv_icmp_gt (tgt := 301) (x := am_z (i : Int)) (y := am_z ((L : Int) - 2)) hx hb dL_law_23 (by decide) (fun h => ?_) (fun h => ?_)
    · refine lv_iconst (v := 1) hx hb dL_law_301 (by decide) ?_
      refine va_forget (fun q hq => hS.2.2 q hq) ?_
      refine W.widen (k := 600000) (n := 7290000) hcs.1 hcs.2 ?_
      exact lw_ret hx hb hr hlk dL_law_302
    · have hi2 : i + 2 ≤ L := by
        rw [am_lt (by omega) (by omega)] at h
        omega
      have hin1 : vp_in (am_z ((i + 1 : Nat) : Int)) L := am_in (by omega) (by omega)
      have ei1 : am_z (i : Int) + am_z 1 = am_z ((i + 1 : Nat) : Int) := by rw [← am_add]; rfl
      have ecl : (am_z ((i + 1 : Nat) : Int)).toNatClampNeg = i + 1 := am_cl (by omega)
      obtain ⟨z, ez, hz⟩ : ∃ z : Int, xs (i + 1) = am_z z ∧ (-2147483648 ≤ z ∧ z < 2147483648) := ⟨(xs (i + 1)).toInt, am_of _, Int32.le_toInt _, Int32.toInt_lt _⟩
      refine lv_aload_n hx hb dL_law_26 rfl (lv_at hl 0 rfl) ?_
      refine lv_iload_n hx hb dL_law_27 rfl (lv_at hl 3 rfl) ?_
      refine va_sld hx hb hXs hbl hbA hS (am_in (by omega) (by omega)) dL_law_28 ?_
      rw [am_cl (by omega)]
      refine lv_bipush (v := 15) hx hb dL_law_29 (by decide) ?_
      refine lv_iand (x := xs i) (y := 15) hx hb dL_law_31 ?_
      obtain ⟨d, hd16, ed⟩ := law_and (xs i)
      rw [ed]
      have next : ∀ (n' : Nat) (t' : Nat → Nat) (σ0' σ1' : am_S) (H' : Heap) (locs' : List Loc), I0 n' t' σ0' → J0 n' t' σ1' → va_P D vwCl (am_w cdX0 dc0 ad0 σ0') H' → va_P D vwCl (am_w cdX1 dc1 ad1 σ1') H' → va_D (lwA s) (am_w cdX0 dc0 ad0 σ0') → va_D (lwA s) (am_w cdX1 dc1 ad1 σ1') → va_S (lwA s) s.heap H' locs' →
          W p l e room_1 s m #[Value.ref b] below meth c H' locs' cells slots (lw_Z below #[Value.ref b] s) (F0 m 295 ls []) := by
        intro n' t' σ0' σ1' H' locs' a1 a2 a3 a4 a5 a6 a7
        refine lv_iinc (v := am_z ((i + 2 : Nat) : Int)) (lv' := [(3, .int (am_z ((i + 2 : Nat) : Int))), (0, .ref b), (1, .ref (ad0 0)), (2, .ref (ad1 0))]) hx hb dL_law_295 hl (k := 3) rfl (by rw [show ((i + 2 : Nat) : Int) = (i : Int) + 2 by omega, am_add]; rfl) (by decide) rfl (fun ls hl => ?_)
        refine lv_goto (tgt := 18) hx hb dL_law_298 (by decide) ?_
        exact ih (i + 2) n' t' σ0' σ1' H' locs' ls (by omega) (by omega) a1 a2 a3 a4 a5 a6 a7 (lv_sub hl [1, 2, 3, 0] rfl)
      have hdd : d = 0 ∨ d = 1 ∨ d = 2 ∨ d = 3 ∨ d = 4 ∨ d = 5 ∨ d = 6 ∨ d = 7 ∨ d = 8 ∨ d = 9 ∨ d = 10 ∨ d = 11 ∨ d = 12 ∨ d = 13 ∨ d = 14 ∨ d = 15 := by omega
      rcases hdd with rfl | rfl | rfl | rfl | rfl | rfl | rfl | rfl | rfl | rfl | rfl | rfl | rfl | rfl | rfl | rfl
      · refine lv_tableIn (off := 60) (tgt := 92) hx hb dL_law_32 (by decide) (by decide) (by decide) (by decide) ?_
        refine lv_aload_n hx hb dL_law_92 rfl (lv_at hl 1 rfl) ?_
        refine lv_aload_n hx hb dL_law_93 rfl (lv_at hl 0 rfl) ?_
        refine lv_iload_n hx hb dL_law_94 rfl (lv_at hl 3 rfl) ?_
        refine lv_iconst (v := am_z 1) hx hb dL_law_95 (by decide) ?_
        refine lv_iadd (x := am_z (i : Int)) (y := am_z 1) hx hb dL_law_96 ?_
        rw [ei1]
        refine va_sld hx hb hXs hbl hbA hS hin1 dL_law_97 ?_
        rw [ecl, ez]
        refine lw_call S (met_type n t z) [z] rfl (lw_V q103 q104 q105 q29 q106) ⟨rfl, rfl⟩ (nA := 1) (by decide +kernel) ⟨by decide, by decide⟩ rfl rfl (Nat.le_of_ble_eq_true rfl) hl.1 dL_law_98 hcs hK0 hP0 hD0 hS hA hP1 (hap01 _) ⟨rfl, hz, hI⟩ (fun v1 σ0a H1 locs1 hq1 hP0a hD0a hP1a hSa => ?_)
        obtain ⟨hv1, hIa⟩ := hq1
        refine lv_aload_n hx hb dL_law_101 rfl (lv_at hl 2 rfl) ?_
        refine lv_aload_n hx hb dL_law_102 rfl (lv_at hl 0 rfl) ?_
        refine lv_iload_n hx hb dL_law_103 rfl (lv_at hl 3 rfl) ?_
        refine lv_iconst (v := am_z 1) hx hb dL_law_104 (by decide) ?_
        refine lv_iadd (x := am_z (i : Int)) (y := am_z 1) hx hb dL_law_105 ?_
        rw [ei1]
        refine va_sld hx hb hXs hbl hbA hSa hin1 dL_law_106 ?_
        rw [ecl, ez]
        refine lw_call S (mm_type n t z) [z] rfl (lw_V q260 q261 q262 q30 q263) ⟨rfl, rfl⟩ (nA := 1) (by decide +kernel) ⟨by decide, by decide⟩ rfl rfl (Nat.le_of_ble_eq_true rfl) hl.1 dL_law_107 hcs hK1 hP1a hD1 hSa hA hP0a (hap10 _) ⟨rfl, hz, hJ⟩ (fun v2 σ1a H2 locs2 hq2 hP1b hD1b hP0b hSb => ?_)
        obtain ⟨hv2, hJa⟩ := hq2
        have ev : v1 = v2 := by rw [hv1, hv2]
        refine lv_icmp_eq (tgt := 295) hx hb dL_law_110 (by decide) (fun _ => ?_) (fun hne => absurd (by rw [ev]) hne)
        exact next _ _ _ _ _ _ hIa hJa hP0b hP1b hD0a hD1b hSb
      · refine lv_tableIn (off := 83) (tgt := 115) hx hb dL_law_32 (by decide) (by decide) (by decide) (by decide) ?_
        refine lv_aload_n hx hb dL_law_115 rfl (lv_at hl 1 rfl) ?_
        refine lv_aload_n hx hb dL_law_116 rfl (lv_at hl 0 rfl) ?_
        refine lv_iload_n hx hb dL_law_117 rfl (lv_at hl 3 rfl) ?_
        refine lv_iconst (v := am_z 1) hx hb dL_law_118 (by decide) ?_
        refine lv_iadd (x := am_z (i : Int)) (y := am_z 1) hx hb dL_law_119 ?_
        rw [ei1]
        refine va_sld hx hb hXs hbl hbA hS hin1 dL_law_120 ?_
        rw [ecl, ez]
        refine lw_call S (met_repeat n t z) [z] rfl (lw_V q107 q108 q109 q29 q110) ⟨rfl, rfl⟩ (nA := 1) (by decide +kernel) ⟨by decide, by decide⟩ rfl rfl (Nat.le_of_ble_eq_true rfl) hl.1 dL_law_121 hcs hK0 hP0 hD0 hS hA hP1 (hap01 _) ⟨rfl, hz, hI⟩ (fun v1 σ0a H1 locs1 hq1 hP0a hD0a hP1a hSa => ?_)
        obtain ⟨hv1, hIa⟩ := hq1
        refine lv_aload_n hx hb dL_law_124 rfl (lv_at hl 2 rfl) ?_
        refine lv_aload_n hx hb dL_law_125 rfl (lv_at hl 0 rfl) ?_
        refine lv_iload_n hx hb dL_law_126 rfl (lv_at hl 3 rfl) ?_
        refine lv_iconst (v := am_z 1) hx hb dL_law_127 (by decide) ?_
        refine lv_iadd (x := am_z (i : Int)) (y := am_z 1) hx hb dL_law_128 ?_
        rw [ei1]
        refine va_sld hx hb hXs hbl hbA hSa hin1 dL_law_129 ?_
        rw [ecl, ez]
        refine lw_call S (mm_repeat n t z) [z] rfl (lw_V q264 q265 q266 q30 q267) ⟨rfl, rfl⟩ (nA := 1) (by decide +kernel) ⟨by decide, by decide⟩ rfl rfl (Nat.le_of_ble_eq_true rfl) hl.1 dL_law_130 hcs hK1 hP1a hD1 hSa hA hP0a (hap10 _) ⟨rfl, hz, hJ⟩ (fun v2 σ1a H2 locs2 hq2 hP1b hD1b hP0b hSb => ?_)
        obtain ⟨hv2, hJa⟩ := hq2
        have ev : v1 = v2 := by rw [hv1, hv2]
        refine lv_icmp_eq (tgt := 295) hx hb dL_law_133 (by decide) (fun _ => ?_) (fun hne => absurd (by rw [ev]) hne)
        exact next _ _ _ _ _ _ hIa hJa hP0b hP1b hD0a hD1b hSb
      · refine lv_tableIn (off := 106) (tgt := 138) hx hb dL_law_32 (by decide) (by decide) (by decide) (by decide) ?_
        refine lv_aload_n hx hb dL_law_138 rfl (lv_at hl 1 rfl) ?_
        refine lw_call S (met_clear n t) [] rfl (lw_V q111 q112 q113 q29 q114) ⟨rfl, rfl⟩ (nA := 0) (by decide +kernel) ⟨by decide, by decide⟩ rfl rfl (Nat.le_of_ble_eq_true rfl) hl.1 dL_law_139 hcs hK0 hP0 hD0 hS hA hP1 (hap01 _) ⟨rfl, hI⟩ (fun v1 σ0a H1 locs1 hq1 hP0a hD0a hP1a hSa => ?_)
        obtain ⟨hv1, hIa⟩ := hq1
        refine lv_aload_n hx hb dL_law_142 rfl (lv_at hl 2 rfl) ?_
        refine lw_call S (mm_clear n t) [] rfl (lw_V q268 q269 q270 q30 q271) ⟨rfl, rfl⟩ (nA := 0) (by decide +kernel) ⟨by decide, by decide⟩ rfl rfl (Nat.le_of_ble_eq_true rfl) hl.1 dL_law_143 hcs hK1 hP1a hD1 hSa hA hP0a (hap10 _) ⟨rfl, hJ⟩ (fun v2 σ1a H2 locs2 hq2 hP1b hD1b hP0b hSb => ?_)
        obtain ⟨hv2, hJa⟩ := hq2
        have ev : v1 = v2 := by rw [hv1, hv2]
        refine lv_icmp_eq (tgt := 295) hx hb dL_law_146 (by decide) (fun _ => ?_) (fun hne => absurd (by rw [ev]) hne)
        exact next _ _ _ _ _ _ hIa hJa hP0b hP1b hD0a hD1b hSb
      · refine lv_tableIn (off := 119) (tgt := 151) hx hb dL_law_32 (by decide) (by decide) (by decide) (by decide) ?_
        refine lv_aload_n hx hb dL_law_151 rfl (lv_at hl 1 rfl) ?_
        refine lv_aload_n hx hb dL_law_152 rfl (lv_at hl 0 rfl) ?_
        refine lv_iload_n hx hb dL_law_153 rfl (lv_at hl 3 rfl) ?_
        refine lv_iconst (v := am_z 1) hx hb dL_law_154 (by decide) ?_
        refine lv_iadd (x := am_z (i : Int)) (y := am_z 1) hx hb dL_law_155 ?_
        rw [ei1]
        refine va_sld hx hb hXs hbl hbA hS hin1 dL_law_156 ?_
        rw [ecl, ez]
        refine lw_call S (met_column n t z) [z] rfl (lw_V q115 q116 q117 q29 q118) ⟨rfl, rfl⟩ (nA := 1) (by decide +kernel) ⟨by decide, by decide⟩ rfl rfl (Nat.le_of_ble_eq_true rfl) hl.1 dL_law_157 hcs hK0 hP0 hD0 hS hA hP1 (hap01 _) ⟨rfl, hz, hI⟩ (fun v1 σ0a H1 locs1 hq1 hP0a hD0a hP1a hSa => ?_)
        obtain ⟨hv1, hIa⟩ := hq1
        refine lv_aload_n hx hb dL_law_160 rfl (lv_at hl 2 rfl) ?_
        refine lv_aload_n hx hb dL_law_161 rfl (lv_at hl 0 rfl) ?_
        refine lv_iload_n hx hb dL_law_162 rfl (lv_at hl 3 rfl) ?_
        refine lv_iconst (v := am_z 1) hx hb dL_law_163 (by decide) ?_
        refine lv_iadd (x := am_z (i : Int)) (y := am_z 1) hx hb dL_law_164 ?_
        rw [ei1]
        refine va_sld hx hb hXs hbl hbA hSa hin1 dL_law_165 ?_
        rw [ecl, ez]
        refine lw_call S (mm_column n t z) [z] rfl (lw_V q272 q273 q274 q30 q275) ⟨rfl, rfl⟩ (nA := 1) (by decide +kernel) ⟨by decide, by decide⟩ rfl rfl (Nat.le_of_ble_eq_true rfl) hl.1 dL_law_166 hcs hK1 hP1a hD1 hSa hA hP0a (hap10 _) ⟨rfl, hz, hJ⟩ (fun v2 σ1a H2 locs2 hq2 hP1b hD1b hP0b hSb => ?_)
        obtain ⟨hv2, hJa⟩ := hq2
        have ev : v1 = v2 := by rw [hv1, hv2]
        refine lv_icmp_eq (tgt := 295) hx hb dL_law_169 (by decide) (fun _ => ?_) (fun hne => absurd (by rw [ev]) hne)
        exact next _ _ _ _ _ _ hIa hJa hP0b hP1b hD0a hD1b hSb
      · refine lv_tableIn (off := 142) (tgt := 174) hx hb dL_law_32 (by decide) (by decide) (by decide) (by decide) ?_
        refine lv_aload_n hx hb dL_law_174 rfl (lv_at hl 1 rfl) ?_
        refine lw_call S (met_mark n t) [] rfl (lw_V q175 q176 q177 q29 q178) ⟨rfl, rfl⟩ (nA := 0) (by decide +kernel) ⟨by decide, by decide⟩ rfl rfl (Nat.le_of_ble_eq_true rfl) hl.1 dL_law_175 hcs hK0 hP0 hD0 hS hA hP1 (hap01 _) ⟨rfl, hI⟩ (fun v1 σ0a H1 locs1 hq1 hP0a hD0a hP1a hSa => ?_)
        obtain ⟨hv1, hIa⟩ := hq1
        refine lv_aload_n hx hb dL_law_178 rfl (lv_at hl 2 rfl) ?_
        refine lw_call S (mm_mark n t) [] rfl (lw_V q300 q301 q302 q30 q303) ⟨rfl, rfl⟩ (nA := 0) (by decide +kernel) ⟨by decide, by decide⟩ rfl rfl (Nat.le_of_ble_eq_true rfl) hl.1 dL_law_179 hcs hK1 hP1a hD1 hSa hA hP0a (hap10 _) ⟨rfl, hJ⟩ (fun v2 σ1a H2 locs2 hq2 hP1b hD1b hP0b hSb => ?_)
        obtain ⟨hv2, hJa⟩ := hq2
        have ev : v1 = v2 := by rw [hv1, hv2]
        refine lv_icmp_eq (tgt := 295) hx hb dL_law_182 (by decide) (fun _ => ?_) (fun hne => absurd (by rw [ev]) hne)
        exact next _ _ _ _ _ _ hIa hJa hP0b hP1b hD0a hD1b hSb
      · refine lv_tableIn (off := 155) (tgt := 187) hx hb dL_law_32 (by decide) (by decide) (by decide) (by decide) ?_
        refine lv_aload_n hx hb dL_law_187 rfl (lv_at hl 1 rfl) ?_
        refine lv_aload_n hx hb dL_law_188 rfl (lv_at hl 0 rfl) ?_
        refine lv_iload_n hx hb dL_law_189 rfl (lv_at hl 3 rfl) ?_
        refine lv_iconst (v := am_z 1) hx hb dL_law_190 (by decide) ?_
        refine lv_iadd (x := am_z (i : Int)) (y := am_z 1) hx hb dL_law_191 ?_
        rw [ei1]
        refine va_sld hx hb hXs hbl hbA hS hin1 dL_law_192 ?_
        rw [ecl, ez]
        refine lw_call S (met_rank n t z) [z] rfl (lw_V q179 q180 q181 q29 q182) ⟨rfl, rfl⟩ (nA := 1) (by decide +kernel) ⟨by decide, by decide⟩ rfl rfl (Nat.le_of_ble_eq_true rfl) hl.1 dL_law_193 hcs hK0 hP0 hD0 hS hA hP1 (hap01 _) ⟨rfl, hz, hI⟩ (fun v1 σ0a H1 locs1 hq1 hP0a hD0a hP1a hSa => ?_)
        obtain ⟨hv1, hIa⟩ := hq1
        refine lv_aload_n hx hb dL_law_196 rfl (lv_at hl 2 rfl) ?_
        refine lv_aload_n hx hb dL_law_197 rfl (lv_at hl 0 rfl) ?_
        refine lv_iload_n hx hb dL_law_198 rfl (lv_at hl 3 rfl) ?_
        refine lv_iconst (v := am_z 1) hx hb dL_law_199 (by decide) ?_
        refine lv_iadd (x := am_z (i : Int)) (y := am_z 1) hx hb dL_law_200 ?_
        rw [ei1]
        refine va_sld hx hb hXs hbl hbA hSa hin1 dL_law_201 ?_
        rw [ecl, ez]
        refine lw_call S (mm_rank n t z) [z] rfl (lw_V q304 q305 q306 q30 q307) ⟨rfl, rfl⟩ (nA := 1) (by decide +kernel) ⟨by decide, by decide⟩ rfl rfl (Nat.le_of_ble_eq_true rfl) hl.1 dL_law_202 hcs hK1 hP1a hD1 hSa hA hP0a (hap10 _) ⟨rfl, hz, hJ⟩ (fun v2 σ1a H2 locs2 hq2 hP1b hD1b hP0b hSb => ?_)
        obtain ⟨hv2, hJa⟩ := hq2
        have ev : v1 = v2 := by rw [hv1, hv2]
        refine lv_icmp_eq (tgt := 295) hx hb dL_law_205 (by decide) (fun _ => ?_) (fun hne => absurd (by rw [ev]) hne)
        exact next _ _ _ _ _ _ hIa hJa hP0b hP1b hD0a hD1b hSb
      · refine lv_tableIn (off := 178) (tgt := 210) hx hb dL_law_32 (by decide) (by decide) (by decide) (by decide) ?_
        refine lv_aload_n hx hb dL_law_210 rfl (lv_at hl 1 rfl) ?_
        refine lw_call S (met_symbols n t) [] rfl (lw_V q183 q184 q185 q29 q186) ⟨rfl, rfl⟩ (nA := 0) (by decide +kernel) ⟨by decide, by decide⟩ rfl rfl (Nat.le_of_ble_eq_true rfl) hl.1 dL_law_211 hcs hK0 hP0 hD0 hS hA hP1 (hap01 _) ⟨rfl, hI⟩ (fun v1 σ0a H1 locs1 hq1 hP0a hD0a hP1a hSa => ?_)
        obtain ⟨hv1, hIa⟩ := hq1
        refine lv_aload_n hx hb dL_law_214 rfl (lv_at hl 2 rfl) ?_
        refine lw_call S (mm_symbols n t) [] rfl (lw_V q308 q309 q310 q30 q311) ⟨rfl, rfl⟩ (nA := 0) (by decide +kernel) ⟨by decide, by decide⟩ rfl rfl (Nat.le_of_ble_eq_true rfl) hl.1 dL_law_215 hcs hK1 hP1a hD1 hSa hA hP0a (hap10 _) ⟨rfl, hJ⟩ (fun v2 σ1a H2 locs2 hq2 hP1b hD1b hP0b hSb => ?_)
        obtain ⟨hv2, hJa⟩ := hq2
        have ev : v1 = v2 := by rw [hv1, hv2]
        refine lv_icmp_eq (tgt := 295) hx hb dL_law_218 (by decide) (fun _ => ?_) (fun hne => absurd (by rw [ev]) hne)
        exact next _ _ _ _ _ _ hIa hJa hP0b hP1b hD0a hD1b hSb
      · refine lv_tableIn (off := 191) (tgt := 223) hx hb dL_law_32 (by decide) (by decide) (by decide) (by decide) ?_
        refine lv_aload_n hx hb dL_law_223 rfl (lv_at hl 1 rfl) ?_
        refine lv_aload_n hx hb dL_law_224 rfl (lv_at hl 0 rfl) ?_
        refine lv_iload_n hx hb dL_law_225 rfl (lv_at hl 3 rfl) ?_
        refine lv_iconst (v := am_z 1) hx hb dL_law_226 (by decide) ?_
        refine lv_iadd (x := am_z (i : Int)) (y := am_z 1) hx hb dL_law_227 ?_
        rw [ei1]
        refine va_sld hx hb hXs hbl hbA hS hin1 dL_law_228 ?_
        rw [ecl, ez]
        refine lw_call S (met_symbol n t z) [z] rfl (lw_V q187 q188 q189 q29 q190) ⟨rfl, rfl⟩ (nA := 1) (by decide +kernel) ⟨by decide, by decide⟩ rfl rfl (Nat.le_of_ble_eq_true rfl) hl.1 dL_law_229 hcs hK0 hP0 hD0 hS hA hP1 (hap01 _) ⟨rfl, hz, hI⟩ (fun v1 σ0a H1 locs1 hq1 hP0a hD0a hP1a hSa => ?_)
        obtain ⟨hv1, hIa⟩ := hq1
        refine lv_aload_n hx hb dL_law_232 rfl (lv_at hl 2 rfl) ?_
        refine lv_aload_n hx hb dL_law_233 rfl (lv_at hl 0 rfl) ?_
        refine lv_iload_n hx hb dL_law_234 rfl (lv_at hl 3 rfl) ?_
        refine lv_iconst (v := am_z 1) hx hb dL_law_235 (by decide) ?_
        refine lv_iadd (x := am_z (i : Int)) (y := am_z 1) hx hb dL_law_236 ?_
        rw [ei1]
        refine va_sld hx hb hXs hbl hbA hSa hin1 dL_law_237 ?_
        rw [ecl, ez]
        refine lw_call S (mm_symbol n t z) [z] rfl (lw_V q312 q313 q314 q30 q315) ⟨rfl, rfl⟩ (nA := 1) (by decide +kernel) ⟨by decide, by decide⟩ rfl rfl (Nat.le_of_ble_eq_true rfl) hl.1 dL_law_238 hcs hK1 hP1a hD1 hSa hA hP0a (hap10 _) ⟨rfl, hz, hJ⟩ (fun v2 σ1a H2 locs2 hq2 hP1b hD1b hP0b hSb => ?_)
        obtain ⟨hv2, hJa⟩ := hq2
        have ev : v1 = v2 := by rw [hv1, hv2]
        refine lv_icmp_eq (tgt := 295) hx hb dL_law_241 (by decide) (fun _ => ?_) (fun hne => absurd (by rw [ev]) hne)
        exact next _ _ _ _ _ _ hIa hJa hP0b hP1b hD0a hD1b hSb
      · refine lv_tableIn (off := 214) (tgt := 246) hx hb dL_law_32 (by decide) (by decide) (by decide) (by decide) ?_
        refine lv_aload_n hx hb dL_law_246 rfl (lv_at hl 1 rfl) ?_
        refine lw_call S (met_cost n t) [] rfl (lw_V q191 q192 q193 q29 q194) ⟨rfl, rfl⟩ (nA := 0) (by decide +kernel) ⟨by decide, by decide⟩ rfl rfl (Nat.le_of_ble_eq_true rfl) hl.1 dL_law_247 hcs hK0 hP0 hD0 hS hA hP1 (hap01 _) ⟨rfl, hI⟩ (fun v1 σ0a H1 locs1 hq1 hP0a hD0a hP1a hSa => ?_)
        obtain ⟨hv1, hIa⟩ := hq1
        refine lv_aload_n hx hb dL_law_250 rfl (lv_at hl 2 rfl) ?_
        refine lw_call S (mm_cost n t) [] rfl (lw_V q316 q317 q318 q30 q319) ⟨rfl, rfl⟩ (nA := 0) (by decide +kernel) ⟨by decide, by decide⟩ rfl rfl (Nat.le_of_ble_eq_true rfl) hl.1 dL_law_251 hcs hK1 hP1a hD1 hSa hA hP0a (hap10 _) ⟨rfl, hJ⟩ (fun v2 σ1a H2 locs2 hq2 hP1b hD1b hP0b hSb => ?_)
        obtain ⟨hv2, hJa⟩ := hq2
        obtain ⟨u1, e1, m1⟩ := hv1
        obtain ⟨u2, e2, m2⟩ := hv2
        have ev : v1 = v2 := by rw [e1, e2, MinC_uniq m1 m2]
        refine lv_icmp_eq (tgt := 295) hx hb dL_law_254 (by decide) (fun _ => ?_) (fun hne => absurd (by rw [ev]) hne)
        exact next _ _ _ _ _ _ hIa hJa hP0b hP1b hD0a hD1b hSb
      · refine lv_tableIn (off := 227) (tgt := 259) hx hb dL_law_32 (by decide) (by decide) (by decide) (by decide) ?_
        refine lv_aload_n hx hb dL_law_259 rfl (lv_at hl 1 rfl) ?_
        refine lv_aload_n hx hb dL_law_260 rfl (lv_at hl 0 rfl) ?_
        refine lv_iload_n hx hb dL_law_261 rfl (lv_at hl 3 rfl) ?_
        refine lv_iconst (v := am_z 1) hx hb dL_law_262 (by decide) ?_
        refine lv_iadd (x := am_z (i : Int)) (y := am_z 1) hx hb dL_law_263 ?_
        rw [ei1]
        refine va_sld hx hb hXs hbl hbA hS hin1 dL_law_264 ?_
        rw [ecl, ez]
        refine lw_call S (met_decoded n t z) [z] rfl (lw_V q195 q196 q197 q29 q198) ⟨rfl, rfl⟩ (nA := 1) (by decide +kernel) ⟨by decide, by decide⟩ rfl rfl (Nat.le_of_ble_eq_true rfl) hl.1 dL_law_265 hcs hK0 hP0 hD0 hS hA hP1 (hap01 _) ⟨rfl, hz, hI⟩ (fun v1 σ0a H1 locs1 hq1 hP0a hD0a hP1a hSa => ?_)
        obtain ⟨hv1, hIa⟩ := hq1
        refine lv_aload_n hx hb dL_law_268 rfl (lv_at hl 2 rfl) ?_
        refine lv_aload_n hx hb dL_law_269 rfl (lv_at hl 0 rfl) ?_
        refine lv_iload_n hx hb dL_law_270 rfl (lv_at hl 3 rfl) ?_
        refine lv_iconst (v := am_z 1) hx hb dL_law_271 (by decide) ?_
        refine lv_iadd (x := am_z (i : Int)) (y := am_z 1) hx hb dL_law_272 ?_
        rw [ei1]
        refine va_sld hx hb hXs hbl hbA hSa hin1 dL_law_273 ?_
        rw [ecl, ez]
        refine lw_call S (mm_decoded n t z) [z] rfl (lw_V q332 q333 q334 q30 q335) ⟨rfl, rfl⟩ (nA := 1) (by decide +kernel) ⟨by decide, by decide⟩ rfl rfl (Nat.le_of_ble_eq_true rfl) hl.1 dL_law_274 hcs hK1 hP1a hD1 hSa hA hP0a (hap10 _) ⟨rfl, hz, hJ⟩ (fun v2 σ1a H2 locs2 hq2 hP1b hD1b hP0b hSb => ?_)
        obtain ⟨hv2, hJa⟩ := hq2
        have ev : v1 = v2 := by rw [hv1, hv2]
        refine lv_icmp_eq (tgt := 295) hx hb dL_law_277 (by decide) (fun _ => ?_) (fun hne => absurd (by rw [ev]) hne)
        exact next _ _ _ _ _ _ hIa hJa hP0b hP1b hD0a hD1b hSb
      · refine lv_tableIn (off := 250) (tgt := 282) hx hb dL_law_32 (by decide) (by decide) (by decide) (by decide) ?_
        refine lv_aload_n hx hb dL_law_282 rfl (lv_at hl 1 rfl) ?_
        refine lw_call S (met_different n t) [] rfl (lw_V q219 q220 q221 q29 q222) ⟨rfl, rfl⟩ (nA := 0) (by decide +kernel) ⟨by decide, by decide⟩ rfl rfl (Nat.le_of_ble_eq_true rfl) hl.1 dL_law_283 hcs hK0 hP0 hD0 hS hA hP1 (hap01 _) ⟨rfl, hI⟩ (fun v1 σ0a H1 locs1 hq1 hP0a hD0a hP1a hSa => ?_)
        obtain ⟨hv1, hIa⟩ := hq1
        refine lv_aload_n hx hb dL_law_286 rfl (lv_at hl 2 rfl) ?_
        refine lw_call S (mm_different n t) [] rfl (lw_V q336 q337 q338 q30 q339) ⟨rfl, rfl⟩ (nA := 0) (by decide +kernel) ⟨by decide, by decide⟩ rfl rfl (Nat.le_of_ble_eq_true rfl) hl.1 dL_law_287 hcs hK1 hP1a hD1 hSa hA hP0a (hap10 _) ⟨rfl, hJ⟩ (fun v2 σ1a H2 locs2 hq2 hP1b hD1b hP0b hSb => ?_)
        obtain ⟨hv2, hJa⟩ := hq2
        have ev : v1 = v2 := by rw [hv1, hv2]
        refine lv_icmp_eq (tgt := 295) hx hb dL_law_290 (by decide) (fun _ => ?_) (fun hne => absurd (by rw [ev]) hne)
        exact next _ _ _ _ _ _ hIa hJa hP0b hP1b hD0a hD1b hSb
      · refine lv_tableOut (tgt := 295) hx hb dL_law_32 (by decide) (by decide) ?_
        exact next _ _ _ _ _ _ hI hJ hP0 hP1 hD0 hD1 hS
      · refine lv_tableOut (tgt := 295) hx hb dL_law_32 (by decide) (by decide) ?_
        exact next _ _ _ _ _ _ hI hJ hP0 hP1 hD0 hD1 hS
      · refine lv_tableOut (tgt := 295) hx hb dL_law_32 (by decide) (by decide) ?_
        exact next _ _ _ _ _ _ hI hJ hP0 hP1 hD0 hD1 hS
      · refine lv_tableOut (tgt := 295) hx hb dL_law_32 (by decide) (by decide) ?_
        exact next _ _ _ _ _ _ hI hJ hP0 hP1 hD0 hD1 hS
      · refine lv_tableOut (tgt := 295) hx hb dL_law_32 (by decide) (by decide) ?_
        exact next _ _ _ _ _ _ hI hJ hP0 hP1 hD0 hD1 hS
end
section
/-! THE LAW: its start -/
set_option maxRecDepth 100000
theorem law_classes {s0 : State} {b0 : Addr} (ht0 : ∀ w ∈ lw_tbl, w.before #[Value.ref b0] s0 = true) : ∃ D : va_G, va_K D vwCl [] s0 := by
  obtain ⟨c0_, iS0, hKn0⟩ := u_known (C := RX0) (T := TX0) (N := 20) (n := 20) ht0 (fun w h => lw_all_tbl (in_X0 w h)) (ht0 _ (lw_all_tbl q32))
  obtain ⟨c1_, iS1, hKn1⟩ := u_known (C := RX1) (T := TX1) (N := 10) (n := 10) ht0 (fun w h => lw_all_tbl (in_X1 w h)) (ht0 _ (lw_all_tbl q224))
  refine ⟨(fun k => if k = 0 then c0_ else c1_, fun k => if k = 0 then iS0 else iS1), ?_, fun k q h => by simp at h⟩
  intro k q hq
  match k, hq with
  | 0, hq => cases hq; exact hKn0
  | 1, hq => cases hq; exact hKn1
  | k + 2, hq => simp [vwCl] at hq
theorem fsX0_ok : ∀ j, j < 20 → defaultValue (tyX0 j) = vp_V fsX0 j := by
  intro j hj
  rcases (show j = 0 ∨ j = 1 ∨ j = 2 ∨ j = 3 ∨ j = 4 ∨ j = 5 ∨ j = 6 ∨ j = 7 ∨ j = 8 ∨ j = 9 ∨ j = 10 ∨ j = 11 ∨ j = 12 ∨ j = 13 ∨ j = 14 ∨ j = 15 ∨ j = 16 ∨ j = 17 ∨ j = 18 ∨ j = 19 by omega) with rfl | rfl | rfl | rfl | rfl | rfl | rfl | rfl | rfl | rfl | rfl | rfl | rfl | rfl | rfl | rfl | rfl | rfl | rfl | rfl <;> rfl
theorem fsX1_ok : ∀ j, j < 10 → defaultValue (tyX1 j) = vp_V fsX1 j := by
  intro j hj
  rcases (show j = 0 ∨ j = 1 ∨ j = 2 ∨ j = 3 ∨ j = 4 ∨ j = 5 ∨ j = 6 ∨ j = 7 ∨ j = 8 ∨ j = 9 by omega) with rfl | rfl | rfl | rfl | rfl | rfl | rfl | rfl | rfl | rfl <;> rfl
theorem I0_start (t : Nat → Nat) : I0 0 t zeS := ⟨rfl, by omega, fun j hj => absurd hj (by omega), fun j hj => absurd hj (by omega), Or.inl rfl⟩
theorem J0_start (t : Nat → Nat) : J0 0 t zeS := ⟨rfl, by omega, fun j hj => absurd hj (by omega), fun j hj => absurd hj (by omega)⟩
set_option maxHeartbeats 4000000 in
/-- from the entry, for every script of at most 128 ints, the law comes to its end with true -/
theorem whole_start {p : Program} {e : Env} {s : State} {m : MethodId} {below : List Frame} {meth : Method} {c : Code} (l : Launch) {b L : Nat} {xs : Nat → Int32} (hL : L ≤ 128) (C0 : lw_At p s m meth c b L xs) : W p l e room_1 s m #[Value.ref b] below meth c s.heap [] 0 0 (lw_Z below #[Value.ref b] s) (entryFrame m ([Value.ref b] : List Value).toArray 4) := by
  have C1 := C0
  obtain ⟨hx, hb, hr, hml, hown, htsT, hXs, hbl, hlk, hgv⟩ := C0
  have hts : ∀ w ∈ lw_all, w.before #[Value.ref b] s = true := fun w h => htsT w (lw_all_tbl h)
  have hA : ∀ q : Nat, s.heap.size ≤ q → lwA s q := fun q h => h
  obtain ⟨D, hK⟩ := law_classes htsT
  have hl := lv_entry ([Value.ref b]) (n := 4) (Nat.le_of_ble_eq_true rfl)
  rw [lg_entry_eq]
  generalize (lg_sl ([Value.ref b]) ++ List.replicate (4 - (lg_sl ([Value.ref b])).length) Slot.unset).toArray = ls at hl ⊢
  have hl : lv_has ls 4 [(0, .ref b)] := hl
  have hS : va_S (lwA s) s.heap s.heap [] := va_S.rf
  have hP : va_P D vwCl [] s.heap := fun k q h => by simp at h
  have hD : va_D (lwA s) [] := ⟨fun i j x y h => by simp at h, fun k q h => by simp at h⟩
  refine va_new (ci := 0) (fs := fsX0) (C := RX0) (T := TX0) (N := 20) hx hb hts in_X0 tyX0 tyX0_ok hown (hts _ q31) (hts _ q32) (hts _ q29) hK hP hD hS hA rfl fsX0_ok (Nat.le_of_ble_eq_true rfl) (Nat.le_of_ble_eq_true rfl) dL_law_0 (fun o0 H hP hD hS => ?_)
  have hP : va_P D vwCl [(o0, .inr (0, fsX0))] H := hP
  have hD : va_D (lwA s) [(o0, .inr (0, fsX0))] := hD
  refine lv_dup hx hb dL_law_3 rfl ?_
  have hFc := va_free (wc := [(o0, .inr (0, fsX0))]) hD hS hA [0] rfl
  refine va_callv (va_runI (As := []) (rest := [.ref o0]) ⟨hx, hb, hml, hown, hts⟩ (metX0_init l D o0 H.size) (cwI 0 hts (lw_meth q35) rfl rfl rfl (hts _ q29) (hts _ q33) (hts _ q34) rfl (by decide +kernel) ⟨Nat.le_of_ble_eq_true rfl, Nat.le_of_ble_eq_true rfl⟩) ⟨fun a U g mk q => by obtain ⟨q0, q1, qP, qK, qD⟩ := q; exact ⟨q0, q1, qP, va_K.moved (u := U) (U := U.calling g mk a) (Vm.Alike.refl U.vm) qK, qD⟩, fun U hU hW => ⟨rfl, by rw [hU], by rw [hU]; exact hP, va_K.moved hW.alike hK, hD.weaken (fun _ _ _ _ => trivial)⟩⟩ rfl rfl hl.1 rfl (lv_room (Nat.le_of_ble_eq_true rfl)) dL_law_4 ⟨Nat.le_of_ble_eq_true rfl, Nat.le_of_ble_eq_true rfl⟩) hS (fun q _ h => hFc q h) hFc (fun u t H1 locs1 ht hvm hw1 hB hz1 hk1 hS1 => ?_)
  obtain ⟨dc0, ad0⟩ := u
  have e0 : ad0 0 = o0 := hw1
  obtain ⟨hP0r, hK0r, hD0r⟩ := hB
  rw [ht] at hP0r
  have hK0 : va_K D vwCl (am_t cdX0 dc0) s := va_K.moved hvm.symm hK0r
  have hP0 : va_P D vwCl (am_w cdX0 dc0 ad0 zeS) H1 := hP0r
  have hD0 : va_D (lwA s) (am_w cdX0 dc0 ad0 zeS) := hD0r.weaken (fun _ q _ h => hFc q.1 h)
  refine lv_astore_n (lv' := [(1, .ref o0), (0, .ref b)]) hx hb dL_law_7 rfl hl (by decide) rfl (fun ls hl => ?_)
  refine va_new (ci := 1) (fs := fsX1) (C := RX1) (T := TX1) (N := 10) hx hb hts in_X1 tyX1 tyX1_ok hown (hts _ q223) (hts _ q224) (hts _ q30) hK hP0 hD0 hS1 hA rfl fsX1_ok (Nat.le_of_ble_eq_true rfl) (Nat.le_of_ble_eq_true rfl) dL_law_8 (fun o1 H2 hP2 hD2 hS2 => ?_)
  have hl0 : (am_w cdX0 dc0 ad0 zeS).length = 16 := rfl
  have at1 : (am_w cdX0 dc0 ad0 zeS ++ [(o1, .inr (1, fsX1))])[16]? = some (o1, .inr (1, fsX1)) := rfl
  have hPa : va_P D vwCl (am_w cdX0 dc0 ad0 zeS) H2 := fun k q hk => hP2 k q (by rw [List.getElem?_append_left (List.getElem?_eq_some_iff.mp hk).1]; exact hk)
  have hPb : va_P D vwCl [(o1, .inr (1, fsX1))] H2 := hP2.sub [16] rfl
  have hDb : va_D (lwA s) [(o1, .inr (1, fsX1))] := hD2.sub [16] (by decide) rfl
  have hne : ∀ (k : Nat) (x : Nat × va_E), (am_w cdX0 dc0 ad0 zeS)[k]? = some x → o1 ≠ x.1 := by
    intro k x hx e
    have hk : k < 16 := by rw [← hl0]; exact (List.getElem?_eq_some_iff.mp hx).1
    have := hD2.1 16 k (o1, .inr (1, fsX1)) x at1 (by rw [List.getElem?_append_left (by omega)]; exact hx) e
    omega
  refine lv_dup hx hb dL_law_11 rfl ?_
  have hFd := va_free (wc := [(o1, .inr (1, fsX1))]) hDb hS2 hA [0] rfl
  refine va_callv (va_runI (As := []) (rest := [.ref o1]) ⟨hx, hb, hml, hown, hts⟩ (metX1_init l D o1 H2.size) (cwI 0 hts (lw_meth q227) rfl rfl rfl (hts _ q30) (hts _ q225) (hts _ q226) rfl (by decide +kernel) ⟨Nat.le_of_ble_eq_true rfl, Nat.le_of_ble_eq_true rfl⟩) ⟨fun a U g mk q => by obtain ⟨q0, q1, qP, qK, qD⟩ := q; exact ⟨q0, q1, qP, va_K.moved (u := U) (U := U.calling g mk a) (Vm.Alike.refl U.vm) qK, qD⟩, fun U hU hW => ⟨rfl, by rw [hU], by rw [hU]; exact hPb, va_K.moved hW.alike hK, hDb.weaken (fun _ _ _ _ => trivial)⟩⟩ rfl rfl hl.1 rfl (lv_room (Nat.le_of_ble_eq_true rfl)) dL_law_12 ⟨Nat.le_of_ble_eq_true rfl, Nat.le_of_ble_eq_true rfl⟩) hS2 (fun q _ h => hFd q h) hFd (fun u t3 H3 locs3 ht3 hvm3 hw3 hB3 hz3 hk3 hS3 => ?_)
  obtain ⟨dc1, ad1⟩ := u
  have e1 : ad1 0 = o1 := hw3
  obtain ⟨hP1r, hK1r, hD1r⟩ := hB3
  rw [ht3] at hP1r
  have hK1 : va_K D vwCl (am_t cdX1 dc1) s := va_K.moved hvm3.symm hK1r
  have hP1 : va_P D vwCl (am_w cdX1 dc1 ad1 zeS) H3 := hP1r
  have hP0' : va_P D vwCl (am_w cdX0 dc0 ad0 zeS) H3 := rest_kept (wc := [(o1, .inr (1, fsX1))]) hPa (fun k x hx k' y hy => by
    have hz : k' < 1 := (List.getElem?_eq_some_iff.mp hy).1
    rw [show k' = 0 by omega] at hy
    have hy' : y = (o1, .inr (1, fsX1)) := (Option.some.inj hy).symm
    rw [hy']
    exact hne k x hx) hk3
  have hap : ∀ a, a ∈ am_ads cdX0 ad0 → a ∉ am_ads cdX1 ad1 := by
    intro a ha hb1
    obtain ⟨k, x, hx, ex⟩ := am_ad_w dc0 zeS ha
    obtain ⟨k', y, hy, ey⟩ := am_ad_w dc1 zeS hb1
    have hlt := (hPa k x hx).lt
    rcases hD1r.2 k' y hy with ⟨k2, e2, h2⟩ | h2
    · have hz : k2 < 1 := (List.getElem?_eq_some_iff.mp h2).1
      rw [show k2 = 0 by omega] at h2
      have hy' : (y.1, e2) = (o1, .inr (1, fsX1)) := (Option.some.inj h2).symm
      have := congrArg Prod.fst hy'
      exact hne k x hx (by rw [ex, ← ey]; exact this.symm)
    · rw [ey, ← ex] at h2
      exact absurd hlt (Nat.not_lt.mpr h2)
  have hD1 : va_D (lwA s) (am_w cdX1 dc1 ad1 zeS) := hD1r.weaken (fun _ q _ h => hFd q.1 h)
  refine lv_astore_n (lv' := [(2, .ref o1), (1, .ref o0), (0, .ref b)]) hx hb dL_law_15 rfl hl (by decide) rfl (fun ls hl => ?_)
  refine lv_iconst (v := am_z ((0 : Nat) : Int)) hx hb dL_law_16 (by decide) ?_
  refine lv_istore_n (lv' := [(3, .int (am_z ((0 : Nat) : Int))), (2, .ref o1), (1, .ref o0), (0, .ref b)]) hx hb dL_law_17 rfl hl (by decide) rfl (fun ls hl => ?_)
  subst e0
  subst e1
  exact law_loop (ad0 := ad0) (ad1 := ad1) hL C1 ⟨Nat.le_of_ble_eq_true rfl, Nat.le_of_ble_eq_true rfl⟩ hK0 hK1 hap (L + 3) 0 0 (fun _ => 0) zeS zeS H3 locs3 ls (by omega) (by omega) (I0_start _) (J0_start _) hP0' hP1 hD0 hD1 hS3 (lv_sub hl [3, 2, 1, 0] rfl)
end
section
set_option maxRecDepth 100000
set_option maxHeartbeats 4000000 in
theorem lw_walk (l : Launch) (b : Addr) (xs : List Int32) : MetFree l x (headSpec (Jvm.Cond.code x code maxLocals ret :: tables_1) room_1) (lw_P b xs) (fun _ _ _ _ _ => True) lw_Q := by
  refine MetFree.of_bodyS (code := code) (maxLocals := maxLocals) (ret := ret) (by decide) ?_ ?_
  · intro args s m h hn
    obtain ⟨meth, c, h1, h2, h3, h4, h5, h6, -, -⟩ := Cond.code_spec hn (atoms_spec (ws := Jvm.Cond.code x code maxLocals ret :: tables_1) h _ List.mem_cons_self)
    exact ⟨meth, c, h1, h2, h3, h4, h5, h6⟩
  · intro p e s m args below meth c s₁ B hml0 hP _
    obtain ⟨rfl, hx, hbd, hgv⟩ := hP
    obtain ⟨scr, harrAt, hlist, hof, hsmall⟩ := hx
    obtain ⟨hcb, hkn, -, -⟩ := State.arrayAt?_spec harrAt
    have hown : s.vm.findClass R_law = some m.cls := findClass_of_methodNamed B.named
    have hts0 : ∀ c ∈ (Jvm.Cond.code x code maxLocals ret :: tables_1), c.before #[Value.ref b] s = true := atoms_spec (ws := Jvm.Cond.code x code maxLocals ret :: tables_1) B.pre
    have hts : ∀ w ∈ lw_tbl, w.before #[Value.ref b] s = true := k2_hts_sels lw_privs (fun w hw => hts0 w (List.mem_cons_of_mem _ hw)) lw_privs_ok
    have hml : c.maxLocals = 4 := B.maxLocals_eq (hts0 _ List.mem_cons_self)
    have X₀ : Stand p l e room_1 s m #[Value.ref b] below meth c s₁ [] 0 0 := Stand.of_body B
    have hh0 : s₁.heap = s.heap := by rw [B.state]; rfl
    have hsz : scr.slots.size = xs.length := by rw [← Array.length_toList, hlist, List.length_map]
    have hval : ∀ j : Nat, j < xs.length → scr.slots[j]? = some (.int (xs.getD j 0)) := fun j hj => by
      rw [← Array.getElem?_toList, hlist]
      simp [hj]
    have hbl : b < s.heap.size := (Array.getElem?_eq_some_iff.mp hcb).1
    have hX : va_X b xs.length (fun j => xs.getD j 0) s s.heap := ⟨scr, hcb, hof, hkn, hsz, hval⟩
    have K : W p l e room_1 s m #[Value.ref b] below meth c s₁.heap [] 0 0 (lw_Z below #[Value.ref b] s) (entryFrame m ([Value.ref b] : List Value).toArray 4) := by
      rw [hh0]
      exact whole_start l hbd ⟨B.exec, B.bytes, B.returns, hml, hown, hts, hX, hbl, B.notSynchronized, hgv⟩
    obtain ⟨t, a1, o, b1, b2, b3⟩ := K s₁ rfl X₀
    exact ⟨t, o, a1, b1, b2, b3⟩
theorem lw_pre_spec {args : Array Value} {s : State} (h : (Jvm.Cond.and given_1 narrow_1).before args s = true) (hr : rest_1_c.before args s = true) : ∃ (b : Addr) (xs : List Int32), lw_P b xs args s := by
  have hs := flat_of_before _ h
  have hq := flat_of_before _ hr
  have hc : (Cond.count 1).before args s = true := hs _ (by decide +kernel)
  have harr : (Cond.arrayOf (.arg 0) .int).before args s = true := hs _ (by decide +kernel)
  have hle : (Cond.le (.length (.arg 0)) (.int 128)).before args s = true := hs _ (by decide +kernel)
  have hlen : (Cond.isInt (.length (.arg 0))).before args s = true := hq _ (by decide +kernel)
  have hall : (Cond.all (.arg 0) (.isInt (.elem (.arg 0) (.index 0)))).before args s = true := hq _ (by decide +kernel)
  obtain ⟨b, xs, hb, hx⟩ := State.ints_of_pre rfl harr hlen hall
  have hsm : xs.length < 2 ^ 31 := hx.choose_spec.2.2.2
  have hev : (Term.length (.arg 0)).eval args s none [] s = some (.int xs.length.toInt32) := hx.length_eval hb
  have hv := Cond.le_ints hev (show (Term.int 128).eval args s none [] s = some (.int 128) from rfl)
  have hd : xs.length.toInt32 ≤ 128 := by
    simpa [Cond.before, Cond.holds, hv] using hle
  have hN : xs.length ≤ 128 := (Int32.ofNat_le_ofNat hsm (by decide)).mp (show Int32.ofNat xs.length ≤ Int32.ofNat 128 from hd)
  exact ⟨b, xs, Cond.one_arg hc (show args[0]? = some (.ref b) from hb), hx, hN, h⟩
theorem lw_comes (l : Launch) : Comes l x (Jvm.Cond.code x code maxLocals ret :: tables_1) room_1 (fun tb e args s => Calls_1 tb e args s ∧ rest_1 tb e args s ∧ Pre_1 tb e args s)
    (fun _ _ args s o t => lw_Q args s o t) := by
  intro p e ha hc hk s m args below hf hfit hheap happ hpre
  obtain ⟨b, xs, hP⟩ := lw_pre_spec hpre.2.2 hpre.2.1
  obtain ⟨k, o, h1, h2, h3, hQ⟩ := lw_walk l b xs p e ha hc hk s m args below hf ((Spec.applies_iff_loose hf).mp happ).1 hP trivial
  exact ⟨k, o, h1, h2, h3, hQ⟩
theorem lw_frame {s t : State} {o : Outcome} {args : Array Value} (h : Framed s o t [] 600000 7290000) :
    Framed s o t (fieldLocs frame_1_writes args s ++ arrayLocs frame_1_arrays args s ++ staticLocs frame_1_statics s) 600000 7290000 := h
theorem lw_limb (L : Cond) (hL : ∀ (args : Array Value) (s t : State), L.after args s (.returned (some (.int 1))) t = true) :
    ArmFor flags0 classFile x code maxLocals ret World_1 tables_1 room_1 Calls_1 rest_1 Pre_1
      (fun tb e a s o t => postC L tb e a s o t ∧ Framed s o t (fieldLocs frame_1_writes a s ++ arrayLocs frame_1_arrays a s ++ staticLocs frame_1_statics s) 600000 7290000) := by
  intro l _ _ _ p e ha hc hk s m args below hf hfit hheap happ hpre
  obtain ⟨k, o, h1, h2, h3, rfl, hF⟩ := lw_comes l p e ha hc hk s m args below hf hfit hheap happ hpre
  exact ⟨k, _, h1, h2, h3, hL args s _, lw_frame hF⟩
theorem i_vc : Claimed_1_1 ∧ Claimed_1_2 := ⟨lw_limb limb_1_1 (fun args s t => by simp [limb_1_1, Cond.after, Cond.holds, Cond.value]), lw_limb limb_1_2 (fun args s t => Cond.after_iff.mpr (by
  first | (rw [show limb_1_2 = Cond.eq .result (.int 1) from rfl, Cond.eq_ints (x := 1) (y := 1) rfl rfl]; simp; done) | (simp [limb_1_2, Cond.value, Term.eval]; done)))⟩
end
