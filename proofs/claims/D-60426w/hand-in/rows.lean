section
-- ===== PART A: goes FIRST, ahead of the names: the tables' words, and 'selects' of the private methods out of them =====
/-- a private method of a class that the tables say can be made, by its rows of tables_1 -/
def lw_okq (q : MethodName × Nat) : Prop := (q.1.cls ≠ "java/lang/invoke/MethodHandle" ∧ q.1.cls ≠ "java/lang/invoke/VarHandle") ∧ Cond.instantiable q.1.cls q.2 ∈ tables_1 ∧ Cond.privateMethod q.1 ∈ tables_1 ∧ Cond.instanceMethod q.1 ∈ tables_1
set_option maxRecDepth 100000
theorem lw_t1 {w : Cond} (h : w ∈ tables_1_1) : w ∈ tables_1 := List.mem_append_left _ h
theorem lw_t2 {w : Cond} (h : w ∈ tables_1_2) : w ∈ tables_1 := List.mem_append_right _ h
theorem lw_p0 : lw_okq (⟨"OrderedKeys", "badField", "(I)Z"⟩, 15) := ⟨⟨by decide +kernel, by decide +kernel⟩, lw_t1 (List.mem_of_getElem? (i := 4) rfl), lw_t1 (List.mem_of_getElem? (i := 65) rfl), lw_t1 (List.mem_of_getElem? (i := 66) rfl)⟩
theorem lw_p1 : lw_okq (⟨"OrderedKeys", "isText", "(I)Z"⟩, 15) := ⟨⟨by decide +kernel, by decide +kernel⟩, lw_t1 (List.mem_of_getElem? (i := 4) rfl), lw_t1 (List.mem_of_getElem? (i := 73) rfl), lw_t1 (List.mem_of_getElem? (i := 74) rfl)⟩
theorem lw_p2 : lw_okq (⟨"OrderedKeys", "encode", "(I)V"⟩, 15) := ⟨⟨by decide +kernel, by decide +kernel⟩, lw_t1 (List.mem_of_getElem? (i := 4) rfl), lw_t1 (List.mem_of_getElem? (i := 89) rfl), lw_t1 (List.mem_of_getElem? (i := 90) rfl)⟩
theorem lw_p3 : lw_okq (⟨"OrderedKeys", "nullsFirst", "(I)Z"⟩, 15) := ⟨⟨by decide +kernel, by decide +kernel⟩, lw_t1 (List.mem_of_getElem? (i := 4) rfl), lw_t1 (List.mem_of_getElem? (i := 93) rfl), lw_t1 (List.mem_of_getElem? (i := 94) rfl)⟩
theorem lw_p4 : lw_okq (⟨"OrderedKeys", "emit", "(I)V"⟩, 15) := ⟨⟨by decide +kernel, by decide +kernel⟩, lw_t1 (List.mem_of_getElem? (i := 4) rfl), lw_t1 (List.mem_of_getElem? (i := 97) rfl), lw_t1 (List.mem_of_getElem? (i := 98) rfl)⟩
theorem lw_p5 : lw_okq (⟨"OrderedKeys", "emitText", "(I)V"⟩, 15) := ⟨⟨by decide +kernel, by decide +kernel⟩, lw_t1 (List.mem_of_getElem? (i := 4) rfl), lw_t1 (List.mem_of_getElem? (i := 101) rfl), lw_t1 (List.mem_of_getElem? (i := 102) rfl)⟩
theorem lw_p6 : lw_okq (⟨"OrderedKeys", "emitTurned", "(II)V"⟩, 15) := ⟨⟨by decide +kernel, by decide +kernel⟩, lw_t1 (List.mem_of_getElem? (i := 4) rfl), lw_t1 (List.mem_of_getElem? (i := 105) rfl), lw_t1 (List.mem_of_getElem? (i := 106) rfl)⟩
theorem lw_p7 : lw_okq (⟨"OrderedKeys", "descending", "(I)Z"⟩, 15) := ⟨⟨by decide +kernel, by decide +kernel⟩, lw_t1 (List.mem_of_getElem? (i := 4) rfl), lw_t1 (List.mem_of_getElem? (i := 109) rfl), lw_t1 (List.mem_of_getElem? (i := 110) rfl)⟩
theorem lw_p8 : lw_okq (⟨"OrderedKeys", "emitInt", "(I)V"⟩, 15) := ⟨⟨by decide +kernel, by decide +kernel⟩, lw_t1 (List.mem_of_getElem? (i := 4) rfl), lw_t1 (List.mem_of_getElem? (i := 113) rfl), lw_t1 (List.mem_of_getElem? (i := 114) rfl)⟩
theorem lw_p9 : lw_okq (⟨"OrderedKeys", "bound", "(ZZ)I"⟩, 15) := ⟨⟨by decide +kernel, by decide +kernel⟩, lw_t1 (List.mem_of_getElem? (i := 4) rfl), lw_t1 (List.mem_of_getElem? (i := 118) rfl), lw_t1 (List.mem_of_getElem? (i := 119) rfl)⟩
theorem lw_p10 : lw_okq (⟨"OrderedKeys", "compare", "(IZ)I"⟩, 15) := ⟨⟨by decide +kernel, by decide +kernel⟩, lw_t1 (List.mem_of_getElem? (i := 4) rfl), lw_t1 (List.mem_of_getElem? (i := 122) rfl), lw_t1 (List.mem_of_getElem? (i := 123) rfl)⟩
theorem lw_p11 : lw_okq (⟨"OrderedKeys", "noEntry", "(I)Z"⟩, 15) := ⟨⟨by decide +kernel, by decide +kernel⟩, lw_t1 (List.mem_of_getElem? (i := 4) rfl), lw_t1 (List.mem_of_getElem? (i := 130) rfl), lw_t1 (List.mem_of_getElem? (i := 131) rfl)⟩
theorem lw_p12 : lw_okq (⟨"OrderedKeys", "seek", "(II)Z"⟩, 15) := ⟨⟨by decide +kernel, by decide +kernel⟩, lw_t1 (List.mem_of_getElem? (i := 4) rfl), lw_t1 (List.mem_of_getElem? (i := 138) rfl), lw_t1 (List.mem_of_getElem? (i := 139) rfl)⟩
theorem lw_p13 : lw_okq (⟨"OrderedKeys", "nextByte", "(I)I"⟩, 15) := ⟨⟨by decide +kernel, by decide +kernel⟩, lw_t1 (List.mem_of_getElem? (i := 4) rfl), lw_t1 (List.mem_of_getElem? (i := 142) rfl), lw_t1 (List.mem_of_getElem? (i := 143) rfl)⟩
theorem lw_p14 : lw_okq (⟨"OrderedKeys", "skipValue", "(II)V"⟩, 15) := ⟨⟨by decide +kernel, by decide +kernel⟩, lw_t1 (List.mem_of_getElem? (i := 4) rfl), lw_t1 (List.mem_of_getElem? (i := 146) rfl), lw_t1 (List.mem_of_getElem? (i := 147) rfl)⟩
theorem lw_p15 : lw_okq (⟨"OrderedKeys", "readChar", "(II)I"⟩, 15) := ⟨⟨by decide +kernel, by decide +kernel⟩, lw_t1 (List.mem_of_getElem? (i := 4) rfl), lw_t1 (List.mem_of_getElem? (i := 150) rfl), lw_t1 (List.mem_of_getElem? (i := 151) rfl)⟩
def lw_privs_1 : List (MethodName × Nat) := [(⟨"OrderedKeys", "badField", "(I)Z"⟩, 15), (⟨"OrderedKeys", "isText", "(I)Z"⟩, 15), (⟨"OrderedKeys", "encode", "(I)V"⟩, 15), (⟨"OrderedKeys", "nullsFirst", "(I)Z"⟩, 15), (⟨"OrderedKeys", "emit", "(I)V"⟩, 15), (⟨"OrderedKeys", "emitText", "(I)V"⟩, 15), (⟨"OrderedKeys", "emitTurned", "(II)V"⟩, 15), (⟨"OrderedKeys", "descending", "(I)Z"⟩, 15), (⟨"OrderedKeys", "emitInt", "(I)V"⟩, 15), (⟨"OrderedKeys", "bound", "(ZZ)I"⟩, 15), (⟨"OrderedKeys", "compare", "(IZ)I"⟩, 15), (⟨"OrderedKeys", "noEntry", "(I)Z"⟩, 15), (⟨"OrderedKeys", "seek", "(II)Z"⟩, 15), (⟨"OrderedKeys", "nextByte", "(I)I"⟩, 15), (⟨"OrderedKeys", "skipValue", "(II)V"⟩, 15), (⟨"OrderedKeys", "readChar", "(II)I"⟩, 15)]
theorem lw_r1 : ∀ q ∈ lw_privs_1, lw_okq q := List.forall_mem_cons.mpr ⟨lw_p0, List.forall_mem_cons.mpr ⟨lw_p1, List.forall_mem_cons.mpr ⟨lw_p2, List.forall_mem_cons.mpr ⟨lw_p3, List.forall_mem_cons.mpr ⟨lw_p4, List.forall_mem_cons.mpr ⟨lw_p5, List.forall_mem_cons.mpr ⟨lw_p6, List.forall_mem_cons.mpr ⟨lw_p7, List.forall_mem_cons.mpr ⟨lw_p8, List.forall_mem_cons.mpr ⟨lw_p9, List.forall_mem_cons.mpr ⟨lw_p10, List.forall_mem_cons.mpr ⟨lw_p11, List.forall_mem_cons.mpr ⟨lw_p12, List.forall_mem_cons.mpr ⟨lw_p13, List.forall_mem_cons.mpr ⟨lw_p14, List.forall_mem_cons.mpr ⟨lw_p15, fun _ h => absurd h List.not_mem_nil⟩⟩⟩⟩⟩⟩⟩⟩⟩⟩⟩⟩⟩⟩⟩⟩
theorem lw_p16 : lw_okq (⟨"OrderedKeys", "nextTurned", "(II)I"⟩, 15) := ⟨⟨by decide +kernel, by decide +kernel⟩, lw_t1 (List.mem_of_getElem? (i := 4) rfl), lw_t1 (List.mem_of_getElem? (i := 154) rfl), lw_t1 (List.mem_of_getElem? (i := 155) rfl)⟩
theorem lw_p17 : lw_okq (⟨"OrderedKeys", "loadField", "(II)V"⟩, 15) := ⟨⟨by decide +kernel, by decide +kernel⟩, lw_t1 (List.mem_of_getElem? (i := 4) rfl), lw_t1 (List.mem_of_getElem? (i := 158) rfl), lw_t1 (List.mem_of_getElem? (i := 159) rfl)⟩
theorem lw_p18 : lw_okq (⟨"OrderedKeys", "readInt", "(II)I"⟩, 15) := ⟨⟨by decide +kernel, by decide +kernel⟩, lw_t1 (List.mem_of_getElem? (i := 4) rfl), lw_t1 (List.mem_of_getElem? (i := 162) rfl), lw_t1 (List.mem_of_getElem? (i := 163) rfl)⟩
theorem lw_p19 : lw_okq (⟨"OrderedKeysModel", "bad", "(I)Z"⟩, 8) := ⟨⟨by decide +kernel, by decide +kernel⟩, lw_t1 (List.mem_of_getElem? (i := 197) rfl), lw_t1 (List.mem_of_getElem? (i := 232) rfl), lw_t1 (List.mem_of_getElem? (i := 233) rfl)⟩
theorem lw_p20 : lw_okq (⟨"OrderedKeysModel", "text", "(I)Z"⟩, 8) := ⟨⟨by decide +kernel, by decide +kernel⟩, lw_t1 (List.mem_of_getElem? (i := 197) rfl), lw_t2 (List.mem_of_getElem? (i := 0) rfl), lw_t2 (List.mem_of_getElem? (i := 1) rfl)⟩
theorem lw_p21 : lw_okq (⟨"OrderedKeysModel", "copy", "(II)V"⟩, 8) := ⟨⟨by decide +kernel, by decide +kernel⟩, lw_t1 (List.mem_of_getElem? (i := 197) rfl), lw_t2 (List.mem_of_getElem? (i := 16) rfl), lw_t2 (List.mem_of_getElem? (i := 17) rfl)⟩
theorem lw_p22 : lw_okq (⟨"OrderedKeysModel", "place", "(I)I"⟩, 8) := ⟨⟨by decide +kernel, by decide +kernel⟩, lw_t1 (List.mem_of_getElem? (i := 197) rfl), lw_t2 (List.mem_of_getElem? (i := 20) rfl), lw_t2 (List.mem_of_getElem? (i := 21) rfl)⟩
theorem lw_p23 : lw_okq (⟨"OrderedKeysModel", "compare", "(III)I"⟩, 8) := ⟨⟨by decide +kernel, by decide +kernel⟩, lw_t1 (List.mem_of_getElem? (i := 197) rfl), lw_t2 (List.mem_of_getElem? (i := 24) rfl), lw_t2 (List.mem_of_getElem? (i := 25) rfl)⟩
theorem lw_p24 : lw_okq (⟨"OrderedKeysModel", "field", "(III)I"⟩, 8) := ⟨⟨by decide +kernel, by decide +kernel⟩, lw_t1 (List.mem_of_getElem? (i := 197) rfl), lw_t2 (List.mem_of_getElem? (i := 28) rfl), lw_t2 (List.mem_of_getElem? (i := 29) rfl)⟩
theorem lw_p25 : lw_okq (⟨"OrderedKeysModel", "values", "(IIZ)I"⟩, 8) := ⟨⟨by decide +kernel, by decide +kernel⟩, lw_t1 (List.mem_of_getElem? (i := 197) rfl), lw_t2 (List.mem_of_getElem? (i := 32) rfl), lw_t2 (List.mem_of_getElem? (i := 33) rfl)⟩
theorem lw_p26 : lw_okq (⟨"OrderedKeysModel", "at", "(I)I"⟩, 8) := ⟨⟨by decide +kernel, by decide +kernel⟩, lw_t1 (List.mem_of_getElem? (i := 197) rfl), lw_t2 (List.mem_of_getElem? (i := 40) rfl), lw_t2 (List.mem_of_getElem? (i := 41) rfl)⟩
def lw_privs_2 : List (MethodName × Nat) := [(⟨"OrderedKeys", "nextTurned", "(II)I"⟩, 15), (⟨"OrderedKeys", "loadField", "(II)V"⟩, 15), (⟨"OrderedKeys", "readInt", "(II)I"⟩, 15), (⟨"OrderedKeysModel", "bad", "(I)Z"⟩, 8), (⟨"OrderedKeysModel", "text", "(I)Z"⟩, 8), (⟨"OrderedKeysModel", "copy", "(II)V"⟩, 8), (⟨"OrderedKeysModel", "place", "(I)I"⟩, 8), (⟨"OrderedKeysModel", "compare", "(III)I"⟩, 8), (⟨"OrderedKeysModel", "field", "(III)I"⟩, 8), (⟨"OrderedKeysModel", "values", "(IIZ)I"⟩, 8), (⟨"OrderedKeysModel", "at", "(I)I"⟩, 8)]
theorem lw_r2 : ∀ q ∈ lw_privs_2, lw_okq q := List.forall_mem_cons.mpr ⟨lw_p16, List.forall_mem_cons.mpr ⟨lw_p17, List.forall_mem_cons.mpr ⟨lw_p18, List.forall_mem_cons.mpr ⟨lw_p19, List.forall_mem_cons.mpr ⟨lw_p20, List.forall_mem_cons.mpr ⟨lw_p21, List.forall_mem_cons.mpr ⟨lw_p22, List.forall_mem_cons.mpr ⟨lw_p23, List.forall_mem_cons.mpr ⟨lw_p24, List.forall_mem_cons.mpr ⟨lw_p25, List.forall_mem_cons.mpr ⟨lw_p26, fun _ h => absurd h List.not_mem_nil⟩⟩⟩⟩⟩⟩⟩⟩⟩⟩⟩
def lw_privs : List (MethodName × Nat) := lw_privs_1 ++ (lw_privs_2)
def lw_tbl : List Cond := k2_sels lw_privs ++ tables_1
theorem lw_privs_ok : ∀ q ∈ lw_privs, lw_okq q := by
  show ∀ q ∈ lw_privs_1 ++ (lw_privs_2), lw_okq q
  exact List.forall_mem_append.mpr ⟨lw_r1, lw_r2⟩
-- ===== ONE list of words for every method: the tables' words that hold all through a run =====
def lw_all : List Cond := lw_tbl.filter goodWord
/-- a word of the tables by its place: claim/WORDS.tsv -/
theorem lw_w {w : Cond} (i : Nat) (h : lw_tbl[i]? = some w) (g : goodWord w = true) : w ∈ lw_all := List.mem_filter.mpr ⟨List.mem_of_getElem? h, g⟩
theorem lw_all_tbl {w : Cond} (h : w ∈ lw_all) : w ∈ lw_tbl := (List.mem_filter.mp h).1
theorem lw_self : GoodIn lw_all lw_all := fun w h => ⟨h, good_of_word (List.mem_filter.mp h).2⟩
/-- a class's field words, by their places -/
theorem lw_in (ws : List Cond) (ps : List Nat) (hp : ws = ps.filterMap (fun i => lw_tbl[i]?)) (hg : ws.all goodWord = true) : ∀ w ∈ ws, w ∈ lw_all := by
  intro w h
  have h1 := List.all_eq_true.mp hg w h
  rw [hp] at h
  obtain ⟨i, -, hi⟩ := List.mem_filterMap.mp h
  exact lw_w i hi h1
/-- the words of a contract for the method y with code b, L locals, answer r -/
abbrev ws_ (y : MethodName) (b : ByteArray) (L : Nat) (r : Option FieldType) : List Cond := Cond.code y b L r :: lw_all
theorem lw_meth {y : MethodName} {b : ByteArray} {L : Nat} {r : Option FieldType} (h : Cond.code y b L r ∈ lw_all) : GoodIn lw_all (ws_ y b L r) := by
  intro w hw
  rcases List.mem_cons.mp hw with e | e
  · rw [e]
    exact lw_self _ h
  · exact lw_self _ e
theorem lw_app {a c : List Cond} (ha : ∀ w ∈ a, w ∈ lw_all) (hc : GoodIn lw_all c) : GoodIn lw_all (a ++ c) := by
  intro w hw
  rcases List.mem_append.mp hw with e | e
  · exact lw_self w (ha w e)
  · exact hc w e
/-- what a call through an object asks: cwV n hts (lw_V ..) -/
theorem lw_V {own : String} {idx : Nat} {C : String} {y : MethodName} {b : ByteArray} {L : Nat} {r : Option FieldType} (h1 : Cond.methodLink own idx y ∈ lw_all) (h2 : Cond.instanceMethod y ∈ lw_all) (h3 : Cond.selects C y y ∈ lw_all) (h4 : Cond.initialized C ∈ lw_all) (h5 : Cond.code y b L r ∈ lw_all) : GoodIn lw_all (wsV own idx C y (ws_ y b L r)) := by
  refine lw_app ?_ (lw_meth h5)
  intro w hw
  simp only [List.mem_cons, List.not_mem_nil, or_false] at hw
  rcases hw with e | e | e | e
  · rw [e]; exact h1
  · rw [e]; exact h2
  · rw [e]; exact h3
  · rw [e]; exact h4
/-- what a static call asks: va_cwS n hts (lw_S ..) -/
theorem lw_S {own : String} {idx : Nat} {y : MethodName} {b : ByteArray} {L : Nat} {r : Option FieldType} (h1 : Cond.methodLink own idx y ∈ lw_all) (h2 : Cond.static y ∈ lw_all) (h3 : Cond.initialized y.cls ∈ lw_all) (h4 : Cond.code y b L r ∈ lw_all) : GoodIn lw_all (va_wsS own idx y (ws_ y b L r)) := by
  refine lw_app ?_ (lw_meth h4)
  intro w hw
  simp only [List.mem_cons, List.not_mem_nil, or_false] at hw
  rcases hw with e | e | e
  · rw [e]; exact h1
  · rw [e]; exact h2
  · rw [e]; exact h3
/-- the words of a contract for a method WITH HANDLERS (hh: its table) -/
abbrev wsW_ (y : MethodName) (b : ByteArray) (L : Nat) (r : Option FieldType) (hh : List (Nat × Nat × Nat × Nat)) : List Cond := Cond.codeWith y b L r hh :: lw_all
theorem lw_methW {y : MethodName} {b : ByteArray} {L : Nat} {r : Option FieldType} {hh : List (Nat × Nat × Nat × Nat)} (h : Cond.codeWith y b L r hh ∈ lw_all) : GoodIn lw_all (wsW_ y b L r hh) := by
  intro w hw
  rcases List.mem_cons.mp hw with e | e
  · rw [e]
    exact lw_self _ h
  · exact lw_self _ e
/-- any list of words by their places (lw_in), good -/
theorem lw_good {ws : List Cond} (h : ∀ w ∈ ws, w ∈ lw_all) : GoodIn lw_all ws := fun w hw => lw_self w (h w hw)
/-- what a call of a method with handlers asks: vx_cwVW n hts (lw_VW ..), vx_cwSW n hts (lw_SW ..) -/
theorem lw_VW {own : String} {idx : Nat} {C : String} {y : MethodName} {b : ByteArray} {L : Nat} {r : Option FieldType} {hh : List (Nat × Nat × Nat × Nat)} (h1 : Cond.methodLink own idx y ∈ lw_all) (h2 : Cond.instanceMethod y ∈ lw_all) (h3 : Cond.selects C y y ∈ lw_all) (h4 : Cond.initialized C ∈ lw_all) (h5 : Cond.codeWith y b L r hh ∈ lw_all) : GoodIn lw_all (wsV own idx C y (wsW_ y b L r hh)) := by
  refine lw_app ?_ (lw_methW h5)
  intro w hw
  simp only [List.mem_cons, List.not_mem_nil, or_false] at hw
  rcases hw with e | e | e | e
  · rw [e]; exact h1
  · rw [e]; exact h2
  · rw [e]; exact h3
  · rw [e]; exact h4
theorem lw_SW {own : String} {idx : Nat} {y : MethodName} {b : ByteArray} {L : Nat} {r : Option FieldType} {hh : List (Nat × Nat × Nat × Nat)} (h1 : Cond.methodLink own idx y ∈ lw_all) (h2 : Cond.static y ∈ lw_all) (h3 : Cond.initialized y.cls ∈ lw_all) (h4 : Cond.codeWith y b L r hh ∈ lw_all) : GoodIn lw_all (va_wsS own idx y (wsW_ y b L r hh)) := by
  refine lw_app ?_ (lw_methW h4)
  intro w hw
  simp only [List.mem_cons, List.not_mem_nil, or_false] at hw
  rcases hw with e | e | e
  · rw [e]; exact h1
  · rw [e]; exact h2
  · rw [e]; exact h3
/-- a word by its place in its run of the tables -/
theorem lw_at {r : List Cond} (hr : ∀ w ∈ r, w ∈ lw_tbl) {w : Cond} (i : Nat) (h : r[i]? = some w) : w ∈ lw_tbl := hr w (List.mem_of_getElem? h)
theorem lw_g {w : Cond} (h : w ∈ lw_tbl) (g : goodWord w = true) : w ∈ lw_all := List.mem_filter.mpr ⟨h, g⟩
theorem lw_ms : ∀ w ∈ k2_sels lw_privs, w ∈ lw_tbl := fun w h => show w ∈ k2_sels lw_privs ++ tables_1 from List.mem_append_left _ h
theorem lw_m1 : ∀ w ∈ tables_1_1, w ∈ lw_tbl := fun w h => show w ∈ k2_sels lw_privs ++ tables_1 from List.mem_append_right (k2_sels lw_privs) (show w ∈ tables_1 from List.mem_append_left _ h)
theorem lw_m2 : ∀ w ∈ tables_1_2, w ∈ lw_tbl := fun w h => show w ∈ k2_sels lw_privs ++ tables_1 from List.mem_append_right (k2_sels lw_privs) (show w ∈ tables_1 from List.mem_append_right _ h)
theorem qs0 : (Cond.selects "OrderedKeys" ⟨"OrderedKeys", "badField", "(I)Z"⟩ ⟨"OrderedKeys", "badField", "(I)Z"⟩) ∈ lw_all := lw_g (lw_at lw_ms 0 rfl) rfl
theorem qs1 : (Cond.selects "OrderedKeys" ⟨"OrderedKeys", "isText", "(I)Z"⟩ ⟨"OrderedKeys", "isText", "(I)Z"⟩) ∈ lw_all := lw_g (lw_at lw_ms 1 rfl) rfl
theorem qs2 : (Cond.selects "OrderedKeys" ⟨"OrderedKeys", "encode", "(I)V"⟩ ⟨"OrderedKeys", "encode", "(I)V"⟩) ∈ lw_all := lw_g (lw_at lw_ms 2 rfl) rfl
theorem qs3 : (Cond.selects "OrderedKeys" ⟨"OrderedKeys", "nullsFirst", "(I)Z"⟩ ⟨"OrderedKeys", "nullsFirst", "(I)Z"⟩) ∈ lw_all := lw_g (lw_at lw_ms 3 rfl) rfl
theorem qs4 : (Cond.selects "OrderedKeys" ⟨"OrderedKeys", "emit", "(I)V"⟩ ⟨"OrderedKeys", "emit", "(I)V"⟩) ∈ lw_all := lw_g (lw_at lw_ms 4 rfl) rfl
theorem qs5 : (Cond.selects "OrderedKeys" ⟨"OrderedKeys", "emitText", "(I)V"⟩ ⟨"OrderedKeys", "emitText", "(I)V"⟩) ∈ lw_all := lw_g (lw_at lw_ms 5 rfl) rfl
theorem qs6 : (Cond.selects "OrderedKeys" ⟨"OrderedKeys", "emitTurned", "(II)V"⟩ ⟨"OrderedKeys", "emitTurned", "(II)V"⟩) ∈ lw_all := lw_g (lw_at lw_ms 6 rfl) rfl
theorem qs7 : (Cond.selects "OrderedKeys" ⟨"OrderedKeys", "descending", "(I)Z"⟩ ⟨"OrderedKeys", "descending", "(I)Z"⟩) ∈ lw_all := lw_g (lw_at lw_ms 7 rfl) rfl
theorem qs8 : (Cond.selects "OrderedKeys" ⟨"OrderedKeys", "emitInt", "(I)V"⟩ ⟨"OrderedKeys", "emitInt", "(I)V"⟩) ∈ lw_all := lw_g (lw_at lw_ms 8 rfl) rfl
theorem qs9 : (Cond.selects "OrderedKeys" ⟨"OrderedKeys", "bound", "(ZZ)I"⟩ ⟨"OrderedKeys", "bound", "(ZZ)I"⟩) ∈ lw_all := lw_g (lw_at lw_ms 9 rfl) rfl
theorem qs10 : (Cond.selects "OrderedKeys" ⟨"OrderedKeys", "compare", "(IZ)I"⟩ ⟨"OrderedKeys", "compare", "(IZ)I"⟩) ∈ lw_all := lw_g (lw_at lw_ms 10 rfl) rfl
theorem qs11 : (Cond.selects "OrderedKeys" ⟨"OrderedKeys", "noEntry", "(I)Z"⟩ ⟨"OrderedKeys", "noEntry", "(I)Z"⟩) ∈ lw_all := lw_g (lw_at lw_ms 11 rfl) rfl
theorem qs12 : (Cond.selects "OrderedKeys" ⟨"OrderedKeys", "seek", "(II)Z"⟩ ⟨"OrderedKeys", "seek", "(II)Z"⟩) ∈ lw_all := lw_g (lw_at lw_ms 12 rfl) rfl
theorem qs13 : (Cond.selects "OrderedKeys" ⟨"OrderedKeys", "nextByte", "(I)I"⟩ ⟨"OrderedKeys", "nextByte", "(I)I"⟩) ∈ lw_all := lw_g (lw_at lw_ms 13 rfl) rfl
theorem qs14 : (Cond.selects "OrderedKeys" ⟨"OrderedKeys", "skipValue", "(II)V"⟩ ⟨"OrderedKeys", "skipValue", "(II)V"⟩) ∈ lw_all := lw_g (lw_at lw_ms 14 rfl) rfl
theorem qs15 : (Cond.selects "OrderedKeys" ⟨"OrderedKeys", "readChar", "(II)I"⟩ ⟨"OrderedKeys", "readChar", "(II)I"⟩) ∈ lw_all := lw_g (lw_at lw_ms 15 rfl) rfl
theorem qs16 : (Cond.selects "OrderedKeys" ⟨"OrderedKeys", "nextTurned", "(II)I"⟩ ⟨"OrderedKeys", "nextTurned", "(II)I"⟩) ∈ lw_all := lw_g (lw_at lw_ms 16 rfl) rfl
theorem qs17 : (Cond.selects "OrderedKeys" ⟨"OrderedKeys", "loadField", "(II)V"⟩ ⟨"OrderedKeys", "loadField", "(II)V"⟩) ∈ lw_all := lw_g (lw_at lw_ms 17 rfl) rfl
theorem qs18 : (Cond.selects "OrderedKeys" ⟨"OrderedKeys", "readInt", "(II)I"⟩ ⟨"OrderedKeys", "readInt", "(II)I"⟩) ∈ lw_all := lw_g (lw_at lw_ms 18 rfl) rfl
theorem qs19 : (Cond.selects "OrderedKeysModel" ⟨"OrderedKeysModel", "bad", "(I)Z"⟩ ⟨"OrderedKeysModel", "bad", "(I)Z"⟩) ∈ lw_all := lw_g (lw_at lw_ms 19 rfl) rfl
theorem qs20 : (Cond.selects "OrderedKeysModel" ⟨"OrderedKeysModel", "text", "(I)Z"⟩ ⟨"OrderedKeysModel", "text", "(I)Z"⟩) ∈ lw_all := lw_g (lw_at lw_ms 20 rfl) rfl
theorem qs21 : (Cond.selects "OrderedKeysModel" ⟨"OrderedKeysModel", "copy", "(II)V"⟩ ⟨"OrderedKeysModel", "copy", "(II)V"⟩) ∈ lw_all := lw_g (lw_at lw_ms 21 rfl) rfl
theorem qs22 : (Cond.selects "OrderedKeysModel" ⟨"OrderedKeysModel", "place", "(I)I"⟩ ⟨"OrderedKeysModel", "place", "(I)I"⟩) ∈ lw_all := lw_g (lw_at lw_ms 22 rfl) rfl
theorem qs23 : (Cond.selects "OrderedKeysModel" ⟨"OrderedKeysModel", "compare", "(III)I"⟩ ⟨"OrderedKeysModel", "compare", "(III)I"⟩) ∈ lw_all := lw_g (lw_at lw_ms 23 rfl) rfl
theorem qs24 : (Cond.selects "OrderedKeysModel" ⟨"OrderedKeysModel", "field", "(III)I"⟩ ⟨"OrderedKeysModel", "field", "(III)I"⟩) ∈ lw_all := lw_g (lw_at lw_ms 24 rfl) rfl
theorem qs25 : (Cond.selects "OrderedKeysModel" ⟨"OrderedKeysModel", "values", "(IIZ)I"⟩ ⟨"OrderedKeysModel", "values", "(IIZ)I"⟩) ∈ lw_all := lw_g (lw_at lw_ms 25 rfl) rfl
theorem qs26 : (Cond.selects "OrderedKeysModel" ⟨"OrderedKeysModel", "at", "(I)I"⟩ ⟨"OrderedKeysModel", "at", "(I)I"⟩) ∈ lw_all := lw_g (lw_at lw_ms 26 rfl) rfl
end
section
set_option maxRecDepth 100000
/-! OrderedKeys -/
def RX1 : String := "OrderedKeys"
def TX1 : u_T := fun k => match k with
  | 0 => ("OrderedKeys", "fields", "I", true)
  | 1 => ("OrderedKeys", "schema", "I", true)
  | 2 => ("OrderedKeys", "stageNull", "[Z", true)
  | 3 => ("OrderedKeys", "stageInt", "[I", true)
  | 4 => ("OrderedKeys", "stageLen", "[I", true)
  | 5 => ("OrderedKeys", "stageText", "[I", true)
  | 6 => ("OrderedKeys", "entries", "I", false)
  | 7 => ("OrderedKeys", "order", "[I", true)
  | 8 => ("OrderedKeys", "used", "[Z", true)
  | 9 => ("OrderedKeys", "tags", "[I", true)
  | 10 => ("OrderedKeys", "keyLen", "[I", true)
  | 11 => ("OrderedKeys", "keys", "[S", true)
  | 12 => ("OrderedKeys", "probeLen", "I", false)
  | 13 => ("OrderedKeys", "probe", "[S", true)
  | _ => ("OrderedKeys", "readAt", "I", false)
def tyX1 : Nat → FieldType := fun k => match k with
  | 0 => .int
  | 1 => .int
  | 2 => .array .boolean
  | 3 => .array .int
  | 4 => .array .int
  | 5 => .array .int
  | 6 => .int
  | 7 => .array .int
  | 8 => .array .boolean
  | 9 => .array .int
  | 10 => .array .int
  | 11 => .array .short
  | 12 => .int
  | 13 => .array .short
  | _ => .int
abbrev wsX10 : List Cond := u_ws RX1 TX1 15
theorem nmX1 : ∀ a, a < 15 → ∀ b, b < 15 → a ≠ b → (TX1 a).2.1 ≠ (TX1 b).2.1 := by decide +kernel
theorem tyX1_ok : ∀ k, k < 15 → parseFieldDescriptor (TX1 k).2.2.1 = some (tyX1 k) := by decide +kernel
abbrev cX1_init : ByteArray := prog_1_method_1_code
def yX1_init : MethodName := ⟨RX1, "<init>", "(II)V"⟩
abbrev cX1_setNull : ByteArray := prog_1_method_6_code
def yX1_setNull : MethodName := ⟨RX1, "setNull", "(I)I"⟩
abbrev cX1_badField : ByteArray := prog_1_method_2_code
def yX1_badField : MethodName := ⟨RX1, "badField", "(I)Z"⟩
abbrev cX1_setInt : ByteArray := prog_1_method_7_code
def yX1_setInt : MethodName := ⟨RX1, "setInt", "(II)I"⟩
abbrev cX1_isText : ByteArray := prog_1_method_3_code
def yX1_isText : MethodName := ⟨RX1, "isText", "(I)Z"⟩
abbrev cX1_setText : ByteArray := prog_1_method_8_code
def yX1_setText : MethodName := ⟨RX1, "setText", "(I)I"⟩
abbrev cX1_append : ByteArray := prog_1_method_9_code
def yX1_append : MethodName := ⟨RX1, "append", "(II)I"⟩
abbrev cX1_add : ByteArray := prog_1_method_17_code
def yX1_add : MethodName := ⟨RX1, "add", "(I)I"⟩
abbrev cX1_encode : ByteArray := prog_1_method_14_code
def yX1_encode : MethodName := ⟨RX1, "encode", "(I)V"⟩
abbrev cX1_nullsFirst : ByteArray := prog_1_method_5_code
def yX1_nullsFirst : MethodName := ⟨RX1, "nullsFirst", "(I)Z"⟩
abbrev cX1_emit : ByteArray := prog_1_method_10_code
def yX1_emit : MethodName := ⟨RX1, "emit", "(I)V"⟩
abbrev cX1_emitText : ByteArray := prog_1_method_12_code
def yX1_emitText : MethodName := ⟨RX1, "emitText", "(I)V"⟩
abbrev cX1_emitTurned : ByteArray := prog_1_method_11_code
def yX1_emitTurned : MethodName := ⟨RX1, "emitTurned", "(II)V"⟩
abbrev cX1_descending : ByteArray := prog_1_method_4_code
def yX1_descending : MethodName := ⟨RX1, "descending", "(I)Z"⟩
abbrev cX1_emitInt : ByteArray := prog_1_method_13_code
def yX1_emitInt : MethodName := ⟨RX1, "emitInt", "(I)V"⟩
abbrev cX1_bound : ByteArray := prog_1_method_16_code
def yX1_bound : MethodName := ⟨RX1, "bound", "(ZZ)I"⟩
abbrev cX1_compare : ByteArray := prog_1_method_15_code
def yX1_compare : MethodName := ⟨RX1, "compare", "(IZ)I"⟩
abbrev cX1_remove : ByteArray := prog_1_method_19_code
def yX1_remove : MethodName := ⟨RX1, "remove", "(I)I"⟩
abbrev cX1_noEntry : ByteArray := prog_1_method_18_code
def yX1_noEntry : MethodName := ⟨RX1, "noEntry", "(I)Z"⟩
abbrev cX1_load : ByteArray := prog_1_method_26_code
def yX1_load : MethodName := ⟨RX1, "load", "(I)I"⟩
abbrev cX1_seek : ByteArray := prog_1_method_24_code
def yX1_seek : MethodName := ⟨RX1, "seek", "(II)Z"⟩
abbrev cX1_nextByte : ByteArray := prog_1_method_20_code
def yX1_nextByte : MethodName := ⟨RX1, "nextByte", "(I)I"⟩
abbrev cX1_skipValue : ByteArray := prog_1_method_25_code
def yX1_skipValue : MethodName := ⟨RX1, "skipValue", "(II)V"⟩
abbrev cX1_readChar : ByteArray := prog_1_method_23_code
def yX1_readChar : MethodName := ⟨RX1, "readChar", "(II)I"⟩
abbrev cX1_nextTurned : ByteArray := prog_1_method_21_code
def yX1_nextTurned : MethodName := ⟨RX1, "nextTurned", "(II)I"⟩
abbrev cX1_loadField : ByteArray := prog_1_method_27_code
def yX1_loadField : MethodName := ⟨RX1, "loadField", "(II)V"⟩
abbrev cX1_readInt : ByteArray := prog_1_method_22_code
def yX1_readInt : MethodName := ⟨RX1, "readInt", "(II)I"⟩
abbrev cX1_size : ByteArray := prog_1_method_28_code
def yX1_size : MethodName := ⟨RX1, "size", "()I"⟩
abbrev cX1_tag : ByteArray := prog_1_method_29_code
def yX1_tag : MethodName := ⟨RX1, "tag", "(I)I"⟩
abbrev cX1_below : ByteArray := prog_1_method_30_code
def yX1_below : MethodName := ⟨RX1, "below", "()I"⟩
abbrev cX1_matching : ByteArray := prog_1_method_31_code
def yX1_matching : MethodName := ⟨RX1, "matching", "(I)I"⟩
abbrev cX1_intAt : ByteArray := prog_1_method_32_code
def yX1_intAt : MethodName := ⟨RX1, "intAt", "(II)I"⟩
abbrev cX1_charAt : ByteArray := prog_1_method_33_code
def yX1_charAt : MethodName := ⟨RX1, "charAt", "(III)I"⟩
abbrev cX1_nullAt : ByteArray := prog_1_method_34_code
def yX1_nullAt : MethodName := ⟨RX1, "nullAt", "(II)Z"⟩
theorem q28 : (Jvm.Cond.initialized "OrderedKeys") ∈ lw_all := lw_g (lw_at lw_m1 1 rfl) rfl
theorem q31 : (Jvm.Cond.instantiable "OrderedKeys" (15 : Nat)) ∈ lw_all := lw_g (lw_at lw_m1 4 rfl) rfl
theorem q33 : (Jvm.Cond.instanceMethod ({ cls := "OrderedKeys", name := "<init>", desc := "(II)V" } : Jvm.MethodName)) ∈ lw_all := lw_g (lw_at lw_m1 6 rfl) rfl
theorem q34 : (Jvm.Cond.code ({ cls := "OrderedKeys", name := "<init>", desc := "(II)V" } : Jvm.MethodName) prog_1_method_1_code (5 : Nat) (Option.none : Option Jvm.ClassFile.FieldType)) ∈ lw_all := lw_g (lw_at lw_m1 7 rfl) rfl
theorem q35 : (Jvm.Cond.methodLink "OrderedKeys" (1 : Nat) ({ cls := "java/lang/Object", name := "<init>", desc := "()V" } : Jvm.MethodName)) ∈ lw_all := lw_g (lw_at lw_m1 8 rfl) rfl
theorem q38 : (Jvm.Cond.fieldLink "OrderedKeys" (42 : Nat) "OrderedKeys" "fields" "I") ∈ lw_all := lw_g (lw_at lw_m1 11 rfl) rfl
theorem q39 : (Jvm.Cond.fieldLink "OrderedKeys" (46 : Nat) "OrderedKeys" "schema" "I") ∈ lw_all := lw_g (lw_at lw_m1 12 rfl) rfl
theorem q40 : (Jvm.Cond.fieldLink "OrderedKeys" (7 : Nat) "OrderedKeys" "stageNull" "[Z") ∈ lw_all := lw_g (lw_at lw_m1 13 rfl) rfl
theorem q41 : (Jvm.Cond.fieldLink "OrderedKeys" (13 : Nat) "OrderedKeys" "stageInt" "[I") ∈ lw_all := lw_g (lw_at lw_m1 14 rfl) rfl
theorem q42 : (Jvm.Cond.fieldLink "OrderedKeys" (17 : Nat) "OrderedKeys" "stageLen" "[I") ∈ lw_all := lw_g (lw_at lw_m1 15 rfl) rfl
theorem q43 : (Jvm.Cond.fieldLink "OrderedKeys" (20 : Nat) "OrderedKeys" "stageText" "[I") ∈ lw_all := lw_g (lw_at lw_m1 16 rfl) rfl
theorem q44 : (Jvm.Cond.fieldLink "OrderedKeys" (80 : Nat) "OrderedKeys" "entries" "I") ∈ lw_all := lw_g (lw_at lw_m1 17 rfl) rfl
theorem q45 : (Jvm.Cond.fieldLink "OrderedKeys" (23 : Nat) "OrderedKeys" "order" "[I") ∈ lw_all := lw_g (lw_at lw_m1 18 rfl) rfl
theorem q46 : (Jvm.Cond.fieldLink "OrderedKeys" (26 : Nat) "OrderedKeys" "used" "[Z") ∈ lw_all := lw_g (lw_at lw_m1 19 rfl) rfl
theorem q47 : (Jvm.Cond.fieldLink "OrderedKeys" (29 : Nat) "OrderedKeys" "tags" "[I") ∈ lw_all := lw_g (lw_at lw_m1 20 rfl) rfl
theorem q48 : (Jvm.Cond.fieldLink "OrderedKeys" (32 : Nat) "OrderedKeys" "keyLen" "[I") ∈ lw_all := lw_g (lw_at lw_m1 21 rfl) rfl
theorem q49 : (Jvm.Cond.fieldLink "OrderedKeys" (35 : Nat) "OrderedKeys" "keys" "[S") ∈ lw_all := lw_g (lw_at lw_m1 22 rfl) rfl
theorem q50 : (Jvm.Cond.fieldLink "OrderedKeys" (56 : Nat) "OrderedKeys" "probeLen" "I") ∈ lw_all := lw_g (lw_at lw_m1 23 rfl) rfl
theorem q51 : (Jvm.Cond.fieldLink "OrderedKeys" (39 : Nat) "OrderedKeys" "probe" "[S") ∈ lw_all := lw_g (lw_at lw_m1 24 rfl) rfl
theorem q52 : (Jvm.Cond.fieldLink "OrderedKeys" (97 : Nat) "OrderedKeys" "readAt" "I") ∈ lw_all := lw_g (lw_at lw_m1 25 rfl) rfl
theorem q53 : (Jvm.Cond.laysFinal "OrderedKeys" "OrderedKeys" "fields" "I") ∈ lw_all := lw_g (lw_at lw_m1 26 rfl) rfl
theorem q54 : (Jvm.Cond.soleField "OrderedKeys" "fields") ∈ lw_all := lw_g (lw_at lw_m1 27 rfl) rfl
theorem q55 : (Jvm.Cond.laysFinal "OrderedKeys" "OrderedKeys" "schema" "I") ∈ lw_all := lw_g (lw_at lw_m1 28 rfl) rfl
theorem q56 : (Jvm.Cond.soleField "OrderedKeys" "schema") ∈ lw_all := lw_g (lw_at lw_m1 29 rfl) rfl
theorem q57 : (Jvm.Cond.laysFinal "OrderedKeys" "OrderedKeys" "stageNull" "[Z") ∈ lw_all := lw_g (lw_at lw_m1 30 rfl) rfl
theorem q58 : (Jvm.Cond.soleField "OrderedKeys" "stageNull") ∈ lw_all := lw_g (lw_at lw_m1 31 rfl) rfl
theorem q59 : (Jvm.Cond.laysFinal "OrderedKeys" "OrderedKeys" "stageInt" "[I") ∈ lw_all := lw_g (lw_at lw_m1 32 rfl) rfl
theorem q60 : (Jvm.Cond.soleField "OrderedKeys" "stageInt") ∈ lw_all := lw_g (lw_at lw_m1 33 rfl) rfl
theorem q61 : (Jvm.Cond.laysFinal "OrderedKeys" "OrderedKeys" "stageLen" "[I") ∈ lw_all := lw_g (lw_at lw_m1 34 rfl) rfl
theorem q62 : (Jvm.Cond.soleField "OrderedKeys" "stageLen") ∈ lw_all := lw_g (lw_at lw_m1 35 rfl) rfl
theorem q63 : (Jvm.Cond.laysFinal "OrderedKeys" "OrderedKeys" "stageText" "[I") ∈ lw_all := lw_g (lw_at lw_m1 36 rfl) rfl
theorem q64 : (Jvm.Cond.soleField "OrderedKeys" "stageText") ∈ lw_all := lw_g (lw_at lw_m1 37 rfl) rfl
theorem q65 : (Jvm.Cond.lays "OrderedKeys" "OrderedKeys" "entries" "I") ∈ lw_all := lw_g (lw_at lw_m1 38 rfl) rfl
theorem q66 : (Jvm.Cond.soleField "OrderedKeys" "entries") ∈ lw_all := lw_g (lw_at lw_m1 39 rfl) rfl
theorem q67 : (Jvm.Cond.laysFinal "OrderedKeys" "OrderedKeys" "order" "[I") ∈ lw_all := lw_g (lw_at lw_m1 40 rfl) rfl
theorem q68 : (Jvm.Cond.soleField "OrderedKeys" "order") ∈ lw_all := lw_g (lw_at lw_m1 41 rfl) rfl
theorem q69 : (Jvm.Cond.laysFinal "OrderedKeys" "OrderedKeys" "used" "[Z") ∈ lw_all := lw_g (lw_at lw_m1 42 rfl) rfl
theorem q70 : (Jvm.Cond.soleField "OrderedKeys" "used") ∈ lw_all := lw_g (lw_at lw_m1 43 rfl) rfl
theorem q71 : (Jvm.Cond.laysFinal "OrderedKeys" "OrderedKeys" "tags" "[I") ∈ lw_all := lw_g (lw_at lw_m1 44 rfl) rfl
theorem q72 : (Jvm.Cond.soleField "OrderedKeys" "tags") ∈ lw_all := lw_g (lw_at lw_m1 45 rfl) rfl
theorem q73 : (Jvm.Cond.laysFinal "OrderedKeys" "OrderedKeys" "keyLen" "[I") ∈ lw_all := lw_g (lw_at lw_m1 46 rfl) rfl
theorem q74 : (Jvm.Cond.soleField "OrderedKeys" "keyLen") ∈ lw_all := lw_g (lw_at lw_m1 47 rfl) rfl
theorem q75 : (Jvm.Cond.laysFinal "OrderedKeys" "OrderedKeys" "keys" "[S") ∈ lw_all := lw_g (lw_at lw_m1 48 rfl) rfl
theorem q76 : (Jvm.Cond.soleField "OrderedKeys" "keys") ∈ lw_all := lw_g (lw_at lw_m1 49 rfl) rfl
theorem q77 : (Jvm.Cond.lays "OrderedKeys" "OrderedKeys" "probeLen" "I") ∈ lw_all := lw_g (lw_at lw_m1 50 rfl) rfl
theorem q78 : (Jvm.Cond.soleField "OrderedKeys" "probeLen") ∈ lw_all := lw_g (lw_at lw_m1 51 rfl) rfl
theorem q79 : (Jvm.Cond.laysFinal "OrderedKeys" "OrderedKeys" "probe" "[S") ∈ lw_all := lw_g (lw_at lw_m1 52 rfl) rfl
theorem q80 : (Jvm.Cond.soleField "OrderedKeys" "probe") ∈ lw_all := lw_g (lw_at lw_m1 53 rfl) rfl
theorem q81 : (Jvm.Cond.lays "OrderedKeys" "OrderedKeys" "readAt" "I") ∈ lw_all := lw_g (lw_at lw_m1 54 rfl) rfl
theorem q82 : (Jvm.Cond.soleField "OrderedKeys" "readAt") ∈ lw_all := lw_g (lw_at lw_m1 55 rfl) rfl
theorem q83 : (Jvm.Cond.superclass "OrderedKeys" "java/lang/Object") ∈ lw_all := lw_g (lw_at lw_m1 56 rfl) rfl
theorem q88 : (Jvm.Cond.instanceMethod ({ cls := "OrderedKeys", name := "setNull", desc := "(I)I" } : Jvm.MethodName)) ∈ lw_all := lw_g (lw_at lw_m1 61 rfl) rfl
theorem q89 : (Jvm.Cond.selects "OrderedKeys" ({ cls := "OrderedKeys", name := "setNull", desc := "(I)I" } : Jvm.MethodName) ({ cls := "OrderedKeys", name := "setNull", desc := "(I)I" } : Jvm.MethodName)) ∈ lw_all := lw_g (lw_at lw_m1 62 rfl) rfl
theorem q90 : (Jvm.Cond.code ({ cls := "OrderedKeys", name := "setNull", desc := "(I)I" } : Jvm.MethodName) prog_1_method_6_code (2 : Nat) (Option.some Jvm.ClassFile.FieldType.int)) ∈ lw_all := lw_g (lw_at lw_m1 63 rfl) rfl
theorem q91 : (Jvm.Cond.methodLink "OrderedKeys" (49 : Nat) ({ cls := "OrderedKeys", name := "badField", desc := "(I)Z" } : Jvm.MethodName)) ∈ lw_all := lw_g (lw_at lw_m1 64 rfl) rfl
theorem q92 : (Jvm.Cond.privateMethod ({ cls := "OrderedKeys", name := "badField", desc := "(I)Z" } : Jvm.MethodName)) ∈ lw_tbl := lw_at lw_m1 65 rfl
theorem q93 : (Jvm.Cond.instanceMethod ({ cls := "OrderedKeys", name := "badField", desc := "(I)Z" } : Jvm.MethodName)) ∈ lw_all := lw_g (lw_at lw_m1 66 rfl) rfl
theorem q94 : (Jvm.Cond.code ({ cls := "OrderedKeys", name := "badField", desc := "(I)Z" } : Jvm.MethodName) prog_1_method_2_code (2 : Nat) (Option.some Jvm.ClassFile.FieldType.boolean)) ∈ lw_all := lw_g (lw_at lw_m1 67 rfl) rfl
theorem q96 : (Jvm.Cond.instanceMethod ({ cls := "OrderedKeys", name := "setInt", desc := "(II)I" } : Jvm.MethodName)) ∈ lw_all := lw_g (lw_at lw_m1 69 rfl) rfl
theorem q97 : (Jvm.Cond.selects "OrderedKeys" ({ cls := "OrderedKeys", name := "setInt", desc := "(II)I" } : Jvm.MethodName) ({ cls := "OrderedKeys", name := "setInt", desc := "(II)I" } : Jvm.MethodName)) ∈ lw_all := lw_g (lw_at lw_m1 70 rfl) rfl
theorem q98 : (Jvm.Cond.code ({ cls := "OrderedKeys", name := "setInt", desc := "(II)I" } : Jvm.MethodName) prog_1_method_7_code (3 : Nat) (Option.some Jvm.ClassFile.FieldType.int)) ∈ lw_all := lw_g (lw_at lw_m1 71 rfl) rfl
theorem q99 : (Jvm.Cond.methodLink "OrderedKeys" (53 : Nat) ({ cls := "OrderedKeys", name := "isText", desc := "(I)Z" } : Jvm.MethodName)) ∈ lw_all := lw_g (lw_at lw_m1 72 rfl) rfl
theorem q100 : (Jvm.Cond.privateMethod ({ cls := "OrderedKeys", name := "isText", desc := "(I)Z" } : Jvm.MethodName)) ∈ lw_tbl := lw_at lw_m1 73 rfl
theorem q101 : (Jvm.Cond.instanceMethod ({ cls := "OrderedKeys", name := "isText", desc := "(I)Z" } : Jvm.MethodName)) ∈ lw_all := lw_g (lw_at lw_m1 74 rfl) rfl
theorem q102 : (Jvm.Cond.code ({ cls := "OrderedKeys", name := "isText", desc := "(I)Z" } : Jvm.MethodName) prog_1_method_3_code (2 : Nat) (Option.some Jvm.ClassFile.FieldType.boolean)) ∈ lw_all := lw_g (lw_at lw_m1 75 rfl) rfl
theorem q104 : (Jvm.Cond.instanceMethod ({ cls := "OrderedKeys", name := "setText", desc := "(I)I" } : Jvm.MethodName)) ∈ lw_all := lw_g (lw_at lw_m1 77 rfl) rfl
theorem q105 : (Jvm.Cond.selects "OrderedKeys" ({ cls := "OrderedKeys", name := "setText", desc := "(I)I" } : Jvm.MethodName) ({ cls := "OrderedKeys", name := "setText", desc := "(I)I" } : Jvm.MethodName)) ∈ lw_all := lw_g (lw_at lw_m1 78 rfl) rfl
theorem q106 : (Jvm.Cond.code ({ cls := "OrderedKeys", name := "setText", desc := "(I)I" } : Jvm.MethodName) prog_1_method_8_code (2 : Nat) (Option.some Jvm.ClassFile.FieldType.int)) ∈ lw_all := lw_g (lw_at lw_m1 79 rfl) rfl
theorem q108 : (Jvm.Cond.instanceMethod ({ cls := "OrderedKeys", name := "append", desc := "(II)I" } : Jvm.MethodName)) ∈ lw_all := lw_g (lw_at lw_m1 81 rfl) rfl
theorem q109 : (Jvm.Cond.selects "OrderedKeys" ({ cls := "OrderedKeys", name := "append", desc := "(II)I" } : Jvm.MethodName) ({ cls := "OrderedKeys", name := "append", desc := "(II)I" } : Jvm.MethodName)) ∈ lw_all := lw_g (lw_at lw_m1 82 rfl) rfl
theorem q110 : (Jvm.Cond.code ({ cls := "OrderedKeys", name := "append", desc := "(II)I" } : Jvm.MethodName) prog_1_method_9_code (4 : Nat) (Option.some Jvm.ClassFile.FieldType.int)) ∈ lw_all := lw_g (lw_at lw_m1 83 rfl) rfl
theorem q112 : (Jvm.Cond.instanceMethod ({ cls := "OrderedKeys", name := "add", desc := "(I)I" } : Jvm.MethodName)) ∈ lw_all := lw_g (lw_at lw_m1 85 rfl) rfl
theorem q113 : (Jvm.Cond.selects "OrderedKeys" ({ cls := "OrderedKeys", name := "add", desc := "(I)I" } : Jvm.MethodName) ({ cls := "OrderedKeys", name := "add", desc := "(I)I" } : Jvm.MethodName)) ∈ lw_all := lw_g (lw_at lw_m1 86 rfl) rfl
theorem q114 : (Jvm.Cond.code ({ cls := "OrderedKeys", name := "add", desc := "(I)I" } : Jvm.MethodName) prog_1_method_17_code (5 : Nat) (Option.some Jvm.ClassFile.FieldType.int)) ∈ lw_all := lw_g (lw_at lw_m1 87 rfl) rfl
theorem q115 : (Jvm.Cond.methodLink "OrderedKeys" (87 : Nat) ({ cls := "OrderedKeys", name := "encode", desc := "(I)V" } : Jvm.MethodName)) ∈ lw_all := lw_g (lw_at lw_m1 88 rfl) rfl
theorem q116 : (Jvm.Cond.privateMethod ({ cls := "OrderedKeys", name := "encode", desc := "(I)V" } : Jvm.MethodName)) ∈ lw_tbl := lw_at lw_m1 89 rfl
theorem q117 : (Jvm.Cond.instanceMethod ({ cls := "OrderedKeys", name := "encode", desc := "(I)V" } : Jvm.MethodName)) ∈ lw_all := lw_g (lw_at lw_m1 90 rfl) rfl
theorem q118 : (Jvm.Cond.code ({ cls := "OrderedKeys", name := "encode", desc := "(I)V" } : Jvm.MethodName) prog_1_method_14_code (5 : Nat) (Option.none : Option Jvm.ClassFile.FieldType)) ∈ lw_all := lw_g (lw_at lw_m1 91 rfl) rfl
theorem q119 : (Jvm.Cond.methodLink "OrderedKeys" (71 : Nat) ({ cls := "OrderedKeys", name := "nullsFirst", desc := "(I)Z" } : Jvm.MethodName)) ∈ lw_all := lw_g (lw_at lw_m1 92 rfl) rfl
theorem q120 : (Jvm.Cond.privateMethod ({ cls := "OrderedKeys", name := "nullsFirst", desc := "(I)Z" } : Jvm.MethodName)) ∈ lw_tbl := lw_at lw_m1 93 rfl
theorem q121 : (Jvm.Cond.instanceMethod ({ cls := "OrderedKeys", name := "nullsFirst", desc := "(I)Z" } : Jvm.MethodName)) ∈ lw_all := lw_g (lw_at lw_m1 94 rfl) rfl
theorem q122 : (Jvm.Cond.code ({ cls := "OrderedKeys", name := "nullsFirst", desc := "(I)Z" } : Jvm.MethodName) prog_1_method_5_code (2 : Nat) (Option.some Jvm.ClassFile.FieldType.boolean)) ∈ lw_all := lw_g (lw_at lw_m1 95 rfl) rfl
theorem q123 : (Jvm.Cond.methodLink "OrderedKeys" (62 : Nat) ({ cls := "OrderedKeys", name := "emit", desc := "(I)V" } : Jvm.MethodName)) ∈ lw_all := lw_g (lw_at lw_m1 96 rfl) rfl
theorem q124 : (Jvm.Cond.privateMethod ({ cls := "OrderedKeys", name := "emit", desc := "(I)V" } : Jvm.MethodName)) ∈ lw_tbl := lw_at lw_m1 97 rfl
theorem q125 : (Jvm.Cond.instanceMethod ({ cls := "OrderedKeys", name := "emit", desc := "(I)V" } : Jvm.MethodName)) ∈ lw_all := lw_g (lw_at lw_m1 98 rfl) rfl
theorem q126 : (Jvm.Cond.code ({ cls := "OrderedKeys", name := "emit", desc := "(I)V" } : Jvm.MethodName) prog_1_method_10_code (2 : Nat) (Option.none : Option Jvm.ClassFile.FieldType)) ∈ lw_all := lw_g (lw_at lw_m1 99 rfl) rfl
theorem q127 : (Jvm.Cond.methodLink "OrderedKeys" (74 : Nat) ({ cls := "OrderedKeys", name := "emitText", desc := "(I)V" } : Jvm.MethodName)) ∈ lw_all := lw_g (lw_at lw_m1 100 rfl) rfl
theorem q128 : (Jvm.Cond.privateMethod ({ cls := "OrderedKeys", name := "emitText", desc := "(I)V" } : Jvm.MethodName)) ∈ lw_tbl := lw_at lw_m1 101 rfl
theorem q129 : (Jvm.Cond.instanceMethod ({ cls := "OrderedKeys", name := "emitText", desc := "(I)V" } : Jvm.MethodName)) ∈ lw_all := lw_g (lw_at lw_m1 102 rfl) rfl
theorem q130 : (Jvm.Cond.code ({ cls := "OrderedKeys", name := "emitText", desc := "(I)V" } : Jvm.MethodName) prog_1_method_12_code (4 : Nat) (Option.none : Option Jvm.ClassFile.FieldType)) ∈ lw_all := lw_g (lw_at lw_m1 103 rfl) rfl
theorem q131 : (Jvm.Cond.methodLink "OrderedKeys" (66 : Nat) ({ cls := "OrderedKeys", name := "emitTurned", desc := "(II)V" } : Jvm.MethodName)) ∈ lw_all := lw_g (lw_at lw_m1 104 rfl) rfl
theorem q132 : (Jvm.Cond.privateMethod ({ cls := "OrderedKeys", name := "emitTurned", desc := "(II)V" } : Jvm.MethodName)) ∈ lw_tbl := lw_at lw_m1 105 rfl
theorem q133 : (Jvm.Cond.instanceMethod ({ cls := "OrderedKeys", name := "emitTurned", desc := "(II)V" } : Jvm.MethodName)) ∈ lw_all := lw_g (lw_at lw_m1 106 rfl) rfl
theorem q134 : (Jvm.Cond.code ({ cls := "OrderedKeys", name := "emitTurned", desc := "(II)V" } : Jvm.MethodName) prog_1_method_11_code (4 : Nat) (Option.none : Option Jvm.ClassFile.FieldType)) ∈ lw_all := lw_g (lw_at lw_m1 107 rfl) rfl
theorem q135 : (Jvm.Cond.methodLink "OrderedKeys" (59 : Nat) ({ cls := "OrderedKeys", name := "descending", desc := "(I)Z" } : Jvm.MethodName)) ∈ lw_all := lw_g (lw_at lw_m1 108 rfl) rfl
theorem q136 : (Jvm.Cond.privateMethod ({ cls := "OrderedKeys", name := "descending", desc := "(I)Z" } : Jvm.MethodName)) ∈ lw_tbl := lw_at lw_m1 109 rfl
theorem q137 : (Jvm.Cond.instanceMethod ({ cls := "OrderedKeys", name := "descending", desc := "(I)Z" } : Jvm.MethodName)) ∈ lw_all := lw_g (lw_at lw_m1 110 rfl) rfl
theorem q138 : (Jvm.Cond.code ({ cls := "OrderedKeys", name := "descending", desc := "(I)Z" } : Jvm.MethodName) prog_1_method_4_code (2 : Nat) (Option.some Jvm.ClassFile.FieldType.boolean)) ∈ lw_all := lw_g (lw_at lw_m1 111 rfl) rfl
theorem q139 : (Jvm.Cond.methodLink "OrderedKeys" (77 : Nat) ({ cls := "OrderedKeys", name := "emitInt", desc := "(I)V" } : Jvm.MethodName)) ∈ lw_all := lw_g (lw_at lw_m1 112 rfl) rfl
theorem q140 : (Jvm.Cond.privateMethod ({ cls := "OrderedKeys", name := "emitInt", desc := "(I)V" } : Jvm.MethodName)) ∈ lw_tbl := lw_at lw_m1 113 rfl
theorem q141 : (Jvm.Cond.instanceMethod ({ cls := "OrderedKeys", name := "emitInt", desc := "(I)V" } : Jvm.MethodName)) ∈ lw_all := lw_g (lw_at lw_m1 114 rfl) rfl
theorem q142 : (Jvm.Cond.code ({ cls := "OrderedKeys", name := "emitInt", desc := "(I)V" } : Jvm.MethodName) prog_1_method_13_code (4 : Nat) (Option.none : Option Jvm.ClassFile.FieldType)) ∈ lw_all := lw_g (lw_at lw_m1 115 rfl) rfl
theorem q143 : (Jvm.Cond.constant "OrderedKeys" (70 : Nat) (-2147483648 : Int32)) ∈ lw_all := lw_g (lw_at lw_m1 116 rfl) rfl
theorem q144 : (Jvm.Cond.methodLink "OrderedKeys" (90 : Nat) ({ cls := "OrderedKeys", name := "bound", desc := "(ZZ)I" } : Jvm.MethodName)) ∈ lw_all := lw_g (lw_at lw_m1 117 rfl) rfl
theorem q145 : (Jvm.Cond.privateMethod ({ cls := "OrderedKeys", name := "bound", desc := "(ZZ)I" } : Jvm.MethodName)) ∈ lw_tbl := lw_at lw_m1 118 rfl
theorem q146 : (Jvm.Cond.instanceMethod ({ cls := "OrderedKeys", name := "bound", desc := "(ZZ)I" } : Jvm.MethodName)) ∈ lw_all := lw_g (lw_at lw_m1 119 rfl) rfl
theorem q147 : (Jvm.Cond.code ({ cls := "OrderedKeys", name := "bound", desc := "(ZZ)I" } : Jvm.MethodName) prog_1_method_16_code (8 : Nat) (Option.some Jvm.ClassFile.FieldType.int)) ∈ lw_all := lw_g (lw_at lw_m1 120 rfl) rfl
theorem q148 : (Jvm.Cond.methodLink "OrderedKeys" (83 : Nat) ({ cls := "OrderedKeys", name := "compare", desc := "(IZ)I" } : Jvm.MethodName)) ∈ lw_all := lw_g (lw_at lw_m1 121 rfl) rfl
theorem q149 : (Jvm.Cond.privateMethod ({ cls := "OrderedKeys", name := "compare", desc := "(IZ)I" } : Jvm.MethodName)) ∈ lw_tbl := lw_at lw_m1 122 rfl
theorem q150 : (Jvm.Cond.instanceMethod ({ cls := "OrderedKeys", name := "compare", desc := "(IZ)I" } : Jvm.MethodName)) ∈ lw_all := lw_g (lw_at lw_m1 123 rfl) rfl
theorem q151 : (Jvm.Cond.code ({ cls := "OrderedKeys", name := "compare", desc := "(IZ)I" } : Jvm.MethodName) prog_1_method_15_code (6 : Nat) (Option.some Jvm.ClassFile.FieldType.int)) ∈ lw_all := lw_g (lw_at lw_m1 124 rfl) rfl
theorem q153 : (Jvm.Cond.instanceMethod ({ cls := "OrderedKeys", name := "remove", desc := "(I)I" } : Jvm.MethodName)) ∈ lw_all := lw_g (lw_at lw_m1 126 rfl) rfl
theorem q154 : (Jvm.Cond.selects "OrderedKeys" ({ cls := "OrderedKeys", name := "remove", desc := "(I)I" } : Jvm.MethodName) ({ cls := "OrderedKeys", name := "remove", desc := "(I)I" } : Jvm.MethodName)) ∈ lw_all := lw_g (lw_at lw_m1 127 rfl) rfl
theorem q155 : (Jvm.Cond.code ({ cls := "OrderedKeys", name := "remove", desc := "(I)I" } : Jvm.MethodName) prog_1_method_19_code (3 : Nat) (Option.some Jvm.ClassFile.FieldType.int)) ∈ lw_all := lw_g (lw_at lw_m1 128 rfl) rfl
theorem q156 : (Jvm.Cond.methodLink "OrderedKeys" (94 : Nat) ({ cls := "OrderedKeys", name := "noEntry", desc := "(I)Z" } : Jvm.MethodName)) ∈ lw_all := lw_g (lw_at lw_m1 129 rfl) rfl
theorem q157 : (Jvm.Cond.privateMethod ({ cls := "OrderedKeys", name := "noEntry", desc := "(I)Z" } : Jvm.MethodName)) ∈ lw_tbl := lw_at lw_m1 130 rfl
theorem q158 : (Jvm.Cond.instanceMethod ({ cls := "OrderedKeys", name := "noEntry", desc := "(I)Z" } : Jvm.MethodName)) ∈ lw_all := lw_g (lw_at lw_m1 131 rfl) rfl
theorem q159 : (Jvm.Cond.code ({ cls := "OrderedKeys", name := "noEntry", desc := "(I)Z" } : Jvm.MethodName) prog_1_method_18_code (2 : Nat) (Option.some Jvm.ClassFile.FieldType.boolean)) ∈ lw_all := lw_g (lw_at lw_m1 132 rfl) rfl
theorem q161 : (Jvm.Cond.instanceMethod ({ cls := "OrderedKeys", name := "load", desc := "(I)I" } : Jvm.MethodName)) ∈ lw_all := lw_g (lw_at lw_m1 134 rfl) rfl
theorem q162 : (Jvm.Cond.selects "OrderedKeys" ({ cls := "OrderedKeys", name := "load", desc := "(I)I" } : Jvm.MethodName) ({ cls := "OrderedKeys", name := "load", desc := "(I)I" } : Jvm.MethodName)) ∈ lw_all := lw_g (lw_at lw_m1 135 rfl) rfl
theorem q163 : (Jvm.Cond.code ({ cls := "OrderedKeys", name := "load", desc := "(I)I" } : Jvm.MethodName) prog_1_method_26_code (4 : Nat) (Option.some Jvm.ClassFile.FieldType.int)) ∈ lw_all := lw_g (lw_at lw_m1 136 rfl) rfl
theorem q164 : (Jvm.Cond.methodLink "OrderedKeys" (114 : Nat) ({ cls := "OrderedKeys", name := "seek", desc := "(II)Z" } : Jvm.MethodName)) ∈ lw_all := lw_g (lw_at lw_m1 137 rfl) rfl
theorem q165 : (Jvm.Cond.privateMethod ({ cls := "OrderedKeys", name := "seek", desc := "(II)Z" } : Jvm.MethodName)) ∈ lw_tbl := lw_at lw_m1 138 rfl
theorem q166 : (Jvm.Cond.instanceMethod ({ cls := "OrderedKeys", name := "seek", desc := "(II)Z" } : Jvm.MethodName)) ∈ lw_all := lw_g (lw_at lw_m1 139 rfl) rfl
theorem q167 : (Jvm.Cond.code ({ cls := "OrderedKeys", name := "seek", desc := "(II)Z" } : Jvm.MethodName) prog_1_method_24_code (5 : Nat) (Option.some Jvm.ClassFile.FieldType.boolean)) ∈ lw_all := lw_g (lw_at lw_m1 140 rfl) rfl
theorem q168 : (Jvm.Cond.methodLink "OrderedKeys" (100 : Nat) ({ cls := "OrderedKeys", name := "nextByte", desc := "(I)I" } : Jvm.MethodName)) ∈ lw_all := lw_g (lw_at lw_m1 141 rfl) rfl
theorem q169 : (Jvm.Cond.privateMethod ({ cls := "OrderedKeys", name := "nextByte", desc := "(I)I" } : Jvm.MethodName)) ∈ lw_tbl := lw_at lw_m1 142 rfl
theorem q170 : (Jvm.Cond.instanceMethod ({ cls := "OrderedKeys", name := "nextByte", desc := "(I)I" } : Jvm.MethodName)) ∈ lw_all := lw_g (lw_at lw_m1 143 rfl) rfl
theorem q171 : (Jvm.Cond.code ({ cls := "OrderedKeys", name := "nextByte", desc := "(I)I" } : Jvm.MethodName) prog_1_method_20_code (3 : Nat) (Option.some Jvm.ClassFile.FieldType.int)) ∈ lw_all := lw_g (lw_at lw_m1 144 rfl) rfl
theorem q172 : (Jvm.Cond.methodLink "OrderedKeys" (108 : Nat) ({ cls := "OrderedKeys", name := "skipValue", desc := "(II)V" } : Jvm.MethodName)) ∈ lw_all := lw_g (lw_at lw_m1 145 rfl) rfl
theorem q173 : (Jvm.Cond.privateMethod ({ cls := "OrderedKeys", name := "skipValue", desc := "(II)V" } : Jvm.MethodName)) ∈ lw_tbl := lw_at lw_m1 146 rfl
theorem q174 : (Jvm.Cond.instanceMethod ({ cls := "OrderedKeys", name := "skipValue", desc := "(II)V" } : Jvm.MethodName)) ∈ lw_all := lw_g (lw_at lw_m1 147 rfl) rfl
theorem q175 : (Jvm.Cond.code ({ cls := "OrderedKeys", name := "skipValue", desc := "(II)V" } : Jvm.MethodName) prog_1_method_25_code (5 : Nat) (Option.none : Option Jvm.ClassFile.FieldType)) ∈ lw_all := lw_g (lw_at lw_m1 148 rfl) rfl
theorem q176 : (Jvm.Cond.methodLink "OrderedKeys" (111 : Nat) ({ cls := "OrderedKeys", name := "readChar", desc := "(II)I" } : Jvm.MethodName)) ∈ lw_all := lw_g (lw_at lw_m1 149 rfl) rfl
theorem q177 : (Jvm.Cond.privateMethod ({ cls := "OrderedKeys", name := "readChar", desc := "(II)I" } : Jvm.MethodName)) ∈ lw_tbl := lw_at lw_m1 150 rfl
theorem q178 : (Jvm.Cond.instanceMethod ({ cls := "OrderedKeys", name := "readChar", desc := "(II)I" } : Jvm.MethodName)) ∈ lw_all := lw_g (lw_at lw_m1 151 rfl) rfl
theorem q179 : (Jvm.Cond.code ({ cls := "OrderedKeys", name := "readChar", desc := "(II)I" } : Jvm.MethodName) prog_1_method_23_code (5 : Nat) (Option.some Jvm.ClassFile.FieldType.int)) ∈ lw_all := lw_g (lw_at lw_m1 152 rfl) rfl
theorem q180 : (Jvm.Cond.methodLink "OrderedKeys" (104 : Nat) ({ cls := "OrderedKeys", name := "nextTurned", desc := "(II)I" } : Jvm.MethodName)) ∈ lw_all := lw_g (lw_at lw_m1 153 rfl) rfl
theorem q181 : (Jvm.Cond.privateMethod ({ cls := "OrderedKeys", name := "nextTurned", desc := "(II)I" } : Jvm.MethodName)) ∈ lw_tbl := lw_at lw_m1 154 rfl
theorem q182 : (Jvm.Cond.instanceMethod ({ cls := "OrderedKeys", name := "nextTurned", desc := "(II)I" } : Jvm.MethodName)) ∈ lw_all := lw_g (lw_at lw_m1 155 rfl) rfl
theorem q183 : (Jvm.Cond.code ({ cls := "OrderedKeys", name := "nextTurned", desc := "(II)I" } : Jvm.MethodName) prog_1_method_21_code (5 : Nat) (Option.some Jvm.ClassFile.FieldType.int)) ∈ lw_all := lw_g (lw_at lw_m1 156 rfl) rfl
theorem q184 : (Jvm.Cond.methodLink "OrderedKeys" (118 : Nat) ({ cls := "OrderedKeys", name := "loadField", desc := "(II)V" } : Jvm.MethodName)) ∈ lw_all := lw_g (lw_at lw_m1 157 rfl) rfl
theorem q185 : (Jvm.Cond.privateMethod ({ cls := "OrderedKeys", name := "loadField", desc := "(II)V" } : Jvm.MethodName)) ∈ lw_tbl := lw_at lw_m1 158 rfl
theorem q186 : (Jvm.Cond.instanceMethod ({ cls := "OrderedKeys", name := "loadField", desc := "(II)V" } : Jvm.MethodName)) ∈ lw_all := lw_g (lw_at lw_m1 159 rfl) rfl
theorem q187 : (Jvm.Cond.code ({ cls := "OrderedKeys", name := "loadField", desc := "(II)V" } : Jvm.MethodName) prog_1_method_27_code (5 : Nat) (Option.none : Option Jvm.ClassFile.FieldType)) ∈ lw_all := lw_g (lw_at lw_m1 160 rfl) rfl
theorem q188 : (Jvm.Cond.methodLink "OrderedKeys" (121 : Nat) ({ cls := "OrderedKeys", name := "readInt", desc := "(II)I" } : Jvm.MethodName)) ∈ lw_all := lw_g (lw_at lw_m1 161 rfl) rfl
theorem q189 : (Jvm.Cond.privateMethod ({ cls := "OrderedKeys", name := "readInt", desc := "(II)I" } : Jvm.MethodName)) ∈ lw_tbl := lw_at lw_m1 162 rfl
theorem q190 : (Jvm.Cond.instanceMethod ({ cls := "OrderedKeys", name := "readInt", desc := "(II)I" } : Jvm.MethodName)) ∈ lw_all := lw_g (lw_at lw_m1 163 rfl) rfl
theorem q191 : (Jvm.Cond.code ({ cls := "OrderedKeys", name := "readInt", desc := "(II)I" } : Jvm.MethodName) prog_1_method_22_code (5 : Nat) (Option.some Jvm.ClassFile.FieldType.int)) ∈ lw_all := lw_g (lw_at lw_m1 164 rfl) rfl
theorem q193 : (Jvm.Cond.instanceMethod ({ cls := "OrderedKeys", name := "size", desc := "()I" } : Jvm.MethodName)) ∈ lw_all := lw_g (lw_at lw_m1 166 rfl) rfl
theorem q194 : (Jvm.Cond.selects "OrderedKeys" ({ cls := "OrderedKeys", name := "size", desc := "()I" } : Jvm.MethodName) ({ cls := "OrderedKeys", name := "size", desc := "()I" } : Jvm.MethodName)) ∈ lw_all := lw_g (lw_at lw_m1 167 rfl) rfl
theorem q195 : (Jvm.Cond.code ({ cls := "OrderedKeys", name := "size", desc := "()I" } : Jvm.MethodName) prog_1_method_28_code (1 : Nat) (Option.some Jvm.ClassFile.FieldType.int)) ∈ lw_all := lw_g (lw_at lw_m1 168 rfl) rfl
theorem q197 : (Jvm.Cond.instanceMethod ({ cls := "OrderedKeys", name := "tag", desc := "(I)I" } : Jvm.MethodName)) ∈ lw_all := lw_g (lw_at lw_m1 170 rfl) rfl
theorem q198 : (Jvm.Cond.selects "OrderedKeys" ({ cls := "OrderedKeys", name := "tag", desc := "(I)I" } : Jvm.MethodName) ({ cls := "OrderedKeys", name := "tag", desc := "(I)I" } : Jvm.MethodName)) ∈ lw_all := lw_g (lw_at lw_m1 171 rfl) rfl
theorem q199 : (Jvm.Cond.code ({ cls := "OrderedKeys", name := "tag", desc := "(I)I" } : Jvm.MethodName) prog_1_method_29_code (2 : Nat) (Option.some Jvm.ClassFile.FieldType.int)) ∈ lw_all := lw_g (lw_at lw_m1 172 rfl) rfl
theorem q201 : (Jvm.Cond.instanceMethod ({ cls := "OrderedKeys", name := "below", desc := "()I" } : Jvm.MethodName)) ∈ lw_all := lw_g (lw_at lw_m1 174 rfl) rfl
theorem q202 : (Jvm.Cond.selects "OrderedKeys" ({ cls := "OrderedKeys", name := "below", desc := "()I" } : Jvm.MethodName) ({ cls := "OrderedKeys", name := "below", desc := "()I" } : Jvm.MethodName)) ∈ lw_all := lw_g (lw_at lw_m1 175 rfl) rfl
theorem q203 : (Jvm.Cond.code ({ cls := "OrderedKeys", name := "below", desc := "()I" } : Jvm.MethodName) prog_1_method_30_code (1 : Nat) (Option.some Jvm.ClassFile.FieldType.int)) ∈ lw_all := lw_g (lw_at lw_m1 176 rfl) rfl
theorem q205 : (Jvm.Cond.instanceMethod ({ cls := "OrderedKeys", name := "matching", desc := "(I)I" } : Jvm.MethodName)) ∈ lw_all := lw_g (lw_at lw_m1 178 rfl) rfl
theorem q206 : (Jvm.Cond.selects "OrderedKeys" ({ cls := "OrderedKeys", name := "matching", desc := "(I)I" } : Jvm.MethodName) ({ cls := "OrderedKeys", name := "matching", desc := "(I)I" } : Jvm.MethodName)) ∈ lw_all := lw_g (lw_at lw_m1 179 rfl) rfl
theorem q207 : (Jvm.Cond.code ({ cls := "OrderedKeys", name := "matching", desc := "(I)I" } : Jvm.MethodName) prog_1_method_31_code (4 : Nat) (Option.some Jvm.ClassFile.FieldType.int)) ∈ lw_all := lw_g (lw_at lw_m1 180 rfl) rfl
theorem q209 : (Jvm.Cond.instanceMethod ({ cls := "OrderedKeys", name := "intAt", desc := "(II)I" } : Jvm.MethodName)) ∈ lw_all := lw_g (lw_at lw_m1 182 rfl) rfl
theorem q210 : (Jvm.Cond.selects "OrderedKeys" ({ cls := "OrderedKeys", name := "intAt", desc := "(II)I" } : Jvm.MethodName) ({ cls := "OrderedKeys", name := "intAt", desc := "(II)I" } : Jvm.MethodName)) ∈ lw_all := lw_g (lw_at lw_m1 183 rfl) rfl
theorem q211 : (Jvm.Cond.code ({ cls := "OrderedKeys", name := "intAt", desc := "(II)I" } : Jvm.MethodName) prog_1_method_32_code (4 : Nat) (Option.some Jvm.ClassFile.FieldType.int)) ∈ lw_all := lw_g (lw_at lw_m1 184 rfl) rfl
theorem q213 : (Jvm.Cond.instanceMethod ({ cls := "OrderedKeys", name := "charAt", desc := "(III)I" } : Jvm.MethodName)) ∈ lw_all := lw_g (lw_at lw_m1 186 rfl) rfl
theorem q214 : (Jvm.Cond.selects "OrderedKeys" ({ cls := "OrderedKeys", name := "charAt", desc := "(III)I" } : Jvm.MethodName) ({ cls := "OrderedKeys", name := "charAt", desc := "(III)I" } : Jvm.MethodName)) ∈ lw_all := lw_g (lw_at lw_m1 187 rfl) rfl
theorem q215 : (Jvm.Cond.code ({ cls := "OrderedKeys", name := "charAt", desc := "(III)I" } : Jvm.MethodName) prog_1_method_33_code (7 : Nat) (Option.some Jvm.ClassFile.FieldType.int)) ∈ lw_all := lw_g (lw_at lw_m1 188 rfl) rfl
theorem q217 : (Jvm.Cond.instanceMethod ({ cls := "OrderedKeys", name := "nullAt", desc := "(II)Z" } : Jvm.MethodName)) ∈ lw_all := lw_g (lw_at lw_m1 190 rfl) rfl
theorem q218 : (Jvm.Cond.selects "OrderedKeys" ({ cls := "OrderedKeys", name := "nullAt", desc := "(II)Z" } : Jvm.MethodName) ({ cls := "OrderedKeys", name := "nullAt", desc := "(II)Z" } : Jvm.MethodName)) ∈ lw_all := lw_g (lw_at lw_m1 191 rfl) rfl
theorem q219 : (Jvm.Cond.code ({ cls := "OrderedKeys", name := "nullAt", desc := "(II)Z" } : Jvm.MethodName) prog_1_method_34_code (3 : Nat) (Option.some Jvm.ClassFile.FieldType.boolean)) ∈ lw_all := lw_g (lw_at lw_m1 192 rfl) rfl
theorem in_X1 : ∀ w ∈ wsX10, w ∈ lw_all := lw_in wsX10 [53, 55, 57, 59, 61, 63, 65, 67, 69, 71, 73, 75, 77, 79, 81] (by decide +kernel) (by decide +kernel)
end
section
set_option maxRecDepth 100000
theorem dX1_init_0 : decode cX1_init 0 = .ok (.aload_n 0, 1) := by decide +kernel
theorem dX1_init_1 : decode cX1_init 1 = .ok (.invokespecial 1, 3) := by decide +kernel
theorem dX1_init_4 : decode cX1_init 4 = .ok (.aload_n 0, 1) := by decide +kernel
theorem dX1_init_5 : decode cX1_init 5 = .ok (.iconst 4, 1) := by decide +kernel
theorem dX1_init_6 : decode cX1_init 6 = .ok (.newarray .boolean, 2) := by decide +kernel
theorem dX1_init_8 : decode cX1_init 8 = .ok (.putfield 7, 3) := by decide +kernel
theorem dX1_init_11 : decode cX1_init 11 = .ok (.aload_n 0, 1) := by decide +kernel
theorem dX1_init_12 : decode cX1_init 12 = .ok (.iconst 4, 1) := by decide +kernel
theorem dX1_init_13 : decode cX1_init 13 = .ok (.newarray .int, 2) := by decide +kernel
theorem dX1_init_15 : decode cX1_init 15 = .ok (.putfield 13, 3) := by decide +kernel
theorem dX1_init_18 : decode cX1_init 18 = .ok (.aload_n 0, 1) := by decide +kernel
theorem dX1_init_19 : decode cX1_init 19 = .ok (.iconst 4, 1) := by decide +kernel
theorem dX1_init_20 : decode cX1_init 20 = .ok (.newarray .int, 2) := by decide +kernel
theorem dX1_init_22 : decode cX1_init 22 = .ok (.putfield 17, 3) := by decide +kernel
theorem dX1_init_25 : decode cX1_init 25 = .ok (.aload_n 0, 1) := by decide +kernel
theorem dX1_init_26 : decode cX1_init 26 = .ok (.bipush 24, 2) := by decide +kernel
theorem dX1_init_28 : decode cX1_init 28 = .ok (.newarray .int, 2) := by decide +kernel
theorem dX1_init_30 : decode cX1_init 30 = .ok (.putfield 20, 3) := by decide +kernel
theorem dX1_init_33 : decode cX1_init 33 = .ok (.aload_n 0, 1) := by decide +kernel
theorem dX1_init_34 : decode cX1_init 34 = .ok (.bipush 20, 2) := by decide +kernel
theorem dX1_init_36 : decode cX1_init 36 = .ok (.newarray .int, 2) := by decide +kernel
theorem dX1_init_38 : decode cX1_init 38 = .ok (.putfield 23, 3) := by decide +kernel
theorem dX1_init_41 : decode cX1_init 41 = .ok (.aload_n 0, 1) := by decide +kernel
theorem dX1_init_42 : decode cX1_init 42 = .ok (.bipush 20, 2) := by decide +kernel
theorem dX1_init_44 : decode cX1_init 44 = .ok (.newarray .boolean, 2) := by decide +kernel
theorem dX1_init_46 : decode cX1_init 46 = .ok (.putfield 26, 3) := by decide +kernel
theorem dX1_init_49 : decode cX1_init 49 = .ok (.aload_n 0, 1) := by decide +kernel
theorem dX1_init_50 : decode cX1_init 50 = .ok (.bipush 20, 2) := by decide +kernel
theorem dX1_init_52 : decode cX1_init 52 = .ok (.newarray .int, 2) := by decide +kernel
theorem dX1_init_54 : decode cX1_init 54 = .ok (.putfield 29, 3) := by decide +kernel
theorem dX1_init_57 : decode cX1_init 57 = .ok (.aload_n 0, 1) := by decide +kernel
theorem dX1_init_58 : decode cX1_init 58 = .ok (.bipush 20, 2) := by decide +kernel
theorem dX1_init_60 : decode cX1_init 60 = .ok (.newarray .int, 2) := by decide +kernel
theorem dX1_init_62 : decode cX1_init 62 = .ok (.putfield 32, 3) := by decide +kernel
theorem dX1_init_65 : decode cX1_init 65 = .ok (.aload_n 0, 1) := by decide +kernel
theorem dX1_init_66 : decode cX1_init 66 = .ok (.sipush 1280, 3) := by decide +kernel
theorem dX1_init_69 : decode cX1_init 69 = .ok (.newarray .short, 2) := by decide +kernel
theorem dX1_init_71 : decode cX1_init 71 = .ok (.putfield 35, 3) := by decide +kernel
theorem dX1_init_74 : decode cX1_init 74 = .ok (.aload_n 0, 1) := by decide +kernel
theorem dX1_init_75 : decode cX1_init 75 = .ok (.bipush 64, 2) := by decide +kernel
theorem dX1_init_77 : decode cX1_init 77 = .ok (.newarray .short, 2) := by decide +kernel
theorem dX1_init_79 : decode cX1_init 79 = .ok (.putfield 39, 3) := by decide +kernel
theorem dX1_init_82 : decode cX1_init 82 = .ok (.iload_n 1, 1) := by decide +kernel
theorem dX1_init_83 : decode cX1_init 83 = .ok (.istore_n 3, 1) := by decide +kernel
theorem dX1_init_84 : decode cX1_init 84 = .ok (.iload_n 3, 1) := by decide +kernel
theorem dX1_init_85 : decode cX1_init 85 = .ok (.iconst 1, 1) := by decide +kernel
theorem dX1_init_86 : decode cX1_init 86 = .ok (.if_icmp .ge 5, 3) := by decide +kernel
theorem dX1_init_89 : decode cX1_init 89 = .ok (.iconst 1, 1) := by decide +kernel
theorem dX1_init_90 : decode cX1_init 90 = .ok (.istore_n 3, 1) := by decide +kernel
theorem dX1_init_91 : decode cX1_init 91 = .ok (.iload_n 3, 1) := by decide +kernel
theorem dX1_init_92 : decode cX1_init 92 = .ok (.iconst 4, 1) := by decide +kernel
theorem dX1_init_93 : decode cX1_init 93 = .ok (.if_icmp .le 5, 3) := by decide +kernel
theorem dX1_init_96 : decode cX1_init 96 = .ok (.iconst 4, 1) := by decide +kernel
theorem dX1_init_97 : decode cX1_init 97 = .ok (.istore_n 3, 1) := by decide +kernel
theorem dX1_init_98 : decode cX1_init 98 = .ok (.aload_n 0, 1) := by decide +kernel
theorem dX1_init_99 : decode cX1_init 99 = .ok (.iload_n 3, 1) := by decide +kernel
theorem dX1_init_100 : decode cX1_init 100 = .ok (.putfield 42, 3) := by decide +kernel
theorem dX1_init_103 : decode cX1_init 103 = .ok (.aload_n 0, 1) := by decide +kernel
theorem dX1_init_104 : decode cX1_init 104 = .ok (.iload_n 2, 1) := by decide +kernel
theorem dX1_init_105 : decode cX1_init 105 = .ok (.putfield 46, 3) := by decide +kernel
theorem dX1_init_108 : decode cX1_init 108 = .ok (.iconst 0, 1) := by decide +kernel
theorem dX1_init_109 : decode cX1_init 109 = .ok (.istore 4, 2) := by decide +kernel
theorem dX1_init_111 : decode cX1_init 111 = .ok (.iload 4, 2) := by decide +kernel
theorem dX1_init_113 : decode cX1_init 113 = .ok (.iconst 4, 1) := by decide +kernel
theorem dX1_init_114 : decode cX1_init 114 = .ok (.if_icmp .ge 17, 3) := by decide +kernel
theorem dX1_init_117 : decode cX1_init 117 = .ok (.aload_n 0, 1) := by decide +kernel
theorem dX1_init_118 : decode cX1_init 118 = .ok (.getfield 7, 3) := by decide +kernel
theorem dX1_init_121 : decode cX1_init 121 = .ok (.iload 4, 2) := by decide +kernel
theorem dX1_init_123 : decode cX1_init 123 = .ok (.iconst 1, 1) := by decide +kernel
theorem dX1_init_124 : decode cX1_init 124 = .ok (.bastore, 1) := by decide +kernel
theorem dX1_init_125 : decode cX1_init 125 = .ok (.iinc 4 1, 3) := by decide +kernel
theorem dX1_init_128 : decode cX1_init 128 = .ok (.goto (-17), 3) := by decide +kernel
theorem dX1_init_131 : decode cX1_init 131 = .ok (.return_, 1) := by decide +kernel
theorem dX1_setNull_0 : decode cX1_setNull 0 = .ok (.aload_n 0, 1) := by decide +kernel
theorem dX1_setNull_1 : decode cX1_setNull 1 = .ok (.iload_n 1, 1) := by decide +kernel
theorem dX1_setNull_2 : decode cX1_setNull 2 = .ok (.invokevirtual 49, 3) := by decide +kernel
theorem dX1_setNull_5 : decode cX1_setNull 5 = .ok (.ifCond .eq 5, 3) := by decide +kernel
theorem dX1_setNull_8 : decode cX1_setNull 8 = .ok (.iconst (-1), 1) := by decide +kernel
theorem dX1_setNull_9 : decode cX1_setNull 9 = .ok (.ireturn, 1) := by decide +kernel
theorem dX1_setNull_10 : decode cX1_setNull 10 = .ok (.aload_n 0, 1) := by decide +kernel
theorem dX1_setNull_11 : decode cX1_setNull 11 = .ok (.getfield 7, 3) := by decide +kernel
theorem dX1_setNull_14 : decode cX1_setNull 14 = .ok (.iload_n 1, 1) := by decide +kernel
theorem dX1_setNull_15 : decode cX1_setNull 15 = .ok (.iconst 1, 1) := by decide +kernel
theorem dX1_setNull_16 : decode cX1_setNull 16 = .ok (.bastore, 1) := by decide +kernel
theorem dX1_setNull_17 : decode cX1_setNull 17 = .ok (.iconst 0, 1) := by decide +kernel
theorem dX1_setNull_18 : decode cX1_setNull 18 = .ok (.ireturn, 1) := by decide +kernel
theorem dX1_badField_0 : decode cX1_badField 0 = .ok (.iload_n 1, 1) := by decide +kernel
theorem dX1_badField_1 : decode cX1_badField 1 = .ok (.ifCond .lt 11, 3) := by decide +kernel
theorem dX1_badField_4 : decode cX1_badField 4 = .ok (.iload_n 1, 1) := by decide +kernel
theorem dX1_badField_5 : decode cX1_badField 5 = .ok (.aload_n 0, 1) := by decide +kernel
theorem dX1_badField_6 : decode cX1_badField 6 = .ok (.getfield 42, 3) := by decide +kernel
theorem dX1_badField_9 : decode cX1_badField 9 = .ok (.if_icmp .lt 7, 3) := by decide +kernel
theorem dX1_badField_12 : decode cX1_badField 12 = .ok (.iconst 1, 1) := by decide +kernel
theorem dX1_badField_13 : decode cX1_badField 13 = .ok (.goto 4, 3) := by decide +kernel
theorem dX1_badField_16 : decode cX1_badField 16 = .ok (.iconst 0, 1) := by decide +kernel
theorem dX1_badField_17 : decode cX1_badField 17 = .ok (.ireturn, 1) := by decide +kernel
theorem dX1_setInt_0 : decode cX1_setInt 0 = .ok (.aload_n 0, 1) := by decide +kernel
theorem dX1_setInt_1 : decode cX1_setInt 1 = .ok (.iload_n 1, 1) := by decide +kernel
theorem dX1_setInt_2 : decode cX1_setInt 2 = .ok (.invokevirtual 49, 3) := by decide +kernel
theorem dX1_setInt_5 : decode cX1_setInt 5 = .ok (.ifCond .eq 5, 3) := by decide +kernel
theorem dX1_setInt_8 : decode cX1_setInt 8 = .ok (.iconst (-1), 1) := by decide +kernel
theorem dX1_setInt_9 : decode cX1_setInt 9 = .ok (.ireturn, 1) := by decide +kernel
theorem dX1_setInt_10 : decode cX1_setInt 10 = .ok (.aload_n 0, 1) := by decide +kernel
theorem dX1_setInt_11 : decode cX1_setInt 11 = .ok (.iload_n 1, 1) := by decide +kernel
theorem dX1_setInt_12 : decode cX1_setInt 12 = .ok (.invokevirtual 53, 3) := by decide +kernel
theorem dX1_setInt_15 : decode cX1_setInt 15 = .ok (.ifCond .eq 6, 3) := by decide +kernel
theorem dX1_setInt_18 : decode cX1_setInt 18 = .ok (.bipush (-2), 2) := by decide +kernel
theorem dX1_setInt_20 : decode cX1_setInt 20 = .ok (.ireturn, 1) := by decide +kernel
theorem dX1_setInt_21 : decode cX1_setInt 21 = .ok (.aload_n 0, 1) := by decide +kernel
theorem dX1_setInt_22 : decode cX1_setInt 22 = .ok (.getfield 7, 3) := by decide +kernel
theorem dX1_setInt_25 : decode cX1_setInt 25 = .ok (.iload_n 1, 1) := by decide +kernel
theorem dX1_setInt_26 : decode cX1_setInt 26 = .ok (.iconst 0, 1) := by decide +kernel
theorem dX1_setInt_27 : decode cX1_setInt 27 = .ok (.bastore, 1) := by decide +kernel
theorem dX1_setInt_28 : decode cX1_setInt 28 = .ok (.aload_n 0, 1) := by decide +kernel
theorem dX1_setInt_29 : decode cX1_setInt 29 = .ok (.getfield 13, 3) := by decide +kernel
theorem dX1_setInt_32 : decode cX1_setInt 32 = .ok (.iload_n 1, 1) := by decide +kernel
theorem dX1_setInt_33 : decode cX1_setInt 33 = .ok (.iload_n 2, 1) := by decide +kernel
theorem dX1_setInt_34 : decode cX1_setInt 34 = .ok (.iastore, 1) := by decide +kernel
theorem dX1_setInt_35 : decode cX1_setInt 35 = .ok (.iconst 0, 1) := by decide +kernel
theorem dX1_setInt_36 : decode cX1_setInt 36 = .ok (.ireturn, 1) := by decide +kernel
theorem dX1_isText_0 : decode cX1_isText 0 = .ok (.aload_n 0, 1) := by decide +kernel
theorem dX1_isText_1 : decode cX1_isText 1 = .ok (.getfield 46, 3) := by decide +kernel
theorem dX1_isText_4 : decode cX1_isText 4 = .ok (.iconst 4, 1) := by decide +kernel
theorem dX1_isText_5 : decode cX1_isText 5 = .ok (.iload_n 1, 1) := by decide +kernel
theorem dX1_isText_6 : decode cX1_isText 6 = .ok (.imul, 1) := by decide +kernel
theorem dX1_isText_7 : decode cX1_isText 7 = .ok (.ishr, 1) := by decide +kernel
theorem dX1_isText_8 : decode cX1_isText 8 = .ok (.iconst 1, 1) := by decide +kernel
theorem dX1_isText_9 : decode cX1_isText 9 = .ok (.iand, 1) := by decide +kernel
theorem dX1_isText_10 : decode cX1_isText 10 = .ok (.iconst 1, 1) := by decide +kernel
theorem dX1_isText_11 : decode cX1_isText 11 = .ok (.if_icmp .ne 7, 3) := by decide +kernel
theorem dX1_isText_14 : decode cX1_isText 14 = .ok (.iconst 1, 1) := by decide +kernel
theorem dX1_isText_15 : decode cX1_isText 15 = .ok (.goto 4, 3) := by decide +kernel
theorem dX1_isText_18 : decode cX1_isText 18 = .ok (.iconst 0, 1) := by decide +kernel
theorem dX1_isText_19 : decode cX1_isText 19 = .ok (.ireturn, 1) := by decide +kernel
theorem dX1_setText_0 : decode cX1_setText 0 = .ok (.aload_n 0, 1) := by decide +kernel
theorem dX1_setText_1 : decode cX1_setText 1 = .ok (.iload_n 1, 1) := by decide +kernel
theorem dX1_setText_2 : decode cX1_setText 2 = .ok (.invokevirtual 49, 3) := by decide +kernel
theorem dX1_setText_5 : decode cX1_setText 5 = .ok (.ifCond .eq 5, 3) := by decide +kernel
theorem dX1_setText_8 : decode cX1_setText 8 = .ok (.iconst (-1), 1) := by decide +kernel
theorem dX1_setText_9 : decode cX1_setText 9 = .ok (.ireturn, 1) := by decide +kernel
theorem dX1_setText_10 : decode cX1_setText 10 = .ok (.aload_n 0, 1) := by decide +kernel
theorem dX1_setText_11 : decode cX1_setText 11 = .ok (.iload_n 1, 1) := by decide +kernel
theorem dX1_setText_12 : decode cX1_setText 12 = .ok (.invokevirtual 53, 3) := by decide +kernel
theorem dX1_setText_15 : decode cX1_setText 15 = .ok (.ifCond .ne 6, 3) := by decide +kernel
theorem dX1_setText_18 : decode cX1_setText 18 = .ok (.bipush (-2), 2) := by decide +kernel
theorem dX1_setText_20 : decode cX1_setText 20 = .ok (.ireturn, 1) := by decide +kernel
theorem dX1_setText_21 : decode cX1_setText 21 = .ok (.aload_n 0, 1) := by decide +kernel
theorem dX1_setText_22 : decode cX1_setText 22 = .ok (.getfield 7, 3) := by decide +kernel
theorem dX1_setText_25 : decode cX1_setText 25 = .ok (.iload_n 1, 1) := by decide +kernel
theorem dX1_setText_26 : decode cX1_setText 26 = .ok (.iconst 0, 1) := by decide +kernel
theorem dX1_setText_27 : decode cX1_setText 27 = .ok (.bastore, 1) := by decide +kernel
theorem dX1_setText_28 : decode cX1_setText 28 = .ok (.aload_n 0, 1) := by decide +kernel
theorem dX1_setText_29 : decode cX1_setText 29 = .ok (.getfield 17, 3) := by decide +kernel
theorem dX1_setText_32 : decode cX1_setText 32 = .ok (.iload_n 1, 1) := by decide +kernel
theorem dX1_setText_33 : decode cX1_setText 33 = .ok (.iconst 0, 1) := by decide +kernel
theorem dX1_setText_34 : decode cX1_setText 34 = .ok (.iastore, 1) := by decide +kernel
theorem dX1_setText_35 : decode cX1_setText 35 = .ok (.iconst 0, 1) := by decide +kernel
theorem dX1_setText_36 : decode cX1_setText 36 = .ok (.ireturn, 1) := by decide +kernel
theorem dX1_append_0 : decode cX1_append 0 = .ok (.aload_n 0, 1) := by decide +kernel
theorem dX1_append_1 : decode cX1_append 1 = .ok (.iload_n 1, 1) := by decide +kernel
theorem dX1_append_2 : decode cX1_append 2 = .ok (.invokevirtual 49, 3) := by decide +kernel
theorem dX1_append_5 : decode cX1_append 5 = .ok (.ifCond .eq 5, 3) := by decide +kernel
theorem dX1_append_8 : decode cX1_append 8 = .ok (.iconst (-1), 1) := by decide +kernel
theorem dX1_append_9 : decode cX1_append 9 = .ok (.ireturn, 1) := by decide +kernel
theorem dX1_append_10 : decode cX1_append 10 = .ok (.aload_n 0, 1) := by decide +kernel
theorem dX1_append_11 : decode cX1_append 11 = .ok (.iload_n 1, 1) := by decide +kernel
theorem dX1_append_12 : decode cX1_append 12 = .ok (.invokevirtual 53, 3) := by decide +kernel
theorem dX1_append_15 : decode cX1_append 15 = .ok (.ifCond .eq 12, 3) := by decide +kernel
theorem dX1_append_18 : decode cX1_append 18 = .ok (.aload_n 0, 1) := by decide +kernel
theorem dX1_append_19 : decode cX1_append 19 = .ok (.getfield 7, 3) := by decide +kernel
theorem dX1_append_22 : decode cX1_append 22 = .ok (.iload_n 1, 1) := by decide +kernel
theorem dX1_append_23 : decode cX1_append 23 = .ok (.baload, 1) := by decide +kernel
theorem dX1_append_24 : decode cX1_append 24 = .ok (.ifCond .eq 6, 3) := by decide +kernel
theorem dX1_append_27 : decode cX1_append 27 = .ok (.bipush (-2), 2) := by decide +kernel
theorem dX1_append_29 : decode cX1_append 29 = .ok (.ireturn, 1) := by decide +kernel
theorem dX1_append_30 : decode cX1_append 30 = .ok (.iload_n 2, 1) := by decide +kernel
theorem dX1_append_31 : decode cX1_append 31 = .ok (.ifCond .lt 10, 3) := by decide +kernel
theorem dX1_append_34 : decode cX1_append 34 = .ok (.iload_n 2, 1) := by decide +kernel
theorem dX1_append_35 : decode cX1_append 35 = .ok (.sipush 255, 3) := by decide +kernel
theorem dX1_append_38 : decode cX1_append 38 = .ok (.if_icmp .le 6, 3) := by decide +kernel
theorem dX1_append_41 : decode cX1_append 41 = .ok (.bipush (-4), 2) := by decide +kernel
theorem dX1_append_43 : decode cX1_append 43 = .ok (.ireturn, 1) := by decide +kernel
theorem dX1_append_44 : decode cX1_append 44 = .ok (.aload_n 0, 1) := by decide +kernel
theorem dX1_append_45 : decode cX1_append 45 = .ok (.getfield 17, 3) := by decide +kernel
theorem dX1_append_48 : decode cX1_append 48 = .ok (.iload_n 1, 1) := by decide +kernel
theorem dX1_append_49 : decode cX1_append 49 = .ok (.iaload, 1) := by decide +kernel
theorem dX1_append_50 : decode cX1_append 50 = .ok (.istore_n 3, 1) := by decide +kernel
theorem dX1_append_51 : decode cX1_append 51 = .ok (.iload_n 3, 1) := by decide +kernel
theorem dX1_append_52 : decode cX1_append 52 = .ok (.bipush 6, 2) := by decide +kernel
theorem dX1_append_54 : decode cX1_append 54 = .ok (.if_icmp .lt 6, 3) := by decide +kernel
theorem dX1_append_57 : decode cX1_append 57 = .ok (.bipush (-3), 2) := by decide +kernel
theorem dX1_append_59 : decode cX1_append 59 = .ok (.ireturn, 1) := by decide +kernel
theorem dX1_append_60 : decode cX1_append 60 = .ok (.aload_n 0, 1) := by decide +kernel
theorem dX1_append_61 : decode cX1_append 61 = .ok (.getfield 20, 3) := by decide +kernel
theorem dX1_append_64 : decode cX1_append 64 = .ok (.iload_n 1, 1) := by decide +kernel
theorem dX1_append_65 : decode cX1_append 65 = .ok (.bipush 6, 2) := by decide +kernel
theorem dX1_append_67 : decode cX1_append 67 = .ok (.imul, 1) := by decide +kernel
theorem dX1_append_68 : decode cX1_append 68 = .ok (.iload_n 3, 1) := by decide +kernel
theorem dX1_append_69 : decode cX1_append 69 = .ok (.iadd, 1) := by decide +kernel
theorem dX1_append_70 : decode cX1_append 70 = .ok (.iload_n 2, 1) := by decide +kernel
theorem dX1_append_71 : decode cX1_append 71 = .ok (.iastore, 1) := by decide +kernel
theorem dX1_append_72 : decode cX1_append 72 = .ok (.aload_n 0, 1) := by decide +kernel
theorem dX1_append_73 : decode cX1_append 73 = .ok (.getfield 17, 3) := by decide +kernel
theorem dX1_append_76 : decode cX1_append 76 = .ok (.iload_n 1, 1) := by decide +kernel
theorem dX1_append_77 : decode cX1_append 77 = .ok (.iload_n 3, 1) := by decide +kernel
theorem dX1_append_78 : decode cX1_append 78 = .ok (.iconst 1, 1) := by decide +kernel
theorem dX1_append_79 : decode cX1_append 79 = .ok (.iadd, 1) := by decide +kernel
theorem dX1_append_80 : decode cX1_append 80 = .ok (.iastore, 1) := by decide +kernel
theorem dX1_append_81 : decode cX1_append 81 = .ok (.iload_n 3, 1) := by decide +kernel
theorem dX1_append_82 : decode cX1_append 82 = .ok (.iconst 1, 1) := by decide +kernel
theorem dX1_append_83 : decode cX1_append 83 = .ok (.iadd, 1) := by decide +kernel
theorem dX1_append_84 : decode cX1_append 84 = .ok (.ireturn, 1) := by decide +kernel
theorem dX1_add_0 : decode cX1_add 0 = .ok (.aload_n 0, 1) := by decide +kernel
theorem dX1_add_1 : decode cX1_add 1 = .ok (.getfield 80, 3) := by decide +kernel
theorem dX1_add_4 : decode cX1_add 4 = .ok (.bipush 20, 2) := by decide +kernel
theorem dX1_add_6 : decode cX1_add 6 = .ok (.if_icmp .lt 6, 3) := by decide +kernel
theorem dX1_add_9 : decode cX1_add 9 = .ok (.bipush (-3), 2) := by decide +kernel
theorem dX1_add_11 : decode cX1_add 11 = .ok (.ireturn, 1) := by decide +kernel
theorem dX1_add_12 : decode cX1_add 12 = .ok (.aload_n 0, 1) := by decide +kernel
theorem dX1_add_13 : decode cX1_add 13 = .ok (.aload_n 0, 1) := by decide +kernel
theorem dX1_add_14 : decode cX1_add 14 = .ok (.getfield 42, 3) := by decide +kernel
theorem dX1_add_17 : decode cX1_add 17 = .ok (.invokevirtual 87, 3) := by decide +kernel
theorem dX1_add_20 : decode cX1_add 20 = .ok (.aload_n 0, 1) := by decide +kernel
theorem dX1_add_21 : decode cX1_add 21 = .ok (.iconst 1, 1) := by decide +kernel
theorem dX1_add_22 : decode cX1_add 22 = .ok (.iconst 0, 1) := by decide +kernel
theorem dX1_add_23 : decode cX1_add 23 = .ok (.invokevirtual 90, 3) := by decide +kernel
theorem dX1_add_26 : decode cX1_add 26 = .ok (.istore_n 2, 1) := by decide +kernel
theorem dX1_add_27 : decode cX1_add 27 = .ok (.iconst 0, 1) := by decide +kernel
theorem dX1_add_28 : decode cX1_add 28 = .ok (.istore_n 3, 1) := by decide +kernel
theorem dX1_add_29 : decode cX1_add 29 = .ok (.iload_n 3, 1) := by decide +kernel
theorem dX1_add_30 : decode cX1_add 30 = .ok (.bipush 19, 2) := by decide +kernel
theorem dX1_add_32 : decode cX1_add 32 = .ok (.if_icmp .ge 18, 3) := by decide +kernel
theorem dX1_add_35 : decode cX1_add 35 = .ok (.aload_n 0, 1) := by decide +kernel
theorem dX1_add_36 : decode cX1_add 36 = .ok (.getfield 26, 3) := by decide +kernel
theorem dX1_add_39 : decode cX1_add 39 = .ok (.iload_n 3, 1) := by decide +kernel
theorem dX1_add_40 : decode cX1_add 40 = .ok (.baload, 1) := by decide +kernel
theorem dX1_add_41 : decode cX1_add 41 = .ok (.ifCond .eq 9, 3) := by decide +kernel
theorem dX1_add_44 : decode cX1_add 44 = .ok (.iinc 3 1, 3) := by decide +kernel
theorem dX1_add_47 : decode cX1_add 47 = .ok (.goto (-18), 3) := by decide +kernel
theorem dX1_add_50 : decode cX1_add 50 = .ok (.aload_n 0, 1) := by decide +kernel
theorem dX1_add_51 : decode cX1_add 51 = .ok (.getfield 26, 3) := by decide +kernel
theorem dX1_add_54 : decode cX1_add 54 = .ok (.iload_n 3, 1) := by decide +kernel
theorem dX1_add_55 : decode cX1_add 55 = .ok (.iconst 1, 1) := by decide +kernel
theorem dX1_add_56 : decode cX1_add 56 = .ok (.bastore, 1) := by decide +kernel
theorem dX1_add_57 : decode cX1_add 57 = .ok (.aload_n 0, 1) := by decide +kernel
theorem dX1_add_58 : decode cX1_add 58 = .ok (.getfield 29, 3) := by decide +kernel
theorem dX1_add_61 : decode cX1_add 61 = .ok (.iload_n 3, 1) := by decide +kernel
theorem dX1_add_62 : decode cX1_add 62 = .ok (.iload_n 1, 1) := by decide +kernel
theorem dX1_add_63 : decode cX1_add 63 = .ok (.iastore, 1) := by decide +kernel
theorem dX1_add_64 : decode cX1_add 64 = .ok (.aload_n 0, 1) := by decide +kernel
theorem dX1_add_65 : decode cX1_add 65 = .ok (.getfield 32, 3) := by decide +kernel
theorem dX1_add_68 : decode cX1_add 68 = .ok (.iload_n 3, 1) := by decide +kernel
theorem dX1_add_69 : decode cX1_add 69 = .ok (.aload_n 0, 1) := by decide +kernel
theorem dX1_add_70 : decode cX1_add 70 = .ok (.getfield 56, 3) := by decide +kernel
theorem dX1_add_73 : decode cX1_add 73 = .ok (.iastore, 1) := by decide +kernel
end
section
set_option maxRecDepth 100000
theorem dX1_add_74 : decode cX1_add 74 = .ok (.iconst 0, 1) := by decide +kernel
theorem dX1_add_75 : decode cX1_add 75 = .ok (.istore 4, 2) := by decide +kernel
theorem dX1_add_77 : decode cX1_add 77 = .ok (.iload 4, 2) := by decide +kernel
theorem dX1_add_79 : decode cX1_add 79 = .ok (.aload_n 0, 1) := by decide +kernel
theorem dX1_add_80 : decode cX1_add 80 = .ok (.getfield 56, 3) := by decide +kernel
theorem dX1_add_83 : decode cX1_add 83 = .ok (.if_icmp .ge 28, 3) := by decide +kernel
theorem dX1_add_86 : decode cX1_add 86 = .ok (.aload_n 0, 1) := by decide +kernel
theorem dX1_add_87 : decode cX1_add 87 = .ok (.getfield 35, 3) := by decide +kernel
theorem dX1_add_90 : decode cX1_add 90 = .ok (.iload_n 3, 1) := by decide +kernel
theorem dX1_add_91 : decode cX1_add 91 = .ok (.bipush 64, 2) := by decide +kernel
theorem dX1_add_93 : decode cX1_add 93 = .ok (.imul, 1) := by decide +kernel
theorem dX1_add_94 : decode cX1_add 94 = .ok (.iload 4, 2) := by decide +kernel
theorem dX1_add_96 : decode cX1_add 96 = .ok (.iadd, 1) := by decide +kernel
theorem dX1_add_97 : decode cX1_add 97 = .ok (.aload_n 0, 1) := by decide +kernel
theorem dX1_add_98 : decode cX1_add 98 = .ok (.getfield 39, 3) := by decide +kernel
theorem dX1_add_101 : decode cX1_add 101 = .ok (.iload 4, 2) := by decide +kernel
theorem dX1_add_103 : decode cX1_add 103 = .ok (.saload, 1) := by decide +kernel
theorem dX1_add_104 : decode cX1_add 104 = .ok (.sastore, 1) := by decide +kernel
theorem dX1_add_105 : decode cX1_add 105 = .ok (.iinc 4 1, 3) := by decide +kernel
theorem dX1_add_108 : decode cX1_add 108 = .ok (.goto (-31), 3) := by decide +kernel
theorem dX1_add_111 : decode cX1_add 111 = .ok (.aload_n 0, 1) := by decide +kernel
theorem dX1_add_112 : decode cX1_add 112 = .ok (.getfield 80, 3) := by decide +kernel
theorem dX1_add_115 : decode cX1_add 115 = .ok (.istore 4, 2) := by decide +kernel
theorem dX1_add_117 : decode cX1_add 117 = .ok (.iload 4, 2) := by decide +kernel
theorem dX1_add_119 : decode cX1_add 119 = .ok (.iload_n 2, 1) := by decide +kernel
theorem dX1_add_120 : decode cX1_add 120 = .ok (.if_icmp .le 25, 3) := by decide +kernel
theorem dX1_add_123 : decode cX1_add 123 = .ok (.aload_n 0, 1) := by decide +kernel
theorem dX1_add_124 : decode cX1_add 124 = .ok (.getfield 23, 3) := by decide +kernel
theorem dX1_add_127 : decode cX1_add 127 = .ok (.iload 4, 2) := by decide +kernel
theorem dX1_add_129 : decode cX1_add 129 = .ok (.aload_n 0, 1) := by decide +kernel
theorem dX1_add_130 : decode cX1_add 130 = .ok (.getfield 23, 3) := by decide +kernel
theorem dX1_add_133 : decode cX1_add 133 = .ok (.iload 4, 2) := by decide +kernel
theorem dX1_add_135 : decode cX1_add 135 = .ok (.iconst 1, 1) := by decide +kernel
theorem dX1_add_136 : decode cX1_add 136 = .ok (.isub, 1) := by decide +kernel
theorem dX1_add_137 : decode cX1_add 137 = .ok (.iaload, 1) := by decide +kernel
theorem dX1_add_138 : decode cX1_add 138 = .ok (.iastore, 1) := by decide +kernel
theorem dX1_add_139 : decode cX1_add 139 = .ok (.iinc 4 (-1), 3) := by decide +kernel
theorem dX1_add_142 : decode cX1_add 142 = .ok (.goto (-25), 3) := by decide +kernel
theorem dX1_add_145 : decode cX1_add 145 = .ok (.aload_n 0, 1) := by decide +kernel
theorem dX1_add_146 : decode cX1_add 146 = .ok (.getfield 23, 3) := by decide +kernel
theorem dX1_add_149 : decode cX1_add 149 = .ok (.iload_n 2, 1) := by decide +kernel
theorem dX1_add_150 : decode cX1_add 150 = .ok (.iload_n 3, 1) := by decide +kernel
theorem dX1_add_151 : decode cX1_add 151 = .ok (.iastore, 1) := by decide +kernel
theorem dX1_add_152 : decode cX1_add 152 = .ok (.aload_n 0, 1) := by decide +kernel
theorem dX1_add_153 : decode cX1_add 153 = .ok (.dup, 1) := by decide +kernel
theorem dX1_add_154 : decode cX1_add 154 = .ok (.getfield 80, 3) := by decide +kernel
theorem dX1_add_157 : decode cX1_add 157 = .ok (.iconst 1, 1) := by decide +kernel
theorem dX1_add_158 : decode cX1_add 158 = .ok (.iadd, 1) := by decide +kernel
theorem dX1_add_159 : decode cX1_add 159 = .ok (.putfield 80, 3) := by decide +kernel
theorem dX1_add_162 : decode cX1_add 162 = .ok (.iload_n 2, 1) := by decide +kernel
theorem dX1_add_163 : decode cX1_add 163 = .ok (.ireturn, 1) := by decide +kernel
theorem dX1_encode_0 : decode cX1_encode 0 = .ok (.aload_n 0, 1) := by decide +kernel
theorem dX1_encode_1 : decode cX1_encode 1 = .ok (.iconst 0, 1) := by decide +kernel
theorem dX1_encode_2 : decode cX1_encode 2 = .ok (.putfield 56, 3) := by decide +kernel
theorem dX1_encode_5 : decode cX1_encode 5 = .ok (.iconst 0, 1) := by decide +kernel
theorem dX1_encode_6 : decode cX1_encode 6 = .ok (.istore_n 2, 1) := by decide +kernel
theorem dX1_encode_7 : decode cX1_encode 7 = .ok (.iload_n 2, 1) := by decide +kernel
theorem dX1_encode_8 : decode cX1_encode 8 = .ok (.iload_n 1, 1) := by decide +kernel
theorem dX1_encode_9 : decode cX1_encode 9 = .ok (.if_icmp .ge 70, 3) := by decide +kernel
theorem dX1_encode_12 : decode cX1_encode 12 = .ok (.aload_n 0, 1) := by decide +kernel
theorem dX1_encode_13 : decode cX1_encode 13 = .ok (.iload_n 2, 1) := by decide +kernel
theorem dX1_encode_14 : decode cX1_encode 14 = .ok (.invokevirtual 71, 3) := by decide +kernel
theorem dX1_encode_17 : decode cX1_encode 17 = .ok (.istore_n 3, 1) := by decide +kernel
theorem dX1_encode_18 : decode cX1_encode 18 = .ok (.aload_n 0, 1) := by decide +kernel
theorem dX1_encode_19 : decode cX1_encode 19 = .ok (.iload_n 2, 1) := by decide +kernel
theorem dX1_encode_20 : decode cX1_encode 20 = .ok (.invokevirtual 53, 3) := by decide +kernel
theorem dX1_encode_23 : decode cX1_encode 23 = .ok (.istore 4, 2) := by decide +kernel
theorem dX1_encode_25 : decode cX1_encode 25 = .ok (.aload_n 0, 1) := by decide +kernel
theorem dX1_encode_26 : decode cX1_encode 26 = .ok (.getfield 7, 3) := by decide +kernel
theorem dX1_encode_29 : decode cX1_encode 29 = .ok (.iload_n 2, 1) := by decide +kernel
theorem dX1_encode_30 : decode cX1_encode 30 = .ok (.baload, 1) := by decide +kernel
theorem dX1_encode_31 : decode cX1_encode 31 = .ok (.ifCond .eq 19, 3) := by decide +kernel
theorem dX1_encode_34 : decode cX1_encode 34 = .ok (.aload_n 0, 1) := by decide +kernel
theorem dX1_encode_35 : decode cX1_encode 35 = .ok (.iload_n 3, 1) := by decide +kernel
theorem dX1_encode_36 : decode cX1_encode 36 = .ok (.ifCond .eq 7, 3) := by decide +kernel
theorem dX1_encode_39 : decode cX1_encode 39 = .ok (.iconst 0, 1) := by decide +kernel
theorem dX1_encode_40 : decode cX1_encode 40 = .ok (.goto 4, 3) := by decide +kernel
theorem dX1_encode_43 : decode cX1_encode 43 = .ok (.iconst 2, 1) := by decide +kernel
theorem dX1_encode_44 : decode cX1_encode 44 = .ok (.invokevirtual 62, 3) := by decide +kernel
theorem dX1_encode_47 : decode cX1_encode 47 = .ok (.goto 26, 3) := by decide +kernel
theorem dX1_encode_50 : decode cX1_encode 50 = .ok (.aload_n 0, 1) := by decide +kernel
theorem dX1_encode_51 : decode cX1_encode 51 = .ok (.iconst 1, 1) := by decide +kernel
theorem dX1_encode_52 : decode cX1_encode 52 = .ok (.invokevirtual 62, 3) := by decide +kernel
theorem dX1_encode_55 : decode cX1_encode 55 = .ok (.iload 4, 2) := by decide +kernel
theorem dX1_encode_57 : decode cX1_encode 57 = .ok (.ifCond .eq 11, 3) := by decide +kernel
theorem dX1_encode_60 : decode cX1_encode 60 = .ok (.aload_n 0, 1) := by decide +kernel
theorem dX1_encode_61 : decode cX1_encode 61 = .ok (.iload_n 2, 1) := by decide +kernel
theorem dX1_encode_62 : decode cX1_encode 62 = .ok (.invokevirtual 74, 3) := by decide +kernel
theorem dX1_encode_65 : decode cX1_encode 65 = .ok (.goto 8, 3) := by decide +kernel
theorem dX1_encode_68 : decode cX1_encode 68 = .ok (.aload_n 0, 1) := by decide +kernel
theorem dX1_encode_69 : decode cX1_encode 69 = .ok (.iload_n 2, 1) := by decide +kernel
theorem dX1_encode_70 : decode cX1_encode 70 = .ok (.invokevirtual 77, 3) := by decide +kernel
theorem dX1_encode_73 : decode cX1_encode 73 = .ok (.iinc 2 1, 3) := by decide +kernel
theorem dX1_encode_76 : decode cX1_encode 76 = .ok (.goto (-69), 3) := by decide +kernel
theorem dX1_encode_79 : decode cX1_encode 79 = .ok (.return_, 1) := by decide +kernel
theorem dX1_nullsFirst_0 : decode cX1_nullsFirst 0 = .ok (.aload_n 0, 1) := by decide +kernel
theorem dX1_nullsFirst_1 : decode cX1_nullsFirst 1 = .ok (.getfield 46, 3) := by decide +kernel
theorem dX1_nullsFirst_4 : decode cX1_nullsFirst 4 = .ok (.iconst 4, 1) := by decide +kernel
theorem dX1_nullsFirst_5 : decode cX1_nullsFirst 5 = .ok (.iload_n 1, 1) := by decide +kernel
theorem dX1_nullsFirst_6 : decode cX1_nullsFirst 6 = .ok (.imul, 1) := by decide +kernel
theorem dX1_nullsFirst_7 : decode cX1_nullsFirst 7 = .ok (.ishr, 1) := by decide +kernel
theorem dX1_nullsFirst_8 : decode cX1_nullsFirst 8 = .ok (.iconst 4, 1) := by decide +kernel
theorem dX1_nullsFirst_9 : decode cX1_nullsFirst 9 = .ok (.iand, 1) := by decide +kernel
theorem dX1_nullsFirst_10 : decode cX1_nullsFirst 10 = .ok (.iconst 4, 1) := by decide +kernel
theorem dX1_nullsFirst_11 : decode cX1_nullsFirst 11 = .ok (.if_icmp .ne 7, 3) := by decide +kernel
theorem dX1_nullsFirst_14 : decode cX1_nullsFirst 14 = .ok (.iconst 1, 1) := by decide +kernel
theorem dX1_nullsFirst_15 : decode cX1_nullsFirst 15 = .ok (.goto 4, 3) := by decide +kernel
theorem dX1_nullsFirst_18 : decode cX1_nullsFirst 18 = .ok (.iconst 0, 1) := by decide +kernel
theorem dX1_nullsFirst_19 : decode cX1_nullsFirst 19 = .ok (.ireturn, 1) := by decide +kernel
theorem dX1_emit_0 : decode cX1_emit 0 = .ok (.aload_n 0, 1) := by decide +kernel
theorem dX1_emit_1 : decode cX1_emit 1 = .ok (.getfield 56, 3) := by decide +kernel
theorem dX1_emit_4 : decode cX1_emit 4 = .ok (.bipush 64, 2) := by decide +kernel
theorem dX1_emit_6 : decode cX1_emit 6 = .ok (.if_icmp .lt 4, 3) := by decide +kernel
theorem dX1_emit_9 : decode cX1_emit 9 = .ok (.return_, 1) := by decide +kernel
theorem dX1_emit_10 : decode cX1_emit 10 = .ok (.aload_n 0, 1) := by decide +kernel
theorem dX1_emit_11 : decode cX1_emit 11 = .ok (.getfield 39, 3) := by decide +kernel
theorem dX1_emit_14 : decode cX1_emit 14 = .ok (.aload_n 0, 1) := by decide +kernel
theorem dX1_emit_15 : decode cX1_emit 15 = .ok (.getfield 56, 3) := by decide +kernel
theorem dX1_emit_18 : decode cX1_emit 18 = .ok (.iload_n 1, 1) := by decide +kernel
theorem dX1_emit_19 : decode cX1_emit 19 = .ok (.i2s, 1) := by decide +kernel
theorem dX1_emit_20 : decode cX1_emit 20 = .ok (.sastore, 1) := by decide +kernel
theorem dX1_emit_21 : decode cX1_emit 21 = .ok (.aload_n 0, 1) := by decide +kernel
theorem dX1_emit_22 : decode cX1_emit 22 = .ok (.dup, 1) := by decide +kernel
theorem dX1_emit_23 : decode cX1_emit 23 = .ok (.getfield 56, 3) := by decide +kernel
theorem dX1_emit_26 : decode cX1_emit 26 = .ok (.iconst 1, 1) := by decide +kernel
theorem dX1_emit_27 : decode cX1_emit 27 = .ok (.iadd, 1) := by decide +kernel
theorem dX1_emit_28 : decode cX1_emit 28 = .ok (.putfield 56, 3) := by decide +kernel
theorem dX1_emit_31 : decode cX1_emit 31 = .ok (.return_, 1) := by decide +kernel
theorem dX1_emitText_0 : decode cX1_emitText 0 = .ok (.iconst 0, 1) := by decide +kernel
theorem dX1_emitText_1 : decode cX1_emitText 1 = .ok (.istore_n 2, 1) := by decide +kernel
theorem dX1_emitText_2 : decode cX1_emitText 2 = .ok (.iload_n 2, 1) := by decide +kernel
theorem dX1_emitText_3 : decode cX1_emitText 3 = .ok (.aload_n 0, 1) := by decide +kernel
theorem dX1_emitText_4 : decode cX1_emitText 4 = .ok (.getfield 17, 3) := by decide +kernel
theorem dX1_emitText_7 : decode cX1_emitText 7 = .ok (.iload_n 1, 1) := by decide +kernel
theorem dX1_emitText_8 : decode cX1_emitText 8 = .ok (.iaload, 1) := by decide +kernel
theorem dX1_emitText_9 : decode cX1_emitText 9 = .ok (.if_icmp .ge 39, 3) := by decide +kernel
theorem dX1_emitText_12 : decode cX1_emitText 12 = .ok (.aload_n 0, 1) := by decide +kernel
theorem dX1_emitText_13 : decode cX1_emitText 13 = .ok (.getfield 20, 3) := by decide +kernel
theorem dX1_emitText_16 : decode cX1_emitText 16 = .ok (.iload_n 1, 1) := by decide +kernel
theorem dX1_emitText_17 : decode cX1_emitText 17 = .ok (.bipush 6, 2) := by decide +kernel
theorem dX1_emitText_19 : decode cX1_emitText 19 = .ok (.imul, 1) := by decide +kernel
theorem dX1_emitText_20 : decode cX1_emitText 20 = .ok (.iload_n 2, 1) := by decide +kernel
theorem dX1_emitText_21 : decode cX1_emitText 21 = .ok (.iadd, 1) := by decide +kernel
theorem dX1_emitText_22 : decode cX1_emitText 22 = .ok (.iaload, 1) := by decide +kernel
theorem dX1_emitText_23 : decode cX1_emitText 23 = .ok (.istore_n 3, 1) := by decide +kernel
theorem dX1_emitText_24 : decode cX1_emitText 24 = .ok (.aload_n 0, 1) := by decide +kernel
theorem dX1_emitText_25 : decode cX1_emitText 25 = .ok (.iload_n 3, 1) := by decide +kernel
theorem dX1_emitText_26 : decode cX1_emitText 26 = .ok (.iload_n 1, 1) := by decide +kernel
theorem dX1_emitText_27 : decode cX1_emitText 27 = .ok (.invokevirtual 66, 3) := by decide +kernel
theorem dX1_emitText_30 : decode cX1_emitText 30 = .ok (.iload_n 3, 1) := by decide +kernel
theorem dX1_emitText_31 : decode cX1_emitText 31 = .ok (.ifCond .ne 11, 3) := by decide +kernel
theorem dX1_emitText_34 : decode cX1_emitText 34 = .ok (.aload_n 0, 1) := by decide +kernel
theorem dX1_emitText_35 : decode cX1_emitText 35 = .ok (.sipush 255, 3) := by decide +kernel
theorem dX1_emitText_38 : decode cX1_emitText 38 = .ok (.iload_n 1, 1) := by decide +kernel
theorem dX1_emitText_39 : decode cX1_emitText 39 = .ok (.invokevirtual 66, 3) := by decide +kernel
theorem dX1_emitText_42 : decode cX1_emitText 42 = .ok (.iinc 2 1, 3) := by decide +kernel
theorem dX1_emitText_45 : decode cX1_emitText 45 = .ok (.goto (-43), 3) := by decide +kernel
theorem dX1_emitText_48 : decode cX1_emitText 48 = .ok (.aload_n 0, 1) := by decide +kernel
theorem dX1_emitText_49 : decode cX1_emitText 49 = .ok (.iconst 0, 1) := by decide +kernel
theorem dX1_emitText_50 : decode cX1_emitText 50 = .ok (.iload_n 1, 1) := by decide +kernel
theorem dX1_emitText_51 : decode cX1_emitText 51 = .ok (.invokevirtual 66, 3) := by decide +kernel
theorem dX1_emitText_54 : decode cX1_emitText 54 = .ok (.aload_n 0, 1) := by decide +kernel
theorem dX1_emitText_55 : decode cX1_emitText 55 = .ok (.iconst 1, 1) := by decide +kernel
theorem dX1_emitText_56 : decode cX1_emitText 56 = .ok (.iload_n 1, 1) := by decide +kernel
theorem dX1_emitText_57 : decode cX1_emitText 57 = .ok (.invokevirtual 66, 3) := by decide +kernel
theorem dX1_emitText_60 : decode cX1_emitText 60 = .ok (.return_, 1) := by decide +kernel
theorem dX1_emitTurned_0 : decode cX1_emitTurned 0 = .ok (.aload_n 0, 1) := by decide +kernel
theorem dX1_emitTurned_1 : decode cX1_emitTurned 1 = .ok (.iload_n 2, 1) := by decide +kernel
theorem dX1_emitTurned_2 : decode cX1_emitTurned 2 = .ok (.invokevirtual 59, 3) := by decide +kernel
theorem dX1_emitTurned_5 : decode cX1_emitTurned 5 = .ok (.istore_n 3, 1) := by decide +kernel
theorem dX1_emitTurned_6 : decode cX1_emitTurned 6 = .ok (.aload_n 0, 1) := by decide +kernel
theorem dX1_emitTurned_7 : decode cX1_emitTurned 7 = .ok (.iload_n 3, 1) := by decide +kernel
theorem dX1_emitTurned_8 : decode cX1_emitTurned 8 = .ok (.ifCond .eq 11, 3) := by decide +kernel
theorem dX1_emitTurned_11 : decode cX1_emitTurned 11 = .ok (.sipush 255, 3) := by decide +kernel
theorem dX1_emitTurned_14 : decode cX1_emitTurned 14 = .ok (.iload_n 1, 1) := by decide +kernel
theorem dX1_emitTurned_15 : decode cX1_emitTurned 15 = .ok (.isub, 1) := by decide +kernel
theorem dX1_emitTurned_16 : decode cX1_emitTurned 16 = .ok (.goto 4, 3) := by decide +kernel
theorem dX1_emitTurned_19 : decode cX1_emitTurned 19 = .ok (.iload_n 1, 1) := by decide +kernel
theorem dX1_emitTurned_20 : decode cX1_emitTurned 20 = .ok (.invokevirtual 62, 3) := by decide +kernel
theorem dX1_emitTurned_23 : decode cX1_emitTurned 23 = .ok (.return_, 1) := by decide +kernel
theorem dX1_descending_0 : decode cX1_descending 0 = .ok (.aload_n 0, 1) := by decide +kernel
theorem dX1_descending_1 : decode cX1_descending 1 = .ok (.getfield 46, 3) := by decide +kernel
theorem dX1_descending_4 : decode cX1_descending 4 = .ok (.iconst 4, 1) := by decide +kernel
theorem dX1_descending_5 : decode cX1_descending 5 = .ok (.iload_n 1, 1) := by decide +kernel
theorem dX1_descending_6 : decode cX1_descending 6 = .ok (.imul, 1) := by decide +kernel
theorem dX1_descending_7 : decode cX1_descending 7 = .ok (.ishr, 1) := by decide +kernel
theorem dX1_descending_8 : decode cX1_descending 8 = .ok (.iconst 2, 1) := by decide +kernel
theorem dX1_descending_9 : decode cX1_descending 9 = .ok (.iand, 1) := by decide +kernel
theorem dX1_descending_10 : decode cX1_descending 10 = .ok (.iconst 2, 1) := by decide +kernel
theorem dX1_descending_11 : decode cX1_descending 11 = .ok (.if_icmp .ne 7, 3) := by decide +kernel
theorem dX1_descending_14 : decode cX1_descending 14 = .ok (.iconst 1, 1) := by decide +kernel
theorem dX1_descending_15 : decode cX1_descending 15 = .ok (.goto 4, 3) := by decide +kernel
theorem dX1_descending_18 : decode cX1_descending 18 = .ok (.iconst 0, 1) := by decide +kernel
theorem dX1_descending_19 : decode cX1_descending 19 = .ok (.ireturn, 1) := by decide +kernel
theorem dX1_emitInt_0 : decode cX1_emitInt 0 = .ok (.aload_n 0, 1) := by decide +kernel
theorem dX1_emitInt_1 : decode cX1_emitInt 1 = .ok (.getfield 13, 3) := by decide +kernel
theorem dX1_emitInt_4 : decode cX1_emitInt 4 = .ok (.iload_n 1, 1) := by decide +kernel
theorem dX1_emitInt_5 : decode cX1_emitInt 5 = .ok (.iaload, 1) := by decide +kernel
theorem dX1_emitInt_6 : decode cX1_emitInt 6 = .ok (.ldc 70, 2) := by decide +kernel
theorem dX1_emitInt_8 : decode cX1_emitInt 8 = .ok (.ixor, 1) := by decide +kernel
theorem dX1_emitInt_9 : decode cX1_emitInt 9 = .ok (.istore_n 2, 1) := by decide +kernel
theorem dX1_emitInt_10 : decode cX1_emitInt 10 = .ok (.bipush 24, 2) := by decide +kernel
theorem dX1_emitInt_12 : decode cX1_emitInt 12 = .ok (.istore_n 3, 1) := by decide +kernel
theorem dX1_emitInt_13 : decode cX1_emitInt 13 = .ok (.iload_n 3, 1) := by decide +kernel
theorem dX1_emitInt_14 : decode cX1_emitInt 14 = .ok (.ifCond .lt 21, 3) := by decide +kernel
theorem dX1_emitInt_17 : decode cX1_emitInt 17 = .ok (.aload_n 0, 1) := by decide +kernel
theorem dX1_emitInt_18 : decode cX1_emitInt 18 = .ok (.iload_n 2, 1) := by decide +kernel
theorem dX1_emitInt_19 : decode cX1_emitInt 19 = .ok (.iload_n 3, 1) := by decide +kernel
theorem dX1_emitInt_20 : decode cX1_emitInt 20 = .ok (.iushr, 1) := by decide +kernel
theorem dX1_emitInt_21 : decode cX1_emitInt 21 = .ok (.sipush 255, 3) := by decide +kernel
theorem dX1_emitInt_24 : decode cX1_emitInt 24 = .ok (.iand, 1) := by decide +kernel
theorem dX1_emitInt_25 : decode cX1_emitInt 25 = .ok (.iload_n 1, 1) := by decide +kernel
theorem dX1_emitInt_26 : decode cX1_emitInt 26 = .ok (.invokevirtual 66, 3) := by decide +kernel
theorem dX1_emitInt_29 : decode cX1_emitInt 29 = .ok (.iinc 3 (-8), 3) := by decide +kernel
theorem dX1_emitInt_32 : decode cX1_emitInt 32 = .ok (.goto (-19), 3) := by decide +kernel
theorem dX1_emitInt_35 : decode cX1_emitInt 35 = .ok (.return_, 1) := by decide +kernel
theorem dX1_bound_0 : decode cX1_bound 0 = .ok (.iconst 0, 1) := by decide +kernel
theorem dX1_bound_1 : decode cX1_bound 1 = .ok (.istore_n 3, 1) := by decide +kernel
theorem dX1_bound_2 : decode cX1_bound 2 = .ok (.aload_n 0, 1) := by decide +kernel
theorem dX1_bound_3 : decode cX1_bound 3 = .ok (.getfield 80, 3) := by decide +kernel
theorem dX1_bound_6 : decode cX1_bound 6 = .ok (.istore 4, 2) := by decide +kernel
theorem dX1_bound_8 : decode cX1_bound 8 = .ok (.iload_n 3, 1) := by decide +kernel
theorem dX1_bound_9 : decode cX1_bound 9 = .ok (.iload 4, 2) := by decide +kernel
theorem dX1_bound_11 : decode cX1_bound 11 = .ok (.if_icmp .ge 74, 3) := by decide +kernel
theorem dX1_bound_14 : decode cX1_bound 14 = .ok (.iload_n 3, 1) := by decide +kernel
theorem dX1_bound_15 : decode cX1_bound 15 = .ok (.iload 4, 2) := by decide +kernel
theorem dX1_bound_17 : decode cX1_bound 17 = .ok (.iadd, 1) := by decide +kernel
theorem dX1_bound_18 : decode cX1_bound 18 = .ok (.iconst 2, 1) := by decide +kernel
theorem dX1_bound_19 : decode cX1_bound 19 = .ok (.idiv, 1) := by decide +kernel
theorem dX1_bound_20 : decode cX1_bound 20 = .ok (.istore 5, 2) := by decide +kernel
theorem dX1_bound_22 : decode cX1_bound 22 = .ok (.aload_n 0, 1) := by decide +kernel
theorem dX1_bound_23 : decode cX1_bound 23 = .ok (.aload_n 0, 1) := by decide +kernel
theorem dX1_bound_24 : decode cX1_bound 24 = .ok (.getfield 23, 3) := by decide +kernel
theorem dX1_bound_27 : decode cX1_bound 27 = .ok (.iload 5, 2) := by decide +kernel
theorem dX1_bound_29 : decode cX1_bound 29 = .ok (.iaload, 1) := by decide +kernel
theorem dX1_bound_30 : decode cX1_bound 30 = .ok (.iload_n 2, 1) := by decide +kernel
theorem dX1_bound_31 : decode cX1_bound 31 = .ok (.invokevirtual 83, 3) := by decide +kernel
theorem dX1_bound_34 : decode cX1_bound 34 = .ok (.istore 6, 2) := by decide +kernel
theorem dX1_bound_36 : decode cX1_bound 36 = .ok (.iload_n 1, 1) := by decide +kernel
theorem dX1_bound_37 : decode cX1_bound 37 = .ok (.ifCond .eq 16, 3) := by decide +kernel
theorem dX1_bound_40 : decode cX1_bound 40 = .ok (.iload 6, 2) := by decide +kernel
theorem dX1_bound_42 : decode cX1_bound 42 = .ok (.ifCond .gt 7, 3) := by decide +kernel
theorem dX1_bound_45 : decode cX1_bound 45 = .ok (.iconst 1, 1) := by decide +kernel
theorem dX1_bound_46 : decode cX1_bound 46 = .ok (.goto 17, 3) := by decide +kernel
theorem dX1_bound_49 : decode cX1_bound 49 = .ok (.iconst 0, 1) := by decide +kernel
theorem dX1_bound_50 : decode cX1_bound 50 = .ok (.goto 13, 3) := by decide +kernel
theorem dX1_bound_53 : decode cX1_bound 53 = .ok (.iload 6, 2) := by decide +kernel
theorem dX1_bound_55 : decode cX1_bound 55 = .ok (.ifCond .ge 7, 3) := by decide +kernel
theorem dX1_bound_58 : decode cX1_bound 58 = .ok (.iconst 1, 1) := by decide +kernel
theorem dX1_bound_59 : decode cX1_bound 59 = .ok (.goto 4, 3) := by decide +kernel
theorem dX1_bound_62 : decode cX1_bound 62 = .ok (.iconst 0, 1) := by decide +kernel
theorem dX1_bound_63 : decode cX1_bound 63 = .ok (.istore 7, 2) := by decide +kernel
theorem dX1_bound_65 : decode cX1_bound 65 = .ok (.iload 7, 2) := by decide +kernel
theorem dX1_bound_67 : decode cX1_bound 67 = .ok (.ifCond .eq 11, 3) := by decide +kernel
theorem dX1_bound_70 : decode cX1_bound 70 = .ok (.iload 5, 2) := by decide +kernel
end
section
set_option maxRecDepth 100000
theorem dX1_bound_72 : decode cX1_bound 72 = .ok (.iconst 1, 1) := by decide +kernel
theorem dX1_bound_73 : decode cX1_bound 73 = .ok (.iadd, 1) := by decide +kernel
theorem dX1_bound_74 : decode cX1_bound 74 = .ok (.istore_n 3, 1) := by decide +kernel
theorem dX1_bound_75 : decode cX1_bound 75 = .ok (.goto 7, 3) := by decide +kernel
theorem dX1_bound_78 : decode cX1_bound 78 = .ok (.iload 5, 2) := by decide +kernel
theorem dX1_bound_80 : decode cX1_bound 80 = .ok (.istore 4, 2) := by decide +kernel
theorem dX1_bound_82 : decode cX1_bound 82 = .ok (.goto (-74), 3) := by decide +kernel
theorem dX1_bound_85 : decode cX1_bound 85 = .ok (.iload_n 3, 1) := by decide +kernel
theorem dX1_bound_86 : decode cX1_bound 86 = .ok (.ireturn, 1) := by decide +kernel
theorem dX1_compare_0 : decode cX1_compare 0 = .ok (.aload_n 0, 1) := by decide +kernel
theorem dX1_compare_1 : decode cX1_compare 1 = .ok (.getfield 32, 3) := by decide +kernel
theorem dX1_compare_4 : decode cX1_compare 4 = .ok (.iload_n 1, 1) := by decide +kernel
theorem dX1_compare_5 : decode cX1_compare 5 = .ok (.iaload, 1) := by decide +kernel
theorem dX1_compare_6 : decode cX1_compare 6 = .ok (.istore_n 3, 1) := by decide +kernel
theorem dX1_compare_7 : decode cX1_compare 7 = .ok (.iconst 0, 1) := by decide +kernel
theorem dX1_compare_8 : decode cX1_compare 8 = .ok (.istore 4, 2) := by decide +kernel
theorem dX1_compare_10 : decode cX1_compare 10 = .ok (.iload 4, 2) := by decide +kernel
theorem dX1_compare_12 : decode cX1_compare 12 = .ok (.aload_n 0, 1) := by decide +kernel
theorem dX1_compare_13 : decode cX1_compare 13 = .ok (.getfield 56, 3) := by decide +kernel
theorem dX1_compare_16 : decode cX1_compare 16 = .ok (.if_icmp .ge 47, 3) := by decide +kernel
theorem dX1_compare_19 : decode cX1_compare 19 = .ok (.iload 4, 2) := by decide +kernel
theorem dX1_compare_21 : decode cX1_compare 21 = .ok (.iload_n 3, 1) := by decide +kernel
theorem dX1_compare_22 : decode cX1_compare 22 = .ok (.if_icmp .lt 5, 3) := by decide +kernel
theorem dX1_compare_25 : decode cX1_compare 25 = .ok (.iconst (-1), 1) := by decide +kernel
theorem dX1_compare_26 : decode cX1_compare 26 = .ok (.ireturn, 1) := by decide +kernel
theorem dX1_compare_27 : decode cX1_compare 27 = .ok (.aload_n 0, 1) := by decide +kernel
theorem dX1_compare_28 : decode cX1_compare 28 = .ok (.getfield 35, 3) := by decide +kernel
theorem dX1_compare_31 : decode cX1_compare 31 = .ok (.iload_n 1, 1) := by decide +kernel
theorem dX1_compare_32 : decode cX1_compare 32 = .ok (.bipush 64, 2) := by decide +kernel
theorem dX1_compare_34 : decode cX1_compare 34 = .ok (.imul, 1) := by decide +kernel
theorem dX1_compare_35 : decode cX1_compare 35 = .ok (.iload 4, 2) := by decide +kernel
theorem dX1_compare_37 : decode cX1_compare 37 = .ok (.iadd, 1) := by decide +kernel
theorem dX1_compare_38 : decode cX1_compare 38 = .ok (.saload, 1) := by decide +kernel
theorem dX1_compare_39 : decode cX1_compare 39 = .ok (.aload_n 0, 1) := by decide +kernel
theorem dX1_compare_40 : decode cX1_compare 40 = .ok (.getfield 39, 3) := by decide +kernel
theorem dX1_compare_43 : decode cX1_compare 43 = .ok (.iload 4, 2) := by decide +kernel
theorem dX1_compare_45 : decode cX1_compare 45 = .ok (.saload, 1) := by decide +kernel
theorem dX1_compare_46 : decode cX1_compare 46 = .ok (.isub, 1) := by decide +kernel
theorem dX1_compare_47 : decode cX1_compare 47 = .ok (.istore 5, 2) := by decide +kernel
theorem dX1_compare_49 : decode cX1_compare 49 = .ok (.iload 5, 2) := by decide +kernel
theorem dX1_compare_51 : decode cX1_compare 51 = .ok (.ifCond .eq 6, 3) := by decide +kernel
theorem dX1_compare_54 : decode cX1_compare 54 = .ok (.iload 5, 2) := by decide +kernel
theorem dX1_compare_56 : decode cX1_compare 56 = .ok (.ireturn, 1) := by decide +kernel
theorem dX1_compare_57 : decode cX1_compare 57 = .ok (.iinc 4 1, 3) := by decide +kernel
theorem dX1_compare_60 : decode cX1_compare 60 = .ok (.goto (-50), 3) := by decide +kernel
theorem dX1_compare_63 : decode cX1_compare 63 = .ok (.iload_n 3, 1) := by decide +kernel
theorem dX1_compare_64 : decode cX1_compare 64 = .ok (.aload_n 0, 1) := by decide +kernel
theorem dX1_compare_65 : decode cX1_compare 65 = .ok (.getfield 56, 3) := by decide +kernel
theorem dX1_compare_68 : decode cX1_compare 68 = .ok (.if_icmp .le 11, 3) := by decide +kernel
theorem dX1_compare_71 : decode cX1_compare 71 = .ok (.iload_n 2, 1) := by decide +kernel
theorem dX1_compare_72 : decode cX1_compare 72 = .ok (.ifCond .ne 7, 3) := by decide +kernel
theorem dX1_compare_75 : decode cX1_compare 75 = .ok (.iconst 1, 1) := by decide +kernel
theorem dX1_compare_76 : decode cX1_compare 76 = .ok (.goto 4, 3) := by decide +kernel
theorem dX1_compare_79 : decode cX1_compare 79 = .ok (.iconst 0, 1) := by decide +kernel
theorem dX1_compare_80 : decode cX1_compare 80 = .ok (.ireturn, 1) := by decide +kernel
theorem dX1_remove_0 : decode cX1_remove 0 = .ok (.aload_n 0, 1) := by decide +kernel
theorem dX1_remove_1 : decode cX1_remove 1 = .ok (.iload_n 1, 1) := by decide +kernel
theorem dX1_remove_2 : decode cX1_remove 2 = .ok (.invokevirtual 94, 3) := by decide +kernel
theorem dX1_remove_5 : decode cX1_remove 5 = .ok (.ifCond .eq 6, 3) := by decide +kernel
theorem dX1_remove_8 : decode cX1_remove 8 = .ok (.bipush (-5), 2) := by decide +kernel
theorem dX1_remove_10 : decode cX1_remove 10 = .ok (.ireturn, 1) := by decide +kernel
theorem dX1_remove_11 : decode cX1_remove 11 = .ok (.aload_n 0, 1) := by decide +kernel
theorem dX1_remove_12 : decode cX1_remove 12 = .ok (.getfield 26, 3) := by decide +kernel
theorem dX1_remove_15 : decode cX1_remove 15 = .ok (.aload_n 0, 1) := by decide +kernel
theorem dX1_remove_16 : decode cX1_remove 16 = .ok (.getfield 23, 3) := by decide +kernel
theorem dX1_remove_19 : decode cX1_remove 19 = .ok (.iload_n 1, 1) := by decide +kernel
theorem dX1_remove_20 : decode cX1_remove 20 = .ok (.iaload, 1) := by decide +kernel
theorem dX1_remove_21 : decode cX1_remove 21 = .ok (.iconst 0, 1) := by decide +kernel
theorem dX1_remove_22 : decode cX1_remove 22 = .ok (.bastore, 1) := by decide +kernel
theorem dX1_remove_23 : decode cX1_remove 23 = .ok (.aload_n 0, 1) := by decide +kernel
theorem dX1_remove_24 : decode cX1_remove 24 = .ok (.dup, 1) := by decide +kernel
theorem dX1_remove_25 : decode cX1_remove 25 = .ok (.getfield 80, 3) := by decide +kernel
theorem dX1_remove_28 : decode cX1_remove 28 = .ok (.iconst 1, 1) := by decide +kernel
theorem dX1_remove_29 : decode cX1_remove 29 = .ok (.isub, 1) := by decide +kernel
theorem dX1_remove_30 : decode cX1_remove 30 = .ok (.putfield 80, 3) := by decide +kernel
theorem dX1_remove_33 : decode cX1_remove 33 = .ok (.iload_n 1, 1) := by decide +kernel
theorem dX1_remove_34 : decode cX1_remove 34 = .ok (.istore_n 2, 1) := by decide +kernel
theorem dX1_remove_35 : decode cX1_remove 35 = .ok (.iload_n 2, 1) := by decide +kernel
theorem dX1_remove_36 : decode cX1_remove 36 = .ok (.aload_n 0, 1) := by decide +kernel
theorem dX1_remove_37 : decode cX1_remove 37 = .ok (.getfield 80, 3) := by decide +kernel
theorem dX1_remove_40 : decode cX1_remove 40 = .ok (.if_icmp .ge 23, 3) := by decide +kernel
theorem dX1_remove_43 : decode cX1_remove 43 = .ok (.aload_n 0, 1) := by decide +kernel
theorem dX1_remove_44 : decode cX1_remove 44 = .ok (.getfield 23, 3) := by decide +kernel
theorem dX1_remove_47 : decode cX1_remove 47 = .ok (.iload_n 2, 1) := by decide +kernel
theorem dX1_remove_48 : decode cX1_remove 48 = .ok (.aload_n 0, 1) := by decide +kernel
theorem dX1_remove_49 : decode cX1_remove 49 = .ok (.getfield 23, 3) := by decide +kernel
theorem dX1_remove_52 : decode cX1_remove 52 = .ok (.iload_n 2, 1) := by decide +kernel
theorem dX1_remove_53 : decode cX1_remove 53 = .ok (.iconst 1, 1) := by decide +kernel
theorem dX1_remove_54 : decode cX1_remove 54 = .ok (.iadd, 1) := by decide +kernel
theorem dX1_remove_55 : decode cX1_remove 55 = .ok (.iaload, 1) := by decide +kernel
theorem dX1_remove_56 : decode cX1_remove 56 = .ok (.iastore, 1) := by decide +kernel
theorem dX1_remove_57 : decode cX1_remove 57 = .ok (.iinc 2 1, 3) := by decide +kernel
theorem dX1_remove_60 : decode cX1_remove 60 = .ok (.goto (-25), 3) := by decide +kernel
theorem dX1_remove_63 : decode cX1_remove 63 = .ok (.aload_n 0, 1) := by decide +kernel
theorem dX1_remove_64 : decode cX1_remove 64 = .ok (.getfield 80, 3) := by decide +kernel
theorem dX1_remove_67 : decode cX1_remove 67 = .ok (.ireturn, 1) := by decide +kernel
theorem dX1_noEntry_0 : decode cX1_noEntry 0 = .ok (.iload_n 1, 1) := by decide +kernel
theorem dX1_noEntry_1 : decode cX1_noEntry 1 = .ok (.ifCond .lt 11, 3) := by decide +kernel
theorem dX1_noEntry_4 : decode cX1_noEntry 4 = .ok (.iload_n 1, 1) := by decide +kernel
theorem dX1_noEntry_5 : decode cX1_noEntry 5 = .ok (.aload_n 0, 1) := by decide +kernel
theorem dX1_noEntry_6 : decode cX1_noEntry 6 = .ok (.getfield 80, 3) := by decide +kernel
theorem dX1_noEntry_9 : decode cX1_noEntry 9 = .ok (.if_icmp .lt 7, 3) := by decide +kernel
theorem dX1_noEntry_12 : decode cX1_noEntry 12 = .ok (.iconst 1, 1) := by decide +kernel
theorem dX1_noEntry_13 : decode cX1_noEntry 13 = .ok (.goto 4, 3) := by decide +kernel
theorem dX1_noEntry_16 : decode cX1_noEntry 16 = .ok (.iconst 0, 1) := by decide +kernel
theorem dX1_noEntry_17 : decode cX1_noEntry 17 = .ok (.ireturn, 1) := by decide +kernel
theorem dX1_load_0 : decode cX1_load 0 = .ok (.aload_n 0, 1) := by decide +kernel
theorem dX1_load_1 : decode cX1_load 1 = .ok (.iload_n 1, 1) := by decide +kernel
theorem dX1_load_2 : decode cX1_load 2 = .ok (.invokevirtual 94, 3) := by decide +kernel
theorem dX1_load_5 : decode cX1_load 5 = .ok (.ifCond .eq 6, 3) := by decide +kernel
theorem dX1_load_8 : decode cX1_load 8 = .ok (.bipush (-5), 2) := by decide +kernel
theorem dX1_load_10 : decode cX1_load 10 = .ok (.ireturn, 1) := by decide +kernel
theorem dX1_load_11 : decode cX1_load 11 = .ok (.aload_n 0, 1) := by decide +kernel
theorem dX1_load_12 : decode cX1_load 12 = .ok (.getfield 23, 3) := by decide +kernel
theorem dX1_load_15 : decode cX1_load 15 = .ok (.iload_n 1, 1) := by decide +kernel
theorem dX1_load_16 : decode cX1_load 16 = .ok (.iaload, 1) := by decide +kernel
theorem dX1_load_17 : decode cX1_load 17 = .ok (.istore_n 2, 1) := by decide +kernel
theorem dX1_load_18 : decode cX1_load 18 = .ok (.iconst 0, 1) := by decide +kernel
theorem dX1_load_19 : decode cX1_load 19 = .ok (.istore_n 3, 1) := by decide +kernel
theorem dX1_load_20 : decode cX1_load 20 = .ok (.iload_n 3, 1) := by decide +kernel
theorem dX1_load_21 : decode cX1_load 21 = .ok (.aload_n 0, 1) := by decide +kernel
theorem dX1_load_22 : decode cX1_load 22 = .ok (.getfield 42, 3) := by decide +kernel
theorem dX1_load_25 : decode cX1_load 25 = .ok (.if_icmp .ge 36, 3) := by decide +kernel
theorem dX1_load_28 : decode cX1_load 28 = .ok (.aload_n 0, 1) := by decide +kernel
theorem dX1_load_29 : decode cX1_load 29 = .ok (.getfield 7, 3) := by decide +kernel
theorem dX1_load_32 : decode cX1_load 32 = .ok (.iload_n 3, 1) := by decide +kernel
theorem dX1_load_33 : decode cX1_load 33 = .ok (.aload_n 0, 1) := by decide +kernel
theorem dX1_load_34 : decode cX1_load 34 = .ok (.iload_n 2, 1) := by decide +kernel
theorem dX1_load_35 : decode cX1_load 35 = .ok (.iload_n 3, 1) := by decide +kernel
theorem dX1_load_36 : decode cX1_load 36 = .ok (.invokevirtual 114, 3) := by decide +kernel
theorem dX1_load_39 : decode cX1_load 39 = .ok (.bastore, 1) := by decide +kernel
theorem dX1_load_40 : decode cX1_load 40 = .ok (.aload_n 0, 1) := by decide +kernel
theorem dX1_load_41 : decode cX1_load 41 = .ok (.getfield 7, 3) := by decide +kernel
theorem dX1_load_44 : decode cX1_load 44 = .ok (.iload_n 3, 1) := by decide +kernel
theorem dX1_load_45 : decode cX1_load 45 = .ok (.baload, 1) := by decide +kernel
theorem dX1_load_46 : decode cX1_load 46 = .ok (.ifCond .ne 9, 3) := by decide +kernel
theorem dX1_load_49 : decode cX1_load 49 = .ok (.aload_n 0, 1) := by decide +kernel
theorem dX1_load_50 : decode cX1_load 50 = .ok (.iload_n 2, 1) := by decide +kernel
theorem dX1_load_51 : decode cX1_load 51 = .ok (.iload_n 3, 1) := by decide +kernel
theorem dX1_load_52 : decode cX1_load 52 = .ok (.invokevirtual 118, 3) := by decide +kernel
theorem dX1_load_55 : decode cX1_load 55 = .ok (.iinc 3 1, 3) := by decide +kernel
theorem dX1_load_58 : decode cX1_load 58 = .ok (.goto (-38), 3) := by decide +kernel
theorem dX1_load_61 : decode cX1_load 61 = .ok (.aload_n 0, 1) := by decide +kernel
theorem dX1_load_62 : decode cX1_load 62 = .ok (.getfield 29, 3) := by decide +kernel
theorem dX1_load_65 : decode cX1_load 65 = .ok (.iload_n 2, 1) := by decide +kernel
theorem dX1_load_66 : decode cX1_load 66 = .ok (.iaload, 1) := by decide +kernel
theorem dX1_load_67 : decode cX1_load 67 = .ok (.ireturn, 1) := by decide +kernel
theorem dX1_seek_0 : decode cX1_seek 0 = .ok (.aload_n 0, 1) := by decide +kernel
theorem dX1_seek_1 : decode cX1_seek 1 = .ok (.iconst 0, 1) := by decide +kernel
theorem dX1_seek_2 : decode cX1_seek 2 = .ok (.putfield 97, 3) := by decide +kernel
theorem dX1_seek_5 : decode cX1_seek 5 = .ok (.iconst 0, 1) := by decide +kernel
theorem dX1_seek_6 : decode cX1_seek 6 = .ok (.istore_n 3, 1) := by decide +kernel
theorem dX1_seek_7 : decode cX1_seek 7 = .ok (.iload_n 3, 1) := by decide +kernel
theorem dX1_seek_8 : decode cX1_seek 8 = .ok (.iload_n 2, 1) := by decide +kernel
theorem dX1_seek_9 : decode cX1_seek 9 = .ok (.if_icmp .ge 28, 3) := by decide +kernel
theorem dX1_seek_12 : decode cX1_seek 12 = .ok (.aload_n 0, 1) := by decide +kernel
theorem dX1_seek_13 : decode cX1_seek 13 = .ok (.iload_n 1, 1) := by decide +kernel
theorem dX1_seek_14 : decode cX1_seek 14 = .ok (.invokevirtual 100, 3) := by decide +kernel
theorem dX1_seek_17 : decode cX1_seek 17 = .ok (.istore 4, 2) := by decide +kernel
theorem dX1_seek_19 : decode cX1_seek 19 = .ok (.iload 4, 2) := by decide +kernel
theorem dX1_seek_21 : decode cX1_seek 21 = .ok (.iconst 1, 1) := by decide +kernel
theorem dX1_seek_22 : decode cX1_seek 22 = .ok (.if_icmp .ne 9, 3) := by decide +kernel
theorem dX1_seek_25 : decode cX1_seek 25 = .ok (.aload_n 0, 1) := by decide +kernel
theorem dX1_seek_26 : decode cX1_seek 26 = .ok (.iload_n 1, 1) := by decide +kernel
theorem dX1_seek_27 : decode cX1_seek 27 = .ok (.iload_n 3, 1) := by decide +kernel
theorem dX1_seek_28 : decode cX1_seek 28 = .ok (.invokevirtual 108, 3) := by decide +kernel
theorem dX1_seek_31 : decode cX1_seek 31 = .ok (.iinc 3 1, 3) := by decide +kernel
theorem dX1_seek_34 : decode cX1_seek 34 = .ok (.goto (-27), 3) := by decide +kernel
theorem dX1_seek_37 : decode cX1_seek 37 = .ok (.aload_n 0, 1) := by decide +kernel
theorem dX1_seek_38 : decode cX1_seek 38 = .ok (.iload_n 1, 1) := by decide +kernel
theorem dX1_seek_39 : decode cX1_seek 39 = .ok (.invokevirtual 100, 3) := by decide +kernel
theorem dX1_seek_42 : decode cX1_seek 42 = .ok (.istore_n 3, 1) := by decide +kernel
theorem dX1_seek_43 : decode cX1_seek 43 = .ok (.iload_n 3, 1) := by decide +kernel
theorem dX1_seek_44 : decode cX1_seek 44 = .ok (.iconst 1, 1) := by decide +kernel
theorem dX1_seek_45 : decode cX1_seek 45 = .ok (.if_icmp .eq 7, 3) := by decide +kernel
theorem dX1_seek_48 : decode cX1_seek 48 = .ok (.iconst 1, 1) := by decide +kernel
theorem dX1_seek_49 : decode cX1_seek 49 = .ok (.goto 4, 3) := by decide +kernel
theorem dX1_seek_52 : decode cX1_seek 52 = .ok (.iconst 0, 1) := by decide +kernel
theorem dX1_seek_53 : decode cX1_seek 53 = .ok (.ireturn, 1) := by decide +kernel
theorem dX1_nextByte_0 : decode cX1_nextByte 0 = .ok (.aload_n 0, 1) := by decide +kernel
theorem dX1_nextByte_1 : decode cX1_nextByte 1 = .ok (.getfield 97, 3) := by decide +kernel
theorem dX1_nextByte_4 : decode cX1_nextByte 4 = .ok (.bipush 64, 2) := by decide +kernel
theorem dX1_nextByte_6 : decode cX1_nextByte 6 = .ok (.if_icmp .ge 20, 3) := by decide +kernel
theorem dX1_nextByte_9 : decode cX1_nextByte 9 = .ok (.aload_n 0, 1) := by decide +kernel
theorem dX1_nextByte_10 : decode cX1_nextByte 10 = .ok (.getfield 35, 3) := by decide +kernel
theorem dX1_nextByte_13 : decode cX1_nextByte 13 = .ok (.iload_n 1, 1) := by decide +kernel
theorem dX1_nextByte_14 : decode cX1_nextByte 14 = .ok (.bipush 64, 2) := by decide +kernel
theorem dX1_nextByte_16 : decode cX1_nextByte 16 = .ok (.imul, 1) := by decide +kernel
theorem dX1_nextByte_17 : decode cX1_nextByte 17 = .ok (.aload_n 0, 1) := by decide +kernel
theorem dX1_nextByte_18 : decode cX1_nextByte 18 = .ok (.getfield 97, 3) := by decide +kernel
theorem dX1_nextByte_21 : decode cX1_nextByte 21 = .ok (.iadd, 1) := by decide +kernel
theorem dX1_nextByte_22 : decode cX1_nextByte 22 = .ok (.saload, 1) := by decide +kernel
theorem dX1_nextByte_23 : decode cX1_nextByte 23 = .ok (.goto 4, 3) := by decide +kernel
theorem dX1_nextByte_26 : decode cX1_nextByte 26 = .ok (.iconst 0, 1) := by decide +kernel
theorem dX1_nextByte_27 : decode cX1_nextByte 27 = .ok (.istore_n 2, 1) := by decide +kernel
theorem dX1_nextByte_28 : decode cX1_nextByte 28 = .ok (.aload_n 0, 1) := by decide +kernel
theorem dX1_nextByte_29 : decode cX1_nextByte 29 = .ok (.dup, 1) := by decide +kernel
theorem dX1_nextByte_30 : decode cX1_nextByte 30 = .ok (.getfield 97, 3) := by decide +kernel
theorem dX1_nextByte_33 : decode cX1_nextByte 33 = .ok (.iconst 1, 1) := by decide +kernel
theorem dX1_nextByte_34 : decode cX1_nextByte 34 = .ok (.iadd, 1) := by decide +kernel
theorem dX1_nextByte_35 : decode cX1_nextByte 35 = .ok (.putfield 97, 3) := by decide +kernel
theorem dX1_nextByte_38 : decode cX1_nextByte 38 = .ok (.iload_n 2, 1) := by decide +kernel
theorem dX1_nextByte_39 : decode cX1_nextByte 39 = .ok (.ireturn, 1) := by decide +kernel
theorem dX1_skipValue_0 : decode cX1_skipValue 0 = .ok (.aload_n 0, 1) := by decide +kernel
theorem dX1_skipValue_1 : decode cX1_skipValue 1 = .ok (.iload_n 2, 1) := by decide +kernel
theorem dX1_skipValue_2 : decode cX1_skipValue 2 = .ok (.invokevirtual 53, 3) := by decide +kernel
theorem dX1_skipValue_5 : decode cX1_skipValue 5 = .ok (.ifCond .ne 14, 3) := by decide +kernel
theorem dX1_skipValue_8 : decode cX1_skipValue 8 = .ok (.aload_n 0, 1) := by decide +kernel
theorem dX1_skipValue_9 : decode cX1_skipValue 9 = .ok (.dup, 1) := by decide +kernel
theorem dX1_skipValue_10 : decode cX1_skipValue 10 = .ok (.getfield 97, 3) := by decide +kernel
theorem dX1_skipValue_13 : decode cX1_skipValue 13 = .ok (.iconst 4, 1) := by decide +kernel
theorem dX1_skipValue_14 : decode cX1_skipValue 14 = .ok (.iadd, 1) := by decide +kernel
theorem dX1_skipValue_15 : decode cX1_skipValue 15 = .ok (.putfield 97, 3) := by decide +kernel
theorem dX1_skipValue_18 : decode cX1_skipValue 18 = .ok (.return_, 1) := by decide +kernel
theorem dX1_skipValue_19 : decode cX1_skipValue 19 = .ok (.iconst 0, 1) := by decide +kernel
theorem dX1_skipValue_20 : decode cX1_skipValue 20 = .ok (.istore_n 3, 1) := by decide +kernel
theorem dX1_skipValue_21 : decode cX1_skipValue 21 = .ok (.iconst 0, 1) := by decide +kernel
theorem dX1_skipValue_22 : decode cX1_skipValue 22 = .ok (.istore 4, 2) := by decide +kernel
theorem dX1_skipValue_24 : decode cX1_skipValue 24 = .ok (.iload 4, 2) := by decide +kernel
theorem dX1_skipValue_26 : decode cX1_skipValue 26 = .ok (.bipush 8, 2) := by decide +kernel
theorem dX1_skipValue_28 : decode cX1_skipValue 28 = .ok (.if_icmp .ge 20, 3) := by decide +kernel
theorem dX1_skipValue_31 : decode cX1_skipValue 31 = .ok (.iload_n 3, 1) := by decide +kernel
theorem dX1_skipValue_32 : decode cX1_skipValue 32 = .ok (.ifCond .lt 16, 3) := by decide +kernel
theorem dX1_skipValue_35 : decode cX1_skipValue 35 = .ok (.aload_n 0, 1) := by decide +kernel
theorem dX1_skipValue_36 : decode cX1_skipValue 36 = .ok (.iload_n 1, 1) := by decide +kernel
theorem dX1_skipValue_37 : decode cX1_skipValue 37 = .ok (.iload_n 2, 1) := by decide +kernel
theorem dX1_skipValue_38 : decode cX1_skipValue 38 = .ok (.invokevirtual 111, 3) := by decide +kernel
theorem dX1_skipValue_41 : decode cX1_skipValue 41 = .ok (.istore_n 3, 1) := by decide +kernel
theorem dX1_skipValue_42 : decode cX1_skipValue 42 = .ok (.iinc 4 1, 3) := by decide +kernel
theorem dX1_skipValue_45 : decode cX1_skipValue 45 = .ok (.goto (-21), 3) := by decide +kernel
theorem dX1_skipValue_48 : decode cX1_skipValue 48 = .ok (.return_, 1) := by decide +kernel
theorem dX1_readChar_0 : decode cX1_readChar 0 = .ok (.aload_n 0, 1) := by decide +kernel
theorem dX1_readChar_1 : decode cX1_readChar 1 = .ok (.iload_n 1, 1) := by decide +kernel
theorem dX1_readChar_2 : decode cX1_readChar 2 = .ok (.iload_n 2, 1) := by decide +kernel
theorem dX1_readChar_3 : decode cX1_readChar 3 = .ok (.invokevirtual 104, 3) := by decide +kernel
theorem dX1_readChar_6 : decode cX1_readChar 6 = .ok (.istore_n 3, 1) := by decide +kernel
theorem dX1_readChar_7 : decode cX1_readChar 7 = .ok (.iload_n 3, 1) := by decide +kernel
theorem dX1_readChar_8 : decode cX1_readChar 8 = .ok (.ifCond .eq 5, 3) := by decide +kernel
theorem dX1_readChar_11 : decode cX1_readChar 11 = .ok (.iload_n 3, 1) := by decide +kernel
theorem dX1_readChar_12 : decode cX1_readChar 12 = .ok (.ireturn, 1) := by decide +kernel
theorem dX1_readChar_13 : decode cX1_readChar 13 = .ok (.aload_n 0, 1) := by decide +kernel
theorem dX1_readChar_14 : decode cX1_readChar 14 = .ok (.iload_n 1, 1) := by decide +kernel
theorem dX1_readChar_15 : decode cX1_readChar 15 = .ok (.iload_n 2, 1) := by decide +kernel
theorem dX1_readChar_16 : decode cX1_readChar 16 = .ok (.invokevirtual 104, 3) := by decide +kernel
theorem dX1_readChar_19 : decode cX1_readChar 19 = .ok (.istore 4, 2) := by decide +kernel
theorem dX1_readChar_21 : decode cX1_readChar 21 = .ok (.iload 4, 2) := by decide +kernel
theorem dX1_readChar_23 : decode cX1_readChar 23 = .ok (.iconst 1, 1) := by decide +kernel
theorem dX1_readChar_24 : decode cX1_readChar 24 = .ok (.if_icmp .ne 7, 3) := by decide +kernel
theorem dX1_readChar_27 : decode cX1_readChar 27 = .ok (.iconst (-1), 1) := by decide +kernel
theorem dX1_readChar_28 : decode cX1_readChar 28 = .ok (.goto 4, 3) := by decide +kernel
theorem dX1_readChar_31 : decode cX1_readChar 31 = .ok (.iconst 0, 1) := by decide +kernel
theorem dX1_readChar_32 : decode cX1_readChar 32 = .ok (.ireturn, 1) := by decide +kernel
theorem dX1_nextTurned_0 : decode cX1_nextTurned 0 = .ok (.aload_n 0, 1) := by decide +kernel
theorem dX1_nextTurned_1 : decode cX1_nextTurned 1 = .ok (.iload_n 1, 1) := by decide +kernel
theorem dX1_nextTurned_2 : decode cX1_nextTurned 2 = .ok (.invokevirtual 100, 3) := by decide +kernel
end
section
set_option maxRecDepth 100000
theorem dX1_nextTurned_5 : decode cX1_nextTurned 5 = .ok (.istore_n 3, 1) := by decide +kernel
theorem dX1_nextTurned_6 : decode cX1_nextTurned 6 = .ok (.aload_n 0, 1) := by decide +kernel
theorem dX1_nextTurned_7 : decode cX1_nextTurned 7 = .ok (.iload_n 2, 1) := by decide +kernel
theorem dX1_nextTurned_8 : decode cX1_nextTurned 8 = .ok (.invokevirtual 59, 3) := by decide +kernel
theorem dX1_nextTurned_11 : decode cX1_nextTurned 11 = .ok (.istore 4, 2) := by decide +kernel
theorem dX1_nextTurned_13 : decode cX1_nextTurned 13 = .ok (.iload 4, 2) := by decide +kernel
theorem dX1_nextTurned_15 : decode cX1_nextTurned 15 = .ok (.ifCond .eq 11, 3) := by decide +kernel
theorem dX1_nextTurned_18 : decode cX1_nextTurned 18 = .ok (.sipush 255, 3) := by decide +kernel
theorem dX1_nextTurned_21 : decode cX1_nextTurned 21 = .ok (.iload_n 3, 1) := by decide +kernel
theorem dX1_nextTurned_22 : decode cX1_nextTurned 22 = .ok (.isub, 1) := by decide +kernel
theorem dX1_nextTurned_23 : decode cX1_nextTurned 23 = .ok (.goto 4, 3) := by decide +kernel
theorem dX1_nextTurned_26 : decode cX1_nextTurned 26 = .ok (.iload_n 3, 1) := by decide +kernel
theorem dX1_nextTurned_27 : decode cX1_nextTurned 27 = .ok (.ireturn, 1) := by decide +kernel
theorem dX1_loadField_0 : decode cX1_loadField 0 = .ok (.aload_n 0, 1) := by decide +kernel
theorem dX1_loadField_1 : decode cX1_loadField 1 = .ok (.iload_n 2, 1) := by decide +kernel
theorem dX1_loadField_2 : decode cX1_loadField 2 = .ok (.invokevirtual 53, 3) := by decide +kernel
theorem dX1_loadField_5 : decode cX1_loadField 5 = .ok (.ifCond .ne 16, 3) := by decide +kernel
theorem dX1_loadField_8 : decode cX1_loadField 8 = .ok (.aload_n 0, 1) := by decide +kernel
theorem dX1_loadField_9 : decode cX1_loadField 9 = .ok (.getfield 13, 3) := by decide +kernel
theorem dX1_loadField_12 : decode cX1_loadField 12 = .ok (.iload_n 2, 1) := by decide +kernel
theorem dX1_loadField_13 : decode cX1_loadField 13 = .ok (.aload_n 0, 1) := by decide +kernel
theorem dX1_loadField_14 : decode cX1_loadField 14 = .ok (.iload_n 1, 1) := by decide +kernel
theorem dX1_loadField_15 : decode cX1_loadField 15 = .ok (.iload_n 2, 1) := by decide +kernel
theorem dX1_loadField_16 : decode cX1_loadField 16 = .ok (.invokevirtual 121, 3) := by decide +kernel
theorem dX1_loadField_19 : decode cX1_loadField 19 = .ok (.iastore, 1) := by decide +kernel
theorem dX1_loadField_20 : decode cX1_loadField 20 = .ok (.return_, 1) := by decide +kernel
theorem dX1_loadField_21 : decode cX1_loadField 21 = .ok (.aload_n 0, 1) := by decide +kernel
theorem dX1_loadField_22 : decode cX1_loadField 22 = .ok (.getfield 17, 3) := by decide +kernel
theorem dX1_loadField_25 : decode cX1_loadField 25 = .ok (.iload_n 2, 1) := by decide +kernel
theorem dX1_loadField_26 : decode cX1_loadField 26 = .ok (.iconst 0, 1) := by decide +kernel
theorem dX1_loadField_27 : decode cX1_loadField 27 = .ok (.iastore, 1) := by decide +kernel
theorem dX1_loadField_28 : decode cX1_loadField 28 = .ok (.aload_n 0, 1) := by decide +kernel
theorem dX1_loadField_29 : decode cX1_loadField 29 = .ok (.iload_n 1, 1) := by decide +kernel
theorem dX1_loadField_30 : decode cX1_loadField 30 = .ok (.iload_n 2, 1) := by decide +kernel
theorem dX1_loadField_31 : decode cX1_loadField 31 = .ok (.invokevirtual 111, 3) := by decide +kernel
theorem dX1_loadField_34 : decode cX1_loadField 34 = .ok (.istore_n 3, 1) := by decide +kernel
theorem dX1_loadField_35 : decode cX1_loadField 35 = .ok (.iconst 0, 1) := by decide +kernel
theorem dX1_loadField_36 : decode cX1_loadField 36 = .ok (.istore 4, 2) := by decide +kernel
theorem dX1_loadField_38 : decode cX1_loadField 38 = .ok (.iload 4, 2) := by decide +kernel
theorem dX1_loadField_40 : decode cX1_loadField 40 = .ok (.bipush 6, 2) := by decide +kernel
theorem dX1_loadField_42 : decode cX1_loadField 42 = .ok (.if_icmp .ge 43, 3) := by decide +kernel
theorem dX1_loadField_45 : decode cX1_loadField 45 = .ok (.iload_n 3, 1) := by decide +kernel
theorem dX1_loadField_46 : decode cX1_loadField 46 = .ok (.ifCond .lt 39, 3) := by decide +kernel
theorem dX1_loadField_49 : decode cX1_loadField 49 = .ok (.aload_n 0, 1) := by decide +kernel
theorem dX1_loadField_50 : decode cX1_loadField 50 = .ok (.getfield 20, 3) := by decide +kernel
theorem dX1_loadField_53 : decode cX1_loadField 53 = .ok (.iload_n 2, 1) := by decide +kernel
theorem dX1_loadField_54 : decode cX1_loadField 54 = .ok (.bipush 6, 2) := by decide +kernel
theorem dX1_loadField_56 : decode cX1_loadField 56 = .ok (.imul, 1) := by decide +kernel
theorem dX1_loadField_57 : decode cX1_loadField 57 = .ok (.iload 4, 2) := by decide +kernel
theorem dX1_loadField_59 : decode cX1_loadField 59 = .ok (.iadd, 1) := by decide +kernel
theorem dX1_loadField_60 : decode cX1_loadField 60 = .ok (.iload_n 3, 1) := by decide +kernel
theorem dX1_loadField_61 : decode cX1_loadField 61 = .ok (.iastore, 1) := by decide +kernel
theorem dX1_loadField_62 : decode cX1_loadField 62 = .ok (.aload_n 0, 1) := by decide +kernel
theorem dX1_loadField_63 : decode cX1_loadField 63 = .ok (.getfield 17, 3) := by decide +kernel
theorem dX1_loadField_66 : decode cX1_loadField 66 = .ok (.iload_n 2, 1) := by decide +kernel
theorem dX1_loadField_67 : decode cX1_loadField 67 = .ok (.iload 4, 2) := by decide +kernel
theorem dX1_loadField_69 : decode cX1_loadField 69 = .ok (.iconst 1, 1) := by decide +kernel
theorem dX1_loadField_70 : decode cX1_loadField 70 = .ok (.iadd, 1) := by decide +kernel
theorem dX1_loadField_71 : decode cX1_loadField 71 = .ok (.iastore, 1) := by decide +kernel
theorem dX1_loadField_72 : decode cX1_loadField 72 = .ok (.aload_n 0, 1) := by decide +kernel
theorem dX1_loadField_73 : decode cX1_loadField 73 = .ok (.iload_n 1, 1) := by decide +kernel
theorem dX1_loadField_74 : decode cX1_loadField 74 = .ok (.iload_n 2, 1) := by decide +kernel
theorem dX1_loadField_75 : decode cX1_loadField 75 = .ok (.invokevirtual 111, 3) := by decide +kernel
theorem dX1_loadField_78 : decode cX1_loadField 78 = .ok (.istore_n 3, 1) := by decide +kernel
theorem dX1_loadField_79 : decode cX1_loadField 79 = .ok (.iinc 4 1, 3) := by decide +kernel
theorem dX1_loadField_82 : decode cX1_loadField 82 = .ok (.goto (-44), 3) := by decide +kernel
theorem dX1_loadField_85 : decode cX1_loadField 85 = .ok (.return_, 1) := by decide +kernel
theorem dX1_readInt_0 : decode cX1_readInt 0 = .ok (.iconst 0, 1) := by decide +kernel
theorem dX1_readInt_1 : decode cX1_readInt 1 = .ok (.istore_n 3, 1) := by decide +kernel
theorem dX1_readInt_2 : decode cX1_readInt 2 = .ok (.iconst 0, 1) := by decide +kernel
theorem dX1_readInt_3 : decode cX1_readInt 3 = .ok (.istore 4, 2) := by decide +kernel
theorem dX1_readInt_5 : decode cX1_readInt 5 = .ok (.iload 4, 2) := by decide +kernel
theorem dX1_readInt_7 : decode cX1_readInt 7 = .ok (.iconst 4, 1) := by decide +kernel
theorem dX1_readInt_8 : decode cX1_readInt 8 = .ok (.if_icmp .ge 21, 3) := by decide +kernel
theorem dX1_readInt_11 : decode cX1_readInt 11 = .ok (.iload_n 3, 1) := by decide +kernel
theorem dX1_readInt_12 : decode cX1_readInt 12 = .ok (.bipush 8, 2) := by decide +kernel
theorem dX1_readInt_14 : decode cX1_readInt 14 = .ok (.ishl, 1) := by decide +kernel
theorem dX1_readInt_15 : decode cX1_readInt 15 = .ok (.aload_n 0, 1) := by decide +kernel
theorem dX1_readInt_16 : decode cX1_readInt 16 = .ok (.iload_n 1, 1) := by decide +kernel
theorem dX1_readInt_17 : decode cX1_readInt 17 = .ok (.iload_n 2, 1) := by decide +kernel
theorem dX1_readInt_18 : decode cX1_readInt 18 = .ok (.invokevirtual 104, 3) := by decide +kernel
theorem dX1_readInt_21 : decode cX1_readInt 21 = .ok (.ior, 1) := by decide +kernel
theorem dX1_readInt_22 : decode cX1_readInt 22 = .ok (.istore_n 3, 1) := by decide +kernel
theorem dX1_readInt_23 : decode cX1_readInt 23 = .ok (.iinc 4 1, 3) := by decide +kernel
theorem dX1_readInt_26 : decode cX1_readInt 26 = .ok (.goto (-21), 3) := by decide +kernel
theorem dX1_readInt_29 : decode cX1_readInt 29 = .ok (.iload_n 3, 1) := by decide +kernel
theorem dX1_readInt_30 : decode cX1_readInt 30 = .ok (.ldc 70, 2) := by decide +kernel
theorem dX1_readInt_32 : decode cX1_readInt 32 = .ok (.ixor, 1) := by decide +kernel
theorem dX1_readInt_33 : decode cX1_readInt 33 = .ok (.ireturn, 1) := by decide +kernel
theorem dX1_size_0 : decode cX1_size 0 = .ok (.aload_n 0, 1) := by decide +kernel
theorem dX1_size_1 : decode cX1_size 1 = .ok (.getfield 80, 3) := by decide +kernel
theorem dX1_size_4 : decode cX1_size 4 = .ok (.ireturn, 1) := by decide +kernel
theorem dX1_tag_0 : decode cX1_tag 0 = .ok (.aload_n 0, 1) := by decide +kernel
theorem dX1_tag_1 : decode cX1_tag 1 = .ok (.iload_n 1, 1) := by decide +kernel
theorem dX1_tag_2 : decode cX1_tag 2 = .ok (.invokevirtual 94, 3) := by decide +kernel
theorem dX1_tag_5 : decode cX1_tag 5 = .ok (.ifCond .eq 7, 3) := by decide +kernel
theorem dX1_tag_8 : decode cX1_tag 8 = .ok (.iconst 0, 1) := by decide +kernel
theorem dX1_tag_9 : decode cX1_tag 9 = .ok (.goto 14, 3) := by decide +kernel
theorem dX1_tag_12 : decode cX1_tag 12 = .ok (.aload_n 0, 1) := by decide +kernel
theorem dX1_tag_13 : decode cX1_tag 13 = .ok (.getfield 29, 3) := by decide +kernel
theorem dX1_tag_16 : decode cX1_tag 16 = .ok (.aload_n 0, 1) := by decide +kernel
theorem dX1_tag_17 : decode cX1_tag 17 = .ok (.getfield 23, 3) := by decide +kernel
theorem dX1_tag_20 : decode cX1_tag 20 = .ok (.iload_n 1, 1) := by decide +kernel
theorem dX1_tag_21 : decode cX1_tag 21 = .ok (.iaload, 1) := by decide +kernel
theorem dX1_tag_22 : decode cX1_tag 22 = .ok (.iaload, 1) := by decide +kernel
theorem dX1_tag_23 : decode cX1_tag 23 = .ok (.ireturn, 1) := by decide +kernel
theorem dX1_below_0 : decode cX1_below 0 = .ok (.aload_n 0, 1) := by decide +kernel
theorem dX1_below_1 : decode cX1_below 1 = .ok (.aload_n 0, 1) := by decide +kernel
theorem dX1_below_2 : decode cX1_below 2 = .ok (.getfield 42, 3) := by decide +kernel
theorem dX1_below_5 : decode cX1_below 5 = .ok (.invokevirtual 87, 3) := by decide +kernel
theorem dX1_below_8 : decode cX1_below 8 = .ok (.aload_n 0, 1) := by decide +kernel
theorem dX1_below_9 : decode cX1_below 9 = .ok (.iconst 0, 1) := by decide +kernel
theorem dX1_below_10 : decode cX1_below 10 = .ok (.iconst 0, 1) := by decide +kernel
theorem dX1_below_11 : decode cX1_below 11 = .ok (.invokevirtual 90, 3) := by decide +kernel
theorem dX1_below_14 : decode cX1_below 14 = .ok (.ireturn, 1) := by decide +kernel
theorem dX1_matching_0 : decode cX1_matching 0 = .ok (.iload_n 1, 1) := by decide +kernel
theorem dX1_matching_1 : decode cX1_matching 1 = .ok (.ifCond .lt 11, 3) := by decide +kernel
theorem dX1_matching_4 : decode cX1_matching 4 = .ok (.iload_n 1, 1) := by decide +kernel
theorem dX1_matching_5 : decode cX1_matching 5 = .ok (.aload_n 0, 1) := by decide +kernel
theorem dX1_matching_6 : decode cX1_matching 6 = .ok (.getfield 42, 3) := by decide +kernel
theorem dX1_matching_9 : decode cX1_matching 9 = .ok (.if_icmp .le 5, 3) := by decide +kernel
theorem dX1_matching_12 : decode cX1_matching 12 = .ok (.iconst (-1), 1) := by decide +kernel
theorem dX1_matching_13 : decode cX1_matching 13 = .ok (.ireturn, 1) := by decide +kernel
theorem dX1_matching_14 : decode cX1_matching 14 = .ok (.aload_n 0, 1) := by decide +kernel
theorem dX1_matching_15 : decode cX1_matching 15 = .ok (.iload_n 1, 1) := by decide +kernel
theorem dX1_matching_16 : decode cX1_matching 16 = .ok (.invokevirtual 87, 3) := by decide +kernel
theorem dX1_matching_19 : decode cX1_matching 19 = .ok (.aload_n 0, 1) := by decide +kernel
theorem dX1_matching_20 : decode cX1_matching 20 = .ok (.iconst 0, 1) := by decide +kernel
theorem dX1_matching_21 : decode cX1_matching 21 = .ok (.iconst 1, 1) := by decide +kernel
theorem dX1_matching_22 : decode cX1_matching 22 = .ok (.invokevirtual 90, 3) := by decide +kernel
theorem dX1_matching_25 : decode cX1_matching 25 = .ok (.istore_n 2, 1) := by decide +kernel
theorem dX1_matching_26 : decode cX1_matching 26 = .ok (.aload_n 0, 1) := by decide +kernel
theorem dX1_matching_27 : decode cX1_matching 27 = .ok (.iconst 1, 1) := by decide +kernel
theorem dX1_matching_28 : decode cX1_matching 28 = .ok (.iconst 1, 1) := by decide +kernel
theorem dX1_matching_29 : decode cX1_matching 29 = .ok (.invokevirtual 90, 3) := by decide +kernel
theorem dX1_matching_32 : decode cX1_matching 32 = .ok (.istore_n 3, 1) := by decide +kernel
theorem dX1_matching_33 : decode cX1_matching 33 = .ok (.iload_n 3, 1) := by decide +kernel
theorem dX1_matching_34 : decode cX1_matching 34 = .ok (.iload_n 2, 1) := by decide +kernel
theorem dX1_matching_35 : decode cX1_matching 35 = .ok (.isub, 1) := by decide +kernel
theorem dX1_matching_36 : decode cX1_matching 36 = .ok (.ireturn, 1) := by decide +kernel
theorem dX1_intAt_0 : decode cX1_intAt 0 = .ok (.aload_n 0, 1) := by decide +kernel
theorem dX1_intAt_1 : decode cX1_intAt 1 = .ok (.iload_n 1, 1) := by decide +kernel
theorem dX1_intAt_2 : decode cX1_intAt 2 = .ok (.invokevirtual 94, 3) := by decide +kernel
theorem dX1_intAt_5 : decode cX1_intAt 5 = .ok (.ifCond .ne 11, 3) := by decide +kernel
theorem dX1_intAt_8 : decode cX1_intAt 8 = .ok (.aload_n 0, 1) := by decide +kernel
theorem dX1_intAt_9 : decode cX1_intAt 9 = .ok (.iload_n 2, 1) := by decide +kernel
theorem dX1_intAt_10 : decode cX1_intAt 10 = .ok (.invokevirtual 49, 3) := by decide +kernel
theorem dX1_intAt_13 : decode cX1_intAt 13 = .ok (.ifCond .eq 5, 3) := by decide +kernel
theorem dX1_intAt_16 : decode cX1_intAt 16 = .ok (.iconst 0, 1) := by decide +kernel
theorem dX1_intAt_17 : decode cX1_intAt 17 = .ok (.ireturn, 1) := by decide +kernel
theorem dX1_intAt_18 : decode cX1_intAt 18 = .ok (.aload_n 0, 1) := by decide +kernel
theorem dX1_intAt_19 : decode cX1_intAt 19 = .ok (.iload_n 2, 1) := by decide +kernel
theorem dX1_intAt_20 : decode cX1_intAt 20 = .ok (.invokevirtual 53, 3) := by decide +kernel
theorem dX1_intAt_23 : decode cX1_intAt 23 = .ok (.ifCond .eq 5, 3) := by decide +kernel
theorem dX1_intAt_26 : decode cX1_intAt 26 = .ok (.iconst 0, 1) := by decide +kernel
theorem dX1_intAt_27 : decode cX1_intAt 27 = .ok (.ireturn, 1) := by decide +kernel
theorem dX1_intAt_28 : decode cX1_intAt 28 = .ok (.aload_n 0, 1) := by decide +kernel
theorem dX1_intAt_29 : decode cX1_intAt 29 = .ok (.aload_n 0, 1) := by decide +kernel
theorem dX1_intAt_30 : decode cX1_intAt 30 = .ok (.getfield 23, 3) := by decide +kernel
theorem dX1_intAt_33 : decode cX1_intAt 33 = .ok (.iload_n 1, 1) := by decide +kernel
theorem dX1_intAt_34 : decode cX1_intAt 34 = .ok (.iaload, 1) := by decide +kernel
theorem dX1_intAt_35 : decode cX1_intAt 35 = .ok (.iload_n 2, 1) := by decide +kernel
theorem dX1_intAt_36 : decode cX1_intAt 36 = .ok (.invokevirtual 114, 3) := by decide +kernel
theorem dX1_intAt_39 : decode cX1_intAt 39 = .ok (.istore_n 3, 1) := by decide +kernel
theorem dX1_intAt_40 : decode cX1_intAt 40 = .ok (.iload_n 3, 1) := by decide +kernel
theorem dX1_intAt_41 : decode cX1_intAt 41 = .ok (.ifCond .eq 7, 3) := by decide +kernel
theorem dX1_intAt_44 : decode cX1_intAt 44 = .ok (.iconst 0, 1) := by decide +kernel
theorem dX1_intAt_45 : decode cX1_intAt 45 = .ok (.goto 14, 3) := by decide +kernel
theorem dX1_intAt_48 : decode cX1_intAt 48 = .ok (.aload_n 0, 1) := by decide +kernel
theorem dX1_intAt_49 : decode cX1_intAt 49 = .ok (.aload_n 0, 1) := by decide +kernel
theorem dX1_intAt_50 : decode cX1_intAt 50 = .ok (.getfield 23, 3) := by decide +kernel
theorem dX1_intAt_53 : decode cX1_intAt 53 = .ok (.iload_n 1, 1) := by decide +kernel
theorem dX1_intAt_54 : decode cX1_intAt 54 = .ok (.iaload, 1) := by decide +kernel
theorem dX1_intAt_55 : decode cX1_intAt 55 = .ok (.iload_n 2, 1) := by decide +kernel
theorem dX1_intAt_56 : decode cX1_intAt 56 = .ok (.invokevirtual 121, 3) := by decide +kernel
theorem dX1_intAt_59 : decode cX1_intAt 59 = .ok (.ireturn, 1) := by decide +kernel
theorem dX1_charAt_0 : decode cX1_charAt 0 = .ok (.aload_n 0, 1) := by decide +kernel
theorem dX1_charAt_1 : decode cX1_charAt 1 = .ok (.iload_n 1, 1) := by decide +kernel
theorem dX1_charAt_2 : decode cX1_charAt 2 = .ok (.invokevirtual 94, 3) := by decide +kernel
theorem dX1_charAt_5 : decode cX1_charAt 5 = .ok (.ifCond .ne 20, 3) := by decide +kernel
theorem dX1_charAt_8 : decode cX1_charAt 8 = .ok (.aload_n 0, 1) := by decide +kernel
theorem dX1_charAt_9 : decode cX1_charAt 9 = .ok (.iload_n 2, 1) := by decide +kernel
theorem dX1_charAt_10 : decode cX1_charAt 10 = .ok (.invokevirtual 49, 3) := by decide +kernel
theorem dX1_charAt_13 : decode cX1_charAt 13 = .ok (.ifCond .ne 12, 3) := by decide +kernel
theorem dX1_charAt_16 : decode cX1_charAt 16 = .ok (.iload_n 3, 1) := by decide +kernel
theorem dX1_charAt_17 : decode cX1_charAt 17 = .ok (.ifCond .lt 8, 3) := by decide +kernel
theorem dX1_charAt_20 : decode cX1_charAt 20 = .ok (.iload_n 3, 1) := by decide +kernel
theorem dX1_charAt_21 : decode cX1_charAt 21 = .ok (.iconst 5, 1) := by decide +kernel
theorem dX1_charAt_22 : decode cX1_charAt 22 = .ok (.if_icmp .le 6, 3) := by decide +kernel
theorem dX1_charAt_25 : decode cX1_charAt 25 = .ok (.bipush (-5), 2) := by decide +kernel
theorem dX1_charAt_27 : decode cX1_charAt 27 = .ok (.ireturn, 1) := by decide +kernel
theorem dX1_charAt_28 : decode cX1_charAt 28 = .ok (.aload_n 0, 1) := by decide +kernel
theorem dX1_charAt_29 : decode cX1_charAt 29 = .ok (.iload_n 2, 1) := by decide +kernel
theorem dX1_charAt_30 : decode cX1_charAt 30 = .ok (.invokevirtual 53, 3) := by decide +kernel
theorem dX1_charAt_33 : decode cX1_charAt 33 = .ok (.ifCond .ne 6, 3) := by decide +kernel
theorem dX1_charAt_36 : decode cX1_charAt 36 = .ok (.bipush (-5), 2) := by decide +kernel
theorem dX1_charAt_38 : decode cX1_charAt 38 = .ok (.ireturn, 1) := by decide +kernel
theorem dX1_charAt_39 : decode cX1_charAt 39 = .ok (.aload_n 0, 1) := by decide +kernel
theorem dX1_charAt_40 : decode cX1_charAt 40 = .ok (.aload_n 0, 1) := by decide +kernel
theorem dX1_charAt_41 : decode cX1_charAt 41 = .ok (.getfield 23, 3) := by decide +kernel
theorem dX1_charAt_44 : decode cX1_charAt 44 = .ok (.iload_n 1, 1) := by decide +kernel
theorem dX1_charAt_45 : decode cX1_charAt 45 = .ok (.iaload, 1) := by decide +kernel
theorem dX1_charAt_46 : decode cX1_charAt 46 = .ok (.iload_n 2, 1) := by decide +kernel
theorem dX1_charAt_47 : decode cX1_charAt 47 = .ok (.invokevirtual 114, 3) := by decide +kernel
theorem dX1_charAt_50 : decode cX1_charAt 50 = .ok (.istore 4, 2) := by decide +kernel
theorem dX1_charAt_52 : decode cX1_charAt 52 = .ok (.iload 4, 2) := by decide +kernel
theorem dX1_charAt_54 : decode cX1_charAt 54 = .ok (.ifCond .eq 6, 3) := by decide +kernel
theorem dX1_charAt_57 : decode cX1_charAt 57 = .ok (.bipush (-5), 2) := by decide +kernel
theorem dX1_charAt_59 : decode cX1_charAt 59 = .ok (.ireturn, 1) := by decide +kernel
theorem dX1_charAt_60 : decode cX1_charAt 60 = .ok (.iconst 0, 1) := by decide +kernel
theorem dX1_charAt_61 : decode cX1_charAt 61 = .ok (.istore 5, 2) := by decide +kernel
theorem dX1_charAt_63 : decode cX1_charAt 63 = .ok (.iconst 0, 1) := by decide +kernel
theorem dX1_charAt_64 : decode cX1_charAt 64 = .ok (.istore 6, 2) := by decide +kernel
theorem dX1_charAt_66 : decode cX1_charAt 66 = .ok (.iload 6, 2) := by decide +kernel
theorem dX1_charAt_68 : decode cX1_charAt 68 = .ok (.iload_n 3, 1) := by decide +kernel
theorem dX1_charAt_69 : decode cX1_charAt 69 = .ok (.if_icmp .gt 27, 3) := by decide +kernel
theorem dX1_charAt_72 : decode cX1_charAt 72 = .ok (.iload 5, 2) := by decide +kernel
theorem dX1_charAt_74 : decode cX1_charAt 74 = .ok (.ifCond .lt 22, 3) := by decide +kernel
theorem dX1_charAt_77 : decode cX1_charAt 77 = .ok (.aload_n 0, 1) := by decide +kernel
theorem dX1_charAt_78 : decode cX1_charAt 78 = .ok (.aload_n 0, 1) := by decide +kernel
theorem dX1_charAt_79 : decode cX1_charAt 79 = .ok (.getfield 23, 3) := by decide +kernel
theorem dX1_charAt_82 : decode cX1_charAt 82 = .ok (.iload_n 1, 1) := by decide +kernel
theorem dX1_charAt_83 : decode cX1_charAt 83 = .ok (.iaload, 1) := by decide +kernel
theorem dX1_charAt_84 : decode cX1_charAt 84 = .ok (.iload_n 2, 1) := by decide +kernel
theorem dX1_charAt_85 : decode cX1_charAt 85 = .ok (.invokevirtual 111, 3) := by decide +kernel
theorem dX1_charAt_88 : decode cX1_charAt 88 = .ok (.istore 5, 2) := by decide +kernel
theorem dX1_charAt_90 : decode cX1_charAt 90 = .ok (.iinc 6 1, 3) := by decide +kernel
theorem dX1_charAt_93 : decode cX1_charAt 93 = .ok (.goto (-27), 3) := by decide +kernel
theorem dX1_charAt_96 : decode cX1_charAt 96 = .ok (.iload 5, 2) := by decide +kernel
theorem dX1_charAt_98 : decode cX1_charAt 98 = .ok (.ifCond .ge 8, 3) := by decide +kernel
theorem dX1_charAt_101 : decode cX1_charAt 101 = .ok (.bipush (-5), 2) := by decide +kernel
theorem dX1_charAt_103 : decode cX1_charAt 103 = .ok (.goto 5, 3) := by decide +kernel
theorem dX1_charAt_106 : decode cX1_charAt 106 = .ok (.iload 5, 2) := by decide +kernel
theorem dX1_charAt_108 : decode cX1_charAt 108 = .ok (.ireturn, 1) := by decide +kernel
theorem dX1_nullAt_0 : decode cX1_nullAt 0 = .ok (.aload_n 0, 1) := by decide +kernel
theorem dX1_nullAt_1 : decode cX1_nullAt 1 = .ok (.iload_n 1, 1) := by decide +kernel
theorem dX1_nullAt_2 : decode cX1_nullAt 2 = .ok (.invokevirtual 94, 3) := by decide +kernel
theorem dX1_nullAt_5 : decode cX1_nullAt 5 = .ok (.ifCond .ne 11, 3) := by decide +kernel
theorem dX1_nullAt_8 : decode cX1_nullAt 8 = .ok (.aload_n 0, 1) := by decide +kernel
theorem dX1_nullAt_9 : decode cX1_nullAt 9 = .ok (.iload_n 2, 1) := by decide +kernel
theorem dX1_nullAt_10 : decode cX1_nullAt 10 = .ok (.invokevirtual 49, 3) := by decide +kernel
theorem dX1_nullAt_13 : decode cX1_nullAt 13 = .ok (.ifCond .eq 5, 3) := by decide +kernel
theorem dX1_nullAt_16 : decode cX1_nullAt 16 = .ok (.iconst 0, 1) := by decide +kernel
theorem dX1_nullAt_17 : decode cX1_nullAt 17 = .ok (.ireturn, 1) := by decide +kernel
theorem dX1_nullAt_18 : decode cX1_nullAt 18 = .ok (.aload_n 0, 1) := by decide +kernel
theorem dX1_nullAt_19 : decode cX1_nullAt 19 = .ok (.aload_n 0, 1) := by decide +kernel
theorem dX1_nullAt_20 : decode cX1_nullAt 20 = .ok (.getfield 23, 3) := by decide +kernel
theorem dX1_nullAt_23 : decode cX1_nullAt 23 = .ok (.iload_n 1, 1) := by decide +kernel
theorem dX1_nullAt_24 : decode cX1_nullAt 24 = .ok (.iaload, 1) := by decide +kernel
theorem dX1_nullAt_25 : decode cX1_nullAt 25 = .ok (.iload_n 2, 1) := by decide +kernel
theorem dX1_nullAt_26 : decode cX1_nullAt 26 = .ok (.invokevirtual 114, 3) := by decide +kernel
theorem dX1_nullAt_29 : decode cX1_nullAt 29 = .ok (.ireturn, 1) := by decide +kernel
end
section
set_option maxRecDepth 100000
/-! OrderedKeysModel -/
def RX2 : String := "OrderedKeysModel"
def TX2 : u_T := fun k => match k with
  | 0 => ("OrderedKeysModel", "fields", "I", true)
  | 1 => ("OrderedKeysModel", "schema", "I", true)
  | 2 => ("OrderedKeysModel", "count", "I", false)
  | 3 => ("OrderedKeysModel", "tags", "[I", true)
  | 4 => ("OrderedKeysModel", "nulls", "[Z", true)
  | 5 => ("OrderedKeysModel", "ints", "[I", true)
  | 6 => ("OrderedKeysModel", "lengths", "[I", true)
  | _ => ("OrderedKeysModel", "chars", "[I", true)
def tyX2 : Nat → FieldType := fun k => match k with
  | 0 => .int
  | 1 => .int
  | 2 => .int
  | 3 => .array .int
  | 4 => .array .boolean
  | 5 => .array .int
  | 6 => .array .int
  | _ => .array .int
abbrev wsX20 : List Cond := u_ws RX2 TX2 8
theorem nmX2 : ∀ a, a < 8 → ∀ b, b < 8 → a ≠ b → (TX2 a).2.1 ≠ (TX2 b).2.1 := by decide +kernel
theorem tyX2_ok : ∀ k, k < 8 → parseFieldDescriptor (TX2 k).2.2.1 = some (tyX2 k) := by decide +kernel
abbrev cX2_init : ByteArray := prog_3_method_1_code
def yX2_init : MethodName := ⟨RX2, "<init>", "(II)V"⟩
abbrev cX2_setNull : ByteArray := prog_3_method_4_code
def yX2_setNull : MethodName := ⟨RX2, "setNull", "(I)I"⟩
abbrev cX2_bad : ByteArray := prog_3_method_2_code
def yX2_bad : MethodName := ⟨RX2, "bad", "(I)Z"⟩
abbrev cX2_setInt : ByteArray := prog_3_method_5_code
def yX2_setInt : MethodName := ⟨RX2, "setInt", "(II)I"⟩
abbrev cX2_text : ByteArray := prog_3_method_3_code
def yX2_text : MethodName := ⟨RX2, "text", "(I)Z"⟩
abbrev cX2_setText : ByteArray := prog_3_method_6_code
def yX2_setText : MethodName := ⟨RX2, "setText", "(I)I"⟩
abbrev cX2_append : ByteArray := prog_3_method_7_code
def yX2_append : MethodName := ⟨RX2, "append", "(II)I"⟩
abbrev cX2_add : ByteArray := prog_3_method_14_code
def yX2_add : MethodName := ⟨RX2, "add", "(I)I"⟩
abbrev cX2_copy : ByteArray := prog_3_method_8_code
def yX2_copy : MethodName := ⟨RX2, "copy", "(II)V"⟩
abbrev cX2_place : ByteArray := prog_3_method_12_code
def yX2_place : MethodName := ⟨RX2, "place", "(I)I"⟩
abbrev cX2_compare : ByteArray := prog_3_method_11_code
def yX2_compare : MethodName := ⟨RX2, "compare", "(III)I"⟩
abbrev cX2_field : ByteArray := prog_3_method_10_code
def yX2_field : MethodName := ⟨RX2, "field", "(III)I"⟩
abbrev cX2_values : ByteArray := prog_3_method_9_code
def yX2_values : MethodName := ⟨RX2, "values", "(IIZ)I"⟩
abbrev cX2_remove : ByteArray := prog_3_method_15_code
def yX2_remove : MethodName := ⟨RX2, "remove", "(I)I"⟩
abbrev cX2_at : ByteArray := prog_3_method_13_code
def yX2_at : MethodName := ⟨RX2, "at", "(I)I"⟩
abbrev cX2_load : ByteArray := prog_3_method_16_code
def yX2_load : MethodName := ⟨RX2, "load", "(I)I"⟩
abbrev cX2_size : ByteArray := prog_3_method_17_code
def yX2_size : MethodName := ⟨RX2, "size", "()I"⟩
abbrev cX2_tag : ByteArray := prog_3_method_18_code
def yX2_tag : MethodName := ⟨RX2, "tag", "(I)I"⟩
abbrev cX2_below : ByteArray := prog_3_method_19_code
def yX2_below : MethodName := ⟨RX2, "below", "()I"⟩
abbrev cX2_matching : ByteArray := prog_3_method_20_code
def yX2_matching : MethodName := ⟨RX2, "matching", "(I)I"⟩
abbrev cX2_intAt : ByteArray := prog_3_method_21_code
def yX2_intAt : MethodName := ⟨RX2, "intAt", "(II)I"⟩
abbrev cX2_charAt : ByteArray := prog_3_method_22_code
def yX2_charAt : MethodName := ⟨RX2, "charAt", "(III)I"⟩
abbrev cX2_nullAt : ByteArray := prog_3_method_23_code
def yX2_nullAt : MethodName := ⟨RX2, "nullAt", "(II)Z"⟩
theorem q29 : (Jvm.Cond.initialized "OrderedKeysModel") ∈ lw_all := lw_g (lw_at lw_m1 2 rfl) rfl
theorem q224 : (Jvm.Cond.instantiable "OrderedKeysModel" (8 : Nat)) ∈ lw_all := lw_g (lw_at lw_m1 197 rfl) rfl
theorem q226 : (Jvm.Cond.instanceMethod ({ cls := "OrderedKeysModel", name := "<init>", desc := "(II)V" } : Jvm.MethodName)) ∈ lw_all := lw_g (lw_at lw_m1 199 rfl) rfl
theorem q227 : (Jvm.Cond.code ({ cls := "OrderedKeysModel", name := "<init>", desc := "(II)V" } : Jvm.MethodName) prog_3_method_1_code (5 : Nat) (Option.none : Option Jvm.ClassFile.FieldType)) ∈ lw_all := lw_g (lw_at lw_m1 200 rfl) rfl
theorem q228 : (Jvm.Cond.methodLink "OrderedKeysModel" (1 : Nat) ({ cls := "java/lang/Object", name := "<init>", desc := "()V" } : Jvm.MethodName)) ∈ lw_all := lw_g (lw_at lw_m1 201 rfl) rfl
theorem q229 : (Jvm.Cond.fieldLink "OrderedKeysModel" (26 : Nat) "OrderedKeysModel" "fields" "I") ∈ lw_all := lw_g (lw_at lw_m1 202 rfl) rfl
theorem q230 : (Jvm.Cond.fieldLink "OrderedKeysModel" (30 : Nat) "OrderedKeysModel" "schema" "I") ∈ lw_all := lw_g (lw_at lw_m1 203 rfl) rfl
theorem q231 : (Jvm.Cond.fieldLink "OrderedKeysModel" (48 : Nat) "OrderedKeysModel" "count" "I") ∈ lw_all := lw_g (lw_at lw_m1 204 rfl) rfl
theorem q232 : (Jvm.Cond.fieldLink "OrderedKeysModel" (7 : Nat) "OrderedKeysModel" "tags" "[I") ∈ lw_all := lw_g (lw_at lw_m1 205 rfl) rfl
theorem q233 : (Jvm.Cond.fieldLink "OrderedKeysModel" (13 : Nat) "OrderedKeysModel" "nulls" "[Z") ∈ lw_all := lw_g (lw_at lw_m1 206 rfl) rfl
theorem q234 : (Jvm.Cond.fieldLink "OrderedKeysModel" (17 : Nat) "OrderedKeysModel" "ints" "[I") ∈ lw_all := lw_g (lw_at lw_m1 207 rfl) rfl
theorem q235 : (Jvm.Cond.fieldLink "OrderedKeysModel" (20 : Nat) "OrderedKeysModel" "lengths" "[I") ∈ lw_all := lw_g (lw_at lw_m1 208 rfl) rfl
theorem q236 : (Jvm.Cond.fieldLink "OrderedKeysModel" (23 : Nat) "OrderedKeysModel" "chars" "[I") ∈ lw_all := lw_g (lw_at lw_m1 209 rfl) rfl
theorem q237 : (Jvm.Cond.laysFinal "OrderedKeysModel" "OrderedKeysModel" "fields" "I") ∈ lw_all := lw_g (lw_at lw_m1 210 rfl) rfl
theorem q238 : (Jvm.Cond.soleField "OrderedKeysModel" "fields") ∈ lw_all := lw_g (lw_at lw_m1 211 rfl) rfl
theorem q239 : (Jvm.Cond.laysFinal "OrderedKeysModel" "OrderedKeysModel" "schema" "I") ∈ lw_all := lw_g (lw_at lw_m1 212 rfl) rfl
theorem q240 : (Jvm.Cond.soleField "OrderedKeysModel" "schema") ∈ lw_all := lw_g (lw_at lw_m1 213 rfl) rfl
theorem q241 : (Jvm.Cond.lays "OrderedKeysModel" "OrderedKeysModel" "count" "I") ∈ lw_all := lw_g (lw_at lw_m1 214 rfl) rfl
theorem q242 : (Jvm.Cond.soleField "OrderedKeysModel" "count") ∈ lw_all := lw_g (lw_at lw_m1 215 rfl) rfl
theorem q243 : (Jvm.Cond.laysFinal "OrderedKeysModel" "OrderedKeysModel" "tags" "[I") ∈ lw_all := lw_g (lw_at lw_m1 216 rfl) rfl
theorem q244 : (Jvm.Cond.soleField "OrderedKeysModel" "tags") ∈ lw_all := lw_g (lw_at lw_m1 217 rfl) rfl
theorem q245 : (Jvm.Cond.laysFinal "OrderedKeysModel" "OrderedKeysModel" "nulls" "[Z") ∈ lw_all := lw_g (lw_at lw_m1 218 rfl) rfl
theorem q246 : (Jvm.Cond.soleField "OrderedKeysModel" "nulls") ∈ lw_all := lw_g (lw_at lw_m1 219 rfl) rfl
theorem q247 : (Jvm.Cond.laysFinal "OrderedKeysModel" "OrderedKeysModel" "ints" "[I") ∈ lw_all := lw_g (lw_at lw_m1 220 rfl) rfl
theorem q248 : (Jvm.Cond.soleField "OrderedKeysModel" "ints") ∈ lw_all := lw_g (lw_at lw_m1 221 rfl) rfl
theorem q249 : (Jvm.Cond.laysFinal "OrderedKeysModel" "OrderedKeysModel" "lengths" "[I") ∈ lw_all := lw_g (lw_at lw_m1 222 rfl) rfl
theorem q250 : (Jvm.Cond.soleField "OrderedKeysModel" "lengths") ∈ lw_all := lw_g (lw_at lw_m1 223 rfl) rfl
theorem q251 : (Jvm.Cond.laysFinal "OrderedKeysModel" "OrderedKeysModel" "chars" "[I") ∈ lw_all := lw_g (lw_at lw_m1 224 rfl) rfl
theorem q252 : (Jvm.Cond.soleField "OrderedKeysModel" "chars") ∈ lw_all := lw_g (lw_at lw_m1 225 rfl) rfl
theorem q253 : (Jvm.Cond.superclass "OrderedKeysModel" "java/lang/Object") ∈ lw_all := lw_g (lw_at lw_m1 226 rfl) rfl
theorem q255 : (Jvm.Cond.instanceMethod ({ cls := "OrderedKeysModel", name := "setNull", desc := "(I)I" } : Jvm.MethodName)) ∈ lw_all := lw_g (lw_at lw_m1 228 rfl) rfl
theorem q256 : (Jvm.Cond.selects "OrderedKeysModel" ({ cls := "OrderedKeysModel", name := "setNull", desc := "(I)I" } : Jvm.MethodName) ({ cls := "OrderedKeysModel", name := "setNull", desc := "(I)I" } : Jvm.MethodName)) ∈ lw_all := lw_g (lw_at lw_m1 229 rfl) rfl
theorem q257 : (Jvm.Cond.code ({ cls := "OrderedKeysModel", name := "setNull", desc := "(I)I" } : Jvm.MethodName) prog_3_method_4_code (2 : Nat) (Option.some Jvm.ClassFile.FieldType.int)) ∈ lw_all := lw_g (lw_at lw_m1 230 rfl) rfl
theorem q258 : (Jvm.Cond.methodLink "OrderedKeysModel" (33 : Nat) ({ cls := "OrderedKeysModel", name := "bad", desc := "(I)Z" } : Jvm.MethodName)) ∈ lw_all := lw_g (lw_at lw_m1 231 rfl) rfl
theorem q259 : (Jvm.Cond.privateMethod ({ cls := "OrderedKeysModel", name := "bad", desc := "(I)Z" } : Jvm.MethodName)) ∈ lw_tbl := lw_at lw_m1 232 rfl
theorem q260 : (Jvm.Cond.instanceMethod ({ cls := "OrderedKeysModel", name := "bad", desc := "(I)Z" } : Jvm.MethodName)) ∈ lw_all := lw_g (lw_at lw_m1 233 rfl) rfl
theorem q261 : (Jvm.Cond.code ({ cls := "OrderedKeysModel", name := "bad", desc := "(I)Z" } : Jvm.MethodName) prog_3_method_2_code (2 : Nat) (Option.some Jvm.ClassFile.FieldType.boolean)) ∈ lw_all := lw_g (lw_at lw_m1 234 rfl) rfl
theorem q263 : (Jvm.Cond.instanceMethod ({ cls := "OrderedKeysModel", name := "setInt", desc := "(II)I" } : Jvm.MethodName)) ∈ lw_all := lw_g (lw_at lw_m1 236 rfl) rfl
theorem q264 : (Jvm.Cond.selects "OrderedKeysModel" ({ cls := "OrderedKeysModel", name := "setInt", desc := "(II)I" } : Jvm.MethodName) ({ cls := "OrderedKeysModel", name := "setInt", desc := "(II)I" } : Jvm.MethodName)) ∈ lw_all := lw_g (lw_at lw_m1 237 rfl) rfl
theorem q265 : (Jvm.Cond.code ({ cls := "OrderedKeysModel", name := "setInt", desc := "(II)I" } : Jvm.MethodName) prog_3_method_5_code (3 : Nat) (Option.some Jvm.ClassFile.FieldType.int)) ∈ lw_all := lw_g (lw_at lw_m1 238 rfl) rfl
theorem q266 : (Jvm.Cond.methodLink "OrderedKeysModel" (37 : Nat) ({ cls := "OrderedKeysModel", name := "text", desc := "(I)Z" } : Jvm.MethodName)) ∈ lw_all := lw_g (lw_at lw_m1 239 rfl) rfl
theorem q267 : (Jvm.Cond.privateMethod ({ cls := "OrderedKeysModel", name := "text", desc := "(I)Z" } : Jvm.MethodName)) ∈ lw_tbl := lw_at lw_m2 0 rfl
theorem q268 : (Jvm.Cond.instanceMethod ({ cls := "OrderedKeysModel", name := "text", desc := "(I)Z" } : Jvm.MethodName)) ∈ lw_all := lw_g (lw_at lw_m2 1 rfl) rfl
theorem q269 : (Jvm.Cond.code ({ cls := "OrderedKeysModel", name := "text", desc := "(I)Z" } : Jvm.MethodName) prog_3_method_3_code (2 : Nat) (Option.some Jvm.ClassFile.FieldType.boolean)) ∈ lw_all := lw_g (lw_at lw_m2 2 rfl) rfl
theorem q271 : (Jvm.Cond.instanceMethod ({ cls := "OrderedKeysModel", name := "setText", desc := "(I)I" } : Jvm.MethodName)) ∈ lw_all := lw_g (lw_at lw_m2 4 rfl) rfl
theorem q272 : (Jvm.Cond.selects "OrderedKeysModel" ({ cls := "OrderedKeysModel", name := "setText", desc := "(I)I" } : Jvm.MethodName) ({ cls := "OrderedKeysModel", name := "setText", desc := "(I)I" } : Jvm.MethodName)) ∈ lw_all := lw_g (lw_at lw_m2 5 rfl) rfl
theorem q273 : (Jvm.Cond.code ({ cls := "OrderedKeysModel", name := "setText", desc := "(I)I" } : Jvm.MethodName) prog_3_method_6_code (2 : Nat) (Option.some Jvm.ClassFile.FieldType.int)) ∈ lw_all := lw_g (lw_at lw_m2 6 rfl) rfl
theorem q275 : (Jvm.Cond.instanceMethod ({ cls := "OrderedKeysModel", name := "append", desc := "(II)I" } : Jvm.MethodName)) ∈ lw_all := lw_g (lw_at lw_m2 8 rfl) rfl
theorem q276 : (Jvm.Cond.selects "OrderedKeysModel" ({ cls := "OrderedKeysModel", name := "append", desc := "(II)I" } : Jvm.MethodName) ({ cls := "OrderedKeysModel", name := "append", desc := "(II)I" } : Jvm.MethodName)) ∈ lw_all := lw_g (lw_at lw_m2 9 rfl) rfl
theorem q277 : (Jvm.Cond.code ({ cls := "OrderedKeysModel", name := "append", desc := "(II)I" } : Jvm.MethodName) prog_3_method_7_code (4 : Nat) (Option.some Jvm.ClassFile.FieldType.int)) ∈ lw_all := lw_g (lw_at lw_m2 10 rfl) rfl
theorem q279 : (Jvm.Cond.instanceMethod ({ cls := "OrderedKeysModel", name := "add", desc := "(I)I" } : Jvm.MethodName)) ∈ lw_all := lw_g (lw_at lw_m2 12 rfl) rfl
theorem q280 : (Jvm.Cond.selects "OrderedKeysModel" ({ cls := "OrderedKeysModel", name := "add", desc := "(I)I" } : Jvm.MethodName) ({ cls := "OrderedKeysModel", name := "add", desc := "(I)I" } : Jvm.MethodName)) ∈ lw_all := lw_g (lw_at lw_m2 13 rfl) rfl
theorem q281 : (Jvm.Cond.code ({ cls := "OrderedKeysModel", name := "add", desc := "(I)I" } : Jvm.MethodName) prog_3_method_14_code (2 : Nat) (Option.some Jvm.ClassFile.FieldType.int)) ∈ lw_all := lw_g (lw_at lw_m2 14 rfl) rfl
theorem q282 : (Jvm.Cond.methodLink "OrderedKeysModel" (58 : Nat) ({ cls := "OrderedKeysModel", name := "copy", desc := "(II)V" } : Jvm.MethodName)) ∈ lw_all := lw_g (lw_at lw_m2 15 rfl) rfl
theorem q283 : (Jvm.Cond.privateMethod ({ cls := "OrderedKeysModel", name := "copy", desc := "(II)V" } : Jvm.MethodName)) ∈ lw_tbl := lw_at lw_m2 16 rfl
theorem q284 : (Jvm.Cond.instanceMethod ({ cls := "OrderedKeysModel", name := "copy", desc := "(II)V" } : Jvm.MethodName)) ∈ lw_all := lw_g (lw_at lw_m2 17 rfl) rfl
theorem q285 : (Jvm.Cond.code ({ cls := "OrderedKeysModel", name := "copy", desc := "(II)V" } : Jvm.MethodName) prog_3_method_8_code (4 : Nat) (Option.none : Option Jvm.ClassFile.FieldType)) ∈ lw_all := lw_g (lw_at lw_m2 18 rfl) rfl
theorem q286 : (Jvm.Cond.methodLink "OrderedKeysModel" (54 : Nat) ({ cls := "OrderedKeysModel", name := "place", desc := "(I)I" } : Jvm.MethodName)) ∈ lw_all := lw_g (lw_at lw_m2 19 rfl) rfl
theorem q287 : (Jvm.Cond.privateMethod ({ cls := "OrderedKeysModel", name := "place", desc := "(I)I" } : Jvm.MethodName)) ∈ lw_tbl := lw_at lw_m2 20 rfl
theorem q288 : (Jvm.Cond.instanceMethod ({ cls := "OrderedKeysModel", name := "place", desc := "(I)I" } : Jvm.MethodName)) ∈ lw_all := lw_g (lw_at lw_m2 21 rfl) rfl
theorem q289 : (Jvm.Cond.code ({ cls := "OrderedKeysModel", name := "place", desc := "(I)I" } : Jvm.MethodName) prog_3_method_12_code (5 : Nat) (Option.some Jvm.ClassFile.FieldType.int)) ∈ lw_all := lw_g (lw_at lw_m2 22 rfl) rfl
theorem q290 : (Jvm.Cond.methodLink "OrderedKeysModel" (51 : Nat) ({ cls := "OrderedKeysModel", name := "compare", desc := "(III)I" } : Jvm.MethodName)) ∈ lw_all := lw_g (lw_at lw_m2 23 rfl) rfl
theorem q291 : (Jvm.Cond.privateMethod ({ cls := "OrderedKeysModel", name := "compare", desc := "(III)I" } : Jvm.MethodName)) ∈ lw_tbl := lw_at lw_m2 24 rfl
theorem q292 : (Jvm.Cond.instanceMethod ({ cls := "OrderedKeysModel", name := "compare", desc := "(III)I" } : Jvm.MethodName)) ∈ lw_all := lw_g (lw_at lw_m2 25 rfl) rfl
theorem q293 : (Jvm.Cond.code ({ cls := "OrderedKeysModel", name := "compare", desc := "(III)I" } : Jvm.MethodName) prog_3_method_11_code (6 : Nat) (Option.some Jvm.ClassFile.FieldType.int)) ∈ lw_all := lw_g (lw_at lw_m2 26 rfl) rfl
theorem q294 : (Jvm.Cond.methodLink "OrderedKeysModel" (44 : Nat) ({ cls := "OrderedKeysModel", name := "field", desc := "(III)I" } : Jvm.MethodName)) ∈ lw_all := lw_g (lw_at lw_m2 27 rfl) rfl
theorem q295 : (Jvm.Cond.privateMethod ({ cls := "OrderedKeysModel", name := "field", desc := "(III)I" } : Jvm.MethodName)) ∈ lw_tbl := lw_at lw_m2 28 rfl
theorem q296 : (Jvm.Cond.instanceMethod ({ cls := "OrderedKeysModel", name := "field", desc := "(III)I" } : Jvm.MethodName)) ∈ lw_all := lw_g (lw_at lw_m2 29 rfl) rfl
theorem q297 : (Jvm.Cond.code ({ cls := "OrderedKeysModel", name := "field", desc := "(III)I" } : Jvm.MethodName) prog_3_method_10_code (10 : Nat) (Option.some Jvm.ClassFile.FieldType.int)) ∈ lw_all := lw_g (lw_at lw_m2 30 rfl) rfl
theorem q298 : (Jvm.Cond.methodLink "OrderedKeysModel" (40 : Nat) ({ cls := "OrderedKeysModel", name := "values", desc := "(IIZ)I" } : Jvm.MethodName)) ∈ lw_all := lw_g (lw_at lw_m2 31 rfl) rfl
theorem q299 : (Jvm.Cond.privateMethod ({ cls := "OrderedKeysModel", name := "values", desc := "(IIZ)I" } : Jvm.MethodName)) ∈ lw_tbl := lw_at lw_m2 32 rfl
theorem q300 : (Jvm.Cond.instanceMethod ({ cls := "OrderedKeysModel", name := "values", desc := "(IIZ)I" } : Jvm.MethodName)) ∈ lw_all := lw_g (lw_at lw_m2 33 rfl) rfl
theorem q301 : (Jvm.Cond.code ({ cls := "OrderedKeysModel", name := "values", desc := "(IIZ)I" } : Jvm.MethodName) prog_3_method_9_code (7 : Nat) (Option.some Jvm.ClassFile.FieldType.int)) ∈ lw_all := lw_g (lw_at lw_m2 34 rfl) rfl
theorem q303 : (Jvm.Cond.instanceMethod ({ cls := "OrderedKeysModel", name := "remove", desc := "(I)I" } : Jvm.MethodName)) ∈ lw_all := lw_g (lw_at lw_m2 36 rfl) rfl
theorem q304 : (Jvm.Cond.selects "OrderedKeysModel" ({ cls := "OrderedKeysModel", name := "remove", desc := "(I)I" } : Jvm.MethodName) ({ cls := "OrderedKeysModel", name := "remove", desc := "(I)I" } : Jvm.MethodName)) ∈ lw_all := lw_g (lw_at lw_m2 37 rfl) rfl
theorem q305 : (Jvm.Cond.code ({ cls := "OrderedKeysModel", name := "remove", desc := "(I)I" } : Jvm.MethodName) prog_3_method_15_code (4 : Nat) (Option.some Jvm.ClassFile.FieldType.int)) ∈ lw_all := lw_g (lw_at lw_m2 38 rfl) rfl
theorem q306 : (Jvm.Cond.methodLink "OrderedKeysModel" (62 : Nat) ({ cls := "OrderedKeysModel", name := "at", desc := "(I)I" } : Jvm.MethodName)) ∈ lw_all := lw_g (lw_at lw_m2 39 rfl) rfl
theorem q307 : (Jvm.Cond.privateMethod ({ cls := "OrderedKeysModel", name := "at", desc := "(I)I" } : Jvm.MethodName)) ∈ lw_tbl := lw_at lw_m2 40 rfl
theorem q308 : (Jvm.Cond.instanceMethod ({ cls := "OrderedKeysModel", name := "at", desc := "(I)I" } : Jvm.MethodName)) ∈ lw_all := lw_g (lw_at lw_m2 41 rfl) rfl
theorem q309 : (Jvm.Cond.code ({ cls := "OrderedKeysModel", name := "at", desc := "(I)I" } : Jvm.MethodName) prog_3_method_13_code (3 : Nat) (Option.some Jvm.ClassFile.FieldType.int)) ∈ lw_all := lw_g (lw_at lw_m2 42 rfl) rfl
theorem q311 : (Jvm.Cond.instanceMethod ({ cls := "OrderedKeysModel", name := "load", desc := "(I)I" } : Jvm.MethodName)) ∈ lw_all := lw_g (lw_at lw_m2 44 rfl) rfl
theorem q312 : (Jvm.Cond.selects "OrderedKeysModel" ({ cls := "OrderedKeysModel", name := "load", desc := "(I)I" } : Jvm.MethodName) ({ cls := "OrderedKeysModel", name := "load", desc := "(I)I" } : Jvm.MethodName)) ∈ lw_all := lw_g (lw_at lw_m2 45 rfl) rfl
theorem q313 : (Jvm.Cond.code ({ cls := "OrderedKeysModel", name := "load", desc := "(I)I" } : Jvm.MethodName) prog_3_method_16_code (3 : Nat) (Option.some Jvm.ClassFile.FieldType.int)) ∈ lw_all := lw_g (lw_at lw_m2 46 rfl) rfl
theorem q315 : (Jvm.Cond.instanceMethod ({ cls := "OrderedKeysModel", name := "size", desc := "()I" } : Jvm.MethodName)) ∈ lw_all := lw_g (lw_at lw_m2 48 rfl) rfl
theorem q316 : (Jvm.Cond.selects "OrderedKeysModel" ({ cls := "OrderedKeysModel", name := "size", desc := "()I" } : Jvm.MethodName) ({ cls := "OrderedKeysModel", name := "size", desc := "()I" } : Jvm.MethodName)) ∈ lw_all := lw_g (lw_at lw_m2 49 rfl) rfl
theorem q317 : (Jvm.Cond.code ({ cls := "OrderedKeysModel", name := "size", desc := "()I" } : Jvm.MethodName) prog_3_method_17_code (1 : Nat) (Option.some Jvm.ClassFile.FieldType.int)) ∈ lw_all := lw_g (lw_at lw_m2 50 rfl) rfl
theorem q319 : (Jvm.Cond.instanceMethod ({ cls := "OrderedKeysModel", name := "tag", desc := "(I)I" } : Jvm.MethodName)) ∈ lw_all := lw_g (lw_at lw_m2 52 rfl) rfl
theorem q320 : (Jvm.Cond.selects "OrderedKeysModel" ({ cls := "OrderedKeysModel", name := "tag", desc := "(I)I" } : Jvm.MethodName) ({ cls := "OrderedKeysModel", name := "tag", desc := "(I)I" } : Jvm.MethodName)) ∈ lw_all := lw_g (lw_at lw_m2 53 rfl) rfl
theorem q321 : (Jvm.Cond.code ({ cls := "OrderedKeysModel", name := "tag", desc := "(I)I" } : Jvm.MethodName) prog_3_method_18_code (3 : Nat) (Option.some Jvm.ClassFile.FieldType.int)) ∈ lw_all := lw_g (lw_at lw_m2 54 rfl) rfl
theorem q323 : (Jvm.Cond.instanceMethod ({ cls := "OrderedKeysModel", name := "below", desc := "()I" } : Jvm.MethodName)) ∈ lw_all := lw_g (lw_at lw_m2 56 rfl) rfl
theorem q324 : (Jvm.Cond.selects "OrderedKeysModel" ({ cls := "OrderedKeysModel", name := "below", desc := "()I" } : Jvm.MethodName) ({ cls := "OrderedKeysModel", name := "below", desc := "()I" } : Jvm.MethodName)) ∈ lw_all := lw_g (lw_at lw_m2 57 rfl) rfl
theorem q325 : (Jvm.Cond.code ({ cls := "OrderedKeysModel", name := "below", desc := "()I" } : Jvm.MethodName) prog_3_method_19_code (3 : Nat) (Option.some Jvm.ClassFile.FieldType.int)) ∈ lw_all := lw_g (lw_at lw_m2 58 rfl) rfl
theorem q327 : (Jvm.Cond.instanceMethod ({ cls := "OrderedKeysModel", name := "matching", desc := "(I)I" } : Jvm.MethodName)) ∈ lw_all := lw_g (lw_at lw_m2 60 rfl) rfl
theorem q328 : (Jvm.Cond.selects "OrderedKeysModel" ({ cls := "OrderedKeysModel", name := "matching", desc := "(I)I" } : Jvm.MethodName) ({ cls := "OrderedKeysModel", name := "matching", desc := "(I)I" } : Jvm.MethodName)) ∈ lw_all := lw_g (lw_at lw_m2 61 rfl) rfl
theorem q329 : (Jvm.Cond.code ({ cls := "OrderedKeysModel", name := "matching", desc := "(I)I" } : Jvm.MethodName) prog_3_method_20_code (4 : Nat) (Option.some Jvm.ClassFile.FieldType.int)) ∈ lw_all := lw_g (lw_at lw_m2 62 rfl) rfl
theorem q331 : (Jvm.Cond.instanceMethod ({ cls := "OrderedKeysModel", name := "intAt", desc := "(II)I" } : Jvm.MethodName)) ∈ lw_all := lw_g (lw_at lw_m2 64 rfl) rfl
theorem q332 : (Jvm.Cond.selects "OrderedKeysModel" ({ cls := "OrderedKeysModel", name := "intAt", desc := "(II)I" } : Jvm.MethodName) ({ cls := "OrderedKeysModel", name := "intAt", desc := "(II)I" } : Jvm.MethodName)) ∈ lw_all := lw_g (lw_at lw_m2 65 rfl) rfl
theorem q333 : (Jvm.Cond.code ({ cls := "OrderedKeysModel", name := "intAt", desc := "(II)I" } : Jvm.MethodName) prog_3_method_21_code (4 : Nat) (Option.some Jvm.ClassFile.FieldType.int)) ∈ lw_all := lw_g (lw_at lw_m2 66 rfl) rfl
theorem q335 : (Jvm.Cond.instanceMethod ({ cls := "OrderedKeysModel", name := "charAt", desc := "(III)I" } : Jvm.MethodName)) ∈ lw_all := lw_g (lw_at lw_m2 68 rfl) rfl
theorem q336 : (Jvm.Cond.selects "OrderedKeysModel" ({ cls := "OrderedKeysModel", name := "charAt", desc := "(III)I" } : Jvm.MethodName) ({ cls := "OrderedKeysModel", name := "charAt", desc := "(III)I" } : Jvm.MethodName)) ∈ lw_all := lw_g (lw_at lw_m2 69 rfl) rfl
theorem q337 : (Jvm.Cond.code ({ cls := "OrderedKeysModel", name := "charAt", desc := "(III)I" } : Jvm.MethodName) prog_3_method_22_code (6 : Nat) (Option.some Jvm.ClassFile.FieldType.int)) ∈ lw_all := lw_g (lw_at lw_m2 70 rfl) rfl
theorem q339 : (Jvm.Cond.instanceMethod ({ cls := "OrderedKeysModel", name := "nullAt", desc := "(II)Z" } : Jvm.MethodName)) ∈ lw_all := lw_g (lw_at lw_m2 72 rfl) rfl
theorem q340 : (Jvm.Cond.selects "OrderedKeysModel" ({ cls := "OrderedKeysModel", name := "nullAt", desc := "(II)Z" } : Jvm.MethodName) ({ cls := "OrderedKeysModel", name := "nullAt", desc := "(II)Z" } : Jvm.MethodName)) ∈ lw_all := lw_g (lw_at lw_m2 73 rfl) rfl
theorem q341 : (Jvm.Cond.code ({ cls := "OrderedKeysModel", name := "nullAt", desc := "(II)Z" } : Jvm.MethodName) prog_3_method_23_code (4 : Nat) (Option.some Jvm.ClassFile.FieldType.boolean)) ∈ lw_all := lw_g (lw_at lw_m2 74 rfl) rfl
theorem in_X2 : ∀ w ∈ wsX20, w ∈ lw_all := lw_in wsX20 [237, 239, 241, 243, 245, 247, 249, 251] (by decide +kernel) (by decide +kernel)
end
section
set_option maxRecDepth 100000
theorem dX2_init_0 : decode cX2_init 0 = .ok (.aload_n 0, 1) := by decide +kernel
theorem dX2_init_1 : decode cX2_init 1 = .ok (.invokespecial 1, 3) := by decide +kernel
theorem dX2_init_4 : decode cX2_init 4 = .ok (.aload_n 0, 1) := by decide +kernel
theorem dX2_init_5 : decode cX2_init 5 = .ok (.bipush 20, 2) := by decide +kernel
theorem dX2_init_7 : decode cX2_init 7 = .ok (.newarray .int, 2) := by decide +kernel
theorem dX2_init_9 : decode cX2_init 9 = .ok (.putfield 7, 3) := by decide +kernel
theorem dX2_init_12 : decode cX2_init 12 = .ok (.aload_n 0, 1) := by decide +kernel
theorem dX2_init_13 : decode cX2_init 13 = .ok (.bipush 84, 2) := by decide +kernel
theorem dX2_init_15 : decode cX2_init 15 = .ok (.newarray .boolean, 2) := by decide +kernel
theorem dX2_init_17 : decode cX2_init 17 = .ok (.putfield 13, 3) := by decide +kernel
theorem dX2_init_20 : decode cX2_init 20 = .ok (.aload_n 0, 1) := by decide +kernel
theorem dX2_init_21 : decode cX2_init 21 = .ok (.bipush 84, 2) := by decide +kernel
theorem dX2_init_23 : decode cX2_init 23 = .ok (.newarray .int, 2) := by decide +kernel
theorem dX2_init_25 : decode cX2_init 25 = .ok (.putfield 17, 3) := by decide +kernel
theorem dX2_init_28 : decode cX2_init 28 = .ok (.aload_n 0, 1) := by decide +kernel
theorem dX2_init_29 : decode cX2_init 29 = .ok (.bipush 84, 2) := by decide +kernel
theorem dX2_init_31 : decode cX2_init 31 = .ok (.newarray .int, 2) := by decide +kernel
theorem dX2_init_33 : decode cX2_init 33 = .ok (.putfield 20, 3) := by decide +kernel
theorem dX2_init_36 : decode cX2_init 36 = .ok (.aload_n 0, 1) := by decide +kernel
theorem dX2_init_37 : decode cX2_init 37 = .ok (.sipush 504, 3) := by decide +kernel
theorem dX2_init_40 : decode cX2_init 40 = .ok (.newarray .int, 2) := by decide +kernel
theorem dX2_init_42 : decode cX2_init 42 = .ok (.putfield 23, 3) := by decide +kernel
theorem dX2_init_45 : decode cX2_init 45 = .ok (.iload_n 1, 1) := by decide +kernel
theorem dX2_init_46 : decode cX2_init 46 = .ok (.istore_n 3, 1) := by decide +kernel
theorem dX2_init_47 : decode cX2_init 47 = .ok (.iload_n 3, 1) := by decide +kernel
theorem dX2_init_48 : decode cX2_init 48 = .ok (.iconst 1, 1) := by decide +kernel
theorem dX2_init_49 : decode cX2_init 49 = .ok (.if_icmp .ge 5, 3) := by decide +kernel
theorem dX2_init_52 : decode cX2_init 52 = .ok (.iconst 1, 1) := by decide +kernel
theorem dX2_init_53 : decode cX2_init 53 = .ok (.istore_n 3, 1) := by decide +kernel
theorem dX2_init_54 : decode cX2_init 54 = .ok (.iload_n 3, 1) := by decide +kernel
theorem dX2_init_55 : decode cX2_init 55 = .ok (.iconst 4, 1) := by decide +kernel
theorem dX2_init_56 : decode cX2_init 56 = .ok (.if_icmp .le 5, 3) := by decide +kernel
theorem dX2_init_59 : decode cX2_init 59 = .ok (.iconst 4, 1) := by decide +kernel
theorem dX2_init_60 : decode cX2_init 60 = .ok (.istore_n 3, 1) := by decide +kernel
theorem dX2_init_61 : decode cX2_init 61 = .ok (.aload_n 0, 1) := by decide +kernel
theorem dX2_init_62 : decode cX2_init 62 = .ok (.iload_n 3, 1) := by decide +kernel
theorem dX2_init_63 : decode cX2_init 63 = .ok (.putfield 26, 3) := by decide +kernel
theorem dX2_init_66 : decode cX2_init 66 = .ok (.aload_n 0, 1) := by decide +kernel
theorem dX2_init_67 : decode cX2_init 67 = .ok (.iload_n 2, 1) := by decide +kernel
theorem dX2_init_68 : decode cX2_init 68 = .ok (.putfield 30, 3) := by decide +kernel
theorem dX2_init_71 : decode cX2_init 71 = .ok (.iconst 0, 1) := by decide +kernel
theorem dX2_init_72 : decode cX2_init 72 = .ok (.istore 4, 2) := by decide +kernel
theorem dX2_init_74 : decode cX2_init 74 = .ok (.iload 4, 2) := by decide +kernel
theorem dX2_init_76 : decode cX2_init 76 = .ok (.bipush 84, 2) := by decide +kernel
theorem dX2_init_78 : decode cX2_init 78 = .ok (.if_icmp .ge 17, 3) := by decide +kernel
theorem dX2_init_81 : decode cX2_init 81 = .ok (.aload_n 0, 1) := by decide +kernel
theorem dX2_init_82 : decode cX2_init 82 = .ok (.getfield 13, 3) := by decide +kernel
theorem dX2_init_85 : decode cX2_init 85 = .ok (.iload 4, 2) := by decide +kernel
theorem dX2_init_87 : decode cX2_init 87 = .ok (.iconst 1, 1) := by decide +kernel
theorem dX2_init_88 : decode cX2_init 88 = .ok (.bastore, 1) := by decide +kernel
theorem dX2_init_89 : decode cX2_init 89 = .ok (.iinc 4 1, 3) := by decide +kernel
theorem dX2_init_92 : decode cX2_init 92 = .ok (.goto (-18), 3) := by decide +kernel
theorem dX2_init_95 : decode cX2_init 95 = .ok (.return_, 1) := by decide +kernel
theorem dX2_setNull_0 : decode cX2_setNull 0 = .ok (.aload_n 0, 1) := by decide +kernel
theorem dX2_setNull_1 : decode cX2_setNull 1 = .ok (.iload_n 1, 1) := by decide +kernel
theorem dX2_setNull_2 : decode cX2_setNull 2 = .ok (.invokevirtual 33, 3) := by decide +kernel
theorem dX2_setNull_5 : decode cX2_setNull 5 = .ok (.ifCond .eq 5, 3) := by decide +kernel
theorem dX2_setNull_8 : decode cX2_setNull 8 = .ok (.iconst (-1), 1) := by decide +kernel
theorem dX2_setNull_9 : decode cX2_setNull 9 = .ok (.ireturn, 1) := by decide +kernel
theorem dX2_setNull_10 : decode cX2_setNull 10 = .ok (.aload_n 0, 1) := by decide +kernel
theorem dX2_setNull_11 : decode cX2_setNull 11 = .ok (.getfield 13, 3) := by decide +kernel
theorem dX2_setNull_14 : decode cX2_setNull 14 = .ok (.bipush 80, 2) := by decide +kernel
theorem dX2_setNull_16 : decode cX2_setNull 16 = .ok (.iload_n 1, 1) := by decide +kernel
theorem dX2_setNull_17 : decode cX2_setNull 17 = .ok (.iadd, 1) := by decide +kernel
theorem dX2_setNull_18 : decode cX2_setNull 18 = .ok (.iconst 1, 1) := by decide +kernel
theorem dX2_setNull_19 : decode cX2_setNull 19 = .ok (.bastore, 1) := by decide +kernel
theorem dX2_setNull_20 : decode cX2_setNull 20 = .ok (.iconst 0, 1) := by decide +kernel
theorem dX2_setNull_21 : decode cX2_setNull 21 = .ok (.ireturn, 1) := by decide +kernel
theorem dX2_bad_0 : decode cX2_bad 0 = .ok (.iload_n 1, 1) := by decide +kernel
theorem dX2_bad_1 : decode cX2_bad 1 = .ok (.ifCond .lt 11, 3) := by decide +kernel
theorem dX2_bad_4 : decode cX2_bad 4 = .ok (.iload_n 1, 1) := by decide +kernel
theorem dX2_bad_5 : decode cX2_bad 5 = .ok (.aload_n 0, 1) := by decide +kernel
theorem dX2_bad_6 : decode cX2_bad 6 = .ok (.getfield 26, 3) := by decide +kernel
theorem dX2_bad_9 : decode cX2_bad 9 = .ok (.if_icmp .lt 7, 3) := by decide +kernel
theorem dX2_bad_12 : decode cX2_bad 12 = .ok (.iconst 1, 1) := by decide +kernel
theorem dX2_bad_13 : decode cX2_bad 13 = .ok (.goto 4, 3) := by decide +kernel
theorem dX2_bad_16 : decode cX2_bad 16 = .ok (.iconst 0, 1) := by decide +kernel
theorem dX2_bad_17 : decode cX2_bad 17 = .ok (.ireturn, 1) := by decide +kernel
theorem dX2_setInt_0 : decode cX2_setInt 0 = .ok (.aload_n 0, 1) := by decide +kernel
theorem dX2_setInt_1 : decode cX2_setInt 1 = .ok (.iload_n 1, 1) := by decide +kernel
theorem dX2_setInt_2 : decode cX2_setInt 2 = .ok (.invokevirtual 33, 3) := by decide +kernel
theorem dX2_setInt_5 : decode cX2_setInt 5 = .ok (.ifCond .eq 5, 3) := by decide +kernel
theorem dX2_setInt_8 : decode cX2_setInt 8 = .ok (.iconst (-1), 1) := by decide +kernel
theorem dX2_setInt_9 : decode cX2_setInt 9 = .ok (.ireturn, 1) := by decide +kernel
theorem dX2_setInt_10 : decode cX2_setInt 10 = .ok (.aload_n 0, 1) := by decide +kernel
theorem dX2_setInt_11 : decode cX2_setInt 11 = .ok (.iload_n 1, 1) := by decide +kernel
theorem dX2_setInt_12 : decode cX2_setInt 12 = .ok (.invokevirtual 37, 3) := by decide +kernel
theorem dX2_setInt_15 : decode cX2_setInt 15 = .ok (.ifCond .eq 6, 3) := by decide +kernel
theorem dX2_setInt_18 : decode cX2_setInt 18 = .ok (.bipush (-2), 2) := by decide +kernel
theorem dX2_setInt_20 : decode cX2_setInt 20 = .ok (.ireturn, 1) := by decide +kernel
theorem dX2_setInt_21 : decode cX2_setInt 21 = .ok (.aload_n 0, 1) := by decide +kernel
theorem dX2_setInt_22 : decode cX2_setInt 22 = .ok (.getfield 13, 3) := by decide +kernel
theorem dX2_setInt_25 : decode cX2_setInt 25 = .ok (.bipush 80, 2) := by decide +kernel
theorem dX2_setInt_27 : decode cX2_setInt 27 = .ok (.iload_n 1, 1) := by decide +kernel
theorem dX2_setInt_28 : decode cX2_setInt 28 = .ok (.iadd, 1) := by decide +kernel
theorem dX2_setInt_29 : decode cX2_setInt 29 = .ok (.iconst 0, 1) := by decide +kernel
theorem dX2_setInt_30 : decode cX2_setInt 30 = .ok (.bastore, 1) := by decide +kernel
theorem dX2_setInt_31 : decode cX2_setInt 31 = .ok (.aload_n 0, 1) := by decide +kernel
theorem dX2_setInt_32 : decode cX2_setInt 32 = .ok (.getfield 17, 3) := by decide +kernel
theorem dX2_setInt_35 : decode cX2_setInt 35 = .ok (.bipush 80, 2) := by decide +kernel
theorem dX2_setInt_37 : decode cX2_setInt 37 = .ok (.iload_n 1, 1) := by decide +kernel
theorem dX2_setInt_38 : decode cX2_setInt 38 = .ok (.iadd, 1) := by decide +kernel
theorem dX2_setInt_39 : decode cX2_setInt 39 = .ok (.iload_n 2, 1) := by decide +kernel
theorem dX2_setInt_40 : decode cX2_setInt 40 = .ok (.iastore, 1) := by decide +kernel
theorem dX2_setInt_41 : decode cX2_setInt 41 = .ok (.iconst 0, 1) := by decide +kernel
theorem dX2_setInt_42 : decode cX2_setInt 42 = .ok (.ireturn, 1) := by decide +kernel
theorem dX2_text_0 : decode cX2_text 0 = .ok (.aload_n 0, 1) := by decide +kernel
theorem dX2_text_1 : decode cX2_text 1 = .ok (.getfield 30, 3) := by decide +kernel
theorem dX2_text_4 : decode cX2_text 4 = .ok (.iconst 4, 1) := by decide +kernel
theorem dX2_text_5 : decode cX2_text 5 = .ok (.iload_n 1, 1) := by decide +kernel
theorem dX2_text_6 : decode cX2_text 6 = .ok (.imul, 1) := by decide +kernel
theorem dX2_text_7 : decode cX2_text 7 = .ok (.ishr, 1) := by decide +kernel
theorem dX2_text_8 : decode cX2_text 8 = .ok (.iconst 1, 1) := by decide +kernel
theorem dX2_text_9 : decode cX2_text 9 = .ok (.iand, 1) := by decide +kernel
theorem dX2_text_10 : decode cX2_text 10 = .ok (.iconst 1, 1) := by decide +kernel
theorem dX2_text_11 : decode cX2_text 11 = .ok (.if_icmp .ne 7, 3) := by decide +kernel
theorem dX2_text_14 : decode cX2_text 14 = .ok (.iconst 1, 1) := by decide +kernel
theorem dX2_text_15 : decode cX2_text 15 = .ok (.goto 4, 3) := by decide +kernel
theorem dX2_text_18 : decode cX2_text 18 = .ok (.iconst 0, 1) := by decide +kernel
theorem dX2_text_19 : decode cX2_text 19 = .ok (.ireturn, 1) := by decide +kernel
theorem dX2_setText_0 : decode cX2_setText 0 = .ok (.aload_n 0, 1) := by decide +kernel
theorem dX2_setText_1 : decode cX2_setText 1 = .ok (.iload_n 1, 1) := by decide +kernel
theorem dX2_setText_2 : decode cX2_setText 2 = .ok (.invokevirtual 33, 3) := by decide +kernel
theorem dX2_setText_5 : decode cX2_setText 5 = .ok (.ifCond .eq 5, 3) := by decide +kernel
theorem dX2_setText_8 : decode cX2_setText 8 = .ok (.iconst (-1), 1) := by decide +kernel
theorem dX2_setText_9 : decode cX2_setText 9 = .ok (.ireturn, 1) := by decide +kernel
theorem dX2_setText_10 : decode cX2_setText 10 = .ok (.aload_n 0, 1) := by decide +kernel
theorem dX2_setText_11 : decode cX2_setText 11 = .ok (.iload_n 1, 1) := by decide +kernel
theorem dX2_setText_12 : decode cX2_setText 12 = .ok (.invokevirtual 37, 3) := by decide +kernel
theorem dX2_setText_15 : decode cX2_setText 15 = .ok (.ifCond .ne 6, 3) := by decide +kernel
theorem dX2_setText_18 : decode cX2_setText 18 = .ok (.bipush (-2), 2) := by decide +kernel
theorem dX2_setText_20 : decode cX2_setText 20 = .ok (.ireturn, 1) := by decide +kernel
theorem dX2_setText_21 : decode cX2_setText 21 = .ok (.aload_n 0, 1) := by decide +kernel
theorem dX2_setText_22 : decode cX2_setText 22 = .ok (.getfield 13, 3) := by decide +kernel
theorem dX2_setText_25 : decode cX2_setText 25 = .ok (.bipush 80, 2) := by decide +kernel
theorem dX2_setText_27 : decode cX2_setText 27 = .ok (.iload_n 1, 1) := by decide +kernel
theorem dX2_setText_28 : decode cX2_setText 28 = .ok (.iadd, 1) := by decide +kernel
theorem dX2_setText_29 : decode cX2_setText 29 = .ok (.iconst 0, 1) := by decide +kernel
theorem dX2_setText_30 : decode cX2_setText 30 = .ok (.bastore, 1) := by decide +kernel
theorem dX2_setText_31 : decode cX2_setText 31 = .ok (.aload_n 0, 1) := by decide +kernel
theorem dX2_setText_32 : decode cX2_setText 32 = .ok (.getfield 20, 3) := by decide +kernel
theorem dX2_setText_35 : decode cX2_setText 35 = .ok (.bipush 80, 2) := by decide +kernel
theorem dX2_setText_37 : decode cX2_setText 37 = .ok (.iload_n 1, 1) := by decide +kernel
theorem dX2_setText_38 : decode cX2_setText 38 = .ok (.iadd, 1) := by decide +kernel
theorem dX2_setText_39 : decode cX2_setText 39 = .ok (.iconst 0, 1) := by decide +kernel
theorem dX2_setText_40 : decode cX2_setText 40 = .ok (.iastore, 1) := by decide +kernel
theorem dX2_setText_41 : decode cX2_setText 41 = .ok (.iconst 0, 1) := by decide +kernel
theorem dX2_setText_42 : decode cX2_setText 42 = .ok (.ireturn, 1) := by decide +kernel
theorem dX2_append_0 : decode cX2_append 0 = .ok (.aload_n 0, 1) := by decide +kernel
theorem dX2_append_1 : decode cX2_append 1 = .ok (.iload_n 1, 1) := by decide +kernel
theorem dX2_append_2 : decode cX2_append 2 = .ok (.invokevirtual 33, 3) := by decide +kernel
theorem dX2_append_5 : decode cX2_append 5 = .ok (.ifCond .eq 5, 3) := by decide +kernel
theorem dX2_append_8 : decode cX2_append 8 = .ok (.iconst (-1), 1) := by decide +kernel
theorem dX2_append_9 : decode cX2_append 9 = .ok (.ireturn, 1) := by decide +kernel
theorem dX2_append_10 : decode cX2_append 10 = .ok (.aload_n 0, 1) := by decide +kernel
theorem dX2_append_11 : decode cX2_append 11 = .ok (.iload_n 1, 1) := by decide +kernel
theorem dX2_append_12 : decode cX2_append 12 = .ok (.invokevirtual 37, 3) := by decide +kernel
theorem dX2_append_15 : decode cX2_append 15 = .ok (.ifCond .eq 15, 3) := by decide +kernel
theorem dX2_append_18 : decode cX2_append 18 = .ok (.aload_n 0, 1) := by decide +kernel
theorem dX2_append_19 : decode cX2_append 19 = .ok (.getfield 13, 3) := by decide +kernel
theorem dX2_append_22 : decode cX2_append 22 = .ok (.bipush 80, 2) := by decide +kernel
theorem dX2_append_24 : decode cX2_append 24 = .ok (.iload_n 1, 1) := by decide +kernel
theorem dX2_append_25 : decode cX2_append 25 = .ok (.iadd, 1) := by decide +kernel
theorem dX2_append_26 : decode cX2_append 26 = .ok (.baload, 1) := by decide +kernel
theorem dX2_append_27 : decode cX2_append 27 = .ok (.ifCond .eq 6, 3) := by decide +kernel
theorem dX2_append_30 : decode cX2_append 30 = .ok (.bipush (-2), 2) := by decide +kernel
theorem dX2_append_32 : decode cX2_append 32 = .ok (.ireturn, 1) := by decide +kernel
theorem dX2_append_33 : decode cX2_append 33 = .ok (.iload_n 2, 1) := by decide +kernel
theorem dX2_append_34 : decode cX2_append 34 = .ok (.ifCond .lt 10, 3) := by decide +kernel
theorem dX2_append_37 : decode cX2_append 37 = .ok (.iload_n 2, 1) := by decide +kernel
theorem dX2_append_38 : decode cX2_append 38 = .ok (.sipush 255, 3) := by decide +kernel
theorem dX2_append_41 : decode cX2_append 41 = .ok (.if_icmp .le 6, 3) := by decide +kernel
theorem dX2_append_44 : decode cX2_append 44 = .ok (.bipush (-4), 2) := by decide +kernel
theorem dX2_append_46 : decode cX2_append 46 = .ok (.ireturn, 1) := by decide +kernel
theorem dX2_append_47 : decode cX2_append 47 = .ok (.aload_n 0, 1) := by decide +kernel
theorem dX2_append_48 : decode cX2_append 48 = .ok (.getfield 20, 3) := by decide +kernel
theorem dX2_append_51 : decode cX2_append 51 = .ok (.bipush 80, 2) := by decide +kernel
theorem dX2_append_53 : decode cX2_append 53 = .ok (.iload_n 1, 1) := by decide +kernel
theorem dX2_append_54 : decode cX2_append 54 = .ok (.iadd, 1) := by decide +kernel
theorem dX2_append_55 : decode cX2_append 55 = .ok (.iaload, 1) := by decide +kernel
theorem dX2_append_56 : decode cX2_append 56 = .ok (.istore_n 3, 1) := by decide +kernel
theorem dX2_append_57 : decode cX2_append 57 = .ok (.iload_n 3, 1) := by decide +kernel
theorem dX2_append_58 : decode cX2_append 58 = .ok (.bipush 6, 2) := by decide +kernel
theorem dX2_append_60 : decode cX2_append 60 = .ok (.if_icmp .ne 6, 3) := by decide +kernel
theorem dX2_append_63 : decode cX2_append 63 = .ok (.bipush (-3), 2) := by decide +kernel
theorem dX2_append_65 : decode cX2_append 65 = .ok (.ireturn, 1) := by decide +kernel
theorem dX2_append_66 : decode cX2_append 66 = .ok (.aload_n 0, 1) := by decide +kernel
theorem dX2_append_67 : decode cX2_append 67 = .ok (.getfield 23, 3) := by decide +kernel
theorem dX2_append_70 : decode cX2_append 70 = .ok (.bipush 80, 2) := by decide +kernel
theorem dX2_append_72 : decode cX2_append 72 = .ok (.iload_n 1, 1) := by decide +kernel
theorem dX2_append_73 : decode cX2_append 73 = .ok (.iadd, 1) := by decide +kernel
theorem dX2_append_74 : decode cX2_append 74 = .ok (.bipush 6, 2) := by decide +kernel
theorem dX2_append_76 : decode cX2_append 76 = .ok (.imul, 1) := by decide +kernel
theorem dX2_append_77 : decode cX2_append 77 = .ok (.iload_n 3, 1) := by decide +kernel
theorem dX2_append_78 : decode cX2_append 78 = .ok (.iadd, 1) := by decide +kernel
theorem dX2_append_79 : decode cX2_append 79 = .ok (.iload_n 2, 1) := by decide +kernel
theorem dX2_append_80 : decode cX2_append 80 = .ok (.iastore, 1) := by decide +kernel
theorem dX2_append_81 : decode cX2_append 81 = .ok (.aload_n 0, 1) := by decide +kernel
theorem dX2_append_82 : decode cX2_append 82 = .ok (.getfield 20, 3) := by decide +kernel
theorem dX2_append_85 : decode cX2_append 85 = .ok (.bipush 80, 2) := by decide +kernel
theorem dX2_append_87 : decode cX2_append 87 = .ok (.iload_n 1, 1) := by decide +kernel
theorem dX2_append_88 : decode cX2_append 88 = .ok (.iadd, 1) := by decide +kernel
theorem dX2_append_89 : decode cX2_append 89 = .ok (.iload_n 3, 1) := by decide +kernel
theorem dX2_append_90 : decode cX2_append 90 = .ok (.iconst 1, 1) := by decide +kernel
theorem dX2_append_91 : decode cX2_append 91 = .ok (.iadd, 1) := by decide +kernel
theorem dX2_append_92 : decode cX2_append 92 = .ok (.iastore, 1) := by decide +kernel
theorem dX2_append_93 : decode cX2_append 93 = .ok (.iload_n 3, 1) := by decide +kernel
theorem dX2_append_94 : decode cX2_append 94 = .ok (.iconst 1, 1) := by decide +kernel
theorem dX2_append_95 : decode cX2_append 95 = .ok (.iadd, 1) := by decide +kernel
theorem dX2_append_96 : decode cX2_append 96 = .ok (.ireturn, 1) := by decide +kernel
theorem dX2_add_0 : decode cX2_add 0 = .ok (.aload_n 0, 1) := by decide +kernel
theorem dX2_add_1 : decode cX2_add 1 = .ok (.getfield 48, 3) := by decide +kernel
theorem dX2_add_4 : decode cX2_add 4 = .ok (.bipush 20, 2) := by decide +kernel
theorem dX2_add_6 : decode cX2_add 6 = .ok (.if_icmp .ne 6, 3) := by decide +kernel
theorem dX2_add_9 : decode cX2_add 9 = .ok (.bipush (-3), 2) := by decide +kernel
theorem dX2_add_11 : decode cX2_add 11 = .ok (.ireturn, 1) := by decide +kernel
theorem dX2_add_12 : decode cX2_add 12 = .ok (.aload_n 0, 1) := by decide +kernel
theorem dX2_add_13 : decode cX2_add 13 = .ok (.bipush 20, 2) := by decide +kernel
theorem dX2_add_15 : decode cX2_add 15 = .ok (.aload_n 0, 1) := by decide +kernel
theorem dX2_add_16 : decode cX2_add 16 = .ok (.getfield 48, 3) := by decide +kernel
theorem dX2_add_19 : decode cX2_add 19 = .ok (.invokevirtual 58, 3) := by decide +kernel
theorem dX2_add_22 : decode cX2_add 22 = .ok (.aload_n 0, 1) := by decide +kernel
theorem dX2_add_23 : decode cX2_add 23 = .ok (.getfield 7, 3) := by decide +kernel
theorem dX2_add_26 : decode cX2_add 26 = .ok (.aload_n 0, 1) := by decide +kernel
theorem dX2_add_27 : decode cX2_add 27 = .ok (.getfield 48, 3) := by decide +kernel
theorem dX2_add_30 : decode cX2_add 30 = .ok (.iload_n 1, 1) := by decide +kernel
theorem dX2_add_31 : decode cX2_add 31 = .ok (.iastore, 1) := by decide +kernel
theorem dX2_add_32 : decode cX2_add 32 = .ok (.aload_n 0, 1) := by decide +kernel
theorem dX2_add_33 : decode cX2_add 33 = .ok (.aload_n 0, 1) := by decide +kernel
theorem dX2_add_34 : decode cX2_add 34 = .ok (.getfield 48, 3) := by decide +kernel
theorem dX2_add_37 : decode cX2_add 37 = .ok (.iconst 1, 1) := by decide +kernel
theorem dX2_add_38 : decode cX2_add 38 = .ok (.iadd, 1) := by decide +kernel
theorem dX2_add_39 : decode cX2_add 39 = .ok (.putfield 48, 3) := by decide +kernel
theorem dX2_add_42 : decode cX2_add 42 = .ok (.aload_n 0, 1) := by decide +kernel
theorem dX2_add_43 : decode cX2_add 43 = .ok (.aload_n 0, 1) := by decide +kernel
theorem dX2_add_44 : decode cX2_add 44 = .ok (.getfield 48, 3) := by decide +kernel
theorem dX2_add_47 : decode cX2_add 47 = .ok (.iconst 1, 1) := by decide +kernel
theorem dX2_add_48 : decode cX2_add 48 = .ok (.isub, 1) := by decide +kernel
theorem dX2_add_49 : decode cX2_add 49 = .ok (.invokevirtual 54, 3) := by decide +kernel
theorem dX2_add_52 : decode cX2_add 52 = .ok (.ireturn, 1) := by decide +kernel
theorem dX2_copy_0 : decode cX2_copy 0 = .ok (.iconst 0, 1) := by decide +kernel
theorem dX2_copy_1 : decode cX2_copy 1 = .ok (.istore_n 3, 1) := by decide +kernel
theorem dX2_copy_2 : decode cX2_copy 2 = .ok (.iload_n 3, 1) := by decide +kernel
theorem dX2_copy_3 : decode cX2_copy 3 = .ok (.iconst 4, 1) := by decide +kernel
theorem dX2_copy_4 : decode cX2_copy 4 = .ok (.if_icmp .ge 69, 3) := by decide +kernel
theorem dX2_copy_7 : decode cX2_copy 7 = .ok (.aload_n 0, 1) := by decide +kernel
theorem dX2_copy_8 : decode cX2_copy 8 = .ok (.getfield 13, 3) := by decide +kernel
theorem dX2_copy_11 : decode cX2_copy 11 = .ok (.iload_n 2, 1) := by decide +kernel
theorem dX2_copy_12 : decode cX2_copy 12 = .ok (.iconst 4, 1) := by decide +kernel
theorem dX2_copy_13 : decode cX2_copy 13 = .ok (.imul, 1) := by decide +kernel
theorem dX2_copy_14 : decode cX2_copy 14 = .ok (.iload_n 3, 1) := by decide +kernel
theorem dX2_copy_15 : decode cX2_copy 15 = .ok (.iadd, 1) := by decide +kernel
theorem dX2_copy_16 : decode cX2_copy 16 = .ok (.aload_n 0, 1) := by decide +kernel
theorem dX2_copy_17 : decode cX2_copy 17 = .ok (.getfield 13, 3) := by decide +kernel
theorem dX2_copy_20 : decode cX2_copy 20 = .ok (.iload_n 1, 1) := by decide +kernel
theorem dX2_copy_21 : decode cX2_copy 21 = .ok (.iconst 4, 1) := by decide +kernel
theorem dX2_copy_22 : decode cX2_copy 22 = .ok (.imul, 1) := by decide +kernel
theorem dX2_copy_23 : decode cX2_copy 23 = .ok (.iload_n 3, 1) := by decide +kernel
theorem dX2_copy_24 : decode cX2_copy 24 = .ok (.iadd, 1) := by decide +kernel
theorem dX2_copy_25 : decode cX2_copy 25 = .ok (.baload, 1) := by decide +kernel
end
section
set_option maxRecDepth 100000
theorem dX2_copy_26 : decode cX2_copy 26 = .ok (.bastore, 1) := by decide +kernel
theorem dX2_copy_27 : decode cX2_copy 27 = .ok (.aload_n 0, 1) := by decide +kernel
theorem dX2_copy_28 : decode cX2_copy 28 = .ok (.getfield 17, 3) := by decide +kernel
theorem dX2_copy_31 : decode cX2_copy 31 = .ok (.iload_n 2, 1) := by decide +kernel
theorem dX2_copy_32 : decode cX2_copy 32 = .ok (.iconst 4, 1) := by decide +kernel
theorem dX2_copy_33 : decode cX2_copy 33 = .ok (.imul, 1) := by decide +kernel
theorem dX2_copy_34 : decode cX2_copy 34 = .ok (.iload_n 3, 1) := by decide +kernel
theorem dX2_copy_35 : decode cX2_copy 35 = .ok (.iadd, 1) := by decide +kernel
theorem dX2_copy_36 : decode cX2_copy 36 = .ok (.aload_n 0, 1) := by decide +kernel
theorem dX2_copy_37 : decode cX2_copy 37 = .ok (.getfield 17, 3) := by decide +kernel
theorem dX2_copy_40 : decode cX2_copy 40 = .ok (.iload_n 1, 1) := by decide +kernel
theorem dX2_copy_41 : decode cX2_copy 41 = .ok (.iconst 4, 1) := by decide +kernel
theorem dX2_copy_42 : decode cX2_copy 42 = .ok (.imul, 1) := by decide +kernel
theorem dX2_copy_43 : decode cX2_copy 43 = .ok (.iload_n 3, 1) := by decide +kernel
theorem dX2_copy_44 : decode cX2_copy 44 = .ok (.iadd, 1) := by decide +kernel
theorem dX2_copy_45 : decode cX2_copy 45 = .ok (.iaload, 1) := by decide +kernel
theorem dX2_copy_46 : decode cX2_copy 46 = .ok (.iastore, 1) := by decide +kernel
theorem dX2_copy_47 : decode cX2_copy 47 = .ok (.aload_n 0, 1) := by decide +kernel
theorem dX2_copy_48 : decode cX2_copy 48 = .ok (.getfield 20, 3) := by decide +kernel
theorem dX2_copy_51 : decode cX2_copy 51 = .ok (.iload_n 2, 1) := by decide +kernel
theorem dX2_copy_52 : decode cX2_copy 52 = .ok (.iconst 4, 1) := by decide +kernel
theorem dX2_copy_53 : decode cX2_copy 53 = .ok (.imul, 1) := by decide +kernel
theorem dX2_copy_54 : decode cX2_copy 54 = .ok (.iload_n 3, 1) := by decide +kernel
theorem dX2_copy_55 : decode cX2_copy 55 = .ok (.iadd, 1) := by decide +kernel
theorem dX2_copy_56 : decode cX2_copy 56 = .ok (.aload_n 0, 1) := by decide +kernel
theorem dX2_copy_57 : decode cX2_copy 57 = .ok (.getfield 20, 3) := by decide +kernel
theorem dX2_copy_60 : decode cX2_copy 60 = .ok (.iload_n 1, 1) := by decide +kernel
theorem dX2_copy_61 : decode cX2_copy 61 = .ok (.iconst 4, 1) := by decide +kernel
theorem dX2_copy_62 : decode cX2_copy 62 = .ok (.imul, 1) := by decide +kernel
theorem dX2_copy_63 : decode cX2_copy 63 = .ok (.iload_n 3, 1) := by decide +kernel
theorem dX2_copy_64 : decode cX2_copy 64 = .ok (.iadd, 1) := by decide +kernel
theorem dX2_copy_65 : decode cX2_copy 65 = .ok (.iaload, 1) := by decide +kernel
theorem dX2_copy_66 : decode cX2_copy 66 = .ok (.iastore, 1) := by decide +kernel
theorem dX2_copy_67 : decode cX2_copy 67 = .ok (.iinc 3 1, 3) := by decide +kernel
theorem dX2_copy_70 : decode cX2_copy 70 = .ok (.goto (-68), 3) := by decide +kernel
theorem dX2_copy_73 : decode cX2_copy 73 = .ok (.iconst 0, 1) := by decide +kernel
theorem dX2_copy_74 : decode cX2_copy 74 = .ok (.istore_n 3, 1) := by decide +kernel
theorem dX2_copy_75 : decode cX2_copy 75 = .ok (.iload_n 3, 1) := by decide +kernel
theorem dX2_copy_76 : decode cX2_copy 76 = .ok (.bipush 24, 2) := by decide +kernel
theorem dX2_copy_78 : decode cX2_copy 78 = .ok (.if_icmp .ge 31, 3) := by decide +kernel
theorem dX2_copy_81 : decode cX2_copy 81 = .ok (.aload_n 0, 1) := by decide +kernel
theorem dX2_copy_82 : decode cX2_copy 82 = .ok (.getfield 23, 3) := by decide +kernel
theorem dX2_copy_85 : decode cX2_copy 85 = .ok (.iload_n 2, 1) := by decide +kernel
theorem dX2_copy_86 : decode cX2_copy 86 = .ok (.bipush 24, 2) := by decide +kernel
theorem dX2_copy_88 : decode cX2_copy 88 = .ok (.imul, 1) := by decide +kernel
theorem dX2_copy_89 : decode cX2_copy 89 = .ok (.iload_n 3, 1) := by decide +kernel
theorem dX2_copy_90 : decode cX2_copy 90 = .ok (.iadd, 1) := by decide +kernel
theorem dX2_copy_91 : decode cX2_copy 91 = .ok (.aload_n 0, 1) := by decide +kernel
theorem dX2_copy_92 : decode cX2_copy 92 = .ok (.getfield 23, 3) := by decide +kernel
theorem dX2_copy_95 : decode cX2_copy 95 = .ok (.iload_n 1, 1) := by decide +kernel
theorem dX2_copy_96 : decode cX2_copy 96 = .ok (.bipush 24, 2) := by decide +kernel
theorem dX2_copy_98 : decode cX2_copy 98 = .ok (.imul, 1) := by decide +kernel
theorem dX2_copy_99 : decode cX2_copy 99 = .ok (.iload_n 3, 1) := by decide +kernel
theorem dX2_copy_100 : decode cX2_copy 100 = .ok (.iadd, 1) := by decide +kernel
theorem dX2_copy_101 : decode cX2_copy 101 = .ok (.iaload, 1) := by decide +kernel
theorem dX2_copy_102 : decode cX2_copy 102 = .ok (.iastore, 1) := by decide +kernel
theorem dX2_copy_103 : decode cX2_copy 103 = .ok (.iinc 3 1, 3) := by decide +kernel
theorem dX2_copy_106 : decode cX2_copy 106 = .ok (.goto (-31), 3) := by decide +kernel
theorem dX2_copy_109 : decode cX2_copy 109 = .ok (.return_, 1) := by decide +kernel
theorem dX2_place_0 : decode cX2_place 0 = .ok (.iconst 0, 1) := by decide +kernel
theorem dX2_place_1 : decode cX2_place 1 = .ok (.istore_n 2, 1) := by decide +kernel
theorem dX2_place_2 : decode cX2_place 2 = .ok (.iconst 0, 1) := by decide +kernel
theorem dX2_place_3 : decode cX2_place 3 = .ok (.istore_n 3, 1) := by decide +kernel
theorem dX2_place_4 : decode cX2_place 4 = .ok (.iload_n 3, 1) := by decide +kernel
theorem dX2_place_5 : decode cX2_place 5 = .ok (.aload_n 0, 1) := by decide +kernel
theorem dX2_place_6 : decode cX2_place 6 = .ok (.getfield 48, 3) := by decide +kernel
theorem dX2_place_9 : decode cX2_place 9 = .ok (.if_icmp .ge 39, 3) := by decide +kernel
theorem dX2_place_12 : decode cX2_place 12 = .ok (.aload_n 0, 1) := by decide +kernel
theorem dX2_place_13 : decode cX2_place 13 = .ok (.iload_n 3, 1) := by decide +kernel
theorem dX2_place_14 : decode cX2_place 14 = .ok (.iload_n 1, 1) := by decide +kernel
theorem dX2_place_15 : decode cX2_place 15 = .ok (.aload_n 0, 1) := by decide +kernel
theorem dX2_place_16 : decode cX2_place 16 = .ok (.getfield 26, 3) := by decide +kernel
theorem dX2_place_19 : decode cX2_place 19 = .ok (.invokevirtual 51, 3) := by decide +kernel
theorem dX2_place_22 : decode cX2_place 22 = .ok (.istore 4, 2) := by decide +kernel
theorem dX2_place_24 : decode cX2_place 24 = .ok (.iload 4, 2) := by decide +kernel
theorem dX2_place_26 : decode cX2_place 26 = .ok (.ifCond .lt 13, 3) := by decide +kernel
theorem dX2_place_29 : decode cX2_place 29 = .ok (.iload 4, 2) := by decide +kernel
theorem dX2_place_31 : decode cX2_place 31 = .ok (.ifCond .ne 11, 3) := by decide +kernel
theorem dX2_place_34 : decode cX2_place 34 = .ok (.iload_n 3, 1) := by decide +kernel
theorem dX2_place_35 : decode cX2_place 35 = .ok (.iload_n 1, 1) := by decide +kernel
theorem dX2_place_36 : decode cX2_place 36 = .ok (.if_icmp .ge 6, 3) := by decide +kernel
theorem dX2_place_39 : decode cX2_place 39 = .ok (.iinc 2 1, 3) := by decide +kernel
theorem dX2_place_42 : decode cX2_place 42 = .ok (.iinc 3 1, 3) := by decide +kernel
theorem dX2_place_45 : decode cX2_place 45 = .ok (.goto (-41), 3) := by decide +kernel
theorem dX2_place_48 : decode cX2_place 48 = .ok (.iload_n 2, 1) := by decide +kernel
theorem dX2_place_49 : decode cX2_place 49 = .ok (.ireturn, 1) := by decide +kernel
theorem dX2_compare_0 : decode cX2_compare 0 = .ok (.iconst 0, 1) := by decide +kernel
theorem dX2_compare_1 : decode cX2_compare 1 = .ok (.istore 4, 2) := by decide +kernel
theorem dX2_compare_3 : decode cX2_compare 3 = .ok (.iload 4, 2) := by decide +kernel
theorem dX2_compare_5 : decode cX2_compare 5 = .ok (.iload_n 3, 1) := by decide +kernel
theorem dX2_compare_6 : decode cX2_compare 6 = .ok (.if_icmp .ge 27, 3) := by decide +kernel
theorem dX2_compare_9 : decode cX2_compare 9 = .ok (.aload_n 0, 1) := by decide +kernel
theorem dX2_compare_10 : decode cX2_compare 10 = .ok (.iload_n 1, 1) := by decide +kernel
theorem dX2_compare_11 : decode cX2_compare 11 = .ok (.iload_n 2, 1) := by decide +kernel
theorem dX2_compare_12 : decode cX2_compare 12 = .ok (.iload 4, 2) := by decide +kernel
theorem dX2_compare_14 : decode cX2_compare 14 = .ok (.invokevirtual 44, 3) := by decide +kernel
theorem dX2_compare_17 : decode cX2_compare 17 = .ok (.istore 5, 2) := by decide +kernel
theorem dX2_compare_19 : decode cX2_compare 19 = .ok (.iload 5, 2) := by decide +kernel
theorem dX2_compare_21 : decode cX2_compare 21 = .ok (.ifCond .eq 6, 3) := by decide +kernel
theorem dX2_compare_24 : decode cX2_compare 24 = .ok (.iload 5, 2) := by decide +kernel
theorem dX2_compare_26 : decode cX2_compare 26 = .ok (.ireturn, 1) := by decide +kernel
theorem dX2_compare_27 : decode cX2_compare 27 = .ok (.iinc 4 1, 3) := by decide +kernel
theorem dX2_compare_30 : decode cX2_compare 30 = .ok (.goto (-27), 3) := by decide +kernel
theorem dX2_compare_33 : decode cX2_compare 33 = .ok (.iconst 0, 1) := by decide +kernel
theorem dX2_compare_34 : decode cX2_compare 34 = .ok (.ireturn, 1) := by decide +kernel
theorem dX2_field_0 : decode cX2_field 0 = .ok (.iload_n 1, 1) := by decide +kernel
theorem dX2_field_1 : decode cX2_field 1 = .ok (.iconst 4, 1) := by decide +kernel
theorem dX2_field_2 : decode cX2_field 2 = .ok (.imul, 1) := by decide +kernel
theorem dX2_field_3 : decode cX2_field 3 = .ok (.iload_n 3, 1) := by decide +kernel
theorem dX2_field_4 : decode cX2_field 4 = .ok (.iadd, 1) := by decide +kernel
theorem dX2_field_5 : decode cX2_field 5 = .ok (.istore 4, 2) := by decide +kernel
theorem dX2_field_7 : decode cX2_field 7 = .ok (.iload_n 2, 1) := by decide +kernel
theorem dX2_field_8 : decode cX2_field 8 = .ok (.iconst 4, 1) := by decide +kernel
theorem dX2_field_9 : decode cX2_field 9 = .ok (.imul, 1) := by decide +kernel
theorem dX2_field_10 : decode cX2_field 10 = .ok (.iload_n 3, 1) := by decide +kernel
theorem dX2_field_11 : decode cX2_field 11 = .ok (.iadd, 1) := by decide +kernel
theorem dX2_field_12 : decode cX2_field 12 = .ok (.istore 5, 2) := by decide +kernel
theorem dX2_field_14 : decode cX2_field 14 = .ok (.aload_n 0, 1) := by decide +kernel
theorem dX2_field_15 : decode cX2_field 15 = .ok (.getfield 30, 3) := by decide +kernel
theorem dX2_field_18 : decode cX2_field 18 = .ok (.iconst 4, 1) := by decide +kernel
theorem dX2_field_19 : decode cX2_field 19 = .ok (.iload_n 3, 1) := by decide +kernel
theorem dX2_field_20 : decode cX2_field 20 = .ok (.imul, 1) := by decide +kernel
theorem dX2_field_21 : decode cX2_field 21 = .ok (.ishr, 1) := by decide +kernel
theorem dX2_field_22 : decode cX2_field 22 = .ok (.iconst 2, 1) := by decide +kernel
theorem dX2_field_23 : decode cX2_field 23 = .ok (.iand, 1) := by decide +kernel
theorem dX2_field_24 : decode cX2_field 24 = .ok (.iconst 2, 1) := by decide +kernel
theorem dX2_field_25 : decode cX2_field 25 = .ok (.if_icmp .ne 7, 3) := by decide +kernel
theorem dX2_field_28 : decode cX2_field 28 = .ok (.iconst 1, 1) := by decide +kernel
theorem dX2_field_29 : decode cX2_field 29 = .ok (.goto 4, 3) := by decide +kernel
theorem dX2_field_32 : decode cX2_field 32 = .ok (.iconst 0, 1) := by decide +kernel
theorem dX2_field_33 : decode cX2_field 33 = .ok (.istore 6, 2) := by decide +kernel
theorem dX2_field_35 : decode cX2_field 35 = .ok (.aload_n 0, 1) := by decide +kernel
theorem dX2_field_36 : decode cX2_field 36 = .ok (.getfield 30, 3) := by decide +kernel
theorem dX2_field_39 : decode cX2_field 39 = .ok (.iconst 4, 1) := by decide +kernel
theorem dX2_field_40 : decode cX2_field 40 = .ok (.iload_n 3, 1) := by decide +kernel
theorem dX2_field_41 : decode cX2_field 41 = .ok (.imul, 1) := by decide +kernel
theorem dX2_field_42 : decode cX2_field 42 = .ok (.ishr, 1) := by decide +kernel
theorem dX2_field_43 : decode cX2_field 43 = .ok (.iconst 4, 1) := by decide +kernel
theorem dX2_field_44 : decode cX2_field 44 = .ok (.iand, 1) := by decide +kernel
theorem dX2_field_45 : decode cX2_field 45 = .ok (.iconst 4, 1) := by decide +kernel
theorem dX2_field_46 : decode cX2_field 46 = .ok (.if_icmp .ne 7, 3) := by decide +kernel
theorem dX2_field_49 : decode cX2_field 49 = .ok (.iconst 1, 1) := by decide +kernel
theorem dX2_field_50 : decode cX2_field 50 = .ok (.goto 4, 3) := by decide +kernel
theorem dX2_field_53 : decode cX2_field 53 = .ok (.iconst 0, 1) := by decide +kernel
theorem dX2_field_54 : decode cX2_field 54 = .ok (.istore 7, 2) := by decide +kernel
theorem dX2_field_56 : decode cX2_field 56 = .ok (.aload_n 0, 1) := by decide +kernel
theorem dX2_field_57 : decode cX2_field 57 = .ok (.getfield 13, 3) := by decide +kernel
theorem dX2_field_60 : decode cX2_field 60 = .ok (.iload 4, 2) := by decide +kernel
theorem dX2_field_62 : decode cX2_field 62 = .ok (.baload, 1) := by decide +kernel
theorem dX2_field_63 : decode cX2_field 63 = .ok (.ifCond .eq 15, 3) := by decide +kernel
theorem dX2_field_66 : decode cX2_field 66 = .ok (.aload_n 0, 1) := by decide +kernel
theorem dX2_field_67 : decode cX2_field 67 = .ok (.getfield 13, 3) := by decide +kernel
theorem dX2_field_70 : decode cX2_field 70 = .ok (.iload 5, 2) := by decide +kernel
theorem dX2_field_72 : decode cX2_field 72 = .ok (.baload, 1) := by decide +kernel
theorem dX2_field_73 : decode cX2_field 73 = .ok (.ifCond .eq 5, 3) := by decide +kernel
theorem dX2_field_76 : decode cX2_field 76 = .ok (.iconst 0, 1) := by decide +kernel
theorem dX2_field_77 : decode cX2_field 77 = .ok (.ireturn, 1) := by decide +kernel
theorem dX2_field_78 : decode cX2_field 78 = .ok (.aload_n 0, 1) := by decide +kernel
theorem dX2_field_79 : decode cX2_field 79 = .ok (.getfield 13, 3) := by decide +kernel
theorem dX2_field_82 : decode cX2_field 82 = .ok (.iload 4, 2) := by decide +kernel
theorem dX2_field_84 : decode cX2_field 84 = .ok (.baload, 1) := by decide +kernel
theorem dX2_field_85 : decode cX2_field 85 = .ok (.ifCond .eq 14, 3) := by decide +kernel
theorem dX2_field_88 : decode cX2_field 88 = .ok (.iload 7, 2) := by decide +kernel
theorem dX2_field_90 : decode cX2_field 90 = .ok (.ifCond .eq 7, 3) := by decide +kernel
theorem dX2_field_93 : decode cX2_field 93 = .ok (.iconst (-1), 1) := by decide +kernel
theorem dX2_field_94 : decode cX2_field 94 = .ok (.goto 4, 3) := by decide +kernel
theorem dX2_field_97 : decode cX2_field 97 = .ok (.iconst 1, 1) := by decide +kernel
theorem dX2_field_98 : decode cX2_field 98 = .ok (.ireturn, 1) := by decide +kernel
theorem dX2_field_99 : decode cX2_field 99 = .ok (.aload_n 0, 1) := by decide +kernel
theorem dX2_field_100 : decode cX2_field 100 = .ok (.getfield 13, 3) := by decide +kernel
theorem dX2_field_103 : decode cX2_field 103 = .ok (.iload 5, 2) := by decide +kernel
theorem dX2_field_105 : decode cX2_field 105 = .ok (.baload, 1) := by decide +kernel
theorem dX2_field_106 : decode cX2_field 106 = .ok (.ifCond .eq 14, 3) := by decide +kernel
theorem dX2_field_109 : decode cX2_field 109 = .ok (.iload 7, 2) := by decide +kernel
theorem dX2_field_111 : decode cX2_field 111 = .ok (.ifCond .eq 7, 3) := by decide +kernel
theorem dX2_field_114 : decode cX2_field 114 = .ok (.iconst 1, 1) := by decide +kernel
theorem dX2_field_115 : decode cX2_field 115 = .ok (.goto 4, 3) := by decide +kernel
theorem dX2_field_118 : decode cX2_field 118 = .ok (.iconst (-1), 1) := by decide +kernel
theorem dX2_field_119 : decode cX2_field 119 = .ok (.ireturn, 1) := by decide +kernel
theorem dX2_field_120 : decode cX2_field 120 = .ok (.aload_n 0, 1) := by decide +kernel
theorem dX2_field_121 : decode cX2_field 121 = .ok (.iload_n 3, 1) := by decide +kernel
theorem dX2_field_122 : decode cX2_field 122 = .ok (.invokevirtual 37, 3) := by decide +kernel
theorem dX2_field_125 : decode cX2_field 125 = .ok (.istore 8, 2) := by decide +kernel
theorem dX2_field_127 : decode cX2_field 127 = .ok (.aload_n 0, 1) := by decide +kernel
theorem dX2_field_128 : decode cX2_field 128 = .ok (.iload 4, 2) := by decide +kernel
theorem dX2_field_130 : decode cX2_field 130 = .ok (.iload 5, 2) := by decide +kernel
theorem dX2_field_132 : decode cX2_field 132 = .ok (.iload 8, 2) := by decide +kernel
theorem dX2_field_134 : decode cX2_field 134 = .ok (.invokevirtual 40, 3) := by decide +kernel
theorem dX2_field_137 : decode cX2_field 137 = .ok (.istore 9, 2) := by decide +kernel
theorem dX2_field_139 : decode cX2_field 139 = .ok (.iload 6, 2) := by decide +kernel
theorem dX2_field_141 : decode cX2_field 141 = .ok (.ifCond .eq 9, 3) := by decide +kernel
theorem dX2_field_144 : decode cX2_field 144 = .ok (.iload 9, 2) := by decide +kernel
theorem dX2_field_146 : decode cX2_field 146 = .ok (.ineg, 1) := by decide +kernel
theorem dX2_field_147 : decode cX2_field 147 = .ok (.goto 5, 3) := by decide +kernel
theorem dX2_field_150 : decode cX2_field 150 = .ok (.iload 9, 2) := by decide +kernel
theorem dX2_field_152 : decode cX2_field 152 = .ok (.ireturn, 1) := by decide +kernel
theorem dX2_values_0 : decode cX2_values 0 = .ok (.iload_n 3, 1) := by decide +kernel
theorem dX2_values_1 : decode cX2_values 1 = .ok (.ifCond .ne 43, 3) := by decide +kernel
theorem dX2_values_4 : decode cX2_values 4 = .ok (.aload_n 0, 1) := by decide +kernel
theorem dX2_values_5 : decode cX2_values 5 = .ok (.getfield 17, 3) := by decide +kernel
theorem dX2_values_8 : decode cX2_values 8 = .ok (.iload_n 1, 1) := by decide +kernel
theorem dX2_values_9 : decode cX2_values 9 = .ok (.iaload, 1) := by decide +kernel
theorem dX2_values_10 : decode cX2_values 10 = .ok (.aload_n 0, 1) := by decide +kernel
theorem dX2_values_11 : decode cX2_values 11 = .ok (.getfield 17, 3) := by decide +kernel
theorem dX2_values_14 : decode cX2_values 14 = .ok (.iload_n 2, 1) := by decide +kernel
theorem dX2_values_15 : decode cX2_values 15 = .ok (.iaload, 1) := by decide +kernel
theorem dX2_values_16 : decode cX2_values 16 = .ok (.if_icmp .ge 7, 3) := by decide +kernel
theorem dX2_values_19 : decode cX2_values 19 = .ok (.iconst (-1), 1) := by decide +kernel
theorem dX2_values_20 : decode cX2_values 20 = .ok (.goto 23, 3) := by decide +kernel
theorem dX2_values_23 : decode cX2_values 23 = .ok (.aload_n 0, 1) := by decide +kernel
theorem dX2_values_24 : decode cX2_values 24 = .ok (.getfield 17, 3) := by decide +kernel
theorem dX2_values_27 : decode cX2_values 27 = .ok (.iload_n 1, 1) := by decide +kernel
theorem dX2_values_28 : decode cX2_values 28 = .ok (.iaload, 1) := by decide +kernel
theorem dX2_values_29 : decode cX2_values 29 = .ok (.aload_n 0, 1) := by decide +kernel
theorem dX2_values_30 : decode cX2_values 30 = .ok (.getfield 17, 3) := by decide +kernel
theorem dX2_values_33 : decode cX2_values 33 = .ok (.iload_n 2, 1) := by decide +kernel
theorem dX2_values_34 : decode cX2_values 34 = .ok (.iaload, 1) := by decide +kernel
theorem dX2_values_35 : decode cX2_values 35 = .ok (.if_icmp .le 7, 3) := by decide +kernel
theorem dX2_values_38 : decode cX2_values 38 = .ok (.iconst 1, 1) := by decide +kernel
theorem dX2_values_39 : decode cX2_values 39 = .ok (.goto 4, 3) := by decide +kernel
theorem dX2_values_42 : decode cX2_values 42 = .ok (.iconst 0, 1) := by decide +kernel
theorem dX2_values_43 : decode cX2_values 43 = .ok (.ireturn, 1) := by decide +kernel
theorem dX2_values_44 : decode cX2_values 44 = .ok (.iconst 0, 1) := by decide +kernel
theorem dX2_values_45 : decode cX2_values 45 = .ok (.istore 4, 2) := by decide +kernel
theorem dX2_values_47 : decode cX2_values 47 = .ok (.iload 4, 2) := by decide +kernel
theorem dX2_values_49 : decode cX2_values 49 = .ok (.bipush 6, 2) := by decide +kernel
theorem dX2_values_51 : decode cX2_values 51 = .ok (.if_icmp .ge 87, 3) := by decide +kernel
theorem dX2_values_54 : decode cX2_values 54 = .ok (.iload 4, 2) := by decide +kernel
theorem dX2_values_56 : decode cX2_values 56 = .ok (.aload_n 0, 1) := by decide +kernel
theorem dX2_values_57 : decode cX2_values 57 = .ok (.getfield 20, 3) := by decide +kernel
theorem dX2_values_60 : decode cX2_values 60 = .ok (.iload_n 1, 1) := by decide +kernel
theorem dX2_values_61 : decode cX2_values 61 = .ok (.iaload, 1) := by decide +kernel
theorem dX2_values_62 : decode cX2_values 62 = .ok (.if_icmp .ge 18, 3) := by decide +kernel
theorem dX2_values_65 : decode cX2_values 65 = .ok (.aload_n 0, 1) := by decide +kernel
theorem dX2_values_66 : decode cX2_values 66 = .ok (.getfield 23, 3) := by decide +kernel
theorem dX2_values_69 : decode cX2_values 69 = .ok (.iload_n 1, 1) := by decide +kernel
theorem dX2_values_70 : decode cX2_values 70 = .ok (.bipush 6, 2) := by decide +kernel
theorem dX2_values_72 : decode cX2_values 72 = .ok (.imul, 1) := by decide +kernel
theorem dX2_values_73 : decode cX2_values 73 = .ok (.iload 4, 2) := by decide +kernel
theorem dX2_values_75 : decode cX2_values 75 = .ok (.iadd, 1) := by decide +kernel
theorem dX2_values_76 : decode cX2_values 76 = .ok (.iaload, 1) := by decide +kernel
theorem dX2_values_77 : decode cX2_values 77 = .ok (.goto 4, 3) := by decide +kernel
theorem dX2_values_80 : decode cX2_values 80 = .ok (.iconst (-1), 1) := by decide +kernel
theorem dX2_values_81 : decode cX2_values 81 = .ok (.istore 5, 2) := by decide +kernel
theorem dX2_values_83 : decode cX2_values 83 = .ok (.iload 4, 2) := by decide +kernel
theorem dX2_values_85 : decode cX2_values 85 = .ok (.aload_n 0, 1) := by decide +kernel
theorem dX2_values_86 : decode cX2_values 86 = .ok (.getfield 20, 3) := by decide +kernel
theorem dX2_values_89 : decode cX2_values 89 = .ok (.iload_n 2, 1) := by decide +kernel
theorem dX2_values_90 : decode cX2_values 90 = .ok (.iaload, 1) := by decide +kernel
theorem dX2_values_91 : decode cX2_values 91 = .ok (.if_icmp .ge 18, 3) := by decide +kernel
theorem dX2_values_94 : decode cX2_values 94 = .ok (.aload_n 0, 1) := by decide +kernel
theorem dX2_values_95 : decode cX2_values 95 = .ok (.getfield 23, 3) := by decide +kernel
theorem dX2_values_98 : decode cX2_values 98 = .ok (.iload_n 2, 1) := by decide +kernel
theorem dX2_values_99 : decode cX2_values 99 = .ok (.bipush 6, 2) := by decide +kernel
theorem dX2_values_101 : decode cX2_values 101 = .ok (.imul, 1) := by decide +kernel
theorem dX2_values_102 : decode cX2_values 102 = .ok (.iload 4, 2) := by decide +kernel
theorem dX2_values_104 : decode cX2_values 104 = .ok (.iadd, 1) := by decide +kernel
theorem dX2_values_105 : decode cX2_values 105 = .ok (.iaload, 1) := by decide +kernel
theorem dX2_values_106 : decode cX2_values 106 = .ok (.goto 4, 3) := by decide +kernel
theorem dX2_values_109 : decode cX2_values 109 = .ok (.iconst (-1), 1) := by decide +kernel
end
section
set_option maxRecDepth 100000
theorem dX2_values_110 : decode cX2_values 110 = .ok (.istore 6, 2) := by decide +kernel
theorem dX2_values_112 : decode cX2_values 112 = .ok (.iload 5, 2) := by decide +kernel
theorem dX2_values_114 : decode cX2_values 114 = .ok (.iload 6, 2) := by decide +kernel
theorem dX2_values_116 : decode cX2_values 116 = .ok (.if_icmp .eq 16, 3) := by decide +kernel
theorem dX2_values_119 : decode cX2_values 119 = .ok (.iload 5, 2) := by decide +kernel
theorem dX2_values_121 : decode cX2_values 121 = .ok (.iload 6, 2) := by decide +kernel
theorem dX2_values_123 : decode cX2_values 123 = .ok (.if_icmp .ge 7, 3) := by decide +kernel
theorem dX2_values_126 : decode cX2_values 126 = .ok (.iconst (-1), 1) := by decide +kernel
theorem dX2_values_127 : decode cX2_values 127 = .ok (.goto 4, 3) := by decide +kernel
theorem dX2_values_130 : decode cX2_values 130 = .ok (.iconst 1, 1) := by decide +kernel
theorem dX2_values_131 : decode cX2_values 131 = .ok (.ireturn, 1) := by decide +kernel
theorem dX2_values_132 : decode cX2_values 132 = .ok (.iinc 4 1, 3) := by decide +kernel
theorem dX2_values_135 : decode cX2_values 135 = .ok (.goto (-88), 3) := by decide +kernel
theorem dX2_values_138 : decode cX2_values 138 = .ok (.iconst 0, 1) := by decide +kernel
theorem dX2_values_139 : decode cX2_values 139 = .ok (.ireturn, 1) := by decide +kernel
theorem dX2_remove_0 : decode cX2_remove 0 = .ok (.aload_n 0, 1) := by decide +kernel
theorem dX2_remove_1 : decode cX2_remove 1 = .ok (.iload_n 1, 1) := by decide +kernel
theorem dX2_remove_2 : decode cX2_remove 2 = .ok (.invokevirtual 62, 3) := by decide +kernel
theorem dX2_remove_5 : decode cX2_remove 5 = .ok (.istore_n 2, 1) := by decide +kernel
theorem dX2_remove_6 : decode cX2_remove 6 = .ok (.iload_n 2, 1) := by decide +kernel
theorem dX2_remove_7 : decode cX2_remove 7 = .ok (.ifCond .ge 6, 3) := by decide +kernel
theorem dX2_remove_10 : decode cX2_remove 10 = .ok (.bipush (-5), 2) := by decide +kernel
theorem dX2_remove_12 : decode cX2_remove 12 = .ok (.ireturn, 1) := by decide +kernel
theorem dX2_remove_13 : decode cX2_remove 13 = .ok (.iload_n 2, 1) := by decide +kernel
theorem dX2_remove_14 : decode cX2_remove 14 = .ok (.istore_n 3, 1) := by decide +kernel
theorem dX2_remove_15 : decode cX2_remove 15 = .ok (.iload_n 3, 1) := by decide +kernel
theorem dX2_remove_16 : decode cX2_remove 16 = .ok (.aload_n 0, 1) := by decide +kernel
theorem dX2_remove_17 : decode cX2_remove 17 = .ok (.getfield 48, 3) := by decide +kernel
theorem dX2_remove_20 : decode cX2_remove 20 = .ok (.iconst 1, 1) := by decide +kernel
theorem dX2_remove_21 : decode cX2_remove 21 = .ok (.isub, 1) := by decide +kernel
theorem dX2_remove_22 : decode cX2_remove 22 = .ok (.if_icmp .ge 31, 3) := by decide +kernel
theorem dX2_remove_25 : decode cX2_remove 25 = .ok (.aload_n 0, 1) := by decide +kernel
theorem dX2_remove_26 : decode cX2_remove 26 = .ok (.iload_n 3, 1) := by decide +kernel
theorem dX2_remove_27 : decode cX2_remove 27 = .ok (.iconst 1, 1) := by decide +kernel
theorem dX2_remove_28 : decode cX2_remove 28 = .ok (.iadd, 1) := by decide +kernel
theorem dX2_remove_29 : decode cX2_remove 29 = .ok (.iload_n 3, 1) := by decide +kernel
theorem dX2_remove_30 : decode cX2_remove 30 = .ok (.invokevirtual 58, 3) := by decide +kernel
theorem dX2_remove_33 : decode cX2_remove 33 = .ok (.aload_n 0, 1) := by decide +kernel
theorem dX2_remove_34 : decode cX2_remove 34 = .ok (.getfield 7, 3) := by decide +kernel
theorem dX2_remove_37 : decode cX2_remove 37 = .ok (.iload_n 3, 1) := by decide +kernel
theorem dX2_remove_38 : decode cX2_remove 38 = .ok (.aload_n 0, 1) := by decide +kernel
theorem dX2_remove_39 : decode cX2_remove 39 = .ok (.getfield 7, 3) := by decide +kernel
theorem dX2_remove_42 : decode cX2_remove 42 = .ok (.iload_n 3, 1) := by decide +kernel
theorem dX2_remove_43 : decode cX2_remove 43 = .ok (.iconst 1, 1) := by decide +kernel
theorem dX2_remove_44 : decode cX2_remove 44 = .ok (.iadd, 1) := by decide +kernel
theorem dX2_remove_45 : decode cX2_remove 45 = .ok (.iaload, 1) := by decide +kernel
theorem dX2_remove_46 : decode cX2_remove 46 = .ok (.iastore, 1) := by decide +kernel
theorem dX2_remove_47 : decode cX2_remove 47 = .ok (.iinc 3 1, 3) := by decide +kernel
theorem dX2_remove_50 : decode cX2_remove 50 = .ok (.goto (-35), 3) := by decide +kernel
theorem dX2_remove_53 : decode cX2_remove 53 = .ok (.aload_n 0, 1) := by decide +kernel
theorem dX2_remove_54 : decode cX2_remove 54 = .ok (.aload_n 0, 1) := by decide +kernel
theorem dX2_remove_55 : decode cX2_remove 55 = .ok (.getfield 48, 3) := by decide +kernel
theorem dX2_remove_58 : decode cX2_remove 58 = .ok (.iconst 1, 1) := by decide +kernel
theorem dX2_remove_59 : decode cX2_remove 59 = .ok (.isub, 1) := by decide +kernel
theorem dX2_remove_60 : decode cX2_remove 60 = .ok (.putfield 48, 3) := by decide +kernel
theorem dX2_remove_63 : decode cX2_remove 63 = .ok (.aload_n 0, 1) := by decide +kernel
theorem dX2_remove_64 : decode cX2_remove 64 = .ok (.getfield 48, 3) := by decide +kernel
theorem dX2_remove_67 : decode cX2_remove 67 = .ok (.ireturn, 1) := by decide +kernel
theorem dX2_at_0 : decode cX2_at 0 = .ok (.iconst 0, 1) := by decide +kernel
theorem dX2_at_1 : decode cX2_at 1 = .ok (.istore_n 2, 1) := by decide +kernel
theorem dX2_at_2 : decode cX2_at 2 = .ok (.iload_n 2, 1) := by decide +kernel
theorem dX2_at_3 : decode cX2_at 3 = .ok (.aload_n 0, 1) := by decide +kernel
theorem dX2_at_4 : decode cX2_at 4 = .ok (.getfield 48, 3) := by decide +kernel
theorem dX2_at_7 : decode cX2_at 7 = .ok (.if_icmp .ge 20, 3) := by decide +kernel
theorem dX2_at_10 : decode cX2_at 10 = .ok (.aload_n 0, 1) := by decide +kernel
theorem dX2_at_11 : decode cX2_at 11 = .ok (.iload_n 2, 1) := by decide +kernel
theorem dX2_at_12 : decode cX2_at 12 = .ok (.invokevirtual 54, 3) := by decide +kernel
theorem dX2_at_15 : decode cX2_at 15 = .ok (.iload_n 1, 1) := by decide +kernel
theorem dX2_at_16 : decode cX2_at 16 = .ok (.if_icmp .ne 5, 3) := by decide +kernel
theorem dX2_at_19 : decode cX2_at 19 = .ok (.iload_n 2, 1) := by decide +kernel
theorem dX2_at_20 : decode cX2_at 20 = .ok (.ireturn, 1) := by decide +kernel
theorem dX2_at_21 : decode cX2_at 21 = .ok (.iinc 2 1, 3) := by decide +kernel
theorem dX2_at_24 : decode cX2_at 24 = .ok (.goto (-22), 3) := by decide +kernel
theorem dX2_at_27 : decode cX2_at 27 = .ok (.iconst (-1), 1) := by decide +kernel
theorem dX2_at_28 : decode cX2_at 28 = .ok (.ireturn, 1) := by decide +kernel
theorem dX2_load_0 : decode cX2_load 0 = .ok (.aload_n 0, 1) := by decide +kernel
theorem dX2_load_1 : decode cX2_load 1 = .ok (.iload_n 1, 1) := by decide +kernel
theorem dX2_load_2 : decode cX2_load 2 = .ok (.invokevirtual 62, 3) := by decide +kernel
theorem dX2_load_5 : decode cX2_load 5 = .ok (.istore_n 2, 1) := by decide +kernel
theorem dX2_load_6 : decode cX2_load 6 = .ok (.iload_n 2, 1) := by decide +kernel
theorem dX2_load_7 : decode cX2_load 7 = .ok (.ifCond .ge 6, 3) := by decide +kernel
theorem dX2_load_10 : decode cX2_load 10 = .ok (.bipush (-5), 2) := by decide +kernel
theorem dX2_load_12 : decode cX2_load 12 = .ok (.ireturn, 1) := by decide +kernel
theorem dX2_load_13 : decode cX2_load 13 = .ok (.aload_n 0, 1) := by decide +kernel
theorem dX2_load_14 : decode cX2_load 14 = .ok (.iload_n 2, 1) := by decide +kernel
theorem dX2_load_15 : decode cX2_load 15 = .ok (.bipush 20, 2) := by decide +kernel
theorem dX2_load_17 : decode cX2_load 17 = .ok (.invokevirtual 58, 3) := by decide +kernel
theorem dX2_load_20 : decode cX2_load 20 = .ok (.aload_n 0, 1) := by decide +kernel
theorem dX2_load_21 : decode cX2_load 21 = .ok (.getfield 7, 3) := by decide +kernel
theorem dX2_load_24 : decode cX2_load 24 = .ok (.iload_n 2, 1) := by decide +kernel
theorem dX2_load_25 : decode cX2_load 25 = .ok (.iaload, 1) := by decide +kernel
theorem dX2_load_26 : decode cX2_load 26 = .ok (.ireturn, 1) := by decide +kernel
theorem dX2_size_0 : decode cX2_size 0 = .ok (.aload_n 0, 1) := by decide +kernel
theorem dX2_size_1 : decode cX2_size 1 = .ok (.getfield 48, 3) := by decide +kernel
theorem dX2_size_4 : decode cX2_size 4 = .ok (.ireturn, 1) := by decide +kernel
theorem dX2_tag_0 : decode cX2_tag 0 = .ok (.aload_n 0, 1) := by decide +kernel
theorem dX2_tag_1 : decode cX2_tag 1 = .ok (.iload_n 1, 1) := by decide +kernel
theorem dX2_tag_2 : decode cX2_tag 2 = .ok (.invokevirtual 62, 3) := by decide +kernel
theorem dX2_tag_5 : decode cX2_tag 5 = .ok (.istore_n 2, 1) := by decide +kernel
theorem dX2_tag_6 : decode cX2_tag 6 = .ok (.iload_n 2, 1) := by decide +kernel
theorem dX2_tag_7 : decode cX2_tag 7 = .ok (.ifCond .ge 7, 3) := by decide +kernel
theorem dX2_tag_10 : decode cX2_tag 10 = .ok (.iconst 0, 1) := by decide +kernel
theorem dX2_tag_11 : decode cX2_tag 11 = .ok (.goto 9, 3) := by decide +kernel
theorem dX2_tag_14 : decode cX2_tag 14 = .ok (.aload_n 0, 1) := by decide +kernel
theorem dX2_tag_15 : decode cX2_tag 15 = .ok (.getfield 7, 3) := by decide +kernel
theorem dX2_tag_18 : decode cX2_tag 18 = .ok (.iload_n 2, 1) := by decide +kernel
theorem dX2_tag_19 : decode cX2_tag 19 = .ok (.iaload, 1) := by decide +kernel
theorem dX2_tag_20 : decode cX2_tag 20 = .ok (.ireturn, 1) := by decide +kernel
theorem dX2_below_0 : decode cX2_below 0 = .ok (.iconst 0, 1) := by decide +kernel
theorem dX2_below_1 : decode cX2_below 1 = .ok (.istore_n 1, 1) := by decide +kernel
theorem dX2_below_2 : decode cX2_below 2 = .ok (.iconst 0, 1) := by decide +kernel
theorem dX2_below_3 : decode cX2_below 3 = .ok (.istore_n 2, 1) := by decide +kernel
theorem dX2_below_4 : decode cX2_below 4 = .ok (.iload_n 2, 1) := by decide +kernel
theorem dX2_below_5 : decode cX2_below 5 = .ok (.aload_n 0, 1) := by decide +kernel
theorem dX2_below_6 : decode cX2_below 6 = .ok (.getfield 48, 3) := by decide +kernel
theorem dX2_below_9 : decode cX2_below 9 = .ok (.if_icmp .ge 26, 3) := by decide +kernel
theorem dX2_below_12 : decode cX2_below 12 = .ok (.aload_n 0, 1) := by decide +kernel
theorem dX2_below_13 : decode cX2_below 13 = .ok (.iload_n 2, 1) := by decide +kernel
theorem dX2_below_14 : decode cX2_below 14 = .ok (.bipush 20, 2) := by decide +kernel
theorem dX2_below_16 : decode cX2_below 16 = .ok (.aload_n 0, 1) := by decide +kernel
theorem dX2_below_17 : decode cX2_below 17 = .ok (.getfield 26, 3) := by decide +kernel
theorem dX2_below_20 : decode cX2_below 20 = .ok (.invokevirtual 51, 3) := by decide +kernel
theorem dX2_below_23 : decode cX2_below 23 = .ok (.ifCond .ge 6, 3) := by decide +kernel
theorem dX2_below_26 : decode cX2_below 26 = .ok (.iinc 1 1, 3) := by decide +kernel
theorem dX2_below_29 : decode cX2_below 29 = .ok (.iinc 2 1, 3) := by decide +kernel
theorem dX2_below_32 : decode cX2_below 32 = .ok (.goto (-28), 3) := by decide +kernel
theorem dX2_below_35 : decode cX2_below 35 = .ok (.iload_n 1, 1) := by decide +kernel
theorem dX2_below_36 : decode cX2_below 36 = .ok (.ireturn, 1) := by decide +kernel
theorem dX2_matching_0 : decode cX2_matching 0 = .ok (.iload_n 1, 1) := by decide +kernel
theorem dX2_matching_1 : decode cX2_matching 1 = .ok (.ifCond .lt 11, 3) := by decide +kernel
theorem dX2_matching_4 : decode cX2_matching 4 = .ok (.iload_n 1, 1) := by decide +kernel
theorem dX2_matching_5 : decode cX2_matching 5 = .ok (.aload_n 0, 1) := by decide +kernel
theorem dX2_matching_6 : decode cX2_matching 6 = .ok (.getfield 26, 3) := by decide +kernel
theorem dX2_matching_9 : decode cX2_matching 9 = .ok (.if_icmp .le 5, 3) := by decide +kernel
theorem dX2_matching_12 : decode cX2_matching 12 = .ok (.iconst (-1), 1) := by decide +kernel
theorem dX2_matching_13 : decode cX2_matching 13 = .ok (.ireturn, 1) := by decide +kernel
theorem dX2_matching_14 : decode cX2_matching 14 = .ok (.iconst 0, 1) := by decide +kernel
theorem dX2_matching_15 : decode cX2_matching 15 = .ok (.istore_n 2, 1) := by decide +kernel
theorem dX2_matching_16 : decode cX2_matching 16 = .ok (.iconst 0, 1) := by decide +kernel
theorem dX2_matching_17 : decode cX2_matching 17 = .ok (.istore_n 3, 1) := by decide +kernel
theorem dX2_matching_18 : decode cX2_matching 18 = .ok (.iload_n 3, 1) := by decide +kernel
theorem dX2_matching_19 : decode cX2_matching 19 = .ok (.aload_n 0, 1) := by decide +kernel
theorem dX2_matching_20 : decode cX2_matching 20 = .ok (.getfield 48, 3) := by decide +kernel
theorem dX2_matching_23 : decode cX2_matching 23 = .ok (.if_icmp .ge 23, 3) := by decide +kernel
theorem dX2_matching_26 : decode cX2_matching 26 = .ok (.aload_n 0, 1) := by decide +kernel
theorem dX2_matching_27 : decode cX2_matching 27 = .ok (.iload_n 3, 1) := by decide +kernel
theorem dX2_matching_28 : decode cX2_matching 28 = .ok (.bipush 20, 2) := by decide +kernel
theorem dX2_matching_30 : decode cX2_matching 30 = .ok (.iload_n 1, 1) := by decide +kernel
theorem dX2_matching_31 : decode cX2_matching 31 = .ok (.invokevirtual 51, 3) := by decide +kernel
theorem dX2_matching_34 : decode cX2_matching 34 = .ok (.ifCond .ne 6, 3) := by decide +kernel
theorem dX2_matching_37 : decode cX2_matching 37 = .ok (.iinc 2 1, 3) := by decide +kernel
theorem dX2_matching_40 : decode cX2_matching 40 = .ok (.iinc 3 1, 3) := by decide +kernel
theorem dX2_matching_43 : decode cX2_matching 43 = .ok (.goto (-25), 3) := by decide +kernel
theorem dX2_matching_46 : decode cX2_matching 46 = .ok (.iload_n 2, 1) := by decide +kernel
theorem dX2_matching_47 : decode cX2_matching 47 = .ok (.ireturn, 1) := by decide +kernel
theorem dX2_intAt_0 : decode cX2_intAt 0 = .ok (.aload_n 0, 1) := by decide +kernel
theorem dX2_intAt_1 : decode cX2_intAt 1 = .ok (.iload_n 1, 1) := by decide +kernel
theorem dX2_intAt_2 : decode cX2_intAt 2 = .ok (.invokevirtual 62, 3) := by decide +kernel
theorem dX2_intAt_5 : decode cX2_intAt 5 = .ok (.istore_n 3, 1) := by decide +kernel
theorem dX2_intAt_6 : decode cX2_intAt 6 = .ok (.iload_n 3, 1) := by decide +kernel
theorem dX2_intAt_7 : decode cX2_intAt 7 = .ok (.ifCond .lt 11, 3) := by decide +kernel
theorem dX2_intAt_10 : decode cX2_intAt 10 = .ok (.aload_n 0, 1) := by decide +kernel
theorem dX2_intAt_11 : decode cX2_intAt 11 = .ok (.iload_n 2, 1) := by decide +kernel
theorem dX2_intAt_12 : decode cX2_intAt 12 = .ok (.invokevirtual 33, 3) := by decide +kernel
theorem dX2_intAt_15 : decode cX2_intAt 15 = .ok (.ifCond .eq 5, 3) := by decide +kernel
theorem dX2_intAt_18 : decode cX2_intAt 18 = .ok (.iconst 0, 1) := by decide +kernel
theorem dX2_intAt_19 : decode cX2_intAt 19 = .ok (.ireturn, 1) := by decide +kernel
theorem dX2_intAt_20 : decode cX2_intAt 20 = .ok (.aload_n 0, 1) := by decide +kernel
theorem dX2_intAt_21 : decode cX2_intAt 21 = .ok (.iload_n 2, 1) := by decide +kernel
theorem dX2_intAt_22 : decode cX2_intAt 22 = .ok (.invokevirtual 37, 3) := by decide +kernel
theorem dX2_intAt_25 : decode cX2_intAt 25 = .ok (.ifCond .ne 16, 3) := by decide +kernel
theorem dX2_intAt_28 : decode cX2_intAt 28 = .ok (.aload_n 0, 1) := by decide +kernel
theorem dX2_intAt_29 : decode cX2_intAt 29 = .ok (.getfield 13, 3) := by decide +kernel
theorem dX2_intAt_32 : decode cX2_intAt 32 = .ok (.iload_n 3, 1) := by decide +kernel
theorem dX2_intAt_33 : decode cX2_intAt 33 = .ok (.iconst 4, 1) := by decide +kernel
theorem dX2_intAt_34 : decode cX2_intAt 34 = .ok (.imul, 1) := by decide +kernel
theorem dX2_intAt_35 : decode cX2_intAt 35 = .ok (.iload_n 2, 1) := by decide +kernel
theorem dX2_intAt_36 : decode cX2_intAt 36 = .ok (.iadd, 1) := by decide +kernel
theorem dX2_intAt_37 : decode cX2_intAt 37 = .ok (.baload, 1) := by decide +kernel
theorem dX2_intAt_38 : decode cX2_intAt 38 = .ok (.ifCond .eq 7, 3) := by decide +kernel
theorem dX2_intAt_41 : decode cX2_intAt 41 = .ok (.iconst 0, 1) := by decide +kernel
theorem dX2_intAt_42 : decode cX2_intAt 42 = .ok (.goto 13, 3) := by decide +kernel
theorem dX2_intAt_45 : decode cX2_intAt 45 = .ok (.aload_n 0, 1) := by decide +kernel
theorem dX2_intAt_46 : decode cX2_intAt 46 = .ok (.getfield 17, 3) := by decide +kernel
theorem dX2_intAt_49 : decode cX2_intAt 49 = .ok (.iload_n 3, 1) := by decide +kernel
theorem dX2_intAt_50 : decode cX2_intAt 50 = .ok (.iconst 4, 1) := by decide +kernel
theorem dX2_intAt_51 : decode cX2_intAt 51 = .ok (.imul, 1) := by decide +kernel
theorem dX2_intAt_52 : decode cX2_intAt 52 = .ok (.iload_n 2, 1) := by decide +kernel
theorem dX2_intAt_53 : decode cX2_intAt 53 = .ok (.iadd, 1) := by decide +kernel
theorem dX2_intAt_54 : decode cX2_intAt 54 = .ok (.iaload, 1) := by decide +kernel
theorem dX2_intAt_55 : decode cX2_intAt 55 = .ok (.ireturn, 1) := by decide +kernel
theorem dX2_charAt_0 : decode cX2_charAt 0 = .ok (.aload_n 0, 1) := by decide +kernel
theorem dX2_charAt_1 : decode cX2_charAt 1 = .ok (.iload_n 1, 1) := by decide +kernel
theorem dX2_charAt_2 : decode cX2_charAt 2 = .ok (.invokevirtual 62, 3) := by decide +kernel
theorem dX2_charAt_5 : decode cX2_charAt 5 = .ok (.istore 4, 2) := by decide +kernel
theorem dX2_charAt_7 : decode cX2_charAt 7 = .ok (.iload 4, 2) := by decide +kernel
theorem dX2_charAt_9 : decode cX2_charAt 9 = .ok (.ifCond .lt 11, 3) := by decide +kernel
theorem dX2_charAt_12 : decode cX2_charAt 12 = .ok (.aload_n 0, 1) := by decide +kernel
theorem dX2_charAt_13 : decode cX2_charAt 13 = .ok (.iload_n 2, 1) := by decide +kernel
theorem dX2_charAt_14 : decode cX2_charAt 14 = .ok (.invokevirtual 33, 3) := by decide +kernel
theorem dX2_charAt_17 : decode cX2_charAt 17 = .ok (.ifCond .eq 6, 3) := by decide +kernel
theorem dX2_charAt_20 : decode cX2_charAt 20 = .ok (.bipush (-5), 2) := by decide +kernel
theorem dX2_charAt_22 : decode cX2_charAt 22 = .ok (.ireturn, 1) := by decide +kernel
theorem dX2_charAt_23 : decode cX2_charAt 23 = .ok (.iload 4, 2) := by decide +kernel
theorem dX2_charAt_25 : decode cX2_charAt 25 = .ok (.iconst 4, 1) := by decide +kernel
theorem dX2_charAt_26 : decode cX2_charAt 26 = .ok (.imul, 1) := by decide +kernel
theorem dX2_charAt_27 : decode cX2_charAt 27 = .ok (.iload_n 2, 1) := by decide +kernel
theorem dX2_charAt_28 : decode cX2_charAt 28 = .ok (.iadd, 1) := by decide +kernel
theorem dX2_charAt_29 : decode cX2_charAt 29 = .ok (.istore 5, 2) := by decide +kernel
theorem dX2_charAt_31 : decode cX2_charAt 31 = .ok (.aload_n 0, 1) := by decide +kernel
theorem dX2_charAt_32 : decode cX2_charAt 32 = .ok (.iload_n 2, 1) := by decide +kernel
theorem dX2_charAt_33 : decode cX2_charAt 33 = .ok (.invokevirtual 37, 3) := by decide +kernel
theorem dX2_charAt_36 : decode cX2_charAt 36 = .ok (.ifCond .eq 28, 3) := by decide +kernel
theorem dX2_charAt_39 : decode cX2_charAt 39 = .ok (.aload_n 0, 1) := by decide +kernel
theorem dX2_charAt_40 : decode cX2_charAt 40 = .ok (.getfield 13, 3) := by decide +kernel
theorem dX2_charAt_43 : decode cX2_charAt 43 = .ok (.iload 5, 2) := by decide +kernel
theorem dX2_charAt_45 : decode cX2_charAt 45 = .ok (.baload, 1) := by decide +kernel
theorem dX2_charAt_46 : decode cX2_charAt 46 = .ok (.ifCond .ne 18, 3) := by decide +kernel
theorem dX2_charAt_49 : decode cX2_charAt 49 = .ok (.iload_n 3, 1) := by decide +kernel
theorem dX2_charAt_50 : decode cX2_charAt 50 = .ok (.ifCond .lt 14, 3) := by decide +kernel
theorem dX2_charAt_53 : decode cX2_charAt 53 = .ok (.iload_n 3, 1) := by decide +kernel
theorem dX2_charAt_54 : decode cX2_charAt 54 = .ok (.aload_n 0, 1) := by decide +kernel
theorem dX2_charAt_55 : decode cX2_charAt 55 = .ok (.getfield 20, 3) := by decide +kernel
theorem dX2_charAt_58 : decode cX2_charAt 58 = .ok (.iload 5, 2) := by decide +kernel
theorem dX2_charAt_60 : decode cX2_charAt 60 = .ok (.iaload, 1) := by decide +kernel
theorem dX2_charAt_61 : decode cX2_charAt 61 = .ok (.if_icmp .lt 6, 3) := by decide +kernel
theorem dX2_charAt_64 : decode cX2_charAt 64 = .ok (.bipush (-5), 2) := by decide +kernel
theorem dX2_charAt_66 : decode cX2_charAt 66 = .ok (.ireturn, 1) := by decide +kernel
theorem dX2_charAt_67 : decode cX2_charAt 67 = .ok (.aload_n 0, 1) := by decide +kernel
theorem dX2_charAt_68 : decode cX2_charAt 68 = .ok (.getfield 23, 3) := by decide +kernel
theorem dX2_charAt_71 : decode cX2_charAt 71 = .ok (.iload 5, 2) := by decide +kernel
theorem dX2_charAt_73 : decode cX2_charAt 73 = .ok (.bipush 6, 2) := by decide +kernel
theorem dX2_charAt_75 : decode cX2_charAt 75 = .ok (.imul, 1) := by decide +kernel
theorem dX2_charAt_76 : decode cX2_charAt 76 = .ok (.iload_n 3, 1) := by decide +kernel
theorem dX2_charAt_77 : decode cX2_charAt 77 = .ok (.iadd, 1) := by decide +kernel
theorem dX2_charAt_78 : decode cX2_charAt 78 = .ok (.iaload, 1) := by decide +kernel
theorem dX2_charAt_79 : decode cX2_charAt 79 = .ok (.ireturn, 1) := by decide +kernel
theorem dX2_nullAt_0 : decode cX2_nullAt 0 = .ok (.aload_n 0, 1) := by decide +kernel
theorem dX2_nullAt_1 : decode cX2_nullAt 1 = .ok (.iload_n 1, 1) := by decide +kernel
theorem dX2_nullAt_2 : decode cX2_nullAt 2 = .ok (.invokevirtual 62, 3) := by decide +kernel
theorem dX2_nullAt_5 : decode cX2_nullAt 5 = .ok (.istore_n 3, 1) := by decide +kernel
theorem dX2_nullAt_6 : decode cX2_nullAt 6 = .ok (.iload_n 3, 1) := by decide +kernel
theorem dX2_nullAt_7 : decode cX2_nullAt 7 = .ok (.ifCond .lt 28, 3) := by decide +kernel
theorem dX2_nullAt_10 : decode cX2_nullAt 10 = .ok (.aload_n 0, 1) := by decide +kernel
theorem dX2_nullAt_11 : decode cX2_nullAt 11 = .ok (.iload_n 2, 1) := by decide +kernel
theorem dX2_nullAt_12 : decode cX2_nullAt 12 = .ok (.invokevirtual 33, 3) := by decide +kernel
theorem dX2_nullAt_15 : decode cX2_nullAt 15 = .ok (.ifCond .ne 20, 3) := by decide +kernel
theorem dX2_nullAt_18 : decode cX2_nullAt 18 = .ok (.aload_n 0, 1) := by decide +kernel
theorem dX2_nullAt_19 : decode cX2_nullAt 19 = .ok (.getfield 13, 3) := by decide +kernel
theorem dX2_nullAt_22 : decode cX2_nullAt 22 = .ok (.iload_n 3, 1) := by decide +kernel
theorem dX2_nullAt_23 : decode cX2_nullAt 23 = .ok (.iconst 4, 1) := by decide +kernel
theorem dX2_nullAt_24 : decode cX2_nullAt 24 = .ok (.imul, 1) := by decide +kernel
theorem dX2_nullAt_25 : decode cX2_nullAt 25 = .ok (.iload_n 2, 1) := by decide +kernel
theorem dX2_nullAt_26 : decode cX2_nullAt 26 = .ok (.iadd, 1) := by decide +kernel
theorem dX2_nullAt_27 : decode cX2_nullAt 27 = .ok (.baload, 1) := by decide +kernel
theorem dX2_nullAt_28 : decode cX2_nullAt 28 = .ok (.ifCond .eq 7, 3) := by decide +kernel
theorem dX2_nullAt_31 : decode cX2_nullAt 31 = .ok (.iconst 1, 1) := by decide +kernel
theorem dX2_nullAt_32 : decode cX2_nullAt 32 = .ok (.goto 4, 3) := by decide +kernel
theorem dX2_nullAt_35 : decode cX2_nullAt 35 = .ok (.iconst 0, 1) := by decide +kernel
theorem dX2_nullAt_36 : decode cX2_nullAt 36 = .ok (.ireturn, 1) := by decide +kernel
end
section
set_option maxRecDepth 100000
theorem q84 : (Jvm.Cond.arrayClass Jvm.ClassFile.FieldType.boolean) ∈ lw_all := lw_g (lw_at lw_m1 57 rfl) rfl
theorem q85 : (Jvm.Cond.arrayClass Jvm.ClassFile.FieldType.int) ∈ lw_all := lw_g (lw_at lw_m1 58 rfl) rfl
theorem q86 : (Jvm.Cond.arrayClass Jvm.ClassFile.FieldType.short) ∈ lw_all := lw_g (lw_at lw_m1 59 rfl) rfl
/-! java/lang/Object -/
def RJ0 : String := "java/lang/Object"
abbrev cJ0_init : ByteArray := object_method_1_code
def yJ0_init : MethodName := ⟨RJ0, "<init>", "()V"⟩
theorem dJ0_init_0 : decode cJ0_init 0 = .ok (.return_, 1) := by decide +kernel
theorem q36 : (Jvm.Cond.instanceMethod ({ cls := "java/lang/Object", name := "<init>", desc := "()V" } : Jvm.MethodName)) ∈ lw_all := lw_g (lw_at lw_m1 9 rfl) rfl
theorem q37 : (Jvm.Cond.code ({ cls := "java/lang/Object", name := "<init>", desc := "()V" } : Jvm.MethodName) object_method_1_code (1 : Nat) (Option.none : Option Jvm.ClassFile.FieldType)) ∈ lw_all := lw_g (lw_at lw_m1 10 rfl) rfl
/-! OrderedKeysLaw -/
def RX0 : String := "OrderedKeysLaw"
abbrev cX0_cell : ByteArray := method_2_code
def yX0_cell : MethodName := ⟨RX0, "cell", "([II)I"⟩
theorem dX0_cell_0 : decode cX0_cell 0 = .ok (.iload_n 1, 1) := by decide +kernel
theorem dX0_cell_1 : decode cX0_cell 1 = .ok (.aload_n 0, 1) := by decide +kernel
theorem dX0_cell_2 : decode cX0_cell 2 = .ok (.arraylength, 1) := by decide +kernel
theorem dX0_cell_3 : decode cX0_cell 3 = .ok (.if_icmp .ge 9, 3) := by decide +kernel
theorem dX0_cell_6 : decode cX0_cell 6 = .ok (.aload_n 0, 1) := by decide +kernel
theorem dX0_cell_7 : decode cX0_cell 7 = .ok (.iload_n 1, 1) := by decide +kernel
theorem dX0_cell_8 : decode cX0_cell 8 = .ok (.iaload, 1) := by decide +kernel
theorem dX0_cell_9 : decode cX0_cell 9 = .ok (.goto 4, 3) := by decide +kernel
theorem dX0_cell_12 : decode cX0_cell 12 = .ok (.iconst 0, 1) := by decide +kernel
theorem dX0_cell_13 : decode cX0_cell 13 = .ok (.ireturn, 1) := by decide +kernel
theorem q27 : (Jvm.Cond.initialized "OrderedKeysLaw") ∈ lw_all := lw_g (lw_at lw_m1 0 rfl) rfl
theorem q30 : (Jvm.Cond.classLink "OrderedKeysLaw" (7 : Nat) "OrderedKeys") ∈ lw_all := lw_g (lw_at lw_m1 3 rfl) rfl
theorem q32 : (Jvm.Cond.methodLink "OrderedKeysLaw" (15 : Nat) ({ cls := "OrderedKeys", name := "<init>", desc := "(II)V" } : Jvm.MethodName)) ∈ lw_all := lw_g (lw_at lw_m1 5 rfl) rfl
theorem q87 : (Jvm.Cond.methodLink "OrderedKeysLaw" (21 : Nat) ({ cls := "OrderedKeys", name := "setNull", desc := "(I)I" } : Jvm.MethodName)) ∈ lw_all := lw_g (lw_at lw_m1 60 rfl) rfl
theorem q95 : (Jvm.Cond.methodLink "OrderedKeysLaw" (26 : Nat) ({ cls := "OrderedKeys", name := "setInt", desc := "(II)I" } : Jvm.MethodName)) ∈ lw_all := lw_g (lw_at lw_m1 68 rfl) rfl
theorem q103 : (Jvm.Cond.methodLink "OrderedKeysLaw" (31 : Nat) ({ cls := "OrderedKeys", name := "setText", desc := "(I)I" } : Jvm.MethodName)) ∈ lw_all := lw_g (lw_at lw_m1 76 rfl) rfl
theorem q107 : (Jvm.Cond.methodLink "OrderedKeysLaw" (35 : Nat) ({ cls := "OrderedKeys", name := "append", desc := "(II)I" } : Jvm.MethodName)) ∈ lw_all := lw_g (lw_at lw_m1 80 rfl) rfl
theorem q111 : (Jvm.Cond.methodLink "OrderedKeysLaw" (39 : Nat) ({ cls := "OrderedKeys", name := "add", desc := "(I)I" } : Jvm.MethodName)) ∈ lw_all := lw_g (lw_at lw_m1 84 rfl) rfl
theorem q152 : (Jvm.Cond.methodLink "OrderedKeysLaw" (43 : Nat) ({ cls := "OrderedKeys", name := "remove", desc := "(I)I" } : Jvm.MethodName)) ∈ lw_all := lw_g (lw_at lw_m1 125 rfl) rfl
theorem q160 : (Jvm.Cond.methodLink "OrderedKeysLaw" (47 : Nat) ({ cls := "OrderedKeys", name := "load", desc := "(I)I" } : Jvm.MethodName)) ∈ lw_all := lw_g (lw_at lw_m1 133 rfl) rfl
theorem q192 : (Jvm.Cond.methodLink "OrderedKeysLaw" (51 : Nat) ({ cls := "OrderedKeys", name := "size", desc := "()I" } : Jvm.MethodName)) ∈ lw_all := lw_g (lw_at lw_m1 165 rfl) rfl
theorem q196 : (Jvm.Cond.methodLink "OrderedKeysLaw" (56 : Nat) ({ cls := "OrderedKeys", name := "tag", desc := "(I)I" } : Jvm.MethodName)) ∈ lw_all := lw_g (lw_at lw_m1 169 rfl) rfl
theorem q200 : (Jvm.Cond.methodLink "OrderedKeysLaw" (60 : Nat) ({ cls := "OrderedKeys", name := "below", desc := "()I" } : Jvm.MethodName)) ∈ lw_all := lw_g (lw_at lw_m1 173 rfl) rfl
theorem q204 : (Jvm.Cond.methodLink "OrderedKeysLaw" (64 : Nat) ({ cls := "OrderedKeys", name := "matching", desc := "(I)I" } : Jvm.MethodName)) ∈ lw_all := lw_g (lw_at lw_m1 177 rfl) rfl
theorem q208 : (Jvm.Cond.methodLink "OrderedKeysLaw" (68 : Nat) ({ cls := "OrderedKeys", name := "intAt", desc := "(II)I" } : Jvm.MethodName)) ∈ lw_all := lw_g (lw_at lw_m1 181 rfl) rfl
theorem q212 : (Jvm.Cond.methodLink "OrderedKeysLaw" (72 : Nat) ({ cls := "OrderedKeys", name := "charAt", desc := "(III)I" } : Jvm.MethodName)) ∈ lw_all := lw_g (lw_at lw_m1 185 rfl) rfl
theorem q216 : (Jvm.Cond.methodLink "OrderedKeysLaw" (77 : Nat) ({ cls := "OrderedKeys", name := "nullAt", desc := "(II)Z" } : Jvm.MethodName)) ∈ lw_all := lw_g (lw_at lw_m1 189 rfl) rfl
theorem q220 : (Jvm.Cond.methodLink "OrderedKeysLaw" (9 : Nat) ({ cls := "OrderedKeysLaw", name := "cell", desc := "([II)I" } : Jvm.MethodName)) ∈ lw_all := lw_g (lw_at lw_m1 193 rfl) rfl
theorem q221 : (Jvm.Cond.static ({ cls := "OrderedKeysLaw", name := "cell", desc := "([II)I" } : Jvm.MethodName)) ∈ lw_all := lw_g (lw_at lw_m1 194 rfl) rfl
theorem q222 : (Jvm.Cond.code ({ cls := "OrderedKeysLaw", name := "cell", desc := "([II)I" } : Jvm.MethodName) method_2_code (2 : Nat) (Option.some Jvm.ClassFile.FieldType.int)) ∈ lw_all := lw_g (lw_at lw_m1 195 rfl) rfl
theorem q223 : (Jvm.Cond.classLink "OrderedKeysLaw" (18 : Nat) "OrderedKeysModel") ∈ lw_all := lw_g (lw_at lw_m1 196 rfl) rfl
theorem q225 : (Jvm.Cond.methodLink "OrderedKeysLaw" (20 : Nat) ({ cls := "OrderedKeysModel", name := "<init>", desc := "(II)V" } : Jvm.MethodName)) ∈ lw_all := lw_g (lw_at lw_m1 198 rfl) rfl
theorem q254 : (Jvm.Cond.methodLink "OrderedKeysLaw" (25 : Nat) ({ cls := "OrderedKeysModel", name := "setNull", desc := "(I)I" } : Jvm.MethodName)) ∈ lw_all := lw_g (lw_at lw_m1 227 rfl) rfl
theorem q262 : (Jvm.Cond.methodLink "OrderedKeysLaw" (30 : Nat) ({ cls := "OrderedKeysModel", name := "setInt", desc := "(II)I" } : Jvm.MethodName)) ∈ lw_all := lw_g (lw_at lw_m1 235 rfl) rfl
theorem q270 : (Jvm.Cond.methodLink "OrderedKeysLaw" (34 : Nat) ({ cls := "OrderedKeysModel", name := "setText", desc := "(I)I" } : Jvm.MethodName)) ∈ lw_all := lw_g (lw_at lw_m2 3 rfl) rfl
theorem q274 : (Jvm.Cond.methodLink "OrderedKeysLaw" (38 : Nat) ({ cls := "OrderedKeysModel", name := "append", desc := "(II)I" } : Jvm.MethodName)) ∈ lw_all := lw_g (lw_at lw_m2 7 rfl) rfl
theorem q278 : (Jvm.Cond.methodLink "OrderedKeysLaw" (42 : Nat) ({ cls := "OrderedKeysModel", name := "add", desc := "(I)I" } : Jvm.MethodName)) ∈ lw_all := lw_g (lw_at lw_m2 11 rfl) rfl
theorem q302 : (Jvm.Cond.methodLink "OrderedKeysLaw" (46 : Nat) ({ cls := "OrderedKeysModel", name := "remove", desc := "(I)I" } : Jvm.MethodName)) ∈ lw_all := lw_g (lw_at lw_m2 35 rfl) rfl
theorem q310 : (Jvm.Cond.methodLink "OrderedKeysLaw" (50 : Nat) ({ cls := "OrderedKeysModel", name := "load", desc := "(I)I" } : Jvm.MethodName)) ∈ lw_all := lw_g (lw_at lw_m2 43 rfl) rfl
theorem q314 : (Jvm.Cond.methodLink "OrderedKeysLaw" (55 : Nat) ({ cls := "OrderedKeysModel", name := "size", desc := "()I" } : Jvm.MethodName)) ∈ lw_all := lw_g (lw_at lw_m2 47 rfl) rfl
theorem q318 : (Jvm.Cond.methodLink "OrderedKeysLaw" (59 : Nat) ({ cls := "OrderedKeysModel", name := "tag", desc := "(I)I" } : Jvm.MethodName)) ∈ lw_all := lw_g (lw_at lw_m2 51 rfl) rfl
theorem q322 : (Jvm.Cond.methodLink "OrderedKeysLaw" (63 : Nat) ({ cls := "OrderedKeysModel", name := "below", desc := "()I" } : Jvm.MethodName)) ∈ lw_all := lw_g (lw_at lw_m2 55 rfl) rfl
theorem q326 : (Jvm.Cond.methodLink "OrderedKeysLaw" (67 : Nat) ({ cls := "OrderedKeysModel", name := "matching", desc := "(I)I" } : Jvm.MethodName)) ∈ lw_all := lw_g (lw_at lw_m2 59 rfl) rfl
theorem q330 : (Jvm.Cond.methodLink "OrderedKeysLaw" (71 : Nat) ({ cls := "OrderedKeysModel", name := "intAt", desc := "(II)I" } : Jvm.MethodName)) ∈ lw_all := lw_g (lw_at lw_m2 63 rfl) rfl
theorem q334 : (Jvm.Cond.methodLink "OrderedKeysLaw" (76 : Nat) ({ cls := "OrderedKeysModel", name := "charAt", desc := "(III)I" } : Jvm.MethodName)) ∈ lw_all := lw_g (lw_at lw_m2 67 rfl) rfl
theorem q338 : (Jvm.Cond.methodLink "OrderedKeysLaw" (81 : Nat) ({ cls := "OrderedKeysModel", name := "nullAt", desc := "(II)Z" } : Jvm.MethodName)) ∈ lw_all := lw_g (lw_at lw_m2 71 rfl) rfl
end
section
set_option maxRecDepth 100000
/-! the law's own entry -/
abbrev cL_law : ByteArray := code
theorem dL_law_0 : decode cL_law 0 = .ok (.new 7, 3) := by decide +kernel
theorem dL_law_3 : decode cL_law 3 = .ok (.dup, 1) := by decide +kernel
theorem dL_law_4 : decode cL_law 4 = .ok (.aload_n 0, 1) := by decide +kernel
theorem dL_law_5 : decode cL_law 5 = .ok (.iconst 0, 1) := by decide +kernel
theorem dL_law_6 : decode cL_law 6 = .ok (.invokestatic 9, 3) := by decide +kernel
theorem dL_law_9 : decode cL_law 9 = .ok (.aload_n 0, 1) := by decide +kernel
theorem dL_law_10 : decode cL_law 10 = .ok (.iconst 1, 1) := by decide +kernel
theorem dL_law_11 : decode cL_law 11 = .ok (.invokestatic 9, 3) := by decide +kernel
theorem dL_law_14 : decode cL_law 14 = .ok (.invokespecial 15, 3) := by decide +kernel
theorem dL_law_17 : decode cL_law 17 = .ok (.astore_n 1, 1) := by decide +kernel
theorem dL_law_18 : decode cL_law 18 = .ok (.new 18, 3) := by decide +kernel
theorem dL_law_21 : decode cL_law 21 = .ok (.dup, 1) := by decide +kernel
theorem dL_law_22 : decode cL_law 22 = .ok (.aload_n 0, 1) := by decide +kernel
theorem dL_law_23 : decode cL_law 23 = .ok (.iconst 0, 1) := by decide +kernel
theorem dL_law_24 : decode cL_law 24 = .ok (.invokestatic 9, 3) := by decide +kernel
theorem dL_law_27 : decode cL_law 27 = .ok (.aload_n 0, 1) := by decide +kernel
theorem dL_law_28 : decode cL_law 28 = .ok (.iconst 1, 1) := by decide +kernel
theorem dL_law_29 : decode cL_law 29 = .ok (.invokestatic 9, 3) := by decide +kernel
theorem dL_law_32 : decode cL_law 32 = .ok (.invokespecial 20, 3) := by decide +kernel
theorem dL_law_35 : decode cL_law 35 = .ok (.astore_n 2, 1) := by decide +kernel
theorem dL_law_36 : decode cL_law 36 = .ok (.iconst 2, 1) := by decide +kernel
theorem dL_law_37 : decode cL_law 37 = .ok (.istore_n 3, 1) := by decide +kernel
theorem dL_law_38 : decode cL_law 38 = .ok (.iload_n 3, 1) := by decide +kernel
theorem dL_law_39 : decode cL_law 39 = .ok (.aload_n 0, 1) := by decide +kernel
theorem dL_law_40 : decode cL_law 40 = .ok (.arraylength, 1) := by decide +kernel
theorem dL_law_41 : decode cL_law 41 = .ok (.iconst 4, 1) := by decide +kernel
theorem dL_law_42 : decode cL_law 42 = .ok (.isub, 1) := by decide +kernel
theorem dL_law_43 : decode cL_law 43 = .ok (.if_icmp .gt 449, 3) := by decide +kernel
theorem dL_law_46 : decode cL_law 46 = .ok (.aload_n 0, 1) := by decide +kernel
theorem dL_law_47 : decode cL_law 47 = .ok (.iload_n 3, 1) := by decide +kernel
theorem dL_law_48 : decode cL_law 48 = .ok (.iaload, 1) := by decide +kernel
theorem dL_law_49 : decode cL_law 49 = .ok (.bipush 15, 2) := by decide +kernel
theorem dL_law_51 : decode cL_law 51 = .ok (.iand, 1) := by decide +kernel
theorem dL_law_52 : decode cL_law 52 = .ok (.tableswitch 434 0 13 #[72, 95, 128, 151, 184, 207, 230, 253, 266, 289, 302, 325, 358, 401], 72) := by decide +kernel
theorem dL_law_124 : decode cL_law 124 = .ok (.aload_n 1, 1) := by decide +kernel
theorem dL_law_125 : decode cL_law 125 = .ok (.aload_n 0, 1) := by decide +kernel
theorem dL_law_126 : decode cL_law 126 = .ok (.iload_n 3, 1) := by decide +kernel
theorem dL_law_127 : decode cL_law 127 = .ok (.iconst 1, 1) := by decide +kernel
theorem dL_law_128 : decode cL_law 128 = .ok (.iadd, 1) := by decide +kernel
theorem dL_law_129 : decode cL_law 129 = .ok (.iaload, 1) := by decide +kernel
theorem dL_law_130 : decode cL_law 130 = .ok (.invokevirtual 21, 3) := by decide +kernel
theorem dL_law_133 : decode cL_law 133 = .ok (.aload_n 2, 1) := by decide +kernel
theorem dL_law_134 : decode cL_law 134 = .ok (.aload_n 0, 1) := by decide +kernel
theorem dL_law_135 : decode cL_law 135 = .ok (.iload_n 3, 1) := by decide +kernel
theorem dL_law_136 : decode cL_law 136 = .ok (.iconst 1, 1) := by decide +kernel
theorem dL_law_137 : decode cL_law 137 = .ok (.iadd, 1) := by decide +kernel
theorem dL_law_138 : decode cL_law 138 = .ok (.iaload, 1) := by decide +kernel
theorem dL_law_139 : decode cL_law 139 = .ok (.invokevirtual 25, 3) := by decide +kernel
theorem dL_law_142 : decode cL_law 142 = .ok (.if_icmp .eq 344, 3) := by decide +kernel
theorem dL_law_145 : decode cL_law 145 = .ok (.iconst 0, 1) := by decide +kernel
theorem dL_law_146 : decode cL_law 146 = .ok (.ireturn, 1) := by decide +kernel
theorem dL_law_147 : decode cL_law 147 = .ok (.aload_n 1, 1) := by decide +kernel
theorem dL_law_148 : decode cL_law 148 = .ok (.aload_n 0, 1) := by decide +kernel
theorem dL_law_149 : decode cL_law 149 = .ok (.iload_n 3, 1) := by decide +kernel
theorem dL_law_150 : decode cL_law 150 = .ok (.iconst 1, 1) := by decide +kernel
theorem dL_law_151 : decode cL_law 151 = .ok (.iadd, 1) := by decide +kernel
theorem dL_law_152 : decode cL_law 152 = .ok (.iaload, 1) := by decide +kernel
theorem dL_law_153 : decode cL_law 153 = .ok (.aload_n 0, 1) := by decide +kernel
theorem dL_law_154 : decode cL_law 154 = .ok (.iload_n 3, 1) := by decide +kernel
theorem dL_law_155 : decode cL_law 155 = .ok (.iconst 2, 1) := by decide +kernel
theorem dL_law_156 : decode cL_law 156 = .ok (.iadd, 1) := by decide +kernel
theorem dL_law_157 : decode cL_law 157 = .ok (.iaload, 1) := by decide +kernel
theorem dL_law_158 : decode cL_law 158 = .ok (.invokevirtual 26, 3) := by decide +kernel
theorem dL_law_161 : decode cL_law 161 = .ok (.aload_n 2, 1) := by decide +kernel
theorem dL_law_162 : decode cL_law 162 = .ok (.aload_n 0, 1) := by decide +kernel
theorem dL_law_163 : decode cL_law 163 = .ok (.iload_n 3, 1) := by decide +kernel
theorem dL_law_164 : decode cL_law 164 = .ok (.iconst 1, 1) := by decide +kernel
theorem dL_law_165 : decode cL_law 165 = .ok (.iadd, 1) := by decide +kernel
theorem dL_law_166 : decode cL_law 166 = .ok (.iaload, 1) := by decide +kernel
theorem dL_law_167 : decode cL_law 167 = .ok (.aload_n 0, 1) := by decide +kernel
theorem dL_law_168 : decode cL_law 168 = .ok (.iload_n 3, 1) := by decide +kernel
theorem dL_law_169 : decode cL_law 169 = .ok (.iconst 2, 1) := by decide +kernel
theorem dL_law_170 : decode cL_law 170 = .ok (.iadd, 1) := by decide +kernel
theorem dL_law_171 : decode cL_law 171 = .ok (.iaload, 1) := by decide +kernel
theorem dL_law_172 : decode cL_law 172 = .ok (.invokevirtual 30, 3) := by decide +kernel
theorem dL_law_175 : decode cL_law 175 = .ok (.if_icmp .eq 311, 3) := by decide +kernel
theorem dL_law_178 : decode cL_law 178 = .ok (.iconst 0, 1) := by decide +kernel
theorem dL_law_179 : decode cL_law 179 = .ok (.ireturn, 1) := by decide +kernel
theorem dL_law_180 : decode cL_law 180 = .ok (.aload_n 1, 1) := by decide +kernel
theorem dL_law_181 : decode cL_law 181 = .ok (.aload_n 0, 1) := by decide +kernel
theorem dL_law_182 : decode cL_law 182 = .ok (.iload_n 3, 1) := by decide +kernel
theorem dL_law_183 : decode cL_law 183 = .ok (.iconst 1, 1) := by decide +kernel
theorem dL_law_184 : decode cL_law 184 = .ok (.iadd, 1) := by decide +kernel
theorem dL_law_185 : decode cL_law 185 = .ok (.iaload, 1) := by decide +kernel
theorem dL_law_186 : decode cL_law 186 = .ok (.invokevirtual 31, 3) := by decide +kernel
theorem dL_law_189 : decode cL_law 189 = .ok (.aload_n 2, 1) := by decide +kernel
theorem dL_law_190 : decode cL_law 190 = .ok (.aload_n 0, 1) := by decide +kernel
theorem dL_law_191 : decode cL_law 191 = .ok (.iload_n 3, 1) := by decide +kernel
theorem dL_law_192 : decode cL_law 192 = .ok (.iconst 1, 1) := by decide +kernel
theorem dL_law_193 : decode cL_law 193 = .ok (.iadd, 1) := by decide +kernel
theorem dL_law_194 : decode cL_law 194 = .ok (.iaload, 1) := by decide +kernel
theorem dL_law_195 : decode cL_law 195 = .ok (.invokevirtual 34, 3) := by decide +kernel
theorem dL_law_198 : decode cL_law 198 = .ok (.if_icmp .eq 288, 3) := by decide +kernel
theorem dL_law_201 : decode cL_law 201 = .ok (.iconst 0, 1) := by decide +kernel
theorem dL_law_202 : decode cL_law 202 = .ok (.ireturn, 1) := by decide +kernel
theorem dL_law_203 : decode cL_law 203 = .ok (.aload_n 1, 1) := by decide +kernel
theorem dL_law_204 : decode cL_law 204 = .ok (.aload_n 0, 1) := by decide +kernel
theorem dL_law_205 : decode cL_law 205 = .ok (.iload_n 3, 1) := by decide +kernel
theorem dL_law_206 : decode cL_law 206 = .ok (.iconst 1, 1) := by decide +kernel
theorem dL_law_207 : decode cL_law 207 = .ok (.iadd, 1) := by decide +kernel
theorem dL_law_208 : decode cL_law 208 = .ok (.iaload, 1) := by decide +kernel
theorem dL_law_209 : decode cL_law 209 = .ok (.aload_n 0, 1) := by decide +kernel
theorem dL_law_210 : decode cL_law 210 = .ok (.iload_n 3, 1) := by decide +kernel
theorem dL_law_211 : decode cL_law 211 = .ok (.iconst 2, 1) := by decide +kernel
theorem dL_law_212 : decode cL_law 212 = .ok (.iadd, 1) := by decide +kernel
theorem dL_law_213 : decode cL_law 213 = .ok (.iaload, 1) := by decide +kernel
theorem dL_law_214 : decode cL_law 214 = .ok (.invokevirtual 35, 3) := by decide +kernel
theorem dL_law_217 : decode cL_law 217 = .ok (.aload_n 2, 1) := by decide +kernel
theorem dL_law_218 : decode cL_law 218 = .ok (.aload_n 0, 1) := by decide +kernel
theorem dL_law_219 : decode cL_law 219 = .ok (.iload_n 3, 1) := by decide +kernel
theorem dL_law_220 : decode cL_law 220 = .ok (.iconst 1, 1) := by decide +kernel
theorem dL_law_221 : decode cL_law 221 = .ok (.iadd, 1) := by decide +kernel
theorem dL_law_222 : decode cL_law 222 = .ok (.iaload, 1) := by decide +kernel
theorem dL_law_223 : decode cL_law 223 = .ok (.aload_n 0, 1) := by decide +kernel
theorem dL_law_224 : decode cL_law 224 = .ok (.iload_n 3, 1) := by decide +kernel
theorem dL_law_225 : decode cL_law 225 = .ok (.iconst 2, 1) := by decide +kernel
theorem dL_law_226 : decode cL_law 226 = .ok (.iadd, 1) := by decide +kernel
theorem dL_law_227 : decode cL_law 227 = .ok (.iaload, 1) := by decide +kernel
theorem dL_law_228 : decode cL_law 228 = .ok (.invokevirtual 38, 3) := by decide +kernel
theorem dL_law_231 : decode cL_law 231 = .ok (.if_icmp .eq 255, 3) := by decide +kernel
theorem dL_law_234 : decode cL_law 234 = .ok (.iconst 0, 1) := by decide +kernel
theorem dL_law_235 : decode cL_law 235 = .ok (.ireturn, 1) := by decide +kernel
theorem dL_law_236 : decode cL_law 236 = .ok (.aload_n 1, 1) := by decide +kernel
theorem dL_law_237 : decode cL_law 237 = .ok (.aload_n 0, 1) := by decide +kernel
theorem dL_law_238 : decode cL_law 238 = .ok (.iload_n 3, 1) := by decide +kernel
theorem dL_law_239 : decode cL_law 239 = .ok (.iconst 1, 1) := by decide +kernel
theorem dL_law_240 : decode cL_law 240 = .ok (.iadd, 1) := by decide +kernel
theorem dL_law_241 : decode cL_law 241 = .ok (.iaload, 1) := by decide +kernel
theorem dL_law_242 : decode cL_law 242 = .ok (.invokevirtual 39, 3) := by decide +kernel
theorem dL_law_245 : decode cL_law 245 = .ok (.aload_n 2, 1) := by decide +kernel
theorem dL_law_246 : decode cL_law 246 = .ok (.aload_n 0, 1) := by decide +kernel
theorem dL_law_247 : decode cL_law 247 = .ok (.iload_n 3, 1) := by decide +kernel
theorem dL_law_248 : decode cL_law 248 = .ok (.iconst 1, 1) := by decide +kernel
theorem dL_law_249 : decode cL_law 249 = .ok (.iadd, 1) := by decide +kernel
theorem dL_law_250 : decode cL_law 250 = .ok (.iaload, 1) := by decide +kernel
theorem dL_law_251 : decode cL_law 251 = .ok (.invokevirtual 42, 3) := by decide +kernel
theorem dL_law_254 : decode cL_law 254 = .ok (.if_icmp .eq 232, 3) := by decide +kernel
theorem dL_law_257 : decode cL_law 257 = .ok (.iconst 0, 1) := by decide +kernel
theorem dL_law_258 : decode cL_law 258 = .ok (.ireturn, 1) := by decide +kernel
theorem dL_law_259 : decode cL_law 259 = .ok (.aload_n 1, 1) := by decide +kernel
theorem dL_law_260 : decode cL_law 260 = .ok (.aload_n 0, 1) := by decide +kernel
theorem dL_law_261 : decode cL_law 261 = .ok (.iload_n 3, 1) := by decide +kernel
theorem dL_law_262 : decode cL_law 262 = .ok (.iconst 1, 1) := by decide +kernel
theorem dL_law_263 : decode cL_law 263 = .ok (.iadd, 1) := by decide +kernel
theorem dL_law_264 : decode cL_law 264 = .ok (.iaload, 1) := by decide +kernel
theorem dL_law_265 : decode cL_law 265 = .ok (.invokevirtual 43, 3) := by decide +kernel
theorem dL_law_268 : decode cL_law 268 = .ok (.aload_n 2, 1) := by decide +kernel
theorem dL_law_269 : decode cL_law 269 = .ok (.aload_n 0, 1) := by decide +kernel
theorem dL_law_270 : decode cL_law 270 = .ok (.iload_n 3, 1) := by decide +kernel
theorem dL_law_271 : decode cL_law 271 = .ok (.iconst 1, 1) := by decide +kernel
theorem dL_law_272 : decode cL_law 272 = .ok (.iadd, 1) := by decide +kernel
theorem dL_law_273 : decode cL_law 273 = .ok (.iaload, 1) := by decide +kernel
theorem dL_law_274 : decode cL_law 274 = .ok (.invokevirtual 46, 3) := by decide +kernel
theorem dL_law_277 : decode cL_law 277 = .ok (.if_icmp .eq 209, 3) := by decide +kernel
theorem dL_law_280 : decode cL_law 280 = .ok (.iconst 0, 1) := by decide +kernel
theorem dL_law_281 : decode cL_law 281 = .ok (.ireturn, 1) := by decide +kernel
theorem dL_law_282 : decode cL_law 282 = .ok (.aload_n 1, 1) := by decide +kernel
theorem dL_law_283 : decode cL_law 283 = .ok (.aload_n 0, 1) := by decide +kernel
theorem dL_law_284 : decode cL_law 284 = .ok (.iload_n 3, 1) := by decide +kernel
theorem dL_law_285 : decode cL_law 285 = .ok (.iconst 1, 1) := by decide +kernel
theorem dL_law_286 : decode cL_law 286 = .ok (.iadd, 1) := by decide +kernel
theorem dL_law_287 : decode cL_law 287 = .ok (.iaload, 1) := by decide +kernel
theorem dL_law_288 : decode cL_law 288 = .ok (.invokevirtual 47, 3) := by decide +kernel
theorem dL_law_291 : decode cL_law 291 = .ok (.aload_n 2, 1) := by decide +kernel
theorem dL_law_292 : decode cL_law 292 = .ok (.aload_n 0, 1) := by decide +kernel
theorem dL_law_293 : decode cL_law 293 = .ok (.iload_n 3, 1) := by decide +kernel
theorem dL_law_294 : decode cL_law 294 = .ok (.iconst 1, 1) := by decide +kernel
theorem dL_law_295 : decode cL_law 295 = .ok (.iadd, 1) := by decide +kernel
theorem dL_law_296 : decode cL_law 296 = .ok (.iaload, 1) := by decide +kernel
theorem dL_law_297 : decode cL_law 297 = .ok (.invokevirtual 50, 3) := by decide +kernel
theorem dL_law_300 : decode cL_law 300 = .ok (.if_icmp .eq 186, 3) := by decide +kernel
theorem dL_law_303 : decode cL_law 303 = .ok (.iconst 0, 1) := by decide +kernel
theorem dL_law_304 : decode cL_law 304 = .ok (.ireturn, 1) := by decide +kernel
theorem dL_law_305 : decode cL_law 305 = .ok (.aload_n 1, 1) := by decide +kernel
theorem dL_law_306 : decode cL_law 306 = .ok (.invokevirtual 51, 3) := by decide +kernel
theorem dL_law_309 : decode cL_law 309 = .ok (.aload_n 2, 1) := by decide +kernel
theorem dL_law_310 : decode cL_law 310 = .ok (.invokevirtual 55, 3) := by decide +kernel
theorem dL_law_313 : decode cL_law 313 = .ok (.if_icmp .eq 173, 3) := by decide +kernel
theorem dL_law_316 : decode cL_law 316 = .ok (.iconst 0, 1) := by decide +kernel
theorem dL_law_317 : decode cL_law 317 = .ok (.ireturn, 1) := by decide +kernel
theorem dL_law_318 : decode cL_law 318 = .ok (.aload_n 1, 1) := by decide +kernel
theorem dL_law_319 : decode cL_law 319 = .ok (.aload_n 0, 1) := by decide +kernel
theorem dL_law_320 : decode cL_law 320 = .ok (.iload_n 3, 1) := by decide +kernel
theorem dL_law_321 : decode cL_law 321 = .ok (.iconst 1, 1) := by decide +kernel
theorem dL_law_322 : decode cL_law 322 = .ok (.iadd, 1) := by decide +kernel
theorem dL_law_323 : decode cL_law 323 = .ok (.iaload, 1) := by decide +kernel
theorem dL_law_324 : decode cL_law 324 = .ok (.invokevirtual 56, 3) := by decide +kernel
theorem dL_law_327 : decode cL_law 327 = .ok (.aload_n 2, 1) := by decide +kernel
theorem dL_law_328 : decode cL_law 328 = .ok (.aload_n 0, 1) := by decide +kernel
theorem dL_law_329 : decode cL_law 329 = .ok (.iload_n 3, 1) := by decide +kernel
theorem dL_law_330 : decode cL_law 330 = .ok (.iconst 1, 1) := by decide +kernel
theorem dL_law_331 : decode cL_law 331 = .ok (.iadd, 1) := by decide +kernel
theorem dL_law_332 : decode cL_law 332 = .ok (.iaload, 1) := by decide +kernel
theorem dL_law_333 : decode cL_law 333 = .ok (.invokevirtual 59, 3) := by decide +kernel
theorem dL_law_336 : decode cL_law 336 = .ok (.if_icmp .eq 150, 3) := by decide +kernel
theorem dL_law_339 : decode cL_law 339 = .ok (.iconst 0, 1) := by decide +kernel
theorem dL_law_340 : decode cL_law 340 = .ok (.ireturn, 1) := by decide +kernel
theorem dL_law_341 : decode cL_law 341 = .ok (.aload_n 1, 1) := by decide +kernel
theorem dL_law_342 : decode cL_law 342 = .ok (.invokevirtual 60, 3) := by decide +kernel
theorem dL_law_345 : decode cL_law 345 = .ok (.aload_n 2, 1) := by decide +kernel
theorem dL_law_346 : decode cL_law 346 = .ok (.invokevirtual 63, 3) := by decide +kernel
theorem dL_law_349 : decode cL_law 349 = .ok (.if_icmp .eq 137, 3) := by decide +kernel
theorem dL_law_352 : decode cL_law 352 = .ok (.iconst 0, 1) := by decide +kernel
theorem dL_law_353 : decode cL_law 353 = .ok (.ireturn, 1) := by decide +kernel
theorem dL_law_354 : decode cL_law 354 = .ok (.aload_n 1, 1) := by decide +kernel
theorem dL_law_355 : decode cL_law 355 = .ok (.aload_n 0, 1) := by decide +kernel
theorem dL_law_356 : decode cL_law 356 = .ok (.iload_n 3, 1) := by decide +kernel
theorem dL_law_357 : decode cL_law 357 = .ok (.iconst 1, 1) := by decide +kernel
theorem dL_law_358 : decode cL_law 358 = .ok (.iadd, 1) := by decide +kernel
theorem dL_law_359 : decode cL_law 359 = .ok (.iaload, 1) := by decide +kernel
theorem dL_law_360 : decode cL_law 360 = .ok (.invokevirtual 64, 3) := by decide +kernel
theorem dL_law_363 : decode cL_law 363 = .ok (.aload_n 2, 1) := by decide +kernel
theorem dL_law_364 : decode cL_law 364 = .ok (.aload_n 0, 1) := by decide +kernel
theorem dL_law_365 : decode cL_law 365 = .ok (.iload_n 3, 1) := by decide +kernel
theorem dL_law_366 : decode cL_law 366 = .ok (.iconst 1, 1) := by decide +kernel
theorem dL_law_367 : decode cL_law 367 = .ok (.iadd, 1) := by decide +kernel
theorem dL_law_368 : decode cL_law 368 = .ok (.iaload, 1) := by decide +kernel
theorem dL_law_369 : decode cL_law 369 = .ok (.invokevirtual 67, 3) := by decide +kernel
theorem dL_law_372 : decode cL_law 372 = .ok (.if_icmp .eq 114, 3) := by decide +kernel
theorem dL_law_375 : decode cL_law 375 = .ok (.iconst 0, 1) := by decide +kernel
theorem dL_law_376 : decode cL_law 376 = .ok (.ireturn, 1) := by decide +kernel
theorem dL_law_377 : decode cL_law 377 = .ok (.aload_n 1, 1) := by decide +kernel
theorem dL_law_378 : decode cL_law 378 = .ok (.aload_n 0, 1) := by decide +kernel
theorem dL_law_379 : decode cL_law 379 = .ok (.iload_n 3, 1) := by decide +kernel
theorem dL_law_380 : decode cL_law 380 = .ok (.iconst 1, 1) := by decide +kernel
theorem dL_law_381 : decode cL_law 381 = .ok (.iadd, 1) := by decide +kernel
theorem dL_law_382 : decode cL_law 382 = .ok (.iaload, 1) := by decide +kernel
theorem dL_law_383 : decode cL_law 383 = .ok (.aload_n 0, 1) := by decide +kernel
theorem dL_law_384 : decode cL_law 384 = .ok (.iload_n 3, 1) := by decide +kernel
theorem dL_law_385 : decode cL_law 385 = .ok (.iconst 2, 1) := by decide +kernel
theorem dL_law_386 : decode cL_law 386 = .ok (.iadd, 1) := by decide +kernel
theorem dL_law_387 : decode cL_law 387 = .ok (.iaload, 1) := by decide +kernel
theorem dL_law_388 : decode cL_law 388 = .ok (.invokevirtual 68, 3) := by decide +kernel
theorem dL_law_391 : decode cL_law 391 = .ok (.aload_n 2, 1) := by decide +kernel
theorem dL_law_392 : decode cL_law 392 = .ok (.aload_n 0, 1) := by decide +kernel
theorem dL_law_393 : decode cL_law 393 = .ok (.iload_n 3, 1) := by decide +kernel
theorem dL_law_394 : decode cL_law 394 = .ok (.iconst 1, 1) := by decide +kernel
theorem dL_law_395 : decode cL_law 395 = .ok (.iadd, 1) := by decide +kernel
theorem dL_law_396 : decode cL_law 396 = .ok (.iaload, 1) := by decide +kernel
theorem dL_law_397 : decode cL_law 397 = .ok (.aload_n 0, 1) := by decide +kernel
theorem dL_law_398 : decode cL_law 398 = .ok (.iload_n 3, 1) := by decide +kernel
theorem dL_law_399 : decode cL_law 399 = .ok (.iconst 2, 1) := by decide +kernel
theorem dL_law_400 : decode cL_law 400 = .ok (.iadd, 1) := by decide +kernel
theorem dL_law_401 : decode cL_law 401 = .ok (.iaload, 1) := by decide +kernel
theorem dL_law_402 : decode cL_law 402 = .ok (.invokevirtual 71, 3) := by decide +kernel
theorem dL_law_405 : decode cL_law 405 = .ok (.if_icmp .eq 81, 3) := by decide +kernel
theorem dL_law_408 : decode cL_law 408 = .ok (.iconst 0, 1) := by decide +kernel
theorem dL_law_409 : decode cL_law 409 = .ok (.ireturn, 1) := by decide +kernel
theorem dL_law_410 : decode cL_law 410 = .ok (.aload_n 1, 1) := by decide +kernel
theorem dL_law_411 : decode cL_law 411 = .ok (.aload_n 0, 1) := by decide +kernel
theorem dL_law_412 : decode cL_law 412 = .ok (.iload_n 3, 1) := by decide +kernel
theorem dL_law_413 : decode cL_law 413 = .ok (.iconst 1, 1) := by decide +kernel
theorem dL_law_414 : decode cL_law 414 = .ok (.iadd, 1) := by decide +kernel
theorem dL_law_415 : decode cL_law 415 = .ok (.iaload, 1) := by decide +kernel
theorem dL_law_416 : decode cL_law 416 = .ok (.aload_n 0, 1) := by decide +kernel
theorem dL_law_417 : decode cL_law 417 = .ok (.iload_n 3, 1) := by decide +kernel
theorem dL_law_418 : decode cL_law 418 = .ok (.iconst 2, 1) := by decide +kernel
theorem dL_law_419 : decode cL_law 419 = .ok (.iadd, 1) := by decide +kernel
theorem dL_law_420 : decode cL_law 420 = .ok (.iaload, 1) := by decide +kernel
theorem dL_law_421 : decode cL_law 421 = .ok (.aload_n 0, 1) := by decide +kernel
theorem dL_law_422 : decode cL_law 422 = .ok (.iload_n 3, 1) := by decide +kernel
theorem dL_law_423 : decode cL_law 423 = .ok (.iconst 3, 1) := by decide +kernel
theorem dL_law_424 : decode cL_law 424 = .ok (.iadd, 1) := by decide +kernel
theorem dL_law_425 : decode cL_law 425 = .ok (.iaload, 1) := by decide +kernel
theorem dL_law_426 : decode cL_law 426 = .ok (.invokevirtual 72, 3) := by decide +kernel
theorem dL_law_429 : decode cL_law 429 = .ok (.aload_n 2, 1) := by decide +kernel
theorem dL_law_430 : decode cL_law 430 = .ok (.aload_n 0, 1) := by decide +kernel
theorem dL_law_431 : decode cL_law 431 = .ok (.iload_n 3, 1) := by decide +kernel
theorem dL_law_432 : decode cL_law 432 = .ok (.iconst 1, 1) := by decide +kernel
theorem dL_law_433 : decode cL_law 433 = .ok (.iadd, 1) := by decide +kernel
theorem dL_law_434 : decode cL_law 434 = .ok (.iaload, 1) := by decide +kernel
theorem dL_law_435 : decode cL_law 435 = .ok (.aload_n 0, 1) := by decide +kernel
theorem dL_law_436 : decode cL_law 436 = .ok (.iload_n 3, 1) := by decide +kernel
theorem dL_law_437 : decode cL_law 437 = .ok (.iconst 2, 1) := by decide +kernel
theorem dL_law_438 : decode cL_law 438 = .ok (.iadd, 1) := by decide +kernel
theorem dL_law_439 : decode cL_law 439 = .ok (.iaload, 1) := by decide +kernel
theorem dL_law_440 : decode cL_law 440 = .ok (.aload_n 0, 1) := by decide +kernel
theorem dL_law_441 : decode cL_law 441 = .ok (.iload_n 3, 1) := by decide +kernel
theorem dL_law_442 : decode cL_law 442 = .ok (.iconst 3, 1) := by decide +kernel
theorem dL_law_443 : decode cL_law 443 = .ok (.iadd, 1) := by decide +kernel
theorem dL_law_444 : decode cL_law 444 = .ok (.iaload, 1) := by decide +kernel
theorem dL_law_445 : decode cL_law 445 = .ok (.invokevirtual 76, 3) := by decide +kernel
theorem dL_law_448 : decode cL_law 448 = .ok (.if_icmp .eq 38, 3) := by decide +kernel
theorem dL_law_451 : decode cL_law 451 = .ok (.iconst 0, 1) := by decide +kernel
theorem dL_law_452 : decode cL_law 452 = .ok (.ireturn, 1) := by decide +kernel
theorem dL_law_453 : decode cL_law 453 = .ok (.aload_n 1, 1) := by decide +kernel
theorem dL_law_454 : decode cL_law 454 = .ok (.aload_n 0, 1) := by decide +kernel
theorem dL_law_455 : decode cL_law 455 = .ok (.iload_n 3, 1) := by decide +kernel
theorem dL_law_456 : decode cL_law 456 = .ok (.iconst 1, 1) := by decide +kernel
theorem dL_law_457 : decode cL_law 457 = .ok (.iadd, 1) := by decide +kernel
theorem dL_law_458 : decode cL_law 458 = .ok (.iaload, 1) := by decide +kernel
theorem dL_law_459 : decode cL_law 459 = .ok (.aload_n 0, 1) := by decide +kernel
theorem dL_law_460 : decode cL_law 460 = .ok (.iload_n 3, 1) := by decide +kernel
theorem dL_law_461 : decode cL_law 461 = .ok (.iconst 2, 1) := by decide +kernel
theorem dL_law_462 : decode cL_law 462 = .ok (.iadd, 1) := by decide +kernel
theorem dL_law_463 : decode cL_law 463 = .ok (.iaload, 1) := by decide +kernel
theorem dL_law_464 : decode cL_law 464 = .ok (.invokevirtual 77, 3) := by decide +kernel
theorem dL_law_467 : decode cL_law 467 = .ok (.aload_n 2, 1) := by decide +kernel
theorem dL_law_468 : decode cL_law 468 = .ok (.aload_n 0, 1) := by decide +kernel
theorem dL_law_469 : decode cL_law 469 = .ok (.iload_n 3, 1) := by decide +kernel
theorem dL_law_470 : decode cL_law 470 = .ok (.iconst 1, 1) := by decide +kernel
theorem dL_law_471 : decode cL_law 471 = .ok (.iadd, 1) := by decide +kernel
theorem dL_law_472 : decode cL_law 472 = .ok (.iaload, 1) := by decide +kernel
theorem dL_law_473 : decode cL_law 473 = .ok (.aload_n 0, 1) := by decide +kernel
theorem dL_law_474 : decode cL_law 474 = .ok (.iload_n 3, 1) := by decide +kernel
theorem dL_law_475 : decode cL_law 475 = .ok (.iconst 2, 1) := by decide +kernel
theorem dL_law_476 : decode cL_law 476 = .ok (.iadd, 1) := by decide +kernel
theorem dL_law_477 : decode cL_law 477 = .ok (.iaload, 1) := by decide +kernel
theorem dL_law_478 : decode cL_law 478 = .ok (.invokevirtual 81, 3) := by decide +kernel
theorem dL_law_481 : decode cL_law 481 = .ok (.if_icmp .eq 5, 3) := by decide +kernel
theorem dL_law_484 : decode cL_law 484 = .ok (.iconst 0, 1) := by decide +kernel
theorem dL_law_485 : decode cL_law 485 = .ok (.ireturn, 1) := by decide +kernel
theorem dL_law_486 : decode cL_law 486 = .ok (.iinc 3 4, 3) := by decide +kernel
theorem dL_law_489 : decode cL_law 489 = .ok (.goto (-451), 3) := by decide +kernel
theorem dL_law_492 : decode cL_law 492 = .ok (.iconst 1, 1) := by decide +kernel
theorem dL_law_493 : decode cL_law 493 = .ok (.ireturn, 1) := by decide +kernel
end
section
/-! THE WALK'S OWN ROWS: vV hides heap, written places and locals' array; a state is (world, locals by place, pc, stack) -/
abbrev vCl : List vw_C := [(RX1, TX1, 15), (RX2, TX2, 8)]
abbrev vX : Type := (Program × Env × Room) × (State × MethodId × Array Value × List Frame) × (Method × Code × (Nat → Prop) × (State → Prop))
def vPos : Nat → List Value → List (Nat × Value)
  | _, [] => []
  | n, v :: r => (n, v) :: vPos (n + 1) r
def vLoc (ls : Array Slot) (nL : Nat) (L : List Value) : Prop := lv_has ls nL (vPos 0 L) ∧ ∀ v ∈ L, v.category = 1
def vV (l : Launch) (D : va_G) (X : vX) (nL : Nat) (tys : List (ClassId × FieldType)) (n1 n2 : Nat) (ws : va_W) (L : List Value) (pc : Nat) (st : List Value) : Prop :=
  match X with
  | ((p, e, R), (s, m, args, below), (meth, c, A, Q)) => ∀ (H : Heap) (locs : List Loc) (ls : Array Slot), va_K D vCl tys s → va_P D vCl ws H → va_D A ws → va_S A s.heap H locs → vLoc ls nL L → W p l e R s m args below meth c H locs n1 n2 Q (F0 m pc ls st)
/-- what a walk stands on -/
def vC (l : Launch) (D : va_G) (X : vX) (nL : Nat) (cc : ByteArray) (own : String) (rm : Room) : Prop :=
  match X with
  | ((p, _, R), (s, m, args, _), (_, c, A, _)) => p.tables.exec = Jvm.exec ∧ c.code = cc ∧ c.maxLocals = nL ∧ s.vm.findClass own = some m.cls ∧ (∀ w ∈ lw_all, w.before args s = true) ∧ (∀ q : Nat, s.heap.size ≤ q → A q) ∧ R = rm
theorem vPos_get : ∀ (L : List Value) (n i : Nat), (vPos n L)[i]? = (L[i]?).map (fun v => (n + i, v))
  | [], n, i => by simp [vPos]
  | v :: r, n, 0 => by simp [vPos]
  | v :: r, n, i + 1 => by
    rw [vPos, List.getElem?_cons_succ, List.getElem?_cons_succ, vPos_get r (n + 1) i]
    congr 1
    funext w
    rw [show n + 1 + i = n + (i + 1) by omega]
theorem vLoc.at {ls : Array Slot} {nL : Nat} {L : List Value} (h : vLoc ls nL L) {i : Nat} {v : Value} (hi : L[i]? = some v) : ls[i]? = some (.val v) := by
  refine lv_at h.1 i (i := i) ?_
  rw [vPos_get, hi]
  simp
theorem vPos_mem {L : List Value} {n : Nat} {q : Nat × Value} (h : q ∈ vPos n L) : ∃ i : Nat, L[i]? = some q.2 ∧ q.1 = n + i := by
  obtain ⟨i, hi⟩ := List.getElem?_of_mem h
  rw [vPos_get] at hi
  cases hL : L[i]? with
  | none => rw [hL] at hi; cases hi
  | some v =>
    rw [hL] at hi
    cases hi
    exact ⟨i, hL, rfl⟩
theorem vLoc.of {ls : Array Slot} {nL : Nat} {L L' : List Value} (h : vLoc ls nL L) (hs : ∀ (i : Nat) (v : Value), L'[i]? = some v → L[i]? = some v) : vLoc ls nL L' := by
  refine ⟨⟨h.1.1, h.1.2.1, fun q hq => ?_⟩, fun v hv => ?_⟩
  · obtain ⟨i, hi, e⟩ := vPos_mem hq
    rw [e, Nat.zero_add]
    exact h.at (hs i _ hi)
  · obtain ⟨i, hi⟩ := List.getElem?_of_mem hv
    exact h.2 v (List.mem_of_getElem? (hs i v hi))
/-- the locals behind a store -/
def vSet (L : List Value) (i : Nat) (v : Value) : List Value := L.take i ++ v :: L.drop (i + 1)
theorem vLoc.stored {ls' : Array Slot} {nL i : Nat} {L : List Value} {v : Value} (hi : i ≤ L.length) (hc : v.category = 1) (hL : ∀ w ∈ L, w.category = 1) (h : lv_has ls' nL ((i, v) :: (vPos 0 L).filter (fun q => !(q.1 == i) && !(q.1 + 1 == i && q.2.category == 2)))) : vLoc ls' nL (vSet L i v) := by
  refine ⟨⟨h.1, h.2.1, fun q hq => ?_⟩, fun w hw => ?_⟩
  · obtain ⟨j, hj, e⟩ := vPos_mem hq
    rw [Nat.zero_add] at e
    refine h.2.2 q ?_
    by_cases hji : j = i
    · subst hji
      have : (vSet L j v)[j]? = some v := by
        unfold vSet
        rw [List.getElem?_append_right (by rw [List.length_take]; omega), List.length_take, Nat.min_eq_left hi, Nat.sub_self]
        rfl
      rw [this] at hj
      cases hj
      obtain ⟨q1, q2⟩ := q
      dsimp only at e
      subst e
      exact List.mem_cons_self
    · have : (vSet L i v)[j]? = L[j]? := by
        unfold vSet
        by_cases hlt : j < i
        · rw [List.getElem?_append_left (by rw [List.length_take]; omega), List.getElem?_take, if_pos hlt]
        · rw [List.getElem?_append_right (by rw [List.length_take]; omega), List.length_take, Nat.min_eq_left hi]
          obtain ⟨k, rfl⟩ : ∃ k, j = i + 1 + k := ⟨j - i - 1, by omega⟩
          rw [show i + 1 + k - i = k + 1 by omega, List.getElem?_cons_succ, List.getElem?_drop]
      rw [this] at hj
      refine List.mem_cons_of_mem _ (List.mem_filter.mpr ⟨?_, ?_⟩)
      · refine List.mem_of_getElem? (i := j) ?_
        rw [vPos_get, hj]
        obtain ⟨q1, q2⟩ := q
        dsimp only at e
        subst e
        simp
      · have h1 := hL q.2 (List.mem_of_getElem? hj)
        rw [e, h1]
        simp [hji]
  · unfold vSet at hw
    rcases List.mem_append.mp hw with h1 | h1
    · exact hL w (List.mem_of_mem_take h1)
    · rcases List.mem_cons.mp h1 with h2 | h2
      · rw [h2]; exact hc
      · exact hL w (List.mem_of_mem_drop h2)
section VV
variable {l : Launch} {D : va_G} {X : vX} {nL : Nat} {tys : List (ClassId × FieldType)} {n1 n2 : Nat} {ws : va_W} {L L' : List Value} {pc : Nat} {st : List Value} {cc : ByteArray} {own : String} {R : Room}
theorem v_weak (hs : ∀ (i : Nat) (v : Value), L'[i]? = some v → L[i]? = some v) (kk : vV l D X nL tys n1 n2 ws L' pc st) : vV l D X nL tys n1 n2 ws L pc st := by
  obtain ⟨⟨p, e, R⟩, ⟨s, m, args, below⟩, meth, c, A, Q⟩ := X
  exact fun H locs ls hK hP hD hS hl => kk H locs ls hK hP hD hS (hl.of hs)
/-- the first n locals are kept -/
theorem v_take (n : Nat) (hs : L.take n = L') (kk : vV l D X nL tys n1 n2 ws L' pc st) : vV l D X nL tys n1 n2 ws L pc st := by
  refine v_weak (fun i v h => ?_) kk
  rw [← hs, List.getElem?_take] at h
  split at h
  · exact h
  · cases h
theorem v_top {x y : Int32} (h : x = y) (kk : vV l D X nL tys n1 n2 ws L pc (.int y :: st)) : vV l D X nL tys n1 n2 ws L pc (.int x :: st) := h ▸ kk
theorem v_ws {ws' : va_W} (h : ws = ws') (kk : vV l D X nL tys n1 n2 ws' L pc st) : vV l D X nL tys n1 n2 ws L pc st := h ▸ kk
theorem v_widen {k n : Nat} (h1 : n1 ≤ k) (h2 : n2 ≤ n) (kk : vV l D X nL tys k n ws L pc st) : vV l D X nL tys n1 n2 ws L pc st := by
  obtain ⟨⟨p, e, R⟩, ⟨s, m, args, below⟩, meth, c, A, Q⟩ := X
  exact fun H locs ls hK hP hD hS hl => W.widen h1 h2 (kk H locs ls hK hP hD hS hl)
theorem v_iload_n (hC : vC l D X nL cc own R) {k : Fin 4} {x : Int32} (hd : decode cc pc = .ok (.iload_n k, 1)) (hl : L[(k : Nat)]? = some (.int x)) (kk : vV l D X nL tys n1 n2 ws L (pc + 1) (.int x :: st)) : vV l D X nL tys n1 n2 ws L pc st := by
  obtain ⟨⟨p, e, R⟩, ⟨s, m, args, below⟩, meth, c, A, Q⟩ := X
  obtain ⟨hx, hb, hml, ho, hts, hA, hR⟩ := hC
  exact fun H locs ls hK hP hD hS hl' => lv_iload_n hx hb hd rfl (hl'.at hl) (kk H locs ls hK hP hD hS hl')
theorem v_iload (hC : vC l D X nL cc own R) {i : Nat} {x : Int32} (hd : decode cc pc = .ok (.iload i, 2)) (hl : L[i]? = some (.int x)) (kk : vV l D X nL tys n1 n2 ws L (pc + 2) (.int x :: st)) : vV l D X nL tys n1 n2 ws L pc st := by
  obtain ⟨⟨p, e, R⟩, ⟨s, m, args, below⟩, meth, c, A, Q⟩ := X
  obtain ⟨hx, hb, hml, ho, hts, hA, hR⟩ := hC
  exact fun H locs ls hK hP hD hS hl' => lv_iload hx hb hd (hl'.at hl) (kk H locs ls hK hP hD hS hl')
theorem v_aload_n (hC : vC l D X nL cc own R) {k : Fin 4} {x : Nat} (hd : decode cc pc = .ok (.aload_n k, 1)) (hl : L[(k : Nat)]? = some (.ref x)) (kk : vV l D X nL tys n1 n2 ws L (pc + 1) (.ref x :: st)) : vV l D X nL tys n1 n2 ws L pc st := by
  obtain ⟨⟨p, e, R⟩, ⟨s, m, args, below⟩, meth, c, A, Q⟩ := X
  obtain ⟨hx, hb, hml, ho, hts, hA, hR⟩ := hC
  exact fun H locs ls hK hP hD hS hl' => lv_aload_n hx hb hd rfl (hl'.at hl) (kk H locs ls hK hP hD hS hl')
theorem v_istore_n (hC : vC l D X nL cc own R) {k : Fin 4} {x : Int32} (hd : decode cc pc = .ok (.istore_n k, 1)) (hi : (k : Nat) ≤ L.length) (hn : (k : Nat) < nL) (hl : vSet L k (.int x) = L') (kk : vV l D X nL tys n1 n2 ws L' (pc + 1) st) : vV l D X nL tys n1 n2 ws L pc (.int x :: st) := by
  obtain ⟨⟨p, e, R⟩, ⟨s, m, args, below⟩, meth, c, A, Q⟩ := X
  obtain ⟨hx, hb, hml, ho, hts, hA, hR⟩ := hC
  subst hl
  exact fun H locs ls hK hP hD hS hl' => lv_istore_n hx hb hd rfl hl'.1 hn rfl (fun ls2 h2 => kk H locs ls2 hK hP hD hS (vLoc.stored hi rfl hl'.2 h2))
theorem v_istore (hC : vC l D X nL cc own R) {i : Nat} {x : Int32} (hd : decode cc pc = .ok (.istore i, 2)) (hi : i ≤ L.length) (hn : i < nL) (hl : vSet L i (.int x) = L') (kk : vV l D X nL tys n1 n2 ws L' (pc + 2) st) : vV l D X nL tys n1 n2 ws L pc (.int x :: st) := by
  obtain ⟨⟨p, e, R⟩, ⟨s, m, args, below⟩, meth, c, A, Q⟩ := X
  obtain ⟨hx, hb, hml, ho, hts, hA, hR⟩ := hC
  subst hl
  exact fun H locs ls hK hP hD hS hl' => lv_istore hx hb hd hl'.1 hn rfl (fun ls2 h2 => kk H locs ls2 hK hP hD hS (vLoc.stored hi rfl hl'.2 h2))
theorem v_astore_n (hC : vC l D X nL cc own R) {k : Fin 4} {x : Nat} (hd : decode cc pc = .ok (.astore_n k, 1)) (hi : (k : Nat) ≤ L.length) (hn : (k : Nat) < nL) (hl : vSet L k (.ref x) = L') (kk : vV l D X nL tys n1 n2 ws L' (pc + 1) st) : vV l D X nL tys n1 n2 ws L pc (.ref x :: st) := by
  obtain ⟨⟨p, e, R⟩, ⟨s, m, args, below⟩, meth, c, A, Q⟩ := X
  obtain ⟨hx, hb, hml, ho, hts, hA, hR⟩ := hC
  subst hl
  exact fun H locs ls hK hP hD hS hl' => lv_astore_n hx hb hd rfl hl'.1 hn rfl (fun ls2 h2 => kk H locs ls2 hK hP hD hS (vLoc.stored hi rfl hl'.2 h2))
theorem v_iinc (hC : vC l D X nL cc own R) {i : Nat} {n : Int} {x v : Int32} (hd : decode cc pc = .ok (.iinc i n, 3)) (hg : L[i]? = some (.int x)) (hv : x + Int32.ofInt n = v) (hn : i < nL) (hl : vSet L i (.int v) = L') (kk : vV l D X nL tys n1 n2 ws L' (pc + 3) st) : vV l D X nL tys n1 n2 ws L pc st := by
  obtain ⟨⟨p, e, R⟩, ⟨s, m, args, below⟩, meth, c, A, Q⟩ := X
  obtain ⟨hx, hb, hml, ho, hts, hA, hR⟩ := hC
  subst hl
  have hi : i ≤ L.length := Nat.le_of_lt (List.getElem?_eq_some_iff.mp hg).1
  exact fun H locs ls hK hP hD hS hl' => lv_iinc (k := i) hx hb hd hl'.1 (by rw [vPos_get, hg]; simp) hv hn rfl (fun ls2 h2 => kk H locs ls2 hK hP hD hS (vLoc.stored hi rfl hl'.2 h2))
theorem v_iconst (hC : vC l D X nL cc own R) {n : Int} {v : Int32} (hd : decode cc pc = .ok (.iconst n, 1)) (hv : Int32.ofInt n = v) (kk : vV l D X nL tys n1 n2 ws L (pc + 1) (.int v :: st)) : vV l D X nL tys n1 n2 ws L pc st := by
  obtain ⟨⟨p, e, R⟩, ⟨s, m, args, below⟩, meth, c, A, Q⟩ := X
  obtain ⟨hx, hb, hml, ho, hts, hA, hR⟩ := hC
  exact fun H locs ls hK hP hD hS hl' => lv_iconst hx hb hd hv (kk H locs ls hK hP hD hS hl')
theorem v_bipush (hC : vC l D X nL cc own R) {n : Int} {v : Int32} (hd : decode cc pc = .ok (.bipush n, 2)) (hv : (Int8.ofInt n).toInt32 = v) (kk : vV l D X nL tys n1 n2 ws L (pc + 2) (.int v :: st)) : vV l D X nL tys n1 n2 ws L pc st := by
  obtain ⟨⟨p, e, R⟩, ⟨s, m, args, below⟩, meth, c, A, Q⟩ := X
  obtain ⟨hx, hb, hml, ho, hts, hA, hR⟩ := hC
  exact fun H locs ls hK hP hD hS hl' => lv_bipush hx hb hd hv (kk H locs ls hK hP hD hS hl')
theorem v_sipush (hC : vC l D X nL cc own R) {n : Int} {v : Int32} (hd : decode cc pc = .ok (.sipush n, 3)) (hv : (Int16.ofInt n).toInt32 = v) (kk : vV l D X nL tys n1 n2 ws L (pc + 3) (.int v :: st)) : vV l D X nL tys n1 n2 ws L pc st := by
  obtain ⟨⟨p, e, R⟩, ⟨s, m, args, below⟩, meth, c, A, Q⟩ := X
  obtain ⟨hx, hb, hml, ho, hts, hA, hR⟩ := hC
  exact fun H locs ls hK hP hD hS hl' => lv_sipush hx hb hd hv (kk H locs ls hK hP hD hS hl')
theorem v_ldc (hC : vC l D X nL cc own R) {index : Nat} {v : Int32} (hq : Jvm.Cond.constant own index v ∈ lw_all) (hd : decode cc pc = .ok (.ldc index, 2)) (kk : vV l D X nL tys n1 n2 ws L (pc + 2) (.int v :: st)) : vV l D X nL tys n1 n2 ws L pc st := by
  obtain ⟨⟨p, e, R⟩, ⟨s, m, args, below⟩, meth, c, A, Q⟩ := X
  obtain ⟨hx, hb, hml, ho, hts, hA, hR⟩ := hC
  exact fun H locs ls hK hP hD hS hl' => lv_ldc hx hb ho (hts _ hq) hd (kk H locs ls hK hP hD hS hl')
theorem v_iadd (hC : vC l D X nL cc own R) {x y : Int32} (hd : decode cc pc = .ok (.iadd, 1)) (kk : vV l D X nL tys n1 n2 ws L (pc + 1) (.int (x + y) :: st)) : vV l D X nL tys n1 n2 ws L pc (.int y :: .int x :: st) := by
  obtain ⟨⟨p, e, R⟩, ⟨s, m, args, below⟩, meth, c, A, Q⟩ := X
  obtain ⟨hx, hb, hml, ho, hts, hA, hR⟩ := hC
  exact fun H locs ls hK hP hD hS hl' => lv_iadd hx hb hd (kk H locs ls hK hP hD hS hl')
theorem v_isub (hC : vC l D X nL cc own R) {x y : Int32} (hd : decode cc pc = .ok (.isub, 1)) (kk : vV l D X nL tys n1 n2 ws L (pc + 1) (.int (x - y) :: st)) : vV l D X nL tys n1 n2 ws L pc (.int y :: .int x :: st) := by
  obtain ⟨⟨p, e, R⟩, ⟨s, m, args, below⟩, meth, c, A, Q⟩ := X
  obtain ⟨hx, hb, hml, ho, hts, hA, hR⟩ := hC
  exact fun H locs ls hK hP hD hS hl' => lv_isub hx hb hd (kk H locs ls hK hP hD hS hl')
theorem v_imul (hC : vC l D X nL cc own R) {x y : Int32} (hd : decode cc pc = .ok (.imul, 1)) (kk : vV l D X nL tys n1 n2 ws L (pc + 1) (.int (x * y) :: st)) : vV l D X nL tys n1 n2 ws L pc (.int y :: .int x :: st) := by
  obtain ⟨⟨p, e, R⟩, ⟨s, m, args, below⟩, meth, c, A, Q⟩ := X
  obtain ⟨hx, hb, hml, ho, hts, hA, hR⟩ := hC
  exact fun H locs ls hK hP hD hS hl' => lv_imul hx hb hd (kk H locs ls hK hP hD hS hl')
theorem v_idiv (hC : vC l D X nL cc own R) {x y : Int32} (hd : decode cc pc = .ok (.idiv, 1)) (hne : ¬ y = 0) (kk : vV l D X nL tys n1 n2 ws L (pc + 1) (.int (x / y) :: st)) : vV l D X nL tys n1 n2 ws L pc (.int y :: .int x :: st) := by
  obtain ⟨⟨p, e, R⟩, ⟨s, m, args, below⟩, meth, c, A, Q⟩ := X
  obtain ⟨hx, hb, hml, ho, hts, hA, hR⟩ := hC
  exact fun H locs ls hK hP hD hS hl' => lv_idiv hx hb hd hne (kk H locs ls hK hP hD hS hl')
theorem v_iand (hC : vC l D X nL cc own R) {x y : Int32} (hd : decode cc pc = .ok (.iand, 1)) (kk : vV l D X nL tys n1 n2 ws L (pc + 1) (.int (x &&& y) :: st)) : vV l D X nL tys n1 n2 ws L pc (.int y :: .int x :: st) := by
  obtain ⟨⟨p, e, R⟩, ⟨s, m, args, below⟩, meth, c, A, Q⟩ := X
  obtain ⟨hx, hb, hml, ho, hts, hA, hR⟩ := hC
  exact fun H locs ls hK hP hD hS hl' => lv_iand hx hb hd (kk H locs ls hK hP hD hS hl')
theorem v_ior (hC : vC l D X nL cc own R) {x y : Int32} (hd : decode cc pc = .ok (.ior, 1)) (kk : vV l D X nL tys n1 n2 ws L (pc + 1) (.int (x ||| y) :: st)) : vV l D X nL tys n1 n2 ws L pc (.int y :: .int x :: st) := by
  obtain ⟨⟨p, e, R⟩, ⟨s, m, args, below⟩, meth, c, A, Q⟩ := X
  obtain ⟨hx, hb, hml, ho, hts, hA, hR⟩ := hC
  exact fun H locs ls hK hP hD hS hl' => lv_ior hx hb hd (kk H locs ls hK hP hD hS hl')
theorem v_ixor (hC : vC l D X nL cc own R) {x y : Int32} (hd : decode cc pc = .ok (.ixor, 1)) (kk : vV l D X nL tys n1 n2 ws L (pc + 1) (.int (x ^^^ y) :: st)) : vV l D X nL tys n1 n2 ws L pc (.int y :: .int x :: st) := by
  obtain ⟨⟨p, e, R⟩, ⟨s, m, args, below⟩, meth, c, A, Q⟩ := X
  obtain ⟨hx, hb, hml, ho, hts, hA, hR⟩ := hC
  exact fun H locs ls hK hP hD hS hl' => lv_ixor hx hb hd (kk H locs ls hK hP hD hS hl')
theorem v_ineg (hC : vC l D X nL cc own R) {x : Int32} (hd : decode cc pc = .ok (.ineg, 1)) (kk : vV l D X nL tys n1 n2 ws L (pc + 1) (.int (-x) :: st)) : vV l D X nL tys n1 n2 ws L pc (.int x :: st) := by
  obtain ⟨⟨p, e, R⟩, ⟨s, m, args, below⟩, meth, c, A, Q⟩ := X
  obtain ⟨hx, hb, hml, ho, hts, hA, hR⟩ := hC
  exact fun H locs ls hK hP hD hS hl' => lv_ineg hx hb hd (kk H locs ls hK hP hD hS hl')
theorem v_ishl (hC : vC l D X nL cc own R) {x y : Int32} (hd : decode cc pc = .ok (.ishl, 1)) (kk : vV l D X nL tys n1 n2 ws L (pc + 1) (.int (x <<< (y &&& 31)) :: st)) : vV l D X nL tys n1 n2 ws L pc (.int y :: .int x :: st) := by
  obtain ⟨⟨p, e, R⟩, ⟨s, m, args, below⟩, meth, c, A, Q⟩ := X
  obtain ⟨hx, hb, hml, ho, hts, hA, hR⟩ := hC
  exact fun H locs ls hK hP hD hS hl' => lv_ishl hx hb hd (kk H locs ls hK hP hD hS hl')
theorem v_ishr (hC : vC l D X nL cc own R) {x y : Int32} (hd : decode cc pc = .ok (.ishr, 1)) (kk : vV l D X nL tys n1 n2 ws L (pc + 1) (.int (x >>> (y &&& 31)) :: st)) : vV l D X nL tys n1 n2 ws L pc (.int y :: .int x :: st) := by
  obtain ⟨⟨p, e, R⟩, ⟨s, m, args, below⟩, meth, c, A, Q⟩ := X
  obtain ⟨hx, hb, hml, ho, hts, hA, hR⟩ := hC
  exact fun H locs ls hK hP hD hS hl' => lv_ishr hx hb hd (kk H locs ls hK hP hD hS hl')
theorem v_iushr (hC : vC l D X nL cc own R) {x y v : Int32} (hd : decode cc pc = .ok (.iushr, 1)) (hv : (x.toUInt32 >>> (y.toUInt32 &&& Int32.toUInt32 31)).toInt32 = v) (kk : vV l D X nL tys n1 n2 ws L (pc + 1) (.int v :: st)) : vV l D X nL tys n1 n2 ws L pc (.int y :: .int x :: st) := by
  obtain ⟨⟨p, e, R⟩, ⟨s, m, args, below⟩, meth, c, A, Q⟩ := X
  obtain ⟨hx, hb, hml, ho, hts, hA, hR⟩ := hC
  exact fun H locs ls hK hP hD hS hl' => lv_iushr hx hb hd hv (kk H locs ls hK hP hD hS hl')
theorem v_i2s (hC : vC l D X nL cc own R) {x v : Int32} (hd : decode cc pc = .ok (.i2s, 1)) (hv : x.toInt16.toInt32 = v) (kk : vV l D X nL tys n1 n2 ws L (pc + 1) (.int v :: st)) : vV l D X nL tys n1 n2 ws L pc (.int x :: st) := by
  obtain ⟨⟨p, e, R⟩, ⟨s, m, args, below⟩, meth, c, A, Q⟩ := X
  obtain ⟨hx, hb, hml, ho, hts, hA, hR⟩ := hC
  exact fun H locs ls hK hP hD hS hl' => lv_i2s hx hb hd hv (kk H locs ls hK hP hD hS hl')
theorem v_dup (hC : vC l D X nL cc own R) {va : Value} (hd : decode cc pc = .ok (.dup, 1)) (hv : va.category = 1) (kk : vV l D X nL tys n1 n2 ws L (pc + 1) (va :: va :: st)) : vV l D X nL tys n1 n2 ws L pc (va :: st) := by
  obtain ⟨⟨p, e, R⟩, ⟨s, m, args, below⟩, meth, c, A, Q⟩ := X
  obtain ⟨hx, hb, hml, ho, hts, hA, hR⟩ := hC
  exact fun H locs ls hK hP hD hS hl' => lv_dup hx hb hd hv (kk H locs ls hK hP hD hS hl')
theorem v_goto (hC : vC l D X nL cc own R) {off : Int} {tgt : Nat} (hd : decode cc pc = .ok (.goto off, 3)) (ht : (pc : Int) + off = (tgt : Int)) (kk : vV l D X nL tys n1 n2 ws L tgt st) : vV l D X nL tys n1 n2 ws L pc st := by
  obtain ⟨⟨p, e, R⟩, ⟨s, m, args, below⟩, meth, c, A, Q⟩ := X
  obtain ⟨hx, hb, hml, ho, hts, hA, hR⟩ := hC
  exact fun H locs ls hK hP hD hS hl' => lv_goto hx hb hd ht (kk H locs ls hK hP hD hS hl')
theorem v_if_eq (hC : vC l D X nL cc own R) {x : Int32} {off : Int} {tgt : Nat} (hd : decode cc pc = .ok (.ifCond .eq off, 3)) (ht : (pc : Int) + off = (tgt : Int)) (kt : x = 0 → vV l D X nL tys n1 n2 ws L tgt st) (kf : ¬ x = 0 → vV l D X nL tys n1 n2 ws L (pc + 3) st) : vV l D X nL tys n1 n2 ws L pc (.int x :: st) := by
  obtain ⟨⟨p, e, R⟩, ⟨s, m, args, below⟩, meth, c, A, Q⟩ := X
  obtain ⟨hx, hb, hml, ho, hts, hA, hR⟩ := hC
  exact fun H locs ls hK hP hD hS hl' => lv_if_eq hx hb hd ht (fun q => kt q H locs ls hK hP hD hS hl') (fun q => kf q H locs ls hK hP hD hS hl')
theorem v_icmp_eq (hC : vC l D X nL cc own R) {x y : Int32} {off : Int} {tgt : Nat} (hd : decode cc pc = .ok (.if_icmp .eq off, 3)) (ht : (pc : Int) + off = (tgt : Int)) (kt : x = y → vV l D X nL tys n1 n2 ws L tgt st) (kf : ¬ x = y → vV l D X nL tys n1 n2 ws L (pc + 3) st) : vV l D X nL tys n1 n2 ws L pc (.int y :: .int x :: st) := by
  obtain ⟨⟨p, e, R⟩, ⟨s, m, args, below⟩, meth, c, A, Q⟩ := X
  obtain ⟨hx, hb, hml, ho, hts, hA, hR⟩ := hC
  exact fun H locs ls hK hP hD hS hl' => lv_icmp_eq hx hb hd ht (fun q => kt q H locs ls hK hP hD hS hl') (fun q => kf q H locs ls hK hP hD hS hl')
theorem v_if_ne (hC : vC l D X nL cc own R) {x : Int32} {off : Int} {tgt : Nat} (hd : decode cc pc = .ok (.ifCond .ne off, 3)) (ht : (pc : Int) + off = (tgt : Int)) (kt : ¬ x = 0 → vV l D X nL tys n1 n2 ws L tgt st) (kf : x = 0 → vV l D X nL tys n1 n2 ws L (pc + 3) st) : vV l D X nL tys n1 n2 ws L pc (.int x :: st) := by
  obtain ⟨⟨p, e, R⟩, ⟨s, m, args, below⟩, meth, c, A, Q⟩ := X
  obtain ⟨hx, hb, hml, ho, hts, hA, hR⟩ := hC
  exact fun H locs ls hK hP hD hS hl' => lv_if_ne hx hb hd ht (fun q => kt q H locs ls hK hP hD hS hl') (fun q => kf q H locs ls hK hP hD hS hl')
theorem v_icmp_ne (hC : vC l D X nL cc own R) {x y : Int32} {off : Int} {tgt : Nat} (hd : decode cc pc = .ok (.if_icmp .ne off, 3)) (ht : (pc : Int) + off = (tgt : Int)) (kt : ¬ x = y → vV l D X nL tys n1 n2 ws L tgt st) (kf : x = y → vV l D X nL tys n1 n2 ws L (pc + 3) st) : vV l D X nL tys n1 n2 ws L pc (.int y :: .int x :: st) := by
  obtain ⟨⟨p, e, R⟩, ⟨s, m, args, below⟩, meth, c, A, Q⟩ := X
  obtain ⟨hx, hb, hml, ho, hts, hA, hR⟩ := hC
  exact fun H locs ls hK hP hD hS hl' => lv_icmp_ne hx hb hd ht (fun q => kt q H locs ls hK hP hD hS hl') (fun q => kf q H locs ls hK hP hD hS hl')
theorem v_if_lt (hC : vC l D X nL cc own R) {x : Int32} {off : Int} {tgt : Nat} (hd : decode cc pc = .ok (.ifCond .lt off, 3)) (ht : (pc : Int) + off = (tgt : Int)) (kt : x < 0 → vV l D X nL tys n1 n2 ws L tgt st) (kf : ¬ x < 0 → vV l D X nL tys n1 n2 ws L (pc + 3) st) : vV l D X nL tys n1 n2 ws L pc (.int x :: st) := by
  obtain ⟨⟨p, e, R⟩, ⟨s, m, args, below⟩, meth, c, A, Q⟩ := X
  obtain ⟨hx, hb, hml, ho, hts, hA, hR⟩ := hC
  exact fun H locs ls hK hP hD hS hl' => lv_if_lt hx hb hd ht (fun q => kt q H locs ls hK hP hD hS hl') (fun q => kf q H locs ls hK hP hD hS hl')
theorem v_icmp_lt (hC : vC l D X nL cc own R) {x y : Int32} {off : Int} {tgt : Nat} (hd : decode cc pc = .ok (.if_icmp .lt off, 3)) (ht : (pc : Int) + off = (tgt : Int)) (kt : x < y → vV l D X nL tys n1 n2 ws L tgt st) (kf : ¬ x < y → vV l D X nL tys n1 n2 ws L (pc + 3) st) : vV l D X nL tys n1 n2 ws L pc (.int y :: .int x :: st) := by
  obtain ⟨⟨p, e, R⟩, ⟨s, m, args, below⟩, meth, c, A, Q⟩ := X
  obtain ⟨hx, hb, hml, ho, hts, hA, hR⟩ := hC
  exact fun H locs ls hK hP hD hS hl' => lv_icmp_lt hx hb hd ht (fun q => kt q H locs ls hK hP hD hS hl') (fun q => kf q H locs ls hK hP hD hS hl')
theorem v_if_ge (hC : vC l D X nL cc own R) {x : Int32} {off : Int} {tgt : Nat} (hd : decode cc pc = .ok (.ifCond .ge off, 3)) (ht : (pc : Int) + off = (tgt : Int)) (kt : 0 ≤ x → vV l D X nL tys n1 n2 ws L tgt st) (kf : ¬ 0 ≤ x → vV l D X nL tys n1 n2 ws L (pc + 3) st) : vV l D X nL tys n1 n2 ws L pc (.int x :: st) := by
  obtain ⟨⟨p, e, R⟩, ⟨s, m, args, below⟩, meth, c, A, Q⟩ := X
  obtain ⟨hx, hb, hml, ho, hts, hA, hR⟩ := hC
  exact fun H locs ls hK hP hD hS hl' => lv_if_ge hx hb hd ht (fun q => kt q H locs ls hK hP hD hS hl') (fun q => kf q H locs ls hK hP hD hS hl')
theorem v_icmp_ge (hC : vC l D X nL cc own R) {x y : Int32} {off : Int} {tgt : Nat} (hd : decode cc pc = .ok (.if_icmp .ge off, 3)) (ht : (pc : Int) + off = (tgt : Int)) (kt : y ≤ x → vV l D X nL tys n1 n2 ws L tgt st) (kf : ¬ y ≤ x → vV l D X nL tys n1 n2 ws L (pc + 3) st) : vV l D X nL tys n1 n2 ws L pc (.int y :: .int x :: st) := by
  obtain ⟨⟨p, e, R⟩, ⟨s, m, args, below⟩, meth, c, A, Q⟩ := X
  obtain ⟨hx, hb, hml, ho, hts, hA, hR⟩ := hC
  exact fun H locs ls hK hP hD hS hl' => lv_icmp_ge hx hb hd ht (fun q => kt q H locs ls hK hP hD hS hl') (fun q => kf q H locs ls hK hP hD hS hl')
theorem v_if_gt (hC : vC l D X nL cc own R) {x : Int32} {off : Int} {tgt : Nat} (hd : decode cc pc = .ok (.ifCond .gt off, 3)) (ht : (pc : Int) + off = (tgt : Int)) (kt : 0 < x → vV l D X nL tys n1 n2 ws L tgt st) (kf : ¬ 0 < x → vV l D X nL tys n1 n2 ws L (pc + 3) st) : vV l D X nL tys n1 n2 ws L pc (.int x :: st) := by
  obtain ⟨⟨p, e, R⟩, ⟨s, m, args, below⟩, meth, c, A, Q⟩ := X
  obtain ⟨hx, hb, hml, ho, hts, hA, hR⟩ := hC
  exact fun H locs ls hK hP hD hS hl' => lv_if_gt hx hb hd ht (fun q => kt q H locs ls hK hP hD hS hl') (fun q => kf q H locs ls hK hP hD hS hl')
theorem v_icmp_gt (hC : vC l D X nL cc own R) {x y : Int32} {off : Int} {tgt : Nat} (hd : decode cc pc = .ok (.if_icmp .gt off, 3)) (ht : (pc : Int) + off = (tgt : Int)) (kt : y < x → vV l D X nL tys n1 n2 ws L tgt st) (kf : ¬ y < x → vV l D X nL tys n1 n2 ws L (pc + 3) st) : vV l D X nL tys n1 n2 ws L pc (.int y :: .int x :: st) := by
  obtain ⟨⟨p, e, R⟩, ⟨s, m, args, below⟩, meth, c, A, Q⟩ := X
  obtain ⟨hx, hb, hml, ho, hts, hA, hR⟩ := hC
  exact fun H locs ls hK hP hD hS hl' => lv_icmp_gt hx hb hd ht (fun q => kt q H locs ls hK hP hD hS hl') (fun q => kf q H locs ls hK hP hD hS hl')
theorem v_if_le (hC : vC l D X nL cc own R) {x : Int32} {off : Int} {tgt : Nat} (hd : decode cc pc = .ok (.ifCond .le off, 3)) (ht : (pc : Int) + off = (tgt : Int)) (kt : x ≤ 0 → vV l D X nL tys n1 n2 ws L tgt st) (kf : ¬ x ≤ 0 → vV l D X nL tys n1 n2 ws L (pc + 3) st) : vV l D X nL tys n1 n2 ws L pc (.int x :: st) := by
  obtain ⟨⟨p, e, R⟩, ⟨s, m, args, below⟩, meth, c, A, Q⟩ := X
  obtain ⟨hx, hb, hml, ho, hts, hA, hR⟩ := hC
  exact fun H locs ls hK hP hD hS hl' => lv_if_le hx hb hd ht (fun q => kt q H locs ls hK hP hD hS hl') (fun q => kf q H locs ls hK hP hD hS hl')
theorem v_icmp_le (hC : vC l D X nL cc own R) {x y : Int32} {off : Int} {tgt : Nat} (hd : decode cc pc = .ok (.if_icmp .le off, 3)) (ht : (pc : Int) + off = (tgt : Int)) (kt : x ≤ y → vV l D X nL tys n1 n2 ws L tgt st) (kf : ¬ x ≤ y → vV l D X nL tys n1 n2 ws L (pc + 3) st) : vV l D X nL tys n1 n2 ws L pc (.int y :: .int x :: st) := by
  obtain ⟨⟨p, e, R⟩, ⟨s, m, args, below⟩, meth, c, A, Q⟩ := X
  obtain ⟨hx, hb, hml, ho, hts, hA, hR⟩ := hC
  exact fun H locs ls hK hP hD hS hl' => lv_icmp_le hx hb hd ht (fun q => kt q H locs ls hK hP hD hS hl') (fun q => kf q H locs ls hK hP hD hS hl')
end VV
end
section
/-! fields, arrays, contracts and calls, over vV -/
section VH
variable {l : Launch} {D : va_G} {X : vX} {nL : Nat} {tys : List (ClassId × FieldType)} {n1 n2 : Nat} {ws ws' : va_W} {L L' : List Value} {pc : Nat} {st : List Value} {cc : ByteArray} {own : String} {R : Room} {a : Nat}
theorem v_get (hC : vC l D X nL cc own R) {C : String} {T : u_T} {N ci index : Nat} (hin : ∀ w ∈ u_ws C T N, w ∈ lw_all) (q0 : Nat) {fs : List Value} (he : ws[q0]? = some (a, .inr (ci, fs))) (hc : vCl[ci]? = some (C, T, N)) (k : Nat) (hk : k < N) (hlink : Cond.fieldLink own index (T k).1 (T k).2.1 (T k).2.2.1 ∈ lw_all) {v : Value} (hv : fs[k]? = some v) (hd : decode cc pc = .ok (.getfield index, 3)) (kk : vV l D X nL tys n1 n2 ws L (pc + 3) (v :: st)) : vV l D X nL tys n1 n2 ws L pc (.ref a :: st) := by
  obtain ⟨⟨p, e, R⟩, ⟨s, m, args, below⟩, meth, c, A, Q⟩ := X
  obtain ⟨hx, hb, hml, ho, hts, hA, hR⟩ := hC
  exact fun H locs ls hK hP hD hS hl' => va_get (D := D) (ci := ci) (v := v) (C := C) (T := T) (N := N) hx hb hts hin ho hK hP q0 he hc k hk (hts _ hlink) (fun _ h9 => h9) hv hd (kk H locs ls hK hP hD hS hl')
theorem v_put (hC : vC l D X nL cc own R) {C : String} {T : u_T} {N ci index : Nat} (hin : ∀ w ∈ u_ws C T N, w ∈ lw_all) (ty0 : Nat → FieldType) (hty : ∀ k, k < N → parseFieldDescriptor (T k).2.2.1 = some (ty0 k)) (hnm : ∀ a, a < N → ∀ b, b < N → a ≠ b → (T a).2.1 ≠ (T b).2.1) (q0 : Nat) {fs : List Value} (he : ws[q0]? = some (a, .inr (ci, fs))) (hc : vCl[ci]? = some (C, T, N)) (k : Nat) (hk : k < N) (hlink : Cond.fieldLink own index (T k).1 (T k).2.1 (T k).2.2.1 ∈ lw_all) (hfin : (T k).2.2.2 = false) {ty : FieldType} {v : Value} (hdd : parseFieldDescriptor (T k).2.2.1 = some ty) (hn : narrow ty v = v) (hfit : fits ty v = true) (hlk : k < fs.length) (hw : ws.set q0 (a, .inr (ci, fs.set k v)) = ws') (hd : decode cc pc = .ok (.putfield index, 3)) (kk : vV l D X nL tys n1 n2 ws' L (pc + 3) st) : vV l D X nL tys n1 n2 ws L pc (v :: .ref a :: st) := by
  obtain ⟨⟨p, e, R⟩, ⟨s, m, args, below⟩, meth, c, A, Q⟩ := X
  obtain ⟨hx, hb, hml, ho, hts, hA, hR⟩ := hC
  subst hw
  exact fun H locs ls hK hP hD hS hl' => va_put (D := D) (ci := ci) (v := v) (ty := ty) (C := C) (T := T) (N := N) hx hb hts hin ty0 hty hnm ho hK hP hD hS q0 he hc k hk (hts _ hlink) (fun _ h9 => h9) hfin hdd hn hfit hlk hd (fun H1 locs1 hP1 hD1 hS1 => kk H1 locs1 ls hK hP1 hD1 hS1 hl')
/-- the walk is in a constructor -/
def vIni (X : vX) : Prop := X.2.2.1.name = "<init>"
theorem v_putF (hC : vC l D X nL cc own R) (hI : vIni X) {C : String} {T : u_T} {N ci index : Nat} (hin : ∀ w ∈ u_ws C T N, w ∈ lw_all) (ty0 : Nat → FieldType) (hty : ∀ k, k < N → parseFieldDescriptor (T k).2.2.1 = some (ty0 k)) (hnm : ∀ a, a < N → ∀ b, b < N → a ≠ b → (T a).2.1 ≠ (T b).2.1) (q0 : Nat) {fs : List Value} (he : ws[q0]? = some (a, .inr (ci, fs))) (hc : vCl[ci]? = some (C, T, N)) (k : Nat) (hk : k < N) (hlink : Cond.fieldLink own index (T k).1 (T k).2.1 (T k).2.2.1 ∈ lw_all) (hfin : (T k).2.2.2 = true) (hdecl : (T k).1 = own) {ty : FieldType} {v : Value} (hdd : parseFieldDescriptor (T k).2.2.1 = some ty) (hn : narrow ty v = v) (hfit : fits ty v = true) (hlk : k < fs.length) (hw : ws.set q0 (a, .inr (ci, fs.set k v)) = ws') (hd : decode cc pc = .ok (.putfield index, 3)) (kk : vV l D X nL tys n1 n2 ws' L (pc + 3) st) : vV l D X nL tys n1 n2 ws L pc (v :: .ref a :: st) := by
  obtain ⟨⟨p, e, R⟩, ⟨s, m, args, below⟩, meth, c, A, Q⟩ := X
  obtain ⟨hx, hb, hml, ho, hts, hA, hR⟩ := hC
  subst hw
  exact fun H locs ls hK hP hD hS hl' => va_putF (D := D) (ci := ci) (v := v) (ty := ty) (C := C) (T := T) (N := N) hx hb hts hin ty0 hty hnm ho hK hP hD hS q0 he hc k hk (hts _ hlink) (fun _ h9 => h9) hfin hI hdecl hdd hn hfit hlk hd (fun H1 locs1 hP1 hD1 hS1 => kk H1 locs1 ls hK hP1 hD1 hS1 hl')
theorem v_iald (hC : vC l D X nL cc own R) (q0 t0 : Nat) {cA : ClassId} {n : Nat} {f : Nat → Int32} (ha : ws[q0]? = some (a, .inl (cA, n, .inl f))) (ht : tys[t0]? = some (cA, .int)) {j : Nat} (hn : n < 2 ^ 31) (hj : j < n) (hd : decode cc pc = .ok (.iaload, 1)) (kk : vV l D X nL tys n1 n2 ws L (pc + 1) (.int (f j) :: st)) : vV l D X nL tys n1 n2 ws L pc (.int (nI j) :: .ref a :: st) := by
  obtain ⟨⟨p, e, R⟩, ⟨s, m, args, below⟩, meth, c, A, Q⟩ := X
  obtain ⟨hx, hb, hml, ho, hts, hA, hR⟩ := hC
  refine fun H locs ls hK hP hD hS hl' => va_iald hx hb hK hP q0 t0 ha ht (vp_in_nI hj hn) hd ?_
  rw [nI_clamp (Nat.lt_trans hj hn)]
  exact kk H locs ls hK hP hD hS hl'
theorem v_zald (hC : vC l D X nL cc own R) (q0 t0 : Nat) {cA : ClassId} {n : Nat} {f : Nat → Int32} (ha : ws[q0]? = some (a, .inl (cA, n, .inl f))) (ht : tys[t0]? = some (cA, .boolean)) {j : Nat} (hn : n < 2 ^ 31) (hj : j < n) (hd : decode cc pc = .ok (.baload, 1)) (kk : vV l D X nL tys n1 n2 ws L (pc + 1) (.int (f j) :: st)) : vV l D X nL tys n1 n2 ws L pc (.int (nI j) :: .ref a :: st) := by
  obtain ⟨⟨p, e, R⟩, ⟨s, m, args, below⟩, meth, c, A, Q⟩ := X
  obtain ⟨hx, hb, hml, ho, hts, hA, hR⟩ := hC
  refine fun H locs ls hK hP hD hS hl' => va_zald hx hb hK hP q0 t0 ha ht (vp_in_nI hj hn) hd ?_
  rw [nI_clamp (Nat.lt_trans hj hn)]
  exact kk H locs ls hK hP hD hS hl'
theorem v_sald (hC : vC l D X nL cc own R) (q0 t0 : Nat) {cA : ClassId} {n : Nat} {f : Nat → Int32} (ha : ws[q0]? = some (a, .inl (cA, n, .inl f))) (ht : tys[t0]? = some (cA, .short)) {j : Nat} (hn : n < 2 ^ 31) (hj : j < n) (hd : decode cc pc = .ok (.saload, 1)) (kk : vV l D X nL tys n1 n2 ws L (pc + 1) (.int (f j) :: st)) : vV l D X nL tys n1 n2 ws L pc (.int (nI j) :: .ref a :: st) := by
  obtain ⟨⟨p, e, R⟩, ⟨s, m, args, below⟩, meth, c, A, Q⟩ := X
  obtain ⟨hx, hb, hml, ho, hts, hA, hR⟩ := hC
  refine fun H locs ls hK hP hD hS hl' => va_sald hx hb hK hP q0 t0 ha ht (vp_in_nI hj hn) hd ?_
  rw [nI_clamp (Nat.lt_trans hj hn)]
  exact kk H locs ls hK hP hD hS hl'
theorem v_iast (hC : vC l D X nL cc own R) (q0 t0 : Nat) {cA : ClassId} {n : Nat} {f : Nat → Int32} (ha : ws[q0]? = some (a, .inl (cA, n, .inl f))) (ht : tys[t0]? = some (cA, .int)) {j : Nat} {x : Int32} (hn : n < 2 ^ 31) (hj : j < n) (hw : ws.set q0 (a, .inl (cA, n, .inl (upd f j x))) = ws') (hd : decode cc pc = .ok (.iastore, 1)) (kk : vV l D X nL tys n1 n2 ws' L (pc + 1) st) : vV l D X nL tys n1 n2 ws L pc (.int x :: .int (nI j) :: .ref a :: st) := by
  obtain ⟨⟨p, e, R⟩, ⟨s, m, args, below⟩, meth, c, A, Q⟩ := X
  obtain ⟨hx, hb, hml, ho, hts, hA, hR⟩ := hC
  subst hw
  refine fun H locs ls hK hP hD hS hl' => va_iast hx hb hK hP hD hS q0 t0 ha ht (vp_in_nI hj hn) hd ?_
  rw [nI_clamp (Nat.lt_trans hj hn)]
  exact fun H1 locs1 hP1 hD1 hS1 => kk H1 locs1 ls hK hP1 hD1 hS1 hl'
theorem v_zast (hC : vC l D X nL cc own R) (q0 t0 : Nat) {cA : ClassId} {n : Nat} {f : Nat → Int32} (ha : ws[q0]? = some (a, .inl (cA, n, .inl f))) (ht : tys[t0]? = some (cA, .boolean)) {j : Nat} {x : Int32} (hn : n < 2 ^ 31) (hj : j < n) (hx0 : vp_nar .boolean x = x) (hw : ws.set q0 (a, .inl (cA, n, .inl (upd f j x))) = ws') (hd : decode cc pc = .ok (.bastore, 1)) (kk : vV l D X nL tys n1 n2 ws' L (pc + 1) st) : vV l D X nL tys n1 n2 ws L pc (.int x :: .int (nI j) :: .ref a :: st) := by
  obtain ⟨⟨p, e, R⟩, ⟨s, m, args, below⟩, meth, c, A, Q⟩ := X
  obtain ⟨hx, hb, hml, ho, hts, hA, hR⟩ := hC
  subst hw
  refine fun H locs ls hK hP hD hS hl' => va_zast hx hb hK hP hD hS q0 t0 ha ht (vp_in_nI hj hn) hd ?_
  rw [nI_clamp (Nat.lt_trans hj hn), hx0]
  exact fun H1 locs1 hP1 hD1 hS1 => kk H1 locs1 ls hK hP1 hD1 hS1 hl'
theorem v_sast (hC : vC l D X nL cc own R) (q0 t0 : Nat) {cA : ClassId} {n : Nat} {f : Nat → Int32} (ha : ws[q0]? = some (a, .inl (cA, n, .inl f))) (ht : tys[t0]? = some (cA, .short)) {j : Nat} {x : Int32} (hn : n < 2 ^ 31) (hj : j < n) (hx0 : vp_nar .short x = x) (hw : ws.set q0 (a, .inl (cA, n, .inl (upd f j x))) = ws') (hd : decode cc pc = .ok (.sastore, 1)) (kk : vV l D X nL tys n1 n2 ws' L (pc + 1) st) : vV l D X nL tys n1 n2 ws L pc (.int x :: .int (nI j) :: .ref a :: st) := by
  obtain ⟨⟨p, e, R⟩, ⟨s, m, args, below⟩, meth, c, A, Q⟩ := X
  obtain ⟨hx, hb, hml, ho, hts, hA, hR⟩ := hC
  subst hw
  refine fun H locs ls hK hP hD hS hl' => va_sast hx hb hK hP hD hS q0 t0 ha ht (vp_in_nI hj hn) hd ?_
  rw [nI_clamp (Nat.lt_trans hj hn), hx0]
  exact fun H1 locs1 hP1 hD1 hS1 => kk H1 locs1 ls hK hP1 hD1 hS1 hl'
theorem v_newa (hC : vC l D X nL cc own R) {atype : ArrayType} {ty : FieldType} (harr : Cond.arrayClass (newarray.typeOf atype) ∈ lw_all) (hty : newarray.typeOf atype = ty) {N' : Nat} {a0 : vp_A} (ha : ∀ cA : ClassId, vp_cell cA a0 = arrV cA N' (fun _ => defaultValue ty)) (hN : N' < 2 ^ 31) (hbytes : N' * componentBytes ty ≤ 536870912) (hcells : n1 + 1 ≤ R.cells) (hslots : n2 + N' ≤ R.slots) (hd : decode cc pc = .ok (.newarray atype, 2)) (kk : ∀ (q : Nat) (cA : ClassId), vV l D X nL (tys ++ [(cA, ty)]) (n1 + 1) (n2 + N') (ws ++ [(q, .inl (cA, a0))]) L (pc + 2) (.ref q :: st)) : vV l D X nL tys n1 n2 ws L pc (.int (nI N') :: st) := by
  obtain ⟨⟨p, e, R⟩, ⟨s, m, args, below⟩, meth, c, A, Q⟩ := X
  obtain ⟨hx, hb, hml, ho, hts, hA, hR⟩ := hC
  subst hR
  exact fun H locs ls hK hP hD hS hl' => va_newa hx hb (hts _ harr) hty hK hP hD hS hA ha (nI_pos hN) (nI_clamp hN) hbytes hcells hslots hd (fun q cA H1 hK1 hP1 hD1 hS1 => kk q cA H1 locs ls hK1 hP1 hD1 hS1 hl')
theorem v_new (hC : vC l D X nL cc own R) {C : String} {T : u_T} {N ci index : Nat} (hin : ∀ w ∈ u_ws C T N, w ∈ lw_all) (ty : Nat → FieldType) (hty : ∀ k, k < N → parseFieldDescriptor (T k).2.2.1 = some (ty k)) (hcl : Cond.classLink own index C ∈ lw_all) (hinst : Cond.instantiable C N ∈ lw_all) (hini : Cond.initialized C ∈ lw_all) (hc : vCl[ci]? = some (C, T, N)) {fs : List Value} (hfs : ∀ j, j < N → defaultValue (ty j) = vp_V fs j) (hcells : n1 + 1 ≤ R.cells) (hslots : n2 + N ≤ R.slots) (hd : decode cc pc = .ok (.new index, 3)) (kk : ∀ q : Nat, vV l D X nL tys (n1 + 1) (n2 + N) (ws ++ [(q, .inr (ci, fs))]) L (pc + 3) (.ref q :: st)) : vV l D X nL tys n1 n2 ws L pc st := by
  obtain ⟨⟨p, e, R⟩, ⟨s, m, args, below⟩, meth, c, A, Q⟩ := X
  obtain ⟨hx, hb, hml, ho, hts, hA, hR⟩ := hC
  subst hR
  exact fun H locs ls hK hP hD hS hl' => va_new (ci := ci) (fs := fs) (C := C) (T := T) (N := N) hx hb hts hin ty hty ho (hts _ hcl) (hts _ hinst) (hts _ hini) hK hP hD hS hA hc hfs hcells hslots hd (fun q H1 hP1 hD1 hS1 => kk q H1 locs ls hK hP1 hD1 hS1 hl')
theorem v_objInit (hC : vC l D X nL cc own R) {idx : Nat} (h1 : Cond.methodLink own idx Lib.objectInit ∈ lw_all) (h2 : Cond.instanceMethod Lib.objectInit ∈ lw_all) (h3 : Cond.code Lib.objectInit ⟨#[0xb1]⟩ 1 none ∈ lw_all) (hd : decode cc pc = .ok (.invokespecial idx, 3)) (hfr : 1 ≤ R.frames) (hlo : (st.map fun v => v.category).sum + 12 ≤ R.locals) (kk : vV l D X nL tys n1 n2 ws L (pc + 3) st) : vV l D X nL tys n1 n2 ws L pc (.ref a :: st) := by
  obtain ⟨⟨p, e, R⟩, ⟨s, m, args, below⟩, meth, c, A, Q⟩ := X
  obtain ⟨hx, hb, hml, ho, hts, hA, hR⟩ := hC
  subst hR
  exact fun H locs ls hK hP hD hS hl' => W.objInit hx hb ho (hts _ h1) (hts _ h2) (hts _ h3) rfl (by rw [hml]; exact hl'.1.1) rfl hd hfr (by show 2 * 0 + _ + 12 ≤ _; omega) (W.eq (g2 := F0 m (pc + 3) ls st) rfl (kk H locs ls hK hP hD hS hl'))
end VH
/-! contracts -/
abbrev vRm (fr lo : Nat) : Room := { frames := fr, cells := 0, slots := 0, locals := lo }
abbrev vPre (D : va_G) (tys : List (ClassId × FieldType)) (ws : va_W) (sz : Nat) : State → Prop := fun U => U.heap.size = sz ∧ va_P D vCl ws U.heap ∧ va_K D vCl tys U ∧ va_D (fun _ => True) ws
def vMi (l : Launch) (D : va_G) (y : MethodName) (cc : ByteArray) (nL : Nat) (ty : FieldType) (fr lo : Nat) (tys : List (ClassId × FieldType)) (ws : va_W) (As : List Value) (post : Int32 → va_W → Prop) : Prop :=
  ∀ sz : Nat, Met l y (ws_ y cc nL (some ty)) (vRm fr lo) (va_Pc As (vPre D tys ws sz)) (va_Qi post (fun (u : va_W) t => va_P D vCl u t.heap ∧ va_K D vCl tys t ∧ va_D (va_A ws sz) u) (va_A ws sz)) 0 0 (va_A ws sz)
def vMv (l : Launch) (D : va_G) (y : MethodName) (cc : ByteArray) (nL : Nat) (fr lo : Nat) (tys : List (ClassId × FieldType)) (ws : va_W) (As : List Value) (post : va_W → Prop) : Prop :=
  ∀ sz : Nat, Met l y (ws_ y cc nL none) (vRm fr lo) (va_Pc As (vPre D tys ws sz)) (va_Qv post (fun (u : va_W) t => va_P D vCl u t.heap ∧ va_K D vCl tys t ∧ va_D (va_A ws sz) u) (va_A ws sz)) 0 0 (va_A ws sz)
/-- a constructor: it makes mc cells of ms slots, arrays among them -/
def vMn (l : Launch) (D : va_G) (y : MethodName) (cc : ByteArray) (nL : Nat) (fr lo mc ms : Nat) (ws : va_W) (As : List Value) (post : va_W → List (ClassId × FieldType) → Prop) : Prop :=
  ∀ sz : Nat, Met l y (ws_ y cc nL none) ({ frames := fr, cells := mc, slots := ms, locals := lo }) (va_Pc As (vPre D [] ws sz)) (va_Qv (fun u : va_W × List (ClassId × FieldType) => post u.1 u.2) (fun u t => va_P D vCl u.1 t.heap ∧ va_K D vCl u.2 t ∧ va_D (va_A ws sz) u.1) (va_A ws sz)) mc ms (va_A ws sz)
theorem lv_args_pos : ∀ (vs : List Value) (n : Nat), (∀ v ∈ vs, v.category = 1) → lv_args n vs = vPos n vs
  | [], _, _ => rfl
  | v :: vs, n, h => by
    have h1 := h v List.mem_cons_self
    rw [lv_args, vPos, h1, if_neg (by decide), lv_args_pos vs (n + 1) (fun w hw => h w (List.mem_cons_of_mem _ hw))]
theorem v_cat {As : List Value} (h : As.all (fun v => v.category == 1) = true) : ∀ v ∈ As, v.category = 1 := fun v hv => by
  have := List.all_eq_true.mp h v hv
  simpa using this
theorem lg_sl_len : ∀ (As : List Value), (∀ v ∈ As, v.category = 1) → (lg_sl As).length = As.length
  | [], _ => rfl
  | v :: vs, h => by
    have h1 := h v List.mem_cons_self
    have h2 := lg_sl_len vs (fun w hw => h w (List.mem_cons_of_mem _ hw))
    unfold lg_sl at h2 ⊢
    rw [List.flatMap_cons, List.length_append, h2, h1]
    simp
    omega
set_option maxHeartbeats 1000000 in
theorem vMi_of {l : Launch} {D : va_G} {y : MethodName} {cc : ByteArray} {nL : Nat} {ty : FieldType} {fr lo : Nat} {tys : List (ClassId × FieldType)} {ws : va_W} {As : List Value} {post : Int32 → va_W → Prop} (own : String) (hy : plainName y.cls = true) (ho : y.cls = own) (hn : As.length ≤ nL) (hc : As.all (fun v => v.category == 1) = true)
    (body : ∀ X : vX, vC l D X nL cc own (vRm fr lo) → (∀ (r : Int32) (u : va_W) (L : List Value) (pc : Nat), decode cc pc = .ok (.ireturn, 1) → narrow ty (.int r) = .int r → post r u → vV l D X nL tys 0 0 u L pc [.int r]) → vV l D X nL tys 0 0 ws As 0 []) : vMi l D y cc nL ty fr lo tys ws As post := by
  intro sz
  refine Met.ofW (cc := cc) (maxL := nL) (ret := some ty) hy rfl ?_
  intro p e s m args below meth c s₁ B hml hv
  obtain ⟨rfl, hsz, hP, hK, hD0⟩ := hv
  have hx := B.exec
  have hb := B.bytes
  have hr := B.returns
  have hts := atoms_spec (ws := ws_ y cc nL (some ty)) B.pre
  have hts : ∀ w ∈ lw_all, w.before _ s = true := fun w h => hts w (List.mem_cons_of_mem _ h)
  have hown : s.vm.findClass own = some m.cls := by rw [← ho]; exact findClass_of_methodNamed B.named
  have hlocks := B.notSynchronized
  subst hsz
  have hD := hD0.self (sz := s.heap.size)
  have hcat := v_cat hc
  have hl := lv_entry As (n := nL) (by rw [lg_sl_len As hcat]; exact hn)
  rw [lv_args_pos As 0 hcat] at hl
  rw [lg_entry_eq]
  have key := body ((p, e, vRm fr lo), (s, m, As.toArray, below), (meth, c, va_A ws s.heap.size, MQ below (va_Qi post (fun (u : va_W) t => va_P D vCl u t.heap ∧ va_K D vCl tys t ∧ va_D (va_A ws s.heap.size) u) (va_A ws s.heap.size)) As.toArray s 0 0 (va_A ws s.heap.size))) ⟨hx, hb, hml, hown, hts, fun q h => Or.inr h, rfl⟩
    (fun r u L pc hd hnar hp H locs ls hK hP hD hS hl => W.zret hx hb hr hnar (fun t ht hW => ⟨⟨r, u, rfl, hp, by rw [ht]; exact hP, va_K.moved hW.alike hK, hD⟩, hS.F ht⟩) hS.2.2 hd)
  exact key s.heap [] _ hK hP hD va_S.rf ⟨hl, hcat⟩
set_option maxHeartbeats 1000000 in
theorem vMv_of {l : Launch} {D : va_G} {y : MethodName} {cc : ByteArray} {nL : Nat} {fr lo : Nat} {tys : List (ClassId × FieldType)} {ws : va_W} {As : List Value} {post : va_W → Prop} (own : String) (hy : plainName y.cls = true) (ho : y.cls = own) (hn : As.length ≤ nL) (hc : As.all (fun v => v.category == 1) = true)
    (body : ∀ X : vX, vC l D X nL cc own (vRm fr lo) → (∀ (u : va_W) (L : List Value) (pc : Nat), decode cc pc = .ok (.return_, 1) → post u → vV l D X nL tys 0 0 u L pc []) → vV l D X nL tys 0 0 ws As 0 []) : vMv l D y cc nL fr lo tys ws As post := by
  intro sz
  refine Met.ofW (cc := cc) (maxL := nL) (ret := none) hy rfl ?_
  intro p e s m args below meth c s₁ B hml hv
  obtain ⟨rfl, hsz, hP, hK, hD0⟩ := hv
  have hx := B.exec
  have hb := B.bytes
  have hr := B.returns
  have hts := atoms_spec (ws := ws_ y cc nL none) B.pre
  have hts : ∀ w ∈ lw_all, w.before _ s = true := fun w h => hts w (List.mem_cons_of_mem _ h)
  have hown : s.vm.findClass own = some m.cls := by rw [← ho]; exact findClass_of_methodNamed B.named
  have hlocks := B.notSynchronized
  subst hsz
  have hD := hD0.self (sz := s.heap.size)
  have hcat := v_cat hc
  have hl := lv_entry As (n := nL) (by rw [lg_sl_len As hcat]; exact hn)
  rw [lv_args_pos As 0 hcat] at hl
  rw [lg_entry_eq]
  have key := body ((p, e, vRm fr lo), (s, m, As.toArray, below), (meth, c, va_A ws s.heap.size, MQ below (va_Qv post (fun (u : va_W) t => va_P D vCl u t.heap ∧ va_K D vCl tys t ∧ va_D (va_A ws s.heap.size) u) (va_A ws s.heap.size)) As.toArray s 0 0 (va_A ws s.heap.size))) ⟨hx, hb, hml, hown, hts, fun q h => Or.inr h, rfl⟩
    (fun u L pc hd hp H locs ls hK hP hD hS hl => W.vret hx hb hr (fun t ht hW => ⟨⟨u, rfl, hp, by rw [ht]; exact hP, va_K.moved hW.alike hK, hD⟩, hS.F ht⟩) hS.2.2 hd)
  exact key s.heap [] _ hK hP hD va_S.rf ⟨hl, hcat⟩
set_option maxHeartbeats 1000000 in
theorem vMn_of {l : Launch} {D : va_G} {y : MethodName} {cc : ByteArray} {nL : Nat} {fr lo mc ms : Nat} {ws : va_W} {As : List Value} {post : va_W → List (ClassId × FieldType) → Prop} (own : String) (hy : plainName y.cls = true) (hyn : y.name = "<init>") (ho : y.cls = own) (hn : As.length ≤ nL) (hc : As.all (fun v => v.category == 1) = true)
    (body : ∀ X : vX, vC l D X nL cc own ({ frames := fr, cells := mc, slots := ms, locals := lo }) → vIni X → (∀ (u : va_W) (tys : List (ClassId × FieldType)) (L : List Value) (pc : Nat), decode cc pc = .ok (.return_, 1) → post u tys → vV l D X nL tys mc ms u L pc []) → vV l D X nL [] 0 0 ws As 0 []) : vMn l D y cc nL fr lo mc ms ws As post := by
  intro sz
  refine Met.ofW (cc := cc) (maxL := nL) (ret := none) hy rfl ?_
  intro p e s m args below meth c s₁ B hml hv
  obtain ⟨rfl, hsz, hP, hK, hD0⟩ := hv
  have hx := B.exec
  have hb := B.bytes
  have hr := B.returns
  have hts := atoms_spec (ws := ws_ y cc nL none) B.pre
  have hts : ∀ w ∈ lw_all, w.before _ s = true := fun w h => hts w (List.mem_cons_of_mem _ h)
  have hown : s.vm.findClass own = some m.cls := by rw [← ho]; exact findClass_of_methodNamed B.named
  have hlocks := B.notSynchronized
  have hin : meth.name = "<init>" := by rw [← hyn]; exact (name_of_methodNamed B.named B.method).1
  subst hsz
  have hD := hD0.self (sz := s.heap.size)
  have hcat := v_cat hc
  have hl := lv_entry As (n := nL) (by rw [lg_sl_len As hcat]; exact hn)
  rw [lv_args_pos As 0 hcat] at hl
  rw [lg_entry_eq]
  have key := body ((p, e, ({ frames := fr, cells := mc, slots := ms, locals := lo } : Room)), (s, m, As.toArray, below), (meth, c, va_A ws s.heap.size, MQ below (va_Qv (fun u : va_W × List (ClassId × FieldType) => post u.1 u.2) (fun u t => va_P D vCl u.1 t.heap ∧ va_K D vCl u.2 t ∧ va_D (va_A ws s.heap.size) u.1) (va_A ws s.heap.size)) As.toArray s mc ms (va_A ws s.heap.size))) ⟨hx, hb, hml, hown, hts, fun q h => Or.inr h, rfl⟩ hin
    (fun u tys L pc hd hp H locs ls hK hP hD hS hl => W.vret hx hb hr (fun t ht hW => ⟨⟨(u, tys), rfl, hp, by rw [ht]; exact hP, va_K.moved hW.alike hK, hD⟩, hS.F ht⟩) hS.2.2 hd)
  exact key s.heap [] _ hK hP hD va_S.rf ⟨hl, hcat⟩
/-! calls -/
theorem v_fm {α β : Type} {f : α → Option β} : ∀ {is : List α} {w : List β}, is.map f = w.map some → is.filterMap f = w
  | [], [], _ => rfl
  | [], _ :: _, h => by cases h
  | _ :: _, [], h => by cases h
  | i :: is, b :: w, h => by
    simp only [List.map_cons, List.cons.injEq] at h
    rw [List.filterMap_cons, h.1]
    simp [v_fm h.2]
theorem v_rg (ws : va_W) : (List.range ws.length).map (fun i => ws[i]?) = ws.map some := by
  apply List.ext_getElem?
  intro i
  rw [List.getElem?_map, List.getElem?_map]
  by_cases h : i < ws.length
  · rw [List.getElem?_range h, List.getElem?_eq_getElem h]
    simp [List.getElem?_eq_getElem h]
  · rw [List.getElem?_eq_none (by simp; omega), List.getElem?_eq_none (by omega)]
    rfl
theorem va_nd_of : ∀ (is : List Nat), is.Nodup → va_nd is = true
  | [], _ => rfl
  | a :: is, h => by
    rw [List.nodup_cons] at h
    simp [va_nd, h.1, va_nd_of is h.2]
section VCall
variable {l : Launch} {D : va_G} {X : vX} {nL : Nat} {tys tysC : List (ClassId × FieldType)} {n1 n2 : Nat} {ws wc wr : va_W} {L : List Value} {pc : Nat} {st st0 : List Value} {cc cc' : ByteArray} {own C : String} {R : Room} {b : Nat} {y : MethodName} {nL' fr lo idx n : Nat} {ty : FieldType} {As' : List Value} {q : vw_C} {q0 ci : Nat} {fs : List Value}
set_option maxHeartbeats 1000000 in
theorem v_calliG {post : Int32 → va_W → Prop} (hC : vC l D X nL cc own R) (hM : vMi l D y cc' nL' ty fr lo tysC wc (.ref b :: As') post) (hG : GoodIn lw_all (wsV own idx C y (ws_ y cc' nL' (some ty)))) (hdd : y.cls = C ∧ y.cls ≠ "java/lang/invoke/MethodHandle" ∧ y.cls ≠ "java/lang/invoke/VarHandle" ∧ (parseMethodDescriptor y.desc).map (fun d => d.parameters.length) = some n) (hR : fr + 1 ≤ R.frames ∧ 8 + (nL' + 11) + lo ≤ R.locals) (isT isC isR : List Nat) (hT : isT.filterMap (fun i => tys[i]?) = tysC) (hCC : isC.map (fun i => ws[i]?) = wc.map some) (hRR : isR.map (fun i => ws[i]?) = wr.map some) (hnC : va_nd isC = true) (hnR : va_nd isR = true) (hdis : ∀ i ∈ isR, i ∉ isC) (hc : vCl[ci]? = some q) (hqC : q.1 = C) (he : wc[q0]? = some (b, .inr (ci, fs))) (hn : As'.length = n) (hst : st0 = As'.reverse ++ .ref b :: st) (hW : (st.map fun v => v.category).sum ≤ 8) (hd : decode cc pc = .ok (.invokevirtual idx, 3)) (kk : ∀ (r : Int32) (u : va_W), post r u → vV l D X nL tys n1 n2 (wr ++ u) L (pc + 3) (.int r :: st)) (hf : n1 ≤ R.cells ∧ n2 ≤ R.slots) : vV l D X nL tys n1 n2 ws L pc st0 := by
  obtain ⟨⟨p, e, R'⟩, ⟨s, m, args, below⟩, meth, c, A, Q⟩ := X
  obtain ⟨hx, hb, hml, ho, hts, hA, hR'⟩ := hC
  subst hR'
  subst hst
  intro H locs ls hK hP hD hS hl
  have hPc := hP.sub isC (v_fm hCC)
  have hDc := hD.sub isC hnC hCC
  have hKc := hK.sub isT hT
  have hFc := va_free (wc := wc) hD hS hA isC hCC
  refine va_calli (va_runV (As := As') (rest := st) ⟨hx, hb, hml, ho, hts⟩ (hM H.size) (cwV n hts hG rfl rfl rfl hdd hR) ⟨fun a U g mk q => by obtain ⟨q0, q1, qP, qK, qD⟩ := q; exact ⟨q0, q1, qP, va_K.moved (u := U) (U := U.calling g mk a) (Vm.Alike.refl U.vm) qK, qD⟩, by rw [← hqC]; exact va_recv hKc hPc hc he, fun U hU hW => ⟨rfl, by rw [hU], by rw [hU]; exact hPc, va_K.moved hW.alike hKc, hDc.weaken (fun _ _ _ _ => trivial)⟩⟩ rfl hn hl.1.1 rfl (lv_room hW) hd hf) hS (fun q _ h => hFc q h) hFc (fun r u t H1 locs1 ht hvm hp hB hz1 hk1 hS1 => ?_)
  obtain ⟨hP1, hK1, hD1⟩ := hB
  rw [ht] at hP1
  obtain ⟨hP2, hD2⟩ := va_join (wr := wr) (w1 := u) hP hD isC isR hCC hRR hnR hdis hk1 hFc hP1 hD1
  exact kk r u hp H1 locs1 ls hK hP2 hD2 hS1 hl
set_option maxHeartbeats 1000000 in
theorem v_callvG {post : va_W → Prop} (hC : vC l D X nL cc own R) (hM : vMv l D y cc' nL' fr lo tysC wc (.ref b :: As') post) (hG : GoodIn lw_all (wsV own idx C y (ws_ y cc' nL' none))) (hdd : y.cls = C ∧ y.cls ≠ "java/lang/invoke/MethodHandle" ∧ y.cls ≠ "java/lang/invoke/VarHandle" ∧ (parseMethodDescriptor y.desc).map (fun d => d.parameters.length) = some n) (hR : fr + 1 ≤ R.frames ∧ 8 + (nL' + 11) + lo ≤ R.locals) (isT isC isR : List Nat) (hT : isT.filterMap (fun i => tys[i]?) = tysC) (hCC : isC.map (fun i => ws[i]?) = wc.map some) (hRR : isR.map (fun i => ws[i]?) = wr.map some) (hnC : va_nd isC = true) (hnR : va_nd isR = true) (hdis : ∀ i ∈ isR, i ∉ isC) (hc : vCl[ci]? = some q) (hqC : q.1 = C) (he : wc[q0]? = some (b, .inr (ci, fs))) (hn : As'.length = n) (hst : st0 = As'.reverse ++ .ref b :: st) (hW : (st.map fun v => v.category).sum ≤ 8) (hd : decode cc pc = .ok (.invokevirtual idx, 3)) (kk : ∀ (u : va_W), post u → vV l D X nL tys n1 n2 (wr ++ u) L (pc + 3) st) (hf : n1 ≤ R.cells ∧ n2 ≤ R.slots) : vV l D X nL tys n1 n2 ws L pc st0 := by
  obtain ⟨⟨p, e, R'⟩, ⟨s, m, args, below⟩, meth, c, A, Q⟩ := X
  obtain ⟨hx, hb, hml, ho, hts, hA, hR'⟩ := hC
  subst hR'
  subst hst
  intro H locs ls hK hP hD hS hl
  have hPc := hP.sub isC (v_fm hCC)
  have hDc := hD.sub isC hnC hCC
  have hKc := hK.sub isT hT
  have hFc := va_free (wc := wc) hD hS hA isC hCC
  refine va_callv (va_runV (As := As') (rest := st) ⟨hx, hb, hml, ho, hts⟩ (hM H.size) (cwV n hts hG rfl rfl rfl hdd hR) ⟨fun a U g mk q => by obtain ⟨q0, q1, qP, qK, qD⟩ := q; exact ⟨q0, q1, qP, va_K.moved (u := U) (U := U.calling g mk a) (Vm.Alike.refl U.vm) qK, qD⟩, by rw [← hqC]; exact va_recv hKc hPc hc he, fun U hU hW => ⟨rfl, by rw [hU], by rw [hU]; exact hPc, va_K.moved hW.alike hKc, hDc.weaken (fun _ _ _ _ => trivial)⟩⟩ rfl hn hl.1.1 rfl (lv_room hW) hd hf) hS (fun q _ h => hFc q h) hFc (fun u t H1 locs1 ht hvm hp hB hz1 hk1 hS1 => ?_)
  obtain ⟨hP1, hK1, hD1⟩ := hB
  rw [ht] at hP1
  obtain ⟨hP2, hD2⟩ := va_join (wr := wr) (w1 := u) hP hD isC isR hCC hRR hnR hdis hk1 hFc hP1 hD1
  exact kk u hp H1 locs1 ls hK hP2 hD2 hS1 hl
/-- a call within the class: the callee has the whole world -/
theorem v_calli {post : Int32 → va_W → Prop} (hC : vC l D X nL cc own R) (hM : vMi l D y cc' nL' ty fr lo tys ws (.ref b :: As') post) (hG : GoodIn lw_all (wsV own idx C y (ws_ y cc' nL' (some ty)))) (hdd : y.cls = C ∧ y.cls ≠ "java/lang/invoke/MethodHandle" ∧ y.cls ≠ "java/lang/invoke/VarHandle" ∧ (parseMethodDescriptor y.desc).map (fun d => d.parameters.length) = some n) (hR : fr + 1 ≤ R.frames ∧ 8 + (nL' + 11) + lo ≤ R.locals) (hc : vCl[ci]? = some q) (hqC : q.1 = C) (he : ws[q0]? = some (b, .inr (ci, fs))) (hn : As'.length = n) (hst : st0 = As'.reverse ++ .ref b :: st) (hW : (st.map fun v => v.category).sum ≤ 8) (hd : decode cc pc = .ok (.invokevirtual idx, 3)) (kk : ∀ (r : Int32) (u : va_W), post r u → vV l D X nL tys n1 n2 u L (pc + 3) (.int r :: st)) (hf : n1 ≤ R.cells ∧ n2 ≤ R.slots) : vV l D X nL tys n1 n2 ws L pc st0 :=
  v_calliG (wr := []) hC hM hG hdd hR (List.range tys.length) (List.range ws.length) [] (by
    have : ∀ (t : List (ClassId × FieldType)), (List.range t.length).map (fun i => t[i]?) = t.map some := by
      intro t
      apply List.ext_getElem?
      intro i
      rw [List.getElem?_map, List.getElem?_map]
      by_cases h : i < t.length
      · rw [List.getElem?_range h, List.getElem?_eq_getElem h]
        simp [List.getElem?_eq_getElem h]
      · rw [List.getElem?_eq_none (by simp; omega), List.getElem?_eq_none (by omega)]
        rfl
    exact v_fm (this tys)) (v_rg ws) rfl (va_nd_of _ List.nodup_range) rfl (fun _ h => absurd h List.not_mem_nil) hc hqC he hn hst hW hd kk hf
theorem v_callv {post : va_W → Prop} (hC : vC l D X nL cc own R) (hM : vMv l D y cc' nL' fr lo tys ws (.ref b :: As') post) (hG : GoodIn lw_all (wsV own idx C y (ws_ y cc' nL' none))) (hdd : y.cls = C ∧ y.cls ≠ "java/lang/invoke/MethodHandle" ∧ y.cls ≠ "java/lang/invoke/VarHandle" ∧ (parseMethodDescriptor y.desc).map (fun d => d.parameters.length) = some n) (hR : fr + 1 ≤ R.frames ∧ 8 + (nL' + 11) + lo ≤ R.locals) (hc : vCl[ci]? = some q) (hqC : q.1 = C) (he : ws[q0]? = some (b, .inr (ci, fs))) (hn : As'.length = n) (hst : st0 = As'.reverse ++ .ref b :: st) (hW : (st.map fun v => v.category).sum ≤ 8) (hd : decode cc pc = .ok (.invokevirtual idx, 3)) (kk : ∀ (u : va_W), post u → vV l D X nL tys n1 n2 u L (pc + 3) st) (hf : n1 ≤ R.cells ∧ n2 ≤ R.slots) : vV l D X nL tys n1 n2 ws L pc st0 :=
  v_callvG (wr := []) hC hM hG hdd hR (List.range tys.length) (List.range ws.length) [] (by
    have : ∀ (t : List (ClassId × FieldType)), (List.range t.length).map (fun i => t[i]?) = t.map some := by
      intro t
      apply List.ext_getElem?
      intro i
      rw [List.getElem?_map, List.getElem?_map]
      by_cases h : i < t.length
      · rw [List.getElem?_range h, List.getElem?_eq_getElem h]
        simp [List.getElem?_eq_getElem h]
      · rw [List.getElem?_eq_none (by simp; omega), List.getElem?_eq_none (by omega)]
        rfl
    exact v_fm (this tys)) (v_rg ws) rfl (va_nd_of _ List.nodup_range) rfl (fun _ h => absurd h List.not_mem_nil) hc hqC he hn hst hW hd kk hf
end VCall
end
section
/-! the worlds of the two classes -/
def vCall (own : String) (idx : Nat) (C : String) (y : MethodName) (cc' : ByteArray) (nL' : Nat) (ret : Option FieldType) (n : Nat) : Prop := GoodIn lw_all (wsV own idx C y (ws_ y cc' nL' ret)) ∧ (y.cls = C ∧ y.cls ≠ "java/lang/invoke/MethodHandle" ∧ y.cls ≠ "java/lang/invoke/VarHandle" ∧ (parseMethodDescriptor y.desc).map (fun d => d.parameters.length) = some n)
theorem lkc_setNull : vCall RX0 21 RX1 yX1_setNull cX1_setNull 2 (some .int) 1 := ⟨lw_V q87 q88 q89 q28 q90, by decide +kernel⟩
theorem lkc_setInt : vCall RX0 26 RX1 yX1_setInt cX1_setInt 3 (some .int) 2 := ⟨lw_V q95 q96 q97 q28 q98, by decide +kernel⟩
theorem lkc_setText : vCall RX0 31 RX1 yX1_setText cX1_setText 2 (some .int) 1 := ⟨lw_V q103 q104 q105 q28 q106, by decide +kernel⟩
theorem lkc_append : vCall RX0 35 RX1 yX1_append cX1_append 4 (some .int) 2 := ⟨lw_V q107 q108 q109 q28 q110, by decide +kernel⟩
theorem lkc_add : vCall RX0 39 RX1 yX1_add cX1_add 5 (some .int) 1 := ⟨lw_V q111 q112 q113 q28 q114, by decide +kernel⟩
theorem lkc_remove : vCall RX0 43 RX1 yX1_remove cX1_remove 3 (some .int) 1 := ⟨lw_V q152 q153 q154 q28 q155, by decide +kernel⟩
theorem lkc_load : vCall RX0 47 RX1 yX1_load cX1_load 4 (some .int) 1 := ⟨lw_V q160 q161 q162 q28 q163, by decide +kernel⟩
theorem lkc_size : vCall RX0 51 RX1 yX1_size cX1_size 1 (some .int) 0 := ⟨lw_V q192 q193 q194 q28 q195, by decide +kernel⟩
theorem lkc_tag : vCall RX0 56 RX1 yX1_tag cX1_tag 2 (some .int) 1 := ⟨lw_V q196 q197 q198 q28 q199, by decide +kernel⟩
theorem lkc_below : vCall RX0 60 RX1 yX1_below cX1_below 1 (some .int) 0 := ⟨lw_V q200 q201 q202 q28 q203, by decide +kernel⟩
theorem lkc_matching : vCall RX0 64 RX1 yX1_matching cX1_matching 4 (some .int) 1 := ⟨lw_V q204 q205 q206 q28 q207, by decide +kernel⟩
theorem lkc_intAt : vCall RX0 68 RX1 yX1_intAt cX1_intAt 4 (some .int) 2 := ⟨lw_V q208 q209 q210 q28 q211, by decide +kernel⟩
theorem lkc_charAt : vCall RX0 72 RX1 yX1_charAt cX1_charAt 7 (some .int) 3 := ⟨lw_V q212 q213 q214 q28 q215, by decide +kernel⟩
theorem lkc_nullAt : vCall RX0 77 RX1 yX1_nullAt cX1_nullAt 3 (some .boolean) 2 := ⟨lw_V q216 q217 q218 q28 q219, by decide +kernel⟩
theorem kc_badField : vCall RX1 49 RX1 yX1_badField cX1_badField 2 (some .boolean) 1 := ⟨lw_V q91 q93 qs0 q28 q94, by decide +kernel⟩
theorem kc_isText : vCall RX1 53 RX1 yX1_isText cX1_isText 2 (some .boolean) 1 := ⟨lw_V q99 q101 qs1 q28 q102, by decide +kernel⟩
theorem kc_encode : vCall RX1 87 RX1 yX1_encode cX1_encode 5 none 1 := ⟨lw_V q115 q117 qs2 q28 q118, by decide +kernel⟩
theorem kc_nullsFirst : vCall RX1 71 RX1 yX1_nullsFirst cX1_nullsFirst 2 (some .boolean) 1 := ⟨lw_V q119 q121 qs3 q28 q122, by decide +kernel⟩
theorem kc_emit : vCall RX1 62 RX1 yX1_emit cX1_emit 2 none 1 := ⟨lw_V q123 q125 qs4 q28 q126, by decide +kernel⟩
theorem kc_emitText : vCall RX1 74 RX1 yX1_emitText cX1_emitText 4 none 1 := ⟨lw_V q127 q129 qs5 q28 q130, by decide +kernel⟩
theorem kc_emitTurned : vCall RX1 66 RX1 yX1_emitTurned cX1_emitTurned 4 none 2 := ⟨lw_V q131 q133 qs6 q28 q134, by decide +kernel⟩
theorem kc_descending : vCall RX1 59 RX1 yX1_descending cX1_descending 2 (some .boolean) 1 := ⟨lw_V q135 q137 qs7 q28 q138, by decide +kernel⟩
theorem kc_emitInt : vCall RX1 77 RX1 yX1_emitInt cX1_emitInt 4 none 1 := ⟨lw_V q139 q141 qs8 q28 q142, by decide +kernel⟩
theorem kc_bound : vCall RX1 90 RX1 yX1_bound cX1_bound 8 (some .int) 2 := ⟨lw_V q144 q146 qs9 q28 q147, by decide +kernel⟩
theorem kc_compare : vCall RX1 83 RX1 yX1_compare cX1_compare 6 (some .int) 2 := ⟨lw_V q148 q150 qs10 q28 q151, by decide +kernel⟩
theorem kc_noEntry : vCall RX1 94 RX1 yX1_noEntry cX1_noEntry 2 (some .boolean) 1 := ⟨lw_V q156 q158 qs11 q28 q159, by decide +kernel⟩
theorem kc_seek : vCall RX1 114 RX1 yX1_seek cX1_seek 5 (some .boolean) 2 := ⟨lw_V q164 q166 qs12 q28 q167, by decide +kernel⟩
theorem kc_nextByte : vCall RX1 100 RX1 yX1_nextByte cX1_nextByte 3 (some .int) 1 := ⟨lw_V q168 q170 qs13 q28 q171, by decide +kernel⟩
theorem kc_skipValue : vCall RX1 108 RX1 yX1_skipValue cX1_skipValue 5 none 2 := ⟨lw_V q172 q174 qs14 q28 q175, by decide +kernel⟩
theorem kc_readChar : vCall RX1 111 RX1 yX1_readChar cX1_readChar 5 (some .int) 2 := ⟨lw_V q176 q178 qs15 q28 q179, by decide +kernel⟩
theorem kc_nextTurned : vCall RX1 104 RX1 yX1_nextTurned cX1_nextTurned 5 (some .int) 2 := ⟨lw_V q180 q182 qs16 q28 q183, by decide +kernel⟩
theorem kc_loadField : vCall RX1 118 RX1 yX1_loadField cX1_loadField 5 none 2 := ⟨lw_V q184 q186 qs17 q28 q187, by decide +kernel⟩
theorem kc_readInt : vCall RX1 121 RX1 yX1_readInt cX1_readInt 5 (some .int) 2 := ⟨lw_V q188 q190 qs18 q28 q191, by decide +kernel⟩
theorem lmc_setNull : vCall RX0 25 RX2 yX2_setNull cX2_setNull 2 (some .int) 1 := ⟨lw_V q254 q255 q256 q29 q257, by decide +kernel⟩
theorem lmc_setInt : vCall RX0 30 RX2 yX2_setInt cX2_setInt 3 (some .int) 2 := ⟨lw_V q262 q263 q264 q29 q265, by decide +kernel⟩
theorem lmc_setText : vCall RX0 34 RX2 yX2_setText cX2_setText 2 (some .int) 1 := ⟨lw_V q270 q271 q272 q29 q273, by decide +kernel⟩
theorem lmc_append : vCall RX0 38 RX2 yX2_append cX2_append 4 (some .int) 2 := ⟨lw_V q274 q275 q276 q29 q277, by decide +kernel⟩
theorem lmc_add : vCall RX0 42 RX2 yX2_add cX2_add 2 (some .int) 1 := ⟨lw_V q278 q279 q280 q29 q281, by decide +kernel⟩
theorem lmc_remove : vCall RX0 46 RX2 yX2_remove cX2_remove 4 (some .int) 1 := ⟨lw_V q302 q303 q304 q29 q305, by decide +kernel⟩
theorem lmc_load : vCall RX0 50 RX2 yX2_load cX2_load 3 (some .int) 1 := ⟨lw_V q310 q311 q312 q29 q313, by decide +kernel⟩
theorem lmc_size : vCall RX0 55 RX2 yX2_size cX2_size 1 (some .int) 0 := ⟨lw_V q314 q315 q316 q29 q317, by decide +kernel⟩
theorem lmc_tag : vCall RX0 59 RX2 yX2_tag cX2_tag 3 (some .int) 1 := ⟨lw_V q318 q319 q320 q29 q321, by decide +kernel⟩
theorem lmc_below : vCall RX0 63 RX2 yX2_below cX2_below 3 (some .int) 0 := ⟨lw_V q322 q323 q324 q29 q325, by decide +kernel⟩
theorem lmc_matching : vCall RX0 67 RX2 yX2_matching cX2_matching 4 (some .int) 1 := ⟨lw_V q326 q327 q328 q29 q329, by decide +kernel⟩
theorem lmc_intAt : vCall RX0 71 RX2 yX2_intAt cX2_intAt 4 (some .int) 2 := ⟨lw_V q330 q331 q332 q29 q333, by decide +kernel⟩
theorem lmc_charAt : vCall RX0 76 RX2 yX2_charAt cX2_charAt 6 (some .int) 3 := ⟨lw_V q334 q335 q336 q29 q337, by decide +kernel⟩
theorem lmc_nullAt : vCall RX0 81 RX2 yX2_nullAt cX2_nullAt 4 (some .boolean) 2 := ⟨lw_V q338 q339 q340 q29 q341, by decide +kernel⟩
theorem mc_bad : vCall RX2 33 RX2 yX2_bad cX2_bad 2 (some .boolean) 1 := ⟨lw_V q258 q260 qs19 q29 q261, by decide +kernel⟩
theorem mc_text : vCall RX2 37 RX2 yX2_text cX2_text 2 (some .boolean) 1 := ⟨lw_V q266 q268 qs20 q29 q269, by decide +kernel⟩
theorem mc_copy : vCall RX2 58 RX2 yX2_copy cX2_copy 4 none 2 := ⟨lw_V q282 q284 qs21 q29 q285, by decide +kernel⟩
theorem mc_place : vCall RX2 54 RX2 yX2_place cX2_place 5 (some .int) 1 := ⟨lw_V q286 q288 qs22 q29 q289, by decide +kernel⟩
theorem mc_compare : vCall RX2 51 RX2 yX2_compare cX2_compare 6 (some .int) 3 := ⟨lw_V q290 q292 qs23 q29 q293, by decide +kernel⟩
theorem mc_field : vCall RX2 44 RX2 yX2_field cX2_field 10 (some .int) 3 := ⟨lw_V q294 q296 qs24 q29 q297, by decide +kernel⟩
theorem mc_values : vCall RX2 40 RX2 yX2_values cX2_values 7 (some .int) 3 := ⟨lw_V q298 q300 qs25 q29 q301, by decide +kernel⟩
theorem mc_at : vCall RX2 62 RX2 yX2_at cX2_at 3 (some .int) 1 := ⟨lw_V q306 q308 qs26 q29 q309, by decide +kernel⟩
/-- the cells of one object of the class RX1: its fields, its arrays -/
abbrev kw (h : Nat → Nat) (d : Nat → ClassId) (nf : Int32) (sch : Int32) (sn : Nat → Int32) (si : Nat → Int32) (sl : Nat → Int32) (tx : Nat → Int32) (en : Int32) (od : Nat → Int32) (us : Nat → Int32) (tg : Nat → Int32) (kl : Nat → Int32) (ky : Nat → Int32) (pl : Int32) (pb : Nat → Int32) (ra : Int32) : va_W := [(h 0, .inr (0, [.int nf, .int sch, .ref (h 2), .ref (h 3), .ref (h 4), .ref (h 5), .int en, .ref (h 7), .ref (h 8), .ref (h 9), .ref (h 10), .ref (h 11), .int pl, .ref (h 13), .int ra])), (h 2, .inl (d 2, 4, .inl sn)), (h 3, .inl (d 3, 4, .inl si)), (h 4, .inl (d 4, 4, .inl sl)), (h 5, .inl (d 5, 24, .inl tx)), (h 7, .inl (d 7, 20, .inl od)), (h 8, .inl (d 8, 20, .inl us)), (h 9, .inl (d 9, 20, .inl tg)), (h 10, .inl (d 10, 20, .inl kl)), (h 11, .inl (d 11, 1280, .inl ky)), (h 13, .inl (d 13, 64, .inl pb))]
abbrev kT (d : Nat → ClassId) : List (ClassId × FieldType) := [(d 2, .boolean), (d 3, .int), (d 4, .int), (d 5, .int), (d 7, .int), (d 8, .boolean), (d 9, .int), (d 10, .int), (d 11, .short), (d 13, .short)]
section S_k
variable {l : Launch} {D : va_G} {X : vX} {nL : Nat} {n1 n2 : Nat} {L : List Value} {pc : Nat} {st : List Value} {cc cc' : ByteArray} {R : Room} {h : Nat → Nat} {d : Nat → ClassId} {nf sch en pl ra : Int32} {sn si sl tx od us tg kl ky pb : Nat → Int32}
theorem kg_nf (hC : vC l D X nL cc RX1 R) (hd : decode cc pc = .ok (.getfield 42, 3)) (kk : vV l D X nL (kT d) n1 n2 (kw h d nf sch sn si sl tx en od us tg kl ky pl pb ra) L (pc + 3) (.int nf :: st)) : vV l D X nL (kT d) n1 n2 (kw h d nf sch sn si sl tx en od us tg kl ky pl pb ra) L pc (.ref (h 0) :: st) := v_get (C := RX1) (T := TX1) (N := 15) (ci := 0) hC in_X1 0 rfl rfl 0 (by decide) q38 rfl hd kk
theorem kg_sch (hC : vC l D X nL cc RX1 R) (hd : decode cc pc = .ok (.getfield 46, 3)) (kk : vV l D X nL (kT d) n1 n2 (kw h d nf sch sn si sl tx en od us tg kl ky pl pb ra) L (pc + 3) (.int sch :: st)) : vV l D X nL (kT d) n1 n2 (kw h d nf sch sn si sl tx en od us tg kl ky pl pb ra) L pc (.ref (h 0) :: st) := v_get (C := RX1) (T := TX1) (N := 15) (ci := 0) hC in_X1 0 rfl rfl 1 (by decide) q39 rfl hd kk
theorem kg_sn (hC : vC l D X nL cc RX1 R) (hd : decode cc pc = .ok (.getfield 7, 3)) (kk : vV l D X nL (kT d) n1 n2 (kw h d nf sch sn si sl tx en od us tg kl ky pl pb ra) L (pc + 3) (.ref (h 2) :: st)) : vV l D X nL (kT d) n1 n2 (kw h d nf sch sn si sl tx en od us tg kl ky pl pb ra) L pc (.ref (h 0) :: st) := v_get (C := RX1) (T := TX1) (N := 15) (ci := 0) hC in_X1 0 rfl rfl 2 (by decide) q40 rfl hd kk
theorem kg_si (hC : vC l D X nL cc RX1 R) (hd : decode cc pc = .ok (.getfield 13, 3)) (kk : vV l D X nL (kT d) n1 n2 (kw h d nf sch sn si sl tx en od us tg kl ky pl pb ra) L (pc + 3) (.ref (h 3) :: st)) : vV l D X nL (kT d) n1 n2 (kw h d nf sch sn si sl tx en od us tg kl ky pl pb ra) L pc (.ref (h 0) :: st) := v_get (C := RX1) (T := TX1) (N := 15) (ci := 0) hC in_X1 0 rfl rfl 3 (by decide) q41 rfl hd kk
theorem kg_sl (hC : vC l D X nL cc RX1 R) (hd : decode cc pc = .ok (.getfield 17, 3)) (kk : vV l D X nL (kT d) n1 n2 (kw h d nf sch sn si sl tx en od us tg kl ky pl pb ra) L (pc + 3) (.ref (h 4) :: st)) : vV l D X nL (kT d) n1 n2 (kw h d nf sch sn si sl tx en od us tg kl ky pl pb ra) L pc (.ref (h 0) :: st) := v_get (C := RX1) (T := TX1) (N := 15) (ci := 0) hC in_X1 0 rfl rfl 4 (by decide) q42 rfl hd kk
theorem kg_tx (hC : vC l D X nL cc RX1 R) (hd : decode cc pc = .ok (.getfield 20, 3)) (kk : vV l D X nL (kT d) n1 n2 (kw h d nf sch sn si sl tx en od us tg kl ky pl pb ra) L (pc + 3) (.ref (h 5) :: st)) : vV l D X nL (kT d) n1 n2 (kw h d nf sch sn si sl tx en od us tg kl ky pl pb ra) L pc (.ref (h 0) :: st) := v_get (C := RX1) (T := TX1) (N := 15) (ci := 0) hC in_X1 0 rfl rfl 5 (by decide) q43 rfl hd kk
theorem kg_en (hC : vC l D X nL cc RX1 R) (hd : decode cc pc = .ok (.getfield 80, 3)) (kk : vV l D X nL (kT d) n1 n2 (kw h d nf sch sn si sl tx en od us tg kl ky pl pb ra) L (pc + 3) (.int en :: st)) : vV l D X nL (kT d) n1 n2 (kw h d nf sch sn si sl tx en od us tg kl ky pl pb ra) L pc (.ref (h 0) :: st) := v_get (C := RX1) (T := TX1) (N := 15) (ci := 0) hC in_X1 0 rfl rfl 6 (by decide) q44 rfl hd kk
theorem kp_en (hC : vC l D X nL cc RX1 R) {v : Int32} (hd : decode cc pc = .ok (.putfield 80, 3)) (kk : vV l D X nL (kT d) n1 n2 (kw h d nf sch sn si sl tx v od us tg kl ky pl pb ra) L (pc + 3) st) : vV l D X nL (kT d) n1 n2 (kw h d nf sch sn si sl tx en od us tg kl ky pl pb ra) L pc (.int v :: .ref (h 0) :: st) := v_put (C := RX1) (T := TX1) (N := 15) (ci := 0) (ty := .int) (fs := [.int nf, .int sch, .ref (h 2), .ref (h 3), .ref (h 4), .ref (h 5), .int en, .ref (h 7), .ref (h 8), .ref (h 9), .ref (h 10), .ref (h 11), .int pl, .ref (h 13), .int ra]) hC in_X1 tyX1 tyX1_ok nmX1 0 rfl rfl 6 (by decide) q44 rfl (by decide +kernel) rfl rfl (Nat.le_of_ble_eq_true rfl) rfl hd kk
theorem kg_od (hC : vC l D X nL cc RX1 R) (hd : decode cc pc = .ok (.getfield 23, 3)) (kk : vV l D X nL (kT d) n1 n2 (kw h d nf sch sn si sl tx en od us tg kl ky pl pb ra) L (pc + 3) (.ref (h 7) :: st)) : vV l D X nL (kT d) n1 n2 (kw h d nf sch sn si sl tx en od us tg kl ky pl pb ra) L pc (.ref (h 0) :: st) := v_get (C := RX1) (T := TX1) (N := 15) (ci := 0) hC in_X1 0 rfl rfl 7 (by decide) q45 rfl hd kk
theorem kg_us (hC : vC l D X nL cc RX1 R) (hd : decode cc pc = .ok (.getfield 26, 3)) (kk : vV l D X nL (kT d) n1 n2 (kw h d nf sch sn si sl tx en od us tg kl ky pl pb ra) L (pc + 3) (.ref (h 8) :: st)) : vV l D X nL (kT d) n1 n2 (kw h d nf sch sn si sl tx en od us tg kl ky pl pb ra) L pc (.ref (h 0) :: st) := v_get (C := RX1) (T := TX1) (N := 15) (ci := 0) hC in_X1 0 rfl rfl 8 (by decide) q46 rfl hd kk
theorem kg_tg (hC : vC l D X nL cc RX1 R) (hd : decode cc pc = .ok (.getfield 29, 3)) (kk : vV l D X nL (kT d) n1 n2 (kw h d nf sch sn si sl tx en od us tg kl ky pl pb ra) L (pc + 3) (.ref (h 9) :: st)) : vV l D X nL (kT d) n1 n2 (kw h d nf sch sn si sl tx en od us tg kl ky pl pb ra) L pc (.ref (h 0) :: st) := v_get (C := RX1) (T := TX1) (N := 15) (ci := 0) hC in_X1 0 rfl rfl 9 (by decide) q47 rfl hd kk
theorem kg_kl (hC : vC l D X nL cc RX1 R) (hd : decode cc pc = .ok (.getfield 32, 3)) (kk : vV l D X nL (kT d) n1 n2 (kw h d nf sch sn si sl tx en od us tg kl ky pl pb ra) L (pc + 3) (.ref (h 10) :: st)) : vV l D X nL (kT d) n1 n2 (kw h d nf sch sn si sl tx en od us tg kl ky pl pb ra) L pc (.ref (h 0) :: st) := v_get (C := RX1) (T := TX1) (N := 15) (ci := 0) hC in_X1 0 rfl rfl 10 (by decide) q48 rfl hd kk
theorem kg_ky (hC : vC l D X nL cc RX1 R) (hd : decode cc pc = .ok (.getfield 35, 3)) (kk : vV l D X nL (kT d) n1 n2 (kw h d nf sch sn si sl tx en od us tg kl ky pl pb ra) L (pc + 3) (.ref (h 11) :: st)) : vV l D X nL (kT d) n1 n2 (kw h d nf sch sn si sl tx en od us tg kl ky pl pb ra) L pc (.ref (h 0) :: st) := v_get (C := RX1) (T := TX1) (N := 15) (ci := 0) hC in_X1 0 rfl rfl 11 (by decide) q49 rfl hd kk
theorem kg_pl (hC : vC l D X nL cc RX1 R) (hd : decode cc pc = .ok (.getfield 56, 3)) (kk : vV l D X nL (kT d) n1 n2 (kw h d nf sch sn si sl tx en od us tg kl ky pl pb ra) L (pc + 3) (.int pl :: st)) : vV l D X nL (kT d) n1 n2 (kw h d nf sch sn si sl tx en od us tg kl ky pl pb ra) L pc (.ref (h 0) :: st) := v_get (C := RX1) (T := TX1) (N := 15) (ci := 0) hC in_X1 0 rfl rfl 12 (by decide) q50 rfl hd kk
theorem kp_pl (hC : vC l D X nL cc RX1 R) {v : Int32} (hd : decode cc pc = .ok (.putfield 56, 3)) (kk : vV l D X nL (kT d) n1 n2 (kw h d nf sch sn si sl tx en od us tg kl ky v pb ra) L (pc + 3) st) : vV l D X nL (kT d) n1 n2 (kw h d nf sch sn si sl tx en od us tg kl ky pl pb ra) L pc (.int v :: .ref (h 0) :: st) := v_put (C := RX1) (T := TX1) (N := 15) (ci := 0) (ty := .int) (fs := [.int nf, .int sch, .ref (h 2), .ref (h 3), .ref (h 4), .ref (h 5), .int en, .ref (h 7), .ref (h 8), .ref (h 9), .ref (h 10), .ref (h 11), .int pl, .ref (h 13), .int ra]) hC in_X1 tyX1 tyX1_ok nmX1 0 rfl rfl 12 (by decide) q50 rfl (by decide +kernel) rfl rfl (Nat.le_of_ble_eq_true rfl) rfl hd kk
theorem kg_pb (hC : vC l D X nL cc RX1 R) (hd : decode cc pc = .ok (.getfield 39, 3)) (kk : vV l D X nL (kT d) n1 n2 (kw h d nf sch sn si sl tx en od us tg kl ky pl pb ra) L (pc + 3) (.ref (h 13) :: st)) : vV l D X nL (kT d) n1 n2 (kw h d nf sch sn si sl tx en od us tg kl ky pl pb ra) L pc (.ref (h 0) :: st) := v_get (C := RX1) (T := TX1) (N := 15) (ci := 0) hC in_X1 0 rfl rfl 13 (by decide) q51 rfl hd kk
theorem kg_ra (hC : vC l D X nL cc RX1 R) (hd : decode cc pc = .ok (.getfield 97, 3)) (kk : vV l D X nL (kT d) n1 n2 (kw h d nf sch sn si sl tx en od us tg kl ky pl pb ra) L (pc + 3) (.int ra :: st)) : vV l D X nL (kT d) n1 n2 (kw h d nf sch sn si sl tx en od us tg kl ky pl pb ra) L pc (.ref (h 0) :: st) := v_get (C := RX1) (T := TX1) (N := 15) (ci := 0) hC in_X1 0 rfl rfl 14 (by decide) q52 rfl hd kk
theorem kp_ra (hC : vC l D X nL cc RX1 R) {v : Int32} (hd : decode cc pc = .ok (.putfield 97, 3)) (kk : vV l D X nL (kT d) n1 n2 (kw h d nf sch sn si sl tx en od us tg kl ky pl pb v) L (pc + 3) st) : vV l D X nL (kT d) n1 n2 (kw h d nf sch sn si sl tx en od us tg kl ky pl pb ra) L pc (.int v :: .ref (h 0) :: st) := v_put (C := RX1) (T := TX1) (N := 15) (ci := 0) (ty := .int) (fs := [.int nf, .int sch, .ref (h 2), .ref (h 3), .ref (h 4), .ref (h 5), .int en, .ref (h 7), .ref (h 8), .ref (h 9), .ref (h 10), .ref (h 11), .int pl, .ref (h 13), .int ra]) hC in_X1 tyX1 tyX1_ok nmX1 0 rfl rfl 14 (by decide) q52 rfl (by decide +kernel) rfl rfl (Nat.le_of_ble_eq_true rfl) rfl hd kk
theorem kl_sn (hC : vC l D X nL cc RX1 R) {j : Nat} (hj : j < 4) (hd : decode cc pc = .ok (.baload, 1)) (kk : vV l D X nL (kT d) n1 n2 (kw h d nf sch sn si sl tx en od us tg kl ky pl pb ra) L (pc + 1) (.int (sn j) :: st)) : vV l D X nL (kT d) n1 n2 (kw h d nf sch sn si sl tx en od us tg kl ky pl pb ra) L pc (.int (nI j) :: .ref (h 2) :: st) := v_zald hC 1 0 rfl rfl (by decide) hj hd kk
theorem ks_sn (hC : vC l D X nL cc RX1 R) {j : Nat} {x : Int32} (hj : j < 4) (hx0 : vp_nar .boolean x = x) (hd : decode cc pc = .ok (.bastore, 1)) (kk : vV l D X nL (kT d) n1 n2 (kw h d nf sch (upd sn j x) si sl tx en od us tg kl ky pl pb ra) L (pc + 1) st) : vV l D X nL (kT d) n1 n2 (kw h d nf sch sn si sl tx en od us tg kl ky pl pb ra) L pc (.int x :: .int (nI j) :: .ref (h 2) :: st) := v_zast hC 1 0 rfl rfl (by decide) hj hx0 rfl hd kk
theorem kl_si (hC : vC l D X nL cc RX1 R) {j : Nat} (hj : j < 4) (hd : decode cc pc = .ok (.iaload, 1)) (kk : vV l D X nL (kT d) n1 n2 (kw h d nf sch sn si sl tx en od us tg kl ky pl pb ra) L (pc + 1) (.int (si j) :: st)) : vV l D X nL (kT d) n1 n2 (kw h d nf sch sn si sl tx en od us tg kl ky pl pb ra) L pc (.int (nI j) :: .ref (h 3) :: st) := v_iald hC 2 1 rfl rfl (by decide) hj hd kk
theorem ks_si (hC : vC l D X nL cc RX1 R) {j : Nat} {x : Int32} (hj : j < 4) (hd : decode cc pc = .ok (.iastore, 1)) (kk : vV l D X nL (kT d) n1 n2 (kw h d nf sch sn (upd si j x) sl tx en od us tg kl ky pl pb ra) L (pc + 1) st) : vV l D X nL (kT d) n1 n2 (kw h d nf sch sn si sl tx en od us tg kl ky pl pb ra) L pc (.int x :: .int (nI j) :: .ref (h 3) :: st) := v_iast hC 2 1 rfl rfl (by decide) hj rfl hd kk
theorem kl_sl (hC : vC l D X nL cc RX1 R) {j : Nat} (hj : j < 4) (hd : decode cc pc = .ok (.iaload, 1)) (kk : vV l D X nL (kT d) n1 n2 (kw h d nf sch sn si sl tx en od us tg kl ky pl pb ra) L (pc + 1) (.int (sl j) :: st)) : vV l D X nL (kT d) n1 n2 (kw h d nf sch sn si sl tx en od us tg kl ky pl pb ra) L pc (.int (nI j) :: .ref (h 4) :: st) := v_iald hC 3 2 rfl rfl (by decide) hj hd kk
theorem ks_sl (hC : vC l D X nL cc RX1 R) {j : Nat} {x : Int32} (hj : j < 4) (hd : decode cc pc = .ok (.iastore, 1)) (kk : vV l D X nL (kT d) n1 n2 (kw h d nf sch sn si (upd sl j x) tx en od us tg kl ky pl pb ra) L (pc + 1) st) : vV l D X nL (kT d) n1 n2 (kw h d nf sch sn si sl tx en od us tg kl ky pl pb ra) L pc (.int x :: .int (nI j) :: .ref (h 4) :: st) := v_iast hC 3 2 rfl rfl (by decide) hj rfl hd kk
theorem kl_tx (hC : vC l D X nL cc RX1 R) {j : Nat} (hj : j < 24) (hd : decode cc pc = .ok (.iaload, 1)) (kk : vV l D X nL (kT d) n1 n2 (kw h d nf sch sn si sl tx en od us tg kl ky pl pb ra) L (pc + 1) (.int (tx j) :: st)) : vV l D X nL (kT d) n1 n2 (kw h d nf sch sn si sl tx en od us tg kl ky pl pb ra) L pc (.int (nI j) :: .ref (h 5) :: st) := v_iald hC 4 3 rfl rfl (by decide) hj hd kk
theorem ks_tx (hC : vC l D X nL cc RX1 R) {j : Nat} {x : Int32} (hj : j < 24) (hd : decode cc pc = .ok (.iastore, 1)) (kk : vV l D X nL (kT d) n1 n2 (kw h d nf sch sn si sl (upd tx j x) en od us tg kl ky pl pb ra) L (pc + 1) st) : vV l D X nL (kT d) n1 n2 (kw h d nf sch sn si sl tx en od us tg kl ky pl pb ra) L pc (.int x :: .int (nI j) :: .ref (h 5) :: st) := v_iast hC 4 3 rfl rfl (by decide) hj rfl hd kk
theorem kl_od (hC : vC l D X nL cc RX1 R) {j : Nat} (hj : j < 20) (hd : decode cc pc = .ok (.iaload, 1)) (kk : vV l D X nL (kT d) n1 n2 (kw h d nf sch sn si sl tx en od us tg kl ky pl pb ra) L (pc + 1) (.int (od j) :: st)) : vV l D X nL (kT d) n1 n2 (kw h d nf sch sn si sl tx en od us tg kl ky pl pb ra) L pc (.int (nI j) :: .ref (h 7) :: st) := v_iald hC 5 4 rfl rfl (by decide) hj hd kk
theorem ks_od (hC : vC l D X nL cc RX1 R) {j : Nat} {x : Int32} (hj : j < 20) (hd : decode cc pc = .ok (.iastore, 1)) (kk : vV l D X nL (kT d) n1 n2 (kw h d nf sch sn si sl tx en (upd od j x) us tg kl ky pl pb ra) L (pc + 1) st) : vV l D X nL (kT d) n1 n2 (kw h d nf sch sn si sl tx en od us tg kl ky pl pb ra) L pc (.int x :: .int (nI j) :: .ref (h 7) :: st) := v_iast hC 5 4 rfl rfl (by decide) hj rfl hd kk
theorem kl_us (hC : vC l D X nL cc RX1 R) {j : Nat} (hj : j < 20) (hd : decode cc pc = .ok (.baload, 1)) (kk : vV l D X nL (kT d) n1 n2 (kw h d nf sch sn si sl tx en od us tg kl ky pl pb ra) L (pc + 1) (.int (us j) :: st)) : vV l D X nL (kT d) n1 n2 (kw h d nf sch sn si sl tx en od us tg kl ky pl pb ra) L pc (.int (nI j) :: .ref (h 8) :: st) := v_zald hC 6 5 rfl rfl (by decide) hj hd kk
theorem ks_us (hC : vC l D X nL cc RX1 R) {j : Nat} {x : Int32} (hj : j < 20) (hx0 : vp_nar .boolean x = x) (hd : decode cc pc = .ok (.bastore, 1)) (kk : vV l D X nL (kT d) n1 n2 (kw h d nf sch sn si sl tx en od (upd us j x) tg kl ky pl pb ra) L (pc + 1) st) : vV l D X nL (kT d) n1 n2 (kw h d nf sch sn si sl tx en od us tg kl ky pl pb ra) L pc (.int x :: .int (nI j) :: .ref (h 8) :: st) := v_zast hC 6 5 rfl rfl (by decide) hj hx0 rfl hd kk
theorem kl_tg (hC : vC l D X nL cc RX1 R) {j : Nat} (hj : j < 20) (hd : decode cc pc = .ok (.iaload, 1)) (kk : vV l D X nL (kT d) n1 n2 (kw h d nf sch sn si sl tx en od us tg kl ky pl pb ra) L (pc + 1) (.int (tg j) :: st)) : vV l D X nL (kT d) n1 n2 (kw h d nf sch sn si sl tx en od us tg kl ky pl pb ra) L pc (.int (nI j) :: .ref (h 9) :: st) := v_iald hC 7 6 rfl rfl (by decide) hj hd kk
theorem ks_tg (hC : vC l D X nL cc RX1 R) {j : Nat} {x : Int32} (hj : j < 20) (hd : decode cc pc = .ok (.iastore, 1)) (kk : vV l D X nL (kT d) n1 n2 (kw h d nf sch sn si sl tx en od us (upd tg j x) kl ky pl pb ra) L (pc + 1) st) : vV l D X nL (kT d) n1 n2 (kw h d nf sch sn si sl tx en od us tg kl ky pl pb ra) L pc (.int x :: .int (nI j) :: .ref (h 9) :: st) := v_iast hC 7 6 rfl rfl (by decide) hj rfl hd kk
theorem kl_kl (hC : vC l D X nL cc RX1 R) {j : Nat} (hj : j < 20) (hd : decode cc pc = .ok (.iaload, 1)) (kk : vV l D X nL (kT d) n1 n2 (kw h d nf sch sn si sl tx en od us tg kl ky pl pb ra) L (pc + 1) (.int (kl j) :: st)) : vV l D X nL (kT d) n1 n2 (kw h d nf sch sn si sl tx en od us tg kl ky pl pb ra) L pc (.int (nI j) :: .ref (h 10) :: st) := v_iald hC 8 7 rfl rfl (by decide) hj hd kk
theorem ks_kl (hC : vC l D X nL cc RX1 R) {j : Nat} {x : Int32} (hj : j < 20) (hd : decode cc pc = .ok (.iastore, 1)) (kk : vV l D X nL (kT d) n1 n2 (kw h d nf sch sn si sl tx en od us tg (upd kl j x) ky pl pb ra) L (pc + 1) st) : vV l D X nL (kT d) n1 n2 (kw h d nf sch sn si sl tx en od us tg kl ky pl pb ra) L pc (.int x :: .int (nI j) :: .ref (h 10) :: st) := v_iast hC 8 7 rfl rfl (by decide) hj rfl hd kk
theorem kl_ky (hC : vC l D X nL cc RX1 R) {j : Nat} (hj : j < 1280) (hd : decode cc pc = .ok (.saload, 1)) (kk : vV l D X nL (kT d) n1 n2 (kw h d nf sch sn si sl tx en od us tg kl ky pl pb ra) L (pc + 1) (.int (ky j) :: st)) : vV l D X nL (kT d) n1 n2 (kw h d nf sch sn si sl tx en od us tg kl ky pl pb ra) L pc (.int (nI j) :: .ref (h 11) :: st) := v_sald hC 9 8 rfl rfl (by decide) hj hd kk
theorem ks_ky (hC : vC l D X nL cc RX1 R) {j : Nat} {x : Int32} (hj : j < 1280) (hx0 : vp_nar .short x = x) (hd : decode cc pc = .ok (.sastore, 1)) (kk : vV l D X nL (kT d) n1 n2 (kw h d nf sch sn si sl tx en od us tg kl (upd ky j x) pl pb ra) L (pc + 1) st) : vV l D X nL (kT d) n1 n2 (kw h d nf sch sn si sl tx en od us tg kl ky pl pb ra) L pc (.int x :: .int (nI j) :: .ref (h 11) :: st) := v_sast hC 9 8 rfl rfl (by decide) hj hx0 rfl hd kk
theorem kl_pb (hC : vC l D X nL cc RX1 R) {j : Nat} (hj : j < 64) (hd : decode cc pc = .ok (.saload, 1)) (kk : vV l D X nL (kT d) n1 n2 (kw h d nf sch sn si sl tx en od us tg kl ky pl pb ra) L (pc + 1) (.int (pb j) :: st)) : vV l D X nL (kT d) n1 n2 (kw h d nf sch sn si sl tx en od us tg kl ky pl pb ra) L pc (.int (nI j) :: .ref (h 13) :: st) := v_sald hC 10 9 rfl rfl (by decide) hj hd kk
theorem ks_pb (hC : vC l D X nL cc RX1 R) {j : Nat} {x : Int32} (hj : j < 64) (hx0 : vp_nar .short x = x) (hd : decode cc pc = .ok (.sastore, 1)) (kk : vV l D X nL (kT d) n1 n2 (kw h d nf sch sn si sl tx en od us tg kl ky pl (upd pb j x) ra) L (pc + 1) st) : vV l D X nL (kT d) n1 n2 (kw h d nf sch sn si sl tx en od us tg kl ky pl pb ra) L pc (.int x :: .int (nI j) :: .ref (h 13) :: st) := v_sast hC 10 9 rfl rfl (by decide) hj hx0 rfl hd kk
theorem k_calli0 {y : MethodName} {nL' fr lo fr0 lo0 idx : Nat} {ty : FieldType} {post : Int32 → va_W → Prop} (hC : vC l D X nL cc RX1 (vRm fr0 lo0)) (hM : vMi l D y cc' nL' ty fr lo (kT d) (kw h d nf sch sn si sl tx en od us tg kl ky pl pb ra) (.ref (h 0) :: []) post) (hG : vCall RX1 idx RX1 y cc' nL' (some ty) 0) (hR : fr + 1 ≤ fr0 ∧ 8 + (nL' + 11) + lo ≤ lo0) (hW : (st.map fun v => v.category).sum ≤ 8) (hd : decode cc pc = .ok (.invokevirtual idx, 3)) (kk : ∀ (r : Int32) (u : va_W), post r u → vV l D X nL (kT d) n1 n2 u L (pc + 3) (.int r :: st)) (hf : n1 = 0 ∧ n2 = 0) : vV l D X nL (kT d) n1 n2 (kw h d nf sch sn si sl tx en od us tg kl ky pl pb ra) L pc (.ref (h 0) :: st) := v_calli (q0 := 0) (ci := 0) hC hM hG.1 hG.2 hR rfl rfl rfl rfl rfl hW hd kk ⟨Nat.le_of_eq hf.1, Nat.le_of_eq hf.2⟩
theorem k_callv0 {y : MethodName} {nL' fr lo fr0 lo0 idx : Nat} {post : va_W → Prop} (hC : vC l D X nL cc RX1 (vRm fr0 lo0)) (hM : vMv l D y cc' nL' fr lo (kT d) (kw h d nf sch sn si sl tx en od us tg kl ky pl pb ra) (.ref (h 0) :: []) post) (hG : vCall RX1 idx RX1 y cc' nL' none 0) (hR : fr + 1 ≤ fr0 ∧ 8 + (nL' + 11) + lo ≤ lo0) (hW : (st.map fun v => v.category).sum ≤ 8) (hd : decode cc pc = .ok (.invokevirtual idx, 3)) (kk : ∀ (u : va_W), post u → vV l D X nL (kT d) n1 n2 u L (pc + 3) st) (hf : n1 = 0 ∧ n2 = 0) : vV l D X nL (kT d) n1 n2 (kw h d nf sch sn si sl tx en od us tg kl ky pl pb ra) L pc (.ref (h 0) :: st) := v_callv (q0 := 0) (ci := 0) hC hM hG.1 hG.2 hR rfl rfl rfl rfl rfl hW hd kk ⟨Nat.le_of_eq hf.1, Nat.le_of_eq hf.2⟩
theorem k_calli1 {y : MethodName} {nL' fr lo fr0 lo0 idx : Nat} {ty : FieldType} {post : Int32 → va_W → Prop} {a1 : Value} (hC : vC l D X nL cc RX1 (vRm fr0 lo0)) (hM : vMi l D y cc' nL' ty fr lo (kT d) (kw h d nf sch sn si sl tx en od us tg kl ky pl pb ra) (.ref (h 0) :: [a1]) post) (hG : vCall RX1 idx RX1 y cc' nL' (some ty) 1) (hR : fr + 1 ≤ fr0 ∧ 8 + (nL' + 11) + lo ≤ lo0) (hW : (st.map fun v => v.category).sum ≤ 8) (hd : decode cc pc = .ok (.invokevirtual idx, 3)) (kk : ∀ (r : Int32) (u : va_W), post r u → vV l D X nL (kT d) n1 n2 u L (pc + 3) (.int r :: st)) (hf : n1 = 0 ∧ n2 = 0) : vV l D X nL (kT d) n1 n2 (kw h d nf sch sn si sl tx en od us tg kl ky pl pb ra) L pc (a1 :: .ref (h 0) :: st) := v_calli (q0 := 0) (ci := 0) hC hM hG.1 hG.2 hR rfl rfl rfl rfl rfl hW hd kk ⟨Nat.le_of_eq hf.1, Nat.le_of_eq hf.2⟩
theorem k_callv1 {y : MethodName} {nL' fr lo fr0 lo0 idx : Nat} {post : va_W → Prop} {a1 : Value} (hC : vC l D X nL cc RX1 (vRm fr0 lo0)) (hM : vMv l D y cc' nL' fr lo (kT d) (kw h d nf sch sn si sl tx en od us tg kl ky pl pb ra) (.ref (h 0) :: [a1]) post) (hG : vCall RX1 idx RX1 y cc' nL' none 1) (hR : fr + 1 ≤ fr0 ∧ 8 + (nL' + 11) + lo ≤ lo0) (hW : (st.map fun v => v.category).sum ≤ 8) (hd : decode cc pc = .ok (.invokevirtual idx, 3)) (kk : ∀ (u : va_W), post u → vV l D X nL (kT d) n1 n2 u L (pc + 3) st) (hf : n1 = 0 ∧ n2 = 0) : vV l D X nL (kT d) n1 n2 (kw h d nf sch sn si sl tx en od us tg kl ky pl pb ra) L pc (a1 :: .ref (h 0) :: st) := v_callv (q0 := 0) (ci := 0) hC hM hG.1 hG.2 hR rfl rfl rfl rfl rfl hW hd kk ⟨Nat.le_of_eq hf.1, Nat.le_of_eq hf.2⟩
theorem k_calli2 {y : MethodName} {nL' fr lo fr0 lo0 idx : Nat} {ty : FieldType} {post : Int32 → va_W → Prop} {a1 a2 : Value} (hC : vC l D X nL cc RX1 (vRm fr0 lo0)) (hM : vMi l D y cc' nL' ty fr lo (kT d) (kw h d nf sch sn si sl tx en od us tg kl ky pl pb ra) (.ref (h 0) :: [a1, a2]) post) (hG : vCall RX1 idx RX1 y cc' nL' (some ty) 2) (hR : fr + 1 ≤ fr0 ∧ 8 + (nL' + 11) + lo ≤ lo0) (hW : (st.map fun v => v.category).sum ≤ 8) (hd : decode cc pc = .ok (.invokevirtual idx, 3)) (kk : ∀ (r : Int32) (u : va_W), post r u → vV l D X nL (kT d) n1 n2 u L (pc + 3) (.int r :: st)) (hf : n1 = 0 ∧ n2 = 0) : vV l D X nL (kT d) n1 n2 (kw h d nf sch sn si sl tx en od us tg kl ky pl pb ra) L pc (a2 :: a1 :: .ref (h 0) :: st) := v_calli (q0 := 0) (ci := 0) hC hM hG.1 hG.2 hR rfl rfl rfl rfl rfl hW hd kk ⟨Nat.le_of_eq hf.1, Nat.le_of_eq hf.2⟩
theorem k_callv2 {y : MethodName} {nL' fr lo fr0 lo0 idx : Nat} {post : va_W → Prop} {a1 a2 : Value} (hC : vC l D X nL cc RX1 (vRm fr0 lo0)) (hM : vMv l D y cc' nL' fr lo (kT d) (kw h d nf sch sn si sl tx en od us tg kl ky pl pb ra) (.ref (h 0) :: [a1, a2]) post) (hG : vCall RX1 idx RX1 y cc' nL' none 2) (hR : fr + 1 ≤ fr0 ∧ 8 + (nL' + 11) + lo ≤ lo0) (hW : (st.map fun v => v.category).sum ≤ 8) (hd : decode cc pc = .ok (.invokevirtual idx, 3)) (kk : ∀ (u : va_W), post u → vV l D X nL (kT d) n1 n2 u L (pc + 3) st) (hf : n1 = 0 ∧ n2 = 0) : vV l D X nL (kT d) n1 n2 (kw h d nf sch sn si sl tx en od us tg kl ky pl pb ra) L pc (a2 :: a1 :: .ref (h 0) :: st) := v_callv (q0 := 0) (ci := 0) hC hM hG.1 hG.2 hR rfl rfl rfl rfl rfl hW hd kk ⟨Nat.le_of_eq hf.1, Nat.le_of_eq hf.2⟩
theorem k_calli3 {y : MethodName} {nL' fr lo fr0 lo0 idx : Nat} {ty : FieldType} {post : Int32 → va_W → Prop} {a1 a2 a3 : Value} (hC : vC l D X nL cc RX1 (vRm fr0 lo0)) (hM : vMi l D y cc' nL' ty fr lo (kT d) (kw h d nf sch sn si sl tx en od us tg kl ky pl pb ra) (.ref (h 0) :: [a1, a2, a3]) post) (hG : vCall RX1 idx RX1 y cc' nL' (some ty) 3) (hR : fr + 1 ≤ fr0 ∧ 8 + (nL' + 11) + lo ≤ lo0) (hW : (st.map fun v => v.category).sum ≤ 8) (hd : decode cc pc = .ok (.invokevirtual idx, 3)) (kk : ∀ (r : Int32) (u : va_W), post r u → vV l D X nL (kT d) n1 n2 u L (pc + 3) (.int r :: st)) (hf : n1 = 0 ∧ n2 = 0) : vV l D X nL (kT d) n1 n2 (kw h d nf sch sn si sl tx en od us tg kl ky pl pb ra) L pc (a3 :: a2 :: a1 :: .ref (h 0) :: st) := v_calli (q0 := 0) (ci := 0) hC hM hG.1 hG.2 hR rfl rfl rfl rfl rfl hW hd kk ⟨Nat.le_of_eq hf.1, Nat.le_of_eq hf.2⟩
theorem k_callv3 {y : MethodName} {nL' fr lo fr0 lo0 idx : Nat} {post : va_W → Prop} {a1 a2 a3 : Value} (hC : vC l D X nL cc RX1 (vRm fr0 lo0)) (hM : vMv l D y cc' nL' fr lo (kT d) (kw h d nf sch sn si sl tx en od us tg kl ky pl pb ra) (.ref (h 0) :: [a1, a2, a3]) post) (hG : vCall RX1 idx RX1 y cc' nL' none 3) (hR : fr + 1 ≤ fr0 ∧ 8 + (nL' + 11) + lo ≤ lo0) (hW : (st.map fun v => v.category).sum ≤ 8) (hd : decode cc pc = .ok (.invokevirtual idx, 3)) (kk : ∀ (u : va_W), post u → vV l D X nL (kT d) n1 n2 u L (pc + 3) st) (hf : n1 = 0 ∧ n2 = 0) : vV l D X nL (kT d) n1 n2 (kw h d nf sch sn si sl tx en od us tg kl ky pl pb ra) L pc (a3 :: a2 :: a1 :: .ref (h 0) :: st) := v_callv (q0 := 0) (ci := 0) hC hM hG.1 hG.2 hR rfl rfl rfl rfl rfl hW hd kk ⟨Nat.le_of_eq hf.1, Nat.le_of_eq hf.2⟩
end S_k
/-- the cells of one object of the class RX2: its fields, its arrays -/
abbrev mw (g : Nat → Nat) (c : Nat → ClassId) (nf : Int32) (sch : Int32) (ct : Int32) (tg : Nat → Int32) (nu : Nat → Int32) (it : Nat → Int32) (ln : Nat → Int32) (ch : Nat → Int32) : va_W := [(g 0, .inr (1, [.int nf, .int sch, .int ct, .ref (g 3), .ref (g 4), .ref (g 5), .ref (g 6), .ref (g 7)])), (g 3, .inl (c 3, 20, .inl tg)), (g 4, .inl (c 4, 84, .inl nu)), (g 5, .inl (c 5, 84, .inl it)), (g 6, .inl (c 6, 84, .inl ln)), (g 7, .inl (c 7, 504, .inl ch))]
abbrev mT (c : Nat → ClassId) : List (ClassId × FieldType) := [(c 3, .int), (c 4, .boolean), (c 5, .int), (c 6, .int), (c 7, .int)]
section S_m
variable {l : Launch} {D : va_G} {X : vX} {nL : Nat} {n1 n2 : Nat} {L : List Value} {pc : Nat} {st : List Value} {cc cc' : ByteArray} {R : Room} {g : Nat → Nat} {c : Nat → ClassId} {nf sch ct : Int32} {tg nu it ln ch : Nat → Int32}
theorem mg_nf (hC : vC l D X nL cc RX2 R) (hd : decode cc pc = .ok (.getfield 26, 3)) (kk : vV l D X nL (mT c) n1 n2 (mw g c nf sch ct tg nu it ln ch) L (pc + 3) (.int nf :: st)) : vV l D X nL (mT c) n1 n2 (mw g c nf sch ct tg nu it ln ch) L pc (.ref (g 0) :: st) := v_get (C := RX2) (T := TX2) (N := 8) (ci := 1) hC in_X2 0 rfl rfl 0 (by decide) q229 rfl hd kk
theorem mg_sch (hC : vC l D X nL cc RX2 R) (hd : decode cc pc = .ok (.getfield 30, 3)) (kk : vV l D X nL (mT c) n1 n2 (mw g c nf sch ct tg nu it ln ch) L (pc + 3) (.int sch :: st)) : vV l D X nL (mT c) n1 n2 (mw g c nf sch ct tg nu it ln ch) L pc (.ref (g 0) :: st) := v_get (C := RX2) (T := TX2) (N := 8) (ci := 1) hC in_X2 0 rfl rfl 1 (by decide) q230 rfl hd kk
theorem mg_ct (hC : vC l D X nL cc RX2 R) (hd : decode cc pc = .ok (.getfield 48, 3)) (kk : vV l D X nL (mT c) n1 n2 (mw g c nf sch ct tg nu it ln ch) L (pc + 3) (.int ct :: st)) : vV l D X nL (mT c) n1 n2 (mw g c nf sch ct tg nu it ln ch) L pc (.ref (g 0) :: st) := v_get (C := RX2) (T := TX2) (N := 8) (ci := 1) hC in_X2 0 rfl rfl 2 (by decide) q231 rfl hd kk
theorem mp_ct (hC : vC l D X nL cc RX2 R) {v : Int32} (hd : decode cc pc = .ok (.putfield 48, 3)) (kk : vV l D X nL (mT c) n1 n2 (mw g c nf sch v tg nu it ln ch) L (pc + 3) st) : vV l D X nL (mT c) n1 n2 (mw g c nf sch ct tg nu it ln ch) L pc (.int v :: .ref (g 0) :: st) := v_put (C := RX2) (T := TX2) (N := 8) (ci := 1) (ty := .int) (fs := [.int nf, .int sch, .int ct, .ref (g 3), .ref (g 4), .ref (g 5), .ref (g 6), .ref (g 7)]) hC in_X2 tyX2 tyX2_ok nmX2 0 rfl rfl 2 (by decide) q231 rfl (by decide +kernel) rfl rfl (Nat.le_of_ble_eq_true rfl) rfl hd kk
theorem mg_tg (hC : vC l D X nL cc RX2 R) (hd : decode cc pc = .ok (.getfield 7, 3)) (kk : vV l D X nL (mT c) n1 n2 (mw g c nf sch ct tg nu it ln ch) L (pc + 3) (.ref (g 3) :: st)) : vV l D X nL (mT c) n1 n2 (mw g c nf sch ct tg nu it ln ch) L pc (.ref (g 0) :: st) := v_get (C := RX2) (T := TX2) (N := 8) (ci := 1) hC in_X2 0 rfl rfl 3 (by decide) q232 rfl hd kk
theorem mg_nu (hC : vC l D X nL cc RX2 R) (hd : decode cc pc = .ok (.getfield 13, 3)) (kk : vV l D X nL (mT c) n1 n2 (mw g c nf sch ct tg nu it ln ch) L (pc + 3) (.ref (g 4) :: st)) : vV l D X nL (mT c) n1 n2 (mw g c nf sch ct tg nu it ln ch) L pc (.ref (g 0) :: st) := v_get (C := RX2) (T := TX2) (N := 8) (ci := 1) hC in_X2 0 rfl rfl 4 (by decide) q233 rfl hd kk
theorem mg_it (hC : vC l D X nL cc RX2 R) (hd : decode cc pc = .ok (.getfield 17, 3)) (kk : vV l D X nL (mT c) n1 n2 (mw g c nf sch ct tg nu it ln ch) L (pc + 3) (.ref (g 5) :: st)) : vV l D X nL (mT c) n1 n2 (mw g c nf sch ct tg nu it ln ch) L pc (.ref (g 0) :: st) := v_get (C := RX2) (T := TX2) (N := 8) (ci := 1) hC in_X2 0 rfl rfl 5 (by decide) q234 rfl hd kk
theorem mg_ln (hC : vC l D X nL cc RX2 R) (hd : decode cc pc = .ok (.getfield 20, 3)) (kk : vV l D X nL (mT c) n1 n2 (mw g c nf sch ct tg nu it ln ch) L (pc + 3) (.ref (g 6) :: st)) : vV l D X nL (mT c) n1 n2 (mw g c nf sch ct tg nu it ln ch) L pc (.ref (g 0) :: st) := v_get (C := RX2) (T := TX2) (N := 8) (ci := 1) hC in_X2 0 rfl rfl 6 (by decide) q235 rfl hd kk
theorem mg_ch (hC : vC l D X nL cc RX2 R) (hd : decode cc pc = .ok (.getfield 23, 3)) (kk : vV l D X nL (mT c) n1 n2 (mw g c nf sch ct tg nu it ln ch) L (pc + 3) (.ref (g 7) :: st)) : vV l D X nL (mT c) n1 n2 (mw g c nf sch ct tg nu it ln ch) L pc (.ref (g 0) :: st) := v_get (C := RX2) (T := TX2) (N := 8) (ci := 1) hC in_X2 0 rfl rfl 7 (by decide) q236 rfl hd kk
theorem ml_tg (hC : vC l D X nL cc RX2 R) {j : Nat} (hj : j < 20) (hd : decode cc pc = .ok (.iaload, 1)) (kk : vV l D X nL (mT c) n1 n2 (mw g c nf sch ct tg nu it ln ch) L (pc + 1) (.int (tg j) :: st)) : vV l D X nL (mT c) n1 n2 (mw g c nf sch ct tg nu it ln ch) L pc (.int (nI j) :: .ref (g 3) :: st) := v_iald hC 1 0 rfl rfl (by decide) hj hd kk
theorem ms_tg (hC : vC l D X nL cc RX2 R) {j : Nat} {x : Int32} (hj : j < 20) (hd : decode cc pc = .ok (.iastore, 1)) (kk : vV l D X nL (mT c) n1 n2 (mw g c nf sch ct (upd tg j x) nu it ln ch) L (pc + 1) st) : vV l D X nL (mT c) n1 n2 (mw g c nf sch ct tg nu it ln ch) L pc (.int x :: .int (nI j) :: .ref (g 3) :: st) := v_iast hC 1 0 rfl rfl (by decide) hj rfl hd kk
theorem ml_nu (hC : vC l D X nL cc RX2 R) {j : Nat} (hj : j < 84) (hd : decode cc pc = .ok (.baload, 1)) (kk : vV l D X nL (mT c) n1 n2 (mw g c nf sch ct tg nu it ln ch) L (pc + 1) (.int (nu j) :: st)) : vV l D X nL (mT c) n1 n2 (mw g c nf sch ct tg nu it ln ch) L pc (.int (nI j) :: .ref (g 4) :: st) := v_zald hC 2 1 rfl rfl (by decide) hj hd kk
theorem ms_nu (hC : vC l D X nL cc RX2 R) {j : Nat} {x : Int32} (hj : j < 84) (hx0 : vp_nar .boolean x = x) (hd : decode cc pc = .ok (.bastore, 1)) (kk : vV l D X nL (mT c) n1 n2 (mw g c nf sch ct tg (upd nu j x) it ln ch) L (pc + 1) st) : vV l D X nL (mT c) n1 n2 (mw g c nf sch ct tg nu it ln ch) L pc (.int x :: .int (nI j) :: .ref (g 4) :: st) := v_zast hC 2 1 rfl rfl (by decide) hj hx0 rfl hd kk
theorem ml_it (hC : vC l D X nL cc RX2 R) {j : Nat} (hj : j < 84) (hd : decode cc pc = .ok (.iaload, 1)) (kk : vV l D X nL (mT c) n1 n2 (mw g c nf sch ct tg nu it ln ch) L (pc + 1) (.int (it j) :: st)) : vV l D X nL (mT c) n1 n2 (mw g c nf sch ct tg nu it ln ch) L pc (.int (nI j) :: .ref (g 5) :: st) := v_iald hC 3 2 rfl rfl (by decide) hj hd kk
theorem ms_it (hC : vC l D X nL cc RX2 R) {j : Nat} {x : Int32} (hj : j < 84) (hd : decode cc pc = .ok (.iastore, 1)) (kk : vV l D X nL (mT c) n1 n2 (mw g c nf sch ct tg nu (upd it j x) ln ch) L (pc + 1) st) : vV l D X nL (mT c) n1 n2 (mw g c nf sch ct tg nu it ln ch) L pc (.int x :: .int (nI j) :: .ref (g 5) :: st) := v_iast hC 3 2 rfl rfl (by decide) hj rfl hd kk
theorem ml_ln (hC : vC l D X nL cc RX2 R) {j : Nat} (hj : j < 84) (hd : decode cc pc = .ok (.iaload, 1)) (kk : vV l D X nL (mT c) n1 n2 (mw g c nf sch ct tg nu it ln ch) L (pc + 1) (.int (ln j) :: st)) : vV l D X nL (mT c) n1 n2 (mw g c nf sch ct tg nu it ln ch) L pc (.int (nI j) :: .ref (g 6) :: st) := v_iald hC 4 3 rfl rfl (by decide) hj hd kk
theorem ms_ln (hC : vC l D X nL cc RX2 R) {j : Nat} {x : Int32} (hj : j < 84) (hd : decode cc pc = .ok (.iastore, 1)) (kk : vV l D X nL (mT c) n1 n2 (mw g c nf sch ct tg nu it (upd ln j x) ch) L (pc + 1) st) : vV l D X nL (mT c) n1 n2 (mw g c nf sch ct tg nu it ln ch) L pc (.int x :: .int (nI j) :: .ref (g 6) :: st) := v_iast hC 4 3 rfl rfl (by decide) hj rfl hd kk
theorem ml_ch (hC : vC l D X nL cc RX2 R) {j : Nat} (hj : j < 504) (hd : decode cc pc = .ok (.iaload, 1)) (kk : vV l D X nL (mT c) n1 n2 (mw g c nf sch ct tg nu it ln ch) L (pc + 1) (.int (ch j) :: st)) : vV l D X nL (mT c) n1 n2 (mw g c nf sch ct tg nu it ln ch) L pc (.int (nI j) :: .ref (g 7) :: st) := v_iald hC 5 4 rfl rfl (by decide) hj hd kk
theorem ms_ch (hC : vC l D X nL cc RX2 R) {j : Nat} {x : Int32} (hj : j < 504) (hd : decode cc pc = .ok (.iastore, 1)) (kk : vV l D X nL (mT c) n1 n2 (mw g c nf sch ct tg nu it ln (upd ch j x)) L (pc + 1) st) : vV l D X nL (mT c) n1 n2 (mw g c nf sch ct tg nu it ln ch) L pc (.int x :: .int (nI j) :: .ref (g 7) :: st) := v_iast hC 5 4 rfl rfl (by decide) hj rfl hd kk
theorem m_calli0 {y : MethodName} {nL' fr lo fr0 lo0 idx : Nat} {ty : FieldType} {post : Int32 → va_W → Prop} (hC : vC l D X nL cc RX2 (vRm fr0 lo0)) (hM : vMi l D y cc' nL' ty fr lo (mT c) (mw g c nf sch ct tg nu it ln ch) (.ref (g 0) :: []) post) (hG : vCall RX2 idx RX2 y cc' nL' (some ty) 0) (hR : fr + 1 ≤ fr0 ∧ 8 + (nL' + 11) + lo ≤ lo0) (hW : (st.map fun v => v.category).sum ≤ 8) (hd : decode cc pc = .ok (.invokevirtual idx, 3)) (kk : ∀ (r : Int32) (u : va_W), post r u → vV l D X nL (mT c) n1 n2 u L (pc + 3) (.int r :: st)) (hf : n1 = 0 ∧ n2 = 0) : vV l D X nL (mT c) n1 n2 (mw g c nf sch ct tg nu it ln ch) L pc (.ref (g 0) :: st) := v_calli (q0 := 0) (ci := 1) hC hM hG.1 hG.2 hR rfl rfl rfl rfl rfl hW hd kk ⟨Nat.le_of_eq hf.1, Nat.le_of_eq hf.2⟩
theorem m_callv0 {y : MethodName} {nL' fr lo fr0 lo0 idx : Nat} {post : va_W → Prop} (hC : vC l D X nL cc RX2 (vRm fr0 lo0)) (hM : vMv l D y cc' nL' fr lo (mT c) (mw g c nf sch ct tg nu it ln ch) (.ref (g 0) :: []) post) (hG : vCall RX2 idx RX2 y cc' nL' none 0) (hR : fr + 1 ≤ fr0 ∧ 8 + (nL' + 11) + lo ≤ lo0) (hW : (st.map fun v => v.category).sum ≤ 8) (hd : decode cc pc = .ok (.invokevirtual idx, 3)) (kk : ∀ (u : va_W), post u → vV l D X nL (mT c) n1 n2 u L (pc + 3) st) (hf : n1 = 0 ∧ n2 = 0) : vV l D X nL (mT c) n1 n2 (mw g c nf sch ct tg nu it ln ch) L pc (.ref (g 0) :: st) := v_callv (q0 := 0) (ci := 1) hC hM hG.1 hG.2 hR rfl rfl rfl rfl rfl hW hd kk ⟨Nat.le_of_eq hf.1, Nat.le_of_eq hf.2⟩
theorem m_calli1 {y : MethodName} {nL' fr lo fr0 lo0 idx : Nat} {ty : FieldType} {post : Int32 → va_W → Prop} {a1 : Value} (hC : vC l D X nL cc RX2 (vRm fr0 lo0)) (hM : vMi l D y cc' nL' ty fr lo (mT c) (mw g c nf sch ct tg nu it ln ch) (.ref (g 0) :: [a1]) post) (hG : vCall RX2 idx RX2 y cc' nL' (some ty) 1) (hR : fr + 1 ≤ fr0 ∧ 8 + (nL' + 11) + lo ≤ lo0) (hW : (st.map fun v => v.category).sum ≤ 8) (hd : decode cc pc = .ok (.invokevirtual idx, 3)) (kk : ∀ (r : Int32) (u : va_W), post r u → vV l D X nL (mT c) n1 n2 u L (pc + 3) (.int r :: st)) (hf : n1 = 0 ∧ n2 = 0) : vV l D X nL (mT c) n1 n2 (mw g c nf sch ct tg nu it ln ch) L pc (a1 :: .ref (g 0) :: st) := v_calli (q0 := 0) (ci := 1) hC hM hG.1 hG.2 hR rfl rfl rfl rfl rfl hW hd kk ⟨Nat.le_of_eq hf.1, Nat.le_of_eq hf.2⟩
theorem m_callv1 {y : MethodName} {nL' fr lo fr0 lo0 idx : Nat} {post : va_W → Prop} {a1 : Value} (hC : vC l D X nL cc RX2 (vRm fr0 lo0)) (hM : vMv l D y cc' nL' fr lo (mT c) (mw g c nf sch ct tg nu it ln ch) (.ref (g 0) :: [a1]) post) (hG : vCall RX2 idx RX2 y cc' nL' none 1) (hR : fr + 1 ≤ fr0 ∧ 8 + (nL' + 11) + lo ≤ lo0) (hW : (st.map fun v => v.category).sum ≤ 8) (hd : decode cc pc = .ok (.invokevirtual idx, 3)) (kk : ∀ (u : va_W), post u → vV l D X nL (mT c) n1 n2 u L (pc + 3) st) (hf : n1 = 0 ∧ n2 = 0) : vV l D X nL (mT c) n1 n2 (mw g c nf sch ct tg nu it ln ch) L pc (a1 :: .ref (g 0) :: st) := v_callv (q0 := 0) (ci := 1) hC hM hG.1 hG.2 hR rfl rfl rfl rfl rfl hW hd kk ⟨Nat.le_of_eq hf.1, Nat.le_of_eq hf.2⟩
theorem m_calli2 {y : MethodName} {nL' fr lo fr0 lo0 idx : Nat} {ty : FieldType} {post : Int32 → va_W → Prop} {a1 a2 : Value} (hC : vC l D X nL cc RX2 (vRm fr0 lo0)) (hM : vMi l D y cc' nL' ty fr lo (mT c) (mw g c nf sch ct tg nu it ln ch) (.ref (g 0) :: [a1, a2]) post) (hG : vCall RX2 idx RX2 y cc' nL' (some ty) 2) (hR : fr + 1 ≤ fr0 ∧ 8 + (nL' + 11) + lo ≤ lo0) (hW : (st.map fun v => v.category).sum ≤ 8) (hd : decode cc pc = .ok (.invokevirtual idx, 3)) (kk : ∀ (r : Int32) (u : va_W), post r u → vV l D X nL (mT c) n1 n2 u L (pc + 3) (.int r :: st)) (hf : n1 = 0 ∧ n2 = 0) : vV l D X nL (mT c) n1 n2 (mw g c nf sch ct tg nu it ln ch) L pc (a2 :: a1 :: .ref (g 0) :: st) := v_calli (q0 := 0) (ci := 1) hC hM hG.1 hG.2 hR rfl rfl rfl rfl rfl hW hd kk ⟨Nat.le_of_eq hf.1, Nat.le_of_eq hf.2⟩
theorem m_callv2 {y : MethodName} {nL' fr lo fr0 lo0 idx : Nat} {post : va_W → Prop} {a1 a2 : Value} (hC : vC l D X nL cc RX2 (vRm fr0 lo0)) (hM : vMv l D y cc' nL' fr lo (mT c) (mw g c nf sch ct tg nu it ln ch) (.ref (g 0) :: [a1, a2]) post) (hG : vCall RX2 idx RX2 y cc' nL' none 2) (hR : fr + 1 ≤ fr0 ∧ 8 + (nL' + 11) + lo ≤ lo0) (hW : (st.map fun v => v.category).sum ≤ 8) (hd : decode cc pc = .ok (.invokevirtual idx, 3)) (kk : ∀ (u : va_W), post u → vV l D X nL (mT c) n1 n2 u L (pc + 3) st) (hf : n1 = 0 ∧ n2 = 0) : vV l D X nL (mT c) n1 n2 (mw g c nf sch ct tg nu it ln ch) L pc (a2 :: a1 :: .ref (g 0) :: st) := v_callv (q0 := 0) (ci := 1) hC hM hG.1 hG.2 hR rfl rfl rfl rfl rfl hW hd kk ⟨Nat.le_of_eq hf.1, Nat.le_of_eq hf.2⟩
theorem m_calli3 {y : MethodName} {nL' fr lo fr0 lo0 idx : Nat} {ty : FieldType} {post : Int32 → va_W → Prop} {a1 a2 a3 : Value} (hC : vC l D X nL cc RX2 (vRm fr0 lo0)) (hM : vMi l D y cc' nL' ty fr lo (mT c) (mw g c nf sch ct tg nu it ln ch) (.ref (g 0) :: [a1, a2, a3]) post) (hG : vCall RX2 idx RX2 y cc' nL' (some ty) 3) (hR : fr + 1 ≤ fr0 ∧ 8 + (nL' + 11) + lo ≤ lo0) (hW : (st.map fun v => v.category).sum ≤ 8) (hd : decode cc pc = .ok (.invokevirtual idx, 3)) (kk : ∀ (r : Int32) (u : va_W), post r u → vV l D X nL (mT c) n1 n2 u L (pc + 3) (.int r :: st)) (hf : n1 = 0 ∧ n2 = 0) : vV l D X nL (mT c) n1 n2 (mw g c nf sch ct tg nu it ln ch) L pc (a3 :: a2 :: a1 :: .ref (g 0) :: st) := v_calli (q0 := 0) (ci := 1) hC hM hG.1 hG.2 hR rfl rfl rfl rfl rfl hW hd kk ⟨Nat.le_of_eq hf.1, Nat.le_of_eq hf.2⟩
theorem m_callv3 {y : MethodName} {nL' fr lo fr0 lo0 idx : Nat} {post : va_W → Prop} {a1 a2 a3 : Value} (hC : vC l D X nL cc RX2 (vRm fr0 lo0)) (hM : vMv l D y cc' nL' fr lo (mT c) (mw g c nf sch ct tg nu it ln ch) (.ref (g 0) :: [a1, a2, a3]) post) (hG : vCall RX2 idx RX2 y cc' nL' none 3) (hR : fr + 1 ≤ fr0 ∧ 8 + (nL' + 11) + lo ≤ lo0) (hW : (st.map fun v => v.category).sum ≤ 8) (hd : decode cc pc = .ok (.invokevirtual idx, 3)) (kk : ∀ (u : va_W), post u → vV l D X nL (mT c) n1 n2 u L (pc + 3) st) (hf : n1 = 0 ∧ n2 = 0) : vV l D X nL (mT c) n1 n2 (mw g c nf sch ct tg nu it ln ch) L pc (a3 :: a2 :: a1 :: .ref (g 0) :: st) := v_callv (q0 := 0) (ci := 1) hC hM hG.1 hG.2 hR rfl rfl rfl rfl rfl hW hd kk ⟨Nat.le_of_eq hf.1, Nat.le_of_eq hf.2⟩
end S_m
end
section
/-! rows over natural numbers and booleans -/
def bI (b : Bool) : Int32 := if b then nI 1 else nI 0
theorem bI_t : bI true = nI 1 := rfl
theorem bI_f : bI false = nI 0 := rfl
theorem bI_nar (b : Bool) : narrow .boolean (.int (bI b)) = .int (bI b) := by cases b <;> rfl
theorem bI_vp (b : Bool) : vp_nar .boolean (bI b) = bI b := by cases b <;> rfl
theorem bI_0 {b : Bool} : bI b = 0 ↔ b = false := by cases b <;> decide
theorem nI_s16 {n : Nat} (h : n < 32768) : (nI n).toInt16.toInt32 = nI n := by
  apply Int32.toInt_inj.mp
  rw [Int16.toInt_toInt32, Int32.toInt_toInt16, nI_toInt (by omega)]
  rw [Int.bmod_eq_of_le (by omega) (by omega)]
theorem nI_vps {n : Nat} (h : n < 32768) : vp_nar .short (nI n) = nI n := by rw [vp_nar_short, nI_s16 h]
section VNat
variable {l : Launch} {D : va_G} {X : vX} {nL : Nat} {tys : List (ClassId × FieldType)} {n1 n2 : Nat} {ws : va_W} {L L' : List Value} {pc : Nat} {st : List Value} {cc : ByteArray} {own : String} {R : Room} {a b : Nat}
theorem v_iaddN (hC : vC l D X nL cc own R) (hd : decode cc pc = .ok (.iadd, 1)) (kk : vV l D X nL tys n1 n2 ws L (pc + 1) (.int (nI (a + b)) :: st)) : vV l D X nL tys n1 n2 ws L pc (.int (nI b) :: .int (nI a) :: st) := v_iadd hC hd (v_top (nI_add a b) kk)
theorem v_isubN (hC : vC l D X nL cc own R) (hd : decode cc pc = .ok (.isub, 1)) (h : b ≤ a) (kk : vV l D X nL tys n1 n2 ws L (pc + 1) (.int (nI (a - b)) :: st)) : vV l D X nL tys n1 n2 ws L pc (.int (nI b) :: .int (nI a) :: st) := v_isub hC hd (v_top (pk_sub h) kk)
theorem v_imulN (hC : vC l D X nL cc own R) (hd : decode cc pc = .ok (.imul, 1)) (kk : vV l D X nL tys n1 n2 ws L (pc + 1) (.int (nI (a * b)) :: st)) : vV l D X nL tys n1 n2 ws L pc (.int (nI b) :: .int (nI a) :: st) := v_imul hC hd (v_top (pk_mul a b) kk)
theorem v_incN (hC : vC l D X nL cc own R) {i : Nat} (hd : decode cc pc = .ok (.iinc i 1, 3)) (hg : L[i]? = some (.int (nI a))) (hn : i < nL) (hl : vSet L i (.int (nI (a + 1))) = L') (kk : vV l D X nL tys n1 n2 ws L' (pc + 3) st) : vV l D X nL tys n1 n2 ws L pc st := v_iinc hC hd hg (nI_1 a) hn hl kk
theorem v_decN (hC : vC l D X nL cc own R) {i : Nat} (hd : decode cc pc = .ok (.iinc i (-1), 3)) (hg : L[i]? = some (.int (nI (a + 1)))) (hn : i < nL) (hl : vSet L i (.int (nI a)) = L') (kk : vV l D X nL tys n1 n2 ws L' (pc + 3) st) : vV l D X nL tys n1 n2 ws L pc st := v_iinc hC hd hg (pk_m1 a) hn hl kk
section br
variable {off : Int} {tgt : Nat}
theorem v_icmpN_eq (hC : vC l D X nL cc own R) (hd : decode cc pc = .ok (.if_icmp .eq off, 3)) (ht : (pc : Int) + off = (tgt : Int)) (ha : a < 2 ^ 31) (hb : b < 2 ^ 31) (kt : a = b → vV l D X nL tys n1 n2 ws L tgt st) (kf : a ≠ b → vV l D X nL tys n1 n2 ws L (pc + 3) st) : vV l D X nL tys n1 n2 ws L pc (.int (nI b) :: .int (nI a) :: st) := v_icmp_eq hC hd ht (fun q => kt ((nI_eq ha hb).mp q)) (fun q => kf (fun w => q ((nI_eq ha hb).mpr w)))
theorem v_icmpN_ne (hC : vC l D X nL cc own R) (hd : decode cc pc = .ok (.if_icmp .ne off, 3)) (ht : (pc : Int) + off = (tgt : Int)) (ha : a < 2 ^ 31) (hb : b < 2 ^ 31) (kt : a ≠ b → vV l D X nL tys n1 n2 ws L tgt st) (kf : a = b → vV l D X nL tys n1 n2 ws L (pc + 3) st) : vV l D X nL tys n1 n2 ws L pc (.int (nI b) :: .int (nI a) :: st) := v_icmp_ne hC hd ht (fun q => kt (fun w => q ((nI_eq ha hb).mpr w))) (fun q => kf ((nI_eq ha hb).mp q))
theorem v_icmpN_lt (hC : vC l D X nL cc own R) (hd : decode cc pc = .ok (.if_icmp .lt off, 3)) (ht : (pc : Int) + off = (tgt : Int)) (ha : a < 2 ^ 31) (hb : b < 2 ^ 31) (kt : a < b → vV l D X nL tys n1 n2 ws L tgt st) (kf : b ≤ a → vV l D X nL tys n1 n2 ws L (pc + 3) st) : vV l D X nL tys n1 n2 ws L pc (.int (nI b) :: .int (nI a) :: st) := v_icmp_lt hC hd ht (fun q => kt ((nI_ltI ha hb).mp q)) (fun q => kf (Nat.le_of_not_lt (fun w => q ((nI_ltI ha hb).mpr w))))
theorem v_icmpN_ge (hC : vC l D X nL cc own R) (hd : decode cc pc = .ok (.if_icmp .ge off, 3)) (ht : (pc : Int) + off = (tgt : Int)) (ha : a < 2 ^ 31) (hb : b < 2 ^ 31) (kt : b ≤ a → vV l D X nL tys n1 n2 ws L tgt st) (kf : a < b → vV l D X nL tys n1 n2 ws L (pc + 3) st) : vV l D X nL tys n1 n2 ws L pc (.int (nI b) :: .int (nI a) :: st) := v_icmp_ge hC hd ht (fun q => kt ((nI_leI hb ha).mp q)) (fun q => kf (Nat.lt_of_not_le (fun w => q ((nI_leI hb ha).mpr w))))
theorem v_icmpN_gt (hC : vC l D X nL cc own R) (hd : decode cc pc = .ok (.if_icmp .gt off, 3)) (ht : (pc : Int) + off = (tgt : Int)) (ha : a < 2 ^ 31) (hb : b < 2 ^ 31) (kt : b < a → vV l D X nL tys n1 n2 ws L tgt st) (kf : a ≤ b → vV l D X nL tys n1 n2 ws L (pc + 3) st) : vV l D X nL tys n1 n2 ws L pc (.int (nI b) :: .int (nI a) :: st) := v_icmp_gt hC hd ht (fun q => kt ((nI_ltI hb ha).mp q)) (fun q => kf (Nat.le_of_not_lt (fun w => q ((nI_ltI hb ha).mpr w))))
theorem v_icmpN_le (hC : vC l D X nL cc own R) (hd : decode cc pc = .ok (.if_icmp .le off, 3)) (ht : (pc : Int) + off = (tgt : Int)) (ha : a < 2 ^ 31) (hb : b < 2 ^ 31) (kt : a ≤ b → vV l D X nL tys n1 n2 ws L tgt st) (kf : b < a → vV l D X nL tys n1 n2 ws L (pc + 3) st) : vV l D X nL tys n1 n2 ws L pc (.int (nI b) :: .int (nI a) :: st) := v_icmp_le hC hd ht (fun q => kt ((nI_leI ha hb).mp q)) (fun q => kf (Nat.lt_of_not_le (fun w => q ((nI_leI ha hb).mpr w))))
theorem v_ifN_eq (hC : vC l D X nL cc own R) (hd : decode cc pc = .ok (.ifCond .eq off, 3)) (ht : (pc : Int) + off = (tgt : Int)) (ha : a < 2 ^ 31) (kt : a = 0 → vV l D X nL tys n1 n2 ws L tgt st) (kf : a ≠ 0 → vV l D X nL tys n1 n2 ws L (pc + 3) st) : vV l D X nL tys n1 n2 ws L pc (.int (nI a) :: st) := v_if_eq hC hd ht (fun q => kt ((nI_eq ha (by decide : 0 < 2 ^ 31)).mp q)) (fun q => kf (fun w => q (by rw [w]; rfl)))
theorem v_ifN_ne (hC : vC l D X nL cc own R) (hd : decode cc pc = .ok (.ifCond .ne off, 3)) (ht : (pc : Int) + off = (tgt : Int)) (ha : a < 2 ^ 31) (kt : a ≠ 0 → vV l D X nL tys n1 n2 ws L tgt st) (kf : a = 0 → vV l D X nL tys n1 n2 ws L (pc + 3) st) : vV l D X nL tys n1 n2 ws L pc (.int (nI a) :: st) := v_if_ne hC hd ht (fun q => kt (fun w => q (by rw [w]; rfl))) (fun q => kf ((nI_eq ha (by decide : 0 < 2 ^ 31)).mp q))
theorem v_ifB_eq {b : Bool} (hC : vC l D X nL cc own R) (hd : decode cc pc = .ok (.ifCond .eq off, 3)) (ht : (pc : Int) + off = (tgt : Int)) (kt : b = false → vV l D X nL tys n1 n2 ws L tgt st) (kf : b = true → vV l D X nL tys n1 n2 ws L (pc + 3) st) : vV l D X nL tys n1 n2 ws L pc (.int (bI b) :: st) := v_if_eq hC hd ht (fun q => kt (bI_0.mp q)) (fun q => kf (by cases b with | true => rfl | false => exact absurd rfl q))
theorem v_ifB_ne {b : Bool} (hC : vC l D X nL cc own R) (hd : decode cc pc = .ok (.ifCond .ne off, 3)) (ht : (pc : Int) + off = (tgt : Int)) (kt : b = true → vV l D X nL tys n1 n2 ws L tgt st) (kf : b = false → vV l D X nL tys n1 n2 ws L (pc + 3) st) : vV l D X nL tys n1 n2 ws L pc (.int (bI b) :: st) := v_if_ne hC hd ht (fun q => kt (by cases b with | true => rfl | false => exact absurd rfl q)) (fun q => kf (bI_0.mp q))
end br
end VNat
/-! the schema's bits -/
def kTx (sch : Int32) (f : Nat) : Bool := decide ((sch >>> (nI (4 * f) &&& 31)) &&& nI 1 = nI 1)
def kDs (sch : Int32) (f : Nat) : Bool := decide ((sch >>> (nI (4 * f) &&& 31)) &&& nI 2 = nI 2)
def kNf (sch : Int32) (f : Nat) : Bool := decide ((sch >>> (nI (4 * f) &&& 31)) &&& nI 4 = nI 4)
/-- an argument that is no place below n -/
def xBad (x : Int32) (n : Nat) : Bool := decide (x < 0 ∨ nI n ≤ x)
theorem xBad_j {j n : Nat} (h : j < n) (hn : n < 2 ^ 31) : xBad (nI j) n = false := by
  unfold xBad
  rw [decide_eq_false]
  rintro (h1 | h1)
  · exact nI_pos (Nat.lt_trans h hn) h1
  · exact nI_ge h hn h1
theorem xBad_f {x : Int32} {n : Nat} (hn : n < 2 ^ 31) (h : xBad x n = false) : ∃ j : Nat, j < n ∧ x = nI j := by
  unfold xBad at h
  rw [decide_eq_false_iff_not] at h
  rcases pk_ix x hn with h1 | h1 | h1
  · exact absurd (Or.inl h1) h
  · exact absurd (Or.inr h1) h
  · exact h1
end
section
/-! OrderedKeys: its leaves -/
section K10
variable {l : Launch} {D : va_G} {h : Nat → Nat} {d : Nat → ClassId} {nf sch en pl ra : Int32} {sn si sl tx od us tg kl ky pb : Nat → Int32}
set_option maxHeartbeats 2000000 in
theorem kM_badField {F : Nat} {x : Int32} : vMi l D yX1_badField cX1_badField 2 .boolean 0 0 (kT d) (kw h d (nI F) sch sn si sl tx en od us tg kl ky pl pb ra) [.ref (h 0), .int x] (fun r u => r = bI (xBad x F) ∧ u = (kw h d (nI F) sch sn si sl tx en od us tg kl ky pl pb ra)) := by
  refine vMi_of RX1 (by decide) rfl (Nat.le_of_ble_eq_true rfl) rfl (fun X hC hret => ?_)
  refine v_iload_n (pc := 0) hC dX1_badField_0 rfl ?_
  refine v_if_lt (pc := 1) (tgt := 12) hC dX1_badField_1 (by decide) (fun c1 => ?_) (fun c1 => ?_)
  · have hb : xBad x F = true := decide_eq_true (Or.inl c1)
    refine v_iconst (pc := 12) (v := nI 1) hC dX1_badField_12 rfl ?_
    refine v_goto (pc := 13) (tgt := 17) hC dX1_badField_13 (by decide) ?_
    exact hret _ _ _ _ dX1_badField_17 rfl ⟨by rw [hb]; rfl, rfl⟩
  · skip
    refine v_iload_n (pc := 4) hC dX1_badField_4 rfl ?_
    refine v_aload_n (pc := 5) hC dX1_badField_5 rfl ?_
    refine kg_nf (pc := 6) hC dX1_badField_6 ?_
    refine v_icmp_lt (pc := 9) (tgt := 16) hC dX1_badField_9 (by decide) (fun c2 => ?_) (fun c2 => ?_)
    · have hb : xBad x F = false := decide_eq_false (fun q => q.elim c1 (fun q => Int32.not_lt.mpr q c2))
      refine v_iconst (pc := 16) (v := nI 0) hC dX1_badField_16 rfl ?_
      exact hret _ _ _ _ dX1_badField_17 rfl ⟨by rw [hb]; rfl, rfl⟩
    · have hb : xBad x F = true := decide_eq_true (Or.inr (Int32.not_lt.mp c2))
      refine v_iconst (pc := 12) (v := nI 1) hC dX1_badField_12 rfl ?_
      refine v_goto (pc := 13) (tgt := 17) hC dX1_badField_13 (by decide) ?_
      exact hret _ _ _ _ dX1_badField_17 rfl ⟨by rw [hb]; rfl, rfl⟩
set_option maxHeartbeats 2000000 in
theorem kM_noEntry {n : Nat} {x : Int32} : vMi l D yX1_noEntry cX1_noEntry 2 .boolean 0 0 (kT d) (kw h d nf sch sn si sl tx (nI n) od us tg kl ky pl pb ra) [.ref (h 0), .int x] (fun r u => r = bI (xBad x n) ∧ u = (kw h d nf sch sn si sl tx (nI n) od us tg kl ky pl pb ra)) := by
  refine vMi_of RX1 (by decide) rfl (Nat.le_of_ble_eq_true rfl) rfl (fun X hC hret => ?_)
  refine v_iload_n (pc := 0) hC dX1_noEntry_0 rfl ?_
  refine v_if_lt (pc := 1) (tgt := 12) hC dX1_noEntry_1 (by decide) (fun c1 => ?_) (fun c1 => ?_)
  · have hb : xBad x n = true := decide_eq_true (Or.inl c1)
    refine v_iconst (pc := 12) (v := nI 1) hC dX1_noEntry_12 rfl ?_
    refine v_goto (pc := 13) (tgt := 17) hC dX1_noEntry_13 (by decide) ?_
    exact hret _ _ _ _ dX1_noEntry_17 rfl ⟨by rw [hb]; rfl, rfl⟩
  · skip
    refine v_iload_n (pc := 4) hC dX1_noEntry_4 rfl ?_
    refine v_aload_n (pc := 5) hC dX1_noEntry_5 rfl ?_
    refine kg_en (pc := 6) hC dX1_noEntry_6 ?_
    refine v_icmp_lt (pc := 9) (tgt := 16) hC dX1_noEntry_9 (by decide) (fun c2 => ?_) (fun c2 => ?_)
    · have hb : xBad x n = false := decide_eq_false (fun q => q.elim c1 (fun q => Int32.not_lt.mpr q c2))
      refine v_iconst (pc := 16) (v := nI 0) hC dX1_noEntry_16 rfl ?_
      exact hret _ _ _ _ dX1_noEntry_17 rfl ⟨by rw [hb]; rfl, rfl⟩
    · have hb : xBad x n = true := decide_eq_true (Or.inr (Int32.not_lt.mp c2))
      refine v_iconst (pc := 12) (v := nI 1) hC dX1_noEntry_12 rfl ?_
      refine v_goto (pc := 13) (tgt := 17) hC dX1_noEntry_13 (by decide) ?_
      exact hret _ _ _ _ dX1_noEntry_17 rfl ⟨by rw [hb]; rfl, rfl⟩
set_option maxHeartbeats 2000000 in
theorem kM_isText {f : Nat} : vMi l D yX1_isText cX1_isText 2 .boolean 0 0 (kT d) (kw h d nf sch sn si sl tx en od us tg kl ky pl pb ra) [.ref (h 0), .int (nI f)] (fun r u => r = bI (kTx sch f) ∧ u = (kw h d nf sch sn si sl tx en od us tg kl ky pl pb ra)) := by
  refine vMi_of RX1 (by decide) rfl (Nat.le_of_ble_eq_true rfl) rfl (fun X hC hret => ?_)
  refine v_aload_n (pc := 0) hC dX1_isText_0 rfl ?_
  refine kg_sch (pc := 1) hC dX1_isText_1 ?_
  refine v_iconst (pc := 4) (v := nI 4) hC dX1_isText_4 rfl ?_
  refine v_iload_n (pc := 5) hC dX1_isText_5 rfl ?_
  first | refine v_imulN (pc := 6) hC dX1_isText_6 ?_ | refine v_imul (pc := 6) hC dX1_isText_6 ?_
  refine v_ishr (pc := 7) hC dX1_isText_7 ?_
  refine v_iconst (pc := 8) (v := nI 1) hC dX1_isText_8 rfl ?_
  refine v_iand (pc := 9) hC dX1_isText_9 ?_
  refine v_iconst (pc := 10) (v := nI 1) hC dX1_isText_10 rfl ?_
  refine v_icmp_ne (pc := 11) (tgt := 18) hC dX1_isText_11 (by decide) (fun c1 => ?_) (fun c1 => ?_)
  · have hb : kTx sch f = false := decide_eq_false c1
    refine v_iconst (pc := 18) (v := nI 0) hC dX1_isText_18 rfl ?_
    exact hret _ _ _ _ dX1_isText_19 rfl ⟨by rw [hb]; rfl, rfl⟩
  · have hb : kTx sch f = true := decide_eq_true c1
    refine v_iconst (pc := 14) (v := nI 1) hC dX1_isText_14 rfl ?_
    refine v_goto (pc := 15) (tgt := 19) hC dX1_isText_15 (by decide) ?_
    exact hret _ _ _ _ dX1_isText_19 rfl ⟨by rw [hb]; rfl, rfl⟩
set_option maxHeartbeats 2000000 in
theorem kM_descending {f : Nat} : vMi l D yX1_descending cX1_descending 2 .boolean 0 0 (kT d) (kw h d nf sch sn si sl tx en od us tg kl ky pl pb ra) [.ref (h 0), .int (nI f)] (fun r u => r = bI (kDs sch f) ∧ u = (kw h d nf sch sn si sl tx en od us tg kl ky pl pb ra)) := by
  refine vMi_of RX1 (by decide) rfl (Nat.le_of_ble_eq_true rfl) rfl (fun X hC hret => ?_)
  refine v_aload_n (pc := 0) hC dX1_descending_0 rfl ?_
  refine kg_sch (pc := 1) hC dX1_descending_1 ?_
  refine v_iconst (pc := 4) (v := nI 4) hC dX1_descending_4 rfl ?_
  refine v_iload_n (pc := 5) hC dX1_descending_5 rfl ?_
  first | refine v_imulN (pc := 6) hC dX1_descending_6 ?_ | refine v_imul (pc := 6) hC dX1_descending_6 ?_
  refine v_ishr (pc := 7) hC dX1_descending_7 ?_
  refine v_iconst (pc := 8) (v := nI 2) hC dX1_descending_8 rfl ?_
  refine v_iand (pc := 9) hC dX1_descending_9 ?_
  refine v_iconst (pc := 10) (v := nI 2) hC dX1_descending_10 rfl ?_
  refine v_icmp_ne (pc := 11) (tgt := 18) hC dX1_descending_11 (by decide) (fun c1 => ?_) (fun c1 => ?_)
  · have hb : kDs sch f = false := decide_eq_false c1
    refine v_iconst (pc := 18) (v := nI 0) hC dX1_descending_18 rfl ?_
    exact hret _ _ _ _ dX1_descending_19 rfl ⟨by rw [hb]; rfl, rfl⟩
  · have hb : kDs sch f = true := decide_eq_true c1
    refine v_iconst (pc := 14) (v := nI 1) hC dX1_descending_14 rfl ?_
    refine v_goto (pc := 15) (tgt := 19) hC dX1_descending_15 (by decide) ?_
    exact hret _ _ _ _ dX1_descending_19 rfl ⟨by rw [hb]; rfl, rfl⟩
set_option maxHeartbeats 2000000 in
theorem kM_nullsFirst {f : Nat} : vMi l D yX1_nullsFirst cX1_nullsFirst 2 .boolean 0 0 (kT d) (kw h d nf sch sn si sl tx en od us tg kl ky pl pb ra) [.ref (h 0), .int (nI f)] (fun r u => r = bI (kNf sch f) ∧ u = (kw h d nf sch sn si sl tx en od us tg kl ky pl pb ra)) := by
  refine vMi_of RX1 (by decide) rfl (Nat.le_of_ble_eq_true rfl) rfl (fun X hC hret => ?_)
  refine v_aload_n (pc := 0) hC dX1_nullsFirst_0 rfl ?_
  refine kg_sch (pc := 1) hC dX1_nullsFirst_1 ?_
  refine v_iconst (pc := 4) (v := nI 4) hC dX1_nullsFirst_4 rfl ?_
  refine v_iload_n (pc := 5) hC dX1_nullsFirst_5 rfl ?_
  first | refine v_imulN (pc := 6) hC dX1_nullsFirst_6 ?_ | refine v_imul (pc := 6) hC dX1_nullsFirst_6 ?_
  refine v_ishr (pc := 7) hC dX1_nullsFirst_7 ?_
  refine v_iconst (pc := 8) (v := nI 4) hC dX1_nullsFirst_8 rfl ?_
  refine v_iand (pc := 9) hC dX1_nullsFirst_9 ?_
  refine v_iconst (pc := 10) (v := nI 4) hC dX1_nullsFirst_10 rfl ?_
  refine v_icmp_ne (pc := 11) (tgt := 18) hC dX1_nullsFirst_11 (by decide) (fun c1 => ?_) (fun c1 => ?_)
  · have hb : kNf sch f = false := decide_eq_false c1
    refine v_iconst (pc := 18) (v := nI 0) hC dX1_nullsFirst_18 rfl ?_
    exact hret _ _ _ _ dX1_nullsFirst_19 rfl ⟨by rw [hb]; rfl, rfl⟩
  · have hb : kNf sch f = true := decide_eq_true c1
    refine v_iconst (pc := 14) (v := nI 1) hC dX1_nullsFirst_14 rfl ?_
    refine v_goto (pc := 15) (tgt := 19) hC dX1_nullsFirst_15 (by decide) ?_
    exact hret _ _ _ _ dX1_nullsFirst_19 rfl ⟨by rw [hb]; rfl, rfl⟩
set_option maxHeartbeats 2000000 in
theorem kM_setNull {F : Nat} (hF : F ≤ 4) {x : Int32} : vMi l D yX1_setNull cX1_setNull 2 .int 1 32 (kT d) (kw h d (nI F) sch sn si sl tx en od us tg kl ky pl pb ra) [.ref (h 0), .int x] (fun r u => (xBad x F = true → r = -1 ∧ u = (kw h d (nI F) sch sn si sl tx en od us tg kl ky pl pb ra)) ∧ (∀ f : Nat, f < F → x = nI f → r = nI 0 ∧ u = (kw h d (nI F) sch (upd sn f (nI 1)) si sl tx en od us tg kl ky pl pb ra))) := by
  refine vMi_of RX1 (by decide) rfl (Nat.le_of_ble_eq_true rfl) rfl (fun X hC hret => ?_)
  refine v_aload_n (pc := 0) hC dX1_setNull_0 rfl ?_
  refine v_iload_n (pc := 1) hC dX1_setNull_1 rfl ?_
  refine k_calli1 (pc := 2) hC (kM_badField) kc_badField ⟨by decide, by decide⟩ (Nat.le_of_ble_eq_true rfl) dX1_setNull_2 (fun r u hp => ?_) ⟨rfl, rfl⟩
  obtain ⟨rfl, rfl⟩ := hp
  refine v_ifB_eq (pc := 5) (tgt := 10) hC dX1_setNull_5 (by decide) (fun c1 => ?_) (fun c1 => ?_)
  · obtain ⟨f, hf, rfl⟩ := xBad_f (by omega) c1
    refine v_aload_n (pc := 10) hC dX1_setNull_10 rfl ?_
    refine kg_sn (pc := 11) hC dX1_setNull_11 ?_
    refine v_iload_n (pc := 14) hC dX1_setNull_14 rfl ?_
    refine v_iconst (pc := 15) (v := nI 1) hC dX1_setNull_15 rfl ?_
    refine ks_sn (pc := 16) hC (by omega) (by decide) dX1_setNull_16 ?_
    refine v_iconst (pc := 17) (v := nI 0) hC dX1_setNull_17 rfl ?_
    exact hret _ _ _ _ dX1_setNull_18 rfl ⟨fun q => absurd (c1.symm.trans q) (by decide), fun j hj e => by
      have := (nI_eq (by omega) (by omega)).mp e
      subst this
      exact ⟨rfl, rfl⟩⟩
  · skip
    refine v_iconst (pc := 8) (v := (-1)) hC dX1_setNull_8 (by decide) ?_
    exact hret _ _ _ _ dX1_setNull_9 rfl ⟨fun _ => ⟨rfl, rfl⟩, fun j hj e => absurd ((xBad_j hj (by omega)).symm.trans (e ▸ c1)) (by decide)⟩
set_option maxHeartbeats 2000000 in
theorem kM_size : vMi l D yX1_size cX1_size 1 .int 0 0 (kT d) (kw h d nf sch sn si sl tx en od us tg kl ky pl pb ra) [.ref (h 0)] (fun r u => r = en ∧ u = (kw h d nf sch sn si sl tx en od us tg kl ky pl pb ra)) := by
  refine vMi_of RX1 (by decide) rfl (Nat.le_of_ble_eq_true rfl) rfl (fun X hC hret => ?_)
  refine v_aload_n (pc := 0) hC dX1_size_0 rfl ?_
  refine kg_en (pc := 1) hC dX1_size_1 ?_
  exact hret _ _ _ _ dX1_size_4 rfl ⟨rfl, rfl⟩
set_option maxHeartbeats 2000000 in
/-- emit: the byte x goes behind the k bytes of the probe -/
theorem kM_emit {k x : Nat} (hk : k < 64) (hx : x < 256) : vMv l D yX1_emit cX1_emit 2 0 0 (kT d) (kw h d nf sch sn si sl tx en od us tg kl ky (nI k) pb ra) [.ref (h 0), .int (nI x)] (fun u => u = (kw h d nf sch sn si sl tx en od us tg kl ky (nI (k + 1)) (upd pb k (nI x)) ra)) := by
  refine vMv_of RX1 (by decide) rfl (Nat.le_of_ble_eq_true rfl) rfl (fun X hC hret => ?_)
  refine v_aload_n (pc := 0) hC dX1_emit_0 rfl ?_
  refine kg_pl (pc := 1) hC dX1_emit_1 ?_
  refine v_bipush (pc := 4) (v := nI 64) hC dX1_emit_4 rfl ?_
  refine v_icmpN_lt (pc := 6) (tgt := 10) hC dX1_emit_6 (by decide) (by omega) (by omega) (fun c1 => ?_) (fun c1 => ?_)
  · skip
    refine v_aload_n (pc := 10) hC dX1_emit_10 rfl ?_
    refine kg_pb (pc := 11) hC dX1_emit_11 ?_
    refine v_aload_n (pc := 14) hC dX1_emit_14 rfl ?_
    refine kg_pl (pc := 15) hC dX1_emit_15 ?_
    refine v_iload_n (pc := 18) hC dX1_emit_18 rfl ?_
    refine v_i2s (pc := 19) hC dX1_emit_19 (nI_s16 (by omega)) ?_
    refine ks_pb (pc := 20) hC (by omega) (nI_vps (by omega)) dX1_emit_20 ?_
    refine v_aload_n (pc := 21) hC dX1_emit_21 rfl ?_
    refine v_dup (pc := 22) hC dX1_emit_22 rfl ?_
    refine kg_pl (pc := 23) hC dX1_emit_23 ?_
    refine v_iconst (pc := 26) (v := nI 1) hC dX1_emit_26 rfl ?_
    first | refine v_iaddN (pc := 27) hC dX1_emit_27 ?_ | refine v_iadd (pc := 27) hC dX1_emit_27 ?_
    refine kp_pl (pc := 28) hC dX1_emit_28 ?_
    exact hret _ _ _ dX1_emit_31 rfl
  · exact absurd c1 (by omega)
/-- a byte of a value, turned round in a descending field -/
def kTn (sch : Int32) (f x : Nat) : Nat := if kDs sch f then 255 - x else x
theorem kTn_lt {sch : Int32} {f x : Nat} (h : x < 256) : kTn sch f x < 256 := by unfold kTn; split <;> omega
set_option maxHeartbeats 2000000 in
theorem kM_emitTurned {k x f : Nat} (hk : k < 64) (hx : x < 256) : vMv l D yX1_emitTurned cX1_emitTurned 4 1 32 (kT d) (kw h d nf sch sn si sl tx en od us tg kl ky (nI k) pb ra) [.ref (h 0), .int (nI x), .int (nI f)] (fun u => u = (kw h d nf sch sn si sl tx en od us tg kl ky (nI (k + 1)) (upd pb k (nI (kTn sch f x))) ra)) := by
  refine vMv_of RX1 (by decide) rfl (Nat.le_of_ble_eq_true rfl) rfl (fun X hC hret => ?_)
  refine v_aload_n (pc := 0) hC dX1_emitTurned_0 rfl ?_
  refine v_iload_n (pc := 1) hC dX1_emitTurned_1 rfl ?_
  refine k_calli1 (pc := 2) hC (kM_descending) kc_descending ⟨by decide, by decide⟩ (Nat.le_of_ble_eq_true rfl) dX1_emitTurned_2 (fun r u hp => ?_) ⟨rfl, rfl⟩
  obtain ⟨rfl, rfl⟩ := hp
  refine v_istore_n (pc := 5) (L' := [_, _, _, _]) hC dX1_emitTurned_5 (Nat.le_of_ble_eq_true rfl) (by decide) rfl ?_
  refine v_aload_n (pc := 6) hC dX1_emitTurned_6 rfl ?_
  refine v_iload_n (pc := 7) hC dX1_emitTurned_7 rfl ?_
  refine v_ifB_eq (pc := 8) (tgt := 19) hC dX1_emitTurned_8 (by decide) (fun c1 => ?_) (fun c1 => ?_)
  · have e : kTn sch f x = x := by unfold kTn; rw [c1]; rfl
    refine v_iload_n (pc := 19) hC dX1_emitTurned_19 rfl ?_
    refine k_callv1 (pc := 20) hC (kM_emit hk hx) kc_emit ⟨by decide, by decide⟩ (Nat.le_of_ble_eq_true rfl) dX1_emitTurned_20 (fun u hp => ?_) ⟨rfl, rfl⟩
    subst hp
    exact hret _ _ _ dX1_emitTurned_23 (by rw [e])
  · have e : kTn sch f x = 255 - x := by unfold kTn; rw [c1]; rfl
    refine v_sipush (pc := 11) (v := nI 255) hC dX1_emitTurned_11 rfl ?_
    refine v_iload_n (pc := 14) hC dX1_emitTurned_14 rfl ?_
    first | refine v_isubN (pc := 15) hC dX1_emitTurned_15 (by omega) ?_ | refine v_isub (pc := 15) hC dX1_emitTurned_15 ?_
    refine v_goto (pc := 16) (tgt := 20) hC dX1_emitTurned_16 (by decide) ?_
    refine k_callv1 (pc := 20) hC (kM_emit hk (x := 255 - x) (by omega)) kc_emit ⟨by decide, by decide⟩ (Nat.le_of_ble_eq_true rfl) dX1_emitTurned_20 (fun u hp => ?_) ⟨rfl, rfl⟩
    subst hp
    exact hret _ _ _ dX1_emitTurned_23 (by rw [e])
end K10
end
section
/-! THE PLAIN LAW, first half: orders of lists, the encoding, counting -/
/-- lists in order: the end comes first -/
def lx : List Nat → List Nat → Int
  | [], [] => 0
  | [], _ :: _ => -1
  | _ :: _, [] => 1
  | a :: A, b :: B => if a = b then lx A B else if a < b then -1 else 1
/-- a key against a probe, as the program does it -/
def kc (pre : Bool) : List Nat → List Nat → Int
  | A, [] => if A ≠ [] ∧ pre = false then 1 else 0
  | [], _ :: _ => -1
  | a :: A, b :: B => if a = b then kc pre A B else (a : Int) - b
theorem lx_self : ∀ A : List Nat, lx A A = 0
  | [] => rfl
  | a :: A => by rw [lx, if_pos rfl, lx_self A]
theorem lx_zero : ∀ {A B : List Nat}, lx A B = 0 → A = B
  | [], [], _ => rfl
  | [], _ :: _, h => by simp [lx] at h
  | _ :: _, [], h => by simp [lx] at h
  | a :: A, b :: B, h => by
    rw [lx] at h
    split at h
    · next e => rw [e, lx_zero h]
    · split at h <;> cases h
theorem lx_neg : ∀ A B : List Nat, lx B A = - lx A B
  | [], [] => rfl
  | [], _ :: _ => rfl
  | _ :: _, [] => rfl
  | a :: A, b :: B => by
    rw [lx, lx]
    by_cases e : a = b
    · rw [if_pos e, if_pos e.symm, lx_neg A B]
    · rw [if_neg e, if_neg (fun q => e q.symm)]
      by_cases h : a < b
      · rw [if_pos h, if_neg (by omega)]; rfl
      · rw [if_neg h, if_pos (by omega)]
theorem lx_range : ∀ A B : List Nat, lx A B = -1 ∨ lx A B = 0 ∨ lx A B = 1
  | [], [] => by simp [lx]
  | [], _ :: _ => by simp [lx]
  | _ :: _, [] => by simp [lx]
  | a :: A, b :: B => by
    rw [lx]
    split
    · exact lx_range A B
    · split <;> simp
theorem lx_trans : ∀ {A B C : List Nat}, lx A B < 0 → lx B C < 0 → lx A C < 0
  | [], [], _, h, _ => by simp [lx] at h
  | [], _ :: _, [], _, h => by simp [lx] at h
  | [], _ :: _, _ :: _, _, _ => by simp [lx]
  | _ :: _, [], _, h, _ => by simp [lx] at h
  | _ :: _, _ :: _, [], _, h => by simp [lx] at h
  | a :: A, b :: B, c :: C, h1, h2 => by
    rw [lx] at h1 h2 ⊢
    by_cases e1 : a = b
    · rw [if_pos e1] at h1
      subst e1
      by_cases e2 : a = c
      · rw [if_pos e2] at h2 ⊢
        exact lx_trans h1 h2
      · rw [if_neg e2] at h2 ⊢
        exact h2
    · rw [if_neg e1] at h1
      have hab : a < b := by
        by_cases q : a < b
        · exact q
        · rw [if_neg q] at h1; simp at h1
      by_cases e2 : b = c
      · subst e2
        rw [if_neg e1, if_pos hab]; decide
      · rw [if_neg e2] at h2
        have hbc : b < c := by
          by_cases q : b < c
          · exact q
          · rw [if_neg q] at h2; simp at h2
        rw [if_neg (by omega), if_pos (by omega)]; decide
theorem kc_lx : ∀ A B : List Nat, (kc false A B < 0 ↔ lx A B < 0) ∧ (kc false A B = 0 ↔ lx A B = 0)
  | [], [] => by simp [kc, lx]
  | [], _ :: _ => by simp [kc, lx]
  | _ :: _, [] => by simp [kc, lx]
  | a :: A, b :: B => by
    rw [kc, lx]
    by_cases e : a = b
    · rw [if_pos e, if_pos e]; exact kc_lx A B
    · rw [if_neg e, if_neg e]
      by_cases h : a < b
      · rw [if_pos h]; constructor <;> omega
      · rw [if_neg h]; constructor <;> omega
/-- the first keys are below the probe -/
theorem kc_mono : ∀ (pre : Bool) (B A A' : List Nat), lx A A' < 0 → (kc pre A' B < 0 → kc pre A B < 0) ∧ (kc pre A' B ≤ 0 → kc pre A B ≤ 0)
  | pre, [], A, A', h => by
    have key : kc pre A' [] ≤ 0 → kc pre A [] ≤ 0 := by
      rw [kc, kc]
      cases pre with
      | true => simp
      | false =>
        cases A' with
        | nil =>
          cases A with
          | nil => simp
          | cons a A => simp [lx] at h
        | cons a A' => simp
    refine ⟨fun q => ?_, key⟩
    rw [kc] at q
    split at q <;> omega
  | pre, b :: B, [], A', h => by
    rw [kc]
    constructor <;> intro _ <;> decide
  | pre, b :: B, a :: A, [], h => by simp [lx] at h
  | pre, b :: B, a :: A, a' :: A', h => by
    rw [lx] at h
    rw [kc, kc]
    by_cases e : a = a'
    · subst e
      rw [if_pos rfl] at h
      by_cases e2 : a = b
      · rw [if_pos e2, if_pos e2]
        exact kc_mono pre B A A' h
      · rw [if_neg e2, if_neg e2]
        exact ⟨id, id⟩
    · rw [if_neg e] at h
      have haa : a < a' := by
        by_cases q : a < a'
        · exact q
        · rw [if_neg q] at h; simp at h
      by_cases e1 : a' = b
      · subst e1
        rw [if_pos rfl, if_neg (by omega)]
        constructor <;> intro _ <;> omega
      · rw [if_neg e1]
        by_cases e2 : a = b
        · subst e2
          rw [if_pos rfl]
          constructor <;> intro q <;> omega
        · rw [if_neg e2]
          constructor <;> intro q <;> omega
/-! the encoding -/
abbrev FV : Type := Option (List Nat)
def eC (c : Nat) : List Nat := if c = 0 then [0, 255] else [c]
def b4 (b : Nat) : List Nat := [b / 16777216 % 256, b / 65536 % 256, b / 256 % 256, b % 256]
def eB (t : Bool) (w : List Nat) : List Nat := if t then w.flatMap eC ++ [0, 1] else b4 (w.headD 0)
def eF (sch : Int32) (f : Nat) : FV → List Nat
  | none => [if kNf sch f then 0 else 2]
  | some w => 1 :: (eB (kTx sch f) w).map (kTn sch f)
/-- k fields from f on -/
def eR (sch : Int32) (T : Nat → FV) : Nat → Nat → List Nat
  | _, 0 => []
  | f, k + 1 => eF sch f (T f) ++ eR sch T (f + 1) k
theorem eR_app (sch : Int32) (T : Nat → FV) : ∀ (k j f : Nat), eR sch T f (k + j) = eR sch T f k ++ eR sch T (f + k) j
  | 0, j, f => by rw [Nat.zero_add, eR, List.nil_append, Nat.add_zero]
  | k + 1, j, f => by
    rw [show k + 1 + j = (k + j) + 1 by omega, eR, eR, eR_app sch T k j (f + 1), List.append_assoc, show f + 1 + k = f + (k + 1) by omega]
theorem eR_snoc (sch : Int32) (T : Nat → FV) (k : Nat) : eR sch T 0 (k + 1) = eR sch T 0 k ++ eF sch k (T k) := by
  rw [eR_app sch T k 1 0, Nat.zero_add, eR, eR, List.append_nil]
theorem eR_congr {sch : Int32} {T U : Nat → FV} : ∀ (k f : Nat), (∀ j, f ≤ j → j < f + k → T j = U j) → eR sch T f k = eR sch U f k
  | 0, _, _ => rfl
  | k + 1, f, h => by
    rw [eR, eR, h f (Nat.le_refl f) (by omega), eR_congr k (f + 1) (fun j h1 h2 => h j (by omega) (by omega))]
/-- a value that its field may hold -/
def fOk (t : Bool) : FV → Prop
  | none => True
  | some w => if t then w.length ≤ 6 ∧ ∀ c ∈ w, c < 256 else ∃ b, b < 4294967296 ∧ w = [b]
def cF (sch : Int32) (f : Nat) : FV → FV → Int
  | none, none => 0
  | none, some _ => if kNf sch f then -1 else 1
  | some _, none => if kNf sch f then 1 else -1
  | some a, some b => if kDs sch f then - lx a b else lx a b
theorem fOk_t {w : List Nat} : fOk true (some w) = (w.length ≤ 6 ∧ ∀ c ∈ w, c < 256) := by simp [fOk]
theorem fOk_f {w : List Nat} : fOk false (some w) = ∃ b, b < 4294967296 ∧ w = [b] := by simp [fOk]
theorem eF_none {sch : Int32} {f : Nat} : eF sch f none = [if kNf sch f then 0 else 2] := rfl
theorem eF_some {sch : Int32} {f : Nat} {w : List Nat} : eF sch f (some w) = 1 :: (eB (kTx sch f) w).map (kTn sch f) := rfl
theorem cF_ns {sch : Int32} {f : Nat} {w : List Nat} : cF sch f none (some w) = if kNf sch f then -1 else 1 := rfl
theorem cF_sn {sch : Int32} {f : Nat} {w : List Nat} : cF sch f (some w) none = if kNf sch f then 1 else -1 := rfl
theorem cF_ss {sch : Int32} {f : Nat} {a b : List Nat} : cF sch f (some a) (some b) = if kDs sch f then - lx a b else lx a b := rfl
def cR (sch : Int32) (T U : Nat → FV) : Nat → Nat → Int
  | _, 0 => 0
  | f, k + 1 => if cF sch f (T f) (U f) = 0 then cR sch T U (f + 1) k else cF sch f (T f) (U f)
/-- A and B differ first at a and b, and s says which comes first -/
def fd (A B : List Nat) (s : Int) : Prop := ∃ (P A' B' : List Nat) (a b : Nat), A = P ++ a :: A' ∧ B = P ++ b :: B' ∧ a ≠ b ∧ (s < 0 ↔ a < b)
theorem fd_cons {A B : List Nat} {s : Int} (x : Nat) (h : fd A B s) : fd (x :: A) (x :: B) s := by
  obtain ⟨P, A', B', a, b, h1, h2, h3, h4⟩ := h
  exact ⟨x :: P, A', B', a, b, by rw [h1]; rfl, by rw [h2]; rfl, h3, h4⟩
theorem fd_app {A B : List Nat} {s : Int} (X Y : List Nat) (h : fd A B s) : fd (A ++ X) (B ++ Y) s := by
  obtain ⟨P, A', B', a, b, h1, h2, h3, h4⟩ := h
  exact ⟨P, A' ++ X, B' ++ Y, a, b, by rw [h1]; simp, by rw [h2]; simp, h3, h4⟩
theorem fd_pre {A B : List Nat} {s : Int} : ∀ (P : List Nat), fd A B s → fd (P ++ A) (P ++ B) s
  | [], h => h
  | x :: P, h => fd_cons x (fd_pre P h)
theorem fd_here {A B : List Nat} {a b : Nat} {s : Int} (h : a ≠ b) (hs : s < 0 ↔ a < b) : fd (a :: A) (b :: B) s := ⟨[], A, B, a, b, rfl, rfl, h, hs⟩
theorem fd_kc {A B : List Nat} {s : Int} (pre : Bool) (h : fd A B s) : (kc pre A B < 0 ↔ s < 0) ∧ kc pre A B ≠ 0 := by
  obtain ⟨P, A', B', a, b, h1, h2, h3, h4⟩ := h
  subst h1 h2
  induction P with
  | nil =>
    rw [List.nil_append, List.nil_append, kc, if_neg h3]
    constructor
    · rw [h4]; omega
    · omega
  | cons x P ih =>
    rw [List.cons_append, List.cons_append, kc, if_pos rfl]
    exact ih
theorem kc_same (pre : Bool) : ∀ (P A B : List Nat), kc pre (P ++ A) (P ++ B) = kc pre A B
  | [], _, _ => rfl
  | x :: P, A, B => by rw [List.cons_append, List.cons_append, kc, if_pos rfl, kc_same pre P A B]
theorem fd_b4 {x y : Nat} (hx : x < 4294967296) (hy : y < 4294967296) (h : x ≠ y) {s : Int} (hs : s < 0 ↔ x < y) : fd (b4 x) (b4 y) s := by
  unfold b4
  by_cases h3 : x / 16777216 % 256 = y / 16777216 % 256
  · rw [h3]
    refine fd_cons _ ?_
    by_cases h2 : x / 65536 % 256 = y / 65536 % 256
    · rw [h2]
      refine fd_cons _ ?_
      by_cases h1 : x / 256 % 256 = y / 256 % 256
      · rw [h1]
        refine fd_cons _ ?_
        exact fd_here (by omega) (by rw [hs]; omega)
      · exact fd_here h1 (by rw [hs]; omega)
    · exact fd_here h2 (by rw [hs]; omega)
  · exact fd_here h3 (by rw [hs]; omega)
theorem fd_text : ∀ (A B : List Nat), lx A B ≠ 0 → fd (A.flatMap eC ++ [0, 1]) (B.flatMap eC ++ [0, 1]) (lx A B)
  | [], [], h => absurd rfl h
  | [], c :: B, _ => by
    rw [List.flatMap_cons, List.flatMap_nil, List.nil_append, lx]
    unfold eC
    by_cases hc : c = 0
    · rw [if_pos hc]
      exact fd_cons 0 (fd_here (by decide) (by decide))
    · rw [if_neg hc]
      refine fd_here (fun q => hc q.symm) ?_
      constructor
      · intro _; omega
      · intro _; decide
  | c :: A, [], _ => by
    rw [List.flatMap_cons, List.flatMap_nil, List.nil_append, lx]
    unfold eC
    by_cases hc : c = 0
    · rw [if_pos hc]
      exact fd_cons 0 (fd_here (by decide) (by decide))
    · rw [if_neg hc]
      refine fd_here hc ?_
      constructor
      · intro q; simp at q
      · intro q; omega
  | a :: A, b :: B, h => by
    rw [List.flatMap_cons, List.flatMap_cons, List.append_assoc, List.append_assoc]
    rw [lx] at h ⊢
    by_cases e : a = b
    · rw [if_pos e] at h ⊢
      rw [e]
      exact fd_pre _ (fd_text A B h)
    · rw [if_neg e]
      unfold eC
      by_cases ha : a = 0
      · rw [if_pos ha, if_neg (by omega), if_pos (by omega)]
        exact fd_here (by omega) (by constructor <;> intro _ <;> omega)
      · rw [if_neg ha]
        by_cases hb : b = 0
        · rw [if_pos hb, if_neg (by omega)]
          refine fd_here (by omega) ?_
          constructor
          · intro q; simp at q
          · intro q; omega
        · rw [if_neg hb]
          refine fd_here e ?_
          by_cases q : a < b
          · rw [if_pos q]; constructor <;> intro _ <;> omega
          · rw [if_neg q]; constructor <;> intro w <;> omega
theorem fd_turn {A B : List Nat} {s : Int} (sch : Int32) (f : Nat) (hA : ∀ x ∈ A, x < 256) (hB : ∀ x ∈ B, x < 256) (h : fd A B s) (hs : s ≠ 0) : fd (A.map (kTn sch f)) (B.map (kTn sch f)) (if kDs sch f then -s else s) := by
  obtain ⟨P, A', B', a, b, h1, h2, h3, h4⟩ := h
  subst h1 h2
  have ha : a < 256 := hA a (by simp)
  have hb : b < 256 := hB b (by simp)
  refine ⟨P.map (kTn sch f), A'.map (kTn sch f), B'.map (kTn sch f), kTn sch f a, kTn sch f b, by simp, by simp, ?_, ?_⟩
  · unfold kTn; split <;> omega
  · unfold kTn
    by_cases q : kDs sch f = true
    · rw [if_pos q, if_pos q, if_pos q]
      constructor <;> intro w <;> omega
    · rw [if_neg q, if_neg q, if_neg q]
      exact h4
theorem eC_lt {c : Nat} (h : c < 256) : ∀ x ∈ eC c, x < 256 := by
  intro x hx
  unfold eC at hx
  split at hx
  · simp at hx; omega
  · simp at hx; omega
theorem b4_lt (b : Nat) : ∀ x ∈ b4 b, x < 256 := by
  intro x hx
  unfold b4 at hx
  simp at hx
  omega
theorem eB_lt {t : Bool} {w : List Nat} (h : fOk t (some w)) : ∀ x ∈ eB t w, x < 256 := by
  intro x hx
  unfold eB at hx
  cases t with
  | true =>
    rw [if_pos rfl] at hx
    rw [fOk_t] at h
    rcases List.mem_append.mp hx with q | q
    · obtain ⟨c, hc, hxc⟩ := List.mem_flatMap.mp q
      exact eC_lt (h.2 c hc) x hxc
    · simp at q; omega
  | false =>
    rw [if_neg (by decide)] at hx
    exact b4_lt _ x hx
theorem lx_one {x y : Nat} : lx [x] [y] = if x = y then 0 else if x < y then -1 else 1 := by
  rw [lx, lx]
/-- one field: equal in the order, or the bytes differ as the order says -/
theorem eF_cmp {sch : Int32} {f : Nat} {x y : FV} (hx : fOk (kTx sch f) x) (hy : fOk (kTx sch f) y) : (cF sch f x y = 0 → eF sch f x = eF sch f y) ∧ (cF sch f x y ≠ 0 → fd (eF sch f x) (eF sch f y) (cF sch f x y)) := by
  cases x with
  | none =>
    cases y with
    | none => exact ⟨fun _ => rfl, fun q => absurd rfl q⟩
    | some b =>
      rw [cF_ns, eF_none, eF_some]
      by_cases q : kNf sch f = true
      · rw [if_pos q, if_pos q]
        exact ⟨fun w => absurd w (by decide), fun _ => fd_here (by decide) (by decide)⟩
      · rw [if_neg q, if_neg q]
        exact ⟨fun w => absurd w (by decide), fun _ => fd_here (by decide) (by decide)⟩
  | some a =>
    cases y with
    | none =>
      rw [cF_sn, eF_none, eF_some]
      by_cases q : kNf sch f = true
      · rw [if_pos q, if_pos q]
        exact ⟨fun w => absurd w (by decide), fun _ => fd_here (by decide) (by decide)⟩
      · rw [if_neg q, if_neg q]
        exact ⟨fun w => absurd w (by decide), fun _ => fd_here (by decide) (by decide)⟩
    | some b =>
      have h0 : cF sch f (some a) (some b) = if kDs sch f then - lx a b else lx a b := rfl
      have hz : cF sch f (some a) (some b) = 0 ↔ lx a b = 0 := by
        rw [h0]; split <;> omega
      refine ⟨fun q => by rw [lx_zero (hz.mp q)], fun q => ?_⟩
      have hn : lx a b ≠ 0 := fun w => q (hz.mpr w)
      rw [h0]
      rw [eF_some, eF_some]
      refine fd_cons 1 (fd_turn sch f (eB_lt hx) (eB_lt hy) ?_ hn)
      unfold eB
      cases ht : kTx sch f with
      | true =>
        rw [if_pos rfl, if_pos rfl]
        exact fd_text a b hn
      | false =>
        rw [ht, fOk_f] at hx hy
        obtain ⟨u, hu, rfl⟩ := hx
        obtain ⟨v, hv, rfl⟩ := hy
        rw [if_neg (by decide), if_neg (by decide)]
        rw [lx_one] at hn ⊢
        have huv : u ≠ v := fun w => hn (by rw [if_pos w])
        rw [if_neg huv]
        refine fd_b4 hu hv huv ?_
        by_cases w : u < v
        · rw [if_pos w]; constructor <;> intro _ <;> omega
        · rw [if_neg w]; constructor <;> intro z <;> omega
theorem eR_cmp {sch : Int32} {T U : Nat → FV} (X Y : List Nat) (pre : Bool) : ∀ (k f : Nat), (∀ j, f ≤ j → j < f + k → fOk (kTx sch j) (T j) ∧ fOk (kTx sch j) (U j)) →
    (cR sch T U f k = 0 → eR sch T f k = eR sch U f k) ∧ (cR sch T U f k ≠ 0 → (kc pre (eR sch T f k ++ X) (eR sch U f k ++ Y) < 0 ↔ cR sch T U f k < 0) ∧ kc pre (eR sch T f k ++ X) (eR sch U f k ++ Y) ≠ 0)
  | 0, _, _ => ⟨fun _ => rfl, fun q => absurd rfl q⟩
  | k + 1, f, h => by
    obtain ⟨h1, h2⟩ := h f (Nat.le_refl f) (by omega)
    obtain ⟨e1, e2⟩ := eF_cmp h1 h2
    have ih := eR_cmp X Y pre k (f + 1) (fun j a b => h j (by omega) (by omega))
    rw [cR, eR, eR]
    by_cases q : cF sch f (T f) (U f) = 0
    · rw [if_pos q, e1 q]
      refine ⟨fun w => by rw [ih.1 w], fun w => ?_⟩
      rw [List.append_assoc, List.append_assoc, kc_same]
      exact ih.2 w
    · rw [if_neg q]
      refine ⟨fun w => absurd w q, fun _ => ?_⟩
      rw [List.append_assoc, List.append_assoc]
      exact fd_kc pre (fd_app _ _ (e2 q))
/-- the whole keys -/
theorem key_cmp {sch : Int32} {T U : Nat → FV} {F : Nat} (h : ∀ j, j < F → fOk (kTx sch j) (T j) ∧ fOk (kTx sch j) (U j)) : (kc false (eR sch T 0 F) (eR sch U 0 F) < 0 ↔ cR sch T U 0 F < 0) ∧ (kc false (eR sch T 0 F) (eR sch U 0 F) = 0 ↔ cR sch T U 0 F = 0) := by
  have h0 := eR_cmp [] [] false F 0 (fun j _ q => h j (by omega))
  rw [List.append_nil, List.append_nil] at h0
  by_cases q : cR sch T U 0 F = 0
  · have e : kc false (eR sch T 0 F) (eR sch U 0 F) = 0 := by
      rw [h0.1 q]
      exact (kc_lx _ _).2.mpr (lx_self _)
    rw [e, q]
    simp
  · obtain ⟨a, b⟩ := h0.2 q
    exact ⟨a, fun w => absurd w b, fun w => absurd w q⟩
/-- a key against the key of the first m fields -/
theorem pre_cmp {sch : Int32} {T U : Nat → FV} {F m : Nat} (hm : m ≤ F) (h : ∀ j, j < F → fOk (kTx sch j) (T j) ∧ fOk (kTx sch j) (U j)) : (kc true (eR sch T 0 F) (eR sch U 0 m) < 0 ↔ cR sch T U 0 m < 0) ∧ (kc true (eR sch T 0 F) (eR sch U 0 m) = 0 ↔ cR sch T U 0 m = 0) := by
  obtain ⟨k, rfl⟩ : ∃ k, F = m + k := ⟨F - m, by omega⟩
  have h0 := eR_cmp (eR sch T m k) [] true m 0 (fun j _ q => h j (by omega))
  rw [eR_app sch T m k 0, Nat.zero_add]
  rw [List.append_nil] at h0
  by_cases q : cR sch T U 0 m = 0
  · have e : kc true (eR sch T 0 m ++ eR sch T m k) (eR sch U 0 m) = 0 := by
      rw [h0.1 q]
      have := kc_same true (eR sch U 0 m) (eR sch T m k) []
      rw [List.append_nil] at this
      rw [this, kc]
      simp
    rw [e, q]
    simp
  · obtain ⟨a, b⟩ := h0.2 q
    exact ⟨a, fun w => absurd w b, fun w => absurd w q⟩
theorem eF_len {sch : Int32} {f : Nat} {x : FV} (hx : fOk (kTx sch f) x) : (eF sch f x).length ≤ 15 := by
  cases x with
  | none => simp [eF]
  | some w =>
    rw [eF_some]
    unfold eB
    cases ht : kTx sch f with
    | true =>
      rw [ht, fOk_t] at hx
      have : ∀ w : List Nat, (w.flatMap eC).length ≤ 2 * w.length := by
        intro w
        induction w with
        | nil => simp
        | cons c w ih =>
          rw [List.flatMap_cons, List.length_append, List.length_cons]
          have : (eC c).length ≤ 2 := by unfold eC; split <;> simp
          omega
      have := this w
      rw [if_pos rfl, List.length_cons, List.length_map, List.length_append, List.length_cons, List.length_cons, List.length_nil]
      omega
    | false => simp [b4]
theorem eR_len {sch : Int32} {T : Nat → FV} : ∀ (k f : Nat), (∀ j, f ≤ j → j < f + k → fOk (kTx sch j) (T j)) → (eR sch T f k).length ≤ 15 * k
  | 0, _, _ => by simp [eR]
  | k + 1, f, h => by
    rw [eR, List.length_append]
    have h1 := eF_len (h f (Nat.le_refl f) (by omega))
    have h2 := eR_len k (f + 1) (fun j a b => h j (by omega) (by omega))
    omega
theorem eF_lt {sch : Int32} {f : Nat} {x : FV} (hx : fOk (kTx sch f) x) : ∀ b ∈ eF sch f x, b < 256 := by
  intro b hb
  cases x with
  | none =>
    rw [eF_none] at hb
    split at hb <;> simp at hb <;> omega
  | some w =>
    rw [eF_some] at hb
    rcases List.mem_cons.mp hb with q | q
    · omega
    · obtain ⟨c, hc, rfl⟩ := List.mem_map.mp q
      exact kTn_lt (eB_lt hx c hc)
theorem eR_lt {sch : Int32} {T : Nat → FV} : ∀ (k f : Nat), (∀ j, f ≤ j → j < f + k → fOk (kTx sch j) (T j)) → ∀ b ∈ eR sch T f k, b < 256
  | 0, _, _, b, hb => by simp [eR] at hb
  | k + 1, f, h, b, hb => by
    rw [eR] at hb
    rcases List.mem_append.mp hb with q | q
    · exact eF_lt (h f (Nat.le_refl f) (by omega)) b q
    · exact eR_lt k (f + 1) (fun j a b => h j (by omega) (by omega)) b q
end
section
/-! THE PLAIN LAW, second half: places by counting, and the order of positions -/
def cnt (P : Nat → Bool) : Nat → Nat
  | 0 => 0
  | n + 1 => cnt P n + (if P n then 1 else 0)
theorem cnt_le (P : Nat → Bool) : ∀ n, cnt P n ≤ n
  | 0 => Nat.le_refl 0
  | n + 1 => by rw [cnt]; have := cnt_le P n; split <;> omega
theorem cnt_congr {P Q : Nat → Bool} : ∀ {n : Nat}, (∀ i, i < n → P i = Q i) → cnt P n = cnt Q n
  | 0, _ => rfl
  | n + 1, h => by rw [cnt, cnt, cnt_congr (fun i hi => h i (by omega)), h n (by omega)]
theorem cnt_mono {P Q : Nat → Bool} : ∀ {n : Nat}, (∀ i, i < n → P i = true → Q i = true) → cnt P n ≤ cnt Q n
  | 0, _ => Nat.le_refl 0
  | n + 1, h => by
    rw [cnt, cnt]
    have h1 := cnt_mono (n := n) (fun i hi => h i (by omega))
    by_cases q : P n = true
    · rw [if_pos q, if_pos (h n (by omega) q)]; omega
    · rw [if_neg q]; omega
theorem cnt_lt {P Q : Nat → Bool} : ∀ {n e : Nat}, (∀ i, i < n → P i = true → Q i = true) → e < n → Q e = true → P e = false → cnt P n < cnt Q n
  | 0, _, _, h, _, _ => absurd h (by omega)
  | n + 1, e, h, he, hq, hp => by
    rw [cnt, cnt]
    have h1 := cnt_mono (n := n) (fun i hi => h i (by omega))
    by_cases q : e = n
    · subst q
      rw [if_pos hq, hp, if_neg (by decide)]; omega
    · have h2 := cnt_lt (n := n) (fun i hi => h i (by omega)) (by omega) hq hp
      by_cases w : P n = true
      · rw [if_pos w, if_pos (h n (by omega) w)]; omega
      · rw [if_neg w]; omega
theorem cnt_all {P : Nat → Bool} : ∀ {n : Nat}, (∀ i, i < n → P i = true) → cnt P n = n
  | 0, _ => rfl
  | n + 1, h => by rw [cnt, cnt_all (fun i hi => h i (by omega)), if_pos (h n (by omega))]
theorem cnt_sum {P Q S : Nat → Bool} : ∀ {n : Nat}, (∀ i, i < n → (P i = true ↔ Q i = true ∨ S i = true) ∧ ¬ (Q i = true ∧ S i = true)) → cnt P n = cnt Q n + cnt S n
  | 0, _ => rfl
  | n + 1, h => by
    rw [cnt, cnt, cnt, cnt_sum (fun i hi => h i (by omega))]
    obtain ⟨h1, h2⟩ := h n (by omega)
    by_cases q : Q n = true
    · rw [if_pos q, if_pos (h1.mpr (Or.inl q)), if_neg (fun w => h2 ⟨q, w⟩)]; omega
    · rw [if_neg q]
      by_cases w : S n = true
      · rw [if_pos w, if_pos (h1.mpr (Or.inr w))]; omega
      · rw [if_neg w, if_neg (fun z => (h1.mp z).elim q w)]; omega
/-- leaving out place e -/
def skp (e i : Nat) : Nat := if i < e then i else i + 1
theorem cnt_skp {P : Nat → Bool} {e : Nat} : ∀ {n : Nat}, e < n + 1 → cnt P (n + 1) = cnt (fun i => P (skp e i)) n + (if P e then 1 else 0)
  | 0, h => by
    have : e = 0 := by omega
    subst this
    rw [cnt, cnt]; rfl
  | n + 1, h => by
    rw [cnt]
    by_cases q : e = n + 1
    · subst q
      congr 1
      exact cnt_congr (fun i hi => by rw [skp, if_pos hi])
    · have ih := cnt_skp (P := P) (e := e) (n := n) (by omega)
      rw [ih]
      rw [show cnt (fun i => P (skp e i)) (n + 1) = cnt (fun i => P (skp e i)) n + (if P (skp e n) then 1 else 0) from rfl]
      rw [show skp e n = n + 1 by rw [skp, if_neg (by omega)]]
      omega
/-- entry i comes ahead of entry j -/
def elt (A : Nat → List Nat) (i j : Nat) : Bool := decide (lx (A i) (A j) < 0 ∨ (lx (A i) (A j) = 0 ∧ i < j))
def plc (A : Nat → List Nat) (n e : Nat) : Nat := cnt (fun i => elt A i e) n
theorem elt_irr (A : Nat → List Nat) (i : Nat) : elt A i i = false := by
  unfold elt
  rw [decide_eq_false]
  rw [lx_self]
  omega
theorem elt_trans {A : Nat → List Nat} {i j k : Nat} (h1 : elt A i j = true) (h2 : elt A j k = true) : elt A i k = true := by
  unfold elt at *
  rw [decide_eq_true_iff] at *
  rcases h1 with h1 | ⟨h1, l1⟩
  · rcases h2 with h2 | ⟨h2, l2⟩
    · exact Or.inl (lx_trans h1 h2)
    · rw [← lx_zero h2]; exact Or.inl h1
  · rw [lx_zero h1]
    rcases h2 with h2 | ⟨h2, l2⟩
    · exact Or.inl h2
    · exact Or.inr ⟨h2, by omega⟩
theorem elt_total (A : Nat → List Nat) {i j : Nat} (h : i ≠ j) : elt A i j = true ∨ elt A j i = true := by
  unfold elt
  rw [decide_eq_true_iff, decide_eq_true_iff, lx_neg (A i) (A j)]
  rcases lx_range (A i) (A j) with q | q | q <;> rw [q] <;> omega
/-- a set that is closed downward is the positions below its number -/
theorem plc_dc {A : Nat → List Nat} {n : Nat} {P : Nat → Bool} (hP : ∀ a b, a < n → b < n → elt A a b = true → P b = true → P a = true) {e : Nat} (he : e < n) : P e = true ↔ plc A n e < cnt P n := by
  constructor
  · intro h
    exact cnt_lt (fun i hi q => hP i e hi he q h) he h (elt_irr A e)
  · intro h
    cases hq : P e with
    | true => rfl
    | false =>
      have : cnt P n ≤ plc A n e := cnt_mono (fun i hi q => by
        have hne : i ≠ e := fun w => by rw [w, hq] at q; cases q
        rcases elt_total A hne with w | w
        · exact w
        · rw [hP e i he hi w q] at hq; cases hq)
      omega
theorem plc_mono {A : Nat → List Nat} {n a b : Nat} (ha : a < n) (h : elt A a b = true) : plc A n a < plc A n b :=
  cnt_lt (fun i _ q => elt_trans q h) ha h (elt_irr A a)
theorem plc_inj {A : Nat → List Nat} {n a b : Nat} (ha : a < n) (hb : b < n) (h : plc A n a = plc A n b) : a = b := by
  by_cases q : a = b
  · exact q
  · rcases elt_total A q with w | w
    · have := plc_mono ha w; omega
    · have := plc_mono hb w; omega
theorem plc_elt {A : Nat → List Nat} {n a b : Nat} (ha : a < n) (hb : b < n) : elt A a b = true ↔ plc A n a < plc A n b := by
  constructor
  · exact plc_mono ha
  · intro h
    by_cases q : a = b
    · subst q; omega
    · rcases elt_total A q with w | w
      · exact w
      · have := plc_mono hb w; omega
theorem plc_lt {A : Nat → List Nat} {n e : Nat} (he : e < n) : plc A n e < n := by
  have := (plc_dc (A := A) (n := n) (P := fun _ => true) (fun _ _ _ _ _ _ => rfl) he).mp rfl
  rwa [cnt_all (fun _ _ => rfl)] at this
/-- g: at each position the entry that stands there -/
def Sg (A : Nat → List Nat) (n : Nat) (g : Nat → Nat) : Prop := ∀ p, p < n → g p < n ∧ plc A n (g p) = p
theorem Sg.dc {A : Nat → List Nat} {n : Nat} {g : Nat → Nat} (h : Sg A n g) {P : Nat → Bool} (hP : ∀ a b, a < n → b < n → elt A a b = true → P b = true → P a = true) {p : Nat} (hp : p < n) : P (g p) = true ↔ p < cnt P n := by
  have h1 := plc_dc hP (h p hp).1
  rw [(h p hp).2] at h1
  exact h1
theorem Sg.inv {A : Nat → List Nat} {n : Nat} {g : Nat → Nat} (h : Sg A n g) {e : Nat} (he : e < n) : g (plc A n e) = e :=
  plc_inj (h _ (plc_lt he)).1 he (h _ (plc_lt he)).2
theorem Sg_0 (A : Nat → List Nat) (g : Nat → Nat) : Sg A 0 g := fun p hp => absurd hp (by omega)
theorem Sg.congr {A A' : Nat → List Nat} {n : Nat} {g : Nat → Nat} (h : Sg A n g) (hA : ∀ i, i < n → A' i = A i) : Sg A' n g := by
  intro p hp
  refine ⟨(h p hp).1, ?_⟩
  refine Eq.trans (cnt_congr (fun i hi => ?_)) (h p hp).2
  unfold elt
  rw [hA i hi, hA _ (h p hp).1]
/-- where a new entry goes: behind all that are not above it -/
def atq (A : Nat → List Nat) (n : Nat) (x : List Nat) : Nat := cnt (fun i => decide (lx (A i) x ≤ 0)) n
def gAdd (g : Nat → Nat) (n a p : Nat) : Nat := if p < a then g p else if p = a then n else g (p - 1)
theorem dc_le {A : Nat → List Nat} {x : List Nat} {a b : Nat} (h : elt A a b = true) (hb : decide (lx (A b) x ≤ 0) = true) : decide (lx (A a) x ≤ 0) = true := by
  unfold elt at h
  rw [decide_eq_true_iff] at *
  rcases h with h | ⟨h, -⟩
  · by_cases q : lx (A b) x = 0
    · rw [← lx_zero q]; omega
    · have := lx_trans h (show lx (A b) x < 0 by omega); omega
  · rw [lx_zero h]; exact hb
theorem elt_new {A : Nat → List Nat} {n : Nat} {x : List Nat} (hx : A n = x) {e : Nat} (he : e < n) : elt A n e = !decide (lx (A e) x ≤ 0) := by
  unfold elt
  rw [hx, lx_neg (A e) x, ← decide_not]
  apply decide_eq_decide.mpr
  omega
theorem Sg.add {A A' : Nat → List Nat} {n : Nat} {g : Nat → Nat} (h : Sg A n g) (hA : ∀ i, i < n → A' i = A i) {x : List Nat} (hx : A' n = x) : plc A' (n + 1) n = atq A n x ∧ Sg A' (n + 1) (gAdd g n (atq A n x)) := by
  have hS := h.congr hA
  have ha : atq A n x = cnt (fun i => decide (lx (A' i) x ≤ 0)) n := cnt_congr (fun i hi => by rw [hA i hi])
  rw [ha]
  have key : ∀ p, p < n → (decide (lx (A' (g p)) x ≤ 0) = true ↔ p < cnt (fun i => decide (lx (A' i) x ≤ 0)) n) := fun p hp => hS.dc (P := fun i => decide (lx (A' i) x ≤ 0)) (fun a b _ _ q w => dc_le q w) hp
  have hle := cnt_le (fun i => decide (lx (A' i) x ≤ 0)) n
  have hnew : plc A' (n + 1) n = cnt (fun i => decide (lx (A' i) x ≤ 0)) n := by
    unfold plc
    rw [cnt, elt_irr, if_neg (by decide), Nat.add_zero]
    refine cnt_congr (fun i hi => ?_)
    unfold elt
    rw [hx]
    apply decide_eq_decide.mpr
    omega
  have hold : ∀ e, e < n → plc A' (n + 1) e = plc A' n e + (if decide (lx (A' e) x ≤ 0) = true then 0 else 1) := by
    intro e he
    unfold plc
    rw [cnt, elt_new hx he]
    cases decide (lx (A' e) x ≤ 0) <;> rfl
  generalize cnt (fun i => decide (lx (A' i) x ≤ 0)) n = a at *
  refine ⟨hnew, fun p hp => ?_⟩
  unfold gAdd
  by_cases q : p < a
  · rw [if_pos q]
    obtain ⟨h1, h2⟩ := hS p (by omega)
    refine ⟨by omega, ?_⟩
    rw [hold _ h1, h2, if_pos ((key p (by omega)).mpr q)]
    rfl
  · rw [if_neg q]
    by_cases w : p = a
    · rw [if_pos w]
      exact ⟨by omega, by rw [hnew, w]⟩
    · rw [if_neg w]
      obtain ⟨h1, h2⟩ := hS (p - 1) (by omega)
      refine ⟨by omega, ?_⟩
      rw [hold _ h1, h2, if_neg (fun z => absurd ((key (p - 1) (by omega)).mp z) (by omega))]
      omega
/-- the entries behind e, one place nearer -/
def rnm (e i : Nat) : Nat := if i < e then i else i - 1
theorem skp_rnm {e i : Nat} (h : i ≠ e) : skp e (rnm e i) = i := by
  unfold skp rnm
  by_cases q : i < e
  · rw [if_pos q, if_pos q]
  · rw [if_neg q, if_neg (by omega)]; omega
theorem elt_skp {A : Nat → List Nat} {e i j : Nat} : elt (fun k => A (skp e k)) i j = elt A (skp e i) (skp e j) := by
  unfold elt
  apply decide_eq_decide.mpr
  have : i < j ↔ skp e i < skp e j := by
    unfold skp
    by_cases q : i < e <;> by_cases w : j < e
    · rw [if_pos q, if_pos w]
    · rw [if_pos q, if_neg w]; omega
    · rw [if_neg q, if_pos w]; omega
    · rw [if_neg q, if_neg w]; omega
  rw [this]
theorem Sg.remove {A A' : Nat → List Nat} {n : Nat} {g : Nat → Nat} (h : Sg A (n + 1) g) {p0 : Nat} (hp0 : p0 < n + 1) (hA : ∀ i, i < n → A' i = A (skp (g p0) i)) : Sg A' n (fun p => rnm (g p0) (g (skp p0 p))) := by
  obtain ⟨he, hpe⟩ := h p0 hp0
  have hplc : ∀ j, j < n → plc A' n j + (if elt A (g p0) (skp (g p0) j) then 1 else 0) = plc A (n + 1) (skp (g p0) j) := by
    intro j hj
    unfold plc
    rw [cnt_skp (P := fun i => elt A i (skp (g p0) j)) he]
    congr 1
    refine cnt_congr (fun i hi => ?_)
    rw [← elt_skp]
    unfold elt
    rw [hA i hi, hA j hj]
  intro p hp
  have hs : skp p0 p < n + 1 := by unfold skp; split <;> omega
  have hne : skp p0 p ≠ p0 := by unfold skp; split <;> omega
  obtain ⟨h1, h2⟩ := h _ hs
  have hge : g (skp p0 p) ≠ g p0 := fun q => hne (by rw [← h2, q, hpe])
  have hr : rnm (g p0) (g (skp p0 p)) < n := by
    unfold rnm
    split
    · omega
    · omega
  refine ⟨hr, ?_⟩
  have h3 := hplc _ hr
  rw [skp_rnm hge, h2] at h3
  have h4 := plc_elt (A := A) he h1
  rw [hpe, h2] at h4
  show plc A' n (rnm (g p0) (g (skp p0 p))) = p
  by_cases q : p < p0
  · have hk : skp p0 p = p := by unfold skp; rw [if_pos q]
    rw [if_neg (fun w => absurd (h4.mp w) (by omega)), hk] at h3
    rw [hk]
    exact h3
  · have hk : skp p0 p = p + 1 := by unfold skp; rw [if_neg q]
    rw [if_pos (h4.mpr (by omega)), hk] at h3
    rw [hk]
    omega
end
section
/-! what cells hold: a field's value, a row of bytes -/
def bias (v : Int32) : Nat := (v ^^^ (-2147483648)).toBitVec.toNat
def fRep (t : Bool) (x : FV) (nul it ln : Int32) (ch : Nat → Int32) : Prop :=
  match x with
  | none => nul = nI 1
  | some w => nul = nI 0 ∧ fOk t (some w) ∧ (if t then ln = nI w.length ∧ ∀ j, j < w.length → ch j = nI (w.getD j 0) else w = [bias it])
theorem fRep_n {t : Bool} {nul it ln : Int32} {ch : Nat → Int32} : fRep t none nul it ln ch ↔ nul = nI 1 := Iff.rfl
theorem fRep_t {w : List Nat} {nul it ln : Int32} {ch : Nat → Int32} : fRep true (some w) nul it ln ch ↔ nul = nI 0 ∧ (w.length ≤ 6 ∧ ∀ c ∈ w, c < 256) ∧ ln = nI w.length ∧ ∀ j, j < w.length → ch j = nI (w.getD j 0) := by simp [fRep, fOk_t]
theorem fRep_f {w : List Nat} {nul it ln : Int32} {ch : Nat → Int32} : fRep false (some w) nul it ln ch ↔ nul = nI 0 ∧ (∃ b, b < 4294967296 ∧ w = [b]) ∧ w = [bias it] := by simp [fRep, fOk_f]
theorem fRep.ok {t : Bool} {x : FV} {nul it ln : Int32} {ch : Nat → Int32} (h : fRep t x nul it ln ch) : fOk t x := by
  cases x with
  | none => trivial
  | some w => exact h.2.1
theorem fRep.nul {t : Bool} {x : FV} {nul it ln : Int32} {ch : Nat → Int32} (h : fRep t x nul it ln ch) : nul = bI x.isNone := by
  cases x with
  | none => exact h
  | some w => exact h.1
theorem bias_lt (v : Int32) : bias v < 4294967296 := (v ^^^ (-2147483648)).toBitVec.isLt
theorem nI_un (v : Int32) : nI v.toBitVec.toNat = v := by
  apply Int32.toBitVec_inj.mp
  show BitVec.ofNat 32 v.toBitVec.toNat = v.toBitVec
  simp
theorem nI_bias (v : Int32) : nI (bias v) = v ^^^ (-2147483648) := nI_un _
theorem bias_inv (v : Int32) : nI (bias v) ^^^ (-2147483648) = v := by
  rw [nI_bias]
  apply Int32.toBitVec_inj.mp
  simp [Int32.toBitVec_xor, BitVec.xor_assoc]
theorem gD_l {A B : List Nat} {j : Nat} (h : j < A.length) : (A ++ B).getD j 0 = A.getD j 0 := by
  rw [List.getD_eq_getElem?_getD, List.getD_eq_getElem?_getD, List.getElem?_append_left h]
theorem gD_r (A B : List Nat) (j : Nat) : (A ++ B).getD (A.length + j) 0 = B.getD j 0 := by
  rw [List.getD_eq_getElem?_getD, List.getD_eq_getElem?_getD, List.getElem?_append_right (by omega), Nat.add_sub_cancel_left]
/-- a row of shorts holds the bytes A -/
def pAt (pb : Nat → Int32) (A : List Nat) : Prop := ∀ j, j < A.length → pb j = nI (A.getD j 0)
theorem pAt_0 (pb : Nat → Int32) : pAt pb [] := fun j h => absurd h (by simp)
theorem pAt_snoc {pb : Nat → Int32} {A : List Nat} {k : Nat} (x : Nat) (hk : A.length = k) (h : pAt pb A) : pAt (upd pb k (nI x)) (A ++ [x]) := by
  subst hk
  intro j hj
  rw [List.length_append] at hj
  simp only [List.length_cons, List.length_nil] at hj
  unfold upd
  by_cases q : j = A.length
  · rw [if_pos q, q]
    have := gD_r A [x] 0
    rw [Nat.add_zero] at this
    rw [this]
    rfl
  · rw [if_neg q, gD_l (by omega)]
    exact h j (by omega)
theorem drop_cons {w r : List Nat} {i c : Nat} (h : w.drop i = c :: r) : i < w.length ∧ w.getD i 0 = c ∧ w.drop (i + 1) = r ∧ c ∈ w := by
  have hi : i < w.length := by
    rcases Nat.lt_or_ge i w.length with q | q
    · exact q
    · rw [List.drop_eq_nil_of_le q] at h; cases h
  rw [List.drop_eq_getElem_cons hi] at h
  simp only [List.cons.injEq] at h
  refine ⟨hi, ?_, h.2, ?_⟩
  · rw [List.getD_eq_getElem?_getD, List.getElem?_eq_getElem hi]
    exact h.1
  · rw [← h.1]; exact List.getElem_mem hi
theorem drop_nil {w : List Nat} {i : Nat} (h : w.drop i = []) : w.length ≤ i := List.drop_eq_nil_iff.mp h
/-- the bytes of a number, as the program takes them -/
theorem byte_at (b : Nat) (hb : b < 4294967296) (s : Nat) (hs : s = 24 ∨ s = 16 ∨ s = 8 ∨ s = 0) : (((nI b).toUInt32 >>> ((nI s).toUInt32 &&& Int32.toUInt32 31)).toInt32) &&& nI 255 = nI (b / 2 ^ s % 256) := by
  have h1 : ((nI b).toUInt32 >>> ((nI s).toUInt32 &&& Int32.toUInt32 31)).toInt32 = nI (b / 2 ^ s) := by
    refine pk_ushrN (by omega) (nI s) s ?_
    rcases hs with rfl | rfl | rfl | rfl <;> rfl
  rw [h1]
  refine pk_andN ?_ 8 rfl
  exact Nat.lt_of_le_of_lt (Nat.div_le_self _ _) (by omega)
section VNat2
variable {l : Launch} {D : va_G} {X : vX} {nL : Nat} {tys : List (ClassId × FieldType)} {n1 n2 : Nat} {ws : va_W} {L L' : List Value} {pc : Nat} {st : List Value} {cc : ByteArray} {own : String} {R : Room} {a b : Nat} {off : Int} {tgt : Nat}
theorem v_ifN_lt (hC : vC l D X nL cc own R) (hd : decode cc pc = .ok (.ifCond .lt off, 3)) (ht : (pc : Int) + off = (tgt : Int)) (ha : a < 2 ^ 31) (kf : vV l D X nL tys n1 n2 ws L (pc + 3) st) : vV l D X nL tys n1 n2 ws L pc (.int (nI a) :: st) := v_if_lt hC hd ht (fun q => absurd q (nI_pos ha)) (fun _ => kf)
theorem v_ifN_ge (hC : vC l D X nL cc own R) (hd : decode cc pc = .ok (.ifCond .ge off, 3)) (ht : (pc : Int) + off = (tgt : Int)) (ha : a < 2 ^ 31) (kt : vV l D X nL tys n1 n2 ws L tgt st) : vV l D X nL tys n1 n2 ws L pc (.int (nI a) :: st) := v_if_ge hC hd ht (fun _ => kt) (fun q => absurd (nI_pos' ha) q)
end VNat2
end
section
/-! OrderedKeys: encoding -/
section K14
variable {l : Launch} {D : va_G} {h : Nat → Nat} {d : Nat → ClassId} {nf sch en pl ra : Int32} {sn si sl tx od us tg kl ky pb : Nat → Int32}
set_option maxHeartbeats 4000000 in
theorem kM_emitText {f : Nat} (hf : f < 4) {A w : List Nat} (hA : pAt pb A) (hw6 : w.length ≤ 6) (hwc : ∀ c ∈ w, c < 256) (hsl : sl f = nI w.length) (htx : ∀ j, j < w.length → tx (f * 6 + j) = nI (w.getD j 0)) (hl : A.length + 14 ≤ 64) : vMv l D yX1_emitText cX1_emitText 4 2 64 (kT d) (kw h d nf sch sn si sl tx en od us tg kl ky (nI A.length) pb ra) [.ref (h 0), .int (nI f)] (fun u => ∃ pb' : Nat → Int32, u = (kw h d nf sch sn si sl tx en od us tg kl ky (nI (A ++ (eB true w).map (kTn sch f)).length) (pb') ra) ∧ pAt pb' (A ++ (eB true w).map (kTn sch f))) := by
  refine vMv_of RX1 (by decide) rfl (Nat.le_of_ble_eq_true rfl) rfl (fun X hC hret => ?_)
  generalize hZ : A ++ (eB true w).map (kTn sch f) = Z at hret
  have loop : ∀ (r B : List Nat) (pb : Nat → Int32) (i k : Nat), w.drop i = r → pAt pb B → B.length = k → k + 2 * r.length + 2 ≤ 64 → B ++ (r.flatMap eC ++ [0, 1]).map (kTn sch f) = Z → i ≤ w.length → vV l D X 4 (kT d) 0 0 (kw h d nf sch sn si sl tx en od us tg kl ky (nI k) (pb) ra) [.ref (h 0), .int (nI f), .int (nI i)] 2 [] := by
    intro r
    induction r with
    | nil =>
      intro B pb i k hr hB hk hl hZ hi
      have hi2 := drop_nil hr
      refine v_iload_n (pc := 2) hC dX1_emitText_2 rfl ?_
      refine v_aload_n (pc := 3) hC dX1_emitText_3 rfl ?_
      refine kg_sl (pc := 4) hC dX1_emitText_4 ?_
      refine v_iload_n (pc := 7) hC dX1_emitText_7 rfl ?_
      refine kl_sl (pc := 8) hC (by omega) dX1_emitText_8 ?_
      refine v_top hsl ?_
      refine v_icmpN_ge (pc := 9) (tgt := 48) hC dX1_emitText_9 (by decide) (by omega) (by omega) (fun c1 => ?_) (fun c1 => ?_)
      · skip
        refine v_aload_n (pc := 48) hC dX1_emitText_48 rfl ?_
        refine v_iconst (pc := 49) (v := nI 0) hC dX1_emitText_49 rfl ?_
        refine v_iload_n (pc := 50) hC dX1_emitText_50 rfl ?_
        refine k_callv2 (pc := 51) hC (kM_emitTurned (x := 0) (by omega) (by omega)) kc_emitTurned ⟨by decide, by decide⟩ (Nat.le_of_ble_eq_true rfl) dX1_emitText_51 (fun u hp => ?_) ⟨rfl, rfl⟩
        subst hp
        refine v_aload_n (pc := 54) hC dX1_emitText_54 rfl ?_
        refine v_iconst (pc := 55) (v := nI 1) hC dX1_emitText_55 rfl ?_
        refine v_iload_n (pc := 56) hC dX1_emitText_56 rfl ?_
        refine k_callv2 (pc := 57) hC (kM_emitTurned (k := k + 1) (x := 1) (by omega) (by omega)) kc_emitTurned ⟨by decide, by decide⟩ (Nat.le_of_ble_eq_true rfl) dX1_emitText_57 (fun u hp => ?_) ⟨rfl, rfl⟩
        subst hp
        have h2 := pAt_snoc (kTn sch f 1) (k := k + 1) (by simp [hk]) (pAt_snoc (kTn sch f 0) hk hB)
        have h3 : B ++ [kTn sch f 0] ++ [kTn sch f 1] = Z := by rw [← hZ]; simp
        rw [h3] at h2
        have h4 : Z.length = k + 1 + 1 := by rw [← h3]; simp [hk]
        exact hret _ _ _ dX1_emitText_60 ⟨_, by rw [h4], h2⟩
      · exact absurd c1 (by omega)
    | cons c r ih =>
      intro B pb i k hr hB hk hl hZ hi
      obtain ⟨hi2, hc, hr2, hcw⟩ := drop_cons hr
      have hc256 := hwc c hcw
      rw [List.length_cons] at hl
      refine v_iload_n (pc := 2) hC dX1_emitText_2 rfl ?_
      refine v_aload_n (pc := 3) hC dX1_emitText_3 rfl ?_
      refine kg_sl (pc := 4) hC dX1_emitText_4 ?_
      refine v_iload_n (pc := 7) hC dX1_emitText_7 rfl ?_
      refine kl_sl (pc := 8) hC (by omega) dX1_emitText_8 ?_
      refine v_top hsl ?_
      refine v_icmpN_ge (pc := 9) (tgt := 48) hC dX1_emitText_9 (by decide) (by omega) (by omega) (fun c1 => ?_) (fun c1 => ?_)
      · exact absurd c1 (by omega)
      · skip
        refine v_aload_n (pc := 12) hC dX1_emitText_12 rfl ?_
        refine kg_tx (pc := 13) hC dX1_emitText_13 ?_
        refine v_iload_n (pc := 16) hC dX1_emitText_16 rfl ?_
        refine v_bipush (pc := 17) (v := nI 6) hC dX1_emitText_17 rfl ?_
        first | refine v_imulN (pc := 19) hC dX1_emitText_19 ?_ | refine v_imul (pc := 19) hC dX1_emitText_19 ?_
        refine v_iload_n (pc := 20) hC dX1_emitText_20 rfl ?_
        first | refine v_iaddN (pc := 21) hC dX1_emitText_21 ?_ | refine v_iadd (pc := 21) hC dX1_emitText_21 ?_
        refine kl_tx (pc := 22) hC (by omega) dX1_emitText_22 ?_
        refine v_top ((htx i hi2).trans (by rw [hc])) ?_
        refine v_istore_n (pc := 23) (L' := [_, _, _, _]) hC dX1_emitText_23 (Nat.le_of_ble_eq_true rfl) (by decide) rfl ?_
        refine v_aload_n (pc := 24) hC dX1_emitText_24 rfl ?_
        refine v_iload_n (pc := 25) hC dX1_emitText_25 rfl ?_
        refine v_iload_n (pc := 26) hC dX1_emitText_26 rfl ?_
        refine k_callv2 (pc := 27) hC (kM_emitTurned (by omega) hc256) kc_emitTurned ⟨by decide, by decide⟩ (Nat.le_of_ble_eq_true rfl) dX1_emitText_27 (fun u hp => ?_) ⟨rfl, rfl⟩
        subst hp
        refine v_iload_n (pc := 30) hC dX1_emitText_30 rfl ?_
        refine v_ifN_ne (pc := 31) (tgt := 42) hC dX1_emitText_31 (by decide) (by omega) (fun c2 => ?_) (fun c2 => ?_)
        · skip
          refine v_incN (pc := 42) (L' := [_, _, _, _]) hC dX1_emitText_42 rfl (by decide) rfl ?_
          refine v_goto (pc := 45) (tgt := 2) hC dX1_emitText_45 (by decide) ?_
          refine v_take 3 (L' := [_, _, _]) rfl ?_
          refine ih (B ++ [kTn sch f c]) _ (i + 1) (k + 1) hr2 (pAt_snoc _ hk hB) (by simp [hk]) (by omega) ?_ (by omega)
          rw [← hZ, List.flatMap_cons, eC, if_neg c2]
          simp
        · subst c2
          refine v_aload_n (pc := 34) hC dX1_emitText_34 rfl ?_
          refine v_sipush (pc := 35) (v := nI 255) hC dX1_emitText_35 rfl ?_
          refine v_iload_n (pc := 38) hC dX1_emitText_38 rfl ?_
          refine k_callv2 (pc := 39) hC (kM_emitTurned (k := k + 1) (x := 255) (by omega) (by omega)) kc_emitTurned ⟨by decide, by decide⟩ (Nat.le_of_ble_eq_true rfl) dX1_emitText_39 (fun u hp => ?_) ⟨rfl, rfl⟩
          subst hp
          refine v_incN (pc := 42) (L' := [_, _, _, _]) hC dX1_emitText_42 rfl (by decide) rfl ?_
          refine v_goto (pc := 45) (tgt := 2) hC dX1_emitText_45 (by decide) ?_
          refine v_take 3 (L' := [_, _, _]) rfl ?_
          refine ih (B ++ [kTn sch f 0] ++ [kTn sch f 255]) _ (i + 1) (k + 1 + 1) hr2 (pAt_snoc _ (by simp [hk]) (pAt_snoc _ hk hB)) (by simp [hk]) (by omega) ?_ (by omega)
          rw [← hZ, List.flatMap_cons, eC, if_pos rfl]
          simp
  refine v_iconst (pc := 0) (v := nI 0) hC dX1_emitText_0 rfl ?_
  refine v_istore_n (pc := 1) (L' := [_, _, _]) hC dX1_emitText_1 (Nat.le_of_ble_eq_true rfl) (by decide) rfl ?_
  exact loop w A pb 0 A.length rfl hA rfl (by omega) (by rw [← hZ]; rfl) (by omega)
set_option maxHeartbeats 4000000 in
theorem kM_emitInt {f : Nat} (hf : f < 4) {A : List Nat} (hA : pAt pb A) (hl : A.length + 4 ≤ 64) : vMv l D yX1_emitInt cX1_emitInt 4 2 64 (kT d) (kw h d nf sch sn si sl tx en od us tg kl ky (nI A.length) pb ra) [.ref (h 0), .int (nI f)] (fun u => ∃ pb' : Nat → Int32, u = (kw h d nf sch sn si sl tx en od us tg kl ky (nI (A ++ (b4 (bias (si f))).map (kTn sch f)).length) (pb') ra) ∧ pAt pb' (A ++ (b4 (bias (si f))).map (kTn sch f))) := by
  refine vMv_of RX1 (by decide) rfl (Nat.le_of_ble_eq_true rfl) rfl (fun X hC hret => ?_)
  have hbl := bias_lt (si f)
  refine v_aload_n (pc := 0) hC dX1_emitInt_0 rfl ?_
  refine kg_si (pc := 1) hC dX1_emitInt_1 ?_
  refine v_iload_n (pc := 4) hC dX1_emitInt_4 rfl ?_
  refine kl_si (pc := 5) hC (by omega) dX1_emitInt_5 ?_
  refine v_ldc (pc := 6) hC q143 dX1_emitInt_6 ?_
  refine v_ixor (pc := 8) hC dX1_emitInt_8 ?_
  refine v_top (nI_bias (si f)).symm ?_
  generalize hbe : bias (si f) = b at *
  generalize hk : A.length = k at *
  refine v_istore_n (pc := 9) (L' := [_, _, _]) hC dX1_emitInt_9 (Nat.le_of_ble_eq_true rfl) (by decide) rfl ?_
  refine v_bipush (pc := 10) (v := nI 24) hC dX1_emitInt_10 rfl ?_
  refine v_istore_n (pc := 12) (L' := [_, _, _, _]) hC dX1_emitInt_12 (Nat.le_of_ble_eq_true rfl) (by decide) rfl ?_
  refine v_iload_n (pc := 13) hC dX1_emitInt_13 rfl ?_
  refine v_ifN_lt (pc := 14) (tgt := 35) hC dX1_emitInt_14 (by decide) (by decide) ?_
  refine v_aload_n (pc := 17) hC dX1_emitInt_17 rfl ?_
  refine v_iload_n (pc := 18) hC dX1_emitInt_18 rfl ?_
  refine v_iload_n (pc := 19) hC dX1_emitInt_19 rfl ?_
  refine v_iushr (pc := 20) hC dX1_emitInt_20 rfl ?_
  refine v_sipush (pc := 21) (v := nI 255) hC dX1_emitInt_21 rfl ?_
  refine v_iand (pc := 24) hC dX1_emitInt_24 ?_
  refine v_top (byte_at b hbl 24 (by decide)) ?_
  refine v_iload_n (pc := 25) hC dX1_emitInt_25 rfl ?_
  refine k_callv2 (pc := 26) hC (kM_emitTurned (k := k) (by omega) (Nat.mod_lt _ (by decide))) kc_emitTurned ⟨by decide, by decide⟩ (Nat.le_of_ble_eq_true rfl) dX1_emitInt_26 (fun u hp => ?_) ⟨rfl, rfl⟩
  subst hp
  refine v_iinc (pc := 29) (L' := [_, _, _, _]) (v := nI 16) hC dX1_emitInt_29 rfl (by decide) (by decide) rfl ?_
  refine v_goto (pc := 32) (tgt := 13) hC dX1_emitInt_32 (by decide) ?_
  refine v_iload_n (pc := 13) hC dX1_emitInt_13 rfl ?_
  refine v_ifN_lt (pc := 14) (tgt := 35) hC dX1_emitInt_14 (by decide) (by decide) ?_
  refine v_aload_n (pc := 17) hC dX1_emitInt_17 rfl ?_
  refine v_iload_n (pc := 18) hC dX1_emitInt_18 rfl ?_
  refine v_iload_n (pc := 19) hC dX1_emitInt_19 rfl ?_
  refine v_iushr (pc := 20) hC dX1_emitInt_20 rfl ?_
  refine v_sipush (pc := 21) (v := nI 255) hC dX1_emitInt_21 rfl ?_
  refine v_iand (pc := 24) hC dX1_emitInt_24 ?_
  refine v_top (byte_at b hbl 16 (by decide)) ?_
  refine v_iload_n (pc := 25) hC dX1_emitInt_25 rfl ?_
  refine k_callv2 (pc := 26) hC (kM_emitTurned (k := k + 1) (by omega) (Nat.mod_lt _ (by decide))) kc_emitTurned ⟨by decide, by decide⟩ (Nat.le_of_ble_eq_true rfl) dX1_emitInt_26 (fun u hp => ?_) ⟨rfl, rfl⟩
  subst hp
  refine v_iinc (pc := 29) (L' := [_, _, _, _]) (v := nI 8) hC dX1_emitInt_29 rfl (by decide) (by decide) rfl ?_
  refine v_goto (pc := 32) (tgt := 13) hC dX1_emitInt_32 (by decide) ?_
  refine v_iload_n (pc := 13) hC dX1_emitInt_13 rfl ?_
  refine v_ifN_lt (pc := 14) (tgt := 35) hC dX1_emitInt_14 (by decide) (by decide) ?_
  refine v_aload_n (pc := 17) hC dX1_emitInt_17 rfl ?_
  refine v_iload_n (pc := 18) hC dX1_emitInt_18 rfl ?_
  refine v_iload_n (pc := 19) hC dX1_emitInt_19 rfl ?_
  refine v_iushr (pc := 20) hC dX1_emitInt_20 rfl ?_
  refine v_sipush (pc := 21) (v := nI 255) hC dX1_emitInt_21 rfl ?_
  refine v_iand (pc := 24) hC dX1_emitInt_24 ?_
  refine v_top (byte_at b hbl 8 (by decide)) ?_
  refine v_iload_n (pc := 25) hC dX1_emitInt_25 rfl ?_
  refine k_callv2 (pc := 26) hC (kM_emitTurned (k := k + 1 + 1) (by omega) (Nat.mod_lt _ (by decide))) kc_emitTurned ⟨by decide, by decide⟩ (Nat.le_of_ble_eq_true rfl) dX1_emitInt_26 (fun u hp => ?_) ⟨rfl, rfl⟩
  subst hp
  refine v_iinc (pc := 29) (L' := [_, _, _, _]) (v := nI 0) hC dX1_emitInt_29 rfl (by decide) (by decide) rfl ?_
  refine v_goto (pc := 32) (tgt := 13) hC dX1_emitInt_32 (by decide) ?_
  refine v_iload_n (pc := 13) hC dX1_emitInt_13 rfl ?_
  refine v_ifN_lt (pc := 14) (tgt := 35) hC dX1_emitInt_14 (by decide) (by decide) ?_
  refine v_aload_n (pc := 17) hC dX1_emitInt_17 rfl ?_
  refine v_iload_n (pc := 18) hC dX1_emitInt_18 rfl ?_
  refine v_iload_n (pc := 19) hC dX1_emitInt_19 rfl ?_
  refine v_iushr (pc := 20) hC dX1_emitInt_20 rfl ?_
  refine v_sipush (pc := 21) (v := nI 255) hC dX1_emitInt_21 rfl ?_
  refine v_iand (pc := 24) hC dX1_emitInt_24 ?_
  refine v_top (byte_at b hbl 0 (by decide)) ?_
  refine v_iload_n (pc := 25) hC dX1_emitInt_25 rfl ?_
  refine k_callv2 (pc := 26) hC (kM_emitTurned (k := k + 1 + 1 + 1) (by omega) (Nat.mod_lt _ (by decide))) kc_emitTurned ⟨by decide, by decide⟩ (Nat.le_of_ble_eq_true rfl) dX1_emitInt_26 (fun u hp => ?_) ⟨rfl, rfl⟩
  subst hp
  refine v_iinc (pc := 29) (L' := [_, _, _, _]) (v := (-8)) hC dX1_emitInt_29 rfl (by decide) (by decide) rfl ?_
  refine v_goto (pc := 32) (tgt := 13) hC dX1_emitInt_32 (by decide) ?_
  refine v_iload_n (pc := 13) hC dX1_emitInt_13 rfl ?_
  refine v_if_lt (pc := 14) (tgt := 35) hC dX1_emitInt_14 (by decide) (fun _ => ?_) (fun q => absurd (by decide) q)
  have h1 := pAt_snoc (kTn sch f (b / 2 ^ 24 % 256)) hk hA
  have h2 := pAt_snoc (kTn sch f (b / 2 ^ 16 % 256)) (k := k + 1) (by simp [hk]) h1
  have h3 := pAt_snoc (kTn sch f (b / 2 ^ 8 % 256)) (k := k + 1 + 1) (by simp [hk]) h2
  have h4 := pAt_snoc (kTn sch f (b / 2 ^ 0 % 256)) (k := k + 1 + 1 + 1) (by simp [hk]) h3
  have e : A ++ [kTn sch f (b / 2 ^ 24 % 256)] ++ [kTn sch f (b / 2 ^ 16 % 256)] ++ [kTn sch f (b / 2 ^ 8 % 256)] ++ [kTn sch f (b / 2 ^ 0 % 256)] = A ++ (b4 b).map (kTn sch f) := by simp [b4]
  rw [e] at h4
  have e2 : (A ++ (b4 b).map (kTn sch f)).length = k + 1 + 1 + 1 + 1 := by rw [← e]; simp [hk]
  exact hret _ _ _ dX1_emitInt_35 ⟨_, by rw [e2], h4⟩
/-- the stage's first F fields hold T -/
def kSt (sch : Int32) (F : Nat) (T : Nat → FV) (sn si sl tx : Nat → Int32) : Prop := ∀ f, f < F → fRep (kTx sch f) (T f) (sn f) (si f) (sl f) (fun j => tx (f * 6 + j))
set_option maxHeartbeats 4000000 in
theorem kM_encode {m : Nat} (hm : m ≤ 4) {T : Nat → FV} (hT : kSt sch m T sn si sl tx) : vMv l D yX1_encode cX1_encode 5 3 96 (kT d) (kw h d nf sch sn si sl tx en od us tg kl ky pl pb ra) [.ref (h 0), .int (nI m)] (fun u => ∃ pb' : Nat → Int32, u = (kw h d nf sch sn si sl tx en od us tg kl ky (nI (eR sch T 0 m).length) (pb') ra) ∧ pAt pb' (eR sch T 0 m)) := by
  refine vMv_of RX1 (by decide) rfl (Nat.le_of_ble_eq_true rfl) rfl (fun X hC hret => ?_)
  have hlen : ∀ i, i ≤ m → (eR sch T 0 i).length ≤ 15 * i := fun i hi => eR_len i 0 (fun j _ q => (hT j (by omega)).ok)
  have loop : ∀ (n i : Nat) (pb : Nat → Int32), i + n = m → pAt pb (eR sch T 0 i) → vV l D X 5 (kT d) 0 0 (kw h d nf sch sn si sl tx en od us tg kl ky (nI (eR sch T 0 i).length) (pb) ra) [.ref (h 0), .int (nI m), .int (nI i)] 7 [] := by
    intro n
    induction n with
    | zero =>
      intro i pb hi hB
      have : i = m := by omega
      subst this
      refine v_iload_n (pc := 7) hC dX1_encode_7 rfl ?_
      refine v_iload_n (pc := 8) hC dX1_encode_8 rfl ?_
      refine v_icmpN_ge (pc := 9) (tgt := 79) hC dX1_encode_9 (by decide) (by omega) (by omega) (fun c1 => ?_) (fun c1 => ?_)
      · skip
        exact hret _ _ _ dX1_encode_79 ⟨_, rfl, hB⟩
      · exact absurd c1 (by omega)
    | succ n ih =>
      intro i pb hi hB
      have hli := hlen i (by omega)
      have hTi := hT i (by omega)
      refine v_iload_n (pc := 7) hC dX1_encode_7 rfl ?_
      refine v_iload_n (pc := 8) hC dX1_encode_8 rfl ?_
      refine v_icmpN_ge (pc := 9) (tgt := 79) hC dX1_encode_9 (by decide) (by omega) (by omega) (fun c1 => ?_) (fun c1 => ?_)
      · exact absurd c1 (by omega)
      · skip
        refine v_aload_n (pc := 12) hC dX1_encode_12 rfl ?_
        refine v_iload_n (pc := 13) hC dX1_encode_13 rfl ?_
        refine k_calli1 (pc := 14) hC (kM_nullsFirst) kc_nullsFirst ⟨by decide, by decide⟩ (Nat.le_of_ble_eq_true rfl) dX1_encode_14 (fun r u hp => ?_) ⟨rfl, rfl⟩
        obtain ⟨rfl, rfl⟩ := hp
        refine v_istore_n (pc := 17) (L' := [_, _, _, _]) hC dX1_encode_17 (Nat.le_of_ble_eq_true rfl) (by decide) rfl ?_
        refine v_aload_n (pc := 18) hC dX1_encode_18 rfl ?_
        refine v_iload_n (pc := 19) hC dX1_encode_19 rfl ?_
        refine k_calli1 (pc := 20) hC (kM_isText) kc_isText ⟨by decide, by decide⟩ (Nat.le_of_ble_eq_true rfl) dX1_encode_20 (fun r u hp => ?_) ⟨rfl, rfl⟩
        obtain ⟨rfl, rfl⟩ := hp
        refine v_istore (pc := 23) (L' := [_, _, _, _, _]) hC dX1_encode_23 (Nat.le_of_ble_eq_true rfl) (by decide) rfl ?_
        refine v_aload_n (pc := 25) hC dX1_encode_25 rfl ?_
        refine kg_sn (pc := 26) hC dX1_encode_26 ?_
        refine v_iload_n (pc := 29) hC dX1_encode_29 rfl ?_
        refine kl_sn (pc := 30) hC (by omega) dX1_encode_30 ?_
        refine v_top hTi.nul ?_
        have fin : ∀ (pb : Nat → Int32), pAt pb (eR sch T 0 i ++ eF sch i (T i)) → vV l D X 5 (kT d) 0 0 (kw h d nf sch sn si sl tx en od us tg kl ky (nI (eR sch T 0 i ++ eF sch i (T i)).length) (pb) ra) [.ref (h 0), .int (nI m), .int (nI i), .int (bI (kNf sch i)), .int (bI (kTx sch i))] 73 [] := by
          intro pb hB2
          refine v_incN (pc := 73) (L' := [_, _, _, _, _]) hC dX1_encode_73 rfl (by decide) rfl ?_
          refine v_goto (pc := 76) (tgt := 7) hC dX1_encode_76 (by decide) ?_
          refine v_take 3 (L' := [_, _, _]) rfl ?_
          rw [← eR_snoc] at hB2 ⊢
          exact ih (i + 1) pb (by omega) hB2
        cases hx : T i with
        | none =>
          rw [hx] at fin
          refine v_ifB_eq (pc := 31) (tgt := 50) hC dX1_encode_31 (by decide) (fun q => absurd q (by decide)) (fun _ => ?_)
          refine v_aload_n (pc := 34) hC dX1_encode_34 rfl ?_
          refine v_iload_n (pc := 35) hC dX1_encode_35 rfl ?_
          refine v_ifB_eq (pc := 36) (tgt := 43) hC dX1_encode_36 (by decide) (fun c2 => ?_) (fun c2 => ?_)
          · skip
            refine v_iconst (pc := 43) (v := nI 2) hC dX1_encode_43 rfl ?_
            refine k_callv1 (pc := 44) hC (kM_emit (x := 2) (by omega) (by omega)) kc_emit ⟨by decide, by decide⟩ (Nat.le_of_ble_eq_true rfl) dX1_encode_44 (fun u hp => ?_) ⟨rfl, rfl⟩
            subst hp
            refine v_goto (pc := 47) (tgt := 73) hC dX1_encode_47 (by decide) ?_
            have h1 := pAt_snoc 2 rfl hB
            have e : eF sch i none = [2] := by rw [eF_none, c2]; rfl
            rw [e] at fin
            have h2 := fin _ h1
            rw [List.length_append] at h2
            exact h2
          · skip
            refine v_iconst (pc := 39) (v := nI 0) hC dX1_encode_39 rfl ?_
            refine v_goto (pc := 40) (tgt := 44) hC dX1_encode_40 (by decide) ?_
            refine k_callv1 (pc := 44) hC (kM_emit (x := 0) (by omega) (by omega)) kc_emit ⟨by decide, by decide⟩ (Nat.le_of_ble_eq_true rfl) dX1_encode_44 (fun u hp => ?_) ⟨rfl, rfl⟩
            subst hp
            refine v_goto (pc := 47) (tgt := 73) hC dX1_encode_47 (by decide) ?_
            have h1 := pAt_snoc 0 rfl hB
            have e : eF sch i none = [0] := by rw [eF_none, c2]; rfl
            rw [e] at fin
            have h2 := fin _ h1
            rw [List.length_append] at h2
            exact h2
        | some w =>
          rw [hx] at fin hTi
          refine v_ifB_eq (pc := 31) (tgt := 50) hC dX1_encode_31 (by decide) (fun _ => ?_) (fun q => absurd q Bool.false_ne_true)
          refine v_aload_n (pc := 50) hC dX1_encode_50 rfl ?_
          refine v_iconst (pc := 51) (v := nI 1) hC dX1_encode_51 rfl ?_
          refine k_callv1 (pc := 52) hC (kM_emit (x := 1) (by omega) (by omega)) kc_emit ⟨by decide, by decide⟩ (Nat.le_of_ble_eq_true rfl) dX1_encode_52 (fun u hp => ?_) ⟨rfl, rfl⟩
          subst hp
          have h1 := pAt_snoc 1 rfl hB
          have hl1 : (eR sch T 0 i ++ [1]).length = (eR sch T 0 i).length + 1 := by simp
          rw [eF_some] at fin
          refine v_iload (pc := 55) hC dX1_encode_55 rfl ?_
          refine v_ifB_eq (pc := 57) (tgt := 68) hC dX1_encode_57 (by decide) (fun c2 => ?_) (fun c2 => ?_)
          · rw [c2, fRep_f] at hTi
            rw [c2] at fin
            obtain ⟨-, -, hw⟩ := hTi
            refine v_aload_n (pc := 68) hC dX1_encode_68 rfl ?_
            refine v_iload_n (pc := 69) hC dX1_encode_69 rfl ?_
            have hc := kM_emitInt (l := l) (D := D) (h := h) (d := d) (nf := nf) (sch := sch) (en := en) (ra := ra) (sn := sn) (si := si) (sl := sl) (tx := tx) (od := od) (us := us) (tg := tg) (kl := kl) (ky := ky) (f := i) (by omega) h1 (by omega)
            rw [hl1] at hc
            refine k_callv1 (pc := 70) hC (hc) kc_emitInt ⟨by decide, by decide⟩ (Nat.le_of_ble_eq_true rfl) dX1_encode_70 (fun u hp => ?_) ⟨rfl, rfl⟩
            obtain ⟨pb2, rfl, h2⟩ := hp
            have e : eR sch T 0 i ++ [1] ++ (b4 (bias (si i))).map (kTn sch i) = eR sch T 0 i ++ 1 :: (eB false w).map (kTn sch i) := by rw [hw]; simp [eB]
            rw [e] at h2 ⊢
            rw [c2]
            exact fin _ h2
          · rw [c2, fRep_t] at hTi
            rw [c2] at fin
            obtain ⟨-, ⟨hw6, hwc⟩, hsl, htx⟩ := hTi
            refine v_aload_n (pc := 60) hC dX1_encode_60 rfl ?_
            refine v_iload_n (pc := 61) hC dX1_encode_61 rfl ?_
            have hc := kM_emitText (l := l) (D := D) (h := h) (d := d) (nf := nf) (sch := sch) (en := en) (ra := ra) (sn := sn) (si := si) (sl := sl) (tx := tx) (od := od) (us := us) (tg := tg) (kl := kl) (ky := ky) (f := i) (by omega) h1 hw6 hwc hsl htx (by omega)
            rw [hl1] at hc
            refine k_callv1 (pc := 62) hC (hc) kc_emitText ⟨by decide, by decide⟩ (Nat.le_of_ble_eq_true rfl) dX1_encode_62 (fun u hp => ?_) ⟨rfl, rfl⟩
            obtain ⟨pb2, rfl, h2⟩ := hp
            refine v_goto (pc := 65) (tgt := 73) hC dX1_encode_65 (by decide) ?_
            have e : eR sch T 0 i ++ [1] ++ (eB true w).map (kTn sch i) = eR sch T 0 i ++ 1 :: (eB true w).map (kTn sch i) := by simp
            rw [e] at h2 ⊢
            rw [c2]
            exact fin _ h2
  refine v_aload_n (pc := 0) hC dX1_encode_0 rfl ?_
  refine v_iconst (pc := 1) (v := nI 0) hC dX1_encode_1 rfl ?_
  refine kp_pl (pc := 2) hC dX1_encode_2 ?_
  refine v_iconst (pc := 5) (v := nI 0) hC dX1_encode_5 rfl ?_
  refine v_istore_n (pc := 6) (L' := [_, _, _]) hC dX1_encode_6 (Nat.le_of_ble_eq_true rfl) (by decide) rfl ?_
  exact loop m 0 pb (by omega) (pAt_0 pb)
end K14
end
section
/-! OrderedKeys: searching -/
/-- the key of place o is A -/
def kAt (kl ky : Nat → Int32) (o : Nat) (A : List Nat) : Prop := kl o = nI A.length ∧ A.length ≤ 64 ∧ (∀ b ∈ A, b < 256) ∧ ∀ j, j < A.length → ky (o * 64 + j) = nI (A.getD j 0)
theorem i32_lt0 {r : Int32} {z : Int} (h : r.toInt = z) : r < 0 ↔ z < 0 := by
  rw [Int32.lt_iff_toInt_lt, h]; exact Iff.rfl
theorem i32_gt0 {r : Int32} {z : Int} (h : r.toInt = z) : 0 < r ↔ 0 < z := by
  rw [Int32.lt_iff_toInt_lt, h]; exact Iff.rfl
theorem i32_ge0 {r : Int32} {z : Int} (h : r.toInt = z) : 0 ≤ r ↔ 0 ≤ z := by
  rw [Int32.le_iff_toInt_le, h]; exact Iff.rfl
theorem i32_eq0 {r : Int32} {z : Int} (h : r.toInt = z) : r = 0 ↔ z = 0 := by
  rw [← Int32.toInt_inj, h]; exact Iff.rfl
section K15
variable {l : Launch} {D : va_G} {h : Nat → Nat} {d : Nat → ClassId} {nf sch en pl ra : Int32} {sn si sl tx od us tg kl ky pb : Nat → Int32}
set_option maxHeartbeats 4000000 in
theorem kM_compare {o : Nat} (ho : o < 20) {A B : List Nat} (hA : kAt kl ky o A) (hB : pAt pb B) (hB4 : B.length ≤ 64) (hBb : ∀ b ∈ B, b < 256) {p : Bool} : vMi l D yX1_compare cX1_compare 6 .int 0 0 (kT d) (kw h d nf sch sn si sl tx en od us tg kl ky (nI B.length) pb ra) [.ref (h 0), .int (nI o), .int (bI p)] (fun r u => r.toInt = kc p A B ∧ u = (kw h d nf sch sn si sl tx en od us tg kl ky (nI B.length) pb ra)) := by
  refine vMi_of RX1 (by decide) rfl (Nat.le_of_ble_eq_true rfl) rfl (fun X hC hret => ?_)
  obtain ⟨hkl, hA4, hAb, hky⟩ := hA
  generalize hZ : kc p A B = Z at hret
  have loop : ∀ (b a : List Nat) (i : Nat), i ≤ B.length → A.drop i = a → B.drop i = b → kc p a b = Z → vV l D X 6 (kT d) 0 0 (kw h d nf sch sn si sl tx en od us tg kl ky (nI B.length) pb ra) [.ref (h 0), .int (nI o), .int (bI p), .int (nI A.length), .int (nI i)] 10 [] := by
    intro b
    induction b with
    | nil =>
      intro a i hi ha hb hz
      have hi2 := drop_nil hb
      refine v_iload (pc := 10) hC dX1_compare_10 rfl ?_
      refine v_aload_n (pc := 12) hC dX1_compare_12 rfl ?_
      refine kg_pl (pc := 13) hC dX1_compare_13 ?_
      refine v_icmpN_ge (pc := 16) (tgt := 63) hC dX1_compare_16 (by decide) (by omega) (by omega) (fun c1 => ?_) (fun c1 => ?_)
      · skip
        refine v_iload_n (pc := 63) hC dX1_compare_63 rfl ?_
        refine v_aload_n (pc := 64) hC dX1_compare_64 rfl ?_
        refine kg_pl (pc := 65) hC dX1_compare_65 ?_
        refine v_icmpN_le (pc := 68) (tgt := 79) hC dX1_compare_68 (by decide) (by omega) (by omega) (fun c2 => ?_) (fun c2 => ?_)
        · have ha2 : a = [] := by rw [← ha]; exact List.drop_eq_nil_of_le (by omega)
          subst ha2
          refine v_iconst (pc := 79) (v := nI 0) hC dX1_compare_79 rfl ?_
          exact hret _ _ _ _ dX1_compare_80 rfl ⟨by rw [← hz, kc]; simp; rfl, rfl⟩
        · have ha2 : a ≠ [] := by
            intro q
            rw [q] at ha
            have := drop_nil ha
            omega
          refine v_iload_n (pc := 71) hC dX1_compare_71 rfl ?_
          refine v_ifB_ne (pc := 72) (tgt := 79) hC dX1_compare_72 (by decide) (fun c3 => ?_) (fun c3 => ?_)
          · skip
            refine v_iconst (pc := 79) (v := nI 0) hC dX1_compare_79 rfl ?_
            exact hret _ _ _ _ dX1_compare_80 rfl ⟨by rw [← hz, kc, c3]; simp; rfl, rfl⟩
          · skip
            refine v_iconst (pc := 75) (v := nI 1) hC dX1_compare_75 rfl ?_
            refine v_goto (pc := 76) (tgt := 80) hC dX1_compare_76 (by decide) ?_
            exact hret _ _ _ _ dX1_compare_80 rfl ⟨by rw [← hz, kc, c3, if_pos ⟨ha2, rfl⟩]; rfl, rfl⟩
      · exact absurd c1 (by omega)
    | cons y b ih =>
      intro a i hi ha hb hz
      obtain ⟨hi2, hy, hb2, hyB⟩ := drop_cons hb
      have hy256 := hBb y hyB
      refine v_iload (pc := 10) hC dX1_compare_10 rfl ?_
      refine v_aload_n (pc := 12) hC dX1_compare_12 rfl ?_
      refine kg_pl (pc := 13) hC dX1_compare_13 ?_
      refine v_icmpN_ge (pc := 16) (tgt := 63) hC dX1_compare_16 (by decide) (by omega) (by omega) (fun c1 => ?_) (fun c1 => ?_)
      · exact absurd c1 (by omega)
      · skip
        refine v_iload (pc := 19) hC dX1_compare_19 rfl ?_
        refine v_iload_n (pc := 21) hC dX1_compare_21 rfl ?_
        refine v_icmpN_lt (pc := 22) (tgt := 27) hC dX1_compare_22 (by decide) (by omega) (by omega) (fun c2 => ?_) (fun c2 => ?_)
        · have ha2 : a ≠ [] := by
            intro q
            rw [q] at ha
            have := drop_nil ha
            omega
          obtain ⟨x, a2, rfl⟩ := List.exists_cons_of_ne_nil ha2
          obtain ⟨hj2, hx, ha3, hxA⟩ := drop_cons ha
          have hx256 := hAb x hxA
          refine v_aload_n (pc := 27) hC dX1_compare_27 rfl ?_
          refine kg_ky (pc := 28) hC dX1_compare_28 ?_
          refine v_iload_n (pc := 31) hC dX1_compare_31 rfl ?_
          refine v_bipush (pc := 32) (v := nI 64) hC dX1_compare_32 rfl ?_
          first | refine v_imulN (pc := 34) hC dX1_compare_34 ?_ | refine v_imul (pc := 34) hC dX1_compare_34 ?_
          refine v_iload (pc := 35) hC dX1_compare_35 rfl ?_
          first | refine v_iaddN (pc := 37) hC dX1_compare_37 ?_ | refine v_iadd (pc := 37) hC dX1_compare_37 ?_
          refine kl_ky (pc := 38) hC (by omega) dX1_compare_38 ?_
          refine v_top ((hky i hj2).trans (by rw [hx])) ?_
          refine v_aload_n (pc := 39) hC dX1_compare_39 rfl ?_
          refine kg_pb (pc := 40) hC dX1_compare_40 ?_
          refine v_iload (pc := 43) hC dX1_compare_43 rfl ?_
          refine kl_pb (pc := 45) hC (by omega) dX1_compare_45 ?_
          refine v_top ((hB i hi2).trans (by rw [hy])) ?_
          refine v_isub (pc := 46) hC dX1_compare_46 ?_
          refine v_istore (pc := 47) (L' := [_, _, _, _, _, _]) hC dX1_compare_47 (Nat.le_of_ble_eq_true rfl) (by decide) rfl ?_
          refine v_iload (pc := 49) hC dX1_compare_49 rfl ?_
          have hT := pk_sub_toInt (a := x) (b := y) (by omega) (by omega)
          refine v_if_eq (pc := 51) (tgt := 57) hC dX1_compare_51 (by decide) (fun c3 => ?_) (fun c3 => ?_)
          · have hxy : x = y := by
              have := (i32_eq0 hT).mp c3
              omega
            subst hxy
            rw [kc, if_pos rfl] at hz
            refine v_incN (pc := 57) (L' := [_, _, _, _, _, _]) hC dX1_compare_57 rfl (by decide) rfl ?_
            refine v_goto (pc := 60) (tgt := 10) hC dX1_compare_60 (by decide) ?_
            refine v_take 5 (L' := [_, _, _, _, _]) rfl ?_
            exact ih a2 (i + 1) (by omega) ha3 hb2 hz
          · have hxy : x ≠ y := by
              intro q
              exact c3 ((i32_eq0 hT).mpr (by omega))
            rw [kc, if_neg hxy] at hz
            refine v_iload (pc := 54) hC dX1_compare_54 rfl ?_
            exact hret _ _ _ _ dX1_compare_56 rfl ⟨by rw [hT, hz], rfl⟩
        · have ha2 : a = [] := by rw [← ha]; exact List.drop_eq_nil_of_le (by omega)
          subst ha2
          refine v_iconst (pc := 25) (v := (-1)) hC dX1_compare_25 (by decide) ?_
          exact hret _ _ _ _ dX1_compare_26 rfl ⟨by rw [← hz, kc]; rfl, rfl⟩
  refine v_aload_n (pc := 0) hC dX1_compare_0 rfl ?_
  refine kg_kl (pc := 1) hC dX1_compare_1 ?_
  refine v_iload_n (pc := 4) hC dX1_compare_4 rfl ?_
  refine kl_kl (pc := 5) hC (by omega) dX1_compare_5 ?_
  refine v_top hkl ?_
  refine v_istore_n (pc := 6) (L' := [_, _, _, _]) hC dX1_compare_6 (Nat.le_of_ble_eq_true rfl) (by decide) rfl ?_
  refine v_iconst (pc := 7) (v := nI 0) hC dX1_compare_7 rfl ?_
  refine v_istore (pc := 8) (L' := [_, _, _, _, _]) hC dX1_compare_8 (Nat.le_of_ble_eq_true rfl) (by decide) rfl ?_
  exact loop B A 0 (by omega) rfl rfl hZ
/-- which way a search goes at a comparison's answer -/
def rgt (beh : Bool) (z : Int) : Bool := if beh then decide (z ≤ 0) else decide (z < 0)
set_option maxHeartbeats 4000000 in
theorem kM_bound {n : Nat} (hn : n ≤ 20) {o : Nat → Nat} {K : Nat → List Nat} (hod : ∀ p, p < n → o p < 20 ∧ od p = nI (o p) ∧ kAt kl ky (o p) (K p)) {B : List Nat} (hB : pAt pb B) (hB4 : B.length ≤ 64) (hBb : ∀ b ∈ B, b < 256) {beh pre : Bool} {q : Nat} (hq : q ≤ n) (hr : ∀ p, p < n → (rgt beh (kc pre (K p) B) = true ↔ p < q)) : vMi l D yX1_bound cX1_bound 8 .int 1 32 (kT d) (kw h d nf sch sn si sl tx (nI n) od us tg kl ky (nI B.length) pb ra) [.ref (h 0), .int (bI beh), .int (bI pre)] (fun r u => r = nI q ∧ u = (kw h d nf sch sn si sl tx (nI n) od us tg kl ky (nI B.length) pb ra)) := by
  refine vMi_of RX1 (by decide) rfl (Nat.le_of_ble_eq_true rfl) rfl (fun X hC hret => ?_)
  have loop : ∀ (k low high : Nat), high ≤ low + k → low ≤ q → q ≤ high → high ≤ n → vV l D X 8 (kT d) 0 0 (kw h d nf sch sn si sl tx (nI n) od us tg kl ky (nI B.length) pb ra) [.ref (h 0), .int (bI beh), .int (bI pre), .int (nI low), .int (nI high)] 8 [] := by
    intro k
    induction k with
    | zero =>
      intro low high h1 h2 h3 h4
      have : low = q := by omega
      subst this
      refine v_iload_n (pc := 8) hC dX1_bound_8 rfl ?_
      refine v_iload (pc := 9) hC dX1_bound_9 rfl ?_
      refine v_icmpN_ge (pc := 11) (tgt := 85) hC dX1_bound_11 (by decide) (by omega) (by omega) (fun c1 => ?_) (fun c1 => ?_)
      · skip
        refine v_iload_n (pc := 85) hC dX1_bound_85 rfl ?_
        exact hret _ _ _ _ dX1_bound_86 rfl ⟨rfl, rfl⟩
      · exact absurd c1 (by omega)
    | succ k ih =>
      intro low high h1 h2 h3 h4
      refine v_iload_n (pc := 8) hC dX1_bound_8 rfl ?_
      refine v_iload (pc := 9) hC dX1_bound_9 rfl ?_
      refine v_icmpN_ge (pc := 11) (tgt := 85) hC dX1_bound_11 (by decide) (by omega) (by omega) (fun c1 => ?_) (fun c1 => ?_)
      · have : low = q := by omega
        subst this
        refine v_iload_n (pc := 85) hC dX1_bound_85 rfl ?_
        exact hret _ _ _ _ dX1_bound_86 rfl ⟨rfl, rfl⟩
      · skip
        refine v_iload_n (pc := 14) hC dX1_bound_14 rfl ?_
        refine v_iload (pc := 15) hC dX1_bound_15 rfl ?_
        first | refine v_iaddN (pc := 17) hC dX1_bound_17 ?_ | refine v_iadd (pc := 17) hC dX1_bound_17 ?_
        refine v_iconst (pc := 18) (v := nI 2) hC dX1_bound_18 rfl ?_
        refine v_idiv (pc := 19) hC dX1_bound_19 (by decide) ?_
        refine v_top (pk_div (by omega) (by omega) (by omega)) ?_
        generalize hmid : (low + high) / 2 = mid
        have hm1 : low ≤ mid := by omega
        have hm2 : mid < high := by omega
        obtain ⟨ho, hoe, hKa⟩ := hod mid (by omega)
        have hrm := hr mid (by omega)
        refine v_istore (pc := 20) (L' := [_, _, _, _, _, _]) hC dX1_bound_20 (Nat.le_of_ble_eq_true rfl) (by decide) rfl ?_
        refine v_aload_n (pc := 22) hC dX1_bound_22 rfl ?_
        refine v_aload_n (pc := 23) hC dX1_bound_23 rfl ?_
        refine kg_od (pc := 24) hC dX1_bound_24 ?_
        refine v_iload (pc := 27) hC dX1_bound_27 rfl ?_
        refine kl_od (pc := 29) hC (by omega) dX1_bound_29 ?_
        refine v_top hoe ?_
        refine v_iload_n (pc := 30) hC dX1_bound_30 rfl ?_
        refine k_calli2 (pc := 31) hC (kM_compare ho hKa hB hB4 hBb) kc_compare ⟨by decide, by decide⟩ (Nat.le_of_ble_eq_true rfl) dX1_bound_31 (fun r u hp => ?_) ⟨rfl, rfl⟩
        obtain ⟨hrz, rfl⟩ := hp
        have join : ∀ b : Bool, b = rgt beh (kc pre (K mid) B) → vV l D X 8 (kT d) 0 0 (kw h d nf sch sn si sl tx (nI n) od us tg kl ky (nI B.length) pb ra) [.ref (h 0), .int (bI beh), .int (bI pre), .int (nI low), .int (nI high), .int (nI mid), .int r] 63 [.int (bI b)] := by
          intro b hb
          refine v_istore (pc := 63) (L' := [_, _, _, _, _, _, _, _]) hC dX1_bound_63 (Nat.le_of_ble_eq_true rfl) (by decide) rfl ?_
          refine v_iload (pc := 65) hC dX1_bound_65 rfl ?_
          refine v_ifB_eq (pc := 67) (tgt := 78) hC dX1_bound_67 (by decide) (fun c2 => ?_) (fun c2 => ?_)
          · have : ¬ mid < q := fun w => by rw [← hb, c2] at hrm; exact absurd (hrm.mpr w) (by decide)
            refine v_iload (pc := 78) hC dX1_bound_78 rfl ?_
            refine v_istore (pc := 80) (L' := [_, _, _, _, _, _, _, _]) hC dX1_bound_80 (Nat.le_of_ble_eq_true rfl) (by decide) rfl ?_
            refine v_goto (pc := 82) (tgt := 8) hC dX1_bound_82 (by decide) ?_
            refine v_take 5 (L' := [_, _, _, _, _]) rfl ?_
            exact ih low mid (by omega) h2 (by omega) (by omega)
          · have : mid < q := hrm.mp (by rw [← hb]; exact c2)
            refine v_iload (pc := 70) hC dX1_bound_70 rfl ?_
            refine v_iconst (pc := 72) (v := nI 1) hC dX1_bound_72 rfl ?_
            first | refine v_iaddN (pc := 73) hC dX1_bound_73 ?_ | refine v_iadd (pc := 73) hC dX1_bound_73 ?_
            refine v_istore_n (pc := 74) (L' := [_, _, _, _, _, _, _, _]) hC dX1_bound_74 (Nat.le_of_ble_eq_true rfl) (by decide) rfl ?_
            refine v_goto (pc := 75) (tgt := 82) hC dX1_bound_75 (by decide) ?_
            refine v_goto (pc := 82) (tgt := 8) hC dX1_bound_82 (by decide) ?_
            refine v_take 5 (L' := [_, _, _, _, _]) rfl ?_
            exact ih (mid + 1) high (by omega) (by omega) h3 h4
        refine v_istore (pc := 34) (L' := [_, _, _, _, _, _, _]) hC dX1_bound_34 (Nat.le_of_ble_eq_true rfl) (by decide) rfl ?_
        refine v_iload_n (pc := 36) hC dX1_bound_36 rfl ?_
        refine v_ifB_eq (pc := 37) (tgt := 53) hC dX1_bound_37 (by decide) (fun c3 => ?_) (fun c3 => ?_)
        · skip
          refine v_iload (pc := 53) hC dX1_bound_53 rfl ?_
          refine v_if_ge (pc := 55) (tgt := 62) hC dX1_bound_55 (by decide) (fun c4 => ?_) (fun c4 => ?_)
          · skip
            refine v_iconst (pc := 62) (v := nI 0) hC dX1_bound_62 rfl ?_
            exact join false (by rw [c3]; have := (i32_ge0 hrz).mp c4; unfold rgt; rw [if_neg (by decide), decide_eq_false (by omega)])
          · skip
            refine v_iconst (pc := 58) (v := nI 1) hC dX1_bound_58 rfl ?_
            refine v_goto (pc := 59) (tgt := 63) hC dX1_bound_59 (by decide) ?_
            exact join true (by rw [c3]; have : ¬ 0 ≤ kc pre (K mid) B := fun w => c4 ((i32_ge0 hrz).mpr w); unfold rgt; rw [if_neg (by decide), decide_eq_true (by omega)])
        · skip
          refine v_iload (pc := 40) hC dX1_bound_40 rfl ?_
          refine v_if_gt (pc := 42) (tgt := 49) hC dX1_bound_42 (by decide) (fun c4 => ?_) (fun c4 => ?_)
          · skip
            refine v_iconst (pc := 49) (v := nI 0) hC dX1_bound_49 rfl ?_
            refine v_goto (pc := 50) (tgt := 63) hC dX1_bound_50 (by decide) ?_
            exact join false (by rw [c3]; have := (i32_gt0 hrz).mp c4; unfold rgt; rw [if_pos rfl, decide_eq_false (by omega)])
          · skip
            refine v_iconst (pc := 45) (v := nI 1) hC dX1_bound_45 rfl ?_
            refine v_goto (pc := 46) (tgt := 63) hC dX1_bound_46 (by decide) ?_
            exact join true (by rw [c3]; have : ¬ 0 < kc pre (K mid) B := fun w => c4 ((i32_gt0 hrz).mpr w); unfold rgt; rw [if_pos rfl, decide_eq_true (by omega)])
  refine v_iconst (pc := 0) (v := nI 0) hC dX1_bound_0 rfl ?_
  refine v_istore_n (pc := 1) (L' := [_, _, _, _]) hC dX1_bound_1 (Nat.le_of_ble_eq_true rfl) (by decide) rfl ?_
  refine v_aload_n (pc := 2) hC dX1_bound_2 rfl ?_
  refine kg_en (pc := 3) hC dX1_bound_3 ?_
  refine v_istore (pc := 6) (L' := [_, _, _, _, _]) hC dX1_bound_6 (Nat.le_of_ble_eq_true rfl) (by decide) rfl ?_
  exact loop n 0 n (by omega) (by omega) hq (Nat.le_refl n)
end K15
end
section
/-! OrderedKeys: its entries as a list by position -/
def hit (o : Nat → Nat) (j : Nat) : Nat → Bool
  | 0 => false
  | n + 1 => hit o j n || (o n == j)
theorem hit_of {o : Nat → Nat} {j : Nat} : ∀ {n p : Nat}, p < n → o p = j → hit o j n = true
  | 0, _, h, _ => absurd h (by omega)
  | n + 1, p, h, e => by
    rw [hit]
    by_cases q : p = n
    · subst q; simp [e]
    · rw [hit_of (n := n) (by omega) e]; rfl
theorem cnt_add1 {P Q : Nat → Bool} {a : Nat} : ∀ {m : Nat}, (∀ i, i < m → i ≠ a → Q i = P i) → cnt Q m ≤ cnt P m + 1
  | 0, _ => by rw [cnt, cnt]; omega
  | m + 1, h => by
    rw [cnt, cnt]
    by_cases q : m = a
    · have : cnt Q m = cnt P m := cnt_congr (fun i hi => h i (by omega) (by omega))
      rw [this]
      split <;> split <;> omega
    · rw [h m (by omega) q]
      have := cnt_add1 (P := P) (Q := Q) (a := a) (m := m) (fun i hi hne => h i (by omega) hne)
      omega
theorem hit_cnt {o : Nat → Nat} {m : Nat} : ∀ n, cnt (fun j => hit o j n) m ≤ n
  | 0 => by
    have : cnt (fun j => hit o j 0) m ≤ cnt (fun _ => false) m := cnt_mono (fun i _ h => h)
    have h2 : ∀ k, cnt (fun _ => false) k = 0 := by
      intro k
      induction k with
      | zero => rfl
      | succ k ih => rw [cnt, ih]; rfl
    rw [h2] at this
    exact this
  | n + 1 => by
    have h1 := hit_cnt (o := o) (m := m) n
    have h2 : cnt (fun j => hit o j (n + 1)) m ≤ cnt (fun j => hit o j n) m + 1 := cnt_add1 (a := o n) (fun i _ hne => by
      show hit o i (n + 1) = hit o i n
      rw [hit]
      have : (o n == i) = false := by simp; exact fun q => hne q.symm
      rw [this, Bool.or_false])
    omega
theorem pigeon {o : Nat → Nat} {n m : Nat} (h : ∀ j, j < m → ∃ p, p < n ∧ o p = j) : m ≤ n := by
  have h1 := hit_cnt (o := o) (m := m) n
  rw [cnt_all (fun j hj => by obtain ⟨p, hp, e⟩ := h j hj; exact hit_of hp e)] at h1
  exact h1
def ins {α : Type} (f : Nat → α) (a : Nat) (x : α) (p : Nat) : α := if p < a then f p else if p = a then x else f (p - 1)
theorem ins_lt {α : Type} {f : Nat → α} {a p : Nat} {x : α} (h : p < a) : ins f a x p = f p := if_pos h
theorem ins_eq {α : Type} {f : Nat → α} {a : Nat} {x : α} : ins f a x a = x := by unfold ins; rw [if_neg (by omega), if_pos rfl]
theorem ins_gt {α : Type} {f : Nat → α} {a p : Nat} {x : α} (h : a < p) : ins f a x p = f (p - 1) := by unfold ins; rw [if_neg (by omega), if_neg (by omega)]
def kEn (sch : Int32) (F n : Nat) (U : Nat → Nat → FV) (G : Nat → Int32) (o : Nat → Nat) (od us tg kl ky : Nat → Int32) : Prop :=
  (∀ p, p < n → o p < 20 ∧ od p = nI (o p) ∧ us (o p) = nI 1 ∧ tg (o p) = G p ∧ kAt kl ky (o p) (eR sch (U p) 0 F)) ∧ (∀ p q, p < n → q < n → o p = o q → p = q) ∧ (∀ j, j < 20 → us j = nI 0 ∨ us j = nI 1) ∧ (∀ j, j < 20 → us j = nI 1 → ∃ p, p < n ∧ o p = j)
theorem nI_01 : ¬ (nI 0 = nI 1) := by decide
/-- among the places one is free -/
theorem kEn.free {sch : Int32} {F n : Nat} {U : Nat → Nat → FV} {G : Nat → Int32} {o : Nat → Nat} {od us tg kl ky : Nat → Int32} (h : kEn sch F n U G o od us tg kl ky) (hn : n < 20) (hu : ∀ j, j < 19 → us j = nI 1) : us 19 = nI 0 := by
  rcases h.2.2.1 19 (by omega) with q | q
  · exact q
  · have : 20 ≤ n := pigeon (o := o) (fun j hj => h.2.2.2 j hj (by
      by_cases w : j = 19
      · rw [w]; exact q
      · exact hu j (by omega)))
    omega
theorem kEn.add {sch : Int32} {F n : Nat} {U : Nat → Nat → FV} {G : Nat → Int32} {o : Nat → Nat} {od us tg kl ky : Nat → Int32} (h : kEn sch F n U G o od us tg kl ky) {j a : Nat} (hj : j < 20) (hu : us j = nI 0) (ha : a ≤ n) {T : Nat → FV} {x : Int32} {ky' od' : Nat → Int32} (hl : (eR sch T 0 F).length ≤ 64) (hb : ∀ b ∈ eR sch T 0 F, b < 256)
    (hk1 : ∀ i, i < (eR sch T 0 F).length → ky' (j * 64 + i) = nI ((eR sch T 0 F).getD i 0)) (hk2 : ∀ i, i < j * 64 ∨ j * 64 + 64 ≤ i → ky' i = ky i) (ho1 : ∀ p, p < a → od' p = od p) (ho2 : od' a = nI j) (ho3 : ∀ p, a < p → p ≤ n → od' p = od (p - 1)) :
    kEn sch F (n + 1) (ins U a T) (ins G a x) (ins o a j) od' (upd us j (nI 1)) (upd tg j x) (upd kl j (nI (eR sch T 0 F).length)) ky' := by
  obtain ⟨h1, h2, h3, h4⟩ := h
  have hne : ∀ p, p < n → o p ≠ j := fun p hp e => nI_01 (by rw [← hu, ← e]; exact (h1 p hp).2.2.1)
  have old : ∀ p, p < n → o p < 20 ∧ upd us j (nI 1) (o p) = nI 1 ∧ upd tg j x (o p) = G p ∧ kAt (upd kl j (nI (eR sch T 0 F).length)) ky' (o p) (eR sch (U p) 0 F) := by
    intro p hp
    obtain ⟨a1, a2, a3, a4, a5, a6, a7, a8⟩ := h1 p hp
    have hn := hne p hp
    refine ⟨a1, by rw [pk_un hn]; exact a3, by rw [pk_un hn]; exact a4, by rw [pk_un hn]; exact a5, a6, a7, fun i hi => ?_⟩
    rw [hk2 _ (by omega)]
    exact a8 i hi
  refine ⟨fun p hp => ?_, fun p q hp hq e => ?_, fun i hi => ?_, fun i hi hu1 => ?_⟩
  · by_cases w : p < a
    · rw [ins_lt w, ins_lt w, ins_lt w, ho1 p w]
      obtain ⟨b1, b2, b3, b4⟩ := old p (by omega)
      exact ⟨b1, (h1 p (by omega)).2.1, b2, b3, b4⟩
    · by_cases z : p = a
      · subst z
        rw [ins_eq, ins_eq, ins_eq]
        exact ⟨hj, ho2, pk_us, pk_us, pk_us, hl, hb, hk1⟩
      · rw [ins_gt (by omega), ins_gt (by omega), ins_gt (by omega), ho3 p (by omega) (by omega)]
        obtain ⟨b1, b2, b3, b4⟩ := old (p - 1) (by omega)
        exact ⟨b1, (h1 (p - 1) (by omega)).2.1, b2, b3, b4⟩
  · have key : ∀ p, p < n + 1 → (p = a ∧ ins o a j p = j) ∨ (p ≠ a ∧ ∃ p', p' < n ∧ ins o a j p = o p' ∧ (p < a → p' = p) ∧ (a < p → p' + 1 = p)) := by
      intro p hp
      by_cases w : p < a
      · exact Or.inr ⟨by omega, p, by omega, ins_lt w, fun _ => rfl, fun q => absurd q (by omega)⟩
      · by_cases z : p = a
        · exact Or.inl ⟨z, by rw [z, ins_eq]⟩
        · exact Or.inr ⟨z, p - 1, by omega, ins_gt (by omega), fun q => absurd q (by omega), fun _ => by omega⟩
    rcases key p hp with ⟨p1, p2⟩ | ⟨p1, p', p2, p3, p4, p5⟩ <;> rcases key q hq with ⟨q1, q2⟩ | ⟨q1, q', q2, q3, q4, q5⟩
    · omega
    · rw [p2, q3] at e; exact absurd e.symm (hne q' q2)
    · rw [p3, q2] at e; exact absurd e (hne p' p2)
    · rw [p3, q3] at e
      have := h2 p' q' p2 q2 e
      omega
  · by_cases w : i = j
    · rw [w, pk_us]; exact Or.inr rfl
    · rw [pk_un w]; exact h3 i hi
  · by_cases w : i = j
    · exact ⟨a, by omega, by rw [ins_eq, w]⟩
    · rw [pk_un w] at hu1
      obtain ⟨p, hp, e⟩ := h4 i hi hu1
      by_cases z : p < a
      · exact ⟨p, by omega, by rw [ins_lt z]; exact e⟩
      · exact ⟨p + 1, by omega, by rw [ins_gt (by omega), Nat.add_sub_cancel]; exact e⟩
theorem kEn.remove {sch : Int32} {F n : Nat} {U : Nat → Nat → FV} {G : Nat → Int32} {o : Nat → Nat} {od us tg kl ky : Nat → Int32} (h : kEn sch F (n + 1) U G o od us tg kl ky) {p0 : Nat} (hp0 : p0 < n + 1) {od' : Nat → Int32} (ho : ∀ p, p < n → od' p = od (skp p0 p)) :
    kEn sch F n (fun p => U (skp p0 p)) (fun p => G (skp p0 p)) (fun p => o (skp p0 p)) od' (upd us (o p0) (nI 0)) tg kl ky := by
  obtain ⟨h1, h2, h3, h4⟩ := h
  have hs : ∀ p, p < n → skp p0 p < n + 1 ∧ skp p0 p ≠ p0 := by
    intro p hp
    unfold skp
    split <;> omega
  have hinj : ∀ p q, skp p0 p = skp p0 q → p = q := by
    intro p q
    unfold skp
    split <;> split <;> omega
  refine ⟨fun p hp => ?_, fun p q hp hq e => ?_, fun i hi => ?_, fun i hi hu1 => ?_⟩
  · obtain ⟨s1, s2⟩ := hs p hp
    obtain ⟨a1, a2, a3, a4, a5⟩ := h1 _ s1
    have hne : o (skp p0 p) ≠ o p0 := fun e => s2 (h2 _ _ s1 hp0 e)
    exact ⟨a1, by rw [ho p hp]; exact a2, by rw [pk_un hne]; exact a3, a4, a5⟩
  · exact hinj p q (h2 _ _ (hs p hp).1 (hs q hq).1 e)
  · by_cases w : i = o p0
    · rw [w, pk_us]; exact Or.inl rfl
    · rw [pk_un w]; exact h3 i hi
  · by_cases w : i = o p0
    · rw [w, pk_us] at hu1; exact absurd hu1 nI_01
    · rw [pk_un w] at hu1
      obtain ⟨p, hp, e⟩ := h4 i hi hu1
      have hne : p ≠ p0 := fun q => w (by rw [← e, q])
      by_cases z : p < p0
      · exact ⟨p, by omega, by show o (skp p0 p) = i; unfold skp; rw [if_pos z]; exact e⟩
      · refine ⟨p - 1, by omega, ?_⟩
        show o (skp p0 (p - 1)) = i
        unfold skp
        rw [if_neg (by omega), show p - 1 + 1 = p by omega]
        exact e
/-- the whole of an OrderedKeys: F fields, the stage T, n entries, at position p the tuple U p with the tag G p -/
def kRep (h : Nat → Nat) (d : Nat → ClassId) (F : Nat) (sch : Int32) (T : Nat → FV) (n : Nat) (U : Nat → Nat → FV) (G : Nat → Int32) (ws : va_W) : Prop :=
  ∃ (sn si sl tx od us tg kl ky : Nat → Int32) (pl : Int32) (pb : Nat → Int32) (ra : Int32) (o : Nat → Nat), ws = kw h d (nI F) sch sn si sl tx (nI n) od us tg kl ky pl pb ra ∧ (1 ≤ F ∧ F ≤ 4 ∧ n ≤ 20) ∧ kSt sch F T sn si sl tx ∧ (∀ p, p < n → ∀ f, f < F → fOk (kTx sch f) (U p f)) ∧ kEn sch F n U G o od us tg kl ky
end
section
/-! OrderedKeys: add and remove -/
section K17
variable {l : Launch} {D : va_G} {h : Nat → Nat} {d : Nat → ClassId} {sch : Int32} {ws : va_W}
set_option maxHeartbeats 8000000 in
theorem kM_add {F n : Nat} {T : Nat → FV} {U : Nat → Nat → FV} {G : Nat → Int32} (hR : kRep h d F sch T n U G ws) {x : Int32} {q : Nat} (hq : q ≤ n) (hqr : ∀ p, p < n → (rgt true (kc false (eR sch (U p) 0 F) (eR sch T 0 F)) = true ↔ p < q)) : vMi l D yX1_add cX1_add 5 .int 4 128 (kT d) ws [.ref (h 0), .int x] (fun r u => (n = 20 → r = -3 ∧ kRep h d F sch T n U G u) ∧ (n < 20 → r = nI q ∧ kRep h d F sch T (n + 1) (ins U q T) (ins G q x) u)) := by
  have hR0 := hR
  obtain ⟨sn, si, sl, tx, od, us, tg, kl, ky, pl, pb, ra, o, rfl, ⟨hF1, hF4, hn20⟩, hT, hU, hE⟩ := hR
  have hlen : (eR sch T 0 F).length ≤ 64 := Nat.le_trans (eR_len F 0 (fun j _ w => (hT j (by omega)).ok)) (by omega)
  have hbyt : ∀ b ∈ eR sch T 0 F, b < 256 := eR_lt F 0 (fun j _ w => (hT j (by omega)).ok)
  refine vMi_of RX1 (by decide) rfl (Nat.le_of_ble_eq_true rfl) rfl (fun X hC hret => ?_)
  refine v_aload_n (pc := 0) hC dX1_add_0 rfl ?_
  refine kg_en (pc := 1) hC dX1_add_1 ?_
  refine v_bipush (pc := 4) (v := nI 20) hC dX1_add_4 rfl ?_
  refine v_icmpN_lt (pc := 6) (tgt := 12) hC dX1_add_6 (by decide) (by omega) (by omega) (fun c1 => ?_) (fun c1 => ?_)
  · skip
    refine v_aload_n (pc := 12) hC dX1_add_12 rfl ?_
    refine v_aload_n (pc := 13) hC dX1_add_13 rfl ?_
    refine kg_nf (pc := 14) hC dX1_add_14 ?_
    refine k_callv1 (pc := 17) hC (kM_encode hF4 hT) kc_encode ⟨by decide, by decide⟩ (Nat.le_of_ble_eq_true rfl) dX1_add_17 (fun u hp => ?_) ⟨rfl, rfl⟩
    obtain ⟨pb, rfl, hpb⟩ := hp
    refine v_aload_n (pc := 20) hC dX1_add_20 rfl ?_
    refine v_iconst (pc := 21) (v := nI 1) hC dX1_add_21 rfl ?_
    refine v_iconst (pc := 22) (v := nI 0) hC dX1_add_22 rfl ?_
    refine k_calli2 (pc := 23) hC (kM_bound (beh := true) (pre := false) hn20 (fun p hp => ⟨(hE.1 p hp).1, (hE.1 p hp).2.1, (hE.1 p hp).2.2.2.2⟩) hpb hlen hbyt hq hqr) kc_bound ⟨by decide, by decide⟩ (Nat.le_of_ble_eq_true rfl) dX1_add_23 (fun r u hp => ?_) ⟨rfl, rfl⟩
    obtain ⟨rfl, rfl⟩ := hp
    generalize hB : eR sch T 0 F = B at *
    have W145 : ∀ (j : Nat) (ky' od' : Nat → Int32), j < 20 → us j = nI 0 → (∀ i, i < B.length → ky' (j * 64 + i) = nI (B.getD i 0)) → (∀ i, i < j * 64 ∨ j * 64 + 64 ≤ i → ky' i = ky i) → (∀ p, p < q → od' p = od p) → (∀ p, q < p → p ≤ n → od' p = od (p - 1)) → vV l D X 5 (kT d) 0 0 (kw h d (nI F) sch sn si sl tx (nI n) (od') (upd us j (nI 1)) (upd tg j x) (upd kl j (nI B.length)) (ky') (nI B.length) (pb) ra) [.ref (h 0), .int x, .int (nI q), .int (nI j)] 145 [] := by
      intro j ky' od' hj hu hk1 hk2 ho1 ho3
      refine v_aload_n (pc := 145) hC dX1_add_145 rfl ?_
      refine kg_od (pc := 146) hC dX1_add_146 ?_
      refine v_iload_n (pc := 149) hC dX1_add_149 rfl ?_
      refine v_iload_n (pc := 150) hC dX1_add_150 rfl ?_
      refine ks_od (pc := 151) hC (by omega)  dX1_add_151 ?_
      refine v_aload_n (pc := 152) hC dX1_add_152 rfl ?_
      refine v_dup (pc := 153) hC dX1_add_153 rfl ?_
      refine kg_en (pc := 154) hC dX1_add_154 ?_
      refine v_iconst (pc := 157) (v := nI 1) hC dX1_add_157 rfl ?_
      first | refine v_iaddN (pc := 158) hC dX1_add_158 ?_ | refine v_iadd (pc := 158) hC dX1_add_158 ?_
      refine kp_en (pc := 159) hC dX1_add_159 ?_
      refine v_iload_n (pc := 162) hC dX1_add_162 rfl ?_
      have hE2 := hE.add (T := T) (x := x) (ky' := ky') (od' := upd od' q (nI j)) hj hu hq (by rw [hB]; exact hlen) (by rw [hB]; exact hbyt) (by rw [hB]; exact hk1) hk2 (fun p hp => by rw [pk_un (by omega)]; exact ho1 p hp) pk_us (fun p h1 h2 => by rw [pk_un (by omega)]; exact ho3 p h1 h2)
      rw [hB] at hE2
      refine hret _ _ _ _ dX1_add_163 rfl ⟨fun w => absurd w (by omega), fun _ => ⟨rfl, _, _, _, _, _, _, _, _, _, _, _, _, _, rfl, ⟨hF1, hF4, by omega⟩, hT, ?_, hE2⟩⟩
      intro p hp f hf
      by_cases w : p < q
      · rw [ins_lt w]; exact hU p (by omega) f hf
      · by_cases z : p = q
        · rw [z, ins_eq]; exact (hT f hf).ok
        · rw [ins_gt (by omega)]; exact hU (p - 1) (by omega) f hf
    have W117 : ∀ (k i : Nat) (j : Nat) (ky' od' : Nat → Int32), i = q + k → i ≤ n → j < 20 → us j = nI 0 → (∀ i, i < B.length → ky' (j * 64 + i) = nI (B.getD i 0)) → (∀ i, i < j * 64 ∨ j * 64 + 64 ≤ i → ky' i = ky i) → (∀ p, p ≤ i → p < n → od' p = od p) → (∀ p, i < p → p ≤ n → od' p = od (p - 1)) → vV l D X 5 (kT d) 0 0 (kw h d (nI F) sch sn si sl tx (nI n) (od') (upd us j (nI 1)) (upd tg j x) (upd kl j (nI B.length)) (ky') (nI B.length) (pb) ra) [.ref (h 0), .int x, .int (nI q), .int (nI j), .int (nI i)] 117 [] := by
      intro k
      induction k with
      | zero =>
        intro i j ky' od' hi hin hj hu hk1 hk2 ho1 ho3
        refine v_iload (pc := 117) hC dX1_add_117 rfl ?_
        refine v_iload_n (pc := 119) hC dX1_add_119 rfl ?_
        refine v_icmpN_le (pc := 120) (tgt := 145) hC dX1_add_120 (by decide) (by omega) (by omega) (fun c2 => ?_) (fun c2 => ?_)
        · refine v_take 4 (L' := [_, _, _, _]) rfl ?_
          exact W145 j ky' od' hj hu hk1 hk2 (fun p hp => ho1 p (by omega) (by omega)) (fun p h1 h2 => ho3 p (by omega) h2)
        · exact absurd c2 (by omega)
      | succ k ih =>
        intro i j ky' od' hi hin hj hu hk1 hk2 ho1 ho3
        obtain ⟨i2, rfl⟩ : ∃ i2, i = i2 + 1 := ⟨i - 1, by omega⟩
        refine v_iload (pc := 117) hC dX1_add_117 rfl ?_
        refine v_iload_n (pc := 119) hC dX1_add_119 rfl ?_
        refine v_icmpN_le (pc := 120) (tgt := 145) hC dX1_add_120 (by decide) (by omega) (by omega) (fun c2 => ?_) (fun c2 => ?_)
        · exact absurd c2 (by omega)
        · skip
          refine v_aload_n (pc := 123) hC dX1_add_123 rfl ?_
          refine kg_od (pc := 124) hC dX1_add_124 ?_
          refine v_iload (pc := 127) hC dX1_add_127 rfl ?_
          refine v_aload_n (pc := 129) hC dX1_add_129 rfl ?_
          refine kg_od (pc := 130) hC dX1_add_130 ?_
          refine v_iload (pc := 133) hC dX1_add_133 rfl ?_
          refine v_iconst (pc := 135) (v := nI 1) hC dX1_add_135 rfl ?_
          first | refine v_isubN (pc := 136) hC dX1_add_136 (by omega) ?_ | refine v_isub (pc := 136) hC dX1_add_136 ?_
          refine kl_od (pc := 137) hC (by omega) dX1_add_137 ?_
          refine ks_od (pc := 138) hC (by omega)  dX1_add_138 ?_
          refine v_decN (pc := 139) (L' := [_, _, _, _, _]) hC dX1_add_139 rfl (by decide) rfl ?_
          refine v_goto (pc := 142) (tgt := 117) hC dX1_add_142 (by decide) ?_
          refine ih i2 j ky' _ (by omega) (by omega) hj hu hk1 hk2 (fun p h1 h2 => ?_) (fun p h1 h2 => ?_)
          · rw [pk_un (by omega)]; exact ho1 p (by omega) h2
          · by_cases w : p = i2 + 1
            · rw [w, pk_us]
              exact ho1 _ (by omega) (by omega)
            · rw [pk_un w]; exact ho3 p (by omega) h2
    have W77 : ∀ (k i : Nat) (j : Nat) (ky' : Nat → Int32), i + k = B.length → j < 20 → us j = nI 0 → (∀ i', i' < i → ky' (j * 64 + i') = nI (B.getD i' 0)) → (∀ i, i < j * 64 ∨ j * 64 + 64 ≤ i → ky' i = ky i) → vV l D X 5 (kT d) 0 0 (kw h d (nI F) sch sn si sl tx (nI n) od (upd us j (nI 1)) (upd tg j x) (upd kl j (nI B.length)) (ky') (nI B.length) (pb) ra) [.ref (h 0), .int x, .int (nI q), .int (nI j), .int (nI i)] 77 [] := by
      intro k
      induction k with
      | zero =>
        intro i j ky' hi hj hu hk1 hk2
        refine v_iload (pc := 77) hC dX1_add_77 rfl ?_
        refine v_aload_n (pc := 79) hC dX1_add_79 rfl ?_
        refine kg_pl (pc := 80) hC dX1_add_80 ?_
        refine v_icmpN_ge (pc := 83) (tgt := 111) hC dX1_add_83 (by decide) (by omega) (by omega) (fun c2 => ?_) (fun c2 => ?_)
        · skip
          refine v_aload_n (pc := 111) hC dX1_add_111 rfl ?_
          refine kg_en (pc := 112) hC dX1_add_112 ?_
          refine v_istore (pc := 115) (L' := [_, _, _, _, _]) hC dX1_add_115 (Nat.le_of_ble_eq_true rfl) (by decide) rfl ?_
          exact W117 (n - q) n j ky' od (by omega) (Nat.le_refl n) hj hu (fun i' h' => hk1 i' (by omega)) hk2 (fun _ _ _ => rfl) (fun p h1 h2 => absurd h1 (by omega))
        · exact absurd c2 (by omega)
      | succ k ih =>
        intro i j ky' hi hj hu hk1 hk2
        have hbi : B.getD i 0 < 256 := by
          rw [List.getD_eq_getElem?_getD, List.getElem?_eq_getElem (by omega)]
          exact hbyt _ (List.getElem_mem _)
        refine v_iload (pc := 77) hC dX1_add_77 rfl ?_
        refine v_aload_n (pc := 79) hC dX1_add_79 rfl ?_
        refine kg_pl (pc := 80) hC dX1_add_80 ?_
        refine v_icmpN_ge (pc := 83) (tgt := 111) hC dX1_add_83 (by decide) (by omega) (by omega) (fun c2 => ?_) (fun c2 => ?_)
        · exact absurd c2 (by omega)
        · skip
          refine v_aload_n (pc := 86) hC dX1_add_86 rfl ?_
          refine kg_ky (pc := 87) hC dX1_add_87 ?_
          refine v_iload_n (pc := 90) hC dX1_add_90 rfl ?_
          refine v_bipush (pc := 91) (v := nI 64) hC dX1_add_91 rfl ?_
          first | refine v_imulN (pc := 93) hC dX1_add_93 ?_ | refine v_imul (pc := 93) hC dX1_add_93 ?_
          refine v_iload (pc := 94) hC dX1_add_94 rfl ?_
          first | refine v_iaddN (pc := 96) hC dX1_add_96 ?_ | refine v_iadd (pc := 96) hC dX1_add_96 ?_
          refine v_aload_n (pc := 97) hC dX1_add_97 rfl ?_
          refine kg_pb (pc := 98) hC dX1_add_98 ?_
          refine v_iload (pc := 101) hC dX1_add_101 rfl ?_
          refine kl_pb (pc := 103) hC (by omega) dX1_add_103 ?_
          refine v_top (hpb i (by omega)) ?_
          refine ks_ky (pc := 104) hC (by omega) (nI_vps (by omega)) dX1_add_104 ?_
          refine v_incN (pc := 105) (L' := [_, _, _, _, _]) hC dX1_add_105 rfl (by decide) rfl ?_
          refine v_goto (pc := 108) (tgt := 77) hC dX1_add_108 (by decide) ?_
          refine ih (i + 1) j _ (by omega) hj hu (fun i' h' => ?_) (fun i' h' => ?_)
          · by_cases w : i' = i
            · rw [w, pk_us]
            · rw [pk_un (by omega)]; exact hk1 i' (by omega)
          · rw [pk_un (by omega)]; exact hk2 i' h'
    have W50 : ∀ (j : Nat), j < 20 → us j = nI 0 → vV l D X 5 (kT d) 0 0 (kw h d (nI F) sch sn si sl tx (nI n) od us tg kl ky (nI B.length) (pb) ra) [.ref (h 0), .int x, .int (nI q), .int (nI j)] 50 [] := by
      intro j hj hu
      refine v_aload_n (pc := 50) hC dX1_add_50 rfl ?_
      refine kg_us (pc := 51) hC dX1_add_51 ?_
      refine v_iload_n (pc := 54) hC dX1_add_54 rfl ?_
      refine v_iconst (pc := 55) (v := nI 1) hC dX1_add_55 rfl ?_
      refine ks_us (pc := 56) hC (by omega) (by decide) dX1_add_56 ?_
      refine v_aload_n (pc := 57) hC dX1_add_57 rfl ?_
      refine kg_tg (pc := 58) hC dX1_add_58 ?_
      refine v_iload_n (pc := 61) hC dX1_add_61 rfl ?_
      refine v_iload_n (pc := 62) hC dX1_add_62 rfl ?_
      refine ks_tg (pc := 63) hC (by omega)  dX1_add_63 ?_
      refine v_aload_n (pc := 64) hC dX1_add_64 rfl ?_
      refine kg_kl (pc := 65) hC dX1_add_65 ?_
      refine v_iload_n (pc := 68) hC dX1_add_68 rfl ?_
      refine v_aload_n (pc := 69) hC dX1_add_69 rfl ?_
      refine kg_pl (pc := 70) hC dX1_add_70 ?_
      refine ks_kl (pc := 73) hC (by omega)  dX1_add_73 ?_
      refine v_iconst (pc := 74) (v := nI 0) hC dX1_add_74 rfl ?_
      refine v_istore (pc := 75) (L' := [_, _, _, _, _]) hC dX1_add_75 (Nat.le_of_ble_eq_true rfl) (by decide) rfl ?_
      exact W77 B.length 0 j ky (by omega) hj hu (fun i' h' => absurd h' (by omega)) (fun _ _ => rfl)
    have W29 : ∀ (k j : Nat), j + k = 19 → (∀ i, i < j → us i = nI 1) → vV l D X 5 (kT d) 0 0 (kw h d (nI F) sch sn si sl tx (nI n) od us tg kl ky (nI B.length) (pb) ra) [.ref (h 0), .int x, .int (nI q), .int (nI j)] 29 [] := by
      intro k
      induction k with
      | zero =>
        intro j hj hu
        have : j = 19 := by omega
        subst this
        refine v_iload_n (pc := 29) hC dX1_add_29 rfl ?_
        refine v_bipush (pc := 30) (v := nI 19) hC dX1_add_30 rfl ?_
        refine v_icmpN_ge (pc := 32) (tgt := 50) hC dX1_add_32 (by decide) (by omega) (by omega) (fun c2 => ?_) (fun c2 => ?_)
        · exact W50 19 (by omega) (hE.free (by omega) hu)
        · exact absurd c2 (by omega)
      | succ k ih =>
        intro j hj hu
        refine v_iload_n (pc := 29) hC dX1_add_29 rfl ?_
        refine v_bipush (pc := 30) (v := nI 19) hC dX1_add_30 rfl ?_
        refine v_icmpN_ge (pc := 32) (tgt := 50) hC dX1_add_32 (by decide) (by omega) (by omega) (fun c2 => ?_) (fun c2 => ?_)
        · exact absurd c2 (by omega)
        · skip
          refine v_aload_n (pc := 35) hC dX1_add_35 rfl ?_
          refine kg_us (pc := 36) hC dX1_add_36 ?_
          refine v_iload_n (pc := 39) hC dX1_add_39 rfl ?_
          refine kl_us (pc := 40) hC (by omega) dX1_add_40 ?_
          rcases hE.2.2.1 j (by omega) with z | z
          · refine v_top z ?_
            refine v_ifN_eq (pc := 41) (tgt := 50) hC dX1_add_41 (by decide) (by omega) (fun c3 => ?_) (fun c3 => ?_)
            · exact W50 j (by omega) z
            · exact absurd rfl c3
          · refine v_top z ?_
            refine v_ifN_eq (pc := 41) (tgt := 50) hC dX1_add_41 (by decide) (by omega) (fun c3 => ?_) (fun c3 => ?_)
            · exact absurd c3 (by decide)
            · skip
              refine v_incN (pc := 44) (L' := [_, _, _, _]) hC dX1_add_44 rfl (by decide) rfl ?_
              refine v_goto (pc := 47) (tgt := 29) hC dX1_add_47 (by decide) ?_
              refine ih (j + 1) (by omega) (fun i hi => ?_)
              by_cases w : i = j
              · rw [w]; exact z
              · exact hu i (by omega)
    refine v_istore_n (pc := 26) (L' := [_, _, _]) hC dX1_add_26 (Nat.le_of_ble_eq_true rfl) (by decide) rfl ?_
    refine v_iconst (pc := 27) (v := nI 0) hC dX1_add_27 rfl ?_
    refine v_istore_n (pc := 28) (L' := [_, _, _, _]) hC dX1_add_28 (Nat.le_of_ble_eq_true rfl) (by decide) rfl ?_
    exact W29 19 0 (by omega) (fun i hi => absurd hi (by omega))
  · skip
    refine v_bipush (pc := 9) (v := (-3)) hC dX1_add_9 (by decide) ?_
    exact hret _ _ _ _ dX1_add_11 rfl ⟨fun _ => ⟨rfl, hR0⟩, fun w => absurd w (by omega)⟩
set_option maxHeartbeats 8000000 in
theorem kM_remove {F n : Nat} {T : Nat → FV} {U : Nat → Nat → FV} {G : Nat → Int32} (hR : kRep h d F sch T n U G ws) {x : Int32} : vMi l D yX1_remove cX1_remove 3 .int 1 32 (kT d) ws [.ref (h 0), .int x] (fun r u => (xBad x n = true → r = -5 ∧ kRep h d F sch T n U G u) ∧ (∀ p0, p0 < n → x = nI p0 → r = nI (n - 1) ∧ kRep h d F sch T (n - 1) (fun p => U (skp p0 p)) (fun p => G (skp p0 p)) u)) := by
  have hR0 := hR
  obtain ⟨sn, si, sl, tx, od, us, tg, kl, ky, pl, pb, ra, o, rfl, ⟨hF1, hF4, hn20⟩, hT, hU, hE⟩ := hR
  refine vMi_of RX1 (by decide) rfl (Nat.le_of_ble_eq_true rfl) rfl (fun X hC hret => ?_)
  refine v_aload_n (pc := 0) hC dX1_remove_0 rfl ?_
  refine v_iload_n (pc := 1) hC dX1_remove_1 rfl ?_
  refine k_calli1 (pc := 2) hC (kM_noEntry) kc_noEntry ⟨by decide, by decide⟩ (Nat.le_of_ble_eq_true rfl) dX1_remove_2 (fun r u hp => ?_) ⟨rfl, rfl⟩
  obtain ⟨rfl, rfl⟩ := hp
  refine v_ifB_eq (pc := 5) (tgt := 11) hC dX1_remove_5 (by decide) (fun c1 => ?_) (fun c1 => ?_)
  · obtain ⟨p0, hp0, rfl⟩ := xBad_f (by omega) c1
    obtain ⟨n, rfl⟩ : ∃ m, n = m + 1 := ⟨n - 1, by omega⟩
    obtain ⟨e1, e2, e3, e4, e5⟩ := hE.1 p0 hp0
    have W35 : ∀ (k i : Nat) (od' : Nat → Int32), i + k = n → p0 ≤ i → (∀ p, p < p0 → od' p = od p) → (∀ p, p0 ≤ p → p < i → od' p = od (p + 1)) → (∀ p, i ≤ p → p ≤ n → od' p = od p) → vV l D X 3 (kT d) 0 0 (kw h d (nI F) sch sn si sl tx (nI n) (od') (upd us (o p0) (nI 0)) tg kl ky pl pb ra) [.ref (h 0), .int (nI p0), .int (nI i)] 35 [] := by
      intro k
      induction k with
      | zero =>
        intro i od' hi hpi ho1 ho2 ho3
        refine v_iload_n (pc := 35) hC dX1_remove_35 rfl ?_
        refine v_aload_n (pc := 36) hC dX1_remove_36 rfl ?_
        refine kg_en (pc := 37) hC dX1_remove_37 ?_
        refine v_icmpN_ge (pc := 40) (tgt := 63) hC dX1_remove_40 (by decide) (by omega) (by omega) (fun c2 => ?_) (fun c2 => ?_)
        · skip
          refine v_aload_n (pc := 63) hC dX1_remove_63 rfl ?_
          refine kg_en (pc := 64) hC dX1_remove_64 ?_
          have hE2 := hE.remove hp0 (od' := od') (fun p hp => by
            unfold skp
            by_cases w : p < p0
            · rw [if_pos w]; exact ho1 p w
            · rw [if_neg w]; exact ho2 p (by omega) (by omega))
          refine hret _ _ _ _ dX1_remove_67 rfl ⟨fun w => absurd (c1.symm.trans w) (by decide), fun p1 hp1 e => ?_⟩
          have := (nI_eq (by omega) (by omega)).mp e
          subst this
          refine ⟨rfl, _, _, _, _, _, _, _, _, _, _, _, _, _, rfl, ⟨hF1, hF4, by omega⟩, hT, ?_, hE2⟩
          intro p hp f hf
          exact hU _ (by unfold skp; split <;> omega) f hf
        · exact absurd c2 (by omega)
      | succ k ih =>
        intro i od' hi hpi ho1 ho2 ho3
        refine v_iload_n (pc := 35) hC dX1_remove_35 rfl ?_
        refine v_aload_n (pc := 36) hC dX1_remove_36 rfl ?_
        refine kg_en (pc := 37) hC dX1_remove_37 ?_
        refine v_icmpN_ge (pc := 40) (tgt := 63) hC dX1_remove_40 (by decide) (by omega) (by omega) (fun c2 => ?_) (fun c2 => ?_)
        · exact absurd c2 (by omega)
        · skip
          refine v_aload_n (pc := 43) hC dX1_remove_43 rfl ?_
          refine kg_od (pc := 44) hC dX1_remove_44 ?_
          refine v_iload_n (pc := 47) hC dX1_remove_47 rfl ?_
          refine v_aload_n (pc := 48) hC dX1_remove_48 rfl ?_
          refine kg_od (pc := 49) hC dX1_remove_49 ?_
          refine v_iload_n (pc := 52) hC dX1_remove_52 rfl ?_
          refine v_iconst (pc := 53) (v := nI 1) hC dX1_remove_53 rfl ?_
          first | refine v_iaddN (pc := 54) hC dX1_remove_54 ?_ | refine v_iadd (pc := 54) hC dX1_remove_54 ?_
          refine kl_od (pc := 55) hC (by omega) dX1_remove_55 ?_
          refine ks_od (pc := 56) hC (by omega)  dX1_remove_56 ?_
          refine v_incN (pc := 57) (L' := [_, _, _]) hC dX1_remove_57 rfl (by decide) rfl ?_
          refine v_goto (pc := 60) (tgt := 35) hC dX1_remove_60 (by decide) ?_
          refine ih (i + 1) _ (by omega) (by omega) (fun p hp => ?_) (fun p h1 h2 => ?_) (fun p h1 h2 => ?_)
          · rw [pk_un (by omega)]; exact ho1 p hp
          · by_cases w : p = i
            · rw [w, pk_us]; exact ho3 _ (by omega) (by omega)
            · rw [pk_un w]; exact ho2 p h1 (by omega)
          · rw [pk_un (by omega)]; exact ho3 p (by omega) h2
    refine v_aload_n (pc := 11) hC dX1_remove_11 rfl ?_
    refine kg_us (pc := 12) hC dX1_remove_12 ?_
    refine v_aload_n (pc := 15) hC dX1_remove_15 rfl ?_
    refine kg_od (pc := 16) hC dX1_remove_16 ?_
    refine v_iload_n (pc := 19) hC dX1_remove_19 rfl ?_
    refine kl_od (pc := 20) hC (by omega) dX1_remove_20 ?_
    refine v_top e2 ?_
    refine v_iconst (pc := 21) (v := nI 0) hC dX1_remove_21 rfl ?_
    refine ks_us (pc := 22) hC (by omega) (by decide) dX1_remove_22 ?_
    refine v_aload_n (pc := 23) hC dX1_remove_23 rfl ?_
    refine v_dup (pc := 24) hC dX1_remove_24 rfl ?_
    refine kg_en (pc := 25) hC dX1_remove_25 ?_
    refine v_iconst (pc := 28) (v := nI 1) hC dX1_remove_28 rfl ?_
    first | refine v_isubN (pc := 29) hC dX1_remove_29 (by omega) ?_ | refine v_isub (pc := 29) hC dX1_remove_29 ?_
    refine kp_en (pc := 30) hC dX1_remove_30 ?_
    refine v_iload_n (pc := 33) hC dX1_remove_33 rfl ?_
    refine v_istore_n (pc := 34) (L' := [_, _, _]) hC dX1_remove_34 (Nat.le_of_ble_eq_true rfl) (by decide) rfl ?_
    exact W35 (n - p0) p0 od (by omega) (Nat.le_refl _) (fun _ _ => rfl) (fun p h1 h2 => absurd h1 (by omega)) (fun _ _ _ => rfl)
  · skip
    refine v_bipush (pc := 8) (v := (-5)) hC dX1_remove_8 (by decide) ?_
    exact hret _ _ _ _ dX1_remove_10 rfl ⟨fun _ => ⟨rfl, hR0⟩, fun j hj e => absurd ((xBad_j hj (by omega)).symm.trans (e ▸ c1)) (by decide)⟩
end K17
end
section
/-! OrderedKeys: reading a key -/
/-- from r on the key of place o goes on with the bytes A -/
def rAt (ky : Nat → Int32) (o r : Nat) (A : List Nat) : Prop := r + A.length ≤ 64 ∧ (∀ b ∈ A, b < 256) ∧ ∀ j, j < A.length → ky (o * 64 + (r + j)) = nI (A.getD j 0)
theorem rAt.cons {ky : Nat → Int32} {o r b : Nat} {A : List Nat} (h : rAt ky o r (b :: A)) : r < 64 ∧ b < 256 ∧ ky (o * 64 + r) = nI b ∧ rAt ky o (r + 1) A := by
  obtain ⟨h1, h2, h3⟩ := h
  rw [List.length_cons] at h1 h3
  refine ⟨by omega, h2 b List.mem_cons_self, h3 0 (by omega), by omega, fun x hx => h2 x (List.mem_cons_of_mem _ hx), fun j hj => ?_⟩
  have := h3 (j + 1) (by omega)
  rw [show r + (j + 1) = r + 1 + j by omega] at this
  rw [this, List.getD_cons_succ]
theorem rAt.app {ky : Nat → Int32} {o : Nat} : ∀ {P A : List Nat} {r : Nat}, rAt ky o r (P ++ A) → rAt ky o (r + P.length) A
  | [], _, _, h => h
  | b :: P, A, r, h => by
    have := (rAt.cons h).2.2.2.app
    rw [List.length_cons, show r + (P.length + 1) = r + 1 + P.length by omega]
    exact this
theorem kAt.r {kl ky : Nat → Int32} {o : Nat} {A : List Nat} (h : kAt kl ky o A) : rAt ky o 0 A := ⟨by have := h.2.1; omega, h.2.2.1, fun j hj => by rw [Nat.zero_add]; exact h.2.2.2 j hj⟩
def uB (b : Nat) : Int32 := nI b ^^^ (-2147483648)
theorem bias_uB {b : Nat} (hb : b < 4294967296) : bias (uB b) = b := by
  unfold bias uB
  have : nI b ^^^ (-2147483648) ^^^ (-2147483648) = nI b := by
    apply Int32.toBitVec_inj.mp
    simp [Int32.toBitVec_xor, BitVec.xor_assoc]
  rw [this, pk_tn hb]
theorem nI_or (a b : Nat) : nI a ||| nI b = nI (a ||| b) := by
  apply Int32.toBitVec_inj.mp
  show BitVec.ofNat 32 a ||| BitVec.ofNat 32 b = BitVec.ofNat 32 (a ||| b)
  rw [BitVec.ofNat_or]
theorem nI_pack {v x : Nat} (hx : x < 256) (hv : v < 16777216) : (nI v <<< (nI 8 &&& 31)) ||| nI x = nI (v * 256 + x) := by
  have h1 : nI v <<< (nI 8 &&& 31) = nI (v * 2 ^ 8) := pk_shlN (nI 8 &&& 31) 8 rfl (by omega)
  rw [h1, nI_or]
  congr 1
  have := Nat.two_pow_add_eq_or_of_lt (i := 8) (b := x) (by omega) v
  rw [Nat.mul_comm v (2 ^ 8), ← this]
theorem kTn_kTn {sch : Int32} {f b : Nat} (h : b < 256) : kTn sch f (kTn sch f b) = b := by
  unfold kTn
  split <;> omega
section K18
variable {l : Launch} {D : va_G} {h : Nat → Nat} {d : Nat → ClassId} {nf sch en pl ra : Int32} {sn si sl tx od us tg kl ky pb : Nat → Int32}
set_option maxHeartbeats 4000000 in
theorem kM_nextByte {o r b : Nat} (ho : o < 20) {A : List Nat} (hr : rAt ky o r (b :: A)) : vMi l D yX1_nextByte cX1_nextByte 3 .int 0 0 (kT d) (kw h d nf sch sn si sl tx en od us tg kl ky pl pb (nI r)) [.ref (h 0), .int (nI o)] (fun z u => z = nI b ∧ u = (kw h d nf sch sn si sl tx en od us tg kl ky pl pb (nI (r + 1)))) := by
  refine vMi_of RX1 (by decide) rfl (Nat.le_of_ble_eq_true rfl) rfl (fun X hC hret => ?_)
  obtain ⟨h1, h2, h3, h4⟩ := hr.cons
  refine v_aload_n (pc := 0) hC dX1_nextByte_0 rfl ?_
  refine kg_ra (pc := 1) hC dX1_nextByte_1 ?_
  refine v_bipush (pc := 4) (v := nI 64) hC dX1_nextByte_4 rfl ?_
  refine v_icmpN_ge (pc := 6) (tgt := 26) hC dX1_nextByte_6 (by decide) (by omega) (by omega) (fun c1 => ?_) (fun c1 => ?_)
  · exact absurd c1 (by omega)
  · skip
    refine v_aload_n (pc := 9) hC dX1_nextByte_9 rfl ?_
    refine kg_ky (pc := 10) hC dX1_nextByte_10 ?_
    refine v_iload_n (pc := 13) hC dX1_nextByte_13 rfl ?_
    refine v_bipush (pc := 14) (v := nI 64) hC dX1_nextByte_14 rfl ?_
    first | refine v_imulN (pc := 16) hC dX1_nextByte_16 ?_ | refine v_imul (pc := 16) hC dX1_nextByte_16 ?_
    refine v_aload_n (pc := 17) hC dX1_nextByte_17 rfl ?_
    refine kg_ra (pc := 18) hC dX1_nextByte_18 ?_
    first | refine v_iaddN (pc := 21) hC dX1_nextByte_21 ?_ | refine v_iadd (pc := 21) hC dX1_nextByte_21 ?_
    refine kl_ky (pc := 22) hC (by omega) dX1_nextByte_22 ?_
    refine v_top h3 ?_
    refine v_goto (pc := 23) (tgt := 27) hC dX1_nextByte_23 (by decide) ?_
    refine v_istore_n (pc := 27) (L' := [_, _, _]) hC dX1_nextByte_27 (Nat.le_of_ble_eq_true rfl) (by decide) rfl ?_
    refine v_aload_n (pc := 28) hC dX1_nextByte_28 rfl ?_
    refine v_dup (pc := 29) hC dX1_nextByte_29 rfl ?_
    refine kg_ra (pc := 30) hC dX1_nextByte_30 ?_
    refine v_iconst (pc := 33) (v := nI 1) hC dX1_nextByte_33 rfl ?_
    first | refine v_iaddN (pc := 34) hC dX1_nextByte_34 ?_ | refine v_iadd (pc := 34) hC dX1_nextByte_34 ?_
    refine kp_ra (pc := 35) hC dX1_nextByte_35 ?_
    refine v_iload_n (pc := 38) hC dX1_nextByte_38 rfl ?_
    exact hret _ _ _ _ dX1_nextByte_39 rfl ⟨rfl, rfl⟩
set_option maxHeartbeats 4000000 in
theorem kM_nextTurned {o r b f : Nat} (ho : o < 20) (hb : b < 256) {A : List Nat} (hr : rAt ky o r (kTn sch f b :: A)) : vMi l D yX1_nextTurned cX1_nextTurned 5 .int 1 32 (kT d) (kw h d nf sch sn si sl tx en od us tg kl ky pl pb (nI r)) [.ref (h 0), .int (nI o), .int (nI f)] (fun z u => z = nI b ∧ u = (kw h d nf sch sn si sl tx en od us tg kl ky pl pb (nI (r + 1)))) := by
  refine vMi_of RX1 (by decide) rfl (Nat.le_of_ble_eq_true rfl) rfl (fun X hC hret => ?_)
  have ht := kTn_kTn (sch := sch) (f := f) hb
  have hlt := kTn_lt (sch := sch) (f := f) hb
  refine v_aload_n (pc := 0) hC dX1_nextTurned_0 rfl ?_
  refine v_iload_n (pc := 1) hC dX1_nextTurned_1 rfl ?_
  refine k_calli1 (pc := 2) hC (kM_nextByte ho hr) kc_nextByte ⟨by decide, by decide⟩ (Nat.le_of_ble_eq_true rfl) dX1_nextTurned_2 (fun r u hp => ?_) ⟨rfl, rfl⟩
  obtain ⟨rfl, rfl⟩ := hp
  refine v_istore_n (pc := 5) (L' := [_, _, _, _]) hC dX1_nextTurned_5 (Nat.le_of_ble_eq_true rfl) (by decide) rfl ?_
  refine v_aload_n (pc := 6) hC dX1_nextTurned_6 rfl ?_
  refine v_iload_n (pc := 7) hC dX1_nextTurned_7 rfl ?_
  refine k_calli1 (pc := 8) hC (kM_descending) kc_descending ⟨by decide, by decide⟩ (Nat.le_of_ble_eq_true rfl) dX1_nextTurned_8 (fun r u hp => ?_) ⟨rfl, rfl⟩
  obtain ⟨rfl, rfl⟩ := hp
  refine v_istore (pc := 11) (L' := [_, _, _, _, _]) hC dX1_nextTurned_11 (Nat.le_of_ble_eq_true rfl) (by decide) rfl ?_
  refine v_iload (pc := 13) hC dX1_nextTurned_13 rfl ?_
  refine v_ifB_eq (pc := 15) (tgt := 26) hC dX1_nextTurned_15 (by decide) (fun c1 => ?_) (fun c1 => ?_)
  · skip
    refine v_iload_n (pc := 26) hC dX1_nextTurned_26 rfl ?_
    exact hret _ _ _ _ dX1_nextTurned_27 rfl ⟨by unfold kTn; rw [c1]; rfl, rfl⟩
  · skip
    refine v_sipush (pc := 18) (v := nI 255) hC dX1_nextTurned_18 rfl ?_
    refine v_iload_n (pc := 21) hC dX1_nextTurned_21 rfl ?_
    first | refine v_isubN (pc := 22) hC dX1_nextTurned_22 (by omega) ?_ | refine v_isub (pc := 22) hC dX1_nextTurned_22 ?_
    refine v_goto (pc := 23) (tgt := 27) hC dX1_nextTurned_23 (by decide) ?_
    have e : 255 - kTn sch f b = b := by
      unfold kTn
      rw [c1, if_pos rfl]
      omega
    exact hret _ _ _ _ dX1_nextTurned_27 rfl ⟨by rw [e], rfl⟩
set_option maxHeartbeats 4000000 in
theorem kM_readInt {o r b f : Nat} (ho : o < 20) (hb : b < 4294967296) {A : List Nat} (hr : rAt ky o r ((b4 b).map (kTn sch f) ++ A)) : vMi l D yX1_readInt cX1_readInt 5 .int 2 64 (kT d) (kw h d nf sch sn si sl tx en od us tg kl ky pl pb (nI r)) [.ref (h 0), .int (nI o), .int (nI f)] (fun z u => z = uB b ∧ u = (kw h d nf sch sn si sl tx en od us tg kl ky pl pb (nI (r + 4)))) := by
  refine vMi_of RX1 (by decide) rfl (Nat.le_of_ble_eq_true rfl) rfl (fun X hC hret => ?_)
  have r0 : rAt ky o r (kTn sch f (b / 16777216 % 256) :: kTn sch f (b / 65536 % 256) :: kTn sch f (b / 256 % 256) :: kTn sch f (b % 256) :: A) := hr
  have r1 := r0.cons.2.2.2
  have r2 := r1.cons.2.2.2
  have r3 := r2.cons.2.2.2
  refine v_iconst (pc := 0) (v := nI 0) hC dX1_readInt_0 rfl ?_
  refine v_istore_n (pc := 1) (L' := [_, _, _, _]) hC dX1_readInt_1 (Nat.le_of_ble_eq_true rfl) (by decide) rfl ?_
  refine v_iconst (pc := 2) (v := nI 0) hC dX1_readInt_2 rfl ?_
  refine v_istore (pc := 3) (L' := [_, _, _, _, _]) hC dX1_readInt_3 (Nat.le_of_ble_eq_true rfl) (by decide) rfl ?_
  refine v_iload (pc := 5) hC dX1_readInt_5 rfl ?_
  refine v_iconst (pc := 7) (v := nI 4) hC dX1_readInt_7 rfl ?_
  refine v_icmpN_ge (pc := 8) (tgt := 29) hC dX1_readInt_8 (by decide) (by omega) (by omega) (fun c0 => ?_) (fun c0 => ?_)
  · exact absurd c0 (by decide)
  refine v_iload_n (pc := 11) hC dX1_readInt_11 rfl ?_
  refine v_bipush (pc := 12) (v := nI 8) hC dX1_readInt_12 rfl ?_
  refine v_ishl (pc := 14) hC dX1_readInt_14 ?_
  refine v_aload_n (pc := 15) hC dX1_readInt_15 rfl ?_
  refine v_iload_n (pc := 16) hC dX1_readInt_16 rfl ?_
  refine v_iload_n (pc := 17) hC dX1_readInt_17 rfl ?_
  refine k_calli2 (pc := 18) hC (kM_nextTurned ho (by omega) r0) kc_nextTurned ⟨by decide, by decide⟩ (Nat.le_of_ble_eq_true rfl) dX1_readInt_18 (fun r u hp => ?_) ⟨rfl, rfl⟩
  obtain ⟨rfl, rfl⟩ := hp
  refine v_ior (pc := 21) hC dX1_readInt_21 ?_
  refine v_top (nI_pack (by omega) (by omega)) ?_
  refine v_istore_n (pc := 22) (L' := [_, _, _, _, _]) hC dX1_readInt_22 (Nat.le_of_ble_eq_true rfl) (by decide) rfl ?_
  refine v_incN (pc := 23) (L' := [_, _, _, _, _]) hC dX1_readInt_23 rfl (by decide) rfl ?_
  refine v_goto (pc := 26) (tgt := 5) hC dX1_readInt_26 (by decide) ?_
  refine v_iload (pc := 5) hC dX1_readInt_5 rfl ?_
  refine v_iconst (pc := 7) (v := nI 4) hC dX1_readInt_7 rfl ?_
  refine v_icmpN_ge (pc := 8) (tgt := 29) hC dX1_readInt_8 (by decide) (by omega) (by omega) (fun c1 => ?_) (fun c1 => ?_)
  · exact absurd c1 (by decide)
  refine v_iload_n (pc := 11) hC dX1_readInt_11 rfl ?_
  refine v_bipush (pc := 12) (v := nI 8) hC dX1_readInt_12 rfl ?_
  refine v_ishl (pc := 14) hC dX1_readInt_14 ?_
  refine v_aload_n (pc := 15) hC dX1_readInt_15 rfl ?_
  refine v_iload_n (pc := 16) hC dX1_readInt_16 rfl ?_
  refine v_iload_n (pc := 17) hC dX1_readInt_17 rfl ?_
  refine k_calli2 (pc := 18) hC (kM_nextTurned ho (by omega) r1) kc_nextTurned ⟨by decide, by decide⟩ (Nat.le_of_ble_eq_true rfl) dX1_readInt_18 (fun r u hp => ?_) ⟨rfl, rfl⟩
  obtain ⟨rfl, rfl⟩ := hp
  refine v_ior (pc := 21) hC dX1_readInt_21 ?_
  refine v_top (nI_pack (by omega) (by omega)) ?_
  refine v_istore_n (pc := 22) (L' := [_, _, _, _, _]) hC dX1_readInt_22 (Nat.le_of_ble_eq_true rfl) (by decide) rfl ?_
  refine v_incN (pc := 23) (L' := [_, _, _, _, _]) hC dX1_readInt_23 rfl (by decide) rfl ?_
  refine v_goto (pc := 26) (tgt := 5) hC dX1_readInt_26 (by decide) ?_
  refine v_iload (pc := 5) hC dX1_readInt_5 rfl ?_
  refine v_iconst (pc := 7) (v := nI 4) hC dX1_readInt_7 rfl ?_
  refine v_icmpN_ge (pc := 8) (tgt := 29) hC dX1_readInt_8 (by decide) (by omega) (by omega) (fun c2 => ?_) (fun c2 => ?_)
  · exact absurd c2 (by decide)
  refine v_iload_n (pc := 11) hC dX1_readInt_11 rfl ?_
  refine v_bipush (pc := 12) (v := nI 8) hC dX1_readInt_12 rfl ?_
  refine v_ishl (pc := 14) hC dX1_readInt_14 ?_
  refine v_aload_n (pc := 15) hC dX1_readInt_15 rfl ?_
  refine v_iload_n (pc := 16) hC dX1_readInt_16 rfl ?_
  refine v_iload_n (pc := 17) hC dX1_readInt_17 rfl ?_
  refine k_calli2 (pc := 18) hC (kM_nextTurned ho (by omega) r2) kc_nextTurned ⟨by decide, by decide⟩ (Nat.le_of_ble_eq_true rfl) dX1_readInt_18 (fun r u hp => ?_) ⟨rfl, rfl⟩
  obtain ⟨rfl, rfl⟩ := hp
  refine v_ior (pc := 21) hC dX1_readInt_21 ?_
  refine v_top (nI_pack (by omega) (by omega)) ?_
  refine v_istore_n (pc := 22) (L' := [_, _, _, _, _]) hC dX1_readInt_22 (Nat.le_of_ble_eq_true rfl) (by decide) rfl ?_
  refine v_incN (pc := 23) (L' := [_, _, _, _, _]) hC dX1_readInt_23 rfl (by decide) rfl ?_
  refine v_goto (pc := 26) (tgt := 5) hC dX1_readInt_26 (by decide) ?_
  refine v_iload (pc := 5) hC dX1_readInt_5 rfl ?_
  refine v_iconst (pc := 7) (v := nI 4) hC dX1_readInt_7 rfl ?_
  refine v_icmpN_ge (pc := 8) (tgt := 29) hC dX1_readInt_8 (by decide) (by omega) (by omega) (fun c3 => ?_) (fun c3 => ?_)
  · exact absurd c3 (by decide)
  refine v_iload_n (pc := 11) hC dX1_readInt_11 rfl ?_
  refine v_bipush (pc := 12) (v := nI 8) hC dX1_readInt_12 rfl ?_
  refine v_ishl (pc := 14) hC dX1_readInt_14 ?_
  refine v_aload_n (pc := 15) hC dX1_readInt_15 rfl ?_
  refine v_iload_n (pc := 16) hC dX1_readInt_16 rfl ?_
  refine v_iload_n (pc := 17) hC dX1_readInt_17 rfl ?_
  refine k_calli2 (pc := 18) hC (kM_nextTurned ho (by omega) r3) kc_nextTurned ⟨by decide, by decide⟩ (Nat.le_of_ble_eq_true rfl) dX1_readInt_18 (fun r u hp => ?_) ⟨rfl, rfl⟩
  obtain ⟨rfl, rfl⟩ := hp
  refine v_ior (pc := 21) hC dX1_readInt_21 ?_
  refine v_top (nI_pack (by omega) (by omega)) ?_
  refine v_istore_n (pc := 22) (L' := [_, _, _, _, _]) hC dX1_readInt_22 (Nat.le_of_ble_eq_true rfl) (by decide) rfl ?_
  refine v_incN (pc := 23) (L' := [_, _, _, _, _]) hC dX1_readInt_23 rfl (by decide) rfl ?_
  refine v_goto (pc := 26) (tgt := 5) hC dX1_readInt_26 (by decide) ?_
  refine v_iload (pc := 5) hC dX1_readInt_5 rfl ?_
  refine v_iconst (pc := 7) (v := nI 4) hC dX1_readInt_7 rfl ?_
  refine v_icmpN_ge (pc := 8) (tgt := 29) hC dX1_readInt_8 (by decide) (by omega) (by omega) (fun c9 => ?_) (fun c9 => ?_)
  · skip
    refine v_iload_n (pc := 29) hC dX1_readInt_29 rfl ?_
    refine v_ldc (pc := 30) hC q143 dX1_readInt_30 ?_
    refine v_ixor (pc := 32) hC dX1_readInt_32 ?_
    have e : ((((0 * 256 + b / 16777216 % 256) * 256 + b / 65536 % 256) * 256 + b / 256 % 256) * 256 + b % 256) = b := by omega
    exact hret _ _ _ _ dX1_readInt_33 rfl ⟨by rw [e]; rfl, rfl⟩
  · exact absurd c9 (by decide)
set_option maxHeartbeats 4000000 in
theorem kM_readChar {o r c f : Nat} (ho : o < 20) (hc : c < 256) {A : List Nat} (hr : rAt ky o r ((eC c).map (kTn sch f) ++ A)) : vMi l D yX1_readChar cX1_readChar 5 .int 2 64 (kT d) (kw h d nf sch sn si sl tx en od us tg kl ky pl pb (nI r)) [.ref (h 0), .int (nI o), .int (nI f)] (fun z u => z = nI c ∧ u = (kw h d nf sch sn si sl tx en od us tg kl ky pl pb (nI (r + (eC c).length)))) := by
  refine vMi_of RX1 (by decide) rfl (Nat.le_of_ble_eq_true rfl) rfl (fun X hC hret => ?_)
  by_cases hc0 : c = 0
  · subst hc0
    have r0 : rAt ky o r (kTn sch f 0 :: kTn sch f 255 :: A) := hr
    have r1 := r0.cons.2.2.2
    refine v_aload_n (pc := 0) hC dX1_readChar_0 rfl ?_
    refine v_iload_n (pc := 1) hC dX1_readChar_1 rfl ?_
    refine v_iload_n (pc := 2) hC dX1_readChar_2 rfl ?_
    refine k_calli2 (pc := 3) hC (kM_nextTurned ho (by omega) r0) kc_nextTurned ⟨by decide, by decide⟩ (Nat.le_of_ble_eq_true rfl) dX1_readChar_3 (fun r u hp => ?_) ⟨rfl, rfl⟩
    obtain ⟨rfl, rfl⟩ := hp
    refine v_istore_n (pc := 6) (L' := [_, _, _, _]) hC dX1_readChar_6 (Nat.le_of_ble_eq_true rfl) (by decide) rfl ?_
    refine v_iload_n (pc := 7) hC dX1_readChar_7 rfl ?_
    refine v_ifN_eq (pc := 8) (tgt := 13) hC dX1_readChar_8 (by decide) (by omega) (fun c1 => ?_) (fun c1 => ?_)
    · skip
      refine v_aload_n (pc := 13) hC dX1_readChar_13 rfl ?_
      refine v_iload_n (pc := 14) hC dX1_readChar_14 rfl ?_
      refine v_iload_n (pc := 15) hC dX1_readChar_15 rfl ?_
      refine k_calli2 (pc := 16) hC (kM_nextTurned ho (by omega) r1) kc_nextTurned ⟨by decide, by decide⟩ (Nat.le_of_ble_eq_true rfl) dX1_readChar_16 (fun r u hp => ?_) ⟨rfl, rfl⟩
      obtain ⟨rfl, rfl⟩ := hp
      refine v_istore (pc := 19) (L' := [_, _, _, _, _]) hC dX1_readChar_19 (Nat.le_of_ble_eq_true rfl) (by decide) rfl ?_
      refine v_iload (pc := 21) hC dX1_readChar_21 rfl ?_
      refine v_iconst (pc := 23) (v := nI 1) hC dX1_readChar_23 rfl ?_
      refine v_icmpN_ne (pc := 24) (tgt := 31) hC dX1_readChar_24 (by decide) (by omega) (by omega) (fun c2 => ?_) (fun c2 => ?_)
      · skip
        refine v_iconst (pc := 31) (v := nI 0) hC dX1_readChar_31 rfl ?_
        exact hret _ _ _ _ dX1_readChar_32 rfl ⟨rfl, rfl⟩
      · exact absurd c2 (by decide)
    · exact absurd rfl c1
  · have r0 : rAt ky o r (kTn sch f c :: A) := by
      unfold eC at hr
      rw [if_neg hc0] at hr
      exact hr
    have e : (eC c).length = 1 := by unfold eC; rw [if_neg hc0]; rfl
    refine v_aload_n (pc := 0) hC dX1_readChar_0 rfl ?_
    refine v_iload_n (pc := 1) hC dX1_readChar_1 rfl ?_
    refine v_iload_n (pc := 2) hC dX1_readChar_2 rfl ?_
    refine k_calli2 (pc := 3) hC (kM_nextTurned ho (by omega) r0) kc_nextTurned ⟨by decide, by decide⟩ (Nat.le_of_ble_eq_true rfl) dX1_readChar_3 (fun r u hp => ?_) ⟨rfl, rfl⟩
    obtain ⟨rfl, rfl⟩ := hp
    refine v_istore_n (pc := 6) (L' := [_, _, _, _]) hC dX1_readChar_6 (Nat.le_of_ble_eq_true rfl) (by decide) rfl ?_
    refine v_iload_n (pc := 7) hC dX1_readChar_7 rfl ?_
    refine v_ifN_eq (pc := 8) (tgt := 13) hC dX1_readChar_8 (by decide) (by omega) (fun c1 => ?_) (fun c1 => ?_)
    · exact absurd c1 hc0
    · skip
      refine v_iload_n (pc := 11) hC dX1_readChar_11 rfl ?_
      exact hret _ _ _ _ dX1_readChar_12 rfl ⟨rfl, by rw [e]⟩
set_option maxHeartbeats 4000000 in
theorem kM_readEnd {o r f : Nat} (ho : o < 20) {A : List Nat} (hr : rAt ky o r (([0, 1] : List Nat).map (kTn sch f) ++ A)) : vMi l D yX1_readChar cX1_readChar 5 .int 2 64 (kT d) (kw h d nf sch sn si sl tx en od us tg kl ky pl pb (nI r)) [.ref (h 0), .int (nI o), .int (nI f)] (fun z u => z = -1 ∧ u = (kw h d nf sch sn si sl tx en od us tg kl ky pl pb (nI (r + 2)))) := by
  refine vMi_of RX1 (by decide) rfl (Nat.le_of_ble_eq_true rfl) rfl (fun X hC hret => ?_)
  have r0 : rAt ky o r (kTn sch f 0 :: kTn sch f 1 :: A) := hr
  have r1 := r0.cons.2.2.2
  refine v_aload_n (pc := 0) hC dX1_readChar_0 rfl ?_
  refine v_iload_n (pc := 1) hC dX1_readChar_1 rfl ?_
  refine v_iload_n (pc := 2) hC dX1_readChar_2 rfl ?_
  refine k_calli2 (pc := 3) hC (kM_nextTurned ho (by omega) r0) kc_nextTurned ⟨by decide, by decide⟩ (Nat.le_of_ble_eq_true rfl) dX1_readChar_3 (fun r u hp => ?_) ⟨rfl, rfl⟩
  obtain ⟨rfl, rfl⟩ := hp
  refine v_istore_n (pc := 6) (L' := [_, _, _, _]) hC dX1_readChar_6 (Nat.le_of_ble_eq_true rfl) (by decide) rfl ?_
  refine v_iload_n (pc := 7) hC dX1_readChar_7 rfl ?_
  refine v_ifN_eq (pc := 8) (tgt := 13) hC dX1_readChar_8 (by decide) (by omega) (fun c1 => ?_) (fun c1 => ?_)
  · skip
    refine v_aload_n (pc := 13) hC dX1_readChar_13 rfl ?_
    refine v_iload_n (pc := 14) hC dX1_readChar_14 rfl ?_
    refine v_iload_n (pc := 15) hC dX1_readChar_15 rfl ?_
    refine k_calli2 (pc := 16) hC (kM_nextTurned ho (by omega) r1) kc_nextTurned ⟨by decide, by decide⟩ (Nat.le_of_ble_eq_true rfl) dX1_readChar_16 (fun r u hp => ?_) ⟨rfl, rfl⟩
    obtain ⟨rfl, rfl⟩ := hp
    refine v_istore (pc := 19) (L' := [_, _, _, _, _]) hC dX1_readChar_19 (Nat.le_of_ble_eq_true rfl) (by decide) rfl ?_
    refine v_iload (pc := 21) hC dX1_readChar_21 rfl ?_
    refine v_iconst (pc := 23) (v := nI 1) hC dX1_readChar_23 rfl ?_
    refine v_icmpN_ne (pc := 24) (tgt := 31) hC dX1_readChar_24 (by decide) (by omega) (by omega) (fun c2 => ?_) (fun c2 => ?_)
    · exact absurd rfl c2
    · skip
      refine v_iconst (pc := 27) (v := (-1)) hC dX1_readChar_27 (by decide) ?_
      refine v_goto (pc := 28) (tgt := 32) hC dX1_readChar_28 (by decide) ?_
      exact hret _ _ _ _ dX1_readChar_32 rfl ⟨rfl, rfl⟩
  · exact absurd rfl c1
theorem rAt.text {ky : Nat → Int32} {o r : Nat} {sch : Int32} {f c : Nat} {w A : List Nat} (h : rAt ky o r (((c :: w).flatMap eC ++ [0, 1]).map (kTn sch f) ++ A)) : rAt ky o r ((eC c).map (kTn sch f) ++ ((w.flatMap eC ++ [0, 1]).map (kTn sch f) ++ A)) ∧ rAt ky o (r + (eC c).length) ((w.flatMap eC ++ [0, 1]).map (kTn sch f) ++ A) := by
  have e : ((c :: w).flatMap eC ++ [0, 1]).map (kTn sch f) ++ A = (eC c).map (kTn sch f) ++ ((w.flatMap eC ++ [0, 1]).map (kTn sch f) ++ A) := by
    rw [List.flatMap_cons]
    simp
  rw [e] at h
  refine ⟨h, ?_⟩
  have := h.app
  rwa [List.length_map] at this
set_option maxHeartbeats 4000000 in
theorem kM_skipValue {o r f : Nat} (ho : o < 20) {w A : List Nat} (hw : fOk (kTx sch f) (some w)) (hr : rAt ky o r ((eB (kTx sch f) w).map (kTn sch f) ++ A)) : vMv l D yX1_skipValue cX1_skipValue 5 3 96 (kT d) (kw h d nf sch sn si sl tx en od us tg kl ky pl pb (nI r)) [.ref (h 0), .int (nI o), .int (nI f)] (fun u => u = (kw h d nf sch sn si sl tx en od us tg kl ky pl pb (nI (r + (eB (kTx sch f) w).length)))) := by
  refine vMv_of RX1 (by decide) rfl (Nat.le_of_ble_eq_true rfl) rfl (fun X hC hret => ?_)
  refine v_aload_n (pc := 0) hC dX1_skipValue_0 rfl ?_
  refine v_iload_n (pc := 1) hC dX1_skipValue_1 rfl ?_
  refine k_calli1 (pc := 2) hC (kM_isText) kc_isText ⟨by decide, by decide⟩ (Nat.le_of_ble_eq_true rfl) dX1_skipValue_2 (fun r u hp => ?_) ⟨rfl, rfl⟩
  obtain ⟨rfl, rfl⟩ := hp
  refine v_ifB_ne (pc := 5) (tgt := 19) hC dX1_skipValue_5 (by decide) (fun c1 => ?_) (fun c1 => ?_)
  · rw [c1] at hr hw hret
    rw [fOk_t] at hw
    unfold eB at hr hret
    rw [if_pos rfl] at hr hret
    obtain ⟨hw6, hwc⟩ := hw
    have fin : ∀ (r2 i : Nat) (z : Int32), r2 = r + (w.flatMap eC ++ [0, 1]).length → z < 0 → i < 1000 → vV l D X 5 (kT d) 0 0 (kw h d nf sch sn si sl tx en od us tg kl ky pl pb (nI r2)) [.ref (h 0), .int (nI o), .int (nI f), .int z, .int (nI i)] 24 [] := by
      intro r2 i z hr2 hz hi
      refine v_iload (pc := 24) hC dX1_skipValue_24 rfl ?_
      refine v_bipush (pc := 26) (v := nI 8) hC dX1_skipValue_26 rfl ?_
      refine v_icmpN_ge (pc := 28) (tgt := 48) hC dX1_skipValue_28 (by decide) (by omega) (by omega) (fun c2 => ?_) (fun c2 => ?_)
      · skip
        exact hret _ _ _ dX1_skipValue_48 (by rw [hr2])
      · skip
        refine v_iload_n (pc := 31) hC dX1_skipValue_31 rfl ?_
        refine v_if_lt (pc := 32) (tgt := 48) hC dX1_skipValue_32 (by decide) (fun c3 => ?_) (fun c3 => ?_)
        · skip
          exact hret _ _ _ dX1_skipValue_48 (by rw [hr2])
        · exact absurd hz c3
    have loop : ∀ (v : List Nat) (r2 i : Nat) (z : Int32), ¬ z < 0 → v.length + i ≤ 6 → (∀ c ∈ v, c < 256) → r2 + (v.flatMap eC ++ [0, 1]).length = r + (w.flatMap eC ++ [0, 1]).length → rAt ky o r2 ((v.flatMap eC ++ [0, 1]).map (kTn sch f) ++ A) → vV l D X 5 (kT d) 0 0 (kw h d nf sch sn si sl tx en od us tg kl ky pl pb (nI r2)) [.ref (h 0), .int (nI o), .int (nI f), .int z, .int (nI i)] 24 [] := by
      intro v
      induction v with
      | nil =>
        intro r2 i z hz hi hv hl hr2
        rw [List.length_nil] at hi
        refine v_iload (pc := 24) hC dX1_skipValue_24 rfl ?_
        refine v_bipush (pc := 26) (v := nI 8) hC dX1_skipValue_26 rfl ?_
        refine v_icmpN_ge (pc := 28) (tgt := 48) hC dX1_skipValue_28 (by decide) (by omega) (by omega) (fun c2 => ?_) (fun c2 => ?_)
        · exact absurd c2 (by omega)
        · skip
          refine v_iload_n (pc := 31) hC dX1_skipValue_31 rfl ?_
          refine v_if_lt (pc := 32) (tgt := 48) hC dX1_skipValue_32 (by decide) (fun c3 => ?_) (fun c3 => ?_)
          · exact absurd c3 hz
          · skip
            refine v_aload_n (pc := 35) hC dX1_skipValue_35 rfl ?_
            refine v_iload_n (pc := 36) hC dX1_skipValue_36 rfl ?_
            refine v_iload_n (pc := 37) hC dX1_skipValue_37 rfl ?_
            refine k_calli2 (pc := 38) hC (kM_readEnd ho hr2) kc_readChar ⟨by decide, by decide⟩ (Nat.le_of_ble_eq_true rfl) dX1_skipValue_38 (fun r u hp => ?_) ⟨rfl, rfl⟩
            obtain ⟨rfl, rfl⟩ := hp
            refine v_istore_n (pc := 41) (L' := [_, _, _, _, _]) hC dX1_skipValue_41 (Nat.le_of_ble_eq_true rfl) (by decide) rfl ?_
            refine v_incN (pc := 42) (L' := [_, _, _, _, _]) hC dX1_skipValue_42 rfl (by decide) rfl ?_
            refine v_goto (pc := 45) (tgt := 24) hC dX1_skipValue_45 (by decide) ?_
            exact fin (r2 + 2) (i + 1) (-1) hl (by decide) (by omega)
      | cons c v ih =>
        intro r2 i z hz hi hv hl hr2
        rw [List.length_cons] at hi
        have hc := hv c List.mem_cons_self
        obtain ⟨t1, t2⟩ := hr2.text
        refine v_iload (pc := 24) hC dX1_skipValue_24 rfl ?_
        refine v_bipush (pc := 26) (v := nI 8) hC dX1_skipValue_26 rfl ?_
        refine v_icmpN_ge (pc := 28) (tgt := 48) hC dX1_skipValue_28 (by decide) (by omega) (by omega) (fun c2 => ?_) (fun c2 => ?_)
        · exact absurd c2 (by omega)
        · skip
          refine v_iload_n (pc := 31) hC dX1_skipValue_31 rfl ?_
          refine v_if_lt (pc := 32) (tgt := 48) hC dX1_skipValue_32 (by decide) (fun c3 => ?_) (fun c3 => ?_)
          · exact absurd c3 hz
          · skip
            refine v_aload_n (pc := 35) hC dX1_skipValue_35 rfl ?_
            refine v_iload_n (pc := 36) hC dX1_skipValue_36 rfl ?_
            refine v_iload_n (pc := 37) hC dX1_skipValue_37 rfl ?_
            refine k_calli2 (pc := 38) hC (kM_readChar ho hc t1) kc_readChar ⟨by decide, by decide⟩ (Nat.le_of_ble_eq_true rfl) dX1_skipValue_38 (fun r u hp => ?_) ⟨rfl, rfl⟩
            obtain ⟨rfl, rfl⟩ := hp
            refine v_istore_n (pc := 41) (L' := [_, _, _, _, _]) hC dX1_skipValue_41 (Nat.le_of_ble_eq_true rfl) (by decide) rfl ?_
            refine v_incN (pc := 42) (L' := [_, _, _, _, _]) hC dX1_skipValue_42 rfl (by decide) rfl ?_
            refine v_goto (pc := 45) (tgt := 24) hC dX1_skipValue_45 (by decide) ?_
            refine ih (r2 + (eC c).length) (i + 1) (nI c) (nI_pos (by omega)) (by omega) (fun x hx => hv x (List.mem_cons_of_mem _ hx)) ?_ t2
            have e : ((c :: v).flatMap eC ++ [0, 1]).length = (eC c).length + (v.flatMap eC ++ [0, 1]).length := by rw [List.flatMap_cons, List.append_assoc, List.length_append]
            omega
    refine v_iconst (pc := 19) (v := nI 0) hC dX1_skipValue_19 rfl ?_
    refine v_istore_n (pc := 20) (L' := [_, _, _, _]) hC dX1_skipValue_20 (Nat.le_of_ble_eq_true rfl) (by decide) rfl ?_
    refine v_iconst (pc := 21) (v := nI 0) hC dX1_skipValue_21 rfl ?_
    refine v_istore (pc := 22) (L' := [_, _, _, _, _]) hC dX1_skipValue_22 (Nat.le_of_ble_eq_true rfl) (by decide) rfl ?_
    exact loop w r 0 (nI 0) (by decide) (by omega) hwc rfl hr
  · rw [c1] at hret
    refine v_aload_n (pc := 8) hC dX1_skipValue_8 rfl ?_
    refine v_dup (pc := 9) hC dX1_skipValue_9 rfl ?_
    refine kg_ra (pc := 10) hC dX1_skipValue_10 ?_
    refine v_iconst (pc := 13) (v := nI 4) hC dX1_skipValue_13 rfl ?_
    first | refine v_iaddN (pc := 14) hC dX1_skipValue_14 ?_ | refine v_iadd (pc := 14) hC dX1_skipValue_14 ?_
    refine kp_ra (pc := 15) hC dX1_skipValue_15 ?_
    exact hret _ _ _ dX1_skipValue_18 rfl
set_option maxHeartbeats 4000000 in
/-- seek: whether field f is null; behind that the value's bytes come next -/
theorem kM_seek {o f F : Nat} (ho : o < 20) (hf : f < F) (hF : F ≤ 4) {T : Nat → FV} (hT : ∀ j, j < F → fOk (kTx sch j) (T j)) (hr : rAt ky o 0 (eR sch T 0 F)) : vMi l D yX1_seek cX1_seek 5 .boolean 4 128 (kT d) (kw h d nf sch sn si sl tx en od us tg kl ky pl pb ra) [.ref (h 0), .int (nI o), .int (nI f)] (fun z u => z = bI (T f).isNone ∧ ∃ r : Nat, u = (kw h d nf sch sn si sl tx en od us tg kl ky pl pb (nI r)) ∧ ∀ w, T f = some w → ∃ A, rAt ky o r ((eB (kTx sch f) w).map (kTn sch f) ++ A)) := by
  refine vMi_of RX1 (by decide) rfl (Nat.le_of_ble_eq_true rfl) rfl (fun X hC hret => ?_)
  have loop : ∀ (k i r : Nat), i + k = f → rAt ky o r (eR sch T i (F - i)) → vV l D X 5 (kT d) 0 0 (kw h d nf sch sn si sl tx en od us tg kl ky pl pb (nI r)) [.ref (h 0), .int (nI o), .int (nI f), .int (nI i)] 7 [] := by
    intro k
    induction k with
    | zero =>
      intro i r hi hr2
      have : i = f := by omega
      subst this
      have e : F - i = (F - i - 1) + 1 := by omega
      rw [e, eR] at hr2
      refine v_iload_n (pc := 7) hC dX1_seek_7 rfl ?_
      refine v_iload_n (pc := 8) hC dX1_seek_8 rfl ?_
      refine v_icmpN_ge (pc := 9) (tgt := 37) hC dX1_seek_9 (by decide) (by omega) (by omega) (fun c1 => ?_) (fun c1 => ?_)
      · skip
        refine v_aload_n (pc := 37) hC dX1_seek_37 rfl ?_
        refine v_iload_n (pc := 38) hC dX1_seek_38 rfl ?_
        cases hx : T i with
        | none =>
          rw [hx, eF_none] at hr2
          refine k_calli1 (pc := 39) hC (kM_nextByte ho hr2) kc_nextByte ⟨by decide, by decide⟩ (Nat.le_of_ble_eq_true rfl) dX1_seek_39 (fun r u hp => ?_) ⟨rfl, rfl⟩
          obtain ⟨rfl, rfl⟩ := hp
          refine v_istore_n (pc := 42) (L' := [_, _, _, _]) hC dX1_seek_42 (Nat.le_of_ble_eq_true rfl) (by decide) rfl ?_
          refine v_iload_n (pc := 43) hC dX1_seek_43 rfl ?_
          refine v_iconst (pc := 44) (v := nI 1) hC dX1_seek_44 rfl ?_
          refine v_icmpN_eq (pc := 45) (tgt := 52) hC dX1_seek_45 (by decide) (by split <;> omega) (by omega) (fun c2 => ?_) (fun c2 => ?_)
          · exfalso
            split at c2 <;> omega
          · skip
            refine v_iconst (pc := 48) (v := nI 1) hC dX1_seek_48 rfl ?_
            refine v_goto (pc := 49) (tgt := 53) hC dX1_seek_49 (by decide) ?_
            exact hret _ _ _ _ dX1_seek_53 rfl ⟨by rw [hx]; rfl, _, rfl, fun w hw => by rw [hx] at hw; cases hw⟩
        | some w =>
          rw [hx, eF_some] at hr2
          refine k_calli1 (pc := 39) hC (kM_nextByte ho hr2) kc_nextByte ⟨by decide, by decide⟩ (Nat.le_of_ble_eq_true rfl) dX1_seek_39 (fun r u hp => ?_) ⟨rfl, rfl⟩
          obtain ⟨rfl, rfl⟩ := hp
          refine v_istore_n (pc := 42) (L' := [_, _, _, _]) hC dX1_seek_42 (Nat.le_of_ble_eq_true rfl) (by decide) rfl ?_
          refine v_iload_n (pc := 43) hC dX1_seek_43 rfl ?_
          refine v_iconst (pc := 44) (v := nI 1) hC dX1_seek_44 rfl ?_
          refine v_icmpN_eq (pc := 45) (tgt := 52) hC dX1_seek_45 (by decide) (by omega) (by omega) (fun c2 => ?_) (fun c2 => ?_)
          · skip
            refine v_iconst (pc := 52) (v := nI 0) hC dX1_seek_52 rfl ?_
            exact hret _ _ _ _ dX1_seek_53 rfl ⟨by rw [hx]; rfl, _, rfl, fun w' hw' => ⟨eR sch T (i + 1) (F - i - 1), by rw [hx] at hw'; cases hw'; exact hr2.cons.2.2.2⟩⟩
          · exact absurd rfl c2
      · exact absurd c1 (by omega)
    | succ k ih =>
      intro i r hi hr2
      have e : F - i = (F - (i + 1)) + 1 := by omega
      rw [e, eR] at hr2
      have hTi := hT i (by omega)
      refine v_iload_n (pc := 7) hC dX1_seek_7 rfl ?_
      refine v_iload_n (pc := 8) hC dX1_seek_8 rfl ?_
      refine v_icmpN_ge (pc := 9) (tgt := 37) hC dX1_seek_9 (by decide) (by omega) (by omega) (fun c1 => ?_) (fun c1 => ?_)
      · exact absurd c1 (by omega)
      · skip
        refine v_aload_n (pc := 12) hC dX1_seek_12 rfl ?_
        refine v_iload_n (pc := 13) hC dX1_seek_13 rfl ?_
        cases hx : T i with
        | none =>
          rw [hx, eF_none] at hr2
          refine k_calli1 (pc := 14) hC (kM_nextByte ho hr2) kc_nextByte ⟨by decide, by decide⟩ (Nat.le_of_ble_eq_true rfl) dX1_seek_14 (fun r u hp => ?_) ⟨rfl, rfl⟩
          obtain ⟨rfl, rfl⟩ := hp
          refine v_istore (pc := 17) (L' := [_, _, _, _, _]) hC dX1_seek_17 (Nat.le_of_ble_eq_true rfl) (by decide) rfl ?_
          refine v_iload (pc := 19) hC dX1_seek_19 rfl ?_
          refine v_iconst (pc := 21) (v := nI 1) hC dX1_seek_21 rfl ?_
          refine v_icmpN_ne (pc := 22) (tgt := 31) hC dX1_seek_22 (by decide) (by split <;> omega) (by omega) (fun c2 => ?_) (fun c2 => ?_)
          · skip
            refine v_incN (pc := 31) (L' := [_, _, _, _, _]) hC dX1_seek_31 rfl (by decide) rfl ?_
            refine v_goto (pc := 34) (tgt := 7) hC dX1_seek_34 (by decide) ?_
            refine v_take 4 (L' := [_, _, _, _]) rfl ?_
            exact ih (i + 1) (r + 1) (by omega) hr2.cons.2.2.2
          · exfalso
            split at c2 <;> omega
        | some w =>
          rw [hx, eF_some] at hr2
          rw [hx] at hTi
          refine k_calli1 (pc := 14) hC (kM_nextByte ho hr2) kc_nextByte ⟨by decide, by decide⟩ (Nat.le_of_ble_eq_true rfl) dX1_seek_14 (fun r u hp => ?_) ⟨rfl, rfl⟩
          obtain ⟨rfl, rfl⟩ := hp
          have h1 := hr2.cons.2.2.2
          refine v_istore (pc := 17) (L' := [_, _, _, _, _]) hC dX1_seek_17 (Nat.le_of_ble_eq_true rfl) (by decide) rfl ?_
          refine v_iload (pc := 19) hC dX1_seek_19 rfl ?_
          refine v_iconst (pc := 21) (v := nI 1) hC dX1_seek_21 rfl ?_
          refine v_icmpN_ne (pc := 22) (tgt := 31) hC dX1_seek_22 (by decide) (by omega) (by omega) (fun c2 => ?_) (fun c2 => ?_)
          · exact absurd rfl c2
          · skip
            refine v_aload_n (pc := 25) hC dX1_seek_25 rfl ?_
            refine v_iload_n (pc := 26) hC dX1_seek_26 rfl ?_
            refine v_iload_n (pc := 27) hC dX1_seek_27 rfl ?_
            refine k_callv2 (pc := 28) hC (kM_skipValue ho hTi h1) kc_skipValue ⟨by decide, by decide⟩ (Nat.le_of_ble_eq_true rfl) dX1_seek_28 (fun u hp => ?_) ⟨rfl, rfl⟩
            subst hp
            refine v_incN (pc := 31) (L' := [_, _, _, _, _]) hC dX1_seek_31 rfl (by decide) rfl ?_
            refine v_goto (pc := 34) (tgt := 7) hC dX1_seek_34 (by decide) ?_
            refine v_take 4 (L' := [_, _, _, _]) rfl ?_
            have h2 := h1.app
            rw [List.length_map] at h2
            exact ih (i + 1) _ (by omega) h2
  refine v_aload_n (pc := 0) hC dX1_seek_0 rfl ?_
  refine v_iconst (pc := 1) (v := nI 0) hC dX1_seek_1 rfl ?_
  refine kp_ra (pc := 2) hC dX1_seek_2 ?_
  refine v_iconst (pc := 5) (v := nI 0) hC dX1_seek_5 rfl ?_
  refine v_istore_n (pc := 6) (L' := [_, _, _, _]) hC dX1_seek_6 (Nat.le_of_ble_eq_true rfl) (by decide) rfl ?_
  exact loop f 0 0 (by omega) hr
set_option maxHeartbeats 4000000 in
theorem kM_loadField {o r f : Nat} (ho : o < 20) (hf : f < 4) {w A : List Nat} (hw : fOk (kTx sch f) (some w)) (hr : rAt ky o r ((eB (kTx sch f) w).map (kTn sch f) ++ A)) : vMv l D yX1_loadField cX1_loadField 5 3 96 (kT d) (kw h d nf sch sn si sl tx en od us tg kl ky pl pb (nI r)) [.ref (h 0), .int (nI o), .int (nI f)] (fun u => ∃ (si' sl' tx' : Nat → Int32) (ra' : Int32), u = (kw h d nf sch sn (si') (sl') (tx') en od us tg kl ky pl pb (ra')) ∧ fRep (kTx sch f) (some w) (nI 0) (si' f) (sl' f) (fun j => tx' (f * 6 + j)) ∧ ∀ g, g ≠ f → si' g = si g ∧ sl' g = sl g ∧ ∀ j, j < 6 → tx' (g * 6 + j) = tx (g * 6 + j)) := by
  refine vMv_of RX1 (by decide) rfl (Nat.le_of_ble_eq_true rfl) rfl (fun X hC hret => ?_)
  refine v_aload_n (pc := 0) hC dX1_loadField_0 rfl ?_
  refine v_iload_n (pc := 1) hC dX1_loadField_1 rfl ?_
  refine k_calli1 (pc := 2) hC (kM_isText) kc_isText ⟨by decide, by decide⟩ (Nat.le_of_ble_eq_true rfl) dX1_loadField_2 (fun r u hp => ?_) ⟨rfl, rfl⟩
  obtain ⟨rfl, rfl⟩ := hp
  refine v_ifB_ne (pc := 5) (tgt := 21) hC dX1_loadField_5 (by decide) (fun c1 => ?_) (fun c1 => ?_)
  · rw [c1] at hr hw hret
    rw [fOk_t] at hw
    unfold eB at hr
    rw [if_pos rfl] at hr
    obtain ⟨hw6, hwc⟩ := hw
    have fin : ∀ (sl' tx' : Nat → Int32) (r2 i : Nat) (z : Int32), (6 ≤ i ∨ z < 0) → i ≤ 6 → sl' f = nI w.length → (∀ g, g ≠ f → sl' g = sl g) → (∀ j, j < w.length → tx' (f * 6 + j) = nI (w.getD j 0)) → (∀ g, g ≠ f → ∀ j, j < 6 → tx' (g * 6 + j) = tx (g * 6 + j)) → vV l D X 5 (kT d) 0 0 (kw h d nf sch sn si (sl') (tx') en od us tg kl ky pl pb (nI r2)) [.ref (h 0), .int (nI o), .int (nI f), .int z, .int (nI i)] 38 [] := by
      intro sl' tx' r2 i z hz hi h1 h2 h3 h4
      have post : ∃ (si' sl'' tx'' : Nat → Int32) (ra' : Int32), (kw h d nf sch sn si (sl') (tx') en od us tg kl ky pl pb (nI r2)) = (kw h d nf sch sn (si') (sl'') (tx'') en od us tg kl ky pl pb (ra')) ∧ fRep true (some w) (nI 0) (si' f) (sl'' f) (fun j => tx'' (f * 6 + j)) ∧ ∀ g, g ≠ f → si' g = si g ∧ sl'' g = sl g ∧ ∀ j, j < 6 → tx'' (g * 6 + j) = tx (g * 6 + j) :=
        ⟨si, sl', tx', nI r2, rfl, fRep_t.mpr ⟨rfl, ⟨hw6, hwc⟩, h1, h3⟩, fun g hg => ⟨rfl, h2 g hg, h4 g hg⟩⟩
      refine v_iload (pc := 38) hC dX1_loadField_38 rfl ?_
      refine v_bipush (pc := 40) (v := nI 6) hC dX1_loadField_40 rfl ?_
      refine v_icmpN_ge (pc := 42) (tgt := 85) hC dX1_loadField_42 (by decide) (by omega) (by omega) (fun c2 => ?_) (fun c2 => ?_)
      · skip
        exact hret _ _ _ dX1_loadField_85 post
      · skip
        refine v_iload_n (pc := 45) hC dX1_loadField_45 rfl ?_
        refine v_if_lt (pc := 46) (tgt := 85) hC dX1_loadField_46 (by decide) (fun c3 => ?_) (fun c3 => ?_)
        · skip
          exact hret _ _ _ dX1_loadField_85 post
        · exact absurd (hz.resolve_left (by omega)) c3
    have loop : ∀ (v : List Nat) (sl' tx' : Nat → Int32) (r2 i c : Nat), w.drop i = c :: v → sl' f = nI i → (∀ g, g ≠ f → sl' g = sl g) → (∀ j, j < i → tx' (f * 6 + j) = nI (w.getD j 0)) → (∀ g, g ≠ f → ∀ j, j < 6 → tx' (g * 6 + j) = tx (g * 6 + j)) → rAt ky o r2 ((v.flatMap eC ++ [0, 1]).map (kTn sch f) ++ A) → vV l D X 5 (kT d) 0 0 (kw h d nf sch sn si (sl') (tx') en od us tg kl ky pl pb (nI r2)) [.ref (h 0), .int (nI o), .int (nI f), .int (nI c), .int (nI i)] 38 [] := by
      intro v
      induction v with
      | nil =>
        intro sl' tx' r2 i c hd h1 h2 h3 h4 hr2
        obtain ⟨hi, hci, hd2, hcw⟩ := drop_cons hd
        have hc := hwc c hcw
        have hiw := drop_nil hd2
        refine v_iload (pc := 38) hC dX1_loadField_38 rfl ?_
        refine v_bipush (pc := 40) (v := nI 6) hC dX1_loadField_40 rfl ?_
        refine v_icmpN_ge (pc := 42) (tgt := 85) hC dX1_loadField_42 (by decide) (by omega) (by omega) (fun c2 => ?_) (fun c2 => ?_)
        · exact absurd c2 (by omega)
        · skip
          refine v_iload_n (pc := 45) hC dX1_loadField_45 rfl ?_
          refine v_ifN_lt (pc := 46) (tgt := 85) hC dX1_loadField_46 (by decide) (by omega) ?_
          refine v_aload_n (pc := 49) hC dX1_loadField_49 rfl ?_
          refine kg_tx (pc := 50) hC dX1_loadField_50 ?_
          refine v_iload_n (pc := 53) hC dX1_loadField_53 rfl ?_
          refine v_bipush (pc := 54) (v := nI 6) hC dX1_loadField_54 rfl ?_
          first | refine v_imulN (pc := 56) hC dX1_loadField_56 ?_ | refine v_imul (pc := 56) hC dX1_loadField_56 ?_
          refine v_iload (pc := 57) hC dX1_loadField_57 rfl ?_
          first | refine v_iaddN (pc := 59) hC dX1_loadField_59 ?_ | refine v_iadd (pc := 59) hC dX1_loadField_59 ?_
          refine v_iload_n (pc := 60) hC dX1_loadField_60 rfl ?_
          refine ks_tx (pc := 61) hC (by omega)  dX1_loadField_61 ?_
          refine v_aload_n (pc := 62) hC dX1_loadField_62 rfl ?_
          refine kg_sl (pc := 63) hC dX1_loadField_63 ?_
          refine v_iload_n (pc := 66) hC dX1_loadField_66 rfl ?_
          refine v_iload (pc := 67) hC dX1_loadField_67 rfl ?_
          refine v_iconst (pc := 69) (v := nI 1) hC dX1_loadField_69 rfl ?_
          first | refine v_iaddN (pc := 70) hC dX1_loadField_70 ?_ | refine v_iadd (pc := 70) hC dX1_loadField_70 ?_
          refine ks_sl (pc := 71) hC (by omega)  dX1_loadField_71 ?_
          refine v_aload_n (pc := 72) hC dX1_loadField_72 rfl ?_
          refine v_iload_n (pc := 73) hC dX1_loadField_73 rfl ?_
          refine v_iload_n (pc := 74) hC dX1_loadField_74 rfl ?_
          refine k_calli2 (pc := 75) hC (kM_readEnd ho hr2) kc_readChar ⟨by decide, by decide⟩ (Nat.le_of_ble_eq_true rfl) dX1_loadField_75 (fun r u hp => ?_) ⟨rfl, rfl⟩
          obtain ⟨rfl, rfl⟩ := hp
          refine v_istore_n (pc := 78) (L' := [_, _, _, _, _]) hC dX1_loadField_78 (Nat.le_of_ble_eq_true rfl) (by decide) rfl ?_
          refine v_incN (pc := 79) (L' := [_, _, _, _, _]) hC dX1_loadField_79 rfl (by decide) rfl ?_
          refine v_goto (pc := 82) (tgt := 38) hC dX1_loadField_82 (by decide) ?_
          refine fin _ _ (r2 + 2) (i + 1) (-1) (Or.inr (by decide)) (by omega) (by rw [pk_us]; congr 1; omega) (fun g hg => by rw [pk_un hg]; exact h2 g hg) (fun j hj => ?_) (fun g hg j hj => ?_)
          · by_cases q : j = i
            · rw [q, pk_us, hci]
            · rw [pk_un (by omega)]; exact h3 j (by omega)
          · rw [pk_un (by omega)]; exact h4 g hg j hj
      | cons c2 v ih =>
        intro sl' tx' r2 i c hd h1 h2 h3 h4 hr2
        obtain ⟨hi, hci, hd2, hcw⟩ := drop_cons hd
        have hc := hwc c hcw
        obtain ⟨hi3, hci3, hd3, hcw3⟩ := drop_cons hd2
        have hc2 := hwc c2 hcw3
        obtain ⟨t1, t2⟩ := hr2.text
        refine v_iload (pc := 38) hC dX1_loadField_38 rfl ?_
        refine v_bipush (pc := 40) (v := nI 6) hC dX1_loadField_40 rfl ?_
        refine v_icmpN_ge (pc := 42) (tgt := 85) hC dX1_loadField_42 (by decide) (by omega) (by omega) (fun c2 => ?_) (fun c2 => ?_)
        · exact absurd c2 (by omega)
        · skip
          refine v_iload_n (pc := 45) hC dX1_loadField_45 rfl ?_
          refine v_ifN_lt (pc := 46) (tgt := 85) hC dX1_loadField_46 (by decide) (by omega) ?_
          refine v_aload_n (pc := 49) hC dX1_loadField_49 rfl ?_
          refine kg_tx (pc := 50) hC dX1_loadField_50 ?_
          refine v_iload_n (pc := 53) hC dX1_loadField_53 rfl ?_
          refine v_bipush (pc := 54) (v := nI 6) hC dX1_loadField_54 rfl ?_
          first | refine v_imulN (pc := 56) hC dX1_loadField_56 ?_ | refine v_imul (pc := 56) hC dX1_loadField_56 ?_
          refine v_iload (pc := 57) hC dX1_loadField_57 rfl ?_
          first | refine v_iaddN (pc := 59) hC dX1_loadField_59 ?_ | refine v_iadd (pc := 59) hC dX1_loadField_59 ?_
          refine v_iload_n (pc := 60) hC dX1_loadField_60 rfl ?_
          refine ks_tx (pc := 61) hC (by omega)  dX1_loadField_61 ?_
          refine v_aload_n (pc := 62) hC dX1_loadField_62 rfl ?_
          refine kg_sl (pc := 63) hC dX1_loadField_63 ?_
          refine v_iload_n (pc := 66) hC dX1_loadField_66 rfl ?_
          refine v_iload (pc := 67) hC dX1_loadField_67 rfl ?_
          refine v_iconst (pc := 69) (v := nI 1) hC dX1_loadField_69 rfl ?_
          first | refine v_iaddN (pc := 70) hC dX1_loadField_70 ?_ | refine v_iadd (pc := 70) hC dX1_loadField_70 ?_
          refine ks_sl (pc := 71) hC (by omega)  dX1_loadField_71 ?_
          refine v_aload_n (pc := 72) hC dX1_loadField_72 rfl ?_
          refine v_iload_n (pc := 73) hC dX1_loadField_73 rfl ?_
          refine v_iload_n (pc := 74) hC dX1_loadField_74 rfl ?_
          refine k_calli2 (pc := 75) hC (kM_readChar ho hc2 t1) kc_readChar ⟨by decide, by decide⟩ (Nat.le_of_ble_eq_true rfl) dX1_loadField_75 (fun r u hp => ?_) ⟨rfl, rfl⟩
          obtain ⟨rfl, rfl⟩ := hp
          refine v_istore_n (pc := 78) (L' := [_, _, _, _, _]) hC dX1_loadField_78 (Nat.le_of_ble_eq_true rfl) (by decide) rfl ?_
          refine v_incN (pc := 79) (L' := [_, _, _, _, _]) hC dX1_loadField_79 rfl (by decide) rfl ?_
          refine v_goto (pc := 82) (tgt := 38) hC dX1_loadField_82 (by decide) ?_
          refine ih _ _ _ (i + 1) _ hd2 pk_us (fun g hg => by rw [pk_un hg]; exact h2 g hg) (fun j hj => ?_) (fun g hg j hj => ?_) t2
          · by_cases q : j = i
            · rw [q, pk_us, hci]
            · rw [pk_un (by omega)]; exact h3 j (by omega)
          · rw [pk_un (by omega)]; exact h4 g hg j hj
    refine v_aload_n (pc := 21) hC dX1_loadField_21 rfl ?_
    refine kg_sl (pc := 22) hC dX1_loadField_22 ?_
    refine v_iload_n (pc := 25) hC dX1_loadField_25 rfl ?_
    refine v_iconst (pc := 26) (v := nI 0) hC dX1_loadField_26 rfl ?_
    refine ks_sl (pc := 27) hC (by omega)  dX1_loadField_27 ?_
    refine v_aload_n (pc := 28) hC dX1_loadField_28 rfl ?_
    refine v_iload_n (pc := 29) hC dX1_loadField_29 rfl ?_
    refine v_iload_n (pc := 30) hC dX1_loadField_30 rfl ?_
    cases w with
    | nil =>
      refine k_calli2 (pc := 31) hC (kM_readEnd ho hr) kc_readChar ⟨by decide, by decide⟩ (Nat.le_of_ble_eq_true rfl) dX1_loadField_31 (fun r u hp => ?_) ⟨rfl, rfl⟩
      obtain ⟨rfl, rfl⟩ := hp
      refine v_istore_n (pc := 34) (L' := [_, _, _, _]) hC dX1_loadField_34 (Nat.le_of_ble_eq_true rfl) (by decide) rfl ?_
      refine v_iconst (pc := 35) (v := nI 0) hC dX1_loadField_35 rfl ?_
      refine v_istore (pc := 36) (L' := [_, _, _, _, _]) hC dX1_loadField_36 (Nat.le_of_ble_eq_true rfl) (by decide) rfl ?_
      exact fin _ _ (r + 2) 0 (-1) (Or.inr (by decide)) (by omega) pk_us (fun g hg => pk_un hg) (fun j hj => absurd hj (by simp)) (fun _ _ _ _ => rfl)
    | cons c v =>
      obtain ⟨t1, t2⟩ := hr.text
      refine k_calli2 (pc := 31) hC (kM_readChar ho (hwc c List.mem_cons_self) t1) kc_readChar ⟨by decide, by decide⟩ (Nat.le_of_ble_eq_true rfl) dX1_loadField_31 (fun r u hp => ?_) ⟨rfl, rfl⟩
      obtain ⟨rfl, rfl⟩ := hp
      refine v_istore_n (pc := 34) (L' := [_, _, _, _]) hC dX1_loadField_34 (Nat.le_of_ble_eq_true rfl) (by decide) rfl ?_
      refine v_iconst (pc := 35) (v := nI 0) hC dX1_loadField_35 rfl ?_
      refine v_istore (pc := 36) (L' := [_, _, _, _, _]) hC dX1_loadField_36 (Nat.le_of_ble_eq_true rfl) (by decide) rfl ?_
      exact loop v _ _ _ 0 c rfl pk_us (fun g hg => pk_un hg) (fun j hj => absurd hj (by omega)) (fun _ _ _ _ => rfl) t2
  · rw [c1] at hr hw hret
    rw [fOk_f] at hw
    obtain ⟨b, hb, rfl⟩ := hw
    refine v_aload_n (pc := 8) hC dX1_loadField_8 rfl ?_
    refine kg_si (pc := 9) hC dX1_loadField_9 ?_
    refine v_iload_n (pc := 12) hC dX1_loadField_12 rfl ?_
    refine v_aload_n (pc := 13) hC dX1_loadField_13 rfl ?_
    refine v_iload_n (pc := 14) hC dX1_loadField_14 rfl ?_
    refine v_iload_n (pc := 15) hC dX1_loadField_15 rfl ?_
    refine k_calli2 (pc := 16) hC (kM_readInt ho hb hr) kc_readInt ⟨by decide, by decide⟩ (Nat.le_of_ble_eq_true rfl) dX1_loadField_16 (fun r u hp => ?_) ⟨rfl, rfl⟩
    obtain ⟨rfl, rfl⟩ := hp
    refine ks_si (pc := 19) hC (by omega)  dX1_loadField_19 ?_
    refine hret _ _ _ dX1_loadField_20 ⟨_, _, _, _, rfl, fRep_f.mpr ⟨rfl, ⟨b, hb, rfl⟩, ?_⟩, fun g hg => ⟨pk_un hg, rfl, fun _ _ => rfl⟩⟩
    rw [pk_us, bias_uB hb]
end K18
end
section
/-! what each call answers, once for class and reference -/
def updT (T : Nat → FV) (f : Nat) (x : FV) : Nat → FV := fun j => if j = f then x else T j
def aNull (F : Nat) (T : Nat → FV) (x : Int32) : Int32 × (Nat → FV) := if xBad x F then (-1, T) else (nI 0, updT T x.toNatClampNeg none)
def aInt (F : Nat) (sch : Int32) (T : Nat → FV) (x v : Int32) : Int32 × (Nat → FV) := if xBad x F then (-1, T) else if kTx sch x.toNatClampNeg then (-2, T) else (nI 0, updT T x.toNatClampNeg (some [bias v]))
def aText (F : Nat) (sch : Int32) (T : Nat → FV) (x : Int32) : Int32 × (Nat → FV) := if xBad x F then (-1, T) else if kTx sch x.toNatClampNeg then (nI 0, updT T x.toNatClampNeg (some [])) else (-2, T)
def aApp (F : Nat) (sch : Int32) (T : Nat → FV) (x c : Int32) : Int32 × (Nat → FV) := if xBad x F then (-1, T) else if kTx sch x.toNatClampNeg then (match T x.toNatClampNeg with
  | none => (-2, T)
  | some w => if xBad c 256 then (-4, T) else if w.length = 6 then (-3, T) else (nI (w.length + 1), updT T x.toNatClampNeg (some (w ++ [c.toNatClampNeg])))) else (-2, T)
def qTag (n : Nat) (G : Nat → Int32) (x : Int32) : Int32 := if xBad x n then nI 0 else G x.toNatClampNeg
def qNul (F n : Nat) (U : Nat → Nat → FV) (x y : Int32) : Bool := if xBad x n then false else if xBad y F then false else (U x.toNatClampNeg y.toNatClampNeg).isNone
def qInt (F : Nat) (sch : Int32) (n : Nat) (U : Nat → Nat → FV) (x y : Int32) : Int32 := if xBad x n then nI 0 else if xBad y F then nI 0 else if kTx sch y.toNatClampNeg then nI 0 else match U x.toNatClampNeg y.toNatClampNeg with
  | none => nI 0
  | some w => uB (w.headD 0)
def qChr (F : Nat) (sch : Int32) (n : Nat) (U : Nat → Nat → FV) (x y i : Int32) : Int32 := if xBad x n then -5 else if xBad y F then -5 else if kTx sch y.toNatClampNeg then (match U x.toNatClampNeg y.toNatClampNeg with
  | none => -5
  | some w => if xBad i w.length then -5 else nI (w.getD i.toNatClampNeg 0)) else -5
theorem updT_s {T : Nat → FV} {f : Nat} {x : FV} : updT T f x f = x := if_pos rfl
theorem updT_n {T : Nat → FV} {f g : Nat} {x : FV} (h : g ≠ f) : updT T f x g = T g := if_neg h
theorem fRep.keep {t : Bool} {x : FV} {nul it ln : Int32} {ch ch' : Nat → Int32} (h : fRep t x nul it ln ch) (hc : ∀ j, j < 6 → ch' j = ch j) : fRep t x nul it ln ch' := by
  cases x with
  | none => exact h
  | some w =>
    cases t with
    | true =>
      rw [fRep_t] at h ⊢
      obtain ⟨h1, ⟨h2, h3⟩, h4, h5⟩ := h
      exact ⟨h1, ⟨h2, h3⟩, h4, fun j hj => by rw [hc j (by omega)]; exact h5 j hj⟩
    | false => rw [fRep_f] at h ⊢; exact h
theorem kSt.upd {sch : Int32} {F : Nat} {T : Nat → FV} {sn si sl tx sn' si' sl' tx' : Nat → Int32} (h : kSt sch F T sn si sl tx) {f : Nat} {x : FV} (hf : fRep (kTx sch f) x (sn' f) (si' f) (sl' f) (fun j => tx' (f * 6 + j))) (ho : ∀ g, g ≠ f → sn' g = sn g ∧ si' g = si g ∧ sl' g = sl g ∧ ∀ j, j < 6 → tx' (g * 6 + j) = tx (g * 6 + j)) : kSt sch F (updT T f x) sn' si' sl' tx' := by
  intro g hg
  by_cases q : g = f
  · subst q; rw [updT_s]; exact hf
  · obtain ⟨h1, h2, h3, h4⟩ := ho g q
    rw [updT_n q, h1, h2, h3]
    exact (h g hg).keep h4
theorem fRep_app {w : List Nat} {nul it ln : Int32} {ch ch' : Nat → Int32} {c : Nat} (h : fRep true (some w) nul it ln ch) (hw : w.length < 6) (hc : c < 256) (h1 : ch' w.length = nI c) (h2 : ∀ j, j < w.length → ch' j = ch j) : fRep true (some (w ++ [c])) nul it (nI (w.length + 1)) ch' := by
  rw [fRep_t] at h ⊢
  obtain ⟨a1, ⟨a2, a3⟩, a4, a5⟩ := h
  refine ⟨a1, ⟨by simp; omega, fun x hx => ?_⟩, by simp, fun j hj => ?_⟩
  · rcases List.mem_append.mp hx with q | q
    · exact a3 x q
    · simp at q; omega
  · rw [List.length_append] at hj
    simp only [List.length_cons, List.length_nil] at hj
    by_cases q : j = w.length
    · rw [q, h1]
      have := gD_r w [c] 0
      rw [Nat.add_zero] at this
      rw [this]
      rfl
    · rw [gD_l (by omega), h2 j (by omega)]
      exact a5 j (by omega)
theorem nIc {j n : Nat} (h : j < n) (hn : n ≤ 2147483648) : (nI j).toNatClampNeg = j := nI_clamp (by omega)
end
section
/-! OrderedKeys: what the law calls -/
section K20
variable {l : Launch} {D : va_G} {h : Nat → Nat} {d : Nat → ClassId} {sch : Int32} {ws : va_W} {F n : Nat} {T : Nat → FV} {U : Nat → Nat → FV} {G : Nat → Int32}
set_option maxHeartbeats 4000000 in
theorem kA_setNull (hR : kRep h d F sch T n U G ws) {x : Int32} : vMi l D yX1_setNull cX1_setNull 2 .int 1 32 (kT d) ws [.ref (h 0), .int x] (fun r u => r = (aNull F T x).1 ∧ kRep h d F sch (aNull F T x).2 n U G u) := by
  have hR0 := hR
  obtain ⟨sn, si, sl, tx, od, us, tg, kl, ky, pl, pb, ra, o, rfl, ⟨hF1, hF4, hn20⟩, hT, hU, hE⟩ := hR
  refine vMi_of RX1 (by decide) rfl (Nat.le_of_ble_eq_true rfl) rfl (fun X hC hret => ?_)
  refine v_aload_n (pc := 0) hC dX1_setNull_0 rfl ?_
  refine v_iload_n (pc := 1) hC dX1_setNull_1 rfl ?_
  refine k_calli1 (pc := 2) hC (kM_badField) kc_badField ⟨by decide, by decide⟩ (Nat.le_of_ble_eq_true rfl) dX1_setNull_2 (fun r u hp => ?_) ⟨rfl, rfl⟩
  obtain ⟨rfl, rfl⟩ := hp
  refine v_ifB_eq (pc := 5) (tgt := 10) hC dX1_setNull_5 (by decide) (fun c1 => ?_) (fun c1 => ?_)
  · obtain ⟨f, hf, rfl⟩ := xBad_f (by omega) c1
    have e : aNull F T (nI f) = (nI 0, updT T f none) := by unfold aNull; rw [c1, nIc hf (by omega)]; rfl
    rw [e] at hret
    refine v_aload_n (pc := 10) hC dX1_setNull_10 rfl ?_
    refine kg_sn (pc := 11) hC dX1_setNull_11 ?_
    refine v_iload_n (pc := 14) hC dX1_setNull_14 rfl ?_
    refine v_iconst (pc := 15) (v := nI 1) hC dX1_setNull_15 rfl ?_
    refine ks_sn (pc := 16) hC (by omega) (by decide) dX1_setNull_16 ?_
    refine v_iconst (pc := 17) (v := nI 0) hC dX1_setNull_17 rfl ?_
    exact hret _ _ _ _ dX1_setNull_18 rfl ⟨rfl, _, _, _, _, _, _, _, _, _, _, _, _, _, rfl, ⟨hF1, hF4, hn20⟩, hT.upd (fRep_n.mpr pk_us) (fun g hg => ⟨pk_un hg, rfl, rfl, fun _ _ => rfl⟩), hU, hE⟩
  · have e : aNull F T x = (-1, T) := by unfold aNull; rw [c1]; rfl
    rw [e] at hret
    refine v_iconst (pc := 8) (v := (-1)) hC dX1_setNull_8 (by decide) ?_
    exact hret _ _ _ _ dX1_setNull_9 rfl ⟨rfl, hR0⟩
set_option maxHeartbeats 4000000 in
theorem kA_setInt (hR : kRep h d F sch T n U G ws) {x v : Int32} : vMi l D yX1_setInt cX1_setInt 3 .int 1 32 (kT d) ws [.ref (h 0), .int x, .int v] (fun r u => r = (aInt F sch T x v).1 ∧ kRep h d F sch (aInt F sch T x v).2 n U G u) := by
  have hR0 := hR
  obtain ⟨sn, si, sl, tx, od, us, tg, kl, ky, pl, pb, ra, o, rfl, ⟨hF1, hF4, hn20⟩, hT, hU, hE⟩ := hR
  refine vMi_of RX1 (by decide) rfl (Nat.le_of_ble_eq_true rfl) rfl (fun X hC hret => ?_)
  refine v_aload_n (pc := 0) hC dX1_setInt_0 rfl ?_
  refine v_iload_n (pc := 1) hC dX1_setInt_1 rfl ?_
  refine k_calli1 (pc := 2) hC (kM_badField) kc_badField ⟨by decide, by decide⟩ (Nat.le_of_ble_eq_true rfl) dX1_setInt_2 (fun r u hp => ?_) ⟨rfl, rfl⟩
  obtain ⟨rfl, rfl⟩ := hp
  refine v_ifB_eq (pc := 5) (tgt := 10) hC dX1_setInt_5 (by decide) (fun c1 => ?_) (fun c1 => ?_)
  · obtain ⟨f, hf, rfl⟩ := xBad_f (by omega) c1
    refine v_aload_n (pc := 10) hC dX1_setInt_10 rfl ?_
    refine v_iload_n (pc := 11) hC dX1_setInt_11 rfl ?_
    refine k_calli1 (pc := 12) hC (kM_isText) kc_isText ⟨by decide, by decide⟩ (Nat.le_of_ble_eq_true rfl) dX1_setInt_12 (fun r u hp => ?_) ⟨rfl, rfl⟩
    obtain ⟨rfl, rfl⟩ := hp
    refine v_ifB_eq (pc := 15) (tgt := 21) hC dX1_setInt_15 (by decide) (fun c2 => ?_) (fun c2 => ?_)
    · have e : aInt F sch T (nI f) v = (nI 0, updT T f (some [bias v])) := by unfold aInt; rw [c1, nIc hf (by omega), c2]; rfl
      rw [e] at hret
      refine v_aload_n (pc := 21) hC dX1_setInt_21 rfl ?_
      refine kg_sn (pc := 22) hC dX1_setInt_22 ?_
      refine v_iload_n (pc := 25) hC dX1_setInt_25 rfl ?_
      refine v_iconst (pc := 26) (v := nI 0) hC dX1_setInt_26 rfl ?_
      refine ks_sn (pc := 27) hC (by omega) (by decide) dX1_setInt_27 ?_
      refine v_aload_n (pc := 28) hC dX1_setInt_28 rfl ?_
      refine kg_si (pc := 29) hC dX1_setInt_29 ?_
      refine v_iload_n (pc := 32) hC dX1_setInt_32 rfl ?_
      refine v_iload_n (pc := 33) hC dX1_setInt_33 rfl ?_
      refine ks_si (pc := 34) hC (by omega)  dX1_setInt_34 ?_
      refine v_iconst (pc := 35) (v := nI 0) hC dX1_setInt_35 rfl ?_
      exact hret _ _ _ _ dX1_setInt_36 rfl ⟨rfl, _, _, _, _, _, _, _, _, _, _, _, _, _, rfl, ⟨hF1, hF4, hn20⟩, hT.upd (by rw [c2, fRep_f, pk_us, pk_us]; exact ⟨rfl, ⟨_, bias_lt v, rfl⟩, rfl⟩) (fun g hg => ⟨pk_un hg, pk_un hg, rfl, fun _ _ => rfl⟩), hU, hE⟩
    · have e : aInt F sch T (nI f) v = (-2, T) := by unfold aInt; rw [c1, nIc hf (by omega), c2]; rfl
      rw [e] at hret
      refine v_bipush (pc := 18) (v := (-2)) hC dX1_setInt_18 (by decide) ?_
      exact hret _ _ _ _ dX1_setInt_20 rfl ⟨rfl, hR0⟩
  · have e : aInt F sch T x v = (-1, T) := by unfold aInt; rw [c1]; rfl
    rw [e] at hret
    refine v_iconst (pc := 8) (v := (-1)) hC dX1_setInt_8 (by decide) ?_
    exact hret _ _ _ _ dX1_setInt_9 rfl ⟨rfl, hR0⟩
set_option maxHeartbeats 4000000 in
theorem kA_setText (hR : kRep h d F sch T n U G ws) {x : Int32} : vMi l D yX1_setText cX1_setText 2 .int 1 32 (kT d) ws [.ref (h 0), .int x] (fun r u => r = (aText F sch T x).1 ∧ kRep h d F sch (aText F sch T x).2 n U G u) := by
  have hR0 := hR
  obtain ⟨sn, si, sl, tx, od, us, tg, kl, ky, pl, pb, ra, o, rfl, ⟨hF1, hF4, hn20⟩, hT, hU, hE⟩ := hR
  refine vMi_of RX1 (by decide) rfl (Nat.le_of_ble_eq_true rfl) rfl (fun X hC hret => ?_)
  refine v_aload_n (pc := 0) hC dX1_setText_0 rfl ?_
  refine v_iload_n (pc := 1) hC dX1_setText_1 rfl ?_
  refine k_calli1 (pc := 2) hC (kM_badField) kc_badField ⟨by decide, by decide⟩ (Nat.le_of_ble_eq_true rfl) dX1_setText_2 (fun r u hp => ?_) ⟨rfl, rfl⟩
  obtain ⟨rfl, rfl⟩ := hp
  refine v_ifB_eq (pc := 5) (tgt := 10) hC dX1_setText_5 (by decide) (fun c1 => ?_) (fun c1 => ?_)
  · obtain ⟨f, hf, rfl⟩ := xBad_f (by omega) c1
    refine v_aload_n (pc := 10) hC dX1_setText_10 rfl ?_
    refine v_iload_n (pc := 11) hC dX1_setText_11 rfl ?_
    refine k_calli1 (pc := 12) hC (kM_isText) kc_isText ⟨by decide, by decide⟩ (Nat.le_of_ble_eq_true rfl) dX1_setText_12 (fun r u hp => ?_) ⟨rfl, rfl⟩
    obtain ⟨rfl, rfl⟩ := hp
    refine v_ifB_ne (pc := 15) (tgt := 21) hC dX1_setText_15 (by decide) (fun c2 => ?_) (fun c2 => ?_)
    · have e : aText F sch T (nI f) = (nI 0, updT T f (some [])) := by unfold aText; rw [c1, nIc hf (by omega), c2]; rfl
      rw [e] at hret
      refine v_aload_n (pc := 21) hC dX1_setText_21 rfl ?_
      refine kg_sn (pc := 22) hC dX1_setText_22 ?_
      refine v_iload_n (pc := 25) hC dX1_setText_25 rfl ?_
      refine v_iconst (pc := 26) (v := nI 0) hC dX1_setText_26 rfl ?_
      refine ks_sn (pc := 27) hC (by omega) (by decide) dX1_setText_27 ?_
      refine v_aload_n (pc := 28) hC dX1_setText_28 rfl ?_
      refine kg_sl (pc := 29) hC dX1_setText_29 ?_
      refine v_iload_n (pc := 32) hC dX1_setText_32 rfl ?_
      refine v_iconst (pc := 33) (v := nI 0) hC dX1_setText_33 rfl ?_
      refine ks_sl (pc := 34) hC (by omega)  dX1_setText_34 ?_
      refine v_iconst (pc := 35) (v := nI 0) hC dX1_setText_35 rfl ?_
      exact hret _ _ _ _ dX1_setText_36 rfl ⟨rfl, _, _, _, _, _, _, _, _, _, _, _, _, _, rfl, ⟨hF1, hF4, hn20⟩, hT.upd (by rw [c2, fRep_t, pk_us, pk_us]; exact ⟨rfl, ⟨by simp, fun c hc => by cases hc⟩, rfl, fun j hj => by cases hj⟩) (fun g hg => ⟨pk_un hg, rfl, pk_un hg, fun _ _ => rfl⟩), hU, hE⟩
    · have e : aText F sch T (nI f) = (-2, T) := by unfold aText; rw [c1, nIc hf (by omega), c2]; rfl
      rw [e] at hret
      refine v_bipush (pc := 18) (v := (-2)) hC dX1_setText_18 (by decide) ?_
      exact hret _ _ _ _ dX1_setText_20 rfl ⟨rfl, hR0⟩
  · have e : aText F sch T x = (-1, T) := by unfold aText; rw [c1]; rfl
    rw [e] at hret
    refine v_iconst (pc := 8) (v := (-1)) hC dX1_setText_8 (by decide) ?_
    exact hret _ _ _ _ dX1_setText_9 rfl ⟨rfl, hR0⟩
set_option maxHeartbeats 4000000 in
theorem kA_append (hR : kRep h d F sch T n U G ws) {x c : Int32} : vMi l D yX1_append cX1_append 4 .int 1 32 (kT d) ws [.ref (h 0), .int x, .int c] (fun r u => r = (aApp F sch T x c).1 ∧ kRep h d F sch (aApp F sch T x c).2 n U G u) := by
  have hR0 := hR
  obtain ⟨sn, si, sl, tx, od, us, tg, kl, ky, pl, pb, ra, o, rfl, ⟨hF1, hF4, hn20⟩, hT, hU, hE⟩ := hR
  refine vMi_of RX1 (by decide) rfl (Nat.le_of_ble_eq_true rfl) rfl (fun X hC hret => ?_)
  refine v_aload_n (pc := 0) hC dX1_append_0 rfl ?_
  refine v_iload_n (pc := 1) hC dX1_append_1 rfl ?_
  refine k_calli1 (pc := 2) hC (kM_badField) kc_badField ⟨by decide, by decide⟩ (Nat.le_of_ble_eq_true rfl) dX1_append_2 (fun r u hp => ?_) ⟨rfl, rfl⟩
  obtain ⟨rfl, rfl⟩ := hp
  refine v_ifB_eq (pc := 5) (tgt := 10) hC dX1_append_5 (by decide) (fun c1 => ?_) (fun c1 => ?_)
  · obtain ⟨f, hf, rfl⟩ := xBad_f (by omega) c1
    have hTf := hT f hf
    refine v_aload_n (pc := 10) hC dX1_append_10 rfl ?_
    refine v_iload_n (pc := 11) hC dX1_append_11 rfl ?_
    refine k_calli1 (pc := 12) hC (kM_isText) kc_isText ⟨by decide, by decide⟩ (Nat.le_of_ble_eq_true rfl) dX1_append_12 (fun r u hp => ?_) ⟨rfl, rfl⟩
    obtain ⟨rfl, rfl⟩ := hp
    refine v_ifB_eq (pc := 15) (tgt := 27) hC dX1_append_15 (by decide) (fun c2 => ?_) (fun c2 => ?_)
    · have e : aApp F sch T (nI f) c = (-2, T) := by unfold aApp; rw [c1, nIc hf (by omega), c2]; rfl
      rw [e] at hret
      refine v_bipush (pc := 27) (v := (-2)) hC dX1_append_27 (by decide) ?_
      exact hret _ _ _ _ dX1_append_29 rfl ⟨rfl, hR0⟩
    · skip
      refine v_aload_n (pc := 18) hC dX1_append_18 rfl ?_
      refine kg_sn (pc := 19) hC dX1_append_19 ?_
      refine v_iload_n (pc := 22) hC dX1_append_22 rfl ?_
      refine kl_sn (pc := 23) hC (by omega) dX1_append_23 ?_
      refine v_top hTf.nul ?_
      cases hx : T f with
      | none =>
        have e : aApp F sch T (nI f) c = (-2, T) := by unfold aApp; rw [c1, nIc hf (by omega), c2, hx]; rfl
        rw [e] at hret
        refine v_ifB_eq (pc := 24) (tgt := 30) hC dX1_append_24 (by decide) (fun q => absurd q (by decide)) (fun _ => ?_)
        refine v_bipush (pc := 27) (v := (-2)) hC dX1_append_27 (by decide) ?_
        exact hret _ _ _ _ dX1_append_29 rfl ⟨rfl, hR0⟩
      | some w =>
        rw [hx, c2] at hTf
        have hTt := fRep_t.mp hTf
        obtain ⟨-, ⟨hw6, hwc⟩, hsl, htx⟩ := hTt
        refine v_ifB_eq (pc := 24) (tgt := 30) hC dX1_append_24 (by decide) (fun _ => ?_) (fun q => absurd q Bool.false_ne_true)
        have bad : xBad c 256 = true → vV l D X 4 (kT d) 0 0 (kw h d (nI F) sch sn si sl tx (nI n) od us tg kl ky pl pb ra) [.ref (h 0), .int (nI f), .int c] 41 [] := by
          intro q
          have e : aApp F sch T (nI f) c = (-4, T) := by unfold aApp; rw [c1, nIc hf (by omega), c2, hx]; simp [q]
          rw [e] at hret
          refine v_bipush (pc := 41) (v := (-4)) hC dX1_append_41 (by decide) ?_
          exact hret _ _ _ _ dX1_append_43 rfl ⟨rfl, hR0⟩
        refine v_iload_n (pc := 30) hC dX1_append_30 rfl ?_
        refine v_if_lt (pc := 31) (tgt := 41) hC dX1_append_31 (by decide) (fun c3 => ?_) (fun c3 => ?_)
        · exact bad (decide_eq_true (Or.inl c3))
        · skip
          refine v_iload_n (pc := 34) hC dX1_append_34 rfl ?_
          refine v_sipush (pc := 35) (v := nI 255) hC dX1_append_35 rfl ?_
          refine v_icmp_le (pc := 38) (tgt := 44) hC dX1_append_38 (by decide) (fun c4 => ?_) (fun c4 => ?_)
          · have hc : xBad c 256 = false := decide_eq_false (fun q => q.elim c3 (fun q => absurd (Int32.le_trans q c4) (by decide)))
            obtain ⟨j, hj, rfl⟩ := xBad_f (by omega) hc
            refine v_aload_n (pc := 44) hC dX1_append_44 rfl ?_
            refine kg_sl (pc := 45) hC dX1_append_45 ?_
            refine v_iload_n (pc := 48) hC dX1_append_48 rfl ?_
            refine kl_sl (pc := 49) hC (by omega) dX1_append_49 ?_
            refine v_top hsl ?_
            refine v_istore_n (pc := 50) (L' := [_, _, _, _]) hC dX1_append_50 (Nat.le_of_ble_eq_true rfl) (by decide) rfl ?_
            refine v_iload_n (pc := 51) hC dX1_append_51 rfl ?_
            refine v_bipush (pc := 52) (v := nI 6) hC dX1_append_52 rfl ?_
            refine v_icmpN_lt (pc := 54) (tgt := 60) hC dX1_append_54 (by decide) (by omega) (by omega) (fun c5 => ?_) (fun c5 => ?_)
            · have e : aApp F sch T (nI f) (nI j) = (nI (w.length + 1), updT T f (some (w ++ [j]))) := by unfold aApp; rw [c1, nIc hf (by omega), nIc hj (by omega), c2, hx]; simp [hc]; omega
              rw [e] at hret
              refine v_aload_n (pc := 60) hC dX1_append_60 rfl ?_
              refine kg_tx (pc := 61) hC dX1_append_61 ?_
              refine v_iload_n (pc := 64) hC dX1_append_64 rfl ?_
              refine v_bipush (pc := 65) (v := nI 6) hC dX1_append_65 rfl ?_
              first | refine v_imulN (pc := 67) hC dX1_append_67 ?_ | refine v_imul (pc := 67) hC dX1_append_67 ?_
              refine v_iload_n (pc := 68) hC dX1_append_68 rfl ?_
              first | refine v_iaddN (pc := 69) hC dX1_append_69 ?_ | refine v_iadd (pc := 69) hC dX1_append_69 ?_
              refine v_iload_n (pc := 70) hC dX1_append_70 rfl ?_
              refine ks_tx (pc := 71) hC (by omega)  dX1_append_71 ?_
              refine v_aload_n (pc := 72) hC dX1_append_72 rfl ?_
              refine kg_sl (pc := 73) hC dX1_append_73 ?_
              refine v_iload_n (pc := 76) hC dX1_append_76 rfl ?_
              refine v_iload_n (pc := 77) hC dX1_append_77 rfl ?_
              refine v_iconst (pc := 78) (v := nI 1) hC dX1_append_78 rfl ?_
              first | refine v_iaddN (pc := 79) hC dX1_append_79 ?_ | refine v_iadd (pc := 79) hC dX1_append_79 ?_
              refine ks_sl (pc := 80) hC (by omega)  dX1_append_80 ?_
              refine v_iload_n (pc := 81) hC dX1_append_81 rfl ?_
              refine v_iconst (pc := 82) (v := nI 1) hC dX1_append_82 rfl ?_
              first | refine v_iaddN (pc := 83) hC dX1_append_83 ?_ | refine v_iadd (pc := 83) hC dX1_append_83 ?_
              exact hret _ _ _ _ dX1_append_84 rfl ⟨rfl, _, _, _, _, _, _, _, _, _, _, _, _, _, rfl, ⟨hF1, hF4, hn20⟩, hT.upd (by rw [c2, pk_us]; exact fRep_app hTf c5 hj pk_us (fun k hk => pk_un (by omega))) (fun g hg => ⟨rfl, rfl, pk_un hg, fun k hk => pk_un (by omega)⟩), hU, hE⟩
            · have e : aApp F sch T (nI f) (nI j) = (-3, T) := by unfold aApp; rw [c1, nIc hf (by omega), c2, hx]; simp [hc]; omega
              rw [e] at hret
              refine v_bipush (pc := 57) (v := (-3)) hC dX1_append_57 (by decide) ?_
              exact hret _ _ _ _ dX1_append_59 rfl ⟨rfl, hR0⟩
          · exact bad (decide_eq_true (Or.inr (by
              have h1 : ¬ c.toInt ≤ 255 := fun w => c4 (Int32.le_iff_toInt_le.mpr w)
              exact Int32.le_iff_toInt_le.mpr (show (256 : Int) ≤ c.toInt by omega))))
  · have e : aApp F sch T x c = (-1, T) := by unfold aApp; rw [c1]; rfl
    rw [e] at hret
    refine v_iconst (pc := 8) (v := (-1)) hC dX1_append_8 (by decide) ?_
    exact hret _ _ _ _ dX1_append_9 rfl ⟨rfl, hR0⟩
end K20
end
section
/-! OrderedKeys: what the law calls, second half -/
theorem xBad_le {x : Int32} {m k : Nat} (h : xBad x k = true) (hm : m ≤ k) (hk : k < 2 ^ 31) : xBad x m = true := by
  unfold xBad at *
  rw [decide_eq_true_iff] at *
  rcases h with h | h
  · exact Or.inl h
  · exact Or.inr (Int32.le_trans (nI_le hm hk) h)
theorem xBad_ge {j m : Nat} (h : m ≤ j) (hj : j < 2 ^ 31) : xBad (nI j) m = true := decide_eq_true (Or.inr (nI_le h hj))
section K21
variable {l : Launch} {D : va_G} {h : Nat → Nat} {d : Nat → ClassId} {sch : Int32} {ws : va_W} {F n : Nat} {T : Nat → FV} {U : Nat → Nat → FV} {G : Nat → Int32}
set_option maxHeartbeats 4000000 in
theorem kA_size (hR : kRep h d F sch T n U G ws) : vMi l D yX1_size cX1_size 1 .int 0 0 (kT d) ws [.ref (h 0)] (fun r u => r = nI n ∧ kRep h d F sch T n U G u) := by
  have hR0 := hR
  obtain ⟨sn, si, sl, tx, od, us, tg, kl, ky, pl, pb, ra, o, rfl, ⟨hF1, hF4, hn20⟩, hT, hU, hE⟩ := hR
  refine vMi_of RX1 (by decide) rfl (Nat.le_of_ble_eq_true rfl) rfl (fun X hC hret => ?_)
  refine v_aload_n (pc := 0) hC dX1_size_0 rfl ?_
  refine kg_en (pc := 1) hC dX1_size_1 ?_
  exact hret _ _ _ _ dX1_size_4 rfl ⟨rfl, hR0⟩
set_option maxHeartbeats 4000000 in
theorem kA_tag (hR : kRep h d F sch T n U G ws) {x : Int32} : vMi l D yX1_tag cX1_tag 2 .int 1 32 (kT d) ws [.ref (h 0), .int x] (fun r u => r = qTag n G x ∧ kRep h d F sch T n U G u) := by
  have hR0 := hR
  obtain ⟨sn, si, sl, tx, od, us, tg, kl, ky, pl, pb, ra, o, rfl, ⟨hF1, hF4, hn20⟩, hT, hU, hE⟩ := hR
  refine vMi_of RX1 (by decide) rfl (Nat.le_of_ble_eq_true rfl) rfl (fun X hC hret => ?_)
  refine v_aload_n (pc := 0) hC dX1_tag_0 rfl ?_
  refine v_iload_n (pc := 1) hC dX1_tag_1 rfl ?_
  refine k_calli1 (pc := 2) hC (kM_noEntry) kc_noEntry ⟨by decide, by decide⟩ (Nat.le_of_ble_eq_true rfl) dX1_tag_2 (fun r u hp => ?_) ⟨rfl, rfl⟩
  obtain ⟨rfl, rfl⟩ := hp
  refine v_ifB_eq (pc := 5) (tgt := 12) hC dX1_tag_5 (by decide) (fun c1 => ?_) (fun c1 => ?_)
  · obtain ⟨p, hp, rfl⟩ := xBad_f (by omega) c1
    have e : qTag n G (nI p) = G p := by unfold qTag; rw [c1, nIc hp (by omega)]; rfl
    rw [e] at hret
    obtain ⟨e1, e2, e3, e4, e5⟩ := hE.1 p hp
    refine v_aload_n (pc := 12) hC dX1_tag_12 rfl ?_
    refine kg_tg (pc := 13) hC dX1_tag_13 ?_
    refine v_aload_n (pc := 16) hC dX1_tag_16 rfl ?_
    refine kg_od (pc := 17) hC dX1_tag_17 ?_
    refine v_iload_n (pc := 20) hC dX1_tag_20 rfl ?_
    refine kl_od (pc := 21) hC (by omega) dX1_tag_21 ?_
    refine v_top e2 ?_
    refine kl_tg (pc := 22) hC (by omega) dX1_tag_22 ?_
    exact hret _ _ _ _ dX1_tag_23 rfl ⟨e4, hR0⟩
  · have e : qTag n G x = nI 0 := by unfold qTag; rw [c1]; rfl
    rw [e] at hret
    refine v_iconst (pc := 8) (v := nI 0) hC dX1_tag_8 rfl ?_
    refine v_goto (pc := 9) (tgt := 23) hC dX1_tag_9 (by decide) ?_
    exact hret _ _ _ _ dX1_tag_23 rfl ⟨rfl, hR0⟩
set_option maxHeartbeats 4000000 in
theorem kA_below (hR : kRep h d F sch T n U G ws) {q : Nat} (hq : q ≤ n) (hqr : ∀ p, p < n → (rgt false (kc false (eR sch (U p) 0 F) (eR sch T 0 F)) = true ↔ p < q)) : vMi l D yX1_below cX1_below 1 .int 4 128 (kT d) ws [.ref (h 0)] (fun r u => r = nI q ∧ kRep h d F sch T n U G u) := by
  obtain ⟨sn, si, sl, tx, od, us, tg, kl, ky, pl, pb, ra, o, rfl, ⟨hF1, hF4, hn20⟩, hT, hU, hE⟩ := hR
  have hlen : (eR sch T 0 F).length ≤ 64 := Nat.le_trans (eR_len F 0 (fun j _ w => (hT j (by omega)).ok)) (by omega)
  have hbyt : ∀ b ∈ eR sch T 0 F, b < 256 := eR_lt F 0 (fun j _ w => (hT j (by omega)).ok)
  refine vMi_of RX1 (by decide) rfl (Nat.le_of_ble_eq_true rfl) rfl (fun X hC hret => ?_)
  refine v_aload_n (pc := 0) hC dX1_below_0 rfl ?_
  refine v_aload_n (pc := 1) hC dX1_below_1 rfl ?_
  refine kg_nf (pc := 2) hC dX1_below_2 ?_
  refine k_callv1 (pc := 5) hC (kM_encode hF4 hT) kc_encode ⟨by decide, by decide⟩ (Nat.le_of_ble_eq_true rfl) dX1_below_5 (fun u hp => ?_) ⟨rfl, rfl⟩
  obtain ⟨pb, rfl, hpb⟩ := hp
  refine v_aload_n (pc := 8) hC dX1_below_8 rfl ?_
  refine v_iconst (pc := 9) (v := nI 0) hC dX1_below_9 rfl ?_
  refine v_iconst (pc := 10) (v := nI 0) hC dX1_below_10 rfl ?_
  refine k_calli2 (pc := 11) hC (kM_bound (beh := false) (pre := false) hn20 (fun p hp => ⟨(hE.1 p hp).1, (hE.1 p hp).2.1, (hE.1 p hp).2.2.2.2⟩) hpb hlen hbyt hq hqr) kc_bound ⟨by decide, by decide⟩ (Nat.le_of_ble_eq_true rfl) dX1_below_11 (fun r u hp => ?_) ⟨rfl, rfl⟩
  obtain ⟨rfl, rfl⟩ := hp
  exact hret _ _ _ _ dX1_below_14 rfl ⟨rfl, _, _, _, _, _, _, _, _, _, _, _, _, _, rfl, ⟨hF1, hF4, hn20⟩, hT, hU, hE⟩
set_option maxHeartbeats 4000000 in
theorem kA_matching (hR : kRep h d F sch T n U G ws) {x : Int32} {q1 q2 : Nat} (hq : ∀ m, m ≤ F → x = nI m → q1 ≤ q2 ∧ q2 ≤ n ∧ (∀ p, p < n → (rgt false (kc true (eR sch (U p) 0 F) (eR sch T 0 m)) = true ↔ p < q1)) ∧ ∀ p, p < n → (rgt true (kc true (eR sch (U p) 0 F) (eR sch T 0 m)) = true ↔ p < q2)) : vMi l D yX1_matching cX1_matching 4 .int 4 128 (kT d) ws [.ref (h 0), .int x] (fun r u => (xBad x (F + 1) = true → r = -1) ∧ (∀ m, m ≤ F → x = nI m → r = nI (q2 - q1)) ∧ kRep h d F sch T n U G u) := by
  have hR0 := hR
  obtain ⟨sn, si, sl, tx, od, us, tg, kl, ky, pl, pb, ra, o, rfl, ⟨hF1, hF4, hn20⟩, hT, hU, hE⟩ := hR
  refine vMi_of RX1 (by decide) rfl (Nat.le_of_ble_eq_true rfl) rfl (fun X hC hret => ?_)
  cases c1 : xBad x (F + 1) with
  | true =>
    rw [c1] at hret
    have hno : ∀ m, m ≤ F → x = nI m → (-1 : Int32) = nI (q2 - q1) := fun m hm e => absurd ((xBad_j (show m < F + 1 by omega) (by omega)).symm.trans (e ▸ c1)) (by decide)
    have bad : vV l D X 4 (kT d) 0 0 (kw h d (nI F) sch sn si sl tx (nI n) od us tg kl ky pl pb ra) [.ref (h 0), .int x] 12 [] := by
      refine v_iconst (pc := 12) (v := (-1)) hC dX1_matching_12 (by decide) ?_
      exact hret _ _ _ _ dX1_matching_13 rfl ⟨fun _ => rfl, hno, hR0⟩
    refine v_iload_n (pc := 0) hC dX1_matching_0 rfl ?_
    refine v_if_lt (pc := 1) (tgt := 12) hC dX1_matching_1 (by decide) (fun c2 => ?_) (fun c2 => ?_)
    · exact bad
    · skip
      refine v_iload_n (pc := 4) hC dX1_matching_4 rfl ?_
      refine v_aload_n (pc := 5) hC dX1_matching_5 rfl ?_
      refine kg_nf (pc := 6) hC dX1_matching_6 ?_
      refine v_icmp_le (pc := 9) (tgt := 14) hC dX1_matching_9 (by decide) (fun c3 => ?_) (fun c3 => ?_)
      · have h1 := of_decide_eq_true c1
        exact absurd (Int32.le_trans (h1.resolve_left c2) c3) (nI_ge (by omega) (by omega))
      · exact bad
  | false =>
    obtain ⟨m, hm, rfl⟩ := xBad_f (by omega) c1
    rw [c1] at hret
    obtain ⟨hq12, hq2, hr1, hr2⟩ := hq m (by omega) rfl
    have hTm : kSt sch m T sn si sl tx := fun f hf => hT f (by omega)
    have hlen : (eR sch T 0 m).length ≤ 64 := Nat.le_trans (eR_len m 0 (fun j _ w => (hT j (by omega)).ok)) (by omega)
    have hbyt : ∀ b ∈ eR sch T 0 m, b < 256 := eR_lt m 0 (fun j _ w => (hT j (by omega)).ok)
    refine v_iload_n (pc := 0) hC dX1_matching_0 rfl ?_
    refine v_ifN_lt (pc := 1) (tgt := 12) hC dX1_matching_1 (by decide) (by omega) ?_
    refine v_iload_n (pc := 4) hC dX1_matching_4 rfl ?_
    refine v_aload_n (pc := 5) hC dX1_matching_5 rfl ?_
    refine kg_nf (pc := 6) hC dX1_matching_6 ?_
    refine v_icmpN_le (pc := 9) (tgt := 14) hC dX1_matching_9 (by decide) (by omega) (by omega) (fun c3 => ?_) (fun c3 => ?_)
    · skip
      refine v_aload_n (pc := 14) hC dX1_matching_14 rfl ?_
      refine v_iload_n (pc := 15) hC dX1_matching_15 rfl ?_
      refine k_callv1 (pc := 16) hC (kM_encode (by omega) hTm) kc_encode ⟨by decide, by decide⟩ (Nat.le_of_ble_eq_true rfl) dX1_matching_16 (fun u hp => ?_) ⟨rfl, rfl⟩
      obtain ⟨pb, rfl, hpb⟩ := hp
      refine v_aload_n (pc := 19) hC dX1_matching_19 rfl ?_
      refine v_iconst (pc := 20) (v := nI 0) hC dX1_matching_20 rfl ?_
      refine v_iconst (pc := 21) (v := nI 1) hC dX1_matching_21 rfl ?_
      refine k_calli2 (pc := 22) hC (kM_bound (beh := false) (pre := true) hn20 (fun p hp => ⟨(hE.1 p hp).1, (hE.1 p hp).2.1, (hE.1 p hp).2.2.2.2⟩) hpb hlen hbyt (by omega) hr1) kc_bound ⟨by decide, by decide⟩ (Nat.le_of_ble_eq_true rfl) dX1_matching_22 (fun r u hp => ?_) ⟨rfl, rfl⟩
      obtain ⟨rfl, rfl⟩ := hp
      refine v_istore_n (pc := 25) (L' := [_, _, _]) hC dX1_matching_25 (Nat.le_of_ble_eq_true rfl) (by decide) rfl ?_
      refine v_aload_n (pc := 26) hC dX1_matching_26 rfl ?_
      refine v_iconst (pc := 27) (v := nI 1) hC dX1_matching_27 rfl ?_
      refine v_iconst (pc := 28) (v := nI 1) hC dX1_matching_28 rfl ?_
      refine k_calli2 (pc := 29) hC (kM_bound (beh := true) (pre := true) hn20 (fun p hp => ⟨(hE.1 p hp).1, (hE.1 p hp).2.1, (hE.1 p hp).2.2.2.2⟩) hpb hlen hbyt hq2 hr2) kc_bound ⟨by decide, by decide⟩ (Nat.le_of_ble_eq_true rfl) dX1_matching_29 (fun r u hp => ?_) ⟨rfl, rfl⟩
      obtain ⟨rfl, rfl⟩ := hp
      refine v_istore_n (pc := 32) (L' := [_, _, _, _]) hC dX1_matching_32 (Nat.le_of_ble_eq_true rfl) (by decide) rfl ?_
      refine v_iload_n (pc := 33) hC dX1_matching_33 rfl ?_
      refine v_iload_n (pc := 34) hC dX1_matching_34 rfl ?_
      first | refine v_isubN (pc := 35) hC dX1_matching_35 (by omega) ?_ | refine v_isub (pc := 35) hC dX1_matching_35 ?_
      exact hret _ _ _ _ dX1_matching_36 rfl ⟨fun q => absurd q (by decide), fun _ _ _ => rfl, _, _, _, _, _, _, _, _, _, _, _, _, _, rfl, ⟨hF1, hF4, hn20⟩, hT, hU, hE⟩
    · exact absurd c3 (by omega)
set_option maxHeartbeats 4000000 in
theorem kA_nullAt (hR : kRep h d F sch T n U G ws) {x y : Int32} : vMi l D yX1_nullAt cX1_nullAt 3 .boolean 5 160 (kT d) ws [.ref (h 0), .int x, .int y] (fun r u => r = bI (qNul F n U x y) ∧ kRep h d F sch T n U G u) := by
  have hR0 := hR
  obtain ⟨sn, si, sl, tx, od, us, tg, kl, ky, pl, pb, ra, o, rfl, ⟨hF1, hF4, hn20⟩, hT, hU, hE⟩ := hR
  refine vMi_of RX1 (by decide) rfl (Nat.le_of_ble_eq_true rfl) rfl (fun X hC hret => ?_)
  refine v_aload_n (pc := 0) hC dX1_nullAt_0 rfl ?_
  refine v_iload_n (pc := 1) hC dX1_nullAt_1 rfl ?_
  refine k_calli1 (pc := 2) hC (kM_noEntry) kc_noEntry ⟨by decide, by decide⟩ (Nat.le_of_ble_eq_true rfl) dX1_nullAt_2 (fun r u hp => ?_) ⟨rfl, rfl⟩
  obtain ⟨rfl, rfl⟩ := hp
  refine v_ifB_ne (pc := 5) (tgt := 16) hC dX1_nullAt_5 (by decide) (fun c1 => ?_) (fun c1 => ?_)
  · have e : qNul F n U x y = false := by unfold qNul; rw [c1]; rfl
    rw [e] at hret
    refine v_iconst (pc := 16) (v := nI 0) hC dX1_nullAt_16 rfl ?_
    exact hret _ _ _ _ dX1_nullAt_17 rfl ⟨rfl, hR0⟩
  · obtain ⟨p, hp, rfl⟩ := xBad_f (by omega) c1
    refine v_aload_n (pc := 8) hC dX1_nullAt_8 rfl ?_
    refine v_iload_n (pc := 9) hC dX1_nullAt_9 rfl ?_
    refine k_calli1 (pc := 10) hC (kM_badField) kc_badField ⟨by decide, by decide⟩ (Nat.le_of_ble_eq_true rfl) dX1_nullAt_10 (fun r u hp => ?_) ⟨rfl, rfl⟩
    obtain ⟨rfl, rfl⟩ := hp
    refine v_ifB_eq (pc := 13) (tgt := 18) hC dX1_nullAt_13 (by decide) (fun c2 => ?_) (fun c2 => ?_)
    · obtain ⟨f, hf, rfl⟩ := xBad_f (by omega) c2
      have e : qNul F n U (nI p) (nI f) = (U p f).isNone := by unfold qNul; rw [c1, c2, nIc hp (by omega), nIc hf (by omega)]; rfl
      rw [e] at hret
      obtain ⟨e1, e2, e3, e4, e5⟩ := hE.1 p hp
      refine v_aload_n (pc := 18) hC dX1_nullAt_18 rfl ?_
      refine v_aload_n (pc := 19) hC dX1_nullAt_19 rfl ?_
      refine kg_od (pc := 20) hC dX1_nullAt_20 ?_
      refine v_iload_n (pc := 23) hC dX1_nullAt_23 rfl ?_
      refine kl_od (pc := 24) hC (by omega) dX1_nullAt_24 ?_
      refine v_top e2 ?_
      refine v_iload_n (pc := 25) hC dX1_nullAt_25 rfl ?_
      refine k_calli2 (pc := 26) hC (kM_seek e1 hf hF4 (hU p hp) e5.r) kc_seek ⟨by decide, by decide⟩ (Nat.le_of_ble_eq_true rfl) dX1_nullAt_26 (fun r u hp => ?_) ⟨rfl, rfl⟩
      obtain ⟨rfl, r, rfl, hw⟩ := hp
      exact hret _ _ _ _ dX1_nullAt_29 (bI_nar _) ⟨rfl, _, _, _, _, _, _, _, _, _, _, _, _, _, rfl, ⟨hF1, hF4, hn20⟩, hT, hU, hE⟩
    · have e : qNul F n U (nI p) y = false := by unfold qNul; rw [c1, c2]; rfl
      rw [e] at hret
      refine v_iconst (pc := 16) (v := nI 0) hC dX1_nullAt_16 rfl ?_
      exact hret _ _ _ _ dX1_nullAt_17 rfl ⟨rfl, hR0⟩
set_option maxHeartbeats 4000000 in
theorem kA_intAt (hR : kRep h d F sch T n U G ws) {x y : Int32} : vMi l D yX1_intAt cX1_intAt 4 .int 5 160 (kT d) ws [.ref (h 0), .int x, .int y] (fun r u => r = qInt F sch n U x y ∧ kRep h d F sch T n U G u) := by
  have hR0 := hR
  obtain ⟨sn, si, sl, tx, od, us, tg, kl, ky, pl, pb, ra, o, rfl, ⟨hF1, hF4, hn20⟩, hT, hU, hE⟩ := hR
  refine vMi_of RX1 (by decide) rfl (Nat.le_of_ble_eq_true rfl) rfl (fun X hC hret => ?_)
  refine v_aload_n (pc := 0) hC dX1_intAt_0 rfl ?_
  refine v_iload_n (pc := 1) hC dX1_intAt_1 rfl ?_
  refine k_calli1 (pc := 2) hC (kM_noEntry) kc_noEntry ⟨by decide, by decide⟩ (Nat.le_of_ble_eq_true rfl) dX1_intAt_2 (fun r u hp => ?_) ⟨rfl, rfl⟩
  obtain ⟨rfl, rfl⟩ := hp
  refine v_ifB_ne (pc := 5) (tgt := 16) hC dX1_intAt_5 (by decide) (fun c1 => ?_) (fun c1 => ?_)
  · have e : qInt F sch n U x y = nI 0 := by unfold qInt; rw [c1]; rfl
    rw [e] at hret
    refine v_iconst (pc := 16) (v := nI 0) hC dX1_intAt_16 rfl ?_
    exact hret _ _ _ _ dX1_intAt_17 rfl ⟨rfl, hR0⟩
  · obtain ⟨p, hp, rfl⟩ := xBad_f (by omega) c1
    refine v_aload_n (pc := 8) hC dX1_intAt_8 rfl ?_
    refine v_iload_n (pc := 9) hC dX1_intAt_9 rfl ?_
    refine k_calli1 (pc := 10) hC (kM_badField) kc_badField ⟨by decide, by decide⟩ (Nat.le_of_ble_eq_true rfl) dX1_intAt_10 (fun r u hp => ?_) ⟨rfl, rfl⟩
    obtain ⟨rfl, rfl⟩ := hp
    refine v_ifB_eq (pc := 13) (tgt := 18) hC dX1_intAt_13 (by decide) (fun c2 => ?_) (fun c2 => ?_)
    · obtain ⟨f, hf, rfl⟩ := xBad_f (by omega) c2
      have hUf := hU p hp f hf
      obtain ⟨e1, e2, e3, e4, e5⟩ := hE.1 p hp
      refine v_aload_n (pc := 18) hC dX1_intAt_18 rfl ?_
      refine v_iload_n (pc := 19) hC dX1_intAt_19 rfl ?_
      refine k_calli1 (pc := 20) hC (kM_isText) kc_isText ⟨by decide, by decide⟩ (Nat.le_of_ble_eq_true rfl) dX1_intAt_20 (fun r u hp => ?_) ⟨rfl, rfl⟩
      obtain ⟨rfl, rfl⟩ := hp
      refine v_ifB_eq (pc := 23) (tgt := 28) hC dX1_intAt_23 (by decide) (fun c3 => ?_) (fun c3 => ?_)
      · skip
        refine v_aload_n (pc := 28) hC dX1_intAt_28 rfl ?_
        refine v_aload_n (pc := 29) hC dX1_intAt_29 rfl ?_
        refine kg_od (pc := 30) hC dX1_intAt_30 ?_
        refine v_iload_n (pc := 33) hC dX1_intAt_33 rfl ?_
        refine kl_od (pc := 34) hC (by omega) dX1_intAt_34 ?_
        refine v_top e2 ?_
        refine v_iload_n (pc := 35) hC dX1_intAt_35 rfl ?_
        refine k_calli2 (pc := 36) hC (kM_seek e1 hf hF4 (hU p hp) e5.r) kc_seek ⟨by decide, by decide⟩ (Nat.le_of_ble_eq_true rfl) dX1_intAt_36 (fun r u hp => ?_) ⟨rfl, rfl⟩
        obtain ⟨rfl, r, rfl, hw⟩ := hp
        refine v_istore_n (pc := 39) (L' := [_, _, _, _]) hC dX1_intAt_39 (Nat.le_of_ble_eq_true rfl) (by decide) rfl ?_
        refine v_iload_n (pc := 40) hC dX1_intAt_40 rfl ?_
        cases hx : U p f with
        | none =>
          have e : qInt F sch n U (nI p) (nI f) = nI 0 := by unfold qInt; rw [c1, c2, nIc hp (by omega), nIc hf (by omega), c3, hx]; rfl
          rw [e] at hret
          refine v_ifB_eq (pc := 41) (tgt := 48) hC dX1_intAt_41 (by decide) (fun q => absurd q (by decide)) (fun _ => ?_)
          refine v_iconst (pc := 44) (v := nI 0) hC dX1_intAt_44 rfl ?_
          refine v_goto (pc := 45) (tgt := 59) hC dX1_intAt_45 (by decide) ?_
          exact hret _ _ _ _ dX1_intAt_59 rfl ⟨rfl, _, _, _, _, _, _, _, _, _, _, _, _, _, rfl, ⟨hF1, hF4, hn20⟩, hT, hU, hE⟩
        | some w =>
          obtain ⟨A, hA⟩ := hw w hx
          rw [hx, c3, fOk_f] at hUf
          obtain ⟨b, hb, rfl⟩ := hUf
          rw [c3] at hA
          have e : qInt F sch n U (nI p) (nI f) = uB b := by unfold qInt; rw [c1, c2, nIc hp (by omega), nIc hf (by omega), c3, hx]; rfl
          rw [e] at hret
          refine v_ifB_eq (pc := 41) (tgt := 48) hC dX1_intAt_41 (by decide) (fun _ => ?_) (fun q => absurd q Bool.false_ne_true)
          refine v_aload_n (pc := 48) hC dX1_intAt_48 rfl ?_
          refine v_aload_n (pc := 49) hC dX1_intAt_49 rfl ?_
          refine kg_od (pc := 50) hC dX1_intAt_50 ?_
          refine v_iload_n (pc := 53) hC dX1_intAt_53 rfl ?_
          refine kl_od (pc := 54) hC (by omega) dX1_intAt_54 ?_
          refine v_top e2 ?_
          refine v_iload_n (pc := 55) hC dX1_intAt_55 rfl ?_
          refine k_calli2 (pc := 56) hC (kM_readInt e1 hb hA) kc_readInt ⟨by decide, by decide⟩ (Nat.le_of_ble_eq_true rfl) dX1_intAt_56 (fun r u hp => ?_) ⟨rfl, rfl⟩
          obtain ⟨rfl, rfl⟩ := hp
          exact hret _ _ _ _ dX1_intAt_59 rfl ⟨rfl, _, _, _, _, _, _, _, _, _, _, _, _, _, rfl, ⟨hF1, hF4, hn20⟩, hT, hU, hE⟩
      · have e : qInt F sch n U (nI p) (nI f) = nI 0 := by unfold qInt; rw [c1, c2, nIc hf (by omega), c3]; rfl
        rw [e] at hret
        refine v_iconst (pc := 26) (v := nI 0) hC dX1_intAt_26 rfl ?_
        exact hret _ _ _ _ dX1_intAt_27 rfl ⟨rfl, hR0⟩
    · have e : qInt F sch n U (nI p) y = nI 0 := by unfold qInt; rw [c1, c2]; rfl
      rw [e] at hret
      refine v_iconst (pc := 16) (v := nI 0) hC dX1_intAt_16 rfl ?_
      exact hret _ _ _ _ dX1_intAt_17 rfl ⟨rfl, hR0⟩
set_option maxHeartbeats 4000000 in
theorem kA_charAt (hR : kRep h d F sch T n U G ws) {x y i : Int32} : vMi l D yX1_charAt cX1_charAt 7 .int 5 160 (kT d) ws [.ref (h 0), .int x, .int y, .int i] (fun r u => r = qChr F sch n U x y i ∧ kRep h d F sch T n U G u) := by
  have hR0 := hR
  obtain ⟨sn, si, sl, tx, od, us, tg, kl, ky, pl, pb, ra, o, rfl, ⟨hF1, hF4, hn20⟩, hT, hU, hE⟩ := hR
  refine vMi_of RX1 (by decide) rfl (Nat.le_of_ble_eq_true rfl) rfl (fun X hC hret => ?_)
  have bad : qChr F sch n U x y i = -5 → vV l D X 7 (kT d) 0 0 (kw h d (nI F) sch sn si sl tx (nI n) od us tg kl ky pl pb ra) [.ref (h 0), .int x, .int y, .int i] 25 [] := by
    intro e
    rw [e] at hret
    refine v_bipush (pc := 25) (v := (-5)) hC dX1_charAt_25 (by decide) ?_
    exact hret _ _ _ _ dX1_charAt_27 rfl ⟨rfl, hR0⟩
  refine v_aload_n (pc := 0) hC dX1_charAt_0 rfl ?_
  refine v_iload_n (pc := 1) hC dX1_charAt_1 rfl ?_
  refine k_calli1 (pc := 2) hC (kM_noEntry) kc_noEntry ⟨by decide, by decide⟩ (Nat.le_of_ble_eq_true rfl) dX1_charAt_2 (fun r u hp => ?_) ⟨rfl, rfl⟩
  obtain ⟨rfl, rfl⟩ := hp
  refine v_ifB_ne (pc := 5) (tgt := 25) hC dX1_charAt_5 (by decide) (fun c1 => ?_) (fun c1 => ?_)
  · exact bad (by unfold qChr; rw [c1]; rfl)
  · obtain ⟨p, hp, rfl⟩ := xBad_f (by omega) c1
    refine v_aload_n (pc := 8) hC dX1_charAt_8 rfl ?_
    refine v_iload_n (pc := 9) hC dX1_charAt_9 rfl ?_
    refine k_calli1 (pc := 10) hC (kM_badField) kc_badField ⟨by decide, by decide⟩ (Nat.le_of_ble_eq_true rfl) dX1_charAt_10 (fun r u hp => ?_) ⟨rfl, rfl⟩
    obtain ⟨rfl, rfl⟩ := hp
    refine v_ifB_ne (pc := 13) (tgt := 25) hC dX1_charAt_13 (by decide) (fun c2 => ?_) (fun c2 => ?_)
    · exact bad (by unfold qChr; rw [c1, c2]; rfl)
    · obtain ⟨f, hf, rfl⟩ := xBad_f (by omega) c2
      have hUf := hU p hp f hf
      obtain ⟨e1, e2, e3, e4, e5⟩ := hE.1 p hp
      have far : xBad i 6 = true → qChr F sch n U (nI p) (nI f) i = -5 := by
        intro q
        unfold qChr
        rw [c1, c2, nIc hp (by omega), nIc hf (by omega)]
        cases ht : kTx sch f with
        | false => rfl
        | true =>
          cases hx : U p f with
          | none => rfl
          | some w =>
            rw [hx, ht, fOk_t] at hUf
            simp [xBad_le q hUf.1 (by omega)]
      refine v_iload_n (pc := 16) hC dX1_charAt_16 rfl ?_
      refine v_if_lt (pc := 17) (tgt := 25) hC dX1_charAt_17 (by decide) (fun c3 => ?_) (fun c3 => ?_)
      · exact bad (far (decide_eq_true (Or.inl c3)))
      · skip
        refine v_iload_n (pc := 20) hC dX1_charAt_20 rfl ?_
        refine v_iconst (pc := 21) (v := nI 5) hC dX1_charAt_21 rfl ?_
        refine v_icmp_le (pc := 22) (tgt := 28) hC dX1_charAt_22 (by decide) (fun c4 => ?_) (fun c4 => ?_)
        · have hi : xBad i 6 = false := decide_eq_false (fun q => q.elim c3 (fun q => absurd (Int32.le_trans q c4) (by decide)))
          obtain ⟨j, hj, rfl⟩ := xBad_f (by omega) hi
          refine v_aload_n (pc := 28) hC dX1_charAt_28 rfl ?_
          refine v_iload_n (pc := 29) hC dX1_charAt_29 rfl ?_
          refine k_calli1 (pc := 30) hC (kM_isText) kc_isText ⟨by decide, by decide⟩ (Nat.le_of_ble_eq_true rfl) dX1_charAt_30 (fun r u hp => ?_) ⟨rfl, rfl⟩
          obtain ⟨rfl, rfl⟩ := hp
          refine v_ifB_ne (pc := 33) (tgt := 39) hC dX1_charAt_33 (by decide) (fun c5 => ?_) (fun c5 => ?_)
          · skip
            refine v_aload_n (pc := 39) hC dX1_charAt_39 rfl ?_
            refine v_aload_n (pc := 40) hC dX1_charAt_40 rfl ?_
            refine kg_od (pc := 41) hC dX1_charAt_41 ?_
            refine v_iload_n (pc := 44) hC dX1_charAt_44 rfl ?_
            refine kl_od (pc := 45) hC (by omega) dX1_charAt_45 ?_
            refine v_top e2 ?_
            refine v_iload_n (pc := 46) hC dX1_charAt_46 rfl ?_
            refine k_calli2 (pc := 47) hC (kM_seek e1 hf hF4 (hU p hp) e5.r) kc_seek ⟨by decide, by decide⟩ (Nat.le_of_ble_eq_true rfl) dX1_charAt_47 (fun r u hp => ?_) ⟨rfl, rfl⟩
            obtain ⟨rfl, r, rfl, hw⟩ := hp
            refine v_istore (pc := 50) (L' := [_, _, _, _, _]) hC dX1_charAt_50 (Nat.le_of_ble_eq_true rfl) (by decide) rfl ?_
            refine v_iload (pc := 52) hC dX1_charAt_52 rfl ?_
            cases hx : U p f with
            | none =>
              have e : qChr F sch n U (nI p) (nI f) (nI j) = -5 := by unfold qChr; rw [c1, c2, nIc hp (by omega), nIc hf (by omega), c5, hx]; rfl
              rw [e] at hret
              refine v_ifB_eq (pc := 54) (tgt := 60) hC dX1_charAt_54 (by decide) (fun q => absurd q (by decide)) (fun _ => ?_)
              refine v_bipush (pc := 57) (v := (-5)) hC dX1_charAt_57 (by decide) ?_
              exact hret _ _ _ _ dX1_charAt_59 rfl ⟨rfl, _, _, _, _, _, _, _, _, _, _, _, _, _, rfl, ⟨hF1, hF4, hn20⟩, hT, hU, hE⟩
            | some w =>
              obtain ⟨A, hA⟩ := hw w hx
              rw [hx, c5, fOk_t] at hUf
              obtain ⟨hw6, hwc⟩ := hUf
              rw [c5] at hA
              unfold eB at hA
              rw [if_pos rfl] at hA
              have e : qChr F sch n U (nI p) (nI f) (nI j) = if xBad (nI j) w.length then -5 else nI (w.getD j 0) := by unfold qChr; rw [c1, c2, nIc hp (by omega), nIc hf (by omega), nIc hj (by omega), c5, hx]; rfl
              rw [e] at hret
              refine v_ifB_eq (pc := 54) (tgt := 60) hC dX1_charAt_54 (by decide) (fun _ => ?_) (fun q => absurd q Bool.false_ne_true)
              have fin : ∀ (r k : Nat) (z : Int32) (b : Bool), (z < 0 ∨ (j < w.length ∧ z = nI (w.getD j 0))) → (z < 0 → w.length ≤ j) → vV l D X 7 (kT d) 0 0 (kw h d (nI F) sch sn si sl tx (nI n) od us tg kl ky pl pb (nI r)) [.ref (h 0), .int (nI p), .int (nI f), .int (nI j), .int (bI b), .int z, .int (nI k)] 96 [] := by
                intro r k z b hz hz2
                refine v_iload (pc := 96) hC dX1_charAt_96 rfl ?_
                refine v_if_ge (pc := 98) (tgt := 106) hC dX1_charAt_98 (by decide) (fun c6 => ?_) (fun c6 => ?_)
                · skip
                  refine v_iload (pc := 106) hC dX1_charAt_106 rfl ?_
                  rcases hz with hz | ⟨hz, rfl⟩
                  · exact absurd c6 (Int32.not_le.mpr hz)
                  · rw [xBad_j hz (by omega)] at hret
                    exact hret _ _ _ _ dX1_charAt_108 rfl ⟨rfl, _, _, _, _, _, _, _, _, _, _, _, _, _, rfl, ⟨hF1, hF4, hn20⟩, hT, hU, hE⟩
                · rw [xBad_ge (hz2 (Int32.not_le.mp c6)) (by omega)] at hret
                  refine v_bipush (pc := 101) (v := (-5)) hC dX1_charAt_101 (by decide) ?_
                  refine v_goto (pc := 103) (tgt := 108) hC dX1_charAt_103 (by decide) ?_
                  exact hret _ _ _ _ dX1_charAt_108 rfl ⟨rfl, _, _, _, _, _, _, _, _, _, _, _, _, _, rfl, ⟨hF1, hF4, hn20⟩, hT, hU, hE⟩
              have loop : ∀ (v : List Nat) (r k : Nat) (z : Int32) (b : Bool), w.drop k = v → k ≤ j + 1 → ¬ z < 0 → (k = j + 1 → j < w.length ∧ z = nI (w.getD j 0)) → rAt ky (o p) r ((v.flatMap eC ++ [0, 1]).map (kTn sch f) ++ A) → vV l D X 7 (kT d) 0 0 (kw h d (nI F) sch sn si sl tx (nI n) od us tg kl ky pl pb (nI r)) [.ref (h 0), .int (nI p), .int (nI f), .int (nI j), .int (bI b), .int z, .int (nI k)] 66 [] := by
                intro v
                induction v with
                | nil =>
                  intro r k z b hd hk hz hkj hr
                  have hkw := drop_nil hd
                  refine v_iload (pc := 66) hC dX1_charAt_66 rfl ?_
                  refine v_iload_n (pc := 68) hC dX1_charAt_68 rfl ?_
                  refine v_icmpN_gt (pc := 69) (tgt := 96) hC dX1_charAt_69 (by decide) (by omega) (by omega) (fun c6 => ?_) (fun c6 => ?_)
                  · exact fin r k z b (Or.inr (hkj (by omega))) (fun q => absurd q hz)
                  · skip
                    refine v_iload (pc := 72) hC dX1_charAt_72 rfl ?_
                    refine v_if_lt (pc := 74) (tgt := 96) hC dX1_charAt_74 (by decide) (fun c7 => ?_) (fun c7 => ?_)
                    · exact absurd c7 hz
                    · skip
                      refine v_aload_n (pc := 77) hC dX1_charAt_77 rfl ?_
                      refine v_aload_n (pc := 78) hC dX1_charAt_78 rfl ?_
                      refine kg_od (pc := 79) hC dX1_charAt_79 ?_
                      refine v_iload_n (pc := 82) hC dX1_charAt_82 rfl ?_
                      refine kl_od (pc := 83) hC (by omega) dX1_charAt_83 ?_
                      refine v_top e2 ?_
                      refine v_iload_n (pc := 84) hC dX1_charAt_84 rfl ?_
                      refine k_calli2 (pc := 85) hC (kM_readEnd e1 hr) kc_readChar ⟨by decide, by decide⟩ (Nat.le_of_ble_eq_true rfl) dX1_charAt_85 (fun r u hp => ?_) ⟨rfl, rfl⟩
                      obtain ⟨rfl, rfl⟩ := hp
                      refine v_istore (pc := 88) (L' := [_, _, _, _, _, _, _]) hC dX1_charAt_88 (Nat.le_of_ble_eq_true rfl) (by decide) rfl ?_
                      refine v_incN (pc := 90) (L' := [_, _, _, _, _, _, _]) hC dX1_charAt_90 rfl (by decide) rfl ?_
                      refine v_goto (pc := 93) (tgt := 66) hC dX1_charAt_93 (by decide) ?_
                      have out := fin (r + 2) (k + 1) (-1) b (Or.inl (by decide)) (fun _ => by omega)
                      refine v_iload (pc := 66) hC dX1_charAt_66 rfl ?_
                      refine v_iload_n (pc := 68) hC dX1_charAt_68 rfl ?_
                      refine v_icmpN_gt (pc := 69) (tgt := 96) hC dX1_charAt_69 (by decide) (by omega) (by omega) (fun c8 => ?_) (fun c8 => ?_)
                      · exact out
                      · skip
                        refine v_iload (pc := 72) hC dX1_charAt_72 rfl ?_
                        refine v_if_lt (pc := 74) (tgt := 96) hC dX1_charAt_74 (by decide) (fun c9 => ?_) (fun c9 => ?_)
                        · exact out
                        · exact absurd (by decide) c9
                | cons c v ih =>
                  intro r k z b hd hk hz hkj hr
                  obtain ⟨hi1, hc1, hd1, hcw⟩ := drop_cons hd
                  obtain ⟨t1, t2⟩ := hr.text
                  have hc := hwc c hcw
                  refine v_iload (pc := 66) hC dX1_charAt_66 rfl ?_
                  refine v_iload_n (pc := 68) hC dX1_charAt_68 rfl ?_
                  refine v_icmpN_gt (pc := 69) (tgt := 96) hC dX1_charAt_69 (by decide) (by omega) (by omega) (fun c6 => ?_) (fun c6 => ?_)
                  · exact fin r k z b (Or.inr (hkj (by omega))) (fun q => absurd q hz)
                  · skip
                    refine v_iload (pc := 72) hC dX1_charAt_72 rfl ?_
                    refine v_if_lt (pc := 74) (tgt := 96) hC dX1_charAt_74 (by decide) (fun c7 => ?_) (fun c7 => ?_)
                    · exact absurd c7 hz
                    · skip
                      refine v_aload_n (pc := 77) hC dX1_charAt_77 rfl ?_
                      refine v_aload_n (pc := 78) hC dX1_charAt_78 rfl ?_
                      refine kg_od (pc := 79) hC dX1_charAt_79 ?_
                      refine v_iload_n (pc := 82) hC dX1_charAt_82 rfl ?_
                      refine kl_od (pc := 83) hC (by omega) dX1_charAt_83 ?_
                      refine v_top e2 ?_
                      refine v_iload_n (pc := 84) hC dX1_charAt_84 rfl ?_
                      refine k_calli2 (pc := 85) hC (kM_readChar e1 hc t1) kc_readChar ⟨by decide, by decide⟩ (Nat.le_of_ble_eq_true rfl) dX1_charAt_85 (fun r u hp => ?_) ⟨rfl, rfl⟩
                      obtain ⟨rfl, rfl⟩ := hp
                      refine v_istore (pc := 88) (L' := [_, _, _, _, _, _, _]) hC dX1_charAt_88 (Nat.le_of_ble_eq_true rfl) (by decide) rfl ?_
                      refine v_incN (pc := 90) (L' := [_, _, _, _, _, _, _]) hC dX1_charAt_90 rfl (by decide) rfl ?_
                      refine v_goto (pc := 93) (tgt := 66) hC dX1_charAt_93 (by decide) ?_
                      exact ih _ (k + 1) (nI c) b hd1 (by omega) (nI_pos (by omega)) (fun q => by
                        have : k = j := by omega
                        subst this
                        exact ⟨hi1, by rw [hc1]⟩) t2
              refine v_iconst (pc := 60) (v := nI 0) hC dX1_charAt_60 rfl ?_
              refine v_istore (pc := 61) (L' := [_, _, _, _, _, _]) hC dX1_charAt_61 (Nat.le_of_ble_eq_true rfl) (by decide) rfl ?_
              refine v_iconst (pc := 63) (v := nI 0) hC dX1_charAt_63 rfl ?_
              refine v_istore (pc := 64) (L' := [_, _, _, _, _, _, _]) hC dX1_charAt_64 (Nat.le_of_ble_eq_true rfl) (by decide) rfl ?_
              exact loop w r 0 (nI 0) _ rfl (by omega) (by decide) (fun q => absurd q (by omega)) hA
          · have e : qChr F sch n U (nI p) (nI f) (nI j) = -5 := by unfold qChr; rw [c1, c2, nIc hf (by omega), c5]; rfl
            rw [e] at hret
            refine v_bipush (pc := 36) (v := (-5)) hC dX1_charAt_36 (by decide) ?_
            exact hret _ _ _ _ dX1_charAt_38 rfl ⟨rfl, hR0⟩
        · exact bad (far (decide_eq_true (Or.inr (by
            have h1 : ¬ i.toInt ≤ 5 := fun w => c4 (Int32.le_iff_toInt_le.mpr w)
            exact Int32.le_iff_toInt_le.mpr (show (6 : Int) ≤ i.toInt by omega)))))
set_option maxHeartbeats 4000000 in
theorem kA_load (hR : kRep h d F sch T n U G ws) {x : Int32} : vMi l D yX1_load cX1_load 4 .int 5 160 (kT d) ws [.ref (h 0), .int x] (fun r u => (xBad x n = true → r = -5 ∧ kRep h d F sch T n U G u) ∧ (∀ p, p < n → x = nI p → r = G p ∧ kRep h d F sch (U p) n U G u)) := by
  have hR0 := hR
  obtain ⟨sn, si, sl, tx, od, us, tg, kl, ky, pl, pb, ra, o, rfl, ⟨hF1, hF4, hn20⟩, hT, hU, hE⟩ := hR
  refine vMi_of RX1 (by decide) rfl (Nat.le_of_ble_eq_true rfl) rfl (fun X hC hret => ?_)
  refine v_aload_n (pc := 0) hC dX1_load_0 rfl ?_
  refine v_iload_n (pc := 1) hC dX1_load_1 rfl ?_
  refine k_calli1 (pc := 2) hC (kM_noEntry) kc_noEntry ⟨by decide, by decide⟩ (Nat.le_of_ble_eq_true rfl) dX1_load_2 (fun r u hp => ?_) ⟨rfl, rfl⟩
  obtain ⟨rfl, rfl⟩ := hp
  refine v_ifB_eq (pc := 5) (tgt := 11) hC dX1_load_5 (by decide) (fun c1 => ?_) (fun c1 => ?_)
  · obtain ⟨p, hp, rfl⟩ := xBad_f (by omega) c1
    obtain ⟨e1, e2, e3, e4, e5⟩ := hE.1 p hp
    have loop : ∀ (k f : Nat) (sn si sl tx : Nat → Int32) (ra : Int32), f + k = F → kSt sch f (U p) sn si sl tx → vV l D X 4 (kT d) 0 0 (kw h d (nI F) sch (sn) (si) (sl) (tx) (nI n) od us tg kl ky pl pb (ra)) [.ref (h 0), .int (nI p), .int (nI (o p)), .int (nI f)] 20 [] := by
      intro k
      induction k with
      | zero =>
        intro f sn si sl tx ra hf hS
        have : f = F := by omega
        subst this
        refine v_iload_n (pc := 20) hC dX1_load_20 rfl ?_
        refine v_aload_n (pc := 21) hC dX1_load_21 rfl ?_
        refine kg_nf (pc := 22) hC dX1_load_22 ?_
        refine v_icmpN_ge (pc := 25) (tgt := 61) hC dX1_load_25 (by decide) (by omega) (by omega) (fun c2 => ?_) (fun c2 => ?_)
        · skip
          refine v_aload_n (pc := 61) hC dX1_load_61 rfl ?_
          refine kg_tg (pc := 62) hC dX1_load_62 ?_
          refine v_iload_n (pc := 65) hC dX1_load_65 rfl ?_
          refine kl_tg (pc := 66) hC (by omega) dX1_load_66 ?_
          refine hret _ _ _ _ dX1_load_67 rfl ⟨fun q => absurd (c1.symm.trans q) (by decide), fun p' hp' e => ?_⟩
          have := (nI_eq (by omega) (by omega)).mp e
          subst this
          exact ⟨e4, _, _, _, _, _, _, _, _, _, _, _, _, _, rfl, ⟨hF1, hF4, hn20⟩, hS, hU, hE⟩
        · exact absurd c2 (by omega)
      | succ k ih =>
        intro f sn si sl tx ra hf hS
        have hUf := hU p hp f (by omega)
        refine v_iload_n (pc := 20) hC dX1_load_20 rfl ?_
        refine v_aload_n (pc := 21) hC dX1_load_21 rfl ?_
        refine kg_nf (pc := 22) hC dX1_load_22 ?_
        refine v_icmpN_ge (pc := 25) (tgt := 61) hC dX1_load_25 (by decide) (by omega) (by omega) (fun c2 => ?_) (fun c2 => ?_)
        · exact absurd c2 (by omega)
        · skip
          refine v_aload_n (pc := 28) hC dX1_load_28 rfl ?_
          refine kg_sn (pc := 29) hC dX1_load_29 ?_
          refine v_iload_n (pc := 32) hC dX1_load_32 rfl ?_
          refine v_aload_n (pc := 33) hC dX1_load_33 rfl ?_
          refine v_iload_n (pc := 34) hC dX1_load_34 rfl ?_
          refine v_iload_n (pc := 35) hC dX1_load_35 rfl ?_
          refine k_calli2 (pc := 36) hC (kM_seek e1 (by omega) hF4 (hU p hp) e5.r) kc_seek ⟨by decide, by decide⟩ (Nat.le_of_ble_eq_true rfl) dX1_load_36 (fun r u hp => ?_) ⟨rfl, rfl⟩
          obtain ⟨rfl, r, rfl, hw⟩ := hp
          refine ks_sn (pc := 39) hC (by omega) (bI_vp _) dX1_load_39 ?_
          refine v_aload_n (pc := 40) hC dX1_load_40 rfl ?_
          refine kg_sn (pc := 41) hC dX1_load_41 ?_
          refine v_iload_n (pc := 44) hC dX1_load_44 rfl ?_
          refine kl_sn (pc := 45) hC (by omega) dX1_load_45 ?_
          refine v_top pk_us ?_
          cases hx : U p f with
          | none =>
            refine v_ifB_ne (pc := 46) (tgt := 55) hC dX1_load_46 (by decide) (fun _ => ?_) (fun q => absurd q (by decide))
            refine v_incN (pc := 55) (L' := [_, _, _, _]) hC dX1_load_55 rfl (by decide) rfl ?_
            refine v_goto (pc := 58) (tgt := 20) hC dX1_load_58 (by decide) ?_
            refine ih (f + 1) _ _ _ _ _ (by omega) (fun g hg => ?_)
            by_cases q : g = f
            · subst q
              rw [hx, pk_us]
              exact fRep_n.mpr rfl
            · rw [pk_un q]
              exact hS g (by omega)
          | some w =>
            rw [hx] at hUf
            obtain ⟨A, hA⟩ := hw w hx
            refine v_ifB_ne (pc := 46) (tgt := 55) hC dX1_load_46 (by decide) (fun q => absurd q Bool.false_ne_true) (fun _ => ?_)
            refine v_aload_n (pc := 49) hC dX1_load_49 rfl ?_
            refine v_iload_n (pc := 50) hC dX1_load_50 rfl ?_
            refine v_iload_n (pc := 51) hC dX1_load_51 rfl ?_
            refine k_callv2 (pc := 52) hC (kM_loadField e1 (by omega) hUf hA) kc_loadField ⟨by decide, by decide⟩ (Nat.le_of_ble_eq_true rfl) dX1_load_52 (fun u hp => ?_) ⟨rfl, rfl⟩
            obtain ⟨si', sl', tx', ra', rfl, hf1, hf2⟩ := hp
            refine v_incN (pc := 55) (L' := [_, _, _, _]) hC dX1_load_55 rfl (by decide) rfl ?_
            refine v_goto (pc := 58) (tgt := 20) hC dX1_load_58 (by decide) ?_
            refine ih (f + 1) _ _ _ _ _ (by omega) (fun g hg => ?_)
            by_cases q : g = f
            · subst q
              rw [hx, pk_us]
              exact hf1
            · obtain ⟨g1, g2, g3⟩ := hf2 g q
              rw [pk_un q, g1, g2]
              exact (hS g (by omega)).keep g3
    refine v_aload_n (pc := 11) hC dX1_load_11 rfl ?_
    refine kg_od (pc := 12) hC dX1_load_12 ?_
    refine v_iload_n (pc := 15) hC dX1_load_15 rfl ?_
    refine kl_od (pc := 16) hC (by omega) dX1_load_16 ?_
    refine v_top e2 ?_
    refine v_istore_n (pc := 17) (L' := [_, _, _]) hC dX1_load_17 (Nat.le_of_ble_eq_true rfl) (by decide) rfl ?_
    refine v_iconst (pc := 18) (v := nI 0) hC dX1_load_18 rfl ?_
    refine v_istore_n (pc := 19) (L' := [_, _, _, _]) hC dX1_load_19 (Nat.le_of_ble_eq_true rfl) (by decide) rfl ?_
    exact loop F 0 sn si sl tx ra (by omega) (fun g hg => absurd hg (by omega))
  · skip
    refine v_bipush (pc := 8) (v := (-5)) hC dX1_load_8 (by decide) ?_
    exact hret _ _ _ _ dX1_load_10 rfl ⟨fun _ => ⟨rfl, hR0⟩, fun j hj e => absurd ((xBad_j hj (by omega)).symm.trans (e ▸ c1)) (by decide)⟩
end K21
end
section
/-! the reference: its cells, and the order of ints and texts as it compares them -/
theorem nat_xor31 {a : Nat} (h : a < 4294967296) : a ^^^ 2 ^ 31 = (a + 2147483648) % 4294967296 := by
  have h1 : (a ^^^ 2 ^ 31) % 2 ^ 31 = a % 2 ^ 31 := by rw [Nat.xor_mod_two_pow, Nat.mod_self, Nat.xor_zero]
  have h2 : (a ^^^ 2 ^ 31) / 2 ^ 31 = (a / 2 ^ 31) ^^^ 1 := by rw [Nat.xor_div_two_pow, Nat.div_self (Nat.two_pow_pos 31)]
  have h3 : a / 2 ^ 31 = 0 ∨ a / 2 ^ 31 = 1 := by omega
  generalize a ^^^ 2 ^ 31 = t at h1 h2
  rcases h3 with h3 | h3
  · rw [h3] at h2
    have h2 : t / 2 ^ 31 = 1 := h2
    omega
  · rw [h3] at h2
    have h2 : t / 2 ^ 31 = 0 := h2
    omega
theorem bias_nat (v : Int32) : bias v = (v.toBitVec.toNat + 2147483648) % 4294967296 := by
  rw [← nat_xor31 v.toBitVec.isLt]
  exact UInt32.toNat_xor _ _
theorem bias_int (v : Int32) : (bias v : Int) = v.toInt + 2147483648 := by
  have h1 : v.toInt = if 2 * v.toBitVec.toNat < 2 ^ 32 then (v.toBitVec.toNat : Int) else (v.toBitVec.toNat : Int) - (2 ^ 32 : Nat) := BitVec.toInt_eq_toNat_cond _
  have h2 := v.toBitVec.isLt
  rw [bias_nat, h1]
  split <;> omega
theorem bias_ltI {x y : Int32} : x < y ↔ bias x < bias y := by
  have h1 := bias_int x
  have h2 := bias_int y
  rw [Int32.lt_iff_toInt_lt]
  omega
theorem bias_eqI {x y : Int32} : x = y ↔ bias x = bias y := by
  have h1 := bias_int x
  have h2 := bias_int y
  rw [← Int32.toInt_inj]
  omega
theorem uB_bias (v : Int32) : uB (bias v) = v := bias_inv v
/-- the character at i, or -1 behind the end -/
def xv (w : List Nat) (i : Nat) : Int32 := if i < w.length then nI (w.getD i 0) else -1
theorem drop_end {w : List Nat} {i : Nat} (h : w.drop i = []) : w.drop (i + 1) = [] := by
  have := drop_nil h
  exact List.drop_eq_nil_of_le (by omega)
theorem xv_c {w r : List Nat} {i c : Nat} (h : w.drop i = c :: r) : xv w i = nI c := by
  obtain ⟨h1, h2, -, -⟩ := drop_cons h
  unfold xv
  rw [if_pos h1, h2]
theorem xv_e {w : List Nat} {i : Nat} (h : w.drop i = []) : xv w i = -1 := by
  unfold xv
  rw [if_neg (by have := drop_nil h; omega)]
theorem m1_lt {c : Nat} (h : c < 256) : (-1 : Int32) < nI c := by
  rw [Int32.lt_iff_toInt_lt, nI_toInt (by omega)]
  show (-1 : Int) < c
  omega
theorem i32_irr {x : Int32} (h : x < x) : False := by
  rw [Int32.lt_iff_toInt_lt] at h
  omega
theorem lx_step {wa wb : List Nat} (i : Nat) (ha : ∀ c ∈ wa, c < 256) (hb : ∀ c ∈ wb, c < 256) : (xv wa i = xv wb i → lx (wa.drop i) (wb.drop i) = lx (wa.drop (i + 1)) (wb.drop (i + 1))) ∧ (xv wa i ≠ xv wb i → (xv wa i < xv wb i → lx (wa.drop i) (wb.drop i) = -1) ∧ (¬ xv wa i < xv wb i → lx (wa.drop i) (wb.drop i) = 1)) := by
  cases h1 : wa.drop i with
  | nil =>
    rw [xv_e h1, drop_end h1]
    cases h2 : wb.drop i with
    | nil => rw [xv_e h2, drop_end h2]; exact ⟨fun _ => rfl, fun q => absurd rfl q⟩
    | cons c B =>
      rw [xv_c h2]
      have hc := m1_lt (hb c (drop_cons h2).2.2.2)
      exact ⟨fun q => absurd q (fun w => i32_irr (w ▸ hc)), fun _ => ⟨fun _ => rfl, fun q => absurd hc q⟩⟩
  | cons a A =>
    have ha2 := ha a (drop_cons h1).2.2.2
    have hc := m1_lt ha2
    rw [xv_c h1, (drop_cons h1).2.2.1]
    cases h2 : wb.drop i with
    | nil =>
      rw [xv_e h2]
      refine ⟨fun q => absurd q (fun w => i32_irr (w ▸ hc)), fun _ => ⟨fun q => ?_, fun _ => rfl⟩⟩
      exact (i32_irr (Int32.lt_trans hc q)).elim
    | cons b B =>
      have hb2 := hb b (drop_cons h2).2.2.2
      rw [xv_c h2, (drop_cons h2).2.2.1, lx, nI_ltI (by omega) (by omega), ne_eq, nI_eq (by omega) (by omega)]
      refine ⟨fun q => if_pos q, fun q => ⟨fun w => ?_, fun w => ?_⟩⟩
      · rw [if_neg q, if_pos w]
      · rw [if_neg q, if_neg w]
/-- the row of four fields from b on holds T -/
def mRow (sch : Int32) (F : Nat) (T : Nat → FV) (b : Nat) (nu it ln ch : Nat → Int32) : Prop := ∀ f, f < F → fRep (kTx sch f) (T f) (nu (b + f)) (it (b + f)) (ln (b + f)) (fun j => ch ((b + f) * 6 + j))
theorem mRow.upd {sch : Int32} {F : Nat} {T : Nat → FV} {b : Nat} {nu it ln ch nu' it' ln' ch' : Nat → Int32} (h : mRow sch F T b nu it ln ch) {f : Nat} {x : FV} (hf : fRep (kTx sch f) x (nu' (b + f)) (it' (b + f)) (ln' (b + f)) (fun j => ch' ((b + f) * 6 + j))) (ho : ∀ g, g ≠ f → nu' (b + g) = nu (b + g) ∧ it' (b + g) = it (b + g) ∧ ln' (b + g) = ln (b + g) ∧ ∀ j, j < 6 → ch' ((b + g) * 6 + j) = ch ((b + g) * 6 + j)) : mRow sch F (updT T f x) b nu' it' ln' ch' := by
  intro g hg
  by_cases q : g = f
  · subst q; rw [updT_s]; exact hf
  · obtain ⟨h1, h2, h3, h4⟩ := ho g q
    rw [updT_n q, h1, h2, h3]
    exact (h g hg).keep h4
/-- a row at another place, or left alone -/
theorem mRow.moved {sch : Int32} {F : Nat} {T : Nat → FV} {a b : Nat} {nu it ln ch nu' it' ln' ch' : Nat → Int32} (h : mRow sch F T a nu it ln ch) (hF : F ≤ 4) (h1 : ∀ f, f < 4 → nu' (b + f) = nu (a + f) ∧ it' (b + f) = it (a + f) ∧ ln' (b + f) = ln (a + f)) (h2 : ∀ j, j < 24 → ch' (b * 6 + j) = ch (a * 6 + j)) : mRow sch F T b nu' it' ln' ch' := by
  intro f hf
  obtain ⟨e1, e2, e3⟩ := h1 f (by omega)
  rw [e1, e2, e3]
  refine (h f hf).keep (fun j hj => ?_)
  show ch' ((b + f) * 6 + j) = ch ((a + f) * 6 + j)
  rw [show (b + f) * 6 + j = b * 6 + (f * 6 + j) by omega, show (a + f) * 6 + j = a * 6 + (f * 6 + j) by omega]
  exact h2 _ (by omega)
def mBool (nu : Nat → Int32) : Prop := ∀ j, j < 84 → nu j = nI 0 ∨ nu j = nI 1
theorem mBool.upd {nu : Nat → Int32} (h : mBool nu) (k : Nat) {x : Int32} (hx : x = nI 0 ∨ x = nI 1) : mBool (upd nu k x) := by
  intro j hj
  by_cases q : j = k
  · rw [q, pk_us]; exact hx
  · rw [pk_un q]; exact h j hj
theorem vp01 {x : Int32} (h : x = nI 0 ∨ x = nI 1) : vp_nar .boolean x = x := by
  rcases h with h | h <;> rw [h] <;> rfl
/-- the whole of an OrderedKeysModel: F fields, the stage T, n entries E with tags H, in the order of their adding -/
def mRep (g : Nat → Nat) (c : Nat → ClassId) (F : Nat) (sch : Int32) (T : Nat → FV) (n : Nat) (E : Nat → Nat → FV) (H : Nat → Int32) (ws : va_W) : Prop :=
  ∃ (tg nu it ln ch : Nat → Int32), ws = mw g c (nI F) sch (nI n) tg nu it ln ch ∧ (1 ≤ F ∧ F ≤ 4 ∧ n ≤ 20) ∧ mRow sch F T 80 nu it ln ch ∧ (∀ e, e < n → mRow sch F (E e) (e * 4) nu it ln ch ∧ tg e = H e) ∧ mBool nu
end
section
/-! OrderedKeysModel: comparing -/
section M31
variable {l : Launch} {D : va_G} {g : Nat → Nat} {c : Nat → ClassId} {nf sch ct : Int32} {tg nu it ln ch : Nat → Int32}
set_option maxHeartbeats 2000000 in
theorem mM_bad {F : Nat} {x : Int32} : vMi l D yX2_bad cX2_bad 2 .boolean 0 0 (mT c) (mw g c (nI F) sch ct tg nu it ln ch) [.ref (g 0), .int x] (fun r u => r = bI (xBad x F) ∧ u = (mw g c (nI F) sch ct tg nu it ln ch)) := by
  refine vMi_of RX2 (by decide) rfl (Nat.le_of_ble_eq_true rfl) rfl (fun X hC hret => ?_)
  refine v_iload_n (pc := 0) hC dX2_bad_0 rfl ?_
  refine v_if_lt (pc := 1) (tgt := 12) hC dX2_bad_1 (by decide) (fun c1 => ?_) (fun c1 => ?_)
  · have hb : xBad x F = true := decide_eq_true (Or.inl c1)
    refine v_iconst (pc := 12) (v := nI 1) hC dX2_bad_12 rfl ?_
    refine v_goto (pc := 13) (tgt := 17) hC dX2_bad_13 (by decide) ?_
    exact hret _ _ _ _ dX2_bad_17 rfl ⟨by rw [hb]; rfl, rfl⟩
  · skip
    refine v_iload_n (pc := 4) hC dX2_bad_4 rfl ?_
    refine v_aload_n (pc := 5) hC dX2_bad_5 rfl ?_
    refine mg_nf (pc := 6) hC dX2_bad_6 ?_
    refine v_icmp_lt (pc := 9) (tgt := 16) hC dX2_bad_9 (by decide) (fun c2 => ?_) (fun c2 => ?_)
    · have hb : xBad x F = false := decide_eq_false (fun q => q.elim c1 (fun q => Int32.not_lt.mpr q c2))
      refine v_iconst (pc := 16) (v := nI 0) hC dX2_bad_16 rfl ?_
      exact hret _ _ _ _ dX2_bad_17 rfl ⟨by rw [hb]; rfl, rfl⟩
    · have hb : xBad x F = true := decide_eq_true (Or.inr (Int32.not_lt.mp c2))
      refine v_iconst (pc := 12) (v := nI 1) hC dX2_bad_12 rfl ?_
      refine v_goto (pc := 13) (tgt := 17) hC dX2_bad_13 (by decide) ?_
      exact hret _ _ _ _ dX2_bad_17 rfl ⟨by rw [hb]; rfl, rfl⟩
set_option maxHeartbeats 2000000 in
theorem mM_text {f : Nat} : vMi l D yX2_text cX2_text 2 .boolean 0 0 (mT c) (mw g c nf sch ct tg nu it ln ch) [.ref (g 0), .int (nI f)] (fun r u => r = bI (kTx sch f) ∧ u = (mw g c nf sch ct tg nu it ln ch)) := by
  refine vMi_of RX2 (by decide) rfl (Nat.le_of_ble_eq_true rfl) rfl (fun X hC hret => ?_)
  refine v_aload_n (pc := 0) hC dX2_text_0 rfl ?_
  refine mg_sch (pc := 1) hC dX2_text_1 ?_
  refine v_iconst (pc := 4) (v := nI 4) hC dX2_text_4 rfl ?_
  refine v_iload_n (pc := 5) hC dX2_text_5 rfl ?_
  first | refine v_imulN (pc := 6) hC dX2_text_6 ?_ | refine v_imul (pc := 6) hC dX2_text_6 ?_
  refine v_ishr (pc := 7) hC dX2_text_7 ?_
  refine v_iconst (pc := 8) (v := nI 1) hC dX2_text_8 rfl ?_
  refine v_iand (pc := 9) hC dX2_text_9 ?_
  refine v_iconst (pc := 10) (v := nI 1) hC dX2_text_10 rfl ?_
  refine v_icmp_ne (pc := 11) (tgt := 18) hC dX2_text_11 (by decide) (fun c1 => ?_) (fun c1 => ?_)
  · have hb : kTx sch f = false := decide_eq_false c1
    refine v_iconst (pc := 18) (v := nI 0) hC dX2_text_18 rfl ?_
    exact hret _ _ _ _ dX2_text_19 rfl ⟨by rw [hb]; rfl, rfl⟩
  · have hb : kTx sch f = true := decide_eq_true c1
    refine v_iconst (pc := 14) (v := nI 1) hC dX2_text_14 rfl ?_
    refine v_goto (pc := 15) (tgt := 19) hC dX2_text_15 (by decide) ?_
    exact hret _ _ _ _ dX2_text_19 rfl ⟨by rw [hb]; rfl, rfl⟩
set_option maxHeartbeats 4000000 in
theorem mM_values {a b : Nat} (ha : a < 84) (hb : b < 84) {t : Bool} {wa wb : List Nat} {na nb : Int32} (hA : fRep t (some wa) na (it a) (ln a) (fun j => ch (a * 6 + j))) (hB : fRep t (some wb) nb (it b) (ln b) (fun j => ch (b * 6 + j))) : vMi l D yX2_values cX2_values 7 .int 0 0 (mT c) (mw g c nf sch ct tg nu it ln ch) [.ref (g 0), .int (nI a), .int (nI b), .int (bI t)] (fun r u => r.toInt = lx wa wb ∧ u = (mw g c nf sch ct tg nu it ln ch)) := by
  refine vMi_of RX2 (by decide) rfl (Nat.le_of_ble_eq_true rfl) rfl (fun X hC hret => ?_)
  refine v_iload_n (pc := 0) hC dX2_values_0 rfl ?_
  refine v_ifB_ne (pc := 1) (tgt := 44) hC dX2_values_1 (by decide) (fun c1 => ?_) (fun c1 => ?_)
  · subst c1
    rw [fRep_t] at hA hB
    obtain ⟨-, ⟨hA6, hAc⟩, hAl, hAx⟩ := hA
    obtain ⟨-, ⟨hB6, hBc⟩, hBl, hBx⟩ := hB
    generalize hZ : lx wa wb = Z at hret
    have loop : ∀ (k i : Nat), i + k = 6 → lx (wa.drop i) (wb.drop i) = Z → vV l D X 7 (mT c) 0 0 (mw g c nf sch ct tg nu it ln ch) [.ref (g 0), .int (nI a), .int (nI b), .int (bI true), .int (nI i)] 47 [] := by
      intro k
      induction k with
      | zero =>
        intro i hi hz
        rw [List.drop_eq_nil_of_le (by omega), List.drop_eq_nil_of_le (by omega)] at hz
        refine v_iload (pc := 47) hC dX2_values_47 rfl ?_
        refine v_bipush (pc := 49) (v := nI 6) hC dX2_values_49 rfl ?_
        refine v_icmpN_ge (pc := 51) (tgt := 138) hC dX2_values_51 (by decide) (by omega) (by omega) (fun c2 => ?_) (fun c2 => ?_)
        · skip
          refine v_iconst (pc := 138) (v := nI 0) hC dX2_values_138 rfl ?_
          exact hret _ _ _ _ dX2_values_139 rfl ⟨by rw [← hz]; rfl, rfl⟩
        · exact absurd c2 (by omega)
      | succ k ih =>
        intro i hi hz
        obtain ⟨s1, s2⟩ := lx_step (wa := wa) (wb := wb) i hAc hBc
        have at110 : vV l D X 7 (mT c) 0 0 (mw g c nf sch ct tg nu it ln ch) [.ref (g 0), .int (nI a), .int (nI b), .int (bI true), .int (nI i), .int (xv wa i)] 110 [.int (xv wb i)] := by
          refine v_istore (pc := 110) (L' := [_, _, _, _, _, _, _]) hC dX2_values_110 (Nat.le_of_ble_eq_true rfl) (by decide) rfl ?_
          refine v_iload (pc := 112) hC dX2_values_112 rfl ?_
          refine v_iload (pc := 114) hC dX2_values_114 rfl ?_
          refine v_icmp_eq (pc := 116) (tgt := 132) hC dX2_values_116 (by decide) (fun c3 => ?_) (fun c3 => ?_)
          · skip
            refine v_incN (pc := 132) (L' := [_, _, _, _, _, _, _]) hC dX2_values_132 rfl (by decide) rfl ?_
            refine v_goto (pc := 135) (tgt := 47) hC dX2_values_135 (by decide) ?_
            refine v_take 5 (L' := [_, _, _, _, _]) rfl ?_
            exact ih (i + 1) (by omega) (by rw [← s1 c3]; exact hz)
          · skip
            refine v_iload (pc := 119) hC dX2_values_119 rfl ?_
            refine v_iload (pc := 121) hC dX2_values_121 rfl ?_
            refine v_icmp_ge (pc := 123) (tgt := 130) hC dX2_values_123 (by decide) (fun c4 => ?_) (fun c4 => ?_)
            · have h4 := (s2 c3).2 (Int32.not_lt.mpr c4)
              refine v_iconst (pc := 130) (v := nI 1) hC dX2_values_130 rfl ?_
              exact hret _ _ _ _ dX2_values_131 rfl ⟨by rw [← hz, h4]; rfl, rfl⟩
            · have h4 := (s2 c3).1 (Int32.not_le.mp c4)
              refine v_iconst (pc := 126) (v := (-1)) hC dX2_values_126 (by decide) ?_
              refine v_goto (pc := 127) (tgt := 131) hC dX2_values_127 (by decide) ?_
              exact hret _ _ _ _ dX2_values_131 rfl ⟨by rw [← hz, h4]; rfl, rfl⟩
        have at81 : vV l D X 7 (mT c) 0 0 (mw g c nf sch ct tg nu it ln ch) [.ref (g 0), .int (nI a), .int (nI b), .int (bI true), .int (nI i)] 81 [.int (xv wa i)] := by
          refine v_istore (pc := 81) (L' := [_, _, _, _, _, _]) hC dX2_values_81 (Nat.le_of_ble_eq_true rfl) (by decide) rfl ?_
          refine v_iload (pc := 83) hC dX2_values_83 rfl ?_
          refine v_aload_n (pc := 85) hC dX2_values_85 rfl ?_
          refine mg_ln (pc := 86) hC dX2_values_86 ?_
          refine v_iload_n (pc := 89) hC dX2_values_89 rfl ?_
          refine ml_ln (pc := 90) hC (by omega) dX2_values_90 ?_
          refine v_top hBl ?_
          refine v_icmpN_ge (pc := 91) (tgt := 109) hC dX2_values_91 (by decide) (by omega) (by omega) (fun c3 => ?_) (fun c3 => ?_)
          · skip
            refine v_iconst (pc := 109) (v := (-1)) hC dX2_values_109 (by decide) ?_
            have e : xv wb i = -1 := by unfold xv; rw [if_neg (by omega)]
            rw [e] at at110
            exact at110
          · skip
            refine v_aload_n (pc := 94) hC dX2_values_94 rfl ?_
            refine mg_ch (pc := 95) hC dX2_values_95 ?_
            refine v_iload_n (pc := 98) hC dX2_values_98 rfl ?_
            refine v_bipush (pc := 99) (v := nI 6) hC dX2_values_99 rfl ?_
            first | refine v_imulN (pc := 101) hC dX2_values_101 ?_ | refine v_imul (pc := 101) hC dX2_values_101 ?_
            refine v_iload (pc := 102) hC dX2_values_102 rfl ?_
            first | refine v_iaddN (pc := 104) hC dX2_values_104 ?_ | refine v_iadd (pc := 104) hC dX2_values_104 ?_
            refine ml_ch (pc := 105) hC (by omega) dX2_values_105 ?_
            have e : xv wb i = ch (b * 6 + i) := by unfold xv; rw [if_pos c3, ← hBx i c3]
            rw [e] at at110
            refine v_goto (pc := 106) (tgt := 110) hC dX2_values_106 (by decide) ?_
            exact at110
        refine v_iload (pc := 47) hC dX2_values_47 rfl ?_
        refine v_bipush (pc := 49) (v := nI 6) hC dX2_values_49 rfl ?_
        refine v_icmpN_ge (pc := 51) (tgt := 138) hC dX2_values_51 (by decide) (by omega) (by omega) (fun c2 => ?_) (fun c2 => ?_)
        · exact absurd c2 (by omega)
        · skip
          refine v_iload (pc := 54) hC dX2_values_54 rfl ?_
          refine v_aload_n (pc := 56) hC dX2_values_56 rfl ?_
          refine mg_ln (pc := 57) hC dX2_values_57 ?_
          refine v_iload_n (pc := 60) hC dX2_values_60 rfl ?_
          refine ml_ln (pc := 61) hC (by omega) dX2_values_61 ?_
          refine v_top hAl ?_
          refine v_icmpN_ge (pc := 62) (tgt := 80) hC dX2_values_62 (by decide) (by omega) (by omega) (fun c3 => ?_) (fun c3 => ?_)
          · skip
            refine v_iconst (pc := 80) (v := (-1)) hC dX2_values_80 (by decide) ?_
            have e : xv wa i = -1 := by unfold xv; rw [if_neg (by omega)]
            rw [e] at at81
            exact at81
          · skip
            refine v_aload_n (pc := 65) hC dX2_values_65 rfl ?_
            refine mg_ch (pc := 66) hC dX2_values_66 ?_
            refine v_iload_n (pc := 69) hC dX2_values_69 rfl ?_
            refine v_bipush (pc := 70) (v := nI 6) hC dX2_values_70 rfl ?_
            first | refine v_imulN (pc := 72) hC dX2_values_72 ?_ | refine v_imul (pc := 72) hC dX2_values_72 ?_
            refine v_iload (pc := 73) hC dX2_values_73 rfl ?_
            first | refine v_iaddN (pc := 75) hC dX2_values_75 ?_ | refine v_iadd (pc := 75) hC dX2_values_75 ?_
            refine ml_ch (pc := 76) hC (by omega) dX2_values_76 ?_
            have e : xv wa i = ch (a * 6 + i) := by unfold xv; rw [if_pos c3, ← hAx i c3]
            rw [e] at at81
            refine v_goto (pc := 77) (tgt := 81) hC dX2_values_77 (by decide) ?_
            exact at81
    refine v_iconst (pc := 44) (v := nI 0) hC dX2_values_44 rfl ?_
    refine v_istore (pc := 45) (L' := [_, _, _, _, _]) hC dX2_values_45 (Nat.le_of_ble_eq_true rfl) (by decide) rfl ?_
    exact loop 6 0 rfl hZ
  · subst c1
    rw [fRep_f] at hA hB
    obtain ⟨-, -, rfl⟩ := hA
    obtain ⟨-, -, rfl⟩ := hB
    rw [lx_one] at hret
    refine v_aload_n (pc := 4) hC dX2_values_4 rfl ?_
    refine mg_it (pc := 5) hC dX2_values_5 ?_
    refine v_iload_n (pc := 8) hC dX2_values_8 rfl ?_
    refine ml_it (pc := 9) hC (by omega) dX2_values_9 ?_
    refine v_aload_n (pc := 10) hC dX2_values_10 rfl ?_
    refine mg_it (pc := 11) hC dX2_values_11 ?_
    refine v_iload_n (pc := 14) hC dX2_values_14 rfl ?_
    refine ml_it (pc := 15) hC (by omega) dX2_values_15 ?_
    refine v_icmp_ge (pc := 16) (tgt := 23) hC dX2_values_16 (by decide) (fun c2 => ?_) (fun c2 => ?_)
    · have n1 : ¬ bias (it a) < bias (it b) := fun q => Int32.not_lt.mpr c2 (bias_ltI.mpr q)
      refine v_aload_n (pc := 23) hC dX2_values_23 rfl ?_
      refine mg_it (pc := 24) hC dX2_values_24 ?_
      refine v_iload_n (pc := 27) hC dX2_values_27 rfl ?_
      refine ml_it (pc := 28) hC (by omega) dX2_values_28 ?_
      refine v_aload_n (pc := 29) hC dX2_values_29 rfl ?_
      refine mg_it (pc := 30) hC dX2_values_30 ?_
      refine v_iload_n (pc := 33) hC dX2_values_33 rfl ?_
      refine ml_it (pc := 34) hC (by omega) dX2_values_34 ?_
      refine v_icmp_le (pc := 35) (tgt := 42) hC dX2_values_35 (by decide) (fun c3 => ?_) (fun c3 => ?_)
      · have n2 : bias (it a) = bias (it b) := by
          have : ¬ bias (it b) < bias (it a) := fun q => Int32.not_lt.mpr c3 (bias_ltI.mpr q)
          omega
        refine v_iconst (pc := 42) (v := nI 0) hC dX2_values_42 rfl ?_
        exact hret _ _ _ _ dX2_values_43 rfl ⟨by rw [if_pos n2]; rfl, rfl⟩
      · have n2 : bias (it b) < bias (it a) := bias_ltI.mp (Int32.not_le.mp c3)
        refine v_iconst (pc := 38) (v := nI 1) hC dX2_values_38 rfl ?_
        refine v_goto (pc := 39) (tgt := 43) hC dX2_values_39 (by decide) ?_
        exact hret _ _ _ _ dX2_values_43 rfl ⟨by rw [if_neg (by omega), if_neg n1]; rfl, rfl⟩
    · have n1 : bias (it a) < bias (it b) := bias_ltI.mp (Int32.not_le.mp c2)
      refine v_iconst (pc := 19) (v := (-1)) hC dX2_values_19 (by decide) ?_
      refine v_goto (pc := 20) (tgt := 43) hC dX2_values_20 (by decide) ?_
      exact hret _ _ _ _ dX2_values_43 rfl ⟨by rw [if_neg (by omega), if_pos n1]; rfl, rfl⟩
set_option maxHeartbeats 4000000 in
theorem mM_field {x y f F : Nat} (hx : x ≤ 20) (hy : y ≤ 20) (hf : f < F) (hF : F ≤ 4) {T U : Nat → FV} (hT : mRow sch F T (x * 4) nu it ln ch) (hU : mRow sch F U (y * 4) nu it ln ch) : vMi l D yX2_field cX2_field 10 .int 1 32 (mT c) (mw g c nf sch ct tg nu it ln ch) [.ref (g 0), .int (nI x), .int (nI y), .int (nI f)] (fun r u => r.toInt = cF sch f (T f) (U f) ∧ u = (mw g c nf sch ct tg nu it ln ch)) := by
  refine vMi_of RX2 (by decide) rfl (Nat.le_of_ble_eq_true rfl) rfl (fun X hC hret => ?_)
  have hTf := hT f hf
  have hUf := hU f hf
  have at54 : vV l D X 10 (mT c) 0 0 (mw g c nf sch ct tg nu it ln ch) [.ref (g 0), .int (nI x), .int (nI y), .int (nI f), .int (nI (x * 4 + f)), .int (nI (y * 4 + f)), .int (bI (kDs sch f))] 54 [.int (bI (kNf sch f))] := by
    refine v_istore (pc := 54) (L' := [_, _, _, _, _, _, _, _]) hC dX2_field_54 (Nat.le_of_ble_eq_true rfl) (by decide) rfl ?_
    refine v_aload_n (pc := 56) hC dX2_field_56 rfl ?_
    refine mg_nu (pc := 57) hC dX2_field_57 ?_
    refine v_iload (pc := 60) hC dX2_field_60 rfl ?_
    refine ml_nu (pc := 62) hC (by omega) dX2_field_62 ?_
    refine v_top hTf.nul ?_
    cases hx : T f with
    | none =>
      refine v_ifB_eq (pc := 63) (tgt := 78) hC dX2_field_63 (by decide) (fun q => absurd q (by decide)) (fun _ => ?_)
      refine v_aload_n (pc := 66) hC dX2_field_66 rfl ?_
      refine mg_nu (pc := 67) hC dX2_field_67 ?_
      refine v_iload (pc := 70) hC dX2_field_70 rfl ?_
      refine ml_nu (pc := 72) hC (by omega) dX2_field_72 ?_
      refine v_top hUf.nul ?_
      cases hy : U f with
      | none =>
        refine v_ifB_eq (pc := 73) (tgt := 78) hC dX2_field_73 (by decide) (fun q => absurd q (by decide)) (fun _ => ?_)
        refine v_iconst (pc := 76) (v := nI 0) hC dX2_field_76 rfl ?_
        exact hret _ _ _ _ dX2_field_77 rfl ⟨by rw [hx, hy]; rfl, rfl⟩
      | some wb =>
        rw [hx, hy, cF_ns] at hret
        refine v_ifB_eq (pc := 73) (tgt := 78) hC dX2_field_73 (by decide) (fun _ => ?_) (fun q => absurd q Bool.false_ne_true)
        refine v_aload_n (pc := 78) hC dX2_field_78 rfl ?_
        refine mg_nu (pc := 79) hC dX2_field_79 ?_
        refine v_iload (pc := 82) hC dX2_field_82 rfl ?_
        refine ml_nu (pc := 84) hC (by omega) dX2_field_84 ?_
        refine v_top (hTf.nul.trans (by rw [hx])) ?_
        refine v_ifB_eq (pc := 85) (tgt := 99) hC dX2_field_85 (by decide) (fun q => absurd q (by decide)) (fun _ => ?_)
        refine v_iload (pc := 88) hC dX2_field_88 rfl ?_
        refine v_ifB_eq (pc := 90) (tgt := 97) hC dX2_field_90 (by decide) (fun c1 => ?_) (fun c1 => ?_)
        · skip
          refine v_iconst (pc := 97) (v := nI 1) hC dX2_field_97 rfl ?_
          exact hret _ _ _ _ dX2_field_98 rfl ⟨by rw [c1]; rfl, rfl⟩
        · skip
          refine v_iconst (pc := 93) (v := (-1)) hC dX2_field_93 (by decide) ?_
          refine v_goto (pc := 94) (tgt := 98) hC dX2_field_94 (by decide) ?_
          exact hret _ _ _ _ dX2_field_98 rfl ⟨by rw [c1]; rfl, rfl⟩
    | some wa =>
      refine v_ifB_eq (pc := 63) (tgt := 78) hC dX2_field_63 (by decide) (fun _ => ?_) (fun q => absurd q Bool.false_ne_true)
      refine v_aload_n (pc := 78) hC dX2_field_78 rfl ?_
      refine mg_nu (pc := 79) hC dX2_field_79 ?_
      refine v_iload (pc := 82) hC dX2_field_82 rfl ?_
      refine ml_nu (pc := 84) hC (by omega) dX2_field_84 ?_
      refine v_top (hTf.nul.trans (by rw [hx])) ?_
      refine v_ifB_eq (pc := 85) (tgt := 99) hC dX2_field_85 (by decide) (fun _ => ?_) (fun q => absurd q Bool.false_ne_true)
      refine v_aload_n (pc := 99) hC dX2_field_99 rfl ?_
      refine mg_nu (pc := 100) hC dX2_field_100 ?_
      refine v_iload (pc := 103) hC dX2_field_103 rfl ?_
      refine ml_nu (pc := 105) hC (by omega) dX2_field_105 ?_
      refine v_top hUf.nul ?_
      cases hy : U f with
      | none =>
        rw [hx, hy, cF_sn] at hret
        refine v_ifB_eq (pc := 106) (tgt := 120) hC dX2_field_106 (by decide) (fun q => absurd q (by decide)) (fun _ => ?_)
        refine v_iload (pc := 109) hC dX2_field_109 rfl ?_
        refine v_ifB_eq (pc := 111) (tgt := 118) hC dX2_field_111 (by decide) (fun c1 => ?_) (fun c1 => ?_)
        · skip
          refine v_iconst (pc := 118) (v := (-1)) hC dX2_field_118 (by decide) ?_
          exact hret _ _ _ _ dX2_field_119 rfl ⟨by rw [c1]; rfl, rfl⟩
        · skip
          refine v_iconst (pc := 114) (v := nI 1) hC dX2_field_114 rfl ?_
          refine v_goto (pc := 115) (tgt := 119) hC dX2_field_115 (by decide) ?_
          exact hret _ _ _ _ dX2_field_119 rfl ⟨by rw [c1]; rfl, rfl⟩
      | some wb =>
        rw [hx, hy, cF_ss] at hret
        rw [hx] at hTf
        rw [hy] at hUf
        refine v_ifB_eq (pc := 106) (tgt := 120) hC dX2_field_106 (by decide) (fun _ => ?_) (fun q => absurd q Bool.false_ne_true)
        refine v_aload_n (pc := 120) hC dX2_field_120 rfl ?_
        refine v_iload_n (pc := 121) hC dX2_field_121 rfl ?_
        refine m_calli1 (pc := 122) hC (mM_text) mc_text ⟨by decide, by decide⟩ (Nat.le_of_ble_eq_true rfl) dX2_field_122 (fun r u hp => ?_) ⟨rfl, rfl⟩
        obtain ⟨rfl, rfl⟩ := hp
        refine v_istore (pc := 125) (L' := [_, _, _, _, _, _, _, _, _]) hC dX2_field_125 (Nat.le_of_ble_eq_true rfl) (by decide) rfl ?_
        refine v_aload_n (pc := 127) hC dX2_field_127 rfl ?_
        refine v_iload (pc := 128) hC dX2_field_128 rfl ?_
        refine v_iload (pc := 130) hC dX2_field_130 rfl ?_
        refine v_iload (pc := 132) hC dX2_field_132 rfl ?_
        refine m_calli3 (pc := 134) hC (mM_values (by omega) (by omega) hTf hUf) mc_values ⟨by decide, by decide⟩ (Nat.le_of_ble_eq_true rfl) dX2_field_134 (fun r u hp => ?_) ⟨rfl, rfl⟩
        obtain ⟨hr, rfl⟩ := hp
        refine v_istore (pc := 137) (L' := [_, _, _, _, _, _, _, _, _, _]) hC dX2_field_137 (Nat.le_of_ble_eq_true rfl) (by decide) rfl ?_
        refine v_iload (pc := 139) hC dX2_field_139 rfl ?_
        refine v_ifB_eq (pc := 141) (tgt := 150) hC dX2_field_141 (by decide) (fun c1 => ?_) (fun c1 => ?_)
        · skip
          refine v_iload (pc := 150) hC dX2_field_150 rfl ?_
          exact hret _ _ _ _ dX2_field_152 rfl ⟨by rw [c1]; exact hr, rfl⟩
        · skip
          refine v_iload (pc := 144) hC dX2_field_144 rfl ?_
          refine v_ineg (pc := 146) hC dX2_field_146 ?_
          refine v_goto (pc := 147) (tgt := 152) hC dX2_field_147 (by decide) ?_
          refine hret _ _ _ _ dX2_field_152 rfl ⟨?_, rfl⟩
          rw [c1, if_pos rfl, ← hr]
          have hlr := lx_range wa wb
          rw [← hr] at hlr
          rw [Int32.toInt_neg]
          rcases hlr with q | q | q <;> rw [q] <;> rfl
  have at33 : vV l D X 10 (mT c) 0 0 (mw g c nf sch ct tg nu it ln ch) [.ref (g 0), .int (nI x), .int (nI y), .int (nI f), .int (nI (x * 4 + f)), .int (nI (y * 4 + f))] 33 [.int (bI (kDs sch f))] := by
    refine v_istore (pc := 33) (L' := [_, _, _, _, _, _, _]) hC dX2_field_33 (Nat.le_of_ble_eq_true rfl) (by decide) rfl ?_
    refine v_aload_n (pc := 35) hC dX2_field_35 rfl ?_
    refine mg_sch (pc := 36) hC dX2_field_36 ?_
    refine v_iconst (pc := 39) (v := nI 4) hC dX2_field_39 rfl ?_
    refine v_iload_n (pc := 40) hC dX2_field_40 rfl ?_
    first | refine v_imulN (pc := 41) hC dX2_field_41 ?_ | refine v_imul (pc := 41) hC dX2_field_41 ?_
    refine v_ishr (pc := 42) hC dX2_field_42 ?_
    refine v_iconst (pc := 43) (v := nI 4) hC dX2_field_43 rfl ?_
    refine v_iand (pc := 44) hC dX2_field_44 ?_
    refine v_iconst (pc := 45) (v := nI 4) hC dX2_field_45 rfl ?_
    refine v_icmp_ne (pc := 46) (tgt := 53) hC dX2_field_46 (by decide) (fun c1 => ?_) (fun c1 => ?_)
    · have hb : kNf sch f = false := decide_eq_false c1
      rw [hb] at at54
      refine v_iconst (pc := 53) (v := nI 0) hC dX2_field_53 rfl ?_
      exact at54
    · have hb : kNf sch f = true := decide_eq_true c1
      rw [hb] at at54
      refine v_iconst (pc := 49) (v := nI 1) hC dX2_field_49 rfl ?_
      refine v_goto (pc := 50) (tgt := 54) hC dX2_field_50 (by decide) ?_
      exact at54
  refine v_iload_n (pc := 0) hC dX2_field_0 rfl ?_
  refine v_iconst (pc := 1) (v := nI 4) hC dX2_field_1 rfl ?_
  first | refine v_imulN (pc := 2) hC dX2_field_2 ?_ | refine v_imul (pc := 2) hC dX2_field_2 ?_
  refine v_iload_n (pc := 3) hC dX2_field_3 rfl ?_
  first | refine v_iaddN (pc := 4) hC dX2_field_4 ?_ | refine v_iadd (pc := 4) hC dX2_field_4 ?_
  refine v_istore (pc := 5) (L' := [_, _, _, _, _]) hC dX2_field_5 (Nat.le_of_ble_eq_true rfl) (by decide) rfl ?_
  refine v_iload_n (pc := 7) hC dX2_field_7 rfl ?_
  refine v_iconst (pc := 8) (v := nI 4) hC dX2_field_8 rfl ?_
  first | refine v_imulN (pc := 9) hC dX2_field_9 ?_ | refine v_imul (pc := 9) hC dX2_field_9 ?_
  refine v_iload_n (pc := 10) hC dX2_field_10 rfl ?_
  first | refine v_iaddN (pc := 11) hC dX2_field_11 ?_ | refine v_iadd (pc := 11) hC dX2_field_11 ?_
  refine v_istore (pc := 12) (L' := [_, _, _, _, _, _]) hC dX2_field_12 (Nat.le_of_ble_eq_true rfl) (by decide) rfl ?_
  refine v_aload_n (pc := 14) hC dX2_field_14 rfl ?_
  refine mg_sch (pc := 15) hC dX2_field_15 ?_
  refine v_iconst (pc := 18) (v := nI 4) hC dX2_field_18 rfl ?_
  refine v_iload_n (pc := 19) hC dX2_field_19 rfl ?_
  first | refine v_imulN (pc := 20) hC dX2_field_20 ?_ | refine v_imul (pc := 20) hC dX2_field_20 ?_
  refine v_ishr (pc := 21) hC dX2_field_21 ?_
  refine v_iconst (pc := 22) (v := nI 2) hC dX2_field_22 rfl ?_
  refine v_iand (pc := 23) hC dX2_field_23 ?_
  refine v_iconst (pc := 24) (v := nI 2) hC dX2_field_24 rfl ?_
  refine v_icmp_ne (pc := 25) (tgt := 32) hC dX2_field_25 (by decide) (fun c1 => ?_) (fun c1 => ?_)
  · have hb : kDs sch f = false := decide_eq_false c1
    rw [hb] at at33
    refine v_iconst (pc := 32) (v := nI 0) hC dX2_field_32 rfl ?_
    exact at33
  · have hb : kDs sch f = true := decide_eq_true c1
    rw [hb] at at33
    refine v_iconst (pc := 28) (v := nI 1) hC dX2_field_28 rfl ?_
    refine v_goto (pc := 29) (tgt := 33) hC dX2_field_29 (by decide) ?_
    exact at33
theorem cF_range (sch : Int32) (f : Nat) (x y : FV) : cF sch f x y = -1 ∨ cF sch f x y = 0 ∨ cF sch f x y = 1 := by
  cases x with
  | none =>
    cases y with
    | none => exact Or.inr (Or.inl rfl)
    | some b => rw [cF_ns]; split <;> simp
  | some a =>
    cases y with
    | none => rw [cF_sn]; split <;> simp
    | some b =>
      rw [cF_ss]
      rcases lx_range a b with q | q | q <;> rw [q] <;> split <;> simp
set_option maxHeartbeats 4000000 in
theorem mM_compare {x y m F : Nat} (hx : x ≤ 20) (hy : y ≤ 20) (hm : m ≤ F) (hF : F ≤ 4) {T U : Nat → FV} (hT : mRow sch F T (x * 4) nu it ln ch) (hU : mRow sch F U (y * 4) nu it ln ch) : vMi l D yX2_compare cX2_compare 6 .int 2 64 (mT c) (mw g c nf sch ct tg nu it ln ch) [.ref (g 0), .int (nI x), .int (nI y), .int (nI m)] (fun r u => r.toInt = cR sch T U 0 m ∧ u = (mw g c nf sch ct tg nu it ln ch)) := by
  refine vMi_of RX2 (by decide) rfl (Nat.le_of_ble_eq_true rfl) rfl (fun X hC hret => ?_)
  generalize hZ : cR sch T U 0 m = Z at hret
  have loop : ∀ (k i : Nat), i + k = m → cR sch T U i k = Z → vV l D X 6 (mT c) 0 0 (mw g c nf sch ct tg nu it ln ch) [.ref (g 0), .int (nI x), .int (nI y), .int (nI m), .int (nI i)] 3 [] := by
    intro k
    induction k with
    | zero =>
      intro i hi hz
      refine v_iload (pc := 3) hC dX2_compare_3 rfl ?_
      refine v_iload_n (pc := 5) hC dX2_compare_5 rfl ?_
      refine v_icmpN_ge (pc := 6) (tgt := 33) hC dX2_compare_6 (by decide) (by omega) (by omega) (fun c2 => ?_) (fun c2 => ?_)
      · skip
        refine v_iconst (pc := 33) (v := nI 0) hC dX2_compare_33 rfl ?_
        exact hret _ _ _ _ dX2_compare_34 rfl ⟨by rw [← hz]; rfl, rfl⟩
      · exact absurd c2 (by omega)
    | succ k ih =>
      intro i hi hz
      rw [cR] at hz
      refine v_iload (pc := 3) hC dX2_compare_3 rfl ?_
      refine v_iload_n (pc := 5) hC dX2_compare_5 rfl ?_
      refine v_icmpN_ge (pc := 6) (tgt := 33) hC dX2_compare_6 (by decide) (by omega) (by omega) (fun c2 => ?_) (fun c2 => ?_)
      · exact absurd c2 (by omega)
      · skip
        refine v_aload_n (pc := 9) hC dX2_compare_9 rfl ?_
        refine v_iload_n (pc := 10) hC dX2_compare_10 rfl ?_
        refine v_iload_n (pc := 11) hC dX2_compare_11 rfl ?_
        refine v_iload (pc := 12) hC dX2_compare_12 rfl ?_
        refine m_calli3 (pc := 14) hC (mM_field hx hy (by omega) hF hT hU) mc_field ⟨by decide, by decide⟩ (Nat.le_of_ble_eq_true rfl) dX2_compare_14 (fun r u hp => ?_) ⟨rfl, rfl⟩
        obtain ⟨hr, rfl⟩ := hp
        refine v_istore (pc := 17) (L' := [_, _, _, _, _, _]) hC dX2_compare_17 (Nat.le_of_ble_eq_true rfl) (by decide) rfl ?_
        refine v_iload (pc := 19) hC dX2_compare_19 rfl ?_
        refine v_if_eq (pc := 21) (tgt := 27) hC dX2_compare_21 (by decide) (fun c3 => ?_) (fun c3 => ?_)
        · rw [if_pos ((i32_eq0 hr).mp c3)] at hz
          refine v_incN (pc := 27) (L' := [_, _, _, _, _, _]) hC dX2_compare_27 rfl (by decide) rfl ?_
          refine v_goto (pc := 30) (tgt := 3) hC dX2_compare_30 (by decide) ?_
          refine v_take 5 (L' := [_, _, _, _, _]) rfl ?_
          exact ih (i + 1) (by omega) hz
        · rw [if_neg (fun q => c3 ((i32_eq0 hr).mpr q))] at hz
          refine v_iload (pc := 24) hC dX2_compare_24 rfl ?_
          exact hret _ _ _ _ dX2_compare_26 rfl ⟨by rw [← hz]; exact hr, rfl⟩
  refine v_iconst (pc := 0) (v := nI 0) hC dX2_compare_0 rfl ?_
  refine v_istore (pc := 1) (L' := [_, _, _, _, _]) hC dX2_compare_1 (Nat.le_of_ble_eq_true rfl) (by decide) rfl ?_
  exact loop m 0 (by omega) hZ
end M31
end
section
/-! OrderedKeysModel: places, copying -/
theorem cR_lx {sch : Int32} {T U : Nat → FV} {F : Nat} (hT : ∀ j, j < F → fOk (kTx sch j) (T j)) (hU : ∀ j, j < F → fOk (kTx sch j) (U j)) : (cR sch T U 0 F < 0 ↔ lx (eR sch T 0 F) (eR sch U 0 F) < 0) ∧ (cR sch T U 0 F = 0 ↔ lx (eR sch T 0 F) (eR sch U 0 F) = 0) := by
  obtain ⟨a1, a2⟩ := key_cmp (sch := sch) (T := T) (U := U) (F := F) (fun j hj => ⟨hT j hj, hU j hj⟩)
  obtain ⟨b1, b2⟩ := kc_lx (eR sch T 0 F) (eR sch U 0 F)
  exact ⟨a1.symm.trans b1, a2.symm.trans b2⟩
/-- the key of entry i -/
def eK (sch : Int32) (F : Nat) (E : Nat → Nat → FV) (i : Nat) : List Nat := eR sch (E i) 0 F
section M32
variable {l : Launch} {D : va_G} {g : Nat → Nat} {c : Nat → ClassId} {nf sch ct : Int32} {tg nu it ln ch : Nat → Int32}
set_option maxHeartbeats 4000000 in
theorem mM_place {n F e : Nat} (hn : n ≤ 20) (hF : F ≤ 4) {E : Nat → Nat → FV} (hE : ∀ e, e < n → mRow sch F (E e) (e * 4) nu it ln ch) (he : e < n) : vMi l D yX2_place cX2_place 5 .int 3 96 (mT c) (mw g c (nI F) sch (nI n) tg nu it ln ch) [.ref (g 0), .int (nI e)] (fun r u => r = nI (plc (eK sch F E) n e) ∧ u = (mw g c (nI F) sch (nI n) tg nu it ln ch)) := by
  refine vMi_of RX2 (by decide) rfl (Nat.le_of_ble_eq_true rfl) rfl (fun X hC hret => ?_)
  have loop : ∀ (k i : Nat), i + k = n → vV l D X 5 (mT c) 0 0 (mw g c (nI F) sch (nI n) tg nu it ln ch) [.ref (g 0), .int (nI e), .int (nI (cnt (fun j => elt (eK sch F E) j e) i)), .int (nI i)] 4 [] := by
    intro k
    induction k with
    | zero =>
      intro i hi
      have : i = n := by omega
      subst this
      refine v_iload_n (pc := 4) hC dX2_place_4 rfl ?_
      refine v_aload_n (pc := 5) hC dX2_place_5 rfl ?_
      refine mg_ct (pc := 6) hC dX2_place_6 ?_
      refine v_icmpN_ge (pc := 9) (tgt := 48) hC dX2_place_9 (by decide) (by omega) (by omega) (fun c2 => ?_) (fun c2 => ?_)
      · skip
        refine v_iload_n (pc := 48) hC dX2_place_48 rfl ?_
        exact hret _ _ _ _ dX2_place_49 rfl ⟨rfl, rfl⟩
      · exact absurd c2 (by omega)
    | succ k ih =>
      intro i hi
      have hcle := cnt_le (fun j => elt (eK sch F E) j e) i
      obtain ⟨x1, x2⟩ := cR_lx (F := F) (fun j hj => (hE i (by omega) j hj).ok) (fun j hj => (hE e he j hj).ok)
      refine v_iload_n (pc := 4) hC dX2_place_4 rfl ?_
      refine v_aload_n (pc := 5) hC dX2_place_5 rfl ?_
      refine mg_ct (pc := 6) hC dX2_place_6 ?_
      refine v_icmpN_ge (pc := 9) (tgt := 48) hC dX2_place_9 (by decide) (by omega) (by omega) (fun c2 => ?_) (fun c2 => ?_)
      · exact absurd c2 (by omega)
      · skip
        refine v_aload_n (pc := 12) hC dX2_place_12 rfl ?_
        refine v_iload_n (pc := 13) hC dX2_place_13 rfl ?_
        refine v_iload_n (pc := 14) hC dX2_place_14 rfl ?_
        refine v_aload_n (pc := 15) hC dX2_place_15 rfl ?_
        refine mg_nf (pc := 16) hC dX2_place_16 ?_
        refine m_calli3 (pc := 19) hC (mM_compare (by omega) (by omega) (Nat.le_refl F) hF (hE i (by omega)) (hE e he)) mc_compare ⟨by decide, by decide⟩ (Nat.le_of_ble_eq_true rfl) dX2_place_19 (fun r u hp => ?_) ⟨rfl, rfl⟩
        obtain ⟨hr, rfl⟩ := hp
        have at42 : ∀ q, q = cnt (fun j => elt (eK sch F E) j e) (i + 1) → vV l D X 5 (mT c) 0 0 (mw g c (nI F) sch (nI n) tg nu it ln ch) [.ref (g 0), .int (nI e), .int (nI q), .int (nI i), .int r] 42 [] := by
          intro q hq
          subst hq
          refine v_incN (pc := 42) (L' := [_, _, _, _, _]) hC dX2_place_42 rfl (by decide) rfl ?_
          refine v_goto (pc := 45) (tgt := 4) hC dX2_place_45 (by decide) ?_
          refine v_take 4 (L' := [_, _, _, _]) rfl ?_
          exact ih (i + 1) (by omega)
        refine v_istore (pc := 22) (L' := [_, _, _, _, _]) hC dX2_place_22 (Nat.le_of_ble_eq_true rfl) (by decide) rfl ?_
        refine v_iload (pc := 24) hC dX2_place_24 rfl ?_
        refine v_if_lt (pc := 26) (tgt := 39) hC dX2_place_26 (by decide) (fun c3 => ?_) (fun c3 => ?_)
        · have hel : elt (eK sch F E) i e = true := decide_eq_true (Or.inl (x1.mp ((i32_lt0 hr).mp c3)))
          refine v_incN (pc := 39) (L' := [_, _, _, _, _]) hC dX2_place_39 rfl (by decide) rfl ?_
          exact at42 _ (by rw [cnt]; simp only [hel]; rfl)
        · have n1 : ¬ lx (eK sch F E i) (eK sch F E e) < 0 := fun q => c3 ((i32_lt0 hr).mpr (x1.mpr q))
          refine v_iload (pc := 29) hC dX2_place_29 rfl ?_
          refine v_if_ne (pc := 31) (tgt := 42) hC dX2_place_31 (by decide) (fun c4 => ?_) (fun c4 => ?_)
          · have hel : elt (eK sch F E) i e = false := decide_eq_false (fun q => q.elim n1 (fun w => c4 ((i32_eq0 hr).mpr (x2.mpr w.1))))
            exact at42 _ (by rw [cnt]; simp only [hel]; rfl)
          · have n2 : lx (eK sch F E i) (eK sch F E e) = 0 := x2.mp ((i32_eq0 hr).mp c4)
            refine v_iload_n (pc := 34) hC dX2_place_34 rfl ?_
            refine v_iload_n (pc := 35) hC dX2_place_35 rfl ?_
            refine v_icmpN_ge (pc := 36) (tgt := 42) hC dX2_place_36 (by decide) (by omega) (by omega) (fun c5 => ?_) (fun c5 => ?_)
            · have hel : elt (eK sch F E) i e = false := decide_eq_false (fun q => q.elim n1 (fun w => absurd w.2 (by omega)))
              exact at42 _ (by rw [cnt]; simp only [hel]; rfl)
            · have hel : elt (eK sch F E) i e = true := decide_eq_true (Or.inr ⟨n2, c5⟩)
              refine v_incN (pc := 39) (L' := [_, _, _, _, _]) hC dX2_place_39 rfl (by decide) rfl ?_
              exact at42 _ (by rw [cnt]; simp only [hel]; rfl)
  refine v_iconst (pc := 0) (v := nI 0) hC dX2_place_0 rfl ?_
  refine v_istore_n (pc := 1) (L' := [_, _, _]) hC dX2_place_1 (Nat.le_of_ble_eq_true rfl) (by decide) rfl ?_
  refine v_iconst (pc := 2) (v := nI 0) hC dX2_place_2 rfl ?_
  refine v_istore_n (pc := 3) (L' := [_, _, _, _]) hC dX2_place_3 (Nat.le_of_ble_eq_true rfl) (by decide) rfl ?_
  exact loop n 0 (by omega)
set_option maxHeartbeats 4000000 in
theorem mM_at {n F : Nat} (hn : n ≤ 20) (hF : F ≤ 4) {E : Nat → Nat → FV} (hE : ∀ e, e < n → mRow sch F (E e) (e * 4) nu it ln ch) {s : Nat → Nat} (hs : Sg (eK sch F E) n s) {x : Int32} : vMi l D yX2_at cX2_at 3 .int 4 128 (mT c) (mw g c (nI F) sch (nI n) tg nu it ln ch) [.ref (g 0), .int x] (fun r u => (xBad x n = true → r = -1) ∧ (∀ p, p < n → x = nI p → r = nI (s p)) ∧ u = (mw g c (nI F) sch (nI n) tg nu it ln ch)) := by
  refine vMi_of RX2 (by decide) rfl (Nat.le_of_ble_eq_true rfl) rfl (fun X hC hret => ?_)
  have loop : ∀ (k e : Nat), e + k = n → (∀ p, p < n → x = nI p → e ≤ s p) → vV l D X 3 (mT c) 0 0 (mw g c (nI F) sch (nI n) tg nu it ln ch) [.ref (g 0), .int x, .int (nI e)] 2 [] := by
    intro k
    induction k with
    | zero =>
      intro e he hx
      refine v_iload_n (pc := 2) hC dX2_at_2 rfl ?_
      refine v_aload_n (pc := 3) hC dX2_at_3 rfl ?_
      refine mg_ct (pc := 4) hC dX2_at_4 ?_
      refine v_icmpN_ge (pc := 7) (tgt := 27) hC dX2_at_7 (by decide) (by omega) (by omega) (fun c2 => ?_) (fun c2 => ?_)
      · skip
        refine v_iconst (pc := 27) (v := (-1)) hC dX2_at_27 (by decide) ?_
        exact hret _ _ _ _ dX2_at_28 rfl ⟨fun _ => rfl, fun p hp ep => absurd (hx p hp ep) (by have := (hs p hp).1; omega), rfl⟩
      · exact absurd c2 (by omega)
    | succ k ih =>
      intro e he hx
      have hpl := plc_lt (A := eK sch F E) (show e < n by omega)
      refine v_iload_n (pc := 2) hC dX2_at_2 rfl ?_
      refine v_aload_n (pc := 3) hC dX2_at_3 rfl ?_
      refine mg_ct (pc := 4) hC dX2_at_4 ?_
      refine v_icmpN_ge (pc := 7) (tgt := 27) hC dX2_at_7 (by decide) (by omega) (by omega) (fun c2 => ?_) (fun c2 => ?_)
      · exact absurd c2 (by omega)
      · skip
        refine v_aload_n (pc := 10) hC dX2_at_10 rfl ?_
        refine v_iload_n (pc := 11) hC dX2_at_11 rfl ?_
        refine m_calli1 (pc := 12) hC (mM_place hn hF hE (by omega)) mc_place ⟨by decide, by decide⟩ (Nat.le_of_ble_eq_true rfl) dX2_at_12 (fun r u hp => ?_) ⟨rfl, rfl⟩
        obtain ⟨rfl, rfl⟩ := hp
        refine v_iload_n (pc := 15) hC dX2_at_15 rfl ?_
        refine v_icmp_ne (pc := 16) (tgt := 21) hC dX2_at_16 (by decide) (fun c3 => ?_) (fun c3 => ?_)
        · skip
          refine v_incN (pc := 21) (L' := [_, _, _]) hC dX2_at_21 rfl (by decide) rfl ?_
          refine v_goto (pc := 24) (tgt := 2) hC dX2_at_24 (by decide) ?_
          refine ih (e + 1) (by omega) (fun p hp ep => ?_)
          have h1 := hx p hp ep
          have h2 : e ≠ s p := by
            intro q
            apply c3
            rw [ep, q, (hs p hp).2]
          omega
        · subst c3
          refine v_iload_n (pc := 19) hC dX2_at_19 rfl ?_
          refine hret _ _ _ _ dX2_at_20 rfl ⟨fun q => absurd ((xBad_j hpl (by omega)).symm.trans q) (by decide), fun p hp ep => ?_, rfl⟩
          have := (nI_eq (by omega) (by omega)).mp ep
          rw [← this, hs.inv (by omega)]
  refine v_iconst (pc := 0) (v := nI 0) hC dX2_at_0 rfl ?_
  refine v_istore_n (pc := 1) (L' := [_, _, _]) hC dX2_at_1 (Nat.le_of_ble_eq_true rfl) (by decide) rfl ?_
  exact loop n 0 (by omega) (fun _ _ _ => Nat.zero_le _)
set_option maxHeartbeats 4000000 in
theorem mM_copy {a b : Nat} (ha : a ≤ 20) (hb : b ≤ 20) (hab : a ≠ b) (hnu : mBool nu) : vMv l D yX2_copy cX2_copy 4 0 0 (mT c) (mw g c nf sch ct tg nu it ln ch) [.ref (g 0), .int (nI a), .int (nI b)] (fun u => ∃ (nu' it' ln' ch' : Nat → Int32), u = (mw g c nf sch ct tg (nu') (it') (ln') (ch')) ∧ (∀ f, f < 4 → nu' (b * 4 + f) = nu (a * 4 + f) ∧ it' (b * 4 + f) = it (a * 4 + f) ∧ ln' (b * 4 + f) = ln (a * 4 + f)) ∧ (∀ j, j < 24 → ch' (b * 24 + j) = ch (a * 24 + j)) ∧ (∀ k, k < b * 4 ∨ b * 4 + 4 ≤ k → nu' k = nu k ∧ it' k = it k ∧ ln' k = ln k) ∧ (∀ k, k < b * 24 ∨ b * 24 + 24 ≤ k → ch' k = ch k) ∧ mBool nu') := by
  refine vMv_of RX2 (by decide) rfl (Nat.le_of_ble_eq_true rfl) rfl (fun X hC hret => ?_)
  have loop2 : ∀ (nu' it' ln' : Nat → Int32), (∀ f, f < 4 → nu' (b * 4 + f) = nu (a * 4 + f) ∧ it' (b * 4 + f) = it (a * 4 + f) ∧ ln' (b * 4 + f) = ln (a * 4 + f)) → (∀ k, k < b * 4 ∨ b * 4 + 4 ≤ k → nu' k = nu k ∧ it' k = it k ∧ ln' k = ln k) → mBool nu' → ∀ (k j : Nat) (ch' : Nat → Int32), j + k = 24 → (∀ i, i < j → ch' (b * 24 + i) = ch (a * 24 + i)) → (∀ k, k < b * 24 ∨ b * 24 + 24 ≤ k → ch' k = ch k) → vV l D X 4 (mT c) 0 0 (mw g c nf sch ct tg (nu') (it') (ln') (ch')) [.ref (g 0), .int (nI a), .int (nI b), .int (nI j)] 75 [] := by
    intro nu' it' ln' h1 h2 h3 k
    induction k with
    | zero =>
      intro j ch' hj k1 k2
      refine v_iload_n (pc := 75) hC dX2_copy_75 rfl ?_
      refine v_bipush (pc := 76) (v := nI 24) hC dX2_copy_76 rfl ?_
      refine v_icmpN_ge (pc := 78) (tgt := 109) hC dX2_copy_78 (by decide) (by omega) (by omega) (fun c2 => ?_) (fun c2 => ?_)
      · skip
        exact hret _ _ _ dX2_copy_109 ⟨_, _, _, _, rfl, h1, fun i hi => k1 i (by omega), h2, k2, h3⟩
      · exact absurd c2 (by omega)
    | succ k ih =>
      intro j ch' hj k1 k2
      refine v_iload_n (pc := 75) hC dX2_copy_75 rfl ?_
      refine v_bipush (pc := 76) (v := nI 24) hC dX2_copy_76 rfl ?_
      refine v_icmpN_ge (pc := 78) (tgt := 109) hC dX2_copy_78 (by decide) (by omega) (by omega) (fun c2 => ?_) (fun c2 => ?_)
      · exact absurd c2 (by omega)
      · skip
        refine v_aload_n (pc := 81) hC dX2_copy_81 rfl ?_
        refine mg_ch (pc := 82) hC dX2_copy_82 ?_
        refine v_iload_n (pc := 85) hC dX2_copy_85 rfl ?_
        refine v_bipush (pc := 86) (v := nI 24) hC dX2_copy_86 rfl ?_
        first | refine v_imulN (pc := 88) hC dX2_copy_88 ?_ | refine v_imul (pc := 88) hC dX2_copy_88 ?_
        refine v_iload_n (pc := 89) hC dX2_copy_89 rfl ?_
        first | refine v_iaddN (pc := 90) hC dX2_copy_90 ?_ | refine v_iadd (pc := 90) hC dX2_copy_90 ?_
        refine v_aload_n (pc := 91) hC dX2_copy_91 rfl ?_
        refine mg_ch (pc := 92) hC dX2_copy_92 ?_
        refine v_iload_n (pc := 95) hC dX2_copy_95 rfl ?_
        refine v_bipush (pc := 96) (v := nI 24) hC dX2_copy_96 rfl ?_
        first | refine v_imulN (pc := 98) hC dX2_copy_98 ?_ | refine v_imul (pc := 98) hC dX2_copy_98 ?_
        refine v_iload_n (pc := 99) hC dX2_copy_99 rfl ?_
        first | refine v_iaddN (pc := 100) hC dX2_copy_100 ?_ | refine v_iadd (pc := 100) hC dX2_copy_100 ?_
        refine ml_ch (pc := 101) hC (by omega) dX2_copy_101 ?_
        refine ms_ch (pc := 102) hC (by omega)  dX2_copy_102 ?_
        refine v_incN (pc := 103) (L' := [_, _, _, _]) hC dX2_copy_103 rfl (by decide) rfl ?_
        refine v_goto (pc := 106) (tgt := 75) hC dX2_copy_106 (by decide) ?_
        refine ih (j + 1) _ (by omega) (fun i hi => ?_) (fun i hi => ?_)
        · by_cases q : i = j
          · rw [q, pk_us]
            exact k2 _ (by omega)
          · rw [pk_un (by omega)]; exact k1 i (by omega)
        · rw [pk_un (by omega)]; exact k2 i hi
  have loop1 : ∀ (k f : Nat) (nu' it' ln' : Nat → Int32), f + k = 4 → (∀ i, i < f → nu' (b * 4 + i) = nu (a * 4 + i) ∧ it' (b * 4 + i) = it (a * 4 + i) ∧ ln' (b * 4 + i) = ln (a * 4 + i)) → (∀ k, k < b * 4 ∨ b * 4 + 4 ≤ k → nu' k = nu k ∧ it' k = it k ∧ ln' k = ln k) → mBool nu' → vV l D X 4 (mT c) 0 0 (mw g c nf sch ct tg (nu') (it') (ln') ch) [.ref (g 0), .int (nI a), .int (nI b), .int (nI f)] 2 [] := by
    intro k
    induction k with
    | zero =>
      intro f nu' it' ln' hf h1 h2 h3
      refine v_iload_n (pc := 2) hC dX2_copy_2 rfl ?_
      refine v_iconst (pc := 3) (v := nI 4) hC dX2_copy_3 rfl ?_
      refine v_icmpN_ge (pc := 4) (tgt := 73) hC dX2_copy_4 (by decide) (by omega) (by omega) (fun c2 => ?_) (fun c2 => ?_)
      · skip
        refine v_iconst (pc := 73) (v := nI 0) hC dX2_copy_73 rfl ?_
        refine v_istore_n (pc := 74) (L' := [_, _, _, _]) hC dX2_copy_74 (Nat.le_of_ble_eq_true rfl) (by decide) rfl ?_
        exact loop2 nu' it' ln' (fun i hi => h1 i (by omega)) h2 h3 24 0 ch rfl (fun i hi => absurd hi (by omega)) (fun _ _ => rfl)
      · exact absurd c2 (by omega)
    | succ k ih =>
      intro f nu' it' ln' hf h1 h2 h3
      have hsrc := h2 (a * 4 + f) (by omega)
      have h01 := h3 (a * 4 + f) (by omega)
      refine v_iload_n (pc := 2) hC dX2_copy_2 rfl ?_
      refine v_iconst (pc := 3) (v := nI 4) hC dX2_copy_3 rfl ?_
      refine v_icmpN_ge (pc := 4) (tgt := 73) hC dX2_copy_4 (by decide) (by omega) (by omega) (fun c2 => ?_) (fun c2 => ?_)
      · exact absurd c2 (by omega)
      · skip
        refine v_aload_n (pc := 7) hC dX2_copy_7 rfl ?_
        refine mg_nu (pc := 8) hC dX2_copy_8 ?_
        refine v_iload_n (pc := 11) hC dX2_copy_11 rfl ?_
        refine v_iconst (pc := 12) (v := nI 4) hC dX2_copy_12 rfl ?_
        first | refine v_imulN (pc := 13) hC dX2_copy_13 ?_ | refine v_imul (pc := 13) hC dX2_copy_13 ?_
        refine v_iload_n (pc := 14) hC dX2_copy_14 rfl ?_
        first | refine v_iaddN (pc := 15) hC dX2_copy_15 ?_ | refine v_iadd (pc := 15) hC dX2_copy_15 ?_
        refine v_aload_n (pc := 16) hC dX2_copy_16 rfl ?_
        refine mg_nu (pc := 17) hC dX2_copy_17 ?_
        refine v_iload_n (pc := 20) hC dX2_copy_20 rfl ?_
        refine v_iconst (pc := 21) (v := nI 4) hC dX2_copy_21 rfl ?_
        first | refine v_imulN (pc := 22) hC dX2_copy_22 ?_ | refine v_imul (pc := 22) hC dX2_copy_22 ?_
        refine v_iload_n (pc := 23) hC dX2_copy_23 rfl ?_
        first | refine v_iaddN (pc := 24) hC dX2_copy_24 ?_ | refine v_iadd (pc := 24) hC dX2_copy_24 ?_
        refine ml_nu (pc := 25) hC (by omega) dX2_copy_25 ?_
        refine ms_nu (pc := 26) hC (by omega) (vp01 h01) dX2_copy_26 ?_
        refine v_aload_n (pc := 27) hC dX2_copy_27 rfl ?_
        refine mg_it (pc := 28) hC dX2_copy_28 ?_
        refine v_iload_n (pc := 31) hC dX2_copy_31 rfl ?_
        refine v_iconst (pc := 32) (v := nI 4) hC dX2_copy_32 rfl ?_
        first | refine v_imulN (pc := 33) hC dX2_copy_33 ?_ | refine v_imul (pc := 33) hC dX2_copy_33 ?_
        refine v_iload_n (pc := 34) hC dX2_copy_34 rfl ?_
        first | refine v_iaddN (pc := 35) hC dX2_copy_35 ?_ | refine v_iadd (pc := 35) hC dX2_copy_35 ?_
        refine v_aload_n (pc := 36) hC dX2_copy_36 rfl ?_
        refine mg_it (pc := 37) hC dX2_copy_37 ?_
        refine v_iload_n (pc := 40) hC dX2_copy_40 rfl ?_
        refine v_iconst (pc := 41) (v := nI 4) hC dX2_copy_41 rfl ?_
        first | refine v_imulN (pc := 42) hC dX2_copy_42 ?_ | refine v_imul (pc := 42) hC dX2_copy_42 ?_
        refine v_iload_n (pc := 43) hC dX2_copy_43 rfl ?_
        first | refine v_iaddN (pc := 44) hC dX2_copy_44 ?_ | refine v_iadd (pc := 44) hC dX2_copy_44 ?_
        refine ml_it (pc := 45) hC (by omega) dX2_copy_45 ?_
        refine ms_it (pc := 46) hC (by omega)  dX2_copy_46 ?_
        refine v_aload_n (pc := 47) hC dX2_copy_47 rfl ?_
        refine mg_ln (pc := 48) hC dX2_copy_48 ?_
        refine v_iload_n (pc := 51) hC dX2_copy_51 rfl ?_
        refine v_iconst (pc := 52) (v := nI 4) hC dX2_copy_52 rfl ?_
        first | refine v_imulN (pc := 53) hC dX2_copy_53 ?_ | refine v_imul (pc := 53) hC dX2_copy_53 ?_
        refine v_iload_n (pc := 54) hC dX2_copy_54 rfl ?_
        first | refine v_iaddN (pc := 55) hC dX2_copy_55 ?_ | refine v_iadd (pc := 55) hC dX2_copy_55 ?_
        refine v_aload_n (pc := 56) hC dX2_copy_56 rfl ?_
        refine mg_ln (pc := 57) hC dX2_copy_57 ?_
        refine v_iload_n (pc := 60) hC dX2_copy_60 rfl ?_
        refine v_iconst (pc := 61) (v := nI 4) hC dX2_copy_61 rfl ?_
        first | refine v_imulN (pc := 62) hC dX2_copy_62 ?_ | refine v_imul (pc := 62) hC dX2_copy_62 ?_
        refine v_iload_n (pc := 63) hC dX2_copy_63 rfl ?_
        first | refine v_iaddN (pc := 64) hC dX2_copy_64 ?_ | refine v_iadd (pc := 64) hC dX2_copy_64 ?_
        refine ml_ln (pc := 65) hC (by omega) dX2_copy_65 ?_
        refine ms_ln (pc := 66) hC (by omega)  dX2_copy_66 ?_
        refine v_incN (pc := 67) (L' := [_, _, _, _]) hC dX2_copy_67 rfl (by decide) rfl ?_
        refine v_goto (pc := 70) (tgt := 2) hC dX2_copy_70 (by decide) ?_
        refine ih (f + 1) _ _ _ (by omega) (fun i hi => ?_) (fun i hi => ?_) (h3.upd _ h01)
        · by_cases q : i = f
          · rw [q, pk_us, pk_us, pk_us]
            exact hsrc
          · rw [pk_un (by omega), pk_un (by omega), pk_un (by omega)]
            exact h1 i (by omega)
        · rw [pk_un (by omega), pk_un (by omega), pk_un (by omega)]
          exact h2 i hi
  refine v_iconst (pc := 0) (v := nI 0) hC dX2_copy_0 rfl ?_
  refine v_istore_n (pc := 1) (L' := [_, _, _, _]) hC dX2_copy_1 (Nat.le_of_ble_eq_true rfl) (by decide) rfl ?_
  exact loop1 4 0 nu it ln rfl (fun i hi => absurd hi (by omega)) (fun _ _ => ⟨rfl, rfl, rfl⟩) hnu
end M32
end
section
/-! OrderedKeysModel: what the law calls -/
section M33
variable {l : Launch} {D : va_G} {g : Nat → Nat} {c : Nat → ClassId} {sch : Int32} {ws : va_W} {F n : Nat} {T : Nat → FV} {E : Nat → Nat → FV} {H : Nat → Int32}
set_option maxHeartbeats 4000000 in
theorem mA_setNull (hR : mRep g c F sch T n E H ws) {x : Int32} : vMi l D yX2_setNull cX2_setNull 2 .int 1 32 (mT c) ws [.ref (g 0), .int x] (fun r u => r = (aNull F T x).1 ∧ mRep g c F sch (aNull F T x).2 n E H u) := by
  have hR0 := hR
  obtain ⟨tg, nu, it, ln, ch, rfl, ⟨hF1, hF4, hn20⟩, hT, hE, hB⟩ := hR
  refine vMi_of RX2 (by decide) rfl (Nat.le_of_ble_eq_true rfl) rfl (fun X hC hret => ?_)
  refine v_aload_n (pc := 0) hC dX2_setNull_0 rfl ?_
  refine v_iload_n (pc := 1) hC dX2_setNull_1 rfl ?_
  refine m_calli1 (pc := 2) hC (mM_bad) mc_bad ⟨by decide, by decide⟩ (Nat.le_of_ble_eq_true rfl) dX2_setNull_2 (fun r u hp => ?_) ⟨rfl, rfl⟩
  obtain ⟨rfl, rfl⟩ := hp
  refine v_ifB_eq (pc := 5) (tgt := 10) hC dX2_setNull_5 (by decide) (fun c1 => ?_) (fun c1 => ?_)
  · obtain ⟨f, hf, rfl⟩ := xBad_f (by omega) c1
    have e : aNull F T (nI f) = (nI 0, updT T f none) := by unfold aNull; rw [c1, nIc hf (by omega)]; rfl
    rw [e] at hret
    refine v_aload_n (pc := 10) hC dX2_setNull_10 rfl ?_
    refine mg_nu (pc := 11) hC dX2_setNull_11 ?_
    refine v_bipush (pc := 14) (v := nI 80) hC dX2_setNull_14 rfl ?_
    refine v_iload_n (pc := 16) hC dX2_setNull_16 rfl ?_
    first | refine v_iaddN (pc := 17) hC dX2_setNull_17 ?_ | refine v_iadd (pc := 17) hC dX2_setNull_17 ?_
    refine v_iconst (pc := 18) (v := nI 1) hC dX2_setNull_18 rfl ?_
    refine ms_nu (pc := 19) hC (by omega) (by decide) dX2_setNull_19 ?_
    refine v_iconst (pc := 20) (v := nI 0) hC dX2_setNull_20 rfl ?_
    exact hret _ _ _ _ dX2_setNull_21 rfl ⟨rfl, _, _, _, _, _, rfl, ⟨hF1, hF4, hn20⟩, hT.upd (fRep_n.mpr pk_us) (fun g hg => ⟨pk_un (by omega), rfl, rfl, fun _ _ => rfl⟩), fun e he => ⟨(hE e he).1.moved hF4 (fun f hf => ⟨pk_un (by omega), rfl, rfl⟩) (fun _ _ => rfl), (hE e he).2⟩, hB.upd _ (Or.inr rfl)⟩
  · have e : aNull F T x = (-1, T) := by unfold aNull; rw [c1]; rfl
    rw [e] at hret
    refine v_iconst (pc := 8) (v := (-1)) hC dX2_setNull_8 (by decide) ?_
    exact hret _ _ _ _ dX2_setNull_9 rfl ⟨rfl, hR0⟩
set_option maxHeartbeats 4000000 in
theorem mA_setInt (hR : mRep g c F sch T n E H ws) {x v : Int32} : vMi l D yX2_setInt cX2_setInt 3 .int 1 32 (mT c) ws [.ref (g 0), .int x, .int v] (fun r u => r = (aInt F sch T x v).1 ∧ mRep g c F sch (aInt F sch T x v).2 n E H u) := by
  have hR0 := hR
  obtain ⟨tg, nu, it, ln, ch, rfl, ⟨hF1, hF4, hn20⟩, hT, hE, hB⟩ := hR
  refine vMi_of RX2 (by decide) rfl (Nat.le_of_ble_eq_true rfl) rfl (fun X hC hret => ?_)
  refine v_aload_n (pc := 0) hC dX2_setInt_0 rfl ?_
  refine v_iload_n (pc := 1) hC dX2_setInt_1 rfl ?_
  refine m_calli1 (pc := 2) hC (mM_bad) mc_bad ⟨by decide, by decide⟩ (Nat.le_of_ble_eq_true rfl) dX2_setInt_2 (fun r u hp => ?_) ⟨rfl, rfl⟩
  obtain ⟨rfl, rfl⟩ := hp
  refine v_ifB_eq (pc := 5) (tgt := 10) hC dX2_setInt_5 (by decide) (fun c1 => ?_) (fun c1 => ?_)
  · obtain ⟨f, hf, rfl⟩ := xBad_f (by omega) c1
    refine v_aload_n (pc := 10) hC dX2_setInt_10 rfl ?_
    refine v_iload_n (pc := 11) hC dX2_setInt_11 rfl ?_
    refine m_calli1 (pc := 12) hC (mM_text) mc_text ⟨by decide, by decide⟩ (Nat.le_of_ble_eq_true rfl) dX2_setInt_12 (fun r u hp => ?_) ⟨rfl, rfl⟩
    obtain ⟨rfl, rfl⟩ := hp
    refine v_ifB_eq (pc := 15) (tgt := 21) hC dX2_setInt_15 (by decide) (fun c2 => ?_) (fun c2 => ?_)
    · have e : aInt F sch T (nI f) v = (nI 0, updT T f (some [bias v])) := by unfold aInt; rw [c1, nIc hf (by omega), c2]; rfl
      rw [e] at hret
      refine v_aload_n (pc := 21) hC dX2_setInt_21 rfl ?_
      refine mg_nu (pc := 22) hC dX2_setInt_22 ?_
      refine v_bipush (pc := 25) (v := nI 80) hC dX2_setInt_25 rfl ?_
      refine v_iload_n (pc := 27) hC dX2_setInt_27 rfl ?_
      first | refine v_iaddN (pc := 28) hC dX2_setInt_28 ?_ | refine v_iadd (pc := 28) hC dX2_setInt_28 ?_
      refine v_iconst (pc := 29) (v := nI 0) hC dX2_setInt_29 rfl ?_
      refine ms_nu (pc := 30) hC (by omega) (by decide) dX2_setInt_30 ?_
      refine v_aload_n (pc := 31) hC dX2_setInt_31 rfl ?_
      refine mg_it (pc := 32) hC dX2_setInt_32 ?_
      refine v_bipush (pc := 35) (v := nI 80) hC dX2_setInt_35 rfl ?_
      refine v_iload_n (pc := 37) hC dX2_setInt_37 rfl ?_
      first | refine v_iaddN (pc := 38) hC dX2_setInt_38 ?_ | refine v_iadd (pc := 38) hC dX2_setInt_38 ?_
      refine v_iload_n (pc := 39) hC dX2_setInt_39 rfl ?_
      refine ms_it (pc := 40) hC (by omega)  dX2_setInt_40 ?_
      refine v_iconst (pc := 41) (v := nI 0) hC dX2_setInt_41 rfl ?_
      exact hret _ _ _ _ dX2_setInt_42 rfl ⟨rfl, _, _, _, _, _, rfl, ⟨hF1, hF4, hn20⟩, hT.upd (by rw [c2, fRep_f, pk_us, pk_us]; exact ⟨rfl, ⟨_, bias_lt v, rfl⟩, rfl⟩) (fun g hg => ⟨pk_un (by omega), pk_un (by omega), rfl, fun _ _ => rfl⟩), fun e he => ⟨(hE e he).1.moved hF4 (fun f hf => ⟨pk_un (by omega), pk_un (by omega), rfl⟩) (fun _ _ => rfl), (hE e he).2⟩, hB.upd _ (Or.inl rfl)⟩
    · have e : aInt F sch T (nI f) v = (-2, T) := by unfold aInt; rw [c1, nIc hf (by omega), c2]; rfl
      rw [e] at hret
      refine v_bipush (pc := 18) (v := (-2)) hC dX2_setInt_18 (by decide) ?_
      exact hret _ _ _ _ dX2_setInt_20 rfl ⟨rfl, hR0⟩
  · have e : aInt F sch T x v = (-1, T) := by unfold aInt; rw [c1]; rfl
    rw [e] at hret
    refine v_iconst (pc := 8) (v := (-1)) hC dX2_setInt_8 (by decide) ?_
    exact hret _ _ _ _ dX2_setInt_9 rfl ⟨rfl, hR0⟩
set_option maxHeartbeats 4000000 in
theorem mA_setText (hR : mRep g c F sch T n E H ws) {x : Int32} : vMi l D yX2_setText cX2_setText 2 .int 1 32 (mT c) ws [.ref (g 0), .int x] (fun r u => r = (aText F sch T x).1 ∧ mRep g c F sch (aText F sch T x).2 n E H u) := by
  have hR0 := hR
  obtain ⟨tg, nu, it, ln, ch, rfl, ⟨hF1, hF4, hn20⟩, hT, hE, hB⟩ := hR
  refine vMi_of RX2 (by decide) rfl (Nat.le_of_ble_eq_true rfl) rfl (fun X hC hret => ?_)
  refine v_aload_n (pc := 0) hC dX2_setText_0 rfl ?_
  refine v_iload_n (pc := 1) hC dX2_setText_1 rfl ?_
  refine m_calli1 (pc := 2) hC (mM_bad) mc_bad ⟨by decide, by decide⟩ (Nat.le_of_ble_eq_true rfl) dX2_setText_2 (fun r u hp => ?_) ⟨rfl, rfl⟩
  obtain ⟨rfl, rfl⟩ := hp
  refine v_ifB_eq (pc := 5) (tgt := 10) hC dX2_setText_5 (by decide) (fun c1 => ?_) (fun c1 => ?_)
  · obtain ⟨f, hf, rfl⟩ := xBad_f (by omega) c1
    refine v_aload_n (pc := 10) hC dX2_setText_10 rfl ?_
    refine v_iload_n (pc := 11) hC dX2_setText_11 rfl ?_
    refine m_calli1 (pc := 12) hC (mM_text) mc_text ⟨by decide, by decide⟩ (Nat.le_of_ble_eq_true rfl) dX2_setText_12 (fun r u hp => ?_) ⟨rfl, rfl⟩
    obtain ⟨rfl, rfl⟩ := hp
    refine v_ifB_ne (pc := 15) (tgt := 21) hC dX2_setText_15 (by decide) (fun c2 => ?_) (fun c2 => ?_)
    · have e : aText F sch T (nI f) = (nI 0, updT T f (some [])) := by unfold aText; rw [c1, nIc hf (by omega), c2]; rfl
      rw [e] at hret
      refine v_aload_n (pc := 21) hC dX2_setText_21 rfl ?_
      refine mg_nu (pc := 22) hC dX2_setText_22 ?_
      refine v_bipush (pc := 25) (v := nI 80) hC dX2_setText_25 rfl ?_
      refine v_iload_n (pc := 27) hC dX2_setText_27 rfl ?_
      first | refine v_iaddN (pc := 28) hC dX2_setText_28 ?_ | refine v_iadd (pc := 28) hC dX2_setText_28 ?_
      refine v_iconst (pc := 29) (v := nI 0) hC dX2_setText_29 rfl ?_
      refine ms_nu (pc := 30) hC (by omega) (by decide) dX2_setText_30 ?_
      refine v_aload_n (pc := 31) hC dX2_setText_31 rfl ?_
      refine mg_ln (pc := 32) hC dX2_setText_32 ?_
      refine v_bipush (pc := 35) (v := nI 80) hC dX2_setText_35 rfl ?_
      refine v_iload_n (pc := 37) hC dX2_setText_37 rfl ?_
      first | refine v_iaddN (pc := 38) hC dX2_setText_38 ?_ | refine v_iadd (pc := 38) hC dX2_setText_38 ?_
      refine v_iconst (pc := 39) (v := nI 0) hC dX2_setText_39 rfl ?_
      refine ms_ln (pc := 40) hC (by omega)  dX2_setText_40 ?_
      refine v_iconst (pc := 41) (v := nI 0) hC dX2_setText_41 rfl ?_
      exact hret _ _ _ _ dX2_setText_42 rfl ⟨rfl, _, _, _, _, _, rfl, ⟨hF1, hF4, hn20⟩, hT.upd (by rw [c2, fRep_t, pk_us, pk_us]; exact ⟨rfl, ⟨by simp, fun c hc => by cases hc⟩, rfl, fun j hj => by cases hj⟩) (fun g hg => ⟨pk_un (by omega), rfl, pk_un (by omega), fun _ _ => rfl⟩), fun e he => ⟨(hE e he).1.moved hF4 (fun f hf => ⟨pk_un (by omega), rfl, pk_un (by omega)⟩) (fun _ _ => rfl), (hE e he).2⟩, hB.upd _ (Or.inl rfl)⟩
    · have e : aText F sch T (nI f) = (-2, T) := by unfold aText; rw [c1, nIc hf (by omega), c2]; rfl
      rw [e] at hret
      refine v_bipush (pc := 18) (v := (-2)) hC dX2_setText_18 (by decide) ?_
      exact hret _ _ _ _ dX2_setText_20 rfl ⟨rfl, hR0⟩
  · have e : aText F sch T x = (-1, T) := by unfold aText; rw [c1]; rfl
    rw [e] at hret
    refine v_iconst (pc := 8) (v := (-1)) hC dX2_setText_8 (by decide) ?_
    exact hret _ _ _ _ dX2_setText_9 rfl ⟨rfl, hR0⟩
set_option maxHeartbeats 4000000 in
theorem mA_append (hR : mRep g c F sch T n E H ws) {x v : Int32} : vMi l D yX2_append cX2_append 4 .int 1 32 (mT c) ws [.ref (g 0), .int x, .int v] (fun r u => r = (aApp F sch T x v).1 ∧ mRep g c F sch (aApp F sch T x v).2 n E H u) := by
  have hR0 := hR
  obtain ⟨tg, nu, it, ln, ch, rfl, ⟨hF1, hF4, hn20⟩, hT, hE, hB⟩ := hR
  refine vMi_of RX2 (by decide) rfl (Nat.le_of_ble_eq_true rfl) rfl (fun X hC hret => ?_)
  refine v_aload_n (pc := 0) hC dX2_append_0 rfl ?_
  refine v_iload_n (pc := 1) hC dX2_append_1 rfl ?_
  refine m_calli1 (pc := 2) hC (mM_bad) mc_bad ⟨by decide, by decide⟩ (Nat.le_of_ble_eq_true rfl) dX2_append_2 (fun r u hp => ?_) ⟨rfl, rfl⟩
  obtain ⟨rfl, rfl⟩ := hp
  refine v_ifB_eq (pc := 5) (tgt := 10) hC dX2_append_5 (by decide) (fun c1 => ?_) (fun c1 => ?_)
  · obtain ⟨f, hf, rfl⟩ := xBad_f (by omega) c1
    have hTf := hT f hf
    refine v_aload_n (pc := 10) hC dX2_append_10 rfl ?_
    refine v_iload_n (pc := 11) hC dX2_append_11 rfl ?_
    refine m_calli1 (pc := 12) hC (mM_text) mc_text ⟨by decide, by decide⟩ (Nat.le_of_ble_eq_true rfl) dX2_append_12 (fun r u hp => ?_) ⟨rfl, rfl⟩
    obtain ⟨rfl, rfl⟩ := hp
    refine v_ifB_eq (pc := 15) (tgt := 30) hC dX2_append_15 (by decide) (fun c2 => ?_) (fun c2 => ?_)
    · have e : aApp F sch T (nI f) v = (-2, T) := by unfold aApp; rw [c1, nIc hf (by omega), c2]; rfl
      rw [e] at hret
      refine v_bipush (pc := 30) (v := (-2)) hC dX2_append_30 (by decide) ?_
      exact hret _ _ _ _ dX2_append_32 rfl ⟨rfl, hR0⟩
    · skip
      refine v_aload_n (pc := 18) hC dX2_append_18 rfl ?_
      refine mg_nu (pc := 19) hC dX2_append_19 ?_
      refine v_bipush (pc := 22) (v := nI 80) hC dX2_append_22 rfl ?_
      refine v_iload_n (pc := 24) hC dX2_append_24 rfl ?_
      first | refine v_iaddN (pc := 25) hC dX2_append_25 ?_ | refine v_iadd (pc := 25) hC dX2_append_25 ?_
      refine ml_nu (pc := 26) hC (by omega) dX2_append_26 ?_
      refine v_top hTf.nul ?_
      cases hx : T f with
      | none =>
        have e : aApp F sch T (nI f) v = (-2, T) := by unfold aApp; rw [c1, nIc hf (by omega), c2, hx]; rfl
        rw [e] at hret
        refine v_ifB_eq (pc := 27) (tgt := 33) hC dX2_append_27 (by decide) (fun q => absurd q (by decide)) (fun _ => ?_)
        refine v_bipush (pc := 30) (v := (-2)) hC dX2_append_30 (by decide) ?_
        exact hret _ _ _ _ dX2_append_32 rfl ⟨rfl, hR0⟩
      | some w =>
        rw [hx, c2] at hTf
        have hTt := fRep_t.mp hTf
        obtain ⟨-, ⟨hw6, hwc⟩, hsl, htx⟩ := hTt
        refine v_ifB_eq (pc := 27) (tgt := 33) hC dX2_append_27 (by decide) (fun _ => ?_) (fun q => absurd q Bool.false_ne_true)
        have bad : xBad v 256 = true → vV l D X 4 (mT c) 0 0 (mw g c (nI F) sch (nI n) tg nu it ln ch) [.ref (g 0), .int (nI f), .int v] 44 [] := by
          intro q
          have e : aApp F sch T (nI f) v = (-4, T) := by unfold aApp; rw [c1, nIc hf (by omega), c2, hx]; simp [q]
          rw [e] at hret
          refine v_bipush (pc := 44) (v := (-4)) hC dX2_append_44 (by decide) ?_
          exact hret _ _ _ _ dX2_append_46 rfl ⟨rfl, hR0⟩
        refine v_iload_n (pc := 33) hC dX2_append_33 rfl ?_
        refine v_if_lt (pc := 34) (tgt := 44) hC dX2_append_34 (by decide) (fun c3 => ?_) (fun c3 => ?_)
        · exact bad (decide_eq_true (Or.inl c3))
        · skip
          refine v_iload_n (pc := 37) hC dX2_append_37 rfl ?_
          refine v_sipush (pc := 38) (v := nI 255) hC dX2_append_38 rfl ?_
          refine v_icmp_le (pc := 41) (tgt := 47) hC dX2_append_41 (by decide) (fun c4 => ?_) (fun c4 => ?_)
          · have hc : xBad v 256 = false := decide_eq_false (fun q => q.elim c3 (fun q => absurd (Int32.le_trans q c4) (by decide)))
            obtain ⟨j, hj, rfl⟩ := xBad_f (by omega) hc
            refine v_aload_n (pc := 47) hC dX2_append_47 rfl ?_
            refine mg_ln (pc := 48) hC dX2_append_48 ?_
            refine v_bipush (pc := 51) (v := nI 80) hC dX2_append_51 rfl ?_
            refine v_iload_n (pc := 53) hC dX2_append_53 rfl ?_
            first | refine v_iaddN (pc := 54) hC dX2_append_54 ?_ | refine v_iadd (pc := 54) hC dX2_append_54 ?_
            refine ml_ln (pc := 55) hC (by omega) dX2_append_55 ?_
            refine v_top hsl ?_
            refine v_istore_n (pc := 56) (L' := [_, _, _, _]) hC dX2_append_56 (Nat.le_of_ble_eq_true rfl) (by decide) rfl ?_
            refine v_iload_n (pc := 57) hC dX2_append_57 rfl ?_
            refine v_bipush (pc := 58) (v := nI 6) hC dX2_append_58 rfl ?_
            refine v_icmpN_ne (pc := 60) (tgt := 66) hC dX2_append_60 (by decide) (by omega) (by omega) (fun c5 => ?_) (fun c5 => ?_)
            · have e : aApp F sch T (nI f) (nI j) = (nI (w.length + 1), updT T f (some (w ++ [j]))) := by unfold aApp; rw [c1, nIc hf (by omega), nIc hj (by omega), c2, hx]; simp [hc]; omega
              rw [e] at hret
              refine v_aload_n (pc := 66) hC dX2_append_66 rfl ?_
              refine mg_ch (pc := 67) hC dX2_append_67 ?_
              refine v_bipush (pc := 70) (v := nI 80) hC dX2_append_70 rfl ?_
              refine v_iload_n (pc := 72) hC dX2_append_72 rfl ?_
              first | refine v_iaddN (pc := 73) hC dX2_append_73 ?_ | refine v_iadd (pc := 73) hC dX2_append_73 ?_
              refine v_bipush (pc := 74) (v := nI 6) hC dX2_append_74 rfl ?_
              first | refine v_imulN (pc := 76) hC dX2_append_76 ?_ | refine v_imul (pc := 76) hC dX2_append_76 ?_
              refine v_iload_n (pc := 77) hC dX2_append_77 rfl ?_
              first | refine v_iaddN (pc := 78) hC dX2_append_78 ?_ | refine v_iadd (pc := 78) hC dX2_append_78 ?_
              refine v_iload_n (pc := 79) hC dX2_append_79 rfl ?_
              refine ms_ch (pc := 80) hC (by omega)  dX2_append_80 ?_
              refine v_aload_n (pc := 81) hC dX2_append_81 rfl ?_
              refine mg_ln (pc := 82) hC dX2_append_82 ?_
              refine v_bipush (pc := 85) (v := nI 80) hC dX2_append_85 rfl ?_
              refine v_iload_n (pc := 87) hC dX2_append_87 rfl ?_
              first | refine v_iaddN (pc := 88) hC dX2_append_88 ?_ | refine v_iadd (pc := 88) hC dX2_append_88 ?_
              refine v_iload_n (pc := 89) hC dX2_append_89 rfl ?_
              refine v_iconst (pc := 90) (v := nI 1) hC dX2_append_90 rfl ?_
              first | refine v_iaddN (pc := 91) hC dX2_append_91 ?_ | refine v_iadd (pc := 91) hC dX2_append_91 ?_
              refine ms_ln (pc := 92) hC (by omega)  dX2_append_92 ?_
              refine v_iload_n (pc := 93) hC dX2_append_93 rfl ?_
              refine v_iconst (pc := 94) (v := nI 1) hC dX2_append_94 rfl ?_
              first | refine v_iaddN (pc := 95) hC dX2_append_95 ?_ | refine v_iadd (pc := 95) hC dX2_append_95 ?_
              exact hret _ _ _ _ dX2_append_96 rfl ⟨rfl, _, _, _, _, _, rfl, ⟨hF1, hF4, hn20⟩, hT.upd (by rw [c2, pk_us]; exact fRep_app hTf (by omega) hj pk_us (fun k hk => pk_un (by omega))) (fun g hg => ⟨rfl, rfl, pk_un (by omega), fun k hk => pk_un (by omega)⟩), fun e he => ⟨(hE e he).1.moved hF4 (fun f hf => ⟨rfl, rfl, pk_un (by omega)⟩) (fun j hj => pk_un (by omega)), (hE e he).2⟩, hB⟩
            · have e : aApp F sch T (nI f) (nI j) = (-3, T) := by unfold aApp; rw [c1, nIc hf (by omega), c2, hx]; simp [hc]; omega
              rw [e] at hret
              refine v_bipush (pc := 63) (v := (-3)) hC dX2_append_63 (by decide) ?_
              exact hret _ _ _ _ dX2_append_65 rfl ⟨rfl, hR0⟩
          · exact bad (decide_eq_true (Or.inr (by
              have h1 : ¬ v.toInt ≤ 255 := fun w => c4 (Int32.le_iff_toInt_le.mpr w)
              exact Int32.le_iff_toInt_le.mpr (show (256 : Int) ≤ v.toInt by omega))))
  · have e : aApp F sch T x v = (-1, T) := by unfold aApp; rw [c1]; rfl
    rw [e] at hret
    refine v_iconst (pc := 8) (v := (-1)) hC dX2_append_8 (by decide) ?_
    exact hret _ _ _ _ dX2_append_9 rfl ⟨rfl, hR0⟩
set_option maxHeartbeats 4000000 in
theorem mA_size (hR : mRep g c F sch T n E H ws) : vMi l D yX2_size cX2_size 1 .int 0 0 (mT c) ws [.ref (g 0)] (fun r u => r = nI n ∧ mRep g c F sch T n E H u) := by
  have hR0 := hR
  obtain ⟨tg, nu, it, ln, ch, rfl, ⟨hF1, hF4, hn20⟩, hT, hE, hB⟩ := hR
  refine vMi_of RX2 (by decide) rfl (Nat.le_of_ble_eq_true rfl) rfl (fun X hC hret => ?_)
  refine v_aload_n (pc := 0) hC dX2_size_0 rfl ?_
  refine mg_ct (pc := 1) hC dX2_size_1 ?_
  exact hret _ _ _ _ dX2_size_4 rfl ⟨rfl, hR0⟩
/-- one more, at place n -/
def apd {α : Type} (E : Nat → α) (n : Nat) (x : α) (i : Nat) : α := if i = n then x else E i
theorem apd_s {α : Type} {E : Nat → α} {n : Nat} {x : α} : apd E n x n = x := if_pos rfl
theorem apd_n {α : Type} {E : Nat → α} {n i : Nat} {x : α} (h : i ≠ n) : apd E n x i = E i := if_neg h
set_option maxHeartbeats 4000000 in
theorem mA_add (hR : mRep g c F sch T n E H ws) {x : Int32} : vMi l D yX2_add cX2_add 2 .int 4 128 (mT c) ws [.ref (g 0), .int x] (fun r u => (n = 20 → r = -3 ∧ mRep g c F sch T n E H u) ∧ (n < 20 → r = nI (plc (eK sch F (apd E n T)) (n + 1) n) ∧ mRep g c F sch T (n + 1) (apd E n T) (apd H n x) u)) := by
  have hR0 := hR
  obtain ⟨tg, nu, it, ln, ch, rfl, ⟨hF1, hF4, hn20⟩, hT, hE, hB⟩ := hR
  refine vMi_of RX2 (by decide) rfl (Nat.le_of_ble_eq_true rfl) rfl (fun X hC hret => ?_)
  refine v_aload_n (pc := 0) hC dX2_add_0 rfl ?_
  refine mg_ct (pc := 1) hC dX2_add_1 ?_
  refine v_bipush (pc := 4) (v := nI 20) hC dX2_add_4 rfl ?_
  refine v_icmpN_ne (pc := 6) (tgt := 12) hC dX2_add_6 (by decide) (by omega) (by omega) (fun c1 => ?_) (fun c1 => ?_)
  · skip
    refine v_aload_n (pc := 12) hC dX2_add_12 rfl ?_
    refine v_bipush (pc := 13) (v := nI 20) hC dX2_add_13 rfl ?_
    refine v_aload_n (pc := 15) hC dX2_add_15 rfl ?_
    refine mg_ct (pc := 16) hC dX2_add_16 ?_
    refine m_callv2 (pc := 19) hC (mM_copy (a := 20) (b := n) (by omega) (by omega) (by omega) hB) mc_copy ⟨by decide, by decide⟩ (Nat.le_of_ble_eq_true rfl) dX2_add_19 (fun u hp => ?_) ⟨rfl, rfl⟩
    obtain ⟨nu', it', ln', ch', rfl, k1, k2, k3, k4, hB'⟩ := hp
    have hT' : mRow sch F T 80 nu' it' ln' ch' := hT.moved hF4 (fun f hf => k3 _ (by omega)) (fun j hj => k4 _ (by omega))
    have hE' : ∀ e, e < n + 1 → mRow sch F (apd E n T e) (e * 4) nu' it' ln' ch' := by
      intro e he
      by_cases q : e = n
      · rw [q, apd_s]
        exact hT.moved hF4 (fun f hf => k1 f hf) (fun j hj => by rw [show n * 4 * 6 + j = n * 24 + j by omega]; exact k2 j hj)
      · rw [apd_n q]
        exact (hE e (by omega)).1.moved hF4 (fun f hf => k3 _ (by omega)) (fun j hj => k4 _ (by omega))
    refine v_aload_n (pc := 22) hC dX2_add_22 rfl ?_
    refine mg_tg (pc := 23) hC dX2_add_23 ?_
    refine v_aload_n (pc := 26) hC dX2_add_26 rfl ?_
    refine mg_ct (pc := 27) hC dX2_add_27 ?_
    refine v_iload_n (pc := 30) hC dX2_add_30 rfl ?_
    refine ms_tg (pc := 31) hC (by omega)  dX2_add_31 ?_
    refine v_aload_n (pc := 32) hC dX2_add_32 rfl ?_
    refine v_aload_n (pc := 33) hC dX2_add_33 rfl ?_
    refine mg_ct (pc := 34) hC dX2_add_34 ?_
    refine v_iconst (pc := 37) (v := nI 1) hC dX2_add_37 rfl ?_
    first | refine v_iaddN (pc := 38) hC dX2_add_38 ?_ | refine v_iadd (pc := 38) hC dX2_add_38 ?_
    refine mp_ct (pc := 39) hC dX2_add_39 ?_
    refine v_aload_n (pc := 42) hC dX2_add_42 rfl ?_
    refine v_aload_n (pc := 43) hC dX2_add_43 rfl ?_
    refine mg_ct (pc := 44) hC dX2_add_44 ?_
    refine v_iconst (pc := 47) (v := nI 1) hC dX2_add_47 rfl ?_
    first | refine v_isubN (pc := 48) hC dX2_add_48 (by omega) ?_ | refine v_isub (pc := 48) hC dX2_add_48 ?_
    refine v_top (y := nI n) rfl ?_
    refine m_calli1 (pc := 49) hC (mM_place (by omega) hF4 hE' (by omega)) mc_place ⟨by decide, by decide⟩ (Nat.le_of_ble_eq_true rfl) dX2_add_49 (fun r u hp => ?_) ⟨rfl, rfl⟩
    obtain ⟨rfl, rfl⟩ := hp
    refine hret _ _ _ _ dX2_add_52 rfl ⟨fun q => absurd q c1, fun _ => ⟨rfl, _, _, _, _, _, rfl, ⟨hF1, hF4, by omega⟩, hT', fun e he => ⟨hE' e he, ?_⟩, hB'⟩⟩
    by_cases q : e = n
    · rw [q, apd_s, pk_us]
    · rw [apd_n q, pk_un q]
      exact (hE e (by omega)).2
  · skip
    refine v_bipush (pc := 9) (v := (-3)) hC dX2_add_9 (by decide) ?_
    exact hret _ _ _ _ dX2_add_11 rfl ⟨fun _ => ⟨rfl, hR0⟩, fun q => absurd q (by omega)⟩
set_option maxHeartbeats 4000000 in
theorem mA_remove (hR : mRep g c F sch T n E H ws) {s : Nat → Nat} (hs : Sg (eK sch F E) n s) {x : Int32} : vMi l D yX2_remove cX2_remove 4 .int 5 160 (mT c) ws [.ref (g 0), .int x] (fun r u => (xBad x n = true → r = -5 ∧ mRep g c F sch T n E H u) ∧ (∀ p0, p0 < n → x = nI p0 → r = nI (n - 1) ∧ mRep g c F sch T (n - 1) (fun i => E (skp (s p0) i)) (fun i => H (skp (s p0) i)) u)) := by
  have hR0 := hR
  obtain ⟨tg, nu, it, ln, ch, rfl, ⟨hF1, hF4, hn20⟩, hT, hE, hB⟩ := hR
  refine vMi_of RX2 (by decide) rfl (Nat.le_of_ble_eq_true rfl) rfl (fun X hC hret => ?_)
  refine v_aload_n (pc := 0) hC dX2_remove_0 rfl ?_
  refine v_iload_n (pc := 1) hC dX2_remove_1 rfl ?_
  refine m_calli1 (pc := 2) hC (mM_at hn20 hF4 (fun e he => (hE e he).1) hs) mc_at ⟨by decide, by decide⟩ (Nat.le_of_ble_eq_true rfl) dX2_remove_2 (fun r u hp => ?_) ⟨rfl, rfl⟩
  obtain ⟨hr1, hr2, rfl⟩ := hp
  cases c1 : xBad x n with
  | true =>
    obtain rfl := hr1 c1
    rw [c1] at hret
    refine v_istore_n (pc := 5) (L' := [_, _, _]) hC dX2_remove_5 (Nat.le_of_ble_eq_true rfl) (by decide) rfl ?_
    refine v_iload_n (pc := 6) hC dX2_remove_6 rfl ?_
    refine v_if_ge (pc := 7) (tgt := 13) hC dX2_remove_7 (by decide) (fun c2 => ?_) (fun c2 => ?_)
    · exact absurd c2 (by decide)
    · skip
      refine v_bipush (pc := 10) (v := (-5)) hC dX2_remove_10 (by decide) ?_
      exact hret _ _ _ _ dX2_remove_12 rfl ⟨fun _ => ⟨rfl, hR0⟩, fun j hj e => absurd ((xBad_j hj (by omega)).symm.trans (e ▸ c1)) (by decide)⟩
  | false =>
    obtain ⟨p0, hp0, rfl⟩ := xBad_f (by omega) c1
    obtain rfl := hr2 p0 hp0 rfl
    have hsp := (hs p0 hp0).1
    obtain ⟨n, rfl⟩ : ∃ m, n = m + 1 := ⟨n - 1, by omega⟩
    generalize hep : s p0 = e0 at *
    have loop : ∀ (k i : Nat) (tg nu it ln ch : Nat → Int32), i + k = n → e0 ≤ i → mRow sch F T 80 nu it ln ch → (∀ e, e < n + 1 → mRow sch F (if e < i then E (skp e0 e) else E e) (e * 4) nu it ln ch ∧ tg e = if e < i then H (skp e0 e) else H e) → mBool nu → vV l D X 4 (mT c) 0 0 (mw g c (nI F) sch (nI (n + 1)) (tg) (nu) (it) (ln) (ch)) [.ref (g 0), .int (nI p0), .int (nI e0), .int (nI i)] 15 [] := by
      intro k
      induction k with
      | zero =>
        intro i tg nu it ln ch hi hei hT hE hB
        have : i = n := by omega
        subst this
        refine v_iload_n (pc := 15) hC dX2_remove_15 rfl ?_
        refine v_aload_n (pc := 16) hC dX2_remove_16 rfl ?_
        refine mg_ct (pc := 17) hC dX2_remove_17 ?_
        refine v_iconst (pc := 20) (v := nI 1) hC dX2_remove_20 rfl ?_
        first | refine v_isubN (pc := 21) hC dX2_remove_21 (by omega) ?_ | refine v_isub (pc := 21) hC dX2_remove_21 ?_
        refine v_icmpN_ge (pc := 22) (tgt := 53) hC dX2_remove_22 (by decide) (by omega) (by omega) (fun c2 => ?_) (fun c2 => ?_)
        · skip
          refine v_aload_n (pc := 53) hC dX2_remove_53 rfl ?_
          refine v_aload_n (pc := 54) hC dX2_remove_54 rfl ?_
          refine mg_ct (pc := 55) hC dX2_remove_55 ?_
          refine v_iconst (pc := 58) (v := nI 1) hC dX2_remove_58 rfl ?_
          first | refine v_isubN (pc := 59) hC dX2_remove_59 (by omega) ?_ | refine v_isub (pc := 59) hC dX2_remove_59 ?_
          refine mp_ct (pc := 60) hC dX2_remove_60 ?_
          refine v_aload_n (pc := 63) hC dX2_remove_63 rfl ?_
          refine mg_ct (pc := 64) hC dX2_remove_64 ?_
          refine hret _ _ _ _ dX2_remove_67 rfl ⟨fun w => absurd (c1.symm.trans w) (by decide), fun p1 hp1 e => ?_⟩
          have := (nI_eq (by omega) (by omega)).mp e
          subst this
          rw [hep]
          refine ⟨rfl, _, _, _, _, _, rfl, ⟨hF1, hF4, by omega⟩, hT, fun e he => ?_, hB⟩
          have h1 := hE e (by omega)
          rw [if_pos (by omega), if_pos (by omega)] at h1
          exact h1
        · exact absurd c2 (by omega)
      | succ k ih =>
        intro i tg nu it ln ch hi hei hT hE hB
        refine v_iload_n (pc := 15) hC dX2_remove_15 rfl ?_
        refine v_aload_n (pc := 16) hC dX2_remove_16 rfl ?_
        refine mg_ct (pc := 17) hC dX2_remove_17 ?_
        refine v_iconst (pc := 20) (v := nI 1) hC dX2_remove_20 rfl ?_
        first | refine v_isubN (pc := 21) hC dX2_remove_21 (by omega) ?_ | refine v_isub (pc := 21) hC dX2_remove_21 ?_
        refine v_icmpN_ge (pc := 22) (tgt := 53) hC dX2_remove_22 (by decide) (by omega) (by omega) (fun c2 => ?_) (fun c2 => ?_)
        · exact absurd c2 (by omega)
        · skip
          refine v_aload_n (pc := 25) hC dX2_remove_25 rfl ?_
          refine v_iload_n (pc := 26) hC dX2_remove_26 rfl ?_
          refine v_iconst (pc := 27) (v := nI 1) hC dX2_remove_27 rfl ?_
          first | refine v_iaddN (pc := 28) hC dX2_remove_28 ?_ | refine v_iadd (pc := 28) hC dX2_remove_28 ?_
          refine v_iload_n (pc := 29) hC dX2_remove_29 rfl ?_
          refine m_callv2 (pc := 30) hC (mM_copy (a := i + 1) (b := i) (by omega) (by omega) (by omega) hB) mc_copy ⟨by decide, by decide⟩ (Nat.le_of_ble_eq_true rfl) dX2_remove_30 (fun u hp => ?_) ⟨rfl, rfl⟩
          obtain ⟨nu', it', ln', ch', rfl, k1, k2, k3, k4, hB'⟩ := hp
          refine v_aload_n (pc := 33) hC dX2_remove_33 rfl ?_
          refine mg_tg (pc := 34) hC dX2_remove_34 ?_
          refine v_iload_n (pc := 37) hC dX2_remove_37 rfl ?_
          refine v_aload_n (pc := 38) hC dX2_remove_38 rfl ?_
          refine mg_tg (pc := 39) hC dX2_remove_39 ?_
          refine v_iload_n (pc := 42) hC dX2_remove_42 rfl ?_
          refine v_iconst (pc := 43) (v := nI 1) hC dX2_remove_43 rfl ?_
          first | refine v_iaddN (pc := 44) hC dX2_remove_44 ?_ | refine v_iadd (pc := 44) hC dX2_remove_44 ?_
          refine ml_tg (pc := 45) hC (by omega) dX2_remove_45 ?_
          refine ms_tg (pc := 46) hC (by omega)  dX2_remove_46 ?_
          refine v_incN (pc := 47) (L' := [_, _, _, _]) hC dX2_remove_47 rfl (by decide) rfl ?_
          refine v_goto (pc := 50) (tgt := 15) hC dX2_remove_50 (by decide) ?_
          refine ih (i + 1) _ _ _ _ _ (by omega) (by omega) (hT.moved hF4 (fun f hf => k3 _ (by omega)) (fun j hj => k4 _ (by omega))) (fun e he => ?_) hB'
          by_cases q : e = i
          · subst q
            have h1 := hE (e + 1) (by omega)
            rw [if_neg (by omega), if_neg (by omega)] at h1
            have hsk : skp e0 e = e + 1 := by unfold skp; rw [if_neg (by omega)]
            rw [if_pos (by omega), if_pos (by omega), hsk, pk_us]
            exact ⟨h1.1.moved hF4 (fun f hf => k1 f hf) (fun j hj => by rw [show e * 4 * 6 + j = e * 24 + j by omega, show (e + 1) * 4 * 6 + j = (e + 1) * 24 + j by omega]; exact k2 j hj), h1.2⟩
          · have h1 := hE e he
            rw [pk_un q]
            by_cases w : e < i
            · rw [if_pos w, if_pos w] at h1
              rw [if_pos (by omega), if_pos (by omega)]
              exact ⟨h1.1.moved hF4 (fun f hf => k3 _ (by omega)) (fun j hj => k4 _ (by omega)), h1.2⟩
            · rw [if_neg w, if_neg w] at h1
              rw [if_neg (by omega), if_neg (by omega)]
              exact ⟨h1.1.moved hF4 (fun f hf => k3 _ (by omega)) (fun j hj => k4 _ (by omega)), h1.2⟩
    refine v_istore_n (pc := 5) (L' := [_, _, _]) hC dX2_remove_5 (Nat.le_of_ble_eq_true rfl) (by decide) rfl ?_
    refine v_iload_n (pc := 6) hC dX2_remove_6 rfl ?_
    refine v_ifN_ge (pc := 7) (tgt := 13) hC dX2_remove_7 (by decide) (by omega) ?_
    refine v_iload_n (pc := 13) hC dX2_remove_13 rfl ?_
    refine v_istore_n (pc := 14) (L' := [_, _, _, _]) hC dX2_remove_14 (Nat.le_of_ble_eq_true rfl) (by decide) rfl ?_
    refine loop (n - e0) e0 tg nu it ln ch (by omega) (Nat.le_refl _) hT (fun e he => ?_) hB
    by_cases w : e < e0
    · rw [if_pos w, if_pos w]
      have hsk : skp e0 e = e := by unfold skp; rw [if_pos w]
      rw [hsk]
      exact hE e he
    · rw [if_neg w, if_neg w]
      exact hE e he
set_option maxHeartbeats 4000000 in
theorem mA_load (hR : mRep g c F sch T n E H ws) {s : Nat → Nat} (hs : Sg (eK sch F E) n s) {x : Int32} : vMi l D yX2_load cX2_load 3 .int 5 160 (mT c) ws [.ref (g 0), .int x] (fun r u => (xBad x n = true → r = -5 ∧ mRep g c F sch T n E H u) ∧ (∀ p, p < n → x = nI p → r = H (s p) ∧ mRep g c F sch (E (s p)) n E H u)) := by
  have hR0 := hR
  obtain ⟨tg, nu, it, ln, ch, rfl, ⟨hF1, hF4, hn20⟩, hT, hE, hB⟩ := hR
  refine vMi_of RX2 (by decide) rfl (Nat.le_of_ble_eq_true rfl) rfl (fun X hC hret => ?_)
  refine v_aload_n (pc := 0) hC dX2_load_0 rfl ?_
  refine v_iload_n (pc := 1) hC dX2_load_1 rfl ?_
  refine m_calli1 (pc := 2) hC (mM_at hn20 hF4 (fun e he => (hE e he).1) hs) mc_at ⟨by decide, by decide⟩ (Nat.le_of_ble_eq_true rfl) dX2_load_2 (fun r u hp => ?_) ⟨rfl, rfl⟩
  obtain ⟨hr1, hr2, rfl⟩ := hp
  cases c1 : xBad x n with
  | true =>
    obtain rfl := hr1 c1
    rw [c1] at hret
    refine v_istore_n (pc := 5) (L' := [_, _, _]) hC dX2_load_5 (Nat.le_of_ble_eq_true rfl) (by decide) rfl ?_
    refine v_iload_n (pc := 6) hC dX2_load_6 rfl ?_
    refine v_if_ge (pc := 7) (tgt := 13) hC dX2_load_7 (by decide) (fun c2 => ?_) (fun c2 => ?_)
    · exact absurd c2 (by decide)
    · skip
      refine v_bipush (pc := 10) (v := (-5)) hC dX2_load_10 (by decide) ?_
      exact hret _ _ _ _ dX2_load_12 rfl ⟨fun _ => ⟨rfl, hR0⟩, fun j hj e => absurd ((xBad_j hj (by omega)).symm.trans (e ▸ c1)) (by decide)⟩
  | false =>
    obtain ⟨p0, hp0, rfl⟩ := xBad_f (by omega) c1
    obtain rfl := hr2 p0 hp0 rfl
    have hsp := (hs p0 hp0).1
    refine v_istore_n (pc := 5) (L' := [_, _, _]) hC dX2_load_5 (Nat.le_of_ble_eq_true rfl) (by decide) rfl ?_
    refine v_iload_n (pc := 6) hC dX2_load_6 rfl ?_
    refine v_ifN_ge (pc := 7) (tgt := 13) hC dX2_load_7 (by decide) (by omega) ?_
    refine v_aload_n (pc := 13) hC dX2_load_13 rfl ?_
    refine v_iload_n (pc := 14) hC dX2_load_14 rfl ?_
    refine v_bipush (pc := 15) (v := nI 20) hC dX2_load_15 rfl ?_
    refine m_callv2 (pc := 17) hC (mM_copy (a := s p0) (b := 20) (by omega) (by omega) (by omega) hB) mc_copy ⟨by decide, by decide⟩ (Nat.le_of_ble_eq_true rfl) dX2_load_17 (fun u hp => ?_) ⟨rfl, rfl⟩
    obtain ⟨nu', it', ln', ch', rfl, k1, k2, k3, k4, hB'⟩ := hp
    refine v_aload_n (pc := 20) hC dX2_load_20 rfl ?_
    refine mg_tg (pc := 21) hC dX2_load_21 ?_
    refine v_iload_n (pc := 24) hC dX2_load_24 rfl ?_
    refine ml_tg (pc := 25) hC (by omega) dX2_load_25 ?_
    refine hret _ _ _ _ dX2_load_26 rfl ⟨fun w => absurd (c1.symm.trans w) (by decide), fun p1 hp1 e => ?_⟩
    have := (nI_eq (by omega) (by omega)).mp e
    subst this
    refine ⟨(hE _ hsp).2, _, _, _, _, _, rfl, ⟨hF1, hF4, hn20⟩, (hE _ hsp).1.moved hF4 (fun f hf => k1 f hf) (fun j hj => ?_), fun e he => ⟨(hE e he).1.moved hF4 (fun f hf => k3 _ (by omega)) (fun j hj => k4 _ (by omega)), (hE e he).2⟩, hB'⟩
    rw [show s p0 * 4 * 6 + j = s p0 * 24 + j by omega]
    exact k2 j hj
set_option maxHeartbeats 4000000 in
theorem mA_tag (hR : mRep g c F sch T n E H ws) {s : Nat → Nat} (hs : Sg (eK sch F E) n s) {x : Int32} : vMi l D yX2_tag cX2_tag 3 .int 5 160 (mT c) ws [.ref (g 0), .int x] (fun r u => r = qTag n (fun p => H (s p)) x ∧ mRep g c F sch T n E H u) := by
  have hR0 := hR
  obtain ⟨tg, nu, it, ln, ch, rfl, ⟨hF1, hF4, hn20⟩, hT, hE, hB⟩ := hR
  refine vMi_of RX2 (by decide) rfl (Nat.le_of_ble_eq_true rfl) rfl (fun X hC hret => ?_)
  refine v_aload_n (pc := 0) hC dX2_tag_0 rfl ?_
  refine v_iload_n (pc := 1) hC dX2_tag_1 rfl ?_
  refine m_calli1 (pc := 2) hC (mM_at hn20 hF4 (fun e he => (hE e he).1) hs) mc_at ⟨by decide, by decide⟩ (Nat.le_of_ble_eq_true rfl) dX2_tag_2 (fun r u hp => ?_) ⟨rfl, rfl⟩
  obtain ⟨hr1, hr2, rfl⟩ := hp
  cases c1 : xBad x n with
  | true =>
    obtain rfl := hr1 c1
    have e : qTag n (fun p => H (s p)) x = nI 0 := by unfold qTag; rw [c1]; rfl
    rw [e] at hret
    refine v_istore_n (pc := 5) (L' := [_, _, _]) hC dX2_tag_5 (Nat.le_of_ble_eq_true rfl) (by decide) rfl ?_
    refine v_iload_n (pc := 6) hC dX2_tag_6 rfl ?_
    refine v_if_ge (pc := 7) (tgt := 14) hC dX2_tag_7 (by decide) (fun c2 => ?_) (fun c2 => ?_)
    · exact absurd c2 (by decide)
    · skip
      refine v_iconst (pc := 10) (v := nI 0) hC dX2_tag_10 rfl ?_
      refine v_goto (pc := 11) (tgt := 20) hC dX2_tag_11 (by decide) ?_
      exact hret _ _ _ _ dX2_tag_20 rfl ⟨rfl, hR0⟩
  | false =>
    obtain ⟨p0, hp0, rfl⟩ := xBad_f (by omega) c1
    obtain rfl := hr2 p0 hp0 rfl
    have hsp := (hs p0 hp0).1
    have e : qTag n (fun p => H (s p)) (nI p0) = H (s p0) := by unfold qTag; rw [c1, nIc hp0 (by omega)]; rfl
    rw [e] at hret
    refine v_istore_n (pc := 5) (L' := [_, _, _]) hC dX2_tag_5 (Nat.le_of_ble_eq_true rfl) (by decide) rfl ?_
    refine v_iload_n (pc := 6) hC dX2_tag_6 rfl ?_
    refine v_ifN_ge (pc := 7) (tgt := 14) hC dX2_tag_7 (by decide) (by omega) ?_
    refine v_aload_n (pc := 14) hC dX2_tag_14 rfl ?_
    refine mg_tg (pc := 15) hC dX2_tag_15 ?_
    refine v_iload_n (pc := 18) hC dX2_tag_18 rfl ?_
    refine ml_tg (pc := 19) hC (by omega) dX2_tag_19 ?_
    exact hret _ _ _ _ dX2_tag_20 rfl ⟨(hE _ hsp).2, hR0⟩
set_option maxHeartbeats 4000000 in
theorem mA_below (hR : mRep g c F sch T n E H ws) : vMi l D yX2_below cX2_below 3 .int 3 96 (mT c) ws [.ref (g 0)] (fun r u => r = nI (cnt (fun i => decide (cR sch (E i) T 0 F < 0)) n) ∧ mRep g c F sch T n E H u) := by
  have hR0 := hR
  obtain ⟨tg, nu, it, ln, ch, rfl, ⟨hF1, hF4, hn20⟩, hT, hE, hB⟩ := hR
  refine vMi_of RX2 (by decide) rfl (Nat.le_of_ble_eq_true rfl) rfl (fun X hC hret => ?_)
  have loop : ∀ (k i : Nat), i + k = n → vV l D X 3 (mT c) 0 0 (mw g c (nI F) sch (nI n) tg nu it ln ch) [.ref (g 0), .int (nI (cnt (fun i => decide (cR sch (E i) T 0 F < 0)) i)), .int (nI i)] 4 [] := by
    intro k
    induction k with
    | zero =>
      intro i hi
      have : i = n := by omega
      subst this
      refine v_iload_n (pc := 4) hC dX2_below_4 rfl ?_
      refine v_aload_n (pc := 5) hC dX2_below_5 rfl ?_
      refine mg_ct (pc := 6) hC dX2_below_6 ?_
      refine v_icmpN_ge (pc := 9) (tgt := 35) hC dX2_below_9 (by decide) (by omega) (by omega) (fun c2 => ?_) (fun c2 => ?_)
      · skip
        refine v_iload_n (pc := 35) hC dX2_below_35 rfl ?_
        exact hret _ _ _ _ dX2_below_36 rfl ⟨rfl, hR0⟩
      · exact absurd c2 (by omega)
    | succ k ih =>
      intro i hi
      refine v_iload_n (pc := 4) hC dX2_below_4 rfl ?_
      refine v_aload_n (pc := 5) hC dX2_below_5 rfl ?_
      refine mg_ct (pc := 6) hC dX2_below_6 ?_
      refine v_icmpN_ge (pc := 9) (tgt := 35) hC dX2_below_9 (by decide) (by omega) (by omega) (fun c2 => ?_) (fun c2 => ?_)
      · exact absurd c2 (by omega)
      · skip
        refine v_aload_n (pc := 12) hC dX2_below_12 rfl ?_
        refine v_iload_n (pc := 13) hC dX2_below_13 rfl ?_
        refine v_bipush (pc := 14) (v := nI 20) hC dX2_below_14 rfl ?_
        refine v_aload_n (pc := 16) hC dX2_below_16 rfl ?_
        refine mg_nf (pc := 17) hC dX2_below_17 ?_
        refine m_calli3 (pc := 20) hC (mM_compare (x := i) (y := 20) (by omega) (by omega) (Nat.le_refl F) hF4 (hE i (by omega)).1 hT) mc_compare ⟨by decide, by decide⟩ (Nat.le_of_ble_eq_true rfl) dX2_below_20 (fun r u hp => ?_) ⟨rfl, rfl⟩
        obtain ⟨hr, rfl⟩ := hp
        have hi1 := ih (i + 1) (by omega)
        rw [cnt] at hi1
        refine v_if_ge (pc := 23) (tgt := 29) hC dX2_below_23 (by decide) (fun c3 => ?_) (fun c3 => ?_)
        · have e : decide (cR sch (E i) T 0 F < 0) = false := decide_eq_false (by have := (i32_ge0 hr).mp c3; omega)
          simp only [e] at hi1
          refine v_incN (pc := 29) (L' := [_, _, _]) hC dX2_below_29 rfl (by decide) rfl ?_
          refine v_goto (pc := 32) (tgt := 4) hC dX2_below_32 (by decide) ?_
          exact hi1
        · have e : decide (cR sch (E i) T 0 F < 0) = true := decide_eq_true (by have : ¬ 0 ≤ cR sch (E i) T 0 F := fun q => c3 ((i32_ge0 hr).mpr q); omega)
          simp only [e] at hi1
          refine v_incN (pc := 26) (L' := [_, _, _]) hC dX2_below_26 rfl (by decide) rfl ?_
          refine v_incN (pc := 29) (L' := [_, _, _]) hC dX2_below_29 rfl (by decide) rfl ?_
          refine v_goto (pc := 32) (tgt := 4) hC dX2_below_32 (by decide) ?_
          exact hi1
  refine v_iconst (pc := 0) (v := nI 0) hC dX2_below_0 rfl ?_
  refine v_istore_n (pc := 1) (L' := [_, _]) hC dX2_below_1 (Nat.le_of_ble_eq_true rfl) (by decide) rfl ?_
  refine v_iconst (pc := 2) (v := nI 0) hC dX2_below_2 rfl ?_
  refine v_istore_n (pc := 3) (L' := [_, _, _]) hC dX2_below_3 (Nat.le_of_ble_eq_true rfl) (by decide) rfl ?_
  exact loop n 0 (by omega)
set_option maxHeartbeats 4000000 in
theorem mA_matching (hR : mRep g c F sch T n E H ws) {x : Int32} : vMi l D yX2_matching cX2_matching 4 .int 3 96 (mT c) ws [.ref (g 0), .int x] (fun r u => (xBad x (F + 1) = true → r = -1) ∧ (∀ m, m ≤ F → x = nI m → r = nI (cnt (fun i => decide (cR sch (E i) T 0 m = 0)) n)) ∧ mRep g c F sch T n E H u) := by
  have hR0 := hR
  obtain ⟨tg, nu, it, ln, ch, rfl, ⟨hF1, hF4, hn20⟩, hT, hE, hB⟩ := hR
  refine vMi_of RX2 (by decide) rfl (Nat.le_of_ble_eq_true rfl) rfl (fun X hC hret => ?_)
  cases c1 : xBad x (F + 1) with
  | true =>
    rw [c1] at hret
    have bad : vV l D X 4 (mT c) 0 0 (mw g c (nI F) sch (nI n) tg nu it ln ch) [.ref (g 0), .int x] 12 [] := by
      refine v_iconst (pc := 12) (v := (-1)) hC dX2_matching_12 (by decide) ?_
      exact hret _ _ _ _ dX2_matching_13 rfl ⟨fun _ => rfl, fun m hm e => absurd ((xBad_j (show m < F + 1 by omega) (by omega)).symm.trans (e ▸ c1)) (by decide), hR0⟩
    refine v_iload_n (pc := 0) hC dX2_matching_0 rfl ?_
    refine v_if_lt (pc := 1) (tgt := 12) hC dX2_matching_1 (by decide) (fun c2 => ?_) (fun c2 => ?_)
    · exact bad
    · skip
      refine v_iload_n (pc := 4) hC dX2_matching_4 rfl ?_
      refine v_aload_n (pc := 5) hC dX2_matching_5 rfl ?_
      refine mg_nf (pc := 6) hC dX2_matching_6 ?_
      refine v_icmp_le (pc := 9) (tgt := 14) hC dX2_matching_9 (by decide) (fun c3 => ?_) (fun c3 => ?_)
      · have h1 := of_decide_eq_true c1
        exact absurd (Int32.le_trans (h1.resolve_left c2) c3) (nI_ge (by omega) (by omega))
      · exact bad
  | false =>
    obtain ⟨m, hm, rfl⟩ := xBad_f (by omega) c1
    rw [c1] at hret
    have loop : ∀ (k i : Nat), i + k = n → vV l D X 4 (mT c) 0 0 (mw g c (nI F) sch (nI n) tg nu it ln ch) [.ref (g 0), .int (nI m), .int (nI (cnt (fun i => decide (cR sch (E i) T 0 m = 0)) i)), .int (nI i)] 18 [] := by
      intro k
      induction k with
      | zero =>
        intro i hi
        have : i = n := by omega
        subst this
        refine v_iload_n (pc := 18) hC dX2_matching_18 rfl ?_
        refine v_aload_n (pc := 19) hC dX2_matching_19 rfl ?_
        refine mg_ct (pc := 20) hC dX2_matching_20 ?_
        refine v_icmpN_ge (pc := 23) (tgt := 46) hC dX2_matching_23 (by decide) (by omega) (by omega) (fun c2 => ?_) (fun c2 => ?_)
        · skip
          refine v_iload_n (pc := 46) hC dX2_matching_46 rfl ?_
          refine hret _ _ _ _ dX2_matching_47 rfl ⟨fun q => absurd q (by decide), fun m' hm' e => ?_, hR0⟩
          have := (nI_eq (by omega) (by omega)).mp e
          subst this
          rfl
        · exact absurd c2 (by omega)
      | succ k ih =>
        intro i hi
        refine v_iload_n (pc := 18) hC dX2_matching_18 rfl ?_
        refine v_aload_n (pc := 19) hC dX2_matching_19 rfl ?_
        refine mg_ct (pc := 20) hC dX2_matching_20 ?_
        refine v_icmpN_ge (pc := 23) (tgt := 46) hC dX2_matching_23 (by decide) (by omega) (by omega) (fun c2 => ?_) (fun c2 => ?_)
        · exact absurd c2 (by omega)
        · skip
          refine v_aload_n (pc := 26) hC dX2_matching_26 rfl ?_
          refine v_iload_n (pc := 27) hC dX2_matching_27 rfl ?_
          refine v_bipush (pc := 28) (v := nI 20) hC dX2_matching_28 rfl ?_
          refine v_iload_n (pc := 30) hC dX2_matching_30 rfl ?_
          refine m_calli3 (pc := 31) hC (mM_compare (x := i) (y := 20) (by omega) (by omega) (by omega) hF4 (hE i (by omega)).1 hT) mc_compare ⟨by decide, by decide⟩ (Nat.le_of_ble_eq_true rfl) dX2_matching_31 (fun r u hp => ?_) ⟨rfl, rfl⟩
          obtain ⟨hr, rfl⟩ := hp
          have hi1 := ih (i + 1) (by omega)
          rw [cnt] at hi1
          refine v_if_ne (pc := 34) (tgt := 40) hC dX2_matching_34 (by decide) (fun c3 => ?_) (fun c3 => ?_)
          · have e : decide (cR sch (E i) T 0 m = 0) = false := decide_eq_false (fun q => c3 ((i32_eq0 hr).mpr q))
            simp only [e] at hi1
            refine v_incN (pc := 40) (L' := [_, _, _, _]) hC dX2_matching_40 rfl (by decide) rfl ?_
            refine v_goto (pc := 43) (tgt := 18) hC dX2_matching_43 (by decide) ?_
            exact hi1
          · have e : decide (cR sch (E i) T 0 m = 0) = true := decide_eq_true ((i32_eq0 hr).mp c3)
            simp only [e] at hi1
            refine v_incN (pc := 37) (L' := [_, _, _, _]) hC dX2_matching_37 rfl (by decide) rfl ?_
            refine v_incN (pc := 40) (L' := [_, _, _, _]) hC dX2_matching_40 rfl (by decide) rfl ?_
            refine v_goto (pc := 43) (tgt := 18) hC dX2_matching_43 (by decide) ?_
            exact hi1
    refine v_iload_n (pc := 0) hC dX2_matching_0 rfl ?_
    refine v_ifN_lt (pc := 1) (tgt := 12) hC dX2_matching_1 (by decide) (by omega) ?_
    refine v_iload_n (pc := 4) hC dX2_matching_4 rfl ?_
    refine v_aload_n (pc := 5) hC dX2_matching_5 rfl ?_
    refine mg_nf (pc := 6) hC dX2_matching_6 ?_
    refine v_icmpN_le (pc := 9) (tgt := 14) hC dX2_matching_9 (by decide) (by omega) (by omega) (fun c3 => ?_) (fun c3 => ?_)
    · skip
      refine v_iconst (pc := 14) (v := nI 0) hC dX2_matching_14 rfl ?_
      refine v_istore_n (pc := 15) (L' := [_, _, _]) hC dX2_matching_15 (Nat.le_of_ble_eq_true rfl) (by decide) rfl ?_
      refine v_iconst (pc := 16) (v := nI 0) hC dX2_matching_16 rfl ?_
      refine v_istore_n (pc := 17) (L' := [_, _, _, _]) hC dX2_matching_17 (Nat.le_of_ble_eq_true rfl) (by decide) rfl ?_
      exact loop n 0 (by omega)
    · exact absurd c3 (by omega)
end M33
end
section
/-! OrderedKeysModel: what the law calls, the last three -/
section M34
variable {l : Launch} {D : va_G} {g : Nat → Nat} {c : Nat → ClassId} {sch : Int32} {ws : va_W} {F n : Nat} {T : Nat → FV} {E : Nat → Nat → FV} {H : Nat → Int32}
set_option maxHeartbeats 4000000 in
theorem mA_nullAt (hR : mRep g c F sch T n E H ws) {s : Nat → Nat} (hs : Sg (eK sch F E) n s) {x y : Int32} : vMi l D yX2_nullAt cX2_nullAt 4 .boolean 5 160 (mT c) ws [.ref (g 0), .int x, .int y] (fun r u => r = bI (qNul F n (fun p => E (s p)) x y) ∧ mRep g c F sch T n E H u) := by
  have hR0 := hR
  obtain ⟨tg, nu, it, ln, ch, rfl, ⟨hF1, hF4, hn20⟩, hT, hE, hB⟩ := hR
  refine vMi_of RX2 (by decide) rfl (Nat.le_of_ble_eq_true rfl) rfl (fun X hC hret => ?_)
  have no : ∀ z : Int32, qNul F n (fun p => E (s p)) x y = false → vV l D X 4 (mT c) 0 0 (mw g c (nI F) sch (nI n) tg nu it ln ch) [.ref (g 0), .int x, .int y, .int z] 35 [] := by
    intro z e
    rw [e] at hret
    refine v_iconst (pc := 35) (v := nI 0) hC dX2_nullAt_35 rfl ?_
    exact hret _ _ _ _ dX2_nullAt_36 rfl ⟨rfl, hR0⟩
  refine v_aload_n (pc := 0) hC dX2_nullAt_0 rfl ?_
  refine v_iload_n (pc := 1) hC dX2_nullAt_1 rfl ?_
  refine m_calli1 (pc := 2) hC (mM_at hn20 hF4 (fun e he => (hE e he).1) hs) mc_at ⟨by decide, by decide⟩ (Nat.le_of_ble_eq_true rfl) dX2_nullAt_2 (fun r u hp => ?_) ⟨rfl, rfl⟩
  obtain ⟨hr1, hr2, rfl⟩ := hp
  cases c1 : xBad x n with
  | true =>
    obtain rfl := hr1 c1
    refine v_istore_n (pc := 5) (L' := [_, _, _, _]) hC dX2_nullAt_5 (Nat.le_of_ble_eq_true rfl) (by decide) rfl ?_
    refine v_iload_n (pc := 6) hC dX2_nullAt_6 rfl ?_
    refine v_if_lt (pc := 7) (tgt := 35) hC dX2_nullAt_7 (by decide) (fun c2 => ?_) (fun c2 => ?_)
    · exact no _ (by unfold qNul; rw [c1]; rfl)
    · exact absurd (by decide) c2
  | false =>
    obtain ⟨p0, hp0, rfl⟩ := xBad_f (by omega) c1
    obtain rfl := hr2 p0 hp0 rfl
    have hsp := (hs p0 hp0).1
    refine v_istore_n (pc := 5) (L' := [_, _, _, _]) hC dX2_nullAt_5 (Nat.le_of_ble_eq_true rfl) (by decide) rfl ?_
    refine v_iload_n (pc := 6) hC dX2_nullAt_6 rfl ?_
    refine v_ifN_lt (pc := 7) (tgt := 35) hC dX2_nullAt_7 (by decide) (by omega) ?_
    refine v_aload_n (pc := 10) hC dX2_nullAt_10 rfl ?_
    refine v_iload_n (pc := 11) hC dX2_nullAt_11 rfl ?_
    refine m_calli1 (pc := 12) hC (mM_bad) mc_bad ⟨by decide, by decide⟩ (Nat.le_of_ble_eq_true rfl) dX2_nullAt_12 (fun r u hp => ?_) ⟨rfl, rfl⟩
    obtain ⟨rfl, rfl⟩ := hp
    refine v_ifB_ne (pc := 15) (tgt := 35) hC dX2_nullAt_15 (by decide) (fun c3 => ?_) (fun c3 => ?_)
    · exact no _ (by unfold qNul; rw [c1, c3]; rfl)
    · obtain ⟨f, hf, rfl⟩ := xBad_f (by omega) c3
      have e : qNul F n (fun p => E (s p)) (nI p0) (nI f) = (E (s p0) f).isNone := by unfold qNul; rw [c1, c3, nIc hp0 (by omega), nIc hf (by omega)]; rfl
      rw [e] at hret no
      refine v_aload_n (pc := 18) hC dX2_nullAt_18 rfl ?_
      refine mg_nu (pc := 19) hC dX2_nullAt_19 ?_
      refine v_iload_n (pc := 22) hC dX2_nullAt_22 rfl ?_
      refine v_iconst (pc := 23) (v := nI 4) hC dX2_nullAt_23 rfl ?_
      first | refine v_imulN (pc := 24) hC dX2_nullAt_24 ?_ | refine v_imul (pc := 24) hC dX2_nullAt_24 ?_
      refine v_iload_n (pc := 25) hC dX2_nullAt_25 rfl ?_
      first | refine v_iaddN (pc := 26) hC dX2_nullAt_26 ?_ | refine v_iadd (pc := 26) hC dX2_nullAt_26 ?_
      refine ml_nu (pc := 27) hC (by omega) dX2_nullAt_27 ?_
      refine v_top ((hE _ hsp).1 f hf).nul ?_
      refine v_ifB_eq (pc := 28) (tgt := 35) hC dX2_nullAt_28 (by decide) (fun c4 => ?_) (fun c4 => ?_)
      · exact no _ c4
      · rw [c4] at hret
        refine v_iconst (pc := 31) (v := nI 1) hC dX2_nullAt_31 rfl ?_
        refine v_goto (pc := 32) (tgt := 36) hC dX2_nullAt_32 (by decide) ?_
        exact hret _ _ _ _ dX2_nullAt_36 rfl ⟨rfl, hR0⟩
set_option maxHeartbeats 4000000 in
theorem mA_intAt (hR : mRep g c F sch T n E H ws) {s : Nat → Nat} (hs : Sg (eK sch F E) n s) {x y : Int32} : vMi l D yX2_intAt cX2_intAt 4 .int 5 160 (mT c) ws [.ref (g 0), .int x, .int y] (fun r u => r = qInt F sch n (fun p => E (s p)) x y ∧ mRep g c F sch T n E H u) := by
  have hR0 := hR
  obtain ⟨tg, nu, it, ln, ch, rfl, ⟨hF1, hF4, hn20⟩, hT, hE, hB⟩ := hR
  refine vMi_of RX2 (by decide) rfl (Nat.le_of_ble_eq_true rfl) rfl (fun X hC hret => ?_)
  have no : ∀ z : Int32, qInt F sch n (fun p => E (s p)) x y = nI 0 → vV l D X 4 (mT c) 0 0 (mw g c (nI F) sch (nI n) tg nu it ln ch) [.ref (g 0), .int x, .int y, .int z] 18 [] := by
    intro z e
    rw [e] at hret
    refine v_iconst (pc := 18) (v := nI 0) hC dX2_intAt_18 rfl ?_
    exact hret _ _ _ _ dX2_intAt_19 rfl ⟨rfl, hR0⟩
  have no2 : ∀ z : Int32, qInt F sch n (fun p => E (s p)) x y = nI 0 → vV l D X 4 (mT c) 0 0 (mw g c (nI F) sch (nI n) tg nu it ln ch) [.ref (g 0), .int x, .int y, .int z] 41 [] := by
    intro z e
    rw [e] at hret
    refine v_iconst (pc := 41) (v := nI 0) hC dX2_intAt_41 rfl ?_
    refine v_goto (pc := 42) (tgt := 55) hC dX2_intAt_42 (by decide) ?_
    exact hret _ _ _ _ dX2_intAt_55 rfl ⟨rfl, hR0⟩
  refine v_aload_n (pc := 0) hC dX2_intAt_0 rfl ?_
  refine v_iload_n (pc := 1) hC dX2_intAt_1 rfl ?_
  refine m_calli1 (pc := 2) hC (mM_at hn20 hF4 (fun e he => (hE e he).1) hs) mc_at ⟨by decide, by decide⟩ (Nat.le_of_ble_eq_true rfl) dX2_intAt_2 (fun r u hp => ?_) ⟨rfl, rfl⟩
  obtain ⟨hr1, hr2, rfl⟩ := hp
  cases c1 : xBad x n with
  | true =>
    obtain rfl := hr1 c1
    refine v_istore_n (pc := 5) (L' := [_, _, _, _]) hC dX2_intAt_5 (Nat.le_of_ble_eq_true rfl) (by decide) rfl ?_
    refine v_iload_n (pc := 6) hC dX2_intAt_6 rfl ?_
    refine v_if_lt (pc := 7) (tgt := 18) hC dX2_intAt_7 (by decide) (fun c2 => ?_) (fun c2 => ?_)
    · exact no _ (by unfold qInt; rw [c1]; rfl)
    · exact absurd (by decide) c2
  | false =>
    obtain ⟨p0, hp0, rfl⟩ := xBad_f (by omega) c1
    obtain rfl := hr2 p0 hp0 rfl
    have hsp := (hs p0 hp0).1
    refine v_istore_n (pc := 5) (L' := [_, _, _, _]) hC dX2_intAt_5 (Nat.le_of_ble_eq_true rfl) (by decide) rfl ?_
    refine v_iload_n (pc := 6) hC dX2_intAt_6 rfl ?_
    refine v_ifN_lt (pc := 7) (tgt := 18) hC dX2_intAt_7 (by decide) (by omega) ?_
    refine v_aload_n (pc := 10) hC dX2_intAt_10 rfl ?_
    refine v_iload_n (pc := 11) hC dX2_intAt_11 rfl ?_
    refine m_calli1 (pc := 12) hC (mM_bad) mc_bad ⟨by decide, by decide⟩ (Nat.le_of_ble_eq_true rfl) dX2_intAt_12 (fun r u hp => ?_) ⟨rfl, rfl⟩
    obtain ⟨rfl, rfl⟩ := hp
    refine v_ifB_eq (pc := 15) (tgt := 20) hC dX2_intAt_15 (by decide) (fun c3 => ?_) (fun c3 => ?_)
    · obtain ⟨f, hf, rfl⟩ := xBad_f (by omega) c3
      have hEf := (hE _ hsp).1 f hf
      refine v_aload_n (pc := 20) hC dX2_intAt_20 rfl ?_
      refine v_iload_n (pc := 21) hC dX2_intAt_21 rfl ?_
      refine m_calli1 (pc := 22) hC (mM_text) mc_text ⟨by decide, by decide⟩ (Nat.le_of_ble_eq_true rfl) dX2_intAt_22 (fun r u hp => ?_) ⟨rfl, rfl⟩
      obtain ⟨rfl, rfl⟩ := hp
      refine v_ifB_ne (pc := 25) (tgt := 41) hC dX2_intAt_25 (by decide) (fun c4 => ?_) (fun c4 => ?_)
      · exact no2 _ (by unfold qInt; rw [c1, c3, nIc hf (by omega), c4]; rfl)
      · skip
        refine v_aload_n (pc := 28) hC dX2_intAt_28 rfl ?_
        refine mg_nu (pc := 29) hC dX2_intAt_29 ?_
        refine v_iload_n (pc := 32) hC dX2_intAt_32 rfl ?_
        refine v_iconst (pc := 33) (v := nI 4) hC dX2_intAt_33 rfl ?_
        first | refine v_imulN (pc := 34) hC dX2_intAt_34 ?_ | refine v_imul (pc := 34) hC dX2_intAt_34 ?_
        refine v_iload_n (pc := 35) hC dX2_intAt_35 rfl ?_
        first | refine v_iaddN (pc := 36) hC dX2_intAt_36 ?_ | refine v_iadd (pc := 36) hC dX2_intAt_36 ?_
        refine ml_nu (pc := 37) hC (by omega) dX2_intAt_37 ?_
        refine v_top hEf.nul ?_
        cases hx : E (s p0) f with
        | none =>
          refine v_ifB_eq (pc := 38) (tgt := 45) hC dX2_intAt_38 (by decide) (fun q => absurd q (by decide)) (fun _ => ?_)
          exact no2 _ (by unfold qInt; rw [c1, c3, nIc hp0 (by omega), nIc hf (by omega), c4]; simp only [hx]; rfl)
        | some w =>
          rw [hx, c4, fRep_f] at hEf
          obtain ⟨-, -, hw⟩ := hEf
          have e : qInt F sch n (fun p => E (s p)) (nI p0) (nI f) = it (s p0 * 4 + f) := by unfold qInt; rw [c1, c3, nIc hp0 (by omega), nIc hf (by omega), c4]; simp only [hx, hw]; exact uB_bias _
          rw [e] at hret
          refine v_ifB_eq (pc := 38) (tgt := 45) hC dX2_intAt_38 (by decide) (fun _ => ?_) (fun q => absurd q Bool.false_ne_true)
          refine v_aload_n (pc := 45) hC dX2_intAt_45 rfl ?_
          refine mg_it (pc := 46) hC dX2_intAt_46 ?_
          refine v_iload_n (pc := 49) hC dX2_intAt_49 rfl ?_
          refine v_iconst (pc := 50) (v := nI 4) hC dX2_intAt_50 rfl ?_
          first | refine v_imulN (pc := 51) hC dX2_intAt_51 ?_ | refine v_imul (pc := 51) hC dX2_intAt_51 ?_
          refine v_iload_n (pc := 52) hC dX2_intAt_52 rfl ?_
          first | refine v_iaddN (pc := 53) hC dX2_intAt_53 ?_ | refine v_iadd (pc := 53) hC dX2_intAt_53 ?_
          refine ml_it (pc := 54) hC (by omega) dX2_intAt_54 ?_
          exact hret _ _ _ _ dX2_intAt_55 rfl ⟨rfl, hR0⟩
    · exact no _ (by unfold qInt; rw [c1, c3]; rfl)
set_option maxHeartbeats 4000000 in
theorem mA_charAt (hR : mRep g c F sch T n E H ws) {s : Nat → Nat} (hs : Sg (eK sch F E) n s) {x y i : Int32} : vMi l D yX2_charAt cX2_charAt 6 .int 5 160 (mT c) ws [.ref (g 0), .int x, .int y, .int i] (fun r u => r = qChr F sch n (fun p => E (s p)) x y i ∧ mRep g c F sch T n E H u) := by
  have hR0 := hR
  obtain ⟨tg, nu, it, ln, ch, rfl, ⟨hF1, hF4, hn20⟩, hT, hE, hB⟩ := hR
  refine vMi_of RX2 (by decide) rfl (Nat.le_of_ble_eq_true rfl) rfl (fun X hC hret => ?_)
  have no : ∀ z : Int32, qChr F sch n (fun p => E (s p)) x y i = -5 → vV l D X 6 (mT c) 0 0 (mw g c (nI F) sch (nI n) tg nu it ln ch) [.ref (g 0), .int x, .int y, .int i, .int z] 20 [] := by
    intro z e
    rw [e] at hret
    refine v_bipush (pc := 20) (v := (-5)) hC dX2_charAt_20 (by decide) ?_
    exact hret _ _ _ _ dX2_charAt_22 rfl ⟨rfl, hR0⟩
  have no2 : ∀ z w : Int32, qChr F sch n (fun p => E (s p)) x y i = -5 → vV l D X 6 (mT c) 0 0 (mw g c (nI F) sch (nI n) tg nu it ln ch) [.ref (g 0), .int x, .int y, .int i, .int z, .int w] 64 [] := by
    intro z w e
    rw [e] at hret
    refine v_bipush (pc := 64) (v := (-5)) hC dX2_charAt_64 (by decide) ?_
    exact hret _ _ _ _ dX2_charAt_66 rfl ⟨rfl, hR0⟩
  refine v_aload_n (pc := 0) hC dX2_charAt_0 rfl ?_
  refine v_iload_n (pc := 1) hC dX2_charAt_1 rfl ?_
  refine m_calli1 (pc := 2) hC (mM_at hn20 hF4 (fun e he => (hE e he).1) hs) mc_at ⟨by decide, by decide⟩ (Nat.le_of_ble_eq_true rfl) dX2_charAt_2 (fun r u hp => ?_) ⟨rfl, rfl⟩
  obtain ⟨hr1, hr2, rfl⟩ := hp
  cases c1 : xBad x n with
  | true =>
    obtain rfl := hr1 c1
    refine v_istore (pc := 5) (L' := [_, _, _, _, _]) hC dX2_charAt_5 (Nat.le_of_ble_eq_true rfl) (by decide) rfl ?_
    refine v_iload (pc := 7) hC dX2_charAt_7 rfl ?_
    refine v_if_lt (pc := 9) (tgt := 20) hC dX2_charAt_9 (by decide) (fun c2 => ?_) (fun c2 => ?_)
    · exact no _ (by unfold qChr; rw [c1]; rfl)
    · exact absurd (by decide) c2
  | false =>
    obtain ⟨p0, hp0, rfl⟩ := xBad_f (by omega) c1
    obtain rfl := hr2 p0 hp0 rfl
    have hsp := (hs p0 hp0).1
    refine v_istore (pc := 5) (L' := [_, _, _, _, _]) hC dX2_charAt_5 (Nat.le_of_ble_eq_true rfl) (by decide) rfl ?_
    refine v_iload (pc := 7) hC dX2_charAt_7 rfl ?_
    refine v_ifN_lt (pc := 9) (tgt := 20) hC dX2_charAt_9 (by decide) (by omega) ?_
    refine v_aload_n (pc := 12) hC dX2_charAt_12 rfl ?_
    refine v_iload_n (pc := 13) hC dX2_charAt_13 rfl ?_
    refine m_calli1 (pc := 14) hC (mM_bad) mc_bad ⟨by decide, by decide⟩ (Nat.le_of_ble_eq_true rfl) dX2_charAt_14 (fun r u hp => ?_) ⟨rfl, rfl⟩
    obtain ⟨rfl, rfl⟩ := hp
    refine v_ifB_eq (pc := 17) (tgt := 23) hC dX2_charAt_17 (by decide) (fun c3 => ?_) (fun c3 => ?_)
    · obtain ⟨f, hf, rfl⟩ := xBad_f (by omega) c3
      have hEf := (hE _ hsp).1 f hf
      refine v_iload (pc := 23) hC dX2_charAt_23 rfl ?_
      refine v_iconst (pc := 25) (v := nI 4) hC dX2_charAt_25 rfl ?_
      first | refine v_imulN (pc := 26) hC dX2_charAt_26 ?_ | refine v_imul (pc := 26) hC dX2_charAt_26 ?_
      refine v_iload_n (pc := 27) hC dX2_charAt_27 rfl ?_
      first | refine v_iaddN (pc := 28) hC dX2_charAt_28 ?_ | refine v_iadd (pc := 28) hC dX2_charAt_28 ?_
      refine v_istore (pc := 29) (L' := [_, _, _, _, _, _]) hC dX2_charAt_29 (Nat.le_of_ble_eq_true rfl) (by decide) rfl ?_
      refine v_aload_n (pc := 31) hC dX2_charAt_31 rfl ?_
      refine v_iload_n (pc := 32) hC dX2_charAt_32 rfl ?_
      refine m_calli1 (pc := 33) hC (mM_text) mc_text ⟨by decide, by decide⟩ (Nat.le_of_ble_eq_true rfl) dX2_charAt_33 (fun r u hp => ?_) ⟨rfl, rfl⟩
      obtain ⟨rfl, rfl⟩ := hp
      refine v_ifB_eq (pc := 36) (tgt := 64) hC dX2_charAt_36 (by decide) (fun c4 => ?_) (fun c4 => ?_)
      · exact no2 _ _ (by unfold qChr; rw [c1, c3, nIc hf (by omega), c4]; rfl)
      · skip
        refine v_aload_n (pc := 39) hC dX2_charAt_39 rfl ?_
        refine mg_nu (pc := 40) hC dX2_charAt_40 ?_
        refine v_iload (pc := 43) hC dX2_charAt_43 rfl ?_
        refine ml_nu (pc := 45) hC (by omega) dX2_charAt_45 ?_
        refine v_top hEf.nul ?_
        cases hx : E (s p0) f with
        | none =>
          refine v_ifB_ne (pc := 46) (tgt := 64) hC dX2_charAt_46 (by decide) (fun _ => ?_) (fun q => absurd q (by decide))
          exact no2 _ _ (by unfold qChr; rw [c1, c3, nIc hp0 (by omega), nIc hf (by omega), c4]; simp only [hx]; rfl)
        | some w =>
          rw [hx, c4, fRep_t] at hEf
          obtain ⟨-, ⟨hw6, hwc⟩, hln, hch⟩ := hEf
          have e : qChr F sch n (fun p => E (s p)) (nI p0) (nI f) i = if xBad i w.length then -5 else nI (w.getD i.toNatClampNeg 0) := by unfold qChr; rw [c1, c3, nIc hp0 (by omega), nIc hf (by omega), c4]; simp only [hx]; rfl
          rw [e] at hret no2
          refine v_ifB_ne (pc := 46) (tgt := 64) hC dX2_charAt_46 (by decide) (fun q => absurd q Bool.false_ne_true) (fun _ => ?_)
          refine v_iload_n (pc := 49) hC dX2_charAt_49 rfl ?_
          refine v_if_lt (pc := 50) (tgt := 64) hC dX2_charAt_50 (by decide) (fun c5 => ?_) (fun c5 => ?_)
          · exact no2 _ _ (by rw [show xBad i w.length = true from decide_eq_true (Or.inl c5)]; rfl)
          · skip
            refine v_iload_n (pc := 53) hC dX2_charAt_53 rfl ?_
            refine v_aload_n (pc := 54) hC dX2_charAt_54 rfl ?_
            refine mg_ln (pc := 55) hC dX2_charAt_55 ?_
            refine v_iload (pc := 58) hC dX2_charAt_58 rfl ?_
            refine ml_ln (pc := 60) hC (by omega) dX2_charAt_60 ?_
            refine v_top hln ?_
            refine v_icmp_lt (pc := 61) (tgt := 67) hC dX2_charAt_61 (by decide) (fun c6 => ?_) (fun c6 => ?_)
            · have hi : xBad i w.length = false := decide_eq_false (fun q => q.elim c5 (fun q => Int32.not_lt.mpr q c6))
              obtain ⟨j, hj, rfl⟩ := xBad_f (by omega) hi
              rw [hi, nIc hj (by omega)] at hret
              refine v_aload_n (pc := 67) hC dX2_charAt_67 rfl ?_
              refine mg_ch (pc := 68) hC dX2_charAt_68 ?_
              refine v_iload (pc := 71) hC dX2_charAt_71 rfl ?_
              refine v_bipush (pc := 73) (v := nI 6) hC dX2_charAt_73 rfl ?_
              first | refine v_imulN (pc := 75) hC dX2_charAt_75 ?_ | refine v_imul (pc := 75) hC dX2_charAt_75 ?_
              refine v_iload_n (pc := 76) hC dX2_charAt_76 rfl ?_
              first | refine v_iaddN (pc := 77) hC dX2_charAt_77 ?_ | refine v_iadd (pc := 77) hC dX2_charAt_77 ?_
              refine ml_ch (pc := 78) hC (by omega) dX2_charAt_78 ?_
              exact hret _ _ _ _ dX2_charAt_79 rfl ⟨hch j hj, hR0⟩
            · exact no2 _ _ (by rw [show xBad i w.length = true from decide_eq_true (Or.inr (Int32.not_lt.mp c6))]; rfl)
    · exact no _ (by unfold qChr; rw [c1, c3]; rfl)
end M34
end
section
/-! the constructors -/
def kF (x : Int32) : Nat := if x < nI 1 then 1 else if nI 4 < x then 4 else x.toNatClampNeg
theorem kF_in (x : Int32) : 1 ≤ kF x ∧ kF x ≤ 4 := by
  unfold kF
  split
  · omega
  · next h1 =>
    split
    · omega
    · next h2 =>
      obtain ⟨j, hj, rfl⟩ := nI_of2 (x := x) (M := nI 4) (n := 4) (by decide) (fun q => h1 (Int32.lt_trans q (by decide))) (Int32.not_lt.mp h2)
      rw [nI_ltI (by omega) (by omega)] at h1
      rw [nI_clamp (by omega)]
      omega
theorem kF_mid {x : Int32} (h1 : ¬ x < nI 1) (h2 : ¬ nI 4 < x) : x = nI (kF x) := by
  obtain ⟨j, hj, rfl⟩ := nI_of2 (x := x) (M := nI 4) (n := 4) (by decide) (fun q => h1 (Int32.lt_trans q (by decide))) (Int32.not_lt.mp h2)
  unfold kF
  rw [if_neg h1, if_neg h2, nI_clamp (by omega)]
abbrev kF0 : List Value := [.int (nI 0), .int (nI 0), .null, .null, .null, .null, .int (nI 0), .null, .null, .null, .null, .null, .int (nI 0), .null, .int (nI 0)]
set_option maxHeartbeats 4000000 in
theorem kA_init {l : Launch} {D : va_G} {a : Nat} {x y : Int32} {U : Nat → Nat → FV} {G : Nat → Int32} : vMn l D yX1_init cX1_init 5 1 32 10 1460 [(a, .inr (0, kF0))] [.ref a, .int x, .int y] (fun u tys => ∃ (h : Nat → Nat) (d : Nat → ClassId), h 0 = a ∧ tys = kT d ∧ kRep h d (kF x) y (fun _ => none) 0 U G u) := by
  refine vMn_of RX1 (by decide) rfl rfl (Nat.le_of_ble_eq_true rfl) rfl (fun X hC hI hret => ?_)
  refine v_aload_n (pc := 0) hC dX1_init_0 rfl ?_
  refine v_objInit (pc := 1) hC q35 q36 q37 dX1_init_1 (by decide) (Nat.le_of_ble_eq_true rfl) ?_
  refine v_aload_n (pc := 4) hC dX1_init_4 rfl ?_
  refine v_iconst (pc := 5) (v := nI 4) hC dX1_init_5 rfl ?_
  refine v_newa (pc := 6) (atype := .boolean) (ty := .boolean) (N' := 4) (a0 := (4, .inl (fun _ => nI 0))) hC q84 rfl (fun _ => rfl) (by decide) (by decide) (by decide) (by decide) dX1_init_6 (fun b2 e2 => ?_)
  show vV l D X 5 [(e2, .boolean)] 1 4 [(a, .inr (0, [.int (nI 0), .int (nI 0), .null, .null, .null, .null, .int (nI 0), .null, .null, .null, .null, .null, .int (nI 0), .null, .int (nI 0)])), (b2, .inl (e2, 4, .inl (fun _ => nI 0)))] [.ref a, .int x, .int y] 8 [.ref b2, .ref a]
  refine v_putF (pc := 8) (C := RX1) (T := TX1) (N := 15) (ci := 0) (ty := .array .boolean) (fs := [.int (nI 0), .int (nI 0), .null, .null, .null, .null, .int (nI 0), .null, .null, .null, .null, .null, .int (nI 0), .null, .int (nI 0)]) (ws' := [(a, .inr (0, [.int (nI 0), .int (nI 0), .ref b2, .null, .null, .null, .int (nI 0), .null, .null, .null, .null, .null, .int (nI 0), .null, .int (nI 0)])), (b2, .inl (e2, 4, .inl (fun _ => nI 0)))]) hC hI in_X1 tyX1 tyX1_ok nmX1 0 rfl rfl 2 (by decide) q40 rfl rfl (by decide +kernel) rfl rfl (Nat.le_of_ble_eq_true rfl) rfl dX1_init_8 ?_
  refine v_aload_n (pc := 11) hC dX1_init_11 rfl ?_
  refine v_iconst (pc := 12) (v := nI 4) hC dX1_init_12 rfl ?_
  refine v_newa (pc := 13) (atype := .int) (ty := .int) (N' := 4) (a0 := (4, .inl (fun _ => nI 0))) hC q85 rfl (fun _ => rfl) (by decide) (by decide) (by decide) (by decide) dX1_init_13 (fun b3 e3 => ?_)
  show vV l D X 5 [(e2, .boolean), (e3, .int)] 2 8 [(a, .inr (0, [.int (nI 0), .int (nI 0), .ref b2, .null, .null, .null, .int (nI 0), .null, .null, .null, .null, .null, .int (nI 0), .null, .int (nI 0)])), (b2, .inl (e2, 4, .inl (fun _ => nI 0))), (b3, .inl (e3, 4, .inl (fun _ => nI 0)))] [.ref a, .int x, .int y] 15 [.ref b3, .ref a]
  refine v_putF (pc := 15) (C := RX1) (T := TX1) (N := 15) (ci := 0) (ty := .array .int) (fs := [.int (nI 0), .int (nI 0), .ref b2, .null, .null, .null, .int (nI 0), .null, .null, .null, .null, .null, .int (nI 0), .null, .int (nI 0)]) (ws' := [(a, .inr (0, [.int (nI 0), .int (nI 0), .ref b2, .ref b3, .null, .null, .int (nI 0), .null, .null, .null, .null, .null, .int (nI 0), .null, .int (nI 0)])), (b2, .inl (e2, 4, .inl (fun _ => nI 0))), (b3, .inl (e3, 4, .inl (fun _ => nI 0)))]) hC hI in_X1 tyX1 tyX1_ok nmX1 0 rfl rfl 3 (by decide) q41 rfl rfl (by decide +kernel) rfl rfl (Nat.le_of_ble_eq_true rfl) rfl dX1_init_15 ?_
  refine v_aload_n (pc := 18) hC dX1_init_18 rfl ?_
  refine v_iconst (pc := 19) (v := nI 4) hC dX1_init_19 rfl ?_
  refine v_newa (pc := 20) (atype := .int) (ty := .int) (N' := 4) (a0 := (4, .inl (fun _ => nI 0))) hC q85 rfl (fun _ => rfl) (by decide) (by decide) (by decide) (by decide) dX1_init_20 (fun b4 e4 => ?_)
  show vV l D X 5 [(e2, .boolean), (e3, .int), (e4, .int)] 3 12 [(a, .inr (0, [.int (nI 0), .int (nI 0), .ref b2, .ref b3, .null, .null, .int (nI 0), .null, .null, .null, .null, .null, .int (nI 0), .null, .int (nI 0)])), (b2, .inl (e2, 4, .inl (fun _ => nI 0))), (b3, .inl (e3, 4, .inl (fun _ => nI 0))), (b4, .inl (e4, 4, .inl (fun _ => nI 0)))] [.ref a, .int x, .int y] 22 [.ref b4, .ref a]
  refine v_putF (pc := 22) (C := RX1) (T := TX1) (N := 15) (ci := 0) (ty := .array .int) (fs := [.int (nI 0), .int (nI 0), .ref b2, .ref b3, .null, .null, .int (nI 0), .null, .null, .null, .null, .null, .int (nI 0), .null, .int (nI 0)]) (ws' := [(a, .inr (0, [.int (nI 0), .int (nI 0), .ref b2, .ref b3, .ref b4, .null, .int (nI 0), .null, .null, .null, .null, .null, .int (nI 0), .null, .int (nI 0)])), (b2, .inl (e2, 4, .inl (fun _ => nI 0))), (b3, .inl (e3, 4, .inl (fun _ => nI 0))), (b4, .inl (e4, 4, .inl (fun _ => nI 0)))]) hC hI in_X1 tyX1 tyX1_ok nmX1 0 rfl rfl 4 (by decide) q42 rfl rfl (by decide +kernel) rfl rfl (Nat.le_of_ble_eq_true rfl) rfl dX1_init_22 ?_
  refine v_aload_n (pc := 25) hC dX1_init_25 rfl ?_
  refine v_bipush (pc := 26) (v := nI 24) hC dX1_init_26 rfl ?_
  refine v_newa (pc := 28) (atype := .int) (ty := .int) (N' := 24) (a0 := (24, .inl (fun _ => nI 0))) hC q85 rfl (fun _ => rfl) (by decide) (by decide) (by decide) (by decide) dX1_init_28 (fun b5 e5 => ?_)
  show vV l D X 5 [(e2, .boolean), (e3, .int), (e4, .int), (e5, .int)] 4 36 [(a, .inr (0, [.int (nI 0), .int (nI 0), .ref b2, .ref b3, .ref b4, .null, .int (nI 0), .null, .null, .null, .null, .null, .int (nI 0), .null, .int (nI 0)])), (b2, .inl (e2, 4, .inl (fun _ => nI 0))), (b3, .inl (e3, 4, .inl (fun _ => nI 0))), (b4, .inl (e4, 4, .inl (fun _ => nI 0))), (b5, .inl (e5, 24, .inl (fun _ => nI 0)))] [.ref a, .int x, .int y] 30 [.ref b5, .ref a]
  refine v_putF (pc := 30) (C := RX1) (T := TX1) (N := 15) (ci := 0) (ty := .array .int) (fs := [.int (nI 0), .int (nI 0), .ref b2, .ref b3, .ref b4, .null, .int (nI 0), .null, .null, .null, .null, .null, .int (nI 0), .null, .int (nI 0)]) (ws' := [(a, .inr (0, [.int (nI 0), .int (nI 0), .ref b2, .ref b3, .ref b4, .ref b5, .int (nI 0), .null, .null, .null, .null, .null, .int (nI 0), .null, .int (nI 0)])), (b2, .inl (e2, 4, .inl (fun _ => nI 0))), (b3, .inl (e3, 4, .inl (fun _ => nI 0))), (b4, .inl (e4, 4, .inl (fun _ => nI 0))), (b5, .inl (e5, 24, .inl (fun _ => nI 0)))]) hC hI in_X1 tyX1 tyX1_ok nmX1 0 rfl rfl 5 (by decide) q43 rfl rfl (by decide +kernel) rfl rfl (Nat.le_of_ble_eq_true rfl) rfl dX1_init_30 ?_
  refine v_aload_n (pc := 33) hC dX1_init_33 rfl ?_
  refine v_bipush (pc := 34) (v := nI 20) hC dX1_init_34 rfl ?_
  refine v_newa (pc := 36) (atype := .int) (ty := .int) (N' := 20) (a0 := (20, .inl (fun _ => nI 0))) hC q85 rfl (fun _ => rfl) (by decide) (by decide) (by decide) (by decide) dX1_init_36 (fun b7 e7 => ?_)
  show vV l D X 5 [(e2, .boolean), (e3, .int), (e4, .int), (e5, .int), (e7, .int)] 5 56 [(a, .inr (0, [.int (nI 0), .int (nI 0), .ref b2, .ref b3, .ref b4, .ref b5, .int (nI 0), .null, .null, .null, .null, .null, .int (nI 0), .null, .int (nI 0)])), (b2, .inl (e2, 4, .inl (fun _ => nI 0))), (b3, .inl (e3, 4, .inl (fun _ => nI 0))), (b4, .inl (e4, 4, .inl (fun _ => nI 0))), (b5, .inl (e5, 24, .inl (fun _ => nI 0))), (b7, .inl (e7, 20, .inl (fun _ => nI 0)))] [.ref a, .int x, .int y] 38 [.ref b7, .ref a]
  refine v_putF (pc := 38) (C := RX1) (T := TX1) (N := 15) (ci := 0) (ty := .array .int) (fs := [.int (nI 0), .int (nI 0), .ref b2, .ref b3, .ref b4, .ref b5, .int (nI 0), .null, .null, .null, .null, .null, .int (nI 0), .null, .int (nI 0)]) (ws' := [(a, .inr (0, [.int (nI 0), .int (nI 0), .ref b2, .ref b3, .ref b4, .ref b5, .int (nI 0), .ref b7, .null, .null, .null, .null, .int (nI 0), .null, .int (nI 0)])), (b2, .inl (e2, 4, .inl (fun _ => nI 0))), (b3, .inl (e3, 4, .inl (fun _ => nI 0))), (b4, .inl (e4, 4, .inl (fun _ => nI 0))), (b5, .inl (e5, 24, .inl (fun _ => nI 0))), (b7, .inl (e7, 20, .inl (fun _ => nI 0)))]) hC hI in_X1 tyX1 tyX1_ok nmX1 0 rfl rfl 7 (by decide) q45 rfl rfl (by decide +kernel) rfl rfl (Nat.le_of_ble_eq_true rfl) rfl dX1_init_38 ?_
  refine v_aload_n (pc := 41) hC dX1_init_41 rfl ?_
  refine v_bipush (pc := 42) (v := nI 20) hC dX1_init_42 rfl ?_
  refine v_newa (pc := 44) (atype := .boolean) (ty := .boolean) (N' := 20) (a0 := (20, .inl (fun _ => nI 0))) hC q84 rfl (fun _ => rfl) (by decide) (by decide) (by decide) (by decide) dX1_init_44 (fun b8 e8 => ?_)
  show vV l D X 5 [(e2, .boolean), (e3, .int), (e4, .int), (e5, .int), (e7, .int), (e8, .boolean)] 6 76 [(a, .inr (0, [.int (nI 0), .int (nI 0), .ref b2, .ref b3, .ref b4, .ref b5, .int (nI 0), .ref b7, .null, .null, .null, .null, .int (nI 0), .null, .int (nI 0)])), (b2, .inl (e2, 4, .inl (fun _ => nI 0))), (b3, .inl (e3, 4, .inl (fun _ => nI 0))), (b4, .inl (e4, 4, .inl (fun _ => nI 0))), (b5, .inl (e5, 24, .inl (fun _ => nI 0))), (b7, .inl (e7, 20, .inl (fun _ => nI 0))), (b8, .inl (e8, 20, .inl (fun _ => nI 0)))] [.ref a, .int x, .int y] 46 [.ref b8, .ref a]
  refine v_putF (pc := 46) (C := RX1) (T := TX1) (N := 15) (ci := 0) (ty := .array .boolean) (fs := [.int (nI 0), .int (nI 0), .ref b2, .ref b3, .ref b4, .ref b5, .int (nI 0), .ref b7, .null, .null, .null, .null, .int (nI 0), .null, .int (nI 0)]) (ws' := [(a, .inr (0, [.int (nI 0), .int (nI 0), .ref b2, .ref b3, .ref b4, .ref b5, .int (nI 0), .ref b7, .ref b8, .null, .null, .null, .int (nI 0), .null, .int (nI 0)])), (b2, .inl (e2, 4, .inl (fun _ => nI 0))), (b3, .inl (e3, 4, .inl (fun _ => nI 0))), (b4, .inl (e4, 4, .inl (fun _ => nI 0))), (b5, .inl (e5, 24, .inl (fun _ => nI 0))), (b7, .inl (e7, 20, .inl (fun _ => nI 0))), (b8, .inl (e8, 20, .inl (fun _ => nI 0)))]) hC hI in_X1 tyX1 tyX1_ok nmX1 0 rfl rfl 8 (by decide) q46 rfl rfl (by decide +kernel) rfl rfl (Nat.le_of_ble_eq_true rfl) rfl dX1_init_46 ?_
  refine v_aload_n (pc := 49) hC dX1_init_49 rfl ?_
  refine v_bipush (pc := 50) (v := nI 20) hC dX1_init_50 rfl ?_
  refine v_newa (pc := 52) (atype := .int) (ty := .int) (N' := 20) (a0 := (20, .inl (fun _ => nI 0))) hC q85 rfl (fun _ => rfl) (by decide) (by decide) (by decide) (by decide) dX1_init_52 (fun b9 e9 => ?_)
  show vV l D X 5 [(e2, .boolean), (e3, .int), (e4, .int), (e5, .int), (e7, .int), (e8, .boolean), (e9, .int)] 7 96 [(a, .inr (0, [.int (nI 0), .int (nI 0), .ref b2, .ref b3, .ref b4, .ref b5, .int (nI 0), .ref b7, .ref b8, .null, .null, .null, .int (nI 0), .null, .int (nI 0)])), (b2, .inl (e2, 4, .inl (fun _ => nI 0))), (b3, .inl (e3, 4, .inl (fun _ => nI 0))), (b4, .inl (e4, 4, .inl (fun _ => nI 0))), (b5, .inl (e5, 24, .inl (fun _ => nI 0))), (b7, .inl (e7, 20, .inl (fun _ => nI 0))), (b8, .inl (e8, 20, .inl (fun _ => nI 0))), (b9, .inl (e9, 20, .inl (fun _ => nI 0)))] [.ref a, .int x, .int y] 54 [.ref b9, .ref a]
  refine v_putF (pc := 54) (C := RX1) (T := TX1) (N := 15) (ci := 0) (ty := .array .int) (fs := [.int (nI 0), .int (nI 0), .ref b2, .ref b3, .ref b4, .ref b5, .int (nI 0), .ref b7, .ref b8, .null, .null, .null, .int (nI 0), .null, .int (nI 0)]) (ws' := [(a, .inr (0, [.int (nI 0), .int (nI 0), .ref b2, .ref b3, .ref b4, .ref b5, .int (nI 0), .ref b7, .ref b8, .ref b9, .null, .null, .int (nI 0), .null, .int (nI 0)])), (b2, .inl (e2, 4, .inl (fun _ => nI 0))), (b3, .inl (e3, 4, .inl (fun _ => nI 0))), (b4, .inl (e4, 4, .inl (fun _ => nI 0))), (b5, .inl (e5, 24, .inl (fun _ => nI 0))), (b7, .inl (e7, 20, .inl (fun _ => nI 0))), (b8, .inl (e8, 20, .inl (fun _ => nI 0))), (b9, .inl (e9, 20, .inl (fun _ => nI 0)))]) hC hI in_X1 tyX1 tyX1_ok nmX1 0 rfl rfl 9 (by decide) q47 rfl rfl (by decide +kernel) rfl rfl (Nat.le_of_ble_eq_true rfl) rfl dX1_init_54 ?_
  refine v_aload_n (pc := 57) hC dX1_init_57 rfl ?_
  refine v_bipush (pc := 58) (v := nI 20) hC dX1_init_58 rfl ?_
  refine v_newa (pc := 60) (atype := .int) (ty := .int) (N' := 20) (a0 := (20, .inl (fun _ => nI 0))) hC q85 rfl (fun _ => rfl) (by decide) (by decide) (by decide) (by decide) dX1_init_60 (fun b10 e10 => ?_)
  show vV l D X 5 [(e2, .boolean), (e3, .int), (e4, .int), (e5, .int), (e7, .int), (e8, .boolean), (e9, .int), (e10, .int)] 8 116 [(a, .inr (0, [.int (nI 0), .int (nI 0), .ref b2, .ref b3, .ref b4, .ref b5, .int (nI 0), .ref b7, .ref b8, .ref b9, .null, .null, .int (nI 0), .null, .int (nI 0)])), (b2, .inl (e2, 4, .inl (fun _ => nI 0))), (b3, .inl (e3, 4, .inl (fun _ => nI 0))), (b4, .inl (e4, 4, .inl (fun _ => nI 0))), (b5, .inl (e5, 24, .inl (fun _ => nI 0))), (b7, .inl (e7, 20, .inl (fun _ => nI 0))), (b8, .inl (e8, 20, .inl (fun _ => nI 0))), (b9, .inl (e9, 20, .inl (fun _ => nI 0))), (b10, .inl (e10, 20, .inl (fun _ => nI 0)))] [.ref a, .int x, .int y] 62 [.ref b10, .ref a]
  refine v_putF (pc := 62) (C := RX1) (T := TX1) (N := 15) (ci := 0) (ty := .array .int) (fs := [.int (nI 0), .int (nI 0), .ref b2, .ref b3, .ref b4, .ref b5, .int (nI 0), .ref b7, .ref b8, .ref b9, .null, .null, .int (nI 0), .null, .int (nI 0)]) (ws' := [(a, .inr (0, [.int (nI 0), .int (nI 0), .ref b2, .ref b3, .ref b4, .ref b5, .int (nI 0), .ref b7, .ref b8, .ref b9, .ref b10, .null, .int (nI 0), .null, .int (nI 0)])), (b2, .inl (e2, 4, .inl (fun _ => nI 0))), (b3, .inl (e3, 4, .inl (fun _ => nI 0))), (b4, .inl (e4, 4, .inl (fun _ => nI 0))), (b5, .inl (e5, 24, .inl (fun _ => nI 0))), (b7, .inl (e7, 20, .inl (fun _ => nI 0))), (b8, .inl (e8, 20, .inl (fun _ => nI 0))), (b9, .inl (e9, 20, .inl (fun _ => nI 0))), (b10, .inl (e10, 20, .inl (fun _ => nI 0)))]) hC hI in_X1 tyX1 tyX1_ok nmX1 0 rfl rfl 10 (by decide) q48 rfl rfl (by decide +kernel) rfl rfl (Nat.le_of_ble_eq_true rfl) rfl dX1_init_62 ?_
  refine v_aload_n (pc := 65) hC dX1_init_65 rfl ?_
  refine v_sipush (pc := 66) (v := nI 1280) hC dX1_init_66 rfl ?_
  refine v_newa (pc := 69) (atype := .short) (ty := .short) (N' := 1280) (a0 := (1280, .inl (fun _ => nI 0))) hC q86 rfl (fun _ => rfl) (by decide) (by decide) (by decide) (by decide) dX1_init_69 (fun b11 e11 => ?_)
  show vV l D X 5 [(e2, .boolean), (e3, .int), (e4, .int), (e5, .int), (e7, .int), (e8, .boolean), (e9, .int), (e10, .int), (e11, .short)] 9 1396 [(a, .inr (0, [.int (nI 0), .int (nI 0), .ref b2, .ref b3, .ref b4, .ref b5, .int (nI 0), .ref b7, .ref b8, .ref b9, .ref b10, .null, .int (nI 0), .null, .int (nI 0)])), (b2, .inl (e2, 4, .inl (fun _ => nI 0))), (b3, .inl (e3, 4, .inl (fun _ => nI 0))), (b4, .inl (e4, 4, .inl (fun _ => nI 0))), (b5, .inl (e5, 24, .inl (fun _ => nI 0))), (b7, .inl (e7, 20, .inl (fun _ => nI 0))), (b8, .inl (e8, 20, .inl (fun _ => nI 0))), (b9, .inl (e9, 20, .inl (fun _ => nI 0))), (b10, .inl (e10, 20, .inl (fun _ => nI 0))), (b11, .inl (e11, 1280, .inl (fun _ => nI 0)))] [.ref a, .int x, .int y] 71 [.ref b11, .ref a]
  refine v_putF (pc := 71) (C := RX1) (T := TX1) (N := 15) (ci := 0) (ty := .array .short) (fs := [.int (nI 0), .int (nI 0), .ref b2, .ref b3, .ref b4, .ref b5, .int (nI 0), .ref b7, .ref b8, .ref b9, .ref b10, .null, .int (nI 0), .null, .int (nI 0)]) (ws' := [(a, .inr (0, [.int (nI 0), .int (nI 0), .ref b2, .ref b3, .ref b4, .ref b5, .int (nI 0), .ref b7, .ref b8, .ref b9, .ref b10, .ref b11, .int (nI 0), .null, .int (nI 0)])), (b2, .inl (e2, 4, .inl (fun _ => nI 0))), (b3, .inl (e3, 4, .inl (fun _ => nI 0))), (b4, .inl (e4, 4, .inl (fun _ => nI 0))), (b5, .inl (e5, 24, .inl (fun _ => nI 0))), (b7, .inl (e7, 20, .inl (fun _ => nI 0))), (b8, .inl (e8, 20, .inl (fun _ => nI 0))), (b9, .inl (e9, 20, .inl (fun _ => nI 0))), (b10, .inl (e10, 20, .inl (fun _ => nI 0))), (b11, .inl (e11, 1280, .inl (fun _ => nI 0)))]) hC hI in_X1 tyX1 tyX1_ok nmX1 0 rfl rfl 11 (by decide) q49 rfl rfl (by decide +kernel) rfl rfl (Nat.le_of_ble_eq_true rfl) rfl dX1_init_71 ?_
  refine v_aload_n (pc := 74) hC dX1_init_74 rfl ?_
  refine v_bipush (pc := 75) (v := nI 64) hC dX1_init_75 rfl ?_
  refine v_newa (pc := 77) (atype := .short) (ty := .short) (N' := 64) (a0 := (64, .inl (fun _ => nI 0))) hC q86 rfl (fun _ => rfl) (by decide) (by decide) (by decide) (by decide) dX1_init_77 (fun b13 e13 => ?_)
  show vV l D X 5 [(e2, .boolean), (e3, .int), (e4, .int), (e5, .int), (e7, .int), (e8, .boolean), (e9, .int), (e10, .int), (e11, .short), (e13, .short)] 10 1460 [(a, .inr (0, [.int (nI 0), .int (nI 0), .ref b2, .ref b3, .ref b4, .ref b5, .int (nI 0), .ref b7, .ref b8, .ref b9, .ref b10, .ref b11, .int (nI 0), .null, .int (nI 0)])), (b2, .inl (e2, 4, .inl (fun _ => nI 0))), (b3, .inl (e3, 4, .inl (fun _ => nI 0))), (b4, .inl (e4, 4, .inl (fun _ => nI 0))), (b5, .inl (e5, 24, .inl (fun _ => nI 0))), (b7, .inl (e7, 20, .inl (fun _ => nI 0))), (b8, .inl (e8, 20, .inl (fun _ => nI 0))), (b9, .inl (e9, 20, .inl (fun _ => nI 0))), (b10, .inl (e10, 20, .inl (fun _ => nI 0))), (b11, .inl (e11, 1280, .inl (fun _ => nI 0))), (b13, .inl (e13, 64, .inl (fun _ => nI 0)))] [.ref a, .int x, .int y] 79 [.ref b13, .ref a]
  refine v_putF (pc := 79) (C := RX1) (T := TX1) (N := 15) (ci := 0) (ty := .array .short) (fs := [.int (nI 0), .int (nI 0), .ref b2, .ref b3, .ref b4, .ref b5, .int (nI 0), .ref b7, .ref b8, .ref b9, .ref b10, .ref b11, .int (nI 0), .null, .int (nI 0)]) (ws' := [(a, .inr (0, [.int (nI 0), .int (nI 0), .ref b2, .ref b3, .ref b4, .ref b5, .int (nI 0), .ref b7, .ref b8, .ref b9, .ref b10, .ref b11, .int (nI 0), .ref b13, .int (nI 0)])), (b2, .inl (e2, 4, .inl (fun _ => nI 0))), (b3, .inl (e3, 4, .inl (fun _ => nI 0))), (b4, .inl (e4, 4, .inl (fun _ => nI 0))), (b5, .inl (e5, 24, .inl (fun _ => nI 0))), (b7, .inl (e7, 20, .inl (fun _ => nI 0))), (b8, .inl (e8, 20, .inl (fun _ => nI 0))), (b9, .inl (e9, 20, .inl (fun _ => nI 0))), (b10, .inl (e10, 20, .inl (fun _ => nI 0))), (b11, .inl (e11, 1280, .inl (fun _ => nI 0))), (b13, .inl (e13, 64, .inl (fun _ => nI 0)))]) hC hI in_X1 tyX1 tyX1_ok nmX1 0 rfl rfl 13 (by decide) q51 rfl rfl (by decide +kernel) rfl rfl (Nat.le_of_ble_eq_true rfl) rfl dX1_init_79 ?_
  obtain ⟨hh, ehh⟩ : ∃ hh : Nat → Nat, hh = (fun k => [a, 0, b2, b3, b4, b5, 0, b7, b8, b9, b10, b11, 0, b13, 0].getD k 0) := ⟨_, rfl⟩
  obtain ⟨dd, edd⟩ : ∃ dd : Nat → ClassId, dd = (fun k => [e2, e2, e2, e3, e4, e5, e2, e7, e8, e9, e10, e11, e2, e13, e2].getD k e2) := ⟨_, rfl⟩
  have loop : ∀ (k f : Nat) (sn : Nat → Int32), f + k = 4 → (∀ j, j < f → sn j = nI 1) → (∀ j, sn j = nI 0 ∨ sn j = nI 1) → vV l D X 5 (kT dd) 10 1460 (kw hh dd (nI (kF x)) y sn (fun _ => nI 0) (fun _ => nI 0) (fun _ => nI 0) (nI 0) (fun _ => nI 0) (fun _ => nI 0) (fun _ => nI 0) (fun _ => nI 0) (fun _ => nI 0) (nI 0) (fun _ => nI 0) (nI 0)) [.ref (hh 0), .int x, .int y, .int (nI (kF x)), .int (nI f)] 111 [] := by
    intro k
    induction k with
    | zero =>
      intro f sn hf h1 h2
      refine v_iload (pc := 111) hC dX1_init_111 rfl ?_
      refine v_iconst (pc := 113) (v := nI 4) hC dX1_init_113 rfl ?_
      refine v_icmpN_ge (pc := 114) (tgt := 131) hC dX1_init_114 (by decide) (by omega) (by omega) (fun c2 => ?_) (fun c2 => ?_)
      · exact hret _ _ _ _ dX1_init_131 ⟨hh, dd, by rw [ehh]; rfl, rfl, _, _, _, _, _, _, _, _, _, _, _, _, fun _ => 0, rfl, ⟨(kF_in x).1, (kF_in x).2, by omega⟩, fun f hf => fRep_n.mpr (h1 f (by have := (kF_in x).2; omega)), fun p hp => absurd hp (by omega), fun p hp => absurd hp (by omega), fun p q hp => absurd hp (by omega), fun j hj => Or.inl rfl, fun j hj q => absurd q nI_01⟩
      · exact absurd c2 (by omega)
    | succ k ih =>
      intro f sn hf h1 h2
      refine v_iload (pc := 111) hC dX1_init_111 rfl ?_
      refine v_iconst (pc := 113) (v := nI 4) hC dX1_init_113 rfl ?_
      refine v_icmpN_ge (pc := 114) (tgt := 131) hC dX1_init_114 (by decide) (by omega) (by omega) (fun c2 => ?_) (fun c2 => ?_)
      · exact absurd c2 (by omega)
      · skip
        refine v_aload_n (pc := 117) hC dX1_init_117 rfl ?_
        refine kg_sn (pc := 118) hC dX1_init_118 ?_
        refine v_iload (pc := 121) hC dX1_init_121 rfl ?_
        refine v_iconst (pc := 123) (v := nI 1) hC dX1_init_123 rfl ?_
        refine ks_sn (pc := 124) hC (by omega) (by decide) dX1_init_124 ?_
        refine v_incN (pc := 125) (L' := [_, _, _, _, _]) hC dX1_init_125 rfl (by decide) rfl ?_
        refine v_goto (pc := 128) (tgt := 111) hC dX1_init_128 (by decide) ?_
        refine ih (f + 1) _ (by omega) (fun j hj => ?_) (fun j => ?_)
        · by_cases q : j = f
          · rw [q, pk_us]
          · rw [pk_un q]; exact h1 j (by omega)
        · by_cases q : j = f
          · rw [q, pk_us]; exact Or.inr rfl
          · rw [pk_un q]; exact h2 j
  have atpf : ∀ z : Int32, z = nI (kF x) → vV l D X 5 [(e2, .boolean), (e3, .int), (e4, .int), (e5, .int), (e7, .int), (e8, .boolean), (e9, .int), (e10, .int), (e11, .short), (e13, .short)] 10 1460 [(a, .inr (0, [.int (nI 0), .int (nI 0), .ref b2, .ref b3, .ref b4, .ref b5, .int (nI 0), .ref b7, .ref b8, .ref b9, .ref b10, .ref b11, .int (nI 0), .ref b13, .int (nI 0)])), (b2, .inl (e2, 4, .inl (fun _ => nI 0))), (b3, .inl (e3, 4, .inl (fun _ => nI 0))), (b4, .inl (e4, 4, .inl (fun _ => nI 0))), (b5, .inl (e5, 24, .inl (fun _ => nI 0))), (b7, .inl (e7, 20, .inl (fun _ => nI 0))), (b8, .inl (e8, 20, .inl (fun _ => nI 0))), (b9, .inl (e9, 20, .inl (fun _ => nI 0))), (b10, .inl (e10, 20, .inl (fun _ => nI 0))), (b11, .inl (e11, 1280, .inl (fun _ => nI 0))), (b13, .inl (e13, 64, .inl (fun _ => nI 0)))] [.ref a, .int x, .int y, .int z] 98 [] := by
    intro z hz
    refine v_aload_n (pc := 98) hC dX1_init_98 rfl ?_
    refine v_iload_n (pc := 99) hC dX1_init_99 rfl ?_
    refine v_putF (pc := 100) (C := RX1) (T := TX1) (N := 15) (ci := 0) (ty := .int) (fs := [.int (nI 0), .int (nI 0), .ref b2, .ref b3, .ref b4, .ref b5, .int (nI 0), .ref b7, .ref b8, .ref b9, .ref b10, .ref b11, .int (nI 0), .ref b13, .int (nI 0)]) (ws' := [(a, .inr (0, [.int z, .int (nI 0), .ref b2, .ref b3, .ref b4, .ref b5, .int (nI 0), .ref b7, .ref b8, .ref b9, .ref b10, .ref b11, .int (nI 0), .ref b13, .int (nI 0)])), (b2, .inl (e2, 4, .inl (fun _ => nI 0))), (b3, .inl (e3, 4, .inl (fun _ => nI 0))), (b4, .inl (e4, 4, .inl (fun _ => nI 0))), (b5, .inl (e5, 24, .inl (fun _ => nI 0))), (b7, .inl (e7, 20, .inl (fun _ => nI 0))), (b8, .inl (e8, 20, .inl (fun _ => nI 0))), (b9, .inl (e9, 20, .inl (fun _ => nI 0))), (b10, .inl (e10, 20, .inl (fun _ => nI 0))), (b11, .inl (e11, 1280, .inl (fun _ => nI 0))), (b13, .inl (e13, 64, .inl (fun _ => nI 0)))]) hC hI in_X1 tyX1 tyX1_ok nmX1 0 rfl rfl 0 (by decide) q38 rfl rfl (by decide +kernel) rfl rfl (Nat.le_of_ble_eq_true rfl) rfl dX1_init_100 ?_
    refine v_aload_n (pc := 103) hC dX1_init_103 rfl ?_
    refine v_iload_n (pc := 104) hC dX1_init_104 rfl ?_
    refine v_putF (pc := 105) (C := RX1) (T := TX1) (N := 15) (ci := 0) (ty := .int) (fs := [.int z, .int (nI 0), .ref b2, .ref b3, .ref b4, .ref b5, .int (nI 0), .ref b7, .ref b8, .ref b9, .ref b10, .ref b11, .int (nI 0), .ref b13, .int (nI 0)]) (ws' := [(a, .inr (0, [.int z, .int y, .ref b2, .ref b3, .ref b4, .ref b5, .int (nI 0), .ref b7, .ref b8, .ref b9, .ref b10, .ref b11, .int (nI 0), .ref b13, .int (nI 0)])), (b2, .inl (e2, 4, .inl (fun _ => nI 0))), (b3, .inl (e3, 4, .inl (fun _ => nI 0))), (b4, .inl (e4, 4, .inl (fun _ => nI 0))), (b5, .inl (e5, 24, .inl (fun _ => nI 0))), (b7, .inl (e7, 20, .inl (fun _ => nI 0))), (b8, .inl (e8, 20, .inl (fun _ => nI 0))), (b9, .inl (e9, 20, .inl (fun _ => nI 0))), (b10, .inl (e10, 20, .inl (fun _ => nI 0))), (b11, .inl (e11, 1280, .inl (fun _ => nI 0))), (b13, .inl (e13, 64, .inl (fun _ => nI 0)))]) hC hI in_X1 tyX1 tyX1_ok nmX1 0 rfl rfl 1 (by decide) q39 rfl rfl (by decide +kernel) rfl rfl (Nat.le_of_ble_eq_true rfl) rfl dX1_init_105 ?_
    refine v_iconst (pc := 108) (v := nI 0) hC dX1_init_108 rfl ?_
    refine v_istore (pc := 109) (L' := [_, _, _, _, _]) hC dX1_init_109 (Nat.le_of_ble_eq_true rfl) (by decide) rfl ?_
    have h0 := loop 4 0 (fun _ => nI 0) (by omega) (fun j hj => absurd hj (by omega)) (fun j => Or.inl rfl)
    rw [ehh, edd] at h0
    rw [hz]
    exact h0
  refine v_iload_n (pc := 82) hC dX1_init_82 rfl ?_
  refine v_istore_n (pc := 83) (L' := [_, _, _, _]) hC dX1_init_83 (Nat.le_of_ble_eq_true rfl) (by decide) rfl ?_
  refine v_iload_n (pc := 84) hC dX1_init_84 rfl ?_
  refine v_iconst (pc := 85) (v := nI 1) hC dX1_init_85 rfl ?_
  refine v_icmp_ge (pc := 86) (tgt := 91) hC dX1_init_86 (by decide) (fun c1 => ?_) (fun c1 => ?_)
  · skip
    refine v_iload_n (pc := 91) hC dX1_init_91 rfl ?_
    refine v_iconst (pc := 92) (v := nI 4) hC dX1_init_92 rfl ?_
    refine v_icmp_le (pc := 93) (tgt := 98) hC dX1_init_93 (by decide) (fun c2 => ?_) (fun c2 => ?_)
    · exact atpf x (kF_mid (Int32.not_lt.mpr c1) (Int32.not_lt.mpr c2))
    · skip
      refine v_iconst (pc := 96) (v := nI 4) hC dX1_init_96 rfl ?_
      refine v_istore_n (pc := 97) (L' := [_, _, _, _]) hC dX1_init_97 (Nat.le_of_ble_eq_true rfl) (by decide) rfl ?_
      exact atpf (nI 4) (by unfold kF; rw [if_neg (Int32.not_lt.mpr c1), if_pos (Int32.not_le.mp c2)])
  · skip
    refine v_iconst (pc := 89) (v := nI 1) hC dX1_init_89 rfl ?_
    refine v_istore_n (pc := 90) (L' := [_, _, _, _]) hC dX1_init_90 (Nat.le_of_ble_eq_true rfl) (by decide) rfl ?_
    refine v_iload_n (pc := 91) hC dX1_init_91 rfl ?_
    refine v_iconst (pc := 92) (v := nI 4) hC dX1_init_92 rfl ?_
    refine v_icmpN_le (pc := 93) (tgt := 98) hC dX1_init_93 (by decide) (by omega) (by omega) (fun c2 => ?_) (fun c2 => ?_)
    · exact atpf (nI 1) (by unfold kF; rw [if_pos (Int32.not_le.mp c1)])
    · exact absurd c2 (by decide)
abbrev mF0 : List Value := [.int (nI 0), .int (nI 0), .int (nI 0), .null, .null, .null, .null, .null]
set_option maxHeartbeats 4000000 in
theorem mA_init {l : Launch} {D : va_G} {a : Nat} {x y : Int32} {U : Nat → Nat → FV} {G : Nat → Int32} : vMn l D yX2_init cX2_init 5 1 32 5 776 [(a, .inr (1, mF0))] [.ref a, .int x, .int y] (fun u tys => ∃ (g : Nat → Nat) (c : Nat → ClassId), g 0 = a ∧ tys = mT c ∧ mRep g c (kF x) y (fun _ => none) 0 U G u) := by
  refine vMn_of RX2 (by decide) rfl rfl (Nat.le_of_ble_eq_true rfl) rfl (fun X hC hI hret => ?_)
  refine v_aload_n (pc := 0) hC dX2_init_0 rfl ?_
  refine v_objInit (pc := 1) hC q228 q36 q37 dX2_init_1 (by decide) (Nat.le_of_ble_eq_true rfl) ?_
  refine v_aload_n (pc := 4) hC dX2_init_4 rfl ?_
  refine v_bipush (pc := 5) (v := nI 20) hC dX2_init_5 rfl ?_
  refine v_newa (pc := 7) (atype := .int) (ty := .int) (N' := 20) (a0 := (20, .inl (fun _ => nI 0))) hC q85 rfl (fun _ => rfl) (by decide) (by decide) (by decide) (by decide) dX2_init_7 (fun b3 e3 => ?_)
  show vV l D X 5 [(e3, .int)] 1 20 [(a, .inr (1, [.int (nI 0), .int (nI 0), .int (nI 0), .null, .null, .null, .null, .null])), (b3, .inl (e3, 20, .inl (fun _ => nI 0)))] [.ref a, .int x, .int y] 9 [.ref b3, .ref a]
  refine v_putF (pc := 9) (C := RX2) (T := TX2) (N := 8) (ci := 1) (ty := .array .int) (fs := [.int (nI 0), .int (nI 0), .int (nI 0), .null, .null, .null, .null, .null]) (ws' := [(a, .inr (1, [.int (nI 0), .int (nI 0), .int (nI 0), .ref b3, .null, .null, .null, .null])), (b3, .inl (e3, 20, .inl (fun _ => nI 0)))]) hC hI in_X2 tyX2 tyX2_ok nmX2 0 rfl rfl 3 (by decide) q232 rfl rfl (by decide +kernel) rfl rfl (Nat.le_of_ble_eq_true rfl) rfl dX2_init_9 ?_
  refine v_aload_n (pc := 12) hC dX2_init_12 rfl ?_
  refine v_bipush (pc := 13) (v := nI 84) hC dX2_init_13 rfl ?_
  refine v_newa (pc := 15) (atype := .boolean) (ty := .boolean) (N' := 84) (a0 := (84, .inl (fun _ => nI 0))) hC q84 rfl (fun _ => rfl) (by decide) (by decide) (by decide) (by decide) dX2_init_15 (fun b4 e4 => ?_)
  show vV l D X 5 [(e3, .int), (e4, .boolean)] 2 104 [(a, .inr (1, [.int (nI 0), .int (nI 0), .int (nI 0), .ref b3, .null, .null, .null, .null])), (b3, .inl (e3, 20, .inl (fun _ => nI 0))), (b4, .inl (e4, 84, .inl (fun _ => nI 0)))] [.ref a, .int x, .int y] 17 [.ref b4, .ref a]
  refine v_putF (pc := 17) (C := RX2) (T := TX2) (N := 8) (ci := 1) (ty := .array .boolean) (fs := [.int (nI 0), .int (nI 0), .int (nI 0), .ref b3, .null, .null, .null, .null]) (ws' := [(a, .inr (1, [.int (nI 0), .int (nI 0), .int (nI 0), .ref b3, .ref b4, .null, .null, .null])), (b3, .inl (e3, 20, .inl (fun _ => nI 0))), (b4, .inl (e4, 84, .inl (fun _ => nI 0)))]) hC hI in_X2 tyX2 tyX2_ok nmX2 0 rfl rfl 4 (by decide) q233 rfl rfl (by decide +kernel) rfl rfl (Nat.le_of_ble_eq_true rfl) rfl dX2_init_17 ?_
  refine v_aload_n (pc := 20) hC dX2_init_20 rfl ?_
  refine v_bipush (pc := 21) (v := nI 84) hC dX2_init_21 rfl ?_
  refine v_newa (pc := 23) (atype := .int) (ty := .int) (N' := 84) (a0 := (84, .inl (fun _ => nI 0))) hC q85 rfl (fun _ => rfl) (by decide) (by decide) (by decide) (by decide) dX2_init_23 (fun b5 e5 => ?_)
  show vV l D X 5 [(e3, .int), (e4, .boolean), (e5, .int)] 3 188 [(a, .inr (1, [.int (nI 0), .int (nI 0), .int (nI 0), .ref b3, .ref b4, .null, .null, .null])), (b3, .inl (e3, 20, .inl (fun _ => nI 0))), (b4, .inl (e4, 84, .inl (fun _ => nI 0))), (b5, .inl (e5, 84, .inl (fun _ => nI 0)))] [.ref a, .int x, .int y] 25 [.ref b5, .ref a]
  refine v_putF (pc := 25) (C := RX2) (T := TX2) (N := 8) (ci := 1) (ty := .array .int) (fs := [.int (nI 0), .int (nI 0), .int (nI 0), .ref b3, .ref b4, .null, .null, .null]) (ws' := [(a, .inr (1, [.int (nI 0), .int (nI 0), .int (nI 0), .ref b3, .ref b4, .ref b5, .null, .null])), (b3, .inl (e3, 20, .inl (fun _ => nI 0))), (b4, .inl (e4, 84, .inl (fun _ => nI 0))), (b5, .inl (e5, 84, .inl (fun _ => nI 0)))]) hC hI in_X2 tyX2 tyX2_ok nmX2 0 rfl rfl 5 (by decide) q234 rfl rfl (by decide +kernel) rfl rfl (Nat.le_of_ble_eq_true rfl) rfl dX2_init_25 ?_
  refine v_aload_n (pc := 28) hC dX2_init_28 rfl ?_
  refine v_bipush (pc := 29) (v := nI 84) hC dX2_init_29 rfl ?_
  refine v_newa (pc := 31) (atype := .int) (ty := .int) (N' := 84) (a0 := (84, .inl (fun _ => nI 0))) hC q85 rfl (fun _ => rfl) (by decide) (by decide) (by decide) (by decide) dX2_init_31 (fun b6 e6 => ?_)
  show vV l D X 5 [(e3, .int), (e4, .boolean), (e5, .int), (e6, .int)] 4 272 [(a, .inr (1, [.int (nI 0), .int (nI 0), .int (nI 0), .ref b3, .ref b4, .ref b5, .null, .null])), (b3, .inl (e3, 20, .inl (fun _ => nI 0))), (b4, .inl (e4, 84, .inl (fun _ => nI 0))), (b5, .inl (e5, 84, .inl (fun _ => nI 0))), (b6, .inl (e6, 84, .inl (fun _ => nI 0)))] [.ref a, .int x, .int y] 33 [.ref b6, .ref a]
  refine v_putF (pc := 33) (C := RX2) (T := TX2) (N := 8) (ci := 1) (ty := .array .int) (fs := [.int (nI 0), .int (nI 0), .int (nI 0), .ref b3, .ref b4, .ref b5, .null, .null]) (ws' := [(a, .inr (1, [.int (nI 0), .int (nI 0), .int (nI 0), .ref b3, .ref b4, .ref b5, .ref b6, .null])), (b3, .inl (e3, 20, .inl (fun _ => nI 0))), (b4, .inl (e4, 84, .inl (fun _ => nI 0))), (b5, .inl (e5, 84, .inl (fun _ => nI 0))), (b6, .inl (e6, 84, .inl (fun _ => nI 0)))]) hC hI in_X2 tyX2 tyX2_ok nmX2 0 rfl rfl 6 (by decide) q235 rfl rfl (by decide +kernel) rfl rfl (Nat.le_of_ble_eq_true rfl) rfl dX2_init_33 ?_
  refine v_aload_n (pc := 36) hC dX2_init_36 rfl ?_
  refine v_sipush (pc := 37) (v := nI 504) hC dX2_init_37 rfl ?_
  refine v_newa (pc := 40) (atype := .int) (ty := .int) (N' := 504) (a0 := (504, .inl (fun _ => nI 0))) hC q85 rfl (fun _ => rfl) (by decide) (by decide) (by decide) (by decide) dX2_init_40 (fun b7 e7 => ?_)
  show vV l D X 5 [(e3, .int), (e4, .boolean), (e5, .int), (e6, .int), (e7, .int)] 5 776 [(a, .inr (1, [.int (nI 0), .int (nI 0), .int (nI 0), .ref b3, .ref b4, .ref b5, .ref b6, .null])), (b3, .inl (e3, 20, .inl (fun _ => nI 0))), (b4, .inl (e4, 84, .inl (fun _ => nI 0))), (b5, .inl (e5, 84, .inl (fun _ => nI 0))), (b6, .inl (e6, 84, .inl (fun _ => nI 0))), (b7, .inl (e7, 504, .inl (fun _ => nI 0)))] [.ref a, .int x, .int y] 42 [.ref b7, .ref a]
  refine v_putF (pc := 42) (C := RX2) (T := TX2) (N := 8) (ci := 1) (ty := .array .int) (fs := [.int (nI 0), .int (nI 0), .int (nI 0), .ref b3, .ref b4, .ref b5, .ref b6, .null]) (ws' := [(a, .inr (1, [.int (nI 0), .int (nI 0), .int (nI 0), .ref b3, .ref b4, .ref b5, .ref b6, .ref b7])), (b3, .inl (e3, 20, .inl (fun _ => nI 0))), (b4, .inl (e4, 84, .inl (fun _ => nI 0))), (b5, .inl (e5, 84, .inl (fun _ => nI 0))), (b6, .inl (e6, 84, .inl (fun _ => nI 0))), (b7, .inl (e7, 504, .inl (fun _ => nI 0)))]) hC hI in_X2 tyX2 tyX2_ok nmX2 0 rfl rfl 7 (by decide) q236 rfl rfl (by decide +kernel) rfl rfl (Nat.le_of_ble_eq_true rfl) rfl dX2_init_42 ?_
  obtain ⟨hh, ehh⟩ : ∃ hh : Nat → Nat, hh = (fun k => [a, 0, 0, b3, b4, b5, b6, b7].getD k 0) := ⟨_, rfl⟩
  obtain ⟨dd, edd⟩ : ∃ dd : Nat → ClassId, dd = (fun k => [e3, e3, e3, e3, e4, e5, e6, e7].getD k e3) := ⟨_, rfl⟩
  have loop : ∀ (k f : Nat) (sn : Nat → Int32), f + k = 84 → (∀ j, j < f → sn j = nI 1) → (∀ j, sn j = nI 0 ∨ sn j = nI 1) → vV l D X 5 (mT dd) 5 776 (mw hh dd (nI (kF x)) y (nI 0) (fun _ => nI 0) sn (fun _ => nI 0) (fun _ => nI 0) (fun _ => nI 0)) [.ref (hh 0), .int x, .int y, .int (nI (kF x)), .int (nI f)] 74 [] := by
    intro k
    induction k with
    | zero =>
      intro f sn hf h1 h2
      refine v_iload (pc := 74) hC dX2_init_74 rfl ?_
      refine v_bipush (pc := 76) (v := nI 84) hC dX2_init_76 rfl ?_
      refine v_icmpN_ge (pc := 78) (tgt := 95) hC dX2_init_78 (by decide) (by omega) (by omega) (fun c2 => ?_) (fun c2 => ?_)
      · exact hret _ _ _ _ dX2_init_95 ⟨hh, dd, by rw [ehh]; rfl, rfl, _, _, _, _, _, rfl, ⟨(kF_in x).1, (kF_in x).2, by omega⟩, fun f hf => fRep_n.mpr (h1 _ (by have := (kF_in x).2; omega)), fun e he => absurd he (by omega), fun j hj => h2 j⟩
      · exact absurd c2 (by omega)
    | succ k ih =>
      intro f sn hf h1 h2
      refine v_iload (pc := 74) hC dX2_init_74 rfl ?_
      refine v_bipush (pc := 76) (v := nI 84) hC dX2_init_76 rfl ?_
      refine v_icmpN_ge (pc := 78) (tgt := 95) hC dX2_init_78 (by decide) (by omega) (by omega) (fun c2 => ?_) (fun c2 => ?_)
      · exact absurd c2 (by omega)
      · skip
        refine v_aload_n (pc := 81) hC dX2_init_81 rfl ?_
        refine mg_nu (pc := 82) hC dX2_init_82 ?_
        refine v_iload (pc := 85) hC dX2_init_85 rfl ?_
        refine v_iconst (pc := 87) (v := nI 1) hC dX2_init_87 rfl ?_
        refine ms_nu (pc := 88) hC (by omega) (by decide) dX2_init_88 ?_
        refine v_incN (pc := 89) (L' := [_, _, _, _, _]) hC dX2_init_89 rfl (by decide) rfl ?_
        refine v_goto (pc := 92) (tgt := 74) hC dX2_init_92 (by decide) ?_
        refine ih (f + 1) _ (by omega) (fun j hj => ?_) (fun j => ?_)
        · by_cases q : j = f
          · rw [q, pk_us]
          · rw [pk_un q]; exact h1 j (by omega)
        · by_cases q : j = f
          · rw [q, pk_us]; exact Or.inr rfl
          · rw [pk_un q]; exact h2 j
  have atpf : ∀ z : Int32, z = nI (kF x) → vV l D X 5 [(e3, .int), (e4, .boolean), (e5, .int), (e6, .int), (e7, .int)] 5 776 [(a, .inr (1, [.int (nI 0), .int (nI 0), .int (nI 0), .ref b3, .ref b4, .ref b5, .ref b6, .ref b7])), (b3, .inl (e3, 20, .inl (fun _ => nI 0))), (b4, .inl (e4, 84, .inl (fun _ => nI 0))), (b5, .inl (e5, 84, .inl (fun _ => nI 0))), (b6, .inl (e6, 84, .inl (fun _ => nI 0))), (b7, .inl (e7, 504, .inl (fun _ => nI 0)))] [.ref a, .int x, .int y, .int z] 61 [] := by
    intro z hz
    refine v_aload_n (pc := 61) hC dX2_init_61 rfl ?_
    refine v_iload_n (pc := 62) hC dX2_init_62 rfl ?_
    refine v_putF (pc := 63) (C := RX2) (T := TX2) (N := 8) (ci := 1) (ty := .int) (fs := [.int (nI 0), .int (nI 0), .int (nI 0), .ref b3, .ref b4, .ref b5, .ref b6, .ref b7]) (ws' := [(a, .inr (1, [.int z, .int (nI 0), .int (nI 0), .ref b3, .ref b4, .ref b5, .ref b6, .ref b7])), (b3, .inl (e3, 20, .inl (fun _ => nI 0))), (b4, .inl (e4, 84, .inl (fun _ => nI 0))), (b5, .inl (e5, 84, .inl (fun _ => nI 0))), (b6, .inl (e6, 84, .inl (fun _ => nI 0))), (b7, .inl (e7, 504, .inl (fun _ => nI 0)))]) hC hI in_X2 tyX2 tyX2_ok nmX2 0 rfl rfl 0 (by decide) q229 rfl rfl (by decide +kernel) rfl rfl (Nat.le_of_ble_eq_true rfl) rfl dX2_init_63 ?_
    refine v_aload_n (pc := 66) hC dX2_init_66 rfl ?_
    refine v_iload_n (pc := 67) hC dX2_init_67 rfl ?_
    refine v_putF (pc := 68) (C := RX2) (T := TX2) (N := 8) (ci := 1) (ty := .int) (fs := [.int z, .int (nI 0), .int (nI 0), .ref b3, .ref b4, .ref b5, .ref b6, .ref b7]) (ws' := [(a, .inr (1, [.int z, .int y, .int (nI 0), .ref b3, .ref b4, .ref b5, .ref b6, .ref b7])), (b3, .inl (e3, 20, .inl (fun _ => nI 0))), (b4, .inl (e4, 84, .inl (fun _ => nI 0))), (b5, .inl (e5, 84, .inl (fun _ => nI 0))), (b6, .inl (e6, 84, .inl (fun _ => nI 0))), (b7, .inl (e7, 504, .inl (fun _ => nI 0)))]) hC hI in_X2 tyX2 tyX2_ok nmX2 0 rfl rfl 1 (by decide) q230 rfl rfl (by decide +kernel) rfl rfl (Nat.le_of_ble_eq_true rfl) rfl dX2_init_68 ?_
    refine v_iconst (pc := 71) (v := nI 0) hC dX2_init_71 rfl ?_
    refine v_istore (pc := 72) (L' := [_, _, _, _, _]) hC dX2_init_72 (Nat.le_of_ble_eq_true rfl) (by decide) rfl ?_
    have h0 := loop 84 0 (fun _ => nI 0) (by omega) (fun j hj => absurd hj (by omega)) (fun j => Or.inl rfl)
    rw [ehh, edd] at h0
    rw [hz]
    exact h0
  refine v_iload_n (pc := 45) hC dX2_init_45 rfl ?_
  refine v_istore_n (pc := 46) (L' := [_, _, _, _]) hC dX2_init_46 (Nat.le_of_ble_eq_true rfl) (by decide) rfl ?_
  refine v_iload_n (pc := 47) hC dX2_init_47 rfl ?_
  refine v_iconst (pc := 48) (v := nI 1) hC dX2_init_48 rfl ?_
  refine v_icmp_ge (pc := 49) (tgt := 54) hC dX2_init_49 (by decide) (fun c1 => ?_) (fun c1 => ?_)
  · skip
    refine v_iload_n (pc := 54) hC dX2_init_54 rfl ?_
    refine v_iconst (pc := 55) (v := nI 4) hC dX2_init_55 rfl ?_
    refine v_icmp_le (pc := 56) (tgt := 61) hC dX2_init_56 (by decide) (fun c2 => ?_) (fun c2 => ?_)
    · exact atpf x (kF_mid (Int32.not_lt.mpr c1) (Int32.not_lt.mpr c2))
    · skip
      refine v_iconst (pc := 59) (v := nI 4) hC dX2_init_59 rfl ?_
      refine v_istore_n (pc := 60) (L' := [_, _, _, _]) hC dX2_init_60 (Nat.le_of_ble_eq_true rfl) (by decide) rfl ?_
      exact atpf (nI 4) (by unfold kF; rw [if_neg (Int32.not_lt.mpr c1), if_pos (Int32.not_le.mp c2)])
  · skip
    refine v_iconst (pc := 52) (v := nI 1) hC dX2_init_52 rfl ?_
    refine v_istore_n (pc := 53) (L' := [_, _, _, _]) hC dX2_init_53 (Nat.le_of_ble_eq_true rfl) (by decide) rfl ?_
    refine v_iload_n (pc := 54) hC dX2_init_54 rfl ?_
    refine v_iconst (pc := 55) (v := nI 4) hC dX2_init_55 rfl ?_
    refine v_icmpN_le (pc := 56) (tgt := 61) hC dX2_init_56 (by decide) (by omega) (by omega) (fun c2 => ?_) (fun c2 => ?_)
    · exact atpf (nI 1) (by unfold kF; rw [if_pos (Int32.not_le.mp c1)])
    · exact absurd c2 (by decide)
end
section
/-! class and reference hold the same: what each call does to both -/
theorem kRep.congr {h : Nat → Nat} {d : Nat → ClassId} {F : Nat} {sch : Int32} {T : Nat → FV} {n : Nat} {U U' : Nat → Nat → FV} {G G' : Nat → Int32} {ws : va_W} (hR : kRep h d F sch T n U G ws) (hU : ∀ p, p < n → U' p = U p) (hG : ∀ p, p < n → G' p = G p) : kRep h d F sch T n U' G' ws := by
  obtain ⟨sn, si, sl, tx, od, us, tg, kl, ky, pl, pb, ra, o, rfl, hb, hT, hU0, hE⟩ := hR
  refine ⟨sn, si, sl, tx, od, us, tg, kl, ky, pl, pb, ra, o, rfl, hb, hT, fun p hp f hf => by rw [hU p hp]; exact hU0 p hp f hf, fun p hp => ?_, hE.2⟩
  rw [hU p hp, hG p hp]
  exact hE.1 p hp
theorem mRep.ok {g : Nat → Nat} {c : Nat → ClassId} {F : Nat} {sch : Int32} {T : Nat → FV} {n : Nat} {E : Nat → Nat → FV} {H : Nat → Int32} {ws : va_W} (hR : mRep g c F sch T n E H ws) : (F ≤ 4 ∧ n ≤ 20) ∧ (∀ f, f < F → fOk (kTx sch f) (T f)) ∧ ∀ e, e < n → ∀ f, f < F → fOk (kTx sch f) (E e f) := by
  obtain ⟨tg, nu, it, ln, ch, -, ⟨hF1, hF4, hn20⟩, hT, hE, -⟩ := hR
  exact ⟨⟨hF4, hn20⟩, fun f hf => (hT f hf).ok, fun e he f hf => ((hE e he).1 f hf).ok⟩
theorem rgt_dc {A : Nat → List Nat} {beh pre : Bool} {B : List Nat} {a b : Nat} (h : elt A a b = true) (hb : rgt beh (kc pre (A b) B) = true) : rgt beh (kc pre (A a) B) = true := by
  have h1 := of_decide_eq_true h
  rcases h1 with h1 | ⟨h1, -⟩
  · obtain ⟨m1, m2⟩ := kc_mono pre B (A a) (A b) h1
    unfold rgt at hb ⊢
    cases beh with
    | true => exact decide_eq_true (m2 (of_decide_eq_true hb))
    | false => exact decide_eq_true (m1 (of_decide_eq_true hb))
  · rw [lx_zero h1]; exact hb
/-- how many keys lie ahead of the probe -/
def bnd (A : Nat → List Nat) (n : Nat) (beh pre : Bool) (B : List Nat) : Nat := cnt (fun i => rgt beh (kc pre (A i) B)) n
theorem Sg.bnd {A : Nat → List Nat} {n : Nat} {s : Nat → Nat} (h : Sg A n s) (beh pre : Bool) (B : List Nat) : bnd A n beh pre B ≤ n ∧ ∀ p, p < n → (rgt beh (kc pre (A (s p)) B) = true ↔ p < bnd A n beh pre B) :=
  ⟨cnt_le _ _, fun _ hp => h.dc (P := fun i => rgt beh (kc pre (A i) B)) (fun _ _ _ _ q w => rgt_dc q w) hp⟩
theorem bnd_atq (A : Nat → List Nat) (n : Nat) (B : List Nat) : bnd A n true false B = atq A n B := by
  refine cnt_congr (fun i _ => ?_)
  obtain ⟨b1, b2⟩ := kc_lx (A i) B
  unfold rgt
  rw [if_pos rfl]
  apply decide_eq_decide.mpr
  omega
section Inv
variable {sch : Int32} {F n : Nat} {T : Nat → FV} {E : Nat → Nat → FV} {s : Nat → Nat}
theorem bnd_below (hT : ∀ f, f < F → fOk (kTx sch f) (T f)) (hE : ∀ e, e < n → ∀ f, f < F → fOk (kTx sch f) (E e f)) : bnd (eK sch F E) n false false (eR sch T 0 F) = cnt (fun i => decide (cR sch (E i) T 0 F < 0)) n := by
  refine cnt_congr (fun i hi => ?_)
  have := (key_cmp (sch := sch) (T := E i) (U := T) (F := F) (fun j hj => ⟨hE i hi j hj, hT j hj⟩)).1
  unfold rgt
  rw [if_neg (by decide)]
  exact decide_eq_decide.mpr this
theorem bnd_match {m : Nat} (hm : m ≤ F) (hT : ∀ f, f < F → fOk (kTx sch f) (T f)) (hE : ∀ e, e < n → ∀ f, f < F → fOk (kTx sch f) (E e f)) : bnd (eK sch F E) n true true (eR sch T 0 m) = bnd (eK sch F E) n false true (eR sch T 0 m) + cnt (fun i => decide (cR sch (E i) T 0 m = 0)) n := by
  refine cnt_sum (fun i hi => ?_)
  obtain ⟨c1, c2⟩ := pre_cmp (sch := sch) (T := E i) (U := T) (F := F) hm (fun j hj => ⟨hE i hi j hj, hT j hj⟩)
  have e : eK sch F E i = eR sch (E i) 0 F := rfl
  unfold rgt
  rw [if_pos rfl, if_neg (by decide), decide_eq_true_iff, decide_eq_true_iff, decide_eq_true_iff, ← c2, e]
  omega
/-- add: class and reference -/
theorem inv_add (hs : Sg (eK sch F E) n s) (G : Nat → Int32) (x : Int32) : plc (eK sch F (apd E n T)) (n + 1) n = bnd (eK sch F E) n true false (eR sch T 0 F) ∧ Sg (eK sch F (apd E n T)) (n + 1) (gAdd s n (bnd (eK sch F E) n true false (eR sch T 0 F))) ∧ (∀ p, p < n + 1 → apd E n T (gAdd s n (bnd (eK sch F E) n true false (eR sch T 0 F)) p) = ins (fun p => E (s p)) (bnd (eK sch F E) n true false (eR sch T 0 F)) T p) ∧ ∀ p, p < n + 1 → apd G n x (gAdd s n (bnd (eK sch F E) n true false (eR sch T 0 F)) p) = ins (fun p => G (s p)) (bnd (eK sch F E) n true false (eR sch T 0 F)) x p := by
  rw [bnd_atq]
  have hle : atq (eK sch F E) n (eR sch T 0 F) ≤ n := cnt_le _ _
  obtain ⟨h1, h2⟩ := hs.add (A' := eK sch F (apd E n T)) (x := eR sch T 0 F) (fun i hi => by unfold eK; rw [apd_n (by omega)]) (by unfold eK; rw [apd_s])
  generalize atq (eK sch F E) n (eR sch T 0 F) = q at *
  refine ⟨h1, h2, fun p hp => ?_, fun p hp => ?_⟩
  · by_cases w : p < q
    · rw [ins_lt w]
      unfold gAdd
      rw [if_pos w, apd_n (by have := (hs p (by omega)).1; omega)]
    · by_cases z : p = q
      · subst z
        rw [ins_eq]
        unfold gAdd
        rw [if_neg w, if_pos rfl, apd_s]
      · rw [ins_gt (by omega)]
        unfold gAdd
        rw [if_neg w, if_neg z, apd_n (by have := (hs (p - 1) (by omega)).1; omega)]
  · by_cases w : p < q
    · rw [ins_lt w]
      unfold gAdd
      rw [if_pos w, apd_n (by have := (hs p (by omega)).1; omega)]
    · by_cases z : p = q
      · subst z
        rw [ins_eq]
        unfold gAdd
        rw [if_neg w, if_pos rfl, apd_s]
      · rw [ins_gt (by omega)]
        unfold gAdd
        rw [if_neg w, if_neg z, apd_n (by have := (hs (p - 1) (by omega)).1; omega)]
/-- remove: class and reference -/
theorem inv_remove (hs : Sg (eK sch F E) (n + 1) s) {p0 : Nat} (hp0 : p0 < n + 1) : Sg (eK sch F (fun i => E (skp (s p0) i))) n (fun p => rnm (s p0) (s (skp p0 p))) ∧ ∀ p, p < n → skp (s p0) (rnm (s p0) (s (skp p0 p))) = s (skp p0 p) := by
  refine ⟨hs.remove hp0 (fun i _ => rfl), fun p hp => skp_rnm (fun q => ?_)⟩
  have hk : skp p0 p < n + 1 ∧ skp p0 p ≠ p0 := by unfold skp; split <;> omega
  apply hk.2
  rw [← (hs _ hk.1).2, q, (hs p0 hp0).2]
end Inv
/-- the law's invariant: one state of entries, seen by both -/
def lInv (h : Nat → Nat) (d : Nat → ClassId) (g : Nat → Nat) (c : Nat → ClassId) (wK wM : va_W) : Prop :=
  ∃ (F : Nat) (sch : Int32) (T : Nat → FV) (n : Nat) (E : Nat → Nat → FV) (H : Nat → Int32) (s : Nat → Nat), Sg (eK sch F E) n s ∧ kRep h d F sch T n (fun p => E (s p)) (fun p => H (s p)) wK ∧ mRep g c F sch T n E H wM
theorem kRep.recv {h : Nat → Nat} {d : Nat → ClassId} {F : Nat} {sch : Int32} {T : Nat → FV} {n : Nat} {U : Nat → Nat → FV} {G : Nat → Int32} {ws : va_W} (hR : kRep h d F sch T n U G ws) : ∃ fs, ws[0]? = some (h 0, .inr (0, fs)) := by
  obtain ⟨sn, si, sl, tx, od, us, tg, kl, ky, pl, pb, ra, o, rfl, -⟩ := hR
  exact ⟨_, rfl⟩
theorem mRep.recv {g : Nat → Nat} {c : Nat → ClassId} {F : Nat} {sch : Int32} {T : Nat → FV} {n : Nat} {E : Nat → Nat → FV} {H : Nat → Int32} {ws : va_W} (hR : mRep g c F sch T n E H ws) : ∃ fs, ws[0]? = some (g 0, .inr (1, fs)) := by
  obtain ⟨tg, nu, it, ln, ch, rfl, -⟩ := hR
  exact ⟨_, rfl⟩
end
section
-- ===== end of PART A; then your names; then what follows =====
/-! THE CLAIM OUT OF ONE WALK OF THE LAW'S BODY. Your part is whole_start (and what it stands on); all else here is the same for every law, but numbers. -/
def R_law : String := "OrderedKeysLaw"
def lw_P (b : Addr) (xs : List Int32) (args : Array Value) (s : State) : Prop := args = #[.ref b] ∧ s.IntsAt b xs ∧ xs.length ≤ 258 ∧ (Jvm.Cond.and given_1 narrow_1).before args s = true
def lw_Q (_ : Array Value) (s : State) (o : Outcome) (t : State) : Prop := o = .returned (some (.int 1)) ∧ Framed s o t [] 600000 7290000
def lw_Z (below : List Frame) (a : Array Value) (s : State) : State → Prop := fun t => ∃ o, t.status = .running ∧ Ended t below o ∧ lw_Q a s o t
/-- the law's own end, with 1 on the stack, nothing written that was there before, its room as the claim has it -/
theorem lw_ret {p : Program} {l : Launch} {e : Env} {s : State} {m : MethodId} {below : List Frame} {meth : Method} {c : Code} {b : Nat} (hx : p.tables.exec = Jvm.exec) (hb : c.code = code) (hr : meth.sig.returnType = ret) (hlocks : meth.locks = false) {pc : Nat} {H : Heap} {ls : Array Slot} (hdg : decode code pc = .ok (.ireturn, 1)) : W p l e room_1 s m #[Value.ref b] below meth c H [] 600000 7290000 (lw_Z below #[Value.ref b] s) (F0 m pc ls [.int 1]) := by
  intro T hT X
  obtain ⟨fs, hret, hrun, hended, hW, hframe⟩ := X.leave (v := some (.int 1)) (hlocks := hlocks) (fun h => by rw [hr] at h; cases h)
  have hmeth' : T.vm.method? m = some meth := X.method'
  refine ⟨T.setFrames fs, ?_, .returned (some (.int 1)), hrun, hended, rfl, ⟨_, rfl⟩, hW, hframe⟩
  jvm_step X.here [X.here.top, hx, hb, hdg, hmeth', hr, ret, narrow_b1]
  (try refine ⟨rfl, ?_⟩); (try refine ⟨rfl, ?_⟩)
  first | (intro acts; rw [hret _ acts rfl rfl rfl]) | rw [hret _ _ rfl rfl rfl]
  exact Steps.refl _
/-- what holds at the law's entry: the machine, the code, the tables' words (any of lw_tbl by 'hts w (by decide +kernel)'), the script of L ints xs at the cell b, what the Statement gives of the start (any of its parts by flat_of_before) -/
def lw_At (p : Program) (s : State) (m : MethodId) (meth : Method) (c : Code) (b L : Nat) (xs : Nat → Int32) : Prop :=
  p.tables.exec = Jvm.exec ∧ c.code = code ∧ meth.sig.returnType = ret ∧ c.maxLocals = 4 ∧ s.vm.findClass R_law = some m.cls ∧ (∀ w ∈ lw_tbl, w.before #[Value.ref b] s = true) ∧ va_X b L xs s s.heap ∧ b < s.heap.size ∧ meth.locks = false ∧ (Jvm.Cond.and given_1 narrow_1).before #[Value.ref b] s = true
end
section
/-! rows for the law's own walk -/
/-- the script: L ints xs in the cell b, which nobody writes -/
def vScr (X : vX) (b L : Nat) (xs : Nat → Int32) : Prop := va_X b L xs X.2.1.1 X.2.1.1.heap ∧ b < X.2.1.1.heap.size ∧ ¬ X.2.2.2.2.1 b
theorem va_nd_map {f : Nat → Nat} (hf : ∀ a b, f a = f b → a = b) : ∀ (is : List Nat), va_nd is = true → va_nd (is.map f) = true
  | [], _ => rfl
  | a :: is, h => by
    simp only [va_nd, Bool.and_eq_true, decide_eq_true_eq] at h
    have h1 : f a ∉ is.map f := fun q => by
      obtain ⟨b, hb, e⟩ := List.mem_map.mp q
      rw [hf b a e] at hb
      exact h.1 hb
    rw [List.map_cons, va_nd, va_nd_map hf is h.2]
    simp [h1]
theorem v_ml (w1 w2 : va_W) : (List.range w1.length).map (fun i => (w1 ++ w2)[i]?) = w1.map some := by
  rw [← v_rg w1]
  refine List.map_congr_left (fun i hi => ?_)
  rw [List.getElem?_append_left (List.mem_range.mp hi)]
theorem v_mr (w1 w2 : va_W) : ((List.range w2.length).map (fun i => w1.length + i)).map (fun i => (w1 ++ w2)[i]?) = w2.map some := by
  rw [← v_rg w2, List.map_map]
  refine List.map_congr_left (fun i hi => ?_)
  show (w1 ++ w2)[w1.length + i]? = w2[i]?
  rw [List.getElem?_append_right (by omega), Nat.add_sub_cancel_left]
theorem v_ndl (w : va_W) : va_nd (List.range w.length) = true := va_nd_of _ List.nodup_range
theorem v_ndr (w1 w2 : va_W) : va_nd ((List.range w2.length).map (fun i => w1.length + i)) = true := va_nd_map (fun a b h => by omega) _ (v_ndl w2)
section VLaw
variable {l : Launch} {D : va_G} {X : vX} {nL : Nat} {tys tysC : List (ClassId × FieldType)} {n1 n2 : Nat} {ws w1 w2 : va_W} {L : List Value} {pc : Nat} {st st0 : List Value} {cc cc' : ByteArray} {own C : String} {R : Room} {b Ls : Nat} {xs : Nat → Int32} {y : MethodName} {nL' fr lo idx n mc ms : Nat} {ty : FieldType} {As' : List Value} {q : vw_C} {ci : Nat} {fs : List Value}
theorem v_sld (hC : vC l D X nL cc own R) (hX : vScr X b Ls xs) {j : Nat} (hj : j < Ls) (hL : Ls < 2 ^ 31) (hd : decode cc pc = .ok (.iaload, 1)) (kk : vV l D X nL tys n1 n2 ws L (pc + 1) (.int (xs j) :: st)) : vV l D X nL tys n1 n2 ws L pc (.int (nI j) :: .ref b :: st) := by
  obtain ⟨⟨p, e, R⟩, ⟨s, m, args, below⟩, meth, c, A, Q⟩ := X
  obtain ⟨hx, hb, hml, ho, hts, hA, hR⟩ := hC
  obtain ⟨h1, h2, h3⟩ := hX
  refine fun H locs ls hK hP hD hS hl' => va_sld hx hb h1 h2 h3 hS (vp_in_nI hj hL) hd ?_
  rw [nI_clamp (Nat.lt_trans hj hL)]
  exact kk H locs ls hK hP hD hS hl'
theorem v_slen (hC : vC l D X nL cc own R) (hX : vScr X b Ls xs) (hd : decode cc pc = .ok (.arraylength, 1)) (kk : vV l D X nL tys n1 n2 ws L (pc + 1) (.int (nI Ls) :: st)) : vV l D X nL tys n1 n2 ws L pc (.ref b :: st) := by
  obtain ⟨⟨p, e, R⟩, ⟨s, m, args, below⟩, meth, c, A, Q⟩ := X
  obtain ⟨hx, hb, hml, ho, hts, hA, hR⟩ := hC
  obtain ⟨h1, h2, h3⟩ := hX
  exact fun H locs ls hK hP hD hS hl' => va_slen hx hb h1 h2 h3 hS hd (kk H locs ls hK hP hD hS hl')
theorem v_tabOut (hC : vC l D X nL cc own R) {dflt lo hi : Int} {offs : Array Int} {len : Nat} {x : Int32} {tgt : Nat} (hd : decode cc pc = .ok (.tableswitch dflt lo hi offs, len)) (h : x.toInt < lo ∨ hi < x.toInt) (ht : (pc : Int) + dflt = (tgt : Int)) (kk : vV l D X nL tys n1 n2 ws L tgt st) : vV l D X nL tys n1 n2 ws L pc (.int x :: st) := by
  obtain ⟨⟨p, e, R⟩, ⟨s, m, args, below⟩, meth, c, A, Q⟩ := X
  obtain ⟨hx, hb, hml, ho, hts, hA, hR⟩ := hC
  exact fun H locs ls hK hP hD hS hl' => lv_tableOut hx hb hd h ht (kk H locs ls hK hP hD hS hl')
theorem v_tabIn (hC : vC l D X nL cc own R) {dflt lo hi : Int} {offs : Array Int} {len : Nat} {x : Int32} {off : Int} {tgt : Nat} (hd : decode cc pc = .ok (.tableswitch dflt lo hi offs, len)) (h1 : ¬ x.toInt < lo) (h2 : ¬ hi < x.toInt) (ho : offs[(x.toInt - lo).toNat]? = some off) (ht : (pc : Int) + off = (tgt : Int)) (kk : vV l D X nL tys n1 n2 ws L tgt st) : vV l D X nL tys n1 n2 ws L pc (.int x :: st) := by
  obtain ⟨⟨p, e, R⟩, ⟨s, m, args, below⟩, meth, c, A, Q⟩ := X
  obtain ⟨hx, hb, hml, ho', hts, hA, hR⟩ := hC
  exact fun H locs ls hK hP hD hS hl' => lv_tableIn hx hb hd h1 h2 ho ht (kk H locs ls hK hP hD hS hl')
/-- a call whose object is the first part of the world -/
theorem v_calliL {post : Int32 → va_W → Prop} (hC : vC l D X nL cc own R) (hM : vMi l D y cc' nL' ty fr lo tysC w1 (.ref b :: As') post) (hG : vCall own idx C y cc' nL' (some ty) n) (hR : fr + 1 ≤ R.frames ∧ 8 + (nL' + 11) + lo ≤ R.locals) (isT : List Nat) (hT : isT.filterMap (fun i => tys[i]?) = tysC) (hc : vCl[ci]? = some q) (hqC : q.1 = C) (he : w1[0]? = some (b, .inr (ci, fs))) (hn : As'.length = n) (hst : st0 = As'.reverse ++ .ref b :: st) (hW : (st.map fun v => v.category).sum ≤ 8) (hd : decode cc pc = .ok (.invokevirtual idx, 3)) (hf : n1 ≤ R.cells ∧ n2 ≤ R.slots) (kk : ∀ (r : Int32) (u : va_W), post r u → vV l D X nL tys n1 n2 (w2 ++ u) L (pc + 3) (.int r :: st)) : vV l D X nL tys n1 n2 (w1 ++ w2) L pc st0 :=
  v_calliG (wc := w1) (wr := w2) (q0 := 0) hC hM hG.1 hG.2 hR isT (List.range w1.length) ((List.range w2.length).map (fun i => w1.length + i)) hT (v_ml w1 w2) (v_mr w1 w2) (v_ndl w1) (v_ndr w1 w2) (fun i hi h2 => by
    obtain ⟨j, -, rfl⟩ := List.mem_map.mp hi
    have := List.mem_range.mp h2
    omega) hc hqC he hn hst hW hd kk hf
set_option maxHeartbeats 1000000 in
/-- a constructor's call: the new object is the last part of the world -/
theorem v_callnR {post : va_W → List (ClassId × FieldType) → Prop} (hC : vC l D X nL cc own R) (hM : vMn l D y cc' nL' fr lo mc ms w2 (.ref b :: As') post) (hq : Cond.code y cc' nL' none ∈ lw_all) (hini : Cond.initialized y.cls ∈ lw_all) (hlk : Cond.methodLink own idx y ∈ lw_all) (hin : Cond.instanceMethod y ∈ lw_all) (hy1 : y.name = "<init>") (hdd : y.cls ≠ "java/lang/invoke/MethodHandle" ∧ y.cls ≠ "java/lang/invoke/VarHandle" ∧ (parseMethodDescriptor y.desc).map (fun d => d.parameters.length) = some n) (hR : fr + 1 ≤ R.frames ∧ 8 + (nL' + 11) + lo ≤ R.locals) (hn : As'.length = n) (hst : st0 = As'.reverse ++ .ref b :: st) (hW : (st.map fun v => v.category).sum ≤ 8) (hd : decode cc pc = .ok (.invokespecial idx, 3)) (hf : n1 + mc ≤ R.cells ∧ n2 + ms ≤ R.slots) (kk : ∀ (u : va_W) (tys' : List (ClassId × FieldType)), post u tys' → vV l D X nL (tys ++ tys') (n1 + mc) (n2 + ms) (w1 ++ u) L (pc + 3) st) : vV l D X nL tys n1 n2 (w1 ++ w2) L pc st0 := by
  obtain ⟨⟨p, e, R'⟩, ⟨s, m, args, below⟩, meth, c, A, Q⟩ := X
  obtain ⟨hx, hb, hml, ho, hts, hA, hR'⟩ := hC
  subst hR'
  subst hst
  intro H locs ls hK hP hD hS hl
  have hCC := v_mr w1 w2
  have hPc := hP.sub _ (v_fm hCC)
  have hDc := hD.sub _ (v_ndr w1 w2) hCC
  have hKc : va_K D vCl [] s := hK.sub [] rfl
  have hFc := va_free (wc := w2) hD hS hA _ hCC
  refine va_callv (va_runI (As := As') (rest := st) ⟨hx, hb, hml, ho, hts⟩ (hM H.size) (cwI n hts (lw_meth hq) rfl rfl rfl (hts _ hini) (hts _ hlk) (hts _ hin) hy1 hdd hR) ⟨fun a U g mk q => by obtain ⟨q0, q1, qP, qK, qD⟩ := q; exact ⟨q0, q1, qP, va_K.moved (u := U) (U := U.calling g mk a) (Vm.Alike.refl U.vm) qK, qD⟩, fun U hU hW => ⟨rfl, by rw [hU], by rw [hU]; exact hPc, va_K.moved hW.alike hKc, hDc.weaken (fun _ _ _ _ => trivial)⟩⟩ rfl hn hl.1.1 rfl (lv_room hW) hd hf) hS (fun q _ h => hFc q h) hFc (fun u t H1 locs1 ht hvm hp hB hz1 hk1 hS1 => ?_)
  obtain ⟨hP1, hK1, hD1⟩ := hB
  rw [ht] at hP1
  have hK1 := va_K.moved hvm.symm hK1
  obtain ⟨hP2, hD2⟩ := va_join (wr := w1) (w1 := u.1) hP hD _ (List.range w1.length) hCC (v_ml w1 w2) (v_ndl w1) (fun i hi h2 => by
    obtain ⟨j, -, rfl⟩ := List.mem_map.mp h2
    have := List.mem_range.mp hi
    omega) hk1 hFc hP1 hD1
  exact kk u.1 u.2 hp H1 locs1 ls (hK.app hK1) hP2 hD2 hS1 hl
theorem va_P_nil {cl : List vw_C} {H : Heap} : va_P D cl [] H := fun k q h => by simp at h
theorem va_D_nil {A : Nat → Prop} : va_D A [] := ⟨fun i j p q h => by simp at h, fun k q h => by simp at h⟩
set_option maxHeartbeats 1000000 in
/-- cell(script, k) -/
theorem c_cell {k : Nat} (hk : k < 2 ^ 31) (hL : Ls < 2 ^ 31) (sz : Nat) : Met l yX0_cell (ws_ yX0_cell cX0_cell 2 (some .int)) (vRm 0 0) (va_Pc [.ref b, .int (nI k)] (fun U => U.heap.size = sz ∧ va_X b Ls xs U U.heap ∧ b < sz ∧ va_K D vCl [] U)) (va_Qi (fun (r : Int32) (_ : Unit) => r = if k < Ls then xs k else nI 0) (fun _ _ => True) (fun q => sz ≤ q)) 0 0 (fun q => sz ≤ q) := by
  refine Met.ofW (cc := cX0_cell) (maxL := 2) (ret := some .int) (by decide) rfl ?_
  intro p e s m args below meth c s₁ B hml hv
  obtain ⟨rfl, hsz, hX, hbs, hK⟩ := hv
  have hx := B.exec
  have hb := B.bytes
  have hr := B.returns
  have hts := atoms_spec (ws := ws_ yX0_cell cX0_cell 2 (some .int)) B.pre
  have hts : ∀ w ∈ lw_all, w.before _ s = true := fun w h => hts w (List.mem_cons_of_mem _ h)
  have hown : s.vm.findClass RX0 = some m.cls := findClass_of_methodNamed B.named
  have hlocks := B.notSynchronized
  subst hsz
  have hcat := v_cat (As := [.ref b, .int (nI k)]) rfl
  have hl := lv_entry [.ref b, .int (nI k)] (n := 2) (by rw [lg_sl_len _ hcat]; exact Nat.le_refl 2)
  rw [lv_args_pos _ 0 hcat] at hl
  rw [lg_entry_eq]
  obtain ⟨X, eX⟩ : ∃ X : vX, X = ((p, e, vRm 0 0), (s, m, ([.ref b, .int (nI k)] : List Value).toArray, below), (meth, c, (fun q => s.heap.size ≤ q), MQ below (va_Qi (fun (r : Int32) (_ : Unit) => r = if k < Ls then xs k else nI 0) (fun _ _ => True) (fun q => s.heap.size ≤ q)) ([.ref b, .int (nI k)] : List Value).toArray s 0 0 (fun q => s.heap.size ≤ q))) := ⟨_, rfl⟩
  have hC : vC l D X 2 cX0_cell RX0 (vRm 0 0) := by rw [eX]; exact ⟨hx, hb, hml, hown, hts, fun q h => h, rfl⟩
  have hS : vScr X b Ls xs := by rw [eX]; exact ⟨hX, hbs, Nat.not_le.mpr hbs⟩
  have hret : ∀ (r : Int32) (u : va_W) (L : List Value) (pc : Nat), decode cX0_cell pc = .ok (.ireturn, 1) → (r = if k < Ls then xs k else nI 0) → vV l D X 2 [] 0 0 u L pc [.int r] := by
    intro r u L pc hd hp
    rw [eX]
    exact fun H locs ls hK hP hD hS hl => W.zret hx hb hr rfl (fun t ht hW => ⟨⟨r, (), rfl, hp, trivial⟩, hS.F ht⟩) hS.2.2 hd
  have key : vV l D X 2 [] 0 0 [] [.ref b, .int (nI k)] 0 [] := by
    refine v_iload_n (pc := 0) hC dX0_cell_0 rfl ?_
    refine v_aload_n (pc := 1) hC dX0_cell_1 rfl ?_
    refine v_slen (pc := 2) hC hS dX0_cell_2 ?_
    refine v_icmpN_ge (pc := 3) (tgt := 12) hC dX0_cell_3 (by decide) hk hL (fun c1 => ?_) (fun c1 => ?_)
    · refine v_iconst (pc := 12) (v := nI 0) hC dX0_cell_12 rfl ?_
      exact hret _ _ _ _ dX0_cell_13 (by rw [if_neg (by omega)])
    · refine v_aload_n (pc := 6) hC dX0_cell_6 rfl ?_
      refine v_iload_n (pc := 7) hC dX0_cell_7 rfl ?_
      refine v_sld (pc := 8) hC hS c1 hL dX0_cell_8 ?_
      refine v_goto (pc := 9) (tgt := 13) hC dX0_cell_9 (by decide) ?_
      exact hret _ _ _ _ dX0_cell_13 (by rw [if_pos c1])
  rw [eX] at key
  exact key s.heap [] _ hK va_P_nil va_D_nil va_S.rf ⟨hl, hcat⟩
set_option maxHeartbeats 1000000 in
theorem v_cell (hC : vC l D X nL cc RX0 R) (hX : vScr X b Ls xs) {k : Nat} (hk : k < 2 ^ 31) (hL : Ls < 2 ^ 31) (hR : 0 + 1 ≤ R.frames ∧ 8 + (2 + 11) + 0 ≤ R.locals) (hW : (st.map fun v => v.category).sum ≤ 8) (hd : decode cc pc = .ok (.invokestatic 9, 3)) (hf : n1 ≤ R.cells ∧ n2 ≤ R.slots) (kk : vV l D X nL tys n1 n2 ws L (pc + 3) (.int (if k < Ls then xs k else nI 0) :: st)) : vV l D X nL tys n1 n2 ws L pc (.int (nI k) :: .ref b :: st) := by
  obtain ⟨⟨p, e, R'⟩, ⟨s, m, args, below⟩, meth, c, A, Q⟩ := X
  obtain ⟨hx, hb, hml, ho, hts, hA, hR'⟩ := hC
  obtain ⟨h1, h2, h3⟩ := hX
  subst hR'
  intro H locs ls hK hP hD hS hl
  have hbH : H[b]? = s.heap[b]? := hS.2.1 b h2 h3
  have hXH : va_X b Ls xs s H := va_X.kept h1 hbH
  have hbs : b < H.size := Nat.lt_of_lt_of_le h2 hS.1
  have hKc : va_K D vCl [] s := hK.sub [] rfl
  refine va_calli (A1 := fun q => H.size ≤ q) (va_runS (As := [.ref b, .int (nI k)]) (rest := st) ⟨hx, hb, hml, ho, hts⟩ (c_cell (D := D) (b := b) (Ls := Ls) (xs := xs) (k := k) hk hL H.size) (va_cwS 2 hts (lw_S q220 q221 q27 q222) rfl rfl rfl (by decide +kernel) hR) ⟨fun a U g mk q => by obtain ⟨q0, q1, qX, qb, qK⟩ := q; exact ⟨q0, q1, va_X.moved (u := U) (U := U.calling g mk a) (Vm.Alike.refl U.vm) qX, qb, va_K.moved (u := U) (U := U.calling g mk a) (Vm.Alike.refl U.vm) qK⟩, fun U hU hW => ⟨rfl, by rw [hU], by rw [hU]; exact va_X.moved hW.alike hXH, hbs, va_K.moved hW.alike hKc⟩⟩ rfl rfl hl.1.1 rfl (lv_room hW) hd hf) hS (fun q h4 h5 => absurd h5 (Nat.not_le.mpr h4)) (fun q h => hA q (Nat.le_trans hS.1 h)) (fun r u t H1 locs1 ht hvm hp hB hz1 hk1 hS1 => ?_)
  have hp : r = if k < Ls then xs k else nI 0 := hp
  subst hp
  have hP1 : va_P D vCl ws H1 := hP.kept (fun i q hq => hk1 q.1 (hP i q hq).lt (Nat.not_le.mpr (hP i q hq).lt))
  exact kk H1 locs1 ls hK hP1 hD hS1 hl
end VLaw
end
section
/-! the law's loop -/
set_option maxHeartbeats 8000000 in
theorem law_loop {l : Launch} {D : va_G} {X : vX} {h : Nat → Nat} {d : Nat → ClassId} {g : Nat → Nat} {c : Nat → ClassId} {b Ls : Nat} {xs : Nat → Int32} {n1 n2 : Nat} (hC : vC l D X 4 code RX0 room_1) (hX : vScr X b Ls xs) (hL : Ls ≤ 258) (hf : n1 ≤ 600000 ∧ n2 ≤ 7290000) (hend : ∀ (ws : va_W) (L : List Value) (pc : Nat), decode code pc = .ok (.ireturn, 1) → vV l D X 4 (kT d ++ mT c) n1 n2 ws L pc [.int (nI 1)]) : ∀ (k i : Nat) (wK wM : va_W), Ls < i + 4 * k → i < 1000 → lInv h d g c wK wM → vV l D X 4 (kT d ++ mT c) n1 n2 (wK ++ wM) [.ref b, .ref (h 0), .ref (g 0), .int (nI i)] 38 [] := by
  intro k
  induction k with
  | zero =>
    intro i wK wM hk hi hI
    refine v_iload_n (pc := 38) hC dL_law_38 rfl ?_
    refine v_aload_n (pc := 39) hC dL_law_39 rfl ?_
    refine v_slen (pc := 40) hC hX dL_law_40 ?_
    refine v_iconst (pc := 41) (v := nI 4) hC dL_law_41 rfl ?_
    refine v_isub (pc := 42) hC dL_law_42 ?_
    have hT := pk_sub_toInt (a := Ls) (b := 4) (by omega) (by omega)
    have hTi := nI_toInt (n := i) (by omega)
    refine v_icmp_gt (pc := 43) (tgt := 492) hC dL_law_43 (by decide) (fun c1 => ?_) (fun c1 => ?_)
    · skip
      refine v_iconst (pc := 492) (v := nI 1) hC dL_law_492 rfl ?_
      exact hend _ _ _ dL_law_493
    · exact absurd (Int32.lt_iff_toInt_lt.mpr (by rw [hT, hTi]; omega)) c1
  | succ k ih =>
    intro i wK wM hk hi hI
    have at486 : i + 3 < Ls → ∀ (wK wM : va_W), lInv h d g c wK wM → vV l D X 4 (kT d ++ mT c) n1 n2 (wK ++ wM) [.ref b, .ref (h 0), .ref (g 0), .int (nI i)] 486 [] := by
      intro hi3 wK wM hI
      refine v_iinc (pc := 486) (L' := [_, _, _, _]) (v := nI (i + 4)) hC dL_law_486 rfl (nI_add i 4) (by decide) rfl ?_
      refine v_goto (pc := 489) (tgt := 38) hC dL_law_489 (by decide) ?_
      exact ih (i + 4) wK wM (by omega) (by omega) hI
    refine v_iload_n (pc := 38) hC dL_law_38 rfl ?_
    refine v_aload_n (pc := 39) hC dL_law_39 rfl ?_
    refine v_slen (pc := 40) hC hX dL_law_40 ?_
    refine v_iconst (pc := 41) (v := nI 4) hC dL_law_41 rfl ?_
    refine v_isub (pc := 42) hC dL_law_42 ?_
    have hT := pk_sub_toInt (a := Ls) (b := 4) (by omega) (by omega)
    have hTi := nI_toInt (n := i) (by omega)
    refine v_icmp_gt (pc := 43) (tgt := 492) hC dL_law_43 (by decide) (fun c1 => ?_) (fun c1 => ?_)
    · skip
      refine v_iconst (pc := 492) (v := nI 1) hC dL_law_492 rfl ?_
      exact hend _ _ _ dL_law_493
    · have hi3 : i + 3 < Ls := by
        have : ¬ ((Ls : Int) - (4 : Nat) < i) := fun q => c1 (Int32.lt_iff_toInt_lt.mpr (by rw [hT, hTi]; exact q))
        omega
      replace at486 := at486 hi3
      obtain ⟨F, sch, T, n, E, H, s, hs, hk1, hm1⟩ := hI
      obtain ⟨fsK, hkr⟩ := hk1.recv
      obtain ⟨fsM, hmr⟩ := hm1.recv
      obtain ⟨⟨hF4, hn20⟩, hTo, hEo⟩ := hm1.ok
      refine v_aload_n (pc := 46) hC dL_law_46 rfl ?_
      refine v_iload_n (pc := 47) hC dL_law_47 rfl ?_
      refine v_sld (pc := 48) hC hX (by omega) (by omega) dL_law_48 ?_
      refine v_bipush (pc := 49) (v := nI 15) hC dL_law_49 rfl ?_
      refine v_iand (pc := 51) hC dL_law_51 ?_
      obtain ⟨j, hj, ej⟩ := pk_andE (xs i) (m := nI 15) 4 (by decide)
      refine v_top ej ?_
      rcases (show j = 0 ∨ j = 1 ∨ j = 2 ∨ j = 3 ∨ j = 4 ∨ j = 5 ∨ j = 6 ∨ j = 7 ∨ j = 8 ∨ j = 9 ∨ j = 10 ∨ j = 11 ∨ j = 12 ∨ j = 13 ∨ j = 14 ∨ j = 15 by omega) with rfl | rfl | rfl | rfl | rfl | rfl | rfl | rfl | rfl | rfl | rfl | rfl | rfl | rfl | rfl | rfl
      · refine v_tabIn (pc := 52) (off := 72) (tgt := 124) hC dL_law_52 (by decide) (by decide) (by decide) (by decide) ?_
        refine v_aload_n (pc := 124) hC dL_law_124 rfl ?_
        refine v_aload_n (pc := 125) hC dL_law_125 rfl ?_
        refine v_iload_n (pc := 126) hC dL_law_126 rfl ?_
        refine v_iconst (pc := 127) (v := nI 1) hC dL_law_127 rfl ?_
        first | refine v_iaddN (pc := 128) hC dL_law_128 ?_ | refine v_iadd (pc := 128) hC dL_law_128 ?_
        refine v_sld (pc := 129) hC hX (by omega) (by omega) dL_law_129 ?_
        refine v_calliL (pc := 130) (ci := 0) hC (kA_setNull hk1) lkc_setNull ⟨by decide, by decide⟩ [0, 1, 2, 3, 4, 5, 6, 7, 8, 9] rfl rfl rfl hkr rfl rfl (Nat.le_of_ble_eq_true rfl) dL_law_130 hf (fun r1 u1 hp1 => ?_)
        refine v_aload_n (pc := 133) hC dL_law_133 rfl ?_
        refine v_aload_n (pc := 134) hC dL_law_134 rfl ?_
        refine v_iload_n (pc := 135) hC dL_law_135 rfl ?_
        refine v_iconst (pc := 136) (v := nI 1) hC dL_law_136 rfl ?_
        first | refine v_iaddN (pc := 137) hC dL_law_137 ?_ | refine v_iadd (pc := 137) hC dL_law_137 ?_
        refine v_sld (pc := 138) hC hX (by omega) (by omega) dL_law_138 ?_
        refine v_calliL (pc := 139) (ci := 1) hC (mA_setNull hm1) lmc_setNull ⟨by decide, by decide⟩ [10, 11, 12, 13, 14] rfl rfl rfl hmr rfl rfl (Nat.le_of_ble_eq_true rfl) dL_law_139 hf (fun r2 u2 hp2 => ?_)
        obtain ⟨e1, hk2⟩ := hp1
        obtain ⟨e2, hm2⟩ := hp2
        have eq : r1 = r2 := e1.trans e2.symm
        have inv : lInv h d g c u1 u2 := ⟨F, sch, _, n, E, H, s, hs, hk2, hm2⟩
        refine v_icmp_eq (pc := 142) (tgt := 486) hC dL_law_142 (by decide) (fun ce => ?_) (fun ce => ?_)
        · exact at486 _ _ inv
        · exact absurd eq ce
      · refine v_tabIn (pc := 52) (off := 95) (tgt := 147) hC dL_law_52 (by decide) (by decide) (by decide) (by decide) ?_
        refine v_aload_n (pc := 147) hC dL_law_147 rfl ?_
        refine v_aload_n (pc := 148) hC dL_law_148 rfl ?_
        refine v_iload_n (pc := 149) hC dL_law_149 rfl ?_
        refine v_iconst (pc := 150) (v := nI 1) hC dL_law_150 rfl ?_
        first | refine v_iaddN (pc := 151) hC dL_law_151 ?_ | refine v_iadd (pc := 151) hC dL_law_151 ?_
        refine v_sld (pc := 152) hC hX (by omega) (by omega) dL_law_152 ?_
        refine v_aload_n (pc := 153) hC dL_law_153 rfl ?_
        refine v_iload_n (pc := 154) hC dL_law_154 rfl ?_
        refine v_iconst (pc := 155) (v := nI 2) hC dL_law_155 rfl ?_
        first | refine v_iaddN (pc := 156) hC dL_law_156 ?_ | refine v_iadd (pc := 156) hC dL_law_156 ?_
        refine v_sld (pc := 157) hC hX (by omega) (by omega) dL_law_157 ?_
        refine v_calliL (pc := 158) (ci := 0) hC (kA_setInt hk1) lkc_setInt ⟨by decide, by decide⟩ [0, 1, 2, 3, 4, 5, 6, 7, 8, 9] rfl rfl rfl hkr rfl rfl (Nat.le_of_ble_eq_true rfl) dL_law_158 hf (fun r1 u1 hp1 => ?_)
        refine v_aload_n (pc := 161) hC dL_law_161 rfl ?_
        refine v_aload_n (pc := 162) hC dL_law_162 rfl ?_
        refine v_iload_n (pc := 163) hC dL_law_163 rfl ?_
        refine v_iconst (pc := 164) (v := nI 1) hC dL_law_164 rfl ?_
        first | refine v_iaddN (pc := 165) hC dL_law_165 ?_ | refine v_iadd (pc := 165) hC dL_law_165 ?_
        refine v_sld (pc := 166) hC hX (by omega) (by omega) dL_law_166 ?_
        refine v_aload_n (pc := 167) hC dL_law_167 rfl ?_
        refine v_iload_n (pc := 168) hC dL_law_168 rfl ?_
        refine v_iconst (pc := 169) (v := nI 2) hC dL_law_169 rfl ?_
        first | refine v_iaddN (pc := 170) hC dL_law_170 ?_ | refine v_iadd (pc := 170) hC dL_law_170 ?_
        refine v_sld (pc := 171) hC hX (by omega) (by omega) dL_law_171 ?_
        refine v_calliL (pc := 172) (ci := 1) hC (mA_setInt hm1) lmc_setInt ⟨by decide, by decide⟩ [10, 11, 12, 13, 14] rfl rfl rfl hmr rfl rfl (Nat.le_of_ble_eq_true rfl) dL_law_172 hf (fun r2 u2 hp2 => ?_)
        obtain ⟨e1, hk2⟩ := hp1
        obtain ⟨e2, hm2⟩ := hp2
        have eq : r1 = r2 := e1.trans e2.symm
        have inv : lInv h d g c u1 u2 := ⟨F, sch, _, n, E, H, s, hs, hk2, hm2⟩
        refine v_icmp_eq (pc := 175) (tgt := 486) hC dL_law_175 (by decide) (fun ce => ?_) (fun ce => ?_)
        · exact at486 _ _ inv
        · exact absurd eq ce
      · refine v_tabIn (pc := 52) (off := 128) (tgt := 180) hC dL_law_52 (by decide) (by decide) (by decide) (by decide) ?_
        refine v_aload_n (pc := 180) hC dL_law_180 rfl ?_
        refine v_aload_n (pc := 181) hC dL_law_181 rfl ?_
        refine v_iload_n (pc := 182) hC dL_law_182 rfl ?_
        refine v_iconst (pc := 183) (v := nI 1) hC dL_law_183 rfl ?_
        first | refine v_iaddN (pc := 184) hC dL_law_184 ?_ | refine v_iadd (pc := 184) hC dL_law_184 ?_
        refine v_sld (pc := 185) hC hX (by omega) (by omega) dL_law_185 ?_
        refine v_calliL (pc := 186) (ci := 0) hC (kA_setText hk1) lkc_setText ⟨by decide, by decide⟩ [0, 1, 2, 3, 4, 5, 6, 7, 8, 9] rfl rfl rfl hkr rfl rfl (Nat.le_of_ble_eq_true rfl) dL_law_186 hf (fun r1 u1 hp1 => ?_)
        refine v_aload_n (pc := 189) hC dL_law_189 rfl ?_
        refine v_aload_n (pc := 190) hC dL_law_190 rfl ?_
        refine v_iload_n (pc := 191) hC dL_law_191 rfl ?_
        refine v_iconst (pc := 192) (v := nI 1) hC dL_law_192 rfl ?_
        first | refine v_iaddN (pc := 193) hC dL_law_193 ?_ | refine v_iadd (pc := 193) hC dL_law_193 ?_
        refine v_sld (pc := 194) hC hX (by omega) (by omega) dL_law_194 ?_
        refine v_calliL (pc := 195) (ci := 1) hC (mA_setText hm1) lmc_setText ⟨by decide, by decide⟩ [10, 11, 12, 13, 14] rfl rfl rfl hmr rfl rfl (Nat.le_of_ble_eq_true rfl) dL_law_195 hf (fun r2 u2 hp2 => ?_)
        obtain ⟨e1, hk2⟩ := hp1
        obtain ⟨e2, hm2⟩ := hp2
        have eq : r1 = r2 := e1.trans e2.symm
        have inv : lInv h d g c u1 u2 := ⟨F, sch, _, n, E, H, s, hs, hk2, hm2⟩
        refine v_icmp_eq (pc := 198) (tgt := 486) hC dL_law_198 (by decide) (fun ce => ?_) (fun ce => ?_)
        · exact at486 _ _ inv
        · exact absurd eq ce
      · refine v_tabIn (pc := 52) (off := 151) (tgt := 203) hC dL_law_52 (by decide) (by decide) (by decide) (by decide) ?_
        refine v_aload_n (pc := 203) hC dL_law_203 rfl ?_
        refine v_aload_n (pc := 204) hC dL_law_204 rfl ?_
        refine v_iload_n (pc := 205) hC dL_law_205 rfl ?_
        refine v_iconst (pc := 206) (v := nI 1) hC dL_law_206 rfl ?_
        first | refine v_iaddN (pc := 207) hC dL_law_207 ?_ | refine v_iadd (pc := 207) hC dL_law_207 ?_
        refine v_sld (pc := 208) hC hX (by omega) (by omega) dL_law_208 ?_
        refine v_aload_n (pc := 209) hC dL_law_209 rfl ?_
        refine v_iload_n (pc := 210) hC dL_law_210 rfl ?_
        refine v_iconst (pc := 211) (v := nI 2) hC dL_law_211 rfl ?_
        first | refine v_iaddN (pc := 212) hC dL_law_212 ?_ | refine v_iadd (pc := 212) hC dL_law_212 ?_
        refine v_sld (pc := 213) hC hX (by omega) (by omega) dL_law_213 ?_
        refine v_calliL (pc := 214) (ci := 0) hC (kA_append hk1) lkc_append ⟨by decide, by decide⟩ [0, 1, 2, 3, 4, 5, 6, 7, 8, 9] rfl rfl rfl hkr rfl rfl (Nat.le_of_ble_eq_true rfl) dL_law_214 hf (fun r1 u1 hp1 => ?_)
        refine v_aload_n (pc := 217) hC dL_law_217 rfl ?_
        refine v_aload_n (pc := 218) hC dL_law_218 rfl ?_
        refine v_iload_n (pc := 219) hC dL_law_219 rfl ?_
        refine v_iconst (pc := 220) (v := nI 1) hC dL_law_220 rfl ?_
        first | refine v_iaddN (pc := 221) hC dL_law_221 ?_ | refine v_iadd (pc := 221) hC dL_law_221 ?_
        refine v_sld (pc := 222) hC hX (by omega) (by omega) dL_law_222 ?_
        refine v_aload_n (pc := 223) hC dL_law_223 rfl ?_
        refine v_iload_n (pc := 224) hC dL_law_224 rfl ?_
        refine v_iconst (pc := 225) (v := nI 2) hC dL_law_225 rfl ?_
        first | refine v_iaddN (pc := 226) hC dL_law_226 ?_ | refine v_iadd (pc := 226) hC dL_law_226 ?_
        refine v_sld (pc := 227) hC hX (by omega) (by omega) dL_law_227 ?_
        refine v_calliL (pc := 228) (ci := 1) hC (mA_append hm1) lmc_append ⟨by decide, by decide⟩ [10, 11, 12, 13, 14] rfl rfl rfl hmr rfl rfl (Nat.le_of_ble_eq_true rfl) dL_law_228 hf (fun r2 u2 hp2 => ?_)
        obtain ⟨e1, hk2⟩ := hp1
        obtain ⟨e2, hm2⟩ := hp2
        have eq : r1 = r2 := e1.trans e2.symm
        have inv : lInv h d g c u1 u2 := ⟨F, sch, _, n, E, H, s, hs, hk2, hm2⟩
        refine v_icmp_eq (pc := 231) (tgt := 486) hC dL_law_231 (by decide) (fun ce => ?_) (fun ce => ?_)
        · exact at486 _ _ inv
        · exact absurd eq ce
      · refine v_tabIn (pc := 52) (off := 184) (tgt := 236) hC dL_law_52 (by decide) (by decide) (by decide) (by decide) ?_
        refine v_aload_n (pc := 236) hC dL_law_236 rfl ?_
        refine v_aload_n (pc := 237) hC dL_law_237 rfl ?_
        refine v_iload_n (pc := 238) hC dL_law_238 rfl ?_
        refine v_iconst (pc := 239) (v := nI 1) hC dL_law_239 rfl ?_
        first | refine v_iaddN (pc := 240) hC dL_law_240 ?_ | refine v_iadd (pc := 240) hC dL_law_240 ?_
        refine v_sld (pc := 241) hC hX (by omega) (by omega) dL_law_241 ?_
        refine v_calliL (pc := 242) (ci := 0) hC (kM_add hk1 (q := bnd (eK sch F E) n true false (eR sch T 0 F)) (hs.bnd true false (eR sch T 0 F)).1 (hs.bnd true false (eR sch T 0 F)).2) lkc_add ⟨by decide, by decide⟩ [0, 1, 2, 3, 4, 5, 6, 7, 8, 9] rfl rfl rfl hkr rfl rfl (Nat.le_of_ble_eq_true rfl) dL_law_242 hf (fun r1 u1 hp1 => ?_)
        refine v_aload_n (pc := 245) hC dL_law_245 rfl ?_
        refine v_aload_n (pc := 246) hC dL_law_246 rfl ?_
        refine v_iload_n (pc := 247) hC dL_law_247 rfl ?_
        refine v_iconst (pc := 248) (v := nI 1) hC dL_law_248 rfl ?_
        first | refine v_iaddN (pc := 249) hC dL_law_249 ?_ | refine v_iadd (pc := 249) hC dL_law_249 ?_
        refine v_sld (pc := 250) hC hX (by omega) (by omega) dL_law_250 ?_
        refine v_calliL (pc := 251) (ci := 1) hC (mA_add hm1) lmc_add ⟨by decide, by decide⟩ [10, 11, 12, 13, 14] rfl rfl rfl hmr rfl rfl (Nat.le_of_ble_eq_true rfl) dL_law_251 hf (fun r2 u2 hp2 => ?_)
        have both : r1 = r2 ∧ lInv h d g c u1 u2 := by
          by_cases h20 : n = 20
          · obtain ⟨e1, hk2⟩ := hp1.1 h20
            obtain ⟨e2, hm2⟩ := hp2.1 h20
            exact ⟨e1.trans e2.symm, F, sch, T, n, E, H, s, hs, hk2, hm2⟩
          · obtain ⟨e1, hk2⟩ := hp1.2 (by omega)
            obtain ⟨e2, hm2⟩ := hp2.2 (by omega)
            obtain ⟨a1, a2, a3, a4⟩ := inv_add (T := T) hs H (xs (i + 1))
            exact ⟨by rw [e1, e2, a1], F, sch, T, n + 1, apd E n T, apd H n (xs (i + 1)), _, a2, hk2.congr a3 a4, hm2⟩
        obtain ⟨eq, inv⟩ := both
        refine v_icmp_eq (pc := 254) (tgt := 486) hC dL_law_254 (by decide) (fun ce => ?_) (fun ce => ?_)
        · exact at486 _ _ inv
        · exact absurd eq ce
      · refine v_tabIn (pc := 52) (off := 207) (tgt := 259) hC dL_law_52 (by decide) (by decide) (by decide) (by decide) ?_
        refine v_aload_n (pc := 259) hC dL_law_259 rfl ?_
        refine v_aload_n (pc := 260) hC dL_law_260 rfl ?_
        refine v_iload_n (pc := 261) hC dL_law_261 rfl ?_
        refine v_iconst (pc := 262) (v := nI 1) hC dL_law_262 rfl ?_
        first | refine v_iaddN (pc := 263) hC dL_law_263 ?_ | refine v_iadd (pc := 263) hC dL_law_263 ?_
        refine v_sld (pc := 264) hC hX (by omega) (by omega) dL_law_264 ?_
        refine v_calliL (pc := 265) (ci := 0) hC (kM_remove hk1) lkc_remove ⟨by decide, by decide⟩ [0, 1, 2, 3, 4, 5, 6, 7, 8, 9] rfl rfl rfl hkr rfl rfl (Nat.le_of_ble_eq_true rfl) dL_law_265 hf (fun r1 u1 hp1 => ?_)
        refine v_aload_n (pc := 268) hC dL_law_268 rfl ?_
        refine v_aload_n (pc := 269) hC dL_law_269 rfl ?_
        refine v_iload_n (pc := 270) hC dL_law_270 rfl ?_
        refine v_iconst (pc := 271) (v := nI 1) hC dL_law_271 rfl ?_
        first | refine v_iaddN (pc := 272) hC dL_law_272 ?_ | refine v_iadd (pc := 272) hC dL_law_272 ?_
        refine v_sld (pc := 273) hC hX (by omega) (by omega) dL_law_273 ?_
        refine v_calliL (pc := 274) (ci := 1) hC (mA_remove hm1 hs) lmc_remove ⟨by decide, by decide⟩ [10, 11, 12, 13, 14] rfl rfl rfl hmr rfl rfl (Nat.le_of_ble_eq_true rfl) dL_law_274 hf (fun r2 u2 hp2 => ?_)
        have both : r1 = r2 ∧ lInv h d g c u1 u2 := by
          cases cb : xBad (xs (i + 1)) n with
          | true =>
            obtain ⟨e1, hk2⟩ := hp1.1 cb
            obtain ⟨e2, hm2⟩ := hp2.1 cb
            exact ⟨e1.trans e2.symm, F, sch, T, n, E, H, s, hs, hk2, hm2⟩
          | false =>
            obtain ⟨p0, hp0, ep⟩ := xBad_f (by omega) cb
            obtain ⟨e1, hk2⟩ := hp1.2 p0 hp0 ep
            obtain ⟨e2, hm2⟩ := hp2.2 p0 hp0 ep
            obtain ⟨n, rfl⟩ : ∃ m, n = m + 1 := ⟨n - 1, by omega⟩
            obtain ⟨a1, a2⟩ := inv_remove hs hp0
            exact ⟨e1.trans e2.symm, F, sch, T, n, _, _, _, a1, hk2.congr (fun p hp => by show E (skp (s p0) (rnm (s p0) (s (skp p0 p)))) = E (s (skp p0 p)); rw [a2 p hp]) (fun p hp => by show H (skp (s p0) (rnm (s p0) (s (skp p0 p)))) = H (s (skp p0 p)); rw [a2 p hp]), hm2⟩
        obtain ⟨eq, inv⟩ := both
        refine v_icmp_eq (pc := 277) (tgt := 486) hC dL_law_277 (by decide) (fun ce => ?_) (fun ce => ?_)
        · exact at486 _ _ inv
        · exact absurd eq ce
      · refine v_tabIn (pc := 52) (off := 230) (tgt := 282) hC dL_law_52 (by decide) (by decide) (by decide) (by decide) ?_
        refine v_aload_n (pc := 282) hC dL_law_282 rfl ?_
        refine v_aload_n (pc := 283) hC dL_law_283 rfl ?_
        refine v_iload_n (pc := 284) hC dL_law_284 rfl ?_
        refine v_iconst (pc := 285) (v := nI 1) hC dL_law_285 rfl ?_
        first | refine v_iaddN (pc := 286) hC dL_law_286 ?_ | refine v_iadd (pc := 286) hC dL_law_286 ?_
        refine v_sld (pc := 287) hC hX (by omega) (by omega) dL_law_287 ?_
        refine v_calliL (pc := 288) (ci := 0) hC (kA_load hk1) lkc_load ⟨by decide, by decide⟩ [0, 1, 2, 3, 4, 5, 6, 7, 8, 9] rfl rfl rfl hkr rfl rfl (Nat.le_of_ble_eq_true rfl) dL_law_288 hf (fun r1 u1 hp1 => ?_)
        refine v_aload_n (pc := 291) hC dL_law_291 rfl ?_
        refine v_aload_n (pc := 292) hC dL_law_292 rfl ?_
        refine v_iload_n (pc := 293) hC dL_law_293 rfl ?_
        refine v_iconst (pc := 294) (v := nI 1) hC dL_law_294 rfl ?_
        first | refine v_iaddN (pc := 295) hC dL_law_295 ?_ | refine v_iadd (pc := 295) hC dL_law_295 ?_
        refine v_sld (pc := 296) hC hX (by omega) (by omega) dL_law_296 ?_
        refine v_calliL (pc := 297) (ci := 1) hC (mA_load hm1 hs) lmc_load ⟨by decide, by decide⟩ [10, 11, 12, 13, 14] rfl rfl rfl hmr rfl rfl (Nat.le_of_ble_eq_true rfl) dL_law_297 hf (fun r2 u2 hp2 => ?_)
        have both : r1 = r2 ∧ lInv h d g c u1 u2 := by
          cases cb : xBad (xs (i + 1)) n with
          | true =>
            obtain ⟨e1, hk2⟩ := hp1.1 cb
            obtain ⟨e2, hm2⟩ := hp2.1 cb
            exact ⟨e1.trans e2.symm, F, sch, T, n, E, H, s, hs, hk2, hm2⟩
          | false =>
            obtain ⟨p0, hp0, ep⟩ := xBad_f (by omega) cb
            obtain ⟨e1, hk2⟩ := hp1.2 p0 hp0 ep
            obtain ⟨e2, hm2⟩ := hp2.2 p0 hp0 ep
            exact ⟨e1.trans e2.symm, F, sch, _, n, E, H, s, hs, hk2, hm2⟩
        obtain ⟨eq, inv⟩ := both
        refine v_icmp_eq (pc := 300) (tgt := 486) hC dL_law_300 (by decide) (fun ce => ?_) (fun ce => ?_)
        · exact at486 _ _ inv
        · exact absurd eq ce
      · refine v_tabIn (pc := 52) (off := 253) (tgt := 305) hC dL_law_52 (by decide) (by decide) (by decide) (by decide) ?_
        refine v_aload_n (pc := 305) hC dL_law_305 rfl ?_
        refine v_calliL (pc := 306) (ci := 0) hC (kA_size hk1) lkc_size ⟨by decide, by decide⟩ [0, 1, 2, 3, 4, 5, 6, 7, 8, 9] rfl rfl rfl hkr rfl rfl (Nat.le_of_ble_eq_true rfl) dL_law_306 hf (fun r1 u1 hp1 => ?_)
        refine v_aload_n (pc := 309) hC dL_law_309 rfl ?_
        refine v_calliL (pc := 310) (ci := 1) hC (mA_size hm1) lmc_size ⟨by decide, by decide⟩ [10, 11, 12, 13, 14] rfl rfl rfl hmr rfl rfl (Nat.le_of_ble_eq_true rfl) dL_law_310 hf (fun r2 u2 hp2 => ?_)
        obtain ⟨e1, hk2⟩ := hp1
        obtain ⟨e2, hm2⟩ := hp2
        have eq : r1 = r2 := e1.trans e2.symm
        have inv : lInv h d g c u1 u2 := ⟨F, sch, _, n, E, H, s, hs, hk2, hm2⟩
        refine v_icmp_eq (pc := 313) (tgt := 486) hC dL_law_313 (by decide) (fun ce => ?_) (fun ce => ?_)
        · exact at486 _ _ inv
        · exact absurd eq ce
      · refine v_tabIn (pc := 52) (off := 266) (tgt := 318) hC dL_law_52 (by decide) (by decide) (by decide) (by decide) ?_
        refine v_aload_n (pc := 318) hC dL_law_318 rfl ?_
        refine v_aload_n (pc := 319) hC dL_law_319 rfl ?_
        refine v_iload_n (pc := 320) hC dL_law_320 rfl ?_
        refine v_iconst (pc := 321) (v := nI 1) hC dL_law_321 rfl ?_
        first | refine v_iaddN (pc := 322) hC dL_law_322 ?_ | refine v_iadd (pc := 322) hC dL_law_322 ?_
        refine v_sld (pc := 323) hC hX (by omega) (by omega) dL_law_323 ?_
        refine v_calliL (pc := 324) (ci := 0) hC (kA_tag hk1) lkc_tag ⟨by decide, by decide⟩ [0, 1, 2, 3, 4, 5, 6, 7, 8, 9] rfl rfl rfl hkr rfl rfl (Nat.le_of_ble_eq_true rfl) dL_law_324 hf (fun r1 u1 hp1 => ?_)
        refine v_aload_n (pc := 327) hC dL_law_327 rfl ?_
        refine v_aload_n (pc := 328) hC dL_law_328 rfl ?_
        refine v_iload_n (pc := 329) hC dL_law_329 rfl ?_
        refine v_iconst (pc := 330) (v := nI 1) hC dL_law_330 rfl ?_
        first | refine v_iaddN (pc := 331) hC dL_law_331 ?_ | refine v_iadd (pc := 331) hC dL_law_331 ?_
        refine v_sld (pc := 332) hC hX (by omega) (by omega) dL_law_332 ?_
        refine v_calliL (pc := 333) (ci := 1) hC (mA_tag hm1 hs) lmc_tag ⟨by decide, by decide⟩ [10, 11, 12, 13, 14] rfl rfl rfl hmr rfl rfl (Nat.le_of_ble_eq_true rfl) dL_law_333 hf (fun r2 u2 hp2 => ?_)
        obtain ⟨e1, hk2⟩ := hp1
        obtain ⟨e2, hm2⟩ := hp2
        have eq : r1 = r2 := e1.trans e2.symm
        have inv : lInv h d g c u1 u2 := ⟨F, sch, _, n, E, H, s, hs, hk2, hm2⟩
        refine v_icmp_eq (pc := 336) (tgt := 486) hC dL_law_336 (by decide) (fun ce => ?_) (fun ce => ?_)
        · exact at486 _ _ inv
        · exact absurd eq ce
      · refine v_tabIn (pc := 52) (off := 289) (tgt := 341) hC dL_law_52 (by decide) (by decide) (by decide) (by decide) ?_
        refine v_aload_n (pc := 341) hC dL_law_341 rfl ?_
        refine v_calliL (pc := 342) (ci := 0) hC (kA_below hk1 (q := bnd (eK sch F E) n false false (eR sch T 0 F)) (hs.bnd false false (eR sch T 0 F)).1 (hs.bnd false false (eR sch T 0 F)).2) lkc_below ⟨by decide, by decide⟩ [0, 1, 2, 3, 4, 5, 6, 7, 8, 9] rfl rfl rfl hkr rfl rfl (Nat.le_of_ble_eq_true rfl) dL_law_342 hf (fun r1 u1 hp1 => ?_)
        refine v_aload_n (pc := 345) hC dL_law_345 rfl ?_
        refine v_calliL (pc := 346) (ci := 1) hC (mA_below hm1) lmc_below ⟨by decide, by decide⟩ [10, 11, 12, 13, 14] rfl rfl rfl hmr rfl rfl (Nat.le_of_ble_eq_true rfl) dL_law_346 hf (fun r2 u2 hp2 => ?_)
        obtain ⟨e1, hk2⟩ := hp1
        obtain ⟨e2, hm2⟩ := hp2
        have eq : r1 = r2 := by rw [e1, e2, bnd_below hTo hEo]
        have inv : lInv h d g c u1 u2 := ⟨F, sch, _, n, E, H, s, hs, hk2, hm2⟩
        refine v_icmp_eq (pc := 349) (tgt := 486) hC dL_law_349 (by decide) (fun ce => ?_) (fun ce => ?_)
        · exact at486 _ _ inv
        · exact absurd eq ce
      · refine v_tabIn (pc := 52) (off := 302) (tgt := 354) hC dL_law_52 (by decide) (by decide) (by decide) (by decide) ?_
        have hqm : ∀ m, m ≤ F → xs (i + 1) = nI m → bnd (eK sch F E) n false true (eR sch T 0 (xs (i + 1)).toNatClampNeg) ≤ bnd (eK sch F E) n true true (eR sch T 0 (xs (i + 1)).toNatClampNeg) ∧ bnd (eK sch F E) n true true (eR sch T 0 (xs (i + 1)).toNatClampNeg) ≤ n ∧ (∀ p, p < n → (rgt false (kc true (eR sch (E (s p)) 0 F) (eR sch T 0 m)) = true ↔ p < bnd (eK sch F E) n false true (eR sch T 0 (xs (i + 1)).toNatClampNeg))) ∧ ∀ p, p < n → (rgt true (kc true (eR sch (E (s p)) 0 F) (eR sch T 0 m)) = true ↔ p < bnd (eK sch F E) n true true (eR sch T 0 (xs (i + 1)).toNatClampNeg)) := by
          intro m hm em
          rw [em, nIc (show m < 5 by omega) (by omega)]
          exact ⟨by rw [bnd_match hm hTo hEo]; omega, (hs.bnd true true _).1, (hs.bnd false true _).2, (hs.bnd true true _).2⟩
        refine v_aload_n (pc := 354) hC dL_law_354 rfl ?_
        refine v_aload_n (pc := 355) hC dL_law_355 rfl ?_
        refine v_iload_n (pc := 356) hC dL_law_356 rfl ?_
        refine v_iconst (pc := 357) (v := nI 1) hC dL_law_357 rfl ?_
        first | refine v_iaddN (pc := 358) hC dL_law_358 ?_ | refine v_iadd (pc := 358) hC dL_law_358 ?_
        refine v_sld (pc := 359) hC hX (by omega) (by omega) dL_law_359 ?_
        refine v_calliL (pc := 360) (ci := 0) hC (kA_matching hk1 hqm) lkc_matching ⟨by decide, by decide⟩ [0, 1, 2, 3, 4, 5, 6, 7, 8, 9] rfl rfl rfl hkr rfl rfl (Nat.le_of_ble_eq_true rfl) dL_law_360 hf (fun r1 u1 hp1 => ?_)
        refine v_aload_n (pc := 363) hC dL_law_363 rfl ?_
        refine v_aload_n (pc := 364) hC dL_law_364 rfl ?_
        refine v_iload_n (pc := 365) hC dL_law_365 rfl ?_
        refine v_iconst (pc := 366) (v := nI 1) hC dL_law_366 rfl ?_
        first | refine v_iaddN (pc := 367) hC dL_law_367 ?_ | refine v_iadd (pc := 367) hC dL_law_367 ?_
        refine v_sld (pc := 368) hC hX (by omega) (by omega) dL_law_368 ?_
        refine v_calliL (pc := 369) (ci := 1) hC (mA_matching hm1) lmc_matching ⟨by decide, by decide⟩ [10, 11, 12, 13, 14] rfl rfl rfl hmr rfl rfl (Nat.le_of_ble_eq_true rfl) dL_law_369 hf (fun r2 u2 hp2 => ?_)
        obtain ⟨e1, f1, hk2⟩ := hp1
        obtain ⟨e2, f2, hm2⟩ := hp2
        have eq : r1 = r2 := by
          cases cb : xBad (xs (i + 1)) (F + 1) with
          | true => rw [e1 cb, e2 cb]
          | false =>
            obtain ⟨m, hm, em⟩ := xBad_f (by omega) cb
            rw [f1 m (by omega) em, f2 m (by omega) em, em, nIc hm (by omega), bnd_match (by omega) hTo hEo, Nat.add_sub_cancel_left]
        have inv : lInv h d g c u1 u2 := ⟨F, sch, _, n, E, H, s, hs, hk2, hm2⟩
        refine v_icmp_eq (pc := 372) (tgt := 486) hC dL_law_372 (by decide) (fun ce => ?_) (fun ce => ?_)
        · exact at486 _ _ inv
        · exact absurd eq ce
      · refine v_tabIn (pc := 52) (off := 325) (tgt := 377) hC dL_law_52 (by decide) (by decide) (by decide) (by decide) ?_
        refine v_aload_n (pc := 377) hC dL_law_377 rfl ?_
        refine v_aload_n (pc := 378) hC dL_law_378 rfl ?_
        refine v_iload_n (pc := 379) hC dL_law_379 rfl ?_
        refine v_iconst (pc := 380) (v := nI 1) hC dL_law_380 rfl ?_
        first | refine v_iaddN (pc := 381) hC dL_law_381 ?_ | refine v_iadd (pc := 381) hC dL_law_381 ?_
        refine v_sld (pc := 382) hC hX (by omega) (by omega) dL_law_382 ?_
        refine v_aload_n (pc := 383) hC dL_law_383 rfl ?_
        refine v_iload_n (pc := 384) hC dL_law_384 rfl ?_
        refine v_iconst (pc := 385) (v := nI 2) hC dL_law_385 rfl ?_
        first | refine v_iaddN (pc := 386) hC dL_law_386 ?_ | refine v_iadd (pc := 386) hC dL_law_386 ?_
        refine v_sld (pc := 387) hC hX (by omega) (by omega) dL_law_387 ?_
        refine v_calliL (pc := 388) (ci := 0) hC (kA_intAt hk1) lkc_intAt ⟨by decide, by decide⟩ [0, 1, 2, 3, 4, 5, 6, 7, 8, 9] rfl rfl rfl hkr rfl rfl (Nat.le_of_ble_eq_true rfl) dL_law_388 hf (fun r1 u1 hp1 => ?_)
        refine v_aload_n (pc := 391) hC dL_law_391 rfl ?_
        refine v_aload_n (pc := 392) hC dL_law_392 rfl ?_
        refine v_iload_n (pc := 393) hC dL_law_393 rfl ?_
        refine v_iconst (pc := 394) (v := nI 1) hC dL_law_394 rfl ?_
        first | refine v_iaddN (pc := 395) hC dL_law_395 ?_ | refine v_iadd (pc := 395) hC dL_law_395 ?_
        refine v_sld (pc := 396) hC hX (by omega) (by omega) dL_law_396 ?_
        refine v_aload_n (pc := 397) hC dL_law_397 rfl ?_
        refine v_iload_n (pc := 398) hC dL_law_398 rfl ?_
        refine v_iconst (pc := 399) (v := nI 2) hC dL_law_399 rfl ?_
        first | refine v_iaddN (pc := 400) hC dL_law_400 ?_ | refine v_iadd (pc := 400) hC dL_law_400 ?_
        refine v_sld (pc := 401) hC hX (by omega) (by omega) dL_law_401 ?_
        refine v_calliL (pc := 402) (ci := 1) hC (mA_intAt hm1 hs) lmc_intAt ⟨by decide, by decide⟩ [10, 11, 12, 13, 14] rfl rfl rfl hmr rfl rfl (Nat.le_of_ble_eq_true rfl) dL_law_402 hf (fun r2 u2 hp2 => ?_)
        obtain ⟨e1, hk2⟩ := hp1
        obtain ⟨e2, hm2⟩ := hp2
        have eq : r1 = r2 := e1.trans e2.symm
        have inv : lInv h d g c u1 u2 := ⟨F, sch, _, n, E, H, s, hs, hk2, hm2⟩
        refine v_icmp_eq (pc := 405) (tgt := 486) hC dL_law_405 (by decide) (fun ce => ?_) (fun ce => ?_)
        · exact at486 _ _ inv
        · exact absurd eq ce
      · refine v_tabIn (pc := 52) (off := 358) (tgt := 410) hC dL_law_52 (by decide) (by decide) (by decide) (by decide) ?_
        refine v_aload_n (pc := 410) hC dL_law_410 rfl ?_
        refine v_aload_n (pc := 411) hC dL_law_411 rfl ?_
        refine v_iload_n (pc := 412) hC dL_law_412 rfl ?_
        refine v_iconst (pc := 413) (v := nI 1) hC dL_law_413 rfl ?_
        first | refine v_iaddN (pc := 414) hC dL_law_414 ?_ | refine v_iadd (pc := 414) hC dL_law_414 ?_
        refine v_sld (pc := 415) hC hX (by omega) (by omega) dL_law_415 ?_
        refine v_aload_n (pc := 416) hC dL_law_416 rfl ?_
        refine v_iload_n (pc := 417) hC dL_law_417 rfl ?_
        refine v_iconst (pc := 418) (v := nI 2) hC dL_law_418 rfl ?_
        first | refine v_iaddN (pc := 419) hC dL_law_419 ?_ | refine v_iadd (pc := 419) hC dL_law_419 ?_
        refine v_sld (pc := 420) hC hX (by omega) (by omega) dL_law_420 ?_
        refine v_aload_n (pc := 421) hC dL_law_421 rfl ?_
        refine v_iload_n (pc := 422) hC dL_law_422 rfl ?_
        refine v_iconst (pc := 423) (v := nI 3) hC dL_law_423 rfl ?_
        first | refine v_iaddN (pc := 424) hC dL_law_424 ?_ | refine v_iadd (pc := 424) hC dL_law_424 ?_
        refine v_sld (pc := 425) hC hX (by omega) (by omega) dL_law_425 ?_
        refine v_calliL (pc := 426) (ci := 0) hC (kA_charAt hk1) lkc_charAt ⟨by decide, by decide⟩ [0, 1, 2, 3, 4, 5, 6, 7, 8, 9] rfl rfl rfl hkr rfl rfl (Nat.le_of_ble_eq_true rfl) dL_law_426 hf (fun r1 u1 hp1 => ?_)
        refine v_aload_n (pc := 429) hC dL_law_429 rfl ?_
        refine v_aload_n (pc := 430) hC dL_law_430 rfl ?_
        refine v_iload_n (pc := 431) hC dL_law_431 rfl ?_
        refine v_iconst (pc := 432) (v := nI 1) hC dL_law_432 rfl ?_
        first | refine v_iaddN (pc := 433) hC dL_law_433 ?_ | refine v_iadd (pc := 433) hC dL_law_433 ?_
        refine v_sld (pc := 434) hC hX (by omega) (by omega) dL_law_434 ?_
        refine v_aload_n (pc := 435) hC dL_law_435 rfl ?_
        refine v_iload_n (pc := 436) hC dL_law_436 rfl ?_
        refine v_iconst (pc := 437) (v := nI 2) hC dL_law_437 rfl ?_
        first | refine v_iaddN (pc := 438) hC dL_law_438 ?_ | refine v_iadd (pc := 438) hC dL_law_438 ?_
        refine v_sld (pc := 439) hC hX (by omega) (by omega) dL_law_439 ?_
        refine v_aload_n (pc := 440) hC dL_law_440 rfl ?_
        refine v_iload_n (pc := 441) hC dL_law_441 rfl ?_
        refine v_iconst (pc := 442) (v := nI 3) hC dL_law_442 rfl ?_
        first | refine v_iaddN (pc := 443) hC dL_law_443 ?_ | refine v_iadd (pc := 443) hC dL_law_443 ?_
        refine v_sld (pc := 444) hC hX (by omega) (by omega) dL_law_444 ?_
        refine v_calliL (pc := 445) (ci := 1) hC (mA_charAt hm1 hs) lmc_charAt ⟨by decide, by decide⟩ [10, 11, 12, 13, 14] rfl rfl rfl hmr rfl rfl (Nat.le_of_ble_eq_true rfl) dL_law_445 hf (fun r2 u2 hp2 => ?_)
        obtain ⟨e1, hk2⟩ := hp1
        obtain ⟨e2, hm2⟩ := hp2
        have eq : r1 = r2 := e1.trans e2.symm
        have inv : lInv h d g c u1 u2 := ⟨F, sch, _, n, E, H, s, hs, hk2, hm2⟩
        refine v_icmp_eq (pc := 448) (tgt := 486) hC dL_law_448 (by decide) (fun ce => ?_) (fun ce => ?_)
        · exact at486 _ _ inv
        · exact absurd eq ce
      · refine v_tabIn (pc := 52) (off := 401) (tgt := 453) hC dL_law_52 (by decide) (by decide) (by decide) (by decide) ?_
        refine v_aload_n (pc := 453) hC dL_law_453 rfl ?_
        refine v_aload_n (pc := 454) hC dL_law_454 rfl ?_
        refine v_iload_n (pc := 455) hC dL_law_455 rfl ?_
        refine v_iconst (pc := 456) (v := nI 1) hC dL_law_456 rfl ?_
        first | refine v_iaddN (pc := 457) hC dL_law_457 ?_ | refine v_iadd (pc := 457) hC dL_law_457 ?_
        refine v_sld (pc := 458) hC hX (by omega) (by omega) dL_law_458 ?_
        refine v_aload_n (pc := 459) hC dL_law_459 rfl ?_
        refine v_iload_n (pc := 460) hC dL_law_460 rfl ?_
        refine v_iconst (pc := 461) (v := nI 2) hC dL_law_461 rfl ?_
        first | refine v_iaddN (pc := 462) hC dL_law_462 ?_ | refine v_iadd (pc := 462) hC dL_law_462 ?_
        refine v_sld (pc := 463) hC hX (by omega) (by omega) dL_law_463 ?_
        refine v_calliL (pc := 464) (ci := 0) hC (kA_nullAt hk1) lkc_nullAt ⟨by decide, by decide⟩ [0, 1, 2, 3, 4, 5, 6, 7, 8, 9] rfl rfl rfl hkr rfl rfl (Nat.le_of_ble_eq_true rfl) dL_law_464 hf (fun r1 u1 hp1 => ?_)
        refine v_aload_n (pc := 467) hC dL_law_467 rfl ?_
        refine v_aload_n (pc := 468) hC dL_law_468 rfl ?_
        refine v_iload_n (pc := 469) hC dL_law_469 rfl ?_
        refine v_iconst (pc := 470) (v := nI 1) hC dL_law_470 rfl ?_
        first | refine v_iaddN (pc := 471) hC dL_law_471 ?_ | refine v_iadd (pc := 471) hC dL_law_471 ?_
        refine v_sld (pc := 472) hC hX (by omega) (by omega) dL_law_472 ?_
        refine v_aload_n (pc := 473) hC dL_law_473 rfl ?_
        refine v_iload_n (pc := 474) hC dL_law_474 rfl ?_
        refine v_iconst (pc := 475) (v := nI 2) hC dL_law_475 rfl ?_
        first | refine v_iaddN (pc := 476) hC dL_law_476 ?_ | refine v_iadd (pc := 476) hC dL_law_476 ?_
        refine v_sld (pc := 477) hC hX (by omega) (by omega) dL_law_477 ?_
        refine v_calliL (pc := 478) (ci := 1) hC (mA_nullAt hm1 hs) lmc_nullAt ⟨by decide, by decide⟩ [10, 11, 12, 13, 14] rfl rfl rfl hmr rfl rfl (Nat.le_of_ble_eq_true rfl) dL_law_478 hf (fun r2 u2 hp2 => ?_)
        obtain ⟨e1, hk2⟩ := hp1
        obtain ⟨e2, hm2⟩ := hp2
        have eq : r1 = r2 := e1.trans e2.symm
        have inv : lInv h d g c u1 u2 := ⟨F, sch, _, n, E, H, s, hs, hk2, hm2⟩
        refine v_icmp_eq (pc := 481) (tgt := 486) hC dL_law_481 (by decide) (fun ce => ?_) (fun ce => ?_)
        · exact at486 _ _ inv
        · exact absurd eq ce
      · refine v_tabOut (pc := 52) (tgt := 486) hC dL_law_52 (by decide) (by decide) ?_
        exact at486 _ _ ⟨F, sch, T, n, E, H, s, hs, hk1, hm1⟩
      · refine v_tabOut (pc := 52) (tgt := 486) hC dL_law_52 (by decide) (by decide) ?_
        exact at486 _ _ ⟨F, sch, T, n, E, H, s, hs, hk1, hm1⟩
end
section
theorem kF0_ok : ∀ j, j < 15 → defaultValue (tyX1 j) = vp_V kF0 j := by
  intro j hj
  rcases (show j = 0 ∨ j = 1 ∨ j = 2 ∨ j = 3 ∨ j = 4 ∨ j = 5 ∨ j = 6 ∨ j = 7 ∨ j = 8 ∨ j = 9 ∨ j = 10 ∨ j = 11 ∨ j = 12 ∨ j = 13 ∨ j = 14 by omega) with rfl | rfl | rfl | rfl | rfl | rfl | rfl | rfl | rfl | rfl | rfl | rfl | rfl | rfl | rfl <;> rfl
theorem mF0_ok : ∀ j, j < 8 → defaultValue (tyX2 j) = vp_V mF0 j := by
  intro j hj
  rcases (show j = 0 ∨ j = 1 ∨ j = 2 ∨ j = 3 ∨ j = 4 ∨ j = 5 ∨ j = 6 ∨ j = 7 by omega) with rfl | rfl | rfl | rfl | rfl | rfl | rfl | rfl <;> rfl
set_option maxHeartbeats 4000000 in
/-- from the entry, for every script of at most 258 ints, the law comes to its end with true -/
theorem whole_start {p : Program} {e : Env} {s : State} {m : MethodId} {below : List Frame} {meth : Method} {c : Code} (l : Launch) {b L : Nat} {xs : Nat → Int32} (hL : L ≤ 258) (C0 : lw_At p s m meth c b L xs) : W p l e room_1 s m #[Value.ref b] below meth c s.heap [] 0 0 (lw_Z below #[Value.ref b] s) (entryFrame m ([Value.ref b] : List Value).toArray 4) := by
  obtain ⟨hx, hb, hr, hml, hown, hts0, hXs, hbl, hlocks, hgv⟩ := C0
  obtain ⟨c0, i0, hK0⟩ := u_known (C := RX1) (T := TX1) (N := 15) (n := 15) hts0 (fun w h => lw_all_tbl (in_X1 w h)) (hts0 _ (lw_all_tbl q31))
  obtain ⟨c1, i1, hK1⟩ := u_known (C := RX2) (T := TX2) (N := 8) (n := 8) hts0 (fun w h => lw_all_tbl (in_X2 w h)) (hts0 _ (lw_all_tbl q224))
  obtain ⟨D, eD⟩ : ∃ D : va_G, D = (fun k => if k = 0 then c0 else c1, fun k => if k = 0 then i0 else i1) := ⟨_, rfl⟩
  have hK : va_K D vCl [] s := by
    rw [eD]
    refine ⟨fun k q hq => ?_, fun k q h => by simp at h⟩
    match k, hq with
    | 0, hq => cases hq; exact hK0
    | 1, hq => cases hq; exact hK1
    | k + 2, hq => simp [vCl] at hq
  have hcat := v_cat (As := [Value.ref b]) rfl
  have hl := lv_entry [Value.ref b] (n := 4) (by rw [lg_sl_len _ hcat]; exact Nat.le_of_ble_eq_true rfl)
  rw [lv_args_pos _ 0 hcat] at hl
  rw [lg_entry_eq]
  obtain ⟨X, eX⟩ : ∃ X : vX, X = ((p, e, room_1), (s, m, #[Value.ref b], below), (meth, c, (fun q => s.heap.size ≤ q), lw_Z below #[Value.ref b] s)) := ⟨_, rfl⟩
  have hC : vC l D X 4 code RX0 room_1 := by rw [eX]; exact ⟨hx, hb, hml, hown, fun w h => hts0 w (lw_all_tbl h), fun q h => h, rfl⟩
  have hX : vScr X b L xs := by rw [eX]; exact ⟨hXs, hbl, Nat.not_le.mpr hbl⟩
  have hend : ∀ (tys : List (ClassId × FieldType)) (n1 n2 : Nat), n1 ≤ 600000 → n2 ≤ 7290000 → ∀ (ws : va_W) (L : List Value) (pc : Nat), decode code pc = .ok (.ireturn, 1) → vV l D X 4 tys n1 n2 ws L pc [.int (nI 1)] := by
    intro tys n1 n2 h1 h2 ws L pc hd
    rw [eX]
    exact fun H locs ls hK hP hD hS hl => va_forget (fun q hq => hS.2.2 q hq) (W.widen h1 h2 (lw_ret hx hb hr hlocks hd))
  have key : vV l D X 4 [] 0 0 [] [.ref b] 0 [] := by
    refine v_new (pc := 0) (ci := 0) (fs := kF0) (C := RX1) (T := TX1) (N := 15) hC in_X1 tyX1 tyX1_ok q30 q31 q28 rfl kF0_ok (by decide) (by decide) dL_law_0 (fun a => ?_)
    refine v_dup (pc := 3) hC dL_law_3 rfl ?_
    refine v_aload_n (pc := 4) hC dL_law_4 rfl ?_
    refine v_iconst (pc := 5) (v := nI 0) hC dL_law_5 rfl ?_
    refine v_cell (pc := 6) hC hX (by omega) (by omega) ⟨by decide, by decide⟩ (Nat.le_of_ble_eq_true rfl) dL_law_6 ⟨by decide, by decide⟩ ?_
    refine v_aload_n (pc := 9) hC dL_law_9 rfl ?_
    refine v_iconst (pc := 10) (v := nI 1) hC dL_law_10 rfl ?_
    refine v_cell (pc := 11) hC hX (by omega) (by omega) ⟨by decide, by decide⟩ (Nat.le_of_ble_eq_true rfl) dL_law_11 ⟨by decide, by decide⟩ ?_
    refine v_callnR (pc := 14) (n := 2) (w1 := []) hC (kA_init (U := fun _ _ => none) (G := fun _ => nI 0)) q34 q28 q32 q33 rfl (by decide +kernel) ⟨by decide, by decide⟩ rfl rfl (Nat.le_of_ble_eq_true rfl) dL_law_14 ⟨by decide, by decide⟩ (fun u tys hp => ?_)
    obtain ⟨h, d, ha, htys, hk⟩ := hp
    subst ha
    subst htys
    refine v_astore_n (pc := 17) (L' := [_, _]) hC dL_law_17 (Nat.le_of_ble_eq_true rfl) (by decide) rfl ?_
    refine v_new (pc := 18) (ci := 1) (fs := mF0) (C := RX2) (T := TX2) (N := 8) hC in_X2 tyX2 tyX2_ok q223 q224 q29 rfl mF0_ok (by decide) (by decide) dL_law_18 (fun a => ?_)
    refine v_dup (pc := 21) hC dL_law_21 rfl ?_
    refine v_aload_n (pc := 22) hC dL_law_22 rfl ?_
    refine v_iconst (pc := 23) (v := nI 0) hC dL_law_23 rfl ?_
    refine v_cell (pc := 24) hC hX (by omega) (by omega) ⟨by decide, by decide⟩ (Nat.le_of_ble_eq_true rfl) dL_law_24 ⟨by decide, by decide⟩ ?_
    refine v_aload_n (pc := 27) hC dL_law_27 rfl ?_
    refine v_iconst (pc := 28) (v := nI 1) hC dL_law_28 rfl ?_
    refine v_cell (pc := 29) hC hX (by omega) (by omega) ⟨by decide, by decide⟩ (Nat.le_of_ble_eq_true rfl) dL_law_29 ⟨by decide, by decide⟩ ?_
    refine v_callnR (pc := 32) (n := 2) (w1 := [] ++ u) hC (mA_init (U := fun _ _ => none) (G := fun _ => nI 0)) q227 q29 q225 q226 rfl (by decide +kernel) ⟨by decide, by decide⟩ rfl rfl (Nat.le_of_ble_eq_true rfl) dL_law_32 ⟨by decide, by decide⟩ (fun u2 tys2 hp => ?_)
    obtain ⟨g, cl, ha, htys, hm⟩ := hp
    subst ha
    subst htys
    refine v_astore_n (pc := 35) (L' := [_, _, _]) hC dL_law_35 (Nat.le_of_ble_eq_true rfl) (by decide) rfl ?_
    refine v_iconst (pc := 36) (v := nI 2) hC dL_law_36 rfl ?_
    refine v_istore_n (pc := 37) (L' := [_, _, _, _]) hC dL_law_37 (Nat.le_of_ble_eq_true rfl) (by decide) rfl ?_
    exact law_loop hC hX hL ⟨by decide, by decide⟩ (hend _ _ _ (by decide) (by decide)) 100 2 u u2 (by omega) (by omega) ⟨_, _, _, 0, fun _ _ => none, fun _ => nI 0, id, Sg_0 _ _, hk, hm⟩
  rw [eX] at key
  exact key s.heap [] _ hK va_P_nil va_D_nil va_S.rf ⟨hl, hcat⟩

set_option maxHeartbeats 4000000 in
theorem lw_walk (l : Launch) (b : Addr) (xs : List Int32) : MetFree l x (headSpec (Jvm.Cond.code x code maxLocals ret :: tables_1) room_1) (lw_P b xs) (fun _ _ _ _ _ => True) lw_Q := by
  refine MetFree.of_bodyS (code := code) (maxLocals := maxLocals) (ret := ret) (by decide) ?_ ?_
  · intro args s m h hn
    obtain ⟨meth, c, h1, h2, h3, h4, h5, h6, -, -⟩ := Cond.code_spec hn (atoms_spec (ws := Jvm.Cond.code x code maxLocals ret :: tables_1) h _ List.mem_cons_self)
    exact ⟨meth, c, h1, h2, h3, h4, h5, h6⟩
  · intro p e s m args below meth c s₁ B hml0 hP _
    obtain ⟨rfl, hx, hbd, hgv⟩ := hP
    obtain ⟨scr, harrAt, hlist, hof, hsmall⟩ := hx
    obtain ⟨hcb, hkn, -, -⟩ := State.arrayAt?_spec harrAt
    have hown : s.vm.findClass R_law = some m.cls := findClass_of_methodNamed B.named
    have hts0 : ∀ c ∈ (Jvm.Cond.code x code maxLocals ret :: tables_1), c.before #[Value.ref b] s = true := atoms_spec (ws := Jvm.Cond.code x code maxLocals ret :: tables_1) B.pre
    have hts : ∀ w ∈ lw_tbl, w.before #[Value.ref b] s = true := k2_hts_sels lw_privs (fun w hw => hts0 w (List.mem_cons_of_mem _ hw)) lw_privs_ok
    have hml : c.maxLocals = 4 := B.maxLocals_eq (hts0 _ List.mem_cons_self)
    have X₀ : Stand p l e room_1 s m #[Value.ref b] below meth c s₁ [] 0 0 := Stand.of_body B
    have hh0 : s₁.heap = s.heap := by rw [B.state]; rfl
    have hsz : scr.slots.size = xs.length := by rw [← Array.length_toList, hlist, List.length_map]
    have hval : ∀ j : Nat, j < xs.length → scr.slots[j]? = some (.int (xs.getD j 0)) := fun j hj => by
      rw [← Array.getElem?_toList, hlist]
      simp [hj]
    have hbl : b < s.heap.size := (Array.getElem?_eq_some_iff.mp hcb).1
    have hX : va_X b xs.length (fun j => xs.getD j 0) s s.heap := ⟨scr, hcb, hof, hkn, hsz, hval⟩
    have K : W p l e room_1 s m #[Value.ref b] below meth c s₁.heap [] 0 0 (lw_Z below #[Value.ref b] s) (entryFrame m ([Value.ref b] : List Value).toArray 4) := by
      rw [hh0]
      exact whole_start l hbd ⟨B.exec, B.bytes, B.returns, hml, hown, hts, hX, hbl, B.notSynchronized, hgv⟩
    obtain ⟨t, a1, o, b1, b2, b3⟩ := K s₁ rfl X₀
    exact ⟨t, o, a1, b1, b2, b3⟩
theorem lw_pre_spec {args : Array Value} {s : State} (h : (Jvm.Cond.and given_1 narrow_1).before args s = true) (hr : rest_1_c.before args s = true) : ∃ (b : Addr) (xs : List Int32), lw_P b xs args s := by
  have hs := flat_of_before _ h
  have hq := flat_of_before _ hr
  have hc : (Cond.count 1).before args s = true := hs _ (by decide +kernel)
  have harr : (Cond.arrayOf (.arg 0) .int).before args s = true := hs _ (by decide +kernel)
  have hle : (Cond.le (.length (.arg 0)) (.int 258)).before args s = true := hs _ (by decide +kernel)
  have hlen : (Cond.isInt (.length (.arg 0))).before args s = true := hq _ (by decide +kernel)
  have hall : (Cond.all (.arg 0) (.isInt (.elem (.arg 0) (.index 0)))).before args s = true := hq _ (by decide +kernel)
  obtain ⟨b, xs, hb, hx⟩ := State.ints_of_pre rfl harr hlen hall
  have hsm : xs.length < 2 ^ 31 := hx.choose_spec.2.2.2
  have hev : (Term.length (.arg 0)).eval args s none [] s = some (.int xs.length.toInt32) := hx.length_eval hb
  have hv := Cond.le_ints hev (show (Term.int 258).eval args s none [] s = some (.int 258) from rfl)
  have hd : xs.length.toInt32 ≤ 258 := by
    simpa [Cond.before, Cond.holds, hv] using hle
  have hN : xs.length ≤ 258 := (Int32.ofNat_le_ofNat hsm (by decide)).mp (show Int32.ofNat xs.length ≤ Int32.ofNat 258 from hd)
  exact ⟨b, xs, Cond.one_arg hc (show args[0]? = some (.ref b) from hb), hx, hN, h⟩
theorem lw_comes (l : Launch) : Comes l x (Jvm.Cond.code x code maxLocals ret :: tables_1) room_1 (fun tb e args s => Calls_1 tb e args s ∧ rest_1 tb e args s ∧ Pre_1 tb e args s)
    (fun _ _ args s o t => lw_Q args s o t) := by
  intro p e ha hc hk s m args below hf hfit hheap happ hpre
  obtain ⟨b, xs, hP⟩ := lw_pre_spec hpre.2.2 hpre.2.1
  obtain ⟨k, o, h1, h2, h3, hQ⟩ := lw_walk l b xs p e ha hc hk s m args below hf ((Spec.applies_iff_loose hf).mp happ).1 hP trivial
  exact ⟨k, o, h1, h2, h3, hQ⟩
theorem lw_frame {s t : State} {o : Outcome} {args : Array Value} (h : Framed s o t [] 600000 7290000) :
    Framed s o t (fieldLocs frame_1_writes args s ++ arrayLocs frame_1_arrays args s ++ staticLocs frame_1_statics s) 600000 7290000 := h
theorem lw_limb (L : Cond) (hL : ∀ (args : Array Value) (s t : State), L.after args s (.returned (some (.int 1))) t = true) :
    ArmFor flags0 classFile x code maxLocals ret World_1 tables_1 room_1 Calls_1 rest_1 Pre_1
      (fun tb e a s o t => postC L tb e a s o t ∧ Framed s o t (fieldLocs frame_1_writes a s ++ arrayLocs frame_1_arrays a s ++ staticLocs frame_1_statics s) 600000 7290000) := by
  intro l _ _ _ p e ha hc hk s m args below hf hfit hheap happ hpre
  obtain ⟨k, o, h1, h2, h3, rfl, hF⟩ := lw_comes l p e ha hc hk s m args below hf hfit hheap happ hpre
  exact ⟨k, _, h1, h2, h3, hL args s _, lw_frame hF⟩
theorem i_vc : Claimed_1_1 ∧ Claimed_1_2 := ⟨lw_limb limb_1_1 (fun args s t => by simp [limb_1_1, Cond.after, Cond.holds, Cond.value]), lw_limb limb_1_2 (fun args s t => Cond.after_iff.mpr (by
  first | (rw [show limb_1_2 = Cond.eq .result (.int 1) from rfl, Cond.eq_ints (x := 1) (y := 1) rfl rfl]; simp; done) | (simp [limb_1_2, Cond.value, Term.eval]; done)))⟩
end
