section
-- ===== PART A: goes FIRST, ahead of the names: the tables' words, and 'selects' of the private methods out of them =====
/-- a private method of a class that the tables say can be made, by its rows of tables_1 -/
def lw_okq (q : MethodName × Nat) : Prop := (q.1.cls ≠ "java/lang/invoke/MethodHandle" ∧ q.1.cls ≠ "java/lang/invoke/VarHandle") ∧ Cond.instantiable q.1.cls q.2 ∈ tables_1 ∧ Cond.privateMethod q.1 ∈ tables_1 ∧ Cond.instanceMethod q.1 ∈ tables_1
set_option maxRecDepth 100000
theorem lw_p0 : lw_okq (⟨"RankedObjects", "fillTables", "()V"⟩, 11) := ⟨⟨by decide +kernel, by decide +kernel⟩, List.mem_of_getElem? (i := 4) rfl, List.mem_of_getElem? (i := 12) rfl, List.mem_of_getElem? (i := 13) rfl⟩
theorem lw_p1 : lw_okq (⟨"RankedObjects", "goingOn", "(I)I"⟩, 11) := ⟨⟨by decide +kernel, by decide +kernel⟩, List.mem_of_getElem? (i := 4) rfl, List.mem_of_getElem? (i := 24) rfl, List.mem_of_getElem? (i := 25) rfl⟩
theorem lw_p2 : lw_okq (⟨"RankedObjects", "greatestBefore", "(I)I"⟩, 11) := ⟨⟨by decide +kernel, by decide +kernel⟩, List.mem_of_getElem? (i := 4) rfl, List.mem_of_getElem? (i := 28) rfl, List.mem_of_getElem? (i := 29) rfl⟩
theorem lw_p3 : lw_okq (⟨"RankedObjects", "sumBefore", "(I)I"⟩, 11) := ⟨⟨by decide +kernel, by decide +kernel⟩, List.mem_of_getElem? (i := 4) rfl, List.mem_of_getElem? (i := 32) rfl, List.mem_of_getElem? (i := 33) rfl⟩
theorem lw_p4 : lw_okq (⟨"RankedObjects", "waysToSplit", "(II)I"⟩, 11) := ⟨⟨by decide +kernel, by decide +kernel⟩, List.mem_of_getElem? (i := 4) rfl, List.mem_of_getElem? (i := 36) rfl, List.mem_of_getElem? (i := 37) rfl⟩
theorem lw_p5 : lw_okq (⟨"RankedObjects", "withItem", "(II)I"⟩, 11) := ⟨⟨by decide +kernel, by decide +kernel⟩, List.mem_of_getElem? (i := 4) rfl, List.mem_of_getElem? (i := 44) rfl, List.mem_of_getElem? (i := 45) rfl⟩
theorem lw_p6 : lw_okq (⟨"RankedObjects", "mayCome", "(II)Z"⟩, 11) := ⟨⟨by decide +kernel, by decide +kernel⟩, List.mem_of_getElem? (i := 4) rfl, List.mem_of_getElem? (i := 48) rfl, List.mem_of_getElem? (i := 49) rfl⟩
theorem lw_p7 : lw_okq (⟨"RankedObjects", "usedBefore", "(I)I"⟩, 11) := ⟨⟨by decide +kernel, by decide +kernel⟩, List.mem_of_getElem? (i := 4) rfl, List.mem_of_getElem? (i := 52) rfl, List.mem_of_getElem? (i := 53) rfl⟩
theorem lw_p8 : lw_okq (⟨"RankedObjects", "smallestAt", "(I)I"⟩, 11) := ⟨⟨by decide +kernel, by decide +kernel⟩, List.mem_of_getElem? (i := 4) rfl, List.mem_of_getElem? (i := 107) rfl, List.mem_of_getElem? (i := 108) rfl⟩
theorem lw_p9 : lw_okq (⟨"RankedObjects", "greatestAt", "(I)I"⟩, 11) := ⟨⟨by decide +kernel, by decide +kernel⟩, List.mem_of_getElem? (i := 4) rfl, List.mem_of_getElem? (i := 115) rfl, List.mem_of_getElem? (i := 116) rfl⟩
theorem lw_p10 : lw_okq (⟨"RankedObjects", "rankUpTo", "(I)I"⟩, 11) := ⟨⟨by decide +kernel, by decide +kernel⟩, List.mem_of_getElem? (i := 4) rfl, List.mem_of_getElem? (i := 123) rfl, List.mem_of_getElem? (i := 124) rfl⟩
theorem lw_p11 : lw_okq (⟨"RankedObjectsModel", "write", "()V"⟩, 7) := ⟨⟨by decide +kernel, by decide +kernel⟩, List.mem_of_getElem? (i := 139) rfl, List.mem_of_getElem? (i := 145) rfl, List.mem_of_getElem? (i := 146) rfl⟩
theorem lw_p12 : lw_okq (⟨"RankedObjectsModel", "length", "()I"⟩, 7) := ⟨⟨by decide +kernel, by decide +kernel⟩, List.mem_of_getElem? (i := 139) rfl, List.mem_of_getElem? (i := 149) rfl, List.mem_of_getElem? (i := 150) rfl⟩
theorem lw_p13 : lw_okq (⟨"RankedObjectsModel", "goesOn", "(JII)Z"⟩, 7) := ⟨⟨by decide +kernel, by decide +kernel⟩, List.mem_of_getElem? (i := 139) rfl, List.mem_of_getElem? (i := 153) rfl, List.mem_of_getElem? (i := 154) rfl⟩
theorem lw_p14 : lw_okq (⟨"RankedObjectsModel", "digit", "(JI)I"⟩, 7) := ⟨⟨by decide +kernel, by decide +kernel⟩, List.mem_of_getElem? (i := 139) rfl, List.mem_of_getElem? (i := 198) rfl, List.mem_of_getElem? (i := 199) rfl⟩
theorem lw_p15 : lw_okq (⟨"RankedObjectsModel", "alike", "(II)Z"⟩, 7) := ⟨⟨by decide +kernel, by decide +kernel⟩, List.mem_of_getElem? (i := 139) rfl, List.mem_of_getElem? (i := 218) rfl, List.mem_of_getElem? (i := 219) rfl⟩
def lw_privs_1 : List (MethodName × Nat) := [(⟨"RankedObjects", "fillTables", "()V"⟩, 11), (⟨"RankedObjects", "goingOn", "(I)I"⟩, 11), (⟨"RankedObjects", "greatestBefore", "(I)I"⟩, 11), (⟨"RankedObjects", "sumBefore", "(I)I"⟩, 11), (⟨"RankedObjects", "waysToSplit", "(II)I"⟩, 11), (⟨"RankedObjects", "withItem", "(II)I"⟩, 11), (⟨"RankedObjects", "mayCome", "(II)Z"⟩, 11), (⟨"RankedObjects", "usedBefore", "(I)I"⟩, 11), (⟨"RankedObjects", "smallestAt", "(I)I"⟩, 11), (⟨"RankedObjects", "greatestAt", "(I)I"⟩, 11), (⟨"RankedObjects", "rankUpTo", "(I)I"⟩, 11), (⟨"RankedObjectsModel", "write", "()V"⟩, 7), (⟨"RankedObjectsModel", "length", "()I"⟩, 7), (⟨"RankedObjectsModel", "goesOn", "(JII)Z"⟩, 7), (⟨"RankedObjectsModel", "digit", "(JI)I"⟩, 7), (⟨"RankedObjectsModel", "alike", "(II)Z"⟩, 7)]
theorem lw_r1 : ∀ q ∈ lw_privs_1, lw_okq q := List.forall_mem_cons.mpr ⟨lw_p0, List.forall_mem_cons.mpr ⟨lw_p1, List.forall_mem_cons.mpr ⟨lw_p2, List.forall_mem_cons.mpr ⟨lw_p3, List.forall_mem_cons.mpr ⟨lw_p4, List.forall_mem_cons.mpr ⟨lw_p5, List.forall_mem_cons.mpr ⟨lw_p6, List.forall_mem_cons.mpr ⟨lw_p7, List.forall_mem_cons.mpr ⟨lw_p8, List.forall_mem_cons.mpr ⟨lw_p9, List.forall_mem_cons.mpr ⟨lw_p10, List.forall_mem_cons.mpr ⟨lw_p11, List.forall_mem_cons.mpr ⟨lw_p12, List.forall_mem_cons.mpr ⟨lw_p13, List.forall_mem_cons.mpr ⟨lw_p14, List.forall_mem_cons.mpr ⟨lw_p15, fun _ h => absurd h List.not_mem_nil⟩⟩⟩⟩⟩⟩⟩⟩⟩⟩⟩⟩⟩⟩⟩⟩
def lw_privs : List (MethodName × Nat) := lw_privs_1
def lw_tbl : List Cond := k2_sels lw_privs ++ tables_1
theorem lw_privs_ok : ∀ q ∈ lw_privs, lw_okq q := lw_r1
-- ===== ONE list of words for every method: the tables' words that hold all through a run =====
def lw_all : List Cond := lw_tbl.filter goodWord
/-- a word of the tables by its place: claim/WORDS.tsv -/
theorem lw_w {w : Cond} (i : Nat) (h : lw_tbl[i]? = some w) (g : goodWord w = true) : w ∈ lw_all := List.mem_filter.mpr ⟨List.mem_of_getElem? h, g⟩
theorem lw_all_tbl {w : Cond} (h : w ∈ lw_all) : w ∈ lw_tbl := (List.mem_filter.mp h).1
theorem lw_self : GoodIn lw_all lw_all := fun w h => ⟨h, good_of_word (List.mem_filter.mp h).2⟩
/-- a class's field words, by their places -/
theorem lw_in (ws : List Cond) (ps : List Nat) (hp : ws = ps.filterMap (fun i => lw_tbl[i]?)) (hg : ws.all goodWord = true) : ∀ w ∈ ws, w ∈ lw_all := by
  intro w h
  have h1 := List.all_eq_true.mp hg w h
  rw [hp] at h
  obtain ⟨i, -, hi⟩ := List.mem_filterMap.mp h
  exact lw_w i hi h1
/-- the words of a contract for the method y with code b, L locals, answer r -/
abbrev ws_ (y : MethodName) (b : ByteArray) (L : Nat) (r : Option FieldType) : List Cond := Cond.code y b L r :: lw_all
theorem lw_meth {y : MethodName} {b : ByteArray} {L : Nat} {r : Option FieldType} (h : Cond.code y b L r ∈ lw_all) : GoodIn lw_all (ws_ y b L r) := by
  intro w hw
  rcases List.mem_cons.mp hw with e | e
  · rw [e]
    exact lw_self _ h
  · exact lw_self _ e
theorem lw_app {a c : List Cond} (ha : ∀ w ∈ a, w ∈ lw_all) (hc : GoodIn lw_all c) : GoodIn lw_all (a ++ c) := by
  intro w hw
  rcases List.mem_append.mp hw with e | e
  · exact lw_self w (ha w e)
  · exact hc w e
/-- what a call through an object asks: cwV n hts (lw_V ..) -/
theorem lw_V {own : String} {idx : Nat} {C : String} {y : MethodName} {b : ByteArray} {L : Nat} {r : Option FieldType} (h1 : Cond.methodLink own idx y ∈ lw_all) (h2 : Cond.instanceMethod y ∈ lw_all) (h3 : Cond.selects C y y ∈ lw_all) (h4 : Cond.initialized C ∈ lw_all) (h5 : Cond.code y b L r ∈ lw_all) : GoodIn lw_all (wsV own idx C y (ws_ y b L r)) := by
  refine lw_app ?_ (lw_meth h5)
  intro w hw
  simp only [List.mem_cons, List.not_mem_nil, or_false] at hw
  rcases hw with e | e | e | e
  · rw [e]; exact h1
  · rw [e]; exact h2
  · rw [e]; exact h3
  · rw [e]; exact h4
/-- what a static call asks: va_cwS n hts (lw_S ..) -/
theorem lw_S {own : String} {idx : Nat} {y : MethodName} {b : ByteArray} {L : Nat} {r : Option FieldType} (h1 : Cond.methodLink own idx y ∈ lw_all) (h2 : Cond.static y ∈ lw_all) (h3 : Cond.initialized y.cls ∈ lw_all) (h4 : Cond.code y b L r ∈ lw_all) : GoodIn lw_all (va_wsS own idx y (ws_ y b L r)) := by
  refine lw_app ?_ (lw_meth h4)
  intro w hw
  simp only [List.mem_cons, List.not_mem_nil, or_false] at hw
  rcases hw with e | e | e
  · rw [e]; exact h1
  · rw [e]; exact h2
  · rw [e]; exact h3
/-- the words of a contract for a method WITH HANDLERS (hh: its table) -/
abbrev wsW_ (y : MethodName) (b : ByteArray) (L : Nat) (r : Option FieldType) (hh : List (Nat × Nat × Nat × Nat)) : List Cond := Cond.codeWith y b L r hh :: lw_all
theorem lw_methW {y : MethodName} {b : ByteArray} {L : Nat} {r : Option FieldType} {hh : List (Nat × Nat × Nat × Nat)} (h : Cond.codeWith y b L r hh ∈ lw_all) : GoodIn lw_all (wsW_ y b L r hh) := by
  intro w hw
  rcases List.mem_cons.mp hw with e | e
  · rw [e]
    exact lw_self _ h
  · exact lw_self _ e
/-- any list of words by their places (lw_in), good -/
theorem lw_good {ws : List Cond} (h : ∀ w ∈ ws, w ∈ lw_all) : GoodIn lw_all ws := fun w hw => lw_self w (h w hw)
/-- what a call of a method with handlers asks: vx_cwVW n hts (lw_VW ..), vx_cwSW n hts (lw_SW ..) -/
theorem lw_VW {own : String} {idx : Nat} {C : String} {y : MethodName} {b : ByteArray} {L : Nat} {r : Option FieldType} {hh : List (Nat × Nat × Nat × Nat)} (h1 : Cond.methodLink own idx y ∈ lw_all) (h2 : Cond.instanceMethod y ∈ lw_all) (h3 : Cond.selects C y y ∈ lw_all) (h4 : Cond.initialized C ∈ lw_all) (h5 : Cond.codeWith y b L r hh ∈ lw_all) : GoodIn lw_all (wsV own idx C y (wsW_ y b L r hh)) := by
  refine lw_app ?_ (lw_methW h5)
  intro w hw
  simp only [List.mem_cons, List.not_mem_nil, or_false] at hw
  rcases hw with e | e | e | e
  · rw [e]; exact h1
  · rw [e]; exact h2
  · rw [e]; exact h3
  · rw [e]; exact h4
theorem lw_SW {own : String} {idx : Nat} {y : MethodName} {b : ByteArray} {L : Nat} {r : Option FieldType} {hh : List (Nat × Nat × Nat × Nat)} (h1 : Cond.methodLink own idx y ∈ lw_all) (h2 : Cond.static y ∈ lw_all) (h3 : Cond.initialized y.cls ∈ lw_all) (h4 : Cond.codeWith y b L r hh ∈ lw_all) : GoodIn lw_all (va_wsS own idx y (wsW_ y b L r hh)) := by
  refine lw_app ?_ (lw_methW h4)
  intro w hw
  simp only [List.mem_cons, List.not_mem_nil, or_false] at hw
  rcases hw with e | e | e
  · rw [e]; exact h1
  · rw [e]; exact h2
  · rw [e]; exact h3
/-- a word by its place in its run of the tables -/
theorem lw_at {r : List Cond} (hr : ∀ w ∈ r, w ∈ lw_tbl) {w : Cond} (i : Nat) (h : r[i]? = some w) : w ∈ lw_tbl := hr w (List.mem_of_getElem? h)
theorem lw_g {w : Cond} (h : w ∈ lw_tbl) (g : goodWord w = true) : w ∈ lw_all := List.mem_filter.mpr ⟨h, g⟩
theorem lw_ms : ∀ w ∈ k2_sels lw_privs, w ∈ lw_tbl := fun w h => show w ∈ k2_sels lw_privs ++ tables_1 from List.mem_append_left _ h
theorem lw_m0 : ∀ w ∈ tables_1, w ∈ lw_tbl := fun w h => show w ∈ k2_sels lw_privs ++ tables_1 from List.mem_append_right (k2_sels lw_privs) h
theorem qs0 : (Cond.selects "RankedObjects" ⟨"RankedObjects", "fillTables", "()V"⟩ ⟨"RankedObjects", "fillTables", "()V"⟩) ∈ lw_all := lw_g (lw_at lw_ms 0 rfl) rfl
theorem qs1 : (Cond.selects "RankedObjects" ⟨"RankedObjects", "goingOn", "(I)I"⟩ ⟨"RankedObjects", "goingOn", "(I)I"⟩) ∈ lw_all := lw_g (lw_at lw_ms 1 rfl) rfl
theorem qs2 : (Cond.selects "RankedObjects" ⟨"RankedObjects", "greatestBefore", "(I)I"⟩ ⟨"RankedObjects", "greatestBefore", "(I)I"⟩) ∈ lw_all := lw_g (lw_at lw_ms 2 rfl) rfl
theorem qs3 : (Cond.selects "RankedObjects" ⟨"RankedObjects", "sumBefore", "(I)I"⟩ ⟨"RankedObjects", "sumBefore", "(I)I"⟩) ∈ lw_all := lw_g (lw_at lw_ms 3 rfl) rfl
theorem qs4 : (Cond.selects "RankedObjects" ⟨"RankedObjects", "waysToSplit", "(II)I"⟩ ⟨"RankedObjects", "waysToSplit", "(II)I"⟩) ∈ lw_all := lw_g (lw_at lw_ms 4 rfl) rfl
theorem qs5 : (Cond.selects "RankedObjects" ⟨"RankedObjects", "withItem", "(II)I"⟩ ⟨"RankedObjects", "withItem", "(II)I"⟩) ∈ lw_all := lw_g (lw_at lw_ms 5 rfl) rfl
theorem qs6 : (Cond.selects "RankedObjects" ⟨"RankedObjects", "mayCome", "(II)Z"⟩ ⟨"RankedObjects", "mayCome", "(II)Z"⟩) ∈ lw_all := lw_g (lw_at lw_ms 6 rfl) rfl
theorem qs7 : (Cond.selects "RankedObjects" ⟨"RankedObjects", "usedBefore", "(I)I"⟩ ⟨"RankedObjects", "usedBefore", "(I)I"⟩) ∈ lw_all := lw_g (lw_at lw_ms 7 rfl) rfl
theorem qs8 : (Cond.selects "RankedObjects" ⟨"RankedObjects", "smallestAt", "(I)I"⟩ ⟨"RankedObjects", "smallestAt", "(I)I"⟩) ∈ lw_all := lw_g (lw_at lw_ms 8 rfl) rfl
theorem qs9 : (Cond.selects "RankedObjects" ⟨"RankedObjects", "greatestAt", "(I)I"⟩ ⟨"RankedObjects", "greatestAt", "(I)I"⟩) ∈ lw_all := lw_g (lw_at lw_ms 9 rfl) rfl
theorem qs10 : (Cond.selects "RankedObjects" ⟨"RankedObjects", "rankUpTo", "(I)I"⟩ ⟨"RankedObjects", "rankUpTo", "(I)I"⟩) ∈ lw_all := lw_g (lw_at lw_ms 10 rfl) rfl
theorem qs11 : (Cond.selects "RankedObjectsModel" ⟨"RankedObjectsModel", "write", "()V"⟩ ⟨"RankedObjectsModel", "write", "()V"⟩) ∈ lw_all := lw_g (lw_at lw_ms 11 rfl) rfl
theorem qs12 : (Cond.selects "RankedObjectsModel" ⟨"RankedObjectsModel", "length", "()I"⟩ ⟨"RankedObjectsModel", "length", "()I"⟩) ∈ lw_all := lw_g (lw_at lw_ms 12 rfl) rfl
theorem qs13 : (Cond.selects "RankedObjectsModel" ⟨"RankedObjectsModel", "goesOn", "(JII)Z"⟩ ⟨"RankedObjectsModel", "goesOn", "(JII)Z"⟩) ∈ lw_all := lw_g (lw_at lw_ms 13 rfl) rfl
theorem qs14 : (Cond.selects "RankedObjectsModel" ⟨"RankedObjectsModel", "digit", "(JI)I"⟩ ⟨"RankedObjectsModel", "digit", "(JI)I"⟩) ∈ lw_all := lw_g (lw_at lw_ms 14 rfl) rfl
theorem qs15 : (Cond.selects "RankedObjectsModel" ⟨"RankedObjectsModel", "alike", "(II)Z"⟩ ⟨"RankedObjectsModel", "alike", "(II)Z"⟩) ∈ lw_all := lw_g (lw_at lw_ms 15 rfl) rfl
end
section
set_option maxRecDepth 100000
/-! RankedObjects -/
def RX0 : String := "RankedObjects"
def TX0 : u_T := fun k => match k with
  | 0 => ("RankedObjects", "sort", "I", false)
  | 1 => ("RankedObjects", "size", "I", false)
  | 2 => ("RankedObjects", "chosen", "I", false)
  | 3 => ("RankedObjects", "length", "I", false)
  | 4 => ("RankedObjects", "current", "I", false)
  | 5 => ("RankedObjects", "items", "[B", true)
  | 6 => ("RankedObjects", "other", "[B", true)
  | 7 => ("RankedObjects", "binomials", "[I", true)
  | 8 => ("RankedObjects", "groupingEnds", "[I", true)
  | 9 => ("RankedObjects", "nestingEnds", "[I", true)
  | _ => ("RankedObjects", "factorials", "[I", true)
def tyX0 : Nat → FieldType := fun k => match k with
  | 0 => .int
  | 1 => .int
  | 2 => .int
  | 3 => .int
  | 4 => .int
  | 5 => .array .byte
  | 6 => .array .byte
  | 7 => .array .int
  | 8 => .array .int
  | 9 => .array .int
  | _ => .array .int
abbrev wsX00 : List Cond := u_ws RX0 TX0 11
theorem nmX0 : ∀ a, a < 11 → ∀ b, b < 11 → a ≠ b → (TX0 a).2.1 ≠ (TX0 b).2.1 := by decide +kernel
theorem tyX0_ok : ∀ k, k < 11 → parseFieldDescriptor (TX0 k).2.2.1 = some (tyX0 k) := by decide +kernel
abbrev cX0_init : ByteArray := prog_1_method_1_code
def yX0_init : MethodName := ⟨RX0, "<init>", "()V"⟩
abbrev cX0_fillTables : ByteArray := prog_1_method_2_code
def yX0_fillTables : MethodName := ⟨RX0, "fillTables", "()V"⟩
abbrev cX0_choose : ByteArray := prog_1_method_3_code
def yX0_choose : MethodName := ⟨RX0, "choose", "(III)Z"⟩
abbrev cX0_count : ByteArray := prog_1_method_4_code
def yX0_count : MethodName := ⟨RX0, "count", "()I"⟩
abbrev cX0_goingOn : ByteArray := prog_1_method_22_code
def yX0_goingOn : MethodName := ⟨RX0, "goingOn", "(I)I"⟩
abbrev cX0_greatestBefore : ByteArray := prog_1_method_20_code
def yX0_greatestBefore : MethodName := ⟨RX0, "greatestBefore", "(I)I"⟩
abbrev cX0_sumBefore : ByteArray := prog_1_method_19_code
def yX0_sumBefore : MethodName := ⟨RX0, "sumBefore", "(I)I"⟩
abbrev cX0_waysToSplit : ByteArray := prog_1_method_23_code
def yX0_waysToSplit : MethodName := ⟨RX0, "waysToSplit", "(II)I"⟩
abbrev cX0_go : ByteArray := prog_1_method_7_code
def yX0_go : MethodName := ⟨RX0, "go", "(I)I"⟩
abbrev cX0_withItem : ByteArray := prog_1_method_17_code
def yX0_withItem : MethodName := ⟨RX0, "withItem", "(II)I"⟩
abbrev cX0_mayCome : ByteArray := prog_1_method_21_code
def yX0_mayCome : MethodName := ⟨RX0, "mayCome", "(II)Z"⟩
abbrev cX0_usedBefore : ByteArray := prog_1_method_18_code
def yX0_usedBefore : MethodName := ⟨RX0, "usedBefore", "(I)I"⟩
abbrev cX0_number : ByteArray := prog_1_method_5_code
def yX0_number : MethodName := ⟨RX0, "number", "()I"⟩
abbrev cX0_item : ByteArray := prog_1_method_6_code
def yX0_item : MethodName := ⟨RX0, "item", "(I)I"⟩
abbrev cX0_next : ByteArray := prog_1_method_8_code
def yX0_next : MethodName := ⟨RX0, "next", "()I"⟩
abbrev cX0_smallestAt : ByteArray := prog_1_method_10_code
def yX0_smallestAt : MethodName := ⟨RX0, "smallestAt", "(I)I"⟩
abbrev cX0_previous : ByteArray := prog_1_method_9_code
def yX0_previous : MethodName := ⟨RX0, "previous", "()I"⟩
abbrev cX0_greatestAt : ByteArray := prog_1_method_11_code
def yX0_greatestAt : MethodName := ⟨RX0, "greatestAt", "(I)I"⟩
abbrev cX0_firstLike : ByteArray := prog_1_method_12_code
def yX0_firstLike : MethodName := ⟨RX0, "firstLike", "(I)I"⟩
abbrev cX0_rankUpTo : ByteArray := prog_1_method_16_code
def yX0_rankUpTo : MethodName := ⟨RX0, "rankUpTo", "(I)I"⟩
abbrev cX0_like : ByteArray := prog_1_method_13_code
def yX0_like : MethodName := ⟨RX0, "like", "(I)I"⟩
abbrev cX0_difference : ByteArray := prog_1_method_14_code
def yX0_difference : MethodName := ⟨RX0, "difference", "(I)I"⟩
abbrev cX0_mirrored : ByteArray := prog_1_method_15_code
def yX0_mirrored : MethodName := ⟨RX0, "mirrored", "()I"⟩
/-! RankedObjectsModel -/
def RX1 : String := "RankedObjectsModel"
def TX1 : u_T := fun k => match k with
  | 0 => ("RankedObjectsModel", "sort", "I", false)
  | 1 => ("RankedObjectsModel", "n", "I", false)
  | 2 => ("RankedObjectsModel", "k", "I", false)
  | 3 => ("RankedObjectsModel", "now", "I", false)
  | 4 => ("RankedObjectsModel", "count", "I", false)
  | 5 => ("RankedObjectsModel", "list", "[J", false)
  | _ => ("RankedObjectsModel", "longer", "[J", false)
def tyX1 : Nat → FieldType := fun k => match k with
  | 0 => .int
  | 1 => .int
  | 2 => .int
  | 3 => .int
  | 4 => .int
  | 5 => .array .long
  | _ => .array .long
abbrev wsX10 : List Cond := u_ws RX1 TX1 7
theorem nmX1 : ∀ a, a < 7 → ∀ b, b < 7 → a ≠ b → (TX1 a).2.1 ≠ (TX1 b).2.1 := by decide +kernel
theorem tyX1_ok : ∀ k, k < 7 → parseFieldDescriptor (TX1 k).2.2.1 = some (tyX1 k) := by decide +kernel
abbrev cX1_init : ByteArray := prog_3_method_1_code
def yX1_init : MethodName := ⟨RX1, "<init>", "()V"⟩
abbrev cX1_write : ByteArray := prog_3_method_5_code
def yX1_write : MethodName := ⟨RX1, "write", "()V"⟩
abbrev cX1_length : ByteArray := prog_3_method_3_code
def yX1_length : MethodName := ⟨RX1, "length", "()I"⟩
abbrev cX1_goesOn : ByteArray := prog_3_method_4_code
def yX1_goesOn : MethodName := ⟨RX1, "goesOn", "(JII)Z"⟩
abbrev cX1_choose : ByteArray := prog_3_method_2_code
def yX1_choose : MethodName := ⟨RX1, "choose", "(III)Z"⟩
abbrev cX1_count : ByteArray := prog_3_method_6_code
def yX1_count : MethodName := ⟨RX1, "count", "()I"⟩
abbrev cX1_number : ByteArray := prog_3_method_7_code
def yX1_number : MethodName := ⟨RX1, "number", "()I"⟩
abbrev cX1_item : ByteArray := prog_3_method_9_code
def yX1_item : MethodName := ⟨RX1, "item", "(I)I"⟩
abbrev cX1_digit : ByteArray := prog_3_method_8_code
def yX1_digit : MethodName := ⟨RX1, "digit", "(JI)I"⟩
abbrev cX1_go : ByteArray := prog_3_method_10_code
def yX1_go : MethodName := ⟨RX1, "go", "(I)I"⟩
abbrev cX1_next : ByteArray := prog_3_method_11_code
def yX1_next : MethodName := ⟨RX1, "next", "()I"⟩
abbrev cX1_previous : ByteArray := prog_3_method_12_code
def yX1_previous : MethodName := ⟨RX1, "previous", "()I"⟩
abbrev cX1_firstLike : ByteArray := prog_3_method_14_code
def yX1_firstLike : MethodName := ⟨RX1, "firstLike", "(I)I"⟩
abbrev cX1_alike : ByteArray := prog_3_method_13_code
def yX1_alike : MethodName := ⟨RX1, "alike", "(II)Z"⟩
abbrev cX1_like : ByteArray := prog_3_method_15_code
def yX1_like : MethodName := ⟨RX1, "like", "(I)I"⟩
abbrev cX1_difference : ByteArray := prog_3_method_16_code
def yX1_difference : MethodName := ⟨RX1, "difference", "(I)I"⟩
abbrev cX1_mirrored : ByteArray := prog_3_method_17_code
def yX1_mirrored : MethodName := ⟨RX1, "mirrored", "()I"⟩
/-! java/lang/Object -/
def RJ0 : String := "java/lang/Object"
abbrev cJ0_init : ByteArray := object_method_1_code
def yJ0_init : MethodName := ⟨RJ0, "<init>", "()V"⟩
theorem dJ0_init_0 : decode cJ0_init 0 = .ok (.return_, 1) := by decide +kernel
abbrev cL_law : ByteArray := code
end
section
set_option maxRecDepth 100000
theorem q17 : (Jvm.Cond.initialized "RankedObjects") ∈ lw_all := lw_g (lw_at lw_m0 1 rfl) rfl
theorem q20 : (Jvm.Cond.instantiable "RankedObjects" (11 : Nat)) ∈ lw_all := lw_g (lw_at lw_m0 4 rfl) rfl
theorem q22 : (Jvm.Cond.instanceMethod ({ cls := "RankedObjects", name := "<init>", desc := "()V" } : Jvm.MethodName)) ∈ lw_all := lw_g (lw_at lw_m0 6 rfl) rfl
theorem q23 : (Jvm.Cond.code ({ cls := "RankedObjects", name := "<init>", desc := "()V" } : Jvm.MethodName) prog_1_method_1_code (1 : Nat) (Option.none : Option Jvm.ClassFile.FieldType)) ∈ lw_all := lw_g (lw_at lw_m0 7 rfl) rfl
theorem q24 : (Jvm.Cond.methodLink "RankedObjects" (1 : Nat) ({ cls := "java/lang/Object", name := "<init>", desc := "()V" } : Jvm.MethodName)) ∈ lw_all := lw_g (lw_at lw_m0 8 rfl) rfl
theorem q27 : (Jvm.Cond.methodLink "RankedObjects" (29 : Nat) ({ cls := "RankedObjects", name := "fillTables", desc := "()V" } : Jvm.MethodName)) ∈ lw_all := lw_g (lw_at lw_m0 11 rfl) rfl
theorem q28 : (Jvm.Cond.privateMethod ({ cls := "RankedObjects", name := "fillTables", desc := "()V" } : Jvm.MethodName)) ∈ lw_tbl := lw_at lw_m0 12 rfl
theorem q29 : (Jvm.Cond.instanceMethod ({ cls := "RankedObjects", name := "fillTables", desc := "()V" } : Jvm.MethodName)) ∈ lw_all := lw_g (lw_at lw_m0 13 rfl) rfl
theorem q30 : (Jvm.Cond.code ({ cls := "RankedObjects", name := "fillTables", desc := "()V" } : Jvm.MethodName) prog_1_method_2_code (4 : Nat) (Option.none : Option Jvm.ClassFile.FieldType)) ∈ lw_all := lw_g (lw_at lw_m0 14 rfl) rfl
theorem q31 : (Jvm.Cond.methodLink "RankedObjects" (32 : Nat) ({ cls := "RankedObjects", name := "choose", desc := "(III)Z" } : Jvm.MethodName)) ∈ lw_all := lw_g (lw_at lw_m0 15 rfl) rfl
theorem q32 : (Jvm.Cond.instanceMethod ({ cls := "RankedObjects", name := "choose", desc := "(III)Z" } : Jvm.MethodName)) ∈ lw_all := lw_g (lw_at lw_m0 16 rfl) rfl
theorem q33 : (Jvm.Cond.selects "RankedObjects" ({ cls := "RankedObjects", name := "choose", desc := "(III)Z" } : Jvm.MethodName) ({ cls := "RankedObjects", name := "choose", desc := "(III)Z" } : Jvm.MethodName)) ∈ lw_all := lw_g (lw_at lw_m0 17 rfl) rfl
theorem q34 : (Jvm.Cond.code ({ cls := "RankedObjects", name := "choose", desc := "(III)Z" } : Jvm.MethodName) prog_1_method_3_code (6 : Nat) (Option.some Jvm.ClassFile.FieldType.boolean)) ∈ lw_all := lw_g (lw_at lw_m0 18 rfl) rfl
theorem q35 : (Jvm.Cond.methodLink "RankedObjects" (52 : Nat) ({ cls := "RankedObjects", name := "count", desc := "()I" } : Jvm.MethodName)) ∈ lw_all := lw_g (lw_at lw_m0 19 rfl) rfl
theorem q36 : (Jvm.Cond.instanceMethod ({ cls := "RankedObjects", name := "count", desc := "()I" } : Jvm.MethodName)) ∈ lw_all := lw_g (lw_at lw_m0 20 rfl) rfl
theorem q37 : (Jvm.Cond.selects "RankedObjects" ({ cls := "RankedObjects", name := "count", desc := "()I" } : Jvm.MethodName) ({ cls := "RankedObjects", name := "count", desc := "()I" } : Jvm.MethodName)) ∈ lw_all := lw_g (lw_at lw_m0 21 rfl) rfl
theorem q38 : (Jvm.Cond.code ({ cls := "RankedObjects", name := "count", desc := "()I" } : Jvm.MethodName) prog_1_method_4_code (1 : Nat) (Option.some Jvm.ClassFile.FieldType.int)) ∈ lw_all := lw_g (lw_at lw_m0 22 rfl) rfl
theorem q39 : (Jvm.Cond.methodLink "RankedObjects" (60 : Nat) ({ cls := "RankedObjects", name := "goingOn", desc := "(I)I" } : Jvm.MethodName)) ∈ lw_all := lw_g (lw_at lw_m0 23 rfl) rfl
theorem q40 : (Jvm.Cond.privateMethod ({ cls := "RankedObjects", name := "goingOn", desc := "(I)I" } : Jvm.MethodName)) ∈ lw_tbl := lw_at lw_m0 24 rfl
theorem q41 : (Jvm.Cond.instanceMethod ({ cls := "RankedObjects", name := "goingOn", desc := "(I)I" } : Jvm.MethodName)) ∈ lw_all := lw_g (lw_at lw_m0 25 rfl) rfl
theorem q42 : (Jvm.Cond.code ({ cls := "RankedObjects", name := "goingOn", desc := "(I)I" } : Jvm.MethodName) prog_1_method_22_code (5 : Nat) (Option.some Jvm.ClassFile.FieldType.int)) ∈ lw_all := lw_g (lw_at lw_m0 26 rfl) rfl
theorem q43 : (Jvm.Cond.methodLink "RankedObjects" (83 : Nat) ({ cls := "RankedObjects", name := "greatestBefore", desc := "(I)I" } : Jvm.MethodName)) ∈ lw_all := lw_g (lw_at lw_m0 27 rfl) rfl
theorem q44 : (Jvm.Cond.privateMethod ({ cls := "RankedObjects", name := "greatestBefore", desc := "(I)I" } : Jvm.MethodName)) ∈ lw_tbl := lw_at lw_m0 28 rfl
theorem q45 : (Jvm.Cond.instanceMethod ({ cls := "RankedObjects", name := "greatestBefore", desc := "(I)I" } : Jvm.MethodName)) ∈ lw_all := lw_g (lw_at lw_m0 29 rfl) rfl
theorem q46 : (Jvm.Cond.code ({ cls := "RankedObjects", name := "greatestBefore", desc := "(I)I" } : Jvm.MethodName) prog_1_method_20_code (4 : Nat) (Option.some Jvm.ClassFile.FieldType.int)) ∈ lw_all := lw_g (lw_at lw_m0 30 rfl) rfl
theorem q47 : (Jvm.Cond.methodLink "RankedObjects" (86 : Nat) ({ cls := "RankedObjects", name := "sumBefore", desc := "(I)I" } : Jvm.MethodName)) ∈ lw_all := lw_g (lw_at lw_m0 31 rfl) rfl
theorem q48 : (Jvm.Cond.privateMethod ({ cls := "RankedObjects", name := "sumBefore", desc := "(I)I" } : Jvm.MethodName)) ∈ lw_tbl := lw_at lw_m0 32 rfl
theorem q49 : (Jvm.Cond.instanceMethod ({ cls := "RankedObjects", name := "sumBefore", desc := "(I)I" } : Jvm.MethodName)) ∈ lw_all := lw_g (lw_at lw_m0 33 rfl) rfl
theorem q50 : (Jvm.Cond.code ({ cls := "RankedObjects", name := "sumBefore", desc := "(I)I" } : Jvm.MethodName) prog_1_method_19_code (4 : Nat) (Option.some Jvm.ClassFile.FieldType.int)) ∈ lw_all := lw_g (lw_at lw_m0 34 rfl) rfl
theorem q51 : (Jvm.Cond.methodLink "RankedObjects" (89 : Nat) ({ cls := "RankedObjects", name := "waysToSplit", desc := "(II)I" } : Jvm.MethodName)) ∈ lw_all := lw_g (lw_at lw_m0 35 rfl) rfl
theorem q52 : (Jvm.Cond.privateMethod ({ cls := "RankedObjects", name := "waysToSplit", desc := "(II)I" } : Jvm.MethodName)) ∈ lw_tbl := lw_at lw_m0 36 rfl
theorem q53 : (Jvm.Cond.instanceMethod ({ cls := "RankedObjects", name := "waysToSplit", desc := "(II)I" } : Jvm.MethodName)) ∈ lw_all := lw_g (lw_at lw_m0 37 rfl) rfl
theorem q54 : (Jvm.Cond.code ({ cls := "RankedObjects", name := "waysToSplit", desc := "(II)I" } : Jvm.MethodName) prog_1_method_23_code (5 : Nat) (Option.some Jvm.ClassFile.FieldType.int)) ∈ lw_all := lw_g (lw_at lw_m0 38 rfl) rfl
theorem q55 : (Jvm.Cond.methodLink "RankedObjects" (56 : Nat) ({ cls := "RankedObjects", name := "go", desc := "(I)I" } : Jvm.MethodName)) ∈ lw_all := lw_g (lw_at lw_m0 39 rfl) rfl
theorem q56 : (Jvm.Cond.instanceMethod ({ cls := "RankedObjects", name := "go", desc := "(I)I" } : Jvm.MethodName)) ∈ lw_all := lw_g (lw_at lw_m0 40 rfl) rfl
theorem q57 : (Jvm.Cond.selects "RankedObjects" ({ cls := "RankedObjects", name := "go", desc := "(I)I" } : Jvm.MethodName) ({ cls := "RankedObjects", name := "go", desc := "(I)I" } : Jvm.MethodName)) ∈ lw_all := lw_g (lw_at lw_m0 41 rfl) rfl
theorem q58 : (Jvm.Cond.code ({ cls := "RankedObjects", name := "go", desc := "(I)I" } : Jvm.MethodName) prog_1_method_7_code (7 : Nat) (Option.some Jvm.ClassFile.FieldType.int)) ∈ lw_all := lw_g (lw_at lw_m0 42 rfl) rfl
theorem q59 : (Jvm.Cond.methodLink "RankedObjects" (63 : Nat) ({ cls := "RankedObjects", name := "withItem", desc := "(II)I" } : Jvm.MethodName)) ∈ lw_all := lw_g (lw_at lw_m0 43 rfl) rfl
theorem q60 : (Jvm.Cond.privateMethod ({ cls := "RankedObjects", name := "withItem", desc := "(II)I" } : Jvm.MethodName)) ∈ lw_tbl := lw_at lw_m0 44 rfl
theorem q61 : (Jvm.Cond.instanceMethod ({ cls := "RankedObjects", name := "withItem", desc := "(II)I" } : Jvm.MethodName)) ∈ lw_all := lw_g (lw_at lw_m0 45 rfl) rfl
theorem q62 : (Jvm.Cond.code ({ cls := "RankedObjects", name := "withItem", desc := "(II)I" } : Jvm.MethodName) prog_1_method_17_code (5 : Nat) (Option.some Jvm.ClassFile.FieldType.int)) ∈ lw_all := lw_g (lw_at lw_m0 46 rfl) rfl
theorem q63 : (Jvm.Cond.methodLink "RankedObjects" (76 : Nat) ({ cls := "RankedObjects", name := "mayCome", desc := "(II)Z" } : Jvm.MethodName)) ∈ lw_all := lw_g (lw_at lw_m0 47 rfl) rfl
theorem q64 : (Jvm.Cond.privateMethod ({ cls := "RankedObjects", name := "mayCome", desc := "(II)Z" } : Jvm.MethodName)) ∈ lw_tbl := lw_at lw_m0 48 rfl
theorem q65 : (Jvm.Cond.instanceMethod ({ cls := "RankedObjects", name := "mayCome", desc := "(II)Z" } : Jvm.MethodName)) ∈ lw_all := lw_g (lw_at lw_m0 49 rfl) rfl
theorem q66 : (Jvm.Cond.code ({ cls := "RankedObjects", name := "mayCome", desc := "(II)Z" } : Jvm.MethodName) prog_1_method_21_code (4 : Nat) (Option.some Jvm.ClassFile.FieldType.boolean)) ∈ lw_all := lw_g (lw_at lw_m0 50 rfl) rfl
theorem q67 : (Jvm.Cond.methodLink "RankedObjects" (80 : Nat) ({ cls := "RankedObjects", name := "usedBefore", desc := "(I)I" } : Jvm.MethodName)) ∈ lw_all := lw_g (lw_at lw_m0 51 rfl) rfl
theorem q68 : (Jvm.Cond.privateMethod ({ cls := "RankedObjects", name := "usedBefore", desc := "(I)I" } : Jvm.MethodName)) ∈ lw_tbl := lw_at lw_m0 52 rfl
theorem q69 : (Jvm.Cond.instanceMethod ({ cls := "RankedObjects", name := "usedBefore", desc := "(I)I" } : Jvm.MethodName)) ∈ lw_all := lw_g (lw_at lw_m0 53 rfl) rfl
theorem q70 : (Jvm.Cond.code ({ cls := "RankedObjects", name := "usedBefore", desc := "(I)I" } : Jvm.MethodName) prog_1_method_18_code (4 : Nat) (Option.some Jvm.ClassFile.FieldType.int)) ∈ lw_all := lw_g (lw_at lw_m0 54 rfl) rfl
theorem q71 : (Jvm.Cond.fieldLink "RankedObjects" (36 : Nat) "RankedObjects" "sort" "I") ∈ lw_all := lw_g (lw_at lw_m0 55 rfl) rfl
theorem q72 : (Jvm.Cond.fieldLink "RankedObjects" (40 : Nat) "RankedObjects" "size" "I") ∈ lw_all := lw_g (lw_at lw_m0 56 rfl) rfl
theorem q73 : (Jvm.Cond.fieldLink "RankedObjects" (43 : Nat) "RankedObjects" "chosen" "I") ∈ lw_all := lw_g (lw_at lw_m0 57 rfl) rfl
theorem q74 : (Jvm.Cond.fieldLink "RankedObjects" (46 : Nat) "RankedObjects" "length" "I") ∈ lw_all := lw_g (lw_at lw_m0 58 rfl) rfl
theorem q75 : (Jvm.Cond.fieldLink "RankedObjects" (49 : Nat) "RankedObjects" "current" "I") ∈ lw_all := lw_g (lw_at lw_m0 59 rfl) rfl
theorem q76 : (Jvm.Cond.fieldLink "RankedObjects" (7 : Nat) "RankedObjects" "items" "[B") ∈ lw_all := lw_g (lw_at lw_m0 60 rfl) rfl
theorem q77 : (Jvm.Cond.fieldLink "RankedObjects" (13 : Nat) "RankedObjects" "other" "[B") ∈ lw_all := lw_g (lw_at lw_m0 61 rfl) rfl
theorem q78 : (Jvm.Cond.fieldLink "RankedObjects" (16 : Nat) "RankedObjects" "binomials" "[I") ∈ lw_all := lw_g (lw_at lw_m0 62 rfl) rfl
theorem q79 : (Jvm.Cond.fieldLink "RankedObjects" (20 : Nat) "RankedObjects" "groupingEnds" "[I") ∈ lw_all := lw_g (lw_at lw_m0 63 rfl) rfl
theorem q80 : (Jvm.Cond.fieldLink "RankedObjects" (23 : Nat) "RankedObjects" "nestingEnds" "[I") ∈ lw_all := lw_g (lw_at lw_m0 64 rfl) rfl
theorem q81 : (Jvm.Cond.fieldLink "RankedObjects" (26 : Nat) "RankedObjects" "factorials" "[I") ∈ lw_all := lw_g (lw_at lw_m0 65 rfl) rfl
theorem q82 : (Jvm.Cond.lays "RankedObjects" "RankedObjects" "sort" "I") ∈ lw_all := lw_g (lw_at lw_m0 66 rfl) rfl
theorem q83 : (Jvm.Cond.soleField "RankedObjects" "sort") ∈ lw_all := lw_g (lw_at lw_m0 67 rfl) rfl
theorem q84 : (Jvm.Cond.lays "RankedObjects" "RankedObjects" "size" "I") ∈ lw_all := lw_g (lw_at lw_m0 68 rfl) rfl
theorem q85 : (Jvm.Cond.soleField "RankedObjects" "size") ∈ lw_all := lw_g (lw_at lw_m0 69 rfl) rfl
theorem q86 : (Jvm.Cond.lays "RankedObjects" "RankedObjects" "chosen" "I") ∈ lw_all := lw_g (lw_at lw_m0 70 rfl) rfl
theorem q87 : (Jvm.Cond.soleField "RankedObjects" "chosen") ∈ lw_all := lw_g (lw_at lw_m0 71 rfl) rfl
theorem q88 : (Jvm.Cond.lays "RankedObjects" "RankedObjects" "length" "I") ∈ lw_all := lw_g (lw_at lw_m0 72 rfl) rfl
theorem q89 : (Jvm.Cond.soleField "RankedObjects" "length") ∈ lw_all := lw_g (lw_at lw_m0 73 rfl) rfl
theorem q90 : (Jvm.Cond.lays "RankedObjects" "RankedObjects" "current" "I") ∈ lw_all := lw_g (lw_at lw_m0 74 rfl) rfl
theorem q91 : (Jvm.Cond.soleField "RankedObjects" "current") ∈ lw_all := lw_g (lw_at lw_m0 75 rfl) rfl
theorem q92 : (Jvm.Cond.laysFinal "RankedObjects" "RankedObjects" "items" "[B") ∈ lw_all := lw_g (lw_at lw_m0 76 rfl) rfl
theorem q93 : (Jvm.Cond.soleField "RankedObjects" "items") ∈ lw_all := lw_g (lw_at lw_m0 77 rfl) rfl
theorem q94 : (Jvm.Cond.laysFinal "RankedObjects" "RankedObjects" "other" "[B") ∈ lw_all := lw_g (lw_at lw_m0 78 rfl) rfl
theorem q95 : (Jvm.Cond.soleField "RankedObjects" "other") ∈ lw_all := lw_g (lw_at lw_m0 79 rfl) rfl
theorem q96 : (Jvm.Cond.laysFinal "RankedObjects" "RankedObjects" "binomials" "[I") ∈ lw_all := lw_g (lw_at lw_m0 80 rfl) rfl
theorem q97 : (Jvm.Cond.soleField "RankedObjects" "binomials") ∈ lw_all := lw_g (lw_at lw_m0 81 rfl) rfl
theorem q98 : (Jvm.Cond.laysFinal "RankedObjects" "RankedObjects" "groupingEnds" "[I") ∈ lw_all := lw_g (lw_at lw_m0 82 rfl) rfl
theorem q99 : (Jvm.Cond.soleField "RankedObjects" "groupingEnds") ∈ lw_all := lw_g (lw_at lw_m0 83 rfl) rfl
theorem q100 : (Jvm.Cond.laysFinal "RankedObjects" "RankedObjects" "nestingEnds" "[I") ∈ lw_all := lw_g (lw_at lw_m0 84 rfl) rfl
theorem q101 : (Jvm.Cond.soleField "RankedObjects" "nestingEnds") ∈ lw_all := lw_g (lw_at lw_m0 85 rfl) rfl
theorem q102 : (Jvm.Cond.laysFinal "RankedObjects" "RankedObjects" "factorials" "[I") ∈ lw_all := lw_g (lw_at lw_m0 86 rfl) rfl
theorem q103 : (Jvm.Cond.soleField "RankedObjects" "factorials") ∈ lw_all := lw_g (lw_at lw_m0 87 rfl) rfl
theorem q104 : (Jvm.Cond.superclass "RankedObjects" "java/lang/Object") ∈ lw_all := lw_g (lw_at lw_m0 88 rfl) rfl
theorem q110 : (Jvm.Cond.instanceMethod ({ cls := "RankedObjects", name := "number", desc := "()I" } : Jvm.MethodName)) ∈ lw_all := lw_g (lw_at lw_m0 94 rfl) rfl
theorem q111 : (Jvm.Cond.selects "RankedObjects" ({ cls := "RankedObjects", name := "number", desc := "()I" } : Jvm.MethodName) ({ cls := "RankedObjects", name := "number", desc := "()I" } : Jvm.MethodName)) ∈ lw_all := lw_g (lw_at lw_m0 95 rfl) rfl
theorem q112 : (Jvm.Cond.code ({ cls := "RankedObjects", name := "number", desc := "()I" } : Jvm.MethodName) prog_1_method_5_code (1 : Nat) (Option.some Jvm.ClassFile.FieldType.int)) ∈ lw_all := lw_g (lw_at lw_m0 96 rfl) rfl
theorem q114 : (Jvm.Cond.instanceMethod ({ cls := "RankedObjects", name := "item", desc := "(I)I" } : Jvm.MethodName)) ∈ lw_all := lw_g (lw_at lw_m0 98 rfl) rfl
theorem q115 : (Jvm.Cond.selects "RankedObjects" ({ cls := "RankedObjects", name := "item", desc := "(I)I" } : Jvm.MethodName) ({ cls := "RankedObjects", name := "item", desc := "(I)I" } : Jvm.MethodName)) ∈ lw_all := lw_g (lw_at lw_m0 99 rfl) rfl
theorem q116 : (Jvm.Cond.code ({ cls := "RankedObjects", name := "item", desc := "(I)I" } : Jvm.MethodName) prog_1_method_6_code (2 : Nat) (Option.some Jvm.ClassFile.FieldType.int)) ∈ lw_all := lw_g (lw_at lw_m0 100 rfl) rfl
theorem q119 : (Jvm.Cond.instanceMethod ({ cls := "RankedObjects", name := "next", desc := "()I" } : Jvm.MethodName)) ∈ lw_all := lw_g (lw_at lw_m0 103 rfl) rfl
theorem q120 : (Jvm.Cond.selects "RankedObjects" ({ cls := "RankedObjects", name := "next", desc := "()I" } : Jvm.MethodName) ({ cls := "RankedObjects", name := "next", desc := "()I" } : Jvm.MethodName)) ∈ lw_all := lw_g (lw_at lw_m0 104 rfl) rfl
theorem q121 : (Jvm.Cond.code ({ cls := "RankedObjects", name := "next", desc := "()I" } : Jvm.MethodName) prog_1_method_8_code (5 : Nat) (Option.some Jvm.ClassFile.FieldType.int)) ∈ lw_all := lw_g (lw_at lw_m0 105 rfl) rfl
theorem q122 : (Jvm.Cond.methodLink "RankedObjects" (67 : Nat) ({ cls := "RankedObjects", name := "smallestAt", desc := "(I)I" } : Jvm.MethodName)) ∈ lw_all := lw_g (lw_at lw_m0 106 rfl) rfl
theorem q123 : (Jvm.Cond.privateMethod ({ cls := "RankedObjects", name := "smallestAt", desc := "(I)I" } : Jvm.MethodName)) ∈ lw_tbl := lw_at lw_m0 107 rfl
theorem q124 : (Jvm.Cond.instanceMethod ({ cls := "RankedObjects", name := "smallestAt", desc := "(I)I" } : Jvm.MethodName)) ∈ lw_all := lw_g (lw_at lw_m0 108 rfl) rfl
theorem q125 : (Jvm.Cond.code ({ cls := "RankedObjects", name := "smallestAt", desc := "(I)I" } : Jvm.MethodName) prog_1_method_10_code (3 : Nat) (Option.some Jvm.ClassFile.FieldType.int)) ∈ lw_all := lw_g (lw_at lw_m0 109 rfl) rfl
theorem q127 : (Jvm.Cond.instanceMethod ({ cls := "RankedObjects", name := "previous", desc := "()I" } : Jvm.MethodName)) ∈ lw_all := lw_g (lw_at lw_m0 111 rfl) rfl
theorem q128 : (Jvm.Cond.selects "RankedObjects" ({ cls := "RankedObjects", name := "previous", desc := "()I" } : Jvm.MethodName) ({ cls := "RankedObjects", name := "previous", desc := "()I" } : Jvm.MethodName)) ∈ lw_all := lw_g (lw_at lw_m0 112 rfl) rfl
theorem q129 : (Jvm.Cond.code ({ cls := "RankedObjects", name := "previous", desc := "()I" } : Jvm.MethodName) prog_1_method_9_code (4 : Nat) (Option.some Jvm.ClassFile.FieldType.int)) ∈ lw_all := lw_g (lw_at lw_m0 113 rfl) rfl
theorem q130 : (Jvm.Cond.methodLink "RankedObjects" (70 : Nat) ({ cls := "RankedObjects", name := "greatestAt", desc := "(I)I" } : Jvm.MethodName)) ∈ lw_all := lw_g (lw_at lw_m0 114 rfl) rfl
theorem q131 : (Jvm.Cond.privateMethod ({ cls := "RankedObjects", name := "greatestAt", desc := "(I)I" } : Jvm.MethodName)) ∈ lw_tbl := lw_at lw_m0 115 rfl
theorem q132 : (Jvm.Cond.instanceMethod ({ cls := "RankedObjects", name := "greatestAt", desc := "(I)I" } : Jvm.MethodName)) ∈ lw_all := lw_g (lw_at lw_m0 116 rfl) rfl
theorem q133 : (Jvm.Cond.code ({ cls := "RankedObjects", name := "greatestAt", desc := "(I)I" } : Jvm.MethodName) prog_1_method_11_code (3 : Nat) (Option.some Jvm.ClassFile.FieldType.int)) ∈ lw_all := lw_g (lw_at lw_m0 117 rfl) rfl
theorem q135 : (Jvm.Cond.instanceMethod ({ cls := "RankedObjects", name := "firstLike", desc := "(I)I" } : Jvm.MethodName)) ∈ lw_all := lw_g (lw_at lw_m0 119 rfl) rfl
theorem q136 : (Jvm.Cond.selects "RankedObjects" ({ cls := "RankedObjects", name := "firstLike", desc := "(I)I" } : Jvm.MethodName) ({ cls := "RankedObjects", name := "firstLike", desc := "(I)I" } : Jvm.MethodName)) ∈ lw_all := lw_g (lw_at lw_m0 120 rfl) rfl
theorem q137 : (Jvm.Cond.code ({ cls := "RankedObjects", name := "firstLike", desc := "(I)I" } : Jvm.MethodName) prog_1_method_12_code (2 : Nat) (Option.some Jvm.ClassFile.FieldType.int)) ∈ lw_all := lw_g (lw_at lw_m0 121 rfl) rfl
theorem q138 : (Jvm.Cond.methodLink "RankedObjects" (73 : Nat) ({ cls := "RankedObjects", name := "rankUpTo", desc := "(I)I" } : Jvm.MethodName)) ∈ lw_all := lw_g (lw_at lw_m0 122 rfl) rfl
theorem q139 : (Jvm.Cond.privateMethod ({ cls := "RankedObjects", name := "rankUpTo", desc := "(I)I" } : Jvm.MethodName)) ∈ lw_tbl := lw_at lw_m0 123 rfl
theorem q140 : (Jvm.Cond.instanceMethod ({ cls := "RankedObjects", name := "rankUpTo", desc := "(I)I" } : Jvm.MethodName)) ∈ lw_all := lw_g (lw_at lw_m0 124 rfl) rfl
theorem q141 : (Jvm.Cond.code ({ cls := "RankedObjects", name := "rankUpTo", desc := "(I)I" } : Jvm.MethodName) prog_1_method_16_code (6 : Nat) (Option.some Jvm.ClassFile.FieldType.int)) ∈ lw_all := lw_g (lw_at lw_m0 125 rfl) rfl
theorem q143 : (Jvm.Cond.instanceMethod ({ cls := "RankedObjects", name := "like", desc := "(I)I" } : Jvm.MethodName)) ∈ lw_all := lw_g (lw_at lw_m0 127 rfl) rfl
theorem q144 : (Jvm.Cond.selects "RankedObjects" ({ cls := "RankedObjects", name := "like", desc := "(I)I" } : Jvm.MethodName) ({ cls := "RankedObjects", name := "like", desc := "(I)I" } : Jvm.MethodName)) ∈ lw_all := lw_g (lw_at lw_m0 128 rfl) rfl
theorem q145 : (Jvm.Cond.code ({ cls := "RankedObjects", name := "like", desc := "(I)I" } : Jvm.MethodName) prog_1_method_13_code (2 : Nat) (Option.some Jvm.ClassFile.FieldType.int)) ∈ lw_all := lw_g (lw_at lw_m0 129 rfl) rfl
theorem q147 : (Jvm.Cond.instanceMethod ({ cls := "RankedObjects", name := "difference", desc := "(I)I" } : Jvm.MethodName)) ∈ lw_all := lw_g (lw_at lw_m0 131 rfl) rfl
theorem q148 : (Jvm.Cond.selects "RankedObjects" ({ cls := "RankedObjects", name := "difference", desc := "(I)I" } : Jvm.MethodName) ({ cls := "RankedObjects", name := "difference", desc := "(I)I" } : Jvm.MethodName)) ∈ lw_all := lw_g (lw_at lw_m0 132 rfl) rfl
theorem q149 : (Jvm.Cond.code ({ cls := "RankedObjects", name := "difference", desc := "(I)I" } : Jvm.MethodName) prog_1_method_14_code (6 : Nat) (Option.some Jvm.ClassFile.FieldType.int)) ∈ lw_all := lw_g (lw_at lw_m0 133 rfl) rfl
theorem q151 : (Jvm.Cond.instanceMethod ({ cls := "RankedObjects", name := "mirrored", desc := "()I" } : Jvm.MethodName)) ∈ lw_all := lw_g (lw_at lw_m0 135 rfl) rfl
theorem q152 : (Jvm.Cond.selects "RankedObjects" ({ cls := "RankedObjects", name := "mirrored", desc := "()I" } : Jvm.MethodName) ({ cls := "RankedObjects", name := "mirrored", desc := "()I" } : Jvm.MethodName)) ∈ lw_all := lw_g (lw_at lw_m0 136 rfl) rfl
theorem q153 : (Jvm.Cond.code ({ cls := "RankedObjects", name := "mirrored", desc := "()I" } : Jvm.MethodName) prog_1_method_15_code (4 : Nat) (Option.some Jvm.ClassFile.FieldType.int)) ∈ lw_all := lw_g (lw_at lw_m0 137 rfl) rfl
theorem q18 : (Jvm.Cond.initialized "RankedObjectsModel") ∈ lw_all := lw_g (lw_at lw_m0 2 rfl) rfl
theorem q155 : (Jvm.Cond.instantiable "RankedObjectsModel" (7 : Nat)) ∈ lw_all := lw_g (lw_at lw_m0 139 rfl) rfl
theorem q157 : (Jvm.Cond.instanceMethod ({ cls := "RankedObjectsModel", name := "<init>", desc := "()V" } : Jvm.MethodName)) ∈ lw_all := lw_g (lw_at lw_m0 141 rfl) rfl
theorem q158 : (Jvm.Cond.code ({ cls := "RankedObjectsModel", name := "<init>", desc := "()V" } : Jvm.MethodName) prog_3_method_1_code (1 : Nat) (Option.none : Option Jvm.ClassFile.FieldType)) ∈ lw_all := lw_g (lw_at lw_m0 142 rfl) rfl
theorem q159 : (Jvm.Cond.methodLink "RankedObjectsModel" (1 : Nat) ({ cls := "java/lang/Object", name := "<init>", desc := "()V" } : Jvm.MethodName)) ∈ lw_all := lw_g (lw_at lw_m0 143 rfl) rfl
theorem q160 : (Jvm.Cond.methodLink "RankedObjectsModel" (32 : Nat) ({ cls := "RankedObjectsModel", name := "write", desc := "()V" } : Jvm.MethodName)) ∈ lw_all := lw_g (lw_at lw_m0 144 rfl) rfl
theorem q161 : (Jvm.Cond.privateMethod ({ cls := "RankedObjectsModel", name := "write", desc := "()V" } : Jvm.MethodName)) ∈ lw_tbl := lw_at lw_m0 145 rfl
theorem q162 : (Jvm.Cond.instanceMethod ({ cls := "RankedObjectsModel", name := "write", desc := "()V" } : Jvm.MethodName)) ∈ lw_all := lw_g (lw_at lw_m0 146 rfl) rfl
theorem q163 : (Jvm.Cond.code ({ cls := "RankedObjectsModel", name := "write", desc := "()V" } : Jvm.MethodName) prog_3_method_5_code (4 : Nat) (Option.none : Option Jvm.ClassFile.FieldType)) ∈ lw_all := lw_g (lw_at lw_m0 147 rfl) rfl
theorem q164 : (Jvm.Cond.methodLink "RankedObjectsModel" (37 : Nat) ({ cls := "RankedObjectsModel", name := "length", desc := "()I" } : Jvm.MethodName)) ∈ lw_all := lw_g (lw_at lw_m0 148 rfl) rfl
theorem q165 : (Jvm.Cond.privateMethod ({ cls := "RankedObjectsModel", name := "length", desc := "()I" } : Jvm.MethodName)) ∈ lw_tbl := lw_at lw_m0 149 rfl
theorem q166 : (Jvm.Cond.instanceMethod ({ cls := "RankedObjectsModel", name := "length", desc := "()I" } : Jvm.MethodName)) ∈ lw_all := lw_g (lw_at lw_m0 150 rfl) rfl
theorem q167 : (Jvm.Cond.code ({ cls := "RankedObjectsModel", name := "length", desc := "()I" } : Jvm.MethodName) prog_3_method_3_code (1 : Nat) (Option.some Jvm.ClassFile.FieldType.int)) ∈ lw_all := lw_g (lw_at lw_m0 151 rfl) rfl
theorem q168 : (Jvm.Cond.methodLink "RankedObjectsModel" (41 : Nat) ({ cls := "RankedObjectsModel", name := "goesOn", desc := "(JII)Z" } : Jvm.MethodName)) ∈ lw_all := lw_g (lw_at lw_m0 152 rfl) rfl
theorem q169 : (Jvm.Cond.privateMethod ({ cls := "RankedObjectsModel", name := "goesOn", desc := "(JII)Z" } : Jvm.MethodName)) ∈ lw_tbl := lw_at lw_m0 153 rfl
theorem q170 : (Jvm.Cond.instanceMethod ({ cls := "RankedObjectsModel", name := "goesOn", desc := "(JII)Z" } : Jvm.MethodName)) ∈ lw_all := lw_g (lw_at lw_m0 154 rfl) rfl
theorem q171 : (Jvm.Cond.code ({ cls := "RankedObjectsModel", name := "goesOn", desc := "(JII)Z" } : Jvm.MethodName) prog_3_method_4_code (13 : Nat) (Option.some Jvm.ClassFile.FieldType.boolean)) ∈ lw_all := lw_g (lw_at lw_m0 155 rfl) rfl
theorem q172 : (Jvm.Cond.constantLong "RankedObjectsModel" (35 : Nat) (7 : Int64)) ∈ lw_all := lw_g (lw_at lw_m0 156 rfl) rfl
theorem q173 : (Jvm.Cond.constantLong "RankedObjectsModel" (45 : Nat) (8 : Int64)) ∈ lw_all := lw_g (lw_at lw_m0 157 rfl) rfl
theorem q174 : (Jvm.Cond.fieldLink "RankedObjectsModel" (7 : Nat) "RankedObjectsModel" "sort" "I") ∈ lw_all := lw_g (lw_at lw_m0 158 rfl) rfl
theorem q175 : (Jvm.Cond.fieldLink "RankedObjectsModel" (13 : Nat) "RankedObjectsModel" "n" "I") ∈ lw_all := lw_g (lw_at lw_m0 159 rfl) rfl
theorem q176 : (Jvm.Cond.fieldLink "RankedObjectsModel" (16 : Nat) "RankedObjectsModel" "k" "I") ∈ lw_all := lw_g (lw_at lw_m0 160 rfl) rfl
theorem q177 : (Jvm.Cond.fieldLink "RankedObjectsModel" (19 : Nat) "RankedObjectsModel" "now" "I") ∈ lw_all := lw_g (lw_at lw_m0 161 rfl) rfl
theorem q178 : (Jvm.Cond.fieldLink "RankedObjectsModel" (22 : Nat) "RankedObjectsModel" "count" "I") ∈ lw_all := lw_g (lw_at lw_m0 162 rfl) rfl
theorem q179 : (Jvm.Cond.fieldLink "RankedObjectsModel" (25 : Nat) "RankedObjectsModel" "list" "[J") ∈ lw_all := lw_g (lw_at lw_m0 163 rfl) rfl
theorem q180 : (Jvm.Cond.fieldLink "RankedObjectsModel" (29 : Nat) "RankedObjectsModel" "longer" "[J") ∈ lw_all := lw_g (lw_at lw_m0 164 rfl) rfl
theorem q181 : (Jvm.Cond.lays "RankedObjectsModel" "RankedObjectsModel" "sort" "I") ∈ lw_all := lw_g (lw_at lw_m0 165 rfl) rfl
theorem q182 : (Jvm.Cond.soleField "RankedObjectsModel" "sort") ∈ lw_all := lw_g (lw_at lw_m0 166 rfl) rfl
theorem q183 : (Jvm.Cond.lays "RankedObjectsModel" "RankedObjectsModel" "n" "I") ∈ lw_all := lw_g (lw_at lw_m0 167 rfl) rfl
theorem q184 : (Jvm.Cond.soleField "RankedObjectsModel" "n") ∈ lw_all := lw_g (lw_at lw_m0 168 rfl) rfl
theorem q185 : (Jvm.Cond.lays "RankedObjectsModel" "RankedObjectsModel" "k" "I") ∈ lw_all := lw_g (lw_at lw_m0 169 rfl) rfl
theorem q186 : (Jvm.Cond.soleField "RankedObjectsModel" "k") ∈ lw_all := lw_g (lw_at lw_m0 170 rfl) rfl
theorem q187 : (Jvm.Cond.lays "RankedObjectsModel" "RankedObjectsModel" "now" "I") ∈ lw_all := lw_g (lw_at lw_m0 171 rfl) rfl
theorem q188 : (Jvm.Cond.soleField "RankedObjectsModel" "now") ∈ lw_all := lw_g (lw_at lw_m0 172 rfl) rfl
theorem q189 : (Jvm.Cond.lays "RankedObjectsModel" "RankedObjectsModel" "count" "I") ∈ lw_all := lw_g (lw_at lw_m0 173 rfl) rfl
theorem q190 : (Jvm.Cond.soleField "RankedObjectsModel" "count") ∈ lw_all := lw_g (lw_at lw_m0 174 rfl) rfl
theorem q191 : (Jvm.Cond.lays "RankedObjectsModel" "RankedObjectsModel" "list" "[J") ∈ lw_all := lw_g (lw_at lw_m0 175 rfl) rfl
theorem q192 : (Jvm.Cond.soleField "RankedObjectsModel" "list") ∈ lw_all := lw_g (lw_at lw_m0 176 rfl) rfl
theorem q193 : (Jvm.Cond.lays "RankedObjectsModel" "RankedObjectsModel" "longer" "[J") ∈ lw_all := lw_g (lw_at lw_m0 177 rfl) rfl
theorem q194 : (Jvm.Cond.soleField "RankedObjectsModel" "longer") ∈ lw_all := lw_g (lw_at lw_m0 178 rfl) rfl
theorem q195 : (Jvm.Cond.superclass "RankedObjectsModel" "java/lang/Object") ∈ lw_all := lw_g (lw_at lw_m0 179 rfl) rfl
theorem q198 : (Jvm.Cond.instanceMethod ({ cls := "RankedObjectsModel", name := "choose", desc := "(III)Z" } : Jvm.MethodName)) ∈ lw_all := lw_g (lw_at lw_m0 182 rfl) rfl
theorem q199 : (Jvm.Cond.selects "RankedObjectsModel" ({ cls := "RankedObjectsModel", name := "choose", desc := "(III)Z" } : Jvm.MethodName) ({ cls := "RankedObjectsModel", name := "choose", desc := "(III)Z" } : Jvm.MethodName)) ∈ lw_all := lw_g (lw_at lw_m0 183 rfl) rfl
theorem q200 : (Jvm.Cond.code ({ cls := "RankedObjectsModel", name := "choose", desc := "(III)Z" } : Jvm.MethodName) prog_3_method_2_code (4 : Nat) (Option.some Jvm.ClassFile.FieldType.boolean)) ∈ lw_all := lw_g (lw_at lw_m0 184 rfl) rfl
theorem q202 : (Jvm.Cond.instanceMethod ({ cls := "RankedObjectsModel", name := "count", desc := "()I" } : Jvm.MethodName)) ∈ lw_all := lw_g (lw_at lw_m0 186 rfl) rfl
theorem q203 : (Jvm.Cond.selects "RankedObjectsModel" ({ cls := "RankedObjectsModel", name := "count", desc := "()I" } : Jvm.MethodName) ({ cls := "RankedObjectsModel", name := "count", desc := "()I" } : Jvm.MethodName)) ∈ lw_all := lw_g (lw_at lw_m0 187 rfl) rfl
theorem q204 : (Jvm.Cond.code ({ cls := "RankedObjectsModel", name := "count", desc := "()I" } : Jvm.MethodName) prog_3_method_6_code (1 : Nat) (Option.some Jvm.ClassFile.FieldType.int)) ∈ lw_all := lw_g (lw_at lw_m0 188 rfl) rfl
theorem q206 : (Jvm.Cond.instanceMethod ({ cls := "RankedObjectsModel", name := "number", desc := "()I" } : Jvm.MethodName)) ∈ lw_all := lw_g (lw_at lw_m0 190 rfl) rfl
theorem q207 : (Jvm.Cond.selects "RankedObjectsModel" ({ cls := "RankedObjectsModel", name := "number", desc := "()I" } : Jvm.MethodName) ({ cls := "RankedObjectsModel", name := "number", desc := "()I" } : Jvm.MethodName)) ∈ lw_all := lw_g (lw_at lw_m0 191 rfl) rfl
theorem q208 : (Jvm.Cond.code ({ cls := "RankedObjectsModel", name := "number", desc := "()I" } : Jvm.MethodName) prog_3_method_7_code (1 : Nat) (Option.some Jvm.ClassFile.FieldType.int)) ∈ lw_all := lw_g (lw_at lw_m0 192 rfl) rfl
theorem q210 : (Jvm.Cond.instanceMethod ({ cls := "RankedObjectsModel", name := "item", desc := "(I)I" } : Jvm.MethodName)) ∈ lw_all := lw_g (lw_at lw_m0 194 rfl) rfl
theorem q211 : (Jvm.Cond.selects "RankedObjectsModel" ({ cls := "RankedObjectsModel", name := "item", desc := "(I)I" } : Jvm.MethodName) ({ cls := "RankedObjectsModel", name := "item", desc := "(I)I" } : Jvm.MethodName)) ∈ lw_all := lw_g (lw_at lw_m0 195 rfl) rfl
theorem q212 : (Jvm.Cond.code ({ cls := "RankedObjectsModel", name := "item", desc := "(I)I" } : Jvm.MethodName) prog_3_method_9_code (2 : Nat) (Option.some Jvm.ClassFile.FieldType.int)) ∈ lw_all := lw_g (lw_at lw_m0 196 rfl) rfl
theorem q213 : (Jvm.Cond.methodLink "RankedObjectsModel" (47 : Nat) ({ cls := "RankedObjectsModel", name := "digit", desc := "(JI)I" } : Jvm.MethodName)) ∈ lw_all := lw_g (lw_at lw_m0 197 rfl) rfl
theorem q214 : (Jvm.Cond.privateMethod ({ cls := "RankedObjectsModel", name := "digit", desc := "(JI)I" } : Jvm.MethodName)) ∈ lw_tbl := lw_at lw_m0 198 rfl
theorem q215 : (Jvm.Cond.instanceMethod ({ cls := "RankedObjectsModel", name := "digit", desc := "(JI)I" } : Jvm.MethodName)) ∈ lw_all := lw_g (lw_at lw_m0 199 rfl) rfl
theorem q216 : (Jvm.Cond.code ({ cls := "RankedObjectsModel", name := "digit", desc := "(JI)I" } : Jvm.MethodName) prog_3_method_8_code (4 : Nat) (Option.some Jvm.ClassFile.FieldType.int)) ∈ lw_all := lw_g (lw_at lw_m0 200 rfl) rfl
theorem q218 : (Jvm.Cond.instanceMethod ({ cls := "RankedObjectsModel", name := "go", desc := "(I)I" } : Jvm.MethodName)) ∈ lw_all := lw_g (lw_at lw_m0 202 rfl) rfl
theorem q219 : (Jvm.Cond.selects "RankedObjectsModel" ({ cls := "RankedObjectsModel", name := "go", desc := "(I)I" } : Jvm.MethodName) ({ cls := "RankedObjectsModel", name := "go", desc := "(I)I" } : Jvm.MethodName)) ∈ lw_all := lw_g (lw_at lw_m0 203 rfl) rfl
theorem q220 : (Jvm.Cond.code ({ cls := "RankedObjectsModel", name := "go", desc := "(I)I" } : Jvm.MethodName) prog_3_method_10_code (2 : Nat) (Option.some Jvm.ClassFile.FieldType.int)) ∈ lw_all := lw_g (lw_at lw_m0 204 rfl) rfl
theorem q222 : (Jvm.Cond.instanceMethod ({ cls := "RankedObjectsModel", name := "next", desc := "()I" } : Jvm.MethodName)) ∈ lw_all := lw_g (lw_at lw_m0 206 rfl) rfl
theorem q223 : (Jvm.Cond.selects "RankedObjectsModel" ({ cls := "RankedObjectsModel", name := "next", desc := "()I" } : Jvm.MethodName) ({ cls := "RankedObjectsModel", name := "next", desc := "()I" } : Jvm.MethodName)) ∈ lw_all := lw_g (lw_at lw_m0 207 rfl) rfl
theorem q224 : (Jvm.Cond.code ({ cls := "RankedObjectsModel", name := "next", desc := "()I" } : Jvm.MethodName) prog_3_method_11_code (1 : Nat) (Option.some Jvm.ClassFile.FieldType.int)) ∈ lw_all := lw_g (lw_at lw_m0 208 rfl) rfl
theorem q226 : (Jvm.Cond.instanceMethod ({ cls := "RankedObjectsModel", name := "previous", desc := "()I" } : Jvm.MethodName)) ∈ lw_all := lw_g (lw_at lw_m0 210 rfl) rfl
theorem q227 : (Jvm.Cond.selects "RankedObjectsModel" ({ cls := "RankedObjectsModel", name := "previous", desc := "()I" } : Jvm.MethodName) ({ cls := "RankedObjectsModel", name := "previous", desc := "()I" } : Jvm.MethodName)) ∈ lw_all := lw_g (lw_at lw_m0 211 rfl) rfl
theorem q228 : (Jvm.Cond.code ({ cls := "RankedObjectsModel", name := "previous", desc := "()I" } : Jvm.MethodName) prog_3_method_12_code (1 : Nat) (Option.some Jvm.ClassFile.FieldType.int)) ∈ lw_all := lw_g (lw_at lw_m0 212 rfl) rfl
theorem q230 : (Jvm.Cond.instanceMethod ({ cls := "RankedObjectsModel", name := "firstLike", desc := "(I)I" } : Jvm.MethodName)) ∈ lw_all := lw_g (lw_at lw_m0 214 rfl) rfl
theorem q231 : (Jvm.Cond.selects "RankedObjectsModel" ({ cls := "RankedObjectsModel", name := "firstLike", desc := "(I)I" } : Jvm.MethodName) ({ cls := "RankedObjectsModel", name := "firstLike", desc := "(I)I" } : Jvm.MethodName)) ∈ lw_all := lw_g (lw_at lw_m0 215 rfl) rfl
theorem q232 : (Jvm.Cond.code ({ cls := "RankedObjectsModel", name := "firstLike", desc := "(I)I" } : Jvm.MethodName) prog_3_method_14_code (3 : Nat) (Option.some Jvm.ClassFile.FieldType.int)) ∈ lw_all := lw_g (lw_at lw_m0 216 rfl) rfl
theorem q233 : (Jvm.Cond.methodLink "RankedObjectsModel" (51 : Nat) ({ cls := "RankedObjectsModel", name := "alike", desc := "(II)Z" } : Jvm.MethodName)) ∈ lw_all := lw_g (lw_at lw_m0 217 rfl) rfl
theorem q234 : (Jvm.Cond.privateMethod ({ cls := "RankedObjectsModel", name := "alike", desc := "(II)Z" } : Jvm.MethodName)) ∈ lw_tbl := lw_at lw_m0 218 rfl
theorem q235 : (Jvm.Cond.instanceMethod ({ cls := "RankedObjectsModel", name := "alike", desc := "(II)Z" } : Jvm.MethodName)) ∈ lw_all := lw_g (lw_at lw_m0 219 rfl) rfl
theorem q236 : (Jvm.Cond.code ({ cls := "RankedObjectsModel", name := "alike", desc := "(II)Z" } : Jvm.MethodName) prog_3_method_13_code (4 : Nat) (Option.some Jvm.ClassFile.FieldType.boolean)) ∈ lw_all := lw_g (lw_at lw_m0 220 rfl) rfl
theorem q238 : (Jvm.Cond.instanceMethod ({ cls := "RankedObjectsModel", name := "like", desc := "(I)I" } : Jvm.MethodName)) ∈ lw_all := lw_g (lw_at lw_m0 222 rfl) rfl
theorem q239 : (Jvm.Cond.selects "RankedObjectsModel" ({ cls := "RankedObjectsModel", name := "like", desc := "(I)I" } : Jvm.MethodName) ({ cls := "RankedObjectsModel", name := "like", desc := "(I)I" } : Jvm.MethodName)) ∈ lw_all := lw_g (lw_at lw_m0 223 rfl) rfl
theorem q240 : (Jvm.Cond.code ({ cls := "RankedObjectsModel", name := "like", desc := "(I)I" } : Jvm.MethodName) prog_3_method_15_code (4 : Nat) (Option.some Jvm.ClassFile.FieldType.int)) ∈ lw_all := lw_g (lw_at lw_m0 224 rfl) rfl
theorem q242 : (Jvm.Cond.instanceMethod ({ cls := "RankedObjectsModel", name := "difference", desc := "(I)I" } : Jvm.MethodName)) ∈ lw_all := lw_g (lw_at lw_m0 226 rfl) rfl
theorem q243 : (Jvm.Cond.selects "RankedObjectsModel" ({ cls := "RankedObjectsModel", name := "difference", desc := "(I)I" } : Jvm.MethodName) ({ cls := "RankedObjectsModel", name := "difference", desc := "(I)I" } : Jvm.MethodName)) ∈ lw_all := lw_g (lw_at lw_m0 227 rfl) rfl
theorem q244 : (Jvm.Cond.code ({ cls := "RankedObjectsModel", name := "difference", desc := "(I)I" } : Jvm.MethodName) prog_3_method_16_code (4 : Nat) (Option.some Jvm.ClassFile.FieldType.int)) ∈ lw_all := lw_g (lw_at lw_m0 228 rfl) rfl
theorem q246 : (Jvm.Cond.instanceMethod ({ cls := "RankedObjectsModel", name := "mirrored", desc := "()I" } : Jvm.MethodName)) ∈ lw_all := lw_g (lw_at lw_m0 230 rfl) rfl
theorem q247 : (Jvm.Cond.selects "RankedObjectsModel" ({ cls := "RankedObjectsModel", name := "mirrored", desc := "()I" } : Jvm.MethodName) ({ cls := "RankedObjectsModel", name := "mirrored", desc := "()I" } : Jvm.MethodName)) ∈ lw_all := lw_g (lw_at lw_m0 231 rfl) rfl
theorem q248 : (Jvm.Cond.code ({ cls := "RankedObjectsModel", name := "mirrored", desc := "()I" } : Jvm.MethodName) prog_3_method_17_code (5 : Nat) (Option.some Jvm.ClassFile.FieldType.int)) ∈ lw_all := lw_g (lw_at lw_m0 232 rfl) rfl
theorem q25 : (Jvm.Cond.instanceMethod ({ cls := "java/lang/Object", name := "<init>", desc := "()V" } : Jvm.MethodName)) ∈ lw_all := lw_g (lw_at lw_m0 9 rfl) rfl
theorem q26 : (Jvm.Cond.code ({ cls := "java/lang/Object", name := "<init>", desc := "()V" } : Jvm.MethodName) object_method_1_code (1 : Nat) (Option.none : Option Jvm.ClassFile.FieldType)) ∈ lw_all := lw_g (lw_at lw_m0 10 rfl) rfl
theorem q16 : (Jvm.Cond.initialized "RankedObjectsLaw") ∈ lw_all := lw_g (lw_at lw_m0 0 rfl) rfl
theorem q19 : (Jvm.Cond.classLink "RankedObjectsLaw" (7 : Nat) "RankedObjects") ∈ lw_all := lw_g (lw_at lw_m0 3 rfl) rfl
theorem q21 : (Jvm.Cond.methodLink "RankedObjectsLaw" (9 : Nat) ({ cls := "RankedObjects", name := "<init>", desc := "()V" } : Jvm.MethodName)) ∈ lw_all := lw_g (lw_at lw_m0 5 rfl) rfl
theorem q107 : (Jvm.Cond.methodLink "RankedObjectsLaw" (13 : Nat) ({ cls := "RankedObjects", name := "choose", desc := "(III)Z" } : Jvm.MethodName)) ∈ lw_all := lw_g (lw_at lw_m0 91 rfl) rfl
theorem q108 : (Jvm.Cond.methodLink "RankedObjectsLaw" (18 : Nat) ({ cls := "RankedObjects", name := "count", desc := "()I" } : Jvm.MethodName)) ∈ lw_all := lw_g (lw_at lw_m0 92 rfl) rfl
theorem q109 : (Jvm.Cond.methodLink "RankedObjectsLaw" (23 : Nat) ({ cls := "RankedObjects", name := "number", desc := "()I" } : Jvm.MethodName)) ∈ lw_all := lw_g (lw_at lw_m0 93 rfl) rfl
theorem q113 : (Jvm.Cond.methodLink "RankedObjectsLaw" (27 : Nat) ({ cls := "RankedObjects", name := "item", desc := "(I)I" } : Jvm.MethodName)) ∈ lw_all := lw_g (lw_at lw_m0 97 rfl) rfl
theorem q117 : (Jvm.Cond.methodLink "RankedObjectsLaw" (32 : Nat) ({ cls := "RankedObjects", name := "go", desc := "(I)I" } : Jvm.MethodName)) ∈ lw_all := lw_g (lw_at lw_m0 101 rfl) rfl
theorem q118 : (Jvm.Cond.methodLink "RankedObjectsLaw" (36 : Nat) ({ cls := "RankedObjects", name := "next", desc := "()I" } : Jvm.MethodName)) ∈ lw_all := lw_g (lw_at lw_m0 102 rfl) rfl
theorem q126 : (Jvm.Cond.methodLink "RankedObjectsLaw" (40 : Nat) ({ cls := "RankedObjects", name := "previous", desc := "()I" } : Jvm.MethodName)) ∈ lw_all := lw_g (lw_at lw_m0 110 rfl) rfl
theorem q134 : (Jvm.Cond.methodLink "RankedObjectsLaw" (44 : Nat) ({ cls := "RankedObjects", name := "firstLike", desc := "(I)I" } : Jvm.MethodName)) ∈ lw_all := lw_g (lw_at lw_m0 118 rfl) rfl
theorem q142 : (Jvm.Cond.methodLink "RankedObjectsLaw" (48 : Nat) ({ cls := "RankedObjects", name := "like", desc := "(I)I" } : Jvm.MethodName)) ∈ lw_all := lw_g (lw_at lw_m0 126 rfl) rfl
theorem q146 : (Jvm.Cond.methodLink "RankedObjectsLaw" (52 : Nat) ({ cls := "RankedObjects", name := "difference", desc := "(I)I" } : Jvm.MethodName)) ∈ lw_all := lw_g (lw_at lw_m0 130 rfl) rfl
theorem q150 : (Jvm.Cond.methodLink "RankedObjectsLaw" (56 : Nat) ({ cls := "RankedObjects", name := "mirrored", desc := "()I" } : Jvm.MethodName)) ∈ lw_all := lw_g (lw_at lw_m0 134 rfl) rfl
theorem q154 : (Jvm.Cond.classLink "RankedObjectsLaw" (10 : Nat) "RankedObjectsModel") ∈ lw_all := lw_g (lw_at lw_m0 138 rfl) rfl
theorem q156 : (Jvm.Cond.methodLink "RankedObjectsLaw" (12 : Nat) ({ cls := "RankedObjectsModel", name := "<init>", desc := "()V" } : Jvm.MethodName)) ∈ lw_all := lw_g (lw_at lw_m0 140 rfl) rfl
theorem q197 : (Jvm.Cond.methodLink "RankedObjectsLaw" (17 : Nat) ({ cls := "RankedObjectsModel", name := "choose", desc := "(III)Z" } : Jvm.MethodName)) ∈ lw_all := lw_g (lw_at lw_m0 181 rfl) rfl
theorem q201 : (Jvm.Cond.methodLink "RankedObjectsLaw" (22 : Nat) ({ cls := "RankedObjectsModel", name := "count", desc := "()I" } : Jvm.MethodName)) ∈ lw_all := lw_g (lw_at lw_m0 185 rfl) rfl
theorem q205 : (Jvm.Cond.methodLink "RankedObjectsLaw" (26 : Nat) ({ cls := "RankedObjectsModel", name := "number", desc := "()I" } : Jvm.MethodName)) ∈ lw_all := lw_g (lw_at lw_m0 189 rfl) rfl
theorem q209 : (Jvm.Cond.methodLink "RankedObjectsLaw" (31 : Nat) ({ cls := "RankedObjectsModel", name := "item", desc := "(I)I" } : Jvm.MethodName)) ∈ lw_all := lw_g (lw_at lw_m0 193 rfl) rfl
theorem q217 : (Jvm.Cond.methodLink "RankedObjectsLaw" (35 : Nat) ({ cls := "RankedObjectsModel", name := "go", desc := "(I)I" } : Jvm.MethodName)) ∈ lw_all := lw_g (lw_at lw_m0 201 rfl) rfl
theorem q221 : (Jvm.Cond.methodLink "RankedObjectsLaw" (39 : Nat) ({ cls := "RankedObjectsModel", name := "next", desc := "()I" } : Jvm.MethodName)) ∈ lw_all := lw_g (lw_at lw_m0 205 rfl) rfl
theorem q225 : (Jvm.Cond.methodLink "RankedObjectsLaw" (43 : Nat) ({ cls := "RankedObjectsModel", name := "previous", desc := "()I" } : Jvm.MethodName)) ∈ lw_all := lw_g (lw_at lw_m0 209 rfl) rfl
theorem q229 : (Jvm.Cond.methodLink "RankedObjectsLaw" (47 : Nat) ({ cls := "RankedObjectsModel", name := "firstLike", desc := "(I)I" } : Jvm.MethodName)) ∈ lw_all := lw_g (lw_at lw_m0 213 rfl) rfl
theorem q237 : (Jvm.Cond.methodLink "RankedObjectsLaw" (51 : Nat) ({ cls := "RankedObjectsModel", name := "like", desc := "(I)I" } : Jvm.MethodName)) ∈ lw_all := lw_g (lw_at lw_m0 221 rfl) rfl
theorem q241 : (Jvm.Cond.methodLink "RankedObjectsLaw" (55 : Nat) ({ cls := "RankedObjectsModel", name := "difference", desc := "(I)I" } : Jvm.MethodName)) ∈ lw_all := lw_g (lw_at lw_m0 225 rfl) rfl
theorem q245 : (Jvm.Cond.methodLink "RankedObjectsLaw" (59 : Nat) ({ cls := "RankedObjectsModel", name := "mirrored", desc := "()I" } : Jvm.MethodName)) ∈ lw_all := lw_g (lw_at lw_m0 229 rfl) rfl
theorem q105 : (Jvm.Cond.arrayClass Jvm.ClassFile.FieldType.byte) ∈ lw_all := lw_g (lw_at lw_m0 89 rfl) rfl
theorem q106 : (Jvm.Cond.arrayClass Jvm.ClassFile.FieldType.int) ∈ lw_all := lw_g (lw_at lw_m0 90 rfl) rfl
theorem q196 : (Jvm.Cond.arrayClass Jvm.ClassFile.FieldType.long) ∈ lw_all := lw_g (lw_at lw_m0 180 rfl) rfl
theorem in_X0 : ∀ w ∈ wsX00, w ∈ lw_all := lw_in wsX00 [82, 84, 86, 88, 90, 92, 94, 96, 98, 100, 102] (by decide +kernel) (by decide +kernel)
theorem in_X1 : ∀ w ∈ wsX10, w ∈ lw_all := lw_in wsX10 [181, 183, 185, 187, 189, 191, 193] (by decide +kernel) (by decide +kernel)
end
section
set_option maxRecDepth 100000
theorem dX0_init_0 : decode cX0_init 0 = .ok (.aload_n 0, 1) := by decide +kernel
theorem dX0_init_1 : decode cX0_init 1 = .ok (.invokespecial 1, 3) := by decide +kernel
theorem dX0_init_4 : decode cX0_init 4 = .ok (.aload_n 0, 1) := by decide +kernel
theorem dX0_init_5 : decode cX0_init 5 = .ok (.bipush 14, 2) := by decide +kernel
theorem dX0_init_7 : decode cX0_init 7 = .ok (.newarray .byte, 2) := by decide +kernel
theorem dX0_init_9 : decode cX0_init 9 = .ok (.putfield 7, 3) := by decide +kernel
theorem dX0_init_12 : decode cX0_init 12 = .ok (.aload_n 0, 1) := by decide +kernel
theorem dX0_init_13 : decode cX0_init 13 = .ok (.bipush 14, 2) := by decide +kernel
theorem dX0_init_15 : decode cX0_init 15 = .ok (.newarray .byte, 2) := by decide +kernel
theorem dX0_init_17 : decode cX0_init 17 = .ok (.putfield 13, 3) := by decide +kernel
theorem dX0_init_20 : decode cX0_init 20 = .ok (.aload_n 0, 1) := by decide +kernel
theorem dX0_init_21 : decode cX0_init 21 = .ok (.bipush 64, 2) := by decide +kernel
theorem dX0_init_23 : decode cX0_init 23 = .ok (.newarray .int, 2) := by decide +kernel
theorem dX0_init_25 : decode cX0_init 25 = .ok (.putfield 16, 3) := by decide +kernel
theorem dX0_init_28 : decode cX0_init 28 = .ok (.aload_n 0, 1) := by decide +kernel
theorem dX0_init_29 : decode cX0_init 29 = .ok (.sipush 128, 3) := by decide +kernel
theorem dX0_init_32 : decode cX0_init 32 = .ok (.newarray .int, 2) := by decide +kernel
theorem dX0_init_34 : decode cX0_init 34 = .ok (.putfield 20, 3) := by decide +kernel
theorem dX0_init_37 : decode cX0_init 37 = .ok (.aload_n 0, 1) := by decide +kernel
theorem dX0_init_38 : decode cX0_init 38 = .ok (.bipush 64, 2) := by decide +kernel
theorem dX0_init_40 : decode cX0_init 40 = .ok (.newarray .int, 2) := by decide +kernel
theorem dX0_init_42 : decode cX0_init 42 = .ok (.putfield 23, 3) := by decide +kernel
theorem dX0_init_45 : decode cX0_init 45 = .ok (.aload_n 0, 1) := by decide +kernel
theorem dX0_init_46 : decode cX0_init 46 = .ok (.bipush 8, 2) := by decide +kernel
theorem dX0_init_48 : decode cX0_init 48 = .ok (.newarray .int, 2) := by decide +kernel
theorem dX0_init_50 : decode cX0_init 50 = .ok (.putfield 26, 3) := by decide +kernel
theorem dX0_init_53 : decode cX0_init 53 = .ok (.aload_n 0, 1) := by decide +kernel
theorem dX0_init_54 : decode cX0_init 54 = .ok (.invokevirtual 29, 3) := by decide +kernel
theorem dX0_init_57 : decode cX0_init 57 = .ok (.aload_n 0, 1) := by decide +kernel
theorem dX0_init_58 : decode cX0_init 58 = .ok (.iconst 1, 1) := by decide +kernel
theorem dX0_init_59 : decode cX0_init 59 = .ok (.iconst 3, 1) := by decide +kernel
theorem dX0_init_60 : decode cX0_init 60 = .ok (.iconst 0, 1) := by decide +kernel
theorem dX0_init_61 : decode cX0_init 61 = .ok (.invokevirtual 32, 3) := by decide +kernel
theorem dX0_init_64 : decode cX0_init 64 = .ok (.pop, 1) := by decide +kernel
theorem dX0_init_65 : decode cX0_init 65 = .ok (.return_, 1) := by decide +kernel
theorem dX0_fillTables_0 : decode cX0_fillTables 0 = .ok (.aload_n 0, 1) := by decide +kernel
theorem dX0_fillTables_1 : decode cX0_fillTables 1 = .ok (.getfield 26, 3) := by decide +kernel
theorem dX0_fillTables_4 : decode cX0_fillTables 4 = .ok (.iconst 0, 1) := by decide +kernel
theorem dX0_fillTables_5 : decode cX0_fillTables 5 = .ok (.iconst 1, 1) := by decide +kernel
theorem dX0_fillTables_6 : decode cX0_fillTables 6 = .ok (.iastore, 1) := by decide +kernel
theorem dX0_fillTables_7 : decode cX0_fillTables 7 = .ok (.iconst 1, 1) := by decide +kernel
theorem dX0_fillTables_8 : decode cX0_fillTables 8 = .ok (.istore_n 1, 1) := by decide +kernel
theorem dX0_fillTables_9 : decode cX0_fillTables 9 = .ok (.iload_n 1, 1) := by decide +kernel
theorem dX0_fillTables_10 : decode cX0_fillTables 10 = .ok (.bipush 8, 2) := by decide +kernel
theorem dX0_fillTables_12 : decode cX0_fillTables 12 = .ok (.if_icmp .ge 25, 3) := by decide +kernel
theorem dX0_fillTables_15 : decode cX0_fillTables 15 = .ok (.aload_n 0, 1) := by decide +kernel
theorem dX0_fillTables_16 : decode cX0_fillTables 16 = .ok (.getfield 26, 3) := by decide +kernel
theorem dX0_fillTables_19 : decode cX0_fillTables 19 = .ok (.iload_n 1, 1) := by decide +kernel
theorem dX0_fillTables_20 : decode cX0_fillTables 20 = .ok (.iload_n 1, 1) := by decide +kernel
theorem dX0_fillTables_21 : decode cX0_fillTables 21 = .ok (.aload_n 0, 1) := by decide +kernel
theorem dX0_fillTables_22 : decode cX0_fillTables 22 = .ok (.getfield 26, 3) := by decide +kernel
theorem dX0_fillTables_25 : decode cX0_fillTables 25 = .ok (.iload_n 1, 1) := by decide +kernel
theorem dX0_fillTables_26 : decode cX0_fillTables 26 = .ok (.iconst 1, 1) := by decide +kernel
theorem dX0_fillTables_27 : decode cX0_fillTables 27 = .ok (.isub, 1) := by decide +kernel
theorem dX0_fillTables_28 : decode cX0_fillTables 28 = .ok (.iaload, 1) := by decide +kernel
theorem dX0_fillTables_29 : decode cX0_fillTables 29 = .ok (.imul, 1) := by decide +kernel
theorem dX0_fillTables_30 : decode cX0_fillTables 30 = .ok (.iastore, 1) := by decide +kernel
theorem dX0_fillTables_31 : decode cX0_fillTables 31 = .ok (.iinc 1 1, 3) := by decide +kernel
theorem dX0_fillTables_34 : decode cX0_fillTables 34 = .ok (.goto (-25), 3) := by decide +kernel
theorem dX0_fillTables_37 : decode cX0_fillTables 37 = .ok (.iconst 0, 1) := by decide +kernel
theorem dX0_fillTables_38 : decode cX0_fillTables 38 = .ok (.istore_n 1, 1) := by decide +kernel
theorem dX0_fillTables_39 : decode cX0_fillTables 39 = .ok (.iload_n 1, 1) := by decide +kernel
theorem dX0_fillTables_40 : decode cX0_fillTables 40 = .ok (.bipush 8, 2) := by decide +kernel
theorem dX0_fillTables_42 : decode cX0_fillTables 42 = .ok (.if_icmp .ge 83, 3) := by decide +kernel
theorem dX0_fillTables_45 : decode cX0_fillTables 45 = .ok (.aload_n 0, 1) := by decide +kernel
theorem dX0_fillTables_46 : decode cX0_fillTables 46 = .ok (.getfield 16, 3) := by decide +kernel
theorem dX0_fillTables_49 : decode cX0_fillTables 49 = .ok (.bipush 8, 2) := by decide +kernel
theorem dX0_fillTables_51 : decode cX0_fillTables 51 = .ok (.iload_n 1, 1) := by decide +kernel
theorem dX0_fillTables_52 : decode cX0_fillTables 52 = .ok (.imul, 1) := by decide +kernel
theorem dX0_fillTables_53 : decode cX0_fillTables 53 = .ok (.iconst 1, 1) := by decide +kernel
theorem dX0_fillTables_54 : decode cX0_fillTables 54 = .ok (.iastore, 1) := by decide +kernel
theorem dX0_fillTables_55 : decode cX0_fillTables 55 = .ok (.iconst 1, 1) := by decide +kernel
theorem dX0_fillTables_56 : decode cX0_fillTables 56 = .ok (.istore_n 2, 1) := by decide +kernel
theorem dX0_fillTables_57 : decode cX0_fillTables 57 = .ok (.iload_n 2, 1) := by decide +kernel
theorem dX0_fillTables_58 : decode cX0_fillTables 58 = .ok (.iload_n 1, 1) := by decide +kernel
theorem dX0_fillTables_59 : decode cX0_fillTables 59 = .ok (.if_icmp .gt 60, 3) := by decide +kernel
theorem dX0_fillTables_62 : decode cX0_fillTables 62 = .ok (.aload_n 0, 1) := by decide +kernel
theorem dX0_fillTables_63 : decode cX0_fillTables 63 = .ok (.getfield 16, 3) := by decide +kernel
theorem dX0_fillTables_66 : decode cX0_fillTables 66 = .ok (.bipush 8, 2) := by decide +kernel
theorem dX0_fillTables_68 : decode cX0_fillTables 68 = .ok (.iload_n 1, 1) := by decide +kernel
theorem dX0_fillTables_69 : decode cX0_fillTables 69 = .ok (.imul, 1) := by decide +kernel
theorem dX0_fillTables_70 : decode cX0_fillTables 70 = .ok (.iload_n 2, 1) := by decide +kernel
theorem dX0_fillTables_71 : decode cX0_fillTables 71 = .ok (.iadd, 1) := by decide +kernel
theorem dX0_fillTables_72 : decode cX0_fillTables 72 = .ok (.aload_n 0, 1) := by decide +kernel
theorem dX0_fillTables_73 : decode cX0_fillTables 73 = .ok (.getfield 16, 3) := by decide +kernel
theorem dX0_fillTables_76 : decode cX0_fillTables 76 = .ok (.bipush 8, 2) := by decide +kernel
theorem dX0_fillTables_78 : decode cX0_fillTables 78 = .ok (.iload_n 1, 1) := by decide +kernel
theorem dX0_fillTables_79 : decode cX0_fillTables 79 = .ok (.imul, 1) := by decide +kernel
theorem dX0_fillTables_80 : decode cX0_fillTables 80 = .ok (.bipush 8, 2) := by decide +kernel
theorem dX0_fillTables_82 : decode cX0_fillTables 82 = .ok (.isub, 1) := by decide +kernel
theorem dX0_fillTables_83 : decode cX0_fillTables 83 = .ok (.iload_n 2, 1) := by decide +kernel
theorem dX0_fillTables_84 : decode cX0_fillTables 84 = .ok (.iadd, 1) := by decide +kernel
theorem dX0_fillTables_85 : decode cX0_fillTables 85 = .ok (.iconst 1, 1) := by decide +kernel
theorem dX0_fillTables_86 : decode cX0_fillTables 86 = .ok (.isub, 1) := by decide +kernel
theorem dX0_fillTables_87 : decode cX0_fillTables 87 = .ok (.iaload, 1) := by decide +kernel
theorem dX0_fillTables_88 : decode cX0_fillTables 88 = .ok (.iload_n 2, 1) := by decide +kernel
theorem dX0_fillTables_89 : decode cX0_fillTables 89 = .ok (.iload_n 1, 1) := by decide +kernel
theorem dX0_fillTables_90 : decode cX0_fillTables 90 = .ok (.if_icmp .ge 20, 3) := by decide +kernel
theorem dX0_fillTables_93 : decode cX0_fillTables 93 = .ok (.aload_n 0, 1) := by decide +kernel
theorem dX0_fillTables_94 : decode cX0_fillTables 94 = .ok (.getfield 16, 3) := by decide +kernel
theorem dX0_fillTables_97 : decode cX0_fillTables 97 = .ok (.bipush 8, 2) := by decide +kernel
theorem dX0_fillTables_99 : decode cX0_fillTables 99 = .ok (.iload_n 1, 1) := by decide +kernel
theorem dX0_fillTables_100 : decode cX0_fillTables 100 = .ok (.imul, 1) := by decide +kernel
theorem dX0_fillTables_101 : decode cX0_fillTables 101 = .ok (.bipush 8, 2) := by decide +kernel
theorem dX0_fillTables_103 : decode cX0_fillTables 103 = .ok (.isub, 1) := by decide +kernel
theorem dX0_fillTables_104 : decode cX0_fillTables 104 = .ok (.iload_n 2, 1) := by decide +kernel
theorem dX0_fillTables_105 : decode cX0_fillTables 105 = .ok (.iadd, 1) := by decide +kernel
theorem dX0_fillTables_106 : decode cX0_fillTables 106 = .ok (.iaload, 1) := by decide +kernel
theorem dX0_fillTables_107 : decode cX0_fillTables 107 = .ok (.goto 4, 3) := by decide +kernel
theorem dX0_fillTables_110 : decode cX0_fillTables 110 = .ok (.iconst 0, 1) := by decide +kernel
theorem dX0_fillTables_111 : decode cX0_fillTables 111 = .ok (.iadd, 1) := by decide +kernel
theorem dX0_fillTables_112 : decode cX0_fillTables 112 = .ok (.iastore, 1) := by decide +kernel
theorem dX0_fillTables_113 : decode cX0_fillTables 113 = .ok (.iinc 2 1, 3) := by decide +kernel
theorem dX0_fillTables_116 : decode cX0_fillTables 116 = .ok (.goto (-59), 3) := by decide +kernel
theorem dX0_fillTables_119 : decode cX0_fillTables 119 = .ok (.iinc 1 1, 3) := by decide +kernel
theorem dX0_fillTables_122 : decode cX0_fillTables 122 = .ok (.goto (-83), 3) := by decide +kernel
theorem dX0_fillTables_125 : decode cX0_fillTables 125 = .ok (.iconst 0, 1) := by decide +kernel
theorem dX0_fillTables_126 : decode cX0_fillTables 126 = .ok (.istore_n 1, 1) := by decide +kernel
theorem dX0_fillTables_127 : decode cX0_fillTables 127 = .ok (.iload_n 1, 1) := by decide +kernel
theorem dX0_fillTables_128 : decode cX0_fillTables 128 = .ok (.bipush 16, 2) := by decide +kernel
theorem dX0_fillTables_130 : decode cX0_fillTables 130 = .ok (.if_icmp .ge 16, 3) := by decide +kernel
theorem dX0_fillTables_133 : decode cX0_fillTables 133 = .ok (.aload_n 0, 1) := by decide +kernel
theorem dX0_fillTables_134 : decode cX0_fillTables 134 = .ok (.getfield 20, 3) := by decide +kernel
theorem dX0_fillTables_137 : decode cX0_fillTables 137 = .ok (.iload_n 1, 1) := by decide +kernel
theorem dX0_fillTables_138 : decode cX0_fillTables 138 = .ok (.iconst 1, 1) := by decide +kernel
theorem dX0_fillTables_139 : decode cX0_fillTables 139 = .ok (.iastore, 1) := by decide +kernel
theorem dX0_fillTables_140 : decode cX0_fillTables 140 = .ok (.iinc 1 1, 3) := by decide +kernel
theorem dX0_fillTables_143 : decode cX0_fillTables 143 = .ok (.goto (-16), 3) := by decide +kernel
theorem dX0_fillTables_146 : decode cX0_fillTables 146 = .ok (.iconst 1, 1) := by decide +kernel
theorem dX0_fillTables_147 : decode cX0_fillTables 147 = .ok (.istore_n 1, 1) := by decide +kernel
theorem dX0_fillTables_148 : decode cX0_fillTables 148 = .ok (.iload_n 1, 1) := by decide +kernel
theorem dX0_fillTables_149 : decode cX0_fillTables 149 = .ok (.bipush 8, 2) := by decide +kernel
theorem dX0_fillTables_151 : decode cX0_fillTables 151 = .ok (.if_icmp .ge 67, 3) := by decide +kernel
theorem dX0_fillTables_154 : decode cX0_fillTables 154 = .ok (.iconst 0, 1) := by decide +kernel
theorem dX0_fillTables_155 : decode cX0_fillTables 155 = .ok (.istore_n 2, 1) := by decide +kernel
theorem dX0_fillTables_156 : decode cX0_fillTables 156 = .ok (.iload_n 2, 1) := by decide +kernel
theorem dX0_fillTables_157 : decode cX0_fillTables 157 = .ok (.iload_n 1, 1) := by decide +kernel
theorem dX0_fillTables_158 : decode cX0_fillTables 158 = .ok (.iadd, 1) := by decide +kernel
theorem dX0_fillTables_159 : decode cX0_fillTables 159 = .ok (.bipush 16, 2) := by decide +kernel
theorem dX0_fillTables_161 : decode cX0_fillTables 161 = .ok (.if_icmp .ge 51, 3) := by decide +kernel
theorem dX0_fillTables_164 : decode cX0_fillTables 164 = .ok (.aload_n 0, 1) := by decide +kernel
theorem dX0_fillTables_165 : decode cX0_fillTables 165 = .ok (.getfield 20, 3) := by decide +kernel
theorem dX0_fillTables_168 : decode cX0_fillTables 168 = .ok (.bipush 16, 2) := by decide +kernel
theorem dX0_fillTables_170 : decode cX0_fillTables 170 = .ok (.iload_n 1, 1) := by decide +kernel
theorem dX0_fillTables_171 : decode cX0_fillTables 171 = .ok (.imul, 1) := by decide +kernel
theorem dX0_fillTables_172 : decode cX0_fillTables 172 = .ok (.iload_n 2, 1) := by decide +kernel
theorem dX0_fillTables_173 : decode cX0_fillTables 173 = .ok (.iadd, 1) := by decide +kernel
theorem dX0_fillTables_174 : decode cX0_fillTables 174 = .ok (.iload_n 2, 1) := by decide +kernel
theorem dX0_fillTables_175 : decode cX0_fillTables 175 = .ok (.aload_n 0, 1) := by decide +kernel
theorem dX0_fillTables_176 : decode cX0_fillTables 176 = .ok (.getfield 20, 3) := by decide +kernel
theorem dX0_fillTables_179 : decode cX0_fillTables 179 = .ok (.bipush 16, 2) := by decide +kernel
theorem dX0_fillTables_181 : decode cX0_fillTables 181 = .ok (.iload_n 1, 1) := by decide +kernel
theorem dX0_fillTables_182 : decode cX0_fillTables 182 = .ok (.imul, 1) := by decide +kernel
theorem dX0_fillTables_183 : decode cX0_fillTables 183 = .ok (.bipush 16, 2) := by decide +kernel
theorem dX0_fillTables_185 : decode cX0_fillTables 185 = .ok (.isub, 1) := by decide +kernel
theorem dX0_fillTables_186 : decode cX0_fillTables 186 = .ok (.iload_n 2, 1) := by decide +kernel
theorem dX0_fillTables_187 : decode cX0_fillTables 187 = .ok (.iadd, 1) := by decide +kernel
theorem dX0_fillTables_188 : decode cX0_fillTables 188 = .ok (.iaload, 1) := by decide +kernel
theorem dX0_fillTables_189 : decode cX0_fillTables 189 = .ok (.imul, 1) := by decide +kernel
theorem dX0_fillTables_190 : decode cX0_fillTables 190 = .ok (.aload_n 0, 1) := by decide +kernel
theorem dX0_fillTables_191 : decode cX0_fillTables 191 = .ok (.getfield 20, 3) := by decide +kernel
theorem dX0_fillTables_194 : decode cX0_fillTables 194 = .ok (.bipush 16, 2) := by decide +kernel
theorem dX0_fillTables_196 : decode cX0_fillTables 196 = .ok (.iload_n 1, 1) := by decide +kernel
theorem dX0_fillTables_197 : decode cX0_fillTables 197 = .ok (.imul, 1) := by decide +kernel
theorem dX0_fillTables_198 : decode cX0_fillTables 198 = .ok (.bipush 15, 2) := by decide +kernel
theorem dX0_fillTables_200 : decode cX0_fillTables 200 = .ok (.isub, 1) := by decide +kernel
theorem dX0_fillTables_201 : decode cX0_fillTables 201 = .ok (.iload_n 2, 1) := by decide +kernel
theorem dX0_fillTables_202 : decode cX0_fillTables 202 = .ok (.iadd, 1) := by decide +kernel
theorem dX0_fillTables_203 : decode cX0_fillTables 203 = .ok (.iaload, 1) := by decide +kernel
theorem dX0_fillTables_204 : decode cX0_fillTables 204 = .ok (.iadd, 1) := by decide +kernel
theorem dX0_fillTables_205 : decode cX0_fillTables 205 = .ok (.iastore, 1) := by decide +kernel
theorem dX0_fillTables_206 : decode cX0_fillTables 206 = .ok (.iinc 2 1, 3) := by decide +kernel
theorem dX0_fillTables_209 : decode cX0_fillTables 209 = .ok (.goto (-53), 3) := by decide +kernel
theorem dX0_fillTables_212 : decode cX0_fillTables 212 = .ok (.iinc 1 1, 3) := by decide +kernel
theorem dX0_fillTables_215 : decode cX0_fillTables 215 = .ok (.goto (-67), 3) := by decide +kernel
theorem dX0_fillTables_218 : decode cX0_fillTables 218 = .ok (.iconst 0, 1) := by decide +kernel
theorem dX0_fillTables_219 : decode cX0_fillTables 219 = .ok (.istore_n 1, 1) := by decide +kernel
theorem dX0_fillTables_220 : decode cX0_fillTables 220 = .ok (.iload_n 1, 1) := by decide +kernel
theorem dX0_fillTables_221 : decode cX0_fillTables 221 = .ok (.bipush 8, 2) := by decide +kernel
theorem dX0_fillTables_223 : decode cX0_fillTables 223 = .ok (.if_icmp .ge 86, 3) := by decide +kernel
theorem dX0_fillTables_226 : decode cX0_fillTables 226 = .ok (.iconst 0, 1) := by decide +kernel
theorem dX0_fillTables_227 : decode cX0_fillTables 227 = .ok (.istore_n 2, 1) := by decide +kernel
theorem dX0_fillTables_228 : decode cX0_fillTables 228 = .ok (.iload_n 2, 1) := by decide +kernel
theorem dX0_fillTables_229 : decode cX0_fillTables 229 = .ok (.iload_n 1, 1) := by decide +kernel
theorem dX0_fillTables_230 : decode cX0_fillTables 230 = .ok (.if_icmp .gt 73, 3) := by decide +kernel
theorem dX0_fillTables_233 : decode cX0_fillTables 233 = .ok (.iload_n 1, 1) := by decide +kernel
theorem dX0_fillTables_234 : decode cX0_fillTables 234 = .ok (.ifCond .ne 7, 3) := by decide +kernel
theorem dX0_fillTables_237 : decode cX0_fillTables 237 = .ok (.iconst 1, 1) := by decide +kernel
theorem dX0_fillTables_238 : decode cX0_fillTables 238 = .ok (.goto 4, 3) := by decide +kernel
theorem dX0_fillTables_241 : decode cX0_fillTables 241 = .ok (.iconst 0, 1) := by decide +kernel
theorem dX0_fillTables_242 : decode cX0_fillTables 242 = .ok (.istore_n 3, 1) := by decide +kernel
theorem dX0_fillTables_243 : decode cX0_fillTables 243 = .ok (.iload_n 2, 1) := by decide +kernel
theorem dX0_fillTables_244 : decode cX0_fillTables 244 = .ok (.ifCond .le 19, 3) := by decide +kernel
theorem dX0_fillTables_247 : decode cX0_fillTables 247 = .ok (.iload_n 3, 1) := by decide +kernel
theorem dX0_fillTables_248 : decode cX0_fillTables 248 = .ok (.aload_n 0, 1) := by decide +kernel
theorem dX0_fillTables_249 : decode cX0_fillTables 249 = .ok (.getfield 23, 3) := by decide +kernel
theorem dX0_fillTables_252 : decode cX0_fillTables 252 = .ok (.bipush 8, 2) := by decide +kernel
theorem dX0_fillTables_254 : decode cX0_fillTables 254 = .ok (.iload_n 1, 1) := by decide +kernel
theorem dX0_fillTables_255 : decode cX0_fillTables 255 = .ok (.imul, 1) := by decide +kernel
theorem dX0_fillTables_256 : decode cX0_fillTables 256 = .ok (.iload_n 2, 1) := by decide +kernel
theorem dX0_fillTables_257 : decode cX0_fillTables 257 = .ok (.iadd, 1) := by decide +kernel
theorem dX0_fillTables_258 : decode cX0_fillTables 258 = .ok (.iconst 1, 1) := by decide +kernel
theorem dX0_fillTables_259 : decode cX0_fillTables 259 = .ok (.isub, 1) := by decide +kernel
theorem dX0_fillTables_260 : decode cX0_fillTables 260 = .ok (.iaload, 1) := by decide +kernel
theorem dX0_fillTables_261 : decode cX0_fillTables 261 = .ok (.iadd, 1) := by decide +kernel
theorem dX0_fillTables_262 : decode cX0_fillTables 262 = .ok (.istore_n 3, 1) := by decide +kernel
theorem dX0_fillTables_263 : decode cX0_fillTables 263 = .ok (.iload_n 1, 1) := by decide +kernel
theorem dX0_fillTables_264 : decode cX0_fillTables 264 = .ok (.iload_n 2, 1) := by decide +kernel
theorem dX0_fillTables_265 : decode cX0_fillTables 265 = .ok (.if_icmp .le 20, 3) := by decide +kernel
theorem dX0_fillTables_268 : decode cX0_fillTables 268 = .ok (.iload_n 3, 1) := by decide +kernel
theorem dX0_fillTables_269 : decode cX0_fillTables 269 = .ok (.aload_n 0, 1) := by decide +kernel
theorem dX0_fillTables_270 : decode cX0_fillTables 270 = .ok (.getfield 23, 3) := by decide +kernel
theorem dX0_fillTables_273 : decode cX0_fillTables 273 = .ok (.bipush 8, 2) := by decide +kernel
theorem dX0_fillTables_275 : decode cX0_fillTables 275 = .ok (.iload_n 1, 1) := by decide +kernel
theorem dX0_fillTables_276 : decode cX0_fillTables 276 = .ok (.imul, 1) := by decide +kernel
theorem dX0_fillTables_277 : decode cX0_fillTables 277 = .ok (.bipush 8, 2) := by decide +kernel
theorem dX0_fillTables_279 : decode cX0_fillTables 279 = .ok (.isub, 1) := by decide +kernel
theorem dX0_fillTables_280 : decode cX0_fillTables 280 = .ok (.iload_n 2, 1) := by decide +kernel
theorem dX0_fillTables_281 : decode cX0_fillTables 281 = .ok (.iadd, 1) := by decide +kernel
theorem dX0_fillTables_282 : decode cX0_fillTables 282 = .ok (.iaload, 1) := by decide +kernel
theorem dX0_fillTables_283 : decode cX0_fillTables 283 = .ok (.iadd, 1) := by decide +kernel
theorem dX0_fillTables_284 : decode cX0_fillTables 284 = .ok (.istore_n 3, 1) := by decide +kernel
theorem dX0_fillTables_285 : decode cX0_fillTables 285 = .ok (.aload_n 0, 1) := by decide +kernel
theorem dX0_fillTables_286 : decode cX0_fillTables 286 = .ok (.getfield 23, 3) := by decide +kernel
theorem dX0_fillTables_289 : decode cX0_fillTables 289 = .ok (.bipush 8, 2) := by decide +kernel
theorem dX0_fillTables_291 : decode cX0_fillTables 291 = .ok (.iload_n 1, 1) := by decide +kernel
theorem dX0_fillTables_292 : decode cX0_fillTables 292 = .ok (.imul, 1) := by decide +kernel
theorem dX0_fillTables_293 : decode cX0_fillTables 293 = .ok (.iload_n 2, 1) := by decide +kernel
theorem dX0_fillTables_294 : decode cX0_fillTables 294 = .ok (.iadd, 1) := by decide +kernel
theorem dX0_fillTables_295 : decode cX0_fillTables 295 = .ok (.iload_n 3, 1) := by decide +kernel
theorem dX0_fillTables_296 : decode cX0_fillTables 296 = .ok (.iastore, 1) := by decide +kernel
theorem dX0_fillTables_297 : decode cX0_fillTables 297 = .ok (.iinc 2 1, 3) := by decide +kernel
theorem dX0_fillTables_300 : decode cX0_fillTables 300 = .ok (.goto (-72), 3) := by decide +kernel
theorem dX0_fillTables_303 : decode cX0_fillTables 303 = .ok (.iinc 1 1, 3) := by decide +kernel
theorem dX0_fillTables_306 : decode cX0_fillTables 306 = .ok (.goto (-86), 3) := by decide +kernel
theorem dX0_fillTables_309 : decode cX0_fillTables 309 = .ok (.return_, 1) := by decide +kernel
theorem dX0_choose_0 : decode cX0_choose 0 = .ok (.iload_n 1, 1) := by decide +kernel
theorem dX0_choose_1 : decode cX0_choose 1 = .ok (.ifCond .lt 19, 3) := by decide +kernel
theorem dX0_choose_4 : decode cX0_choose 4 = .ok (.iload_n 1, 1) := by decide +kernel
theorem dX0_choose_5 : decode cX0_choose 5 = .ok (.iconst 4, 1) := by decide +kernel
theorem dX0_choose_6 : decode cX0_choose 6 = .ok (.if_icmp .gt 14, 3) := by decide +kernel
theorem dX0_choose_9 : decode cX0_choose 9 = .ok (.iload_n 2, 1) := by decide +kernel
theorem dX0_choose_10 : decode cX0_choose 10 = .ok (.iconst 1, 1) := by decide +kernel
theorem dX0_choose_11 : decode cX0_choose 11 = .ok (.if_icmp .lt 9, 3) := by decide +kernel
theorem dX0_choose_14 : decode cX0_choose 14 = .ok (.iload_n 2, 1) := by decide +kernel
theorem dX0_choose_15 : decode cX0_choose 15 = .ok (.bipush 7, 2) := by decide +kernel
theorem dX0_choose_17 : decode cX0_choose 17 = .ok (.if_icmp .le 5, 3) := by decide +kernel
theorem dX0_choose_20 : decode cX0_choose 20 = .ok (.iconst 0, 1) := by decide +kernel
theorem dX0_choose_21 : decode cX0_choose 21 = .ok (.ireturn, 1) := by decide +kernel
theorem dX0_choose_22 : decode cX0_choose 22 = .ok (.iload_n 1, 1) := by decide +kernel
theorem dX0_choose_23 : decode cX0_choose 23 = .ok (.ifCond .eq 8, 3) := by decide +kernel
theorem dX0_choose_26 : decode cX0_choose 26 = .ok (.iload_n 1, 1) := by decide +kernel
theorem dX0_choose_27 : decode cX0_choose 27 = .ok (.iconst 4, 1) := by decide +kernel
theorem dX0_choose_28 : decode cX0_choose 28 = .ok (.if_icmp .ne 7, 3) := by decide +kernel
theorem dX0_choose_31 : decode cX0_choose 31 = .ok (.iconst 1, 1) := by decide +kernel
theorem dX0_choose_32 : decode cX0_choose 32 = .ok (.goto 4, 3) := by decide +kernel
theorem dX0_choose_35 : decode cX0_choose 35 = .ok (.iconst 0, 1) := by decide +kernel
theorem dX0_choose_36 : decode cX0_choose 36 = .ok (.istore 4, 2) := by decide +kernel
theorem dX0_choose_38 : decode cX0_choose 38 = .ok (.iload 4, 2) := by decide +kernel
theorem dX0_choose_40 : decode cX0_choose 40 = .ok (.ifCond .eq 14, 3) := by decide +kernel
theorem dX0_choose_43 : decode cX0_choose 43 = .ok (.iload_n 3, 1) := by decide +kernel
theorem dX0_choose_44 : decode cX0_choose 44 = .ok (.ifCond .lt 8, 3) := by decide +kernel
theorem dX0_choose_47 : decode cX0_choose 47 = .ok (.iload_n 3, 1) := by decide +kernel
theorem dX0_choose_48 : decode cX0_choose 48 = .ok (.iload_n 2, 1) := by decide +kernel
theorem dX0_choose_49 : decode cX0_choose 49 = .ok (.if_icmp .le 5, 3) := by decide +kernel
theorem dX0_choose_52 : decode cX0_choose 52 = .ok (.iconst 0, 1) := by decide +kernel
theorem dX0_choose_53 : decode cX0_choose 53 = .ok (.ireturn, 1) := by decide +kernel
theorem dX0_choose_54 : decode cX0_choose 54 = .ok (.aload_n 0, 1) := by decide +kernel
theorem dX0_choose_55 : decode cX0_choose 55 = .ok (.iload_n 1, 1) := by decide +kernel
theorem dX0_choose_56 : decode cX0_choose 56 = .ok (.putfield 36, 3) := by decide +kernel
theorem dX0_choose_59 : decode cX0_choose 59 = .ok (.aload_n 0, 1) := by decide +kernel
theorem dX0_choose_60 : decode cX0_choose 60 = .ok (.iload_n 2, 1) := by decide +kernel
theorem dX0_choose_61 : decode cX0_choose 61 = .ok (.putfield 40, 3) := by decide +kernel
theorem dX0_choose_64 : decode cX0_choose 64 = .ok (.aload_n 0, 1) := by decide +kernel
theorem dX0_choose_65 : decode cX0_choose 65 = .ok (.iload 4, 2) := by decide +kernel
theorem dX0_choose_67 : decode cX0_choose 67 = .ok (.ifCond .eq 7, 3) := by decide +kernel
theorem dX0_choose_70 : decode cX0_choose 70 = .ok (.iload_n 3, 1) := by decide +kernel
theorem dX0_choose_71 : decode cX0_choose 71 = .ok (.goto 4, 3) := by decide +kernel
theorem dX0_choose_74 : decode cX0_choose 74 = .ok (.iconst 0, 1) := by decide +kernel
theorem dX0_choose_75 : decode cX0_choose 75 = .ok (.putfield 43, 3) := by decide +kernel
theorem dX0_choose_78 : decode cX0_choose 78 = .ok (.aload_n 0, 1) := by decide +kernel
theorem dX0_choose_79 : decode cX0_choose 79 = .ok (.iload 4, 2) := by decide +kernel
theorem dX0_choose_81 : decode cX0_choose 81 = .ok (.ifCond .eq 7, 3) := by decide +kernel
theorem dX0_choose_84 : decode cX0_choose 84 = .ok (.iload_n 3, 1) := by decide +kernel
theorem dX0_choose_85 : decode cX0_choose 85 = .ok (.goto 15, 3) := by decide +kernel
theorem dX0_choose_88 : decode cX0_choose 88 = .ok (.iload_n 1, 1) := by decide +kernel
theorem dX0_choose_89 : decode cX0_choose 89 = .ok (.iconst 3, 1) := by decide +kernel
theorem dX0_choose_90 : decode cX0_choose 90 = .ok (.if_icmp .ne 9, 3) := by decide +kernel
theorem dX0_choose_93 : decode cX0_choose 93 = .ok (.iconst 2, 1) := by decide +kernel
theorem dX0_choose_94 : decode cX0_choose 94 = .ok (.iload_n 2, 1) := by decide +kernel
theorem dX0_choose_95 : decode cX0_choose 95 = .ok (.imul, 1) := by decide +kernel
theorem dX0_choose_96 : decode cX0_choose 96 = .ok (.goto 4, 3) := by decide +kernel
theorem dX0_choose_99 : decode cX0_choose 99 = .ok (.iload_n 2, 1) := by decide +kernel
theorem dX0_choose_100 : decode cX0_choose 100 = .ok (.putfield 46, 3) := by decide +kernel
theorem dX0_choose_103 : decode cX0_choose 103 = .ok (.aload_n 0, 1) := by decide +kernel
theorem dX0_choose_104 : decode cX0_choose 104 = .ok (.bipush (-2), 2) := by decide +kernel
theorem dX0_choose_106 : decode cX0_choose 106 = .ok (.putfield 49, 3) := by decide +kernel
theorem dX0_choose_109 : decode cX0_choose 109 = .ok (.aload_n 0, 1) := by decide +kernel
theorem dX0_choose_110 : decode cX0_choose 110 = .ok (.invokevirtual 52, 3) := by decide +kernel
theorem dX0_choose_113 : decode cX0_choose 113 = .ok (.istore 5, 2) := by decide +kernel
theorem dX0_choose_115 : decode cX0_choose 115 = .ok (.iload 5, 2) := by decide +kernel
theorem dX0_choose_117 : decode cX0_choose 117 = .ok (.ifCond .le 9, 3) := by decide +kernel
theorem dX0_choose_120 : decode cX0_choose 120 = .ok (.aload_n 0, 1) := by decide +kernel
theorem dX0_choose_121 : decode cX0_choose 121 = .ok (.iconst 0, 1) := by decide +kernel
theorem dX0_choose_122 : decode cX0_choose 122 = .ok (.invokevirtual 56, 3) := by decide +kernel
theorem dX0_choose_125 : decode cX0_choose 125 = .ok (.pop, 1) := by decide +kernel
theorem dX0_choose_126 : decode cX0_choose 126 = .ok (.iconst 1, 1) := by decide +kernel
theorem dX0_choose_127 : decode cX0_choose 127 = .ok (.ireturn, 1) := by decide +kernel
theorem dX0_count_0 : decode cX0_count 0 = .ok (.aload_n 0, 1) := by decide +kernel
theorem dX0_count_1 : decode cX0_count 1 = .ok (.iconst 0, 1) := by decide +kernel
theorem dX0_count_2 : decode cX0_count 2 = .ok (.invokevirtual 60, 3) := by decide +kernel
theorem dX0_count_5 : decode cX0_count 5 = .ok (.ireturn, 1) := by decide +kernel
theorem dX0_goingOn_0 : decode cX0_goingOn 0 = .ok (.aload_n 0, 1) := by decide +kernel
theorem dX0_goingOn_1 : decode cX0_goingOn 1 = .ok (.getfield 46, 3) := by decide +kernel
theorem dX0_goingOn_4 : decode cX0_goingOn 4 = .ok (.iload_n 1, 1) := by decide +kernel
theorem dX0_goingOn_5 : decode cX0_goingOn 5 = .ok (.isub, 1) := by decide +kernel
theorem dX0_goingOn_6 : decode cX0_goingOn 6 = .ok (.istore_n 2, 1) := by decide +kernel
theorem dX0_goingOn_7 : decode cX0_goingOn 7 = .ok (.aload_n 0, 1) := by decide +kernel
theorem dX0_goingOn_8 : decode cX0_goingOn 8 = .ok (.getfield 36, 3) := by decide +kernel
theorem dX0_goingOn_11 : decode cX0_goingOn 11 = .ok (.iconst 1, 1) := by decide +kernel
theorem dX0_goingOn_12 : decode cX0_goingOn 12 = .ok (.if_icmp .ne 10, 3) := by decide +kernel
theorem dX0_goingOn_15 : decode cX0_goingOn 15 = .ok (.aload_n 0, 1) := by decide +kernel
theorem dX0_goingOn_16 : decode cX0_goingOn 16 = .ok (.getfield 26, 3) := by decide +kernel
theorem dX0_goingOn_19 : decode cX0_goingOn 19 = .ok (.iload_n 2, 1) := by decide +kernel
theorem dX0_goingOn_20 : decode cX0_goingOn 20 = .ok (.iaload, 1) := by decide +kernel
theorem dX0_goingOn_21 : decode cX0_goingOn 21 = .ok (.ireturn, 1) := by decide +kernel
theorem dX0_goingOn_22 : decode cX0_goingOn 22 = .ok (.aload_n 0, 1) := by decide +kernel
theorem dX0_goingOn_23 : decode cX0_goingOn 23 = .ok (.getfield 36, 3) := by decide +kernel
theorem dX0_goingOn_26 : decode cX0_goingOn 26 = .ok (.iconst 2, 1) := by decide +kernel
theorem dX0_goingOn_27 : decode cX0_goingOn 27 = .ok (.if_icmp .ne 23, 3) := by decide +kernel
theorem dX0_goingOn_30 : decode cX0_goingOn 30 = .ok (.aload_n 0, 1) := by decide +kernel
theorem dX0_goingOn_31 : decode cX0_goingOn 31 = .ok (.iload_n 1, 1) := by decide +kernel
theorem dX0_goingOn_32 : decode cX0_goingOn 32 = .ok (.invokevirtual 83, 3) := by decide +kernel
theorem dX0_goingOn_35 : decode cX0_goingOn 35 = .ok (.iconst 1, 1) := by decide +kernel
theorem dX0_goingOn_36 : decode cX0_goingOn 36 = .ok (.iadd, 1) := by decide +kernel
theorem dX0_goingOn_37 : decode cX0_goingOn 37 = .ok (.istore_n 3, 1) := by decide +kernel
theorem dX0_goingOn_38 : decode cX0_goingOn 38 = .ok (.aload_n 0, 1) := by decide +kernel
theorem dX0_goingOn_39 : decode cX0_goingOn 39 = .ok (.getfield 20, 3) := by decide +kernel
theorem dX0_goingOn_42 : decode cX0_goingOn 42 = .ok (.bipush 16, 2) := by decide +kernel
theorem dX0_goingOn_44 : decode cX0_goingOn 44 = .ok (.iload_n 2, 1) := by decide +kernel
theorem dX0_goingOn_45 : decode cX0_goingOn 45 = .ok (.imul, 1) := by decide +kernel
theorem dX0_goingOn_46 : decode cX0_goingOn 46 = .ok (.iload_n 3, 1) := by decide +kernel
theorem dX0_goingOn_47 : decode cX0_goingOn 47 = .ok (.iadd, 1) := by decide +kernel
theorem dX0_goingOn_48 : decode cX0_goingOn 48 = .ok (.iaload, 1) := by decide +kernel
theorem dX0_goingOn_49 : decode cX0_goingOn 49 = .ok (.ireturn, 1) := by decide +kernel
theorem dX0_goingOn_50 : decode cX0_goingOn 50 = .ok (.aload_n 0, 1) := by decide +kernel
theorem dX0_goingOn_51 : decode cX0_goingOn 51 = .ok (.getfield 36, 3) := by decide +kernel
theorem dX0_goingOn_54 : decode cX0_goingOn 54 = .ok (.ifCond .ne 51, 3) := by decide +kernel
theorem dX0_goingOn_57 : decode cX0_goingOn 57 = .ok (.iload_n 1, 1) := by decide +kernel
theorem dX0_goingOn_58 : decode cX0_goingOn 58 = .ok (.ifCond .ne 10, 3) := by decide +kernel
theorem dX0_goingOn_61 : decode cX0_goingOn 61 = .ok (.aload_n 0, 1) := by decide +kernel
theorem dX0_goingOn_62 : decode cX0_goingOn 62 = .ok (.getfield 40, 3) := by decide +kernel
theorem dX0_goingOn_65 : decode cX0_goingOn 65 = .ok (.goto 18, 3) := by decide +kernel
theorem dX0_goingOn_68 : decode cX0_goingOn 68 = .ok (.aload_n 0, 1) := by decide +kernel
theorem dX0_goingOn_69 : decode cX0_goingOn 69 = .ok (.getfield 40, 3) := by decide +kernel
theorem dX0_goingOn_72 : decode cX0_goingOn 72 = .ok (.iconst 1, 1) := by decide +kernel
theorem dX0_goingOn_73 : decode cX0_goingOn 73 = .ok (.isub, 1) := by decide +kernel
theorem dX0_goingOn_74 : decode cX0_goingOn 74 = .ok (.aload_n 0, 1) := by decide +kernel
theorem dX0_goingOn_75 : decode cX0_goingOn 75 = .ok (.getfield 7, 3) := by decide +kernel
theorem dX0_goingOn_78 : decode cX0_goingOn 78 = .ok (.iload_n 1, 1) := by decide +kernel
theorem dX0_goingOn_79 : decode cX0_goingOn 79 = .ok (.iconst 1, 1) := by decide +kernel
theorem dX0_goingOn_80 : decode cX0_goingOn 80 = .ok (.isub, 1) := by decide +kernel
theorem dX0_goingOn_81 : decode cX0_goingOn 81 = .ok (.baload, 1) := by decide +kernel
theorem dX0_goingOn_82 : decode cX0_goingOn 82 = .ok (.isub, 1) := by decide +kernel
theorem dX0_goingOn_83 : decode cX0_goingOn 83 = .ok (.istore_n 3, 1) := by decide +kernel
theorem dX0_goingOn_84 : decode cX0_goingOn 84 = .ok (.iload_n 2, 1) := by decide +kernel
theorem dX0_goingOn_85 : decode cX0_goingOn 85 = .ok (.iload_n 3, 1) := by decide +kernel
theorem dX0_goingOn_86 : decode cX0_goingOn 86 = .ok (.if_icmp .le 7, 3) := by decide +kernel
theorem dX0_goingOn_89 : decode cX0_goingOn 89 = .ok (.iconst 0, 1) := by decide +kernel
theorem dX0_goingOn_90 : decode cX0_goingOn 90 = .ok (.goto 14, 3) := by decide +kernel
theorem dX0_goingOn_93 : decode cX0_goingOn 93 = .ok (.aload_n 0, 1) := by decide +kernel
theorem dX0_goingOn_94 : decode cX0_goingOn 94 = .ok (.getfield 16, 3) := by decide +kernel
theorem dX0_goingOn_97 : decode cX0_goingOn 97 = .ok (.bipush 8, 2) := by decide +kernel
theorem dX0_goingOn_99 : decode cX0_goingOn 99 = .ok (.iload_n 3, 1) := by decide +kernel
theorem dX0_goingOn_100 : decode cX0_goingOn 100 = .ok (.imul, 1) := by decide +kernel
theorem dX0_goingOn_101 : decode cX0_goingOn 101 = .ok (.iload_n 2, 1) := by decide +kernel
theorem dX0_goingOn_102 : decode cX0_goingOn 102 = .ok (.iadd, 1) := by decide +kernel
theorem dX0_goingOn_103 : decode cX0_goingOn 103 = .ok (.iaload, 1) := by decide +kernel
theorem dX0_goingOn_104 : decode cX0_goingOn 104 = .ok (.ireturn, 1) := by decide +kernel
theorem dX0_goingOn_105 : decode cX0_goingOn 105 = .ok (.aload_n 0, 1) := by decide +kernel
theorem dX0_goingOn_106 : decode cX0_goingOn 106 = .ok (.iload_n 1, 1) := by decide +kernel
theorem dX0_goingOn_107 : decode cX0_goingOn 107 = .ok (.invokevirtual 86, 3) := by decide +kernel
theorem dX0_goingOn_110 : decode cX0_goingOn 110 = .ok (.istore_n 3, 1) := by decide +kernel
theorem dX0_goingOn_111 : decode cX0_goingOn 111 = .ok (.aload_n 0, 1) := by decide +kernel
theorem dX0_goingOn_112 : decode cX0_goingOn 112 = .ok (.getfield 36, 3) := by decide +kernel
theorem dX0_goingOn_115 : decode cX0_goingOn 115 = .ok (.iconst 3, 1) := by decide +kernel
theorem dX0_goingOn_116 : decode cX0_goingOn 116 = .ok (.if_icmp .ne 27, 3) := by decide +kernel
theorem dX0_goingOn_119 : decode cX0_goingOn 119 = .ok (.aload_n 0, 1) := by decide +kernel
theorem dX0_goingOn_120 : decode cX0_goingOn 120 = .ok (.getfield 23, 3) := by decide +kernel
theorem dX0_goingOn_123 : decode cX0_goingOn 123 = .ok (.bipush 8, 2) := by decide +kernel
theorem dX0_goingOn_125 : decode cX0_goingOn 125 = .ok (.aload_n 0, 1) := by decide +kernel
theorem dX0_goingOn_126 : decode cX0_goingOn 126 = .ok (.getfield 40, 3) := by decide +kernel
theorem dX0_goingOn_129 : decode cX0_goingOn 129 = .ok (.iload_n 1, 1) := by decide +kernel
theorem dX0_goingOn_130 : decode cX0_goingOn 130 = .ok (.isub, 1) := by decide +kernel
theorem dX0_goingOn_131 : decode cX0_goingOn 131 = .ok (.iload_n 3, 1) := by decide +kernel
theorem dX0_goingOn_132 : decode cX0_goingOn 132 = .ok (.iadd, 1) := by decide +kernel
theorem dX0_goingOn_133 : decode cX0_goingOn 133 = .ok (.imul, 1) := by decide +kernel
theorem dX0_goingOn_134 : decode cX0_goingOn 134 = .ok (.aload_n 0, 1) := by decide +kernel
theorem dX0_goingOn_135 : decode cX0_goingOn 135 = .ok (.getfield 40, 3) := by decide +kernel
theorem dX0_goingOn_138 : decode cX0_goingOn 138 = .ok (.iadd, 1) := by decide +kernel
theorem dX0_goingOn_139 : decode cX0_goingOn 139 = .ok (.iload_n 3, 1) := by decide +kernel
theorem dX0_goingOn_140 : decode cX0_goingOn 140 = .ok (.isub, 1) := by decide +kernel
theorem dX0_goingOn_141 : decode cX0_goingOn 141 = .ok (.iaload, 1) := by decide +kernel
theorem dX0_goingOn_142 : decode cX0_goingOn 142 = .ok (.ireturn, 1) := by decide +kernel
theorem dX0_goingOn_143 : decode cX0_goingOn 143 = .ok (.aload_n 0, 1) := by decide +kernel
theorem dX0_goingOn_144 : decode cX0_goingOn 144 = .ok (.getfield 40, 3) := by decide +kernel
theorem dX0_goingOn_147 : decode cX0_goingOn 147 = .ok (.iload_n 3, 1) := by decide +kernel
theorem dX0_goingOn_148 : decode cX0_goingOn 148 = .ok (.isub, 1) := by decide +kernel
theorem dX0_goingOn_149 : decode cX0_goingOn 149 = .ok (.istore 4, 2) := by decide +kernel
theorem dX0_goingOn_151 : decode cX0_goingOn 151 = .ok (.iload 4, 2) := by decide +kernel
theorem dX0_goingOn_153 : decode cX0_goingOn 153 = .ok (.ifCond .lt 12, 3) := by decide +kernel
theorem dX0_goingOn_156 : decode cX0_goingOn 156 = .ok (.iload_n 2, 1) := by decide +kernel
theorem dX0_goingOn_157 : decode cX0_goingOn 157 = .ok (.ifCond .ne 10, 3) := by decide +kernel
theorem dX0_goingOn_160 : decode cX0_goingOn 160 = .ok (.iload 4, 2) := by decide +kernel
theorem dX0_goingOn_162 : decode cX0_goingOn 162 = .ok (.ifCond .le 5, 3) := by decide +kernel
theorem dX0_goingOn_165 : decode cX0_goingOn 165 = .ok (.iconst 0, 1) := by decide +kernel
theorem dX0_goingOn_166 : decode cX0_goingOn 166 = .ok (.ireturn, 1) := by decide +kernel
theorem dX0_goingOn_167 : decode cX0_goingOn 167 = .ok (.iload_n 2, 1) := by decide +kernel
theorem dX0_goingOn_168 : decode cX0_goingOn 168 = .ok (.ifCond .ne 7, 3) := by decide +kernel
theorem dX0_goingOn_171 : decode cX0_goingOn 171 = .ok (.iconst 1, 1) := by decide +kernel
theorem dX0_goingOn_172 : decode cX0_goingOn 172 = .ok (.goto 10, 3) := by decide +kernel
theorem dX0_goingOn_175 : decode cX0_goingOn 175 = .ok (.aload_n 0, 1) := by decide +kernel
theorem dX0_goingOn_176 : decode cX0_goingOn 176 = .ok (.iload 4, 2) := by decide +kernel
theorem dX0_goingOn_178 : decode cX0_goingOn 178 = .ok (.iload_n 2, 1) := by decide +kernel
theorem dX0_goingOn_179 : decode cX0_goingOn 179 = .ok (.invokevirtual 89, 3) := by decide +kernel
theorem dX0_goingOn_182 : decode cX0_goingOn 182 = .ok (.ireturn, 1) := by decide +kernel
end
section
set_option maxRecDepth 100000
theorem dX0_greatestBefore_0 : decode cX0_greatestBefore 0 = .ok (.iconst (-1), 1) := by decide +kernel
theorem dX0_greatestBefore_1 : decode cX0_greatestBefore 1 = .ok (.istore_n 2, 1) := by decide +kernel
theorem dX0_greatestBefore_2 : decode cX0_greatestBefore 2 = .ok (.iconst 0, 1) := by decide +kernel
theorem dX0_greatestBefore_3 : decode cX0_greatestBefore 3 = .ok (.istore_n 3, 1) := by decide +kernel
theorem dX0_greatestBefore_4 : decode cX0_greatestBefore 4 = .ok (.iload_n 3, 1) := by decide +kernel
theorem dX0_greatestBefore_5 : decode cX0_greatestBefore 5 = .ok (.iload_n 1, 1) := by decide +kernel
theorem dX0_greatestBefore_6 : decode cX0_greatestBefore 6 = .ok (.if_icmp .ge 26, 3) := by decide +kernel
theorem dX0_greatestBefore_9 : decode cX0_greatestBefore 9 = .ok (.aload_n 0, 1) := by decide +kernel
theorem dX0_greatestBefore_10 : decode cX0_greatestBefore 10 = .ok (.getfield 7, 3) := by decide +kernel
theorem dX0_greatestBefore_13 : decode cX0_greatestBefore 13 = .ok (.iload_n 3, 1) := by decide +kernel
theorem dX0_greatestBefore_14 : decode cX0_greatestBefore 14 = .ok (.baload, 1) := by decide +kernel
theorem dX0_greatestBefore_15 : decode cX0_greatestBefore 15 = .ok (.iload_n 2, 1) := by decide +kernel
theorem dX0_greatestBefore_16 : decode cX0_greatestBefore 16 = .ok (.if_icmp .le 10, 3) := by decide +kernel
theorem dX0_greatestBefore_19 : decode cX0_greatestBefore 19 = .ok (.aload_n 0, 1) := by decide +kernel
theorem dX0_greatestBefore_20 : decode cX0_greatestBefore 20 = .ok (.getfield 7, 3) := by decide +kernel
theorem dX0_greatestBefore_23 : decode cX0_greatestBefore 23 = .ok (.iload_n 3, 1) := by decide +kernel
theorem dX0_greatestBefore_24 : decode cX0_greatestBefore 24 = .ok (.baload, 1) := by decide +kernel
theorem dX0_greatestBefore_25 : decode cX0_greatestBefore 25 = .ok (.istore_n 2, 1) := by decide +kernel
theorem dX0_greatestBefore_26 : decode cX0_greatestBefore 26 = .ok (.iinc 3 1, 3) := by decide +kernel
theorem dX0_greatestBefore_29 : decode cX0_greatestBefore 29 = .ok (.goto (-25), 3) := by decide +kernel
theorem dX0_greatestBefore_32 : decode cX0_greatestBefore 32 = .ok (.iload_n 2, 1) := by decide +kernel
theorem dX0_greatestBefore_33 : decode cX0_greatestBefore 33 = .ok (.ireturn, 1) := by decide +kernel
theorem dX0_sumBefore_0 : decode cX0_sumBefore 0 = .ok (.iconst 0, 1) := by decide +kernel
theorem dX0_sumBefore_1 : decode cX0_sumBefore 1 = .ok (.istore_n 2, 1) := by decide +kernel
theorem dX0_sumBefore_2 : decode cX0_sumBefore 2 = .ok (.iconst 0, 1) := by decide +kernel
theorem dX0_sumBefore_3 : decode cX0_sumBefore 3 = .ok (.istore_n 3, 1) := by decide +kernel
theorem dX0_sumBefore_4 : decode cX0_sumBefore 4 = .ok (.iload_n 3, 1) := by decide +kernel
theorem dX0_sumBefore_5 : decode cX0_sumBefore 5 = .ok (.iload_n 1, 1) := by decide +kernel
theorem dX0_sumBefore_6 : decode cX0_sumBefore 6 = .ok (.if_icmp .ge 18, 3) := by decide +kernel
theorem dX0_sumBefore_9 : decode cX0_sumBefore 9 = .ok (.iload_n 2, 1) := by decide +kernel
theorem dX0_sumBefore_10 : decode cX0_sumBefore 10 = .ok (.aload_n 0, 1) := by decide +kernel
theorem dX0_sumBefore_11 : decode cX0_sumBefore 11 = .ok (.getfield 7, 3) := by decide +kernel
theorem dX0_sumBefore_14 : decode cX0_sumBefore 14 = .ok (.iload_n 3, 1) := by decide +kernel
theorem dX0_sumBefore_15 : decode cX0_sumBefore 15 = .ok (.baload, 1) := by decide +kernel
theorem dX0_sumBefore_16 : decode cX0_sumBefore 16 = .ok (.iadd, 1) := by decide +kernel
theorem dX0_sumBefore_17 : decode cX0_sumBefore 17 = .ok (.istore_n 2, 1) := by decide +kernel
theorem dX0_sumBefore_18 : decode cX0_sumBefore 18 = .ok (.iinc 3 1, 3) := by decide +kernel
theorem dX0_sumBefore_21 : decode cX0_sumBefore 21 = .ok (.goto (-17), 3) := by decide +kernel
theorem dX0_sumBefore_24 : decode cX0_sumBefore 24 = .ok (.iload_n 2, 1) := by decide +kernel
theorem dX0_sumBefore_25 : decode cX0_sumBefore 25 = .ok (.ireturn, 1) := by decide +kernel
theorem dX0_waysToSplit_0 : decode cX0_waysToSplit 0 = .ok (.iconst 1, 1) := by decide +kernel
theorem dX0_waysToSplit_1 : decode cX0_waysToSplit 1 = .ok (.istore_n 3, 1) := by decide +kernel
theorem dX0_waysToSplit_2 : decode cX0_waysToSplit 2 = .ok (.iconst 1, 1) := by decide +kernel
theorem dX0_waysToSplit_3 : decode cX0_waysToSplit 3 = .ok (.istore 4, 2) := by decide +kernel
theorem dX0_waysToSplit_5 : decode cX0_waysToSplit 5 = .ok (.iload 4, 2) := by decide +kernel
theorem dX0_waysToSplit_7 : decode cX0_waysToSplit 7 = .ok (.iload_n 2, 1) := by decide +kernel
theorem dX0_waysToSplit_8 : decode cX0_waysToSplit 8 = .ok (.if_icmp .ge 19, 3) := by decide +kernel
theorem dX0_waysToSplit_11 : decode cX0_waysToSplit 11 = .ok (.iload_n 3, 1) := by decide +kernel
theorem dX0_waysToSplit_12 : decode cX0_waysToSplit 12 = .ok (.iload_n 1, 1) := by decide +kernel
theorem dX0_waysToSplit_13 : decode cX0_waysToSplit 13 = .ok (.iload 4, 2) := by decide +kernel
theorem dX0_waysToSplit_15 : decode cX0_waysToSplit 15 = .ok (.iadd, 1) := by decide +kernel
theorem dX0_waysToSplit_16 : decode cX0_waysToSplit 16 = .ok (.imul, 1) := by decide +kernel
theorem dX0_waysToSplit_17 : decode cX0_waysToSplit 17 = .ok (.iload 4, 2) := by decide +kernel
theorem dX0_waysToSplit_19 : decode cX0_waysToSplit 19 = .ok (.idiv, 1) := by decide +kernel
theorem dX0_waysToSplit_20 : decode cX0_waysToSplit 20 = .ok (.istore_n 3, 1) := by decide +kernel
theorem dX0_waysToSplit_21 : decode cX0_waysToSplit 21 = .ok (.iinc 4 1, 3) := by decide +kernel
theorem dX0_waysToSplit_24 : decode cX0_waysToSplit 24 = .ok (.goto (-19), 3) := by decide +kernel
theorem dX0_waysToSplit_27 : decode cX0_waysToSplit 27 = .ok (.iload_n 3, 1) := by decide +kernel
theorem dX0_waysToSplit_28 : decode cX0_waysToSplit 28 = .ok (.ireturn, 1) := by decide +kernel
theorem dX0_go_0 : decode cX0_go 0 = .ok (.aload_n 0, 1) := by decide +kernel
theorem dX0_go_1 : decode cX0_go 1 = .ok (.iconst 0, 1) := by decide +kernel
theorem dX0_go_2 : decode cX0_go 2 = .ok (.invokevirtual 60, 3) := by decide +kernel
theorem dX0_go_5 : decode cX0_go 5 = .ok (.istore_n 2, 1) := by decide +kernel
theorem dX0_go_6 : decode cX0_go 6 = .ok (.iload_n 1, 1) := by decide +kernel
theorem dX0_go_7 : decode cX0_go 7 = .ok (.ifCond .lt 8, 3) := by decide +kernel
theorem dX0_go_10 : decode cX0_go 10 = .ok (.iload_n 1, 1) := by decide +kernel
theorem dX0_go_11 : decode cX0_go 11 = .ok (.iload_n 2, 1) := by decide +kernel
theorem dX0_go_12 : decode cX0_go 12 = .ok (.if_icmp .lt 5, 3) := by decide +kernel
theorem dX0_go_15 : decode cX0_go 15 = .ok (.iconst (-1), 1) := by decide +kernel
theorem dX0_go_16 : decode cX0_go 16 = .ok (.ireturn, 1) := by decide +kernel
theorem dX0_go_17 : decode cX0_go 17 = .ok (.iload_n 1, 1) := by decide +kernel
theorem dX0_go_18 : decode cX0_go 18 = .ok (.istore_n 3, 1) := by decide +kernel
theorem dX0_go_19 : decode cX0_go 19 = .ok (.iconst 0, 1) := by decide +kernel
theorem dX0_go_20 : decode cX0_go 20 = .ok (.istore 4, 2) := by decide +kernel
theorem dX0_go_22 : decode cX0_go 22 = .ok (.iload 4, 2) := by decide +kernel
theorem dX0_go_24 : decode cX0_go 24 = .ok (.aload_n 0, 1) := by decide +kernel
theorem dX0_go_25 : decode cX0_go 25 = .ok (.getfield 46, 3) := by decide +kernel
theorem dX0_go_28 : decode cX0_go 28 = .ok (.if_icmp .ge 59, 3) := by decide +kernel
theorem dX0_go_31 : decode cX0_go 31 = .ok (.iconst 0, 1) := by decide +kernel
theorem dX0_go_32 : decode cX0_go 32 = .ok (.istore 5, 2) := by decide +kernel
theorem dX0_go_34 : decode cX0_go 34 = .ok (.aload_n 0, 1) := by decide +kernel
theorem dX0_go_35 : decode cX0_go 35 = .ok (.iload 4, 2) := by decide +kernel
theorem dX0_go_37 : decode cX0_go 37 = .ok (.iload 5, 2) := by decide +kernel
theorem dX0_go_39 : decode cX0_go 39 = .ok (.invokevirtual 63, 3) := by decide +kernel
theorem dX0_go_42 : decode cX0_go 42 = .ok (.istore 6, 2) := by decide +kernel
theorem dX0_go_44 : decode cX0_go 44 = .ok (.iload_n 3, 1) := by decide +kernel
theorem dX0_go_45 : decode cX0_go 45 = .ok (.iload 6, 2) := by decide +kernel
theorem dX0_go_47 : decode cX0_go 47 = .ok (.if_icmp .lt 24, 3) := by decide +kernel
theorem dX0_go_50 : decode cX0_go 50 = .ok (.iload_n 3, 1) := by decide +kernel
theorem dX0_go_51 : decode cX0_go 51 = .ok (.iload 6, 2) := by decide +kernel
theorem dX0_go_53 : decode cX0_go 53 = .ok (.isub, 1) := by decide +kernel
theorem dX0_go_54 : decode cX0_go 54 = .ok (.istore_n 3, 1) := by decide +kernel
theorem dX0_go_55 : decode cX0_go 55 = .ok (.iinc 5 1, 3) := by decide +kernel
theorem dX0_go_58 : decode cX0_go 58 = .ok (.aload_n 0, 1) := by decide +kernel
theorem dX0_go_59 : decode cX0_go 59 = .ok (.iload 4, 2) := by decide +kernel
theorem dX0_go_61 : decode cX0_go 61 = .ok (.iload 5, 2) := by decide +kernel
theorem dX0_go_63 : decode cX0_go 63 = .ok (.invokevirtual 63, 3) := by decide +kernel
theorem dX0_go_66 : decode cX0_go 66 = .ok (.istore 6, 2) := by decide +kernel
theorem dX0_go_68 : decode cX0_go 68 = .ok (.goto (-24), 3) := by decide +kernel
theorem dX0_go_71 : decode cX0_go 71 = .ok (.aload_n 0, 1) := by decide +kernel
theorem dX0_go_72 : decode cX0_go 72 = .ok (.getfield 7, 3) := by decide +kernel
theorem dX0_go_75 : decode cX0_go 75 = .ok (.iload 4, 2) := by decide +kernel
theorem dX0_go_77 : decode cX0_go 77 = .ok (.iload 5, 2) := by decide +kernel
theorem dX0_go_79 : decode cX0_go 79 = .ok (.i2b, 1) := by decide +kernel
theorem dX0_go_80 : decode cX0_go 80 = .ok (.bastore, 1) := by decide +kernel
theorem dX0_go_81 : decode cX0_go 81 = .ok (.iinc 4 1, 3) := by decide +kernel
theorem dX0_go_84 : decode cX0_go 84 = .ok (.goto (-62), 3) := by decide +kernel
theorem dX0_go_87 : decode cX0_go 87 = .ok (.aload_n 0, 1) := by decide +kernel
theorem dX0_go_88 : decode cX0_go 88 = .ok (.iload_n 1, 1) := by decide +kernel
theorem dX0_go_89 : decode cX0_go 89 = .ok (.putfield 49, 3) := by decide +kernel
theorem dX0_go_92 : decode cX0_go 92 = .ok (.iload_n 1, 1) := by decide +kernel
theorem dX0_go_93 : decode cX0_go 93 = .ok (.ireturn, 1) := by decide +kernel
theorem dX0_withItem_0 : decode cX0_withItem 0 = .ok (.aload_n 0, 1) := by decide +kernel
theorem dX0_withItem_1 : decode cX0_withItem 1 = .ok (.iload_n 1, 1) := by decide +kernel
theorem dX0_withItem_2 : decode cX0_withItem 2 = .ok (.iload_n 2, 1) := by decide +kernel
theorem dX0_withItem_3 : decode cX0_withItem 3 = .ok (.invokevirtual 76, 3) := by decide +kernel
theorem dX0_withItem_6 : decode cX0_withItem 6 = .ok (.ifCond .ne 5, 3) := by decide +kernel
theorem dX0_withItem_9 : decode cX0_withItem 9 = .ok (.iconst 0, 1) := by decide +kernel
theorem dX0_withItem_10 : decode cX0_withItem 10 = .ok (.ireturn, 1) := by decide +kernel
theorem dX0_withItem_11 : decode cX0_withItem 11 = .ok (.aload_n 0, 1) := by decide +kernel
theorem dX0_withItem_12 : decode cX0_withItem 12 = .ok (.getfield 7, 3) := by decide +kernel
theorem dX0_withItem_15 : decode cX0_withItem 15 = .ok (.iload_n 1, 1) := by decide +kernel
theorem dX0_withItem_16 : decode cX0_withItem 16 = .ok (.baload, 1) := by decide +kernel
theorem dX0_withItem_17 : decode cX0_withItem 17 = .ok (.istore_n 3, 1) := by decide +kernel
theorem dX0_withItem_18 : decode cX0_withItem 18 = .ok (.aload_n 0, 1) := by decide +kernel
theorem dX0_withItem_19 : decode cX0_withItem 19 = .ok (.getfield 7, 3) := by decide +kernel
theorem dX0_withItem_22 : decode cX0_withItem 22 = .ok (.iload_n 1, 1) := by decide +kernel
theorem dX0_withItem_23 : decode cX0_withItem 23 = .ok (.iload_n 2, 1) := by decide +kernel
theorem dX0_withItem_24 : decode cX0_withItem 24 = .ok (.i2b, 1) := by decide +kernel
theorem dX0_withItem_25 : decode cX0_withItem 25 = .ok (.bastore, 1) := by decide +kernel
theorem dX0_withItem_26 : decode cX0_withItem 26 = .ok (.aload_n 0, 1) := by decide +kernel
theorem dX0_withItem_27 : decode cX0_withItem 27 = .ok (.iload_n 1, 1) := by decide +kernel
theorem dX0_withItem_28 : decode cX0_withItem 28 = .ok (.iconst 1, 1) := by decide +kernel
theorem dX0_withItem_29 : decode cX0_withItem 29 = .ok (.iadd, 1) := by decide +kernel
theorem dX0_withItem_30 : decode cX0_withItem 30 = .ok (.invokevirtual 60, 3) := by decide +kernel
theorem dX0_withItem_33 : decode cX0_withItem 33 = .ok (.istore 4, 2) := by decide +kernel
theorem dX0_withItem_35 : decode cX0_withItem 35 = .ok (.aload_n 0, 1) := by decide +kernel
theorem dX0_withItem_36 : decode cX0_withItem 36 = .ok (.getfield 7, 3) := by decide +kernel
theorem dX0_withItem_39 : decode cX0_withItem 39 = .ok (.iload_n 1, 1) := by decide +kernel
theorem dX0_withItem_40 : decode cX0_withItem 40 = .ok (.iload_n 3, 1) := by decide +kernel
theorem dX0_withItem_41 : decode cX0_withItem 41 = .ok (.bastore, 1) := by decide +kernel
theorem dX0_withItem_42 : decode cX0_withItem 42 = .ok (.iload 4, 2) := by decide +kernel
theorem dX0_withItem_44 : decode cX0_withItem 44 = .ok (.ireturn, 1) := by decide +kernel
theorem dX0_mayCome_0 : decode cX0_mayCome 0 = .ok (.aload_n 0, 1) := by decide +kernel
theorem dX0_mayCome_1 : decode cX0_mayCome 1 = .ok (.getfield 36, 3) := by decide +kernel
theorem dX0_mayCome_4 : decode cX0_mayCome 4 = .ok (.ifCond .ne 33, 3) := by decide +kernel
theorem dX0_mayCome_7 : decode cX0_mayCome 7 = .ok (.iload_n 2, 1) := by decide +kernel
theorem dX0_mayCome_8 : decode cX0_mayCome 8 = .ok (.aload_n 0, 1) := by decide +kernel
theorem dX0_mayCome_9 : decode cX0_mayCome 9 = .ok (.getfield 40, 3) := by decide +kernel
theorem dX0_mayCome_12 : decode cX0_mayCome 12 = .ok (.if_icmp .ge 23, 3) := by decide +kernel
theorem dX0_mayCome_15 : decode cX0_mayCome 15 = .ok (.iload_n 1, 1) := by decide +kernel
theorem dX0_mayCome_16 : decode cX0_mayCome 16 = .ok (.ifCond .eq 15, 3) := by decide +kernel
theorem dX0_mayCome_19 : decode cX0_mayCome 19 = .ok (.iload_n 2, 1) := by decide +kernel
theorem dX0_mayCome_20 : decode cX0_mayCome 20 = .ok (.aload_n 0, 1) := by decide +kernel
theorem dX0_mayCome_21 : decode cX0_mayCome 21 = .ok (.getfield 7, 3) := by decide +kernel
theorem dX0_mayCome_24 : decode cX0_mayCome 24 = .ok (.iload_n 1, 1) := by decide +kernel
theorem dX0_mayCome_25 : decode cX0_mayCome 25 = .ok (.iconst 1, 1) := by decide +kernel
theorem dX0_mayCome_26 : decode cX0_mayCome 26 = .ok (.isub, 1) := by decide +kernel
theorem dX0_mayCome_27 : decode cX0_mayCome 27 = .ok (.baload, 1) := by decide +kernel
theorem dX0_mayCome_28 : decode cX0_mayCome 28 = .ok (.if_icmp .le 7, 3) := by decide +kernel
theorem dX0_mayCome_31 : decode cX0_mayCome 31 = .ok (.iconst 1, 1) := by decide +kernel
theorem dX0_mayCome_32 : decode cX0_mayCome 32 = .ok (.goto 4, 3) := by decide +kernel
theorem dX0_mayCome_35 : decode cX0_mayCome 35 = .ok (.iconst 0, 1) := by decide +kernel
theorem dX0_mayCome_36 : decode cX0_mayCome 36 = .ok (.ireturn, 1) := by decide +kernel
theorem dX0_mayCome_37 : decode cX0_mayCome 37 = .ok (.aload_n 0, 1) := by decide +kernel
theorem dX0_mayCome_38 : decode cX0_mayCome 38 = .ok (.getfield 36, 3) := by decide +kernel
theorem dX0_mayCome_41 : decode cX0_mayCome 41 = .ok (.iconst 1, 1) := by decide +kernel
theorem dX0_mayCome_42 : decode cX0_mayCome 42 = .ok (.if_icmp .ne 29, 3) := by decide +kernel
theorem dX0_mayCome_45 : decode cX0_mayCome 45 = .ok (.iload_n 2, 1) := by decide +kernel
theorem dX0_mayCome_46 : decode cX0_mayCome 46 = .ok (.aload_n 0, 1) := by decide +kernel
theorem dX0_mayCome_47 : decode cX0_mayCome 47 = .ok (.getfield 40, 3) := by decide +kernel
theorem dX0_mayCome_50 : decode cX0_mayCome 50 = .ok (.if_icmp .ge 19, 3) := by decide +kernel
theorem dX0_mayCome_53 : decode cX0_mayCome 53 = .ok (.aload_n 0, 1) := by decide +kernel
theorem dX0_mayCome_54 : decode cX0_mayCome 54 = .ok (.iload_n 1, 1) := by decide +kernel
theorem dX0_mayCome_55 : decode cX0_mayCome 55 = .ok (.invokevirtual 80, 3) := by decide +kernel
theorem dX0_mayCome_58 : decode cX0_mayCome 58 = .ok (.iload_n 2, 1) := by decide +kernel
theorem dX0_mayCome_59 : decode cX0_mayCome 59 = .ok (.ishr, 1) := by decide +kernel
theorem dX0_mayCome_60 : decode cX0_mayCome 60 = .ok (.iconst 1, 1) := by decide +kernel
theorem dX0_mayCome_61 : decode cX0_mayCome 61 = .ok (.iand, 1) := by decide +kernel
theorem dX0_mayCome_62 : decode cX0_mayCome 62 = .ok (.ifCond .ne 7, 3) := by decide +kernel
theorem dX0_mayCome_65 : decode cX0_mayCome 65 = .ok (.iconst 1, 1) := by decide +kernel
theorem dX0_mayCome_66 : decode cX0_mayCome 66 = .ok (.goto 4, 3) := by decide +kernel
theorem dX0_mayCome_69 : decode cX0_mayCome 69 = .ok (.iconst 0, 1) := by decide +kernel
theorem dX0_mayCome_70 : decode cX0_mayCome 70 = .ok (.ireturn, 1) := by decide +kernel
theorem dX0_mayCome_71 : decode cX0_mayCome 71 = .ok (.aload_n 0, 1) := by decide +kernel
theorem dX0_mayCome_72 : decode cX0_mayCome 72 = .ok (.getfield 36, 3) := by decide +kernel
theorem dX0_mayCome_75 : decode cX0_mayCome 75 = .ok (.iconst 2, 1) := by decide +kernel
theorem dX0_mayCome_76 : decode cX0_mayCome 76 = .ok (.if_icmp .ne 20, 3) := by decide +kernel
theorem dX0_mayCome_79 : decode cX0_mayCome 79 = .ok (.iload_n 2, 1) := by decide +kernel
theorem dX0_mayCome_80 : decode cX0_mayCome 80 = .ok (.aload_n 0, 1) := by decide +kernel
theorem dX0_mayCome_81 : decode cX0_mayCome 81 = .ok (.iload_n 1, 1) := by decide +kernel
theorem dX0_mayCome_82 : decode cX0_mayCome 82 = .ok (.invokevirtual 83, 3) := by decide +kernel
theorem dX0_mayCome_85 : decode cX0_mayCome 85 = .ok (.iconst 1, 1) := by decide +kernel
theorem dX0_mayCome_86 : decode cX0_mayCome 86 = .ok (.iadd, 1) := by decide +kernel
theorem dX0_mayCome_87 : decode cX0_mayCome 87 = .ok (.if_icmp .gt 7, 3) := by decide +kernel
theorem dX0_mayCome_90 : decode cX0_mayCome 90 = .ok (.iconst 1, 1) := by decide +kernel
theorem dX0_mayCome_91 : decode cX0_mayCome 91 = .ok (.goto 4, 3) := by decide +kernel
theorem dX0_mayCome_94 : decode cX0_mayCome 94 = .ok (.iconst 0, 1) := by decide +kernel
theorem dX0_mayCome_95 : decode cX0_mayCome 95 = .ok (.ireturn, 1) := by decide +kernel
theorem dX0_mayCome_96 : decode cX0_mayCome 96 = .ok (.aload_n 0, 1) := by decide +kernel
theorem dX0_mayCome_97 : decode cX0_mayCome 97 = .ok (.getfield 36, 3) := by decide +kernel
theorem dX0_mayCome_100 : decode cX0_mayCome 100 = .ok (.iconst 4, 1) := by decide +kernel
theorem dX0_mayCome_101 : decode cX0_mayCome 101 = .ok (.if_icmp .ne 17, 3) := by decide +kernel
theorem dX0_mayCome_104 : decode cX0_mayCome 104 = .ok (.iload_n 2, 1) := by decide +kernel
theorem dX0_mayCome_105 : decode cX0_mayCome 105 = .ok (.aload_n 0, 1) := by decide +kernel
theorem dX0_mayCome_106 : decode cX0_mayCome 106 = .ok (.getfield 40, 3) := by decide +kernel
theorem dX0_mayCome_109 : decode cX0_mayCome 109 = .ok (.if_icmp .gt 7, 3) := by decide +kernel
theorem dX0_mayCome_112 : decode cX0_mayCome 112 = .ok (.iconst 1, 1) := by decide +kernel
theorem dX0_mayCome_113 : decode cX0_mayCome 113 = .ok (.goto 4, 3) := by decide +kernel
theorem dX0_mayCome_116 : decode cX0_mayCome 116 = .ok (.iconst 0, 1) := by decide +kernel
theorem dX0_mayCome_117 : decode cX0_mayCome 117 = .ok (.ireturn, 1) := by decide +kernel
theorem dX0_mayCome_118 : decode cX0_mayCome 118 = .ok (.iload_n 2, 1) := by decide +kernel
theorem dX0_mayCome_119 : decode cX0_mayCome 119 = .ok (.iconst 1, 1) := by decide +kernel
theorem dX0_mayCome_120 : decode cX0_mayCome 120 = .ok (.if_icmp .le 5, 3) := by decide +kernel
theorem dX0_mayCome_123 : decode cX0_mayCome 123 = .ok (.iconst 0, 1) := by decide +kernel
theorem dX0_mayCome_124 : decode cX0_mayCome 124 = .ok (.ireturn, 1) := by decide +kernel
theorem dX0_mayCome_125 : decode cX0_mayCome 125 = .ok (.aload_n 0, 1) := by decide +kernel
theorem dX0_mayCome_126 : decode cX0_mayCome 126 = .ok (.iload_n 1, 1) := by decide +kernel
theorem dX0_mayCome_127 : decode cX0_mayCome 127 = .ok (.invokevirtual 86, 3) := by decide +kernel
theorem dX0_mayCome_130 : decode cX0_mayCome 130 = .ok (.istore_n 3, 1) := by decide +kernel
theorem dX0_mayCome_131 : decode cX0_mayCome 131 = .ok (.iload_n 2, 1) := by decide +kernel
theorem dX0_mayCome_132 : decode cX0_mayCome 132 = .ok (.iconst 1, 1) := by decide +kernel
theorem dX0_mayCome_133 : decode cX0_mayCome 133 = .ok (.if_icmp .ne 19, 3) := by decide +kernel
theorem dX0_mayCome_136 : decode cX0_mayCome 136 = .ok (.iload_n 3, 1) := by decide +kernel
theorem dX0_mayCome_137 : decode cX0_mayCome 137 = .ok (.aload_n 0, 1) := by decide +kernel
theorem dX0_mayCome_138 : decode cX0_mayCome 138 = .ok (.getfield 40, 3) := by decide +kernel
theorem dX0_mayCome_141 : decode cX0_mayCome 141 = .ok (.if_icmp .ge 7, 3) := by decide +kernel
theorem dX0_mayCome_144 : decode cX0_mayCome 144 = .ok (.iconst 1, 1) := by decide +kernel
theorem dX0_mayCome_145 : decode cX0_mayCome 145 = .ok (.goto 19, 3) := by decide +kernel
theorem dX0_mayCome_148 : decode cX0_mayCome 148 = .ok (.iconst 0, 1) := by decide +kernel
theorem dX0_mayCome_149 : decode cX0_mayCome 149 = .ok (.goto 15, 3) := by decide +kernel
theorem dX0_mayCome_152 : decode cX0_mayCome 152 = .ok (.iload_n 1, 1) := by decide +kernel
theorem dX0_mayCome_153 : decode cX0_mayCome 153 = .ok (.iload_n 3, 1) := by decide +kernel
theorem dX0_mayCome_154 : decode cX0_mayCome 154 = .ok (.isub, 1) := by decide +kernel
theorem dX0_mayCome_155 : decode cX0_mayCome 155 = .ok (.iload_n 3, 1) := by decide +kernel
theorem dX0_mayCome_156 : decode cX0_mayCome 156 = .ok (.if_icmp .ge 7, 3) := by decide +kernel
theorem dX0_mayCome_159 : decode cX0_mayCome 159 = .ok (.iconst 1, 1) := by decide +kernel
theorem dX0_mayCome_160 : decode cX0_mayCome 160 = .ok (.goto 4, 3) := by decide +kernel
theorem dX0_mayCome_163 : decode cX0_mayCome 163 = .ok (.iconst 0, 1) := by decide +kernel
theorem dX0_mayCome_164 : decode cX0_mayCome 164 = .ok (.ireturn, 1) := by decide +kernel
theorem dX0_usedBefore_0 : decode cX0_usedBefore 0 = .ok (.iconst 0, 1) := by decide +kernel
theorem dX0_usedBefore_1 : decode cX0_usedBefore 1 = .ok (.istore_n 2, 1) := by decide +kernel
theorem dX0_usedBefore_2 : decode cX0_usedBefore 2 = .ok (.iconst 0, 1) := by decide +kernel
theorem dX0_usedBefore_3 : decode cX0_usedBefore 3 = .ok (.istore_n 3, 1) := by decide +kernel
theorem dX0_usedBefore_4 : decode cX0_usedBefore 4 = .ok (.iload_n 3, 1) := by decide +kernel
theorem dX0_usedBefore_5 : decode cX0_usedBefore 5 = .ok (.iload_n 1, 1) := by decide +kernel
theorem dX0_usedBefore_6 : decode cX0_usedBefore 6 = .ok (.if_icmp .ge 20, 3) := by decide +kernel
theorem dX0_usedBefore_9 : decode cX0_usedBefore 9 = .ok (.iload_n 2, 1) := by decide +kernel
theorem dX0_usedBefore_10 : decode cX0_usedBefore 10 = .ok (.iconst 1, 1) := by decide +kernel
theorem dX0_usedBefore_11 : decode cX0_usedBefore 11 = .ok (.aload_n 0, 1) := by decide +kernel
theorem dX0_usedBefore_12 : decode cX0_usedBefore 12 = .ok (.getfield 7, 3) := by decide +kernel
theorem dX0_usedBefore_15 : decode cX0_usedBefore 15 = .ok (.iload_n 3, 1) := by decide +kernel
theorem dX0_usedBefore_16 : decode cX0_usedBefore 16 = .ok (.baload, 1) := by decide +kernel
theorem dX0_usedBefore_17 : decode cX0_usedBefore 17 = .ok (.ishl, 1) := by decide +kernel
theorem dX0_usedBefore_18 : decode cX0_usedBefore 18 = .ok (.ior, 1) := by decide +kernel
theorem dX0_usedBefore_19 : decode cX0_usedBefore 19 = .ok (.istore_n 2, 1) := by decide +kernel
theorem dX0_usedBefore_20 : decode cX0_usedBefore 20 = .ok (.iinc 3 1, 3) := by decide +kernel
theorem dX0_usedBefore_23 : decode cX0_usedBefore 23 = .ok (.goto (-19), 3) := by decide +kernel
theorem dX0_usedBefore_26 : decode cX0_usedBefore 26 = .ok (.iload_n 2, 1) := by decide +kernel
theorem dX0_usedBefore_27 : decode cX0_usedBefore 27 = .ok (.ireturn, 1) := by decide +kernel
theorem dX0_number_0 : decode cX0_number 0 = .ok (.aload_n 0, 1) := by decide +kernel
theorem dX0_number_1 : decode cX0_number 1 = .ok (.getfield 49, 3) := by decide +kernel
theorem dX0_number_4 : decode cX0_number 4 = .ok (.ireturn, 1) := by decide +kernel
theorem dX0_item_0 : decode cX0_item 0 = .ok (.aload_n 0, 1) := by decide +kernel
theorem dX0_item_1 : decode cX0_item 1 = .ok (.getfield 49, 3) := by decide +kernel
theorem dX0_item_4 : decode cX0_item 4 = .ok (.ifCond .lt 15, 3) := by decide +kernel
theorem dX0_item_7 : decode cX0_item 7 = .ok (.iload_n 1, 1) := by decide +kernel
theorem dX0_item_8 : decode cX0_item 8 = .ok (.ifCond .lt 11, 3) := by decide +kernel
theorem dX0_item_11 : decode cX0_item 11 = .ok (.iload_n 1, 1) := by decide +kernel
theorem dX0_item_12 : decode cX0_item 12 = .ok (.aload_n 0, 1) := by decide +kernel
theorem dX0_item_13 : decode cX0_item 13 = .ok (.getfield 46, 3) := by decide +kernel
theorem dX0_item_16 : decode cX0_item 16 = .ok (.if_icmp .lt 7, 3) := by decide +kernel
theorem dX0_item_19 : decode cX0_item 19 = .ok (.iconst (-1), 1) := by decide +kernel
theorem dX0_item_20 : decode cX0_item 20 = .ok (.goto 9, 3) := by decide +kernel
theorem dX0_item_23 : decode cX0_item 23 = .ok (.aload_n 0, 1) := by decide +kernel
theorem dX0_item_24 : decode cX0_item 24 = .ok (.getfield 7, 3) := by decide +kernel
theorem dX0_item_27 : decode cX0_item 27 = .ok (.iload_n 1, 1) := by decide +kernel
theorem dX0_item_28 : decode cX0_item 28 = .ok (.baload, 1) := by decide +kernel
theorem dX0_item_29 : decode cX0_item 29 = .ok (.ireturn, 1) := by decide +kernel
theorem dX0_next_0 : decode cX0_next 0 = .ok (.aload_n 0, 1) := by decide +kernel
theorem dX0_next_1 : decode cX0_next 1 = .ok (.iconst 0, 1) := by decide +kernel
theorem dX0_next_2 : decode cX0_next 2 = .ok (.invokevirtual 60, 3) := by decide +kernel
theorem dX0_next_5 : decode cX0_next 5 = .ok (.istore_n 1, 1) := by decide +kernel
theorem dX0_next_6 : decode cX0_next 6 = .ok (.aload_n 0, 1) := by decide +kernel
theorem dX0_next_7 : decode cX0_next 7 = .ok (.getfield 49, 3) := by decide +kernel
theorem dX0_next_10 : decode cX0_next 10 = .ok (.ifCond .lt 13, 3) := by decide +kernel
theorem dX0_next_13 : decode cX0_next 13 = .ok (.aload_n 0, 1) := by decide +kernel
theorem dX0_next_14 : decode cX0_next 14 = .ok (.getfield 49, 3) := by decide +kernel
theorem dX0_next_17 : decode cX0_next 17 = .ok (.iconst 1, 1) := by decide +kernel
theorem dX0_next_18 : decode cX0_next 18 = .ok (.iadd, 1) := by decide +kernel
theorem dX0_next_19 : decode cX0_next 19 = .ok (.iload_n 1, 1) := by decide +kernel
theorem dX0_next_20 : decode cX0_next 20 = .ok (.if_icmp .lt 6, 3) := by decide +kernel
theorem dX0_next_23 : decode cX0_next 23 = .ok (.bipush (-2), 2) := by decide +kernel
theorem dX0_next_25 : decode cX0_next 25 = .ok (.ireturn, 1) := by decide +kernel
theorem dX0_next_26 : decode cX0_next 26 = .ok (.aload_n 0, 1) := by decide +kernel
theorem dX0_next_27 : decode cX0_next 27 = .ok (.getfield 46, 3) := by decide +kernel
theorem dX0_next_30 : decode cX0_next 30 = .ok (.iconst 1, 1) := by decide +kernel
theorem dX0_next_31 : decode cX0_next 31 = .ok (.isub, 1) := by decide +kernel
theorem dX0_next_32 : decode cX0_next 32 = .ok (.istore_n 2, 1) := by decide +kernel
theorem dX0_next_33 : decode cX0_next 33 = .ok (.iload_n 2, 1) := by decide +kernel
theorem dX0_next_34 : decode cX0_next 34 = .ok (.ifCond .lt 105, 3) := by decide +kernel
theorem dX0_next_37 : decode cX0_next 37 = .ok (.aload_n 0, 1) := by decide +kernel
theorem dX0_next_38 : decode cX0_next 38 = .ok (.getfield 7, 3) := by decide +kernel
theorem dX0_next_41 : decode cX0_next 41 = .ok (.iload_n 2, 1) := by decide +kernel
theorem dX0_next_42 : decode cX0_next 42 = .ok (.baload, 1) := by decide +kernel
theorem dX0_next_43 : decode cX0_next 43 = .ok (.iconst 1, 1) := by decide +kernel
theorem dX0_next_44 : decode cX0_next 44 = .ok (.iadd, 1) := by decide +kernel
theorem dX0_next_45 : decode cX0_next 45 = .ok (.istore_n 3, 1) := by decide +kernel
theorem dX0_next_46 : decode cX0_next 46 = .ok (.iload_n 3, 1) := by decide +kernel
theorem dX0_next_47 : decode cX0_next 47 = .ok (.bipush 8, 2) := by decide +kernel
theorem dX0_next_49 : decode cX0_next 49 = .ok (.if_icmp .ge 18, 3) := by decide +kernel
theorem dX0_next_52 : decode cX0_next 52 = .ok (.aload_n 0, 1) := by decide +kernel
theorem dX0_next_53 : decode cX0_next 53 = .ok (.iload_n 2, 1) := by decide +kernel
theorem dX0_next_54 : decode cX0_next 54 = .ok (.iload_n 3, 1) := by decide +kernel
theorem dX0_next_55 : decode cX0_next 55 = .ok (.invokevirtual 63, 3) := by decide +kernel
theorem dX0_next_58 : decode cX0_next 58 = .ok (.ifCond .ne 9, 3) := by decide +kernel
theorem dX0_next_61 : decode cX0_next 61 = .ok (.iinc 3 1, 3) := by decide +kernel
theorem dX0_next_64 : decode cX0_next 64 = .ok (.goto (-18), 3) := by decide +kernel
theorem dX0_next_67 : decode cX0_next 67 = .ok (.iload_n 3, 1) := by decide +kernel
theorem dX0_next_68 : decode cX0_next 68 = .ok (.bipush 8, 2) := by decide +kernel
theorem dX0_next_70 : decode cX0_next 70 = .ok (.if_icmp .ne 6, 3) := by decide +kernel
theorem dX0_next_73 : decode cX0_next 73 = .ok (.goto 60, 3) := by decide +kernel
theorem dX0_next_76 : decode cX0_next 76 = .ok (.aload_n 0, 1) := by decide +kernel
theorem dX0_next_77 : decode cX0_next 77 = .ok (.getfield 7, 3) := by decide +kernel
theorem dX0_next_80 : decode cX0_next 80 = .ok (.iload_n 2, 1) := by decide +kernel
theorem dX0_next_81 : decode cX0_next 81 = .ok (.iload_n 3, 1) := by decide +kernel
theorem dX0_next_82 : decode cX0_next 82 = .ok (.i2b, 1) := by decide +kernel
theorem dX0_next_83 : decode cX0_next 83 = .ok (.bastore, 1) := by decide +kernel
theorem dX0_next_84 : decode cX0_next 84 = .ok (.iload_n 2, 1) := by decide +kernel
theorem dX0_next_85 : decode cX0_next 85 = .ok (.iconst 1, 1) := by decide +kernel
theorem dX0_next_86 : decode cX0_next 86 = .ok (.iadd, 1) := by decide +kernel
theorem dX0_next_87 : decode cX0_next 87 = .ok (.istore 4, 2) := by decide +kernel
theorem dX0_next_89 : decode cX0_next 89 = .ok (.iload 4, 2) := by decide +kernel
theorem dX0_next_91 : decode cX0_next 91 = .ok (.aload_n 0, 1) := by decide +kernel
theorem dX0_next_92 : decode cX0_next 92 = .ok (.getfield 46, 3) := by decide +kernel
theorem dX0_next_95 : decode cX0_next 95 = .ok (.if_icmp .ge 23, 3) := by decide +kernel
theorem dX0_next_98 : decode cX0_next 98 = .ok (.aload_n 0, 1) := by decide +kernel
theorem dX0_next_99 : decode cX0_next 99 = .ok (.getfield 7, 3) := by decide +kernel
theorem dX0_next_102 : decode cX0_next 102 = .ok (.iload 4, 2) := by decide +kernel
theorem dX0_next_104 : decode cX0_next 104 = .ok (.aload_n 0, 1) := by decide +kernel
theorem dX0_next_105 : decode cX0_next 105 = .ok (.iload 4, 2) := by decide +kernel
theorem dX0_next_107 : decode cX0_next 107 = .ok (.invokevirtual 67, 3) := by decide +kernel
theorem dX0_next_110 : decode cX0_next 110 = .ok (.i2b, 1) := by decide +kernel
theorem dX0_next_111 : decode cX0_next 111 = .ok (.bastore, 1) := by decide +kernel
theorem dX0_next_112 : decode cX0_next 112 = .ok (.iinc 4 1, 3) := by decide +kernel
theorem dX0_next_115 : decode cX0_next 115 = .ok (.goto (-26), 3) := by decide +kernel
theorem dX0_next_118 : decode cX0_next 118 = .ok (.aload_n 0, 1) := by decide +kernel
theorem dX0_next_119 : decode cX0_next 119 = .ok (.dup, 1) := by decide +kernel
theorem dX0_next_120 : decode cX0_next 120 = .ok (.getfield 49, 3) := by decide +kernel
theorem dX0_next_123 : decode cX0_next 123 = .ok (.iconst 1, 1) := by decide +kernel
theorem dX0_next_124 : decode cX0_next 124 = .ok (.iadd, 1) := by decide +kernel
theorem dX0_next_125 : decode cX0_next 125 = .ok (.putfield 49, 3) := by decide +kernel
theorem dX0_next_128 : decode cX0_next 128 = .ok (.aload_n 0, 1) := by decide +kernel
theorem dX0_next_129 : decode cX0_next 129 = .ok (.getfield 49, 3) := by decide +kernel
theorem dX0_next_132 : decode cX0_next 132 = .ok (.ireturn, 1) := by decide +kernel
theorem dX0_next_133 : decode cX0_next 133 = .ok (.iinc 2 (-1), 3) := by decide +kernel
theorem dX0_next_136 : decode cX0_next 136 = .ok (.goto (-103), 3) := by decide +kernel
theorem dX0_next_139 : decode cX0_next 139 = .ok (.bipush (-2), 2) := by decide +kernel
theorem dX0_next_141 : decode cX0_next 141 = .ok (.ireturn, 1) := by decide +kernel
theorem dX0_smallestAt_0 : decode cX0_smallestAt 0 = .ok (.iconst 0, 1) := by decide +kernel
theorem dX0_smallestAt_1 : decode cX0_smallestAt 1 = .ok (.istore_n 2, 1) := by decide +kernel
theorem dX0_smallestAt_2 : decode cX0_smallestAt 2 = .ok (.aload_n 0, 1) := by decide +kernel
theorem dX0_smallestAt_3 : decode cX0_smallestAt 3 = .ok (.iload_n 1, 1) := by decide +kernel
theorem dX0_smallestAt_4 : decode cX0_smallestAt 4 = .ok (.iload_n 2, 1) := by decide +kernel
theorem dX0_smallestAt_5 : decode cX0_smallestAt 5 = .ok (.invokevirtual 63, 3) := by decide +kernel
theorem dX0_smallestAt_8 : decode cX0_smallestAt 8 = .ok (.ifCond .ne 9, 3) := by decide +kernel
theorem dX0_smallestAt_11 : decode cX0_smallestAt 11 = .ok (.iinc 2 1, 3) := by decide +kernel
theorem dX0_smallestAt_14 : decode cX0_smallestAt 14 = .ok (.goto (-12), 3) := by decide +kernel
theorem dX0_smallestAt_17 : decode cX0_smallestAt 17 = .ok (.iload_n 2, 1) := by decide +kernel
theorem dX0_smallestAt_18 : decode cX0_smallestAt 18 = .ok (.ireturn, 1) := by decide +kernel
end
section
set_option maxRecDepth 100000
theorem dX0_previous_0 : decode cX0_previous 0 = .ok (.aload_n 0, 1) := by decide +kernel
theorem dX0_previous_1 : decode cX0_previous 1 = .ok (.getfield 49, 3) := by decide +kernel
theorem dX0_previous_4 : decode cX0_previous 4 = .ok (.ifCond .gt 6, 3) := by decide +kernel
theorem dX0_previous_7 : decode cX0_previous 7 = .ok (.bipush (-2), 2) := by decide +kernel
theorem dX0_previous_9 : decode cX0_previous 9 = .ok (.ireturn, 1) := by decide +kernel
theorem dX0_previous_10 : decode cX0_previous 10 = .ok (.aload_n 0, 1) := by decide +kernel
theorem dX0_previous_11 : decode cX0_previous 11 = .ok (.getfield 46, 3) := by decide +kernel
theorem dX0_previous_14 : decode cX0_previous 14 = .ok (.iconst 1, 1) := by decide +kernel
theorem dX0_previous_15 : decode cX0_previous 15 = .ok (.isub, 1) := by decide +kernel
theorem dX0_previous_16 : decode cX0_previous 16 = .ok (.istore_n 1, 1) := by decide +kernel
theorem dX0_previous_17 : decode cX0_previous 17 = .ok (.iload_n 1, 1) := by decide +kernel
theorem dX0_previous_18 : decode cX0_previous 18 = .ok (.ifCond .lt 97, 3) := by decide +kernel
theorem dX0_previous_21 : decode cX0_previous 21 = .ok (.aload_n 0, 1) := by decide +kernel
theorem dX0_previous_22 : decode cX0_previous 22 = .ok (.getfield 7, 3) := by decide +kernel
theorem dX0_previous_25 : decode cX0_previous 25 = .ok (.iload_n 1, 1) := by decide +kernel
theorem dX0_previous_26 : decode cX0_previous 26 = .ok (.baload, 1) := by decide +kernel
theorem dX0_previous_27 : decode cX0_previous 27 = .ok (.iconst 1, 1) := by decide +kernel
theorem dX0_previous_28 : decode cX0_previous 28 = .ok (.isub, 1) := by decide +kernel
theorem dX0_previous_29 : decode cX0_previous 29 = .ok (.istore_n 2, 1) := by decide +kernel
theorem dX0_previous_30 : decode cX0_previous 30 = .ok (.iload_n 2, 1) := by decide +kernel
theorem dX0_previous_31 : decode cX0_previous 31 = .ok (.ifCond .lt 18, 3) := by decide +kernel
theorem dX0_previous_34 : decode cX0_previous 34 = .ok (.aload_n 0, 1) := by decide +kernel
theorem dX0_previous_35 : decode cX0_previous 35 = .ok (.iload_n 1, 1) := by decide +kernel
theorem dX0_previous_36 : decode cX0_previous 36 = .ok (.iload_n 2, 1) := by decide +kernel
theorem dX0_previous_37 : decode cX0_previous 37 = .ok (.invokevirtual 63, 3) := by decide +kernel
theorem dX0_previous_40 : decode cX0_previous 40 = .ok (.ifCond .ne 9, 3) := by decide +kernel
theorem dX0_previous_43 : decode cX0_previous 43 = .ok (.iinc 2 (-1), 3) := by decide +kernel
theorem dX0_previous_46 : decode cX0_previous 46 = .ok (.goto (-16), 3) := by decide +kernel
theorem dX0_previous_49 : decode cX0_previous 49 = .ok (.iload_n 2, 1) := by decide +kernel
theorem dX0_previous_50 : decode cX0_previous 50 = .ok (.ifCond .ge 6, 3) := by decide +kernel
theorem dX0_previous_53 : decode cX0_previous 53 = .ok (.goto 56, 3) := by decide +kernel
theorem dX0_previous_56 : decode cX0_previous 56 = .ok (.aload_n 0, 1) := by decide +kernel
theorem dX0_previous_57 : decode cX0_previous 57 = .ok (.getfield 7, 3) := by decide +kernel
theorem dX0_previous_60 : decode cX0_previous 60 = .ok (.iload_n 1, 1) := by decide +kernel
theorem dX0_previous_61 : decode cX0_previous 61 = .ok (.iload_n 2, 1) := by decide +kernel
theorem dX0_previous_62 : decode cX0_previous 62 = .ok (.i2b, 1) := by decide +kernel
theorem dX0_previous_63 : decode cX0_previous 63 = .ok (.bastore, 1) := by decide +kernel
theorem dX0_previous_64 : decode cX0_previous 64 = .ok (.iload_n 1, 1) := by decide +kernel
theorem dX0_previous_65 : decode cX0_previous 65 = .ok (.iconst 1, 1) := by decide +kernel
theorem dX0_previous_66 : decode cX0_previous 66 = .ok (.iadd, 1) := by decide +kernel
theorem dX0_previous_67 : decode cX0_previous 67 = .ok (.istore_n 3, 1) := by decide +kernel
theorem dX0_previous_68 : decode cX0_previous 68 = .ok (.iload_n 3, 1) := by decide +kernel
theorem dX0_previous_69 : decode cX0_previous 69 = .ok (.aload_n 0, 1) := by decide +kernel
theorem dX0_previous_70 : decode cX0_previous 70 = .ok (.getfield 46, 3) := by decide +kernel
theorem dX0_previous_73 : decode cX0_previous 73 = .ok (.if_icmp .ge 21, 3) := by decide +kernel
theorem dX0_previous_76 : decode cX0_previous 76 = .ok (.aload_n 0, 1) := by decide +kernel
theorem dX0_previous_77 : decode cX0_previous 77 = .ok (.getfield 7, 3) := by decide +kernel
theorem dX0_previous_80 : decode cX0_previous 80 = .ok (.iload_n 3, 1) := by decide +kernel
theorem dX0_previous_81 : decode cX0_previous 81 = .ok (.aload_n 0, 1) := by decide +kernel
theorem dX0_previous_82 : decode cX0_previous 82 = .ok (.iload_n 3, 1) := by decide +kernel
theorem dX0_previous_83 : decode cX0_previous 83 = .ok (.invokevirtual 70, 3) := by decide +kernel
theorem dX0_previous_86 : decode cX0_previous 86 = .ok (.i2b, 1) := by decide +kernel
theorem dX0_previous_87 : decode cX0_previous 87 = .ok (.bastore, 1) := by decide +kernel
theorem dX0_previous_88 : decode cX0_previous 88 = .ok (.iinc 3 1, 3) := by decide +kernel
theorem dX0_previous_91 : decode cX0_previous 91 = .ok (.goto (-23), 3) := by decide +kernel
theorem dX0_previous_94 : decode cX0_previous 94 = .ok (.aload_n 0, 1) := by decide +kernel
theorem dX0_previous_95 : decode cX0_previous 95 = .ok (.dup, 1) := by decide +kernel
theorem dX0_previous_96 : decode cX0_previous 96 = .ok (.getfield 49, 3) := by decide +kernel
theorem dX0_previous_99 : decode cX0_previous 99 = .ok (.iconst 1, 1) := by decide +kernel
theorem dX0_previous_100 : decode cX0_previous 100 = .ok (.isub, 1) := by decide +kernel
theorem dX0_previous_101 : decode cX0_previous 101 = .ok (.putfield 49, 3) := by decide +kernel
theorem dX0_previous_104 : decode cX0_previous 104 = .ok (.aload_n 0, 1) := by decide +kernel
theorem dX0_previous_105 : decode cX0_previous 105 = .ok (.getfield 49, 3) := by decide +kernel
theorem dX0_previous_108 : decode cX0_previous 108 = .ok (.ireturn, 1) := by decide +kernel
theorem dX0_previous_109 : decode cX0_previous 109 = .ok (.iinc 1 (-1), 3) := by decide +kernel
theorem dX0_previous_112 : decode cX0_previous 112 = .ok (.goto (-95), 3) := by decide +kernel
theorem dX0_previous_115 : decode cX0_previous 115 = .ok (.bipush (-2), 2) := by decide +kernel
theorem dX0_previous_117 : decode cX0_previous 117 = .ok (.ireturn, 1) := by decide +kernel
theorem dX0_greatestAt_0 : decode cX0_greatestAt 0 = .ok (.bipush 7, 2) := by decide +kernel
theorem dX0_greatestAt_2 : decode cX0_greatestAt 2 = .ok (.istore_n 2, 1) := by decide +kernel
theorem dX0_greatestAt_3 : decode cX0_greatestAt 3 = .ok (.aload_n 0, 1) := by decide +kernel
theorem dX0_greatestAt_4 : decode cX0_greatestAt 4 = .ok (.iload_n 1, 1) := by decide +kernel
theorem dX0_greatestAt_5 : decode cX0_greatestAt 5 = .ok (.iload_n 2, 1) := by decide +kernel
theorem dX0_greatestAt_6 : decode cX0_greatestAt 6 = .ok (.invokevirtual 63, 3) := by decide +kernel
theorem dX0_greatestAt_9 : decode cX0_greatestAt 9 = .ok (.ifCond .ne 9, 3) := by decide +kernel
theorem dX0_greatestAt_12 : decode cX0_greatestAt 12 = .ok (.iinc 2 (-1), 3) := by decide +kernel
theorem dX0_greatestAt_15 : decode cX0_greatestAt 15 = .ok (.goto (-12), 3) := by decide +kernel
theorem dX0_greatestAt_18 : decode cX0_greatestAt 18 = .ok (.iload_n 2, 1) := by decide +kernel
theorem dX0_greatestAt_19 : decode cX0_greatestAt 19 = .ok (.ireturn, 1) := by decide +kernel
theorem dX0_firstLike_0 : decode cX0_firstLike 0 = .ok (.aload_n 0, 1) := by decide +kernel
theorem dX0_firstLike_1 : decode cX0_firstLike 1 = .ok (.getfield 49, 3) := by decide +kernel
theorem dX0_firstLike_4 : decode cX0_firstLike 4 = .ok (.ifCond .lt 15, 3) := by decide +kernel
theorem dX0_firstLike_7 : decode cX0_firstLike 7 = .ok (.iload_n 1, 1) := by decide +kernel
theorem dX0_firstLike_8 : decode cX0_firstLike 8 = .ok (.ifCond .lt 11, 3) := by decide +kernel
theorem dX0_firstLike_11 : decode cX0_firstLike 11 = .ok (.iload_n 1, 1) := by decide +kernel
theorem dX0_firstLike_12 : decode cX0_firstLike 12 = .ok (.aload_n 0, 1) := by decide +kernel
theorem dX0_firstLike_13 : decode cX0_firstLike 13 = .ok (.getfield 46, 3) := by decide +kernel
theorem dX0_firstLike_16 : decode cX0_firstLike 16 = .ok (.if_icmp .lt 5, 3) := by decide +kernel
theorem dX0_firstLike_19 : decode cX0_firstLike 19 = .ok (.iconst (-1), 1) := by decide +kernel
theorem dX0_firstLike_20 : decode cX0_firstLike 20 = .ok (.ireturn, 1) := by decide +kernel
theorem dX0_firstLike_21 : decode cX0_firstLike 21 = .ok (.aload_n 0, 1) := by decide +kernel
theorem dX0_firstLike_22 : decode cX0_firstLike 22 = .ok (.iload_n 1, 1) := by decide +kernel
theorem dX0_firstLike_23 : decode cX0_firstLike 23 = .ok (.invokevirtual 73, 3) := by decide +kernel
theorem dX0_firstLike_26 : decode cX0_firstLike 26 = .ok (.ireturn, 1) := by decide +kernel
theorem dX0_rankUpTo_0 : decode cX0_rankUpTo 0 = .ok (.iconst 0, 1) := by decide +kernel
theorem dX0_rankUpTo_1 : decode cX0_rankUpTo 1 = .ok (.istore_n 2, 1) := by decide +kernel
theorem dX0_rankUpTo_2 : decode cX0_rankUpTo 2 = .ok (.iconst 0, 1) := by decide +kernel
theorem dX0_rankUpTo_3 : decode cX0_rankUpTo 3 = .ok (.istore_n 3, 1) := by decide +kernel
theorem dX0_rankUpTo_4 : decode cX0_rankUpTo 4 = .ok (.iload_n 3, 1) := by decide +kernel
theorem dX0_rankUpTo_5 : decode cX0_rankUpTo 5 = .ok (.iload_n 1, 1) := by decide +kernel
theorem dX0_rankUpTo_6 : decode cX0_rankUpTo 6 = .ok (.if_icmp .gt 52, 3) := by decide +kernel
theorem dX0_rankUpTo_9 : decode cX0_rankUpTo 9 = .ok (.aload_n 0, 1) := by decide +kernel
theorem dX0_rankUpTo_10 : decode cX0_rankUpTo 10 = .ok (.getfield 7, 3) := by decide +kernel
theorem dX0_rankUpTo_13 : decode cX0_rankUpTo 13 = .ok (.iload_n 3, 1) := by decide +kernel
theorem dX0_rankUpTo_14 : decode cX0_rankUpTo 14 = .ok (.baload, 1) := by decide +kernel
theorem dX0_rankUpTo_15 : decode cX0_rankUpTo 15 = .ok (.istore 4, 2) := by decide +kernel
theorem dX0_rankUpTo_17 : decode cX0_rankUpTo 17 = .ok (.iconst 0, 1) := by decide +kernel
theorem dX0_rankUpTo_18 : decode cX0_rankUpTo 18 = .ok (.istore 5, 2) := by decide +kernel
theorem dX0_rankUpTo_20 : decode cX0_rankUpTo 20 = .ok (.iload 5, 2) := by decide +kernel
theorem dX0_rankUpTo_22 : decode cX0_rankUpTo 22 = .ok (.iload 4, 2) := by decide +kernel
theorem dX0_rankUpTo_24 : decode cX0_rankUpTo 24 = .ok (.if_icmp .ge 19, 3) := by decide +kernel
theorem dX0_rankUpTo_27 : decode cX0_rankUpTo 27 = .ok (.iload_n 2, 1) := by decide +kernel
theorem dX0_rankUpTo_28 : decode cX0_rankUpTo 28 = .ok (.aload_n 0, 1) := by decide +kernel
theorem dX0_rankUpTo_29 : decode cX0_rankUpTo 29 = .ok (.iload_n 3, 1) := by decide +kernel
theorem dX0_rankUpTo_30 : decode cX0_rankUpTo 30 = .ok (.iload 5, 2) := by decide +kernel
theorem dX0_rankUpTo_32 : decode cX0_rankUpTo 32 = .ok (.invokevirtual 63, 3) := by decide +kernel
theorem dX0_rankUpTo_35 : decode cX0_rankUpTo 35 = .ok (.iadd, 1) := by decide +kernel
theorem dX0_rankUpTo_36 : decode cX0_rankUpTo 36 = .ok (.istore_n 2, 1) := by decide +kernel
theorem dX0_rankUpTo_37 : decode cX0_rankUpTo 37 = .ok (.iinc 5 1, 3) := by decide +kernel
theorem dX0_rankUpTo_40 : decode cX0_rankUpTo 40 = .ok (.goto (-20), 3) := by decide +kernel
theorem dX0_rankUpTo_43 : decode cX0_rankUpTo 43 = .ok (.aload_n 0, 1) := by decide +kernel
theorem dX0_rankUpTo_44 : decode cX0_rankUpTo 44 = .ok (.getfield 7, 3) := by decide +kernel
theorem dX0_rankUpTo_47 : decode cX0_rankUpTo 47 = .ok (.iload_n 3, 1) := by decide +kernel
theorem dX0_rankUpTo_48 : decode cX0_rankUpTo 48 = .ok (.iload 4, 2) := by decide +kernel
theorem dX0_rankUpTo_50 : decode cX0_rankUpTo 50 = .ok (.i2b, 1) := by decide +kernel
theorem dX0_rankUpTo_51 : decode cX0_rankUpTo 51 = .ok (.bastore, 1) := by decide +kernel
theorem dX0_rankUpTo_52 : decode cX0_rankUpTo 52 = .ok (.iinc 3 1, 3) := by decide +kernel
theorem dX0_rankUpTo_55 : decode cX0_rankUpTo 55 = .ok (.goto (-51), 3) := by decide +kernel
theorem dX0_rankUpTo_58 : decode cX0_rankUpTo 58 = .ok (.iload_n 2, 1) := by decide +kernel
theorem dX0_rankUpTo_59 : decode cX0_rankUpTo 59 = .ok (.ireturn, 1) := by decide +kernel
theorem dX0_like_0 : decode cX0_like 0 = .ok (.aload_n 0, 1) := by decide +kernel
theorem dX0_like_1 : decode cX0_like 1 = .ok (.getfield 49, 3) := by decide +kernel
theorem dX0_like_4 : decode cX0_like 4 = .ok (.ifCond .lt 15, 3) := by decide +kernel
theorem dX0_like_7 : decode cX0_like 7 = .ok (.iload_n 1, 1) := by decide +kernel
theorem dX0_like_8 : decode cX0_like 8 = .ok (.ifCond .lt 11, 3) := by decide +kernel
theorem dX0_like_11 : decode cX0_like 11 = .ok (.iload_n 1, 1) := by decide +kernel
theorem dX0_like_12 : decode cX0_like 12 = .ok (.aload_n 0, 1) := by decide +kernel
theorem dX0_like_13 : decode cX0_like 13 = .ok (.getfield 46, 3) := by decide +kernel
theorem dX0_like_16 : decode cX0_like 16 = .ok (.if_icmp .lt 5, 3) := by decide +kernel
theorem dX0_like_19 : decode cX0_like 19 = .ok (.iconst (-1), 1) := by decide +kernel
theorem dX0_like_20 : decode cX0_like 20 = .ok (.ireturn, 1) := by decide +kernel
theorem dX0_like_21 : decode cX0_like 21 = .ok (.aload_n 0, 1) := by decide +kernel
theorem dX0_like_22 : decode cX0_like 22 = .ok (.iload_n 1, 1) := by decide +kernel
theorem dX0_like_23 : decode cX0_like 23 = .ok (.iconst 1, 1) := by decide +kernel
theorem dX0_like_24 : decode cX0_like 24 = .ok (.iadd, 1) := by decide +kernel
theorem dX0_like_25 : decode cX0_like 25 = .ok (.invokevirtual 60, 3) := by decide +kernel
theorem dX0_like_28 : decode cX0_like 28 = .ok (.ireturn, 1) := by decide +kernel
theorem dX0_difference_0 : decode cX0_difference 0 = .ok (.aload_n 0, 1) := by decide +kernel
theorem dX0_difference_1 : decode cX0_difference 1 = .ok (.iconst 0, 1) := by decide +kernel
theorem dX0_difference_2 : decode cX0_difference 2 = .ok (.invokevirtual 60, 3) := by decide +kernel
theorem dX0_difference_5 : decode cX0_difference 5 = .ok (.istore_n 2, 1) := by decide +kernel
theorem dX0_difference_6 : decode cX0_difference 6 = .ok (.iload_n 1, 1) := by decide +kernel
theorem dX0_difference_7 : decode cX0_difference 7 = .ok (.ifCond .lt 8, 3) := by decide +kernel
theorem dX0_difference_10 : decode cX0_difference 10 = .ok (.iload_n 1, 1) := by decide +kernel
theorem dX0_difference_11 : decode cX0_difference 11 = .ok (.iload_n 2, 1) := by decide +kernel
theorem dX0_difference_12 : decode cX0_difference 12 = .ok (.if_icmp .lt 5, 3) := by decide +kernel
theorem dX0_difference_15 : decode cX0_difference 15 = .ok (.iconst (-1), 1) := by decide +kernel
theorem dX0_difference_16 : decode cX0_difference 16 = .ok (.ireturn, 1) := by decide +kernel
theorem dX0_difference_17 : decode cX0_difference 17 = .ok (.aload_n 0, 1) := by decide +kernel
theorem dX0_difference_18 : decode cX0_difference 18 = .ok (.getfield 49, 3) := by decide +kernel
theorem dX0_difference_21 : decode cX0_difference 21 = .ok (.istore_n 3, 1) := by decide +kernel
theorem dX0_difference_22 : decode cX0_difference 22 = .ok (.iconst 0, 1) := by decide +kernel
theorem dX0_difference_23 : decode cX0_difference 23 = .ok (.istore 4, 2) := by decide +kernel
theorem dX0_difference_25 : decode cX0_difference 25 = .ok (.iload 4, 2) := by decide +kernel
theorem dX0_difference_27 : decode cX0_difference 27 = .ok (.aload_n 0, 1) := by decide +kernel
theorem dX0_difference_28 : decode cX0_difference 28 = .ok (.getfield 46, 3) := by decide +kernel
theorem dX0_difference_31 : decode cX0_difference 31 = .ok (.if_icmp .ge 23, 3) := by decide +kernel
theorem dX0_difference_34 : decode cX0_difference 34 = .ok (.aload_n 0, 1) := by decide +kernel
theorem dX0_difference_35 : decode cX0_difference 35 = .ok (.getfield 13, 3) := by decide +kernel
theorem dX0_difference_38 : decode cX0_difference 38 = .ok (.iload 4, 2) := by decide +kernel
theorem dX0_difference_40 : decode cX0_difference 40 = .ok (.aload_n 0, 1) := by decide +kernel
theorem dX0_difference_41 : decode cX0_difference 41 = .ok (.getfield 7, 3) := by decide +kernel
theorem dX0_difference_44 : decode cX0_difference 44 = .ok (.iload 4, 2) := by decide +kernel
theorem dX0_difference_46 : decode cX0_difference 46 = .ok (.baload, 1) := by decide +kernel
theorem dX0_difference_47 : decode cX0_difference 47 = .ok (.bastore, 1) := by decide +kernel
theorem dX0_difference_48 : decode cX0_difference 48 = .ok (.iinc 4 1, 3) := by decide +kernel
theorem dX0_difference_51 : decode cX0_difference 51 = .ok (.goto (-26), 3) := by decide +kernel
theorem dX0_difference_54 : decode cX0_difference 54 = .ok (.aload_n 0, 1) := by decide +kernel
theorem dX0_difference_55 : decode cX0_difference 55 = .ok (.iload_n 1, 1) := by decide +kernel
theorem dX0_difference_56 : decode cX0_difference 56 = .ok (.invokevirtual 56, 3) := by decide +kernel
theorem dX0_difference_59 : decode cX0_difference 59 = .ok (.pop, 1) := by decide +kernel
theorem dX0_difference_60 : decode cX0_difference 60 = .ok (.iconst 0, 1) := by decide +kernel
theorem dX0_difference_61 : decode cX0_difference 61 = .ok (.istore 4, 2) := by decide +kernel
theorem dX0_difference_63 : decode cX0_difference 63 = .ok (.iconst 0, 1) := by decide +kernel
theorem dX0_difference_64 : decode cX0_difference 64 = .ok (.istore 5, 2) := by decide +kernel
theorem dX0_difference_66 : decode cX0_difference 66 = .ok (.iload 5, 2) := by decide +kernel
theorem dX0_difference_68 : decode cX0_difference 68 = .ok (.aload_n 0, 1) := by decide +kernel
theorem dX0_difference_69 : decode cX0_difference 69 = .ok (.getfield 46, 3) := by decide +kernel
theorem dX0_difference_72 : decode cX0_difference 72 = .ok (.if_icmp .ge 29, 3) := by decide +kernel
theorem dX0_difference_75 : decode cX0_difference 75 = .ok (.aload_n 0, 1) := by decide +kernel
theorem dX0_difference_76 : decode cX0_difference 76 = .ok (.getfield 7, 3) := by decide +kernel
theorem dX0_difference_79 : decode cX0_difference 79 = .ok (.iload 5, 2) := by decide +kernel
theorem dX0_difference_81 : decode cX0_difference 81 = .ok (.baload, 1) := by decide +kernel
theorem dX0_difference_82 : decode cX0_difference 82 = .ok (.aload_n 0, 1) := by decide +kernel
theorem dX0_difference_83 : decode cX0_difference 83 = .ok (.getfield 13, 3) := by decide +kernel
theorem dX0_difference_86 : decode cX0_difference 86 = .ok (.iload 5, 2) := by decide +kernel
theorem dX0_difference_88 : decode cX0_difference 88 = .ok (.baload, 1) := by decide +kernel
theorem dX0_difference_89 : decode cX0_difference 89 = .ok (.if_icmp .eq 6, 3) := by decide +kernel
theorem dX0_difference_92 : decode cX0_difference 92 = .ok (.iinc 4 1, 3) := by decide +kernel
theorem dX0_difference_95 : decode cX0_difference 95 = .ok (.iinc 5 1, 3) := by decide +kernel
theorem dX0_difference_98 : decode cX0_difference 98 = .ok (.goto (-32), 3) := by decide +kernel
theorem dX0_difference_101 : decode cX0_difference 101 = .ok (.aload_n 0, 1) := by decide +kernel
theorem dX0_difference_102 : decode cX0_difference 102 = .ok (.iload_n 3, 1) := by decide +kernel
theorem dX0_difference_103 : decode cX0_difference 103 = .ok (.invokevirtual 56, 3) := by decide +kernel
theorem dX0_difference_106 : decode cX0_difference 106 = .ok (.pop, 1) := by decide +kernel
theorem dX0_difference_107 : decode cX0_difference 107 = .ok (.iload 4, 2) := by decide +kernel
theorem dX0_difference_109 : decode cX0_difference 109 = .ok (.ireturn, 1) := by decide +kernel
theorem dX0_mirrored_0 : decode cX0_mirrored 0 = .ok (.aload_n 0, 1) := by decide +kernel
theorem dX0_mirrored_1 : decode cX0_mirrored 1 = .ok (.getfield 49, 3) := by decide +kernel
theorem dX0_mirrored_4 : decode cX0_mirrored 4 = .ok (.ifCond .lt 11, 3) := by decide +kernel
theorem dX0_mirrored_7 : decode cX0_mirrored 7 = .ok (.aload_n 0, 1) := by decide +kernel
theorem dX0_mirrored_8 : decode cX0_mirrored 8 = .ok (.getfield 36, 3) := by decide +kernel
theorem dX0_mirrored_11 : decode cX0_mirrored 11 = .ok (.iconst 2, 1) := by decide +kernel
theorem dX0_mirrored_12 : decode cX0_mirrored 12 = .ok (.if_icmp .ne 6, 3) := by decide +kernel
theorem dX0_mirrored_15 : decode cX0_mirrored 15 = .ok (.bipush (-2), 2) := by decide +kernel
theorem dX0_mirrored_17 : decode cX0_mirrored 17 = .ok (.ireturn, 1) := by decide +kernel
theorem dX0_mirrored_18 : decode cX0_mirrored 18 = .ok (.aload_n 0, 1) := by decide +kernel
theorem dX0_mirrored_19 : decode cX0_mirrored 19 = .ok (.getfield 49, 3) := by decide +kernel
theorem dX0_mirrored_22 : decode cX0_mirrored 22 = .ok (.istore_n 1, 1) := by decide +kernel
theorem dX0_mirrored_23 : decode cX0_mirrored 23 = .ok (.iconst 0, 1) := by decide +kernel
theorem dX0_mirrored_24 : decode cX0_mirrored 24 = .ok (.istore_n 2, 1) := by decide +kernel
theorem dX0_mirrored_25 : decode cX0_mirrored 25 = .ok (.iload_n 2, 1) := by decide +kernel
theorem dX0_mirrored_26 : decode cX0_mirrored 26 = .ok (.aload_n 0, 1) := by decide +kernel
theorem dX0_mirrored_27 : decode cX0_mirrored 27 = .ok (.getfield 46, 3) := by decide +kernel
theorem dX0_mirrored_30 : decode cX0_mirrored 30 = .ok (.if_icmp .ge 59, 3) := by decide +kernel
theorem dX0_mirrored_33 : decode cX0_mirrored 33 = .ok (.aload_n 0, 1) := by decide +kernel
theorem dX0_mirrored_34 : decode cX0_mirrored 34 = .ok (.getfield 7, 3) := by decide +kernel
theorem dX0_mirrored_37 : decode cX0_mirrored 37 = .ok (.aload_n 0, 1) := by decide +kernel
theorem dX0_mirrored_38 : decode cX0_mirrored 38 = .ok (.getfield 46, 3) := by decide +kernel
theorem dX0_mirrored_41 : decode cX0_mirrored 41 = .ok (.iconst 1, 1) := by decide +kernel
theorem dX0_mirrored_42 : decode cX0_mirrored 42 = .ok (.isub, 1) := by decide +kernel
theorem dX0_mirrored_43 : decode cX0_mirrored 43 = .ok (.iload_n 2, 1) := by decide +kernel
theorem dX0_mirrored_44 : decode cX0_mirrored 44 = .ok (.isub, 1) := by decide +kernel
theorem dX0_mirrored_45 : decode cX0_mirrored 45 = .ok (.baload, 1) := by decide +kernel
theorem dX0_mirrored_46 : decode cX0_mirrored 46 = .ok (.istore_n 3, 1) := by decide +kernel
theorem dX0_mirrored_47 : decode cX0_mirrored 47 = .ok (.aload_n 0, 1) := by decide +kernel
theorem dX0_mirrored_48 : decode cX0_mirrored 48 = .ok (.getfield 36, 3) := by decide +kernel
theorem dX0_mirrored_51 : decode cX0_mirrored 51 = .ok (.ifCond .ne 12, 3) := by decide +kernel
theorem dX0_mirrored_54 : decode cX0_mirrored 54 = .ok (.aload_n 0, 1) := by decide +kernel
theorem dX0_mirrored_55 : decode cX0_mirrored 55 = .ok (.getfield 40, 3) := by decide +kernel
theorem dX0_mirrored_58 : decode cX0_mirrored 58 = .ok (.iconst 1, 1) := by decide +kernel
theorem dX0_mirrored_59 : decode cX0_mirrored 59 = .ok (.isub, 1) := by decide +kernel
theorem dX0_mirrored_60 : decode cX0_mirrored 60 = .ok (.iload_n 3, 1) := by decide +kernel
theorem dX0_mirrored_61 : decode cX0_mirrored 61 = .ok (.isub, 1) := by decide +kernel
theorem dX0_mirrored_62 : decode cX0_mirrored 62 = .ok (.istore_n 3, 1) := by decide +kernel
theorem dX0_mirrored_63 : decode cX0_mirrored 63 = .ok (.aload_n 0, 1) := by decide +kernel
theorem dX0_mirrored_64 : decode cX0_mirrored 64 = .ok (.getfield 36, 3) := by decide +kernel
theorem dX0_mirrored_67 : decode cX0_mirrored 67 = .ok (.iconst 3, 1) := by decide +kernel
theorem dX0_mirrored_68 : decode cX0_mirrored 68 = .ok (.if_icmp .ne 7, 3) := by decide +kernel
theorem dX0_mirrored_71 : decode cX0_mirrored 71 = .ok (.iconst 1, 1) := by decide +kernel
theorem dX0_mirrored_72 : decode cX0_mirrored 72 = .ok (.iload_n 3, 1) := by decide +kernel
theorem dX0_mirrored_73 : decode cX0_mirrored 73 = .ok (.isub, 1) := by decide +kernel
theorem dX0_mirrored_74 : decode cX0_mirrored 74 = .ok (.istore_n 3, 1) := by decide +kernel
theorem dX0_mirrored_75 : decode cX0_mirrored 75 = .ok (.aload_n 0, 1) := by decide +kernel
theorem dX0_mirrored_76 : decode cX0_mirrored 76 = .ok (.getfield 13, 3) := by decide +kernel
theorem dX0_mirrored_79 : decode cX0_mirrored 79 = .ok (.iload_n 2, 1) := by decide +kernel
theorem dX0_mirrored_80 : decode cX0_mirrored 80 = .ok (.iload_n 3, 1) := by decide +kernel
theorem dX0_mirrored_81 : decode cX0_mirrored 81 = .ok (.i2b, 1) := by decide +kernel
theorem dX0_mirrored_82 : decode cX0_mirrored 82 = .ok (.bastore, 1) := by decide +kernel
theorem dX0_mirrored_83 : decode cX0_mirrored 83 = .ok (.iinc 2 1, 3) := by decide +kernel
theorem dX0_mirrored_86 : decode cX0_mirrored 86 = .ok (.goto (-61), 3) := by decide +kernel
theorem dX0_mirrored_89 : decode cX0_mirrored 89 = .ok (.iconst 0, 1) := by decide +kernel
theorem dX0_mirrored_90 : decode cX0_mirrored 90 = .ok (.istore_n 2, 1) := by decide +kernel
theorem dX0_mirrored_91 : decode cX0_mirrored 91 = .ok (.iload_n 2, 1) := by decide +kernel
theorem dX0_mirrored_92 : decode cX0_mirrored 92 = .ok (.aload_n 0, 1) := by decide +kernel
theorem dX0_mirrored_93 : decode cX0_mirrored 93 = .ok (.getfield 46, 3) := by decide +kernel
theorem dX0_mirrored_96 : decode cX0_mirrored 96 = .ok (.if_icmp .ge 21, 3) := by decide +kernel
theorem dX0_mirrored_99 : decode cX0_mirrored 99 = .ok (.aload_n 0, 1) := by decide +kernel
theorem dX0_mirrored_100 : decode cX0_mirrored 100 = .ok (.getfield 7, 3) := by decide +kernel
theorem dX0_mirrored_103 : decode cX0_mirrored 103 = .ok (.iload_n 2, 1) := by decide +kernel
theorem dX0_mirrored_104 : decode cX0_mirrored 104 = .ok (.aload_n 0, 1) := by decide +kernel
theorem dX0_mirrored_105 : decode cX0_mirrored 105 = .ok (.getfield 13, 3) := by decide +kernel
theorem dX0_mirrored_108 : decode cX0_mirrored 108 = .ok (.iload_n 2, 1) := by decide +kernel
theorem dX0_mirrored_109 : decode cX0_mirrored 109 = .ok (.baload, 1) := by decide +kernel
theorem dX0_mirrored_110 : decode cX0_mirrored 110 = .ok (.bastore, 1) := by decide +kernel
theorem dX0_mirrored_111 : decode cX0_mirrored 111 = .ok (.iinc 2 1, 3) := by decide +kernel
theorem dX0_mirrored_114 : decode cX0_mirrored 114 = .ok (.goto (-23), 3) := by decide +kernel
theorem dX0_mirrored_117 : decode cX0_mirrored 117 = .ok (.aload_n 0, 1) := by decide +kernel
theorem dX0_mirrored_118 : decode cX0_mirrored 118 = .ok (.aload_n 0, 1) := by decide +kernel
theorem dX0_mirrored_119 : decode cX0_mirrored 119 = .ok (.getfield 46, 3) := by decide +kernel
theorem dX0_mirrored_122 : decode cX0_mirrored 122 = .ok (.iconst 1, 1) := by decide +kernel
theorem dX0_mirrored_123 : decode cX0_mirrored 123 = .ok (.isub, 1) := by decide +kernel
theorem dX0_mirrored_124 : decode cX0_mirrored 124 = .ok (.invokevirtual 73, 3) := by decide +kernel
theorem dX0_mirrored_127 : decode cX0_mirrored 127 = .ok (.istore_n 2, 1) := by decide +kernel
theorem dX0_mirrored_128 : decode cX0_mirrored 128 = .ok (.aload_n 0, 1) := by decide +kernel
theorem dX0_mirrored_129 : decode cX0_mirrored 129 = .ok (.iload_n 1, 1) := by decide +kernel
theorem dX0_mirrored_130 : decode cX0_mirrored 130 = .ok (.invokevirtual 56, 3) := by decide +kernel
theorem dX0_mirrored_133 : decode cX0_mirrored 133 = .ok (.pop, 1) := by decide +kernel
theorem dX0_mirrored_134 : decode cX0_mirrored 134 = .ok (.iload_n 2, 1) := by decide +kernel
theorem dX0_mirrored_135 : decode cX0_mirrored 135 = .ok (.ireturn, 1) := by decide +kernel
end
section
set_option maxRecDepth 100000
theorem dX1_init_0 : decode cX1_init 0 = .ok (.aload_n 0, 1) := by decide +kernel
theorem dX1_init_1 : decode cX1_init 1 = .ok (.invokespecial 1, 3) := by decide +kernel
theorem dX1_init_4 : decode cX1_init 4 = .ok (.aload_n 0, 1) := by decide +kernel
theorem dX1_init_5 : decode cX1_init 5 = .ok (.iconst 1, 1) := by decide +kernel
theorem dX1_init_6 : decode cX1_init 6 = .ok (.putfield 7, 3) := by decide +kernel
theorem dX1_init_9 : decode cX1_init 9 = .ok (.aload_n 0, 1) := by decide +kernel
theorem dX1_init_10 : decode cX1_init 10 = .ok (.iconst 3, 1) := by decide +kernel
theorem dX1_init_11 : decode cX1_init 11 = .ok (.putfield 13, 3) := by decide +kernel
theorem dX1_init_14 : decode cX1_init 14 = .ok (.aload_n 0, 1) := by decide +kernel
theorem dX1_init_15 : decode cX1_init 15 = .ok (.iconst 0, 1) := by decide +kernel
theorem dX1_init_16 : decode cX1_init 16 = .ok (.putfield 16, 3) := by decide +kernel
theorem dX1_init_19 : decode cX1_init 19 = .ok (.aload_n 0, 1) := by decide +kernel
theorem dX1_init_20 : decode cX1_init 20 = .ok (.iconst 0, 1) := by decide +kernel
theorem dX1_init_21 : decode cX1_init 21 = .ok (.putfield 19, 3) := by decide +kernel
theorem dX1_init_24 : decode cX1_init 24 = .ok (.aload_n 0, 1) := by decide +kernel
theorem dX1_init_25 : decode cX1_init 25 = .ok (.iconst 0, 1) := by decide +kernel
theorem dX1_init_26 : decode cX1_init 26 = .ok (.putfield 22, 3) := by decide +kernel
theorem dX1_init_29 : decode cX1_init 29 = .ok (.aload_n 0, 1) := by decide +kernel
theorem dX1_init_30 : decode cX1_init 30 = .ok (.sipush 5040, 3) := by decide +kernel
theorem dX1_init_33 : decode cX1_init 33 = .ok (.newarray .long, 2) := by decide +kernel
theorem dX1_init_35 : decode cX1_init 35 = .ok (.putfield 25, 3) := by decide +kernel
theorem dX1_init_38 : decode cX1_init 38 = .ok (.aload_n 0, 1) := by decide +kernel
theorem dX1_init_39 : decode cX1_init 39 = .ok (.sipush 5040, 3) := by decide +kernel
theorem dX1_init_42 : decode cX1_init 42 = .ok (.newarray .long, 2) := by decide +kernel
theorem dX1_init_44 : decode cX1_init 44 = .ok (.putfield 29, 3) := by decide +kernel
theorem dX1_init_47 : decode cX1_init 47 = .ok (.aload_n 0, 1) := by decide +kernel
theorem dX1_init_48 : decode cX1_init 48 = .ok (.invokevirtual 32, 3) := by decide +kernel
theorem dX1_init_51 : decode cX1_init 51 = .ok (.return_, 1) := by decide +kernel
theorem dX1_write_0 : decode cX1_write 0 = .ok (.aload_n 0, 1) := by decide +kernel
theorem dX1_write_1 : decode cX1_write 1 = .ok (.aload_n 0, 1) := by decide +kernel
theorem dX1_write_2 : decode cX1_write 2 = .ok (.invokevirtual 37, 3) := by decide +kernel
theorem dX1_write_5 : decode cX1_write 5 = .ok (.ifCond .ne 15, 3) := by decide +kernel
theorem dX1_write_8 : decode cX1_write 8 = .ok (.aload_n 0, 1) := by decide +kernel
theorem dX1_write_9 : decode cX1_write 9 = .ok (.getfield 7, 3) := by decide +kernel
theorem dX1_write_12 : decode cX1_write 12 = .ok (.iconst 4, 1) := by decide +kernel
theorem dX1_write_13 : decode cX1_write 13 = .ok (.if_icmp .ne 7, 3) := by decide +kernel
theorem dX1_write_16 : decode cX1_write 16 = .ok (.iconst 0, 1) := by decide +kernel
theorem dX1_write_17 : decode cX1_write 17 = .ok (.goto 4, 3) := by decide +kernel
theorem dX1_write_20 : decode cX1_write 20 = .ok (.iconst 1, 1) := by decide +kernel
theorem dX1_write_21 : decode cX1_write 21 = .ok (.putfield 22, 3) := by decide +kernel
theorem dX1_write_24 : decode cX1_write 24 = .ok (.aload_n 0, 1) := by decide +kernel
theorem dX1_write_25 : decode cX1_write 25 = .ok (.getfield 25, 3) := by decide +kernel
theorem dX1_write_28 : decode cX1_write 28 = .ok (.iconst 0, 1) := by decide +kernel
theorem dX1_write_29 : decode cX1_write 29 = .ok (.lconst 0, 1) := by decide +kernel
theorem dX1_write_30 : decode cX1_write 30 = .ok (.lastore, 1) := by decide +kernel
theorem dX1_write_31 : decode cX1_write 31 = .ok (.iconst 0, 1) := by decide +kernel
theorem dX1_write_32 : decode cX1_write 32 = .ok (.istore_n 1, 1) := by decide +kernel
theorem dX1_write_33 : decode cX1_write 33 = .ok (.iload_n 1, 1) := by decide +kernel
theorem dX1_write_34 : decode cX1_write 34 = .ok (.aload_n 0, 1) := by decide +kernel
theorem dX1_write_35 : decode cX1_write 35 = .ok (.invokevirtual 37, 3) := by decide +kernel
theorem dX1_write_38 : decode cX1_write 38 = .ok (.if_icmp .ge 112, 3) := by decide +kernel
theorem dX1_write_41 : decode cX1_write 41 = .ok (.iconst 0, 1) := by decide +kernel
theorem dX1_write_42 : decode cX1_write 42 = .ok (.istore_n 2, 1) := by decide +kernel
theorem dX1_write_43 : decode cX1_write 43 = .ok (.iconst 0, 1) := by decide +kernel
theorem dX1_write_44 : decode cX1_write 44 = .ok (.istore_n 3, 1) := by decide +kernel
theorem dX1_write_45 : decode cX1_write 45 = .ok (.iload_n 3, 1) := by decide +kernel
theorem dX1_write_46 : decode cX1_write 46 = .ok (.bipush 8, 2) := by decide +kernel
theorem dX1_write_48 : decode cX1_write 48 = .ok (.aload_n 0, 1) := by decide +kernel
theorem dX1_write_49 : decode cX1_write 49 = .ok (.getfield 22, 3) := by decide +kernel
theorem dX1_write_52 : decode cX1_write 52 = .ok (.imul, 1) := by decide +kernel
theorem dX1_write_53 : decode cX1_write 53 = .ok (.if_icmp .ge 58, 3) := by decide +kernel
theorem dX1_write_56 : decode cX1_write 56 = .ok (.aload_n 0, 1) := by decide +kernel
theorem dX1_write_57 : decode cX1_write 57 = .ok (.aload_n 0, 1) := by decide +kernel
theorem dX1_write_58 : decode cX1_write 58 = .ok (.getfield 25, 3) := by decide +kernel
theorem dX1_write_61 : decode cX1_write 61 = .ok (.iload_n 3, 1) := by decide +kernel
theorem dX1_write_62 : decode cX1_write 62 = .ok (.bipush 8, 2) := by decide +kernel
theorem dX1_write_64 : decode cX1_write 64 = .ok (.idiv, 1) := by decide +kernel
theorem dX1_write_65 : decode cX1_write 65 = .ok (.laload, 1) := by decide +kernel
theorem dX1_write_66 : decode cX1_write 66 = .ok (.iload_n 1, 1) := by decide +kernel
theorem dX1_write_67 : decode cX1_write 67 = .ok (.iload_n 3, 1) := by decide +kernel
theorem dX1_write_68 : decode cX1_write 68 = .ok (.bipush 8, 2) := by decide +kernel
theorem dX1_write_70 : decode cX1_write 70 = .ok (.irem, 1) := by decide +kernel
theorem dX1_write_71 : decode cX1_write 71 = .ok (.invokevirtual 41, 3) := by decide +kernel
theorem dX1_write_74 : decode cX1_write 74 = .ok (.ifCond .eq 31, 3) := by decide +kernel
theorem dX1_write_77 : decode cX1_write 77 = .ok (.aload_n 0, 1) := by decide +kernel
theorem dX1_write_78 : decode cX1_write 78 = .ok (.getfield 29, 3) := by decide +kernel
theorem dX1_write_81 : decode cX1_write 81 = .ok (.iload_n 2, 1) := by decide +kernel
theorem dX1_write_82 : decode cX1_write 82 = .ok (.ldc2_w 45, 3) := by decide +kernel
theorem dX1_write_85 : decode cX1_write 85 = .ok (.aload_n 0, 1) := by decide +kernel
theorem dX1_write_86 : decode cX1_write 86 = .ok (.getfield 25, 3) := by decide +kernel
theorem dX1_write_89 : decode cX1_write 89 = .ok (.iload_n 3, 1) := by decide +kernel
theorem dX1_write_90 : decode cX1_write 90 = .ok (.bipush 8, 2) := by decide +kernel
theorem dX1_write_92 : decode cX1_write 92 = .ok (.idiv, 1) := by decide +kernel
theorem dX1_write_93 : decode cX1_write 93 = .ok (.laload, 1) := by decide +kernel
theorem dX1_write_94 : decode cX1_write 94 = .ok (.lmul, 1) := by decide +kernel
theorem dX1_write_95 : decode cX1_write 95 = .ok (.iload_n 3, 1) := by decide +kernel
theorem dX1_write_96 : decode cX1_write 96 = .ok (.bipush 8, 2) := by decide +kernel
theorem dX1_write_98 : decode cX1_write 98 = .ok (.irem, 1) := by decide +kernel
theorem dX1_write_99 : decode cX1_write 99 = .ok (.i2l, 1) := by decide +kernel
theorem dX1_write_100 : decode cX1_write 100 = .ok (.ladd, 1) := by decide +kernel
theorem dX1_write_101 : decode cX1_write 101 = .ok (.lastore, 1) := by decide +kernel
theorem dX1_write_102 : decode cX1_write 102 = .ok (.iinc 2 1, 3) := by decide +kernel
theorem dX1_write_105 : decode cX1_write 105 = .ok (.iinc 3 1, 3) := by decide +kernel
theorem dX1_write_108 : decode cX1_write 108 = .ok (.goto (-63), 3) := by decide +kernel
theorem dX1_write_111 : decode cX1_write 111 = .ok (.aload_n 0, 1) := by decide +kernel
theorem dX1_write_112 : decode cX1_write 112 = .ok (.iload_n 2, 1) := by decide +kernel
theorem dX1_write_113 : decode cX1_write 113 = .ok (.putfield 22, 3) := by decide +kernel
theorem dX1_write_116 : decode cX1_write 116 = .ok (.iconst 0, 1) := by decide +kernel
theorem dX1_write_117 : decode cX1_write 117 = .ok (.istore_n 3, 1) := by decide +kernel
theorem dX1_write_118 : decode cX1_write 118 = .ok (.iload_n 3, 1) := by decide +kernel
theorem dX1_write_119 : decode cX1_write 119 = .ok (.aload_n 0, 1) := by decide +kernel
theorem dX1_write_120 : decode cX1_write 120 = .ok (.getfield 22, 3) := by decide +kernel
theorem dX1_write_123 : decode cX1_write 123 = .ok (.if_icmp .ge 21, 3) := by decide +kernel
theorem dX1_write_126 : decode cX1_write 126 = .ok (.aload_n 0, 1) := by decide +kernel
theorem dX1_write_127 : decode cX1_write 127 = .ok (.getfield 25, 3) := by decide +kernel
theorem dX1_write_130 : decode cX1_write 130 = .ok (.iload_n 3, 1) := by decide +kernel
theorem dX1_write_131 : decode cX1_write 131 = .ok (.aload_n 0, 1) := by decide +kernel
theorem dX1_write_132 : decode cX1_write 132 = .ok (.getfield 29, 3) := by decide +kernel
theorem dX1_write_135 : decode cX1_write 135 = .ok (.iload_n 3, 1) := by decide +kernel
theorem dX1_write_136 : decode cX1_write 136 = .ok (.laload, 1) := by decide +kernel
theorem dX1_write_137 : decode cX1_write 137 = .ok (.lastore, 1) := by decide +kernel
theorem dX1_write_138 : decode cX1_write 138 = .ok (.iinc 3 1, 3) := by decide +kernel
theorem dX1_write_141 : decode cX1_write 141 = .ok (.goto (-23), 3) := by decide +kernel
theorem dX1_write_144 : decode cX1_write 144 = .ok (.iinc 1 1, 3) := by decide +kernel
theorem dX1_write_147 : decode cX1_write 147 = .ok (.goto (-114), 3) := by decide +kernel
theorem dX1_write_150 : decode cX1_write 150 = .ok (.return_, 1) := by decide +kernel
theorem dX1_length_0 : decode cX1_length 0 = .ok (.aload_n 0, 1) := by decide +kernel
theorem dX1_length_1 : decode cX1_length 1 = .ok (.getfield 7, 3) := by decide +kernel
theorem dX1_length_4 : decode cX1_length 4 = .ok (.ifCond .eq 11, 3) := by decide +kernel
theorem dX1_length_7 : decode cX1_length 7 = .ok (.aload_n 0, 1) := by decide +kernel
theorem dX1_length_8 : decode cX1_length 8 = .ok (.getfield 7, 3) := by decide +kernel
theorem dX1_length_11 : decode cX1_length 11 = .ok (.iconst 4, 1) := by decide +kernel
theorem dX1_length_12 : decode cX1_length 12 = .ok (.if_icmp .ne 10, 3) := by decide +kernel
theorem dX1_length_15 : decode cX1_length 15 = .ok (.aload_n 0, 1) := by decide +kernel
theorem dX1_length_16 : decode cX1_length 16 = .ok (.getfield 16, 3) := by decide +kernel
theorem dX1_length_19 : decode cX1_length 19 = .ok (.goto 24, 3) := by decide +kernel
theorem dX1_length_22 : decode cX1_length 22 = .ok (.aload_n 0, 1) := by decide +kernel
theorem dX1_length_23 : decode cX1_length 23 = .ok (.getfield 7, 3) := by decide +kernel
theorem dX1_length_26 : decode cX1_length 26 = .ok (.iconst 3, 1) := by decide +kernel
theorem dX1_length_27 : decode cX1_length 27 = .ok (.if_icmp .ne 12, 3) := by decide +kernel
theorem dX1_length_30 : decode cX1_length 30 = .ok (.iconst 2, 1) := by decide +kernel
theorem dX1_length_31 : decode cX1_length 31 = .ok (.aload_n 0, 1) := by decide +kernel
theorem dX1_length_32 : decode cX1_length 32 = .ok (.getfield 13, 3) := by decide +kernel
theorem dX1_length_35 : decode cX1_length 35 = .ok (.imul, 1) := by decide +kernel
theorem dX1_length_36 : decode cX1_length 36 = .ok (.goto 7, 3) := by decide +kernel
theorem dX1_length_39 : decode cX1_length 39 = .ok (.aload_n 0, 1) := by decide +kernel
theorem dX1_length_40 : decode cX1_length 40 = .ok (.getfield 13, 3) := by decide +kernel
theorem dX1_length_43 : decode cX1_length 43 = .ok (.ireturn, 1) := by decide +kernel
theorem dX1_goesOn_0 : decode cX1_goesOn 0 = .ok (.iconst (-1), 1) := by decide +kernel
theorem dX1_goesOn_1 : decode cX1_goesOn 1 = .ok (.istore 5, 2) := by decide +kernel
theorem dX1_goesOn_3 : decode cX1_goesOn 3 = .ok (.iload 4, 2) := by decide +kernel
theorem dX1_goesOn_5 : decode cX1_goesOn 5 = .ok (.istore 6, 2) := by decide +kernel
theorem dX1_goesOn_7 : decode cX1_goesOn 7 = .ok (.iconst (-1), 1) := by decide +kernel
theorem dX1_goesOn_8 : decode cX1_goesOn 8 = .ok (.istore 7, 2) := by decide +kernel
theorem dX1_goesOn_10 : decode cX1_goesOn 10 = .ok (.iconst 0, 1) := by decide +kernel
theorem dX1_goesOn_11 : decode cX1_goesOn 11 = .ok (.istore 8, 2) := by decide +kernel
theorem dX1_goesOn_13 : decode cX1_goesOn 13 = .ok (.lload_n 1, 1) := by decide +kernel
theorem dX1_goesOn_14 : decode cX1_goesOn 14 = .ok (.lstore 9, 2) := by decide +kernel
theorem dX1_goesOn_16 : decode cX1_goesOn 16 = .ok (.iconst 0, 1) := by decide +kernel
theorem dX1_goesOn_17 : decode cX1_goesOn 17 = .ok (.istore 11, 2) := by decide +kernel
theorem dX1_goesOn_19 : decode cX1_goesOn 19 = .ok (.iload 11, 2) := by decide +kernel
theorem dX1_goesOn_21 : decode cX1_goesOn 21 = .ok (.iload_n 3, 1) := by decide +kernel
theorem dX1_goesOn_22 : decode cX1_goesOn 22 = .ok (.if_icmp .ge 61, 3) := by decide +kernel
theorem dX1_goesOn_25 : decode cX1_goesOn 25 = .ok (.lload 9, 2) := by decide +kernel
theorem dX1_goesOn_27 : decode cX1_goesOn 27 = .ok (.ldc2_w 35, 3) := by decide +kernel
theorem dX1_goesOn_30 : decode cX1_goesOn 30 = .ok (.land, 1) := by decide +kernel
theorem dX1_goesOn_31 : decode cX1_goesOn 31 = .ok (.l2i, 1) := by decide +kernel
theorem dX1_goesOn_32 : decode cX1_goesOn 32 = .ok (.istore 12, 2) := by decide +kernel
theorem dX1_goesOn_34 : decode cX1_goesOn 34 = .ok (.iload 11, 2) := by decide +kernel
theorem dX1_goesOn_36 : decode cX1_goesOn 36 = .ok (.ifCond .ne 7, 3) := by decide +kernel
theorem dX1_goesOn_39 : decode cX1_goesOn 39 = .ok (.iload 12, 2) := by decide +kernel
theorem dX1_goesOn_41 : decode cX1_goesOn 41 = .ok (.istore 7, 2) := by decide +kernel
theorem dX1_goesOn_43 : decode cX1_goesOn 43 = .ok (.iload 12, 2) := by decide +kernel
theorem dX1_goesOn_45 : decode cX1_goesOn 45 = .ok (.iload 5, 2) := by decide +kernel
theorem dX1_goesOn_47 : decode cX1_goesOn 47 = .ok (.if_icmp .le 7, 3) := by decide +kernel
theorem dX1_goesOn_50 : decode cX1_goesOn 50 = .ok (.iload 12, 2) := by decide +kernel
theorem dX1_goesOn_52 : decode cX1_goesOn 52 = .ok (.istore 5, 2) := by decide +kernel
theorem dX1_goesOn_54 : decode cX1_goesOn 54 = .ok (.iload 12, 2) := by decide +kernel
theorem dX1_goesOn_56 : decode cX1_goesOn 56 = .ok (.iload 4, 2) := by decide +kernel
theorem dX1_goesOn_58 : decode cX1_goesOn 58 = .ok (.if_icmp .ne 6, 3) := by decide +kernel
theorem dX1_goesOn_61 : decode cX1_goesOn 61 = .ok (.iconst 1, 1) := by decide +kernel
theorem dX1_goesOn_62 : decode cX1_goesOn 62 = .ok (.istore 8, 2) := by decide +kernel
theorem dX1_goesOn_64 : decode cX1_goesOn 64 = .ok (.iload 6, 2) := by decide +kernel
theorem dX1_goesOn_66 : decode cX1_goesOn 66 = .ok (.iload 12, 2) := by decide +kernel
theorem dX1_goesOn_68 : decode cX1_goesOn 68 = .ok (.iadd, 1) := by decide +kernel
theorem dX1_goesOn_69 : decode cX1_goesOn 69 = .ok (.istore 6, 2) := by decide +kernel
theorem dX1_goesOn_71 : decode cX1_goesOn 71 = .ok (.lload 9, 2) := by decide +kernel
theorem dX1_goesOn_73 : decode cX1_goesOn 73 = .ok (.iconst 3, 1) := by decide +kernel
theorem dX1_goesOn_74 : decode cX1_goesOn 74 = .ok (.lushr, 1) := by decide +kernel
theorem dX1_goesOn_75 : decode cX1_goesOn 75 = .ok (.lstore 9, 2) := by decide +kernel
theorem dX1_goesOn_77 : decode cX1_goesOn 77 = .ok (.iinc 11 1, 3) := by decide +kernel
theorem dX1_goesOn_80 : decode cX1_goesOn 80 = .ok (.goto (-61), 3) := by decide +kernel
theorem dX1_goesOn_83 : decode cX1_goesOn 83 = .ok (.aload_n 0, 1) := by decide +kernel
theorem dX1_goesOn_84 : decode cX1_goesOn 84 = .ok (.getfield 7, 3) := by decide +kernel
theorem dX1_goesOn_87 : decode cX1_goesOn 87 = .ok (.ifCond .ne 25, 3) := by decide +kernel
theorem dX1_goesOn_90 : decode cX1_goesOn 90 = .ok (.iload 4, 2) := by decide +kernel
theorem dX1_goesOn_92 : decode cX1_goesOn 92 = .ok (.aload_n 0, 1) := by decide +kernel
theorem dX1_goesOn_93 : decode cX1_goesOn 93 = .ok (.getfield 13, 3) := by decide +kernel
theorem dX1_goesOn_96 : decode cX1_goesOn 96 = .ok (.if_icmp .ge 14, 3) := by decide +kernel
theorem dX1_goesOn_99 : decode cX1_goesOn 99 = .ok (.iload 4, 2) := by decide +kernel
theorem dX1_goesOn_101 : decode cX1_goesOn 101 = .ok (.iload 7, 2) := by decide +kernel
theorem dX1_goesOn_103 : decode cX1_goesOn 103 = .ok (.if_icmp .le 7, 3) := by decide +kernel
theorem dX1_goesOn_106 : decode cX1_goesOn 106 = .ok (.iconst 1, 1) := by decide +kernel
theorem dX1_goesOn_107 : decode cX1_goesOn 107 = .ok (.goto 4, 3) := by decide +kernel
theorem dX1_goesOn_110 : decode cX1_goesOn 110 = .ok (.iconst 0, 1) := by decide +kernel
theorem dX1_goesOn_111 : decode cX1_goesOn 111 = .ok (.ireturn, 1) := by decide +kernel
theorem dX1_goesOn_112 : decode cX1_goesOn 112 = .ok (.aload_n 0, 1) := by decide +kernel
theorem dX1_goesOn_113 : decode cX1_goesOn 113 = .ok (.getfield 7, 3) := by decide +kernel
theorem dX1_goesOn_116 : decode cX1_goesOn 116 = .ok (.iconst 1, 1) := by decide +kernel
theorem dX1_goesOn_117 : decode cX1_goesOn 117 = .ok (.if_icmp .ne 23, 3) := by decide +kernel
theorem dX1_goesOn_120 : decode cX1_goesOn 120 = .ok (.iload 4, 2) := by decide +kernel
theorem dX1_goesOn_122 : decode cX1_goesOn 122 = .ok (.aload_n 0, 1) := by decide +kernel
theorem dX1_goesOn_123 : decode cX1_goesOn 123 = .ok (.getfield 13, 3) := by decide +kernel
theorem dX1_goesOn_126 : decode cX1_goesOn 126 = .ok (.if_icmp .ge 12, 3) := by decide +kernel
theorem dX1_goesOn_129 : decode cX1_goesOn 129 = .ok (.iload 8, 2) := by decide +kernel
theorem dX1_goesOn_131 : decode cX1_goesOn 131 = .ok (.ifCond .ne 7, 3) := by decide +kernel
theorem dX1_goesOn_134 : decode cX1_goesOn 134 = .ok (.iconst 1, 1) := by decide +kernel
theorem dX1_goesOn_135 : decode cX1_goesOn 135 = .ok (.goto 4, 3) := by decide +kernel
theorem dX1_goesOn_138 : decode cX1_goesOn 138 = .ok (.iconst 0, 1) := by decide +kernel
theorem dX1_goesOn_139 : decode cX1_goesOn 139 = .ok (.ireturn, 1) := by decide +kernel
theorem dX1_goesOn_140 : decode cX1_goesOn 140 = .ok (.aload_n 0, 1) := by decide +kernel
theorem dX1_goesOn_141 : decode cX1_goesOn 141 = .ok (.getfield 7, 3) := by decide +kernel
theorem dX1_goesOn_144 : decode cX1_goesOn 144 = .ok (.iconst 2, 1) := by decide +kernel
theorem dX1_goesOn_145 : decode cX1_goesOn 145 = .ok (.if_icmp .ne 18, 3) := by decide +kernel
theorem dX1_goesOn_148 : decode cX1_goesOn 148 = .ok (.iload 4, 2) := by decide +kernel
theorem dX1_goesOn_150 : decode cX1_goesOn 150 = .ok (.iload 5, 2) := by decide +kernel
theorem dX1_goesOn_152 : decode cX1_goesOn 152 = .ok (.iconst 1, 1) := by decide +kernel
theorem dX1_goesOn_153 : decode cX1_goesOn 153 = .ok (.iadd, 1) := by decide +kernel
theorem dX1_goesOn_154 : decode cX1_goesOn 154 = .ok (.if_icmp .gt 7, 3) := by decide +kernel
theorem dX1_goesOn_157 : decode cX1_goesOn 157 = .ok (.iconst 1, 1) := by decide +kernel
theorem dX1_goesOn_158 : decode cX1_goesOn 158 = .ok (.goto 4, 3) := by decide +kernel
theorem dX1_goesOn_161 : decode cX1_goesOn 161 = .ok (.iconst 0, 1) := by decide +kernel
theorem dX1_goesOn_162 : decode cX1_goesOn 162 = .ok (.ireturn, 1) := by decide +kernel
theorem dX1_goesOn_163 : decode cX1_goesOn 163 = .ok (.aload_n 0, 1) := by decide +kernel
theorem dX1_goesOn_164 : decode cX1_goesOn 164 = .ok (.getfield 7, 3) := by decide +kernel
theorem dX1_goesOn_167 : decode cX1_goesOn 167 = .ok (.iconst 4, 1) := by decide +kernel
theorem dX1_goesOn_168 : decode cX1_goesOn 168 = .ok (.if_icmp .ne 37, 3) := by decide +kernel
theorem dX1_goesOn_171 : decode cX1_goesOn 171 = .ok (.iload 6, 2) := by decide +kernel
theorem dX1_goesOn_173 : decode cX1_goesOn 173 = .ok (.aload_n 0, 1) := by decide +kernel
theorem dX1_goesOn_174 : decode cX1_goesOn 174 = .ok (.getfield 13, 3) := by decide +kernel
theorem dX1_goesOn_177 : decode cX1_goesOn 177 = .ok (.if_icmp .gt 26, 3) := by decide +kernel
theorem dX1_goesOn_180 : decode cX1_goesOn 180 = .ok (.iload_n 3, 1) := by decide +kernel
theorem dX1_goesOn_181 : decode cX1_goesOn 181 = .ok (.aload_n 0, 1) := by decide +kernel
theorem dX1_goesOn_182 : decode cX1_goesOn 182 = .ok (.getfield 16, 3) := by decide +kernel
theorem dX1_goesOn_185 : decode cX1_goesOn 185 = .ok (.iconst 1, 1) := by decide +kernel
theorem dX1_goesOn_186 : decode cX1_goesOn 186 = .ok (.isub, 1) := by decide +kernel
theorem dX1_goesOn_187 : decode cX1_goesOn 187 = .ok (.if_icmp .lt 12, 3) := by decide +kernel
theorem dX1_goesOn_190 : decode cX1_goesOn 190 = .ok (.iload 6, 2) := by decide +kernel
theorem dX1_goesOn_192 : decode cX1_goesOn 192 = .ok (.aload_n 0, 1) := by decide +kernel
theorem dX1_goesOn_193 : decode cX1_goesOn 193 = .ok (.getfield 13, 3) := by decide +kernel
theorem dX1_goesOn_196 : decode cX1_goesOn 196 = .ok (.if_icmp .ne 7, 3) := by decide +kernel
theorem dX1_goesOn_199 : decode cX1_goesOn 199 = .ok (.iconst 1, 1) := by decide +kernel
theorem dX1_goesOn_200 : decode cX1_goesOn 200 = .ok (.goto 4, 3) := by decide +kernel
theorem dX1_goesOn_203 : decode cX1_goesOn 203 = .ok (.iconst 0, 1) := by decide +kernel
theorem dX1_goesOn_204 : decode cX1_goesOn 204 = .ok (.ireturn, 1) := by decide +kernel
theorem dX1_goesOn_205 : decode cX1_goesOn 205 = .ok (.iload 4, 2) := by decide +kernel
theorem dX1_goesOn_207 : decode cX1_goesOn 207 = .ok (.iconst 1, 1) := by decide +kernel
theorem dX1_goesOn_208 : decode cX1_goesOn 208 = .ok (.if_icmp .gt 26, 3) := by decide +kernel
theorem dX1_goesOn_211 : decode cX1_goesOn 211 = .ok (.iload 6, 2) := by decide +kernel
theorem dX1_goesOn_213 : decode cX1_goesOn 213 = .ok (.aload_n 0, 1) := by decide +kernel
theorem dX1_goesOn_214 : decode cX1_goesOn 214 = .ok (.getfield 13, 3) := by decide +kernel
theorem dX1_goesOn_217 : decode cX1_goesOn 217 = .ok (.if_icmp .gt 17, 3) := by decide +kernel
theorem dX1_goesOn_220 : decode cX1_goesOn 220 = .ok (.iconst 2, 1) := by decide +kernel
theorem dX1_goesOn_221 : decode cX1_goesOn 221 = .ok (.iload 6, 2) := by decide +kernel
theorem dX1_goesOn_223 : decode cX1_goesOn 223 = .ok (.imul, 1) := by decide +kernel
theorem dX1_goesOn_224 : decode cX1_goesOn 224 = .ok (.iload_n 3, 1) := by decide +kernel
theorem dX1_goesOn_225 : decode cX1_goesOn 225 = .ok (.iconst 1, 1) := by decide +kernel
theorem dX1_goesOn_226 : decode cX1_goesOn 226 = .ok (.iadd, 1) := by decide +kernel
theorem dX1_goesOn_227 : decode cX1_goesOn 227 = .ok (.if_icmp .lt 7, 3) := by decide +kernel
theorem dX1_goesOn_230 : decode cX1_goesOn 230 = .ok (.iconst 1, 1) := by decide +kernel
theorem dX1_goesOn_231 : decode cX1_goesOn 231 = .ok (.goto 4, 3) := by decide +kernel
theorem dX1_goesOn_234 : decode cX1_goesOn 234 = .ok (.iconst 0, 1) := by decide +kernel
theorem dX1_goesOn_235 : decode cX1_goesOn 235 = .ok (.ireturn, 1) := by decide +kernel
theorem dX1_choose_0 : decode cX1_choose 0 = .ok (.iload_n 1, 1) := by decide +kernel
theorem dX1_choose_1 : decode cX1_choose 1 = .ok (.ifCond .lt 19, 3) := by decide +kernel
theorem dX1_choose_4 : decode cX1_choose 4 = .ok (.iload_n 1, 1) := by decide +kernel
theorem dX1_choose_5 : decode cX1_choose 5 = .ok (.iconst 4, 1) := by decide +kernel
theorem dX1_choose_6 : decode cX1_choose 6 = .ok (.if_icmp .gt 14, 3) := by decide +kernel
theorem dX1_choose_9 : decode cX1_choose 9 = .ok (.iload_n 2, 1) := by decide +kernel
theorem dX1_choose_10 : decode cX1_choose 10 = .ok (.iconst 1, 1) := by decide +kernel
theorem dX1_choose_11 : decode cX1_choose 11 = .ok (.if_icmp .lt 9, 3) := by decide +kernel
theorem dX1_choose_14 : decode cX1_choose 14 = .ok (.iload_n 2, 1) := by decide +kernel
theorem dX1_choose_15 : decode cX1_choose 15 = .ok (.bipush 7, 2) := by decide +kernel
theorem dX1_choose_17 : decode cX1_choose 17 = .ok (.if_icmp .le 5, 3) := by decide +kernel
theorem dX1_choose_20 : decode cX1_choose 20 = .ok (.iconst 0, 1) := by decide +kernel
theorem dX1_choose_21 : decode cX1_choose 21 = .ok (.ireturn, 1) := by decide +kernel
theorem dX1_choose_22 : decode cX1_choose 22 = .ok (.iload_n 1, 1) := by decide +kernel
theorem dX1_choose_23 : decode cX1_choose 23 = .ok (.ifCond .eq 8, 3) := by decide +kernel
theorem dX1_choose_26 : decode cX1_choose 26 = .ok (.iload_n 1, 1) := by decide +kernel
theorem dX1_choose_27 : decode cX1_choose 27 = .ok (.iconst 4, 1) := by decide +kernel
theorem dX1_choose_28 : decode cX1_choose 28 = .ok (.if_icmp .ne 14, 3) := by decide +kernel
theorem dX1_choose_31 : decode cX1_choose 31 = .ok (.iload_n 3, 1) := by decide +kernel
theorem dX1_choose_32 : decode cX1_choose 32 = .ok (.ifCond .lt 8, 3) := by decide +kernel
theorem dX1_choose_35 : decode cX1_choose 35 = .ok (.iload_n 3, 1) := by decide +kernel
theorem dX1_choose_36 : decode cX1_choose 36 = .ok (.iload_n 2, 1) := by decide +kernel
theorem dX1_choose_37 : decode cX1_choose 37 = .ok (.if_icmp .le 5, 3) := by decide +kernel
theorem dX1_choose_40 : decode cX1_choose 40 = .ok (.iconst 0, 1) := by decide +kernel
theorem dX1_choose_41 : decode cX1_choose 41 = .ok (.ireturn, 1) := by decide +kernel
theorem dX1_choose_42 : decode cX1_choose 42 = .ok (.aload_n 0, 1) := by decide +kernel
theorem dX1_choose_43 : decode cX1_choose 43 = .ok (.iload_n 1, 1) := by decide +kernel
theorem dX1_choose_44 : decode cX1_choose 44 = .ok (.putfield 7, 3) := by decide +kernel
theorem dX1_choose_47 : decode cX1_choose 47 = .ok (.aload_n 0, 1) := by decide +kernel
theorem dX1_choose_48 : decode cX1_choose 48 = .ok (.iload_n 2, 1) := by decide +kernel
theorem dX1_choose_49 : decode cX1_choose 49 = .ok (.putfield 13, 3) := by decide +kernel
theorem dX1_choose_52 : decode cX1_choose 52 = .ok (.aload_n 0, 1) := by decide +kernel
theorem dX1_choose_53 : decode cX1_choose 53 = .ok (.iload_n 3, 1) := by decide +kernel
theorem dX1_choose_54 : decode cX1_choose 54 = .ok (.putfield 16, 3) := by decide +kernel
theorem dX1_choose_57 : decode cX1_choose 57 = .ok (.aload_n 0, 1) := by decide +kernel
theorem dX1_choose_58 : decode cX1_choose 58 = .ok (.iconst 0, 1) := by decide +kernel
theorem dX1_choose_59 : decode cX1_choose 59 = .ok (.putfield 19, 3) := by decide +kernel
theorem dX1_choose_62 : decode cX1_choose 62 = .ok (.aload_n 0, 1) := by decide +kernel
theorem dX1_choose_63 : decode cX1_choose 63 = .ok (.invokevirtual 32, 3) := by decide +kernel
theorem dX1_choose_66 : decode cX1_choose 66 = .ok (.iconst 1, 1) := by decide +kernel
theorem dX1_choose_67 : decode cX1_choose 67 = .ok (.ireturn, 1) := by decide +kernel
end
section
set_option maxRecDepth 100000
theorem dX1_count_0 : decode cX1_count 0 = .ok (.aload_n 0, 1) := by decide +kernel
theorem dX1_count_1 : decode cX1_count 1 = .ok (.getfield 22, 3) := by decide +kernel
theorem dX1_count_4 : decode cX1_count 4 = .ok (.ireturn, 1) := by decide +kernel
theorem dX1_number_0 : decode cX1_number 0 = .ok (.aload_n 0, 1) := by decide +kernel
theorem dX1_number_1 : decode cX1_number 1 = .ok (.getfield 22, 3) := by decide +kernel
theorem dX1_number_4 : decode cX1_number 4 = .ok (.ifCond .ne 8, 3) := by decide +kernel
theorem dX1_number_7 : decode cX1_number 7 = .ok (.bipush (-2), 2) := by decide +kernel
theorem dX1_number_9 : decode cX1_number 9 = .ok (.goto 7, 3) := by decide +kernel
theorem dX1_number_12 : decode cX1_number 12 = .ok (.aload_n 0, 1) := by decide +kernel
theorem dX1_number_13 : decode cX1_number 13 = .ok (.getfield 19, 3) := by decide +kernel
theorem dX1_number_16 : decode cX1_number 16 = .ok (.ireturn, 1) := by decide +kernel
theorem dX1_item_0 : decode cX1_item 0 = .ok (.aload_n 0, 1) := by decide +kernel
theorem dX1_item_1 : decode cX1_item 1 = .ok (.getfield 22, 3) := by decide +kernel
theorem dX1_item_4 : decode cX1_item 4 = .ok (.ifCond .eq 15, 3) := by decide +kernel
theorem dX1_item_7 : decode cX1_item 7 = .ok (.iload_n 1, 1) := by decide +kernel
theorem dX1_item_8 : decode cX1_item 8 = .ok (.ifCond .lt 11, 3) := by decide +kernel
theorem dX1_item_11 : decode cX1_item 11 = .ok (.iload_n 1, 1) := by decide +kernel
theorem dX1_item_12 : decode cX1_item 12 = .ok (.aload_n 0, 1) := by decide +kernel
theorem dX1_item_13 : decode cX1_item 13 = .ok (.invokevirtual 37, 3) := by decide +kernel
theorem dX1_item_16 : decode cX1_item 16 = .ok (.if_icmp .lt 7, 3) := by decide +kernel
theorem dX1_item_19 : decode cX1_item 19 = .ok (.iconst (-1), 1) := by decide +kernel
theorem dX1_item_20 : decode cX1_item 20 = .ok (.goto 17, 3) := by decide +kernel
theorem dX1_item_23 : decode cX1_item 23 = .ok (.aload_n 0, 1) := by decide +kernel
theorem dX1_item_24 : decode cX1_item 24 = .ok (.aload_n 0, 1) := by decide +kernel
theorem dX1_item_25 : decode cX1_item 25 = .ok (.getfield 25, 3) := by decide +kernel
theorem dX1_item_28 : decode cX1_item 28 = .ok (.aload_n 0, 1) := by decide +kernel
theorem dX1_item_29 : decode cX1_item 29 = .ok (.getfield 19, 3) := by decide +kernel
theorem dX1_item_32 : decode cX1_item 32 = .ok (.laload, 1) := by decide +kernel
theorem dX1_item_33 : decode cX1_item 33 = .ok (.iload_n 1, 1) := by decide +kernel
theorem dX1_item_34 : decode cX1_item 34 = .ok (.invokevirtual 47, 3) := by decide +kernel
theorem dX1_item_37 : decode cX1_item 37 = .ok (.ireturn, 1) := by decide +kernel
theorem dX1_digit_0 : decode cX1_digit 0 = .ok (.lload_n 1, 1) := by decide +kernel
theorem dX1_digit_1 : decode cX1_digit 1 = .ok (.iconst 3, 1) := by decide +kernel
theorem dX1_digit_2 : decode cX1_digit 2 = .ok (.aload_n 0, 1) := by decide +kernel
theorem dX1_digit_3 : decode cX1_digit 3 = .ok (.invokevirtual 37, 3) := by decide +kernel
theorem dX1_digit_6 : decode cX1_digit 6 = .ok (.iconst 1, 1) := by decide +kernel
theorem dX1_digit_7 : decode cX1_digit 7 = .ok (.isub, 1) := by decide +kernel
theorem dX1_digit_8 : decode cX1_digit 8 = .ok (.iload_n 3, 1) := by decide +kernel
theorem dX1_digit_9 : decode cX1_digit 9 = .ok (.isub, 1) := by decide +kernel
theorem dX1_digit_10 : decode cX1_digit 10 = .ok (.imul, 1) := by decide +kernel
theorem dX1_digit_11 : decode cX1_digit 11 = .ok (.lushr, 1) := by decide +kernel
theorem dX1_digit_12 : decode cX1_digit 12 = .ok (.l2i, 1) := by decide +kernel
theorem dX1_digit_13 : decode cX1_digit 13 = .ok (.bipush 7, 2) := by decide +kernel
theorem dX1_digit_15 : decode cX1_digit 15 = .ok (.iand, 1) := by decide +kernel
theorem dX1_digit_16 : decode cX1_digit 16 = .ok (.ireturn, 1) := by decide +kernel
theorem dX1_go_0 : decode cX1_go 0 = .ok (.iload_n 1, 1) := by decide +kernel
theorem dX1_go_1 : decode cX1_go 1 = .ok (.ifCond .lt 11, 3) := by decide +kernel
theorem dX1_go_4 : decode cX1_go 4 = .ok (.iload_n 1, 1) := by decide +kernel
theorem dX1_go_5 : decode cX1_go 5 = .ok (.aload_n 0, 1) := by decide +kernel
theorem dX1_go_6 : decode cX1_go 6 = .ok (.getfield 22, 3) := by decide +kernel
theorem dX1_go_9 : decode cX1_go 9 = .ok (.if_icmp .lt 5, 3) := by decide +kernel
theorem dX1_go_12 : decode cX1_go 12 = .ok (.iconst (-1), 1) := by decide +kernel
theorem dX1_go_13 : decode cX1_go 13 = .ok (.ireturn, 1) := by decide +kernel
theorem dX1_go_14 : decode cX1_go 14 = .ok (.aload_n 0, 1) := by decide +kernel
theorem dX1_go_15 : decode cX1_go 15 = .ok (.iload_n 1, 1) := by decide +kernel
theorem dX1_go_16 : decode cX1_go 16 = .ok (.putfield 19, 3) := by decide +kernel
theorem dX1_go_19 : decode cX1_go 19 = .ok (.iload_n 1, 1) := by decide +kernel
theorem dX1_go_20 : decode cX1_go 20 = .ok (.ireturn, 1) := by decide +kernel
theorem dX1_next_0 : decode cX1_next 0 = .ok (.aload_n 0, 1) := by decide +kernel
theorem dX1_next_1 : decode cX1_next 1 = .ok (.getfield 19, 3) := by decide +kernel
theorem dX1_next_4 : decode cX1_next 4 = .ok (.iconst 1, 1) := by decide +kernel
theorem dX1_next_5 : decode cX1_next 5 = .ok (.iadd, 1) := by decide +kernel
theorem dX1_next_6 : decode cX1_next 6 = .ok (.aload_n 0, 1) := by decide +kernel
theorem dX1_next_7 : decode cX1_next 7 = .ok (.getfield 22, 3) := by decide +kernel
theorem dX1_next_10 : decode cX1_next 10 = .ok (.if_icmp .lt 6, 3) := by decide +kernel
theorem dX1_next_13 : decode cX1_next 13 = .ok (.bipush (-2), 2) := by decide +kernel
theorem dX1_next_15 : decode cX1_next 15 = .ok (.ireturn, 1) := by decide +kernel
theorem dX1_next_16 : decode cX1_next 16 = .ok (.aload_n 0, 1) := by decide +kernel
theorem dX1_next_17 : decode cX1_next 17 = .ok (.dup, 1) := by decide +kernel
theorem dX1_next_18 : decode cX1_next 18 = .ok (.getfield 19, 3) := by decide +kernel
theorem dX1_next_21 : decode cX1_next 21 = .ok (.iconst 1, 1) := by decide +kernel
theorem dX1_next_22 : decode cX1_next 22 = .ok (.iadd, 1) := by decide +kernel
theorem dX1_next_23 : decode cX1_next 23 = .ok (.putfield 19, 3) := by decide +kernel
theorem dX1_next_26 : decode cX1_next 26 = .ok (.aload_n 0, 1) := by decide +kernel
theorem dX1_next_27 : decode cX1_next 27 = .ok (.getfield 19, 3) := by decide +kernel
theorem dX1_next_30 : decode cX1_next 30 = .ok (.ireturn, 1) := by decide +kernel
theorem dX1_previous_0 : decode cX1_previous 0 = .ok (.aload_n 0, 1) := by decide +kernel
theorem dX1_previous_1 : decode cX1_previous 1 = .ok (.getfield 22, 3) := by decide +kernel
theorem dX1_previous_4 : decode cX1_previous 4 = .ok (.ifCond .eq 10, 3) := by decide +kernel
theorem dX1_previous_7 : decode cX1_previous 7 = .ok (.aload_n 0, 1) := by decide +kernel
theorem dX1_previous_8 : decode cX1_previous 8 = .ok (.getfield 19, 3) := by decide +kernel
theorem dX1_previous_11 : decode cX1_previous 11 = .ok (.ifCond .ne 6, 3) := by decide +kernel
theorem dX1_previous_14 : decode cX1_previous 14 = .ok (.bipush (-2), 2) := by decide +kernel
theorem dX1_previous_16 : decode cX1_previous 16 = .ok (.ireturn, 1) := by decide +kernel
theorem dX1_previous_17 : decode cX1_previous 17 = .ok (.aload_n 0, 1) := by decide +kernel
theorem dX1_previous_18 : decode cX1_previous 18 = .ok (.dup, 1) := by decide +kernel
theorem dX1_previous_19 : decode cX1_previous 19 = .ok (.getfield 19, 3) := by decide +kernel
theorem dX1_previous_22 : decode cX1_previous 22 = .ok (.iconst 1, 1) := by decide +kernel
theorem dX1_previous_23 : decode cX1_previous 23 = .ok (.isub, 1) := by decide +kernel
theorem dX1_previous_24 : decode cX1_previous 24 = .ok (.putfield 19, 3) := by decide +kernel
theorem dX1_previous_27 : decode cX1_previous 27 = .ok (.aload_n 0, 1) := by decide +kernel
theorem dX1_previous_28 : decode cX1_previous 28 = .ok (.getfield 19, 3) := by decide +kernel
theorem dX1_previous_31 : decode cX1_previous 31 = .ok (.ireturn, 1) := by decide +kernel
theorem dX1_firstLike_0 : decode cX1_firstLike 0 = .ok (.aload_n 0, 1) := by decide +kernel
theorem dX1_firstLike_1 : decode cX1_firstLike 1 = .ok (.getfield 22, 3) := by decide +kernel
theorem dX1_firstLike_4 : decode cX1_firstLike 4 = .ok (.ifCond .eq 15, 3) := by decide +kernel
theorem dX1_firstLike_7 : decode cX1_firstLike 7 = .ok (.iload_n 1, 1) := by decide +kernel
theorem dX1_firstLike_8 : decode cX1_firstLike 8 = .ok (.ifCond .lt 11, 3) := by decide +kernel
theorem dX1_firstLike_11 : decode cX1_firstLike 11 = .ok (.iload_n 1, 1) := by decide +kernel
theorem dX1_firstLike_12 : decode cX1_firstLike 12 = .ok (.aload_n 0, 1) := by decide +kernel
theorem dX1_firstLike_13 : decode cX1_firstLike 13 = .ok (.invokevirtual 37, 3) := by decide +kernel
theorem dX1_firstLike_16 : decode cX1_firstLike 16 = .ok (.if_icmp .lt 5, 3) := by decide +kernel
theorem dX1_firstLike_19 : decode cX1_firstLike 19 = .ok (.iconst (-1), 1) := by decide +kernel
theorem dX1_firstLike_20 : decode cX1_firstLike 20 = .ok (.ireturn, 1) := by decide +kernel
theorem dX1_firstLike_21 : decode cX1_firstLike 21 = .ok (.iconst 0, 1) := by decide +kernel
theorem dX1_firstLike_22 : decode cX1_firstLike 22 = .ok (.istore_n 2, 1) := by decide +kernel
theorem dX1_firstLike_23 : decode cX1_firstLike 23 = .ok (.iload_n 2, 1) := by decide +kernel
theorem dX1_firstLike_24 : decode cX1_firstLike 24 = .ok (.aload_n 0, 1) := by decide +kernel
theorem dX1_firstLike_25 : decode cX1_firstLike 25 = .ok (.getfield 22, 3) := by decide +kernel
theorem dX1_firstLike_28 : decode cX1_firstLike 28 = .ok (.if_icmp .ge 20, 3) := by decide +kernel
theorem dX1_firstLike_31 : decode cX1_firstLike 31 = .ok (.aload_n 0, 1) := by decide +kernel
theorem dX1_firstLike_32 : decode cX1_firstLike 32 = .ok (.iload_n 2, 1) := by decide +kernel
theorem dX1_firstLike_33 : decode cX1_firstLike 33 = .ok (.iload_n 1, 1) := by decide +kernel
theorem dX1_firstLike_34 : decode cX1_firstLike 34 = .ok (.invokevirtual 51, 3) := by decide +kernel
theorem dX1_firstLike_37 : decode cX1_firstLike 37 = .ok (.ifCond .eq 5, 3) := by decide +kernel
theorem dX1_firstLike_40 : decode cX1_firstLike 40 = .ok (.iload_n 2, 1) := by decide +kernel
theorem dX1_firstLike_41 : decode cX1_firstLike 41 = .ok (.ireturn, 1) := by decide +kernel
theorem dX1_firstLike_42 : decode cX1_firstLike 42 = .ok (.iinc 2 1, 3) := by decide +kernel
theorem dX1_firstLike_45 : decode cX1_firstLike 45 = .ok (.goto (-22), 3) := by decide +kernel
theorem dX1_firstLike_48 : decode cX1_firstLike 48 = .ok (.iconst (-1), 1) := by decide +kernel
theorem dX1_firstLike_49 : decode cX1_firstLike 49 = .ok (.ireturn, 1) := by decide +kernel
theorem dX1_alike_0 : decode cX1_alike 0 = .ok (.iconst 0, 1) := by decide +kernel
theorem dX1_alike_1 : decode cX1_alike 1 = .ok (.istore_n 3, 1) := by decide +kernel
theorem dX1_alike_2 : decode cX1_alike 2 = .ok (.iload_n 3, 1) := by decide +kernel
theorem dX1_alike_3 : decode cX1_alike 3 = .ok (.iload_n 2, 1) := by decide +kernel
theorem dX1_alike_4 : decode cX1_alike 4 = .ok (.if_icmp .gt 39, 3) := by decide +kernel
theorem dX1_alike_7 : decode cX1_alike 7 = .ok (.aload_n 0, 1) := by decide +kernel
theorem dX1_alike_8 : decode cX1_alike 8 = .ok (.aload_n 0, 1) := by decide +kernel
theorem dX1_alike_9 : decode cX1_alike 9 = .ok (.getfield 25, 3) := by decide +kernel
theorem dX1_alike_12 : decode cX1_alike 12 = .ok (.iload_n 1, 1) := by decide +kernel
theorem dX1_alike_13 : decode cX1_alike 13 = .ok (.laload, 1) := by decide +kernel
theorem dX1_alike_14 : decode cX1_alike 14 = .ok (.iload_n 3, 1) := by decide +kernel
theorem dX1_alike_15 : decode cX1_alike 15 = .ok (.invokevirtual 47, 3) := by decide +kernel
theorem dX1_alike_18 : decode cX1_alike 18 = .ok (.aload_n 0, 1) := by decide +kernel
theorem dX1_alike_19 : decode cX1_alike 19 = .ok (.aload_n 0, 1) := by decide +kernel
theorem dX1_alike_20 : decode cX1_alike 20 = .ok (.getfield 25, 3) := by decide +kernel
theorem dX1_alike_23 : decode cX1_alike 23 = .ok (.aload_n 0, 1) := by decide +kernel
theorem dX1_alike_24 : decode cX1_alike 24 = .ok (.getfield 19, 3) := by decide +kernel
theorem dX1_alike_27 : decode cX1_alike 27 = .ok (.laload, 1) := by decide +kernel
theorem dX1_alike_28 : decode cX1_alike 28 = .ok (.iload_n 3, 1) := by decide +kernel
theorem dX1_alike_29 : decode cX1_alike 29 = .ok (.invokevirtual 47, 3) := by decide +kernel
theorem dX1_alike_32 : decode cX1_alike 32 = .ok (.if_icmp .eq 5, 3) := by decide +kernel
theorem dX1_alike_35 : decode cX1_alike 35 = .ok (.iconst 0, 1) := by decide +kernel
theorem dX1_alike_36 : decode cX1_alike 36 = .ok (.ireturn, 1) := by decide +kernel
theorem dX1_alike_37 : decode cX1_alike 37 = .ok (.iinc 3 1, 3) := by decide +kernel
theorem dX1_alike_40 : decode cX1_alike 40 = .ok (.goto (-38), 3) := by decide +kernel
theorem dX1_alike_43 : decode cX1_alike 43 = .ok (.iconst 1, 1) := by decide +kernel
theorem dX1_alike_44 : decode cX1_alike 44 = .ok (.ireturn, 1) := by decide +kernel
theorem dX1_like_0 : decode cX1_like 0 = .ok (.aload_n 0, 1) := by decide +kernel
theorem dX1_like_1 : decode cX1_like 1 = .ok (.getfield 22, 3) := by decide +kernel
theorem dX1_like_4 : decode cX1_like 4 = .ok (.ifCond .eq 15, 3) := by decide +kernel
theorem dX1_like_7 : decode cX1_like 7 = .ok (.iload_n 1, 1) := by decide +kernel
theorem dX1_like_8 : decode cX1_like 8 = .ok (.ifCond .lt 11, 3) := by decide +kernel
theorem dX1_like_11 : decode cX1_like 11 = .ok (.iload_n 1, 1) := by decide +kernel
theorem dX1_like_12 : decode cX1_like 12 = .ok (.aload_n 0, 1) := by decide +kernel
theorem dX1_like_13 : decode cX1_like 13 = .ok (.invokevirtual 37, 3) := by decide +kernel
theorem dX1_like_16 : decode cX1_like 16 = .ok (.if_icmp .lt 5, 3) := by decide +kernel
theorem dX1_like_19 : decode cX1_like 19 = .ok (.iconst (-1), 1) := by decide +kernel
theorem dX1_like_20 : decode cX1_like 20 = .ok (.ireturn, 1) := by decide +kernel
theorem dX1_like_21 : decode cX1_like 21 = .ok (.iconst 0, 1) := by decide +kernel
theorem dX1_like_22 : decode cX1_like 22 = .ok (.istore_n 2, 1) := by decide +kernel
theorem dX1_like_23 : decode cX1_like 23 = .ok (.iconst 0, 1) := by decide +kernel
theorem dX1_like_24 : decode cX1_like 24 = .ok (.istore_n 3, 1) := by decide +kernel
theorem dX1_like_25 : decode cX1_like 25 = .ok (.iload_n 3, 1) := by decide +kernel
theorem dX1_like_26 : decode cX1_like 26 = .ok (.aload_n 0, 1) := by decide +kernel
theorem dX1_like_27 : decode cX1_like 27 = .ok (.getfield 22, 3) := by decide +kernel
theorem dX1_like_30 : decode cX1_like 30 = .ok (.if_icmp .ge 21, 3) := by decide +kernel
theorem dX1_like_33 : decode cX1_like 33 = .ok (.aload_n 0, 1) := by decide +kernel
theorem dX1_like_34 : decode cX1_like 34 = .ok (.iload_n 3, 1) := by decide +kernel
theorem dX1_like_35 : decode cX1_like 35 = .ok (.iload_n 1, 1) := by decide +kernel
theorem dX1_like_36 : decode cX1_like 36 = .ok (.invokevirtual 51, 3) := by decide +kernel
theorem dX1_like_39 : decode cX1_like 39 = .ok (.ifCond .eq 6, 3) := by decide +kernel
theorem dX1_like_42 : decode cX1_like 42 = .ok (.iinc 2 1, 3) := by decide +kernel
theorem dX1_like_45 : decode cX1_like 45 = .ok (.iinc 3 1, 3) := by decide +kernel
theorem dX1_like_48 : decode cX1_like 48 = .ok (.goto (-23), 3) := by decide +kernel
theorem dX1_like_51 : decode cX1_like 51 = .ok (.iload_n 2, 1) := by decide +kernel
theorem dX1_like_52 : decode cX1_like 52 = .ok (.ireturn, 1) := by decide +kernel
theorem dX1_difference_0 : decode cX1_difference 0 = .ok (.iload_n 1, 1) := by decide +kernel
theorem dX1_difference_1 : decode cX1_difference 1 = .ok (.ifCond .lt 11, 3) := by decide +kernel
theorem dX1_difference_4 : decode cX1_difference 4 = .ok (.iload_n 1, 1) := by decide +kernel
theorem dX1_difference_5 : decode cX1_difference 5 = .ok (.aload_n 0, 1) := by decide +kernel
theorem dX1_difference_6 : decode cX1_difference 6 = .ok (.getfield 22, 3) := by decide +kernel
theorem dX1_difference_9 : decode cX1_difference 9 = .ok (.if_icmp .lt 5, 3) := by decide +kernel
theorem dX1_difference_12 : decode cX1_difference 12 = .ok (.iconst (-1), 1) := by decide +kernel
theorem dX1_difference_13 : decode cX1_difference 13 = .ok (.ireturn, 1) := by decide +kernel
theorem dX1_difference_14 : decode cX1_difference 14 = .ok (.iconst 0, 1) := by decide +kernel
theorem dX1_difference_15 : decode cX1_difference 15 = .ok (.istore_n 2, 1) := by decide +kernel
theorem dX1_difference_16 : decode cX1_difference 16 = .ok (.iconst 0, 1) := by decide +kernel
theorem dX1_difference_17 : decode cX1_difference 17 = .ok (.istore_n 3, 1) := by decide +kernel
theorem dX1_difference_18 : decode cX1_difference 18 = .ok (.iload_n 3, 1) := by decide +kernel
theorem dX1_difference_19 : decode cX1_difference 19 = .ok (.aload_n 0, 1) := by decide +kernel
theorem dX1_difference_20 : decode cX1_difference 20 = .ok (.invokevirtual 37, 3) := by decide +kernel
theorem dX1_difference_23 : decode cX1_difference 23 = .ok (.if_icmp .ge 40, 3) := by decide +kernel
theorem dX1_difference_26 : decode cX1_difference 26 = .ok (.aload_n 0, 1) := by decide +kernel
theorem dX1_difference_27 : decode cX1_difference 27 = .ok (.aload_n 0, 1) := by decide +kernel
theorem dX1_difference_28 : decode cX1_difference 28 = .ok (.getfield 25, 3) := by decide +kernel
theorem dX1_difference_31 : decode cX1_difference 31 = .ok (.iload_n 1, 1) := by decide +kernel
theorem dX1_difference_32 : decode cX1_difference 32 = .ok (.laload, 1) := by decide +kernel
theorem dX1_difference_33 : decode cX1_difference 33 = .ok (.iload_n 3, 1) := by decide +kernel
theorem dX1_difference_34 : decode cX1_difference 34 = .ok (.invokevirtual 47, 3) := by decide +kernel
theorem dX1_difference_37 : decode cX1_difference 37 = .ok (.aload_n 0, 1) := by decide +kernel
theorem dX1_difference_38 : decode cX1_difference 38 = .ok (.aload_n 0, 1) := by decide +kernel
theorem dX1_difference_39 : decode cX1_difference 39 = .ok (.getfield 25, 3) := by decide +kernel
theorem dX1_difference_42 : decode cX1_difference 42 = .ok (.aload_n 0, 1) := by decide +kernel
theorem dX1_difference_43 : decode cX1_difference 43 = .ok (.getfield 19, 3) := by decide +kernel
theorem dX1_difference_46 : decode cX1_difference 46 = .ok (.laload, 1) := by decide +kernel
theorem dX1_difference_47 : decode cX1_difference 47 = .ok (.iload_n 3, 1) := by decide +kernel
theorem dX1_difference_48 : decode cX1_difference 48 = .ok (.invokevirtual 47, 3) := by decide +kernel
theorem dX1_difference_51 : decode cX1_difference 51 = .ok (.if_icmp .eq 6, 3) := by decide +kernel
theorem dX1_difference_54 : decode cX1_difference 54 = .ok (.iinc 2 1, 3) := by decide +kernel
theorem dX1_difference_57 : decode cX1_difference 57 = .ok (.iinc 3 1, 3) := by decide +kernel
theorem dX1_difference_60 : decode cX1_difference 60 = .ok (.goto (-42), 3) := by decide +kernel
theorem dX1_difference_63 : decode cX1_difference 63 = .ok (.iload_n 2, 1) := by decide +kernel
theorem dX1_difference_64 : decode cX1_difference 64 = .ok (.ireturn, 1) := by decide +kernel
theorem dX1_mirrored_0 : decode cX1_mirrored 0 = .ok (.aload_n 0, 1) := by decide +kernel
theorem dX1_mirrored_1 : decode cX1_mirrored 1 = .ok (.getfield 7, 3) := by decide +kernel
theorem dX1_mirrored_4 : decode cX1_mirrored 4 = .ok (.iconst 2, 1) := by decide +kernel
theorem dX1_mirrored_5 : decode cX1_mirrored 5 = .ok (.if_icmp .eq 10, 3) := by decide +kernel
theorem dX1_mirrored_8 : decode cX1_mirrored 8 = .ok (.aload_n 0, 1) := by decide +kernel
theorem dX1_mirrored_9 : decode cX1_mirrored 9 = .ok (.getfield 22, 3) := by decide +kernel
theorem dX1_mirrored_12 : decode cX1_mirrored 12 = .ok (.ifCond .ne 6, 3) := by decide +kernel
theorem dX1_mirrored_15 : decode cX1_mirrored 15 = .ok (.bipush (-2), 2) := by decide +kernel
theorem dX1_mirrored_17 : decode cX1_mirrored 17 = .ok (.ireturn, 1) := by decide +kernel
theorem dX1_mirrored_18 : decode cX1_mirrored 18 = .ok (.lconst 0, 1) := by decide +kernel
theorem dX1_mirrored_19 : decode cX1_mirrored 19 = .ok (.lstore_n 1, 1) := by decide +kernel
theorem dX1_mirrored_20 : decode cX1_mirrored 20 = .ok (.aload_n 0, 1) := by decide +kernel
theorem dX1_mirrored_21 : decode cX1_mirrored 21 = .ok (.invokevirtual 37, 3) := by decide +kernel
theorem dX1_mirrored_24 : decode cX1_mirrored 24 = .ok (.iconst 1, 1) := by decide +kernel
theorem dX1_mirrored_25 : decode cX1_mirrored 25 = .ok (.isub, 1) := by decide +kernel
theorem dX1_mirrored_26 : decode cX1_mirrored 26 = .ok (.istore_n 3, 1) := by decide +kernel
theorem dX1_mirrored_27 : decode cX1_mirrored 27 = .ok (.iload_n 3, 1) := by decide +kernel
theorem dX1_mirrored_28 : decode cX1_mirrored 28 = .ok (.ifCond .lt 69, 3) := by decide +kernel
theorem dX1_mirrored_31 : decode cX1_mirrored 31 = .ok (.aload_n 0, 1) := by decide +kernel
theorem dX1_mirrored_32 : decode cX1_mirrored 32 = .ok (.aload_n 0, 1) := by decide +kernel
theorem dX1_mirrored_33 : decode cX1_mirrored 33 = .ok (.getfield 25, 3) := by decide +kernel
theorem dX1_mirrored_36 : decode cX1_mirrored 36 = .ok (.aload_n 0, 1) := by decide +kernel
theorem dX1_mirrored_37 : decode cX1_mirrored 37 = .ok (.getfield 19, 3) := by decide +kernel
theorem dX1_mirrored_40 : decode cX1_mirrored 40 = .ok (.laload, 1) := by decide +kernel
theorem dX1_mirrored_41 : decode cX1_mirrored 41 = .ok (.iload_n 3, 1) := by decide +kernel
theorem dX1_mirrored_42 : decode cX1_mirrored 42 = .ok (.invokevirtual 47, 3) := by decide +kernel
theorem dX1_mirrored_45 : decode cX1_mirrored 45 = .ok (.istore 4, 2) := by decide +kernel
theorem dX1_mirrored_47 : decode cX1_mirrored 47 = .ok (.ldc2_w 45, 3) := by decide +kernel
theorem dX1_mirrored_50 : decode cX1_mirrored 50 = .ok (.lload_n 1, 1) := by decide +kernel
theorem dX1_mirrored_51 : decode cX1_mirrored 51 = .ok (.lmul, 1) := by decide +kernel
theorem dX1_mirrored_52 : decode cX1_mirrored 52 = .ok (.aload_n 0, 1) := by decide +kernel
theorem dX1_mirrored_53 : decode cX1_mirrored 53 = .ok (.getfield 7, 3) := by decide +kernel
theorem dX1_mirrored_56 : decode cX1_mirrored 56 = .ok (.ifCond .ne 15, 3) := by decide +kernel
theorem dX1_mirrored_59 : decode cX1_mirrored 59 = .ok (.aload_n 0, 1) := by decide +kernel
theorem dX1_mirrored_60 : decode cX1_mirrored 60 = .ok (.getfield 13, 3) := by decide +kernel
theorem dX1_mirrored_63 : decode cX1_mirrored 63 = .ok (.iconst 1, 1) := by decide +kernel
theorem dX1_mirrored_64 : decode cX1_mirrored 64 = .ok (.isub, 1) := by decide +kernel
theorem dX1_mirrored_65 : decode cX1_mirrored 65 = .ok (.iload 4, 2) := by decide +kernel
theorem dX1_mirrored_67 : decode cX1_mirrored 67 = .ok (.isub, 1) := by decide +kernel
theorem dX1_mirrored_68 : decode cX1_mirrored 68 = .ok (.goto 20, 3) := by decide +kernel
theorem dX1_mirrored_71 : decode cX1_mirrored 71 = .ok (.aload_n 0, 1) := by decide +kernel
theorem dX1_mirrored_72 : decode cX1_mirrored 72 = .ok (.getfield 7, 3) := by decide +kernel
theorem dX1_mirrored_75 : decode cX1_mirrored 75 = .ok (.iconst 3, 1) := by decide +kernel
theorem dX1_mirrored_76 : decode cX1_mirrored 76 = .ok (.if_icmp .ne 10, 3) := by decide +kernel
theorem dX1_mirrored_79 : decode cX1_mirrored 79 = .ok (.iconst 1, 1) := by decide +kernel
theorem dX1_mirrored_80 : decode cX1_mirrored 80 = .ok (.iload 4, 2) := by decide +kernel
theorem dX1_mirrored_82 : decode cX1_mirrored 82 = .ok (.isub, 1) := by decide +kernel
theorem dX1_mirrored_83 : decode cX1_mirrored 83 = .ok (.goto 5, 3) := by decide +kernel
theorem dX1_mirrored_86 : decode cX1_mirrored 86 = .ok (.iload 4, 2) := by decide +kernel
theorem dX1_mirrored_88 : decode cX1_mirrored 88 = .ok (.i2l, 1) := by decide +kernel
theorem dX1_mirrored_89 : decode cX1_mirrored 89 = .ok (.ladd, 1) := by decide +kernel
theorem dX1_mirrored_90 : decode cX1_mirrored 90 = .ok (.lstore_n 1, 1) := by decide +kernel
theorem dX1_mirrored_91 : decode cX1_mirrored 91 = .ok (.iinc 3 (-1), 3) := by decide +kernel
theorem dX1_mirrored_94 : decode cX1_mirrored 94 = .ok (.goto (-67), 3) := by decide +kernel
theorem dX1_mirrored_97 : decode cX1_mirrored 97 = .ok (.iconst 0, 1) := by decide +kernel
theorem dX1_mirrored_98 : decode cX1_mirrored 98 = .ok (.istore_n 3, 1) := by decide +kernel
theorem dX1_mirrored_99 : decode cX1_mirrored 99 = .ok (.iload_n 3, 1) := by decide +kernel
theorem dX1_mirrored_100 : decode cX1_mirrored 100 = .ok (.aload_n 0, 1) := by decide +kernel
theorem dX1_mirrored_101 : decode cX1_mirrored 101 = .ok (.getfield 22, 3) := by decide +kernel
theorem dX1_mirrored_104 : decode cX1_mirrored 104 = .ok (.if_icmp .ge 22, 3) := by decide +kernel
theorem dX1_mirrored_107 : decode cX1_mirrored 107 = .ok (.aload_n 0, 1) := by decide +kernel
theorem dX1_mirrored_108 : decode cX1_mirrored 108 = .ok (.getfield 25, 3) := by decide +kernel
theorem dX1_mirrored_111 : decode cX1_mirrored 111 = .ok (.iload_n 3, 1) := by decide +kernel
theorem dX1_mirrored_112 : decode cX1_mirrored 112 = .ok (.laload, 1) := by decide +kernel
theorem dX1_mirrored_113 : decode cX1_mirrored 113 = .ok (.lload_n 1, 1) := by decide +kernel
theorem dX1_mirrored_114 : decode cX1_mirrored 114 = .ok (.lcmp, 1) := by decide +kernel
theorem dX1_mirrored_115 : decode cX1_mirrored 115 = .ok (.ifCond .ne 5, 3) := by decide +kernel
theorem dX1_mirrored_118 : decode cX1_mirrored 118 = .ok (.iload_n 3, 1) := by decide +kernel
theorem dX1_mirrored_119 : decode cX1_mirrored 119 = .ok (.ireturn, 1) := by decide +kernel
theorem dX1_mirrored_120 : decode cX1_mirrored 120 = .ok (.iinc 3 1, 3) := by decide +kernel
theorem dX1_mirrored_123 : decode cX1_mirrored 123 = .ok (.goto (-24), 3) := by decide +kernel
theorem dX1_mirrored_126 : decode cX1_mirrored 126 = .ok (.bipush (-2), 2) := by decide +kernel
theorem dX1_mirrored_128 : decode cX1_mirrored 128 = .ok (.ireturn, 1) := by decide +kernel
end
section
set_option maxRecDepth 100000
theorem dL_law_0 : decode cL_law 0 = .ok (.new 7, 3) := by decide +kernel
theorem dL_law_3 : decode cL_law 3 = .ok (.dup, 1) := by decide +kernel
theorem dL_law_4 : decode cL_law 4 = .ok (.invokespecial 9, 3) := by decide +kernel
theorem dL_law_7 : decode cL_law 7 = .ok (.astore_n 1, 1) := by decide +kernel
theorem dL_law_8 : decode cL_law 8 = .ok (.new 10, 3) := by decide +kernel
theorem dL_law_11 : decode cL_law 11 = .ok (.dup, 1) := by decide +kernel
theorem dL_law_12 : decode cL_law 12 = .ok (.invokespecial 12, 3) := by decide +kernel
theorem dL_law_15 : decode cL_law 15 = .ok (.astore_n 2, 1) := by decide +kernel
theorem dL_law_16 : decode cL_law 16 = .ok (.iconst 0, 1) := by decide +kernel
theorem dL_law_17 : decode cL_law 17 = .ok (.istore_n 3, 1) := by decide +kernel
theorem dL_law_18 : decode cL_law 18 = .ok (.iload_n 3, 1) := by decide +kernel
theorem dL_law_19 : decode cL_law 19 = .ok (.aload_n 0, 1) := by decide +kernel
theorem dL_law_20 : decode cL_law 20 = .ok (.arraylength, 1) := by decide +kernel
theorem dL_law_21 : decode cL_law 21 = .ok (.iconst 4, 1) := by decide +kernel
theorem dL_law_22 : decode cL_law 22 = .ok (.isub, 1) := by decide +kernel
theorem dL_law_23 : decode cL_law 23 = .ok (.if_icmp .gt 298, 3) := by decide +kernel
theorem dL_law_26 : decode cL_law 26 = .ok (.aload_n 0, 1) := by decide +kernel
theorem dL_law_27 : decode cL_law 27 = .ok (.iload_n 3, 1) := by decide +kernel
theorem dL_law_28 : decode cL_law 28 = .ok (.iaload, 1) := by decide +kernel
theorem dL_law_29 : decode cL_law 29 = .ok (.bipush 15, 2) := by decide +kernel
theorem dL_law_31 : decode cL_law 31 = .ok (.iand, 1) := by decide +kernel
theorem dL_law_32 : decode cL_law 32 = .ok (.tableswitch 283 0 10 #[60, 103, 116, 129, 152, 175, 188, 201, 224, 247, 270], 60) := by decide +kernel
theorem dL_law_92 : decode cL_law 92 = .ok (.aload_n 1, 1) := by decide +kernel
theorem dL_law_93 : decode cL_law 93 = .ok (.aload_n 0, 1) := by decide +kernel
theorem dL_law_94 : decode cL_law 94 = .ok (.iload_n 3, 1) := by decide +kernel
theorem dL_law_95 : decode cL_law 95 = .ok (.iconst 1, 1) := by decide +kernel
theorem dL_law_96 : decode cL_law 96 = .ok (.iadd, 1) := by decide +kernel
theorem dL_law_97 : decode cL_law 97 = .ok (.iaload, 1) := by decide +kernel
theorem dL_law_98 : decode cL_law 98 = .ok (.aload_n 0, 1) := by decide +kernel
theorem dL_law_99 : decode cL_law 99 = .ok (.iload_n 3, 1) := by decide +kernel
theorem dL_law_100 : decode cL_law 100 = .ok (.iconst 2, 1) := by decide +kernel
theorem dL_law_101 : decode cL_law 101 = .ok (.iadd, 1) := by decide +kernel
theorem dL_law_102 : decode cL_law 102 = .ok (.iaload, 1) := by decide +kernel
theorem dL_law_103 : decode cL_law 103 = .ok (.aload_n 0, 1) := by decide +kernel
theorem dL_law_104 : decode cL_law 104 = .ok (.iload_n 3, 1) := by decide +kernel
theorem dL_law_105 : decode cL_law 105 = .ok (.iconst 3, 1) := by decide +kernel
theorem dL_law_106 : decode cL_law 106 = .ok (.iadd, 1) := by decide +kernel
theorem dL_law_107 : decode cL_law 107 = .ok (.iaload, 1) := by decide +kernel
theorem dL_law_108 : decode cL_law 108 = .ok (.invokevirtual 13, 3) := by decide +kernel
theorem dL_law_111 : decode cL_law 111 = .ok (.aload_n 2, 1) := by decide +kernel
theorem dL_law_112 : decode cL_law 112 = .ok (.aload_n 0, 1) := by decide +kernel
theorem dL_law_113 : decode cL_law 113 = .ok (.iload_n 3, 1) := by decide +kernel
theorem dL_law_114 : decode cL_law 114 = .ok (.iconst 1, 1) := by decide +kernel
theorem dL_law_115 : decode cL_law 115 = .ok (.iadd, 1) := by decide +kernel
theorem dL_law_116 : decode cL_law 116 = .ok (.iaload, 1) := by decide +kernel
theorem dL_law_117 : decode cL_law 117 = .ok (.aload_n 0, 1) := by decide +kernel
theorem dL_law_118 : decode cL_law 118 = .ok (.iload_n 3, 1) := by decide +kernel
theorem dL_law_119 : decode cL_law 119 = .ok (.iconst 2, 1) := by decide +kernel
theorem dL_law_120 : decode cL_law 120 = .ok (.iadd, 1) := by decide +kernel
theorem dL_law_121 : decode cL_law 121 = .ok (.iaload, 1) := by decide +kernel
theorem dL_law_122 : decode cL_law 122 = .ok (.aload_n 0, 1) := by decide +kernel
theorem dL_law_123 : decode cL_law 123 = .ok (.iload_n 3, 1) := by decide +kernel
theorem dL_law_124 : decode cL_law 124 = .ok (.iconst 3, 1) := by decide +kernel
theorem dL_law_125 : decode cL_law 125 = .ok (.iadd, 1) := by decide +kernel
theorem dL_law_126 : decode cL_law 126 = .ok (.iaload, 1) := by decide +kernel
theorem dL_law_127 : decode cL_law 127 = .ok (.invokevirtual 17, 3) := by decide +kernel
theorem dL_law_130 : decode cL_law 130 = .ok (.if_icmp .eq 185, 3) := by decide +kernel
theorem dL_law_133 : decode cL_law 133 = .ok (.iconst 0, 1) := by decide +kernel
theorem dL_law_134 : decode cL_law 134 = .ok (.ireturn, 1) := by decide +kernel
theorem dL_law_135 : decode cL_law 135 = .ok (.aload_n 1, 1) := by decide +kernel
theorem dL_law_136 : decode cL_law 136 = .ok (.invokevirtual 18, 3) := by decide +kernel
theorem dL_law_139 : decode cL_law 139 = .ok (.aload_n 2, 1) := by decide +kernel
theorem dL_law_140 : decode cL_law 140 = .ok (.invokevirtual 22, 3) := by decide +kernel
theorem dL_law_143 : decode cL_law 143 = .ok (.if_icmp .eq 172, 3) := by decide +kernel
theorem dL_law_146 : decode cL_law 146 = .ok (.iconst 0, 1) := by decide +kernel
theorem dL_law_147 : decode cL_law 147 = .ok (.ireturn, 1) := by decide +kernel
theorem dL_law_148 : decode cL_law 148 = .ok (.aload_n 1, 1) := by decide +kernel
theorem dL_law_149 : decode cL_law 149 = .ok (.invokevirtual 23, 3) := by decide +kernel
theorem dL_law_152 : decode cL_law 152 = .ok (.aload_n 2, 1) := by decide +kernel
theorem dL_law_153 : decode cL_law 153 = .ok (.invokevirtual 26, 3) := by decide +kernel
theorem dL_law_156 : decode cL_law 156 = .ok (.if_icmp .eq 159, 3) := by decide +kernel
theorem dL_law_159 : decode cL_law 159 = .ok (.iconst 0, 1) := by decide +kernel
theorem dL_law_160 : decode cL_law 160 = .ok (.ireturn, 1) := by decide +kernel
theorem dL_law_161 : decode cL_law 161 = .ok (.aload_n 1, 1) := by decide +kernel
theorem dL_law_162 : decode cL_law 162 = .ok (.aload_n 0, 1) := by decide +kernel
theorem dL_law_163 : decode cL_law 163 = .ok (.iload_n 3, 1) := by decide +kernel
theorem dL_law_164 : decode cL_law 164 = .ok (.iconst 1, 1) := by decide +kernel
theorem dL_law_165 : decode cL_law 165 = .ok (.iadd, 1) := by decide +kernel
theorem dL_law_166 : decode cL_law 166 = .ok (.iaload, 1) := by decide +kernel
theorem dL_law_167 : decode cL_law 167 = .ok (.invokevirtual 27, 3) := by decide +kernel
theorem dL_law_170 : decode cL_law 170 = .ok (.aload_n 2, 1) := by decide +kernel
theorem dL_law_171 : decode cL_law 171 = .ok (.aload_n 0, 1) := by decide +kernel
theorem dL_law_172 : decode cL_law 172 = .ok (.iload_n 3, 1) := by decide +kernel
theorem dL_law_173 : decode cL_law 173 = .ok (.iconst 1, 1) := by decide +kernel
theorem dL_law_174 : decode cL_law 174 = .ok (.iadd, 1) := by decide +kernel
theorem dL_law_175 : decode cL_law 175 = .ok (.iaload, 1) := by decide +kernel
theorem dL_law_176 : decode cL_law 176 = .ok (.invokevirtual 31, 3) := by decide +kernel
theorem dL_law_179 : decode cL_law 179 = .ok (.if_icmp .eq 136, 3) := by decide +kernel
theorem dL_law_182 : decode cL_law 182 = .ok (.iconst 0, 1) := by decide +kernel
theorem dL_law_183 : decode cL_law 183 = .ok (.ireturn, 1) := by decide +kernel
theorem dL_law_184 : decode cL_law 184 = .ok (.aload_n 1, 1) := by decide +kernel
theorem dL_law_185 : decode cL_law 185 = .ok (.aload_n 0, 1) := by decide +kernel
theorem dL_law_186 : decode cL_law 186 = .ok (.iload_n 3, 1) := by decide +kernel
theorem dL_law_187 : decode cL_law 187 = .ok (.iconst 1, 1) := by decide +kernel
theorem dL_law_188 : decode cL_law 188 = .ok (.iadd, 1) := by decide +kernel
theorem dL_law_189 : decode cL_law 189 = .ok (.iaload, 1) := by decide +kernel
theorem dL_law_190 : decode cL_law 190 = .ok (.invokevirtual 32, 3) := by decide +kernel
theorem dL_law_193 : decode cL_law 193 = .ok (.aload_n 2, 1) := by decide +kernel
theorem dL_law_194 : decode cL_law 194 = .ok (.aload_n 0, 1) := by decide +kernel
theorem dL_law_195 : decode cL_law 195 = .ok (.iload_n 3, 1) := by decide +kernel
theorem dL_law_196 : decode cL_law 196 = .ok (.iconst 1, 1) := by decide +kernel
theorem dL_law_197 : decode cL_law 197 = .ok (.iadd, 1) := by decide +kernel
theorem dL_law_198 : decode cL_law 198 = .ok (.iaload, 1) := by decide +kernel
theorem dL_law_199 : decode cL_law 199 = .ok (.invokevirtual 35, 3) := by decide +kernel
theorem dL_law_202 : decode cL_law 202 = .ok (.if_icmp .eq 113, 3) := by decide +kernel
theorem dL_law_205 : decode cL_law 205 = .ok (.iconst 0, 1) := by decide +kernel
theorem dL_law_206 : decode cL_law 206 = .ok (.ireturn, 1) := by decide +kernel
theorem dL_law_207 : decode cL_law 207 = .ok (.aload_n 1, 1) := by decide +kernel
theorem dL_law_208 : decode cL_law 208 = .ok (.invokevirtual 36, 3) := by decide +kernel
theorem dL_law_211 : decode cL_law 211 = .ok (.aload_n 2, 1) := by decide +kernel
theorem dL_law_212 : decode cL_law 212 = .ok (.invokevirtual 39, 3) := by decide +kernel
theorem dL_law_215 : decode cL_law 215 = .ok (.if_icmp .eq 100, 3) := by decide +kernel
theorem dL_law_218 : decode cL_law 218 = .ok (.iconst 0, 1) := by decide +kernel
theorem dL_law_219 : decode cL_law 219 = .ok (.ireturn, 1) := by decide +kernel
theorem dL_law_220 : decode cL_law 220 = .ok (.aload_n 1, 1) := by decide +kernel
theorem dL_law_221 : decode cL_law 221 = .ok (.invokevirtual 40, 3) := by decide +kernel
theorem dL_law_224 : decode cL_law 224 = .ok (.aload_n 2, 1) := by decide +kernel
theorem dL_law_225 : decode cL_law 225 = .ok (.invokevirtual 43, 3) := by decide +kernel
theorem dL_law_228 : decode cL_law 228 = .ok (.if_icmp .eq 87, 3) := by decide +kernel
theorem dL_law_231 : decode cL_law 231 = .ok (.iconst 0, 1) := by decide +kernel
theorem dL_law_232 : decode cL_law 232 = .ok (.ireturn, 1) := by decide +kernel
theorem dL_law_233 : decode cL_law 233 = .ok (.aload_n 1, 1) := by decide +kernel
theorem dL_law_234 : decode cL_law 234 = .ok (.aload_n 0, 1) := by decide +kernel
theorem dL_law_235 : decode cL_law 235 = .ok (.iload_n 3, 1) := by decide +kernel
theorem dL_law_236 : decode cL_law 236 = .ok (.iconst 1, 1) := by decide +kernel
theorem dL_law_237 : decode cL_law 237 = .ok (.iadd, 1) := by decide +kernel
theorem dL_law_238 : decode cL_law 238 = .ok (.iaload, 1) := by decide +kernel
theorem dL_law_239 : decode cL_law 239 = .ok (.invokevirtual 44, 3) := by decide +kernel
theorem dL_law_242 : decode cL_law 242 = .ok (.aload_n 2, 1) := by decide +kernel
theorem dL_law_243 : decode cL_law 243 = .ok (.aload_n 0, 1) := by decide +kernel
theorem dL_law_244 : decode cL_law 244 = .ok (.iload_n 3, 1) := by decide +kernel
theorem dL_law_245 : decode cL_law 245 = .ok (.iconst 1, 1) := by decide +kernel
theorem dL_law_246 : decode cL_law 246 = .ok (.iadd, 1) := by decide +kernel
theorem dL_law_247 : decode cL_law 247 = .ok (.iaload, 1) := by decide +kernel
theorem dL_law_248 : decode cL_law 248 = .ok (.invokevirtual 47, 3) := by decide +kernel
theorem dL_law_251 : decode cL_law 251 = .ok (.if_icmp .eq 64, 3) := by decide +kernel
theorem dL_law_254 : decode cL_law 254 = .ok (.iconst 0, 1) := by decide +kernel
theorem dL_law_255 : decode cL_law 255 = .ok (.ireturn, 1) := by decide +kernel
theorem dL_law_256 : decode cL_law 256 = .ok (.aload_n 1, 1) := by decide +kernel
theorem dL_law_257 : decode cL_law 257 = .ok (.aload_n 0, 1) := by decide +kernel
theorem dL_law_258 : decode cL_law 258 = .ok (.iload_n 3, 1) := by decide +kernel
theorem dL_law_259 : decode cL_law 259 = .ok (.iconst 1, 1) := by decide +kernel
theorem dL_law_260 : decode cL_law 260 = .ok (.iadd, 1) := by decide +kernel
theorem dL_law_261 : decode cL_law 261 = .ok (.iaload, 1) := by decide +kernel
theorem dL_law_262 : decode cL_law 262 = .ok (.invokevirtual 48, 3) := by decide +kernel
theorem dL_law_265 : decode cL_law 265 = .ok (.aload_n 2, 1) := by decide +kernel
theorem dL_law_266 : decode cL_law 266 = .ok (.aload_n 0, 1) := by decide +kernel
theorem dL_law_267 : decode cL_law 267 = .ok (.iload_n 3, 1) := by decide +kernel
theorem dL_law_268 : decode cL_law 268 = .ok (.iconst 1, 1) := by decide +kernel
theorem dL_law_269 : decode cL_law 269 = .ok (.iadd, 1) := by decide +kernel
theorem dL_law_270 : decode cL_law 270 = .ok (.iaload, 1) := by decide +kernel
theorem dL_law_271 : decode cL_law 271 = .ok (.invokevirtual 51, 3) := by decide +kernel
theorem dL_law_274 : decode cL_law 274 = .ok (.if_icmp .eq 41, 3) := by decide +kernel
theorem dL_law_277 : decode cL_law 277 = .ok (.iconst 0, 1) := by decide +kernel
theorem dL_law_278 : decode cL_law 278 = .ok (.ireturn, 1) := by decide +kernel
theorem dL_law_279 : decode cL_law 279 = .ok (.aload_n 1, 1) := by decide +kernel
theorem dL_law_280 : decode cL_law 280 = .ok (.aload_n 0, 1) := by decide +kernel
theorem dL_law_281 : decode cL_law 281 = .ok (.iload_n 3, 1) := by decide +kernel
theorem dL_law_282 : decode cL_law 282 = .ok (.iconst 1, 1) := by decide +kernel
theorem dL_law_283 : decode cL_law 283 = .ok (.iadd, 1) := by decide +kernel
theorem dL_law_284 : decode cL_law 284 = .ok (.iaload, 1) := by decide +kernel
theorem dL_law_285 : decode cL_law 285 = .ok (.invokevirtual 52, 3) := by decide +kernel
theorem dL_law_288 : decode cL_law 288 = .ok (.aload_n 2, 1) := by decide +kernel
theorem dL_law_289 : decode cL_law 289 = .ok (.aload_n 0, 1) := by decide +kernel
theorem dL_law_290 : decode cL_law 290 = .ok (.iload_n 3, 1) := by decide +kernel
theorem dL_law_291 : decode cL_law 291 = .ok (.iconst 1, 1) := by decide +kernel
theorem dL_law_292 : decode cL_law 292 = .ok (.iadd, 1) := by decide +kernel
theorem dL_law_293 : decode cL_law 293 = .ok (.iaload, 1) := by decide +kernel
theorem dL_law_294 : decode cL_law 294 = .ok (.invokevirtual 55, 3) := by decide +kernel
theorem dL_law_297 : decode cL_law 297 = .ok (.if_icmp .eq 18, 3) := by decide +kernel
theorem dL_law_300 : decode cL_law 300 = .ok (.iconst 0, 1) := by decide +kernel
theorem dL_law_301 : decode cL_law 301 = .ok (.ireturn, 1) := by decide +kernel
theorem dL_law_302 : decode cL_law 302 = .ok (.aload_n 1, 1) := by decide +kernel
theorem dL_law_303 : decode cL_law 303 = .ok (.invokevirtual 56, 3) := by decide +kernel
theorem dL_law_306 : decode cL_law 306 = .ok (.aload_n 2, 1) := by decide +kernel
theorem dL_law_307 : decode cL_law 307 = .ok (.invokevirtual 59, 3) := by decide +kernel
theorem dL_law_310 : decode cL_law 310 = .ok (.if_icmp .eq 5, 3) := by decide +kernel
theorem dL_law_313 : decode cL_law 313 = .ok (.iconst 0, 1) := by decide +kernel
theorem dL_law_314 : decode cL_law 314 = .ok (.ireturn, 1) := by decide +kernel
theorem dL_law_315 : decode cL_law 315 = .ok (.iinc 3 4, 3) := by decide +kernel
theorem dL_law_318 : decode cL_law 318 = .ok (.goto (-300), 3) := by decide +kernel
theorem dL_law_321 : decode cL_law 321 = .ok (.iconst 1, 1) := by decide +kernel
theorem dL_law_322 : decode cL_law 322 = .ok (.ireturn, 1) := by decide +kernel
end
section
set_option maxRecDepth 100000
/-- an int by its whole number -/
def zI (z : Int) : Int32 := Int32.ofInt z
theorem zI_toInt {z : Int} (h : -2147483648 ≤ z ∧ z ≤ 2147483647) : (zI z).toInt = z := Int32.toInt_ofInt_of_le (by omega) (by omega)
theorem zI_of (x : Int32) : ∃ z : Int, (-2147483648 ≤ z ∧ z ≤ 2147483647) ∧ x = zI z :=
  ⟨x.toInt, by have h1 := x.le_toInt; have h2 := x.toInt_lt; omega, (Int32.ofInt_toInt x).symm⟩
theorem zI_add (a b : Int) : zI a + zI b = zI (a + b) := (Int32.ofInt_add a b).symm
theorem zI_sub (a b : Int) : zI a - zI b = zI (a - b) := (Int32.ofInt_sub a b).symm
theorem zI_mul (a b : Int) : zI a * zI b = zI (a * b) := (Int32.ofInt_mul a b).symm
theorem zI_nat (n : Nat) : nI n = zI n := Int32.ofInt_eq_ofNat.symm
theorem zI_0 : (0 : Int32) = zI 0 := by decide +kernel
theorem zI_le {a b : Int} (ha : -2147483648 ≤ a ∧ a ≤ 2147483647) (hb : -2147483648 ≤ b ∧ b ≤ 2147483647) : zI a ≤ zI b ↔ a ≤ b := by rw [Int32.le_iff_toInt_le, zI_toInt ha, zI_toInt hb]
theorem zI_lt {a b : Int} (ha : -2147483648 ≤ a ∧ a ≤ 2147483647) (hb : -2147483648 ≤ b ∧ b ≤ 2147483647) : zI a < zI b ↔ a < b := by rw [Int32.lt_iff_toInt_lt, zI_toInt ha, zI_toInt hb]
theorem zI_eq {a b : Int} (ha : -2147483648 ≤ a ∧ a ≤ 2147483647) (hb : -2147483648 ≤ b ∧ b ≤ 2147483647) : zI a = zI b ↔ a = b := by rw [← Int32.toInt_inj, zI_toInt ha, zI_toInt hb]
theorem zI_cl {a : Int} {k : Nat} (e : a = k) (hk : k < 2147483648) : (zI a).toNatClampNeg = k := by
  rw [← Int32.toNat_toInt, zI_toInt (by omega), e]
  exact Int.toNat_natCast k
theorem zI_in {a : Int} {k n : Nat} (e : a = k) (hk : k < n) (hn : n < 2147483648) : vp_in (zI a) n := vp_in_iff.mpr (by rw [zI_toInt (by omega)]; omega)
theorem zI_byte {z : Int} (h : -128 ≤ z ∧ z ≤ 127) : (zI z).toInt8.toInt32 = zI z := by
  rw [← Int32.toInt_inj, Int8.toInt_toInt32]
  show (Int32.toInt8 (Int32.ofInt z)).toInt = _
  rw [Int32.toInt8_ofInt, Int8.toInt_ofInt_of_le (by omega) (by omega), zI_toInt (by omega)]
theorem zI_div {a b : Nat} (ha : a < 2147483648) (h0 : 0 < b) (hb : b < 2147483648) : zI a / zI b = zI ((a / b : Nat) : Int) := by
  rw [← zI_nat, ← zI_nat, ← zI_nat]; exact pk_div ha h0 hb
theorem zI_rem {a b : Nat} (ha : a < 2147483648) (h0 : 0 < b) (hb : b < 2147483648) : zI a - zI a / zI b * zI b = zI ((a % b : Nat) : Int) := by
  rw [← zI_nat, ← zI_nat, ← zI_nat]; exact pk_rem ha h0 hb
theorem zI_shl1 : ∀ v, v < 8 → zI 1 <<< (zI (v : Nat) &&& 31) = zI ((2 ^ v : Nat) : Int) := by decide +kernel
theorem zI_orb : ∀ v, v < 8 → ∀ a, a < 256 → zI (a : Nat) ||| zI ((2 ^ v : Nat) : Int) = zI ((a ||| 2 ^ v : Nat) : Int) := by decide +kernel
theorem zI_shr : ∀ v, v < 8 → ∀ a, a < 256 → zI (a : Nat) >>> (zI (v : Nat) &&& 31) = zI ((a / 2 ^ v : Nat) : Int) := by decide +kernel
theorem zI_and1 : ∀ a, a < 256 → zI (a : Nat) &&& zI 1 = zI ((a % 2 : Nat) : Int) := by decide +kernel

theorem wb_tb (n : Nat) : (lN n).toBitVec = BitVec.ofNat 64 n := rfl
theorem wb_inj {a b : Int64} (h : a.toBitVec = b.toBitVec) : a = b := Int64.toBitVec_inj.mp h
theorem wb_tn {n : Nat} (h : n < 2 ^ 64) : (lN n).toBitVec.toNat = n := by rw [wb_tb, BitVec.toNat_ofNat, Nat.mod_eq_of_lt h]
theorem wb_of (x : Int64) : ∃ n, n < 2 ^ 64 ∧ x = lN n := ⟨x.toBitVec.toNat, x.toBitVec.isLt, wb_inj (by rw [wb_tb]; simp)⟩
theorem wb_of32 (x : Int32) : ∃ n, n < 2 ^ 32 ∧ x = nI n := ⟨x.toBitVec.toNat, x.toBitVec.isLt, Int32.toBitVec_inj.mp (by show _ = BitVec.ofNat 32 _; simp)⟩
theorem wb_c : ∀ k, k < 64 → ((nI k).toInt64 &&& 63) = lN k := by decide +kernel
theorem wb_cu : ∀ k, k < 64 → ((nI k).toInt64.toUInt64 &&& Int64.toUInt64 63) = UInt64.ofNat k := by decide +kernel
theorem wb_sm : ∀ k, k < 64 → (BitVec.ofNat 64 k).smod 64 = BitVec.ofNat 64 k := by decide +kernel
theorem wb_pw {a b : Nat} (h : a ≤ b) : 2 ^ b = 2 ^ a * 2 ^ (b - a) := by rw [← Nat.pow_add]; congr 1; omega
theorem wb_lt2 {a b : Nat} (h : a < b) : 2 ^ a < 2 ^ b := Nat.pow_lt_pow_right (by decide) h
theorem wb_mod (n : Nat) : lN n = lN (n % 2 ^ 64) := wb_inj (by rw [wb_tb, wb_tb]; apply BitVec.eq_of_toNat_eq; rw [BitVec.toNat_ofNat, BitVec.toNat_ofNat, Nat.mod_mod])
theorem wb_shr {n k : Nat} (hn : n < 2 ^ 64) (hk : k < 64) : ((lN n).toUInt64 >>> ((nI k).toInt64.toUInt64 &&& Int64.toUInt64 63)).toInt64 = lN (n / 2 ^ k) := by
  rw [wb_cu k hk]
  apply wb_inj
  apply BitVec.eq_of_toNat_eq
  show ((lN n).toUInt64 >>> UInt64.ofNat k).toNat = (BitVec.ofNat 64 _).toNat
  have h1 : (UInt64.ofNat k).toNat = k := by
    show (BitVec.ofNat 64 k).toNat = k
    rw [BitVec.toNat_ofNat, Nat.mod_eq_of_lt (by omega)]
  have h2 : (lN n).toUInt64.toNat = n := wb_tn hn
  rw [UInt64.toNat_shiftRight, h1, h2, Nat.mod_eq_of_lt hk, Nat.shiftRight_eq_div_pow, BitVec.toNat_ofNat, Nat.mod_eq_of_lt (Nat.lt_of_le_of_lt (Nat.div_le_self _ _) hn)]
theorem zL_and7 {n : Nat} (hn : n < 2 ^ 62) : lN n &&& 7 = lN (n % 8) := by
  apply Int64.toBitVec_inj.mp
  apply BitVec.eq_of_toNat_eq
  show ((BitVec.ofNat 64 n) &&& (BitVec.ofNat 64 7)).toNat = (BitVec.ofNat 64 (n % 8)).toNat
  rw [BitVec.toNat_and, BitVec.toNat_ofNat, BitVec.toNat_ofNat, BitVec.toNat_ofNat, Nat.mod_eq_of_lt (show n < 2 ^ 64 by omega)]
  rw [show 7 % 2 ^ 64 = 2 ^ 3 - 1 by decide, Nat.and_two_pow_sub_one_eq_mod, Nat.mod_eq_of_lt (show n % 8 < 2 ^ 64 by omega)]
theorem zL_low7 (n : Nat) : (lN n).toInt32 &&& zI 7 = zI ((n % 8 : Nat) : Int) := by
  rw [lN_i, ← zI_nat, pk_and (nI n) (m := zI 7) 3 (by decide +kernel)]
  congr 1
  show (BitVec.ofNat 32 n).toNat % 8 = n % 8
  rw [BitVec.toNat_ofNat]
  omega
theorem zL_i2l {n : Nat} (h : n < 2147483648) : (zI n).toInt64 = lN n := by rw [← zI_nat]; exact nI_l h
theorem zL_l2i (n : Nat) : (lN n).toInt32 = zI n := by rw [lN_i, zI_nat]
theorem zL_shr {n k : Nat} (hn : n < 2 ^ 62) (hk : k < 64) : ((lN n).toUInt64 >>> ((zI k).toInt64.toUInt64 &&& Int64.toUInt64 63)).toInt64 = lN (n / 2 ^ k) := by rw [← zI_nat]; exact wb_shr (by omega) hk

section ZR
variable {p : Program} {l : Launch} {e : Env} {R : Room} {s : State} {m : MethodId} {args : Array Value} {below : List Frame} {meth : Method} {c : Code} {H : Heap} {locs : List Loc} {cells slots : Nat} {Q : State → Prop}
variable {cc : ByteArray} {pc : Nat} {ls : Array Slot} {rest : List Value}
theorem zr_top  {x y : Int32} (h : x = y) (k : W p l e R s m args below meth c H locs cells slots Q (F0 m pc ls (.int y :: rest))) : W p l e R s m args below meth c H locs cells slots Q (F0 m pc ls (.int x :: rest)) := by subst h; exact k
theorem zr_topl  {x y : Int64} (h : x = y) (k : W p l e R s m args below meth c H locs cells slots Q (F0 m pc ls (.long y :: rest))) : W p l e R s m args below meth c H locs cells slots Q (F0 m pc ls (.long x :: rest)) := by subst h; exact k
theorem zr_iadd (hx : p.tables.exec = Jvm.exec) (hb : c.code = cc) {a b : Int} (z : Int) (hd : decode cc pc = .ok (.iadd, 1)) (hz : a + b = z) (k : W p l e R s m args below meth c H locs cells slots Q (F0 m (pc + 1) ls (.int (zI z) :: rest))) : W p l e R s m args below meth c H locs cells slots Q (F0 m pc ls (.int (zI b) :: .int (zI a) :: rest)) := lv_iadd hx hb hd (zr_top (by rw [zI_add, hz]) k)
theorem zr_isub (hx : p.tables.exec = Jvm.exec) (hb : c.code = cc) {a b : Int} (z : Int) (hd : decode cc pc = .ok (.isub, 1)) (hz : a - b = z) (k : W p l e R s m args below meth c H locs cells slots Q (F0 m (pc + 1) ls (.int (zI z) :: rest))) : W p l e R s m args below meth c H locs cells slots Q (F0 m pc ls (.int (zI b) :: .int (zI a) :: rest)) := lv_isub hx hb hd (zr_top (by rw [zI_sub, hz]) k)
theorem zr_imul (hx : p.tables.exec = Jvm.exec) (hb : c.code = cc) {a b : Int} (z : Int) (hd : decode cc pc = .ok (.imul, 1)) (hz : a * b = z) (k : W p l e R s m args below meth c H locs cells slots Q (F0 m (pc + 1) ls (.int (zI z) :: rest))) : W p l e R s m args below meth c H locs cells slots Q (F0 m pc ls (.int (zI b) :: .int (zI a) :: rest)) := lv_imul hx hb hd (zr_top (by rw [zI_mul, hz]) k)
theorem zr_idiv (hx : p.tables.exec = Jvm.exec) (hb : c.code = cc) {a b : Int} (x y : Nat) (hd : decode cc pc = .ok (.idiv, 1)) (ha : a = x) (hb2 : b = y) (hx2 : x < 2147483648) (hy0 : 0 < y) (hy : y < 2147483648) (k : W p l e R s m args below meth c H locs cells slots Q (F0 m (pc + 1) ls (.int (zI ((x / y : Nat) : Int)) :: rest))) : W p l e R s m args below meth c H locs cells slots Q (F0 m pc ls (.int (zI b) :: .int (zI a) :: rest)) := by
  subst ha; subst hb2
  exact lv_idiv hx hb hd (by rw [zI_0, zI_eq (by omega) (by omega)]; omega) (zr_top (zI_div hx2 hy0 hy) k)
theorem zr_irem (hx : p.tables.exec = Jvm.exec) (hb : c.code = cc) {a b : Int} (x y : Nat) (hd : decode cc pc = .ok (.irem, 1)) (ha : a = x) (hb2 : b = y) (hx2 : x < 2147483648) (hy0 : 0 < y) (hy : y < 2147483648) (k : W p l e R s m args below meth c H locs cells slots Q (F0 m (pc + 1) ls (.int (zI ((x % y : Nat) : Int)) :: rest))) : W p l e R s m args below meth c H locs cells slots Q (F0 m pc ls (.int (zI b) :: .int (zI a) :: rest)) := by
  subst ha; subst hb2
  exact lv_irem hx hb hd (by rw [zI_0, zI_eq (by omega) (by omega)]; omega) (zr_top (zI_rem hx2 hy0 hy) k)
theorem zr_i2b (hx : p.tables.exec = Jvm.exec) (hb : c.code = cc) {a : Int} (hd : decode cc pc = .ok (.i2b, 1)) (ha : -128 ≤ a ∧ a ≤ 127) (k : W p l e R s m args below meth c H locs cells slots Q (F0 m (pc + 1) ls (.int (zI a) :: rest))) : W p l e R s m args below meth c H locs cells slots Q (F0 m pc ls (.int (zI a) :: rest)) := lv_i2b hx hb hd (zI_byte ha) k
theorem zr_icmp_eq (hx : p.tables.exec = Jvm.exec) (hb : c.code = cc) {a b : Int} {off : Int} {tgt : Nat} (hd : decode cc pc = .ok (.if_icmp .eq off, 3)) (ht : (pc : Int) + off = (tgt : Int)) (ha : -2147483648 ≤ a ∧ a ≤ 2147483647) (hb2 : -2147483648 ≤ b ∧ b ≤ 2147483647) (kt : a = b → W p l e R s m args below meth c H locs cells slots Q (F0 m tgt ls rest)) (kf : ¬ a = b → W p l e R s m args below meth c H locs cells slots Q (F0 m (pc + 3) ls rest)) : W p l e R s m args below meth c H locs cells slots Q (F0 m pc ls (.int (zI b) :: .int (zI a) :: rest)) :=
  lv_icmp_eq hx hb hd ht (fun h => kt (by rw [zI_eq (a := a) (b := b) ha hb2] at h; omega)) (fun h => kf (by rw [zI_eq (a := a) (b := b) ha hb2] at h; omega))
theorem zr_if_eq (hx : p.tables.exec = Jvm.exec) (hb : c.code = cc) {a : Int} {off : Int} {tgt : Nat} (hd : decode cc pc = .ok (.ifCond .eq off, 3)) (ht : (pc : Int) + off = (tgt : Int)) (ha : -2147483648 ≤ a ∧ a ≤ 2147483647) (kt : a = 0 → W p l e R s m args below meth c H locs cells slots Q (F0 m tgt ls rest)) (kf : ¬ a = 0 → W p l e R s m args below meth c H locs cells slots Q (F0 m (pc + 3) ls rest)) : W p l e R s m args below meth c H locs cells slots Q (F0 m pc ls (.int (zI a) :: rest)) :=
  lv_if_eq hx hb hd ht (fun h => kt (by rw [zI_0, zI_eq (a := a) (b := 0) ha (by omega)] at h; omega)) (fun h => kf (by rw [zI_0, zI_eq (a := a) (b := 0) ha (by omega)] at h; omega))
theorem zr_icmp_ne (hx : p.tables.exec = Jvm.exec) (hb : c.code = cc) {a b : Int} {off : Int} {tgt : Nat} (hd : decode cc pc = .ok (.if_icmp .ne off, 3)) (ht : (pc : Int) + off = (tgt : Int)) (ha : -2147483648 ≤ a ∧ a ≤ 2147483647) (hb2 : -2147483648 ≤ b ∧ b ≤ 2147483647) (kt : ¬ a = b → W p l e R s m args below meth c H locs cells slots Q (F0 m tgt ls rest)) (kf : a = b → W p l e R s m args below meth c H locs cells slots Q (F0 m (pc + 3) ls rest)) : W p l e R s m args below meth c H locs cells slots Q (F0 m pc ls (.int (zI b) :: .int (zI a) :: rest)) :=
  lv_icmp_ne hx hb hd ht (fun h => kt (by rw [zI_eq (a := a) (b := b) ha hb2] at h; omega)) (fun h => kf (by rw [zI_eq (a := a) (b := b) ha hb2] at h; omega))
theorem zr_if_ne (hx : p.tables.exec = Jvm.exec) (hb : c.code = cc) {a : Int} {off : Int} {tgt : Nat} (hd : decode cc pc = .ok (.ifCond .ne off, 3)) (ht : (pc : Int) + off = (tgt : Int)) (ha : -2147483648 ≤ a ∧ a ≤ 2147483647) (kt : ¬ a = 0 → W p l e R s m args below meth c H locs cells slots Q (F0 m tgt ls rest)) (kf : a = 0 → W p l e R s m args below meth c H locs cells slots Q (F0 m (pc + 3) ls rest)) : W p l e R s m args below meth c H locs cells slots Q (F0 m pc ls (.int (zI a) :: rest)) :=
  lv_if_ne hx hb hd ht (fun h => kt (by rw [zI_0, zI_eq (a := a) (b := 0) ha (by omega)] at h; omega)) (fun h => kf (by rw [zI_0, zI_eq (a := a) (b := 0) ha (by omega)] at h; omega))
theorem zr_icmp_lt (hx : p.tables.exec = Jvm.exec) (hb : c.code = cc) {a b : Int} {off : Int} {tgt : Nat} (hd : decode cc pc = .ok (.if_icmp .lt off, 3)) (ht : (pc : Int) + off = (tgt : Int)) (ha : -2147483648 ≤ a ∧ a ≤ 2147483647) (hb2 : -2147483648 ≤ b ∧ b ≤ 2147483647) (kt : a < b → W p l e R s m args below meth c H locs cells slots Q (F0 m tgt ls rest)) (kf : b ≤ a → W p l e R s m args below meth c H locs cells slots Q (F0 m (pc + 3) ls rest)) : W p l e R s m args below meth c H locs cells slots Q (F0 m pc ls (.int (zI b) :: .int (zI a) :: rest)) :=
  lv_icmp_lt hx hb hd ht (fun h => kt (by rw [zI_lt (a := a) (b := b) ha hb2] at h; omega)) (fun h => kf (by rw [zI_lt (a := a) (b := b) ha hb2] at h; omega))
theorem zr_if_lt (hx : p.tables.exec = Jvm.exec) (hb : c.code = cc) {a : Int} {off : Int} {tgt : Nat} (hd : decode cc pc = .ok (.ifCond .lt off, 3)) (ht : (pc : Int) + off = (tgt : Int)) (ha : -2147483648 ≤ a ∧ a ≤ 2147483647) (kt : a < 0 → W p l e R s m args below meth c H locs cells slots Q (F0 m tgt ls rest)) (kf : 0 ≤ a → W p l e R s m args below meth c H locs cells slots Q (F0 m (pc + 3) ls rest)) : W p l e R s m args below meth c H locs cells slots Q (F0 m pc ls (.int (zI a) :: rest)) :=
  lv_if_lt hx hb hd ht (fun h => kt (by rw [zI_0, zI_lt (a := a) (b := 0) ha (by omega)] at h; omega)) (fun h => kf (by rw [zI_0, zI_lt (a := a) (b := 0) ha (by omega)] at h; omega))
theorem zr_icmp_ge (hx : p.tables.exec = Jvm.exec) (hb : c.code = cc) {a b : Int} {off : Int} {tgt : Nat} (hd : decode cc pc = .ok (.if_icmp .ge off, 3)) (ht : (pc : Int) + off = (tgt : Int)) (ha : -2147483648 ≤ a ∧ a ≤ 2147483647) (hb2 : -2147483648 ≤ b ∧ b ≤ 2147483647) (kt : b ≤ a → W p l e R s m args below meth c H locs cells slots Q (F0 m tgt ls rest)) (kf : a < b → W p l e R s m args below meth c H locs cells slots Q (F0 m (pc + 3) ls rest)) : W p l e R s m args below meth c H locs cells slots Q (F0 m pc ls (.int (zI b) :: .int (zI a) :: rest)) :=
  lv_icmp_ge hx hb hd ht (fun h => kt (by rw [zI_le (a := b) (b := a) hb2 ha] at h; omega)) (fun h => kf (by rw [zI_le (a := b) (b := a) hb2 ha] at h; omega))
theorem zr_if_ge (hx : p.tables.exec = Jvm.exec) (hb : c.code = cc) {a : Int} {off : Int} {tgt : Nat} (hd : decode cc pc = .ok (.ifCond .ge off, 3)) (ht : (pc : Int) + off = (tgt : Int)) (ha : -2147483648 ≤ a ∧ a ≤ 2147483647) (kt : 0 ≤ a → W p l e R s m args below meth c H locs cells slots Q (F0 m tgt ls rest)) (kf : a < 0 → W p l e R s m args below meth c H locs cells slots Q (F0 m (pc + 3) ls rest)) : W p l e R s m args below meth c H locs cells slots Q (F0 m pc ls (.int (zI a) :: rest)) :=
  lv_if_ge hx hb hd ht (fun h => kt (by rw [zI_0, zI_le (a := 0) (b := a) (by omega) ha] at h; omega)) (fun h => kf (by rw [zI_0, zI_le (a := 0) (b := a) (by omega) ha] at h; omega))
theorem zr_icmp_gt (hx : p.tables.exec = Jvm.exec) (hb : c.code = cc) {a b : Int} {off : Int} {tgt : Nat} (hd : decode cc pc = .ok (.if_icmp .gt off, 3)) (ht : (pc : Int) + off = (tgt : Int)) (ha : -2147483648 ≤ a ∧ a ≤ 2147483647) (hb2 : -2147483648 ≤ b ∧ b ≤ 2147483647) (kt : b < a → W p l e R s m args below meth c H locs cells slots Q (F0 m tgt ls rest)) (kf : a ≤ b → W p l e R s m args below meth c H locs cells slots Q (F0 m (pc + 3) ls rest)) : W p l e R s m args below meth c H locs cells slots Q (F0 m pc ls (.int (zI b) :: .int (zI a) :: rest)) :=
  lv_icmp_gt hx hb hd ht (fun h => kt (by rw [zI_lt (a := b) (b := a) hb2 ha] at h; omega)) (fun h => kf (by rw [zI_lt (a := b) (b := a) hb2 ha] at h; omega))
theorem zr_if_gt (hx : p.tables.exec = Jvm.exec) (hb : c.code = cc) {a : Int} {off : Int} {tgt : Nat} (hd : decode cc pc = .ok (.ifCond .gt off, 3)) (ht : (pc : Int) + off = (tgt : Int)) (ha : -2147483648 ≤ a ∧ a ≤ 2147483647) (kt : 0 < a → W p l e R s m args below meth c H locs cells slots Q (F0 m tgt ls rest)) (kf : a ≤ 0 → W p l e R s m args below meth c H locs cells slots Q (F0 m (pc + 3) ls rest)) : W p l e R s m args below meth c H locs cells slots Q (F0 m pc ls (.int (zI a) :: rest)) :=
  lv_if_gt hx hb hd ht (fun h => kt (by rw [zI_0, zI_lt (a := 0) (b := a) (by omega) ha] at h; omega)) (fun h => kf (by rw [zI_0, zI_lt (a := 0) (b := a) (by omega) ha] at h; omega))
theorem zr_icmp_le (hx : p.tables.exec = Jvm.exec) (hb : c.code = cc) {a b : Int} {off : Int} {tgt : Nat} (hd : decode cc pc = .ok (.if_icmp .le off, 3)) (ht : (pc : Int) + off = (tgt : Int)) (ha : -2147483648 ≤ a ∧ a ≤ 2147483647) (hb2 : -2147483648 ≤ b ∧ b ≤ 2147483647) (kt : a ≤ b → W p l e R s m args below meth c H locs cells slots Q (F0 m tgt ls rest)) (kf : b < a → W p l e R s m args below meth c H locs cells slots Q (F0 m (pc + 3) ls rest)) : W p l e R s m args below meth c H locs cells slots Q (F0 m pc ls (.int (zI b) :: .int (zI a) :: rest)) :=
  lv_icmp_le hx hb hd ht (fun h => kt (by rw [zI_le (a := a) (b := b) ha hb2] at h; omega)) (fun h => kf (by rw [zI_le (a := a) (b := b) ha hb2] at h; omega))
theorem zr_if_le (hx : p.tables.exec = Jvm.exec) (hb : c.code = cc) {a : Int} {off : Int} {tgt : Nat} (hd : decode cc pc = .ok (.ifCond .le off, 3)) (ht : (pc : Int) + off = (tgt : Int)) (ha : -2147483648 ≤ a ∧ a ≤ 2147483647) (kt : a ≤ 0 → W p l e R s m args below meth c H locs cells slots Q (F0 m tgt ls rest)) (kf : 0 < a → W p l e R s m args below meth c H locs cells slots Q (F0 m (pc + 3) ls rest)) : W p l e R s m args below meth c H locs cells slots Q (F0 m pc ls (.int (zI a) :: rest)) :=
  lv_if_le hx hb hd ht (fun h => kt (by rw [zI_0, zI_le (a := a) (b := 0) ha (by omega)] at h; omega)) (fun h => kf (by rw [zI_0, zI_le (a := a) (b := 0) ha (by omega)] at h; omega))
theorem zr_iinc (hx : p.tables.exec = Jvm.exec) (hb : c.code = cc) {i nL k : Nat} {n x : Int} (z : Int) {lv lv' : List (Nat × Value)} (hd : decode cc pc = .ok (.iinc i n, 3)) (h : lv_has ls nL lv) (hk : lv[k]? = some (i, .int (zI x))) (hz : x + n = z) (hn : i < nL) (hl : (i, Value.int (zI z)) :: lv.filter (fun q => !(q.1 == i) && !(q.1 + 1 == i && q.2.category == 2)) = lv') (kk : ∀ ls' : Array Slot, lv_has ls' nL lv' → W p l e R s m args below meth c H locs cells slots Q (F0 m (pc + 3) ls' rest)) : W p l e R s m args below meth c H locs cells slots Q (F0 m pc ls rest) := lv_iinc hx hb hd h hk (by rw [show Int32.ofInt n = zI n from rfl, zI_add, hz]) hn hl kk
end ZR
section ZA
variable {p : Program} {l : Launch} {e : Env} {R : Room} {s : State} {m : MethodId} {args : Array Value} {below : List Frame} {meth : Method} {c : Code} {H : Heap} {locs : List Loc} {cells slots : Nat} {Q : State → Prop}
variable {cc : ByteArray} {pc : Nat} {ls : Array Slot} {rest : List Value} {D : va_G} {cl : List vw_C} {A : Nat → Prop} {a : Nat} {tys : List (ClassId × FieldType)} {ws : va_W} {H0 : Heap}
/-- one place of a sequence of whole numbers -/
def zU (f : Nat → Nat) (k v : Nat) : Nat → Nat := fun j => if j = k then v else f j
theorem zU_s {f : Nat → Nat} {k v : Nat} : zU f k v k = v := by simp [zU]
theorem zU_n {f : Nat → Nat} {k j v : Nat} (h : j ≠ k) : zU f k v j = f j := by simp [zU, h]
theorem zU_upd (f : Nat → Nat) (k v : Nat) : upd (fun j => zI (f j)) k (zI v) = fun j => zI (zU f k v j) := by
  funext j
  by_cases h : j = k
  · subst h; simp [upd, zU]
  · simp [upd, zU, h]
theorem zU_updL (f : Nat → Nat) (k v : Nat) : vp_updL (fun j => lN (f j)) k (lN v) = fun j => lN (zU f k v j) := by
  funext j
  by_cases h : j = k
  · subst h; simp [vp_updL, zU]
  · simp [vp_updL, zU, h]
theorem zr_iald (hx : p.tables.exec = Jvm.exec) (hb : c.code = cc) (hK : va_K D cl tys s) (hP : va_P D cl ws H) (q0 t0 : Nat) {cA : ClassId} {n : Nat} (f : Nat → Nat) (ha : ws[q0]? = some (a, .inl (cA, n, .inl (fun j => zI (f j))))) (ht : tys[t0]? = some (cA, .int)) {z : Int} (k : Nat) (hz : z = k) (hk : k < n) (hn : n < 2147483648) (hd : decode cc pc = .ok (.iaload, 1)) (kk : W p l e R s m args below meth c H locs cells slots Q (F0 m (pc + 1) ls (.int (zI (f k)) :: rest))) : W p l e R s m args below meth c H locs cells slots Q (F0 m pc ls (.int (zI z) :: .ref a :: rest)) :=
  va_iald hx hb hK hP q0 t0 ha ht (zI_in hz hk hn) hd (zr_top (by rw [zI_cl hz (by omega)]) kk)
theorem zr_bald (hx : p.tables.exec = Jvm.exec) (hb : c.code = cc) (hK : va_K D cl tys s) (hP : va_P D cl ws H) (q0 t0 : Nat) {cA : ClassId} {n : Nat} (f : Nat → Nat) (ha : ws[q0]? = some (a, .inl (cA, n, .inl (fun j => zI (f j))))) (ht : tys[t0]? = some (cA, .byte)) {z : Int} (k : Nat) (hz : z = k) (hk : k < n) (hn : n < 2147483648) (hd : decode cc pc = .ok (.baload, 1)) (kk : W p l e R s m args below meth c H locs cells slots Q (F0 m (pc + 1) ls (.int (zI (f k)) :: rest))) : W p l e R s m args below meth c H locs cells slots Q (F0 m pc ls (.int (zI z) :: .ref a :: rest)) :=
  va_bald hx hb hK hP q0 t0 ha ht (zI_in hz hk hn) hd (zr_top (by rw [zI_cl hz (by omega)]) kk)
theorem zr_lald (hx : p.tables.exec = Jvm.exec) (hb : c.code = cc) (hK : va_K D cl tys s) (hP : va_P D cl ws H) (q0 t0 : Nat) {cA : ClassId} {n : Nat} (f : Nat → Nat) (ha : ws[q0]? = some (a, .inl (cA, n, .inr (.inl (fun j => lN (f j)))))) (ht : tys[t0]? = some (cA, .long)) {z : Int} (k : Nat) (hz : z = k) (hk : k < n) (hn : n < 2147483648) (hd : decode cc pc = .ok (.laload, 1)) (kk : W p l e R s m args below meth c H locs cells slots Q (F0 m (pc + 1) ls (.long (lN (f k)) :: rest))) : W p l e R s m args below meth c H locs cells slots Q (F0 m pc ls (.int (zI z) :: .ref a :: rest)) :=
  va_lald hx hb hK hP q0 t0 ha ht (zI_in hz hk hn) hd (zr_topl (by rw [zI_cl hz (by omega)]) kk)
theorem zr_iast (hx : p.tables.exec = Jvm.exec) (hb : c.code = cc) (hK : va_K D cl tys s) (hP : va_P D cl ws H) (hD : va_D A ws) (hS : va_S A H0 H locs) (q0 t0 : Nat) {cA : ClassId} {n : Nat} (f : Nat → Nat) (ha : ws[q0]? = some (a, .inl (cA, n, .inl (fun j => zI (f j))))) (ht : tys[t0]? = some (cA, .int)) {z : Int} {v : Int} (k w : Nat) (hz : z = k) (hk : k < n) (hn : n < 2147483648) (hv : v = (w : Int)) (hd : decode cc pc = .ok (.iastore, 1))
    (kk : ∀ (H1 : Heap) (locs1 : List Loc), va_P D cl (ws.set q0 (a, .inl (cA, n, .inl (fun j => zI (zU f k w j))))) H1 → va_D A (ws.set q0 (a, .inl (cA, n, .inl (fun j => zI (zU f k w j))))) → va_S A H0 H1 locs1 → W p l e R s m args below meth c H1 locs1 cells slots Q (F0 m (pc + 1) ls rest)) : W p l e R s m args below meth c H locs cells slots Q (F0 m pc ls (.int (zI v) :: .int (zI z) :: .ref a :: rest)) := by
  subst hv
  refine va_iast hx hb hK hP hD hS q0 t0 ha ht (zI_in hz hk hn) hd (fun H1 locs1 h1 h2 h3 => kk H1 locs1 ?_ ?_ h3)
  · rw [zI_cl hz (by omega), zU_upd] at h1; exact h1
  · rw [zI_cl hz (by omega), zU_upd] at h2; exact h2
theorem zr_bast (hx : p.tables.exec = Jvm.exec) (hb : c.code = cc) (hK : va_K D cl tys s) (hP : va_P D cl ws H) (hD : va_D A ws) (hS : va_S A H0 H locs) (q0 t0 : Nat) {cA : ClassId} {n : Nat} (f : Nat → Nat) (ha : ws[q0]? = some (a, .inl (cA, n, .inl (fun j => zI (f j))))) (ht : tys[t0]? = some (cA, .byte)) {z : Int} {v : Int} (k w : Nat) (hz : z = k) (hk : k < n) (hn : n < 2147483648) (hw : w < 128) (hv : v = (w : Int)) (hd : decode cc pc = .ok (.bastore, 1))
    (kk : ∀ (H1 : Heap) (locs1 : List Loc), va_P D cl (ws.set q0 (a, .inl (cA, n, .inl (fun j => zI (zU f k w j))))) H1 → va_D A (ws.set q0 (a, .inl (cA, n, .inl (fun j => zI (zU f k w j))))) → va_S A H0 H1 locs1 → W p l e R s m args below meth c H1 locs1 cells slots Q (F0 m (pc + 1) ls rest)) : W p l e R s m args below meth c H locs cells slots Q (F0 m pc ls (.int (zI v) :: .int (zI z) :: .ref a :: rest)) := by
  subst hv
  refine va_bast hx hb hK hP hD hS q0 t0 ha ht (zI_in hz hk hn) hd (fun H1 locs1 h1 h2 h3 => kk H1 locs1 ?_ ?_ h3)
  · rw [zI_cl hz (by omega), vp_nar_byte, zI_byte (by omega), zU_upd] at h1; exact h1
  · rw [zI_cl hz (by omega), vp_nar_byte, zI_byte (by omega), zU_upd] at h2; exact h2
theorem zr_last (hx : p.tables.exec = Jvm.exec) (hb : c.code = cc) (hK : va_K D cl tys s) (hP : va_P D cl ws H) (hD : va_D A ws) (hS : va_S A H0 H locs) (q0 t0 : Nat) {cA : ClassId} {n : Nat} (f : Nat → Nat) (ha : ws[q0]? = some (a, .inl (cA, n, .inr (.inl (fun j => lN (f j)))))) (ht : tys[t0]? = some (cA, .long)) {z : Int} {v : Int64} (k w : Nat) (hz : z = k) (hk : k < n) (hn : n < 2147483648) (hv : v = lN w) (hd : decode cc pc = .ok (.lastore, 1))
    (kk : ∀ (H1 : Heap) (locs1 : List Loc), va_P D cl (ws.set q0 (a, .inl (cA, n, .inr (.inl (fun j => lN (zU f k w j)))))) H1 → va_D A (ws.set q0 (a, .inl (cA, n, .inr (.inl (fun j => lN (zU f k w j)))))) → va_S A H0 H1 locs1 → W p l e R s m args below meth c H1 locs1 cells slots Q (F0 m (pc + 1) ls rest)) : W p l e R s m args below meth c H locs cells slots Q (F0 m pc ls (.long v :: .int (zI z) :: .ref a :: rest)) := by
  subst hv
  refine va_last hx hb hK hP hD hS q0 t0 ha ht (zI_in hz hk hn) hd (fun H1 locs1 h1 h2 h3 => kk H1 locs1 ?_ ?_ h3)
  · rw [zI_cl hz (by omega), zU_updL] at h1; exact h1
  · rw [zI_cl hz (by omega), zU_updL] at h2; exact h2
end ZA
end
section
set_option maxRecDepth 100000
/-! THE PLAIN LAW, without the program. Sorts: 0 choices, 1 orders, 2 groupings, 3 nestings, 4 parts. A beginning of i items x 0, .. x (i-1) is summed up by one number ko_tau s x i. -/
def ko_F : Nat → Nat := fun j => [1, 1, 2, 6, 24, 120, 720, 5040].getD j 0
def ko_B : Nat → Nat := fun j => [1, 0, 0, 0, 0, 0, 0, 0, 1, 1, 0, 0, 0, 0, 0, 0, 1, 2, 1, 0, 0, 0, 0, 0, 1, 3, 3, 1, 0, 0, 0, 0, 1, 4, 6, 4, 1, 0, 0, 0, 1, 5, 10, 10, 5, 1, 0, 0, 1, 6, 15, 20, 15, 6, 1, 0, 1, 7, 21, 35, 35, 21, 7, 1].getD j 0
def ko_G : Nat → Nat := fun j => [1, 1, 1, 1, 1, 1, 1, 1, 1, 1, 1, 1, 1, 1, 1, 1, 1, 2, 3, 4, 5, 6, 7, 8, 9, 10, 11, 12, 13, 14, 15, 0, 2, 5, 10, 17, 26, 37, 50, 65, 82, 101, 122, 145, 170, 197, 0, 0, 5, 15, 37, 77, 141, 235, 365, 537, 757, 1031, 1365, 1765, 2237, 0, 0, 0, 15, 52, 151, 372, 799, 1540, 2727, 4516, 7087, 10644, 15415, 21652, 0, 0, 0, 0, 52, 203, 674, 1915, 4736, 10427, 20878, 38699, 67340, 111211, 175802, 0, 0, 0, 0, 0, 203, 877, 3263, 10481, 29371, 73013, 163967, 338233, 649931, 1176701, 0, 0, 0, 0, 0, 0, 877, 4140, 17007, 60814, 190497, 529032, 1322035, 3017562, 6376149, 0, 0, 0, 0, 0, 0, 0].getD j 0
def ko_N : Nat → Nat := fun j => [1, 0, 0, 0, 0, 0, 0, 0, 1, 1, 0, 0, 0, 0, 0, 0, 1, 2, 2, 0, 0, 0, 0, 0, 1, 3, 5, 5, 0, 0, 0, 0, 1, 4, 9, 14, 14, 0, 0, 0, 1, 5, 14, 28, 42, 42, 0, 0, 1, 6, 20, 48, 90, 132, 132, 0, 1, 7, 27, 75, 165, 297, 429, 429].getD j 0
/-- the number behind k rounds of waysToSplit's loop -/
def ko_ways (a : Nat) : Nat → Nat
  | 0 => 1
  | k + 1 => ko_ways a k * (a + (k + 1)) / (k + 1)
def ko_nx (s t y : Nat) : Nat := match s with
  | 0 => y + 1
  | 1 => t ||| 2 ^ y
  | 2 => max t (y + 1)
  | _ => t + y
def ko_tau (s : Nat) (x : Nat → Nat) : Nat → Nat
  | 0 => 0
  | i + 1 => ko_nx s (ko_tau s x i) (x i)
/-- the reference's goesOn -/
def ko_ok (s n L i t y : Nat) : Bool := match s with
  | 0 => decide (y < n) && decide (t ≤ y)
  | 1 => decide (y < n) && !(t.testBit y)
  | 2 => decide (y ≤ t)
  | 3 => decide (y ≤ 1) && (decide (t + y ≤ n) && decide (i + 1 ≤ 2 * (t + y)))
  | _ => decide (t + y ≤ n) && (decide (i + 1 < L) || decide (t + y = n))
/-- the class's mayCome -/
def ko_may (s n i t y : Nat) : Bool := match s with
  | 0 => decide (y < n) && decide (t ≤ y)
  | 1 => decide (y < n) && !(t.testBit y)
  | 2 => decide (y ≤ t)
  | 3 => decide (y ≤ 1) && (if y = 1 then decide (t < n) else decide (i < 2 * t))
  | _ => decide (y ≤ n)
/-- the class's goingOn -/
def ko_g (s n L i t : Nat) : Nat := match s with
  | 0 => if n < (L - i) + t then 0 else ko_B (8 * (n - t) + (L - i))
  | 1 => ko_F (L - i)
  | 2 => ko_G (16 * (L - i) + t)
  | 3 => ko_N (8 * (n + t - i) + (n - t))
  | _ => if n < t then 0 else if L = i then (if t = n then 1 else 0) else ko_ways (n - t) (L - i - 1)
/-- the class's withItem -/
def ko_wi (s n L i t y : Nat) : Nat := if ko_may s n i t y = true then ko_g s n L (i + 1) (ko_nx s t y) else 0
def ko_S (s n L i t : Nat) : Nat → Nat
  | 0 => 0
  | m + 1 => ko_S s n L i t m + ko_wi s n L i t m
def ko_len (s n k : Nat) : Nat := match s with
  | 0 => k
  | 1 => n
  | 2 => n
  | 3 => 2 * n
  | _ => k
def ko_cfg (s n L : Nat) : Bool := decide (s < 5) && (decide (1 ≤ n) && (decide (n ≤ 7) && (match s with
  | 0 => decide (L ≤ n)
  | 1 => decide (L = n)
  | 2 => decide (L = n)
  | 3 => decide (L = 2 * n)
  | _ => decide (L ≤ n))))
def ko_pop (t : Nat) : Nat := (List.range 8).foldl (fun a b => a + (t >>> b) % 2) 0
def ko_rch (s n L i t : Nat) : Bool := match s with
  | 0 => decide (t ≤ n)
  | 1 => decide (t < 2 ^ n) && decide (ko_pop t = i)
  | 2 => decide (t ≤ i)
  | 3 => decide (t ≤ n) && (decide (t ≤ i) && decide (i ≤ 2 * t))
  | _ => decide (t ≤ n) && (decide (i < L) || decide (t = n))
/-- what is checked at one place: withItem's number is that of the objects behind, and they sum up -/
def ko_chk (s n L i t : Nat) : Bool := !(ko_rch s n L i t) || ((List.range 8).all (fun y => (ko_wi s n L i t y == if ko_ok s n L i t y then ko_g s n L (i + 1) (ko_nx s t y) else 0) && (!(ko_ok s n L i t y) || ko_rch s n L (i + 1) (ko_nx s t y))) && ko_g s n L i t == ko_S s n L i t 8)
def ko_end (s n L t : Nat) : Bool := !(ko_rch s n L L t) || ko_g s n L L t == 1 || (s == 4 && L == 0)
def ko_all (s b : Nat) : Bool := (List.range 8).all fun n => (List.range 15).all fun L => !(ko_cfg s n L) || ((List.range L).all fun i => (List.range b).all fun t => ko_chk s n L i t) && ((List.range b).all fun t => ko_end s n L t)
theorem ko_all0 : ko_all 0 8 = true := by decide +kernel
theorem ko_all1 : ko_all 1 128 = true := by decide +kernel
theorem ko_all2 : ko_all 2 8 = true := by decide +kernel
theorem ko_all3 : ko_all 3 8 = true := by decide +kernel
theorem ko_all4 : ko_all 4 8 = true := by decide +kernel
theorem ko_cfg_b {s n L : Nat} (h : ko_cfg s n L = true) : s < 5 ∧ 1 ≤ n ∧ n ≤ 7 ∧ L ≤ 14 ∧ (s ≠ 3 → L ≤ n) ∧ (s = 3 → L = 2 * n) ∧ (s = 1 → L = n) ∧ (s = 2 → L = n) := by
  unfold ko_cfg at h
  simp only [Bool.and_eq_true, decide_eq_true_eq] at h
  obtain ⟨h1, h2, h3, h4⟩ := h
  have : s = 0 ∨ s = 1 ∨ s = 2 ∨ s = 3 ∨ s = 4 := by omega
  rcases this with rfl | rfl | rfl | rfl | rfl <;> simp only [decide_eq_true_eq] at h4 <;> omega
theorem ko_all_of {s b : Nat} (h : ko_all s b = true) {n L : Nat} (hc : ko_cfg s n L = true) : (∀ i t, i < L → t < b → ko_chk s n L i t = true) ∧ (∀ t, t < b → ko_end s n L t = true) := by
  obtain ⟨-, -, h3, h4, -⟩ := ko_cfg_b hc
  unfold ko_all at h
  have h1 := List.all_eq_true.mp h n (List.mem_range.mpr (by omega))
  have h2 := List.all_eq_true.mp h1 L (List.mem_range.mpr (by omega))
  rw [hc] at h2
  simp only [Bool.not_true, Bool.false_or, Bool.and_eq_true] at h2
  refine ⟨fun i t hi ht => ?_, fun t ht => List.all_eq_true.mp h2.2 t (List.mem_range.mpr ht)⟩
  exact List.all_eq_true.mp (List.all_eq_true.mp h2.1 i (List.mem_range.mpr hi)) t (List.mem_range.mpr ht)
theorem ko_rch_b {s n L i t : Nat} (hc : ko_cfg s n L = true) (hi : i ≤ L) (h : ko_rch s n L i t = true) : (s ≠ 1 → t < 8) ∧ (s = 1 → t < 128) := by
  obtain ⟨h1, h2, h3, h4, h5, h6, h7, h8⟩ := ko_cfg_b hc
  have : s = 0 ∨ s = 1 ∨ s = 2 ∨ s = 3 ∨ s = 4 := by omega
  rcases this with rfl | rfl | rfl | rfl | rfl <;> simp only [ko_rch, Bool.and_eq_true, decide_eq_true_eq] at h
  · omega
  · have := Nat.pow_le_pow_right (show 0 < 2 by omega) h3
    omega
  · omega
  · omega
  · omega
theorem ko_chk_of {s n L i t : Nat} (hc : ko_cfg s n L = true) (hi : i < L) (hr : ko_rch s n L i t = true) : ko_chk s n L i t = true := by
  obtain ⟨h1, h2⟩ := ko_rch_b hc (Nat.le_of_lt hi) hr
  obtain ⟨hs, -⟩ := ko_cfg_b hc
  have : s = 0 ∨ s = 1 ∨ s = 2 ∨ s = 3 ∨ s = 4 := by omega
  rcases this with rfl | rfl | rfl | rfl | rfl
  · exact (ko_all_of ko_all0 hc).1 i t hi (h1 (by decide))
  · exact (ko_all_of ko_all1 hc).1 i t hi (h2 rfl)
  · exact (ko_all_of ko_all2 hc).1 i t hi (h1 (by decide))
  · exact (ko_all_of ko_all3 hc).1 i t hi (h1 (by decide))
  · exact (ko_all_of ko_all4 hc).1 i t hi (h1 (by decide))
theorem ko_end_of {s n L t : Nat} (hc : ko_cfg s n L = true) (hl : s = 4 → 0 < L) (hr : ko_rch s n L L t = true) : ko_g s n L L t = 1 := by
  obtain ⟨h1, h2⟩ := ko_rch_b hc (Nat.le_refl L) hr
  obtain ⟨hs, -⟩ := ko_cfg_b hc
  have : s = 0 ∨ s = 1 ∨ s = 2 ∨ s = 3 ∨ s = 4 := by omega
  have he : ko_end s n L t = true := by
    rcases this with rfl | rfl | rfl | rfl | rfl
    · exact (ko_all_of ko_all0 hc).2 t (h1 (by decide))
    · exact (ko_all_of ko_all1 hc).2 t (h2 rfl)
    · exact (ko_all_of ko_all2 hc).2 t (h1 (by decide))
    · exact (ko_all_of ko_all3 hc).2 t (h1 (by decide))
    · exact (ko_all_of ko_all4 hc).2 t (h1 (by decide))
  unfold ko_end at he
  rw [hr] at he
  simp only [Bool.not_true, Bool.false_or, Bool.or_eq_true, Bool.and_eq_true, beq_iff_eq] at he
  rcases he with he | ⟨h3, h4⟩
  · exact he
  · have := hl h3
    omega
/-- withItem's number -/
theorem ko_wi_eq {s n L i t y : Nat} (hc : ko_cfg s n L = true) (hi : i < L) (hr : ko_rch s n L i t = true) (hy : y < 8) : ko_wi s n L i t y = if ko_ok s n L i t y = true then ko_g s n L (i + 1) (ko_nx s t y) else 0 := by
  have h := ko_chk_of hc hi hr
  unfold ko_chk at h
  rw [hr] at h
  simp only [Bool.not_true, Bool.false_or, Bool.and_eq_true, List.all_eq_true, beq_iff_eq] at h
  exact (h.1 y (List.mem_range.mpr hy)).1
theorem ko_rch_nx {s n L i t y : Nat} (hc : ko_cfg s n L = true) (hi : i < L) (hr : ko_rch s n L i t = true) (hy : y < 8) (hk : ko_ok s n L i t y = true) : ko_rch s n L (i + 1) (ko_nx s t y) = true := by
  have h := ko_chk_of hc hi hr
  unfold ko_chk at h
  rw [hr] at h
  simp only [Bool.not_true, Bool.false_or, Bool.and_eq_true, List.all_eq_true, beq_iff_eq] at h
  have h2 := (h.1 y (List.mem_range.mpr hy)).2
  rw [hk] at h2
  simpa using h2
theorem ko_g_sum {s n L i t : Nat} (hc : ko_cfg s n L = true) (hi : i < L) (hr : ko_rch s n L i t = true) : ko_g s n L i t = ko_S s n L i t 8 := by
  have h := ko_chk_of hc hi hr
  unfold ko_chk at h
  rw [hr] at h
  simp only [Bool.not_true, Bool.false_or, Bool.and_eq_true, beq_iff_eq] at h
  exact h.2
/-! the objects as numbers to base 8, their ranks -/
def ko_cod (x : Nat → Nat) : Nat → Nat
  | 0 => 0
  | i + 1 => 8 * ko_cod x i + x i
def ko_VP (s n L : Nat) (x : Nat → Nat) (i : Nat) : Prop := ∀ j, j < i → x j < 8 ∧ ko_ok s n L j (ko_tau s x j) (x j) = true
def ko_rk (s n L : Nat) (x : Nat → Nat) : Nat → Nat
  | 0 => 0
  | i + 1 => ko_rk s n L x i + ko_S s n L i (ko_tau s x i) (x i)
theorem ko_VP_0 {s n L : Nat} {x : Nat → Nat} : ko_VP s n L x 0 := fun j h => absurd h (Nat.not_lt_zero j)
theorem ko_VP_s {s n L i : Nat} {x : Nat → Nat} (h : ko_VP s n L x i) (h8 : x i < 8) (hk : ko_ok s n L i (ko_tau s x i) (x i) = true) : ko_VP s n L x (i + 1) := by
  intro j hj
  by_cases e : j = i
  · subst e; exact ⟨h8, hk⟩
  · exact h j (by omega)
theorem ko_VP_le {s n L i j : Nat} {x : Nat → Nat} (h : ko_VP s n L x i) (hj : j ≤ i) : ko_VP s n L x j := fun k hk => h k (by omega)
theorem ko_rch_0 {s n L : Nat} (hc : ko_cfg s n L = true) (hl : s = 4 → 0 < L) : ko_rch s n L 0 0 = true := by
  obtain ⟨h1, h2, h3, h4, h5, h6, h7, h8⟩ := ko_cfg_b hc
  have : s = 0 ∨ s = 1 ∨ s = 2 ∨ s = 3 ∨ s = 4 := by omega
  rcases this with rfl | rfl | rfl | rfl | rfl
  · simp [ko_rch]
  · simp [ko_rch, show ko_pop 0 = 0 from by decide, Nat.two_pow_pos]
  · simp [ko_rch]
  · simp [ko_rch]
  · have := hl rfl
    simp [ko_rch, this]
theorem ko_rch_VP {s n L : Nat} {x : Nat → Nat} (hc : ko_cfg s n L = true) (hl : s = 4 → 0 < L) : ∀ i, i ≤ L → ko_VP s n L x i → ko_rch s n L i (ko_tau s x i) = true := by
  intro i
  induction i with
  | zero => intro _ _; exact ko_rch_0 hc hl
  | succ i ih =>
    intro hi h
    exact ko_rch_nx hc (by omega) (ih (by omega) (ko_VP_le h (by omega))) (h i (by omega)).1 (h i (by omega)).2
/-- only the items before the place matter -/
theorem ko_tau_ext {s : Nat} {x x2 : Nat → Nat} : ∀ i, (∀ j, j < i → x j = x2 j) → ko_tau s x i = ko_tau s x2 i := by
  intro i
  induction i with
  | zero => intro _; rfl
  | succ i ih =>
    intro h
    show ko_nx s _ _ = ko_nx s _ _
    rw [ih (fun j hj => h j (by omega)), h i (by omega)]
theorem ko_cod_ext {x x2 : Nat → Nat} : ∀ i, (∀ j, j < i → x j = x2 j) → ko_cod x i = ko_cod x2 i := by
  intro i
  induction i with
  | zero => intro _; rfl
  | succ i ih =>
    intro h
    show 8 * _ + _ = 8 * _ + _
    rw [ih (fun j hj => h j (by omega)), h i (by omega)]
theorem ko_VP_ext {s n L : Nat} {x x2 : Nat → Nat} {i : Nat} (h : ∀ j, j < i → x j = x2 j) (hv : ko_VP s n L x i) : ko_VP s n L x2 i := by
  intro j hj
  have h1 := hv j hj
  rw [ko_tau_ext j (fun k hk => h k (by omega)), h j hj] at h1
  exact h1
theorem ko_rk_ext {s n L : Nat} {x x2 : Nat → Nat} : ∀ i, (∀ j, j < i → x j = x2 j) → ko_rk s n L x i = ko_rk s n L x2 i := by
  intro i
  induction i with
  | zero => intro _; rfl
  | succ i ih =>
    intro h
    show _ + _ = _ + _
    rw [ih (fun j hj => h j (by omega)), ko_tau_ext i (fun j hj => h j (by omega)), h i (by omega)]
theorem ko_S_mono {s n L i t : Nat} {a b : Nat} (h : a ≤ b) : ko_S s n L i t a ≤ ko_S s n L i t b := by
  induction h with
  | refl => exact Nat.le_refl _
  | step _ ih => exact Nat.le_trans ih (Nat.le_add_right _ _)
end
section
set_option maxRecDepth 100000
/-! the list of all objects, as a tree: what stands behind a beginning c of i items with d places left -/
def ko_sub (s n L : Nat) : Nat → Nat → Nat → Nat → List Nat
  | 0, _, _, c => [c]
  | d + 1, i, t, c => (List.range 8).flatMap (fun y => if ko_ok s n L i t y = true then ko_sub s n L d (i + 1) (ko_nx s t y) (8 * c + y) else [])
def ko_blk (s n L d i t c y : Nat) : List Nat := if ko_ok s n L i t y = true then ko_sub s n L d (i + 1) (ko_nx s t y) (8 * c + y) else []
theorem ko_sub_s (s n L d i t c : Nat) : ko_sub s n L (d + 1) i t c = (List.range 8).flatMap (ko_blk s n L d i t c) := rfl
theorem ko_pre_len {s n L d i t c : Nat} (hlen : ∀ y, y < 8 → (ko_blk s n L d i t c y).length = ko_wi s n L i t y) : ∀ m, m ≤ 8 → ((List.range m).flatMap (ko_blk s n L d i t c)).length = ko_S s n L i t m := by
  intro m
  induction m with
  | zero => intro _; rfl
  | succ m ih =>
    intro hm
    rw [List.range_succ, List.flatMap_append, List.length_append, ih (by omega)]
    simp only [List.flatMap_cons, List.flatMap_nil, List.append_nil]
    rw [hlen m (by omega)]
    rfl
theorem ko_sub_len {s n L : Nat} (hc : ko_cfg s n L = true) (hl : s = 4 → 0 < L) : ∀ d i t c, d + i = L → ko_rch s n L i t = true → (ko_sub s n L d i t c).length = ko_g s n L i t := by
  intro d
  induction d with
  | zero =>
    intro i t c hd hr
    have e : i = L := by omega
    subst e
    rw [ko_end_of hc hl hr]
    rfl
  | succ d ih =>
    intro i t c hd hr
    rw [ko_sub_s, ko_g_sum hc (by omega) hr]
    refine ko_pre_len (fun y hy => ?_) 8 (Nat.le_refl 8)
    rw [ko_wi_eq hc (by omega) hr hy]
    unfold ko_blk
    by_cases hk : ko_ok s n L i t y = true
    · rw [if_pos hk, if_pos hk]
      exact ih (i + 1) _ _ (by omega) (ko_rch_nx hc (by omega) hr hy hk)
    · rw [if_neg hk, if_neg hk]
      rfl
theorem ko_blk_len {s n L : Nat} (hc : ko_cfg s n L = true) (hl : s = 4 → 0 < L) {d i t c : Nat} (hd : d + 1 + i = L) (hr : ko_rch s n L i t = true) : ∀ y, y < 8 → (ko_blk s n L d i t c y).length = ko_wi s n L i t y := by
  intro y hy
  rw [ko_wi_eq hc (by omega) hr hy]
  unfold ko_blk
  by_cases hk : ko_ok s n L i t y = true
  · rw [if_pos hk, if_pos hk]
    exact ko_sub_len hc hl d (i + 1) _ _ (by omega) (ko_rch_nx hc (by omega) hr hy hk)
  · rw [if_neg hk, if_neg hk]
    rfl
theorem ko_div8 (e d : Nat) : e / 8 ^ (d + 1) = e / 8 ^ d / 8 := by rw [Nat.pow_succ, Nat.div_div_eq_div_mul]
theorem ko_sub_div {s n L : Nat} : ∀ d i t c e, e ∈ ko_sub s n L d i t c → e / 8 ^ d = c := by
  intro d
  induction d with
  | zero =>
    intro i t c e he
    rw [show ko_sub s n L 0 i t c = [c] from rfl, List.mem_singleton] at he
    simp [he]
  | succ d ih =>
    intro i t c e he
    rw [ko_sub_s, List.mem_flatMap] at he
    obtain ⟨y, hy, he⟩ := he
    have hy8 := List.mem_range.mp hy
    unfold ko_blk at he
    by_cases hk : ko_ok s n L i t y = true
    · rw [if_pos hk] at he
      have h1 := ih _ _ _ e he
      rw [ko_div8, h1]
      omega
    · rw [if_neg hk] at he
      exact absurd he List.not_mem_nil
theorem ko_range8 : ∀ y, y < 8 → List.range 8 = List.range y ++ y :: (List.range (7 - y)).map (· + (y + 1)) := by decide +kernel
/-- the list of all objects, cut at a beginning: what comes before it, what begins so, what comes behind -/
theorem ko_split {s n L : Nat} {x : Nat → Nat} (hc : ko_cfg s n L = true) (hl : s = 4 → 0 < L) : ∀ i, i ≤ L → ko_VP s n L x i → ∃ P Q, ko_sub s n L L 0 0 0 = P ++ ko_sub s n L (L - i) i (ko_tau s x i) (ko_cod x i) ++ Q ∧ P.length = ko_rk s n L x i ∧ (∀ e ∈ P, e / 8 ^ (L - i) < ko_cod x i) ∧ (∀ e ∈ Q, ko_cod x i < e / 8 ^ (L - i)) := by
  intro i
  induction i with
  | zero =>
    intro _ _
    exact ⟨[], [], by simp [ko_tau, ko_cod], rfl, fun e h => absurd h List.not_mem_nil, fun e h => absurd h List.not_mem_nil⟩
  | succ i ih =>
    intro hi hv
    obtain ⟨P, Q, h1, h2, h3, h4⟩ := ih (by omega) (ko_VP_le hv (by omega))
    obtain ⟨h8, hk⟩ := hv i (by omega)
    have hr := ko_rch_VP hc hl i (by omega) (ko_VP_le hv (by omega))
    obtain ⟨d, hd⟩ : ∃ d, L - i = d + 1 := ⟨L - i - 1, by omega⟩
    have hd2 : L - (i + 1) = d := by omega
    rw [hd] at h1 h3 h4
    rw [hd2]
    have hblk : ko_blk s n L d i (ko_tau s x i) (ko_cod x i) (x i) = ko_sub s n L d (i + 1) (ko_tau s x (i + 1)) (ko_cod x (i + 1)) := by
      unfold ko_blk
      rw [if_pos hk]
      rfl
    have hdv : ∀ y e, e ∈ ko_blk s n L d i (ko_tau s x i) (ko_cod x i) y → e / 8 ^ d = 8 * ko_cod x i + y := by
      intro y e he
      unfold ko_blk at he
      by_cases hk2 : ko_ok s n L i (ko_tau s x i) y = true
      · rw [if_pos hk2] at he
        exact ko_sub_div _ _ _ _ _ he
      · rw [if_neg hk2] at he
        exact absurd he List.not_mem_nil
    refine ⟨P ++ (List.range (x i)).flatMap (ko_blk s n L d i (ko_tau s x i) (ko_cod x i)), ((List.range (7 - x i)).map (· + (x i + 1))).flatMap (ko_blk s n L d i (ko_tau s x i) (ko_cod x i)) ++ Q, ?_, ?_, ?_, ?_⟩
    · rw [h1, ko_sub_s, ← hblk, ko_range8 (x i) h8, List.flatMap_append, List.flatMap_cons]
      simp only [List.append_assoc]
    · rw [List.length_append, h2, ko_pre_len (ko_blk_len hc hl (by omega) hr) (x i) (by omega)]
      rfl
    · intro e he
      show e / 8 ^ d < 8 * ko_cod x i + x i
      rcases List.mem_append.mp he with h | h
      · have h5 := h3 e h
        rw [ko_div8] at h5
        omega
      · obtain ⟨y, hy, he⟩ := List.mem_flatMap.mp h
        have := List.mem_range.mp hy
        rw [hdv y e he]
        omega
    · intro e he
      show 8 * ko_cod x i + x i < e / 8 ^ d
      rcases List.mem_append.mp he with h | h
      · obtain ⟨y, hy, he⟩ := List.mem_flatMap.mp h
        obtain ⟨z, hz, rfl⟩ := List.mem_map.mp hy
        rw [hdv _ e he]
        omega
      · have h5 := h4 e h
        rw [ko_div8] at h5
        omega
/-- all objects, in order -/
def ko_objs (s n L : Nat) : List Nat := if s = 4 ∧ L = 0 then [] else ko_sub s n L L 0 0 0
theorem ko_objs_live {s n L : Nat} (hl : s = 4 → 0 < L) : ko_objs s n L = ko_sub s n L L 0 0 0 := if_neg (fun h => by have := hl h.1; omega)
theorem ko_objs_len {s n L : Nat} (hc : ko_cfg s n L = true) : (ko_objs s n L).length = ko_g s n L 0 0 := by
  by_cases h : s = 4 ∧ L = 0
  · obtain ⟨rfl, rfl⟩ := h
    obtain ⟨-, h2, -⟩ := ko_cfg_b hc
    have : ¬ (0 = n) := by omega
    simp [ko_objs, ko_g, this]
  · have hl : s = 4 → 0 < L := fun h1 => by
      rcases Nat.eq_zero_or_pos L with h2 | h2
      · exact absurd ⟨h1, h2⟩ h
      · exact h2
    rw [ko_objs_live hl]
    exact ko_sub_len hc hl L 0 0 0 (by omega) (ko_rch_0 hc hl)
/-- at which numbers the objects with a beginning stand -/
theorem ko_where {s n L : Nat} {x : Nat → Nat} (hc : ko_cfg s n L = true) (hl : s = 4 → 0 < L) {i : Nat} (hi : i ≤ L) (hv : ko_VP s n L x i) : ko_rk s n L x i + ko_g s n L i (ko_tau s x i) ≤ (ko_objs s n L).length ∧ ∀ m e, (ko_objs s n L)[m]? = some e → (e / 8 ^ (L - i) = ko_cod x i ↔ ko_rk s n L x i ≤ m ∧ m < ko_rk s n L x i + ko_g s n L i (ko_tau s x i)) := by
  obtain ⟨P, Q, h1, h2, h3, h4⟩ := ko_split hc hl i hi hv
  have hlen := ko_sub_len hc hl (L - i) i (ko_tau s x i) (ko_cod x i) (by omega) (ko_rch_VP hc hl i hi hv)
  rw [ko_objs_live hl, h1]
  refine ⟨by rw [List.length_append, List.length_append, h2, hlen]; omega, fun m e hm => ?_⟩
  rw [List.append_assoc] at hm
  by_cases a : m < P.length
  · rw [List.getElem?_append_left a] at hm
    have := h3 e (List.mem_of_getElem? hm)
    omega
  · rw [List.getElem?_append_right (by omega)] at hm
    by_cases b : m - P.length < (ko_sub s n L (L - i) i (ko_tau s x i) (ko_cod x i)).length
    · rw [List.getElem?_append_left b] at hm
      have := ko_sub_div _ _ _ _ e (List.mem_of_getElem? hm)
      omega
    · rw [List.getElem?_append_right (by omega)] at hm
      have := h4 e (List.mem_of_getElem? hm)
      omega
/-- an object stands at its rank -/
theorem ko_at {s n L : Nat} {x : Nat → Nat} (hc : ko_cfg s n L = true) (hl : s = 4 → 0 < L) (hv : ko_VP s n L x L) : ko_rk s n L x L < (ko_objs s n L).length ∧ (ko_objs s n L)[ko_rk s n L x L]? = some (ko_cod x L) := by
  obtain ⟨h1, h2⟩ := ko_where hc hl (Nat.le_refl L) hv
  rw [ko_end_of hc hl (ko_rch_VP hc hl L (Nat.le_refl L) hv)] at h1 h2
  have hlt : ko_rk s n L x L < (ko_objs s n L).length := by omega
  refine ⟨hlt, ?_⟩
  have h3 := (h2 (ko_rk s n L x L) _ (List.getElem?_eq_getElem hlt)).mpr (by omega)
  rw [List.getElem?_eq_getElem hlt]
  simpa using h3
/-! digits -/
def ko_dig (L c j : Nat) : Nat := c / 8 ^ (L - 1 - j) % 8
theorem ko_cod_div {x : Nat → Nat} : ∀ d i, (∀ j, j < i + d → x j < 8) → ko_cod x (i + d) / 8 ^ d = ko_cod x i := by
  intro d
  induction d with
  | zero => intro i _; simp
  | succ d ih =>
    intro i h
    have e : ko_cod x (i + (d + 1)) / 8 ^ (d + 1) = ko_cod x (i + d) / 8 ^ d := by
      rw [Nat.pow_succ, Nat.mul_comm, ← Nat.div_div_eq_div_mul]
      congr 1
      show (8 * ko_cod x (i + d) + x (i + d)) / 8 = _
      have := h (i + d) (by omega)
      omega
    rw [e]
    exact ih i (fun j hj => h j (by omega))
theorem ko_dig_cod {x : Nat → Nat} {L j : Nat} (h : ∀ j, j < L → x j < 8) (hj : j < L) : ko_dig L (ko_cod x L) j = x j := by
  unfold ko_dig
  have e : ko_cod x L = ko_cod x ((j + 1) + (L - 1 - j)) := by congr 1; omega
  rw [e, ko_cod_div (L - 1 - j) (j + 1) (fun k hk => h k (by omega))]
  show (8 * ko_cod x j + x j) % 8 = x j
  have := h j hj
  omega
theorem ko_cod_lt {x : Nat → Nat} : ∀ i, (∀ j, j < i → x j < 8) → ko_cod x i < 8 ^ i := by
  intro i
  induction i with
  | zero => intro _; exact Nat.one_pos
  | succ i ih =>
    intro h
    have h1 := ih (fun j hj => h j (by omega))
    have h2 := h i (by omega)
    show 8 * ko_cod x i + x i < 8 ^ (i + 1)
    rw [Nat.pow_succ]
    omega
theorem ko_cod_dig : ∀ L c, c < 8 ^ L → ko_cod (ko_dig L c) L = c := by
  have key : ∀ L c i, i ≤ L → c < 8 ^ L → ko_cod (ko_dig L c) i = c / 8 ^ (L - i) := by
    intro L c i
    induction i with
    | zero => intro _ h; show 0 = c / 8 ^ (L - 0); rw [Nat.sub_zero, Nat.div_eq_of_lt h]
    | succ i ih =>
      intro hi h
      show 8 * ko_cod (ko_dig L c) i + c / 8 ^ (L - 1 - i) % 8 = _
      rw [ih (by omega) h, show L - i = (L - (i + 1)) + 1 by omega, ko_div8, show L - 1 - i = L - (i + 1) by omega]
      omega
  intro L c h
  rw [key L c L (Nat.le_refl L) h]
  simp
end
section
set_option maxRecDepth 100000
theorem ko_t4s (x : Nat → Nat) (i : Nat) : ko_tau 4 x (i + 1) = ko_tau 4 x i + x i := rfl
theorem ko_t2s (x : Nat → Nat) (i : Nat) : ko_tau 2 x (i + 1) = max (ko_tau 2 x i) (x i + 1) := rfl
theorem ko_t1s (x : Nat → Nat) (i : Nat) : ko_tau 1 x (i + 1) = ko_tau 1 x i ||| 2 ^ x i := rfl
theorem ko_t0s (x : Nat → Nat) (i : Nat) : ko_tau 0 x (i + 1) = x i + 1 := rfl
theorem ko_t4b {x : Nat → Nat} (h : ∀ j, x j < 8) : ∀ i, ko_tau 4 x i ≤ 7 * i := by
  intro i
  induction i with
  | zero => exact Nat.le_refl _
  | succ i ih => rw [ko_t4s]; have := h i; omega
theorem ko_t34 (x : Nat → Nat) : ∀ i, ko_tau 3 x i = ko_tau 4 x i := by
  intro i
  induction i with
  | zero => rfl
  | succ i ih => show ko_tau 3 x i + x i = ko_tau 4 x i + x i; rw [ih]
theorem ko_t2b {x : Nat → Nat} (h : ∀ j, x j < 8) : ∀ i, ko_tau 2 x i ≤ 8 := by
  intro i
  induction i with
  | zero => exact Nat.zero_le _
  | succ i ih => rw [ko_t2s]; have := h i; omega
theorem ko_or8 : ∀ v, v < 8 → ∀ a, a < 256 → a ||| 2 ^ v < 256 := by decide +kernel
theorem ko_t1b {x : Nat → Nat} (h : ∀ j, x j < 8) : ∀ i, ko_tau 1 x i < 256 := by
  intro i
  induction i with
  | zero => exact (by decide : 0 < 256)
  | succ i ih => exact ko_or8 (x i) (h i) _ ih
theorem ko_waysb : ∀ a, a < 8 → ∀ k, k < 8 → ko_ways a k ≤ 6435 ∧ ko_ways a k * (a + (k + 1)) ≤ 100000 := by decide +kernel
theorem ko_bit : ∀ a, a < 256 → ∀ v, v < 8 → (a / 2 ^ v) % 2 = if a.testBit v = true then 1 else 0 := by decide +kernel
end
section
set_option maxRecDepth 100000
theorem ko_ans1 {b : Bool} (h : b = true) : (1 : Int) = if b = true then 1 else 0 := (if_pos h).symm
theorem ko_ans0 {b : Bool} (h : ¬ b = true) : (0 : Int) = if b = true then 1 else 0 := (if_neg h).symm
theorem ko_may0 {n i t y : Nat} : ko_may 0 n i t y = true ↔ y < n ∧ t ≤ y := by simp [ko_may]
theorem ko_may1 {n i t y : Nat} : ko_may 1 n i t y = true ↔ y < n ∧ t.testBit y = false := by simp [ko_may]
theorem ko_may2 {n i t y : Nat} : ko_may 2 n i t y = true ↔ y ≤ t := by simp [ko_may]
theorem ko_may3 {n i t y : Nat} : ko_may 3 n i t y = true ↔ (y = 1 ∧ t < n) ∨ (y = 0 ∧ i < 2 * t) := by
  by_cases h : y = 1
  · subst h; simp [ko_may]
  · simp only [ko_may, if_neg h, Bool.and_eq_true, decide_eq_true_eq]; omega
theorem ko_may4 {n i t y : Nat} : ko_may 4 n i t y = true ↔ y ≤ n := by simp [ko_may]
theorem ko_t0i (x : Nat → Nat) (i : Nat) : i = 0 ∧ ko_tau 0 x i = 0 ∨ 0 < i ∧ ko_tau 0 x i = x (i - 1) + 1 := by
  cases i with
  | zero => exact Or.inl ⟨rfl, rfl⟩
  | succ i => exact Or.inr ⟨by omega, rfl⟩
theorem ko_bitT {a v : Nat} (ha : a < 256) (hv : v < 8) : ((a / 2 ^ v) % 2 = 1 ∧ a.testBit v = true) ∨ ((a / 2 ^ v) % 2 = 0 ∧ a.testBit v = false) := by
  have h := ko_bit a ha v hv
  by_cases e : a.testBit v = true
  · rw [if_pos e] at h; exact Or.inl ⟨h, e⟩
  · rw [if_neg e] at h; exact Or.inr ⟨h, by simpa using e⟩
end
section
set_option maxRecDepth 100000
theorem zU_back (x : Nat → Nat) (i y : Nat) : zU (zU x i y) i (x i) = x := by
  funext j
  by_cases h : j = i
  · subst h; simp [zU]
  · simp [zU, h]
theorem zU_8 {x : Nat → Nat} {i y : Nat} (h : ∀ j, x j < 8) (hy : y < 8) : ∀ j, zU x i y j < 8 := by
  intro j
  by_cases e : j = i
  · subst e; rw [zU_s]; exact hy
  · rw [zU_n e]; exact h j
theorem ko_tau_zU (s : Nat) (x : Nat → Nat) (i y : Nat) : ko_tau s (zU x i y) (i + 1) = ko_nx s (ko_tau s x i) y := by
  show ko_nx s (ko_tau s (zU x i y) i) (zU x i y i) = _
  rw [zU_s, ko_tau_ext i (fun j hj => zU_n (by omega))]
/-- what goingOn asks of a beginning: only nestings ask anything -/
def ko_pre (s n i t : Nat) : Prop := s = 3 → t ≤ n ∧ t ≤ i ∧ i ≤ 2 * t
theorem ko_pre_rch {s n L i t : Nat} (h : ko_rch s n L i t = true) : ko_pre s n i t := by
  intro e
  subst e
  simp only [ko_rch, Bool.and_eq_true, decide_eq_true_eq] at h
  omega
theorem ko_pre_nx {s n i t y : Nat} (h : ko_pre s n i t) (hm : ko_may s n i t y = true) : ko_pre s n (i + 1) (ko_nx s t y) := by
  intro e
  subst e
  have h1 := h rfl
  have h2 := ko_may3.mp hm
  show t + y ≤ n ∧ t + y ≤ i + 1 ∧ i + 1 ≤ 2 * (t + y)
  omega
end
section
set_option maxRecDepth 100000
theorem zU_self (x : Nat → Nat) (i : Nat) : zU x i (x i) = x := by
  funext j
  by_cases h : j = i
  · subst h; simp [zU]
  · simp [zU, h]
theorem ko_pre_0 (s n : Nat) : ko_pre s n 0 0 := fun _ => ⟨Nat.zero_le n, Nat.le_refl 0, Nat.le_refl 0⟩
theorem ko_live {s n L : Nat} (hc : ko_cfg s n L = true) (h : 0 < ko_g s n L 0 0) : s = 4 → 0 < L := by
  intro e
  subst e
  rcases Nat.eq_zero_or_pos L with h2 | h2
  · subst h2
    obtain ⟨-, h3, -⟩ := ko_cfg_b hc
    have : ko_g 4 n 0 0 0 = 0 := by
      show (if n < 0 then 0 else if 0 = 0 then (if 0 = n then 1 else 0) else ko_ways (n - 0) (0 - 0 - 1)) = 0
      rw [if_neg (by omega), if_pos rfl, if_neg (by omega)]
    omega
  · exact h2
theorem ko_count_le {s n L : Nat} (hc : ko_cfg s n L = true) : ko_g s n L 0 0 ≤ 5040 := by
  have key : ((List.range 5).all fun s => (List.range 8).all fun n => (List.range 15).all fun L => !(ko_cfg s n L) || decide (ko_g s n L 0 0 ≤ 5040)) = true := by decide +kernel
  obtain ⟨h1, h2, h3, h4, -⟩ := ko_cfg_b hc
  have h5 := List.all_eq_true.mp (List.all_eq_true.mp (List.all_eq_true.mp key s (List.mem_range.mpr (by omega))) n (List.mem_range.mpr (by omega))) L (List.mem_range.mpr (by omega))
  rw [hc] at h5
  simpa using h5
theorem ko_step {s n L i t y : Nat} (hc : ko_cfg s n L = true) (hi : i < L) (hr : ko_rch s n L i t = true) (hy : y < 8) (h : 0 < ko_wi s n L i t y) : ko_ok s n L i t y = true ∧ ko_wi s n L i t y = ko_g s n L (i + 1) (ko_nx s t y) := by
  rw [ko_wi_eq hc hi hr hy] at h ⊢
  by_cases hk : ko_ok s n L i t y = true
  · exact ⟨hk, if_pos hk⟩
  · rw [if_neg hk] at h; exact absurd h (by omega)
theorem ko_step2 {s n L i t y : Nat} (hc : ko_cfg s n L = true) (hi : i < L) (hr : ko_rch s n L i t = true) (hy : y < 8) (hk : ko_ok s n L i t y = true) : ko_wi s n L i t y = ko_g s n L (i + 1) (ko_nx s t y) := by
  rw [ko_wi_eq hc hi hr hy, if_pos hk]
theorem ko_VP_zU {s n L i y : Nat} {x : Nat → Nat} (hv : ko_VP s n L x i) (hy : y < 8) (hk : ko_ok s n L i (ko_tau s x i) y = true) : ko_VP s n L (zU x i y) (i + 1) := by
  refine ko_VP_s (ko_VP_ext (fun j hj => (zU_n (by omega)).symm) hv) (by rw [zU_s]; exact hy) ?_
  rw [zU_s, ko_tau_ext (x2 := x) i (fun j hj => zU_n (by omega))]
  exact hk
theorem ko_rk_zU {s n L i y : Nat} {x : Nat → Nat} : ko_rk s n L (zU x i y) (i + 1) = ko_rk s n L x i + ko_S s n L i (ko_tau s x i) y := by
  show ko_rk s n L (zU x i y) i + ko_S s n L i (ko_tau s (zU x i y) i) (zU x i y i) = _
  rw [zU_s, ko_tau_ext (x2 := x) i (fun j hj => zU_n (by omega)), ko_rk_ext (x2 := x) i (fun j hj => zU_n (by omega))]
theorem ko_rk_s {s n L i : Nat} {x : Nat → Nat} : ko_rk s n L x (i + 1) = ko_rk s n L x i + ko_S s n L i (ko_tau s x i) (x i) := rfl
theorem ko_S_s {s n L i t m : Nat} : ko_S s n L i t (m + 1) = ko_S s n L i t m + ko_wi s n L i t m := rfl
/-- one step of go: y is chosen at place i, the rest r goes on -/
theorem ko_go_step {s n L i y r m : Nat} {x : Nat → Nat} (hc : ko_cfg s n L = true) (hl : s = 4 → 0 < L) (hi : i < L) (hv : ko_VP s n L x i) (hy : y < 8) (hm : ko_rk s n L x i + (ko_S s n L i (ko_tau s x i) y + r) = m) (hr : r < ko_wi s n L i (ko_tau s x i) y) :
    ko_VP s n L (zU x i y) (i + 1) ∧ ko_rk s n L (zU x i y) (i + 1) + r = m ∧ r < ko_g s n L (i + 1) (ko_tau s (zU x i y) (i + 1)) := by
  obtain ⟨h1, h2⟩ := ko_step hc hi (ko_rch_VP hc hl i (by omega) hv) hy (by omega)
  refine ⟨ko_VP_zU hv hy h1, ?_, ?_⟩
  · rw [ko_rk_zU]; omega
  · rw [ko_tau_zU, ← h2]; exact hr
/-- the last object behind a beginning is behind a longer one, if nothing greater can come at the place -/
theorem ko_up {s n L i m : Nat} {x : Nat → Nat} (hc : ko_cfg s n L = true) (hl : s = 4 → 0 < L) (hi : i < L) (hv : ko_VP s n L x (i + 1)) (hS : ko_S s n L i (ko_tau s x i) 8 = ko_S s n L i (ko_tau s x i) (x i + 1)) (hm : m + 1 = ko_rk s n L x (i + 1) + ko_g s n L (i + 1) (ko_tau s x (i + 1))) : m + 1 = ko_rk s n L x i + ko_g s n L i (ko_tau s x i) := by
  have hr := ko_rch_VP hc hl i (by omega) (ko_VP_le hv (by omega))
  rw [ko_g_sum hc hi hr, hS, ko_S_s, ko_step2 hc hi hr (hv i (by omega)).1 (hv i (by omega)).2]
  rw [ko_rk_s] at hm
  show m + 1 = _ + (_ + ko_g s n L (i + 1) (ko_tau s x (i + 1)))
  omega
/-- the next object begins with a greater item at the place -/
theorem ko_up2 {s n L i m y : Nat} {x : Nat → Nat} (hc : ko_cfg s n L = true) (hl : s = 4 → 0 < L) (hi : i < L) (hv : ko_VP s n L x (i + 1)) (hy : y < 8) (hS : ko_S s n L i (ko_tau s x i) y = ko_S s n L i (ko_tau s x i) (x i + 1)) (hw : 0 < ko_wi s n L i (ko_tau s x i) y) (hm : m + 1 = ko_rk s n L x (i + 1) + ko_g s n L (i + 1) (ko_tau s x (i + 1))) :
    ko_VP s n L (zU x i y) (i + 1) ∧ ko_rk s n L (zU x i y) (i + 1) = m + 1 ∧ 0 < ko_g s n L (i + 1) (ko_tau s (zU x i y) (i + 1)) := by
  have hv0 := ko_VP_le hv (show i ≤ i + 1 by omega)
  have hr := ko_rch_VP hc hl i (by omega) hv0
  obtain ⟨h1, h2⟩ := ko_step hc hi hr hy hw
  refine ⟨ko_VP_zU hv0 hy h1, ?_, ?_⟩
  · rw [ko_rk_zU, hS, ko_S_s, ko_step2 hc hi hr (hv i (by omega)).1 (hv i (by omega)).2]
    rw [ko_rk_s] at hm
    have : ko_nx s (ko_tau s x i) (x i) = ko_tau s x (i + 1) := rfl
    rw [this]
    omega
  · rw [ko_tau_zU, ← h2]; exact hw
/-- filling with the smallest -/
theorem ko_fill0 {s n L i y m : Nat} {x : Nat → Nat} (hc : ko_cfg s n L = true) (hl : s = 4 → 0 < L) (hi : i < L) (hv : ko_VP s n L x i) (hy : y < 8) (hS : ko_S s n L i (ko_tau s x i) y = 0) (hw : 0 < ko_wi s n L i (ko_tau s x i) y) (hm : ko_rk s n L x i = m) :
    ko_VP s n L (zU x i y) (i + 1) ∧ ko_rk s n L (zU x i y) (i + 1) = m ∧ 0 < ko_g s n L (i + 1) (ko_tau s (zU x i y) (i + 1)) := by
  have hr := ko_rch_VP hc hl i (by omega) hv
  obtain ⟨h1, h2⟩ := ko_step hc hi hr hy hw
  refine ⟨ko_VP_zU hv hy h1, ?_, ?_⟩
  · rw [ko_rk_zU, hS]; omega
  · rw [ko_tau_zU, ← h2]; exact hw
/-- filling with the greatest -/
theorem ko_fill9 {s n L i y m : Nat} {x : Nat → Nat} (hc : ko_cfg s n L = true) (hl : s = 4 → 0 < L) (hi : i < L) (hv : ko_VP s n L x i) (hy : y < 8) (hS : ko_S s n L i (ko_tau s x i) (y + 1) = ko_S s n L i (ko_tau s x i) 8) (hw : 0 < ko_wi s n L i (ko_tau s x i) y) (hm : m + 1 = ko_rk s n L x i + ko_g s n L i (ko_tau s x i)) :
    ko_VP s n L (zU x i y) (i + 1) ∧ m + 1 = ko_rk s n L (zU x i y) (i + 1) + ko_g s n L (i + 1) (ko_tau s (zU x i y) (i + 1)) ∧ 0 < ko_g s n L (i + 1) (ko_tau s (zU x i y) (i + 1)) := by
  have hr := ko_rch_VP hc hl i (by omega) hv
  obtain ⟨h1, h2⟩ := ko_step hc hi hr hy hw
  refine ⟨ko_VP_zU hv hy h1, ?_, ?_⟩
  · rw [ko_rk_zU, ko_tau_zU, ← h2]
    rw [ko_g_sum hc hi hr, ← hS, ko_S_s] at hm
    omega
  · rw [ko_tau_zU, ← h2]; exact hw
/-- one step of previous: the object before begins with a smaller item at the place -/
theorem ko_dn2 {s n L i m y : Nat} {x : Nat → Nat} (hc : ko_cfg s n L = true) (hl : s = 4 → 0 < L) (hi : i < L) (hv : ko_VP s n L x (i + 1)) (hy : y < x i) (hS : ko_S s n L i (ko_tau s x i) (y + 1) = ko_S s n L i (ko_tau s x i) (x i)) (hw : 0 < ko_wi s n L i (ko_tau s x i) y) (hm : m = ko_rk s n L x (i + 1)) :
    ko_VP s n L (zU x i y) (i + 1) ∧ m = ko_rk s n L (zU x i y) (i + 1) + ko_g s n L (i + 1) (ko_tau s (zU x i y) (i + 1)) ∧ 0 < ko_g s n L (i + 1) (ko_tau s (zU x i y) (i + 1)) := by
  have hv0 := ko_VP_le hv (show i ≤ i + 1 by omega)
  have hr := ko_rch_VP hc hl i (by omega) hv0
  have h8 := (hv i (by omega)).1
  obtain ⟨h1, h2⟩ := ko_step hc hi hr (by omega) hw
  refine ⟨ko_VP_zU hv0 (by omega) h1, ?_, ?_⟩
  · rw [ko_rk_zU, ko_tau_zU, ← h2, hm, ko_rk_s, ← hS, ko_S_s]
    omega
  · rw [ko_tau_zU, ← h2]; exact hw
/-- what holds of a RankedObjects between two calls -/
def ko_inv (u : Nat × Nat × Int × Nat × Int × (Nat → Nat) × (Nat → Nat)) : Prop := ko_cfg u.1 u.2.1 u.2.2.2.1 = true ∧ (∀ j, u.2.2.2.2.2.1 j < 8) ∧ (∀ j, u.2.2.2.2.2.2 j < 8) ∧ ((ko_g u.1 u.2.1 u.2.2.2.1 0 0 = 0 ∧ u.2.2.2.2.1 = -2) ∨ (0 < ko_g u.1 u.2.1 u.2.2.2.1 0 0 ∧ ko_VP u.1 u.2.1 u.2.2.2.1 u.2.2.2.2.2.1 u.2.2.2.1 ∧ u.2.2.2.2.1 = (ko_rk u.1 u.2.1 u.2.2.2.1 u.2.2.2.2.2.1 u.2.2.2.1 : Nat)))
end
section
set_option maxRecDepth 100000
/-! THE WORLD OF RankedObjects: one object and its six arrays. E: their addresses (0 the object, 5 .. 10 the arrays by their fields' places), the classes byte[] and int[], the tables' numbers. -/
abbrev vwCl : List vw_C := [(RX0, TX0, 11), (RX1, TX1, 7)]
abbrev EX : Type := (Nat → Nat) × (ClassId × ClassId) × va_G
/-- sort, size, chosen, length, current, items, other -/
abbrev SX : Type := Nat × Nat × Int × Nat × Int × (Nat → Nat) × (Nat → Nat)
abbrev tyX (E : EX) : List (ClassId × FieldType) := [(E.2.1.1, .byte), (E.2.1.2, .int)]
abbrev fsX (E : EX) (u : SX) : List Value := [.int (zI u.1), .int (zI u.2.1), .int (zI u.2.2.1), .int (zI u.2.2.2.1), .int (zI u.2.2.2.2.1), .ref (E.1 5), .ref (E.1 6), .ref (E.1 7), .ref (E.1 8), .ref (E.1 9), .ref (E.1 10)]
abbrev wX (E : EX) (u : SX) : va_W := [(E.1 0, .inr (0, fsX E u)), (E.1 5, .inl (E.2.1.1, 14, .inl (fun j => zI (u.2.2.2.2.2.1 j)))), (E.1 6, .inl (E.2.1.1, 14, .inl (fun j => zI (u.2.2.2.2.2.2 j)))), (E.1 7, .inl (E.2.1.2, 64, .inl (fun j => zI (ko_B j)))), (E.1 8, .inl (E.2.1.2, 128, .inl (fun j => zI (ko_G j)))), (E.1 9, .inl (E.2.1.2, 64, .inl (fun j => zI (ko_N j)))), (E.1 10, .inl (E.2.1.2, 8, .inl (fun j => zI (ko_F j))))]
/-- the world stands in the heap H, and nothing else has changed -/
def HX (E : EX) (s : State) (A : Nat → Prop) (u : SX) (H : Heap) (locs : List Loc) : Prop := va_P E.2.2 vwCl (wX E u) H ∧ va_D A (wX E u) ∧ va_S A s.heap H locs
def BX (E : EX) (A : Nat → Prop) (u : SX) (t : State) : Prop := va_P E.2.2 vwCl (wX E u) t.heap ∧ va_K E.2.2 vwCl (tyX E) t ∧ va_D A (wX E u)
/-- what holds all through a method's run -/
def FX (p : Program) (s : State) (m : MethodId) (meth : Method) (c : Code) (cc : ByteArray) (nL : Nat) (ret : Option FieldType) (args : Array Value) (A : Nat → Prop) (E : EX) : Prop :=
  p.tables.exec = Jvm.exec ∧ c.code = cc ∧ c.maxLocals = nL ∧ s.vm.findClass RX0 = some m.cls ∧ (∀ w ∈ lw_all, w.before args s = true) ∧ meth.sig.returnType = ret ∧ meth.locks = false ∧ (∀ q : Nat, s.heap.size ≤ q → A q) ∧ va_K E.2.2 vwCl (tyX E) s
abbrev rmX (fr lo : Nat) : Room := { frames := fr, cells := 0, slots := 0, locals := lo }
abbrev PcX (E : EX) (as : List Value) (u : SX) (sz : Nat) : Array Value → State → Prop := va_Pc (.ref (E.1 0) :: as) (fun U => U.heap.size = sz ∧ va_P E.2.2 vwCl (wX E u) U.heap ∧ va_K E.2.2 vwCl (tyX E) U ∧ va_D (fun _ => True) (wX E u))
abbrev QcX (E : EX) (A : Nat → Prop) (post : Int → SX → Prop) : Array Value → State → Outcome → State → Prop := va_Qi (fun r u => ∃ z : Int, r = zI z ∧ post z u) (BX E A) A
/-- A CONTRACT of a method of RankedObjects that answers an int or a boolean: from the world u it comes to a world v and an answer z with 'post z v' -/
def CtX (l : Launch) (y : MethodName) (cc : ByteArray) (nL : Nat) (ret : Option FieldType) (fr lo : Nat) (E : EX) (as : List Value) (u : SX) (post : Int → SX → Prop) : Prop :=
  ∀ sz : Nat, Met l y (ws_ y cc nL ret) (rmX fr lo) (PcX E as u sz) (QcX E (va_A (wX E u) sz) post) 0 0 (va_A (wX E u) sz)
theorem CtX.start {l : Launch} {y : MethodName} {cc : ByteArray} {nL : Nat} {ret : Option FieldType} {fr lo : Nat} {E : EX} {as : List Value} {u : SX} {post : Int → SX → Prop} (hy : plainName y.cls = true) (hy2 : y.cls = RX0)
    (body : ∀ (p : Program) (e : Env) (s : State) (m : MethodId) (below : List Frame) (meth : Method) (c : Code) (A : Nat → Prop), FX p s m meth c cc nL ret (.ref (E.1 0) :: as).toArray A E → HX E s A u s.heap [] →
      W p l e (rmX fr lo) s m (.ref (E.1 0) :: as).toArray below meth c s.heap [] 0 0 (MQ below (QcX E A post) (.ref (E.1 0) :: as).toArray s 0 0 A) (entryFrame m (.ref (E.1 0) :: as).toArray nL)) : CtX l y cc nL ret fr lo E as u post := by
  intro sz
  refine Met.ofW (cc := cc) (maxL := nL) (ret := ret) hy rfl ?_
  intro p e s m args below meth c s₁ B hml hv
  obtain ⟨rfl, hsz, hP, hK, hD0⟩ := hv
  have hts := atoms_spec (ws := ws_ y cc nL ret) B.pre
  have hts : ∀ w ∈ lw_all, w.before _ s = true := fun w h => hts w (List.mem_cons_of_mem _ h)
  have hown : s.vm.findClass y.cls = some m.cls := findClass_of_methodNamed B.named
  rw [hy2] at hown
  subst hsz
  exact body p e s m below meth c (va_A (wX E u) s.heap.size) ⟨B.exec, B.bytes, hml, hown, hts, B.returns, B.notSynchronized, fun q h => Or.inr h, hK⟩ ⟨hP, hD0.self, va_S.rf⟩
section X0C
variable {p : Program} {l : Launch} {e : Env} {R : Room} {s : State} {m : MethodId} {args : Array Value} {below : List Frame} {meth : Method} {c : Code} {H : Heap} {locs : List Loc} {cells slots : Nat} {Q : State → Prop}
variable {cc : ByteArray} {pc nL : Nat} {ret : Option FieldType} {ls : Array Slot} {rest : List Value} {A : Nat → Prop} {E : EX} {u : SX}
theorem FX.x (F : FX p s m meth c cc nL ret args A E) : p.tables.exec = Jvm.exec := F.1
theorem FX.b (F : FX p s m meth c cc nL ret args A E) : c.code = cc := F.2.1
/-- a call of a method of the class by another of its methods -/
theorem CtX.call {y : MethodName} {cc2 : ByteArray} {nL2 : Nat} {ret2 : Option FieldType} {fr lo n index : Nat} {as : List Value} {post : Int → SX → Prop} {st0 : List Value} (h : CtX l y cc2 nL2 ret2 fr lo E as u post) (F : FX p s m meth c cc nL ret args A E) (hH : HX E s A u H locs)
    (hw : GoodIn lw_all (wsV RX0 index RX0 y (ws_ y cc2 nL2 ret2))) (hd : y.cls = RX0 ∧ y.cls ≠ "java/lang/invoke/MethodHandle" ∧ y.cls ≠ "java/lang/invoke/VarHandle" ∧ (parseMethodDescriptor y.desc).map (fun d => d.parameters.length) = some n) (hR : fr + 1 ≤ R.frames ∧ 8 + (nL2 + 11) + lo ≤ R.locals)
    (hn : as.length = n) (hl : ls.size = nL) (hst : st0 = as.reverse ++ .ref (E.1 0) :: rest) (hrm : (rest.map fun v => v.category).sum ≤ 8) (hdg : decode cc pc = .ok (.invokevirtual index, 3)) (hcs : cells ≤ R.cells ∧ slots ≤ R.slots)
    (kk : ∀ (z : Int) (v : SX) (H1 : Heap) (locs1 : List Loc), post z v → HX E s A v H1 locs1 → W p l e R s m args below meth c H1 locs1 cells slots Q (F0 m (pc + 3) ls (.int (zI z) :: rest))) : W p l e R s m args below meth c H locs cells slots Q (F0 m pc ls st0) := by
  obtain ⟨hx, hb, hml, hown, hts, -, -, hA, hK⟩ := F
  obtain ⟨hP, hD, hS⟩ := hH
  subst hst
  have hFc : ∀ q, va_A (wX E u) H.size q → A q := va_free (wc := wX E u) hD hS hA [0, 1, 2, 3, 4, 5, 6] rfl
  refine va_calli (va_runV (As := as) (rest := rest) ⟨hx, hb, hml, hown, hts⟩ (h H.size) (cwV n hts hw rfl rfl rfl hd hR) ⟨fun a U g mk q => ?_, va_recv hK hP (ci := 0) (q0 := 0) rfl rfl, fun U hU hW => ⟨rfl, by rw [hU], by rw [hU]; exact hP, va_K.moved hW.alike hK, hD.weaken (fun _ _ _ _ => trivial)⟩⟩ rfl hn hl rfl (lv_room hrm) hdg ⟨hcs.1, hcs.2⟩) hS (fun q _ h => hFc q h) hFc (fun r v t H1 locs1 ht hvm hw1 hB hz1 hk1 hS1 => ?_)
  · obtain ⟨q0, q1, qP, qK, qD⟩ := q
    exact ⟨q0, q1, qP, va_K.moved (u := U) (U := U.calling g mk a) (Vm.Alike.refl U.vm) qK, qD⟩
  · obtain ⟨z, rfl, hp⟩ := hw1
    obtain ⟨hP1, hK1, hD1⟩ := hB
    rw [ht] at hP1
    exact kk z v H1 locs1 hp ⟨hP1, hD1.weaken (fun _ _ _ h => hFc _ h), hS1⟩
theorem CtX.iret {post : Int → SX → Prop} {z : Int} (F : FX p s m meth c cc nL (some .int) args A E) (hH : HX E s A u H locs) (hp : post z u) (hdg : decode cc pc = .ok (.ireturn, 1)) : W p l e R s m args below meth c H locs 0 0 (MQ below (QcX E A post) args s 0 0 A) (F0 m pc ls [.int (zI z)]) := by
  obtain ⟨hx, hb, hml, hown, hts, hr, hlk, hA, hK⟩ := F
  obtain ⟨hP, hD, hS⟩ := hH
  exact W.iret (v := zI z) hx hb hr (fun t ht hW => ⟨⟨zI z, u, rfl, ⟨z, rfl, hp⟩, by rw [ht]; exact hP, va_K.moved hW.alike hK, hD⟩, hS.F ht⟩) hS.2.2 hdg hlk
theorem CtX.zret {post : Int → SX → Prop} {z : Int} (F : FX p s m meth c cc nL (some .boolean) args A E) (hH : HX E s A u H locs) (hz : z = 0 ∨ z = 1) (hp : post z u) (hdg : decode cc pc = .ok (.ireturn, 1)) : W p l e R s m args below meth c H locs 0 0 (MQ below (QcX E A post) args s 0 0 A) (F0 m pc ls [.int (zI z)]) := by
  obtain ⟨hx, hb, hml, hown, hts, hr, hlk, hA, hK⟩ := F
  obtain ⟨hP, hD, hS⟩ := hH
  exact W.zret (v := zI z) hx hb hr (by rcases hz with rfl | rfl <;> rfl) (fun t ht hW => ⟨⟨zI z, u, rfl, ⟨z, rfl, hp⟩, by rw [ht]; exact hP, va_K.moved hW.alike hK, hD⟩, hS.F ht⟩) hS.2.2 hdg hlk
theorem getX (F : FX p s m meth c cc nL ret args A E) (hH : HX E s A u H locs) (k : Nat) (hk : k < 11) {index : Nat} (hq : Cond.fieldLink RX0 index RX0 (TX0 k).2.1 (TX0 k).2.2.1 ∈ lw_all) (hT : (TX0 k).1 = RX0) {v : Value} (hv : (fsX E u)[k]? = some v) (hdg : decode cc pc = .ok (.getfield index, 3)) (kk : W p l e R s m args below meth c H locs cells slots Q (F0 m (pc + 3) ls (v :: rest))) : W p l e R s m args below meth c H locs cells slots Q (F0 m pc ls (.ref (E.1 0) :: rest)) := by
  obtain ⟨hx, hb, hml, hown, hts, hr, hlk, hA, hK⟩ := F
  obtain ⟨hP, hD, hS⟩ := hH
  exact va_get (D := E.2.2) (ci := 0) (C := RX0) (T := TX0) (N := 11) hx hb hts in_X0 hown hK hP 0 rfl rfl k hk (hts _ hq) (fun _ h9 => by rw [hT] at h9; exact h9) hv hdg kk
theorem putX (F : FX p s m meth c cc nL ret args A E) (hH : HX E s A u H locs) (k : Nat) (hk : k < 5) {index : Nat} (hq : Cond.fieldLink RX0 index RX0 (TX0 k).2.1 (TX0 k).2.2.1 ∈ lw_all) (hT : (TX0 k).1 = RX0 ∧ (TX0 k).2.2.2 = false ∧ parseFieldDescriptor (TX0 k).2.2.1 = some .int) {z : Int} (v : SX) (hv : (wX E u).set 0 (E.1 0, .inr (0, (fsX E u).set k (.int (zI z)))) = wX E v) (hdg : decode cc pc = .ok (.putfield index, 3)) (kk : ∀ (H1 : Heap) (locs1 : List Loc), HX E s A v H1 locs1 → W p l e R s m args below meth c H1 locs1 cells slots Q (F0 m (pc + 3) ls rest)) : W p l e R s m args below meth c H locs cells slots Q (F0 m pc ls (.int (zI z) :: .ref (E.1 0) :: rest)) := by
  obtain ⟨hx, hb, hml, hown, hts, hr, hlk, hA, hK⟩ := F
  obtain ⟨hP, hD, hS⟩ := hH
  refine va_put (D := E.2.2) (ci := 0) (v := .int (zI z)) (ty := .int) (C := RX0) (T := TX0) (N := 11) hx hb hts in_X0 tyX0 tyX0_ok nmX0 hown hK hP hD hS 0 rfl rfl k (by omega) (hts _ hq) (fun _ h9 => by rw [hT.1] at h9; exact h9) hT.2.1 hT.2.2 rfl rfl (by show k < 11; omega) hdg (fun H1 locs1 hP hD hS => ?_)
  rw [hv] at hP hD
  exact kk H1 locs1 ⟨hP, hD, hS⟩
/-- items (k = 1), other (k = 2): read -/
theorem baldX (F : FX p s m meth c cc nL ret args A E) (hH : HX E s A u H locs) (q0 : Nat) {a : Nat} (f : Nat → Nat) (hq : (wX E u)[q0]? = some (a, .inl (E.2.1.1, 14, .inl (fun j => zI (f j))))) {z : Int} (k : Nat) (hz : z = k) (hk : k < 14) (hdg : decode cc pc = .ok (.baload, 1)) (kk : W p l e R s m args below meth c H locs cells slots Q (F0 m (pc + 1) ls (.int (zI (f k)) :: rest))) : W p l e R s m args below meth c H locs cells slots Q (F0 m pc ls (.int (zI z) :: .ref a :: rest)) :=
  zr_bald F.x F.b F.2.2.2.2.2.2.2.2 hH.1 q0 0 f hq rfl k hz hk (by decide) hdg kk
theorem ialdX (F : FX p s m meth c cc nL ret args A E) (hH : HX E s A u H locs) (q0 : Nat) {a N : Nat} (f : Nat → Nat) (hq : (wX E u)[q0]? = some (a, .inl (E.2.1.2, N, .inl (fun j => zI (f j))))) {z : Int} (k : Nat) (hz : z = k) (hk : k < N) (hN : N < 2147483648) (hdg : decode cc pc = .ok (.iaload, 1)) (kk : W p l e R s m args below meth c H locs cells slots Q (F0 m (pc + 1) ls (.int (zI (f k)) :: rest))) : W p l e R s m args below meth c H locs cells slots Q (F0 m pc ls (.int (zI z) :: .ref a :: rest)) :=
  zr_iald F.x F.b F.2.2.2.2.2.2.2.2 hH.1 q0 1 f hq rfl k hz hk hN hdg kk
theorem bastX (F : FX p s m meth c cc nL ret args A E) (hH : HX E s A u H locs) (q0 : Nat) {a : Nat} (f : Nat → Nat) (hq : (wX E u)[q0]? = some (a, .inl (E.2.1.1, 14, .inl (fun j => zI (f j))))) {z w : Int} (k y : Nat) (hz : z = k) (hk : k < 14) (hw : w = y) (hy : y < 128) (v : SX) (hv : (wX E u).set q0 (a, .inl (E.2.1.1, 14, .inl (fun j => zI (zU f k y j)))) = wX E v) (hdg : decode cc pc = .ok (.bastore, 1)) (kk : ∀ (H1 : Heap) (locs1 : List Loc), HX E s A v H1 locs1 → W p l e R s m args below meth c H1 locs1 cells slots Q (F0 m (pc + 1) ls rest)) : W p l e R s m args below meth c H locs cells slots Q (F0 m pc ls (.int (zI w) :: .int (zI z) :: .ref a :: rest)) := by
  refine zr_bast F.x F.b F.2.2.2.2.2.2.2.2 hH.1 hH.2.1 hH.2.2 q0 0 f hq rfl k y hz hk (by decide) hy hw hdg (fun H1 locs1 hP hD hS => ?_)
  rw [hv] at hP hD
  exact kk H1 locs1 ⟨hP, hD, hS⟩
end X0C
end
section
set_option maxRecDepth 100000
set_option maxHeartbeats 4000000 in
/-- sumBefore(i): the items before place i, summed up -/
theorem cX_sumBefore (l : Launch) (E : EX) (so n : Nat) (ch : Int) (L : Nat) (cu : Int) (x o : Nat → Nat) (i : Nat) (hi : i ≤ 14) (h8 : ∀ j, x j < 8) : CtX l yX0_sumBefore cX0_sumBefore 4 (some .int) 0 0 E [.int (zI (i))] (so, n, ch, L, cu, x, o) (fun z v => z = ((ko_tau 4 x i : Nat) : Int) ∧ v = (so, n, ch, L, cu, x, o)) := by
  refine CtX.start (by decide +kernel) rfl ?_
  intro p e s0 m below meth c A F hH
  have hl := lv_entry ([.ref (E.1 0), .int (zI (i))]) (n := 4) (Nat.le_of_ble_eq_true rfl)
  rw [lg_entry_eq]
  generalize (lg_sl ([.ref (E.1 0), .int (zI (i))]) ++ List.replicate (4 - (lg_sl ([.ref (E.1 0), .int (zI (i))])).length) Slot.unset).toArray = ls at hl ⊢
  have hl : lv_has ls 4 [(0, .ref (E.1 0)), (1, .int (zI (i)))] := hl
  refine lv_iconst (v := zI (0)) F.x F.b dX0_sumBefore_0 (by decide +kernel) ?_
  refine lv_istore_n (lv' := [(2, .int (zI (0))), (0, .ref (E.1 0)), (1, .int (zI (i)))]) F.x F.b dX0_sumBefore_1 rfl hl (by decide) rfl (fun ls hl => ?_)
  refine lv_iconst (v := zI (0)) F.x F.b dX0_sumBefore_2 (by decide +kernel) ?_
  refine lv_istore_n (lv' := [(3, .int (zI (0))), (2, .int (zI (0))), (0, .ref (E.1 0)), (1, .int (zI (i)))]) F.x F.b dX0_sumBefore_3 rfl hl (by decide) rfl (fun ls hl => ?_)
  have loop : ∀ (k j : Nat), k + j = i → ∀ ls : Array Slot, lv_has ls 4 [(0, .ref (E.1 0)), (1, .int (zI (i))), (2, .int (zI (((ko_tau 4 x (j) : Nat) : Int)))), (3, .int (zI (j)))] → W p l e (rmX 0 0) s0 m ([.ref (E.1 0), .int (zI (i))] : List Value).toArray below meth c s0.heap [] 0 0 (MQ below (QcX E A (fun z v => z = ((ko_tau 4 x i : Nat) : Int) ∧ v = (so, n, ch, L, cu, x, o))) ([.ref (E.1 0), .int (zI (i))] : List Value).toArray s0 0 0 A) (F0 m 4 ls []) := by
    intro k
    induction k with
    | zero =>
      intro j hj ls hl
      refine lv_iload_n F.x F.b dX0_sumBefore_4 rfl (lv_at hl 3 rfl) ?_
      refine lv_iload_n F.x F.b dX0_sumBefore_5 rfl (lv_at hl 1 rfl) ?_
      refine zr_icmp_ge (tgt := 24) F.x F.b dX0_sumBefore_6 (by decide) (by omega) (by omega) (fun c1 => ?_) (fun c1 => ?_)
      · refine lv_iload_n F.x F.b dX0_sumBefore_24 rfl (lv_at hl 2 rfl) ?_
        have e : j = i := by omega
        subst e
        exact CtX.iret F hH (⟨rfl, rfl⟩) dX0_sumBefore_25
      · exact absurd c1 (by omega)
    | succ k ih =>
      intro j hj ls hl
      refine lv_iload_n F.x F.b dX0_sumBefore_4 rfl (lv_at hl 3 rfl) ?_
      refine lv_iload_n F.x F.b dX0_sumBefore_5 rfl (lv_at hl 1 rfl) ?_
      refine zr_icmp_ge (tgt := 24) F.x F.b dX0_sumBefore_6 (by decide) (by omega) (by omega) (fun c1 => ?_) (fun c1 => ?_)
      · exact absurd c1 (by omega)
      · have h8j := h8 j
        have hb := ko_t4b h8 j
        refine lv_iload_n F.x F.b dX0_sumBefore_9 rfl (lv_at hl 2 rfl) ?_
        refine lv_aload_n F.x F.b dX0_sumBefore_10 rfl (lv_at hl 0 rfl) ?_
        refine getX F hH 5 (by decide) q76 rfl (v := .ref (E.1 5)) rfl dX0_sumBefore_11 ?_
        refine lv_iload_n F.x F.b dX0_sumBefore_14 rfl (lv_at hl 3 rfl) ?_
        refine baldX F hH 1 (x) rfl (j) (rfl) (by omega) dX0_sumBefore_15 ?_
        refine zr_iadd F.x F.b (((ko_tau 4 x (j + 1) : Nat) : Int)) dX0_sumBefore_16 (by rw [ko_t4s]; omega) ?_
        refine lv_istore_n (lv' := [(2, .int (zI (((ko_tau 4 x (j + 1) : Nat) : Int)))), (0, .ref (E.1 0)), (1, .int (zI (i))), (3, .int (zI (j)))]) F.x F.b dX0_sumBefore_17 rfl hl (by decide) rfl (fun ls hl => ?_)
        refine zr_iinc F.x F.b (((j + 1 : Nat) : Int)) (lv' := [(3, .int (zI (((j + 1 : Nat) : Int)))), (2, .int (zI (((ko_tau 4 x (j + 1) : Nat) : Int)))), (0, .ref (E.1 0)), (1, .int (zI (i)))]) dX0_sumBefore_18 hl (k := 3) rfl (by omega) (by decide) rfl (fun ls hl => ?_)
        refine lv_goto (tgt := 4) F.x F.b dX0_sumBefore_21 (by decide) ?_
        exact ih (j + 1) (by omega) ls (lv_sub hl [2, 3, 1, 0] rfl)
  exact loop i 0 (by omega) ls (lv_sub hl [2, 3, 1, 0] rfl)

set_option maxHeartbeats 4000000 in
/-- greatestBefore(i): the greatest item before place i, or -1 -/
theorem cX_greatestBefore (l : Launch) (E : EX) (so n : Nat) (ch : Int) (L : Nat) (cu : Int) (x o : Nat → Nat) (i : Nat) (hi : i ≤ 14) (h8 : ∀ j, x j < 8) : CtX l yX0_greatestBefore cX0_greatestBefore 4 (some .int) 0 0 E [.int (zI (i))] (so, n, ch, L, cu, x, o) (fun z v => z = ((ko_tau 2 x i : Nat) : Int) - 1 ∧ v = (so, n, ch, L, cu, x, o)) := by
  refine CtX.start (by decide +kernel) rfl ?_
  intro p e s0 m below meth c A F hH
  have hl := lv_entry ([.ref (E.1 0), .int (zI (i))]) (n := 4) (Nat.le_of_ble_eq_true rfl)
  rw [lg_entry_eq]
  generalize (lg_sl ([.ref (E.1 0), .int (zI (i))]) ++ List.replicate (4 - (lg_sl ([.ref (E.1 0), .int (zI (i))])).length) Slot.unset).toArray = ls at hl ⊢
  have hl : lv_has ls 4 [(0, .ref (E.1 0)), (1, .int (zI (i)))] := hl
  refine lv_iconst (v := zI (-1)) F.x F.b dX0_greatestBefore_0 (by decide +kernel) ?_
  refine lv_istore_n (lv' := [(2, .int (zI (-1))), (0, .ref (E.1 0)), (1, .int (zI (i)))]) F.x F.b dX0_greatestBefore_1 rfl hl (by decide) rfl (fun ls hl => ?_)
  refine lv_iconst (v := zI (0)) F.x F.b dX0_greatestBefore_2 (by decide +kernel) ?_
  refine lv_istore_n (lv' := [(3, .int (zI (0))), (2, .int (zI (-1))), (0, .ref (E.1 0)), (1, .int (zI (i)))]) F.x F.b dX0_greatestBefore_3 rfl hl (by decide) rfl (fun ls hl => ?_)
  have loop : ∀ (k j : Nat), k + j = i → ∀ ls : Array Slot, lv_has ls 4 [(0, .ref (E.1 0)), (1, .int (zI (i))), (2, .int (zI (((ko_tau 2 x (j) : Nat) : Int) - 1))), (3, .int (zI (j)))] → W p l e (rmX 0 0) s0 m ([.ref (E.1 0), .int (zI (i))] : List Value).toArray below meth c s0.heap [] 0 0 (MQ below (QcX E A (fun z v => z = ((ko_tau 2 x i : Nat) : Int) - 1 ∧ v = (so, n, ch, L, cu, x, o))) ([.ref (E.1 0), .int (zI (i))] : List Value).toArray s0 0 0 A) (F0 m 4 ls []) := by
    intro k
    induction k with
    | zero =>
      intro j hj ls hl
      refine lv_iload_n F.x F.b dX0_greatestBefore_4 rfl (lv_at hl 3 rfl) ?_
      refine lv_iload_n F.x F.b dX0_greatestBefore_5 rfl (lv_at hl 1 rfl) ?_
      refine zr_icmp_ge (tgt := 32) F.x F.b dX0_greatestBefore_6 (by decide) (by omega) (by omega) (fun c1 => ?_) (fun c1 => ?_)
      · refine lv_iload_n F.x F.b dX0_greatestBefore_32 rfl (lv_at hl 2 rfl) ?_
        have e : j = i := by omega
        subst e
        exact CtX.iret F hH (⟨rfl, rfl⟩) dX0_greatestBefore_33
      · exact absurd c1 (by omega)
    | succ k ih =>
      intro j hj ls hl
      refine lv_iload_n F.x F.b dX0_greatestBefore_4 rfl (lv_at hl 3 rfl) ?_
      refine lv_iload_n F.x F.b dX0_greatestBefore_5 rfl (lv_at hl 1 rfl) ?_
      refine zr_icmp_ge (tgt := 32) F.x F.b dX0_greatestBefore_6 (by decide) (by omega) (by omega) (fun c1 => ?_) (fun c1 => ?_)
      · exact absurd c1 (by omega)
      · have h8j := h8 j
        have hb := ko_t2b h8 j
        have hs := ko_t2s x j
        refine lv_aload_n F.x F.b dX0_greatestBefore_9 rfl (lv_at hl 0 rfl) ?_
        refine getX F hH 5 (by decide) q76 rfl (v := .ref (E.1 5)) rfl dX0_greatestBefore_10 ?_
        refine lv_iload_n F.x F.b dX0_greatestBefore_13 rfl (lv_at hl 3 rfl) ?_
        refine baldX F hH 1 (x) rfl (j) (rfl) (by omega) dX0_greatestBefore_14 ?_
        refine lv_iload_n F.x F.b dX0_greatestBefore_15 rfl (lv_at hl 2 rfl) ?_
        refine zr_icmp_le (tgt := 26) F.x F.b dX0_greatestBefore_16 (by decide) (by omega) (by omega) (fun c2 => ?_) (fun c2 => ?_)
        · have e2 : ((ko_tau 2 x j : Nat) : Int) - 1 = ((ko_tau 2 x (j + 1) : Nat) : Int) - 1 := by omega
          rw [e2] at hl
          refine zr_iinc F.x F.b (((j + 1 : Nat) : Int)) (lv' := [(3, .int (zI (((j + 1 : Nat) : Int)))), (0, .ref (E.1 0)), (1, .int (zI (i))), (2, .int (zI (((ko_tau 2 x (j + 1) : Nat) : Int) - 1)))]) dX0_greatestBefore_26 hl (k := 3) rfl (by omega) (by decide) rfl (fun ls hl => ?_)
          refine lv_goto (tgt := 4) F.x F.b dX0_greatestBefore_29 (by decide) ?_
          exact ih (j + 1) (by omega) ls (lv_sub hl [1, 2, 3, 0] rfl)
        · refine lv_aload_n F.x F.b dX0_greatestBefore_19 rfl (lv_at hl 0 rfl) ?_
          refine getX F hH 5 (by decide) q76 rfl (v := .ref (E.1 5)) rfl dX0_greatestBefore_20 ?_
          refine lv_iload_n F.x F.b dX0_greatestBefore_23 rfl (lv_at hl 3 rfl) ?_
          refine baldX F hH 1 (x) rfl (j) (rfl) (by omega) dX0_greatestBefore_24 ?_
          refine zr_top (y := zI (((ko_tau 2 x (j + 1) : Nat) : Int) - 1)) (by congr 1; omega) ?_
          refine lv_istore_n (lv' := [(2, .int (zI (((ko_tau 2 x (j + 1) : Nat) : Int) - 1))), (0, .ref (E.1 0)), (1, .int (zI (i))), (3, .int (zI (j)))]) F.x F.b dX0_greatestBefore_25 rfl hl (by decide) rfl (fun ls hl => ?_)
          refine zr_iinc F.x F.b (((j + 1 : Nat) : Int)) (lv' := [(3, .int (zI (((j + 1 : Nat) : Int)))), (2, .int (zI (((ko_tau 2 x (j + 1) : Nat) : Int) - 1))), (0, .ref (E.1 0)), (1, .int (zI (i)))]) dX0_greatestBefore_26 hl (k := 3) rfl (by omega) (by decide) rfl (fun ls hl => ?_)
          refine lv_goto (tgt := 4) F.x F.b dX0_greatestBefore_29 (by decide) ?_
          exact ih (j + 1) (by omega) ls (lv_sub hl [2, 3, 1, 0] rfl)
  exact loop i 0 (by omega) ls (lv_sub hl [2, 3, 1, 0] rfl)

set_option maxHeartbeats 4000000 in
/-- usedBefore(i): the items before place i as a set of bits -/
theorem cX_usedBefore (l : Launch) (E : EX) (so n : Nat) (ch : Int) (L : Nat) (cu : Int) (x o : Nat → Nat) (i : Nat) (hi : i ≤ 14) (h8 : ∀ j, x j < 8) : CtX l yX0_usedBefore cX0_usedBefore 4 (some .int) 0 0 E [.int (zI (i))] (so, n, ch, L, cu, x, o) (fun z v => z = ((ko_tau 1 x i : Nat) : Int) ∧ v = (so, n, ch, L, cu, x, o)) := by
  refine CtX.start (by decide +kernel) rfl ?_
  intro p e s0 m below meth c A F hH
  have hl := lv_entry ([.ref (E.1 0), .int (zI (i))]) (n := 4) (Nat.le_of_ble_eq_true rfl)
  rw [lg_entry_eq]
  generalize (lg_sl ([.ref (E.1 0), .int (zI (i))]) ++ List.replicate (4 - (lg_sl ([.ref (E.1 0), .int (zI (i))])).length) Slot.unset).toArray = ls at hl ⊢
  have hl : lv_has ls 4 [(0, .ref (E.1 0)), (1, .int (zI (i)))] := hl
  refine lv_iconst (v := zI (0)) F.x F.b dX0_usedBefore_0 (by decide +kernel) ?_
  refine lv_istore_n (lv' := [(2, .int (zI (0))), (0, .ref (E.1 0)), (1, .int (zI (i)))]) F.x F.b dX0_usedBefore_1 rfl hl (by decide) rfl (fun ls hl => ?_)
  refine lv_iconst (v := zI (0)) F.x F.b dX0_usedBefore_2 (by decide +kernel) ?_
  refine lv_istore_n (lv' := [(3, .int (zI (0))), (2, .int (zI (0))), (0, .ref (E.1 0)), (1, .int (zI (i)))]) F.x F.b dX0_usedBefore_3 rfl hl (by decide) rfl (fun ls hl => ?_)
  have loop : ∀ (k j : Nat), k + j = i → ∀ ls : Array Slot, lv_has ls 4 [(0, .ref (E.1 0)), (1, .int (zI (i))), (2, .int (zI (((ko_tau 1 x (j) : Nat) : Int)))), (3, .int (zI (j)))] → W p l e (rmX 0 0) s0 m ([.ref (E.1 0), .int (zI (i))] : List Value).toArray below meth c s0.heap [] 0 0 (MQ below (QcX E A (fun z v => z = ((ko_tau 1 x i : Nat) : Int) ∧ v = (so, n, ch, L, cu, x, o))) ([.ref (E.1 0), .int (zI (i))] : List Value).toArray s0 0 0 A) (F0 m 4 ls []) := by
    intro k
    induction k with
    | zero =>
      intro j hj ls hl
      refine lv_iload_n F.x F.b dX0_usedBefore_4 rfl (lv_at hl 3 rfl) ?_
      refine lv_iload_n F.x F.b dX0_usedBefore_5 rfl (lv_at hl 1 rfl) ?_
      refine zr_icmp_ge (tgt := 26) F.x F.b dX0_usedBefore_6 (by decide) (by omega) (by omega) (fun c1 => ?_) (fun c1 => ?_)
      · refine lv_iload_n F.x F.b dX0_usedBefore_26 rfl (lv_at hl 2 rfl) ?_
        have e : j = i := by omega
        subst e
        exact CtX.iret F hH (⟨rfl, rfl⟩) dX0_usedBefore_27
      · exact absurd c1 (by omega)
    | succ k ih =>
      intro j hj ls hl
      refine lv_iload_n F.x F.b dX0_usedBefore_4 rfl (lv_at hl 3 rfl) ?_
      refine lv_iload_n F.x F.b dX0_usedBefore_5 rfl (lv_at hl 1 rfl) ?_
      refine zr_icmp_ge (tgt := 26) F.x F.b dX0_usedBefore_6 (by decide) (by omega) (by omega) (fun c1 => ?_) (fun c1 => ?_)
      · exact absurd c1 (by omega)
      · have h8j := h8 j
        have hb := ko_t1b h8 j
        refine lv_iload_n F.x F.b dX0_usedBefore_9 rfl (lv_at hl 2 rfl) ?_
        refine lv_iconst (v := zI (1)) F.x F.b dX0_usedBefore_10 (by decide +kernel) ?_
        refine lv_aload_n F.x F.b dX0_usedBefore_11 rfl (lv_at hl 0 rfl) ?_
        refine getX F hH 5 (by decide) q76 rfl (v := .ref (E.1 5)) rfl dX0_usedBefore_12 ?_
        refine lv_iload_n F.x F.b dX0_usedBefore_15 rfl (lv_at hl 3 rfl) ?_
        refine baldX F hH 1 (x) rfl (j) (rfl) (by omega) dX0_usedBefore_16 ?_
        refine lv_ishl F.x F.b dX0_usedBefore_17 ?_
        refine zr_top (zI_shl1 (x j) h8j) ?_
        refine lv_ior F.x F.b dX0_usedBefore_18 ?_
        refine zr_top (zI_orb (x j) h8j (ko_tau 1 x j) hb) ?_
        refine lv_istore_n (lv' := [(2, .int (zI (((ko_tau 1 x (j + 1) : Nat) : Int)))), (0, .ref (E.1 0)), (1, .int (zI (i))), (3, .int (zI (j)))]) F.x F.b dX0_usedBefore_19 rfl hl (by decide) rfl (fun ls hl => ?_)
        refine zr_iinc F.x F.b (((j + 1 : Nat) : Int)) (lv' := [(3, .int (zI (((j + 1 : Nat) : Int)))), (2, .int (zI (((ko_tau 1 x (j + 1) : Nat) : Int)))), (0, .ref (E.1 0)), (1, .int (zI (i)))]) dX0_usedBefore_20 hl (k := 3) rfl (by omega) (by decide) rfl (fun ls hl => ?_)
        refine lv_goto (tgt := 4) F.x F.b dX0_usedBefore_23 (by decide) ?_
        exact ih (j + 1) (by omega) ls (lv_sub hl [2, 3, 1, 0] rfl)
  exact loop i 0 (by omega) ls (lv_sub hl [2, 3, 1, 0] rfl)

set_option maxHeartbeats 4000000 in
/-- waysToSplit(a, b) -/
theorem cX_waysToSplit (l : Launch) (E : EX) (so n : Nat) (ch : Int) (L : Nat) (cu : Int) (x o : Nat → Nat) (a b : Nat) (ha : a < 8) (hb0 : 0 < b) (hb : b < 8) : CtX l yX0_waysToSplit cX0_waysToSplit 5 (some .int) 0 0 E [.int (zI (a)), .int (zI (b))] (so, n, ch, L, cu, x, o) (fun z v => z = ((ko_ways a (b - 1) : Nat) : Int) ∧ v = (so, n, ch, L, cu, x, o)) := by
  refine CtX.start (by decide +kernel) rfl ?_
  intro p e s0 m below meth c A F hH
  have hl := lv_entry ([.ref (E.1 0), .int (zI (a)), .int (zI (b))]) (n := 5) (Nat.le_of_ble_eq_true rfl)
  rw [lg_entry_eq]
  generalize (lg_sl ([.ref (E.1 0), .int (zI (a)), .int (zI (b))]) ++ List.replicate (5 - (lg_sl ([.ref (E.1 0), .int (zI (a)), .int (zI (b))])).length) Slot.unset).toArray = ls at hl ⊢
  have hl : lv_has ls 5 [(0, .ref (E.1 0)), (1, .int (zI (a))), (2, .int (zI (b)))] := hl
  refine lv_iconst (v := zI (1)) F.x F.b dX0_waysToSplit_0 (by decide +kernel) ?_
  refine lv_istore_n (lv' := [(3, .int (zI (1))), (0, .ref (E.1 0)), (1, .int (zI (a))), (2, .int (zI (b)))]) F.x F.b dX0_waysToSplit_1 rfl hl (by decide) rfl (fun ls hl => ?_)
  refine lv_iconst (v := zI (1)) F.x F.b dX0_waysToSplit_2 (by decide +kernel) ?_
  refine lv_istore (lv' := [(4, .int (zI (1))), (3, .int (zI (1))), (0, .ref (E.1 0)), (1, .int (zI (a))), (2, .int (zI (b)))]) F.x F.b dX0_waysToSplit_3 hl (by decide) rfl (fun ls hl => ?_)
  have loop : ∀ (k j : Nat), k + j + 1 = b → ∀ ls : Array Slot, lv_has ls 5 [(0, .ref (E.1 0)), (1, .int (zI (a))), (2, .int (zI (b))), (3, .int (zI (((ko_ways a j : Nat) : Int)))), (4, .int (zI (((j + 1 : Nat) : Int))))] → W p l e (rmX 0 0) s0 m ([.ref (E.1 0), .int (zI (a)), .int (zI (b))] : List Value).toArray below meth c s0.heap [] 0 0 (MQ below (QcX E A (fun z v => z = ((ko_ways a (b - 1) : Nat) : Int) ∧ v = (so, n, ch, L, cu, x, o))) ([.ref (E.1 0), .int (zI (a)), .int (zI (b))] : List Value).toArray s0 0 0 A) (F0 m 5 ls []) := by
    intro k
    induction k with
    | zero =>
      intro j hj ls hl
      have hw := ko_waysb a (by omega) j (by omega)
      refine lv_iload F.x F.b dX0_waysToSplit_5 (lv_at hl 4 rfl) ?_
      refine lv_iload_n F.x F.b dX0_waysToSplit_7 rfl (lv_at hl 2 rfl) ?_
      refine zr_icmp_ge (tgt := 27) F.x F.b dX0_waysToSplit_8 (by decide) (by omega) (by omega) (fun c1 => ?_) (fun c1 => ?_)
      · refine lv_iload_n F.x F.b dX0_waysToSplit_27 rfl (lv_at hl 3 rfl) ?_
        have e : j = b - 1 := by omega
        subst e
        exact CtX.iret F hH (⟨rfl, rfl⟩) dX0_waysToSplit_28
      · exact absurd c1 (by omega)
    | succ k ih =>
      intro j hj ls hl
      have hw := ko_waysb a (by omega) j (by omega)
      refine lv_iload F.x F.b dX0_waysToSplit_5 (lv_at hl 4 rfl) ?_
      refine lv_iload_n F.x F.b dX0_waysToSplit_7 rfl (lv_at hl 2 rfl) ?_
      refine zr_icmp_ge (tgt := 27) F.x F.b dX0_waysToSplit_8 (by decide) (by omega) (by omega) (fun c1 => ?_) (fun c1 => ?_)
      · exact absurd c1 (by omega)
      · refine lv_iload_n F.x F.b dX0_waysToSplit_11 rfl (lv_at hl 3 rfl) ?_
        refine lv_iload_n F.x F.b dX0_waysToSplit_12 rfl (lv_at hl 1 rfl) ?_
        refine lv_iload F.x F.b dX0_waysToSplit_13 (lv_at hl 4 rfl) ?_
        refine zr_iadd F.x F.b (((a + (j + 1) : Nat) : Int)) dX0_waysToSplit_15 (by omega) ?_
        refine zr_imul F.x F.b (((ko_ways a j * (a + (j + 1)) : Nat) : Int)) dX0_waysToSplit_16 ((Int.natCast_mul _ _).symm) ?_
        refine lv_iload F.x F.b dX0_waysToSplit_17 (lv_at hl 4 rfl) ?_
        refine zr_idiv F.x F.b (ko_ways a j * (a + (j + 1))) (j + 1) dX0_waysToSplit_19 rfl rfl (by omega) (by omega) (by omega) ?_
        refine lv_istore_n (lv' := [(3, .int (zI (((ko_ways a (j + 1) : Nat) : Int)))), (0, .ref (E.1 0)), (1, .int (zI (a))), (2, .int (zI (b))), (4, .int (zI (((j + 1 : Nat) : Int))))]) F.x F.b dX0_waysToSplit_20 rfl hl (by decide) rfl (fun ls hl => ?_)
        refine zr_iinc F.x F.b (((j + 1 + 1 : Nat) : Int)) (lv' := [(4, .int (zI (((j + 1 + 1 : Nat) : Int)))), (3, .int (zI (((ko_ways a (j + 1) : Nat) : Int)))), (0, .ref (E.1 0)), (1, .int (zI (a))), (2, .int (zI (b)))]) dX0_waysToSplit_21 hl (k := 4) rfl (by omega) (by decide) rfl (fun ls hl => ?_)
        refine lv_goto (tgt := 5) F.x F.b dX0_waysToSplit_24 (by decide) ?_
        exact ih (j + 1) (by omega) ls (lv_sub hl [2, 3, 4, 1, 0] rfl)
  exact loop (b - 1) 0 (by omega) ls (lv_sub hl [2, 3, 4, 1, 0] rfl)
end
section
set_option maxRecDepth 100000
set_option maxHeartbeats 4000000 in
/-- mayCome(i, y) -/
theorem cX_mayCome (l : Launch) (E : EX) (so n : Nat) (ch : Int) (L : Nat) (cu : Int) (x o : Nat → Nat) (i y : Nat) (hso : so < 5) (hn : n ≤ 7) (hi : i ≤ 13) (hy : y < 8) (h8 : ∀ j, x j < 8) : CtX l yX0_mayCome cX0_mayCome 4 (some .boolean) 1 23 E [.int (zI (i)), .int (zI (y))] (so, n, ch, L, cu, x, o) (fun z v => z = (if ko_may so n i (ko_tau so x i) y = true then 1 else 0) ∧ v = (so, n, ch, L, cu, x, o)) := by
  refine CtX.start (by decide +kernel) rfl ?_
  intro p e s0 m below meth c A F hH
  have hl := lv_entry ([.ref (E.1 0), .int (zI (i)), .int (zI (y))]) (n := 4) (Nat.le_of_ble_eq_true rfl)
  rw [lg_entry_eq]
  generalize (lg_sl ([.ref (E.1 0), .int (zI (i)), .int (zI (y))]) ++ List.replicate (4 - (lg_sl ([.ref (E.1 0), .int (zI (i)), .int (zI (y))])).length) Slot.unset).toArray = ls at hl ⊢
  have hl : lv_has ls 4 [(0, .ref (E.1 0)), (1, .int (zI (i))), (2, .int (zI (y)))] := hl
  have h0 := ko_t0i x i
  refine lv_aload_n F.x F.b dX0_mayCome_0 rfl (lv_at hl 0 rfl) ?_
  refine getX F hH 0 (by decide) q71 rfl (v := .int (zI (so))) rfl dX0_mayCome_1 ?_
  refine zr_if_ne (tgt := 37) F.x F.b dX0_mayCome_4 (by decide) (by omega) (fun c4 => ?_) (fun c4 => ?_)
  · refine lv_aload_n F.x F.b dX0_mayCome_37 rfl (lv_at hl 0 rfl) ?_
    refine getX F hH 0 (by decide) q71 rfl (v := .int (zI (so))) rfl dX0_mayCome_38 ?_
    refine lv_iconst (v := zI (1)) F.x F.b dX0_mayCome_41 (by decide +kernel) ?_
    refine zr_icmp_ne (tgt := 71) F.x F.b dX0_mayCome_42 (by decide) (by omega) (by omega) (fun c42 => ?_) (fun c42 => ?_)
    · refine lv_aload_n F.x F.b dX0_mayCome_71 rfl (lv_at hl 0 rfl) ?_
      refine getX F hH 0 (by decide) q71 rfl (v := .int (zI (so))) rfl dX0_mayCome_72 ?_
      refine lv_iconst (v := zI (2)) F.x F.b dX0_mayCome_75 (by decide +kernel) ?_
      refine zr_icmp_ne (tgt := 96) F.x F.b dX0_mayCome_76 (by decide) (by omega) (by omega) (fun c76 => ?_) (fun c76 => ?_)
      · refine lv_aload_n F.x F.b dX0_mayCome_96 rfl (lv_at hl 0 rfl) ?_
        refine getX F hH 0 (by decide) q71 rfl (v := .int (zI (so))) rfl dX0_mayCome_97 ?_
        refine lv_iconst (v := zI (4)) F.x F.b dX0_mayCome_100 (by decide +kernel) ?_
        refine zr_icmp_ne (tgt := 118) F.x F.b dX0_mayCome_101 (by decide) (by omega) (by omega) (fun c101 => ?_) (fun c101 => ?_)
        · have h34 := ko_t34 x i
          have hb := ko_t4b h8 i
          refine lv_iload_n F.x F.b dX0_mayCome_118 rfl (lv_at hl 2 rfl) ?_
          refine lv_iconst (v := zI (1)) F.x F.b dX0_mayCome_119 (by decide +kernel) ?_
          refine zr_icmp_le (tgt := 125) F.x F.b dX0_mayCome_120 (by decide) (by omega) (by omega) (fun c120 => ?_) (fun c120 => ?_)
          · refine lv_aload_n F.x F.b dX0_mayCome_125 rfl (lv_at hl 0 rfl) ?_
            refine lv_iload_n F.x F.b dX0_mayCome_126 rfl (lv_at hl 1 rfl) ?_
            refine CtX.call (n := 1) (cX_sumBefore l E so n ch L cu x o i (by omega) h8) F hH (lw_V q47 q49 qs3 q17 q50) (by decide +kernel) ⟨Nat.le_of_ble_eq_true rfl, Nat.le_of_ble_eq_true rfl⟩ rfl hl.1 rfl (Nat.le_of_ble_eq_true rfl) dX0_mayCome_127 ⟨Nat.le_refl _, Nat.le_refl _⟩ (fun z9 v9 H locs hp hH => ?_)
            obtain ⟨rfl, rfl⟩ := hp
            refine lv_istore_n (lv' := [(3, .int (zI (((ko_tau 4 x i : Nat) : Int)))), (0, .ref (E.1 0)), (1, .int (zI (i))), (2, .int (zI (y)))]) F.x F.b dX0_mayCome_130 rfl hl (by decide) rfl (fun ls hl => ?_)
            refine lv_iload_n F.x F.b dX0_mayCome_131 rfl (lv_at hl 3 rfl) ?_
            refine lv_iconst (v := zI (1)) F.x F.b dX0_mayCome_132 (by decide +kernel) ?_
            refine zr_icmp_ne (tgt := 152) F.x F.b dX0_mayCome_133 (by decide) (by omega) (by omega) (fun c133 => ?_) (fun c133 => ?_)
            · refine lv_iload_n F.x F.b dX0_mayCome_152 rfl (lv_at hl 2 rfl) ?_
              refine lv_iload_n F.x F.b dX0_mayCome_153 rfl (lv_at hl 0 rfl) ?_
              refine zr_isub F.x F.b ((i : Int) - ((ko_tau 4 x i : Nat) : Int)) dX0_mayCome_154 (rfl) ?_
              refine lv_iload_n F.x F.b dX0_mayCome_155 rfl (lv_at hl 0 rfl) ?_
              refine zr_icmp_ge (tgt := 163) F.x F.b dX0_mayCome_156 (by decide) (by omega) (by omega) (fun c156 => ?_) (fun c156 => ?_)
              · refine lv_iconst (v := zI (0)) F.x F.b dX0_mayCome_163 (by decide +kernel) ?_
                have e : so = 3 := by omega
                subst e
                exact CtX.zret F hH (by omega) (⟨ko_ans0 (fun h => absurd (ko_may3.mp h) (by omega)), rfl⟩) dX0_mayCome_164
              · refine lv_iconst (v := zI (1)) F.x F.b dX0_mayCome_159 (by decide +kernel) ?_
                refine lv_goto (tgt := 164) F.x F.b dX0_mayCome_160 (by decide) ?_
                have e : so = 3 := by omega
                subst e
                exact CtX.zret F hH (by omega) (⟨ko_ans1 (ko_may3.mpr (by omega)), rfl⟩) dX0_mayCome_164
            · refine lv_iload_n F.x F.b dX0_mayCome_136 rfl (lv_at hl 0 rfl) ?_
              refine lv_aload_n F.x F.b dX0_mayCome_137 rfl (lv_at hl 1 rfl) ?_
              refine getX F hH 1 (by decide) q72 rfl (v := .int (zI (n))) rfl dX0_mayCome_138 ?_
              refine zr_icmp_ge (tgt := 148) F.x F.b dX0_mayCome_141 (by decide) (by omega) (by omega) (fun c141 => ?_) (fun c141 => ?_)
              · refine lv_iconst (v := zI (0)) F.x F.b dX0_mayCome_148 (by decide +kernel) ?_
                refine lv_goto (tgt := 164) F.x F.b dX0_mayCome_149 (by decide) ?_
                have e : so = 3 := by omega
                subst e
                exact CtX.zret F hH (by omega) (⟨ko_ans0 (fun h => absurd (ko_may3.mp h) (by omega)), rfl⟩) dX0_mayCome_164
              · refine lv_iconst (v := zI (1)) F.x F.b dX0_mayCome_144 (by decide +kernel) ?_
                refine lv_goto (tgt := 164) F.x F.b dX0_mayCome_145 (by decide) ?_
                have e : so = 3 := by omega
                subst e
                exact CtX.zret F hH (by omega) (⟨ko_ans1 (ko_may3.mpr (by omega)), rfl⟩) dX0_mayCome_164
          · refine lv_iconst (v := zI (0)) F.x F.b dX0_mayCome_123 (by decide +kernel) ?_
            have e : so = 3 := by omega
            subst e
            exact CtX.zret F hH (by omega) (⟨ko_ans0 (fun h => absurd (ko_may3.mp h) (by omega)), rfl⟩) dX0_mayCome_124
        · refine lv_iload_n F.x F.b dX0_mayCome_104 rfl (lv_at hl 2 rfl) ?_
          refine lv_aload_n F.x F.b dX0_mayCome_105 rfl (lv_at hl 0 rfl) ?_
          refine getX F hH 1 (by decide) q72 rfl (v := .int (zI (n))) rfl dX0_mayCome_106 ?_
          refine zr_icmp_gt (tgt := 116) F.x F.b dX0_mayCome_109 (by decide) (by omega) (by omega) (fun c109 => ?_) (fun c109 => ?_)
          · refine lv_iconst (v := zI (0)) F.x F.b dX0_mayCome_116 (by decide +kernel) ?_
            have e : so = 4 := by omega
            subst e
            exact CtX.zret F hH (by omega) (⟨ko_ans0 (fun h => absurd (ko_may4.mp h) (by omega)), rfl⟩) dX0_mayCome_117
          · refine lv_iconst (v := zI (1)) F.x F.b dX0_mayCome_112 (by decide +kernel) ?_
            refine lv_goto (tgt := 117) F.x F.b dX0_mayCome_113 (by decide) ?_
            have e : so = 4 := by omega
            subst e
            exact CtX.zret F hH (by omega) (⟨ko_ans1 (ko_may4.mpr (by omega)), rfl⟩) dX0_mayCome_117
      · refine lv_iload_n F.x F.b dX0_mayCome_79 rfl (lv_at hl 2 rfl) ?_
        refine lv_aload_n F.x F.b dX0_mayCome_80 rfl (lv_at hl 0 rfl) ?_
        refine lv_iload_n F.x F.b dX0_mayCome_81 rfl (lv_at hl 1 rfl) ?_
        have hb := ko_t2b h8 i
        refine CtX.call (n := 1) (cX_greatestBefore l E so n ch L cu x o i (by omega) h8) F hH (lw_V q43 q45 qs2 q17 q46) (by decide +kernel) ⟨Nat.le_of_ble_eq_true rfl, Nat.le_of_ble_eq_true rfl⟩ rfl hl.1 rfl (Nat.le_of_ble_eq_true rfl) dX0_mayCome_82 ⟨Nat.le_refl _, Nat.le_refl _⟩ (fun z9 v9 H locs hp hH => ?_)
        obtain ⟨rfl, rfl⟩ := hp
        refine lv_iconst (v := zI (1)) F.x F.b dX0_mayCome_85 (by decide +kernel) ?_
        refine zr_iadd F.x F.b (((ko_tau 2 x i : Nat) : Int)) dX0_mayCome_86 (by omega) ?_
        refine zr_icmp_gt (tgt := 94) F.x F.b dX0_mayCome_87 (by decide) (by omega) (by omega) (fun c87 => ?_) (fun c87 => ?_)
        · refine lv_iconst (v := zI (0)) F.x F.b dX0_mayCome_94 (by decide +kernel) ?_
          have e : so = 2 := by omega
          subst e
          exact CtX.zret F hH (by omega) (⟨ko_ans0 (fun h => absurd (ko_may2.mp h) (by omega)), rfl⟩) dX0_mayCome_95
        · refine lv_iconst (v := zI (1)) F.x F.b dX0_mayCome_90 (by decide +kernel) ?_
          refine lv_goto (tgt := 95) F.x F.b dX0_mayCome_91 (by decide) ?_
          have e : so = 2 := by omega
          subst e
          exact CtX.zret F hH (by omega) (⟨ko_ans1 (ko_may2.mpr (by omega)), rfl⟩) dX0_mayCome_95
    · refine lv_iload_n F.x F.b dX0_mayCome_45 rfl (lv_at hl 2 rfl) ?_
      refine lv_aload_n F.x F.b dX0_mayCome_46 rfl (lv_at hl 0 rfl) ?_
      refine getX F hH 1 (by decide) q72 rfl (v := .int (zI (n))) rfl dX0_mayCome_47 ?_
      refine zr_icmp_ge (tgt := 69) F.x F.b dX0_mayCome_50 (by decide) (by omega) (by omega) (fun c50 => ?_) (fun c50 => ?_)
      · refine lv_iconst (v := zI (0)) F.x F.b dX0_mayCome_69 (by decide +kernel) ?_
        have e : so = 1 := by omega
        subst e
        exact CtX.zret F hH (by omega) (⟨ko_ans0 (fun h => absurd (ko_may1.mp h) (by omega)), rfl⟩) dX0_mayCome_70
      · refine lv_aload_n F.x F.b dX0_mayCome_53 rfl (lv_at hl 0 rfl) ?_
        refine lv_iload_n F.x F.b dX0_mayCome_54 rfl (lv_at hl 1 rfl) ?_
        have hb := ko_t1b h8 i
        refine CtX.call (n := 1) (cX_usedBefore l E so n ch L cu x o i (by omega) h8) F hH (lw_V q67 q69 qs7 q17 q70) (by decide +kernel) ⟨Nat.le_of_ble_eq_true rfl, Nat.le_of_ble_eq_true rfl⟩ rfl hl.1 rfl (Nat.le_of_ble_eq_true rfl) dX0_mayCome_55 ⟨Nat.le_refl _, Nat.le_refl _⟩ (fun z9 v9 H locs hp hH => ?_)
        obtain ⟨rfl, rfl⟩ := hp
        have hbt := ko_bitT hb hy
        refine lv_iload_n F.x F.b dX0_mayCome_58 rfl (lv_at hl 2 rfl) ?_
        refine lv_ishr F.x F.b dX0_mayCome_59 ?_
        refine zr_top (zI_shr y hy (ko_tau 1 x i) hb) ?_
        refine lv_iconst (v := zI (1)) F.x F.b dX0_mayCome_60 (by decide +kernel) ?_
        refine lv_iand F.x F.b dX0_mayCome_61 ?_
        refine zr_top (zI_and1 (ko_tau 1 x i / 2 ^ y) (Nat.lt_of_le_of_lt (Nat.div_le_self _ _) hb)) ?_
        refine zr_if_ne (tgt := 69) F.x F.b dX0_mayCome_62 (by decide) (by omega) (fun c62 => ?_) (fun c62 => ?_)
        · rcases hbt with ⟨hb1, hb2⟩ | ⟨hb1, hb2⟩
          · refine lv_iconst (v := zI (0)) F.x F.b dX0_mayCome_69 (by decide +kernel) ?_
            have e : so = 1 := by omega
            subst e
            exact CtX.zret F hH (by omega) (⟨ko_ans0 (fun h => absurd (ko_may1.mp h) (by rw [hb2]; simp)), rfl⟩) dX0_mayCome_70
          · exact absurd c62 (by omega)
        · rcases hbt with ⟨hb1, hb2⟩ | ⟨hb1, hb2⟩
          · exact absurd c62 (by omega)
          · refine lv_iconst (v := zI (1)) F.x F.b dX0_mayCome_65 (by decide +kernel) ?_
            refine lv_goto (tgt := 70) F.x F.b dX0_mayCome_66 (by decide) ?_
            have e : so = 1 := by omega
            subst e
            exact CtX.zret F hH (by omega) (⟨ko_ans1 (ko_may1.mpr (⟨by omega, hb2⟩)), rfl⟩) dX0_mayCome_70
  · refine lv_iload_n F.x F.b dX0_mayCome_7 rfl (lv_at hl 2 rfl) ?_
    refine lv_aload_n F.x F.b dX0_mayCome_8 rfl (lv_at hl 0 rfl) ?_
    refine getX F hH 1 (by decide) q72 rfl (v := .int (zI (n))) rfl dX0_mayCome_9 ?_
    refine zr_icmp_ge (tgt := 35) F.x F.b dX0_mayCome_12 (by decide) (by omega) (by omega) (fun c12 => ?_) (fun c12 => ?_)
    · refine lv_iconst (v := zI (0)) F.x F.b dX0_mayCome_35 (by decide +kernel) ?_
      have e : so = 0 := by omega
      subst e
      exact CtX.zret F hH (by omega) (⟨ko_ans0 (fun h => absurd (ko_may0.mp h) (by omega)), rfl⟩) dX0_mayCome_36
    · refine lv_iload_n F.x F.b dX0_mayCome_15 rfl (lv_at hl 1 rfl) ?_
      refine zr_if_eq (tgt := 31) F.x F.b dX0_mayCome_16 (by decide) (by omega) (fun c16 => ?_) (fun c16 => ?_)
      · refine lv_iconst (v := zI (1)) F.x F.b dX0_mayCome_31 (by decide +kernel) ?_
        refine lv_goto (tgt := 36) F.x F.b dX0_mayCome_32 (by decide) ?_
        have e : so = 0 := by omega
        subst e
        exact CtX.zret F hH (by omega) (⟨ko_ans1 (ko_may0.mpr (by omega)), rfl⟩) dX0_mayCome_36
      · refine lv_iload_n F.x F.b dX0_mayCome_19 rfl (lv_at hl 2 rfl) ?_
        refine lv_aload_n F.x F.b dX0_mayCome_20 rfl (lv_at hl 0 rfl) ?_
        refine getX F hH 5 (by decide) q76 rfl (v := .ref (E.1 5)) rfl dX0_mayCome_21 ?_
        refine lv_iload_n F.x F.b dX0_mayCome_24 rfl (lv_at hl 1 rfl) ?_
        refine lv_iconst (v := zI (1)) F.x F.b dX0_mayCome_25 (by decide +kernel) ?_
        refine zr_isub F.x F.b (((i - 1 : Nat) : Int)) dX0_mayCome_26 (by omega) ?_
        refine baldX F hH 1 (x) rfl (i - 1) (rfl) (by omega) dX0_mayCome_27 ?_
        have h8j := h8 (i - 1)
        refine zr_icmp_le (tgt := 35) F.x F.b dX0_mayCome_28 (by decide) (by omega) (by omega) (fun c28 => ?_) (fun c28 => ?_)
        · refine lv_iconst (v := zI (0)) F.x F.b dX0_mayCome_35 (by decide +kernel) ?_
          have e : so = 0 := by omega
          subst e
          exact CtX.zret F hH (by omega) (⟨ko_ans0 (fun h => absurd (ko_may0.mp h) (by omega)), rfl⟩) dX0_mayCome_36
        · refine lv_iconst (v := zI (1)) F.x F.b dX0_mayCome_31 (by decide +kernel) ?_
          refine lv_goto (tgt := 36) F.x F.b dX0_mayCome_32 (by decide) ?_
          have e : so = 0 := by omega
          subst e
          exact CtX.zret F hH (by omega) (⟨ko_ans1 (ko_may0.mpr (by omega)), rfl⟩) dX0_mayCome_36
end
section
set_option maxRecDepth 100000
set_option maxHeartbeats 4000000 in
/-- goingOn(i) -/
theorem cX_goingOn (l : Launch) (E : EX) (so n : Nat) (ch : Int) (L : Nat) (cu : Int) (x o : Nat → Nat) (i : Nat) (hc : ko_cfg so n L = true) (hi : i ≤ L) (h8 : ∀ j, x j < 8) (h3 : ko_pre so n i (ko_tau so x i)) : CtX l yX0_goingOn cX0_goingOn 5 (some .int) 1 24 E [.int (zI (i))] (so, n, ch, L, cu, x, o) (fun z v => z = ((ko_g so n L i (ko_tau so x i) : Nat) : Int) ∧ v = (so, n, ch, L, cu, x, o)) := by
  refine CtX.start (by decide +kernel) rfl ?_
  intro p e s0 m below meth c A F hH
  have hl := lv_entry ([.ref (E.1 0), .int (zI (i))]) (n := 5) (Nat.le_of_ble_eq_true rfl)
  rw [lg_entry_eq]
  generalize (lg_sl ([.ref (E.1 0), .int (zI (i))]) ++ List.replicate (5 - (lg_sl ([.ref (E.1 0), .int (zI (i))])).length) Slot.unset).toArray = ls at hl ⊢
  have hl : lv_has ls 5 [(0, .ref (E.1 0)), (1, .int (zI (i)))] := hl
  obtain ⟨k1, k2, k3, k4, k5, k6, k7, k8⟩ := ko_cfg_b hc
  have h0 := ko_t0i x i
  have hb2 := ko_t2b h8 i
  have hb4 := ko_t4b h8 i
  have h34 := ko_t34 x i
  refine lv_aload_n F.x F.b dX0_goingOn_0 rfl (lv_at hl 0 rfl) ?_
  refine getX F hH 3 (by decide) q74 rfl (v := .int (zI (L))) rfl dX0_goingOn_1 ?_
  refine lv_iload_n F.x F.b dX0_goingOn_4 rfl (lv_at hl 1 rfl) ?_
  refine zr_isub F.x F.b (((L - i : Nat) : Int)) dX0_goingOn_5 (by omega) ?_
  refine lv_istore_n (lv' := [(2, .int (zI (((L - i : Nat) : Int)))), (0, .ref (E.1 0)), (1, .int (zI (i)))]) F.x F.b dX0_goingOn_6 rfl hl (by decide) rfl (fun ls hl => ?_)
  refine lv_aload_n F.x F.b dX0_goingOn_7 rfl (lv_at hl 1 rfl) ?_
  refine getX F hH 0 (by decide) q71 rfl (v := .int (zI (so))) rfl dX0_goingOn_8 ?_
  refine lv_iconst (v := zI (1)) F.x F.b dX0_goingOn_11 (by decide +kernel) ?_
  refine zr_icmp_ne (tgt := 22) F.x F.b dX0_goingOn_12 (by decide) (by omega) (by omega) (fun c12 => ?_) (fun c12 => ?_)
  · refine lv_aload_n F.x F.b dX0_goingOn_22 rfl (lv_at hl 1 rfl) ?_
    refine getX F hH 0 (by decide) q71 rfl (v := .int (zI (so))) rfl dX0_goingOn_23 ?_
    refine lv_iconst (v := zI (2)) F.x F.b dX0_goingOn_26 (by decide +kernel) ?_
    refine zr_icmp_ne (tgt := 50) F.x F.b dX0_goingOn_27 (by decide) (by omega) (by omega) (fun c27 => ?_) (fun c27 => ?_)
    · refine lv_aload_n F.x F.b dX0_goingOn_50 rfl (lv_at hl 1 rfl) ?_
      refine getX F hH 0 (by decide) q71 rfl (v := .int (zI (so))) rfl dX0_goingOn_51 ?_
      refine zr_if_ne (tgt := 105) F.x F.b dX0_goingOn_54 (by decide) (by omega) (fun c54 => ?_) (fun c54 => ?_)
      · refine lv_aload_n F.x F.b dX0_goingOn_105 rfl (lv_at hl 1 rfl) ?_
        refine lv_iload_n F.x F.b dX0_goingOn_106 rfl (lv_at hl 2 rfl) ?_
        refine CtX.call (n := 1) (cX_sumBefore l E so n ch L cu x o i (by omega) h8) F hH (lw_V q47 q49 qs3 q17 q50) (by decide +kernel) ⟨Nat.le_of_ble_eq_true rfl, Nat.le_of_ble_eq_true rfl⟩ rfl hl.1 rfl (Nat.le_of_ble_eq_true rfl) dX0_goingOn_107 ⟨Nat.le_refl _, Nat.le_refl _⟩ (fun z9 v9 H locs hp hH => ?_)
        obtain ⟨rfl, rfl⟩ := hp
        refine lv_istore_n (lv' := [(3, .int (zI (((ko_tau 4 x i : Nat) : Int)))), (2, .int (zI (((L - i : Nat) : Int)))), (0, .ref (E.1 0)), (1, .int (zI (i)))]) F.x F.b dX0_goingOn_110 rfl hl (by decide) rfl (fun ls hl => ?_)
        refine lv_aload_n F.x F.b dX0_goingOn_111 rfl (lv_at hl 2 rfl) ?_
        refine getX F hH 0 (by decide) q71 rfl (v := .int (zI (so))) rfl dX0_goingOn_112 ?_
        refine lv_iconst (v := zI (3)) F.x F.b dX0_goingOn_115 (by decide +kernel) ?_
        refine zr_icmp_ne (tgt := 143) F.x F.b dX0_goingOn_116 (by decide) (by omega) (by omega) (fun c116 => ?_) (fun c116 => ?_)
        · have e : so = 4 := by omega
          subst e
          have k9 := k5 (by omega)
          refine lv_aload_n F.x F.b dX0_goingOn_143 rfl (lv_at hl 2 rfl) ?_
          refine getX F hH 1 (by decide) q72 rfl (v := .int (zI (n))) rfl dX0_goingOn_144 ?_
          refine lv_iload_n F.x F.b dX0_goingOn_147 rfl (lv_at hl 0 rfl) ?_
          refine zr_isub F.x F.b ((n : Int) - ((ko_tau 4 x i : Nat) : Int)) dX0_goingOn_148 (rfl) ?_
          refine lv_istore (lv' := [(4, .int (zI ((n : Int) - ((ko_tau 4 x i : Nat) : Int)))), (3, .int (zI (((ko_tau 4 x i : Nat) : Int)))), (2, .int (zI (((L - i : Nat) : Int)))), (0, .ref (E.1 0)), (1, .int (zI (i)))]) F.x F.b dX0_goingOn_149 hl (by decide) rfl (fun ls hl => ?_)
          refine lv_iload F.x F.b dX0_goingOn_151 (lv_at hl 0 rfl) ?_
          refine zr_if_lt (tgt := 165) F.x F.b dX0_goingOn_153 (by decide) (by omega) (fun c153 => ?_) (fun c153 => ?_)
          · refine lv_iconst (v := zI (0)) F.x F.b dX0_goingOn_165 (by decide +kernel) ?_
            exact CtX.iret F hH (⟨by show _ = (((if n < ko_tau 4 x i then 0 else if L = i then (if ko_tau 4 x i = n then 1 else 0) else ko_ways (n - ko_tau 4 x i) (L - i - 1) : Nat)) : Int); rw [if_pos (by omega)]; rfl, rfl⟩) dX0_goingOn_166
          · refine lv_iload_n F.x F.b dX0_goingOn_156 rfl (lv_at hl 2 rfl) ?_
            refine zr_if_ne (tgt := 167) F.x F.b dX0_goingOn_157 (by decide) (by omega) (fun c157 => ?_) (fun c157 => ?_)
            · refine lv_iload_n F.x F.b dX0_goingOn_167 rfl (lv_at hl 2 rfl) ?_
              refine zr_if_ne (tgt := 175) F.x F.b dX0_goingOn_168 (by decide) (by omega) (fun c168 => ?_) (fun c168 => ?_)
              · have e4 : (n : Int) - ((ko_tau 4 x i : Nat) : Int) = ((n - ko_tau 4 x i : Nat) : Int) := by omega
                rw [e4] at hl
                refine lv_aload_n F.x F.b dX0_goingOn_175 rfl (lv_at hl 3 rfl) ?_
                refine lv_iload F.x F.b dX0_goingOn_176 (lv_at hl 0 rfl) ?_
                refine lv_iload_n F.x F.b dX0_goingOn_178 rfl (lv_at hl 2 rfl) ?_
                refine CtX.call (n := 2) (cX_waysToSplit l E 4 n ch L cu x o (n - ko_tau 4 x i) (L - i) (by omega) (by omega) (by omega)) F hH (lw_V q51 q53 qs4 q17 q54) (by decide +kernel) ⟨Nat.le_of_ble_eq_true rfl, Nat.le_of_ble_eq_true rfl⟩ rfl hl.1 rfl (Nat.le_of_ble_eq_true rfl) dX0_goingOn_179 ⟨Nat.le_refl _, Nat.le_refl _⟩ (fun z9 v9 H locs hp hH => ?_)
                obtain ⟨rfl, rfl⟩ := hp
                exact CtX.iret F hH (⟨by show _ = (((if n < ko_tau 4 x i then 0 else if L = i then (if ko_tau 4 x i = n then 1 else 0) else ko_ways (n - ko_tau 4 x i) (L - i - 1) : Nat)) : Int); rw [if_neg (by omega), if_neg (by omega)], rfl⟩) dX0_goingOn_182
              · exact absurd c168 (by omega)
            · refine lv_iload F.x F.b dX0_goingOn_160 (lv_at hl 0 rfl) ?_
              refine zr_if_le (tgt := 167) F.x F.b dX0_goingOn_162 (by decide) (by omega) (fun c162 => ?_) (fun c162 => ?_)
              · refine lv_iload_n F.x F.b dX0_goingOn_167 rfl (lv_at hl 2 rfl) ?_
                refine zr_if_ne (tgt := 175) F.x F.b dX0_goingOn_168 (by decide) (by omega) (fun c168 => ?_) (fun c168 => ?_)
                · exact absurd c168 (by omega)
                · refine lv_iconst (v := zI (1)) F.x F.b dX0_goingOn_171 (by decide +kernel) ?_
                  refine lv_goto (tgt := 182) F.x F.b dX0_goingOn_172 (by decide) ?_
                  exact CtX.iret F hH (⟨by show _ = (((if n < ko_tau 4 x i then 0 else if L = i then (if ko_tau 4 x i = n then 1 else 0) else ko_ways (n - ko_tau 4 x i) (L - i - 1) : Nat)) : Int); rw [if_neg (by omega), if_pos (by omega), if_pos (by omega)]; rfl, rfl⟩) dX0_goingOn_182
              · refine lv_iconst (v := zI (0)) F.x F.b dX0_goingOn_165 (by decide +kernel) ?_
                exact CtX.iret F hH (⟨by show _ = (((if n < ko_tau 4 x i then 0 else if L = i then (if ko_tau 4 x i = n then 1 else 0) else ko_ways (n - ko_tau 4 x i) (L - i - 1) : Nat)) : Int); rw [if_neg (by omega), if_pos (by omega), if_neg (by omega)]; rfl, rfl⟩) dX0_goingOn_166
        · have e : so = 3 := by omega
          subst e
          have hp := h3 rfl
          rw [h34] at hp
          refine lv_aload_n F.x F.b dX0_goingOn_119 rfl (lv_at hl 2 rfl) ?_
          refine getX F hH 9 (by decide) q80 rfl (v := .ref (E.1 9)) rfl dX0_goingOn_120 ?_
          refine lv_bipush (v := zI (8)) F.x F.b dX0_goingOn_123 (by decide +kernel) ?_
          refine lv_aload_n F.x F.b dX0_goingOn_125 rfl (lv_at hl 2 rfl) ?_
          refine getX F hH 1 (by decide) q72 rfl (v := .int (zI (n))) rfl dX0_goingOn_126 ?_
          refine lv_iload_n F.x F.b dX0_goingOn_129 rfl (lv_at hl 3 rfl) ?_
          refine zr_isub F.x F.b ((n : Int) - i) dX0_goingOn_130 (rfl) ?_
          refine lv_iload_n F.x F.b dX0_goingOn_131 rfl (lv_at hl 0 rfl) ?_
          refine zr_iadd F.x F.b (((n + ko_tau 4 x i - i : Nat) : Int)) dX0_goingOn_132 (by omega) ?_
          refine zr_imul F.x F.b (((8 * (n + ko_tau 4 x i - i) : Nat) : Int)) dX0_goingOn_133 (by omega) ?_
          refine lv_aload_n F.x F.b dX0_goingOn_134 rfl (lv_at hl 2 rfl) ?_
          refine getX F hH 1 (by decide) q72 rfl (v := .int (zI (n))) rfl dX0_goingOn_135 ?_
          refine zr_iadd F.x F.b (((8 * (n + ko_tau 4 x i - i) + n : Nat) : Int)) dX0_goingOn_138 (by omega) ?_
          refine lv_iload_n F.x F.b dX0_goingOn_139 rfl (lv_at hl 0 rfl) ?_
          refine zr_isub F.x F.b (((8 * (n + ko_tau 4 x i - i) + (n - ko_tau 4 x i) : Nat) : Int)) dX0_goingOn_140 (by omega) ?_
          refine ialdX F hH 5 (ko_N) rfl (8 * (n + ko_tau 4 x i - i) + (n - ko_tau 4 x i)) (rfl) (by omega) (by decide) dX0_goingOn_141 ?_
          exact CtX.iret F hH (⟨by rw [h34]; rfl, rfl⟩) dX0_goingOn_142
      · have k9 := k5 (by omega)
        refine lv_iload_n F.x F.b dX0_goingOn_57 rfl (lv_at hl 2 rfl) ?_
        refine zr_if_ne (tgt := 68) F.x F.b dX0_goingOn_58 (by decide) (by omega) (fun c58 => ?_) (fun c58 => ?_)
        · have h8j := h8 (i - 1)
          refine lv_aload_n F.x F.b dX0_goingOn_68 rfl (lv_at hl 1 rfl) ?_
          refine getX F hH 1 (by decide) q72 rfl (v := .int (zI (n))) rfl dX0_goingOn_69 ?_
          refine lv_iconst (v := zI (1)) F.x F.b dX0_goingOn_72 (by decide +kernel) ?_
          refine zr_isub F.x F.b ((n) - (1)) dX0_goingOn_73 (rfl) ?_
          refine lv_aload_n F.x F.b dX0_goingOn_74 rfl (lv_at hl 1 rfl) ?_
          refine getX F hH 5 (by decide) q76 rfl (v := .ref (E.1 5)) rfl dX0_goingOn_75 ?_
          refine lv_iload_n F.x F.b dX0_goingOn_78 rfl (lv_at hl 2 rfl) ?_
          refine lv_iconst (v := zI (1)) F.x F.b dX0_goingOn_79 (by decide +kernel) ?_
          refine zr_isub F.x F.b (((i - 1 : Nat) : Int)) dX0_goingOn_80 (by omega) ?_
          refine baldX F hH 1 (x) rfl (i - 1) (rfl) (by omega) dX0_goingOn_81 ?_
          refine zr_isub F.x F.b ((n : Int) - ((ko_tau 0 x i : Nat) : Int)) dX0_goingOn_82 (by omega) ?_
          refine lv_istore_n (lv' := [(3, .int (zI ((n : Int) - ((ko_tau 0 x i : Nat) : Int)))), (2, .int (zI (((L - i : Nat) : Int)))), (0, .ref (E.1 0)), (1, .int (zI (i)))]) F.x F.b dX0_goingOn_83 rfl hl (by decide) rfl (fun ls hl => ?_)
          refine lv_iload_n F.x F.b dX0_goingOn_84 rfl (lv_at hl 1 rfl) ?_
          refine lv_iload_n F.x F.b dX0_goingOn_85 rfl (lv_at hl 0 rfl) ?_
          refine zr_icmp_le (tgt := 93) F.x F.b dX0_goingOn_86 (by decide) (by omega) (by omega) (fun c86 => ?_) (fun c86 => ?_)
          · refine lv_aload_n F.x F.b dX0_goingOn_93 rfl (lv_at hl 2 rfl) ?_
            refine getX F hH 7 (by decide) q78 rfl (v := .ref (E.1 7)) rfl dX0_goingOn_94 ?_
            refine lv_bipush (v := zI (8)) F.x F.b dX0_goingOn_97 (by decide +kernel) ?_
            refine lv_iload_n F.x F.b dX0_goingOn_99 rfl (lv_at hl 0 rfl) ?_
            refine zr_imul F.x F.b (((8 * (n - ko_tau 0 x i) : Nat) : Int)) dX0_goingOn_100 (by omega) ?_
            refine lv_iload_n F.x F.b dX0_goingOn_101 rfl (lv_at hl 1 rfl) ?_
            refine zr_iadd F.x F.b (((8 * (n - ko_tau 0 x i) + (L - i) : Nat) : Int)) dX0_goingOn_102 (by omega) ?_
            refine ialdX F hH 3 (ko_B) rfl (8 * (n - ko_tau 0 x i) + (L - i)) (rfl) (by omega) (by decide) dX0_goingOn_103 ?_
            have e : so = 0 := by omega
            subst e
            exact CtX.iret F hH (⟨by show _ = (((if n < (L - i) + ko_tau 0 x i then 0 else ko_B (8 * (n - ko_tau 0 x i) + (L - i)) : Nat)) : Int); rw [if_neg (by omega)], rfl⟩) dX0_goingOn_104
          · refine lv_iconst (v := zI (0)) F.x F.b dX0_goingOn_89 (by decide +kernel) ?_
            refine lv_goto (tgt := 104) F.x F.b dX0_goingOn_90 (by decide) ?_
            have e : so = 0 := by omega
            subst e
            exact CtX.iret F hH (⟨by show _ = (((if n < (L - i) + ko_tau 0 x i then 0 else ko_B (8 * (n - ko_tau 0 x i) + (L - i)) : Nat)) : Int); rw [if_pos (by omega)]; rfl, rfl⟩) dX0_goingOn_104
        · refine lv_aload_n F.x F.b dX0_goingOn_61 rfl (lv_at hl 1 rfl) ?_
          refine getX F hH 1 (by decide) q72 rfl (v := .int (zI (n))) rfl dX0_goingOn_62 ?_
          refine lv_goto (tgt := 83) F.x F.b dX0_goingOn_65 (by decide) ?_
          refine zr_top (y := zI ((n : Int) - ((ko_tau 0 x i : Nat) : Int))) (by congr 1; omega) ?_
          refine lv_istore_n (lv' := [(3, .int (zI ((n : Int) - ((ko_tau 0 x i : Nat) : Int)))), (2, .int (zI (((L - i : Nat) : Int)))), (0, .ref (E.1 0)), (1, .int (zI (i)))]) F.x F.b dX0_goingOn_83 rfl hl (by decide) rfl (fun ls hl => ?_)
          refine lv_iload_n F.x F.b dX0_goingOn_84 rfl (lv_at hl 1 rfl) ?_
          refine lv_iload_n F.x F.b dX0_goingOn_85 rfl (lv_at hl 0 rfl) ?_
          refine zr_icmp_le (tgt := 93) F.x F.b dX0_goingOn_86 (by decide) (by omega) (by omega) (fun c86 => ?_) (fun c86 => ?_)
          · refine lv_aload_n F.x F.b dX0_goingOn_93 rfl (lv_at hl 2 rfl) ?_
            refine getX F hH 7 (by decide) q78 rfl (v := .ref (E.1 7)) rfl dX0_goingOn_94 ?_
            refine lv_bipush (v := zI (8)) F.x F.b dX0_goingOn_97 (by decide +kernel) ?_
            refine lv_iload_n F.x F.b dX0_goingOn_99 rfl (lv_at hl 0 rfl) ?_
            refine zr_imul F.x F.b (((8 * (n - ko_tau 0 x i) : Nat) : Int)) dX0_goingOn_100 (by omega) ?_
            refine lv_iload_n F.x F.b dX0_goingOn_101 rfl (lv_at hl 1 rfl) ?_
            refine zr_iadd F.x F.b (((8 * (n - ko_tau 0 x i) + (L - i) : Nat) : Int)) dX0_goingOn_102 (by omega) ?_
            refine ialdX F hH 3 (ko_B) rfl (8 * (n - ko_tau 0 x i) + (L - i)) (rfl) (by omega) (by decide) dX0_goingOn_103 ?_
            have e : so = 0 := by omega
            subst e
            exact CtX.iret F hH (⟨by show _ = (((if n < (L - i) + ko_tau 0 x i then 0 else ko_B (8 * (n - ko_tau 0 x i) + (L - i)) : Nat)) : Int); rw [if_neg (by omega)], rfl⟩) dX0_goingOn_104
          · refine lv_iconst (v := zI (0)) F.x F.b dX0_goingOn_89 (by decide +kernel) ?_
            refine lv_goto (tgt := 104) F.x F.b dX0_goingOn_90 (by decide) ?_
            have e : so = 0 := by omega
            subst e
            exact CtX.iret F hH (⟨by show _ = (((if n < (L - i) + ko_tau 0 x i then 0 else ko_B (8 * (n - ko_tau 0 x i) + (L - i)) : Nat)) : Int); rw [if_pos (by omega)]; rfl, rfl⟩) dX0_goingOn_104
    · have k9 := k8 (by omega)
      refine lv_aload_n F.x F.b dX0_goingOn_30 rfl (lv_at hl 1 rfl) ?_
      refine lv_iload_n F.x F.b dX0_goingOn_31 rfl (lv_at hl 2 rfl) ?_
      refine CtX.call (n := 1) (cX_greatestBefore l E so n ch L cu x o i (by omega) h8) F hH (lw_V q43 q45 qs2 q17 q46) (by decide +kernel) ⟨Nat.le_of_ble_eq_true rfl, Nat.le_of_ble_eq_true rfl⟩ rfl hl.1 rfl (Nat.le_of_ble_eq_true rfl) dX0_goingOn_32 ⟨Nat.le_refl _, Nat.le_refl _⟩ (fun z9 v9 H locs hp hH => ?_)
      obtain ⟨rfl, rfl⟩ := hp
      refine lv_iconst (v := zI (1)) F.x F.b dX0_goingOn_35 (by decide +kernel) ?_
      refine zr_iadd F.x F.b (((ko_tau 2 x i : Nat) : Int)) dX0_goingOn_36 (by omega) ?_
      refine lv_istore_n (lv' := [(3, .int (zI (((ko_tau 2 x i : Nat) : Int)))), (2, .int (zI (((L - i : Nat) : Int)))), (0, .ref (E.1 0)), (1, .int (zI (i)))]) F.x F.b dX0_goingOn_37 rfl hl (by decide) rfl (fun ls hl => ?_)
      refine lv_aload_n F.x F.b dX0_goingOn_38 rfl (lv_at hl 2 rfl) ?_
      refine getX F hH 8 (by decide) q79 rfl (v := .ref (E.1 8)) rfl dX0_goingOn_39 ?_
      refine lv_bipush (v := zI (16)) F.x F.b dX0_goingOn_42 (by decide +kernel) ?_
      refine lv_iload_n F.x F.b dX0_goingOn_44 rfl (lv_at hl 1 rfl) ?_
      refine zr_imul F.x F.b (((16 * (L - i) : Nat) : Int)) dX0_goingOn_45 (by omega) ?_
      refine lv_iload_n F.x F.b dX0_goingOn_46 rfl (lv_at hl 0 rfl) ?_
      refine zr_iadd F.x F.b (((16 * (L - i) + ko_tau 2 x i : Nat) : Int)) dX0_goingOn_47 (by omega) ?_
      refine ialdX F hH 4 (ko_G) rfl (16 * (L - i) + ko_tau 2 x i) (rfl) (by omega) (by decide) dX0_goingOn_48 ?_
      have e : so = 2 := by omega
      subst e
      exact CtX.iret F hH (⟨rfl, rfl⟩) dX0_goingOn_49
  · have k9 := k7 (by omega)
    refine lv_aload_n F.x F.b dX0_goingOn_15 rfl (lv_at hl 1 rfl) ?_
    refine getX F hH 10 (by decide) q81 rfl (v := .ref (E.1 10)) rfl dX0_goingOn_16 ?_
    refine lv_iload_n F.x F.b dX0_goingOn_19 rfl (lv_at hl 0 rfl) ?_
    refine ialdX F hH 6 (ko_F) rfl (L - i) (rfl) (by omega) (by decide) dX0_goingOn_20 ?_
    have e : so = 1 := by omega
    subst e
    exact CtX.iret F hH (⟨rfl, rfl⟩) dX0_goingOn_21

set_option maxHeartbeats 4000000 in
/-- withItem(i, y) -/
theorem cX_withItem (l : Launch) (E : EX) (so n : Nat) (ch : Int) (L : Nat) (cu : Int) (x o : Nat → Nat) (i y : Nat) (hc : ko_cfg so n L = true) (hi : i < L) (hy : y < 8) (h8 : ∀ j, x j < 8) (h3 : ko_pre so n i (ko_tau so x i)) : CtX l yX0_withItem cX0_withItem 5 (some .int) 2 48 E [.int (zI (i)), .int (zI (y))] (so, n, ch, L, cu, x, o) (fun z v => z = ((ko_wi so n L i (ko_tau so x i) y : Nat) : Int) ∧ v = (so, n, ch, L, cu, x, o)) := by
  refine CtX.start (by decide +kernel) rfl ?_
  intro p e s0 m below meth c A F hH
  have hl := lv_entry ([.ref (E.1 0), .int (zI (i)), .int (zI (y))]) (n := 5) (Nat.le_of_ble_eq_true rfl)
  rw [lg_entry_eq]
  generalize (lg_sl ([.ref (E.1 0), .int (zI (i)), .int (zI (y))]) ++ List.replicate (5 - (lg_sl ([.ref (E.1 0), .int (zI (i)), .int (zI (y))])).length) Slot.unset).toArray = ls at hl ⊢
  have hl : lv_has ls 5 [(0, .ref (E.1 0)), (1, .int (zI (i))), (2, .int (zI (y)))] := hl
  obtain ⟨k1, k2, k3, k4, k5, k6, k7, k8⟩ := ko_cfg_b hc
  refine lv_aload_n F.x F.b dX0_withItem_0 rfl (lv_at hl 0 rfl) ?_
  refine lv_iload_n F.x F.b dX0_withItem_1 rfl (lv_at hl 1 rfl) ?_
  refine lv_iload_n F.x F.b dX0_withItem_2 rfl (lv_at hl 2 rfl) ?_
  refine CtX.call (n := 2) (cX_mayCome l E so n ch L cu x o i y (by omega) (by omega) (by omega) hy h8) F hH (lw_V q63 q65 qs6 q17 q66) (by decide +kernel) ⟨Nat.le_of_ble_eq_true rfl, Nat.le_of_ble_eq_true rfl⟩ rfl hl.1 rfl (Nat.le_of_ble_eq_true rfl) dX0_withItem_3 ⟨Nat.le_refl _, Nat.le_refl _⟩ (fun z9 v9 H locs hp hH => ?_)
  obtain ⟨rfl, rfl⟩ := hp
  by_cases hm : ko_may so n i (ko_tau so x i) y = true
  · rw [if_pos hm]
    refine zr_if_ne (tgt := 11) F.x F.b dX0_withItem_6 (by decide) (by omega) (fun c6 => ?_) (fun c6 => ?_)
    · have hxi := h8 i
      refine lv_aload_n F.x F.b dX0_withItem_11 rfl (lv_at hl 0 rfl) ?_
      refine getX F hH 5 (by decide) q76 rfl (v := .ref (E.1 5)) rfl dX0_withItem_12 ?_
      refine lv_iload_n F.x F.b dX0_withItem_15 rfl (lv_at hl 1 rfl) ?_
      refine baldX F hH 1 (x) rfl (i) (rfl) (by omega) dX0_withItem_16 ?_
      refine lv_istore_n (lv' := [(3, .int (zI (x (i)))), (0, .ref (E.1 0)), (1, .int (zI (i))), (2, .int (zI (y)))]) F.x F.b dX0_withItem_17 rfl hl (by decide) rfl (fun ls hl => ?_)
      refine lv_aload_n F.x F.b dX0_withItem_18 rfl (lv_at hl 1 rfl) ?_
      refine getX F hH 5 (by decide) q76 rfl (v := .ref (E.1 5)) rfl dX0_withItem_19 ?_
      refine lv_iload_n F.x F.b dX0_withItem_22 rfl (lv_at hl 2 rfl) ?_
      refine lv_iload_n F.x F.b dX0_withItem_23 rfl (lv_at hl 3 rfl) ?_
      refine zr_i2b F.x F.b dX0_withItem_24 (by omega) ?_
      refine bastX F hH 1 (x) rfl (i) (y) (rfl) (by omega) (rfl) (by omega) (so, n, ch, L, cu, (zU (x) (i) (y)), o) rfl dX0_withItem_25 (fun H locs hH => ?_)
      refine lv_aload_n F.x F.b dX0_withItem_26 rfl (lv_at hl 1 rfl) ?_
      refine lv_iload_n F.x F.b dX0_withItem_27 rfl (lv_at hl 2 rfl) ?_
      refine lv_iconst (v := zI (1)) F.x F.b dX0_withItem_28 (by decide +kernel) ?_
      refine zr_iadd F.x F.b (((i + 1 : Nat) : Int)) dX0_withItem_29 (by omega) ?_
      refine CtX.call (n := 1) (cX_goingOn l E so n ch L cu (zU x i y) o (i + 1) hc (by omega) (zU_8 h8 hy) (by rw [ko_tau_zU]; exact ko_pre_nx h3 hm)) F hH (lw_V q39 q41 qs1 q17 q42) (by decide +kernel) ⟨Nat.le_of_ble_eq_true rfl, Nat.le_of_ble_eq_true rfl⟩ rfl hl.1 rfl (Nat.le_of_ble_eq_true rfl) dX0_withItem_30 ⟨Nat.le_refl _, Nat.le_refl _⟩ (fun z9 v9 H locs hp hH => ?_)
      obtain ⟨rfl, rfl⟩ := hp
      refine lv_istore (lv' := [(4, .int (zI (((ko_g so n L (i + 1) (ko_tau so (zU x i y) (i + 1)) : Nat) : Int)))), (3, .int (zI (x (i)))), (0, .ref (E.1 0)), (1, .int (zI (i))), (2, .int (zI (y)))]) F.x F.b dX0_withItem_33 hl (by decide) rfl (fun ls hl => ?_)
      refine lv_aload_n F.x F.b dX0_withItem_35 rfl (lv_at hl 2 rfl) ?_
      refine getX F hH 5 (by decide) q76 rfl (v := .ref (E.1 5)) rfl dX0_withItem_36 ?_
      refine lv_iload_n F.x F.b dX0_withItem_39 rfl (lv_at hl 3 rfl) ?_
      refine lv_iload_n F.x F.b dX0_withItem_40 rfl (lv_at hl 1 rfl) ?_
      refine bastX F hH 1 ((zU (x) (i) (y))) rfl (i) (x i) (rfl) (by omega) (rfl) (by omega) (so, n, ch, L, cu, (zU ((zU (x) (i) (y))) (i) (x i)), o) rfl dX0_withItem_41 (fun H locs hH => ?_)
      refine lv_iload F.x F.b dX0_withItem_42 (lv_at hl 0 rfl) ?_
      rw [zU_back] at hH
      exact CtX.iret F hH (⟨by rw [ko_tau_zU]; unfold ko_wi; rw [if_pos hm], rfl⟩) dX0_withItem_44
    · exact absurd c6 (by omega)
  · rw [if_neg hm]
    refine zr_if_ne (tgt := 11) F.x F.b dX0_withItem_6 (by decide) (by omega) (fun c6 => ?_) (fun c6 => ?_)
    · exact absurd rfl c6
    · refine lv_iconst (v := zI (0)) F.x F.b dX0_withItem_9 (by decide +kernel) ?_
      exact CtX.iret F hH (⟨by unfold ko_wi; rw [if_neg hm]; rfl, rfl⟩) dX0_withItem_10
end
section
set_option maxRecDepth 100000
set_option maxHeartbeats 4000000 in
/-- count() -/
theorem cX_count (l : Launch) (E : EX) (so n : Nat) (ch : Int) (L : Nat) (cu : Int) (x o : Nat → Nat) (hc : ko_cfg so n L = true) (h8 : ∀ j, x j < 8) : CtX l yX0_count cX0_count 1 (some .int) 2 48 E [] (so, n, ch, L, cu, x, o) (fun w v => w = ((ko_g so n L 0 0 : Nat) : Int) ∧ v = (so, n, ch, L, cu, x, o)) := by
  refine CtX.start (by decide +kernel) rfl ?_
  intro p e s0 m below meth c A F hH
  have hl := lv_entry ([.ref (E.1 0)]) (n := 1) (Nat.le_of_ble_eq_true rfl)
  rw [lg_entry_eq]
  generalize (lg_sl ([.ref (E.1 0)]) ++ List.replicate (1 - (lg_sl ([.ref (E.1 0)])).length) Slot.unset).toArray = ls at hl ⊢
  have hl : lv_has ls 1 [(0, .ref (E.1 0))] := hl
  refine lv_aload_n F.x F.b dX0_count_0 rfl (lv_at hl 0 rfl) ?_
  refine lv_iconst (v := zI (0)) F.x F.b dX0_count_1 (by decide +kernel) ?_
  refine CtX.call (n := 1) (cX_goingOn l E so n ch L cu x o 0 hc (by omega) h8 (ko_pre_0 so n)) F hH (lw_V q39 q41 qs1 q17 q42) (by decide +kernel) ⟨Nat.le_of_ble_eq_true rfl, Nat.le_of_ble_eq_true rfl⟩ rfl hl.1 rfl (Nat.le_of_ble_eq_true rfl) dX0_count_2 ⟨Nat.le_refl _, Nat.le_refl _⟩ (fun z9 v9 H locs hp hH => ?_)
  obtain ⟨rfl, rfl⟩ := hp
  exact CtX.iret F hH (⟨rfl, rfl⟩) dX0_count_5

set_option maxHeartbeats 4000000 in
/-- number() -/
theorem cX_number (l : Launch) (E : EX) (so n : Nat) (ch : Int) (L : Nat) (cu : Int) (x o : Nat → Nat)  : CtX l yX0_number cX0_number 1 (some .int) 0 0 E [] (so, n, ch, L, cu, x, o) (fun w v => w = cu ∧ v = (so, n, ch, L, cu, x, o)) := by
  refine CtX.start (by decide +kernel) rfl ?_
  intro p e s0 m below meth c A F hH
  have hl := lv_entry ([.ref (E.1 0)]) (n := 1) (Nat.le_of_ble_eq_true rfl)
  rw [lg_entry_eq]
  generalize (lg_sl ([.ref (E.1 0)]) ++ List.replicate (1 - (lg_sl ([.ref (E.1 0)])).length) Slot.unset).toArray = ls at hl ⊢
  have hl : lv_has ls 1 [(0, .ref (E.1 0))] := hl
  refine lv_aload_n F.x F.b dX0_number_0 rfl (lv_at hl 0 rfl) ?_
  refine getX F hH 4 (by decide) q75 rfl (v := .int (zI (cu))) rfl dX0_number_1 ?_
  exact CtX.iret F hH (⟨rfl, rfl⟩) dX0_number_4

set_option maxHeartbeats 4000000 in
/-- item(z) -/
theorem cX_item (l : Launch) (E : EX) (so n : Nat) (ch : Int) (L : Nat) (cu : Int) (x o : Nat → Nat) (z : Int) (hc : ko_cfg so n L = true) (hcu : -2147483648 ≤ cu ∧ cu ≤ 2147483647) (hz : -2147483648 ≤ z ∧ z ≤ 2147483647) : CtX l yX0_item cX0_item 2 (some .int) 0 0 E [.int (zI (z))] (so, n, ch, L, cu, x, o) (fun w v => w = (if cu < 0 ∨ z < 0 ∨ (L : Int) ≤ z then -1 else ((x z.toNat : Nat) : Int)) ∧ v = (so, n, ch, L, cu, x, o)) := by
  refine CtX.start (by decide +kernel) rfl ?_
  intro p e s0 m below meth c A F hH
  have hl := lv_entry ([.ref (E.1 0), .int (zI (z))]) (n := 2) (Nat.le_of_ble_eq_true rfl)
  rw [lg_entry_eq]
  generalize (lg_sl ([.ref (E.1 0), .int (zI (z))]) ++ List.replicate (2 - (lg_sl ([.ref (E.1 0), .int (zI (z))])).length) Slot.unset).toArray = ls at hl ⊢
  have hl : lv_has ls 2 [(0, .ref (E.1 0)), (1, .int (zI (z)))] := hl
  obtain ⟨k1, k2, k3, k4, k5, k6, k7, k8⟩ := ko_cfg_b hc
  refine lv_aload_n F.x F.b dX0_item_0 rfl (lv_at hl 0 rfl) ?_
  refine getX F hH 4 (by decide) q75 rfl (v := .int (zI (cu))) rfl dX0_item_1 ?_
  refine zr_if_lt (tgt := 19) F.x F.b dX0_item_4 (by decide) (by omega) (fun c4 => ?_) (fun c4 => ?_)
  · refine lv_iconst (v := zI (-1)) F.x F.b dX0_item_19 (by decide +kernel) ?_
    refine lv_goto (tgt := 29) F.x F.b dX0_item_20 (by decide) ?_
    exact CtX.iret F hH (⟨(if_pos (by omega)).symm, rfl⟩) dX0_item_29
  · refine lv_iload_n F.x F.b dX0_item_7 rfl (lv_at hl 1 rfl) ?_
    refine zr_if_lt (tgt := 19) F.x F.b dX0_item_8 (by decide) (by omega) (fun c8 => ?_) (fun c8 => ?_)
    · refine lv_iconst (v := zI (-1)) F.x F.b dX0_item_19 (by decide +kernel) ?_
      refine lv_goto (tgt := 29) F.x F.b dX0_item_20 (by decide) ?_
      exact CtX.iret F hH (⟨(if_pos (by omega)).symm, rfl⟩) dX0_item_29
    · refine lv_iload_n F.x F.b dX0_item_11 rfl (lv_at hl 1 rfl) ?_
      refine lv_aload_n F.x F.b dX0_item_12 rfl (lv_at hl 0 rfl) ?_
      refine getX F hH 3 (by decide) q74 rfl (v := .int (zI (L))) rfl dX0_item_13 ?_
      refine zr_icmp_lt (tgt := 23) F.x F.b dX0_item_16 (by decide) (by omega) (by omega) (fun c16 => ?_) (fun c16 => ?_)
      · refine lv_aload_n F.x F.b dX0_item_23 rfl (lv_at hl 0 rfl) ?_
        refine getX F hH 5 (by decide) q76 rfl (v := .ref (E.1 5)) rfl dX0_item_24 ?_
        refine lv_iload_n F.x F.b dX0_item_27 rfl (lv_at hl 1 rfl) ?_
        refine baldX F hH 1 (x) rfl (z.toNat) (by omega) (by omega) dX0_item_28 ?_
        exact CtX.iret F hH (⟨(if_neg (by omega)).symm, rfl⟩) dX0_item_29
      · refine lv_iconst (v := zI (-1)) F.x F.b dX0_item_19 (by decide +kernel) ?_
        refine lv_goto (tgt := 29) F.x F.b dX0_item_20 (by decide) ?_
        exact CtX.iret F hH (⟨(if_pos (by omega)).symm, rfl⟩) dX0_item_29

set_option maxHeartbeats 4000000 in
/-- go(z) -/
theorem cX_go (l : Launch) (E : EX) (so n : Nat) (ch : Int) (L : Nat) (cu : Int) (x o : Nat → Nat) (z : Int) (hc : ko_cfg so n L = true) (h8 : ∀ j, x j < 8) (hz : -2147483648 ≤ z ∧ z ≤ 2147483647) : CtX l yX0_go cX0_go 7 (some .int) 3 72 E [.int (zI (z))] (so, n, ch, L, cu, x, o) (fun w v => (¬ (0 ≤ z ∧ z < (ko_g so n L 0 0 : Nat)) ∧ w = -1 ∧ v = (so, n, ch, L, cu, x, o)) ∨ (0 ≤ z ∧ z < (ko_g so n L 0 0 : Nat) ∧ w = z ∧ ∃ x2, ko_VP so n L x2 L ∧ ((ko_rk so n L x2 L : Nat) : Int) = z ∧ (∀ j, x2 j < 8) ∧ v = (so, n, ch, L, z, x2, o))) := by
  refine CtX.start (by decide +kernel) rfl ?_
  intro p e s0 m below meth c A F hH
  have hl := lv_entry ([.ref (E.1 0), .int (zI (z))]) (n := 7) (Nat.le_of_ble_eq_true rfl)
  rw [lg_entry_eq]
  generalize (lg_sl ([.ref (E.1 0), .int (zI (z))]) ++ List.replicate (7 - (lg_sl ([.ref (E.1 0), .int (zI (z))])).length) Slot.unset).toArray = ls at hl ⊢
  have hl : lv_has ls 7 [(0, .ref (E.1 0)), (1, .int (zI (z)))] := hl
  obtain ⟨k1, k2, k3, k4, k5, k6, k7, k8⟩ := ko_cfg_b hc
  have hle := ko_count_le hc
  refine lv_aload_n F.x F.b dX0_go_0 rfl (lv_at hl 0 rfl) ?_
  refine lv_iconst (v := zI (0)) F.x F.b dX0_go_1 (by decide +kernel) ?_
  refine CtX.call (n := 1) (cX_goingOn l E so n ch L cu x o 0 hc (by omega) h8 (ko_pre_0 so n)) F hH (lw_V q39 q41 qs1 q17 q42) (by decide +kernel) ⟨Nat.le_of_ble_eq_true rfl, Nat.le_of_ble_eq_true rfl⟩ rfl hl.1 rfl (Nat.le_of_ble_eq_true rfl) dX0_go_2 ⟨Nat.le_refl _, Nat.le_refl _⟩ (fun z9 v9 H locs hp hH => ?_)
  obtain ⟨rfl, rfl⟩ := hp
  refine zr_top (y := zI ((ko_g so n L 0 0 : Nat) : Int)) rfl ?_
  refine lv_istore_n (lv' := [(2, .int (zI (((ko_g so n L 0 0 : Nat) : Int)))), (0, .ref (E.1 0)), (1, .int (zI (z)))]) F.x F.b dX0_go_5 rfl hl (by decide) rfl (fun ls hl => ?_)
  refine lv_iload_n F.x F.b dX0_go_6 rfl (lv_at hl 2 rfl) ?_
  refine zr_if_lt (tgt := 15) F.x F.b dX0_go_7 (by decide) (by omega) (fun c7 => ?_) (fun c7 => ?_)
  · refine lv_iconst (v := zI (-1)) F.x F.b dX0_go_15 (by decide +kernel) ?_
    exact CtX.iret F hH (Or.inl ⟨by omega, rfl, rfl⟩) dX0_go_16
  · refine lv_iload_n F.x F.b dX0_go_10 rfl (lv_at hl 2 rfl) ?_
    refine lv_iload_n F.x F.b dX0_go_11 rfl (lv_at hl 0 rfl) ?_
    refine zr_icmp_lt (tgt := 17) F.x F.b dX0_go_12 (by decide) (by omega) (by omega) (fun c12 => ?_) (fun c12 => ?_)
    · obtain ⟨q, hq⟩ : ∃ q : Nat, z = q := ⟨z.toNat, by omega⟩
      have hlv := ko_live hc (by omega)
      refine lv_iload_n F.x F.b dX0_go_17 rfl (lv_at hl 2 rfl) ?_
      refine zr_top (y := zI (q : Int)) (by rw [hq]) ?_
      refine lv_istore_n (lv' := [(3, .int (zI (q))), (2, .int (zI (((ko_g so n L 0 0 : Nat) : Int)))), (0, .ref (E.1 0)), (1, .int (zI (z)))]) F.x F.b dX0_go_18 rfl hl (by decide) rfl (fun ls hl => ?_)
      refine lv_iconst (v := zI (0)) F.x F.b dX0_go_19 (by decide +kernel) ?_
      refine lv_istore (lv' := [(4, .int (zI (0))), (3, .int (zI (q))), (2, .int (zI (((ko_g so n L 0 0 : Nat) : Int)))), (0, .ref (E.1 0)), (1, .int (zI (z)))]) F.x F.b dX0_go_20 hl (by decide) rfl (fun ls hl => ?_)
      have loop : ∀ (k i : Nat), k + i = L → ∀ (y : Nat → Nat) (r : Nat), ko_VP so n L y i → ko_rk so n L y i + r = q → r < ko_g so n L i (ko_tau so y i) → (∀ j, y j < 8) → ∀ (H : Heap) (locs : List Loc), HX E s0 A (so, n, ch, L, cu, y, o) H locs → ∀ ls : Array Slot, lv_has ls 7 [(0, .ref (E.1 0)), (1, .int (zI (z))), (3, .int (zI (r))), (4, .int (zI (i)))] → W p l e (rmX 3 72) s0 m ([.ref (E.1 0), .int (zI (z))] : List Value).toArray below meth c H locs 0 0 (MQ below (QcX E A (fun w v => (¬ (0 ≤ z ∧ z < (ko_g so n L 0 0 : Nat)) ∧ w = -1 ∧ v = (so, n, ch, L, cu, x, o)) ∨ (0 ≤ z ∧ z < (ko_g so n L 0 0 : Nat) ∧ w = z ∧ ∃ x2, ko_VP so n L x2 L ∧ ((ko_rk so n L x2 L : Nat) : Int) = z ∧ (∀ j, x2 j < 8) ∧ v = (so, n, ch, L, z, x2, o)))) ([.ref (E.1 0), .int (zI (z))] : List Value).toArray s0 0 0 A) (F0 m 22 ls []) := by
        intro k
        induction k with
        | zero =>
          intro i hk y r hv hm hr h8y H locs hH ls hl
          refine lv_iload F.x F.b dX0_go_22 (lv_at hl 3 rfl) ?_
          refine lv_aload_n F.x F.b dX0_go_24 rfl (lv_at hl 0 rfl) ?_
          refine getX F hH 3 (by decide) q74 rfl (v := .int (zI (L))) rfl dX0_go_25 ?_
          refine zr_icmp_ge (tgt := 87) F.x F.b dX0_go_28 (by decide) (by omega) (by omega) (fun c28 => ?_) (fun c28 => ?_)
          · have e : i = L := by omega
            rw [e] at hv hm hr
            have h1 := ko_end_of hc hlv (ko_rch_VP hc hlv L (by omega) hv)
            refine lv_aload_n F.x F.b dX0_go_87 rfl (lv_at hl 0 rfl) ?_
            refine lv_iload_n F.x F.b dX0_go_88 rfl (lv_at hl 1 rfl) ?_
            refine putX F hH 4 (by decide) q75 ⟨rfl, rfl, by decide +kernel⟩ (so, n, ch, L, z, y, o) rfl dX0_go_89 (fun H locs hH => ?_)
            refine lv_iload_n F.x F.b dX0_go_92 rfl (lv_at hl 1 rfl) ?_
            exact CtX.iret F hH (Or.inr ⟨by omega, by omega, rfl, y, hv, by omega, h8y, rfl⟩) dX0_go_93
          · exact absurd c28 (by omega)
        | succ k ih =>
          intro i hk y r hv hm hr h8y H locs hH ls hl
          refine lv_iload F.x F.b dX0_go_22 (lv_at hl 3 rfl) ?_
          refine lv_aload_n F.x F.b dX0_go_24 rfl (lv_at hl 0 rfl) ?_
          refine getX F hH 3 (by decide) q74 rfl (v := .int (zI (L))) rfl dX0_go_25 ?_
          refine zr_icmp_ge (tgt := 87) F.x F.b dX0_go_28 (by decide) (by omega) (by omega) (fun c28 => ?_) (fun c28 => ?_)
          · exact absurd c28 (by omega)
          · have hrc := ko_rch_VP hc hlv i (by omega) hv
            have hgs := ko_g_sum hc (by omega) hrc
            have hwh := (ko_where hc hlv (by omega) hv).1
            rw [ko_objs_len hc] at hwh
            refine lv_iconst (v := zI (0)) F.x F.b dX0_go_31 (by decide +kernel) ?_
            refine lv_istore (lv' := [(5, .int (zI (0))), (0, .ref (E.1 0)), (1, .int (zI (z))), (3, .int (zI (r))), (4, .int (zI (i)))]) F.x F.b dX0_go_32 hl (by decide) rfl (fun ls hl => ?_)
            refine lv_aload_n F.x F.b dX0_go_34 rfl (lv_at hl 1 rfl) ?_
            refine lv_iload F.x F.b dX0_go_35 (lv_at hl 4 rfl) ?_
            refine lv_iload F.x F.b dX0_go_37 (lv_at hl 0 rfl) ?_
            refine CtX.call (n := 2) (cX_withItem l E so n ch L cu y o i 0 hc (by omega) (by omega) h8y (ko_pre_rch hrc)) F hH (lw_V q59 q61 qs5 q17 q62) (by decide +kernel) ⟨Nat.le_of_ble_eq_true rfl, Nat.le_of_ble_eq_true rfl⟩ rfl hl.1 rfl (Nat.le_of_ble_eq_true rfl) dX0_go_39 ⟨Nat.le_refl _, Nat.le_refl _⟩ (fun z9 v9 H locs hp hH => ?_)
            obtain ⟨rfl, rfl⟩ := hp
            refine lv_istore (lv' := [(6, .int (zI (((ko_wi so n L i (ko_tau so y i) (0) : Nat) : Int)))), (5, .int (zI (0))), (0, .ref (E.1 0)), (1, .int (zI (z))), (3, .int (zI (r))), (4, .int (zI (i)))]) F.x F.b dX0_go_42 hl (by decide) rfl (fun ls hl => ?_)
            have inner : ∀ (k2 yy : Nat), k2 + yy = 7 → ∀ r2 : Nat, ko_S so n L i (ko_tau so y i) yy + r2 = r → ∀ (H : Heap) (locs : List Loc), HX E s0 A (so, n, ch, L, cu, y, o) H locs → ∀ ls : Array Slot, lv_has ls 7 [(0, .ref (E.1 0)), (1, .int (zI (z))), (3, .int (zI (r2))), (4, .int (zI (i))), (5, .int (zI (yy))), (6, .int (zI (((ko_wi so n L i (ko_tau so y i) (yy) : Nat) : Int))))] → W p l e (rmX 3 72) s0 m ([.ref (E.1 0), .int (zI (z))] : List Value).toArray below meth c H locs 0 0 (MQ below (QcX E A (fun w v => (¬ (0 ≤ z ∧ z < (ko_g so n L 0 0 : Nat)) ∧ w = -1 ∧ v = (so, n, ch, L, cu, x, o)) ∨ (0 ≤ z ∧ z < (ko_g so n L 0 0 : Nat) ∧ w = z ∧ ∃ x2, ko_VP so n L x2 L ∧ ((ko_rk so n L x2 L : Nat) : Int) = z ∧ (∀ j, x2 j < 8) ∧ v = (so, n, ch, L, z, x2, o)))) ([.ref (E.1 0), .int (zI (z))] : List Value).toArray s0 0 0 A) (F0 m 44 ls []) := by
              intro k2
              induction k2 with
              | zero =>
                intro yy hk2 r2 hr2 H locs hH ls hl
                have hss := ko_S_s (s := so) (n := n) (L := L) (i := i) (t := ko_tau so y i) (m := yy)
                have hmo := ko_S_mono (s := so) (n := n) (L := L) (i := i) (t := ko_tau so y i) (show yy + 1 ≤ 8 by omega)
                refine lv_iload_n F.x F.b dX0_go_44 rfl (lv_at hl 2 rfl) ?_
                refine lv_iload F.x F.b dX0_go_45 (lv_at hl 5 rfl) ?_
                refine zr_icmp_lt (tgt := 71) F.x F.b dX0_go_47 (by decide) (by omega) (by omega) (fun c47 => ?_) (fun c47 => ?_)
                · obtain ⟨g1, g2, g3⟩ := ko_go_step hc hlv (by omega) hv (show yy < 8 by omega) (r := r2) (m := q) (by omega) (by omega)
                  refine lv_aload_n F.x F.b dX0_go_71 rfl (lv_at hl 0 rfl) ?_
                  refine getX F hH 5 (by decide) q76 rfl (v := .ref (E.1 5)) rfl dX0_go_72 ?_
                  refine lv_iload F.x F.b dX0_go_75 (lv_at hl 3 rfl) ?_
                  refine lv_iload F.x F.b dX0_go_77 (lv_at hl 4 rfl) ?_
                  refine zr_i2b F.x F.b dX0_go_79 (by omega) ?_
                  refine bastX F hH 1 (y) rfl (i) (yy) (rfl) (by omega) (rfl) (by omega) (so, n, ch, L, cu, (zU (y) (i) (yy)), o) rfl dX0_go_80 (fun H locs hH => ?_)
                  refine zr_iinc F.x F.b (((i + 1 : Nat) : Int)) (lv' := [(4, .int (zI (((i + 1 : Nat) : Int)))), (0, .ref (E.1 0)), (1, .int (zI (z))), (3, .int (zI (r2))), (5, .int (zI (yy))), (6, .int (zI (((ko_wi so n L i (ko_tau so y i) (yy) : Nat) : Int))))]) dX0_go_81 hl (k := 3) rfl (by omega) (by decide) rfl (fun ls hl => ?_)
                  refine lv_goto (tgt := 22) F.x F.b dX0_go_84 (by decide) ?_
                  exact ih (i + 1) (by omega) (zU y i yy) r2 g1 g2 g3 (zU_8 h8y (by omega)) H locs hH ls (lv_sub hl [1, 2, 3, 0] rfl)
                · have e7 : yy + 1 = 8 := by omega
                  rw [e7] at hss
                  exact absurd c47 (by omega)
              | succ k2 ih2 =>
                intro yy hk2 r2 hr2 H locs hH ls hl
                have hss := ko_S_s (s := so) (n := n) (L := L) (i := i) (t := ko_tau so y i) (m := yy)
                have hmo := ko_S_mono (s := so) (n := n) (L := L) (i := i) (t := ko_tau so y i) (show yy + 1 ≤ 8 by omega)
                refine lv_iload_n F.x F.b dX0_go_44 rfl (lv_at hl 2 rfl) ?_
                refine lv_iload F.x F.b dX0_go_45 (lv_at hl 5 rfl) ?_
                refine zr_icmp_lt (tgt := 71) F.x F.b dX0_go_47 (by decide) (by omega) (by omega) (fun c47 => ?_) (fun c47 => ?_)
                · obtain ⟨g1, g2, g3⟩ := ko_go_step hc hlv (by omega) hv (show yy < 8 by omega) (r := r2) (m := q) (by omega) (by omega)
                  refine lv_aload_n F.x F.b dX0_go_71 rfl (lv_at hl 0 rfl) ?_
                  refine getX F hH 5 (by decide) q76 rfl (v := .ref (E.1 5)) rfl dX0_go_72 ?_
                  refine lv_iload F.x F.b dX0_go_75 (lv_at hl 3 rfl) ?_
                  refine lv_iload F.x F.b dX0_go_77 (lv_at hl 4 rfl) ?_
                  refine zr_i2b F.x F.b dX0_go_79 (by omega) ?_
                  refine bastX F hH 1 (y) rfl (i) (yy) (rfl) (by omega) (rfl) (by omega) (so, n, ch, L, cu, (zU (y) (i) (yy)), o) rfl dX0_go_80 (fun H locs hH => ?_)
                  refine zr_iinc F.x F.b (((i + 1 : Nat) : Int)) (lv' := [(4, .int (zI (((i + 1 : Nat) : Int)))), (0, .ref (E.1 0)), (1, .int (zI (z))), (3, .int (zI (r2))), (5, .int (zI (yy))), (6, .int (zI (((ko_wi so n L i (ko_tau so y i) (yy) : Nat) : Int))))]) dX0_go_81 hl (k := 3) rfl (by omega) (by decide) rfl (fun ls hl => ?_)
                  refine lv_goto (tgt := 22) F.x F.b dX0_go_84 (by decide) ?_
                  exact ih (i + 1) (by omega) (zU y i yy) r2 g1 g2 g3 (zU_8 h8y (by omega)) H locs hH ls (lv_sub hl [1, 2, 3, 0] rfl)
                · refine lv_iload_n F.x F.b dX0_go_50 rfl (lv_at hl 2 rfl) ?_
                  refine lv_iload F.x F.b dX0_go_51 (lv_at hl 5 rfl) ?_
                  refine zr_isub F.x F.b (((r2 - ko_wi so n L i (ko_tau so y i) yy : Nat) : Int)) dX0_go_53 (by omega) ?_
                  refine lv_istore_n (lv' := [(3, .int (zI (((r2 - ko_wi so n L i (ko_tau so y i) yy : Nat) : Int)))), (0, .ref (E.1 0)), (1, .int (zI (z))), (4, .int (zI (i))), (5, .int (zI (yy))), (6, .int (zI (((ko_wi so n L i (ko_tau so y i) (yy) : Nat) : Int))))]) F.x F.b dX0_go_54 rfl hl (by decide) rfl (fun ls hl => ?_)
                  refine zr_iinc F.x F.b (((yy + 1 : Nat) : Int)) (lv' := [(5, .int (zI (((yy + 1 : Nat) : Int)))), (3, .int (zI (((r2 - ko_wi so n L i (ko_tau so y i) yy : Nat) : Int)))), (0, .ref (E.1 0)), (1, .int (zI (z))), (4, .int (zI (i))), (6, .int (zI (((ko_wi so n L i (ko_tau so y i) (yy) : Nat) : Int))))]) dX0_go_55 hl (k := 4) rfl (by omega) (by decide) rfl (fun ls hl => ?_)
                  refine lv_aload_n F.x F.b dX0_go_58 rfl (lv_at hl 2 rfl) ?_
                  refine lv_iload F.x F.b dX0_go_59 (lv_at hl 4 rfl) ?_
                  refine lv_iload F.x F.b dX0_go_61 (lv_at hl 0 rfl) ?_
                  refine CtX.call (n := 2) (cX_withItem l E so n ch L cu y o i (yy + 1) hc (by omega) (by omega) h8y (ko_pre_rch hrc)) F hH (lw_V q59 q61 qs5 q17 q62) (by decide +kernel) ⟨Nat.le_of_ble_eq_true rfl, Nat.le_of_ble_eq_true rfl⟩ rfl hl.1 rfl (Nat.le_of_ble_eq_true rfl) dX0_go_63 ⟨Nat.le_refl _, Nat.le_refl _⟩ (fun z9 v9 H locs hp hH => ?_)
                  obtain ⟨rfl, rfl⟩ := hp
                  refine lv_istore (lv' := [(6, .int (zI (((ko_wi so n L i (ko_tau so y i) (yy + 1) : Nat) : Int)))), (5, .int (zI (((yy + 1 : Nat) : Int)))), (3, .int (zI (((r2 - ko_wi so n L i (ko_tau so y i) yy : Nat) : Int)))), (0, .ref (E.1 0)), (1, .int (zI (z))), (4, .int (zI (i)))]) F.x F.b dX0_go_66 hl (by decide) rfl (fun ls hl => ?_)
                  refine lv_goto (tgt := 44) F.x F.b dX0_go_68 (by decide) ?_
                  exact ih2 (yy + 1) (by omega) (r2 - ko_wi so n L i (ko_tau so y i) yy) (by omega) H locs hH ls (lv_sub hl [3, 4, 2, 5, 1, 0] rfl)
            exact inner 7 0 (by omega) r (Nat.zero_add r) H locs hH ls (lv_sub hl [2, 3, 4, 5, 1, 0] rfl)
      exact loop L 0 (by omega) x q ko_VP_0 (Nat.zero_add q) (by show q < ko_g so n L 0 0; omega) h8 _ _ hH ls (lv_sub hl [3, 4, 1, 0] rfl)
    · refine lv_iconst (v := zI (-1)) F.x F.b dX0_go_15 (by decide +kernel) ?_
      exact CtX.iret F hH (Or.inl ⟨by omega, rfl, rfl⟩) dX0_go_16

set_option maxHeartbeats 4000000 in
/-- smallestAt(i) -/
theorem cX_smallestAt (l : Launch) (E : EX) (so n : Nat) (ch : Int) (L : Nat) (cu : Int) (x o : Nat → Nat) (i : Nat) (hc : ko_cfg so n L = true) (hi : i < L) (h8 : ∀ j, x j < 8) (hr : ko_rch so n L i (ko_tau so x i) = true) (hg : 0 < ko_g so n L i (ko_tau so x i)) (hgb : ko_g so n L i (ko_tau so x i) ≤ 2147483647) : CtX l yX0_smallestAt cX0_smallestAt 3 (some .int) 3 72 E [.int (zI (i))] (so, n, ch, L, cu, x, o) (fun w v => ∃ y : Nat, y < 8 ∧ w = (y : Int) ∧ 0 < ko_wi so n L i (ko_tau so x i) y ∧ ko_S so n L i (ko_tau so x i) y = 0 ∧ v = (so, n, ch, L, cu, x, o)) := by
  refine CtX.start (by decide +kernel) rfl ?_
  intro p e s0 m below meth c A F hH
  have hl := lv_entry ([.ref (E.1 0), .int (zI (i))]) (n := 3) (Nat.le_of_ble_eq_true rfl)
  rw [lg_entry_eq]
  generalize (lg_sl ([.ref (E.1 0), .int (zI (i))]) ++ List.replicate (3 - (lg_sl ([.ref (E.1 0), .int (zI (i))])).length) Slot.unset).toArray = ls at hl ⊢
  have hl : lv_has ls 3 [(0, .ref (E.1 0)), (1, .int (zI (i)))] := hl
  obtain ⟨k1, k2, k3, k4, k5, k6, k7, k8⟩ := ko_cfg_b hc
  have hgs := ko_g_sum hc hi hr
  refine lv_iconst (v := zI (0)) F.x F.b dX0_smallestAt_0 (by decide +kernel) ?_
  refine lv_istore_n (lv' := [(2, .int (zI (0))), (0, .ref (E.1 0)), (1, .int (zI (i)))]) F.x F.b dX0_smallestAt_1 rfl hl (by decide) rfl (fun ls hl => ?_)
  have hgb : ko_g so n L i (ko_tau so x i) ≤ 2147483647 := hgb
  have loop : ∀ (k yy : Nat), k + yy = 7 → ko_S so n L i (ko_tau so x i) yy = 0 → ∀ (H : Heap) (locs : List Loc), HX E s0 A (so, n, ch, L, cu, x, o) H locs → ∀ ls : Array Slot, lv_has ls 3 [(0, .ref (E.1 0)), (1, .int (zI (i))), (2, .int (zI (yy)))] → W p l e (rmX 3 72) s0 m ([.ref (E.1 0), .int (zI (i))] : List Value).toArray below meth c H locs 0 0 (MQ below (QcX E A (fun w v => ∃ y : Nat, y < 8 ∧ w = (y : Int) ∧ 0 < ko_wi so n L i (ko_tau so x i) y ∧ ko_S so n L i (ko_tau so x i) y = 0 ∧ v = (so, n, ch, L, cu, x, o))) ([.ref (E.1 0), .int (zI (i))] : List Value).toArray s0 0 0 A) (F0 m 2 ls []) := by
    intro k
    induction k with
    | zero =>
      intro yy hk hS H locs hH ls hl
      have hss := ko_S_s (s := so) (n := n) (L := L) (i := i) (t := ko_tau so x i) (m := yy)
      have hmo := ko_S_mono (s := so) (n := n) (L := L) (i := i) (t := ko_tau so x i) (show yy + 1 ≤ 8 by omega)
      have hwb : ko_wi so n L i (ko_tau so x i) yy ≤ ko_g so n L i (ko_tau so x i) := by omega
      refine lv_aload_n F.x F.b dX0_smallestAt_2 rfl (lv_at hl 0 rfl) ?_
      refine lv_iload_n F.x F.b dX0_smallestAt_3 rfl (lv_at hl 1 rfl) ?_
      refine lv_iload_n F.x F.b dX0_smallestAt_4 rfl (lv_at hl 2 rfl) ?_
      refine CtX.call (n := 2) (cX_withItem l E so n ch L cu x o i yy hc hi (by omega) h8 (ko_pre_rch hr)) F hH (lw_V q59 q61 qs5 q17 q62) (by decide +kernel) ⟨Nat.le_of_ble_eq_true rfl, Nat.le_of_ble_eq_true rfl⟩ rfl hl.1 rfl (Nat.le_of_ble_eq_true rfl) dX0_smallestAt_5 ⟨Nat.le_refl _, Nat.le_refl _⟩ (fun z9 v9 H locs hp hH => ?_)
      obtain ⟨rfl, rfl⟩ := hp
      refine zr_if_ne (tgt := 17) F.x F.b dX0_smallestAt_8 (by decide) (by omega) (fun c8 => ?_) (fun c8 => ?_)
      · refine lv_iload_n F.x F.b dX0_smallestAt_17 rfl (lv_at hl 2 rfl) ?_
        exact CtX.iret F hH (⟨yy, by omega, rfl, by omega, hS, rfl⟩) dX0_smallestAt_18
      · have e7 : yy + 1 = 8 := by omega
        rw [e7] at hss
        exact absurd c8 (by omega)
    | succ k ih =>
      intro yy hk hS H locs hH ls hl
      have hss := ko_S_s (s := so) (n := n) (L := L) (i := i) (t := ko_tau so x i) (m := yy)
      have hmo := ko_S_mono (s := so) (n := n) (L := L) (i := i) (t := ko_tau so x i) (show yy + 1 ≤ 8 by omega)
      have hwb : ko_wi so n L i (ko_tau so x i) yy ≤ ko_g so n L i (ko_tau so x i) := by omega
      refine lv_aload_n F.x F.b dX0_smallestAt_2 rfl (lv_at hl 0 rfl) ?_
      refine lv_iload_n F.x F.b dX0_smallestAt_3 rfl (lv_at hl 1 rfl) ?_
      refine lv_iload_n F.x F.b dX0_smallestAt_4 rfl (lv_at hl 2 rfl) ?_
      refine CtX.call (n := 2) (cX_withItem l E so n ch L cu x o i yy hc hi (by omega) h8 (ko_pre_rch hr)) F hH (lw_V q59 q61 qs5 q17 q62) (by decide +kernel) ⟨Nat.le_of_ble_eq_true rfl, Nat.le_of_ble_eq_true rfl⟩ rfl hl.1 rfl (Nat.le_of_ble_eq_true rfl) dX0_smallestAt_5 ⟨Nat.le_refl _, Nat.le_refl _⟩ (fun z9 v9 H locs hp hH => ?_)
      obtain ⟨rfl, rfl⟩ := hp
      refine zr_if_ne (tgt := 17) F.x F.b dX0_smallestAt_8 (by decide) (by omega) (fun c8 => ?_) (fun c8 => ?_)
      · refine lv_iload_n F.x F.b dX0_smallestAt_17 rfl (lv_at hl 2 rfl) ?_
        exact CtX.iret F hH (⟨yy, by omega, rfl, by omega, hS, rfl⟩) dX0_smallestAt_18
      · refine zr_iinc F.x F.b (((yy + 1 : Nat) : Int)) (lv' := [(2, .int (zI (((yy + 1 : Nat) : Int)))), (0, .ref (E.1 0)), (1, .int (zI (i)))]) dX0_smallestAt_11 hl (k := 2) rfl (by omega) (by decide) rfl (fun ls hl => ?_)
        refine lv_goto (tgt := 2) F.x F.b dX0_smallestAt_14 (by decide) ?_
        exact ih (yy + 1) (by omega) (by omega) H locs hH ls (lv_sub hl [1, 2, 0] rfl)
  exact loop 7 0 (by omega) rfl _ _ hH ls (lv_sub hl [1, 2, 0] rfl)

set_option maxHeartbeats 4000000 in
/-- greatestAt(i) -/
theorem cX_greatestAt (l : Launch) (E : EX) (so n : Nat) (ch : Int) (L : Nat) (cu : Int) (x o : Nat → Nat) (i : Nat) (hc : ko_cfg so n L = true) (hi : i < L) (h8 : ∀ j, x j < 8) (hr : ko_rch so n L i (ko_tau so x i) = true) (hg : 0 < ko_g so n L i (ko_tau so x i)) (hgb : ko_g so n L i (ko_tau so x i) ≤ 2147483647) : CtX l yX0_greatestAt cX0_greatestAt 3 (some .int) 3 72 E [.int (zI (i))] (so, n, ch, L, cu, x, o) (fun w v => ∃ y : Nat, y < 8 ∧ w = (y : Int) ∧ 0 < ko_wi so n L i (ko_tau so x i) y ∧ ko_S so n L i (ko_tau so x i) (y + 1) = ko_S so n L i (ko_tau so x i) 8 ∧ v = (so, n, ch, L, cu, x, o)) := by
  refine CtX.start (by decide +kernel) rfl ?_
  intro p e s0 m below meth c A F hH
  have hl := lv_entry ([.ref (E.1 0), .int (zI (i))]) (n := 3) (Nat.le_of_ble_eq_true rfl)
  rw [lg_entry_eq]
  generalize (lg_sl ([.ref (E.1 0), .int (zI (i))]) ++ List.replicate (3 - (lg_sl ([.ref (E.1 0), .int (zI (i))])).length) Slot.unset).toArray = ls at hl ⊢
  have hl : lv_has ls 3 [(0, .ref (E.1 0)), (1, .int (zI (i)))] := hl
  obtain ⟨k1, k2, k3, k4, k5, k6, k7, k8⟩ := ko_cfg_b hc
  have hgs := ko_g_sum hc hi hr
  refine lv_bipush (v := zI (7)) F.x F.b dX0_greatestAt_0 (by decide +kernel) ?_
  refine lv_istore_n (lv' := [(2, .int (zI (7))), (0, .ref (E.1 0)), (1, .int (zI (i)))]) F.x F.b dX0_greatestAt_2 rfl hl (by decide) rfl (fun ls hl => ?_)
  have loop : ∀ (yy : Nat), yy < 8 → ko_S so n L i (ko_tau so x i) (yy + 1) = ko_S so n L i (ko_tau so x i) 8 → ∀ (H : Heap) (locs : List Loc), HX E s0 A (so, n, ch, L, cu, x, o) H locs → ∀ ls : Array Slot, lv_has ls 3 [(0, .ref (E.1 0)), (1, .int (zI (i))), (2, .int (zI (yy)))] → W p l e (rmX 3 72) s0 m ([.ref (E.1 0), .int (zI (i))] : List Value).toArray below meth c H locs 0 0 (MQ below (QcX E A (fun w v => ∃ y : Nat, y < 8 ∧ w = (y : Int) ∧ 0 < ko_wi so n L i (ko_tau so x i) y ∧ ko_S so n L i (ko_tau so x i) (y + 1) = ko_S so n L i (ko_tau so x i) 8 ∧ v = (so, n, ch, L, cu, x, o))) ([.ref (E.1 0), .int (zI (i))] : List Value).toArray s0 0 0 A) (F0 m 3 ls []) := by
    intro yy
    induction yy with
    | zero =>
      intro hk hS H locs hH ls hl
      have hss := ko_S_s (s := so) (n := n) (L := L) (i := i) (t := ko_tau so x i) (m := 0)
      have hwb : ko_wi so n L i (ko_tau so x i) (0) ≤ ko_g so n L i (ko_tau so x i) := by omega
      have hs0 : ko_S so n L i (ko_tau so x i) 0 = 0 := rfl
      refine lv_aload_n F.x F.b dX0_greatestAt_3 rfl (lv_at hl 0 rfl) ?_
      refine lv_iload_n F.x F.b dX0_greatestAt_4 rfl (lv_at hl 1 rfl) ?_
      refine lv_iload_n F.x F.b dX0_greatestAt_5 rfl (lv_at hl 2 rfl) ?_
      refine CtX.call (n := 2) (cX_withItem l E so n ch L cu x o i (0) hc hi (by omega) h8 (ko_pre_rch hr)) F hH (lw_V q59 q61 qs5 q17 q62) (by decide +kernel) ⟨Nat.le_of_ble_eq_true rfl, Nat.le_of_ble_eq_true rfl⟩ rfl hl.1 rfl (Nat.le_of_ble_eq_true rfl) dX0_greatestAt_6 ⟨Nat.le_refl _, Nat.le_refl _⟩ (fun z9 v9 H locs hp hH => ?_)
      obtain ⟨rfl, rfl⟩ := hp
      refine zr_if_ne (tgt := 18) F.x F.b dX0_greatestAt_9 (by decide) (by omega) (fun c9 => ?_) (fun c9 => ?_)
      · refine lv_iload_n F.x F.b dX0_greatestAt_18 rfl (lv_at hl 2 rfl) ?_
        exact CtX.iret F hH (⟨0, by omega, rfl, by omega, hS, rfl⟩) dX0_greatestAt_19
      · exact absurd c9 (by omega)
    | succ yy ih =>
      intro hk hS H locs hH ls hl
      have hss := ko_S_s (s := so) (n := n) (L := L) (i := i) (t := ko_tau so x i) (m := yy + 1)
      have hwb : ko_wi so n L i (ko_tau so x i) (yy + 1) ≤ ko_g so n L i (ko_tau so x i) := by omega
      refine lv_aload_n F.x F.b dX0_greatestAt_3 rfl (lv_at hl 0 rfl) ?_
      refine lv_iload_n F.x F.b dX0_greatestAt_4 rfl (lv_at hl 1 rfl) ?_
      refine lv_iload_n F.x F.b dX0_greatestAt_5 rfl (lv_at hl 2 rfl) ?_
      refine CtX.call (n := 2) (cX_withItem l E so n ch L cu x o i (yy + 1) hc hi (by omega) h8 (ko_pre_rch hr)) F hH (lw_V q59 q61 qs5 q17 q62) (by decide +kernel) ⟨Nat.le_of_ble_eq_true rfl, Nat.le_of_ble_eq_true rfl⟩ rfl hl.1 rfl (Nat.le_of_ble_eq_true rfl) dX0_greatestAt_6 ⟨Nat.le_refl _, Nat.le_refl _⟩ (fun z9 v9 H locs hp hH => ?_)
      obtain ⟨rfl, rfl⟩ := hp
      refine zr_if_ne (tgt := 18) F.x F.b dX0_greatestAt_9 (by decide) (by omega) (fun c9 => ?_) (fun c9 => ?_)
      · refine lv_iload_n F.x F.b dX0_greatestAt_18 rfl (lv_at hl 2 rfl) ?_
        exact CtX.iret F hH (⟨yy + 1, by omega, rfl, by omega, hS, rfl⟩) dX0_greatestAt_19
      · refine zr_iinc F.x F.b (((yy : Nat) : Int)) (lv' := [(2, .int (zI (((yy : Nat) : Int)))), (0, .ref (E.1 0)), (1, .int (zI (i)))]) dX0_greatestAt_12 hl (k := 2) rfl (by omega) (by decide) rfl (fun ls hl => ?_)
        refine lv_goto (tgt := 3) F.x F.b dX0_greatestAt_15 (by decide) ?_
        exact ih (by omega) (by omega) H locs hH ls (lv_sub hl [1, 2, 0] rfl)
  exact loop 7 (by omega) rfl _ _ hH ls (lv_sub hl [1, 2, 0] rfl)
end
section
set_option maxRecDepth 100000
set_option maxHeartbeats 4000000 in
/-- next() -/
theorem cX_next (l : Launch) (E : EX) (so n : Nat) (ch : Int) (L : Nat) (cu : Int) (x o : Nat → Nat) (hc : ko_cfg so n L = true) (h8 : ∀ j, x j < 8) (hv : (ko_g so n L 0 0 = 0 ∧ cu = -2) ∨ (0 < ko_g so n L 0 0 ∧ ko_VP so n L x L ∧ cu = (ko_rk so n L x L : Nat))) : CtX l yX0_next cX0_next 5 (some .int) 4 98 E [] (so, n, ch, L, cu, x, o) (fun w v => (¬ (0 ≤ cu ∧ cu + 1 < (ko_g so n L 0 0 : Nat)) ∧ w = -2 ∧ v = (so, n, ch, L, cu, x, o)) ∨ (0 ≤ cu ∧ cu + 1 < (ko_g so n L 0 0 : Nat) ∧ w = cu + 1 ∧ ∃ x2, ko_VP so n L x2 L ∧ ((ko_rk so n L x2 L : Nat) : Int) = cu + 1 ∧ (∀ j, x2 j < 8) ∧ v = (so, n, ch, L, cu + 1, x2, o))) := by
  refine CtX.start (by decide +kernel) rfl ?_
  intro p e s0 m below meth c A F hH
  have hl := lv_entry ([.ref (E.1 0)]) (n := 5) (Nat.le_of_ble_eq_true rfl)
  rw [lg_entry_eq]
  generalize (lg_sl ([.ref (E.1 0)]) ++ List.replicate (5 - (lg_sl ([.ref (E.1 0)])).length) Slot.unset).toArray = ls at hl ⊢
  have hl : lv_has ls 5 [(0, .ref (E.1 0))] := hl
  obtain ⟨k1, k2, k3, k4, k5, k6, k7, k8⟩ := ko_cfg_b hc
  have hle := ko_count_le hc
  have hcb : -2 ≤ cu ∧ cu ≤ 5040 := by
    rcases hv with ⟨h1, h2⟩ | ⟨h1, h2, h3⟩
    · omega
    · have h4 := (ko_at hc (ko_live hc h1) h2).1
      rw [ko_objs_len hc] at h4
      omega
  refine lv_aload_n F.x F.b dX0_next_0 rfl (lv_at hl 0 rfl) ?_
  refine lv_iconst (v := zI (0)) F.x F.b dX0_next_1 (by decide +kernel) ?_
  refine CtX.call (n := 1) (cX_goingOn l E so n ch L cu x o 0 hc (by omega) h8 (ko_pre_0 so n)) F hH (lw_V q39 q41 qs1 q17 q42) (by decide +kernel) ⟨Nat.le_of_ble_eq_true rfl, Nat.le_of_ble_eq_true rfl⟩ rfl hl.1 rfl (Nat.le_of_ble_eq_true rfl) dX0_next_2 ⟨Nat.le_refl _, Nat.le_refl _⟩ (fun z9 v9 H locs hp hH => ?_)
  obtain ⟨rfl, rfl⟩ := hp
  refine zr_top (y := zI ((ko_g so n L 0 0 : Nat) : Int)) rfl ?_
  refine lv_istore_n (lv' := [(1, .int (zI (((ko_g so n L 0 0 : Nat) : Int)))), (0, .ref (E.1 0))]) F.x F.b dX0_next_5 rfl hl (by decide) rfl (fun ls hl => ?_)
  refine lv_aload_n F.x F.b dX0_next_6 rfl (lv_at hl 1 rfl) ?_
  refine getX F hH 4 (by decide) q75 rfl (v := .int (zI (cu))) rfl dX0_next_7 ?_
  refine zr_if_lt (tgt := 23) F.x F.b dX0_next_10 (by decide) (by omega) (fun c10 => ?_) (fun c10 => ?_)
  · refine lv_bipush (v := zI (-2)) F.x F.b dX0_next_23 (by decide +kernel) ?_
    exact CtX.iret F hH (Or.inl ⟨by omega, rfl, rfl⟩) dX0_next_25
  · refine lv_aload_n F.x F.b dX0_next_13 rfl (lv_at hl 1 rfl) ?_
    refine getX F hH 4 (by decide) q75 rfl (v := .int (zI (cu))) rfl dX0_next_14 ?_
    refine lv_iconst (v := zI (1)) F.x F.b dX0_next_17 (by decide +kernel) ?_
    refine zr_iadd F.x F.b ((cu) + (1)) dX0_next_18 (rfl) ?_
    refine lv_iload_n F.x F.b dX0_next_19 rfl (lv_at hl 0 rfl) ?_
    refine zr_icmp_lt (tgt := 26) F.x F.b dX0_next_20 (by decide) (by omega) (by omega) (fun c20 => ?_) (fun c20 => ?_)
    · obtain ⟨hg0, hvp, hcu⟩ : 0 < ko_g so n L 0 0 ∧ ko_VP so n L x L ∧ cu = (ko_rk so n L x L : Nat) := by
        rcases hv with h | h
        · omega
        · exact h
      have hlv := ko_live hc hg0
      refine lv_aload_n F.x F.b dX0_next_26 rfl (lv_at hl 1 rfl) ?_
      refine getX F hH 3 (by decide) q74 rfl (v := .int (zI (L))) rfl dX0_next_27 ?_
      refine lv_iconst (v := zI (1)) F.x F.b dX0_next_30 (by decide +kernel) ?_
      refine zr_isub F.x F.b ((L) - (1)) dX0_next_31 (rfl) ?_
      refine lv_istore_n (lv' := [(2, .int (zI ((L) - (1)))), (1, .int (zI (((ko_g so n L 0 0 : Nat) : Int)))), (0, .ref (E.1 0))]) F.x F.b dX0_next_32 rfl hl (by decide) rfl (fun ls hl => ?_)
      have loop : ∀ k : Nat, k ≤ L → ko_rk so n L x L + 1 = ko_rk so n L x k + ko_g so n L (k) (ko_tau so x (k)) → ∀ (H : Heap) (locs : List Loc), HX E s0 A (so, n, ch, L, cu, x, o) H locs → ∀ ls : Array Slot, lv_has ls 5 [(0, .ref (E.1 0)), (2, .int (zI ((k : Int) - 1)))] → W p l e (rmX 4 98) s0 m ([.ref (E.1 0)] : List Value).toArray below meth c H locs 0 0 (MQ below (QcX E A (fun w v => (¬ (0 ≤ cu ∧ cu + 1 < (ko_g so n L 0 0 : Nat)) ∧ w = -2 ∧ v = (so, n, ch, L, cu, x, o)) ∨ (0 ≤ cu ∧ cu + 1 < (ko_g so n L 0 0 : Nat) ∧ w = cu + 1 ∧ ∃ x2, ko_VP so n L x2 L ∧ ((ko_rk so n L x2 L : Nat) : Int) = cu + 1 ∧ (∀ j, x2 j < 8) ∧ v = (so, n, ch, L, cu + 1, x2, o)))) ([.ref (E.1 0)] : List Value).toArray s0 0 0 A) (F0 m 33 ls []) := by
        intro k
        induction k with
        | zero =>
          intro hk hm H locs hH ls hl
          have h00 : ko_rk so n L x 0 + ko_g so n L 0 (ko_tau so x 0) = 0 + ko_g so n L 0 0 := rfl
          exact absurd hm (by omega)
        | succ k ih =>
          intro hk hm H locs hH ls hl
          rw [show (((k + 1 : Nat) : Int)) - 1 = (k : Int) by omega] at hl
          have hvk := ko_VP_le hvp (show k ≤ L by omega)
          have hvk1 := ko_VP_le hvp (show k + 1 ≤ L by omega)
          have hrc := ko_rch_VP hc hlv k (by omega) hvk
          have hgs := ko_g_sum hc (by omega) hrc
          have hwh := (ko_where hc hlv (show k ≤ L by omega) hvk).1
          rw [ko_objs_len hc] at hwh
          have hxk := h8 k
          refine lv_iload_n F.x F.b dX0_next_33 rfl (lv_at hl 1 rfl) ?_
          refine zr_if_lt (tgt := 139) F.x F.b dX0_next_34 (by decide) (by omega) (fun c34 => ?_) (fun c34 => ?_)
          · exact absurd c34 (by omega)
          · refine lv_aload_n F.x F.b dX0_next_37 rfl (lv_at hl 0 rfl) ?_
            refine getX F hH 5 (by decide) q76 rfl (v := .ref (E.1 5)) rfl dX0_next_38 ?_
            refine lv_iload_n F.x F.b dX0_next_41 rfl (lv_at hl 1 rfl) ?_
            refine baldX F hH 1 (x) rfl (k) (rfl) (by omega) dX0_next_42 ?_
            refine lv_iconst (v := zI (1)) F.x F.b dX0_next_43 (by decide +kernel) ?_
            refine zr_iadd F.x F.b (((x k + 1 : Nat) : Int)) dX0_next_44 (by omega) ?_
            refine lv_istore_n (lv' := [(3, .int (zI (((x k + 1 : Nat) : Int)))), (0, .ref (E.1 0)), (2, .int (zI (k)))]) F.x F.b dX0_next_45 rfl hl (by decide) rfl (fun ls hl => ?_)
            have inner : ∀ d yy : Nat, d + yy = 8 → x k + 1 ≤ yy → ko_S so n L (k) (ko_tau so x (k)) (yy) = ko_S so n L (k) (ko_tau so x (k)) (x k + 1) → ∀ (H : Heap) (locs : List Loc), HX E s0 A (so, n, ch, L, cu, x, o) H locs → ∀ ls : Array Slot, lv_has ls 5 [(0, .ref (E.1 0)), (2, .int (zI (k))), (3, .int (zI (yy)))] → W p l e (rmX 4 98) s0 m ([.ref (E.1 0)] : List Value).toArray below meth c H locs 0 0 (MQ below (QcX E A (fun w v => (¬ (0 ≤ cu ∧ cu + 1 < (ko_g so n L 0 0 : Nat)) ∧ w = -2 ∧ v = (so, n, ch, L, cu, x, o)) ∨ (0 ≤ cu ∧ cu + 1 < (ko_g so n L 0 0 : Nat) ∧ w = cu + 1 ∧ ∃ x2, ko_VP so n L x2 L ∧ ((ko_rk so n L x2 L : Nat) : Int) = cu + 1 ∧ (∀ j, x2 j < 8) ∧ v = (so, n, ch, L, cu + 1, x2, o)))) ([.ref (E.1 0)] : List Value).toArray s0 0 0 A) (F0 m 46 ls []) := by
              intro d
              induction d with
              | zero =>
                intro yy hd hxy hS H locs hH ls hl
                refine lv_iload_n F.x F.b dX0_next_46 rfl (lv_at hl 2 rfl) ?_
                refine lv_bipush (v := zI (8)) F.x F.b dX0_next_47 (by decide +kernel) ?_
                refine zr_icmp_ge (tgt := 67) F.x F.b dX0_next_49 (by decide) (by omega) (by omega) (fun c49 => ?_) (fun c49 => ?_)
                · have e8 : yy = 8 := by omega
                  refine lv_iload_n F.x F.b dX0_next_67 rfl (lv_at hl 2 rfl) ?_
                  refine lv_bipush (v := zI (8)) F.x F.b dX0_next_68 (by decide +kernel) ?_
                  refine zr_icmp_ne (tgt := 76) F.x F.b dX0_next_70 (by decide) (by omega) (by omega) (fun c70 => ?_) (fun c70 => ?_)
                  · exact absurd c70 (by omega)
                  · refine lv_goto (tgt := 133) F.x F.b dX0_next_73 (by decide) ?_
                    refine zr_iinc F.x F.b ((k : Int) - 1) (lv' := [(2, .int (zI ((k : Int) - 1))), (0, .ref (E.1 0)), (3, .int (zI (yy)))]) dX0_next_133 hl (k := 1) rfl (by omega) (by decide) rfl (fun ls hl => ?_)
                    refine lv_goto (tgt := 33) F.x F.b dX0_next_136 (by decide) ?_
                    rw [e8] at hS
                    exact ih (by omega) (ko_up hc hlv (by omega) hvk1 hS hm) H locs hH ls (lv_sub hl [1, 0] rfl)
                · exact absurd c49 (by omega)
              | succ d ih2 =>
                intro yy hd hxy hS H locs hH ls hl
                refine lv_iload_n F.x F.b dX0_next_46 rfl (lv_at hl 2 rfl) ?_
                refine lv_bipush (v := zI (8)) F.x F.b dX0_next_47 (by decide +kernel) ?_
                refine zr_icmp_ge (tgt := 67) F.x F.b dX0_next_49 (by decide) (by omega) (by omega) (fun c49 => ?_) (fun c49 => ?_)
                · exact absurd c49 (by omega)
                · have hss := ko_S_s (s := so) (n := n) (L := L) (i := k) (t := ko_tau so x (k)) (m := yy)
                  have hmo := ko_S_mono (s := so) (n := n) (L := L) (i := k) (t := ko_tau so x (k)) (show yy + 1 ≤ 8 by omega)
                  refine lv_aload_n F.x F.b dX0_next_52 rfl (lv_at hl 0 rfl) ?_
                  refine lv_iload_n F.x F.b dX0_next_53 rfl (lv_at hl 1 rfl) ?_
                  refine lv_iload_n F.x F.b dX0_next_54 rfl (lv_at hl 2 rfl) ?_
                  refine CtX.call (n := 2) (cX_withItem l E so n ch L cu x o k yy hc (by omega) (by omega) h8 (ko_pre_rch hrc)) F hH (lw_V q59 q61 qs5 q17 q62) (by decide +kernel) ⟨Nat.le_of_ble_eq_true rfl, Nat.le_of_ble_eq_true rfl⟩ rfl hl.1 rfl (Nat.le_of_ble_eq_true rfl) dX0_next_55 ⟨Nat.le_refl _, Nat.le_refl _⟩ (fun z9 v9 H locs hp hH => ?_)
                  obtain ⟨rfl, rfl⟩ := hp
                  refine zr_if_ne (tgt := 67) F.x F.b dX0_next_58 (by decide) (by omega) (fun c58 => ?_) (fun c58 => ?_)
                  · obtain ⟨g1, g2, g3⟩ := ko_up2 hc hlv (by omega) hvk1 (show yy < 8 by omega) hS (by omega) hm
                    refine lv_iload_n F.x F.b dX0_next_67 rfl (lv_at hl 2 rfl) ?_
                    refine lv_bipush (v := zI (8)) F.x F.b dX0_next_68 (by decide +kernel) ?_
                    refine zr_icmp_ne (tgt := 76) F.x F.b dX0_next_70 (by decide) (by omega) (by omega) (fun c70 => ?_) (fun c70 => ?_)
                    · refine lv_aload_n F.x F.b dX0_next_76 rfl (lv_at hl 0 rfl) ?_
                      refine getX F hH 5 (by decide) q76 rfl (v := .ref (E.1 5)) rfl dX0_next_77 ?_
                      refine lv_iload_n F.x F.b dX0_next_80 rfl (lv_at hl 1 rfl) ?_
                      refine lv_iload_n F.x F.b dX0_next_81 rfl (lv_at hl 2 rfl) ?_
                      refine zr_i2b F.x F.b dX0_next_82 (by omega) ?_
                      refine bastX F hH 1 (x) rfl (k) (yy) (rfl) (by omega) (rfl) (by omega) (so, n, ch, L, cu, (zU (x) (k) (yy)), o) rfl dX0_next_83 (fun H locs hH => ?_)
                      refine lv_iload_n F.x F.b dX0_next_84 rfl (lv_at hl 1 rfl) ?_
                      refine lv_iconst (v := zI (1)) F.x F.b dX0_next_85 (by decide +kernel) ?_
                      refine zr_iadd F.x F.b (((k + 1 : Nat) : Int)) dX0_next_86 (by omega) ?_
                      refine lv_istore (lv' := [(4, .int (zI (((k + 1 : Nat) : Int)))), (0, .ref (E.1 0)), (2, .int (zI (k))), (3, .int (zI (yy)))]) F.x F.b dX0_next_87 hl (by decide) rfl (fun ls hl => ?_)
                      have fill : ∀ d2 j : Nat, d2 + j = L → ∀ y : Nat → Nat, ko_VP so n L y j → ko_rk so n L y j = ko_rk so n L x L + 1 → 0 < ko_g so n L (j) (ko_tau so y (j)) → (∀ j, y j < 8) → ∀ (H : Heap) (locs : List Loc), HX E s0 A (so, n, ch, L, cu, y, o) H locs → ∀ ls : Array Slot, lv_has ls 5 [(0, .ref (E.1 0)), (4, .int (zI (j)))] → W p l e (rmX 4 98) s0 m ([.ref (E.1 0)] : List Value).toArray below meth c H locs 0 0 (MQ below (QcX E A (fun w v => (¬ (0 ≤ cu ∧ cu + 1 < (ko_g so n L 0 0 : Nat)) ∧ w = -2 ∧ v = (so, n, ch, L, cu, x, o)) ∨ (0 ≤ cu ∧ cu + 1 < (ko_g so n L 0 0 : Nat) ∧ w = cu + 1 ∧ ∃ x2, ko_VP so n L x2 L ∧ ((ko_rk so n L x2 L : Nat) : Int) = cu + 1 ∧ (∀ j, x2 j < 8) ∧ v = (so, n, ch, L, cu + 1, x2, o)))) ([.ref (E.1 0)] : List Value).toArray s0 0 0 A) (F0 m 89 ls []) := by
                        intro d2
                        induction d2 with
                        | zero =>
                          intro j hd2 y hvy hry hgy h8y H locs hH ls hl
                          refine lv_iload F.x F.b dX0_next_89 (lv_at hl 1 rfl) ?_
                          refine lv_aload_n F.x F.b dX0_next_91 rfl (lv_at hl 0 rfl) ?_
                          refine getX F hH 3 (by decide) q74 rfl (v := .int (zI (L))) rfl dX0_next_92 ?_
                          refine zr_icmp_ge (tgt := 118) F.x F.b dX0_next_95 (by decide) (by omega) (by omega) (fun c95 => ?_) (fun c95 => ?_)
                          · have e : j = L := by omega
                            rw [e] at hvy hry
                            refine lv_aload_n F.x F.b dX0_next_118 rfl (lv_at hl 0 rfl) ?_
                            refine lv_dup F.x F.b dX0_next_119 rfl ?_
                            refine getX F hH 4 (by decide) q75 rfl (v := .int (zI (cu))) rfl dX0_next_120 ?_
                            refine lv_iconst (v := zI (1)) F.x F.b dX0_next_123 (by decide +kernel) ?_
                            refine zr_iadd F.x F.b ((cu) + (1)) dX0_next_124 (rfl) ?_
                            refine putX F hH 4 (by decide) q75 ⟨rfl, rfl, by decide +kernel⟩ (so, n, ch, L, (cu) + (1), y, o) rfl dX0_next_125 (fun H locs hH => ?_)
                            refine lv_aload_n F.x F.b dX0_next_128 rfl (lv_at hl 0 rfl) ?_
                            refine getX F hH 4 (by decide) q75 rfl (v := .int (zI ((cu) + (1)))) rfl dX0_next_129 ?_
                            exact CtX.iret F hH (Or.inr ⟨by omega, by omega, rfl, y, hvy, by omega, h8y, rfl⟩) dX0_next_132
                          · exact absurd c95 (by omega)
                        | succ d2 ih3 =>
                          intro j hd2 y hvy hry hgy h8y H locs hH ls hl
                          refine lv_iload F.x F.b dX0_next_89 (lv_at hl 1 rfl) ?_
                          refine lv_aload_n F.x F.b dX0_next_91 rfl (lv_at hl 0 rfl) ?_
                          refine getX F hH 3 (by decide) q74 rfl (v := .int (zI (L))) rfl dX0_next_92 ?_
                          refine zr_icmp_ge (tgt := 118) F.x F.b dX0_next_95 (by decide) (by omega) (by omega) (fun c95 => ?_) (fun c95 => ?_)
                          · exact absurd c95 (by omega)
                          · have hwy := (ko_where hc hlv (show j ≤ L by omega) hvy).1
                            rw [ko_objs_len hc] at hwy
                            refine lv_aload_n F.x F.b dX0_next_98 rfl (lv_at hl 0 rfl) ?_
                            refine getX F hH 5 (by decide) q76 rfl (v := .ref (E.1 5)) rfl dX0_next_99 ?_
                            refine lv_iload F.x F.b dX0_next_102 (lv_at hl 1 rfl) ?_
                            refine lv_aload_n F.x F.b dX0_next_104 rfl (lv_at hl 0 rfl) ?_
                            refine lv_iload F.x F.b dX0_next_105 (lv_at hl 1 rfl) ?_
                            refine CtX.call (n := 1) (cX_smallestAt l E so n ch L cu y o j hc (by omega) h8y (ko_rch_VP hc hlv j (by omega) hvy) hgy (by omega)) F hH (lw_V q122 q124 qs8 q17 q125) (by decide +kernel) ⟨Nat.le_of_ble_eq_true rfl, Nat.le_of_ble_eq_true rfl⟩ rfl hl.1 rfl (Nat.le_of_ble_eq_true rfl) dX0_next_107 ⟨Nat.le_refl _, Nat.le_refl _⟩ (fun z9 v9 H locs hp hH => ?_)
                            obtain ⟨y9, hy9, rfl, hw9, hS9, rfl⟩ := hp
                            obtain ⟨n1, n2, n3⟩ := ko_fill0 hc hlv (by omega) hvy hy9 hS9 hw9 hry
                            refine zr_i2b F.x F.b dX0_next_110 (by omega) ?_
                            refine bastX F hH 1 (y) rfl (j) (y9) (rfl) (by omega) (rfl) (by omega) (so, n, ch, L, cu, (zU (y) (j) (y9)), o) rfl dX0_next_111 (fun H locs hH => ?_)
                            refine zr_iinc F.x F.b (((j + 1 : Nat) : Int)) (lv' := [(4, .int (zI (((j + 1 : Nat) : Int)))), (0, .ref (E.1 0))]) dX0_next_112 hl (k := 1) rfl (by omega) (by decide) rfl (fun ls hl => ?_)
                            refine lv_goto (tgt := 89) F.x F.b dX0_next_115 (by decide) ?_
                            exact ih3 (j + 1) (by omega) (zU y j y9) n1 n2 n3 (zU_8 h8y hy9) H locs hH ls (lv_sub hl [1, 0] rfl)
                      exact fill (L - (k + 1)) (k + 1) (by omega) (zU x k yy) g1 g2 g3 (zU_8 h8 (by omega)) H locs hH ls (lv_sub hl [1, 0] rfl)
                    · exact absurd c70 (by omega)
                  · refine zr_iinc F.x F.b (((yy + 1 : Nat) : Int)) (lv' := [(3, .int (zI (((yy + 1 : Nat) : Int)))), (0, .ref (E.1 0)), (2, .int (zI (k)))]) dX0_next_61 hl (k := 2) rfl (by omega) (by decide) rfl (fun ls hl => ?_)
                    refine lv_goto (tgt := 46) F.x F.b dX0_next_64 (by decide) ?_
                    exact ih2 (yy + 1) (by omega) (by omega) (by omega) H locs hH ls (lv_sub hl [1, 2, 0] rfl)
            exact inner (8 - (x k + 1)) (x k + 1) (by omega) (by omega) rfl H locs hH ls (lv_sub hl [1, 2, 0] rfl)
      have hend := ko_end_of hc hlv (ko_rch_VP hc hlv L (by omega) hvp)
      exact loop L (by omega) (by omega) _ _ hH ls (lv_sub hl [2, 0] rfl)
    · refine lv_bipush (v := zI (-2)) F.x F.b dX0_next_23 (by decide +kernel) ?_
      exact CtX.iret F hH (Or.inl ⟨by omega, rfl, rfl⟩) dX0_next_25

set_option maxHeartbeats 4000000 in
/-- previous() -/
theorem cX_previous (l : Launch) (E : EX) (so n : Nat) (ch : Int) (L : Nat) (cu : Int) (x o : Nat → Nat) (hc : ko_cfg so n L = true) (h8 : ∀ j, x j < 8) (hv : (ko_g so n L 0 0 = 0 ∧ cu = -2) ∨ (0 < ko_g so n L 0 0 ∧ ko_VP so n L x L ∧ cu = (ko_rk so n L x L : Nat))) : CtX l yX0_previous cX0_previous 4 (some .int) 4 98 E [] (so, n, ch, L, cu, x, o) (fun w v => (¬ 0 < cu ∧ w = -2 ∧ v = (so, n, ch, L, cu, x, o)) ∨ (0 < cu ∧ w = cu - 1 ∧ ∃ x2, ko_VP so n L x2 L ∧ ((ko_rk so n L x2 L : Nat) : Int) = cu - 1 ∧ (∀ j, x2 j < 8) ∧ v = (so, n, ch, L, cu - 1, x2, o))) := by
  refine CtX.start (by decide +kernel) rfl ?_
  intro p e s0 m below meth c A F hH
  have hl := lv_entry ([.ref (E.1 0)]) (n := 4) (Nat.le_of_ble_eq_true rfl)
  rw [lg_entry_eq]
  generalize (lg_sl ([.ref (E.1 0)]) ++ List.replicate (4 - (lg_sl ([.ref (E.1 0)])).length) Slot.unset).toArray = ls at hl ⊢
  have hl : lv_has ls 4 [(0, .ref (E.1 0))] := hl
  obtain ⟨k1, k2, k3, k4, k5, k6, k7, k8⟩ := ko_cfg_b hc
  have hle := ko_count_le hc
  have hcb : -2 ≤ cu ∧ cu ≤ 5040 := by
    rcases hv with ⟨h1, h2⟩ | ⟨h1, h2, h3⟩
    · omega
    · have h4 := (ko_at hc (ko_live hc h1) h2).1
      rw [ko_objs_len hc] at h4
      omega
  refine lv_aload_n F.x F.b dX0_previous_0 rfl (lv_at hl 0 rfl) ?_
  refine getX F hH 4 (by decide) q75 rfl (v := .int (zI (cu))) rfl dX0_previous_1 ?_
  refine zr_if_gt (tgt := 10) F.x F.b dX0_previous_4 (by decide) (by omega) (fun c4 => ?_) (fun c4 => ?_)
  · obtain ⟨hg0, hvp, hcu⟩ : 0 < ko_g so n L 0 0 ∧ ko_VP so n L x L ∧ cu = (ko_rk so n L x L : Nat) := by
      rcases hv with h | h
      · omega
      · exact h
    have hlv := ko_live hc hg0
    refine lv_aload_n F.x F.b dX0_previous_10 rfl (lv_at hl 0 rfl) ?_
    refine getX F hH 3 (by decide) q74 rfl (v := .int (zI (L))) rfl dX0_previous_11 ?_
    refine lv_iconst (v := zI (1)) F.x F.b dX0_previous_14 (by decide +kernel) ?_
    refine zr_isub F.x F.b ((L) - (1)) dX0_previous_15 (rfl) ?_
    refine lv_istore_n (lv' := [(1, .int (zI ((L) - (1)))), (0, .ref (E.1 0))]) F.x F.b dX0_previous_16 rfl hl (by decide) rfl (fun ls hl => ?_)
    have loop : ∀ k : Nat, k ≤ L → ko_rk so n L x L = ko_rk so n L x k → ∀ (H : Heap) (locs : List Loc), HX E s0 A (so, n, ch, L, cu, x, o) H locs → ∀ ls : Array Slot, lv_has ls 4 [(0, .ref (E.1 0)), (1, .int (zI ((k : Int) - 1)))] → W p l e (rmX 4 98) s0 m ([.ref (E.1 0)] : List Value).toArray below meth c H locs 0 0 (MQ below (QcX E A (fun w v => (¬ 0 < cu ∧ w = -2 ∧ v = (so, n, ch, L, cu, x, o)) ∨ (0 < cu ∧ w = cu - 1 ∧ ∃ x2, ko_VP so n L x2 L ∧ ((ko_rk so n L x2 L : Nat) : Int) = cu - 1 ∧ (∀ j, x2 j < 8) ∧ v = (so, n, ch, L, cu - 1, x2, o)))) ([.ref (E.1 0)] : List Value).toArray s0 0 0 A) (F0 m 17 ls []) := by
      intro k
      induction k with
      | zero =>
        intro hk hm H locs hH ls hl
        have h00 : ko_rk so n L x 0 = 0 := rfl
        exact absurd hm (by omega)
      | succ k ih =>
        intro hk hm H locs hH ls hl
        rw [show (((k + 1 : Nat) : Int)) - 1 = (k : Int) by omega] at hl
        have hvk := ko_VP_le hvp (show k ≤ L by omega)
        have hvk1 := ko_VP_le hvp (show k + 1 ≤ L by omega)
        have hrc := ko_rch_VP hc hlv k (by omega) hvk
        have hgs := ko_g_sum hc (by omega) hrc
        have hwh := (ko_where hc hlv (show k ≤ L by omega) hvk).1
        rw [ko_objs_len hc] at hwh
        have hxk := h8 k
        refine lv_iload_n F.x F.b dX0_previous_17 rfl (lv_at hl 1 rfl) ?_
        refine zr_if_lt (tgt := 115) F.x F.b dX0_previous_18 (by decide) (by omega) (fun c18 => ?_) (fun c18 => ?_)
        · exact absurd c18 (by omega)
        · refine lv_aload_n F.x F.b dX0_previous_21 rfl (lv_at hl 0 rfl) ?_
          refine getX F hH 5 (by decide) q76 rfl (v := .ref (E.1 5)) rfl dX0_previous_22 ?_
          refine lv_iload_n F.x F.b dX0_previous_25 rfl (lv_at hl 1 rfl) ?_
          refine baldX F hH 1 (x) rfl (k) (rfl) (by omega) dX0_previous_26 ?_
          refine lv_iconst (v := zI (1)) F.x F.b dX0_previous_27 (by decide +kernel) ?_
          refine zr_isub F.x F.b ((x (k)) - (1)) dX0_previous_28 (rfl) ?_
          refine lv_istore_n (lv' := [(2, .int (zI ((x (k)) - (1)))), (0, .ref (E.1 0)), (1, .int (zI (k)))]) F.x F.b dX0_previous_29 rfl hl (by decide) rfl (fun ls hl => ?_)
          have inner : ∀ t : Nat, t ≤ x k → ko_S so n L (k) (ko_tau so x (k)) (t) = ko_S so n L (k) (ko_tau so x (k)) (x k) → ∀ (H : Heap) (locs : List Loc), HX E s0 A (so, n, ch, L, cu, x, o) H locs → ∀ ls : Array Slot, lv_has ls 4 [(0, .ref (E.1 0)), (1, .int (zI (k))), (2, .int (zI ((t : Int) - 1)))] → W p l e (rmX 4 98) s0 m ([.ref (E.1 0)] : List Value).toArray below meth c H locs 0 0 (MQ below (QcX E A (fun w v => (¬ 0 < cu ∧ w = -2 ∧ v = (so, n, ch, L, cu, x, o)) ∨ (0 < cu ∧ w = cu - 1 ∧ ∃ x2, ko_VP so n L x2 L ∧ ((ko_rk so n L x2 L : Nat) : Int) = cu - 1 ∧ (∀ j, x2 j < 8) ∧ v = (so, n, ch, L, cu - 1, x2, o)))) ([.ref (E.1 0)] : List Value).toArray s0 0 0 A) (F0 m 30 ls []) := by
            intro t
            induction t with
            | zero =>
              intro ht hS H locs hH ls hl
              refine lv_iload_n F.x F.b dX0_previous_30 rfl (lv_at hl 2 rfl) ?_
              refine zr_if_lt (tgt := 49) F.x F.b dX0_previous_31 (by decide) (by omega) (fun c31 => ?_) (fun c31 => ?_)
              · refine lv_iload_n F.x F.b dX0_previous_49 rfl (lv_at hl 2 rfl) ?_
                refine zr_if_ge (tgt := 56) F.x F.b dX0_previous_50 (by decide) (by omega) (fun c50 => ?_) (fun c50 => ?_)
                · exact absurd c50 (by omega)
                · refine lv_goto (tgt := 109) F.x F.b dX0_previous_53 (by decide) ?_
                  refine zr_iinc F.x F.b ((k : Int) - 1) (lv' := [(1, .int (zI ((k : Int) - 1))), (0, .ref (E.1 0)), (2, .int (zI (((0 : Nat) : Int) - 1)))]) dX0_previous_109 hl (k := 1) rfl (by omega) (by decide) rfl (fun ls hl => ?_)
                  refine lv_goto (tgt := 17) F.x F.b dX0_previous_112 (by decide) ?_
                  have hs0 : ko_S so n L (k) (ko_tau so x (k)) (0) = 0 := rfl
                  have hrs := ko_rk_s (s := so) (n := n) (L := L) (i := k) (x := x)
                  exact ih (by omega) (by omega) H locs hH ls (lv_sub hl [1, 0] rfl)
              · exact absurd c31 (by omega)
            | succ t ih2 =>
              intro ht hS H locs hH ls hl
              rw [show (((t + 1 : Nat) : Int)) - 1 = (t : Int) by omega] at hl
              refine lv_iload_n F.x F.b dX0_previous_30 rfl (lv_at hl 2 rfl) ?_
              refine zr_if_lt (tgt := 49) F.x F.b dX0_previous_31 (by decide) (by omega) (fun c31 => ?_) (fun c31 => ?_)
              · exact absurd c31 (by omega)
              · have hss := ko_S_s (s := so) (n := n) (L := L) (i := k) (t := ko_tau so x (k)) (m := t)
                have hmo := ko_S_mono (s := so) (n := n) (L := L) (i := k) (t := ko_tau so x (k)) (show t + 1 ≤ 8 by omega)
                refine lv_aload_n F.x F.b dX0_previous_34 rfl (lv_at hl 0 rfl) ?_
                refine lv_iload_n F.x F.b dX0_previous_35 rfl (lv_at hl 1 rfl) ?_
                refine lv_iload_n F.x F.b dX0_previous_36 rfl (lv_at hl 2 rfl) ?_
                refine CtX.call (n := 2) (cX_withItem l E so n ch L cu x o k t hc (by omega) (by omega) h8 (ko_pre_rch hrc)) F hH (lw_V q59 q61 qs5 q17 q62) (by decide +kernel) ⟨Nat.le_of_ble_eq_true rfl, Nat.le_of_ble_eq_true rfl⟩ rfl hl.1 rfl (Nat.le_of_ble_eq_true rfl) dX0_previous_37 ⟨Nat.le_refl _, Nat.le_refl _⟩ (fun z9 v9 H locs hp hH => ?_)
                obtain ⟨rfl, rfl⟩ := hp
                refine zr_if_ne (tgt := 49) F.x F.b dX0_previous_40 (by decide) (by omega) (fun c40 => ?_) (fun c40 => ?_)
                · obtain ⟨g1, g2, g3⟩ := ko_dn2 hc hlv (by omega) hvk1 (show t < x k by omega) hS (by omega) hm
                  refine lv_iload_n F.x F.b dX0_previous_49 rfl (lv_at hl 2 rfl) ?_
                  refine zr_if_ge (tgt := 56) F.x F.b dX0_previous_50 (by decide) (by omega) (fun c50 => ?_) (fun c50 => ?_)
                  · refine lv_aload_n F.x F.b dX0_previous_56 rfl (lv_at hl 0 rfl) ?_
                    refine getX F hH 5 (by decide) q76 rfl (v := .ref (E.1 5)) rfl dX0_previous_57 ?_
                    refine lv_iload_n F.x F.b dX0_previous_60 rfl (lv_at hl 1 rfl) ?_
                    refine lv_iload_n F.x F.b dX0_previous_61 rfl (lv_at hl 2 rfl) ?_
                    refine zr_i2b F.x F.b dX0_previous_62 (by omega) ?_
                    refine bastX F hH 1 (x) rfl (k) (t) (rfl) (by omega) (rfl) (by omega) (so, n, ch, L, cu, (zU (x) (k) (t)), o) rfl dX0_previous_63 (fun H locs hH => ?_)
                    refine lv_iload_n F.x F.b dX0_previous_64 rfl (lv_at hl 1 rfl) ?_
                    refine lv_iconst (v := zI (1)) F.x F.b dX0_previous_65 (by decide +kernel) ?_
                    refine zr_iadd F.x F.b (((k + 1 : Nat) : Int)) dX0_previous_66 (by omega) ?_
                    refine lv_istore_n (lv' := [(3, .int (zI (((k + 1 : Nat) : Int)))), (0, .ref (E.1 0)), (1, .int (zI (k))), (2, .int (zI (t)))]) F.x F.b dX0_previous_67 rfl hl (by decide) rfl (fun ls hl => ?_)
                    have fill : ∀ d2 j : Nat, d2 + j = L → ∀ y : Nat → Nat, ko_VP so n L y j → (ko_rk so n L x L - 1) + 1 = ko_rk so n L y j + ko_g so n L (j) (ko_tau so y (j)) → 0 < ko_g so n L (j) (ko_tau so y (j)) → (∀ j, y j < 8) → ∀ (H : Heap) (locs : List Loc), HX E s0 A (so, n, ch, L, cu, y, o) H locs → ∀ ls : Array Slot, lv_has ls 4 [(0, .ref (E.1 0)), (3, .int (zI (j)))] → W p l e (rmX 4 98) s0 m ([.ref (E.1 0)] : List Value).toArray below meth c H locs 0 0 (MQ below (QcX E A (fun w v => (¬ 0 < cu ∧ w = -2 ∧ v = (so, n, ch, L, cu, x, o)) ∨ (0 < cu ∧ w = cu - 1 ∧ ∃ x2, ko_VP so n L x2 L ∧ ((ko_rk so n L x2 L : Nat) : Int) = cu - 1 ∧ (∀ j, x2 j < 8) ∧ v = (so, n, ch, L, cu - 1, x2, o)))) ([.ref (E.1 0)] : List Value).toArray s0 0 0 A) (F0 m 68 ls []) := by
                      intro d2
                      induction d2 with
                      | zero =>
                        intro j hd2 y hvy hry hgy h8y H locs hH ls hl
                        refine lv_iload_n F.x F.b dX0_previous_68 rfl (lv_at hl 1 rfl) ?_
                        refine lv_aload_n F.x F.b dX0_previous_69 rfl (lv_at hl 0 rfl) ?_
                        refine getX F hH 3 (by decide) q74 rfl (v := .int (zI (L))) rfl dX0_previous_70 ?_
                        refine zr_icmp_ge (tgt := 94) F.x F.b dX0_previous_73 (by decide) (by omega) (by omega) (fun c73 => ?_) (fun c73 => ?_)
                        · have e : j = L := by omega
                          rw [e] at hvy hry
                          have hend := ko_end_of hc hlv (ko_rch_VP hc hlv L (by omega) hvy)
                          refine lv_aload_n F.x F.b dX0_previous_94 rfl (lv_at hl 0 rfl) ?_
                          refine lv_dup F.x F.b dX0_previous_95 rfl ?_
                          refine getX F hH 4 (by decide) q75 rfl (v := .int (zI (cu))) rfl dX0_previous_96 ?_
                          refine lv_iconst (v := zI (1)) F.x F.b dX0_previous_99 (by decide +kernel) ?_
                          refine zr_isub F.x F.b ((cu) - (1)) dX0_previous_100 (rfl) ?_
                          refine putX F hH 4 (by decide) q75 ⟨rfl, rfl, by decide +kernel⟩ (so, n, ch, L, (cu) - (1), y, o) rfl dX0_previous_101 (fun H locs hH => ?_)
                          refine lv_aload_n F.x F.b dX0_previous_104 rfl (lv_at hl 0 rfl) ?_
                          refine getX F hH 4 (by decide) q75 rfl (v := .int (zI ((cu) - (1)))) rfl dX0_previous_105 ?_
                          exact CtX.iret F hH (Or.inr ⟨by omega, rfl, y, hvy, by omega, h8y, rfl⟩) dX0_previous_108
                        · exact absurd c73 (by omega)
                      | succ d2 ih3 =>
                        intro j hd2 y hvy hry hgy h8y H locs hH ls hl
                        refine lv_iload_n F.x F.b dX0_previous_68 rfl (lv_at hl 1 rfl) ?_
                        refine lv_aload_n F.x F.b dX0_previous_69 rfl (lv_at hl 0 rfl) ?_
                        refine getX F hH 3 (by decide) q74 rfl (v := .int (zI (L))) rfl dX0_previous_70 ?_
                        refine zr_icmp_ge (tgt := 94) F.x F.b dX0_previous_73 (by decide) (by omega) (by omega) (fun c73 => ?_) (fun c73 => ?_)
                        · exact absurd c73 (by omega)
                        · have hwy := (ko_where hc hlv (show j ≤ L by omega) hvy).1
                          rw [ko_objs_len hc] at hwy
                          refine lv_aload_n F.x F.b dX0_previous_76 rfl (lv_at hl 0 rfl) ?_
                          refine getX F hH 5 (by decide) q76 rfl (v := .ref (E.1 5)) rfl dX0_previous_77 ?_
                          refine lv_iload_n F.x F.b dX0_previous_80 rfl (lv_at hl 1 rfl) ?_
                          refine lv_aload_n F.x F.b dX0_previous_81 rfl (lv_at hl 0 rfl) ?_
                          refine lv_iload_n F.x F.b dX0_previous_82 rfl (lv_at hl 1 rfl) ?_
                          refine CtX.call (n := 1) (cX_greatestAt l E so n ch L cu y o j hc (by omega) h8y (ko_rch_VP hc hlv j (by omega) hvy) hgy (by omega)) F hH (lw_V q130 q132 qs9 q17 q133) (by decide +kernel) ⟨Nat.le_of_ble_eq_true rfl, Nat.le_of_ble_eq_true rfl⟩ rfl hl.1 rfl (Nat.le_of_ble_eq_true rfl) dX0_previous_83 ⟨Nat.le_refl _, Nat.le_refl _⟩ (fun z9 v9 H locs hp hH => ?_)
                          obtain ⟨y9, hy9, rfl, hw9, hS9, rfl⟩ := hp
                          obtain ⟨n1, n2, n3⟩ := ko_fill9 hc hlv (by omega) hvy hy9 hS9 hw9 hry
                          refine zr_i2b F.x F.b dX0_previous_86 (by omega) ?_
                          refine bastX F hH 1 (y) rfl (j) (y9) (rfl) (by omega) (rfl) (by omega) (so, n, ch, L, cu, (zU (y) (j) (y9)), o) rfl dX0_previous_87 (fun H locs hH => ?_)
                          refine zr_iinc F.x F.b (((j + 1 : Nat) : Int)) (lv' := [(3, .int (zI (((j + 1 : Nat) : Int)))), (0, .ref (E.1 0))]) dX0_previous_88 hl (k := 1) rfl (by omega) (by decide) rfl (fun ls hl => ?_)
                          refine lv_goto (tgt := 68) F.x F.b dX0_previous_91 (by decide) ?_
                          exact ih3 (j + 1) (by omega) (zU y j y9) n1 n2 n3 (zU_8 h8y hy9) H locs hH ls (lv_sub hl [1, 0] rfl)
                    exact fill (L - (k + 1)) (k + 1) (by omega) (zU x k t) g1 (by omega) g3 (zU_8 h8 (by omega)) H locs hH ls (lv_sub hl [1, 0] rfl)
                  · exact absurd c50 (by omega)
                · refine zr_iinc F.x F.b ((t : Int) - 1) (lv' := [(2, .int (zI ((t : Int) - 1))), (0, .ref (E.1 0)), (1, .int (zI (k)))]) dX0_previous_43 hl (k := 2) rfl (by omega) (by decide) rfl (fun ls hl => ?_)
                  refine lv_goto (tgt := 30) F.x F.b dX0_previous_46 (by decide) ?_
                  exact ih2 (by omega) (by omega) H locs hH ls (lv_sub hl [1, 2, 0] rfl)
          exact inner (x k) (by omega) rfl H locs hH ls (lv_sub hl [1, 2, 0] rfl)
    exact loop L (by omega) rfl _ _ hH ls (lv_sub hl [1, 0] rfl)
  · refine lv_bipush (v := zI (-2)) F.x F.b dX0_previous_7 (by decide +kernel) ?_
    exact CtX.iret F hH (Or.inl ⟨by omega, rfl, rfl⟩) dX0_previous_9

set_option maxHeartbeats 4000000 in
/-- rankUpTo(k - 1) -/
theorem cX_rankUpTo (l : Launch) (E : EX) (so n : Nat) (ch : Int) (L : Nat) (cu : Int) (x o : Nat → Nat) (k : Nat) (hc : ko_cfg so n L = true) (hlv : so = 4 → 0 < L) (hk : k ≤ L) (h8 : ∀ j, x j < 8) (hvp : ko_VP so n L x k) : CtX l yX0_rankUpTo cX0_rankUpTo 6 (some .int) 3 72 E [.int (zI ((k : Int) - 1))] (so, n, ch, L, cu, x, o) (fun w v => w = ((ko_rk so n L x k : Nat) : Int) ∧ v = (so, n, ch, L, cu, x, o)) := by
  refine CtX.start (by decide +kernel) rfl ?_
  intro p e s0 m below meth c A F hH
  have hl := lv_entry ([.ref (E.1 0), .int (zI ((k : Int) - 1))]) (n := 6) (Nat.le_of_ble_eq_true rfl)
  rw [lg_entry_eq]
  generalize (lg_sl ([.ref (E.1 0), .int (zI ((k : Int) - 1))]) ++ List.replicate (6 - (lg_sl ([.ref (E.1 0), .int (zI ((k : Int) - 1))])).length) Slot.unset).toArray = ls at hl ⊢
  have hl : lv_has ls 6 [(0, .ref (E.1 0)), (1, .int (zI ((k : Int) - 1)))] := hl
  obtain ⟨k1, k2, k3, k4, k5, k6, k7, k8⟩ := ko_cfg_b hc
  refine lv_iconst (v := zI (0)) F.x F.b dX0_rankUpTo_0 (by decide +kernel) ?_
  refine lv_istore_n (lv' := [(2, .int (zI (0))), (0, .ref (E.1 0)), (1, .int (zI ((k : Int) - 1)))]) F.x F.b dX0_rankUpTo_1 rfl hl (by decide) rfl (fun ls hl => ?_)
  refine lv_iconst (v := zI (0)) F.x F.b dX0_rankUpTo_2 (by decide +kernel) ?_
  refine lv_istore_n (lv' := [(3, .int (zI (0))), (2, .int (zI (0))), (0, .ref (E.1 0)), (1, .int (zI ((k : Int) - 1)))]) F.x F.b dX0_rankUpTo_3 rfl hl (by decide) rfl (fun ls hl => ?_)
  have loop : ∀ d j : Nat, d + j = k → ∀ (H : Heap) (locs : List Loc), HX E s0 A (so, n, ch, L, cu, x, o) H locs → ∀ ls : Array Slot, lv_has ls 6 [(0, .ref (E.1 0)), (1, .int (zI ((k : Int) - 1))), (2, .int (zI (((ko_rk so n L x j : Nat) : Int)))), (3, .int (zI (j)))] → W p l e (rmX 3 72) s0 m ([.ref (E.1 0), .int (zI ((k : Int) - 1))] : List Value).toArray below meth c H locs 0 0 (MQ below (QcX E A (fun w v => w = ((ko_rk so n L x k : Nat) : Int) ∧ v = (so, n, ch, L, cu, x, o))) ([.ref (E.1 0), .int (zI ((k : Int) - 1))] : List Value).toArray s0 0 0 A) (F0 m 4 ls []) := by
    intro d
    induction d with
    | zero =>
      intro j hd H locs hH ls hl
      refine lv_iload_n F.x F.b dX0_rankUpTo_4 rfl (lv_at hl 3 rfl) ?_
      refine lv_iload_n F.x F.b dX0_rankUpTo_5 rfl (lv_at hl 1 rfl) ?_
      refine zr_icmp_gt (tgt := 58) F.x F.b dX0_rankUpTo_6 (by decide) (by omega) (by omega) (fun c6 => ?_) (fun c6 => ?_)
      · have e : j = k := by omega
        subst e
        refine lv_iload_n F.x F.b dX0_rankUpTo_58 rfl (lv_at hl 2 rfl) ?_
        exact CtX.iret F hH (⟨rfl, rfl⟩) dX0_rankUpTo_59
      · exact absurd c6 (by omega)
    | succ d ih =>
      intro j hd H locs hH ls hl
      refine lv_iload_n F.x F.b dX0_rankUpTo_4 rfl (lv_at hl 3 rfl) ?_
      refine lv_iload_n F.x F.b dX0_rankUpTo_5 rfl (lv_at hl 1 rfl) ?_
      refine zr_icmp_gt (tgt := 58) F.x F.b dX0_rankUpTo_6 (by decide) (by omega) (by omega) (fun c6 => ?_) (fun c6 => ?_)
      · exact absurd c6 (by omega)
      · have hvj := ko_VP_le hvp (show j ≤ k by omega)
        have hrc := ko_rch_VP hc hlv j (by omega) hvj
        have hxj := h8 j
        refine lv_aload_n F.x F.b dX0_rankUpTo_9 rfl (lv_at hl 0 rfl) ?_
        refine getX F hH 5 (by decide) q76 rfl (v := .ref (E.1 5)) rfl dX0_rankUpTo_10 ?_
        refine lv_iload_n F.x F.b dX0_rankUpTo_13 rfl (lv_at hl 3 rfl) ?_
        refine baldX F hH 1 (x) rfl (j) (rfl) (by omega) dX0_rankUpTo_14 ?_
        refine lv_istore (lv' := [(4, .int (zI (x (j)))), (0, .ref (E.1 0)), (1, .int (zI ((k : Int) - 1))), (2, .int (zI (((ko_rk so n L x j : Nat) : Int)))), (3, .int (zI (j)))]) F.x F.b dX0_rankUpTo_15 hl (by decide) rfl (fun ls hl => ?_)
        refine lv_iconst (v := zI (0)) F.x F.b dX0_rankUpTo_17 (by decide +kernel) ?_
        refine lv_istore (lv' := [(5, .int (zI (0))), (4, .int (zI (x (j)))), (0, .ref (E.1 0)), (1, .int (zI ((k : Int) - 1))), (2, .int (zI (((ko_rk so n L x j : Nat) : Int)))), (3, .int (zI (j)))]) F.x F.b dX0_rankUpTo_18 hl (by decide) rfl (fun ls hl => ?_)
        have inner : ∀ d2 yy : Nat, d2 + yy = x j → ∀ (H : Heap) (locs : List Loc), HX E s0 A (so, n, ch, L, cu, x, o) H locs → ∀ ls : Array Slot, lv_has ls 6 [(0, .ref (E.1 0)), (1, .int (zI ((k : Int) - 1))), (2, .int (zI (((ko_rk so n L x j + ko_S so n L (j) (ko_tau so x (j)) (yy) : Nat) : Int)))), (3, .int (zI (j))), (4, .int (zI (x j))), (5, .int (zI (yy)))] → W p l e (rmX 3 72) s0 m ([.ref (E.1 0), .int (zI ((k : Int) - 1))] : List Value).toArray below meth c H locs 0 0 (MQ below (QcX E A (fun w v => w = ((ko_rk so n L x k : Nat) : Int) ∧ v = (so, n, ch, L, cu, x, o))) ([.ref (E.1 0), .int (zI ((k : Int) - 1))] : List Value).toArray s0 0 0 A) (F0 m 20 ls []) := by
          intro d2
          induction d2 with
          | zero =>
            intro yy hd2 H locs hH ls hl
            refine lv_iload F.x F.b dX0_rankUpTo_20 (lv_at hl 5 rfl) ?_
            refine lv_iload F.x F.b dX0_rankUpTo_22 (lv_at hl 4 rfl) ?_
            refine zr_icmp_ge (tgt := 43) F.x F.b dX0_rankUpTo_24 (by decide) (by omega) (by omega) (fun c24 => ?_) (fun c24 => ?_)
            · refine lv_aload_n F.x F.b dX0_rankUpTo_43 rfl (lv_at hl 0 rfl) ?_
              refine getX F hH 5 (by decide) q76 rfl (v := .ref (E.1 5)) rfl dX0_rankUpTo_44 ?_
              refine lv_iload_n F.x F.b dX0_rankUpTo_47 rfl (lv_at hl 3 rfl) ?_
              refine lv_iload F.x F.b dX0_rankUpTo_48 (lv_at hl 4 rfl) ?_
              refine zr_i2b F.x F.b dX0_rankUpTo_50 (by omega) ?_
              refine bastX F hH 1 (x) rfl (j) (x j) (rfl) (by omega) (rfl) (by omega) (so, n, ch, L, cu, (zU (x) (j) (x j)), o) rfl dX0_rankUpTo_51 (fun H locs hH => ?_)
              refine zr_iinc F.x F.b (((j + 1 : Nat) : Int)) (lv' := [(3, .int (zI (((j + 1 : Nat) : Int)))), (0, .ref (E.1 0)), (1, .int (zI ((k : Int) - 1))), (2, .int (zI (((ko_rk so n L x j + ko_S so n L (j) (ko_tau so x (j)) (yy) : Nat) : Int)))), (4, .int (zI (x j))), (5, .int (zI (yy)))]) dX0_rankUpTo_52 hl (k := 3) rfl (by omega) (by decide) rfl (fun ls hl => ?_)
              refine lv_goto (tgt := 4) F.x F.b dX0_rankUpTo_55 (by decide) ?_
              rw [zU_self] at hH
              have e : yy = x j := by omega
              rw [e] at hl
              exact ih (j + 1) (by omega) H locs hH ls (lv_sub hl [1, 2, 3, 0] rfl)
            · exact absurd c24 (by omega)
          | succ d2 ih2 =>
            intro yy hd2 H locs hH ls hl
            refine lv_iload F.x F.b dX0_rankUpTo_20 (lv_at hl 5 rfl) ?_
            refine lv_iload F.x F.b dX0_rankUpTo_22 (lv_at hl 4 rfl) ?_
            refine zr_icmp_ge (tgt := 43) F.x F.b dX0_rankUpTo_24 (by decide) (by omega) (by omega) (fun c24 => ?_) (fun c24 => ?_)
            · exact absurd c24 (by omega)
            · refine lv_iload_n F.x F.b dX0_rankUpTo_27 rfl (lv_at hl 2 rfl) ?_
              refine lv_aload_n F.x F.b dX0_rankUpTo_28 rfl (lv_at hl 0 rfl) ?_
              refine lv_iload_n F.x F.b dX0_rankUpTo_29 rfl (lv_at hl 3 rfl) ?_
              refine lv_iload F.x F.b dX0_rankUpTo_30 (lv_at hl 5 rfl) ?_
              refine CtX.call (n := 2) (cX_withItem l E so n ch L cu x o j yy hc (by omega) (by omega) h8 (ko_pre_rch hrc)) F hH (lw_V q59 q61 qs5 q17 q62) (by decide +kernel) ⟨Nat.le_of_ble_eq_true rfl, Nat.le_of_ble_eq_true rfl⟩ rfl hl.1 rfl (Nat.le_of_ble_eq_true rfl) dX0_rankUpTo_32 ⟨Nat.le_refl _, Nat.le_refl _⟩ (fun z9 v9 H locs hp hH => ?_)
              obtain ⟨rfl, rfl⟩ := hp
              have hss := ko_S_s (s := so) (n := n) (L := L) (i := j) (t := ko_tau so x (j)) (m := yy)
              refine zr_iadd F.x F.b (((ko_rk so n L x j + ko_S so n L (j) (ko_tau so x (j)) (yy + 1) : Nat) : Int)) dX0_rankUpTo_35 (by omega) ?_
              refine lv_istore_n (lv' := [(2, .int (zI (((ko_rk so n L x j + ko_S so n L (j) (ko_tau so x (j)) (yy + 1) : Nat) : Int)))), (0, .ref (E.1 0)), (1, .int (zI ((k : Int) - 1))), (3, .int (zI (j))), (4, .int (zI (x j))), (5, .int (zI (yy)))]) F.x F.b dX0_rankUpTo_36 rfl hl (by decide) rfl (fun ls hl => ?_)
              refine zr_iinc F.x F.b (((yy + 1 : Nat) : Int)) (lv' := [(5, .int (zI (((yy + 1 : Nat) : Int)))), (2, .int (zI (((ko_rk so n L x j + ko_S so n L (j) (ko_tau so x (j)) (yy + 1) : Nat) : Int)))), (0, .ref (E.1 0)), (1, .int (zI ((k : Int) - 1))), (3, .int (zI (j))), (4, .int (zI (x j)))]) dX0_rankUpTo_37 hl (k := 5) rfl (by omega) (by decide) rfl (fun ls hl => ?_)
              refine lv_goto (tgt := 20) F.x F.b dX0_rankUpTo_40 (by decide) ?_
              exact ih2 (yy + 1) (by omega) H locs hH ls (lv_sub hl [2, 3, 1, 4, 5, 0] rfl)
        exact inner (x j) 0 (by omega) H locs hH ls (lv_sub hl [2, 3, 4, 5, 1, 0] rfl)
  exact loop k 0 (by omega) _ _ hH ls (lv_sub hl [2, 3, 1, 0] rfl)

set_option maxHeartbeats 4000000 in
/-- firstLike(z) -/
theorem cX_firstLike (l : Launch) (E : EX) (so n : Nat) (ch : Int) (L : Nat) (cu : Int) (x o : Nat → Nat) (z : Int) (hc : ko_cfg so n L = true) (h8 : ∀ j, x j < 8) (hz : -2147483648 ≤ z ∧ z ≤ 2147483647) (hv : (ko_g so n L 0 0 = 0 ∧ cu = -2) ∨ (0 < ko_g so n L 0 0 ∧ ko_VP so n L x L ∧ cu = (ko_rk so n L x L : Nat))) : CtX l yX0_firstLike cX0_firstLike 2 (some .int) 4 98 E [.int (zI (z))] (so, n, ch, L, cu, x, o) (fun w v => w = (if cu < 0 ∨ z < 0 ∨ (L : Int) ≤ z then -1 else ((ko_rk so n L x (z.toNat + 1) : Nat) : Int)) ∧ v = (so, n, ch, L, cu, x, o)) := by
  refine CtX.start (by decide +kernel) rfl ?_
  intro p e s0 m below meth c A F hH
  have hl := lv_entry ([.ref (E.1 0), .int (zI (z))]) (n := 2) (Nat.le_of_ble_eq_true rfl)
  rw [lg_entry_eq]
  generalize (lg_sl ([.ref (E.1 0), .int (zI (z))]) ++ List.replicate (2 - (lg_sl ([.ref (E.1 0), .int (zI (z))])).length) Slot.unset).toArray = ls at hl ⊢
  have hl : lv_has ls 2 [(0, .ref (E.1 0)), (1, .int (zI (z)))] := hl
  obtain ⟨k1, k2, k3, k4, k5, k6, k7, k8⟩ := ko_cfg_b hc
  have hle := ko_count_le hc
  have hcb : -2 ≤ cu ∧ cu ≤ 5040 := by
    rcases hv with ⟨h1, h2⟩ | ⟨h1, h2, h3⟩
    · omega
    · have h4 := (ko_at hc (ko_live hc h1) h2).1
      rw [ko_objs_len hc] at h4
      omega
  refine lv_aload_n F.x F.b dX0_firstLike_0 rfl (lv_at hl 0 rfl) ?_
  refine getX F hH 4 (by decide) q75 rfl (v := .int (zI (cu))) rfl dX0_firstLike_1 ?_
  refine zr_if_lt (tgt := 19) F.x F.b dX0_firstLike_4 (by decide) (by omega) (fun c4 => ?_) (fun c4 => ?_)
  · refine lv_iconst (v := zI (-1)) F.x F.b dX0_firstLike_19 (by decide +kernel) ?_
    exact CtX.iret F hH (⟨(if_pos (by omega)).symm, rfl⟩) dX0_firstLike_20
  · refine lv_iload_n F.x F.b dX0_firstLike_7 rfl (lv_at hl 1 rfl) ?_
    refine zr_if_lt (tgt := 19) F.x F.b dX0_firstLike_8 (by decide) (by omega) (fun c8 => ?_) (fun c8 => ?_)
    · refine lv_iconst (v := zI (-1)) F.x F.b dX0_firstLike_19 (by decide +kernel) ?_
      exact CtX.iret F hH (⟨(if_pos (by omega)).symm, rfl⟩) dX0_firstLike_20
    · refine lv_iload_n F.x F.b dX0_firstLike_11 rfl (lv_at hl 1 rfl) ?_
      refine lv_aload_n F.x F.b dX0_firstLike_12 rfl (lv_at hl 0 rfl) ?_
      refine getX F hH 3 (by decide) q74 rfl (v := .int (zI (L))) rfl dX0_firstLike_13 ?_
      refine zr_icmp_lt (tgt := 21) F.x F.b dX0_firstLike_16 (by decide) (by omega) (by omega) (fun c16 => ?_) (fun c16 => ?_)
      · obtain ⟨hg0, hvp, hcu⟩ : 0 < ko_g so n L 0 0 ∧ ko_VP so n L x L ∧ cu = (ko_rk so n L x L : Nat) := by
          rcases hv with h | h
          · omega
          · exact h
        have hlv := ko_live hc hg0
        obtain ⟨q, hq⟩ : ∃ q : Nat, z = q := ⟨z.toNat, by omega⟩
        have hq2 : z.toNat = q := by omega
        have hvq := ko_VP_le hvp (show q + 1 ≤ L by omega)
        refine lv_aload_n F.x F.b dX0_firstLike_21 rfl (lv_at hl 0 rfl) ?_
        refine lv_iload_n F.x F.b dX0_firstLike_22 rfl (lv_at hl 1 rfl) ?_
        refine zr_top (y := zI (((q + 1 : Nat) : Int) - 1)) (by congr 1; omega) ?_
        refine CtX.call (n := 1) (cX_rankUpTo l E so n ch L cu x o (q + 1) hc hlv (by omega) h8 hvq) F hH (lw_V q138 q140 qs10 q17 q141) (by decide +kernel) ⟨Nat.le_of_ble_eq_true rfl, Nat.le_of_ble_eq_true rfl⟩ rfl hl.1 rfl (Nat.le_of_ble_eq_true rfl) dX0_firstLike_23 ⟨Nat.le_refl _, Nat.le_refl _⟩ (fun z9 v9 H locs hp hH => ?_)
        obtain ⟨rfl, rfl⟩ := hp
        exact CtX.iret F hH (⟨by rw [if_neg (by omega), hq2], rfl⟩) dX0_firstLike_26
      · refine lv_iconst (v := zI (-1)) F.x F.b dX0_firstLike_19 (by decide +kernel) ?_
        exact CtX.iret F hH (⟨(if_pos (by omega)).symm, rfl⟩) dX0_firstLike_20

set_option maxHeartbeats 4000000 in
/-- like(z) -/
theorem cX_like (l : Launch) (E : EX) (so n : Nat) (ch : Int) (L : Nat) (cu : Int) (x o : Nat → Nat) (z : Int) (hc : ko_cfg so n L = true) (h8 : ∀ j, x j < 8) (hz : -2147483648 ≤ z ∧ z ≤ 2147483647) (hv : (ko_g so n L 0 0 = 0 ∧ cu = -2) ∨ (0 < ko_g so n L 0 0 ∧ ko_VP so n L x L ∧ cu = (ko_rk so n L x L : Nat))) : CtX l yX0_like cX0_like 2 (some .int) 4 98 E [.int (zI (z))] (so, n, ch, L, cu, x, o) (fun w v => w = (if cu < 0 ∨ z < 0 ∨ (L : Int) ≤ z then -1 else ((ko_g so n L (z.toNat + 1) (ko_tau so x (z.toNat + 1)) : Nat) : Int)) ∧ v = (so, n, ch, L, cu, x, o)) := by
  refine CtX.start (by decide +kernel) rfl ?_
  intro p e s0 m below meth c A F hH
  have hl := lv_entry ([.ref (E.1 0), .int (zI (z))]) (n := 2) (Nat.le_of_ble_eq_true rfl)
  rw [lg_entry_eq]
  generalize (lg_sl ([.ref (E.1 0), .int (zI (z))]) ++ List.replicate (2 - (lg_sl ([.ref (E.1 0), .int (zI (z))])).length) Slot.unset).toArray = ls at hl ⊢
  have hl : lv_has ls 2 [(0, .ref (E.1 0)), (1, .int (zI (z)))] := hl
  obtain ⟨k1, k2, k3, k4, k5, k6, k7, k8⟩ := ko_cfg_b hc
  have hle := ko_count_le hc
  have hcb : -2 ≤ cu ∧ cu ≤ 5040 := by
    rcases hv with ⟨h1, h2⟩ | ⟨h1, h2, h3⟩
    · omega
    · have h4 := (ko_at hc (ko_live hc h1) h2).1
      rw [ko_objs_len hc] at h4
      omega
  refine lv_aload_n F.x F.b dX0_like_0 rfl (lv_at hl 0 rfl) ?_
  refine getX F hH 4 (by decide) q75 rfl (v := .int (zI (cu))) rfl dX0_like_1 ?_
  refine zr_if_lt (tgt := 19) F.x F.b dX0_like_4 (by decide) (by omega) (fun c4 => ?_) (fun c4 => ?_)
  · refine lv_iconst (v := zI (-1)) F.x F.b dX0_like_19 (by decide +kernel) ?_
    exact CtX.iret F hH (⟨(if_pos (by omega)).symm, rfl⟩) dX0_like_20
  · refine lv_iload_n F.x F.b dX0_like_7 rfl (lv_at hl 1 rfl) ?_
    refine zr_if_lt (tgt := 19) F.x F.b dX0_like_8 (by decide) (by omega) (fun c8 => ?_) (fun c8 => ?_)
    · refine lv_iconst (v := zI (-1)) F.x F.b dX0_like_19 (by decide +kernel) ?_
      exact CtX.iret F hH (⟨(if_pos (by omega)).symm, rfl⟩) dX0_like_20
    · refine lv_iload_n F.x F.b dX0_like_11 rfl (lv_at hl 1 rfl) ?_
      refine lv_aload_n F.x F.b dX0_like_12 rfl (lv_at hl 0 rfl) ?_
      refine getX F hH 3 (by decide) q74 rfl (v := .int (zI (L))) rfl dX0_like_13 ?_
      refine zr_icmp_lt (tgt := 21) F.x F.b dX0_like_16 (by decide) (by omega) (by omega) (fun c16 => ?_) (fun c16 => ?_)
      · obtain ⟨hg0, hvp, hcu⟩ : 0 < ko_g so n L 0 0 ∧ ko_VP so n L x L ∧ cu = (ko_rk so n L x L : Nat) := by
          rcases hv with h | h
          · omega
          · exact h
        have hlv := ko_live hc hg0
        obtain ⟨q, hq⟩ : ∃ q : Nat, z = q := ⟨z.toNat, by omega⟩
        have hq2 : z.toNat = q := by omega
        have hvq := ko_VP_le hvp (show q + 1 ≤ L by omega)
        refine lv_aload_n F.x F.b dX0_like_21 rfl (lv_at hl 0 rfl) ?_
        refine lv_iload_n F.x F.b dX0_like_22 rfl (lv_at hl 1 rfl) ?_
        refine lv_iconst (v := zI (1)) F.x F.b dX0_like_23 (by decide +kernel) ?_
        refine zr_iadd F.x F.b (((q + 1 : Nat) : Int)) dX0_like_24 (by omega) ?_
        refine CtX.call (n := 1) (cX_goingOn l E so n ch L cu x o (q + 1) hc (by omega) h8 (ko_pre_rch (ko_rch_VP hc hlv (q + 1) (by omega) hvq))) F hH (lw_V q39 q41 qs1 q17 q42) (by decide +kernel) ⟨Nat.le_of_ble_eq_true rfl, Nat.le_of_ble_eq_true rfl⟩ rfl hl.1 rfl (Nat.le_of_ble_eq_true rfl) dX0_like_25 ⟨Nat.le_refl _, Nat.le_refl _⟩ (fun z9 v9 H locs hp hH => ?_)
        obtain ⟨rfl, rfl⟩ := hp
        exact CtX.iret F hH (⟨by rw [if_neg (by omega), hq2], rfl⟩) dX0_like_28
      · refine lv_iconst (v := zI (-1)) F.x F.b dX0_like_19 (by decide +kernel) ?_
        exact CtX.iret F hH (⟨(if_pos (by omega)).symm, rfl⟩) dX0_like_20
end
section
set_option maxRecDepth 100000
/-! the mirrored object is an object -/
theorem ko_ok0 {n L i t y : Nat} : ko_ok 0 n L i t y = true ↔ y < n ∧ t ≤ y := by simp [ko_ok]
theorem ko_ok1 {n L i t y : Nat} : ko_ok 1 n L i t y = true ↔ y < n ∧ t.testBit y = false := by simp [ko_ok]
theorem ko_ok2 {n L i t y : Nat} : ko_ok 2 n L i t y = true ↔ y ≤ t := by simp [ko_ok]
theorem ko_ok3 {n L i t y : Nat} : ko_ok 3 n L i t y = true ↔ y ≤ 1 ∧ t + y ≤ n ∧ i + 1 ≤ 2 * (t + y) := by simp [ko_ok]
theorem ko_ok4 {n L i t y : Nat} : ko_ok 4 n L i t y = true ↔ t + y ≤ n ∧ (i + 1 < L ∨ t + y = n) := by simp [ko_ok]
def ko_mir (s n L : Nat) (x : Nat → Nat) (j : Nat) : Nat := match s with
  | 0 => n - 1 - x (L - 1 - j)
  | 3 => 1 - x (L - 1 - j)
  | _ => x (L - 1 - j)
theorem ko_used {x : Nat → Nat} {y : Nat} : ∀ i, (ko_tau 1 x i).testBit y = true ↔ ∃ j, j < i ∧ x j = y := by
  intro i
  induction i with
  | zero => 
    constructor
    · intro h
      rw [show ko_tau 1 x 0 = 0 from rfl, Nat.zero_testBit] at h
      exact absurd h (by decide)
    · rintro ⟨j, hj, -⟩
      omega
  | succ i ih =>
    rw [ko_t1s, Nat.testBit_or, Bool.or_eq_true, ih, Nat.testBit_two_pow, decide_eq_true_eq]
    constructor
    · rintro (⟨j, h1, h2⟩ | h)
      · exact ⟨j, by omega, h2⟩
      · exact ⟨i, by omega, h⟩
    · rintro ⟨j, h1, h2⟩
      by_cases e : j = i
      · subst e; exact Or.inr h2
      · exact Or.inl ⟨j, by omega, h2⟩
theorem ko_mir0 {n L : Nat} {x : Nat → Nat} (hn : 1 ≤ n) (hn7 : n ≤ 7) (h : ko_VP 0 n L x L) : ko_VP 0 n L (ko_mir 0 n L x) L := by
  intro j hj
  have h1 := ko_ok0.mp (h (L - 1 - j) (by omega)).2
  have hm : ko_mir 0 n L x j = n - 1 - x (L - 1 - j) := rfl
  refine ⟨by omega, ko_ok0.mpr ⟨by omega, ?_⟩⟩
  rcases ko_t0i (ko_mir 0 n L x) j with ⟨-, h2⟩ | ⟨h2, h3⟩
  · omega
  · have h4 := ko_ok0.mp (h (L - j) (by omega)).2
    have e : L - j = (L - 1 - j) + 1 := by omega
    have h5 : ko_tau 0 x (L - j) = x (L - 1 - j) + 1 := by rw [e]; rfl
    have hm2 : ko_mir 0 n L x (j - 1) = n - 1 - x (L - j) := by
      show n - 1 - x (L - 1 - (j - 1)) = _
      rw [show L - 1 - (j - 1) = L - j by omega]
    omega
theorem ko_mir1 {n L : Nat} {x : Nat → Nat} (h : ko_VP 1 n L x L) : ko_VP 1 n L (ko_mir 1 n L x) L := by
  intro j hj
  obtain ⟨h0, h1⟩ := h (L - 1 - j) (by omega)
  have h1 := ko_ok1.mp h1
  have hm : ∀ k, ko_mir 1 n L x k = x (L - 1 - k) := fun _ => rfl
  refine ⟨h0, ko_ok1.mpr ⟨h1.1, ?_⟩⟩
  apply Bool.eq_false_iff.mpr
  intro h2
  obtain ⟨k, hk, e⟩ := (ko_used j).mp h2
  rw [hm, hm] at e
  have h3 := (ko_ok1.mp (h (L - 1 - k) (by omega)).2).2
  have h4 : (ko_tau 1 x (L - 1 - k)).testBit (x (L - 1 - k)) = true := (ko_used _).mpr ⟨L - 1 - j, by omega, e.symm⟩
  rw [h3] at h4
  exact absurd h4 (by decide)
theorem ko_mir4s {n L : Nat} {x : Nat → Nat} : ∀ i, i ≤ L → ko_tau 4 (ko_mir 4 n L x) i + ko_tau 4 x (L - i) = ko_tau 4 x L := by
  intro i
  induction i with
  | zero => intro _; show 0 + _ = _; rw [Nat.zero_add]; rfl
  | succ i ih =>
    intro hi
    have h1 := ih (by omega)
    rw [ko_t4s, show ko_mir 4 n L x i = x (L - 1 - i) from rfl]
    rw [show L - i = (L - (i + 1)) + 1 by omega, ko_t4s, show L - (i + 1) = L - 1 - i by omega] at h1
    rw [show L - (i + 1) = L - 1 - i by omega]
    omega
theorem ko_mir4 {n L : Nat} {x : Nat → Nat} (hL : 0 < L) (h : ko_VP 4 n L x L) : ko_VP 4 n L (ko_mir 4 n L x) L := by
  have hT : ko_tau 4 x L = n := by
    have h1 := ko_ok4.mp (h (L - 1) (by omega)).2
    rw [show L = (L - 1) + 1 by omega, ko_t4s]
    omega
  intro j hj
  refine ⟨(h (L - 1 - j) (by omega)).1, ko_ok4.mpr ?_⟩
  have h1 := ko_mir4s (n := n) (L := L) (x := x) (j + 1) (by omega)
  rw [ko_t4s] at h1
  by_cases e : j + 1 < L
  · exact ⟨by omega, Or.inl e⟩
  · rw [show L - (j + 1) = 0 by omega, show ko_tau 4 x 0 = 0 from rfl] at h1
    exact ⟨by omega, Or.inr (by omega)⟩
theorem ko_mir3s {n L : Nat} {x : Nat → Nat} (h1 : ∀ j, j < L → x j ≤ 1) : ∀ i, i ≤ L → ko_tau 4 (ko_mir 3 n L x) i + ko_tau 4 x L = i + ko_tau 4 x (L - i) := by
  intro i
  induction i with
  | zero => intro _; rfl
  | succ i ih =>
    intro hi
    have h2 := ih (by omega)
    have h3 := h1 (L - 1 - i) (by omega)
    rw [ko_t4s, show ko_mir 3 n L x i = 1 - x (L - 1 - i) from rfl]
    rw [show L - i = (L - (i + 1)) + 1 by omega, ko_t4s, show L - (i + 1) = L - 1 - i by omega] at h2
    rw [show L - (i + 1) = L - 1 - i by omega]
    omega
theorem ko_mir3 {n L : Nat} {x : Nat → Nat} (hn : 1 ≤ n) (hL : L = 2 * n) (h : ko_VP 3 n L x L) : ko_VP 3 n L (ko_mir 3 n L x) L := by
  have hx : ∀ j, j < L → x j ≤ 1 ∧ ko_tau 4 x (j + 1) ≤ n ∧ j + 1 ≤ 2 * ko_tau 4 x (j + 1) := fun j hj => by
    have h1 := ko_ok3.mp (h j hj).2
    rw [ko_t34] at h1
    rw [ko_t4s]
    exact h1
  have hb : ∀ k, k ≤ L → ko_tau 4 x k ≤ k ∧ k ≤ 2 * ko_tau 4 x k := by
    intro k
    induction k with
    | zero => intro _; exact ⟨Nat.le_refl _, Nat.zero_le _⟩
    | succ k ih =>
      intro hk
      have h1 := hx k (by omega)
      have h2 := ih (by omega)
      rw [ko_t4s] at h1 ⊢
      omega
  have hT : ko_tau 4 x L = n := by
    have h1 := hx (L - 1) (by omega)
    rw [show L - 1 + 1 = L by omega] at h1
    omega
  intro j hj
  have h2 := ko_mir3s (n := n) (L := L) (x := x) (fun j hj => (hx j hj).1) (j + 1) (by omega)
  have h3 := hb (L - (j + 1)) (by omega)
  have hm : ko_mir 3 n L x j ≤ 1 := Nat.sub_le _ _
  refine ⟨by omega, ko_ok3.mpr ?_⟩
  rw [ko_t34]
  rw [ko_t4s] at h2
  omega
theorem ko_mirV {s n L : Nat} {x : Nat → Nat} (hc : ko_cfg s n L = true) (hl : s = 4 → 0 < L) (h2 : s ≠ 2) (h : ko_VP s n L x L) : ko_VP s n L (ko_mir s n L x) L := by
  obtain ⟨k1, k2, k3, k4, k5, k6, k7, k8⟩ := ko_cfg_b hc
  have : s = 0 ∨ s = 1 ∨ s = 3 ∨ s = 4 := by omega
  rcases this with rfl | rfl | rfl | rfl
  · exact ko_mir0 k2 k3 h
  · exact ko_mir1 h
  · exact ko_mir3 k2 (k6 rfl) h
  · exact ko_mir4 (hl rfl) h
/-- how the mirrored items come out of the items -/
theorem ko_mir_le {s n L : Nat} {x : Nat → Nat} (h : ko_VP s n L x L) {j : Nat} (hj : j < L) : (s = 0 → x (L - 1 - j) + 1 ≤ n ∧ ko_mir s n L x j + 1 + x (L - 1 - j) = n) ∧ (s = 3 → x (L - 1 - j) ≤ 1 ∧ ko_mir s n L x j + x (L - 1 - j) = 1) ∧ (s ≠ 0 → s ≠ 3 → ko_mir s n L x j = x (L - 1 - j)) := by
  refine ⟨fun e => ?_, fun e => ?_, fun e1 e2 => ?_⟩
  · subst e
    have h1 := ko_ok0.mp (h (L - 1 - j) (by omega)).2
    have hm : ko_mir 0 n L x j = n - 1 - x (L - 1 - j) := rfl
    omega
  · subst e
    have h1 := ko_ok3.mp (h (L - 1 - j) (by omega)).2
    have hm : ko_mir 3 n L x j = 1 - x (L - 1 - j) := rfl
    omega
  · unfold ko_mir
    split
    · exact absurd rfl e1
    · exact absurd rfl e2
    · rfl
/-- at how many places two sequences differ -/
def ko_df (a b : Nat → Nat) : Nat → Nat
  | 0 => 0
  | i + 1 => ko_df a b i + (if a i = b i then 0 else 1)
theorem ko_df_s (a b : Nat → Nat) (i : Nat) : ko_df a b (i + 1) = ko_df a b i + (if a i = b i then 0 else 1) := rfl
theorem ko_df_le (a b : Nat → Nat) : ∀ i, ko_df a b i ≤ i := by
  intro i
  induction i with
  | zero => exact Nat.le_refl _
  | succ i ih => rw [ko_df_s]; split <;> omega
theorem ko_len_ok {s n k : Nat} (hs : s < 5) (hn : 1 ≤ n) (hn7 : n ≤ 7) (hk : s = 0 ∨ s = 4 → k ≤ n) : ko_cfg s n (ko_len s n k) = true := by
  have : s = 0 ∨ s = 1 ∨ s = 2 ∨ s = 3 ∨ s = 4 := by omega
  rcases this with rfl | rfl | rfl | rfl | rfl <;> simp [ko_cfg, ko_len] <;> omega
end
section
set_option maxRecDepth 100000
set_option maxHeartbeats 4000000 in
/-- difference(z) -/
theorem cX_difference (l : Launch) (E : EX) (so n : Nat) (ch : Int) (L : Nat) (cu : Int) (x o : Nat → Nat) (z : Int) (hc : ko_cfg so n L = true) (h8 : ∀ j, x j < 8) (ho : ∀ j, o j < 8) (hz : -2147483648 ≤ z ∧ z ≤ 2147483647) (hv : (ko_g so n L 0 0 = 0 ∧ cu = -2) ∨ (0 < ko_g so n L 0 0 ∧ ko_VP so n L x L ∧ cu = (ko_rk so n L x L : Nat))) : CtX l yX0_difference cX0_difference 6 (some .int) 4 98 E [.int (zI (z))] (so, n, ch, L, cu, x, o) (fun w v => (¬ (0 ≤ z ∧ z < (ko_g so n L 0 0 : Nat)) ∧ w = -1 ∧ v = (so, n, ch, L, cu, x, o)) ∨ (0 ≤ z ∧ z < (ko_g so n L 0 0 : Nat) ∧ ∃ x2 x3 o2 : Nat → Nat, ko_VP so n L x2 L ∧ ((ko_rk so n L x2 L : Nat) : Int) = z ∧ w = ((ko_df x2 x L : Nat) : Int) ∧ ko_VP so n L x3 L ∧ cu = ((ko_rk so n L x3 L : Nat) : Int) ∧ (∀ j, x3 j < 8) ∧ (∀ j, o2 j < 8) ∧ v = (so, n, ch, L, cu, x3, o2))) := by
  refine CtX.start (by decide +kernel) rfl ?_
  intro p e s0 m below meth c A F hH
  have hl := lv_entry ([.ref (E.1 0), .int (zI (z))]) (n := 6) (Nat.le_of_ble_eq_true rfl)
  rw [lg_entry_eq]
  generalize (lg_sl ([.ref (E.1 0), .int (zI (z))]) ++ List.replicate (6 - (lg_sl ([.ref (E.1 0), .int (zI (z))])).length) Slot.unset).toArray = ls at hl ⊢
  have hl : lv_has ls 6 [(0, .ref (E.1 0)), (1, .int (zI (z)))] := hl
  obtain ⟨k1, k2, k3, k4, k5, k6, k7, k8⟩ := ko_cfg_b hc
  have hle := ko_count_le hc
  have hcb : -2 ≤ cu ∧ cu ≤ 5040 := by
    rcases hv with ⟨h1, h2⟩ | ⟨h1, h2, h3⟩
    · omega
    · have h4 := (ko_at hc (ko_live hc h1) h2).1
      rw [ko_objs_len hc] at h4
      omega
  refine lv_aload_n F.x F.b dX0_difference_0 rfl (lv_at hl 0 rfl) ?_
  refine lv_iconst (v := zI (0)) F.x F.b dX0_difference_1 (by decide +kernel) ?_
  refine CtX.call (n := 1) (cX_goingOn l E so n ch L cu x o 0 hc (by omega) h8 (ko_pre_0 so n)) F hH (lw_V q39 q41 qs1 q17 q42) (by decide +kernel) ⟨Nat.le_of_ble_eq_true rfl, Nat.le_of_ble_eq_true rfl⟩ rfl hl.1 rfl (Nat.le_of_ble_eq_true rfl) dX0_difference_2 ⟨Nat.le_refl _, Nat.le_refl _⟩ (fun z9 v9 H locs hp hH => ?_)
  obtain ⟨rfl, rfl⟩ := hp
  refine zr_top (y := zI ((ko_g so n L 0 0 : Nat) : Int)) rfl ?_
  refine lv_istore_n (lv' := [(2, .int (zI (((ko_g so n L 0 0 : Nat) : Int)))), (0, .ref (E.1 0)), (1, .int (zI (z)))]) F.x F.b dX0_difference_5 rfl hl (by decide) rfl (fun ls hl => ?_)
  refine lv_iload_n F.x F.b dX0_difference_6 rfl (lv_at hl 2 rfl) ?_
  refine zr_if_lt (tgt := 15) F.x F.b dX0_difference_7 (by decide) (by omega) (fun c7 => ?_) (fun c7 => ?_)
  · refine lv_iconst (v := zI (-1)) F.x F.b dX0_difference_15 (by decide +kernel) ?_
    exact CtX.iret F hH (Or.inl ⟨by omega, rfl, rfl⟩) dX0_difference_16
  · refine lv_iload_n F.x F.b dX0_difference_10 rfl (lv_at hl 2 rfl) ?_
    refine lv_iload_n F.x F.b dX0_difference_11 rfl (lv_at hl 0 rfl) ?_
    refine zr_icmp_lt (tgt := 17) F.x F.b dX0_difference_12 (by decide) (by omega) (by omega) (fun c12 => ?_) (fun c12 => ?_)
    · obtain ⟨hg0, hvp, hcu⟩ : 0 < ko_g so n L 0 0 ∧ ko_VP so n L x L ∧ cu = (ko_rk so n L x L : Nat) := by
        rcases hv with h | h
        · omega
        · exact h
      have hlv := ko_live hc hg0
      have hat := (ko_at hc hlv hvp).1
      rw [ko_objs_len hc] at hat
      refine lv_aload_n F.x F.b dX0_difference_17 rfl (lv_at hl 1 rfl) ?_
      refine getX F hH 4 (by decide) q75 rfl (v := .int (zI (cu))) rfl dX0_difference_18 ?_
      refine lv_istore_n (lv' := [(3, .int (zI (cu))), (2, .int (zI (((ko_g so n L 0 0 : Nat) : Int)))), (0, .ref (E.1 0)), (1, .int (zI (z)))]) F.x F.b dX0_difference_21 rfl hl (by decide) rfl (fun ls hl => ?_)
      refine lv_iconst (v := zI (0)) F.x F.b dX0_difference_22 (by decide +kernel) ?_
      refine lv_istore (lv' := [(4, .int (zI (0))), (3, .int (zI (cu))), (2, .int (zI (((ko_g so n L 0 0 : Nat) : Int)))), (0, .ref (E.1 0)), (1, .int (zI (z)))]) F.x F.b dX0_difference_23 hl (by decide) rfl (fun ls hl => ?_)
      have loop1 : ∀ d i : Nat, d + i = L → ∀ y : Nat → Nat, (∀ j, j < i → y j = x j) → (∀ j, y j < 8) → ∀ (H : Heap) (locs : List Loc), HX E s0 A (so, n, ch, L, cu, x, y) H locs → ∀ ls : Array Slot, lv_has ls 6 [(0, .ref (E.1 0)), (1, .int (zI (z))), (3, .int (zI (cu))), (4, .int (zI (i)))] → W p l e (rmX 4 98) s0 m ([.ref (E.1 0), .int (zI (z))] : List Value).toArray below meth c H locs 0 0 (MQ below (QcX E A (fun w v => (¬ (0 ≤ z ∧ z < (ko_g so n L 0 0 : Nat)) ∧ w = -1 ∧ v = (so, n, ch, L, cu, x, o)) ∨ (0 ≤ z ∧ z < (ko_g so n L 0 0 : Nat) ∧ ∃ x2 x3 o2 : Nat → Nat, ko_VP so n L x2 L ∧ ((ko_rk so n L x2 L : Nat) : Int) = z ∧ w = ((ko_df x2 x L : Nat) : Int) ∧ ko_VP so n L x3 L ∧ cu = ((ko_rk so n L x3 L : Nat) : Int) ∧ (∀ j, x3 j < 8) ∧ (∀ j, o2 j < 8) ∧ v = (so, n, ch, L, cu, x3, o2)))) ([.ref (E.1 0), .int (zI (z))] : List Value).toArray s0 0 0 A) (F0 m 25 ls []) := by
        intro d
        induction d with
        | zero =>
          intro i hd y hy h8y H locs hH ls hl
          refine lv_iload F.x F.b dX0_difference_25 (lv_at hl 3 rfl) ?_
          refine lv_aload_n F.x F.b dX0_difference_27 rfl (lv_at hl 0 rfl) ?_
          refine getX F hH 3 (by decide) q74 rfl (v := .int (zI (L))) rfl dX0_difference_28 ?_
          refine zr_icmp_ge (tgt := 54) F.x F.b dX0_difference_31 (by decide) (by omega) (by omega) (fun c31 => ?_) (fun c31 => ?_)
          · have eL : i = L := by omega
            rw [eL] at hy
            refine lv_aload_n F.x F.b dX0_difference_54 rfl (lv_at hl 0 rfl) ?_
            refine lv_iload_n F.x F.b dX0_difference_55 rfl (lv_at hl 1 rfl) ?_
            refine CtX.call (n := 1) (cX_go l E so n ch L cu x y z hc h8 hz) F hH (lw_V q55 q56 q57 q17 q58) (by decide +kernel) ⟨Nat.le_of_ble_eq_true rfl, Nat.le_of_ble_eq_true rfl⟩ rfl hl.1 rfl (Nat.le_of_ble_eq_true rfl) dX0_difference_56 ⟨Nat.le_refl _, Nat.le_refl _⟩ (fun z9 v9 H locs hp hH => ?_)
            rcases hp with ⟨hx1, -⟩ | ⟨-, -, hz9, x2, hv2, hr2, h82, rfl⟩
            · exact absurd ⟨by omega, by omega⟩ hx1
            · refine lv_pop F.x F.b dX0_difference_59 rfl ?_
              refine lv_iconst (v := zI (0)) F.x F.b dX0_difference_60 (by decide +kernel) ?_
              refine lv_istore (lv' := [(4, .int (zI (0))), (0, .ref (E.1 0)), (1, .int (zI (z))), (3, .int (zI (cu)))]) F.x F.b dX0_difference_61 hl (by decide) rfl (fun ls hl => ?_)
              refine lv_iconst (v := zI (0)) F.x F.b dX0_difference_63 (by decide +kernel) ?_
              refine lv_istore (lv' := [(5, .int (zI (0))), (4, .int (zI (0))), (0, .ref (E.1 0)), (1, .int (zI (z))), (3, .int (zI (cu)))]) F.x F.b dX0_difference_64 hl (by decide) rfl (fun ls hl => ?_)
              have loop2 : ∀ d i : Nat, d + i = L → ∀ (H : Heap) (locs : List Loc), HX E s0 A (so, n, ch, L, z, x2, y) H locs → ∀ ls : Array Slot, lv_has ls 6 [(0, .ref (E.1 0)), (3, .int (zI (cu))), (4, .int (zI (((ko_df x2 x i : Nat) : Int)))), (5, .int (zI (i)))] → W p l e (rmX 4 98) s0 m ([.ref (E.1 0), .int (zI (z))] : List Value).toArray below meth c H locs 0 0 (MQ below (QcX E A (fun w v => (¬ (0 ≤ z ∧ z < (ko_g so n L 0 0 : Nat)) ∧ w = -1 ∧ v = (so, n, ch, L, cu, x, o)) ∨ (0 ≤ z ∧ z < (ko_g so n L 0 0 : Nat) ∧ ∃ x2 x3 o2 : Nat → Nat, ko_VP so n L x2 L ∧ ((ko_rk so n L x2 L : Nat) : Int) = z ∧ w = ((ko_df x2 x L : Nat) : Int) ∧ ko_VP so n L x3 L ∧ cu = ((ko_rk so n L x3 L : Nat) : Int) ∧ (∀ j, x3 j < 8) ∧ (∀ j, o2 j < 8) ∧ v = (so, n, ch, L, cu, x3, o2)))) ([.ref (E.1 0), .int (zI (z))] : List Value).toArray s0 0 0 A) (F0 m 66 ls []) := by
                intro d
                induction d with
                | zero =>
                  intro i hd H locs hH ls hl
                  refine lv_iload F.x F.b dX0_difference_66 (lv_at hl 3 rfl) ?_
                  refine lv_aload_n F.x F.b dX0_difference_68 rfl (lv_at hl 0 rfl) ?_
                  refine getX F hH 3 (by decide) q74 rfl (v := .int (zI (L))) rfl dX0_difference_69 ?_
                  refine zr_icmp_ge (tgt := 101) F.x F.b dX0_difference_72 (by decide) (by omega) (by omega) (fun c72 => ?_) (fun c72 => ?_)
                  · have eL : i = L := by omega
                    rw [eL] at hl
                    refine lv_aload_n F.x F.b dX0_difference_101 rfl (lv_at hl 0 rfl) ?_
                    refine lv_iload_n F.x F.b dX0_difference_102 rfl (lv_at hl 1 rfl) ?_
                    refine CtX.call (n := 1) (cX_go l E so n ch L z x2 y cu hc h82 (by omega)) F hH (lw_V q55 q56 q57 q17 q58) (by decide +kernel) ⟨Nat.le_of_ble_eq_true rfl, Nat.le_of_ble_eq_true rfl⟩ rfl hl.1 rfl (Nat.le_of_ble_eq_true rfl) dX0_difference_103 ⟨Nat.le_refl _, Nat.le_refl _⟩ (fun z9 v9 H locs hp hH => ?_)
                    rcases hp with ⟨hx1, -⟩ | ⟨-, -, hz9, x3, hv3, hr3, h83, rfl⟩
                    · exact absurd ⟨by omega, by omega⟩ hx1
                    · refine lv_pop F.x F.b dX0_difference_106 rfl ?_
                      refine lv_iload F.x F.b dX0_difference_107 (lv_at hl 2 rfl) ?_
                      exact CtX.iret F hH (Or.inr ⟨by omega, by omega, x2, x3, y, hv2, by omega, rfl, hv3, by omega, h83, h8y, rfl⟩) dX0_difference_109
                  · exact absurd c72 (by omega)
                | succ d ih2 =>
                  intro i hd H locs hH ls hl
                  refine lv_iload F.x F.b dX0_difference_66 (lv_at hl 3 rfl) ?_
                  refine lv_aload_n F.x F.b dX0_difference_68 rfl (lv_at hl 0 rfl) ?_
                  refine getX F hH 3 (by decide) q74 rfl (v := .int (zI (L))) rfl dX0_difference_69 ?_
                  refine zr_icmp_ge (tgt := 101) F.x F.b dX0_difference_72 (by decide) (by omega) (by omega) (fun c72 => ?_) (fun c72 => ?_)
                  · exact absurd c72 (by omega)
                  · have hdl := ko_df_le x2 x i
                    have hds := ko_df_s x2 x i
                    have hyi := hy i (by omega)
                    have hb1 := h82 i
                    have hb2 := h8y i
                    refine lv_aload_n F.x F.b dX0_difference_75 rfl (lv_at hl 0 rfl) ?_
                    refine getX F hH 5 (by decide) q76 rfl (v := .ref (E.1 5)) rfl dX0_difference_76 ?_
                    refine lv_iload F.x F.b dX0_difference_79 (lv_at hl 3 rfl) ?_
                    refine baldX F hH 1 (x2) rfl (i) (rfl) (by omega) dX0_difference_81 ?_
                    refine lv_aload_n F.x F.b dX0_difference_82 rfl (lv_at hl 0 rfl) ?_
                    refine getX F hH 6 (by decide) q77 rfl (v := .ref (E.1 6)) rfl dX0_difference_83 ?_
                    refine lv_iload F.x F.b dX0_difference_86 (lv_at hl 3 rfl) ?_
                    refine baldX F hH 2 (y) rfl (i) (rfl) (by omega) dX0_difference_88 ?_
                    refine zr_icmp_eq (tgt := 95) F.x F.b dX0_difference_89 (by decide) (by omega) (by omega) (fun c89 => ?_) (fun c89 => ?_)
                    · rw [if_pos (show x2 i = x i by omega)] at hds
                      refine zr_iinc F.x F.b (((i + 1 : Nat) : Int)) (lv' := [(5, .int (zI (((i + 1 : Nat) : Int)))), (0, .ref (E.1 0)), (3, .int (zI (cu))), (4, .int (zI (((ko_df x2 x i : Nat) : Int))))]) dX0_difference_95 hl (k := 3) rfl (by omega) (by decide) rfl (fun ls hl => ?_)
                      refine lv_goto (tgt := 66) F.x F.b dX0_difference_98 (by decide) ?_
                      rw [show ((ko_df x2 x i : Nat) : Int) = ((ko_df x2 x (i + 1) : Nat) : Int) by omega] at hl
                      exact ih2 (i + 1) (by omega) H locs hH ls (lv_sub hl [1, 2, 3, 0] rfl)
                    · rw [if_neg (show ¬ x2 i = x i by omega)] at hds
                      refine zr_iinc F.x F.b (((ko_df x2 x (i + 1) : Nat) : Int)) (lv' := [(4, .int (zI (((ko_df x2 x (i + 1) : Nat) : Int)))), (0, .ref (E.1 0)), (3, .int (zI (cu))), (5, .int (zI (i)))]) dX0_difference_92 hl (k := 2) rfl (by omega) (by decide) rfl (fun ls hl => ?_)
                      refine zr_iinc F.x F.b (((i + 1 : Nat) : Int)) (lv' := [(5, .int (zI (((i + 1 : Nat) : Int)))), (4, .int (zI (((ko_df x2 x (i + 1) : Nat) : Int)))), (0, .ref (E.1 0)), (3, .int (zI (cu)))]) dX0_difference_95 hl (k := 3) rfl (by omega) (by decide) rfl (fun ls hl => ?_)
                      refine lv_goto (tgt := 66) F.x F.b dX0_difference_98 (by decide) ?_
                      exact ih2 (i + 1) (by omega) H locs hH ls (lv_sub hl [2, 3, 1, 0] rfl)
              exact loop2 L 0 (by omega) H locs hH ls (lv_sub hl [2, 4, 1, 0] rfl)
          · exact absurd c31 (by omega)
        | succ d ih =>
          intro i hd y hy h8y H locs hH ls hl
          refine lv_iload F.x F.b dX0_difference_25 (lv_at hl 3 rfl) ?_
          refine lv_aload_n F.x F.b dX0_difference_27 rfl (lv_at hl 0 rfl) ?_
          refine getX F hH 3 (by decide) q74 rfl (v := .int (zI (L))) rfl dX0_difference_28 ?_
          refine zr_icmp_ge (tgt := 54) F.x F.b dX0_difference_31 (by decide) (by omega) (by omega) (fun c31 => ?_) (fun c31 => ?_)
          · exact absurd c31 (by omega)
          · have hxi := h8 i
            refine lv_aload_n F.x F.b dX0_difference_34 rfl (lv_at hl 0 rfl) ?_
            refine getX F hH 6 (by decide) q77 rfl (v := .ref (E.1 6)) rfl dX0_difference_35 ?_
            refine lv_iload F.x F.b dX0_difference_38 (lv_at hl 3 rfl) ?_
            refine lv_aload_n F.x F.b dX0_difference_40 rfl (lv_at hl 0 rfl) ?_
            refine getX F hH 5 (by decide) q76 rfl (v := .ref (E.1 5)) rfl dX0_difference_41 ?_
            refine lv_iload F.x F.b dX0_difference_44 (lv_at hl 3 rfl) ?_
            refine baldX F hH 1 (x) rfl (i) (rfl) (by omega) dX0_difference_46 ?_
            refine bastX F hH 2 (y) rfl (i) (x i) (rfl) (by omega) (rfl) (by omega) (so, n, ch, L, cu, x, (zU (y) (i) (x i))) rfl dX0_difference_47 (fun H locs hH => ?_)
            refine zr_iinc F.x F.b (((i + 1 : Nat) : Int)) (lv' := [(4, .int (zI (((i + 1 : Nat) : Int)))), (0, .ref (E.1 0)), (1, .int (zI (z))), (3, .int (zI (cu)))]) dX0_difference_48 hl (k := 3) rfl (by omega) (by decide) rfl (fun ls hl => ?_)
            refine lv_goto (tgt := 25) F.x F.b dX0_difference_51 (by decide) ?_
            refine ih (i + 1) (by omega) (zU y i (x i)) (fun j hj => ?_) (zU_8 h8y hxi) H locs hH ls (lv_sub hl [1, 2, 3, 0] rfl)
            by_cases e : j = i
            · subst e; exact zU_s
            · rw [zU_n e]; exact hy j (by omega)
      exact loop1 L 0 (by omega) o (fun j hj => absurd hj (Nat.not_lt_zero j)) ho H locs hH ls (lv_sub hl [3, 4, 1, 0] rfl)
    · refine lv_iconst (v := zI (-1)) F.x F.b dX0_difference_15 (by decide +kernel) ?_
      exact CtX.iret F hH (Or.inl ⟨by omega, rfl, rfl⟩) dX0_difference_16

set_option maxHeartbeats 4000000 in
/-- mirrored() -/
theorem cX_mirrored (l : Launch) (E : EX) (so n : Nat) (ch : Int) (L : Nat) (cu : Int) (x o : Nat → Nat) (hc : ko_cfg so n L = true) (h8 : ∀ j, x j < 8) (ho : ∀ j, o j < 8) (hv : (ko_g so n L 0 0 = 0 ∧ cu = -2) ∨ (0 < ko_g so n L 0 0 ∧ ko_VP so n L x L ∧ cu = (ko_rk so n L x L : Nat))) : CtX l yX0_mirrored cX0_mirrored 4 (some .int) 4 98 E [] (so, n, ch, L, cu, x, o) (fun w v => ((cu < 0 ∨ so = 2) ∧ w = -2 ∧ v = (so, n, ch, L, cu, x, o)) ∨ (¬ (cu < 0 ∨ so = 2) ∧ w = ((ko_rk so n L (ko_mir so n L x) L : Nat) : Int) ∧ ∃ x3 o2 : Nat → Nat, ko_VP so n L x3 L ∧ cu = ((ko_rk so n L x3 L : Nat) : Int) ∧ (∀ j, x3 j < 8) ∧ (∀ j, o2 j < 8) ∧ v = (so, n, ch, L, cu, x3, o2))) := by
  refine CtX.start (by decide +kernel) rfl ?_
  intro p e s0 m below meth c A F hH
  have hl := lv_entry ([.ref (E.1 0)]) (n := 4) (Nat.le_of_ble_eq_true rfl)
  rw [lg_entry_eq]
  generalize (lg_sl ([.ref (E.1 0)]) ++ List.replicate (4 - (lg_sl ([.ref (E.1 0)])).length) Slot.unset).toArray = ls at hl ⊢
  have hl : lv_has ls 4 [(0, .ref (E.1 0))] := hl
  obtain ⟨k1, k2, k3, k4, k5, k6, k7, k8⟩ := ko_cfg_b hc
  have hle := ko_count_le hc
  have hcb : -2 ≤ cu ∧ cu ≤ 5040 := by
    rcases hv with ⟨h1, h2⟩ | ⟨h1, h2, h3⟩
    · omega
    · have h4 := (ko_at hc (ko_live hc h1) h2).1
      rw [ko_objs_len hc] at h4
      omega
  refine lv_aload_n F.x F.b dX0_mirrored_0 rfl (lv_at hl 0 rfl) ?_
  refine getX F hH 4 (by decide) q75 rfl (v := .int (zI (cu))) rfl dX0_mirrored_1 ?_
  refine zr_if_lt (tgt := 15) F.x F.b dX0_mirrored_4 (by decide) (by omega) (fun c4 => ?_) (fun c4 => ?_)
  · refine lv_bipush (v := zI (-2)) F.x F.b dX0_mirrored_15 (by decide +kernel) ?_
    exact CtX.iret F hH (Or.inl ⟨by omega, rfl, rfl⟩) dX0_mirrored_17
  · refine lv_aload_n F.x F.b dX0_mirrored_7 rfl (lv_at hl 0 rfl) ?_
    refine getX F hH 0 (by decide) q71 rfl (v := .int (zI (so))) rfl dX0_mirrored_8 ?_
    refine lv_iconst (v := zI (2)) F.x F.b dX0_mirrored_11 (by decide +kernel) ?_
    refine zr_icmp_ne (tgt := 18) F.x F.b dX0_mirrored_12 (by decide) (by omega) (by omega) (fun c12 => ?_) (fun c12 => ?_)
    · obtain ⟨hg0, hvp, hcu⟩ : 0 < ko_g so n L 0 0 ∧ ko_VP so n L x L ∧ cu = (ko_rk so n L x L : Nat) := by
        rcases hv with h | h
        · omega
        · exact h
      have hlv := ko_live hc hg0
      have hat := (ko_at hc hlv hvp).1
      rw [ko_objs_len hc] at hat
      have hmv := ko_mirV hc hlv (by omega) hvp
      refine lv_aload_n F.x F.b dX0_mirrored_18 rfl (lv_at hl 0 rfl) ?_
      refine getX F hH 4 (by decide) q75 rfl (v := .int (zI (cu))) rfl dX0_mirrored_19 ?_
      refine lv_istore_n (lv' := [(1, .int (zI (cu))), (0, .ref (E.1 0))]) F.x F.b dX0_mirrored_22 rfl hl (by decide) rfl (fun ls hl => ?_)
      refine lv_iconst (v := zI (0)) F.x F.b dX0_mirrored_23 (by decide +kernel) ?_
      refine lv_istore_n (lv' := [(2, .int (zI (0))), (1, .int (zI (cu))), (0, .ref (E.1 0))]) F.x F.b dX0_mirrored_24 rfl hl (by decide) rfl (fun ls hl => ?_)
      have loop1 : ∀ d i : Nat, d + i = L → ∀ y : Nat → Nat, (∀ j, j < i → y j = ko_mir so n L x j) → (∀ j, y j < 8) → ∀ (H : Heap) (locs : List Loc), HX E s0 A (so, n, ch, L, cu, x, y) H locs → ∀ ls : Array Slot, lv_has ls 4 [(0, .ref (E.1 0)), (1, .int (zI (cu))), (2, .int (zI (i)))] → W p l e (rmX 4 98) s0 m ([.ref (E.1 0)] : List Value).toArray below meth c H locs 0 0 (MQ below (QcX E A (fun w v => ((cu < 0 ∨ so = 2) ∧ w = -2 ∧ v = (so, n, ch, L, cu, x, o)) ∨ (¬ (cu < 0 ∨ so = 2) ∧ w = ((ko_rk so n L (ko_mir so n L x) L : Nat) : Int) ∧ ∃ x3 o2 : Nat → Nat, ko_VP so n L x3 L ∧ cu = ((ko_rk so n L x3 L : Nat) : Int) ∧ (∀ j, x3 j < 8) ∧ (∀ j, o2 j < 8) ∧ v = (so, n, ch, L, cu, x3, o2)))) ([.ref (E.1 0)] : List Value).toArray s0 0 0 A) (F0 m 25 ls []) := by
        intro d
        induction d with
        | zero =>
          intro i hd y hy h8y H locs hH ls hl
          refine lv_iload_n F.x F.b dX0_mirrored_25 rfl (lv_at hl 2 rfl) ?_
          refine lv_aload_n F.x F.b dX0_mirrored_26 rfl (lv_at hl 0 rfl) ?_
          refine getX F hH 3 (by decide) q74 rfl (v := .int (zI (L))) rfl dX0_mirrored_27 ?_
          refine zr_icmp_ge (tgt := 89) F.x F.b dX0_mirrored_30 (by decide) (by omega) (by omega) (fun c30 => ?_) (fun c30 => ?_)
          · have eL : i = L := by omega
            rw [eL] at hy
            refine lv_iconst (v := zI (0)) F.x F.b dX0_mirrored_89 (by decide +kernel) ?_
            refine lv_istore_n (lv' := [(2, .int (zI (0))), (0, .ref (E.1 0)), (1, .int (zI (cu)))]) F.x F.b dX0_mirrored_90 rfl hl (by decide) rfl (fun ls hl => ?_)
            have loop2 : ∀ d i : Nat, d + i = L → ∀ u : Nat → Nat, (∀ j, j < i → u j = ko_mir so n L x j) → (∀ j, u j < 8) → ∀ (H : Heap) (locs : List Loc), HX E s0 A (so, n, ch, L, cu, u, y) H locs → ∀ ls : Array Slot, lv_has ls 4 [(0, .ref (E.1 0)), (1, .int (zI (cu))), (2, .int (zI (i)))] → W p l e (rmX 4 98) s0 m ([.ref (E.1 0)] : List Value).toArray below meth c H locs 0 0 (MQ below (QcX E A (fun w v => ((cu < 0 ∨ so = 2) ∧ w = -2 ∧ v = (so, n, ch, L, cu, x, o)) ∨ (¬ (cu < 0 ∨ so = 2) ∧ w = ((ko_rk so n L (ko_mir so n L x) L : Nat) : Int) ∧ ∃ x3 o2 : Nat → Nat, ko_VP so n L x3 L ∧ cu = ((ko_rk so n L x3 L : Nat) : Int) ∧ (∀ j, x3 j < 8) ∧ (∀ j, o2 j < 8) ∧ v = (so, n, ch, L, cu, x3, o2)))) ([.ref (E.1 0)] : List Value).toArray s0 0 0 A) (F0 m 91 ls []) := by
              intro d
              induction d with
              | zero =>
                intro i hd u hu h8u H locs hH ls hl
                refine lv_iload_n F.x F.b dX0_mirrored_91 rfl (lv_at hl 2 rfl) ?_
                refine lv_aload_n F.x F.b dX0_mirrored_92 rfl (lv_at hl 0 rfl) ?_
                refine getX F hH 3 (by decide) q74 rfl (v := .int (zI (L))) rfl dX0_mirrored_93 ?_
                refine zr_icmp_ge (tgt := 117) F.x F.b dX0_mirrored_96 (by decide) (by omega) (by omega) (fun c96 => ?_) (fun c96 => ?_)
                · have eL : i = L := by omega
                  rw [eL] at hu
                  have hvu := ko_VP_ext (fun j hj => (hu j hj).symm) hmv
                  have hru := ko_rk_ext (s := so) (n := n) (L := L) L hu
                  refine lv_aload_n F.x F.b dX0_mirrored_117 rfl (lv_at hl 0 rfl) ?_
                  refine lv_aload_n F.x F.b dX0_mirrored_118 rfl (lv_at hl 0 rfl) ?_
                  refine getX F hH 3 (by decide) q74 rfl (v := .int (zI (L))) rfl dX0_mirrored_119 ?_
                  refine lv_iconst (v := zI (1)) F.x F.b dX0_mirrored_122 (by decide +kernel) ?_
                  refine zr_isub F.x F.b ((L : Int) - 1) dX0_mirrored_123 (rfl) ?_
                  refine CtX.call (n := 1) (cX_rankUpTo l E so n ch L cu u y L hc hlv (by omega) h8u hvu) F hH (lw_V q138 q140 qs10 q17 q141) (by decide +kernel) ⟨Nat.le_of_ble_eq_true rfl, Nat.le_of_ble_eq_true rfl⟩ rfl hl.1 rfl (Nat.le_of_ble_eq_true rfl) dX0_mirrored_124 ⟨Nat.le_refl _, Nat.le_refl _⟩ (fun z9 v9 H locs hp hH => ?_)
                  obtain ⟨rfl, rfl⟩ := hp
                  refine lv_istore_n (lv' := [(2, .int (zI (((ko_rk so n L u L : Nat) : Int)))), (0, .ref (E.1 0)), (1, .int (zI (cu)))]) F.x F.b dX0_mirrored_127 rfl hl (by decide) rfl (fun ls hl => ?_)
                  refine lv_aload_n F.x F.b dX0_mirrored_128 rfl (lv_at hl 1 rfl) ?_
                  refine lv_iload_n F.x F.b dX0_mirrored_129 rfl (lv_at hl 2 rfl) ?_
                  refine CtX.call (n := 1) (cX_go l E so n ch L cu u y cu hc h8u (by omega)) F hH (lw_V q55 q56 q57 q17 q58) (by decide +kernel) ⟨Nat.le_of_ble_eq_true rfl, Nat.le_of_ble_eq_true rfl⟩ rfl hl.1 rfl (Nat.le_of_ble_eq_true rfl) dX0_mirrored_130 ⟨Nat.le_refl _, Nat.le_refl _⟩ (fun z9 v9 H locs hp hH => ?_)
                  rcases hp with ⟨hx1, -⟩ | ⟨-, -, hz9, x3, hv3, hr3, h83, rfl⟩
                  · exact absurd ⟨by omega, by omega⟩ hx1
                  · refine lv_pop F.x F.b dX0_mirrored_133 rfl ?_
                    refine lv_iload_n F.x F.b dX0_mirrored_134 rfl (lv_at hl 0 rfl) ?_
                    exact CtX.iret F hH (Or.inr ⟨by omega, by rw [hru], x3, y, hv3, by omega, h83, h8y, rfl⟩) dX0_mirrored_135
                · exact absurd c96 (by omega)
              | succ d ih2 =>
                intro i hd u hu h8u H locs hH ls hl
                refine lv_iload_n F.x F.b dX0_mirrored_91 rfl (lv_at hl 2 rfl) ?_
                refine lv_aload_n F.x F.b dX0_mirrored_92 rfl (lv_at hl 0 rfl) ?_
                refine getX F hH 3 (by decide) q74 rfl (v := .int (zI (L))) rfl dX0_mirrored_93 ?_
                refine zr_icmp_ge (tgt := 117) F.x F.b dX0_mirrored_96 (by decide) (by omega) (by omega) (fun c96 => ?_) (fun c96 => ?_)
                · exact absurd c96 (by omega)
                · have hyi := hy i (by omega)
                  have hm8 := (hmv i (by omega)).1
                  refine lv_aload_n F.x F.b dX0_mirrored_99 rfl (lv_at hl 0 rfl) ?_
                  refine getX F hH 5 (by decide) q76 rfl (v := .ref (E.1 5)) rfl dX0_mirrored_100 ?_
                  refine lv_iload_n F.x F.b dX0_mirrored_103 rfl (lv_at hl 2 rfl) ?_
                  refine lv_aload_n F.x F.b dX0_mirrored_104 rfl (lv_at hl 0 rfl) ?_
                  refine getX F hH 6 (by decide) q77 rfl (v := .ref (E.1 6)) rfl dX0_mirrored_105 ?_
                  refine lv_iload_n F.x F.b dX0_mirrored_108 rfl (lv_at hl 2 rfl) ?_
                  refine baldX F hH 2 (y) rfl (i) (rfl) (by omega) dX0_mirrored_109 ?_
                  refine bastX F hH 1 (u) rfl (i) (y i) (rfl) (by omega) (rfl) (by omega) (so, n, ch, L, cu, (zU (u) (i) (y i)), y) rfl dX0_mirrored_110 (fun H locs hH => ?_)
                  refine zr_iinc F.x F.b (((i + 1 : Nat) : Int)) (lv' := [(2, .int (zI (((i + 1 : Nat) : Int)))), (0, .ref (E.1 0)), (1, .int (zI (cu)))]) dX0_mirrored_111 hl (k := 2) rfl (by omega) (by decide) rfl (fun ls hl => ?_)
                  refine lv_goto (tgt := 91) F.x F.b dX0_mirrored_114 (by decide) ?_
                  refine ih2 (i + 1) (by omega) (zU u i (y i)) (fun j hj => ?_) (zU_8 h8u (h8y i)) H locs hH ls (lv_sub hl [1, 2, 0] rfl)
                  by_cases e : j = i
                  · subst e; rw [zU_s]; exact hyi
                  · rw [zU_n e]; exact hu j (by omega)
            exact loop2 L 0 (by omega) x (fun j hj => absurd hj (Nat.not_lt_zero j)) h8 H locs hH ls (lv_sub hl [1, 2, 0] rfl)
          · exact absurd c30 (by omega)
        | succ d ih =>
          intro i hd y hy h8y H locs hH ls hl
          refine lv_iload_n F.x F.b dX0_mirrored_25 rfl (lv_at hl 2 rfl) ?_
          refine lv_aload_n F.x F.b dX0_mirrored_26 rfl (lv_at hl 0 rfl) ?_
          refine getX F hH 3 (by decide) q74 rfl (v := .int (zI (L))) rfl dX0_mirrored_27 ?_
          refine zr_icmp_ge (tgt := 89) F.x F.b dX0_mirrored_30 (by decide) (by omega) (by omega) (fun c30 => ?_) (fun c30 => ?_)
          · exact absurd c30 (by omega)
          · obtain ⟨m1, m2, m3⟩ := ko_mir_le hvp (show i < L by omega)
            have hm8 := (hmv i (by omega)).1
            have hx8 := h8 (L - 1 - i)
            refine lv_aload_n F.x F.b dX0_mirrored_33 rfl (lv_at hl 0 rfl) ?_
            refine getX F hH 5 (by decide) q76 rfl (v := .ref (E.1 5)) rfl dX0_mirrored_34 ?_
            refine lv_aload_n F.x F.b dX0_mirrored_37 rfl (lv_at hl 0 rfl) ?_
            refine getX F hH 3 (by decide) q74 rfl (v := .int (zI (L))) rfl dX0_mirrored_38 ?_
            refine lv_iconst (v := zI (1)) F.x F.b dX0_mirrored_41 (by decide +kernel) ?_
            refine zr_isub F.x F.b (((L - 1 : Nat) : Int)) dX0_mirrored_42 (by omega) ?_
            refine lv_iload_n F.x F.b dX0_mirrored_43 rfl (lv_at hl 2 rfl) ?_
            refine zr_isub F.x F.b (((L - 1 - i : Nat) : Int)) dX0_mirrored_44 (by omega) ?_
            refine baldX F hH 1 (x) rfl (L - 1 - i) (rfl) (by omega) dX0_mirrored_45 ?_
            refine lv_istore_n (lv' := [(3, .int (zI (x (L - 1 - i)))), (0, .ref (E.1 0)), (1, .int (zI (cu))), (2, .int (zI (i)))]) F.x F.b dX0_mirrored_46 rfl hl (by decide) rfl (fun ls hl => ?_)
            refine lv_aload_n F.x F.b dX0_mirrored_47 rfl (lv_at hl 1 rfl) ?_
            refine getX F hH 0 (by decide) q71 rfl (v := .int (zI (so))) rfl dX0_mirrored_48 ?_
            refine zr_if_ne (tgt := 63) F.x F.b dX0_mirrored_51 (by decide) (by omega) (fun c51 => ?_) (fun c51 => ?_)
            · refine lv_aload_n F.x F.b dX0_mirrored_63 rfl (lv_at hl 1 rfl) ?_
              refine getX F hH 0 (by decide) q71 rfl (v := .int (zI (so))) rfl dX0_mirrored_64 ?_
              refine lv_iconst (v := zI (3)) F.x F.b dX0_mirrored_67 (by decide +kernel) ?_
              refine zr_icmp_ne (tgt := 75) F.x F.b dX0_mirrored_68 (by decide) (by omega) (by omega) (fun c68 => ?_) (fun c68 => ?_)
              · rw [show ((x (L - 1 - i) : Nat) : Int) = ((ko_mir so n L x i : Nat) : Int) by omega] at hl
                refine lv_aload_n F.x F.b dX0_mirrored_75 rfl (lv_at hl 1 rfl) ?_
                refine getX F hH 6 (by decide) q77 rfl (v := .ref (E.1 6)) rfl dX0_mirrored_76 ?_
                refine lv_iload_n F.x F.b dX0_mirrored_79 rfl (lv_at hl 3 rfl) ?_
                refine lv_iload_n F.x F.b dX0_mirrored_80 rfl (lv_at hl 0 rfl) ?_
                refine zr_i2b F.x F.b dX0_mirrored_81 (by omega) ?_
                refine bastX F hH 2 (y) rfl (i) (ko_mir so n L x i) (rfl) (by omega) (rfl) (by omega) (so, n, ch, L, cu, x, (zU (y) (i) (ko_mir so n L x i))) rfl dX0_mirrored_82 (fun H locs hH => ?_)
                refine zr_iinc F.x F.b (((i + 1 : Nat) : Int)) (lv' := [(2, .int (zI (((i + 1 : Nat) : Int)))), (3, .int (zI (((ko_mir so n L x i : Nat) : Int)))), (0, .ref (E.1 0)), (1, .int (zI (cu)))]) dX0_mirrored_83 hl (k := 3) rfl (by omega) (by decide) rfl (fun ls hl => ?_)
                refine lv_goto (tgt := 25) F.x F.b dX0_mirrored_86 (by decide) ?_
                refine ih (i + 1) (by omega) (zU y i (ko_mir so n L x i)) (fun j hj => ?_) (zU_8 h8y hm8) H locs hH ls (lv_sub hl [2, 3, 0] rfl)
                by_cases e : j = i
                · subst e; exact zU_s
                · rw [zU_n e]; exact hy j (by omega)
              · refine lv_iconst (v := zI (1)) F.x F.b dX0_mirrored_71 (by decide +kernel) ?_
                refine lv_iload_n F.x F.b dX0_mirrored_72 rfl (lv_at hl 0 rfl) ?_
                refine zr_isub F.x F.b (((ko_mir so n L x i : Nat) : Int)) dX0_mirrored_73 (by omega) ?_
                refine lv_istore_n (lv' := [(3, .int (zI (((ko_mir so n L x i : Nat) : Int)))), (0, .ref (E.1 0)), (1, .int (zI (cu))), (2, .int (zI (i)))]) F.x F.b dX0_mirrored_74 rfl hl (by decide) rfl (fun ls hl => ?_)
                refine lv_aload_n F.x F.b dX0_mirrored_75 rfl (lv_at hl 1 rfl) ?_
                refine getX F hH 6 (by decide) q77 rfl (v := .ref (E.1 6)) rfl dX0_mirrored_76 ?_
                refine lv_iload_n F.x F.b dX0_mirrored_79 rfl (lv_at hl 3 rfl) ?_
                refine lv_iload_n F.x F.b dX0_mirrored_80 rfl (lv_at hl 0 rfl) ?_
                refine zr_i2b F.x F.b dX0_mirrored_81 (by omega) ?_
                refine bastX F hH 2 (y) rfl (i) (ko_mir so n L x i) (rfl) (by omega) (rfl) (by omega) (so, n, ch, L, cu, x, (zU (y) (i) (ko_mir so n L x i))) rfl dX0_mirrored_82 (fun H locs hH => ?_)
                refine zr_iinc F.x F.b (((i + 1 : Nat) : Int)) (lv' := [(2, .int (zI (((i + 1 : Nat) : Int)))), (3, .int (zI (((ko_mir so n L x i : Nat) : Int)))), (0, .ref (E.1 0)), (1, .int (zI (cu)))]) dX0_mirrored_83 hl (k := 3) rfl (by omega) (by decide) rfl (fun ls hl => ?_)
                refine lv_goto (tgt := 25) F.x F.b dX0_mirrored_86 (by decide) ?_
                refine ih (i + 1) (by omega) (zU y i (ko_mir so n L x i)) (fun j hj => ?_) (zU_8 h8y hm8) H locs hH ls (lv_sub hl [2, 3, 0] rfl)
                by_cases e : j = i
                · subst e; exact zU_s
                · rw [zU_n e]; exact hy j (by omega)
            · refine lv_aload_n F.x F.b dX0_mirrored_54 rfl (lv_at hl 1 rfl) ?_
              refine getX F hH 1 (by decide) q72 rfl (v := .int (zI (n))) rfl dX0_mirrored_55 ?_
              refine lv_iconst (v := zI (1)) F.x F.b dX0_mirrored_58 (by decide +kernel) ?_
              refine zr_isub F.x F.b ((n : Int) - 1) dX0_mirrored_59 (rfl) ?_
              refine lv_iload_n F.x F.b dX0_mirrored_60 rfl (lv_at hl 0 rfl) ?_
              refine zr_isub F.x F.b (((ko_mir so n L x i : Nat) : Int)) dX0_mirrored_61 (by omega) ?_
              refine lv_istore_n (lv' := [(3, .int (zI (((ko_mir so n L x i : Nat) : Int)))), (0, .ref (E.1 0)), (1, .int (zI (cu))), (2, .int (zI (i)))]) F.x F.b dX0_mirrored_62 rfl hl (by decide) rfl (fun ls hl => ?_)
              refine lv_aload_n F.x F.b dX0_mirrored_63 rfl (lv_at hl 1 rfl) ?_
              refine getX F hH 0 (by decide) q71 rfl (v := .int (zI (so))) rfl dX0_mirrored_64 ?_
              refine lv_iconst (v := zI (3)) F.x F.b dX0_mirrored_67 (by decide +kernel) ?_
              refine zr_icmp_ne (tgt := 75) F.x F.b dX0_mirrored_68 (by decide) (by omega) (by omega) (fun c68 => ?_) (fun c68 => ?_)
              · refine lv_aload_n F.x F.b dX0_mirrored_75 rfl (lv_at hl 1 rfl) ?_
                refine getX F hH 6 (by decide) q77 rfl (v := .ref (E.1 6)) rfl dX0_mirrored_76 ?_
                refine lv_iload_n F.x F.b dX0_mirrored_79 rfl (lv_at hl 3 rfl) ?_
                refine lv_iload_n F.x F.b dX0_mirrored_80 rfl (lv_at hl 0 rfl) ?_
                refine zr_i2b F.x F.b dX0_mirrored_81 (by omega) ?_
                refine bastX F hH 2 (y) rfl (i) (ko_mir so n L x i) (rfl) (by omega) (rfl) (by omega) (so, n, ch, L, cu, x, (zU (y) (i) (ko_mir so n L x i))) rfl dX0_mirrored_82 (fun H locs hH => ?_)
                refine zr_iinc F.x F.b (((i + 1 : Nat) : Int)) (lv' := [(2, .int (zI (((i + 1 : Nat) : Int)))), (3, .int (zI (((ko_mir so n L x i : Nat) : Int)))), (0, .ref (E.1 0)), (1, .int (zI (cu)))]) dX0_mirrored_83 hl (k := 3) rfl (by omega) (by decide) rfl (fun ls hl => ?_)
                refine lv_goto (tgt := 25) F.x F.b dX0_mirrored_86 (by decide) ?_
                refine ih (i + 1) (by omega) (zU y i (ko_mir so n L x i)) (fun j hj => ?_) (zU_8 h8y hm8) H locs hH ls (lv_sub hl [2, 3, 0] rfl)
                by_cases e : j = i
                · subst e; exact zU_s
                · rw [zU_n e]; exact hy j (by omega)
              · exact absurd c68 (by omega)
      exact loop1 L 0 (by omega) o (fun j hj => absurd hj (Nat.not_lt_zero j)) ho _ _ hH ls (lv_sub hl [2, 1, 0] rfl)
    · refine lv_bipush (v := zI (-2)) F.x F.b dX0_mirrored_15 (by decide +kernel) ?_
      exact CtX.iret F hH (Or.inl ⟨by omega, rfl, rfl⟩) dX0_mirrored_17

/-- choose's answer and world -/
def ko_chP (u : SX) (a b c1 : Int) : Int → SX → Prop := fun w v => (¬ (0 ≤ a ∧ a ≤ 4 ∧ 1 ≤ b ∧ b ≤ 7 ∧ (a = 0 ∨ a = 4 → 0 ≤ c1 ∧ c1 ≤ b)) ∧ w = 0 ∧ v = u) ∨ ((0 ≤ a ∧ a ≤ 4 ∧ 1 ≤ b ∧ b ≤ 7 ∧ (a = 0 ∨ a = 4 → 0 ≤ c1 ∧ c1 ≤ b)) ∧ w = 1 ∧ ∃ (ch2 cu2 : Int) (x2 : Nat → Nat), v = (a.toNat, b.toNat, ch2, ko_len a.toNat b.toNat c1.toNat, cu2, x2, u.2.2.2.2.2.2) ∧ (∀ j, x2 j < 8) ∧ ((ko_g a.toNat b.toNat (ko_len a.toNat b.toNat c1.toNat) 0 0 = 0 ∧ cu2 = -2) ∨ (0 < ko_g a.toNat b.toNat (ko_len a.toNat b.toNat c1.toNat) 0 0 ∧ ko_VP a.toNat b.toNat (ko_len a.toNat b.toNat c1.toNat) x2 (ko_len a.toNat b.toNat c1.toNat) ∧ cu2 = ((ko_rk a.toNat b.toNat (ko_len a.toNat b.toNat c1.toNat) x2 (ko_len a.toNat b.toNat c1.toNat) : Nat) : Int) ∧ cu2 = 0)))

theorem ko_len_eq {s : Nat} (n k : Nat) (hs : s < 5) : (s = 0 ∨ s = 4 → ko_len s n k = k) ∧ (s = 3 → ko_len s n k = 2 * n) ∧ (s = 1 ∨ s = 2 → ko_len s n k = n) := by
  have : s = 0 ∨ s = 1 ∨ s = 2 ∨ s = 3 ∨ s = 4 := by omega
  rcases this with rfl | rfl | rfl | rfl | rfl <;> simp [ko_len]

set_option maxHeartbeats 4000000 in
/-- choose(a, b, c1) -/
theorem cX_choose (l : Launch) (E : EX) (so n : Nat) (ch : Int) (L : Nat) (cu : Int) (x o : Nat → Nat) (a b c1 : Int) (h8 : ∀ j, x j < 8) (ha : -2147483648 ≤ a ∧ a ≤ 2147483647) (hb : -2147483648 ≤ b ∧ b ≤ 2147483647) (hc1 : -2147483648 ≤ c1 ∧ c1 ≤ 2147483647) : CtX l yX0_choose cX0_choose 6 (some .boolean) 4 98 E [.int (zI (a)), .int (zI (b)), .int (zI (c1))] (so, n, ch, L, cu, x, o) (ko_chP (so, n, ch, L, cu, x, o) a b c1) := by
  refine CtX.start (by decide +kernel) rfl ?_
  intro p e s0 m below meth c A F hH
  have hl := lv_entry ([.ref (E.1 0), .int (zI (a)), .int (zI (b)), .int (zI (c1))]) (n := 6) (Nat.le_of_ble_eq_true rfl)
  rw [lg_entry_eq]
  generalize (lg_sl ([.ref (E.1 0), .int (zI (a)), .int (zI (b)), .int (zI (c1))]) ++ List.replicate (6 - (lg_sl ([.ref (E.1 0), .int (zI (a)), .int (zI (b)), .int (zI (c1))])).length) Slot.unset).toArray = ls at hl ⊢
  have hl : lv_has ls 6 [(0, .ref (E.1 0)), (1, .int (zI (a))), (2, .int (zI (b))), (3, .int (zI (c1)))] := hl
  have tail : 0 ≤ a ∧ a ≤ 4 ∧ 1 ≤ b ∧ b ≤ 7 → ∀ sv : Int, (sv = 1 ∧ (a = 0 ∨ a = 4) ∧ 0 ≤ c1 ∧ c1 ≤ b) ∨ (sv = 0 ∧ ¬ (a = 0 ∨ a = 4)) → ∀ ls : Array Slot, lv_has ls 6 [(0, .ref (E.1 0)), (1, .int (zI (a))), (2, .int (zI (b))), (3, .int (zI (c1))), (4, .int (zI (sv)))] → W p l e (rmX 4 98) s0 m ([.ref (E.1 0), .int (zI (a)), .int (zI (b)), .int (zI (c1))] : List Value).toArray below meth c s0.heap [] 0 0 (MQ below (QcX E A (ko_chP (so, n, ch, L, cu, x, o) a b c1)) ([.ref (E.1 0), .int (zI (a)), .int (zI (b)), .int (zI (c1))] : List Value).toArray s0 0 0 A) (F0 m 54 ls []) := by
    intro hab sv hsv ls hl
    obtain ⟨a, rfl⟩ : ∃ p : Nat, a = p := ⟨a.toNat, by omega⟩
    obtain ⟨b, rfl⟩ : ∃ p : Nat, b = p := ⟨b.toNat, by omega⟩
    have hcf := ko_len_ok (s := a) (n := b) (k := c1.toNat) (by omega) (by omega) (by omega) (by omega)
    obtain ⟨e1, e2, e3⟩ := ko_len_eq (s := a) b c1.toNat (by omega)
    have hle := ko_count_le hcf
    obtain ⟨-, -, -, k4, -⟩ := ko_cfg_b hcf
    refine lv_aload_n F.x F.b dX0_choose_54 rfl (lv_at hl 0 rfl) ?_
    refine lv_iload_n F.x F.b dX0_choose_55 rfl (lv_at hl 1 rfl) ?_
    refine putX F hH 0 (by decide) q71 ⟨rfl, rfl, by decide +kernel⟩ (a, n, ch, L, cu, x, o) rfl dX0_choose_56 (fun H locs hH => ?_)
    refine lv_aload_n F.x F.b dX0_choose_59 rfl (lv_at hl 0 rfl) ?_
    refine lv_iload_n F.x F.b dX0_choose_60 rfl (lv_at hl 2 rfl) ?_
    refine putX F hH 1 (by decide) q72 ⟨rfl, rfl, by decide +kernel⟩ (a, b, ch, L, cu, x, o) rfl dX0_choose_61 (fun H locs hH => ?_)
    refine lv_aload_n F.x F.b dX0_choose_64 rfl (lv_at hl 0 rfl) ?_
    have tail2 : ∀ ch2 : Int, ∀ (H : Heap) (locs : List Loc), HX E s0 A (a, b, ch2, L, cu, x, o) H locs → ∀ ls : Array Slot, lv_has ls 6 [(0, .ref (E.1 0)), (1, .int (zI (a))), (2, .int (zI (b))), (3, .int (zI (c1))), (4, .int (zI (sv)))] → W p l e (rmX 4 98) s0 m ([.ref (E.1 0), .int (zI (a)), .int (zI (b)), .int (zI (c1))] : List Value).toArray below meth c H locs 0 0 (MQ below (QcX E A (ko_chP (so, n, ch, L, cu, x, o) a b c1)) ([.ref (E.1 0), .int (zI (a)), .int (zI (b)), .int (zI (c1))] : List Value).toArray s0 0 0 A) (F0 m 100 ls [.int (zI ((ko_len a b c1.toNat) : Nat)), .ref (E.1 0)]) := by
      intro ch2 H locs hH ls hl
      refine putX F hH 3 (by decide) q74 ⟨rfl, rfl, by decide +kernel⟩ (a, b, ch2, ((ko_len a b c1.toNat)), cu, x, o) rfl dX0_choose_100 (fun H locs hH => ?_)
      refine lv_aload_n F.x F.b dX0_choose_103 rfl (lv_at hl 0 rfl) ?_
      refine lv_bipush (v := zI (-2)) F.x F.b dX0_choose_104 (by decide +kernel) ?_
      refine putX F hH 4 (by decide) q75 ⟨rfl, rfl, by decide +kernel⟩ (a, b, ch2, ((ko_len a b c1.toNat)), -2, x, o) rfl dX0_choose_106 (fun H locs hH => ?_)
      refine lv_aload_n F.x F.b dX0_choose_109 rfl (lv_at hl 0 rfl) ?_
      refine CtX.call (n := 0) (cX_count l E a b ch2 (ko_len a b c1.toNat) (-2) x o hcf h8) F hH (lw_V q35 q36 q37 q17 q38) (by decide +kernel) ⟨Nat.le_of_ble_eq_true rfl, Nat.le_of_ble_eq_true rfl⟩ rfl hl.1 rfl (Nat.le_of_ble_eq_true rfl) dX0_choose_110 ⟨Nat.le_refl _, Nat.le_refl _⟩ (fun z9 v9 H locs hp hH => ?_)
      obtain ⟨rfl, rfl⟩ := hp
      refine lv_istore (lv' := [(5, .int (zI (((ko_g a b (ko_len a b c1.toNat) 0 0 : Nat) : Int)))), (0, .ref (E.1 0)), (1, .int (zI (a))), (2, .int (zI (b))), (3, .int (zI (c1))), (4, .int (zI (sv)))]) F.x F.b dX0_choose_113 hl (by decide) rfl (fun ls hl => ?_)
      refine lv_iload F.x F.b dX0_choose_115 (lv_at hl 0 rfl) ?_
      refine zr_if_le (tgt := 126) F.x F.b dX0_choose_117 (by decide) (by omega) (fun c117 => ?_) (fun c117 => ?_)
      · refine lv_iconst (v := zI (1)) F.x F.b dX0_choose_126 (by decide +kernel) ?_
        exact CtX.zret F hH (by omega) (Or.inr ⟨by omega, rfl, ch2, -2, x, rfl, h8, Or.inl ⟨by show ko_g a b (ko_len a b c1.toNat) 0 0 = 0; omega, rfl⟩⟩) dX0_choose_127
      · refine lv_aload_n F.x F.b dX0_choose_120 rfl (lv_at hl 1 rfl) ?_
        refine lv_iconst (v := zI (0)) F.x F.b dX0_choose_121 (by decide +kernel) ?_
        refine CtX.call (n := 1) (cX_go l E a b ch2 (ko_len a b c1.toNat) (-2) x o 0 hcf h8 (by omega)) F hH (lw_V q55 q56 q57 q17 q58) (by decide +kernel) ⟨Nat.le_of_ble_eq_true rfl, Nat.le_of_ble_eq_true rfl⟩ rfl hl.1 rfl (Nat.le_of_ble_eq_true rfl) dX0_choose_122 ⟨Nat.le_refl _, Nat.le_refl _⟩ (fun z9 v9 H locs hp hH => ?_)
        rcases hp with ⟨hx1, -⟩ | ⟨-, -, hz9, x2, hv2, hr2, h82, rfl⟩
        · exact absurd ⟨by omega, by omega⟩ hx1
        · refine lv_pop F.x F.b dX0_choose_125 rfl ?_
          refine lv_iconst (v := zI (1)) F.x F.b dX0_choose_126 (by decide +kernel) ?_
          exact CtX.zret F hH (by omega) (Or.inr ⟨by omega, rfl, ch2, 0, x2, rfl, h82, Or.inr ⟨by show 0 < ko_g a b (ko_len a b c1.toNat) 0 0; omega, hv2, hr2.symm, rfl⟩⟩) dX0_choose_127
    rcases hsv with ⟨hs1, hs2, hs3⟩ | ⟨hs1, hs2⟩
    · refine lv_iload F.x F.b dX0_choose_65 (lv_at hl 4 rfl) ?_
      refine zr_if_eq (tgt := 74) F.x F.b dX0_choose_67 (by decide) (by omega) (fun c67 => ?_) (fun c67 => ?_)
      · exact absurd c67 (by omega)
      · refine lv_iload_n F.x F.b dX0_choose_70 rfl (lv_at hl 3 rfl) ?_
        refine lv_goto (tgt := 75) F.x F.b dX0_choose_71 (by decide) ?_
        refine putX F hH 2 (by decide) q73 ⟨rfl, rfl, by decide +kernel⟩ (a, b, c1, L, cu, x, o) rfl dX0_choose_75 (fun H locs hH => ?_)
        refine lv_aload_n F.x F.b dX0_choose_78 rfl (lv_at hl 0 rfl) ?_
        refine lv_iload F.x F.b dX0_choose_79 (lv_at hl 4 rfl) ?_
        refine zr_if_eq (tgt := 88) F.x F.b dX0_choose_81 (by decide) (by omega) (fun c81 => ?_) (fun c81 => ?_)
        · exact absurd c81 (by omega)
        · refine lv_iload_n F.x F.b dX0_choose_84 rfl (lv_at hl 3 rfl) ?_
          refine lv_goto (tgt := 100) F.x F.b dX0_choose_85 (by decide) ?_
          refine zr_top (y := zI (((ko_len a b c1.toNat) : Nat) : Int)) (by congr 1; omega) ?_
          exact tail2 _ H locs hH ls (lv_sub hl [0, 1, 2, 3, 4] rfl)
    · refine lv_iload F.x F.b dX0_choose_65 (lv_at hl 4 rfl) ?_
      refine zr_if_eq (tgt := 74) F.x F.b dX0_choose_67 (by decide) (by omega) (fun c67 => ?_) (fun c67 => ?_)
      · refine lv_iconst (v := zI (0)) F.x F.b dX0_choose_74 (by decide +kernel) ?_
        refine putX F hH 2 (by decide) q73 ⟨rfl, rfl, by decide +kernel⟩ (a, b, 0, L, cu, x, o) rfl dX0_choose_75 (fun H locs hH => ?_)
        refine lv_aload_n F.x F.b dX0_choose_78 rfl (lv_at hl 0 rfl) ?_
        refine lv_iload F.x F.b dX0_choose_79 (lv_at hl 4 rfl) ?_
        refine zr_if_eq (tgt := 88) F.x F.b dX0_choose_81 (by decide) (by omega) (fun c81 => ?_) (fun c81 => ?_)
        · refine lv_iload_n F.x F.b dX0_choose_88 rfl (lv_at hl 1 rfl) ?_
          refine lv_iconst (v := zI (3)) F.x F.b dX0_choose_89 (by decide +kernel) ?_
          refine zr_icmp_ne (tgt := 99) F.x F.b dX0_choose_90 (by decide) (by omega) (by omega) (fun c90 => ?_) (fun c90 => ?_)
          · refine lv_iload_n F.x F.b dX0_choose_99 rfl (lv_at hl 2 rfl) ?_
            refine zr_top (y := zI (((ko_len a b c1.toNat) : Nat) : Int)) (by congr 1; omega) ?_
            exact tail2 _ H locs hH ls (lv_sub hl [0, 1, 2, 3, 4] rfl)
          · refine lv_iconst (v := zI (2)) F.x F.b dX0_choose_93 (by decide +kernel) ?_
            refine lv_iload_n F.x F.b dX0_choose_94 rfl (lv_at hl 2 rfl) ?_
            refine zr_imul F.x F.b ((2) * (b)) dX0_choose_95 (rfl) ?_
            refine lv_goto (tgt := 100) F.x F.b dX0_choose_96 (by decide) ?_
            refine zr_top (y := zI (((ko_len a b c1.toNat) : Nat) : Int)) (by congr 1; omega) ?_
            exact tail2 _ H locs hH ls (lv_sub hl [0, 1, 2, 3, 4] rfl)
        · exact absurd c81 (by omega)
      · exact absurd c67 (by omega)
  refine lv_iload_n F.x F.b dX0_choose_0 rfl (lv_at hl 1 rfl) ?_
  refine zr_if_lt (tgt := 20) F.x F.b dX0_choose_1 (by decide) (by omega) (fun c1_ => ?_) (fun c1_ => ?_)
  · refine lv_iconst (v := zI (0)) F.x F.b dX0_choose_20 (by decide +kernel) ?_
    exact CtX.zret F hH (by omega) (Or.inl ⟨by omega, rfl, rfl⟩) dX0_choose_21
  · refine lv_iload_n F.x F.b dX0_choose_4 rfl (lv_at hl 1 rfl) ?_
    refine lv_iconst (v := zI (4)) F.x F.b dX0_choose_5 (by decide +kernel) ?_
    refine zr_icmp_gt (tgt := 20) F.x F.b dX0_choose_6 (by decide) (by omega) (by omega) (fun c6 => ?_) (fun c6 => ?_)
    · refine lv_iconst (v := zI (0)) F.x F.b dX0_choose_20 (by decide +kernel) ?_
      exact CtX.zret F hH (by omega) (Or.inl ⟨by omega, rfl, rfl⟩) dX0_choose_21
    · refine lv_iload_n F.x F.b dX0_choose_9 rfl (lv_at hl 2 rfl) ?_
      refine lv_iconst (v := zI (1)) F.x F.b dX0_choose_10 (by decide +kernel) ?_
      refine zr_icmp_lt (tgt := 20) F.x F.b dX0_choose_11 (by decide) (by omega) (by omega) (fun c11 => ?_) (fun c11 => ?_)
      · refine lv_iconst (v := zI (0)) F.x F.b dX0_choose_20 (by decide +kernel) ?_
        exact CtX.zret F hH (by omega) (Or.inl ⟨by omega, rfl, rfl⟩) dX0_choose_21
      · refine lv_iload_n F.x F.b dX0_choose_14 rfl (lv_at hl 2 rfl) ?_
        refine lv_bipush (v := zI (7)) F.x F.b dX0_choose_15 (by decide +kernel) ?_
        refine zr_icmp_le (tgt := 22) F.x F.b dX0_choose_17 (by decide) (by omega) (by omega) (fun c17 => ?_) (fun c17 => ?_)
        · refine lv_iload_n F.x F.b dX0_choose_22 rfl (lv_at hl 1 rfl) ?_
          refine zr_if_eq (tgt := 31) F.x F.b dX0_choose_23 (by decide) (by omega) (fun c23 => ?_) (fun c23 => ?_)
          · refine lv_iconst (v := zI (1)) F.x F.b dX0_choose_31 (by decide +kernel) ?_
            refine lv_goto (tgt := 36) F.x F.b dX0_choose_32 (by decide) ?_
            refine lv_istore (lv' := [(4, .int (zI (1))), (0, .ref (E.1 0)), (1, .int (zI (a))), (2, .int (zI (b))), (3, .int (zI (c1)))]) F.x F.b dX0_choose_36 hl (by decide) rfl (fun ls hl => ?_)
            refine lv_iload F.x F.b dX0_choose_38 (lv_at hl 0 rfl) ?_
            refine zr_if_eq (tgt := 54) F.x F.b dX0_choose_40 (by decide) (by omega) (fun c40 => ?_) (fun c40 => ?_)
            · exact absurd c40 (by omega)
            · refine lv_iload_n F.x F.b dX0_choose_43 rfl (lv_at hl 4 rfl) ?_
              refine zr_if_lt (tgt := 52) F.x F.b dX0_choose_44 (by decide) (by omega) (fun c44 => ?_) (fun c44 => ?_)
              · refine lv_iconst (v := zI (0)) F.x F.b dX0_choose_52 (by decide +kernel) ?_
                exact CtX.zret F hH (by omega) (Or.inl ⟨by omega, rfl, rfl⟩) dX0_choose_53
              · refine lv_iload_n F.x F.b dX0_choose_47 rfl (lv_at hl 4 rfl) ?_
                refine lv_iload_n F.x F.b dX0_choose_48 rfl (lv_at hl 3 rfl) ?_
                refine zr_icmp_le (tgt := 54) F.x F.b dX0_choose_49 (by decide) (by omega) (by omega) (fun c49 => ?_) (fun c49 => ?_)
                · exact tail (by omega) 1 (Or.inl (by omega)) ls (lv_sub hl [1, 2, 3, 4, 0] rfl)
                · refine lv_iconst (v := zI (0)) F.x F.b dX0_choose_52 (by decide +kernel) ?_
                  exact CtX.zret F hH (by omega) (Or.inl ⟨by omega, rfl, rfl⟩) dX0_choose_53
          · refine lv_iload_n F.x F.b dX0_choose_26 rfl (lv_at hl 1 rfl) ?_
            refine lv_iconst (v := zI (4)) F.x F.b dX0_choose_27 (by decide +kernel) ?_
            refine zr_icmp_ne (tgt := 35) F.x F.b dX0_choose_28 (by decide) (by omega) (by omega) (fun c28 => ?_) (fun c28 => ?_)
            · refine lv_iconst (v := zI (0)) F.x F.b dX0_choose_35 (by decide +kernel) ?_
              refine lv_istore (lv' := [(4, .int (zI (0))), (0, .ref (E.1 0)), (1, .int (zI (a))), (2, .int (zI (b))), (3, .int (zI (c1)))]) F.x F.b dX0_choose_36 hl (by decide) rfl (fun ls hl => ?_)
              refine lv_iload F.x F.b dX0_choose_38 (lv_at hl 0 rfl) ?_
              refine zr_if_eq (tgt := 54) F.x F.b dX0_choose_40 (by decide) (by omega) (fun c40 => ?_) (fun c40 => ?_)
              · exact tail (by omega) 0 (Or.inr (by omega)) ls (lv_sub hl [1, 2, 3, 4, 0] rfl)
              · exact absurd rfl c40
            · refine lv_iconst (v := zI (1)) F.x F.b dX0_choose_31 (by decide +kernel) ?_
              refine lv_goto (tgt := 36) F.x F.b dX0_choose_32 (by decide) ?_
              refine lv_istore (lv' := [(4, .int (zI (1))), (0, .ref (E.1 0)), (1, .int (zI (a))), (2, .int (zI (b))), (3, .int (zI (c1)))]) F.x F.b dX0_choose_36 hl (by decide) rfl (fun ls hl => ?_)
              refine lv_iload F.x F.b dX0_choose_38 (lv_at hl 0 rfl) ?_
              refine zr_if_eq (tgt := 54) F.x F.b dX0_choose_40 (by decide) (by omega) (fun c40 => ?_) (fun c40 => ?_)
              · exact absurd c40 (by omega)
              · refine lv_iload_n F.x F.b dX0_choose_43 rfl (lv_at hl 4 rfl) ?_
                refine zr_if_lt (tgt := 52) F.x F.b dX0_choose_44 (by decide) (by omega) (fun c44 => ?_) (fun c44 => ?_)
                · refine lv_iconst (v := zI (0)) F.x F.b dX0_choose_52 (by decide +kernel) ?_
                  exact CtX.zret F hH (by omega) (Or.inl ⟨by omega, rfl, rfl⟩) dX0_choose_53
                · refine lv_iload_n F.x F.b dX0_choose_47 rfl (lv_at hl 4 rfl) ?_
                  refine lv_iload_n F.x F.b dX0_choose_48 rfl (lv_at hl 3 rfl) ?_
                  refine zr_icmp_le (tgt := 54) F.x F.b dX0_choose_49 (by decide) (by omega) (by omega) (fun c49 => ?_) (fun c49 => ?_)
                  · exact tail (by omega) 1 (Or.inl (by omega)) ls (lv_sub hl [1, 2, 3, 4, 0] rfl)
                  · refine lv_iconst (v := zI (0)) F.x F.b dX0_choose_52 (by decide +kernel) ?_
                    exact CtX.zret F hH (by omega) (Or.inl ⟨by omega, rfl, rfl⟩) dX0_choose_53
        · refine lv_iconst (v := zI (0)) F.x F.b dX0_choose_20 (by decide +kernel) ?_
          exact CtX.zret F hH (by omega) (Or.inl ⟨by omega, rfl, rfl⟩) dX0_choose_21
end
section
set_option maxRecDepth 100000
/-! the tables while they are filled: K up to place m, 0 behind -/
def ko_T (K : Nat → Nat) (m : Nat) (f : Nat → Nat) : Prop := (∀ j, j < m → f j = K j) ∧ ∀ j, m ≤ j → f j = 0
theorem ko_T_0 (K : Nat → Nat) : ko_T K 0 (fun _ => 0) := ⟨fun j h => absurd h (Nat.not_lt_zero j), fun _ _ => rfl⟩
theorem ko_T_s {K f : Nat → Nat} {m w : Nat} (h : ko_T K m f) (hw : w = K m) : ko_T K (m + 1) (zU f m w) := by
  refine ⟨fun j hj => ?_, fun j hj => ?_⟩
  · by_cases e : j = m
    · subst e; rw [zU_s, hw]
    · rw [zU_n e]; exact h.1 j (by omega)
  · rw [zU_n (by omega)]; exact h.2 j (by omega)
theorem ko_T_skip {K f : Nat → Nat} {m k : Nat} (h : ko_T K m f) (hk : m ≤ k) (h0 : ∀ j, m ≤ j → j < k → K j = 0) : ko_T K k f := by
  refine ⟨fun j hj => ?_, fun j hj => h.2 j (by omega)⟩
  by_cases e : j < m
  · exact h.1 j e
  · rw [h.2 j (by omega), h0 j (by omega) hj]
theorem ko_T_end {K f : Nat → Nat} {m : Nat} (h : ko_T K m f) (h0 : ∀ j, m ≤ j → K j = 0) : f = K := by
  funext j
  by_cases e : j < m
  · exact h.1 j e
  · rw [h.2 j (by omega), h0 j (by omega)]
theorem ko_getD0 {l : List Nat} {j : Nat} (h : l.length ≤ j) : l.getD j 0 = 0 := by rw [List.getD_eq_getElem?_getD, List.getElem?_eq_none h]; rfl
theorem ko_F_0 : ∀ j, 8 ≤ j → ko_F j = 0 := fun j h => ko_getD0 h
theorem ko_B_0 : ∀ j, 64 ≤ j → ko_B j = 0 := fun j h => ko_getD0 h
theorem ko_G_0 : ∀ j, 128 ≤ j → ko_G j = 0 := fun j h => ko_getD0 h
theorem ko_N_0 : ∀ j, 64 ≤ j → ko_N j = 0 := fun j h => ko_getD0 h
theorem ko_F_s : ∀ a, a < 7 → ko_F (a + 1) = (a + 1) * ko_F a := by decide +kernel
theorem ko_B_1 : ∀ a, a < 8 → ko_B (8 * a) = 1 := by decide +kernel
theorem ko_B_s : ∀ a, a < 7 → ∀ b, b < a + 1 → ko_B (8 * (a + 1) + (b + 1)) = ko_B (8 * a + b) + (if b + 1 < a + 1 then ko_B (8 * a + (b + 1)) else 0) := by decide +kernel
theorem ko_B_r : ∀ a, a < 8 → ∀ j, j < 64 → 8 * a + (a + 1) ≤ j → j < 8 * (a + 1) → ko_B j = 0 := by decide +kernel
theorem ko_G_1 : ∀ a, a < 16 → ko_G a = 1 := by decide +kernel
theorem ko_G_s : ∀ a, a < 7 → ∀ g, g < 16 → g + (a + 1) < 16 → ko_G (16 * (a + 1) + g) = g * ko_G (16 * a + g) + ko_G (16 * a + 1 + g) := by decide +kernel
theorem ko_G_r : ∀ a, a < 8 → ∀ j, j < 128 → 16 * a + (16 - a) ≤ j → j < 16 * (a + 1) → ko_G j = 0 := by decide +kernel
theorem ko_N_s : ∀ z, z < 8 → ∀ o, o < z + 1 → ko_N (8 * z + o) = (if z = 0 then 1 else 0) + (if 0 < o then ko_N (8 * z + o - 1) else 0) + (if o < z then ko_N (8 * z - 8 + o) else 0) := by decide +kernel
theorem ko_N_r : ∀ a, a < 8 → ∀ j, j < 64 → 8 * a + (a + 1) ≤ j → j < 8 * (a + 1) → ko_N j = 0 := by decide +kernel
/-! the world with tables of any contents -/
abbrev TX : Type := (Nat → Nat) × (Nat → Nat) × (Nat → Nat) × (Nat → Nat)
abbrev wT (E : EX) (u : SX) (T : TX) : va_W := [(E.1 0, .inr (0, fsX E u)), (E.1 5, .inl (E.2.1.1, 14, .inl (fun j => zI (u.2.2.2.2.2.1 j)))), (E.1 6, .inl (E.2.1.1, 14, .inl (fun j => zI (u.2.2.2.2.2.2 j)))), (E.1 7, .inl (E.2.1.2, 64, .inl (fun j => zI (T.1 j)))), (E.1 8, .inl (E.2.1.2, 128, .inl (fun j => zI (T.2.1 j)))), (E.1 9, .inl (E.2.1.2, 64, .inl (fun j => zI (T.2.2.1 j)))), (E.1 10, .inl (E.2.1.2, 8, .inl (fun j => zI (T.2.2.2 j))))]
def HT (E : EX) (s : State) (A : Nat → Prop) (u : SX) (T : TX) (H : Heap) (locs : List Loc) : Prop := va_P E.2.2 vwCl (wT E u T) H ∧ va_D A (wT E u T) ∧ va_S A s.heap H locs
def BT (E : EX) (A : Nat → Prop) (u : SX) (T : TX) (t : State) : Prop := va_P E.2.2 vwCl (wT E u T) t.heap ∧ va_K E.2.2 vwCl (tyX E) t ∧ va_D A (wT E u T)
abbrev PcT (E : EX) (as : List Value) (u : SX) (T : TX) (sz : Nat) : Array Value → State → Prop := va_Pc (.ref (E.1 0) :: as) (fun U => U.heap.size = sz ∧ va_P E.2.2 vwCl (wT E u T) U.heap ∧ va_K E.2.2 vwCl (tyX E) U ∧ va_D (fun _ => True) (wT E u T))
abbrev QcT (E : EX) (A : Nat → Prop) (u : SX) (T2 : TX) : Array Value → State → Outcome → State → Prop := va_Qv (fun _ : Unit => True) (fun _ t => BT E A u T2 t) A
def CtT (l : Launch) (y : MethodName) (cc : ByteArray) (nL : Nat) (fr lo : Nat) (E : EX) (as : List Value) (u : SX) (T T2 : TX) : Prop :=
  ∀ sz : Nat, Met l y (ws_ y cc nL none) (rmX fr lo) (PcT E as u T sz) (QcT E (va_A (wT E u T) sz) u T2) 0 0 (va_A (wT E u T) sz)
theorem CtT.start {l : Launch} {y : MethodName} {cc : ByteArray} {nL : Nat} {fr lo : Nat} {E : EX} {as : List Value} {u : SX} {T T2 : TX} (hy : plainName y.cls = true) (hy2 : y.cls = RX0)
    (body : ∀ (p : Program) (e : Env) (s : State) (m : MethodId) (below : List Frame) (meth : Method) (c : Code) (A : Nat → Prop), FX p s m meth c cc nL none (.ref (E.1 0) :: as).toArray A E → HT E s A u T s.heap [] →
      W p l e (rmX fr lo) s m (.ref (E.1 0) :: as).toArray below meth c s.heap [] 0 0 (MQ below (QcT E A u T2) (.ref (E.1 0) :: as).toArray s 0 0 A) (entryFrame m (.ref (E.1 0) :: as).toArray nL)) : CtT l y cc nL fr lo E as u T T2 := by
  intro sz
  refine Met.ofW (cc := cc) (maxL := nL) (ret := none) hy rfl ?_
  intro p e s m args below meth c s₁ B hml hv
  obtain ⟨rfl, hsz, hP, hK, hD0⟩ := hv
  have hts := atoms_spec (ws := ws_ y cc nL none) B.pre
  have hts : ∀ w ∈ lw_all, w.before _ s = true := fun w h => hts w (List.mem_cons_of_mem _ h)
  have hown : s.vm.findClass y.cls = some m.cls := findClass_of_methodNamed B.named
  rw [hy2] at hown
  subst hsz
  exact body p e s m below meth c (va_A (wT E u T) s.heap.size) ⟨B.exec, B.bytes, hml, hown, hts, B.returns, B.notSynchronized, fun q h => Or.inr h, hK⟩ ⟨hP, hD0.self, va_S.rf⟩
section X0T
variable {p : Program} {l : Launch} {e : Env} {R : Room} {s : State} {m : MethodId} {args : Array Value} {below : List Frame} {meth : Method} {c : Code} {H : Heap} {locs : List Loc} {cells slots : Nat} {Q : State → Prop}
variable {cc : ByteArray} {pc nL : Nat} {ret : Option FieldType} {ls : Array Slot} {rest : List Value} {A : Nat → Prop} {E : EX} {u : SX} {T : TX}
theorem CtT.vret (F : FX p s m meth c cc nL none args A E) (hH : HT E s A u T H locs) (hdg : decode cc pc = .ok (.return_, 1)) : W p l e R s m args below meth c H locs 0 0 (MQ below (QcT E A u T) args s 0 0 A) (F0 m pc ls []) := by
  obtain ⟨hx, hb, hml, hown, hts, hr, hlk, hA, hK⟩ := F
  obtain ⟨hP, hD, hS⟩ := hH
  exact W.vret hx hb hr (fun t ht hW => ⟨⟨(), rfl, trivial, by rw [ht]; exact hP, va_K.moved hW.alike hK, hD⟩, hS.F ht⟩) hS.2.2 hdg hlk
theorem getT (F : FX p s m meth c cc nL ret args A E) (hH : HT E s A u T H locs) (k : Nat) (hk : k < 11) {index : Nat} (hq : Cond.fieldLink RX0 index RX0 (TX0 k).2.1 (TX0 k).2.2.1 ∈ lw_all) (hT : (TX0 k).1 = RX0) {v : Value} (hv : (fsX E u)[k]? = some v) (hdg : decode cc pc = .ok (.getfield index, 3)) (kk : W p l e R s m args below meth c H locs cells slots Q (F0 m (pc + 3) ls (v :: rest))) : W p l e R s m args below meth c H locs cells slots Q (F0 m pc ls (.ref (E.1 0) :: rest)) := by
  obtain ⟨hx, hb, hml, hown, hts, hr, hlk, hA, hK⟩ := F
  obtain ⟨hP, hD, hS⟩ := hH
  exact va_get (D := E.2.2) (ci := 0) (C := RX0) (T := TX0) (N := 11) hx hb hts in_X0 hown hK hP 0 rfl rfl k hk (hts _ hq) (fun _ h9 => by rw [hT] at h9; exact h9) hv hdg kk
theorem ialdT (F : FX p s m meth c cc nL ret args A E) (hH : HT E s A u T H locs) (q0 : Nat) {a N : Nat} (f : Nat → Nat) (hq : (wT E u T)[q0]? = some (a, .inl (E.2.1.2, N, .inl (fun j => zI (f j))))) {z : Int} (k : Nat) (hz : z = k) (hk : k < N) (hN : N < 2147483648) (hdg : decode cc pc = .ok (.iaload, 1)) (kk : W p l e R s m args below meth c H locs cells slots Q (F0 m (pc + 1) ls (.int (zI (f k)) :: rest))) : W p l e R s m args below meth c H locs cells slots Q (F0 m pc ls (.int (zI z) :: .ref a :: rest)) :=
  zr_iald F.x F.b F.2.2.2.2.2.2.2.2 hH.1 q0 1 f hq rfl k hz hk hN hdg kk
theorem iastT (F : FX p s m meth c cc nL ret args A E) (hH : HT E s A u T H locs) (q0 : Nat) {a N : Nat} (f : Nat → Nat) (hq : (wT E u T)[q0]? = some (a, .inl (E.2.1.2, N, .inl (fun j => zI (f j))))) {z w : Int} (k y : Nat) (hz : z = k) (hk : k < N) (hN : N < 2147483648) (hw : w = y) (T2 : TX) (hv : (wT E u T).set q0 (a, .inl (E.2.1.2, N, .inl (fun j => zI (zU f k y j)))) = wT E u T2) (hdg : decode cc pc = .ok (.iastore, 1)) (kk : ∀ (H1 : Heap) (locs1 : List Loc), HT E s A u T2 H1 locs1 → W p l e R s m args below meth c H1 locs1 cells slots Q (F0 m (pc + 1) ls rest)) : W p l e R s m args below meth c H locs cells slots Q (F0 m pc ls (.int (zI w) :: .int (zI z) :: .ref a :: rest)) := by
  refine zr_iast F.x F.b F.2.2.2.2.2.2.2.2 hH.1 hH.2.1 hH.2.2 q0 1 f hq rfl k y hz hk hN hw hdg (fun H1 locs1 hP hD hS => ?_)
  rw [hv] at hP hD
  exact kk H1 locs1 ⟨hP, hD, hS⟩
end X0T
end
section
set_option maxRecDepth 100000
set_option maxHeartbeats 8000000 in
/-- fillTables() -/
theorem cX_fillTables (l : Launch) (E : EX) (so n : Nat) (ch : Int) (L : Nat) (cu : Int) (x o : Nat → Nat) : CtT l yX0_fillTables cX0_fillTables 4 0 0 E [] (so, n, ch, L, cu, x, o) ((fun _ => 0), (fun _ => 0), (fun _ => 0), (fun _ => 0)) (ko_B, ko_G, ko_N, ko_F) := by
  refine CtT.start (by decide +kernel) rfl ?_
  intro p e s0 m below meth c A F hH
  have hl := lv_entry ([.ref (E.1 0)]) (n := 4) (Nat.le_of_ble_eq_true rfl)
  rw [lg_entry_eq]
  generalize (lg_sl ([.ref (E.1 0)]) ++ List.replicate (4 - (lg_sl ([.ref (E.1 0)])).length) Slot.unset).toArray = ls at hl ⊢
  have hl : lv_has ls 4 [(0, .ref (E.1 0))] := hl
  have part4 : ∀ (H : Heap) (locs : List Loc), HT E s0 A (so, n, ch, L, cu, x, o) (ko_B, ko_G, (fun _ => 0), ko_F) H locs → ∀ ls : Array Slot, lv_has ls 4 [(0, .ref (E.1 0)), (1, .int (zI (0)))] → W p l e (rmX 0 0) s0 m ([.ref (E.1 0)] : List Value).toArray below meth c H locs 0 0 (MQ below (QcT E A (so, n, ch, L, cu, x, o) (ko_B, ko_G, ko_N, ko_F)) ([.ref (E.1 0)] : List Value).toArray s0 0 0 A) (F0 m 220 ls []) := by
    intro H locs hH ls hl
    have loop : ∀ d a : Nat, d + a = 8 → ∀ f, ko_T ko_N (8 * a) f → ∀ (H : Heap) (locs : List Loc), HT E s0 A (so, n, ch, L, cu, x, o) (ko_B, ko_G, f, ko_F) H locs → ∀ ls : Array Slot, lv_has ls 4 [(0, .ref (E.1 0)), (1, .int (zI (a)))] → W p l e (rmX 0 0) s0 m ([.ref (E.1 0)] : List Value).toArray below meth c H locs 0 0 (MQ below (QcT E A (so, n, ch, L, cu, x, o) (ko_B, ko_G, ko_N, ko_F)) ([.ref (E.1 0)] : List Value).toArray s0 0 0 A) (F0 m 220 ls []) := by
      intro d
      induction d with
      | zero =>
        intro a hd f hf H locs hH ls hl
        refine lv_iload_n F.x F.b dX0_fillTables_220 rfl (lv_at hl 1 rfl) ?_
        refine lv_bipush (v := zI (8)) F.x F.b dX0_fillTables_221 (by decide +kernel) ?_
        refine zr_icmp_ge (tgt := 309) F.x F.b dX0_fillTables_223 (by decide) (by omega) (by omega) (fun c223 => ?_) (fun c223 => ?_)
        · have e8 : a = 8 := by omega
          rw [e8] at hf
          rw [ko_T_end hf ko_N_0] at hH
          exact CtT.vret F hH dX0_fillTables_309
        · exact absurd c223 (by omega)
      | succ d ih =>
        intro a hd f hf H locs hH ls hl
        refine lv_iload_n F.x F.b dX0_fillTables_220 rfl (lv_at hl 1 rfl) ?_
        refine lv_bipush (v := zI (8)) F.x F.b dX0_fillTables_221 (by decide +kernel) ?_
        refine zr_icmp_ge (tgt := 309) F.x F.b dX0_fillTables_223 (by decide) (by omega) (by omega) (fun c223 => ?_) (fun c223 => ?_)
        · exact absurd c223 (by omega)
        · refine lv_iconst (v := zI (0)) F.x F.b dX0_fillTables_226 (by decide +kernel) ?_
          refine lv_istore_n (lv' := [(2, .int (zI (0))), (0, .ref (E.1 0)), (1, .int (zI (a)))]) F.x F.b dX0_fillTables_227 rfl hl (by decide) rfl (fun ls hl => ?_)
          have inner : ∀ d2 b : Nat, d2 + b = a + 1 → ∀ f, ko_T ko_N (8 * a + b) f → ∀ (H : Heap) (locs : List Loc), HT E s0 A (so, n, ch, L, cu, x, o) (ko_B, ko_G, f, ko_F) H locs → ∀ ls : Array Slot, lv_has ls 4 [(0, .ref (E.1 0)), (1, .int (zI (a))), (2, .int (zI (b)))] → W p l e (rmX 0 0) s0 m ([.ref (E.1 0)] : List Value).toArray below meth c H locs 0 0 (MQ below (QcT E A (so, n, ch, L, cu, x, o) (ko_B, ko_G, ko_N, ko_F)) ([.ref (E.1 0)] : List Value).toArray s0 0 0 A) (F0 m 228 ls []) := by
            intro d2
            induction d2 with
            | zero =>
              intro b hd2 f hf H locs hH ls hl
              refine lv_iload_n F.x F.b dX0_fillTables_228 rfl (lv_at hl 2 rfl) ?_
              refine lv_iload_n F.x F.b dX0_fillTables_229 rfl (lv_at hl 1 rfl) ?_
              refine zr_icmp_gt (tgt := 303) F.x F.b dX0_fillTables_230 (by decide) (by omega) (by omega) (fun c230 => ?_) (fun c230 => ?_)
              · have eb : b = a + 1 := by omega
                rw [eb] at hf
                refine zr_iinc F.x F.b (((a + 1 : Nat) : Int)) (lv' := [(1, .int (zI (((a + 1 : Nat) : Int)))), (0, .ref (E.1 0)), (2, .int (zI (b)))]) dX0_fillTables_303 hl (k := 1) rfl (by omega) (by decide) rfl (fun ls hl => ?_)
                refine lv_goto (tgt := 220) F.x F.b dX0_fillTables_306 (by decide) ?_
                exact ih (a + 1) (by omega) f (ko_T_skip hf (by omega) (fun j h1 h2 => ko_N_r a (by omega) j (by omega) h1 h2)) H locs hH ls (lv_sub hl [1, 0] rfl)
              · exact absurd c230 (by omega)
            | succ d2 ih2 =>
              intro b hd2 f hf H locs hH ls hl
              refine lv_iload_n F.x F.b dX0_fillTables_228 rfl (lv_at hl 2 rfl) ?_
              refine lv_iload_n F.x F.b dX0_fillTables_229 rfl (lv_at hl 1 rfl) ?_
              refine zr_icmp_gt (tgt := 303) F.x F.b dX0_fillTables_230 (by decide) (by omega) (by omega) (fun c230 => ?_) (fun c230 => ?_)
              · exact absurd c230 (by omega)
              · have hs := ko_N_s a (by omega) b (by omega)
                have fin4 : ∀ tt : Nat, tt = ko_N (8 * a + b) → ∀ (H : Heap) (locs : List Loc), HT E s0 A (so, n, ch, L, cu, x, o) (ko_B, ko_G, f, ko_F) H locs → ∀ ls : Array Slot, lv_has ls 4 [(0, .ref (E.1 0)), (1, .int (zI (a))), (2, .int (zI (b))), (3, .int (zI (tt)))] → W p l e (rmX 0 0) s0 m ([.ref (E.1 0)] : List Value).toArray below meth c H locs 0 0 (MQ below (QcT E A (so, n, ch, L, cu, x, o) (ko_B, ko_G, ko_N, ko_F)) ([.ref (E.1 0)] : List Value).toArray s0 0 0 A) (F0 m 285 ls []) := by
                  intro tt htt H locs hH ls hl
                  refine lv_aload_n F.x F.b dX0_fillTables_285 rfl (lv_at hl 0 rfl) ?_
                  refine getT F hH 9 (by decide) q80 rfl (v := .ref (E.1 9)) rfl dX0_fillTables_286 ?_
                  refine lv_bipush (v := zI (8)) F.x F.b dX0_fillTables_289 (by decide +kernel) ?_
                  refine lv_iload_n F.x F.b dX0_fillTables_291 rfl (lv_at hl 1 rfl) ?_
                  refine zr_imul F.x F.b (((8 * a : Nat) : Int)) dX0_fillTables_292 (by omega) ?_
                  refine lv_iload_n F.x F.b dX0_fillTables_293 rfl (lv_at hl 2 rfl) ?_
                  refine zr_iadd F.x F.b (((8 * a + b : Nat) : Int)) dX0_fillTables_294 (by omega) ?_
                  refine lv_iload_n F.x F.b dX0_fillTables_295 rfl (lv_at hl 3 rfl) ?_
                  refine iastT F hH 5 (f) rfl (8 * a + b) (tt) (rfl) (by omega) (by decide) (rfl) (ko_B, ko_G, (zU (f) (8 * a + b) (tt)), ko_F) rfl dX0_fillTables_296 (fun H locs hH => ?_)
                  refine zr_iinc F.x F.b (((b + 1 : Nat) : Int)) (lv' := [(2, .int (zI (((b + 1 : Nat) : Int)))), (0, .ref (E.1 0)), (1, .int (zI (a))), (3, .int (zI (tt)))]) dX0_fillTables_297 hl (k := 2) rfl (by omega) (by decide) rfl (fun ls hl => ?_)
                  refine lv_goto (tgt := 228) F.x F.b dX0_fillTables_300 (by decide) ?_
                  exact ih2 (b + 1) (by omega) _ (ko_T_s hf htt) H locs hH ls (lv_sub hl [1, 2, 0] rfl)
                have fin3 : ∀ tt : Nat, tt + (if b < a then ko_N (8 * a - 8 + b) else 0) = ko_N (8 * a + b) → ∀ (H : Heap) (locs : List Loc), HT E s0 A (so, n, ch, L, cu, x, o) (ko_B, ko_G, f, ko_F) H locs → ∀ ls : Array Slot, lv_has ls 4 [(0, .ref (E.1 0)), (1, .int (zI (a))), (2, .int (zI (b))), (3, .int (zI (tt)))] → W p l e (rmX 0 0) s0 m ([.ref (E.1 0)] : List Value).toArray below meth c H locs 0 0 (MQ below (QcT E A (so, n, ch, L, cu, x, o) (ko_B, ko_G, ko_N, ko_F)) ([.ref (E.1 0)] : List Value).toArray s0 0 0 A) (F0 m 263 ls []) := by
                  intro tt htt H locs hH ls hl
                  refine lv_iload_n F.x F.b dX0_fillTables_263 rfl (lv_at hl 1 rfl) ?_
                  refine lv_iload_n F.x F.b dX0_fillTables_264 rfl (lv_at hl 2 rfl) ?_
                  refine zr_icmp_le (tgt := 285) F.x F.b dX0_fillTables_265 (by decide) (by omega) (by omega) (fun c265 => ?_) (fun c265 => ?_)
                  · rw [if_neg (by omega)] at htt
                    exact fin4 tt (by omega) H locs hH ls hl
                  · rw [if_pos (by omega), ← hf.1 (8 * a - 8 + b) (by omega)] at htt
                    refine lv_iload_n F.x F.b dX0_fillTables_268 rfl (lv_at hl 3 rfl) ?_
                    refine lv_aload_n F.x F.b dX0_fillTables_269 rfl (lv_at hl 0 rfl) ?_
                    refine getT F hH 9 (by decide) q80 rfl (v := .ref (E.1 9)) rfl dX0_fillTables_270 ?_
                    refine lv_bipush (v := zI (8)) F.x F.b dX0_fillTables_273 (by decide +kernel) ?_
                    refine lv_iload_n F.x F.b dX0_fillTables_275 rfl (lv_at hl 1 rfl) ?_
                    refine zr_imul F.x F.b (((8 * a : Nat) : Int)) dX0_fillTables_276 (by omega) ?_
                    refine lv_bipush (v := zI (8)) F.x F.b dX0_fillTables_277 (by decide +kernel) ?_
                    refine zr_isub F.x F.b (((8 * a - 8 : Nat) : Int)) dX0_fillTables_279 (by omega) ?_
                    refine lv_iload_n F.x F.b dX0_fillTables_280 rfl (lv_at hl 2 rfl) ?_
                    refine zr_iadd F.x F.b (((8 * a - 8 + b : Nat) : Int)) dX0_fillTables_281 (by omega) ?_
                    refine ialdT F hH 5 (f) rfl (8 * a - 8 + b) (rfl) (by omega) (by decide) dX0_fillTables_282 ?_
                    refine zr_iadd F.x F.b (((tt + f (8 * a - 8 + b) : Nat) : Int)) dX0_fillTables_283 (by omega) ?_
                    refine lv_istore_n (lv' := [(3, .int (zI (((tt + f (8 * a - 8 + b) : Nat) : Int)))), (0, .ref (E.1 0)), (1, .int (zI (a))), (2, .int (zI (b)))]) F.x F.b dX0_fillTables_284 rfl hl (by decide) rfl (fun ls hl => ?_)
                    exact fin4 _ htt H locs hH ls (lv_sub hl [1, 2, 3, 0] rfl)
                have fin2 : ∀ tt : Nat, tt = (if a = 0 then 1 else 0) → ∀ (H : Heap) (locs : List Loc), HT E s0 A (so, n, ch, L, cu, x, o) (ko_B, ko_G, f, ko_F) H locs → ∀ ls : Array Slot, lv_has ls 4 [(0, .ref (E.1 0)), (1, .int (zI (a))), (2, .int (zI (b))), (3, .int (zI (tt)))] → W p l e (rmX 0 0) s0 m ([.ref (E.1 0)] : List Value).toArray below meth c H locs 0 0 (MQ below (QcT E A (so, n, ch, L, cu, x, o) (ko_B, ko_G, ko_N, ko_F)) ([.ref (E.1 0)] : List Value).toArray s0 0 0 A) (F0 m 243 ls []) := by
                  intro tt htt H locs hH ls hl
                  refine lv_iload_n F.x F.b dX0_fillTables_243 rfl (lv_at hl 2 rfl) ?_
                  refine zr_if_le (tgt := 263) F.x F.b dX0_fillTables_244 (by decide) (by omega) (fun c244 => ?_) (fun c244 => ?_)
                  · rw [if_neg (show ¬ 0 < b by omega)] at hs
                    exact fin3 tt (by omega) H locs hH ls hl
                  · rw [if_pos (show 0 < b by omega), ← hf.1 (8 * a + b - 1) (by omega)] at hs
                    refine lv_iload_n F.x F.b dX0_fillTables_247 rfl (lv_at hl 3 rfl) ?_
                    refine lv_aload_n F.x F.b dX0_fillTables_248 rfl (lv_at hl 0 rfl) ?_
                    refine getT F hH 9 (by decide) q80 rfl (v := .ref (E.1 9)) rfl dX0_fillTables_249 ?_
                    refine lv_bipush (v := zI (8)) F.x F.b dX0_fillTables_252 (by decide +kernel) ?_
                    refine lv_iload_n F.x F.b dX0_fillTables_254 rfl (lv_at hl 1 rfl) ?_
                    refine zr_imul F.x F.b (((8 * a : Nat) : Int)) dX0_fillTables_255 (by omega) ?_
                    refine lv_iload_n F.x F.b dX0_fillTables_256 rfl (lv_at hl 2 rfl) ?_
                    refine zr_iadd F.x F.b (((8 * a + b : Nat) : Int)) dX0_fillTables_257 (by omega) ?_
                    refine lv_iconst (v := zI (1)) F.x F.b dX0_fillTables_258 (by decide +kernel) ?_
                    refine zr_isub F.x F.b (((8 * a + b - 1 : Nat) : Int)) dX0_fillTables_259 (by omega) ?_
                    refine ialdT F hH 5 (f) rfl (8 * a + b - 1) (rfl) (by omega) (by decide) dX0_fillTables_260 ?_
                    refine zr_iadd F.x F.b (((tt + f (8 * a + b - 1) : Nat) : Int)) dX0_fillTables_261 (by omega) ?_
                    refine lv_istore_n (lv' := [(3, .int (zI (((tt + f (8 * a + b - 1) : Nat) : Int)))), (0, .ref (E.1 0)), (1, .int (zI (a))), (2, .int (zI (b)))]) F.x F.b dX0_fillTables_262 rfl hl (by decide) rfl (fun ls hl => ?_)
                    exact fin3 _ (by omega) H locs hH ls (lv_sub hl [1, 2, 3, 0] rfl)
                refine lv_iload_n F.x F.b dX0_fillTables_233 rfl (lv_at hl 1 rfl) ?_
                refine zr_if_ne (tgt := 241) F.x F.b dX0_fillTables_234 (by decide) (by omega) (fun c234 => ?_) (fun c234 => ?_)
                · refine lv_iconst (v := zI (0)) F.x F.b dX0_fillTables_241 (by decide +kernel) ?_
                  refine lv_istore_n (lv' := [(3, .int (zI (0))), (0, .ref (E.1 0)), (1, .int (zI (a))), (2, .int (zI (b)))]) F.x F.b dX0_fillTables_242 rfl hl (by decide) rfl (fun ls hl => ?_)
                  exact fin2 0 (by rw [if_neg (by omega)]) H locs hH ls (lv_sub hl [1, 2, 3, 0] rfl)
                · refine lv_iconst (v := zI (1)) F.x F.b dX0_fillTables_237 (by decide +kernel) ?_
                  refine lv_goto (tgt := 242) F.x F.b dX0_fillTables_238 (by decide) ?_
                  refine lv_istore_n (lv' := [(3, .int (zI (1))), (0, .ref (E.1 0)), (1, .int (zI (a))), (2, .int (zI (b)))]) F.x F.b dX0_fillTables_242 rfl hl (by decide) rfl (fun ls hl => ?_)
                  exact fin2 1 (by rw [if_pos (by omega)]) H locs hH ls (lv_sub hl [1, 2, 3, 0] rfl)
          exact inner (a + 1) 0 (by omega) f (by simpa using hf) H locs hH ls (lv_sub hl [1, 2, 0] rfl)
    exact loop 8 0 (by omega) _ (ko_T_0 ko_N) H locs hH ls hl
  have part3 : ∀ f, ko_T ko_G 16 f → ∀ (H : Heap) (locs : List Loc), HT E s0 A (so, n, ch, L, cu, x, o) (ko_B, f, (fun _ => 0), ko_F) H locs → ∀ ls : Array Slot, lv_has ls 4 [(0, .ref (E.1 0)), (1, .int (zI (1)))] → W p l e (rmX 0 0) s0 m ([.ref (E.1 0)] : List Value).toArray below meth c H locs 0 0 (MQ below (QcT E A (so, n, ch, L, cu, x, o) (ko_B, ko_G, ko_N, ko_F)) ([.ref (E.1 0)] : List Value).toArray s0 0 0 A) (F0 m 148 ls []) := by
    intro f hf H locs hH ls hl
    have loop : ∀ d a : Nat, d + a = 7 → ∀ f, ko_T ko_G (16 * (a + 1)) f → ∀ (H : Heap) (locs : List Loc), HT E s0 A (so, n, ch, L, cu, x, o) (ko_B, f, (fun _ => 0), ko_F) H locs → ∀ ls : Array Slot, lv_has ls 4 [(0, .ref (E.1 0)), (1, .int (zI (((a + 1 : Nat) : Int))))] → W p l e (rmX 0 0) s0 m ([.ref (E.1 0)] : List Value).toArray below meth c H locs 0 0 (MQ below (QcT E A (so, n, ch, L, cu, x, o) (ko_B, ko_G, ko_N, ko_F)) ([.ref (E.1 0)] : List Value).toArray s0 0 0 A) (F0 m 148 ls []) := by
      intro d
      induction d with
      | zero =>
        intro a hd f hf H locs hH ls hl
        refine lv_iload_n F.x F.b dX0_fillTables_148 rfl (lv_at hl 1 rfl) ?_
        refine lv_bipush (v := zI (8)) F.x F.b dX0_fillTables_149 (by decide +kernel) ?_
        refine zr_icmp_ge (tgt := 218) F.x F.b dX0_fillTables_151 (by decide) (by omega) (by omega) (fun c151 => ?_) (fun c151 => ?_)
        · have e8 : a = 7 := by omega
          rw [e8] at hf
          rw [ko_T_end hf ko_G_0] at hH
          refine lv_iconst (v := zI (0)) F.x F.b dX0_fillTables_218 (by decide +kernel) ?_
          refine lv_istore_n (lv' := [(1, .int (zI (0))), (0, .ref (E.1 0))]) F.x F.b dX0_fillTables_219 rfl hl (by decide) rfl (fun ls hl => ?_)
          exact part4 H locs hH ls (lv_sub hl [1, 0] rfl)
        · exact absurd c151 (by omega)
      | succ d ih =>
        intro a hd f hf H locs hH ls hl
        refine lv_iload_n F.x F.b dX0_fillTables_148 rfl (lv_at hl 1 rfl) ?_
        refine lv_bipush (v := zI (8)) F.x F.b dX0_fillTables_149 (by decide +kernel) ?_
        refine zr_icmp_ge (tgt := 218) F.x F.b dX0_fillTables_151 (by decide) (by omega) (by omega) (fun c151 => ?_) (fun c151 => ?_)
        · exact absurd c151 (by omega)
        · refine lv_iconst (v := zI (0)) F.x F.b dX0_fillTables_154 (by decide +kernel) ?_
          refine lv_istore_n (lv' := [(2, .int (zI (0))), (0, .ref (E.1 0)), (1, .int (zI (((a + 1 : Nat) : Int))))]) F.x F.b dX0_fillTables_155 rfl hl (by decide) rfl (fun ls hl => ?_)
          have inner : ∀ d2 b : Nat, d2 + b + (a + 1) = 16 → ∀ f, ko_T ko_G (16 * (a + 1) + b) f → ∀ (H : Heap) (locs : List Loc), HT E s0 A (so, n, ch, L, cu, x, o) (ko_B, f, (fun _ => 0), ko_F) H locs → ∀ ls : Array Slot, lv_has ls 4 [(0, .ref (E.1 0)), (1, .int (zI (((a + 1 : Nat) : Int)))), (2, .int (zI (b)))] → W p l e (rmX 0 0) s0 m ([.ref (E.1 0)] : List Value).toArray below meth c H locs 0 0 (MQ below (QcT E A (so, n, ch, L, cu, x, o) (ko_B, ko_G, ko_N, ko_F)) ([.ref (E.1 0)] : List Value).toArray s0 0 0 A) (F0 m 156 ls []) := by
            intro d2
            induction d2 with
            | zero =>
              intro b hd2 f hf H locs hH ls hl
              refine lv_iload_n F.x F.b dX0_fillTables_156 rfl (lv_at hl 2 rfl) ?_
              refine lv_iload_n F.x F.b dX0_fillTables_157 rfl (lv_at hl 1 rfl) ?_
              refine zr_iadd F.x F.b (((b + (a + 1) : Nat) : Int)) dX0_fillTables_158 (by omega) ?_
              refine lv_bipush (v := zI (16)) F.x F.b dX0_fillTables_159 (by decide +kernel) ?_
              refine zr_icmp_ge (tgt := 212) F.x F.b dX0_fillTables_161 (by decide) (by omega) (by omega) (fun c161 => ?_) (fun c161 => ?_)
              · have eb : b = 16 - (a + 1) := by omega
                rw [eb] at hf
                refine zr_iinc F.x F.b (((a + 1 + 1 : Nat) : Int)) (lv' := [(1, .int (zI (((a + 1 + 1 : Nat) : Int)))), (0, .ref (E.1 0)), (2, .int (zI (b)))]) dX0_fillTables_212 hl (k := 1) rfl (by omega) (by decide) rfl (fun ls hl => ?_)
                refine lv_goto (tgt := 148) F.x F.b dX0_fillTables_215 (by decide) ?_
                exact ih (a + 1) (by omega) f (ko_T_skip hf (by omega) (fun j h1 h2 => ko_G_r (a + 1) (by omega) j (by omega) h1 h2)) H locs hH ls (lv_sub hl [1, 0] rfl)
              · exact absurd c161 (by omega)
            | succ d2 ih2 =>
              intro b hd2 f hf H locs hH ls hl
              refine lv_iload_n F.x F.b dX0_fillTables_156 rfl (lv_at hl 2 rfl) ?_
              refine lv_iload_n F.x F.b dX0_fillTables_157 rfl (lv_at hl 1 rfl) ?_
              refine zr_iadd F.x F.b (((b + (a + 1) : Nat) : Int)) dX0_fillTables_158 (by omega) ?_
              refine lv_bipush (v := zI (16)) F.x F.b dX0_fillTables_159 (by decide +kernel) ?_
              refine zr_icmp_ge (tgt := 212) F.x F.b dX0_fillTables_161 (by decide) (by omega) (by omega) (fun c161 => ?_) (fun c161 => ?_)
              · exact absurd c161 (by omega)
              · have hs := ko_G_s a (by omega) b (by omega) (by omega)
                rw [← hf.1 (16 * a + b) (by omega), ← hf.1 (16 * a + 1 + b) (by omega)] at hs
                refine lv_aload_n F.x F.b dX0_fillTables_164 rfl (lv_at hl 0 rfl) ?_
                refine getT F hH 8 (by decide) q79 rfl (v := .ref (E.1 8)) rfl dX0_fillTables_165 ?_
                refine lv_bipush (v := zI (16)) F.x F.b dX0_fillTables_168 (by decide +kernel) ?_
                refine lv_iload_n F.x F.b dX0_fillTables_170 rfl (lv_at hl 1 rfl) ?_
                refine zr_imul F.x F.b (((16 * (a + 1) : Nat) : Int)) dX0_fillTables_171 (by omega) ?_
                refine lv_iload_n F.x F.b dX0_fillTables_172 rfl (lv_at hl 2 rfl) ?_
                refine zr_iadd F.x F.b (((16 * (a + 1) + b : Nat) : Int)) dX0_fillTables_173 (by omega) ?_
                refine lv_iload_n F.x F.b dX0_fillTables_174 rfl (lv_at hl 2 rfl) ?_
                refine lv_aload_n F.x F.b dX0_fillTables_175 rfl (lv_at hl 0 rfl) ?_
                refine getT F hH 8 (by decide) q79 rfl (v := .ref (E.1 8)) rfl dX0_fillTables_176 ?_
                refine lv_bipush (v := zI (16)) F.x F.b dX0_fillTables_179 (by decide +kernel) ?_
                refine lv_iload_n F.x F.b dX0_fillTables_181 rfl (lv_at hl 1 rfl) ?_
                refine zr_imul F.x F.b (((16 * (a + 1) : Nat) : Int)) dX0_fillTables_182 (by omega) ?_
                refine lv_bipush (v := zI (16)) F.x F.b dX0_fillTables_183 (by decide +kernel) ?_
                refine zr_isub F.x F.b (((16 * a : Nat) : Int)) dX0_fillTables_185 (by omega) ?_
                refine lv_iload_n F.x F.b dX0_fillTables_186 rfl (lv_at hl 2 rfl) ?_
                refine zr_iadd F.x F.b (((16 * a + b : Nat) : Int)) dX0_fillTables_187 (by omega) ?_
                refine ialdT F hH 4 (f) rfl (16 * a + b) (rfl) (by omega) (by decide) dX0_fillTables_188 ?_
                refine zr_imul F.x F.b (((b * f (16 * a + b) : Nat) : Int)) dX0_fillTables_189 ((Int.natCast_mul _ _).symm) ?_
                refine lv_aload_n F.x F.b dX0_fillTables_190 rfl (lv_at hl 0 rfl) ?_
                refine getT F hH 8 (by decide) q79 rfl (v := .ref (E.1 8)) rfl dX0_fillTables_191 ?_
                refine lv_bipush (v := zI (16)) F.x F.b dX0_fillTables_194 (by decide +kernel) ?_
                refine lv_iload_n F.x F.b dX0_fillTables_196 rfl (lv_at hl 1 rfl) ?_
                refine zr_imul F.x F.b (((16 * (a + 1) : Nat) : Int)) dX0_fillTables_197 (by omega) ?_
                refine lv_bipush (v := zI (15)) F.x F.b dX0_fillTables_198 (by decide +kernel) ?_
                refine zr_isub F.x F.b (((16 * a + 1 : Nat) : Int)) dX0_fillTables_200 (by omega) ?_
                refine lv_iload_n F.x F.b dX0_fillTables_201 rfl (lv_at hl 2 rfl) ?_
                refine zr_iadd F.x F.b (((16 * a + 1 + b : Nat) : Int)) dX0_fillTables_202 (by omega) ?_
                refine ialdT F hH 4 (f) rfl (16 * a + 1 + b) (rfl) (by omega) (by decide) dX0_fillTables_203 ?_
                refine zr_iadd F.x F.b (((b * f (16 * a + b) + f (16 * a + 1 + b) : Nat) : Int)) dX0_fillTables_204 ((Int.natCast_add _ _).symm) ?_
                refine iastT F hH 4 (f) rfl (16 * (a + 1) + b) (b * f (16 * a + b) + f (16 * a + 1 + b)) (rfl) (by omega) (by decide) (rfl) (ko_B, (zU (f) (16 * (a + 1) + b) (b * f (16 * a + b) + f (16 * a + 1 + b))), (fun _ => 0), ko_F) rfl dX0_fillTables_205 (fun H locs hH => ?_)
                refine zr_iinc F.x F.b (((b + 1 : Nat) : Int)) (lv' := [(2, .int (zI (((b + 1 : Nat) : Int)))), (0, .ref (E.1 0)), (1, .int (zI (((a + 1 : Nat) : Int))))]) dX0_fillTables_206 hl (k := 2) rfl (by omega) (by decide) rfl (fun ls hl => ?_)
                refine lv_goto (tgt := 156) F.x F.b dX0_fillTables_209 (by decide) ?_
                exact ih2 (b + 1) (by omega) _ (ko_T_s hf hs.symm) H locs hH ls (lv_sub hl [1, 2, 0] rfl)
          exact inner (16 - (a + 1)) 0 (by omega) f (by simpa using hf) H locs hH ls (lv_sub hl [1, 2, 0] rfl)
    exact loop 7 0 (by omega) f hf H locs hH ls hl
  have part2 : ∀ (H : Heap) (locs : List Loc), HT E s0 A (so, n, ch, L, cu, x, o) (ko_B, (fun _ => 0), (fun _ => 0), ko_F) H locs → ∀ ls : Array Slot, lv_has ls 4 [(0, .ref (E.1 0)), (1, .int (zI (0)))] → W p l e (rmX 0 0) s0 m ([.ref (E.1 0)] : List Value).toArray below meth c H locs 0 0 (MQ below (QcT E A (so, n, ch, L, cu, x, o) (ko_B, ko_G, ko_N, ko_F)) ([.ref (E.1 0)] : List Value).toArray s0 0 0 A) (F0 m 127 ls []) := by
    intro H locs hH ls hl
    have loop : ∀ d a : Nat, d + a = 16 → ∀ f, ko_T ko_G a f → ∀ (H : Heap) (locs : List Loc), HT E s0 A (so, n, ch, L, cu, x, o) (ko_B, f, (fun _ => 0), ko_F) H locs → ∀ ls : Array Slot, lv_has ls 4 [(0, .ref (E.1 0)), (1, .int (zI (a)))] → W p l e (rmX 0 0) s0 m ([.ref (E.1 0)] : List Value).toArray below meth c H locs 0 0 (MQ below (QcT E A (so, n, ch, L, cu, x, o) (ko_B, ko_G, ko_N, ko_F)) ([.ref (E.1 0)] : List Value).toArray s0 0 0 A) (F0 m 127 ls []) := by
      intro d
      induction d with
      | zero =>
        intro a hd f hf H locs hH ls hl
        refine lv_iload_n F.x F.b dX0_fillTables_127 rfl (lv_at hl 1 rfl) ?_
        refine lv_bipush (v := zI (16)) F.x F.b dX0_fillTables_128 (by decide +kernel) ?_
        refine zr_icmp_ge (tgt := 146) F.x F.b dX0_fillTables_130 (by decide) (by omega) (by omega) (fun c130 => ?_) (fun c130 => ?_)
        · have e8 : a = 16 := by omega
          rw [e8] at hf
          refine lv_iconst (v := zI (1)) F.x F.b dX0_fillTables_146 (by decide +kernel) ?_
          refine lv_istore_n (lv' := [(1, .int (zI (1))), (0, .ref (E.1 0))]) F.x F.b dX0_fillTables_147 rfl hl (by decide) rfl (fun ls hl => ?_)
          exact part3 f hf H locs hH ls (lv_sub hl [1, 0] rfl)
        · exact absurd c130 (by omega)
      | succ d ih =>
        intro a hd f hf H locs hH ls hl
        refine lv_iload_n F.x F.b dX0_fillTables_127 rfl (lv_at hl 1 rfl) ?_
        refine lv_bipush (v := zI (16)) F.x F.b dX0_fillTables_128 (by decide +kernel) ?_
        refine zr_icmp_ge (tgt := 146) F.x F.b dX0_fillTables_130 (by decide) (by omega) (by omega) (fun c130 => ?_) (fun c130 => ?_)
        · exact absurd c130 (by omega)
        · refine lv_aload_n F.x F.b dX0_fillTables_133 rfl (lv_at hl 0 rfl) ?_
          refine getT F hH 8 (by decide) q79 rfl (v := .ref (E.1 8)) rfl dX0_fillTables_134 ?_
          refine lv_iload_n F.x F.b dX0_fillTables_137 rfl (lv_at hl 1 rfl) ?_
          refine lv_iconst (v := zI (1)) F.x F.b dX0_fillTables_138 (by decide +kernel) ?_
          refine iastT F hH 4 (f) rfl (a) (1) (rfl) (by omega) (by decide) (rfl) (ko_B, (zU (f) (a) (1)), (fun _ => 0), ko_F) rfl dX0_fillTables_139 (fun H locs hH => ?_)
          refine zr_iinc F.x F.b (((a + 1 : Nat) : Int)) (lv' := [(1, .int (zI (((a + 1 : Nat) : Int)))), (0, .ref (E.1 0))]) dX0_fillTables_140 hl (k := 1) rfl (by omega) (by decide) rfl (fun ls hl => ?_)
          refine lv_goto (tgt := 127) F.x F.b dX0_fillTables_143 (by decide) ?_
          exact ih (a + 1) (by omega) _ (ko_T_s hf (ko_G_1 a (by omega)).symm) H locs hH ls (lv_sub hl [1, 0] rfl)
    exact loop 16 0 (by omega) _ (ko_T_0 ko_G) H locs hH ls hl
  have part1 : ∀ (H : Heap) (locs : List Loc), HT E s0 A (so, n, ch, L, cu, x, o) ((fun _ => 0), (fun _ => 0), (fun _ => 0), ko_F) H locs → ∀ ls : Array Slot, lv_has ls 4 [(0, .ref (E.1 0)), (1, .int (zI (0)))] → W p l e (rmX 0 0) s0 m ([.ref (E.1 0)] : List Value).toArray below meth c H locs 0 0 (MQ below (QcT E A (so, n, ch, L, cu, x, o) (ko_B, ko_G, ko_N, ko_F)) ([.ref (E.1 0)] : List Value).toArray s0 0 0 A) (F0 m 39 ls []) := by
    intro H locs hH ls hl
    have loop : ∀ d a : Nat, d + a = 8 → ∀ f, ko_T ko_B (8 * a) f → ∀ (H : Heap) (locs : List Loc), HT E s0 A (so, n, ch, L, cu, x, o) (f, (fun _ => 0), (fun _ => 0), ko_F) H locs → ∀ ls : Array Slot, lv_has ls 4 [(0, .ref (E.1 0)), (1, .int (zI (a)))] → W p l e (rmX 0 0) s0 m ([.ref (E.1 0)] : List Value).toArray below meth c H locs 0 0 (MQ below (QcT E A (so, n, ch, L, cu, x, o) (ko_B, ko_G, ko_N, ko_F)) ([.ref (E.1 0)] : List Value).toArray s0 0 0 A) (F0 m 39 ls []) := by
      intro d
      induction d with
      | zero =>
        intro a hd f hf H locs hH ls hl
        refine lv_iload_n F.x F.b dX0_fillTables_39 rfl (lv_at hl 1 rfl) ?_
        refine lv_bipush (v := zI (8)) F.x F.b dX0_fillTables_40 (by decide +kernel) ?_
        refine zr_icmp_ge (tgt := 125) F.x F.b dX0_fillTables_42 (by decide) (by omega) (by omega) (fun c42 => ?_) (fun c42 => ?_)
        · have e8 : a = 8 := by omega
          rw [e8] at hf
          rw [ko_T_end hf ko_B_0] at hH
          refine lv_iconst (v := zI (0)) F.x F.b dX0_fillTables_125 (by decide +kernel) ?_
          refine lv_istore_n (lv' := [(1, .int (zI (0))), (0, .ref (E.1 0))]) F.x F.b dX0_fillTables_126 rfl hl (by decide) rfl (fun ls hl => ?_)
          exact part2 H locs hH ls (lv_sub hl [1, 0] rfl)
        · exact absurd c42 (by omega)
      | succ d ih =>
        intro a hd f hf H locs hH ls hl
        refine lv_iload_n F.x F.b dX0_fillTables_39 rfl (lv_at hl 1 rfl) ?_
        refine lv_bipush (v := zI (8)) F.x F.b dX0_fillTables_40 (by decide +kernel) ?_
        refine zr_icmp_ge (tgt := 125) F.x F.b dX0_fillTables_42 (by decide) (by omega) (by omega) (fun c42 => ?_) (fun c42 => ?_)
        · exact absurd c42 (by omega)
        · refine lv_aload_n F.x F.b dX0_fillTables_45 rfl (lv_at hl 0 rfl) ?_
          refine getT F hH 7 (by decide) q78 rfl (v := .ref (E.1 7)) rfl dX0_fillTables_46 ?_
          refine lv_bipush (v := zI (8)) F.x F.b dX0_fillTables_49 (by decide +kernel) ?_
          refine lv_iload_n F.x F.b dX0_fillTables_51 rfl (lv_at hl 1 rfl) ?_
          refine zr_imul F.x F.b (((8 * a : Nat) : Int)) dX0_fillTables_52 (by omega) ?_
          refine lv_iconst (v := zI (1)) F.x F.b dX0_fillTables_53 (by decide +kernel) ?_
          refine iastT F hH 3 (f) rfl (8 * a) (1) (rfl) (by omega) (by decide) (rfl) ((zU (f) (8 * a) (1)), (fun _ => 0), (fun _ => 0), ko_F) rfl dX0_fillTables_54 (fun H locs hH => ?_)
          refine lv_iconst (v := zI (1)) F.x F.b dX0_fillTables_55 (by decide +kernel) ?_
          refine lv_istore_n (lv' := [(2, .int (zI (1))), (0, .ref (E.1 0)), (1, .int (zI (a)))]) F.x F.b dX0_fillTables_56 rfl hl (by decide) rfl (fun ls hl => ?_)
          have inner : ∀ d2 b : Nat, d2 + b = a → ∀ f, ko_T ko_B (8 * a + (b + 1)) f → ∀ (H : Heap) (locs : List Loc), HT E s0 A (so, n, ch, L, cu, x, o) (f, (fun _ => 0), (fun _ => 0), ko_F) H locs → ∀ ls : Array Slot, lv_has ls 4 [(0, .ref (E.1 0)), (1, .int (zI (a))), (2, .int (zI (((b + 1 : Nat) : Int))))] → W p l e (rmX 0 0) s0 m ([.ref (E.1 0)] : List Value).toArray below meth c H locs 0 0 (MQ below (QcT E A (so, n, ch, L, cu, x, o) (ko_B, ko_G, ko_N, ko_F)) ([.ref (E.1 0)] : List Value).toArray s0 0 0 A) (F0 m 57 ls []) := by
            intro d2
            induction d2 with
            | zero =>
              intro b hd2 f hf H locs hH ls hl
              refine lv_iload_n F.x F.b dX0_fillTables_57 rfl (lv_at hl 2 rfl) ?_
              refine lv_iload_n F.x F.b dX0_fillTables_58 rfl (lv_at hl 1 rfl) ?_
              refine zr_icmp_gt (tgt := 119) F.x F.b dX0_fillTables_59 (by decide) (by omega) (by omega) (fun c59 => ?_) (fun c59 => ?_)
              · have eb : b = a := by omega
                rw [eb] at hf
                refine zr_iinc F.x F.b (((a + 1 : Nat) : Int)) (lv' := [(1, .int (zI (((a + 1 : Nat) : Int)))), (0, .ref (E.1 0)), (2, .int (zI (((b + 1 : Nat) : Int))))]) dX0_fillTables_119 hl (k := 1) rfl (by omega) (by decide) rfl (fun ls hl => ?_)
                refine lv_goto (tgt := 39) F.x F.b dX0_fillTables_122 (by decide) ?_
                exact ih (a + 1) (by omega) f (ko_T_skip hf (by omega) (fun j h1 h2 => ko_B_r a (by omega) j (by omega) h1 h2)) H locs hH ls (lv_sub hl [1, 0] rfl)
              · exact absurd c59 (by omega)
            | succ d2 ih2 =>
              intro b hd2 f hf H locs hH ls hl
              refine lv_iload_n F.x F.b dX0_fillTables_57 rfl (lv_at hl 2 rfl) ?_
              refine lv_iload_n F.x F.b dX0_fillTables_58 rfl (lv_at hl 1 rfl) ?_
              refine zr_icmp_gt (tgt := 119) F.x F.b dX0_fillTables_59 (by decide) (by omega) (by omega) (fun c59 => ?_) (fun c59 => ?_)
              · exact absurd c59 (by omega)
              · obtain ⟨a1, ha1⟩ : ∃ a1, a = a1 + 1 := ⟨a - 1, by omega⟩
                have hs := ko_B_s a1 (by omega) b (by omega)
                rw [← ha1, ← hf.1 (8 * a1 + b) (by omega)] at hs
                refine lv_aload_n F.x F.b dX0_fillTables_62 rfl (lv_at hl 0 rfl) ?_
                refine getT F hH 7 (by decide) q78 rfl (v := .ref (E.1 7)) rfl dX0_fillTables_63 ?_
                refine lv_bipush (v := zI (8)) F.x F.b dX0_fillTables_66 (by decide +kernel) ?_
                refine lv_iload_n F.x F.b dX0_fillTables_68 rfl (lv_at hl 1 rfl) ?_
                refine zr_imul F.x F.b (((8 * a : Nat) : Int)) dX0_fillTables_69 (by omega) ?_
                refine lv_iload_n F.x F.b dX0_fillTables_70 rfl (lv_at hl 2 rfl) ?_
                refine zr_iadd F.x F.b (((8 * a + (b + 1) : Nat) : Int)) dX0_fillTables_71 (by omega) ?_
                refine lv_aload_n F.x F.b dX0_fillTables_72 rfl (lv_at hl 0 rfl) ?_
                refine getT F hH 7 (by decide) q78 rfl (v := .ref (E.1 7)) rfl dX0_fillTables_73 ?_
                refine lv_bipush (v := zI (8)) F.x F.b dX0_fillTables_76 (by decide +kernel) ?_
                refine lv_iload_n F.x F.b dX0_fillTables_78 rfl (lv_at hl 1 rfl) ?_
                refine zr_imul F.x F.b (((8 * a : Nat) : Int)) dX0_fillTables_79 (by omega) ?_
                refine lv_bipush (v := zI (8)) F.x F.b dX0_fillTables_80 (by decide +kernel) ?_
                refine zr_isub F.x F.b (((8 * a1 : Nat) : Int)) dX0_fillTables_82 (by omega) ?_
                refine lv_iload_n F.x F.b dX0_fillTables_83 rfl (lv_at hl 2 rfl) ?_
                refine zr_iadd F.x F.b (((8 * a1 + (b + 1) : Nat) : Int)) dX0_fillTables_84 (by omega) ?_
                refine lv_iconst (v := zI (1)) F.x F.b dX0_fillTables_85 (by decide +kernel) ?_
                refine zr_isub F.x F.b (((8 * a1 + b : Nat) : Int)) dX0_fillTables_86 (by omega) ?_
                refine ialdT F hH 3 (f) rfl (8 * a1 + b) (rfl) (by omega) (by decide) dX0_fillTables_87 ?_
                refine lv_iload_n F.x F.b dX0_fillTables_88 rfl (lv_at hl 2 rfl) ?_
                refine lv_iload_n F.x F.b dX0_fillTables_89 rfl (lv_at hl 1 rfl) ?_
                refine zr_icmp_ge (tgt := 110) F.x F.b dX0_fillTables_90 (by decide) (by omega) (by omega) (fun c90 => ?_) (fun c90 => ?_)
                · rw [if_neg (by omega)] at hs
                  refine lv_iconst (v := zI (0)) F.x F.b dX0_fillTables_110 (by decide +kernel) ?_
                  refine zr_iadd F.x F.b (((f (8 * a1 + b) : Nat) : Int)) dX0_fillTables_111 (by omega) ?_
                  refine iastT F hH 3 (f) rfl (8 * a + (b + 1)) (f (8 * a1 + b)) (rfl) (by omega) (by decide) (rfl) ((zU (f) (8 * a + (b + 1)) (f (8 * a1 + b))), (fun _ => 0), (fun _ => 0), ko_F) rfl dX0_fillTables_112 (fun H locs hH => ?_)
                  refine zr_iinc F.x F.b (((b + 1 + 1 : Nat) : Int)) (lv' := [(2, .int (zI (((b + 1 + 1 : Nat) : Int)))), (0, .ref (E.1 0)), (1, .int (zI (a)))]) dX0_fillTables_113 hl (k := 2) rfl (by omega) (by decide) rfl (fun ls hl => ?_)
                  refine lv_goto (tgt := 57) F.x F.b dX0_fillTables_116 (by decide) ?_
                  exact ih2 (b + 1) (by omega) _ (ko_T_s hf (hs.symm)) H locs hH ls (lv_sub hl [1, 2, 0] rfl)
                · rw [if_pos (by omega), ← hf.1 (8 * a1 + (b + 1)) (by omega)] at hs
                  refine lv_aload_n F.x F.b dX0_fillTables_93 rfl (lv_at hl 0 rfl) ?_
                  refine getT F hH 7 (by decide) q78 rfl (v := .ref (E.1 7)) rfl dX0_fillTables_94 ?_
                  refine lv_bipush (v := zI (8)) F.x F.b dX0_fillTables_97 (by decide +kernel) ?_
                  refine lv_iload_n F.x F.b dX0_fillTables_99 rfl (lv_at hl 1 rfl) ?_
                  refine zr_imul F.x F.b (((8 * a : Nat) : Int)) dX0_fillTables_100 (by omega) ?_
                  refine lv_bipush (v := zI (8)) F.x F.b dX0_fillTables_101 (by decide +kernel) ?_
                  refine zr_isub F.x F.b (((8 * a1 : Nat) : Int)) dX0_fillTables_103 (by omega) ?_
                  refine lv_iload_n F.x F.b dX0_fillTables_104 rfl (lv_at hl 2 rfl) ?_
                  refine zr_iadd F.x F.b (((8 * a1 + (b + 1) : Nat) : Int)) dX0_fillTables_105 (by omega) ?_
                  refine ialdT F hH 3 (f) rfl (8 * a1 + (b + 1)) (rfl) (by omega) (by decide) dX0_fillTables_106 ?_
                  refine lv_goto (tgt := 111) F.x F.b dX0_fillTables_107 (by decide) ?_
                  refine zr_iadd F.x F.b (((f (8 * a1 + b) + f (8 * a1 + (b + 1)) : Nat) : Int)) dX0_fillTables_111 (by omega) ?_
                  refine iastT F hH 3 (f) rfl (8 * a + (b + 1)) (f (8 * a1 + b) + f (8 * a1 + (b + 1))) (rfl) (by omega) (by decide) (rfl) ((zU (f) (8 * a + (b + 1)) (f (8 * a1 + b) + f (8 * a1 + (b + 1)))), (fun _ => 0), (fun _ => 0), ko_F) rfl dX0_fillTables_112 (fun H locs hH => ?_)
                  refine zr_iinc F.x F.b (((b + 1 + 1 : Nat) : Int)) (lv' := [(2, .int (zI (((b + 1 + 1 : Nat) : Int)))), (0, .ref (E.1 0)), (1, .int (zI (a)))]) dX0_fillTables_113 hl (k := 2) rfl (by omega) (by decide) rfl (fun ls hl => ?_)
                  refine lv_goto (tgt := 57) F.x F.b dX0_fillTables_116 (by decide) ?_
                  exact ih2 (b + 1) (by omega) _ (ko_T_s hf (hs.symm)) H locs hH ls (lv_sub hl [1, 2, 0] rfl)
          exact inner a 0 (by omega) _ (ko_T_s hf (ko_B_1 a (by omega)).symm) H locs hH ls (lv_sub hl [1, 2, 0] rfl)
    exact loop 8 0 (by omega) _ (ko_T_0 ko_B) H locs hH ls hl
  refine lv_aload_n F.x F.b dX0_fillTables_0 rfl (lv_at hl 0 rfl) ?_
  refine getT F hH 10 (by decide) q81 rfl (v := .ref (E.1 10)) rfl dX0_fillTables_1 ?_
  refine lv_iconst (v := zI (0)) F.x F.b dX0_fillTables_4 (by decide +kernel) ?_
  refine lv_iconst (v := zI (1)) F.x F.b dX0_fillTables_5 (by decide +kernel) ?_
  refine iastT F hH 6 ((fun _ => 0)) rfl (0) (1) (rfl) (by omega) (by decide) (rfl) ((fun _ => 0), (fun _ => 0), (fun _ => 0), (zU ((fun _ => 0)) (0) (1))) rfl dX0_fillTables_6 (fun H locs hH => ?_)
  refine lv_iconst (v := zI (1)) F.x F.b dX0_fillTables_7 (by decide +kernel) ?_
  refine lv_istore_n (lv' := [(1, .int (zI (1))), (0, .ref (E.1 0))]) F.x F.b dX0_fillTables_8 rfl hl (by decide) rfl (fun ls hl => ?_)
  have loop : ∀ d a : Nat, d + a = 7 → ∀ f, ko_T ko_F (a + 1) f → ∀ (H : Heap) (locs : List Loc), HT E s0 A (so, n, ch, L, cu, x, o) ((fun _ => 0), (fun _ => 0), (fun _ => 0), f) H locs → ∀ ls : Array Slot, lv_has ls 4 [(0, .ref (E.1 0)), (1, .int (zI (((a + 1 : Nat) : Int))))] → W p l e (rmX 0 0) s0 m ([.ref (E.1 0)] : List Value).toArray below meth c H locs 0 0 (MQ below (QcT E A (so, n, ch, L, cu, x, o) (ko_B, ko_G, ko_N, ko_F)) ([.ref (E.1 0)] : List Value).toArray s0 0 0 A) (F0 m 9 ls []) := by
    intro d
    induction d with
    | zero =>
      intro a hd f hf H locs hH ls hl
      refine lv_iload_n F.x F.b dX0_fillTables_9 rfl (lv_at hl 1 rfl) ?_
      refine lv_bipush (v := zI (8)) F.x F.b dX0_fillTables_10 (by decide +kernel) ?_
      refine zr_icmp_ge (tgt := 37) F.x F.b dX0_fillTables_12 (by decide) (by omega) (by omega) (fun c12 => ?_) (fun c12 => ?_)
      · have e8 : a = 7 := by omega
        rw [e8] at hf
        rw [ko_T_end hf ko_F_0] at hH
        refine lv_iconst (v := zI (0)) F.x F.b dX0_fillTables_37 (by decide +kernel) ?_
        refine lv_istore_n (lv' := [(1, .int (zI (0))), (0, .ref (E.1 0))]) F.x F.b dX0_fillTables_38 rfl hl (by decide) rfl (fun ls hl => ?_)
        exact part1 H locs hH ls (lv_sub hl [1, 0] rfl)
      · exact absurd c12 (by omega)
    | succ d ih =>
      intro a hd f hf H locs hH ls hl
      refine lv_iload_n F.x F.b dX0_fillTables_9 rfl (lv_at hl 1 rfl) ?_
      refine lv_bipush (v := zI (8)) F.x F.b dX0_fillTables_10 (by decide +kernel) ?_
      refine zr_icmp_ge (tgt := 37) F.x F.b dX0_fillTables_12 (by decide) (by omega) (by omega) (fun c12 => ?_) (fun c12 => ?_)
      · exact absurd c12 (by omega)
      · have hs := ko_F_s a (by omega)
        rw [← hf.1 a (by omega)] at hs
        refine lv_aload_n F.x F.b dX0_fillTables_15 rfl (lv_at hl 0 rfl) ?_
        refine getT F hH 10 (by decide) q81 rfl (v := .ref (E.1 10)) rfl dX0_fillTables_16 ?_
        refine lv_iload_n F.x F.b dX0_fillTables_19 rfl (lv_at hl 1 rfl) ?_
        refine lv_iload_n F.x F.b dX0_fillTables_20 rfl (lv_at hl 1 rfl) ?_
        refine lv_aload_n F.x F.b dX0_fillTables_21 rfl (lv_at hl 0 rfl) ?_
        refine getT F hH 10 (by decide) q81 rfl (v := .ref (E.1 10)) rfl dX0_fillTables_22 ?_
        refine lv_iload_n F.x F.b dX0_fillTables_25 rfl (lv_at hl 1 rfl) ?_
        refine lv_iconst (v := zI (1)) F.x F.b dX0_fillTables_26 (by decide +kernel) ?_
        refine zr_isub F.x F.b (((a : Nat) : Int)) dX0_fillTables_27 (by omega) ?_
        refine ialdT F hH 6 (f) rfl (a) (rfl) (by omega) (by decide) dX0_fillTables_28 ?_
        refine zr_imul F.x F.b ((((a + 1) * f a : Nat) : Int)) dX0_fillTables_29 ((Int.natCast_mul _ _).symm) ?_
        refine iastT F hH 6 (f) rfl (a + 1) ((a + 1) * f a) (rfl) (by omega) (by decide) (rfl) ((fun _ => 0), (fun _ => 0), (fun _ => 0), (zU (f) (a + 1) ((a + 1) * f a))) rfl dX0_fillTables_30 (fun H locs hH => ?_)
        refine zr_iinc F.x F.b (((a + 1 + 1 : Nat) : Int)) (lv' := [(1, .int (zI (((a + 1 + 1 : Nat) : Int)))), (0, .ref (E.1 0))]) dX0_fillTables_31 hl (k := 1) rfl (by omega) (by decide) rfl (fun ls hl => ?_)
        refine lv_goto (tgt := 9) F.x F.b dX0_fillTables_34 (by decide) ?_
        exact ih (a + 1) (by omega) _ (ko_T_s hf hs.symm) H locs hH ls (lv_sub hl [1, 0] rfl)
  exact loop 7 0 (by omega) _ (ko_T_s (ko_T_0 ko_F) rfl) H locs hH ls (lv_sub hl [1, 0] rfl)
end
section
set_option maxRecDepth 100000
section X0I
variable {p : Program} {l : Launch} {e : Env} {R : Room} {s : State} {m : MethodId} {args : Array Value} {below : List Frame} {meth : Method} {c : Code} {H : Heap} {locs : List Loc} {cells slots : Nat} {Q : State → Prop}
variable {cc : ByteArray} {pc nL : Nat} {ret : Option FieldType} {ls : Array Slot} {rest : List Value} {A : Nat → Prop} {E : EX} {u : SX} {T T2 : TX}
theorem CtT.call {y : MethodName} {cc2 : ByteArray} {nL2 : Nat} {fr lo n index : Nat} {as : List Value} {st0 : List Value} (h : CtT l y cc2 nL2 fr lo E as u T T2) (F : FX p s m meth c cc nL ret args A E) (hH : HT E s A u T H locs)
    (hw : GoodIn lw_all (wsV RX0 index RX0 y (ws_ y cc2 nL2 none))) (hd : y.cls = RX0 ∧ y.cls ≠ "java/lang/invoke/MethodHandle" ∧ y.cls ≠ "java/lang/invoke/VarHandle" ∧ (parseMethodDescriptor y.desc).map (fun d => d.parameters.length) = some n) (hR : fr + 1 ≤ R.frames ∧ 8 + (nL2 + 11) + lo ≤ R.locals)
    (hn : as.length = n) (hl : ls.size = nL) (hst : st0 = as.reverse ++ .ref (E.1 0) :: rest) (hrm : (rest.map fun v => v.category).sum ≤ 8) (hdg : decode cc pc = .ok (.invokevirtual index, 3)) (hcs : cells ≤ R.cells ∧ slots ≤ R.slots)
    (kk : ∀ (H1 : Heap) (locs1 : List Loc), HT E s A u T2 H1 locs1 → W p l e R s m args below meth c H1 locs1 cells slots Q (F0 m (pc + 3) ls rest)) : W p l e R s m args below meth c H locs cells slots Q (F0 m pc ls st0) := by
  obtain ⟨hx, hb, hml, hown, hts, -, -, hA, hK⟩ := F
  obtain ⟨hP, hD, hS⟩ := hH
  subst hst
  have hFc : ∀ q, va_A (wT E u T) H.size q → A q := va_free (wc := wT E u T) hD hS hA [0, 1, 2, 3, 4, 5, 6] rfl
  refine va_callv (va_runV (As := as) (rest := rest) ⟨hx, hb, hml, hown, hts⟩ (h H.size) (cwV n hts hw rfl rfl rfl hd hR) ⟨fun a U g mk q => ?_, va_recv hK hP (ci := 0) (q0 := 0) rfl rfl, fun U hU hW => ⟨rfl, by rw [hU], by rw [hU]; exact hP, va_K.moved hW.alike hK, hD.weaken (fun _ _ _ _ => trivial)⟩⟩ rfl hn hl rfl (lv_room hrm) hdg ⟨hcs.1, hcs.2⟩) hS (fun q _ h => hFc q h) hFc (fun v t H1 locs1 ht hvm hw1 hB hz1 hk1 hS1 => ?_)
  · obtain ⟨q0, q1, qP, qK, qD⟩ := q
    exact ⟨q0, q1, qP, va_K.moved (u := U) (U := U.calling g mk a) (Vm.Alike.refl U.vm) qK, qD⟩
  · obtain ⟨hP1, hK1, hD1⟩ := hB
    rw [ht] at hP1
    exact kk H1 locs1 ⟨hP1, hD1.weaken (fun _ _ _ h => hFc _ h), hS1⟩
end X0I
def ko_ad (h q5 q6 q7 q8 q9 q10 : Nat) : Nat → Nat := fun k => match k with
  | 0 => h
  | 5 => q5
  | 6 => q6
  | 7 => q7
  | 8 => q8
  | 9 => q9
  | 10 => q10
  | _ => 0
theorem ko_z0 {ty : FieldType} (h : defaultValue ty = .int 0) (N : Nat) (cA : ClassId) : vp_cell cA (N, .inl (fun j => zI (((fun _ => 0 : Nat → Nat) j : Nat) : Int))) = arrV cA N (fun _ => defaultValue ty) := by
  rw [h]
  rfl
/-- the object as 'new' makes it -/
abbrev fs0 : List Value := [.int (zI ((0 : Nat) : Int)), .int (zI ((0 : Nat) : Int)), .int (zI 0), .int (zI ((0 : Nat) : Int)), .int (zI 0), .null, .null, .null, .null, .null, .null]
abbrev w0X (h : Nat) : va_W := [(h, .inr (0, fs0))]
/-- what the constructor leaves -/
def iniX (h : Nat) (D : va_G) (q : EX × SX) : Prop := q.1.1 0 = h ∧ q.1.2.2 = D ∧ ∃ (ch : Int) (x o : Nat → Nat), q.2 = (1, 3, ch, 3, 0, x, o) ∧ (∀ j, x j < 8) ∧ (∀ j, o j < 8) ∧ ko_VP 1 3 3 x 3 ∧ ko_rk 1 3 3 x 3 = 0
abbrev rmI (fr ce sl lo : Nat) : Room := { frames := fr, cells := ce, slots := sl, locals := lo }

set_option maxHeartbeats 8000000 in
/-- RankedObjects() -/
theorem cX_init (l : Launch) (D : va_G) (h0 sz : Nat) : Met l yX0_init (ws_ yX0_init cX0_init 1 none) (rmI 5 6 292 123) (va_Pc [.ref h0] (fun U => U.heap.size = sz ∧ va_P D vwCl (w0X h0) U.heap ∧ va_K D vwCl [] U ∧ va_D (fun _ => True) (w0X h0))) (va_Qv (iniX h0 D) (fun q t => BX q.1 (va_A (w0X h0) sz) q.2 t) (va_A (w0X h0) sz)) 6 292 (va_A (w0X h0) sz) := by
  refine Met.ofW (cc := cX0_init) (maxL := 1) (ret := none) (by decide +kernel) rfl ?_
  intro p e s m args below meth c s₁ B hml hv
  obtain ⟨rfl, hsz, hP, hK, hD0⟩ := hv
  have hx := B.exec
  have hb := B.bytes
  have hr := B.returns
  have hts := atoms_spec (ws := ws_ yX0_init cX0_init 1 none) B.pre
  have hts : ∀ w ∈ lw_all, w.before _ s = true := fun w h => hts w (List.mem_cons_of_mem _ h)
  have hown : s.vm.findClass RX0 = some m.cls := findClass_of_methodNamed B.named
  have hlk := B.notSynchronized
  have hin : meth.name = "<init>" := (name_of_methodNamed B.named B.method).1
  subst hsz
  have hD := hD0.self (sz := s.heap.size)
  generalize hAe : va_A (w0X h0) s.heap.size = A at hD ⊢
  have hA : ∀ q : Nat, s.heap.size ≤ q → A q := fun q h => by rw [← hAe]; exact Or.inr h
  have hS : va_S A s.heap s.heap [] := va_S.rf
  have hl := lv_entry ([.ref h0]) (n := 1) (Nat.le_of_ble_eq_true rfl)
  rw [lg_entry_eq]
  generalize (lg_sl ([.ref h0]) ++ List.replicate (1 - (lg_sl ([.ref h0])).length) Slot.unset).toArray = ls at hl ⊢
  have hl : lv_has ls 1 [(0, .ref h0)] := hl
  refine lv_aload_n hx hb dX0_init_0 rfl (lv_at hl 0 rfl) ?_
  refine W.objInit hx hb hown (hts _ q24) (hts _ q25) (hts _ q26) rfl (by rw [hml]; exact hl.1) rfl dX0_init_1 (Nat.le_of_ble_eq_true rfl) (Nat.le_of_ble_eq_true rfl) ?_
  refine W.eq (g2 := F0 m 4 ls []) rfl ?_
  refine lv_aload_n hx hb dX0_init_4 rfl (lv_at hl 0 rfl) ?_
  refine lv_bipush (v := zI 14) hx hb dX0_init_5 (by decide +kernel) ?_
  refine va_newa (atype := .byte) (ty := .byte) hx hb (hts _ q105) rfl hK hP hD hS hA (n := zI 14) (N' := 14) (a0 := (14, .inl (fun j => zI (((fun _ => 0 : Nat → Nat) j : Nat) : Int)))) (ko_z0 rfl 14) (by decide +kernel) (by decide +kernel) (by decide +kernel) (Nat.le_of_ble_eq_true rfl) (Nat.le_of_ble_eq_true rfl) dX0_init_7 (fun q5 c5 H hK hP hD hS => ?_)
  have hP : va_P D vwCl [(h0, .inr (0, [.int (zI ((0 : Nat) : Int)), .int (zI ((0 : Nat) : Int)), .int (zI 0), .int (zI ((0 : Nat) : Int)), .int (zI 0), .null, .null, .null, .null, .null, .null])), (q5, .inl (c5, 14, .inl (fun j => zI (((fun _ => 0 : Nat → Nat) j : Nat) : Int))))] H := hP
  have hD : va_D A [(h0, .inr (0, [.int (zI ((0 : Nat) : Int)), .int (zI ((0 : Nat) : Int)), .int (zI 0), .int (zI ((0 : Nat) : Int)), .int (zI 0), .null, .null, .null, .null, .null, .null])), (q5, .inl (c5, 14, .inl (fun j => zI (((fun _ => 0 : Nat → Nat) j : Nat) : Int))))] := hD
  have hK : va_K D vwCl [(c5, .byte)] s := hK
  refine va_putF (D := D) (ci := 0) (v := .ref q5) (ty := .array .byte) (C := RX0) (T := TX0) (N := 11) hx hb hts in_X0 tyX0 tyX0_ok nmX0 hown hK hP hD hS 0 rfl rfl 5 (by decide) (hts _ q76) (fun _ h9 => h9) rfl hin rfl (by decide +kernel) rfl rfl (Nat.le_of_ble_eq_true rfl) dX0_init_9 (fun H locs hP hD hS => ?_)
  have hP : va_P D vwCl [(h0, .inr (0, [.int (zI ((0 : Nat) : Int)), .int (zI ((0 : Nat) : Int)), .int (zI 0), .int (zI ((0 : Nat) : Int)), .int (zI 0), .ref q5, .null, .null, .null, .null, .null])), (q5, .inl (c5, 14, .inl (fun j => zI (((fun _ => 0 : Nat → Nat) j : Nat) : Int))))] H := hP
  have hD : va_D A [(h0, .inr (0, [.int (zI ((0 : Nat) : Int)), .int (zI ((0 : Nat) : Int)), .int (zI 0), .int (zI ((0 : Nat) : Int)), .int (zI 0), .ref q5, .null, .null, .null, .null, .null])), (q5, .inl (c5, 14, .inl (fun j => zI (((fun _ => 0 : Nat → Nat) j : Nat) : Int))))] := hD
  refine lv_aload_n hx hb dX0_init_12 rfl (lv_at hl 0 rfl) ?_
  refine lv_bipush (v := zI 14) hx hb dX0_init_13 (by decide +kernel) ?_
  refine va_newa (atype := .byte) (ty := .byte) hx hb (hts _ q105) rfl hK hP hD hS hA (n := zI 14) (N' := 14) (a0 := (14, .inl (fun j => zI (((fun _ => 0 : Nat → Nat) j : Nat) : Int)))) (ko_z0 rfl 14) (by decide +kernel) (by decide +kernel) (by decide +kernel) (Nat.le_of_ble_eq_true rfl) (Nat.le_of_ble_eq_true rfl) dX0_init_15 (fun q6 c6 H hK hP hD hS => ?_)
  have hP : va_P D vwCl [(h0, .inr (0, [.int (zI ((0 : Nat) : Int)), .int (zI ((0 : Nat) : Int)), .int (zI 0), .int (zI ((0 : Nat) : Int)), .int (zI 0), .ref q5, .null, .null, .null, .null, .null])), (q5, .inl (c5, 14, .inl (fun j => zI (((fun _ => 0 : Nat → Nat) j : Nat) : Int)))), (q6, .inl (c6, 14, .inl (fun j => zI (((fun _ => 0 : Nat → Nat) j : Nat) : Int))))] H := hP
  have hD : va_D A [(h0, .inr (0, [.int (zI ((0 : Nat) : Int)), .int (zI ((0 : Nat) : Int)), .int (zI 0), .int (zI ((0 : Nat) : Int)), .int (zI 0), .ref q5, .null, .null, .null, .null, .null])), (q5, .inl (c5, 14, .inl (fun j => zI (((fun _ => 0 : Nat → Nat) j : Nat) : Int)))), (q6, .inl (c6, 14, .inl (fun j => zI (((fun _ => 0 : Nat → Nat) j : Nat) : Int))))] := hD
  have hK : va_K D vwCl [(c5, .byte), (c6, .byte)] s := hK
  refine va_putF (D := D) (ci := 0) (v := .ref q6) (ty := .array .byte) (C := RX0) (T := TX0) (N := 11) hx hb hts in_X0 tyX0 tyX0_ok nmX0 hown hK hP hD hS 0 rfl rfl 6 (by decide) (hts _ q77) (fun _ h9 => h9) rfl hin rfl (by decide +kernel) rfl rfl (Nat.le_of_ble_eq_true rfl) dX0_init_17 (fun H locs hP hD hS => ?_)
  have hP : va_P D vwCl [(h0, .inr (0, [.int (zI ((0 : Nat) : Int)), .int (zI ((0 : Nat) : Int)), .int (zI 0), .int (zI ((0 : Nat) : Int)), .int (zI 0), .ref q5, .ref q6, .null, .null, .null, .null])), (q5, .inl (c5, 14, .inl (fun j => zI (((fun _ => 0 : Nat → Nat) j : Nat) : Int)))), (q6, .inl (c6, 14, .inl (fun j => zI (((fun _ => 0 : Nat → Nat) j : Nat) : Int))))] H := hP
  have hD : va_D A [(h0, .inr (0, [.int (zI ((0 : Nat) : Int)), .int (zI ((0 : Nat) : Int)), .int (zI 0), .int (zI ((0 : Nat) : Int)), .int (zI 0), .ref q5, .ref q6, .null, .null, .null, .null])), (q5, .inl (c5, 14, .inl (fun j => zI (((fun _ => 0 : Nat → Nat) j : Nat) : Int)))), (q6, .inl (c6, 14, .inl (fun j => zI (((fun _ => 0 : Nat → Nat) j : Nat) : Int))))] := hD
  refine lv_aload_n hx hb dX0_init_20 rfl (lv_at hl 0 rfl) ?_
  refine lv_bipush (v := zI 64) hx hb dX0_init_21 (by decide +kernel) ?_
  refine va_newa (atype := .int) (ty := .int) hx hb (hts _ q106) rfl hK hP hD hS hA (n := zI 64) (N' := 64) (a0 := (64, .inl (fun j => zI (((fun _ => 0 : Nat → Nat) j : Nat) : Int)))) (ko_z0 rfl 64) (by decide +kernel) (by decide +kernel) (by decide +kernel) (Nat.le_of_ble_eq_true rfl) (Nat.le_of_ble_eq_true rfl) dX0_init_23 (fun q7 c7 H hK hP hD hS => ?_)
  have hP : va_P D vwCl [(h0, .inr (0, [.int (zI ((0 : Nat) : Int)), .int (zI ((0 : Nat) : Int)), .int (zI 0), .int (zI ((0 : Nat) : Int)), .int (zI 0), .ref q5, .ref q6, .null, .null, .null, .null])), (q5, .inl (c5, 14, .inl (fun j => zI (((fun _ => 0 : Nat → Nat) j : Nat) : Int)))), (q6, .inl (c6, 14, .inl (fun j => zI (((fun _ => 0 : Nat → Nat) j : Nat) : Int)))), (q7, .inl (c7, 64, .inl (fun j => zI (((fun _ => 0 : Nat → Nat) j : Nat) : Int))))] H := hP
  have hD : va_D A [(h0, .inr (0, [.int (zI ((0 : Nat) : Int)), .int (zI ((0 : Nat) : Int)), .int (zI 0), .int (zI ((0 : Nat) : Int)), .int (zI 0), .ref q5, .ref q6, .null, .null, .null, .null])), (q5, .inl (c5, 14, .inl (fun j => zI (((fun _ => 0 : Nat → Nat) j : Nat) : Int)))), (q6, .inl (c6, 14, .inl (fun j => zI (((fun _ => 0 : Nat → Nat) j : Nat) : Int)))), (q7, .inl (c7, 64, .inl (fun j => zI (((fun _ => 0 : Nat → Nat) j : Nat) : Int))))] := hD
  have hK : va_K D vwCl [(c5, .byte), (c6, .byte), (c7, .int)] s := hK
  refine va_putF (D := D) (ci := 0) (v := .ref q7) (ty := .array .int) (C := RX0) (T := TX0) (N := 11) hx hb hts in_X0 tyX0 tyX0_ok nmX0 hown hK hP hD hS 0 rfl rfl 7 (by decide) (hts _ q78) (fun _ h9 => h9) rfl hin rfl (by decide +kernel) rfl rfl (Nat.le_of_ble_eq_true rfl) dX0_init_25 (fun H locs hP hD hS => ?_)
  have hP : va_P D vwCl [(h0, .inr (0, [.int (zI ((0 : Nat) : Int)), .int (zI ((0 : Nat) : Int)), .int (zI 0), .int (zI ((0 : Nat) : Int)), .int (zI 0), .ref q5, .ref q6, .ref q7, .null, .null, .null])), (q5, .inl (c5, 14, .inl (fun j => zI (((fun _ => 0 : Nat → Nat) j : Nat) : Int)))), (q6, .inl (c6, 14, .inl (fun j => zI (((fun _ => 0 : Nat → Nat) j : Nat) : Int)))), (q7, .inl (c7, 64, .inl (fun j => zI (((fun _ => 0 : Nat → Nat) j : Nat) : Int))))] H := hP
  have hD : va_D A [(h0, .inr (0, [.int (zI ((0 : Nat) : Int)), .int (zI ((0 : Nat) : Int)), .int (zI 0), .int (zI ((0 : Nat) : Int)), .int (zI 0), .ref q5, .ref q6, .ref q7, .null, .null, .null])), (q5, .inl (c5, 14, .inl (fun j => zI (((fun _ => 0 : Nat → Nat) j : Nat) : Int)))), (q6, .inl (c6, 14, .inl (fun j => zI (((fun _ => 0 : Nat → Nat) j : Nat) : Int)))), (q7, .inl (c7, 64, .inl (fun j => zI (((fun _ => 0 : Nat → Nat) j : Nat) : Int))))] := hD
  refine lv_aload_n hx hb dX0_init_28 rfl (lv_at hl 0 rfl) ?_
  refine lv_sipush (v := zI 128) hx hb dX0_init_29 (by decide +kernel) ?_
  refine va_newa (atype := .int) (ty := .int) hx hb (hts _ q106) rfl hK hP hD hS hA (n := zI 128) (N' := 128) (a0 := (128, .inl (fun j => zI (((fun _ => 0 : Nat → Nat) j : Nat) : Int)))) (ko_z0 rfl 128) (by decide +kernel) (by decide +kernel) (by decide +kernel) (Nat.le_of_ble_eq_true rfl) (Nat.le_of_ble_eq_true rfl) dX0_init_32 (fun q8 c8 H hK hP hD hS => ?_)
  have hP : va_P D vwCl [(h0, .inr (0, [.int (zI ((0 : Nat) : Int)), .int (zI ((0 : Nat) : Int)), .int (zI 0), .int (zI ((0 : Nat) : Int)), .int (zI 0), .ref q5, .ref q6, .ref q7, .null, .null, .null])), (q5, .inl (c5, 14, .inl (fun j => zI (((fun _ => 0 : Nat → Nat) j : Nat) : Int)))), (q6, .inl (c6, 14, .inl (fun j => zI (((fun _ => 0 : Nat → Nat) j : Nat) : Int)))), (q7, .inl (c7, 64, .inl (fun j => zI (((fun _ => 0 : Nat → Nat) j : Nat) : Int)))), (q8, .inl (c8, 128, .inl (fun j => zI (((fun _ => 0 : Nat → Nat) j : Nat) : Int))))] H := hP
  have hD : va_D A [(h0, .inr (0, [.int (zI ((0 : Nat) : Int)), .int (zI ((0 : Nat) : Int)), .int (zI 0), .int (zI ((0 : Nat) : Int)), .int (zI 0), .ref q5, .ref q6, .ref q7, .null, .null, .null])), (q5, .inl (c5, 14, .inl (fun j => zI (((fun _ => 0 : Nat → Nat) j : Nat) : Int)))), (q6, .inl (c6, 14, .inl (fun j => zI (((fun _ => 0 : Nat → Nat) j : Nat) : Int)))), (q7, .inl (c7, 64, .inl (fun j => zI (((fun _ => 0 : Nat → Nat) j : Nat) : Int)))), (q8, .inl (c8, 128, .inl (fun j => zI (((fun _ => 0 : Nat → Nat) j : Nat) : Int))))] := hD
  have hK : va_K D vwCl [(c5, .byte), (c6, .byte), (c7, .int), (c8, .int)] s := hK
  refine va_putF (D := D) (ci := 0) (v := .ref q8) (ty := .array .int) (C := RX0) (T := TX0) (N := 11) hx hb hts in_X0 tyX0 tyX0_ok nmX0 hown hK hP hD hS 0 rfl rfl 8 (by decide) (hts _ q79) (fun _ h9 => h9) rfl hin rfl (by decide +kernel) rfl rfl (Nat.le_of_ble_eq_true rfl) dX0_init_34 (fun H locs hP hD hS => ?_)
  have hP : va_P D vwCl [(h0, .inr (0, [.int (zI ((0 : Nat) : Int)), .int (zI ((0 : Nat) : Int)), .int (zI 0), .int (zI ((0 : Nat) : Int)), .int (zI 0), .ref q5, .ref q6, .ref q7, .ref q8, .null, .null])), (q5, .inl (c5, 14, .inl (fun j => zI (((fun _ => 0 : Nat → Nat) j : Nat) : Int)))), (q6, .inl (c6, 14, .inl (fun j => zI (((fun _ => 0 : Nat → Nat) j : Nat) : Int)))), (q7, .inl (c7, 64, .inl (fun j => zI (((fun _ => 0 : Nat → Nat) j : Nat) : Int)))), (q8, .inl (c8, 128, .inl (fun j => zI (((fun _ => 0 : Nat → Nat) j : Nat) : Int))))] H := hP
  have hD : va_D A [(h0, .inr (0, [.int (zI ((0 : Nat) : Int)), .int (zI ((0 : Nat) : Int)), .int (zI 0), .int (zI ((0 : Nat) : Int)), .int (zI 0), .ref q5, .ref q6, .ref q7, .ref q8, .null, .null])), (q5, .inl (c5, 14, .inl (fun j => zI (((fun _ => 0 : Nat → Nat) j : Nat) : Int)))), (q6, .inl (c6, 14, .inl (fun j => zI (((fun _ => 0 : Nat → Nat) j : Nat) : Int)))), (q7, .inl (c7, 64, .inl (fun j => zI (((fun _ => 0 : Nat → Nat) j : Nat) : Int)))), (q8, .inl (c8, 128, .inl (fun j => zI (((fun _ => 0 : Nat → Nat) j : Nat) : Int))))] := hD
  refine lv_aload_n hx hb dX0_init_37 rfl (lv_at hl 0 rfl) ?_
  refine lv_bipush (v := zI 64) hx hb dX0_init_38 (by decide +kernel) ?_
  refine va_newa (atype := .int) (ty := .int) hx hb (hts _ q106) rfl hK hP hD hS hA (n := zI 64) (N' := 64) (a0 := (64, .inl (fun j => zI (((fun _ => 0 : Nat → Nat) j : Nat) : Int)))) (ko_z0 rfl 64) (by decide +kernel) (by decide +kernel) (by decide +kernel) (Nat.le_of_ble_eq_true rfl) (Nat.le_of_ble_eq_true rfl) dX0_init_40 (fun q9 c9 H hK hP hD hS => ?_)
  have hP : va_P D vwCl [(h0, .inr (0, [.int (zI ((0 : Nat) : Int)), .int (zI ((0 : Nat) : Int)), .int (zI 0), .int (zI ((0 : Nat) : Int)), .int (zI 0), .ref q5, .ref q6, .ref q7, .ref q8, .null, .null])), (q5, .inl (c5, 14, .inl (fun j => zI (((fun _ => 0 : Nat → Nat) j : Nat) : Int)))), (q6, .inl (c6, 14, .inl (fun j => zI (((fun _ => 0 : Nat → Nat) j : Nat) : Int)))), (q7, .inl (c7, 64, .inl (fun j => zI (((fun _ => 0 : Nat → Nat) j : Nat) : Int)))), (q8, .inl (c8, 128, .inl (fun j => zI (((fun _ => 0 : Nat → Nat) j : Nat) : Int)))), (q9, .inl (c9, 64, .inl (fun j => zI (((fun _ => 0 : Nat → Nat) j : Nat) : Int))))] H := hP
  have hD : va_D A [(h0, .inr (0, [.int (zI ((0 : Nat) : Int)), .int (zI ((0 : Nat) : Int)), .int (zI 0), .int (zI ((0 : Nat) : Int)), .int (zI 0), .ref q5, .ref q6, .ref q7, .ref q8, .null, .null])), (q5, .inl (c5, 14, .inl (fun j => zI (((fun _ => 0 : Nat → Nat) j : Nat) : Int)))), (q6, .inl (c6, 14, .inl (fun j => zI (((fun _ => 0 : Nat → Nat) j : Nat) : Int)))), (q7, .inl (c7, 64, .inl (fun j => zI (((fun _ => 0 : Nat → Nat) j : Nat) : Int)))), (q8, .inl (c8, 128, .inl (fun j => zI (((fun _ => 0 : Nat → Nat) j : Nat) : Int)))), (q9, .inl (c9, 64, .inl (fun j => zI (((fun _ => 0 : Nat → Nat) j : Nat) : Int))))] := hD
  have hK : va_K D vwCl [(c5, .byte), (c6, .byte), (c7, .int), (c8, .int), (c9, .int)] s := hK
  refine va_putF (D := D) (ci := 0) (v := .ref q9) (ty := .array .int) (C := RX0) (T := TX0) (N := 11) hx hb hts in_X0 tyX0 tyX0_ok nmX0 hown hK hP hD hS 0 rfl rfl 9 (by decide) (hts _ q80) (fun _ h9 => h9) rfl hin rfl (by decide +kernel) rfl rfl (Nat.le_of_ble_eq_true rfl) dX0_init_42 (fun H locs hP hD hS => ?_)
  have hP : va_P D vwCl [(h0, .inr (0, [.int (zI ((0 : Nat) : Int)), .int (zI ((0 : Nat) : Int)), .int (zI 0), .int (zI ((0 : Nat) : Int)), .int (zI 0), .ref q5, .ref q6, .ref q7, .ref q8, .ref q9, .null])), (q5, .inl (c5, 14, .inl (fun j => zI (((fun _ => 0 : Nat → Nat) j : Nat) : Int)))), (q6, .inl (c6, 14, .inl (fun j => zI (((fun _ => 0 : Nat → Nat) j : Nat) : Int)))), (q7, .inl (c7, 64, .inl (fun j => zI (((fun _ => 0 : Nat → Nat) j : Nat) : Int)))), (q8, .inl (c8, 128, .inl (fun j => zI (((fun _ => 0 : Nat → Nat) j : Nat) : Int)))), (q9, .inl (c9, 64, .inl (fun j => zI (((fun _ => 0 : Nat → Nat) j : Nat) : Int))))] H := hP
  have hD : va_D A [(h0, .inr (0, [.int (zI ((0 : Nat) : Int)), .int (zI ((0 : Nat) : Int)), .int (zI 0), .int (zI ((0 : Nat) : Int)), .int (zI 0), .ref q5, .ref q6, .ref q7, .ref q8, .ref q9, .null])), (q5, .inl (c5, 14, .inl (fun j => zI (((fun _ => 0 : Nat → Nat) j : Nat) : Int)))), (q6, .inl (c6, 14, .inl (fun j => zI (((fun _ => 0 : Nat → Nat) j : Nat) : Int)))), (q7, .inl (c7, 64, .inl (fun j => zI (((fun _ => 0 : Nat → Nat) j : Nat) : Int)))), (q8, .inl (c8, 128, .inl (fun j => zI (((fun _ => 0 : Nat → Nat) j : Nat) : Int)))), (q9, .inl (c9, 64, .inl (fun j => zI (((fun _ => 0 : Nat → Nat) j : Nat) : Int))))] := hD
  refine lv_aload_n hx hb dX0_init_45 rfl (lv_at hl 0 rfl) ?_
  refine lv_bipush (v := zI 8) hx hb dX0_init_46 (by decide +kernel) ?_
  refine va_newa (atype := .int) (ty := .int) hx hb (hts _ q106) rfl hK hP hD hS hA (n := zI 8) (N' := 8) (a0 := (8, .inl (fun j => zI (((fun _ => 0 : Nat → Nat) j : Nat) : Int)))) (ko_z0 rfl 8) (by decide +kernel) (by decide +kernel) (by decide +kernel) (Nat.le_of_ble_eq_true rfl) (Nat.le_of_ble_eq_true rfl) dX0_init_48 (fun q10 c10 H hK hP hD hS => ?_)
  have hP : va_P D vwCl [(h0, .inr (0, [.int (zI ((0 : Nat) : Int)), .int (zI ((0 : Nat) : Int)), .int (zI 0), .int (zI ((0 : Nat) : Int)), .int (zI 0), .ref q5, .ref q6, .ref q7, .ref q8, .ref q9, .null])), (q5, .inl (c5, 14, .inl (fun j => zI (((fun _ => 0 : Nat → Nat) j : Nat) : Int)))), (q6, .inl (c6, 14, .inl (fun j => zI (((fun _ => 0 : Nat → Nat) j : Nat) : Int)))), (q7, .inl (c7, 64, .inl (fun j => zI (((fun _ => 0 : Nat → Nat) j : Nat) : Int)))), (q8, .inl (c8, 128, .inl (fun j => zI (((fun _ => 0 : Nat → Nat) j : Nat) : Int)))), (q9, .inl (c9, 64, .inl (fun j => zI (((fun _ => 0 : Nat → Nat) j : Nat) : Int)))), (q10, .inl (c10, 8, .inl (fun j => zI (((fun _ => 0 : Nat → Nat) j : Nat) : Int))))] H := hP
  have hD : va_D A [(h0, .inr (0, [.int (zI ((0 : Nat) : Int)), .int (zI ((0 : Nat) : Int)), .int (zI 0), .int (zI ((0 : Nat) : Int)), .int (zI 0), .ref q5, .ref q6, .ref q7, .ref q8, .ref q9, .null])), (q5, .inl (c5, 14, .inl (fun j => zI (((fun _ => 0 : Nat → Nat) j : Nat) : Int)))), (q6, .inl (c6, 14, .inl (fun j => zI (((fun _ => 0 : Nat → Nat) j : Nat) : Int)))), (q7, .inl (c7, 64, .inl (fun j => zI (((fun _ => 0 : Nat → Nat) j : Nat) : Int)))), (q8, .inl (c8, 128, .inl (fun j => zI (((fun _ => 0 : Nat → Nat) j : Nat) : Int)))), (q9, .inl (c9, 64, .inl (fun j => zI (((fun _ => 0 : Nat → Nat) j : Nat) : Int)))), (q10, .inl (c10, 8, .inl (fun j => zI (((fun _ => 0 : Nat → Nat) j : Nat) : Int))))] := hD
  have hK : va_K D vwCl [(c5, .byte), (c6, .byte), (c7, .int), (c8, .int), (c9, .int), (c10, .int)] s := hK
  refine va_putF (D := D) (ci := 0) (v := .ref q10) (ty := .array .int) (C := RX0) (T := TX0) (N := 11) hx hb hts in_X0 tyX0 tyX0_ok nmX0 hown hK hP hD hS 0 rfl rfl 10 (by decide) (hts _ q81) (fun _ h9 => h9) rfl hin rfl (by decide +kernel) rfl rfl (Nat.le_of_ble_eq_true rfl) dX0_init_50 (fun H locs hP hD hS => ?_)
  have hP : va_P D vwCl [(h0, .inr (0, [.int (zI ((0 : Nat) : Int)), .int (zI ((0 : Nat) : Int)), .int (zI 0), .int (zI ((0 : Nat) : Int)), .int (zI 0), .ref q5, .ref q6, .ref q7, .ref q8, .ref q9, .ref q10])), (q5, .inl (c5, 14, .inl (fun j => zI (((fun _ => 0 : Nat → Nat) j : Nat) : Int)))), (q6, .inl (c6, 14, .inl (fun j => zI (((fun _ => 0 : Nat → Nat) j : Nat) : Int)))), (q7, .inl (c7, 64, .inl (fun j => zI (((fun _ => 0 : Nat → Nat) j : Nat) : Int)))), (q8, .inl (c8, 128, .inl (fun j => zI (((fun _ => 0 : Nat → Nat) j : Nat) : Int)))), (q9, .inl (c9, 64, .inl (fun j => zI (((fun _ => 0 : Nat → Nat) j : Nat) : Int)))), (q10, .inl (c10, 8, .inl (fun j => zI (((fun _ => 0 : Nat → Nat) j : Nat) : Int))))] H := hP
  have hD : va_D A [(h0, .inr (0, [.int (zI ((0 : Nat) : Int)), .int (zI ((0 : Nat) : Int)), .int (zI 0), .int (zI ((0 : Nat) : Int)), .int (zI 0), .ref q5, .ref q6, .ref q7, .ref q8, .ref q9, .ref q10])), (q5, .inl (c5, 14, .inl (fun j => zI (((fun _ => 0 : Nat → Nat) j : Nat) : Int)))), (q6, .inl (c6, 14, .inl (fun j => zI (((fun _ => 0 : Nat → Nat) j : Nat) : Int)))), (q7, .inl (c7, 64, .inl (fun j => zI (((fun _ => 0 : Nat → Nat) j : Nat) : Int)))), (q8, .inl (c8, 128, .inl (fun j => zI (((fun _ => 0 : Nat → Nat) j : Nat) : Int)))), (q9, .inl (c9, 64, .inl (fun j => zI (((fun _ => 0 : Nat → Nat) j : Nat) : Int)))), (q10, .inl (c10, 8, .inl (fun j => zI (((fun _ => 0 : Nat → Nat) j : Nat) : Int))))] := hD
  have ec : c5 = c6 := Option.some.inj ((hK.2 0 _ rfl).2.symm.trans (hK.2 1 _ rfl).2)
  have e8 : c7 = c8 := Option.some.inj ((hK.2 2 _ rfl).2.symm.trans (hK.2 3 _ rfl).2)
  have e9 : c7 = c9 := Option.some.inj ((hK.2 2 _ rfl).2.symm.trans (hK.2 4 _ rfl).2)
  have e10 : c7 = c10 := Option.some.inj ((hK.2 2 _ rfl).2.symm.trans (hK.2 5 _ rfl).2)
  subst ec
  subst e8
  subst e9
  subst e10
  obtain ⟨E, hE⟩ : ∃ E : EX, E = (ko_ad h0 q5 q6 q7 q8 q9 q10, (c5, c7), D) := ⟨_, rfl⟩
  have hP : va_P E.2.2 vwCl (wT E (0, 0, 0, 0, 0, (fun _ => 0), (fun _ => 0)) ((fun _ => 0), (fun _ => 0), (fun _ => 0), (fun _ => 0))) H := by rw [hE]; exact hP
  have hD : va_D A (wT E (0, 0, 0, 0, 0, (fun _ => 0), (fun _ => 0)) ((fun _ => 0), (fun _ => 0), (fun _ => 0), (fun _ => 0))) := by rw [hE]; exact hD
  have hK2 : va_K E.2.2 vwCl (tyX E) s := by rw [hE]; exact hK.sub [0, 2] rfl
  have F : FX p s m meth c cX0_init 1 none ([.ref h0] : List Value).toArray A E := ⟨hx, hb, hml, hown, hts, hr, hlk, hA, hK2⟩
  have hH : HT E s A (0, 0, 0, 0, 0, (fun _ => 0), (fun _ => 0)) ((fun _ => 0), (fun _ => 0), (fun _ => 0), (fun _ => 0)) H locs := ⟨hP, hD, hS⟩
  have hE0 : E.1 0 = h0 := by rw [hE]; rfl
  have hED : E.2.2 = D := by rw [hE]
  rw [← hE0] at hl
  refine lv_aload_n hx hb dX0_init_53 rfl (lv_at hl 0 rfl) ?_
  refine CtT.call (n := 0) (cX_fillTables l E 0 0 0 0 0 (fun _ => 0) (fun _ => 0)) F hH (lw_V q27 q29 qs0 q17 q30) (by decide +kernel) ⟨Nat.le_of_ble_eq_true rfl, Nat.le_of_ble_eq_true rfl⟩ rfl hl.1 rfl (Nat.le_of_ble_eq_true rfl) dX0_init_54 ⟨Nat.le_of_ble_eq_true rfl, Nat.le_of_ble_eq_true rfl⟩ (fun H locs hH => ?_)
  have hH : HX E s A (0, 0, 0, 0, 0, (fun _ => 0), (fun _ => 0)) H locs := hH
  refine lv_aload_n hx hb dX0_init_57 rfl (lv_at hl 0 rfl) ?_
  refine lv_iconst (v := zI 1) hx hb dX0_init_58 (by decide +kernel) ?_
  refine lv_iconst (v := zI 3) hx hb dX0_init_59 (by decide +kernel) ?_
  refine lv_iconst (v := zI 0) hx hb dX0_init_60 (by decide +kernel) ?_
  refine CtX.call (n := 3) (cX_choose l E 0 0 0 0 0 (fun _ => 0) (fun _ => 0) 1 3 0 (fun _ => by decide) (by decide) (by decide) (by decide)) F hH (lw_V q31 q32 q33 q17 q34) (by decide +kernel) ⟨Nat.le_of_ble_eq_true rfl, Nat.le_of_ble_eq_true rfl⟩ rfl hl.1 rfl (Nat.le_of_ble_eq_true rfl) dX0_init_61 ⟨Nat.le_of_ble_eq_true rfl, Nat.le_of_ble_eq_true rfl⟩ (fun z9 v9 H locs hp hH => ?_)
  refine lv_pop hx hb dX0_init_64 rfl ?_
  obtain ⟨hn, -⟩ | ⟨-, -, ch2, cu2, x2, rfl, h82, hi2⟩ := hp
  · exact absurd (by decide) hn
  obtain ⟨hP, hD, hS⟩ := hH
  have hini : iniX h0 D (E, ((1 : Int).toNat, (3 : Int).toNat, ch2, ko_len (1 : Int).toNat (3 : Int).toNat (0 : Int).toNat, cu2, x2, (fun _ => 0))) := by
    refine ⟨hE0, hED, ch2, x2, (fun _ => 0), ?_, h82, fun _ => (by decide : (0 : Nat) < 8), ?_⟩
    · rcases hi2 with ⟨h1, -⟩ | ⟨-, -, -, h4⟩
      · exact absurd h1 (by decide +kernel)
      · rw [h4]; rfl
    · rcases hi2 with ⟨h1, -⟩ | ⟨-, h2, h3, h4⟩
      · exact absurd h1 (by decide +kernel)
      · refine ⟨h2, ?_⟩
        have h5 : ((ko_rk 1 3 3 x2 3 : Nat) : Int) = 0 := by rw [← h4]; exact h3.symm
        omega
  refine W.widen (k := 6) (n := 292) (Nat.le_of_ble_eq_true rfl) (Nat.le_of_ble_eq_true rfl) ?_
  exact W.vret hx hb hr (fun t ht hW => ⟨⟨(E, _), rfl, hini, by rw [ht]; exact hP, va_K.moved hW.alike hK2, hD⟩, hS.F ht⟩) hS.2.2 dX0_init_65 hlk
end
section
set_option maxRecDepth 100000
/-! the reference's levels: all beginnings of i items, as numbers to base 8 -/
def ko_tc (s i c : Nat) : Nat := ko_tau s (ko_dig i c) i
def ko_brn (s n L i c : Nat) : List Nat := ((List.range 8).filter (fun y => ko_ok s n L i (ko_tc s i c) y)).map (fun y => 8 * c + y)
def ko_lev (s n L : Nat) : Nat → List Nat
  | 0 => [0]
  | i + 1 => (ko_lev s n L i).flatMap (ko_brn s n L i)
theorem ko_tc_s {s i c y : Nat} (hy : y < 8) : ko_tc s (i + 1) (8 * c + y) = ko_nx s (ko_tc s i c) y := by
  show ko_nx s (ko_tau s (ko_dig (i + 1) (8 * c + y)) i) (ko_dig (i + 1) (8 * c + y) i) = _
  have e1 : ko_dig (i + 1) (8 * c + y) i = y := by
    unfold ko_dig
    rw [show i + 1 - 1 - i = 0 by omega, Nat.pow_zero, Nat.div_one]
    omega
  have e2 : ko_tau s (ko_dig (i + 1) (8 * c + y)) i = ko_tc s i c := by
    refine ko_tau_ext i (fun j hj => ?_)
    unfold ko_dig
    rw [show i + 1 - 1 - j = (i - 1 - j) + 1 by omega, Nat.pow_succ, Nat.mul_comm (8 ^ (i - 1 - j)) 8, ← Nat.div_div_eq_div_mul, show (8 * c + y) / 8 = c by omega]
  rw [e1, e2]
theorem ko_tc_0 (s c : Nat) : ko_tc s 0 c = 0 := rfl
theorem ko_brn_mem {s n L i c e : Nat} (h : e ∈ ko_brn s n L i c) : ∃ y, y < 8 ∧ ko_ok s n L i (ko_tc s i c) y = true ∧ e = 8 * c + y := by
  unfold ko_brn at h
  obtain ⟨y, hy, rfl⟩ := List.mem_map.mp h
  obtain ⟨h1, h2⟩ := List.mem_filter.mp hy
  exact ⟨y, List.mem_range.mp h1, h2, rfl⟩
theorem ko_lev_mem {s n L : Nat} (hc : ko_cfg s n L = true) (hl : s = 4 → 0 < L) : ∀ i, i ≤ L → ∀ c ∈ ko_lev s n L i, c < 8 ^ i ∧ ko_rch s n L i (ko_tc s i c) = true := by
  intro i
  induction i with
  | zero =>
    intro _ c h
    rw [show ko_lev s n L 0 = [0] from rfl, List.mem_singleton] at h
    subst h
    exact ⟨Nat.one_pos, ko_rch_0 hc hl⟩
  | succ i ih =>
    intro hi c h
    obtain ⟨b, hb, h⟩ := List.mem_flatMap.mp h
    obtain ⟨y, hy, hk, rfl⟩ := ko_brn_mem h
    obtain ⟨h1, h2⟩ := ih (by omega) b hb
    refine ⟨by rw [Nat.pow_succ]; omega, ?_⟩
    rw [ko_tc_s hy]
    exact ko_rch_nx hc (by omega) h2 hy hk
theorem ko_flt {α β : Type} (l : List α) (p : α → Bool) (g : α → β) (h : β → List Nat) : ((l.filter p).map g).flatMap h = l.flatMap (fun y => if p y = true then h (g y) else []) := by
  induction l with
  | nil => rfl
  | cons a l ih =>
    rw [List.flatMap_cons, ← ih, List.filter_cons]
    by_cases hp : p a = true
    · simp [hp]
    · simp [hp]
theorem ko_fm {α : Type} {l : List α} {f g : α → List Nat} (h : ∀ a ∈ l, f a = g a) : l.flatMap f = l.flatMap g := by
  induction l with
  | nil => rfl
  | cons a l ih => rw [List.flatMap_cons, List.flatMap_cons, h a List.mem_cons_self, ih (fun b hb => h b (List.mem_cons_of_mem _ hb))]
theorem ko_lev_sub {s n L : Nat} : ∀ i, i ≤ L → (ko_lev s n L i).flatMap (fun c => ko_sub s n L (L - i) i (ko_tc s i c) c) = ko_sub s n L L 0 0 0 := by
  intro i
  induction i with
  | zero => intro _; simp [ko_lev, ko_tc_0]
  | succ i ih =>
    intro hi
    rw [← ih (by omega)]
    show ((ko_lev s n L i).flatMap (ko_brn s n L i)).flatMap _ = _
    rw [List.flatMap_assoc]
    congr 1
    funext c
    rw [show L - i = (L - (i + 1)) + 1 by omega, ko_sub_s]
    unfold ko_brn
    rw [ko_flt]
    refine ko_fm (fun y hy => ?_)
    unfold ko_blk
    rw [ko_tc_s (List.mem_range.mp hy)]
theorem ko_lev_end {s n L : Nat} : ko_lev s n L L = ko_sub s n L L 0 0 0 := by
  have h := ko_lev_sub (s := s) (n := n) (L := L) L (Nat.le_refl L)
  rw [← h, Nat.sub_self]
  show _ = (ko_lev s n L L).flatMap (fun c => [c])
  rw [List.flatMap_singleton']
theorem ko_flat_len {α : Type} (l : List α) (F : α → List Nat) (h : ∀ c ∈ l, 1 ≤ (F c).length) : l.length ≤ (l.flatMap F).length := by
  induction l with
  | nil => exact Nat.le_refl _
  | cons a l ih =>
    rw [List.flatMap_cons, List.length_append, List.length_cons]
    have h1 := h a List.mem_cons_self
    have h2 := ih (fun c hc => h c (List.mem_cons_of_mem _ hc))
    omega
def ko_pos (s b : Nat) : Bool := (List.range 8).all fun n => (List.range 15).all fun L => !(ko_cfg s n L) || ((List.range (L + 1)).all fun i => (List.range b).all fun t => !(ko_rch s n L i t) || decide (0 < ko_g s n L i t) || (s == 4 && L == 0))
theorem ko_pos1 : ko_pos 1 128 = true := by decide +kernel
theorem ko_pos2 : ko_pos 2 8 = true := by decide +kernel
theorem ko_pos3 : ko_pos 3 8 = true := by decide +kernel
theorem ko_pos4 : ko_pos 4 8 = true := by decide +kernel
theorem ko_pos_of {s b : Nat} (h : ko_pos s b = true) {n L i t : Nat} (hc : ko_cfg s n L = true) (hl : s = 4 → 0 < L) (hi : i ≤ L) (ht : t < b) (hr : ko_rch s n L i t = true) : 0 < ko_g s n L i t := by
  obtain ⟨-, -, h3, h4, -⟩ := ko_cfg_b hc
  have h1 := List.all_eq_true.mp h n (List.mem_range.mpr (by omega))
  have h2 := List.all_eq_true.mp h1 L (List.mem_range.mpr (by omega))
  rw [hc] at h2
  simp only [Bool.not_true, Bool.false_or] at h2
  have h5 := List.all_eq_true.mp (List.all_eq_true.mp h2 i (List.mem_range.mpr (by omega))) t (List.mem_range.mpr ht)
  rw [hr] at h5
  simp only [Bool.not_true, Bool.false_or, Bool.or_eq_true, Bool.and_eq_true, beq_iff_eq, decide_eq_true_eq] at h5
  rcases h5 with h5 | ⟨h6, h7⟩
  · exact h5
  · have := hl h6
    omega
theorem ko_g_pos {s n L i t : Nat} (h0 : s ≠ 0) (hc : ko_cfg s n L = true) (hl : s = 4 → 0 < L) (hi : i ≤ L) (hr : ko_rch s n L i t = true) : 0 < ko_g s n L i t := by
  obtain ⟨h1, h2⟩ := ko_rch_b hc hi hr
  obtain ⟨hs, -⟩ := ko_cfg_b hc
  have : s = 1 ∨ s = 2 ∨ s = 3 ∨ s = 4 := by omega
  rcases this with rfl | rfl | rfl | rfl
  · exact ko_pos_of ko_pos1 hc hl hi (h2 rfl) hr
  · exact ko_pos_of ko_pos2 hc hl hi (h1 (by decide)) hr
  · exact ko_pos_of ko_pos3 hc hl hi (h1 (by decide)) hr
  · exact ko_pos_of ko_pos4 hc hl hi (h1 (by decide)) hr
theorem ko_lev_L (n L M : Nat) : ∀ i, ko_lev 0 n L i = ko_lev 0 n M i := by
  intro i
  induction i with
  | zero => rfl
  | succ i ih =>
    show (ko_lev 0 n L i).flatMap (ko_brn 0 n L i) = (ko_lev 0 n M i).flatMap (ko_brn 0 n M i)
    rw [ih]
    rfl
/-- no level is longer than the arrays -/
theorem ko_lev_le {s n L : Nat} (hc : ko_cfg s n L = true) (hl : s = 4 → 0 < L) {i : Nat} (hi : i ≤ L) : (ko_lev s n L i).length ≤ 5040 := by
  by_cases h0 : s = 0
  · subst h0
    obtain ⟨h1, h2, h3, h4, h5, -⟩ := ko_cfg_b hc
    have hc2 : ko_cfg 0 n i = true := by
      have := h5 (by decide)
      simp [ko_cfg]
      omega
    rw [ko_lev_L n L i, ko_lev_end, ko_sub_len hc2 (fun h => absurd h (by decide)) i 0 0 0 (by omega) (ko_rch_0 hc2 (fun h => absurd h (by decide)))]
    exact ko_count_le hc2
  · have h1 := ko_flat_len (ko_lev s n L i) (fun c => ko_sub s n L (L - i) i (ko_tc s i c) c) (fun c hcm => by
      have h2 := (ko_lev_mem hc hl i hi c hcm).2
      show 1 ≤ (ko_sub s n L (L - i) i (ko_tc s i c) c).length
      rw [ko_sub_len hc hl (L - i) i _ c (by omega) h2]
      exact ko_g_pos h0 hc hl hi h2)
    rw [ko_lev_sub i hi, ko_sub_len hc hl L 0 0 0 (by omega) (ko_rch_0 hc hl)] at h1
    exact Nat.le_trans h1 (ko_count_le hc)
/-! one level out of the last, number by number -/
def ko_ext (s n L i : Nat) (l : List Nat) : Nat → List Nat
  | 0 => []
  | j + 1 => ko_ext s n L i l j ++ (if ko_ok s n L i (ko_tc s i (l.getD (j / 8) 0)) (j % 8) = true then [8 * l.getD (j / 8) 0 + j % 8] else [])
theorem ko_ext_s {s n L i : Nat} {l : List Nat} {j : Nat} : ko_ext s n L i l (j + 1) = ko_ext s n L i l j ++ (if ko_ok s n L i (ko_tc s i (l.getD (j / 8) 0)) (j % 8) = true then [8 * l.getD (j / 8) 0 + j % 8] else []) := rfl
theorem ko_ext_mono {s n L i : Nat} {l : List Nat} {a b : Nat} (h : a ≤ b) : (ko_ext s n L i l a).length ≤ (ko_ext s n L i l b).length := by
  obtain ⟨d, rfl⟩ := Nat.exists_eq_add_of_le h
  clear h
  induction d with
  | zero => exact Nat.le_refl _
  | succ d ih =>
    rw [show a + (d + 1) = (a + d) + 1 from rfl, ko_ext_s, List.length_append]
    omega
theorem ko_ext_8 {s n L i : Nat} {l : List Nat} (a : Nat) : ∀ b, b ≤ 8 → ko_ext s n L i l (8 * a + b) = ko_ext s n L i l (8 * a) ++ ((List.range b).filter (fun y => ko_ok s n L i (ko_tc s i (l.getD a 0)) y)).map (fun y => 8 * l.getD a 0 + y) := by
  intro b
  induction b with
  | zero => intro _; simp
  | succ b ih =>
    intro hb
    rw [show 8 * a + (b + 1) = (8 * a + b) + 1 from rfl, ko_ext_s, ih (by omega), show (8 * a + b) / 8 = a by omega, show (8 * a + b) % 8 = b by omega, List.range_succ, List.filter_append, List.map_append, List.append_assoc]
    congr 2
    generalize l.getD a 0 = c
    by_cases h : ko_ok s n L i (ko_tc s i c) b = true
    · rw [if_pos h]; simp [h]
    · rw [if_neg h]; simp [h]
theorem ko_ext_take {s n L i : Nat} {l : List Nat} : ∀ a, a ≤ l.length → ko_ext s n L i l (8 * a) = (l.take a).flatMap (ko_brn s n L i) := by
  intro a
  induction a with
  | zero => intro _; simp [ko_ext]
  | succ a ih =>
    intro ha
    rw [show 8 * (a + 1) = 8 * a + 8 by omega, ko_ext_8 a 8 (Nat.le_refl 8), ih (by omega), List.take_succ_eq_append_getElem (by omega), List.flatMap_append]
    congr 1
    rw [List.flatMap_singleton]
    unfold ko_brn
    rw [show l.getD a 0 = l[a] from by rw [List.getD_eq_getElem?_getD, List.getElem?_eq_getElem (by omega)]; rfl]
theorem ko_ext_lev {s n L i : Nat} : ko_ext s n L i (ko_lev s n L i) (8 * (ko_lev s n L i).length) = ko_lev s n L (i + 1) := by
  rw [ko_ext_take _ (Nat.le_refl _), List.take_length]
  rfl
/-- an array holds a list -/
def ko_holds (f : Nat → Nat) (l : List Nat) : Prop := ∀ j, j < l.length → f j = l.getD j 0
theorem ko_holds_app {f : Nat → Nat} {l : List Nat} {v : Nat} (h : ko_holds f l) : ko_holds (zU f l.length v) (l ++ [v]) := by
  intro j hj
  rw [List.length_append, List.length_singleton] at hj
  by_cases e : j = l.length
  · subst e
    rw [zU_s, List.getD_eq_getElem?_getD, List.getElem?_append_right (Nat.le_refl _)]
    simp
  · rw [zU_n e, h j (by omega), List.getD_eq_getElem?_getD, List.getD_eq_getElem?_getD, List.getElem?_append_left (by omega)]
theorem ko_getD_mem {l : List Nat} {j : Nat} (h : j < l.length) : l.getD j 0 ∈ l := by
  rw [List.getD_eq_getElem?_getD, List.getElem?_eq_getElem h]
  exact List.getElem_mem h
end
section
set_option maxRecDepth 100000
/-! THE WORLD OF RankedObjectsModel: one object, its arrays list (5) and longer (6). E: addresses, the class long[], the tables' numbers -/
abbrev EM : Type := (Nat → Nat) × ClassId × va_G
/-- sort, n, k, now, count, list, longer -/
abbrev SM : Type := Nat × Nat × Int × Nat × Nat × (Nat → Nat) × (Nat → Nat)
abbrev tyM (E : EM) : List (ClassId × FieldType) := [(E.2.1, .long)]
abbrev fsM (E : EM) (u : SM) : List Value := [.int (zI u.1), .int (zI u.2.1), .int (zI u.2.2.1), .int (zI u.2.2.2.1), .int (zI u.2.2.2.2.1), .ref (E.1 5), .ref (E.1 6)]
abbrev wM (E : EM) (u : SM) : va_W := [(E.1 0, .inr (1, fsM E u)), (E.1 5, .inl (E.2.1, 5040, .inr (.inl (fun j => lN (u.2.2.2.2.2.1 j))))), (E.1 6, .inl (E.2.1, 5040, .inr (.inl (fun j => lN (u.2.2.2.2.2.2 j)))))]
def HM (E : EM) (s : State) (A : Nat → Prop) (u : SM) (H : Heap) (locs : List Loc) : Prop := va_P E.2.2 vwCl (wM E u) H ∧ va_D A (wM E u) ∧ va_S A s.heap H locs
def BM (E : EM) (A : Nat → Prop) (u : SM) (t : State) : Prop := va_P E.2.2 vwCl (wM E u) t.heap ∧ va_K E.2.2 vwCl (tyM E) t ∧ va_D A (wM E u)
def FM (p : Program) (s : State) (m : MethodId) (meth : Method) (c : Code) (cc : ByteArray) (nL : Nat) (ret : Option FieldType) (args : Array Value) (A : Nat → Prop) (E : EM) : Prop :=
  p.tables.exec = Jvm.exec ∧ c.code = cc ∧ c.maxLocals = nL ∧ s.vm.findClass RX1 = some m.cls ∧ (∀ w ∈ lw_all, w.before args s = true) ∧ meth.sig.returnType = ret ∧ meth.locks = false ∧ (∀ q : Nat, s.heap.size ≤ q → A q) ∧ va_K E.2.2 vwCl (tyM E) s
abbrev PcM (E : EM) (as : List Value) (u : SM) (sz : Nat) : Array Value → State → Prop := va_Pc (.ref (E.1 0) :: as) (fun U => U.heap.size = sz ∧ va_P E.2.2 vwCl (wM E u) U.heap ∧ va_K E.2.2 vwCl (tyM E) U ∧ va_D (fun _ => True) (wM E u))
abbrev QcM (E : EM) (A : Nat → Prop) (post : Int → SM → Prop) : Array Value → State → Outcome → State → Prop := va_Qi (fun r u => ∃ z : Int, r = zI z ∧ post z u) (BM E A) A
abbrev QcMv (E : EM) (A : Nat → Prop) (post : SM → Prop) : Array Value → State → Outcome → State → Prop := va_Qv post (BM E A) A
/-- A CONTRACT of a method of RankedObjectsModel that answers an int or a boolean -/
def CtM (l : Launch) (y : MethodName) (cc : ByteArray) (nL : Nat) (ret : Option FieldType) (fr lo : Nat) (E : EM) (as : List Value) (u : SM) (post : Int → SM → Prop) : Prop :=
  ∀ sz : Nat, Met l y (ws_ y cc nL ret) (rmX fr lo) (PcM E as u sz) (QcM E (va_A (wM E u) sz) post) 0 0 (va_A (wM E u) sz)
/-- .. that answers nothing -/
def CtMv (l : Launch) (y : MethodName) (cc : ByteArray) (nL : Nat) (fr lo : Nat) (E : EM) (as : List Value) (u : SM) (post : SM → Prop) : Prop :=
  ∀ sz : Nat, Met l y (ws_ y cc nL none) (rmX fr lo) (PcM E as u sz) (QcMv E (va_A (wM E u) sz) post) 0 0 (va_A (wM E u) sz)
theorem CtM.start {l : Launch} {y : MethodName} {cc : ByteArray} {nL : Nat} {ret : Option FieldType} {fr lo : Nat} {E : EM} {as : List Value} {u : SM} {post : Int → SM → Prop} (hy : plainName y.cls = true) (hy2 : y.cls = RX1)
    (body : ∀ (p : Program) (e : Env) (s : State) (m : MethodId) (below : List Frame) (meth : Method) (c : Code) (A : Nat → Prop), FM p s m meth c cc nL ret (.ref (E.1 0) :: as).toArray A E → HM E s A u s.heap [] →
      W p l e (rmX fr lo) s m (.ref (E.1 0) :: as).toArray below meth c s.heap [] 0 0 (MQ below (QcM E A post) (.ref (E.1 0) :: as).toArray s 0 0 A) (entryFrame m (.ref (E.1 0) :: as).toArray nL)) : CtM l y cc nL ret fr lo E as u post := by
  intro sz
  refine Met.ofW (cc := cc) (maxL := nL) (ret := ret) hy rfl ?_
  intro p e s m args below meth c s₁ B hml hv
  obtain ⟨rfl, hsz, hP, hK, hD0⟩ := hv
  have hts := atoms_spec (ws := ws_ y cc nL ret) B.pre
  have hts : ∀ w ∈ lw_all, w.before _ s = true := fun w h => hts w (List.mem_cons_of_mem _ h)
  have hown : s.vm.findClass y.cls = some m.cls := findClass_of_methodNamed B.named
  rw [hy2] at hown
  subst hsz
  exact body p e s m below meth c (va_A (wM E u) s.heap.size) ⟨B.exec, B.bytes, hml, hown, hts, B.returns, B.notSynchronized, fun q h => Or.inr h, hK⟩ ⟨hP, hD0.self, va_S.rf⟩
theorem CtMv.start {l : Launch} {y : MethodName} {cc : ByteArray} {nL : Nat} {fr lo : Nat} {E : EM} {as : List Value} {u : SM} {post : SM → Prop} (hy : plainName y.cls = true) (hy2 : y.cls = RX1)
    (body : ∀ (p : Program) (e : Env) (s : State) (m : MethodId) (below : List Frame) (meth : Method) (c : Code) (A : Nat → Prop), FM p s m meth c cc nL none (.ref (E.1 0) :: as).toArray A E → HM E s A u s.heap [] →
      W p l e (rmX fr lo) s m (.ref (E.1 0) :: as).toArray below meth c s.heap [] 0 0 (MQ below (QcMv E A post) (.ref (E.1 0) :: as).toArray s 0 0 A) (entryFrame m (.ref (E.1 0) :: as).toArray nL)) : CtMv l y cc nL fr lo E as u post := by
  intro sz
  refine Met.ofW (cc := cc) (maxL := nL) (ret := none) hy rfl ?_
  intro p e s m args below meth c s₁ B hml hv
  obtain ⟨rfl, hsz, hP, hK, hD0⟩ := hv
  have hts := atoms_spec (ws := ws_ y cc nL none) B.pre
  have hts : ∀ w ∈ lw_all, w.before _ s = true := fun w h => hts w (List.mem_cons_of_mem _ h)
  have hown : s.vm.findClass y.cls = some m.cls := findClass_of_methodNamed B.named
  rw [hy2] at hown
  subst hsz
  exact body p e s m below meth c (va_A (wM E u) s.heap.size) ⟨B.exec, B.bytes, hml, hown, hts, B.returns, B.notSynchronized, fun q h => Or.inr h, hK⟩ ⟨hP, hD0.self, va_S.rf⟩
section X1C
variable {p : Program} {l : Launch} {e : Env} {R : Room} {s : State} {m : MethodId} {args : Array Value} {below : List Frame} {meth : Method} {c : Code} {H : Heap} {locs : List Loc} {cells slots : Nat} {Q : State → Prop}
variable {cc : ByteArray} {pc nL : Nat} {ret : Option FieldType} {ls : Array Slot} {rest : List Value} {A : Nat → Prop} {E : EM} {u : SM}
theorem FM.x (F : FM p s m meth c cc nL ret args A E) : p.tables.exec = Jvm.exec := F.1
theorem FM.b (F : FM p s m meth c cc nL ret args A E) : c.code = cc := F.2.1
theorem CtM.call {y : MethodName} {cc2 : ByteArray} {nL2 : Nat} {ret2 : Option FieldType} {fr lo n index : Nat} {as : List Value} {post : Int → SM → Prop} {st0 : List Value} (h : CtM l y cc2 nL2 ret2 fr lo E as u post) (F : FM p s m meth c cc nL ret args A E) (hH : HM E s A u H locs)
    (hw : GoodIn lw_all (wsV RX1 index RX1 y (ws_ y cc2 nL2 ret2))) (hd : y.cls = RX1 ∧ y.cls ≠ "java/lang/invoke/MethodHandle" ∧ y.cls ≠ "java/lang/invoke/VarHandle" ∧ (parseMethodDescriptor y.desc).map (fun d => d.parameters.length) = some n) (hR : fr + 1 ≤ R.frames ∧ 8 + (nL2 + 11) + lo ≤ R.locals)
    (hn : as.length = n) (hl : ls.size = nL) (hst : st0 = as.reverse ++ .ref (E.1 0) :: rest) (hrm : (rest.map fun v => v.category).sum ≤ 8) (hdg : decode cc pc = .ok (.invokevirtual index, 3)) (hcs : cells ≤ R.cells ∧ slots ≤ R.slots)
    (kk : ∀ (z : Int) (v : SM) (H1 : Heap) (locs1 : List Loc), post z v → HM E s A v H1 locs1 → W p l e R s m args below meth c H1 locs1 cells slots Q (F0 m (pc + 3) ls (.int (zI z) :: rest))) : W p l e R s m args below meth c H locs cells slots Q (F0 m pc ls st0) := by
  obtain ⟨hx, hb, hml, hown, hts, -, -, hA, hK⟩ := F
  obtain ⟨hP, hD, hS⟩ := hH
  subst hst
  have hFc : ∀ q, va_A (wM E u) H.size q → A q := va_free (wc := wM E u) hD hS hA [0, 1, 2] rfl
  refine va_calli (va_runV (As := as) (rest := rest) ⟨hx, hb, hml, hown, hts⟩ (h H.size) (cwV n hts hw rfl rfl rfl hd hR) ⟨fun a U g mk q => ?_, va_recv hK hP (ci := 1) (q0 := 0) rfl rfl, fun U hU hW => ⟨rfl, by rw [hU], by rw [hU]; exact hP, va_K.moved hW.alike hK, hD.weaken (fun _ _ _ _ => trivial)⟩⟩ rfl hn hl rfl (lv_room hrm) hdg ⟨hcs.1, hcs.2⟩) hS (fun q _ h => hFc q h) hFc (fun r v t H1 locs1 ht hvm hw1 hB hz1 hk1 hS1 => ?_)
  · obtain ⟨q0, q1, qP, qK, qD⟩ := q
    exact ⟨q0, q1, qP, va_K.moved (u := U) (U := U.calling g mk a) (Vm.Alike.refl U.vm) qK, qD⟩
  · obtain ⟨z, rfl, hp⟩ := hw1
    obtain ⟨hP1, hK1, hD1⟩ := hB
    rw [ht] at hP1
    exact kk z v H1 locs1 hp ⟨hP1, hD1.weaken (fun _ _ _ h => hFc _ h), hS1⟩
theorem CtMv.call {y : MethodName} {cc2 : ByteArray} {nL2 : Nat} {fr lo n index : Nat} {as : List Value} {post : SM → Prop} {st0 : List Value} (h : CtMv l y cc2 nL2 fr lo E as u post) (F : FM p s m meth c cc nL ret args A E) (hH : HM E s A u H locs)
    (hw : GoodIn lw_all (wsV RX1 index RX1 y (ws_ y cc2 nL2 none))) (hd : y.cls = RX1 ∧ y.cls ≠ "java/lang/invoke/MethodHandle" ∧ y.cls ≠ "java/lang/invoke/VarHandle" ∧ (parseMethodDescriptor y.desc).map (fun d => d.parameters.length) = some n) (hR : fr + 1 ≤ R.frames ∧ 8 + (nL2 + 11) + lo ≤ R.locals)
    (hn : as.length = n) (hl : ls.size = nL) (hst : st0 = as.reverse ++ .ref (E.1 0) :: rest) (hrm : (rest.map fun v => v.category).sum ≤ 8) (hdg : decode cc pc = .ok (.invokevirtual index, 3)) (hcs : cells ≤ R.cells ∧ slots ≤ R.slots)
    (kk : ∀ (v : SM) (H1 : Heap) (locs1 : List Loc), post v → HM E s A v H1 locs1 → W p l e R s m args below meth c H1 locs1 cells slots Q (F0 m (pc + 3) ls rest)) : W p l e R s m args below meth c H locs cells slots Q (F0 m pc ls st0) := by
  obtain ⟨hx, hb, hml, hown, hts, -, -, hA, hK⟩ := F
  obtain ⟨hP, hD, hS⟩ := hH
  subst hst
  have hFc : ∀ q, va_A (wM E u) H.size q → A q := va_free (wc := wM E u) hD hS hA [0, 1, 2] rfl
  refine va_callv (va_runV (As := as) (rest := rest) ⟨hx, hb, hml, hown, hts⟩ (h H.size) (cwV n hts hw rfl rfl rfl hd hR) ⟨fun a U g mk q => ?_, va_recv hK hP (ci := 1) (q0 := 0) rfl rfl, fun U hU hW => ⟨rfl, by rw [hU], by rw [hU]; exact hP, va_K.moved hW.alike hK, hD.weaken (fun _ _ _ _ => trivial)⟩⟩ rfl hn hl rfl (lv_room hrm) hdg ⟨hcs.1, hcs.2⟩) hS (fun q _ h => hFc q h) hFc (fun v t H1 locs1 ht hvm hw1 hB hz1 hk1 hS1 => ?_)
  · obtain ⟨q0, q1, qP, qK, qD⟩ := q
    exact ⟨q0, q1, qP, va_K.moved (u := U) (U := U.calling g mk a) (Vm.Alike.refl U.vm) qK, qD⟩
  · obtain ⟨hP1, hK1, hD1⟩ := hB
    rw [ht] at hP1
    exact kk v H1 locs1 hw1 ⟨hP1, hD1.weaken (fun _ _ _ h => hFc _ h), hS1⟩
theorem CtM.iret {post : Int → SM → Prop} {z : Int} (F : FM p s m meth c cc nL (some .int) args A E) (hH : HM E s A u H locs) (hp : post z u) (hdg : decode cc pc = .ok (.ireturn, 1)) : W p l e R s m args below meth c H locs 0 0 (MQ below (QcM E A post) args s 0 0 A) (F0 m pc ls [.int (zI z)]) := by
  obtain ⟨hx, hb, hml, hown, hts, hr, hlk, hA, hK⟩ := F
  obtain ⟨hP, hD, hS⟩ := hH
  exact W.iret (v := zI z) hx hb hr (fun t ht hW => ⟨⟨zI z, u, rfl, ⟨z, rfl, hp⟩, by rw [ht]; exact hP, va_K.moved hW.alike hK, hD⟩, hS.F ht⟩) hS.2.2 hdg hlk
theorem CtM.zret {post : Int → SM → Prop} {z : Int} (F : FM p s m meth c cc nL (some .boolean) args A E) (hH : HM E s A u H locs) (hz : z = 0 ∨ z = 1) (hp : post z u) (hdg : decode cc pc = .ok (.ireturn, 1)) : W p l e R s m args below meth c H locs 0 0 (MQ below (QcM E A post) args s 0 0 A) (F0 m pc ls [.int (zI z)]) := by
  obtain ⟨hx, hb, hml, hown, hts, hr, hlk, hA, hK⟩ := F
  obtain ⟨hP, hD, hS⟩ := hH
  exact W.zret (v := zI z) hx hb hr (by rcases hz with rfl | rfl <;> rfl) (fun t ht hW => ⟨⟨zI z, u, rfl, ⟨z, rfl, hp⟩, by rw [ht]; exact hP, va_K.moved hW.alike hK, hD⟩, hS.F ht⟩) hS.2.2 hdg hlk
theorem CtM.vret {post : SM → Prop} (F : FM p s m meth c cc nL none args A E) (hH : HM E s A u H locs) (hp : post u) (hdg : decode cc pc = .ok (.return_, 1)) : W p l e R s m args below meth c H locs 0 0 (MQ below (QcMv E A post) args s 0 0 A) (F0 m pc ls []) := by
  obtain ⟨hx, hb, hml, hown, hts, hr, hlk, hA, hK⟩ := F
  obtain ⟨hP, hD, hS⟩ := hH
  exact W.vret hx hb hr (fun t ht hW => ⟨⟨u, rfl, hp, by rw [ht]; exact hP, va_K.moved hW.alike hK, hD⟩, hS.F ht⟩) hS.2.2 hdg hlk
theorem getM (F : FM p s m meth c cc nL ret args A E) (hH : HM E s A u H locs) (k : Nat) (hk : k < 7) {index : Nat} (hq : Cond.fieldLink RX1 index RX1 (TX1 k).2.1 (TX1 k).2.2.1 ∈ lw_all) (hT : (TX1 k).1 = RX1) {v : Value} (hv : (fsM E u)[k]? = some v) (hdg : decode cc pc = .ok (.getfield index, 3)) (kk : W p l e R s m args below meth c H locs cells slots Q (F0 m (pc + 3) ls (v :: rest))) : W p l e R s m args below meth c H locs cells slots Q (F0 m pc ls (.ref (E.1 0) :: rest)) := by
  obtain ⟨hx, hb, hml, hown, hts, hr, hlk, hA, hK⟩ := F
  obtain ⟨hP, hD, hS⟩ := hH
  exact va_get (D := E.2.2) (ci := 1) (C := RX1) (T := TX1) (N := 7) hx hb hts in_X1 hown hK hP 0 rfl rfl k hk (hts _ hq) (fun _ h9 => by rw [hT] at h9; exact h9) hv hdg kk
theorem putM (F : FM p s m meth c cc nL ret args A E) (hH : HM E s A u H locs) (k : Nat) (hk : k < 5) {index : Nat} (hq : Cond.fieldLink RX1 index RX1 (TX1 k).2.1 (TX1 k).2.2.1 ∈ lw_all) (hT : (TX1 k).1 = RX1 ∧ (TX1 k).2.2.2 = false ∧ parseFieldDescriptor (TX1 k).2.2.1 = some .int) {z : Int} (v : SM) (hv : (wM E u).set 0 (E.1 0, .inr (1, (fsM E u).set k (.int (zI z)))) = wM E v) (hdg : decode cc pc = .ok (.putfield index, 3)) (kk : ∀ (H1 : Heap) (locs1 : List Loc), HM E s A v H1 locs1 → W p l e R s m args below meth c H1 locs1 cells slots Q (F0 m (pc + 3) ls rest)) : W p l e R s m args below meth c H locs cells slots Q (F0 m pc ls (.int (zI z) :: .ref (E.1 0) :: rest)) := by
  obtain ⟨hx, hb, hml, hown, hts, hr, hlk, hA, hK⟩ := F
  obtain ⟨hP, hD, hS⟩ := hH
  refine va_put (D := E.2.2) (ci := 1) (v := .int (zI z)) (ty := .int) (C := RX1) (T := TX1) (N := 7) hx hb hts in_X1 tyX1 tyX1_ok nmX1 hown hK hP hD hS 0 rfl rfl k (by omega) (hts _ hq) (fun _ h9 => by rw [hT.1] at h9; exact h9) hT.2.1 hT.2.2 rfl rfl (by show k < 7; omega) hdg (fun H1 locs1 hP hD hS => ?_)
  rw [hv] at hP hD
  exact kk H1 locs1 ⟨hP, hD, hS⟩
/-- list (q0 = 1), longer (q0 = 2) -/
theorem laldM (F : FM p s m meth c cc nL ret args A E) (hH : HM E s A u H locs) (q0 : Nat) {a : Nat} (f : Nat → Nat) (hq : (wM E u)[q0]? = some (a, .inl (E.2.1, 5040, .inr (.inl (fun j => lN (f j)))))) {z : Int} (k : Nat) (hz : z = k) (hk : k < 5040) (hdg : decode cc pc = .ok (.laload, 1)) (kk : W p l e R s m args below meth c H locs cells slots Q (F0 m (pc + 1) ls (.long (lN (f k)) :: rest))) : W p l e R s m args below meth c H locs cells slots Q (F0 m pc ls (.int (zI z) :: .ref a :: rest)) :=
  zr_lald F.x F.b F.2.2.2.2.2.2.2.2 hH.1 q0 0 f hq rfl k hz hk (by decide) hdg kk
theorem lastM (F : FM p s m meth c cc nL ret args A E) (hH : HM E s A u H locs) (q0 : Nat) {a : Nat} (f : Nat → Nat) (hq : (wM E u)[q0]? = some (a, .inl (E.2.1, 5040, .inr (.inl (fun j => lN (f j)))))) {z : Int} {w : Int64} (k y : Nat) (hz : z = k) (hk : k < 5040) (hw : w = lN y) (v : SM) (hv : (wM E u).set q0 (a, .inl (E.2.1, 5040, .inr (.inl (fun j => lN (zU f k y j))))) = wM E v) (hdg : decode cc pc = .ok (.lastore, 1)) (kk : ∀ (H1 : Heap) (locs1 : List Loc), HM E s A v H1 locs1 → W p l e R s m args below meth c H1 locs1 cells slots Q (F0 m (pc + 1) ls rest)) : W p l e R s m args below meth c H locs cells slots Q (F0 m pc ls (.long w :: .int (zI z) :: .ref a :: rest)) := by
  refine zr_last F.x F.b F.2.2.2.2.2.2.2.2 hH.1 hH.2.1 hH.2.2 q0 0 f hq rfl k y hz hk (by decide) hw hdg (fun H1 locs1 hP hD hS => ?_)
  rw [hv] at hP hD
  exact kk H1 locs1 ⟨hP, hD, hS⟩
end X1C
theorem zI_and7 (n : Nat) : zI n &&& zI 7 = zI ((n % 8 : Nat) : Int) := by rw [← zL_l2i]; exact zL_low7 n
theorem ko_p8 (m : Nat) : 2 ^ (3 * m) = 8 ^ m := by rw [Nat.pow_mul]
/-- what holds of the reference's sort, n, k, and its length L -/
def ko_mk (so n : Nat) (k : Int) (L : Nat) : Prop := ko_cfg so n L = true ∧ (so = 0 ∨ so = 4 → k = (L : Int)) ∧ (-2147483648 ≤ k ∧ k ≤ 2147483647)
end
section
set_option maxRecDepth 100000
theorem zL_and7b {n : Nat} (hn : n < 2 ^ 62) : lN n &&& lN 7 = lN (n % 8) := by rw [show lN 7 = (7 : Int64) by decide +kernel]; exact zL_and7 hn
theorem ko_cod62 {x : Nat → Nat} {i : Nat} (h8 : ∀ j, x j < 8) (hi : i ≤ 14) : ko_cod x i < 2 ^ 62 := by
  have h1 := ko_cod_lt i (fun j _ => h8 j)
  have h2 : 8 ^ i ≤ 8 ^ 14 := Nat.pow_le_pow_right (by decide) hi
  have h3 : 8 ^ 14 = 4398046511104 := by decide
  omega

set_option maxHeartbeats 4000000 in
/-- length() -/
theorem cM_length (l : Launch) (E : EM) (so n : Nat) (k : Int) (nw ct : Nat) (f g : Nat → Nat) (L : Nat) (hm : ko_mk so n k L) : CtM l yX1_length cX1_length 1 (some .int) 0 0 E [] (so, n, k, nw, ct, f, g) (fun w v => w = (L : Int) ∧ v = (so, n, k, nw, ct, f, g)) := by
  refine CtM.start (by decide +kernel) rfl ?_
  intro p e s0 m below meth c A F hH
  have hl := lv_entry ([.ref (E.1 0)]) (n := 1) (Nat.le_of_ble_eq_true rfl)
  rw [lg_entry_eq]
  generalize (lg_sl ([.ref (E.1 0)]) ++ List.replicate (1 - (lg_sl ([.ref (E.1 0)])).length) Slot.unset).toArray = ls at hl ⊢
  have hl : lv_has ls 1 [(0, .ref (E.1 0))] := hl
  obtain ⟨k1, k2, k3, k4, k5, k6, k7, k8⟩ := ko_cfg_b hm.1
  have hk := hm.2.1
  refine lv_aload_n F.x F.b dX1_length_0 rfl (lv_at hl 0 rfl) ?_
  refine getM F hH 0 (by decide) q174 rfl (v := .int (zI (so))) rfl dX1_length_1 ?_
  refine zr_if_eq (tgt := 15) F.x F.b dX1_length_4 (by decide) (by omega) (fun c4 => ?_) (fun c4 => ?_)
  · refine lv_aload_n F.x F.b dX1_length_15 rfl (lv_at hl 0 rfl) ?_
    refine getM F hH 2 (by decide) q176 rfl (v := .int (zI (k))) rfl dX1_length_16 ?_
    refine lv_goto (tgt := 43) F.x F.b dX1_length_19 (by decide) ?_
    exact CtM.iret F hH (⟨by omega, rfl⟩) dX1_length_43
  · refine lv_aload_n F.x F.b dX1_length_7 rfl (lv_at hl 0 rfl) ?_
    refine getM F hH 0 (by decide) q174 rfl (v := .int (zI (so))) rfl dX1_length_8 ?_
    refine lv_iconst (v := zI (4)) F.x F.b dX1_length_11 (by decide +kernel) ?_
    refine zr_icmp_ne (tgt := 22) F.x F.b dX1_length_12 (by decide) (by omega) (by omega) (fun c12 => ?_) (fun c12 => ?_)
    · refine lv_aload_n F.x F.b dX1_length_22 rfl (lv_at hl 0 rfl) ?_
      refine getM F hH 0 (by decide) q174 rfl (v := .int (zI (so))) rfl dX1_length_23 ?_
      refine lv_iconst (v := zI (3)) F.x F.b dX1_length_26 (by decide +kernel) ?_
      refine zr_icmp_ne (tgt := 39) F.x F.b dX1_length_27 (by decide) (by omega) (by omega) (fun c27 => ?_) (fun c27 => ?_)
      · refine lv_aload_n F.x F.b dX1_length_39 rfl (lv_at hl 0 rfl) ?_
        refine getM F hH 1 (by decide) q175 rfl (v := .int (zI (n))) rfl dX1_length_40 ?_
        exact CtM.iret F hH (⟨by omega, rfl⟩) dX1_length_43
      · refine lv_iconst (v := zI (2)) F.x F.b dX1_length_30 (by decide +kernel) ?_
        refine lv_aload_n F.x F.b dX1_length_31 rfl (lv_at hl 0 rfl) ?_
        refine getM F hH 1 (by decide) q175 rfl (v := .int (zI (n))) rfl dX1_length_32 ?_
        refine zr_imul F.x F.b (2 * (n : Int)) dX1_length_35 (rfl) ?_
        refine lv_goto (tgt := 43) F.x F.b dX1_length_36 (by decide) ?_
        exact CtM.iret F hH (⟨by omega, rfl⟩) dX1_length_43
    · refine lv_aload_n F.x F.b dX1_length_15 rfl (lv_at hl 0 rfl) ?_
      refine getM F hH 2 (by decide) q176 rfl (v := .int (zI (k))) rfl dX1_length_16 ?_
      refine lv_goto (tgt := 43) F.x F.b dX1_length_19 (by decide) ?_
      exact CtM.iret F hH (⟨by omega, rfl⟩) dX1_length_43

set_option maxHeartbeats 4000000 in
/-- digit(c1, j) -/
theorem cM_digit (l : Launch) (E : EM) (so n : Nat) (k : Int) (nw ct : Nat) (f g : Nat → Nat) (L : Nat) (c1 j : Nat) (hm : ko_mk so n k L) (hc1 : c1 < 2 ^ 62) (hj : j < L) : CtM l yX1_digit cX1_digit 4 (some .int) 1 20 E [.long (lN (c1)), .int (zI (j))] (so, n, k, nw, ct, f, g) (fun w v => w = ((ko_dig L c1 j : Nat) : Int) ∧ v = (so, n, k, nw, ct, f, g)) := by
  refine CtM.start (by decide +kernel) rfl ?_
  intro p e s0 m below meth c A F hH
  have hl := lv_entry ([.ref (E.1 0), .long (lN (c1)), .int (zI (j))]) (n := 4) (Nat.le_of_ble_eq_true rfl)
  rw [lg_entry_eq]
  generalize (lg_sl ([.ref (E.1 0), .long (lN (c1)), .int (zI (j))]) ++ List.replicate (4 - (lg_sl ([.ref (E.1 0), .long (lN (c1)), .int (zI (j))])).length) Slot.unset).toArray = ls at hl ⊢
  have hl : lv_has ls 4 [(0, .ref (E.1 0)), (1, .long (lN (c1))), (3, .int (zI (j)))] := hl
  obtain ⟨k1, k2, k3, k4, k5, k6, k7, k8⟩ := ko_cfg_b hm.1
  refine lv_lload_n F.x F.b dX1_digit_0 rfl (lv_at hl 1 rfl) ?_
  refine lv_iconst (v := zI (3)) F.x F.b dX1_digit_1 (by decide +kernel) ?_
  refine lv_aload_n F.x F.b dX1_digit_2 rfl (lv_at hl 0 rfl) ?_
  refine CtM.call (n := 0) (cM_length l E so n k nw ct f g L hm) F hH (lw_V q164 q166 qs12 q18 q167) (by decide +kernel) ⟨Nat.le_of_ble_eq_true rfl, Nat.le_of_ble_eq_true rfl⟩ rfl hl.1 rfl (Nat.le_of_ble_eq_true rfl) dX1_digit_3 ⟨Nat.le_refl _, Nat.le_refl _⟩ (fun z9 v9 H locs hp hH => ?_)
  obtain ⟨rfl, rfl⟩ := hp
  refine lv_iconst (v := zI (1)) F.x F.b dX1_digit_6 (by decide +kernel) ?_
  refine zr_isub F.x F.b (((L - 1 : Nat) : Int)) dX1_digit_7 (by omega) ?_
  refine lv_iload_n F.x F.b dX1_digit_8 rfl (lv_at hl 2 rfl) ?_
  refine zr_isub F.x F.b (((L - 1 - j : Nat) : Int)) dX1_digit_9 (by omega) ?_
  refine zr_imul F.x F.b (((3 * (L - 1 - j) : Nat) : Int)) dX1_digit_10 (by omega) ?_
  refine lv_lushr (v := lN (c1 / 2 ^ (3 * (L - 1 - j)))) F.x F.b dX1_digit_11 (zL_shr hc1 (by omega)) ?_
  refine lv_l2i (v := zI (((c1 / 2 ^ (3 * (L - 1 - j)) : Nat) : Int))) F.x F.b dX1_digit_12 (zL_l2i _) ?_
  refine lv_bipush (v := zI (7)) F.x F.b dX1_digit_13 (by decide +kernel) ?_
  refine lv_iand F.x F.b dX1_digit_15 ?_
  refine zr_top (zI_and7 _) ?_
  exact CtM.iret F hH (⟨by rw [ko_p8]; rfl, rfl⟩) dX1_digit_16

set_option maxHeartbeats 4000000 in
/-- goesOn(c, i, y) -/
theorem cM_goesOn (l : Launch) (E : EM) (so n : Nat) (k : Int) (nw ct : Nat) (f g : Nat → Nat) (L : Nat) (x : Nat → Nat) (i y : Nat) (hm : ko_mk so n k L) (hi : i < L) (hy : y < 8) (h8 : ∀ j, x j < 8) : CtM l yX1_goesOn cX1_goesOn 13 (some .boolean) 0 0 E [.long (lN (ko_cod x i)), .int (zI (i)), .int (zI (y))] (so, n, k, nw, ct, f, g) (fun w v => w = (if ko_ok so n L i (ko_tau so x i) y = true then 1 else 0) ∧ v = (so, n, k, nw, ct, f, g)) := by
  refine CtM.start (by decide +kernel) rfl ?_
  intro p e s0 m below meth c A F hH
  have hl := lv_entry ([.ref (E.1 0), .long (lN (ko_cod x i)), .int (zI (i)), .int (zI (y))]) (n := 13) (Nat.le_of_ble_eq_true rfl)
  rw [lg_entry_eq]
  generalize (lg_sl ([.ref (E.1 0), .long (lN (ko_cod x i)), .int (zI (i)), .int (zI (y))]) ++ List.replicate (13 - (lg_sl ([.ref (E.1 0), .long (lN (ko_cod x i)), .int (zI (i)), .int (zI (y))])).length) Slot.unset).toArray = ls at hl ⊢
  have hl : lv_has ls 13 [(0, .ref (E.1 0)), (1, .long (lN (ko_cod x i))), (3, .int (zI (i))), (4, .int (zI (y)))] := hl
  obtain ⟨k1, k2, k3, k4, k5, k6, k7, k8⟩ := ko_cfg_b hm.1
  have hk := hm.2.1
  have h0 := ko_t0i x i
  have h34 := ko_t34 x i
  have hb2 := ko_t2b h8 i
  have hb4 := ko_t4b h8 i
  have h8i := h8 (i - 1)
  refine lv_iconst (v := zI (-1)) F.x F.b dX1_goesOn_0 (by decide +kernel) ?_
  refine lv_istore (lv' := [(5, .int (zI (-1))), (0, .ref (E.1 0)), (1, .long (lN (ko_cod x i))), (3, .int (zI (i))), (4, .int (zI (y)))]) F.x F.b dX1_goesOn_1 hl (by decide) rfl (fun ls hl => ?_)
  refine lv_iload F.x F.b dX1_goesOn_3 (lv_at hl 4 rfl) ?_
  refine lv_istore (lv' := [(6, .int (zI (y))), (5, .int (zI (-1))), (0, .ref (E.1 0)), (1, .long (lN (ko_cod x i))), (3, .int (zI (i))), (4, .int (zI (y)))]) F.x F.b dX1_goesOn_5 hl (by decide) rfl (fun ls hl => ?_)
  refine lv_iconst (v := zI (-1)) F.x F.b dX1_goesOn_7 (by decide +kernel) ?_
  refine lv_istore (lv' := [(7, .int (zI (-1))), (6, .int (zI (y))), (5, .int (zI (-1))), (0, .ref (E.1 0)), (1, .long (lN (ko_cod x i))), (3, .int (zI (i))), (4, .int (zI (y)))]) F.x F.b dX1_goesOn_8 hl (by decide) rfl (fun ls hl => ?_)
  refine lv_iconst (v := zI (0)) F.x F.b dX1_goesOn_10 (by decide +kernel) ?_
  refine lv_istore (lv' := [(8, .int (zI (0))), (7, .int (zI (-1))), (6, .int (zI (y))), (5, .int (zI (-1))), (0, .ref (E.1 0)), (1, .long (lN (ko_cod x i))), (3, .int (zI (i))), (4, .int (zI (y)))]) F.x F.b dX1_goesOn_11 hl (by decide) rfl (fun ls hl => ?_)
  refine lv_lload_n F.x F.b dX1_goesOn_13 rfl (lv_at hl 5 rfl) ?_
  refine lv_lstore (lv' := [(9, .long (lN (ko_cod x i))), (8, .int (zI (0))), (7, .int (zI (-1))), (6, .int (zI (y))), (5, .int (zI (-1))), (0, .ref (E.1 0)), (1, .long (lN (ko_cod x i))), (3, .int (zI (i))), (4, .int (zI (y)))]) F.x F.b dX1_goesOn_14 hl (by decide) rfl (fun ls hl => ?_)
  refine lv_iconst (v := zI (0)) F.x F.b dX1_goesOn_16 (by decide +kernel) ?_
  refine lv_istore (lv' := [(11, .int (zI (0))), (9, .long (lN (ko_cod x i))), (8, .int (zI (0))), (7, .int (zI (-1))), (6, .int (zI (y))), (5, .int (zI (-1))), (0, .ref (E.1 0)), (1, .long (lN (ko_cod x i))), (3, .int (zI (i))), (4, .int (zI (y)))]) F.x F.b dX1_goesOn_17 hl (by decide) rfl (fun ls hl => ?_)
  have loop : ∀ (r t : Nat), t + r = i → ∀ (mm sm : Nat) (la hd : Int), max mm (ko_tau 2 x r) = ko_tau 2 x i → mm ≤ 8 → sm + ko_tau 4 x r = y + ko_tau 4 x i → ((t = 0 ∧ la = -1) ∨ (0 < t ∧ la = x (i - 1))) → ((hd = 0 ∧ (ko_tau 1 x (r)).testBit y = (ko_tau 1 x (i)).testBit y) ∨ (hd = 1 ∧ (ko_tau 1 x (i)).testBit y = true)) → ∀ ls : Array Slot, lv_has ls 13 [(0, .ref (E.1 0)), (3, .int (zI (i))), (4, .int (zI (y))), (5, .int (zI (((mm : Nat) : Int) - 1))), (6, .int (zI (((sm : Nat) : Int)))), (7, .int (zI (la))), (8, .int (zI (hd))), (9, .long (lN (ko_cod x r))), (11, .int (zI (t)))] → W p l e (rmX 0 0) s0 m ([.ref (E.1 0), .long (lN (ko_cod x i)), .int (zI (i)), .int (zI (y))] : List Value).toArray below meth c s0.heap [] 0 0 (MQ below (QcM E A (fun w v => w = (if ko_ok so n L i (ko_tau so x i) y = true then 1 else 0) ∧ v = (so, n, k, nw, ct, f, g))) ([.ref (E.1 0), .long (lN (ko_cod x i)), .int (zI (i)), .int (zI (y))] : List Value).toArray s0 0 0 A) (F0 m 19 ls []) := by
    intro r
    induction r with
    | zero =>
      intro t ht mm sm la hd hmm hm8 hsm hla hhd ls hl
      have e2 : mm = ko_tau 2 x i := by rw [← hmm]; exact (Nat.max_eq_left (Nat.zero_le _)).symm
      have e4 : sm = y + ko_tau 4 x i := hsm
      rw [show ko_tau 1 x 0 = 0 from rfl, Nat.zero_testBit] at hhd
      refine lv_iload F.x F.b dX1_goesOn_19 (lv_at hl 8 rfl) ?_
      refine lv_iload_n F.x F.b dX1_goesOn_21 rfl (lv_at hl 1 rfl) ?_
      refine zr_icmp_ge (tgt := 83) F.x F.b dX1_goesOn_22 (by decide) (by omega) (by omega) (fun c22 => ?_) (fun c22 => ?_)
      · refine lv_aload_n F.x F.b dX1_goesOn_83 rfl (lv_at hl 0 rfl) ?_
        refine getM F hH 0 (by decide) q174 rfl (v := .int (zI (so))) rfl dX1_goesOn_84 ?_
        refine zr_if_ne (tgt := 112) F.x F.b dX1_goesOn_87 (by decide) (by omega) (fun c87 => ?_) (fun c87 => ?_)
        · refine lv_aload_n F.x F.b dX1_goesOn_112 rfl (lv_at hl 0 rfl) ?_
          refine getM F hH 0 (by decide) q174 rfl (v := .int (zI (so))) rfl dX1_goesOn_113 ?_
          refine lv_iconst (v := zI (1)) F.x F.b dX1_goesOn_116 (by decide +kernel) ?_
          refine zr_icmp_ne (tgt := 140) F.x F.b dX1_goesOn_117 (by decide) (by omega) (by omega) (fun c117 => ?_) (fun c117 => ?_)
          · refine lv_aload_n F.x F.b dX1_goesOn_140 rfl (lv_at hl 0 rfl) ?_
            refine getM F hH 0 (by decide) q174 rfl (v := .int (zI (so))) rfl dX1_goesOn_141 ?_
            refine lv_iconst (v := zI (2)) F.x F.b dX1_goesOn_144 (by decide +kernel) ?_
            refine zr_icmp_ne (tgt := 163) F.x F.b dX1_goesOn_145 (by decide) (by omega) (by omega) (fun c145 => ?_) (fun c145 => ?_)
            · refine lv_aload_n F.x F.b dX1_goesOn_163 rfl (lv_at hl 0 rfl) ?_
              refine getM F hH 0 (by decide) q174 rfl (v := .int (zI (so))) rfl dX1_goesOn_164 ?_
              refine lv_iconst (v := zI (4)) F.x F.b dX1_goesOn_167 (by decide +kernel) ?_
              refine zr_icmp_ne (tgt := 205) F.x F.b dX1_goesOn_168 (by decide) (by omega) (by omega) (fun c168 => ?_) (fun c168 => ?_)
              · refine lv_iload F.x F.b dX1_goesOn_205 (lv_at hl 2 rfl) ?_
                refine lv_iconst (v := zI (1)) F.x F.b dX1_goesOn_207 (by decide +kernel) ?_
                refine zr_icmp_gt (tgt := 234) F.x F.b dX1_goesOn_208 (by decide) (by omega) (by omega) (fun c208 => ?_) (fun c208 => ?_)
                · refine lv_iconst (v := zI (0)) F.x F.b dX1_goesOn_234 (by decide +kernel) ?_
                  have e : so = 3 := by omega
                  subst e
                  exact CtM.zret F hH (by omega) (⟨ko_ans0 (fun h => absurd (ko_ok3.mp h) (by omega)), rfl⟩) dX1_goesOn_235
                · refine lv_iload F.x F.b dX1_goesOn_211 (lv_at hl 4 rfl) ?_
                  refine lv_aload_n F.x F.b dX1_goesOn_213 rfl (lv_at hl 0 rfl) ?_
                  refine getM F hH 1 (by decide) q175 rfl (v := .int (zI (n))) rfl dX1_goesOn_214 ?_
                  refine zr_icmp_gt (tgt := 234) F.x F.b dX1_goesOn_217 (by decide) (by omega) (by omega) (fun c217 => ?_) (fun c217 => ?_)
                  · refine lv_iconst (v := zI (0)) F.x F.b dX1_goesOn_234 (by decide +kernel) ?_
                    have e : so = 3 := by omega
                    subst e
                    exact CtM.zret F hH (by omega) (⟨ko_ans0 (fun h => absurd (ko_ok3.mp h) (by omega)), rfl⟩) dX1_goesOn_235
                  · refine lv_iconst (v := zI (2)) F.x F.b dX1_goesOn_220 (by decide +kernel) ?_
                    refine lv_iload F.x F.b dX1_goesOn_221 (lv_at hl 4 rfl) ?_
                    refine zr_imul F.x F.b (2 * ((sm : Nat) : Int)) dX1_goesOn_223 (rfl) ?_
                    refine lv_iload_n F.x F.b dX1_goesOn_224 rfl (lv_at hl 1 rfl) ?_
                    refine lv_iconst (v := zI (1)) F.x F.b dX1_goesOn_225 (by decide +kernel) ?_
                    refine zr_iadd F.x F.b (((i + 1 : Nat) : Int)) dX1_goesOn_226 (by omega) ?_
                    refine zr_icmp_lt (tgt := 234) F.x F.b dX1_goesOn_227 (by decide) (by omega) (by omega) (fun c227 => ?_) (fun c227 => ?_)
                    · refine lv_iconst (v := zI (0)) F.x F.b dX1_goesOn_234 (by decide +kernel) ?_
                      have e : so = 3 := by omega
                      subst e
                      exact CtM.zret F hH (by omega) (⟨ko_ans0 (fun h => absurd (ko_ok3.mp h) (by omega)), rfl⟩) dX1_goesOn_235
                    · refine lv_iconst (v := zI (1)) F.x F.b dX1_goesOn_230 (by decide +kernel) ?_
                      refine lv_goto (tgt := 235) F.x F.b dX1_goesOn_231 (by decide) ?_
                      have e : so = 3 := by omega
                      subst e
                      exact CtM.zret F hH (by omega) (⟨ko_ans1 (ko_ok3.mpr (by omega)), rfl⟩) dX1_goesOn_235
              · have hkL := hk (by omega)
                refine lv_iload F.x F.b dX1_goesOn_171 (lv_at hl 4 rfl) ?_
                refine lv_aload_n F.x F.b dX1_goesOn_173 rfl (lv_at hl 0 rfl) ?_
                refine getM F hH 1 (by decide) q175 rfl (v := .int (zI (n))) rfl dX1_goesOn_174 ?_
                refine zr_icmp_gt (tgt := 203) F.x F.b dX1_goesOn_177 (by decide) (by omega) (by omega) (fun c177 => ?_) (fun c177 => ?_)
                · refine lv_iconst (v := zI (0)) F.x F.b dX1_goesOn_203 (by decide +kernel) ?_
                  have e : so = 4 := by omega
                  subst e
                  exact CtM.zret F hH (by omega) (⟨ko_ans0 (fun h => absurd (ko_ok4.mp h) (by omega)), rfl⟩) dX1_goesOn_204
                · refine lv_iload_n F.x F.b dX1_goesOn_180 rfl (lv_at hl 1 rfl) ?_
                  refine lv_aload_n F.x F.b dX1_goesOn_181 rfl (lv_at hl 0 rfl) ?_
                  refine getM F hH 2 (by decide) q176 rfl (v := .int (zI (k))) rfl dX1_goesOn_182 ?_
                  refine lv_iconst (v := zI (1)) F.x F.b dX1_goesOn_185 (by decide +kernel) ?_
                  refine zr_isub F.x F.b ((L : Int) - 1) dX1_goesOn_186 (by omega) ?_
                  refine zr_icmp_lt (tgt := 199) F.x F.b dX1_goesOn_187 (by decide) (by omega) (by omega) (fun c187 => ?_) (fun c187 => ?_)
                  · refine lv_iconst (v := zI (1)) F.x F.b dX1_goesOn_199 (by decide +kernel) ?_
                    refine lv_goto (tgt := 204) F.x F.b dX1_goesOn_200 (by decide) ?_
                    have e : so = 4 := by omega
                    subst e
                    exact CtM.zret F hH (by omega) (⟨ko_ans1 (ko_ok4.mpr (by omega)), rfl⟩) dX1_goesOn_204
                  · refine lv_iload F.x F.b dX1_goesOn_190 (lv_at hl 4 rfl) ?_
                    refine lv_aload_n F.x F.b dX1_goesOn_192 rfl (lv_at hl 0 rfl) ?_
                    refine getM F hH 1 (by decide) q175 rfl (v := .int (zI (n))) rfl dX1_goesOn_193 ?_
                    refine zr_icmp_ne (tgt := 203) F.x F.b dX1_goesOn_196 (by decide) (by omega) (by omega) (fun c196 => ?_) (fun c196 => ?_)
                    · refine lv_iconst (v := zI (0)) F.x F.b dX1_goesOn_203 (by decide +kernel) ?_
                      have e : so = 4 := by omega
                      subst e
                      exact CtM.zret F hH (by omega) (⟨ko_ans0 (fun h => absurd (ko_ok4.mp h) (by omega)), rfl⟩) dX1_goesOn_204
                    · refine lv_iconst (v := zI (1)) F.x F.b dX1_goesOn_199 (by decide +kernel) ?_
                      refine lv_goto (tgt := 204) F.x F.b dX1_goesOn_200 (by decide) ?_
                      have e : so = 4 := by omega
                      subst e
                      exact CtM.zret F hH (by omega) (⟨ko_ans1 (ko_ok4.mpr (by omega)), rfl⟩) dX1_goesOn_204
            · refine lv_iload F.x F.b dX1_goesOn_148 (lv_at hl 2 rfl) ?_
              refine lv_iload F.x F.b dX1_goesOn_150 (lv_at hl 3 rfl) ?_
              refine lv_iconst (v := zI (1)) F.x F.b dX1_goesOn_152 (by decide +kernel) ?_
              refine zr_iadd F.x F.b (((mm : Nat) : Int)) dX1_goesOn_153 (by omega) ?_
              refine zr_icmp_gt (tgt := 161) F.x F.b dX1_goesOn_154 (by decide) (by omega) (by omega) (fun c154 => ?_) (fun c154 => ?_)
              · refine lv_iconst (v := zI (0)) F.x F.b dX1_goesOn_161 (by decide +kernel) ?_
                have e : so = 2 := by omega
                subst e
                exact CtM.zret F hH (by omega) (⟨ko_ans0 (fun h => absurd (ko_ok2.mp h) (by omega)), rfl⟩) dX1_goesOn_162
              · refine lv_iconst (v := zI (1)) F.x F.b dX1_goesOn_157 (by decide +kernel) ?_
                refine lv_goto (tgt := 162) F.x F.b dX1_goesOn_158 (by decide) ?_
                have e : so = 2 := by omega
                subst e
                exact CtM.zret F hH (by omega) (⟨ko_ans1 (ko_ok2.mpr (by omega)), rfl⟩) dX1_goesOn_162
          · refine lv_iload F.x F.b dX1_goesOn_120 (lv_at hl 2 rfl) ?_
            refine lv_aload_n F.x F.b dX1_goesOn_122 rfl (lv_at hl 0 rfl) ?_
            refine getM F hH 1 (by decide) q175 rfl (v := .int (zI (n))) rfl dX1_goesOn_123 ?_
            refine zr_icmp_ge (tgt := 138) F.x F.b dX1_goesOn_126 (by decide) (by omega) (by omega) (fun c126 => ?_) (fun c126 => ?_)
            · refine lv_iconst (v := zI (0)) F.x F.b dX1_goesOn_138 (by decide +kernel) ?_
              have e : so = 1 := by omega
              subst e
              exact CtM.zret F hH (by omega) (⟨ko_ans0 (fun h => absurd (ko_ok1.mp h) (by omega)), rfl⟩) dX1_goesOn_139
            · rcases hhd with ⟨hb1, hb2_⟩ | ⟨hb1, hb2_⟩
              · refine lv_iload F.x F.b dX1_goesOn_129 (lv_at hl 6 rfl) ?_
                refine zr_if_ne (tgt := 138) F.x F.b dX1_goesOn_131 (by decide) (by omega) (fun c131 => ?_) (fun c131 => ?_)
                · exact absurd hb1 c131
                · refine lv_iconst (v := zI (1)) F.x F.b dX1_goesOn_134 (by decide +kernel) ?_
                  refine lv_goto (tgt := 139) F.x F.b dX1_goesOn_135 (by decide) ?_
                  have e : so = 1 := by omega
                  subst e
                  exact CtM.zret F hH (by omega) (⟨ko_ans1 (ko_ok1.mpr (⟨by omega, hb2_.symm⟩)), rfl⟩) dX1_goesOn_139
              · refine lv_iload F.x F.b dX1_goesOn_129 (lv_at hl 6 rfl) ?_
                refine zr_if_ne (tgt := 138) F.x F.b dX1_goesOn_131 (by decide) (by omega) (fun c131 => ?_) (fun c131 => ?_)
                · refine lv_iconst (v := zI (0)) F.x F.b dX1_goesOn_138 (by decide +kernel) ?_
                  have e : so = 1 := by omega
                  subst e
                  exact CtM.zret F hH (by omega) (⟨ko_ans0 (fun h => absurd (ko_ok1.mp h) (by rw [hb2_]; simp)), rfl⟩) dX1_goesOn_139
                · exact absurd c131 (by omega)
        · refine lv_iload F.x F.b dX1_goesOn_90 (lv_at hl 2 rfl) ?_
          refine lv_aload_n F.x F.b dX1_goesOn_92 rfl (lv_at hl 0 rfl) ?_
          refine getM F hH 1 (by decide) q175 rfl (v := .int (zI (n))) rfl dX1_goesOn_93 ?_
          refine zr_icmp_ge (tgt := 110) F.x F.b dX1_goesOn_96 (by decide) (by omega) (by omega) (fun c96 => ?_) (fun c96 => ?_)
          · refine lv_iconst (v := zI (0)) F.x F.b dX1_goesOn_110 (by decide +kernel) ?_
            have e : so = 0 := by omega
            subst e
            exact CtM.zret F hH (by omega) (⟨ko_ans0 (fun h => absurd (ko_ok0.mp h) (by omega)), rfl⟩) dX1_goesOn_111
          · refine lv_iload F.x F.b dX1_goesOn_99 (lv_at hl 2 rfl) ?_
            refine lv_iload F.x F.b dX1_goesOn_101 (lv_at hl 5 rfl) ?_
            refine zr_icmp_le (tgt := 110) F.x F.b dX1_goesOn_103 (by decide) (by omega) (by omega) (fun c103 => ?_) (fun c103 => ?_)
            · refine lv_iconst (v := zI (0)) F.x F.b dX1_goesOn_110 (by decide +kernel) ?_
              have e : so = 0 := by omega
              subst e
              exact CtM.zret F hH (by omega) (⟨ko_ans0 (fun h => absurd (ko_ok0.mp h) (by omega)), rfl⟩) dX1_goesOn_111
            · refine lv_iconst (v := zI (1)) F.x F.b dX1_goesOn_106 (by decide +kernel) ?_
              refine lv_goto (tgt := 111) F.x F.b dX1_goesOn_107 (by decide) ?_
              have e : so = 0 := by omega
              subst e
              exact CtM.zret F hH (by omega) (⟨ko_ans1 (ko_ok0.mpr (by omega)), rfl⟩) dX1_goesOn_111
      · exact absurd c22 (by omega)
    | succ r ih =>
      intro t ht mm sm la hd hmm hm8 hsm hla hhd ls hl
      have h8r := h8 r
      have hcb := ko_cod62 h8 (show r + 1 ≤ 14 by omega)
      have hv : ko_cod x (r + 1) % 8 = x r := by show (8 * ko_cod x r + x r) % 8 = x r; omega
      have hdv : ko_cod x (r + 1) / 2 ^ 3 = ko_cod x r := by show (8 * ko_cod x r + x r) / 8 = ko_cod x r; omega
      have hb4r := ko_t4b h8 (r + 1)
      rw [ko_t4s] at hsm hb4r
      rw [ko_t2s] at hmm
      rw [ko_t1s, Nat.testBit_or, Nat.testBit_two_pow] at hhd
      refine lv_iload F.x F.b dX1_goesOn_19 (lv_at hl 8 rfl) ?_
      refine lv_iload_n F.x F.b dX1_goesOn_21 rfl (lv_at hl 1 rfl) ?_
      refine zr_icmp_ge (tgt := 83) F.x F.b dX1_goesOn_22 (by decide) (by omega) (by omega) (fun c22 => ?_) (fun c22 => ?_)
      · exact absurd c22 (by omega)
      · refine lv_lload F.x F.b dX1_goesOn_25 (lv_at hl 7 rfl) ?_
        refine lv_ldc2 F.x F.b F.2.2.2.1 (F.2.2.2.2.1 _ q172) dX1_goesOn_27 ?_
        refine zr_topl (y := lN (7)) (by decide +kernel) ?_
        refine lv_land F.x F.b dX1_goesOn_30 ?_
        refine zr_topl (by rw [zL_and7b hcb, hv]) ?_
        refine lv_l2i (v := zI (x r)) F.x F.b dX1_goesOn_31 (zL_l2i _) ?_
        refine lv_istore (lv' := [(12, .int (zI (x r))), (0, .ref (E.1 0)), (3, .int (zI (i))), (4, .int (zI (y))), (5, .int (zI (((mm : Nat) : Int) - 1))), (6, .int (zI (((sm : Nat) : Int)))), (7, .int (zI (la))), (8, .int (zI (hd))), (9, .long (lN (ko_cod x (r + 1)))), (11, .int (zI (t)))]) F.x F.b dX1_goesOn_32 hl (by decide) rfl (fun ls hl => ?_)
        have stC : ∀ mm2 : Nat, max mm2 (ko_tau 2 x r) = ko_tau 2 x i → mm2 ≤ 8 → ∀ la2 : Int, la2 = x (i - 1) → ∀ hd2 : Int, ((hd2 = 0 ∧ (ko_tau 1 x (r)).testBit y = (ko_tau 1 x (i)).testBit y) ∨ (hd2 = 1 ∧ (ko_tau 1 x (i)).testBit y = true)) → ∀ ls : Array Slot, lv_has ls 13 [(0, .ref (E.1 0)), (3, .int (zI (i))), (4, .int (zI (y))), (5, .int (zI (((mm2 : Nat) : Int) - 1))), (6, .int (zI (((sm : Nat) : Int)))), (7, .int (zI (la2))), (8, .int (zI (hd2))), (9, .long (lN (ko_cod x (r + 1)))), (11, .int (zI (t))), (12, .int (zI (x r)))] → W p l e (rmX 0 0) s0 m ([.ref (E.1 0), .long (lN (ko_cod x i)), .int (zI (i)), .int (zI (y))] : List Value).toArray below meth c s0.heap [] 0 0 (MQ below (QcM E A (fun w v => w = (if ko_ok so n L i (ko_tau so x i) y = true then 1 else 0) ∧ v = (so, n, k, nw, ct, f, g))) ([.ref (E.1 0), .long (lN (ko_cod x i)), .int (zI (i)), .int (zI (y))] : List Value).toArray s0 0 0 A) (F0 m 64 ls []) := by
          intro mm2 hm2 hm28 la2 hla2 hd2 hh2 ls hl
          refine lv_iload F.x F.b dX1_goesOn_64 (lv_at hl 4 rfl) ?_
          refine lv_iload F.x F.b dX1_goesOn_66 (lv_at hl 9 rfl) ?_
          refine zr_iadd F.x F.b (((sm + x r : Nat) : Int)) dX1_goesOn_68 (by omega) ?_
          refine lv_istore (lv' := [(6, .int (zI (((sm + x r : Nat) : Int)))), (0, .ref (E.1 0)), (3, .int (zI (i))), (4, .int (zI (y))), (5, .int (zI (((mm2 : Nat) : Int) - 1))), (7, .int (zI (la2))), (8, .int (zI (hd2))), (9, .long (lN (ko_cod x (r + 1)))), (11, .int (zI (t))), (12, .int (zI (x r)))]) F.x F.b dX1_goesOn_69 hl (by decide) rfl (fun ls hl => ?_)
          refine lv_lload F.x F.b dX1_goesOn_71 (lv_at hl 7 rfl) ?_
          refine lv_iconst (v := zI (3)) F.x F.b dX1_goesOn_73 (by decide +kernel) ?_
          refine lv_lushr (v := lN (ko_cod x r)) F.x F.b dX1_goesOn_74 ((zL_shr (k := 3) hcb (by decide)).trans (by rw [hdv])) ?_
          refine lv_lstore (lv' := [(9, .long (lN (ko_cod x r))), (6, .int (zI (((sm + x r : Nat) : Int)))), (0, .ref (E.1 0)), (3, .int (zI (i))), (4, .int (zI (y))), (5, .int (zI (((mm2 : Nat) : Int) - 1))), (7, .int (zI (la2))), (8, .int (zI (hd2))), (11, .int (zI (t))), (12, .int (zI (x r)))]) F.x F.b dX1_goesOn_75 hl (by decide) rfl (fun ls hl => ?_)
          refine zr_iinc F.x F.b (((t + 1 : Nat) : Int)) (lv' := [(11, .int (zI (((t + 1 : Nat) : Int)))), (9, .long (lN (ko_cod x r))), (6, .int (zI (((sm + x r : Nat) : Int)))), (0, .ref (E.1 0)), (3, .int (zI (i))), (4, .int (zI (y))), (5, .int (zI (((mm2 : Nat) : Int) - 1))), (7, .int (zI (la2))), (8, .int (zI (hd2))), (12, .int (zI (x r)))]) dX1_goesOn_77 hl (k := 8) rfl (by omega) (by decide) rfl (fun ls hl => ?_)
          refine lv_goto (tgt := 19) F.x F.b dX1_goesOn_80 (by decide) ?_
          exact ih (t + 1) (by omega) mm2 (sm + x r) la2 hd2 hm2 hm28 (by omega) (Or.inr ⟨by omega, hla2⟩) hh2 ls (lv_sub hl [3, 4, 5, 6, 2, 7, 8, 1, 0] rfl)
        have stB : ∀ mm2 : Nat, max mm2 (ko_tau 2 x r) = ko_tau 2 x i → mm2 ≤ 8 → ∀ la2 : Int, la2 = x (i - 1) → ∀ ls : Array Slot, lv_has ls 13 [(0, .ref (E.1 0)), (3, .int (zI (i))), (4, .int (zI (y))), (5, .int (zI (((mm2 : Nat) : Int) - 1))), (6, .int (zI (((sm : Nat) : Int)))), (7, .int (zI (la2))), (8, .int (zI (hd))), (9, .long (lN (ko_cod x (r + 1)))), (11, .int (zI (t))), (12, .int (zI (x r)))] → W p l e (rmX 0 0) s0 m ([.ref (E.1 0), .long (lN (ko_cod x i)), .int (zI (i)), .int (zI (y))] : List Value).toArray below meth c s0.heap [] 0 0 (MQ below (QcM E A (fun w v => w = (if ko_ok so n L i (ko_tau so x i) y = true then 1 else 0) ∧ v = (so, n, k, nw, ct, f, g))) ([.ref (E.1 0), .long (lN (ko_cod x i)), .int (zI (i)), .int (zI (y))] : List Value).toArray s0 0 0 A) (F0 m 54 ls []) := by
          intro mm2 hm2 hm28 la2 hla2 ls hl
          refine lv_iload F.x F.b dX1_goesOn_54 (lv_at hl 9 rfl) ?_
          refine lv_iload F.x F.b dX1_goesOn_56 (lv_at hl 2 rfl) ?_
          refine zr_icmp_ne (tgt := 64) F.x F.b dX1_goesOn_58 (by decide) (by omega) (by omega) (fun c58 => ?_) (fun c58 => ?_)
          · have hne : decide (x r = y) = false := by simp; omega
            rw [hne, Bool.or_false] at hhd
            exact stC mm2 hm2 hm28 la2 hla2 hd hhd ls hl
          · have hne : decide (x r = y) = true := by simp; omega
            rw [hne, Bool.or_true] at hhd
            refine lv_iconst (v := zI (1)) F.x F.b dX1_goesOn_61 (by decide +kernel) ?_
            refine lv_istore (lv' := [(8, .int (zI (1))), (0, .ref (E.1 0)), (3, .int (zI (i))), (4, .int (zI (y))), (5, .int (zI (((mm2 : Nat) : Int) - 1))), (6, .int (zI (((sm : Nat) : Int)))), (7, .int (zI (la2))), (9, .long (lN (ko_cod x (r + 1)))), (11, .int (zI (t))), (12, .int (zI (x r)))]) F.x F.b dX1_goesOn_62 hl (by decide) rfl (fun ls hl => ?_)
            exact stC mm2 hm2 hm28 la2 hla2 1 (Or.inr ⟨rfl, hhd.elim (fun h => h.2.symm) (fun h => h.2)⟩) ls (lv_sub hl [1, 2, 3, 4, 5, 6, 0, 7, 8, 9] rfl)
        have stA : ∀ la2 : Int, la2 = x (i - 1) → ∀ ls : Array Slot, lv_has ls 13 [(0, .ref (E.1 0)), (3, .int (zI (i))), (4, .int (zI (y))), (5, .int (zI (((mm : Nat) : Int) - 1))), (6, .int (zI (((sm : Nat) : Int)))), (7, .int (zI (la2))), (8, .int (zI (hd))), (9, .long (lN (ko_cod x (r + 1)))), (11, .int (zI (t))), (12, .int (zI (x r)))] → W p l e (rmX 0 0) s0 m ([.ref (E.1 0), .long (lN (ko_cod x i)), .int (zI (i)), .int (zI (y))] : List Value).toArray below meth c s0.heap [] 0 0 (MQ below (QcM E A (fun w v => w = (if ko_ok so n L i (ko_tau so x i) y = true then 1 else 0) ∧ v = (so, n, k, nw, ct, f, g))) ([.ref (E.1 0), .long (lN (ko_cod x i)), .int (zI (i)), .int (zI (y))] : List Value).toArray s0 0 0 A) (F0 m 43 ls []) := by
          intro la2 hla2 ls hl
          refine lv_iload F.x F.b dX1_goesOn_43 (lv_at hl 9 rfl) ?_
          refine lv_iload F.x F.b dX1_goesOn_45 (lv_at hl 3 rfl) ?_
          refine zr_icmp_le (tgt := 54) F.x F.b dX1_goesOn_47 (by decide) (by omega) (by omega) (fun c47 => ?_) (fun c47 => ?_)
          · exact stB mm (by omega) hm8 la2 hla2 ls hl
          · refine lv_iload F.x F.b dX1_goesOn_50 (lv_at hl 9 rfl) ?_
            refine zr_top (y := zI (((x r + 1 : Nat) : Int) - 1)) (by congr 1; omega) ?_
            refine lv_istore (lv' := [(5, .int (zI (((x r + 1 : Nat) : Int) - 1))), (0, .ref (E.1 0)), (3, .int (zI (i))), (4, .int (zI (y))), (6, .int (zI (((sm : Nat) : Int)))), (7, .int (zI (la2))), (8, .int (zI (hd))), (9, .long (lN (ko_cod x (r + 1)))), (11, .int (zI (t))), (12, .int (zI (x r)))]) F.x F.b dX1_goesOn_52 hl (by decide) rfl (fun ls hl => ?_)
            exact stB (x r + 1) (by omega) (by omega) la2 hla2 ls (lv_sub hl [1, 2, 3, 0, 4, 5, 6, 7, 8, 9] rfl)
        refine lv_iload F.x F.b dX1_goesOn_34 (lv_at hl 9 rfl) ?_
        refine zr_if_ne (tgt := 43) F.x F.b dX1_goesOn_36 (by decide) (by omega) (fun c36 => ?_) (fun c36 => ?_)
        · exact stA la (by omega) ls (lv_sub hl [1, 2, 3, 4, 5, 6, 7, 8, 9, 0] rfl)
        · have er : i - 1 = r := by omega
          refine lv_iload F.x F.b dX1_goesOn_39 (lv_at hl 0 rfl) ?_
          refine lv_istore (lv' := [(7, .int (zI (x r))), (12, .int (zI (x r))), (0, .ref (E.1 0)), (3, .int (zI (i))), (4, .int (zI (y))), (5, .int (zI (((mm : Nat) : Int) - 1))), (6, .int (zI (((sm : Nat) : Int)))), (8, .int (zI (hd))), (9, .long (lN (ko_cod x (r + 1)))), (11, .int (zI (t)))]) F.x F.b dX1_goesOn_41 hl (by decide) rfl (fun ls hl => ?_)
          exact stA _ (by rw [er]) ls (lv_sub hl [2, 3, 4, 5, 6, 0, 7, 8, 9, 1] rfl)
  exact loop i 0 (by omega) 0 y (-1) 0 (Nat.max_eq_right (Nat.zero_le _)) (by omega) rfl (Or.inl ⟨rfl, rfl⟩) (Or.inl ⟨rfl, rfl⟩) ls (lv_sub hl [6, 8, 9, 5, 4, 3, 2, 1, 0] rfl)
end
section
set_option maxRecDepth 100000
theorem ko_holds0 (s n L : Nat) (f : Nat → Nat) : ko_holds (zU f 0 0) (ko_lev s n L 0) := by
  intro j hj
  have hj1 : j < 1 := hj
  have e0 : j = 0 := by omega
  rw [e0]
  exact zU_s
set_option maxHeartbeats 4000000 in
/-- write() -/
theorem cM_write (l : Launch) (E : EM) (so n : Nat) (k : Int) (nw ct : Nat) (f g : Nat → Nat) (L : Nat) (hm : ko_mk so n k L) : CtMv l yX1_write cX1_write 4  1 32 E [] (so, n, k, nw, ct, f, g) (fun v => ∃ f2 g2 : Nat → Nat, ko_holds f2 (ko_objs so n L) ∧ v = (so, n, k, nw, (ko_objs so n L).length, f2, g2)) := by
  refine CtMv.start (by decide +kernel) rfl ?_
  intro p e s0 m below meth c A F hH
  have hl := lv_entry ([.ref (E.1 0)]) (n := 4) (Nat.le_of_ble_eq_true rfl)
  rw [lg_entry_eq]
  generalize (lg_sl ([.ref (E.1 0)]) ++ List.replicate (4 - (lg_sl ([.ref (E.1 0)])).length) Slot.unset).toArray = ls at hl ⊢
  have hl : lv_has ls 4 [(0, .ref (E.1 0))] := hl
  obtain ⟨k1, k2, k3, k4, k5, k6, k7, k8⟩ := ko_cfg_b hm.1
  have hc := hm.1
  refine lv_aload_n F.x F.b dX1_write_0 rfl (lv_at hl 0 rfl) ?_
  refine lv_aload_n F.x F.b dX1_write_1 rfl (lv_at hl 0 rfl) ?_
  refine CtM.call (n := 0) (cM_length l E so n k nw ct f g L hm) F hH (lw_V q164 q166 qs12 q18 q167) (by decide +kernel) ⟨Nat.le_of_ble_eq_true rfl, Nat.le_of_ble_eq_true rfl⟩ rfl hl.1 rfl (Nat.le_of_ble_eq_true rfl) dX1_write_2 ⟨Nat.le_refl _, Nat.le_refl _⟩ (fun z9 v9 H locs hp hH => ?_)
  obtain ⟨rfl, rfl⟩ := hp
  have loop : (so = 4 → 0 < L) → ∀ d i : Nat, d + i = L → ∀ f g : Nat → Nat, ko_holds f (ko_lev so n L (i)) → ∀ (H : Heap) (locs : List Loc), HM E s0 A (so, n, k, nw, (ko_lev so n L (i)).length, f, g) H locs → ∀ ls : Array Slot, lv_has ls 4 [(0, .ref (E.1 0)), (1, .int (zI (i)))] → W p l e (rmX 1 32) s0 m ([.ref (E.1 0)] : List Value).toArray below meth c H locs 0 0 (MQ below (QcMv E A (fun v => ∃ f2 g2 : Nat → Nat, ko_holds f2 (ko_objs so n L) ∧ v = (so, n, k, nw, (ko_objs so n L).length, f2, g2))) ([.ref (E.1 0)] : List Value).toArray s0 0 0 A) (F0 m 33 ls []) := by
    intro hlv d
    induction d with
    | zero =>
      intro i hd f g hf H locs hH ls hl
      refine lv_iload_n F.x F.b dX1_write_33 rfl (lv_at hl 1 rfl) ?_
      refine lv_aload_n F.x F.b dX1_write_34 rfl (lv_at hl 0 rfl) ?_
      refine CtM.call (n := 0) (cM_length l E so n k nw (ko_lev so n L (i)).length f g L hm) F hH (lw_V q164 q166 qs12 q18 q167) (by decide +kernel) ⟨Nat.le_of_ble_eq_true rfl, Nat.le_of_ble_eq_true rfl⟩ rfl hl.1 rfl (Nat.le_of_ble_eq_true rfl) dX1_write_35 ⟨Nat.le_refl _, Nat.le_refl _⟩ (fun z9 v9 H locs hp hH => ?_)
      obtain ⟨rfl, rfl⟩ := hp
      refine zr_icmp_ge (tgt := 150) F.x F.b dX1_write_38 (by decide) (by omega) (by omega) (fun c38 => ?_) (fun c38 => ?_)
      · have eL : i = L := by omega
        rw [eL, ko_lev_end, ← ko_objs_live hlv] at hf hH
        exact CtM.vret F hH (⟨f, g, hf, rfl⟩) dX1_write_150
      · exact absurd c38 (by omega)
    | succ d ih =>
      intro i hd f g hf H locs hH ls hl
      refine lv_iload_n F.x F.b dX1_write_33 rfl (lv_at hl 1 rfl) ?_
      refine lv_aload_n F.x F.b dX1_write_34 rfl (lv_at hl 0 rfl) ?_
      refine CtM.call (n := 0) (cM_length l E so n k nw (ko_lev so n L (i)).length f g L hm) F hH (lw_V q164 q166 qs12 q18 q167) (by decide +kernel) ⟨Nat.le_of_ble_eq_true rfl, Nat.le_of_ble_eq_true rfl⟩ rfl hl.1 rfl (Nat.le_of_ble_eq_true rfl) dX1_write_35 ⟨Nat.le_refl _, Nat.le_refl _⟩ (fun z9 v9 H locs hp hH => ?_)
      obtain ⟨rfl, rfl⟩ := hp
      refine zr_icmp_ge (tgt := 150) F.x F.b dX1_write_38 (by decide) (by omega) (by omega) (fun c38 => ?_) (fun c38 => ?_)
      · exact absurd c38 (by omega)
      · have hb := ko_lev_le hc hlv (show i ≤ L by omega)
        have hb1 := ko_lev_le hc hlv (show i + 1 ≤ L by omega)
        have hext := ko_ext_lev (s := so) (n := n) (L := L) (i := i)
        have hmem := ko_lev_mem hc hlv i (by omega)
        refine lv_iconst (v := zI (0)) F.x F.b dX1_write_41 (by decide +kernel) ?_
        refine lv_istore_n (lv' := [(2, .int (zI (0))), (0, .ref (E.1 0)), (1, .int (zI (i)))]) F.x F.b dX1_write_42 rfl hl (by decide) rfl (fun ls hl => ?_)
        refine lv_iconst (v := zI (0)) F.x F.b dX1_write_43 (by decide +kernel) ?_
        refine lv_istore_n (lv' := [(3, .int (zI (0))), (2, .int (zI (0))), (0, .ref (E.1 0)), (1, .int (zI (i)))]) F.x F.b dX1_write_44 rfl hl (by decide) rfl (fun ls hl => ?_)
        have inner : ∀ d2 j : Nat, d2 + j = 8 * (ko_lev so n L (i)).length → ∀ g : Nat → Nat, ko_holds g (ko_ext so n L i (ko_lev so n L i) (j)) → ∀ (H : Heap) (locs : List Loc), HM E s0 A (so, n, k, nw, (ko_lev so n L (i)).length, f, g) H locs → ∀ ls : Array Slot, lv_has ls 4 [(0, .ref (E.1 0)), (1, .int (zI (i))), (2, .int (zI ((((ko_ext so n L i (ko_lev so n L i) (j)).length : Nat) : Int)))), (3, .int (zI (j)))] → W p l e (rmX 1 32) s0 m ([.ref (E.1 0)] : List Value).toArray below meth c H locs 0 0 (MQ below (QcMv E A (fun v => ∃ f2 g2 : Nat → Nat, ko_holds f2 (ko_objs so n L) ∧ v = (so, n, k, nw, (ko_objs so n L).length, f2, g2))) ([.ref (E.1 0)] : List Value).toArray s0 0 0 A) (F0 m 45 ls []) := by
          intro d2
          induction d2 with
          | zero =>
            intro j hd2 g hg H locs hH ls hl
            refine lv_iload_n F.x F.b dX1_write_45 rfl (lv_at hl 3 rfl) ?_
            refine lv_bipush (v := zI (8)) F.x F.b dX1_write_46 (by decide +kernel) ?_
            refine lv_aload_n F.x F.b dX1_write_48 rfl (lv_at hl 0 rfl) ?_
            refine getM F hH 4 (by decide) q178 rfl (v := .int (zI ((ko_lev so n L (i)).length))) rfl dX1_write_49 ?_
            refine zr_imul F.x F.b (((8 * (ko_lev so n L (i)).length : Nat) : Int)) dX1_write_52 (by omega) ?_
            refine zr_icmp_ge (tgt := 111) F.x F.b dX1_write_53 (by decide) (by omega) (by omega) (fun c53 => ?_) (fun c53 => ?_)
            · have ej : j = 8 * (ko_lev so n L (i)).length := by omega
              rw [ej, hext] at hg hl
              refine lv_aload_n F.x F.b dX1_write_111 rfl (lv_at hl 0 rfl) ?_
              refine lv_iload_n F.x F.b dX1_write_112 rfl (lv_at hl 2 rfl) ?_
              refine putM F hH 4 (by decide) q178 ⟨rfl, rfl, by decide +kernel⟩ (so, n, k, nw, (ko_lev so n L (i + 1)).length, f, g) rfl dX1_write_113 (fun H locs hH => ?_)
              refine lv_iconst (v := zI (0)) F.x F.b dX1_write_116 (by decide +kernel) ?_
              refine lv_istore_n (lv' := [(3, .int (zI (0))), (0, .ref (E.1 0)), (1, .int (zI (i))), (2, .int (zI ((((ko_lev so n L (i + 1)).length : Nat) : Int))))]) F.x F.b dX1_write_117 rfl hl (by decide) rfl (fun ls hl => ?_)
              have copy : ∀ d3 t : Nat, d3 + t = (ko_lev so n L (i + 1)).length → ∀ f2 : Nat → Nat, (∀ q, q < t → f2 q = (ko_lev so n L (i + 1)).getD q 0) → ∀ (H : Heap) (locs : List Loc), HM E s0 A (so, n, k, nw, (ko_lev so n L (i + 1)).length, f2, g) H locs → ∀ ls : Array Slot, lv_has ls 4 [(0, .ref (E.1 0)), (1, .int (zI (i))), (3, .int (zI (t)))] → W p l e (rmX 1 32) s0 m ([.ref (E.1 0)] : List Value).toArray below meth c H locs 0 0 (MQ below (QcMv E A (fun v => ∃ f2 g2 : Nat → Nat, ko_holds f2 (ko_objs so n L) ∧ v = (so, n, k, nw, (ko_objs so n L).length, f2, g2))) ([.ref (E.1 0)] : List Value).toArray s0 0 0 A) (F0 m 118 ls []) := by
                intro d3
                induction d3 with
                | zero =>
                  intro t hd3 f2 hf2 H locs hH ls hl
                  refine lv_iload_n F.x F.b dX1_write_118 rfl (lv_at hl 2 rfl) ?_
                  refine lv_aload_n F.x F.b dX1_write_119 rfl (lv_at hl 0 rfl) ?_
                  refine getM F hH 4 (by decide) q178 rfl (v := .int (zI ((ko_lev so n L (i + 1)).length))) rfl dX1_write_120 ?_
                  refine zr_icmp_ge (tgt := 144) F.x F.b dX1_write_123 (by decide) (by omega) (by omega) (fun c123 => ?_) (fun c123 => ?_)
                  · refine zr_iinc F.x F.b (((i + 1 : Nat) : Int)) (lv' := [(1, .int (zI (((i + 1 : Nat) : Int)))), (0, .ref (E.1 0)), (3, .int (zI (t)))]) dX1_write_144 hl (k := 1) rfl (by omega) (by decide) rfl (fun ls hl => ?_)
                    refine lv_goto (tgt := 33) F.x F.b dX1_write_147 (by decide) ?_
                    exact ih (i + 1) (by omega) f2 g (fun q hq => hf2 q (by omega)) H locs hH ls (lv_sub hl [1, 0] rfl)
                  · exact absurd c123 (by omega)
                | succ d3 ih3 =>
                  intro t hd3 f2 hf2 H locs hH ls hl
                  refine lv_iload_n F.x F.b dX1_write_118 rfl (lv_at hl 2 rfl) ?_
                  refine lv_aload_n F.x F.b dX1_write_119 rfl (lv_at hl 0 rfl) ?_
                  refine getM F hH 4 (by decide) q178 rfl (v := .int (zI ((ko_lev so n L (i + 1)).length))) rfl dX1_write_120 ?_
                  refine zr_icmp_ge (tgt := 144) F.x F.b dX1_write_123 (by decide) (by omega) (by omega) (fun c123 => ?_) (fun c123 => ?_)
                  · exact absurd c123 (by omega)
                  · refine lv_aload_n F.x F.b dX1_write_126 rfl (lv_at hl 0 rfl) ?_
                    refine getM F hH 5 (by decide) q179 rfl (v := .ref (E.1 5)) rfl dX1_write_127 ?_
                    refine lv_iload_n F.x F.b dX1_write_130 rfl (lv_at hl 2 rfl) ?_
                    refine lv_aload_n F.x F.b dX1_write_131 rfl (lv_at hl 0 rfl) ?_
                    refine getM F hH 6 (by decide) q180 rfl (v := .ref (E.1 6)) rfl dX1_write_132 ?_
                    refine lv_iload_n F.x F.b dX1_write_135 rfl (lv_at hl 2 rfl) ?_
                    refine laldM F hH 2 (g) rfl (t) (rfl) (by omega) dX1_write_136 ?_
                    refine lastM F hH 1 (f2) rfl (t) (g t) (rfl) (by omega) (rfl) (so, n, k, nw, (ko_lev so n L (i + 1)).length, (zU (f2) (t) (g t)), g) rfl dX1_write_137 (fun H locs hH => ?_)
                    refine zr_iinc F.x F.b (((t + 1 : Nat) : Int)) (lv' := [(3, .int (zI (((t + 1 : Nat) : Int)))), (0, .ref (E.1 0)), (1, .int (zI (i)))]) dX1_write_138 hl (k := 2) rfl (by omega) (by decide) rfl (fun ls hl => ?_)
                    refine lv_goto (tgt := 118) F.x F.b dX1_write_141 (by decide) ?_
                    refine ih3 (t + 1) (by omega) (zU f2 t (g t)) (fun q hq => ?_) H locs hH ls (lv_sub hl [1, 2, 0] rfl)
                    by_cases e9 : q = t
                    · subst e9; rw [zU_s]; exact hg q (by omega)
                    · rw [zU_n e9]; exact hf2 q (by omega)
              exact copy (ko_lev so n L (i + 1)).length 0 (by omega) f (fun q hq => absurd hq (Nat.not_lt_zero q)) H locs hH ls (lv_sub hl [1, 2, 0] rfl)
            · exact absurd c53 (by omega)
          | succ d2 ih2 =>
            intro j hd2 g hg H locs hH ls hl
            refine lv_iload_n F.x F.b dX1_write_45 rfl (lv_at hl 3 rfl) ?_
            refine lv_bipush (v := zI (8)) F.x F.b dX1_write_46 (by decide +kernel) ?_
            refine lv_aload_n F.x F.b dX1_write_48 rfl (lv_at hl 0 rfl) ?_
            refine getM F hH 4 (by decide) q178 rfl (v := .int (zI ((ko_lev so n L (i)).length))) rfl dX1_write_49 ?_
            refine zr_imul F.x F.b (((8 * (ko_lev so n L (i)).length : Nat) : Int)) dX1_write_52 (by omega) ?_
            refine zr_icmp_ge (tgt := 111) F.x F.b dX1_write_53 (by decide) (by omega) (by omega) (fun c53 => ?_) (fun c53 => ?_)
            · exact absurd c53 (by omega)
            · have hq : j / 8 < (ko_lev so n L (i)).length := by omega
              have hjm : j % 8 < 8 := by omega
              have hfq := hf (j / 8) hq
              obtain ⟨hc8, -⟩ := hmem _ (ko_getD_mem hq)
              have hcod := ko_cod_dig i _ hc8
              have hsx := ko_ext_s (s := so) (n := n) (L := L) (i := i) (l := (ko_lev so n L (i))) (j := j)
              have hmn := ko_ext_mono (s := so) (n := n) (L := L) (i := i) (l := (ko_lev so n L (i))) (show j + 1 ≤ 8 * (ko_lev so n L (i)).length by omega)
              rw [hext] at hmn
              rw [← hfq] at hc8 hcod hsx
              refine lv_aload_n F.x F.b dX1_write_56 rfl (lv_at hl 0 rfl) ?_
              refine lv_aload_n F.x F.b dX1_write_57 rfl (lv_at hl 0 rfl) ?_
              refine getM F hH 5 (by decide) q179 rfl (v := .ref (E.1 5)) rfl dX1_write_58 ?_
              refine lv_iload_n F.x F.b dX1_write_61 rfl (lv_at hl 3 rfl) ?_
              refine lv_bipush (v := zI (8)) F.x F.b dX1_write_62 (by decide +kernel) ?_
              refine zr_idiv F.x F.b (j) (8) dX1_write_64 rfl rfl (by omega) (by omega) (by omega) ?_
              refine laldM F hH 1 (f) rfl (j / 8) (rfl) (by omega) dX1_write_65 ?_
              refine zr_topl (y := lN (ko_cod (ko_dig i (f (j / 8))) i)) (by rw [hcod]) ?_
              refine lv_iload_n F.x F.b dX1_write_66 rfl (lv_at hl 1 rfl) ?_
              refine lv_iload_n F.x F.b dX1_write_67 rfl (lv_at hl 3 rfl) ?_
              refine lv_bipush (v := zI (8)) F.x F.b dX1_write_68 (by decide +kernel) ?_
              refine zr_irem F.x F.b (j) (8) dX1_write_70 rfl rfl (by omega) (by omega) (by omega) ?_
              refine CtM.call (n := 3) (cM_goesOn l E so n k nw (ko_lev so n L (i)).length f g L (ko_dig i (f (j / 8))) i (j % 8) hm (by omega) hjm (fun q => Nat.mod_lt _ (by decide))) F hH (lw_V q168 q170 qs13 q18 q171) (by decide +kernel) ⟨Nat.le_of_ble_eq_true rfl, Nat.le_of_ble_eq_true rfl⟩ rfl hl.1 rfl (Nat.le_of_ble_eq_true rfl) dX1_write_71 ⟨Nat.le_refl _, Nat.le_refl _⟩ (fun z9 v9 H locs hp hH => ?_)
              obtain ⟨rfl, rfl⟩ := hp
              by_cases hok : ko_ok so n L i (ko_tau so (ko_dig i (f (j / 8))) i) (j % 8) = true
              · rw [if_pos hok]
                have hok2 : ko_ok so n L i (ko_tc so i (f (j / 8))) (j % 8) = true := hok
                rw [if_pos hok2] at hsx
                have hlen : ((ko_ext so n L i (ko_lev so n L i) (j + 1))).length = ((ko_ext so n L i (ko_lev so n L i) (j))).length + 1 := by rw [hsx, List.length_append]; rfl
                refine zr_if_eq (tgt := 105) F.x F.b dX1_write_74 (by decide) (by omega) (fun c74 => ?_) (fun c74 => ?_)
                · exact absurd c74 (by omega)
                · refine lv_aload_n F.x F.b dX1_write_77 rfl (lv_at hl 0 rfl) ?_
                  refine getM F hH 6 (by decide) q180 rfl (v := .ref (E.1 6)) rfl dX1_write_78 ?_
                  refine lv_iload_n F.x F.b dX1_write_81 rfl (lv_at hl 2 rfl) ?_
                  refine lv_ldc2 F.x F.b F.2.2.2.1 (F.2.2.2.2.1 _ q173) dX1_write_82 ?_
                  refine zr_topl (y := lN (8)) (by decide +kernel) ?_
                  refine lv_aload_n F.x F.b dX1_write_85 rfl (lv_at hl 0 rfl) ?_
                  refine getM F hH 5 (by decide) q179 rfl (v := .ref (E.1 5)) rfl dX1_write_86 ?_
                  refine lv_iload_n F.x F.b dX1_write_89 rfl (lv_at hl 3 rfl) ?_
                  refine lv_bipush (v := zI (8)) F.x F.b dX1_write_90 (by decide +kernel) ?_
                  refine zr_idiv F.x F.b (j) (8) dX1_write_92 rfl rfl (by omega) (by omega) (by omega) ?_
                  refine laldM F hH 1 (f) rfl (j / 8) (rfl) (by omega) dX1_write_93 ?_
                  refine lv_lmul F.x F.b dX1_write_94 ?_
                  refine zr_topl (y := lN (8 * f (j / 8))) (lN_mul _ _) ?_
                  refine lv_iload_n F.x F.b dX1_write_95 rfl (lv_at hl 3 rfl) ?_
                  refine lv_bipush (v := zI (8)) F.x F.b dX1_write_96 (by decide +kernel) ?_
                  refine zr_irem F.x F.b (j) (8) dX1_write_98 rfl rfl (by omega) (by omega) (by omega) ?_
                  refine lv_i2l (v := lN (j % 8)) F.x F.b dX1_write_99 (zL_i2l (by omega)) ?_
                  refine lv_ladd F.x F.b dX1_write_100 ?_
                  refine zr_topl (y := lN (8 * f (j / 8) + j % 8)) (lN_add _ _) ?_
                  refine lastM F hH 2 (g) rfl ((ko_ext so n L i (ko_lev so n L i) (j)).length) (8 * f (j / 8) + j % 8) (rfl) (by omega) (rfl) (so, n, k, nw, (ko_lev so n L (i)).length, f, (zU (g) ((ko_ext so n L i (ko_lev so n L i) (j)).length) (8 * f (j / 8) + j % 8))) rfl dX1_write_101 (fun H locs hH => ?_)
                  refine zr_iinc F.x F.b ((((ko_ext so n L i (ko_lev so n L i) (j + 1)).length : Nat) : Int)) (lv' := [(2, .int (zI ((((ko_ext so n L i (ko_lev so n L i) (j + 1)).length : Nat) : Int)))), (0, .ref (E.1 0)), (1, .int (zI (i))), (3, .int (zI (j)))]) dX1_write_102 hl (k := 2) rfl (by omega) (by decide) rfl (fun ls hl => ?_)
                  refine zr_iinc F.x F.b (((j + 1 : Nat) : Int)) (lv' := [(3, .int (zI (((j + 1 : Nat) : Int)))), (2, .int (zI ((((ko_ext so n L i (ko_lev so n L i) (j + 1)).length : Nat) : Int)))), (0, .ref (E.1 0)), (1, .int (zI (i)))]) dX1_write_105 hl (k := 3) rfl (by omega) (by decide) rfl (fun ls hl => ?_)
                  refine lv_goto (tgt := 45) F.x F.b dX1_write_108 (by decide) ?_
                  exact ih2 (j + 1) (by omega) _ (by rw [hsx]; exact ko_holds_app hg) H locs hH ls (lv_sub hl [2, 3, 1, 0] rfl)
              · rw [if_neg hok]
                have hok2 : ¬ ko_ok so n L i (ko_tc so i (f (j / 8))) (j % 8) = true := hok
                rw [if_neg hok2, List.append_nil] at hsx
                refine zr_if_eq (tgt := 105) F.x F.b dX1_write_74 (by decide) (by omega) (fun c74 => ?_) (fun c74 => ?_)
                · refine zr_iinc F.x F.b (((j + 1 : Nat) : Int)) (lv' := [(3, .int (zI (((j + 1 : Nat) : Int)))), (0, .ref (E.1 0)), (1, .int (zI (i))), (2, .int (zI ((((ko_ext so n L i (ko_lev so n L i) (j)).length : Nat) : Int))))]) dX1_write_105 hl (k := 3) rfl (by omega) (by decide) rfl (fun ls hl => ?_)
                  refine lv_goto (tgt := 45) F.x F.b dX1_write_108 (by decide) ?_
                  rw [← hsx] at hl hg
                  exact ih2 (j + 1) (by omega) g hg H locs hH ls (lv_sub hl [1, 2, 3, 0] rfl)
                · exact absurd rfl c74
        exact inner (8 * (ko_lev so n L (i)).length) 0 (by omega) g (fun q hq => absurd hq (Nat.not_lt_zero q)) H locs hH ls (lv_sub hl [2, 3, 1, 0] rfl)
  refine zr_if_ne (tgt := 20) F.x F.b dX1_write_5 (by decide) (by omega) (fun c5 => ?_) (fun c5 => ?_)
  · refine lv_iconst (v := zI (1)) F.x F.b dX1_write_20 (by decide +kernel) ?_
    refine putM F hH 4 (by decide) q178 ⟨rfl, rfl, by decide +kernel⟩ (so, n, k, nw, 1, f, g) rfl dX1_write_21 (fun H locs hH => ?_)
    refine lv_aload_n F.x F.b dX1_write_24 rfl (lv_at hl 0 rfl) ?_
    refine getM F hH 5 (by decide) q179 rfl (v := .ref (E.1 5)) rfl dX1_write_25 ?_
    refine lv_iconst (v := zI (0)) F.x F.b dX1_write_28 (by decide +kernel) ?_
    refine lv_lconst (v := lN 0) F.x F.b dX1_write_29 (by decide +kernel) ?_
    refine lastM F hH 1 (f) rfl (0) (0) (rfl) (by omega) (rfl) (so, n, k, nw, 1, (zU (f) (0) (0)), g) rfl dX1_write_30 (fun H locs hH => ?_)
    refine lv_iconst (v := zI (0)) F.x F.b dX1_write_31 (by decide +kernel) ?_
    refine lv_istore_n (lv' := [(1, .int (zI (0))), (0, .ref (E.1 0))]) F.x F.b dX1_write_32 rfl hl (by decide) rfl (fun ls hl => ?_)
    exact loop (fun _ => by omega) L 0 (by omega) (zU f 0 0) g (ko_holds0 so n L f) H locs hH ls (lv_sub hl [1, 0] rfl)
  · refine lv_aload_n F.x F.b dX1_write_8 rfl (lv_at hl 0 rfl) ?_
    refine getM F hH 0 (by decide) q174 rfl (v := .int (zI (so))) rfl dX1_write_9 ?_
    refine lv_iconst (v := zI (4)) F.x F.b dX1_write_12 (by decide +kernel) ?_
    refine zr_icmp_ne (tgt := 20) F.x F.b dX1_write_13 (by decide) (by omega) (by omega) (fun c13 => ?_) (fun c13 => ?_)
    · refine lv_iconst (v := zI (1)) F.x F.b dX1_write_20 (by decide +kernel) ?_
      refine putM F hH 4 (by decide) q178 ⟨rfl, rfl, by decide +kernel⟩ (so, n, k, nw, 1, f, g) rfl dX1_write_21 (fun H locs hH => ?_)
      refine lv_aload_n F.x F.b dX1_write_24 rfl (lv_at hl 0 rfl) ?_
      refine getM F hH 5 (by decide) q179 rfl (v := .ref (E.1 5)) rfl dX1_write_25 ?_
      refine lv_iconst (v := zI (0)) F.x F.b dX1_write_28 (by decide +kernel) ?_
      refine lv_lconst (v := lN 0) F.x F.b dX1_write_29 (by decide +kernel) ?_
      refine lastM F hH 1 (f) rfl (0) (0) (rfl) (by omega) (rfl) (so, n, k, nw, 1, (zU (f) (0) (0)), g) rfl dX1_write_30 (fun H locs hH => ?_)
      refine lv_iconst (v := zI (0)) F.x F.b dX1_write_31 (by decide +kernel) ?_
      refine lv_istore_n (lv' := [(1, .int (zI (0))), (0, .ref (E.1 0))]) F.x F.b dX1_write_32 rfl hl (by decide) rfl (fun ls hl => ?_)
      exact loop (fun h => absurd (by omega) c13) L 0 (by omega) (zU f 0 0) g (ko_holds0 so n L f) H locs hH ls (lv_sub hl [1, 0] rfl)
    · have eL : L = 0 := by omega
      have e4 : so = 4 := by omega
      have hnil : ko_objs so n L = [] := if_pos ⟨e4, eL⟩
      refine lv_iconst (v := zI (0)) F.x F.b dX1_write_16 (by decide +kernel) ?_
      refine lv_goto (tgt := 21) F.x F.b dX1_write_17 (by decide) ?_
      refine putM F hH 4 (by decide) q178 ⟨rfl, rfl, by decide +kernel⟩ (so, n, k, nw, 0, f, g) rfl dX1_write_21 (fun H locs hH => ?_)
      refine lv_aload_n F.x F.b dX1_write_24 rfl (lv_at hl 0 rfl) ?_
      refine getM F hH 5 (by decide) q179 rfl (v := .ref (E.1 5)) rfl dX1_write_25 ?_
      refine lv_iconst (v := zI (0)) F.x F.b dX1_write_28 (by decide +kernel) ?_
      refine lv_lconst (v := lN 0) F.x F.b dX1_write_29 (by decide +kernel) ?_
      refine lastM F hH 1 (f) rfl (0) (0) (rfl) (by omega) (rfl) (so, n, k, nw, 0, (zU (f) (0) (0)), g) rfl dX1_write_30 (fun H locs hH => ?_)
      refine lv_iconst (v := zI (0)) F.x F.b dX1_write_31 (by decide +kernel) ?_
      refine lv_istore_n (lv' := [(1, .int (zI (0))), (0, .ref (E.1 0))]) F.x F.b dX1_write_32 rfl hl (by decide) rfl (fun ls hl => ?_)
      refine lv_iload_n F.x F.b dX1_write_33 rfl (lv_at hl 0 rfl) ?_
      refine lv_aload_n F.x F.b dX1_write_34 rfl (lv_at hl 1 rfl) ?_
      refine CtM.call (n := 0) (cM_length l E so n k nw 0 (zU f 0 0) g L hm) F hH (lw_V q164 q166 qs12 q18 q167) (by decide +kernel) ⟨Nat.le_of_ble_eq_true rfl, Nat.le_of_ble_eq_true rfl⟩ rfl hl.1 rfl (Nat.le_of_ble_eq_true rfl) dX1_write_35 ⟨Nat.le_refl _, Nat.le_refl _⟩ (fun z9 v9 H locs hp hH => ?_)
      obtain ⟨rfl, rfl⟩ := hp
      refine zr_icmp_ge (tgt := 150) F.x F.b dX1_write_38 (by decide) (by omega) (by omega) (fun c38 => ?_) (fun c38 => ?_)
      · exact CtM.vret F hH (⟨zU f 0 0, g, by rw [hnil]; exact fun j hj => absurd hj (Nat.not_lt_zero j), by rw [hnil]; rfl⟩) dX1_write_150
      · exact absurd c38 (by omega)
end
section
set_option maxRecDepth 100000
theorem ko_lt62 {a L : Nat} (h : a < 8 ^ L) (hL : L ≤ 14) : a < 2 ^ 62 := by
  have h2 : 8 ^ L ≤ 8 ^ 14 := Nat.pow_le_pow_right (by decide) hL
  have h3 : 8 ^ 14 = 4398046511104 := by decide
  omega
/-- one digit more -/
theorem ko_qs {L j : Nat} (a : Nat) (hj : j < L) : a / 8 ^ (L - (j + 1)) = 8 * (a / 8 ^ (L - j)) + ko_dig L a j := by
  unfold ko_dig
  rw [show L - j = (L - (j + 1)) + 1 by omega, ko_div8, show L - 1 - j = L - (j + 1) by omega]
  omega
theorem ko_q_le {L i j : Nat} {a b : Nat} (hj : j ≤ i) (hi : i < L) (h : a / 8 ^ (L - (i + 1)) = b / 8 ^ (L - (i + 1))) : a / 8 ^ (L - (j + 1)) = b / 8 ^ (L - (j + 1)) := by
  rw [show L - (j + 1) = (L - (i + 1)) + (i - j) by omega, Nat.pow_add, ← Nat.div_div_eq_div_mul, ← Nat.div_div_eq_div_mul, h]
theorem ko_dig8 (L a j : Nat) : ko_dig L a j < 8 := Nat.mod_lt _ (by decide)
/-- how many of the first m numbers have p -/
def ko_cn (p : Nat → Bool) : Nat → Nat
  | 0 => 0
  | m + 1 => ko_cn p m + (if p m = true then 1 else 0)
theorem ko_cn_s (p : Nat → Bool) (m : Nat) : ko_cn p (m + 1) = ko_cn p m + (if p m = true then 1 else 0) := rfl
theorem ko_cn_le (p : Nat → Bool) : ∀ m, ko_cn p m ≤ m := by
  intro m
  induction m with
  | zero => exact Nat.le_refl _
  | succ m ih => rw [ko_cn_s]; split <;> omega
section ZL
variable {p : Program} {l : Launch} {e : Env} {R : Room} {s : State} {m : MethodId} {args : Array Value} {below : List Frame} {meth : Method} {c : Code} {H : Heap} {locs : List Loc} {cells slots : Nat} {Q : State → Prop} {cc : ByteArray} {pc : Nat} {ls : Array Slot} {rest : List Value}
theorem zr_lcmp (hx : p.tables.exec = Jvm.exec) (hb : c.code = cc) {a b : Nat} (ha : a < 2 ^ 62) (hb2 : b < 2 ^ 62) (hd : decode cc pc = .ok (.lcmp, 1)) (kk : ∀ z : Int, (z = 0 ↔ a = b) → (-1 ≤ z ∧ z ≤ 1) → W p l e R s m args below meth c H locs cells slots Q (F0 m (pc + 1) ls (.int (zI z) :: rest))) : W p l e R s m args below meth c H locs cells slots Q (F0 m pc ls (.long (lN b) :: .long (lN a) :: rest)) := by
  refine W.lcmp hx hb hd ?_
  unfold lg_cmp
  by_cases h1 : lN a > lN b
  · rw [if_pos h1]
    have h2 : b < a := (pk_lLT (by omega) (by omega)).mp h1
    exact kk 1 (by omega) (by omega)
  · rw [if_neg h1]
    by_cases h2 : lN a = lN b
    · rw [if_pos h2]
      have h3 : a = b := (pk_lEQ (by omega) (by omega)).mp h2
      exact kk 0 (by omega) (by omega)
    · rw [if_neg h2]
      have h3 : ¬ a = b := fun h => h2 (by rw [h])
      exact kk (-1) (by omega) (by omega)
end ZL

set_option maxHeartbeats 4000000 in
/-- count() -/
theorem cM_count (l : Launch) (E : EM) (so n : Nat) (k : Int) (nw ct : Nat) (f g : Nat → Nat)  : CtM l yX1_count cX1_count 1 (some .int) 0 0 E [] (so, n, k, nw, ct, f, g) (fun w v => w = ((ct : Nat) : Int) ∧ v = (so, n, k, nw, ct, f, g)) := by
  refine CtM.start (by decide +kernel) rfl ?_
  intro p e s0 m below meth c A F hH
  have hl := lv_entry ([.ref (E.1 0)]) (n := 1) (Nat.le_of_ble_eq_true rfl)
  rw [lg_entry_eq]
  generalize (lg_sl ([.ref (E.1 0)]) ++ List.replicate (1 - (lg_sl ([.ref (E.1 0)])).length) Slot.unset).toArray = ls at hl ⊢
  have hl : lv_has ls 1 [(0, .ref (E.1 0))] := hl
  refine lv_aload_n F.x F.b dX1_count_0 rfl (lv_at hl 0 rfl) ?_
  refine getM F hH 4 (by decide) q178 rfl (v := .int (zI (ct))) rfl dX1_count_1 ?_
  exact CtM.iret F hH (⟨rfl, rfl⟩) dX1_count_4

set_option maxHeartbeats 4000000 in
/-- number() -/
theorem cM_number (l : Launch) (E : EM) (so n : Nat) (k : Int) (nw ct : Nat) (f g : Nat → Nat) (hct : ct ≤ 5040) : CtM l yX1_number cX1_number 1 (some .int) 0 0 E [] (so, n, k, nw, ct, f, g) (fun w v => w = (if ct = 0 then -2 else ((nw : Nat) : Int)) ∧ v = (so, n, k, nw, ct, f, g)) := by
  refine CtM.start (by decide +kernel) rfl ?_
  intro p e s0 m below meth c A F hH
  have hl := lv_entry ([.ref (E.1 0)]) (n := 1) (Nat.le_of_ble_eq_true rfl)
  rw [lg_entry_eq]
  generalize (lg_sl ([.ref (E.1 0)]) ++ List.replicate (1 - (lg_sl ([.ref (E.1 0)])).length) Slot.unset).toArray = ls at hl ⊢
  have hl : lv_has ls 1 [(0, .ref (E.1 0))] := hl
  refine lv_aload_n F.x F.b dX1_number_0 rfl (lv_at hl 0 rfl) ?_
  refine getM F hH 4 (by decide) q178 rfl (v := .int (zI (ct))) rfl dX1_number_1 ?_
  refine zr_if_ne (tgt := 12) F.x F.b dX1_number_4 (by decide) (by omega) (fun c4 => ?_) (fun c4 => ?_)
  · refine lv_aload_n F.x F.b dX1_number_12 rfl (lv_at hl 0 rfl) ?_
    refine getM F hH 3 (by decide) q177 rfl (v := .int (zI (nw))) rfl dX1_number_13 ?_
    exact CtM.iret F hH (⟨(if_neg (by omega)).symm, rfl⟩) dX1_number_16
  · refine lv_bipush (v := zI (-2)) F.x F.b dX1_number_7 (by decide +kernel) ?_
    refine lv_goto (tgt := 16) F.x F.b dX1_number_9 (by decide) ?_
    exact CtM.iret F hH (⟨(if_pos (by omega)).symm, rfl⟩) dX1_number_16

set_option maxHeartbeats 4000000 in
/-- item(z) -/
theorem cM_item (l : Launch) (E : EM) (so n : Nat) (k : Int) (nw ct : Nat) (f g : Nat → Nat) (L : Nat) (z : Int) (hm : ko_mk so n k L) (hct : ct ≤ 5040) (hnw : (ct = 0 ∧ nw = 0) ∨ nw < ct) (hf : ∀ j, j < ct → f j < 8 ^ L) (hz : -2147483648 ≤ z ∧ z ≤ 2147483647) : CtM l yX1_item cX1_item 2 (some .int) 2 60 E [.int (zI (z))] (so, n, k, nw, ct, f, g) (fun w v => w = (if ct = 0 ∨ z < 0 ∨ (L : Int) ≤ z then -1 else ((ko_dig L (f nw) z.toNat : Nat) : Int)) ∧ v = (so, n, k, nw, ct, f, g)) := by
  refine CtM.start (by decide +kernel) rfl ?_
  intro p e s0 m below meth c A F hH
  have hl := lv_entry ([.ref (E.1 0), .int (zI (z))]) (n := 2) (Nat.le_of_ble_eq_true rfl)
  rw [lg_entry_eq]
  generalize (lg_sl ([.ref (E.1 0), .int (zI (z))]) ++ List.replicate (2 - (lg_sl ([.ref (E.1 0), .int (zI (z))])).length) Slot.unset).toArray = ls at hl ⊢
  have hl : lv_has ls 2 [(0, .ref (E.1 0)), (1, .int (zI (z)))] := hl
  obtain ⟨k1, k2, k3, k4, k5, k6, k7, k8⟩ := ko_cfg_b hm.1
  refine lv_aload_n F.x F.b dX1_item_0 rfl (lv_at hl 0 rfl) ?_
  refine getM F hH 4 (by decide) q178 rfl (v := .int (zI (ct))) rfl dX1_item_1 ?_
  refine zr_if_eq (tgt := 19) F.x F.b dX1_item_4 (by decide) (by omega) (fun c4 => ?_) (fun c4 => ?_)
  · refine lv_iconst (v := zI (-1)) F.x F.b dX1_item_19 (by decide +kernel) ?_
    refine lv_goto (tgt := 37) F.x F.b dX1_item_20 (by decide) ?_
    exact CtM.iret F hH (⟨(if_pos (by omega)).symm, rfl⟩) dX1_item_37
  · refine lv_iload_n F.x F.b dX1_item_7 rfl (lv_at hl 1 rfl) ?_
    refine zr_if_lt (tgt := 19) F.x F.b dX1_item_8 (by decide) (by omega) (fun c8 => ?_) (fun c8 => ?_)
    · refine lv_iconst (v := zI (-1)) F.x F.b dX1_item_19 (by decide +kernel) ?_
      refine lv_goto (tgt := 37) F.x F.b dX1_item_20 (by decide) ?_
      exact CtM.iret F hH (⟨(if_pos (by omega)).symm, rfl⟩) dX1_item_37
    · refine lv_iload_n F.x F.b dX1_item_11 rfl (lv_at hl 1 rfl) ?_
      refine lv_aload_n F.x F.b dX1_item_12 rfl (lv_at hl 0 rfl) ?_
      refine CtM.call (n := 0) (cM_length l E so n k nw ct f g L hm) F hH (lw_V q164 q166 qs12 q18 q167) (by decide +kernel) ⟨Nat.le_of_ble_eq_true rfl, Nat.le_of_ble_eq_true rfl⟩ rfl hl.1 rfl (Nat.le_of_ble_eq_true rfl) dX1_item_13 ⟨Nat.le_refl _, Nat.le_refl _⟩ (fun z9 v9 H locs hp hH => ?_)
      obtain ⟨rfl, rfl⟩ := hp
      refine zr_icmp_lt (tgt := 23) F.x F.b dX1_item_16 (by decide) (by omega) (by omega) (fun c16 => ?_) (fun c16 => ?_)
      · have hf1 := ko_lt62 (hf nw (by omega)) k4
        refine lv_aload_n F.x F.b dX1_item_23 rfl (lv_at hl 0 rfl) ?_
        refine lv_aload_n F.x F.b dX1_item_24 rfl (lv_at hl 0 rfl) ?_
        refine getM F hH 5 (by decide) q179 rfl (v := .ref (E.1 5)) rfl dX1_item_25 ?_
        refine lv_aload_n F.x F.b dX1_item_28 rfl (lv_at hl 0 rfl) ?_
        refine getM F hH 3 (by decide) q177 rfl (v := .int (zI (nw))) rfl dX1_item_29 ?_
        refine laldM F hH 1 (f) rfl (nw) (rfl) (by omega) dX1_item_32 ?_
        refine lv_iload_n F.x F.b dX1_item_33 rfl (lv_at hl 1 rfl) ?_
        obtain ⟨q, hq⟩ : ∃ q : Nat, z = q := ⟨z.toNat, by omega⟩
        have hq2 : z.toNat = q := by omega
        refine zr_top (y := zI ((q : Nat) : Int)) (by rw [hq]) ?_
        refine CtM.call (n := 2) (cM_digit l E so n k nw ct f g L (f nw) q hm hf1 (by omega)) F hH (lw_V q213 q215 qs14 q18 q216) (by decide +kernel) ⟨Nat.le_of_ble_eq_true rfl, Nat.le_of_ble_eq_true rfl⟩ rfl hl.1 rfl (Nat.le_of_ble_eq_true rfl) dX1_item_34 ⟨Nat.le_refl _, Nat.le_refl _⟩ (fun z9 v9 H locs hp hH => ?_)
        obtain ⟨rfl, rfl⟩ := hp
        exact CtM.iret F hH (⟨by rw [if_neg (by omega), hq2], rfl⟩) dX1_item_37
      · refine lv_iconst (v := zI (-1)) F.x F.b dX1_item_19 (by decide +kernel) ?_
        refine lv_goto (tgt := 37) F.x F.b dX1_item_20 (by decide) ?_
        exact CtM.iret F hH (⟨(if_pos (by omega)).symm, rfl⟩) dX1_item_37

set_option maxHeartbeats 4000000 in
/-- go(z) -/
theorem cM_go (l : Launch) (E : EM) (so n : Nat) (k : Int) (nw ct : Nat) (f g : Nat → Nat) (z : Int) (hct : ct ≤ 5040) (hz : -2147483648 ≤ z ∧ z ≤ 2147483647) : CtM l yX1_go cX1_go 2 (some .int) 0 0 E [.int (zI (z))] (so, n, k, nw, ct, f, g) (fun w v => (¬ (0 ≤ z ∧ z < (ct : Nat)) ∧ w = -1 ∧ v = (so, n, k, nw, ct, f, g)) ∨ (0 ≤ z ∧ z < (ct : Nat) ∧ w = z ∧ v = (so, n, k, z.toNat, ct, f, g))) := by
  refine CtM.start (by decide +kernel) rfl ?_
  intro p e s0 m below meth c A F hH
  have hl := lv_entry ([.ref (E.1 0), .int (zI (z))]) (n := 2) (Nat.le_of_ble_eq_true rfl)
  rw [lg_entry_eq]
  generalize (lg_sl ([.ref (E.1 0), .int (zI (z))]) ++ List.replicate (2 - (lg_sl ([.ref (E.1 0), .int (zI (z))])).length) Slot.unset).toArray = ls at hl ⊢
  have hl : lv_has ls 2 [(0, .ref (E.1 0)), (1, .int (zI (z)))] := hl
  refine lv_iload_n F.x F.b dX1_go_0 rfl (lv_at hl 1 rfl) ?_
  refine zr_if_lt (tgt := 12) F.x F.b dX1_go_1 (by decide) (by omega) (fun c1 => ?_) (fun c1 => ?_)
  · refine lv_iconst (v := zI (-1)) F.x F.b dX1_go_12 (by decide +kernel) ?_
    exact CtM.iret F hH (Or.inl ⟨by omega, rfl, rfl⟩) dX1_go_13
  · refine lv_iload_n F.x F.b dX1_go_4 rfl (lv_at hl 1 rfl) ?_
    refine lv_aload_n F.x F.b dX1_go_5 rfl (lv_at hl 0 rfl) ?_
    refine getM F hH 4 (by decide) q178 rfl (v := .int (zI (ct))) rfl dX1_go_6 ?_
    refine zr_icmp_lt (tgt := 14) F.x F.b dX1_go_9 (by decide) (by omega) (by omega) (fun c9 => ?_) (fun c9 => ?_)
    · obtain ⟨q, rfl⟩ : ∃ q : Nat, z = q := ⟨z.toNat, by omega⟩
      refine lv_aload_n F.x F.b dX1_go_14 rfl (lv_at hl 0 rfl) ?_
      refine lv_iload_n F.x F.b dX1_go_15 rfl (lv_at hl 1 rfl) ?_
      refine putM F hH 3 (by decide) q177 ⟨rfl, rfl, by decide +kernel⟩ (so, n, k, q, ct, f, g) rfl dX1_go_16 (fun H locs hH => ?_)
      refine lv_iload_n F.x F.b dX1_go_19 rfl (lv_at hl 1 rfl) ?_
      exact CtM.iret F hH (Or.inr ⟨by omega, by omega, rfl, rfl⟩) dX1_go_20
    · refine lv_iconst (v := zI (-1)) F.x F.b dX1_go_12 (by decide +kernel) ?_
      exact CtM.iret F hH (Or.inl ⟨by omega, rfl, rfl⟩) dX1_go_13

set_option maxHeartbeats 4000000 in
/-- next() -/
theorem cM_next (l : Launch) (E : EM) (so n : Nat) (k : Int) (nw ct : Nat) (f g : Nat → Nat) (hct : ct ≤ 5040) (hnw : (ct = 0 ∧ nw = 0) ∨ nw < ct) : CtM l yX1_next cX1_next 1 (some .int) 0 0 E [] (so, n, k, nw, ct, f, g) (fun w v => (¬ nw + 1 < ct ∧ w = -2 ∧ v = (so, n, k, nw, ct, f, g)) ∨ (nw + 1 < ct ∧ w = ((nw + 1 : Nat) : Int) ∧ v = (so, n, k, nw + 1, ct, f, g))) := by
  refine CtM.start (by decide +kernel) rfl ?_
  intro p e s0 m below meth c A F hH
  have hl := lv_entry ([.ref (E.1 0)]) (n := 1) (Nat.le_of_ble_eq_true rfl)
  rw [lg_entry_eq]
  generalize (lg_sl ([.ref (E.1 0)]) ++ List.replicate (1 - (lg_sl ([.ref (E.1 0)])).length) Slot.unset).toArray = ls at hl ⊢
  have hl : lv_has ls 1 [(0, .ref (E.1 0))] := hl
  refine lv_aload_n F.x F.b dX1_next_0 rfl (lv_at hl 0 rfl) ?_
  refine getM F hH 3 (by decide) q177 rfl (v := .int (zI (nw))) rfl dX1_next_1 ?_
  refine lv_iconst (v := zI (1)) F.x F.b dX1_next_4 (by decide +kernel) ?_
  refine zr_iadd F.x F.b (((nw + 1 : Nat) : Int)) dX1_next_5 (by omega) ?_
  refine lv_aload_n F.x F.b dX1_next_6 rfl (lv_at hl 0 rfl) ?_
  refine getM F hH 4 (by decide) q178 rfl (v := .int (zI (ct))) rfl dX1_next_7 ?_
  refine zr_icmp_lt (tgt := 16) F.x F.b dX1_next_10 (by decide) (by omega) (by omega) (fun c10 => ?_) (fun c10 => ?_)
  · refine lv_aload_n F.x F.b dX1_next_16 rfl (lv_at hl 0 rfl) ?_
    refine lv_dup F.x F.b dX1_next_17 rfl ?_
    refine getM F hH 3 (by decide) q177 rfl (v := .int (zI (nw))) rfl dX1_next_18 ?_
    refine lv_iconst (v := zI (1)) F.x F.b dX1_next_21 (by decide +kernel) ?_
    refine zr_iadd F.x F.b (((nw + 1 : Nat) : Int)) dX1_next_22 (by omega) ?_
    refine putM F hH 3 (by decide) q177 ⟨rfl, rfl, by decide +kernel⟩ (so, n, k, (nw + 1), ct, f, g) rfl dX1_next_23 (fun H locs hH => ?_)
    refine lv_aload_n F.x F.b dX1_next_26 rfl (lv_at hl 0 rfl) ?_
    refine getM F hH 3 (by decide) q177 rfl (v := .int (zI ((nw + 1)))) rfl dX1_next_27 ?_
    exact CtM.iret F hH (Or.inr ⟨by omega, rfl, rfl⟩) dX1_next_30
  · refine lv_bipush (v := zI (-2)) F.x F.b dX1_next_13 (by decide +kernel) ?_
    exact CtM.iret F hH (Or.inl ⟨by omega, rfl, rfl⟩) dX1_next_15

set_option maxHeartbeats 4000000 in
/-- previous() -/
theorem cM_previous (l : Launch) (E : EM) (so n : Nat) (k : Int) (nw ct : Nat) (f g : Nat → Nat) (hct : ct ≤ 5040) (hnw : (ct = 0 ∧ nw = 0) ∨ nw < ct) : CtM l yX1_previous cX1_previous 1 (some .int) 0 0 E [] (so, n, k, nw, ct, f, g) (fun w v => (¬ (0 < ct ∧ 0 < nw) ∧ w = -2 ∧ v = (so, n, k, nw, ct, f, g)) ∨ ((0 < ct ∧ 0 < nw) ∧ w = ((nw - 1 : Nat) : Int) ∧ v = (so, n, k, nw - 1, ct, f, g))) := by
  refine CtM.start (by decide +kernel) rfl ?_
  intro p e s0 m below meth c A F hH
  have hl := lv_entry ([.ref (E.1 0)]) (n := 1) (Nat.le_of_ble_eq_true rfl)
  rw [lg_entry_eq]
  generalize (lg_sl ([.ref (E.1 0)]) ++ List.replicate (1 - (lg_sl ([.ref (E.1 0)])).length) Slot.unset).toArray = ls at hl ⊢
  have hl : lv_has ls 1 [(0, .ref (E.1 0))] := hl
  refine lv_aload_n F.x F.b dX1_previous_0 rfl (lv_at hl 0 rfl) ?_
  refine getM F hH 4 (by decide) q178 rfl (v := .int (zI (ct))) rfl dX1_previous_1 ?_
  refine zr_if_eq (tgt := 14) F.x F.b dX1_previous_4 (by decide) (by omega) (fun c4 => ?_) (fun c4 => ?_)
  · refine lv_bipush (v := zI (-2)) F.x F.b dX1_previous_14 (by decide +kernel) ?_
    exact CtM.iret F hH (Or.inl ⟨by omega, rfl, rfl⟩) dX1_previous_16
  · refine lv_aload_n F.x F.b dX1_previous_7 rfl (lv_at hl 0 rfl) ?_
    refine getM F hH 3 (by decide) q177 rfl (v := .int (zI (nw))) rfl dX1_previous_8 ?_
    refine zr_if_ne (tgt := 17) F.x F.b dX1_previous_11 (by decide) (by omega) (fun c11 => ?_) (fun c11 => ?_)
    · refine lv_aload_n F.x F.b dX1_previous_17 rfl (lv_at hl 0 rfl) ?_
      refine lv_dup F.x F.b dX1_previous_18 rfl ?_
      refine getM F hH 3 (by decide) q177 rfl (v := .int (zI (nw))) rfl dX1_previous_19 ?_
      refine lv_iconst (v := zI (1)) F.x F.b dX1_previous_22 (by decide +kernel) ?_
      refine zr_isub F.x F.b (((nw - 1 : Nat) : Int)) dX1_previous_23 (by omega) ?_
      refine putM F hH 3 (by decide) q177 ⟨rfl, rfl, by decide +kernel⟩ (so, n, k, ((nw - 1 : Nat)), ct, f, g) rfl dX1_previous_24 (fun H locs hH => ?_)
      refine lv_aload_n F.x F.b dX1_previous_27 rfl (lv_at hl 0 rfl) ?_
      refine getM F hH 3 (by decide) q177 rfl (v := .int (zI (((nw - 1 : Nat))))) rfl dX1_previous_28 ?_
      exact CtM.iret F hH (Or.inr ⟨by omega, rfl, rfl⟩) dX1_previous_31
    · refine lv_bipush (v := zI (-2)) F.x F.b dX1_previous_14 (by decide +kernel) ?_
      exact CtM.iret F hH (Or.inl ⟨by omega, rfl, rfl⟩) dX1_previous_16

set_option maxHeartbeats 4000000 in
/-- alike(q, i) -/
theorem cM_alike (l : Launch) (E : EM) (so n : Nat) (k : Int) (nw ct : Nat) (f g : Nat → Nat) (L q i : Nat) (hm : ko_mk so n k L) (hct : ct ≤ 5040) (hf : ∀ j, j < ct → f j < 8 ^ L) (hq : q < ct) (hn : nw < ct) (hi : i < L) : CtM l yX1_alike cX1_alike 4 (some .boolean) 2 60 E [.int (zI (q)), .int (zI (i))] (so, n, k, nw, ct, f, g) (fun w v => w = (if f (q) / 8 ^ (L - (i + 1)) = f (nw) / 8 ^ (L - (i + 1)) then 1 else 0) ∧ v = (so, n, k, nw, ct, f, g)) := by
  refine CtM.start (by decide +kernel) rfl ?_
  intro p e s0 m below meth c A F hH
  have hl := lv_entry ([.ref (E.1 0), .int (zI (q)), .int (zI (i))]) (n := 4) (Nat.le_of_ble_eq_true rfl)
  rw [lg_entry_eq]
  generalize (lg_sl ([.ref (E.1 0), .int (zI (q)), .int (zI (i))]) ++ List.replicate (4 - (lg_sl ([.ref (E.1 0), .int (zI (q)), .int (zI (i))])).length) Slot.unset).toArray = ls at hl ⊢
  have hl : lv_has ls 4 [(0, .ref (E.1 0)), (1, .int (zI (q))), (2, .int (zI (i)))] := hl
  obtain ⟨k1, k2, k3, k4, k5, k6, k7, k8⟩ := ko_cfg_b hm.1
  have hf1 := hf q hq
  have hf2 := hf nw hn
  have hg1 := ko_lt62 hf1 k4
  have hg2 := ko_lt62 hf2 k4
  refine lv_iconst (v := zI (0)) F.x F.b dX1_alike_0 (by decide +kernel) ?_
  refine lv_istore_n (lv' := [(3, .int (zI (0))), (0, .ref (E.1 0)), (1, .int (zI (q))), (2, .int (zI (i)))]) F.x F.b dX1_alike_1 rfl hl (by decide) rfl (fun ls hl => ?_)
  have loop : ∀ d j : Nat, d + j = i + 1 → f (q) / 8 ^ (L - (j)) = f (nw) / 8 ^ (L - (j)) → ∀ (H : Heap) (locs : List Loc), HM E s0 A (so, n, k, nw, ct, f, g) H locs → ∀ ls : Array Slot, lv_has ls 4 [(0, .ref (E.1 0)), (1, .int (zI (q))), (2, .int (zI (i))), (3, .int (zI (j)))] → W p l e (rmX 2 60) s0 m ([.ref (E.1 0), .int (zI (q)), .int (zI (i))] : List Value).toArray below meth c H locs 0 0 (MQ below (QcM E A (fun w v => w = (if f (q) / 8 ^ (L - (i + 1)) = f (nw) / 8 ^ (L - (i + 1)) then 1 else 0) ∧ v = (so, n, k, nw, ct, f, g))) ([.ref (E.1 0), .int (zI (q)), .int (zI (i))] : List Value).toArray s0 0 0 A) (F0 m 2 ls []) := by
    intro d
    induction d with
    | zero =>
      intro j hd hj H locs hH ls hl
      refine lv_iload_n F.x F.b dX1_alike_2 rfl (lv_at hl 3 rfl) ?_
      refine lv_iload_n F.x F.b dX1_alike_3 rfl (lv_at hl 2 rfl) ?_
      refine zr_icmp_gt (tgt := 43) F.x F.b dX1_alike_4 (by decide) (by omega) (by omega) (fun c4 => ?_) (fun c4 => ?_)
      · have ej : j = i + 1 := by omega
        rw [ej] at hj
        refine lv_iconst (v := zI (1)) F.x F.b dX1_alike_43 (by decide +kernel) ?_
        exact CtM.zret F hH (by omega) (⟨(if_pos hj).symm, rfl⟩) dX1_alike_44
      · exact absurd c4 (by omega)
    | succ d ih =>
      intro j hd hj H locs hH ls hl
      refine lv_iload_n F.x F.b dX1_alike_2 rfl (lv_at hl 3 rfl) ?_
      refine lv_iload_n F.x F.b dX1_alike_3 rfl (lv_at hl 2 rfl) ?_
      refine zr_icmp_gt (tgt := 43) F.x F.b dX1_alike_4 (by decide) (by omega) (by omega) (fun c4 => ?_) (fun c4 => ?_)
      · exact absurd c4 (by omega)
      · have hs1 := ko_qs (L := L) (j := j) (f q) (by omega)
        have hs2 := ko_qs (L := L) (j := j) (f nw) (by omega)
        have hd1 := ko_dig8 L (f q) j
        have hd2 := ko_dig8 L (f nw) j
        refine lv_aload_n F.x F.b dX1_alike_7 rfl (lv_at hl 0 rfl) ?_
        refine lv_aload_n F.x F.b dX1_alike_8 rfl (lv_at hl 0 rfl) ?_
        refine getM F hH 5 (by decide) q179 rfl (v := .ref (E.1 5)) rfl dX1_alike_9 ?_
        refine lv_iload_n F.x F.b dX1_alike_12 rfl (lv_at hl 1 rfl) ?_
        refine laldM F hH 1 (f) rfl (q) (rfl) (by omega) dX1_alike_13 ?_
        refine lv_iload_n F.x F.b dX1_alike_14 rfl (lv_at hl 3 rfl) ?_
        refine CtM.call (n := 2) (cM_digit l E so n k nw ct f g L (f q) j hm hg1 (by omega)) F hH (lw_V q213 q215 qs14 q18 q216) (by decide +kernel) ⟨Nat.le_of_ble_eq_true rfl, Nat.le_of_ble_eq_true rfl⟩ rfl hl.1 rfl (Nat.le_of_ble_eq_true rfl) dX1_alike_15 ⟨Nat.le_refl _, Nat.le_refl _⟩ (fun z9 v9 H locs hp hH => ?_)
        obtain ⟨rfl, rfl⟩ := hp
        refine lv_aload_n F.x F.b dX1_alike_18 rfl (lv_at hl 0 rfl) ?_
        refine lv_aload_n F.x F.b dX1_alike_19 rfl (lv_at hl 0 rfl) ?_
        refine getM F hH 5 (by decide) q179 rfl (v := .ref (E.1 5)) rfl dX1_alike_20 ?_
        refine lv_aload_n F.x F.b dX1_alike_23 rfl (lv_at hl 0 rfl) ?_
        refine getM F hH 3 (by decide) q177 rfl (v := .int (zI (nw))) rfl dX1_alike_24 ?_
        refine laldM F hH 1 (f) rfl (nw) (rfl) (by omega) dX1_alike_27 ?_
        refine lv_iload_n F.x F.b dX1_alike_28 rfl (lv_at hl 3 rfl) ?_
        refine CtM.call (n := 2) (cM_digit l E so n k nw ct f g L (f nw) j hm hg2 (by omega)) F hH (lw_V q213 q215 qs14 q18 q216) (by decide +kernel) ⟨Nat.le_of_ble_eq_true rfl, Nat.le_of_ble_eq_true rfl⟩ rfl hl.1 rfl (Nat.le_of_ble_eq_true rfl) dX1_alike_29 ⟨Nat.le_refl _, Nat.le_refl _⟩ (fun z9 v9 H locs hp hH => ?_)
        obtain ⟨rfl, rfl⟩ := hp
        refine zr_icmp_eq (tgt := 37) F.x F.b dX1_alike_32 (by decide) (by omega) (by omega) (fun c32 => ?_) (fun c32 => ?_)
        · refine zr_iinc F.x F.b (((j + 1 : Nat) : Int)) (lv' := [(3, .int (zI (((j + 1 : Nat) : Int)))), (0, .ref (E.1 0)), (1, .int (zI (q))), (2, .int (zI (i)))]) dX1_alike_37 hl (k := 3) rfl (by omega) (by decide) rfl (fun ls hl => ?_)
          refine lv_goto (tgt := 2) F.x F.b dX1_alike_40 (by decide) ?_
          exact ih (j + 1) (by omega) (by omega) H locs hH ls (lv_sub hl [1, 2, 3, 0] rfl)
        · refine lv_iconst (v := zI (0)) F.x F.b dX1_alike_35 (by decide +kernel) ?_
          exact CtM.zret F hH (by omega) (⟨(if_neg (fun h => by have h2 := ko_q_le (show j ≤ i by omega) hi h; omega)).symm, rfl⟩) dX1_alike_36
  exact loop (i + 1) 0 (by omega) (by rw [Nat.sub_zero, Nat.div_eq_of_lt hf1, Nat.div_eq_of_lt hf2]) _ _ hH ls (lv_sub hl [1, 2, 3, 0] rfl)

set_option maxHeartbeats 4000000 in
/-- firstLike(z) -/
theorem cM_firstLike (l : Launch) (E : EM) (so n : Nat) (k : Int) (nw ct : Nat) (f g : Nat → Nat) (L : Nat) (z : Int) (hm : ko_mk so n k L) (hct : ct ≤ 5040) (hnw : (ct = 0 ∧ nw = 0) ∨ nw < ct) (hf : ∀ j, j < ct → f j < 8 ^ L) (hz : -2147483648 ≤ z ∧ z ≤ 2147483647) : CtM l yX1_firstLike cX1_firstLike 3 (some .int) 3 85 E [.int (zI (z))] (so, n, k, nw, ct, f, g) (fun w v => (((ct = 0 ∨ z < 0 ∨ (L : Int) ≤ z) ∧ w = -1) ∨ (¬ (ct = 0 ∨ z < 0 ∨ (L : Int) ≤ z) ∧ ((∃ q : Nat, q < ct ∧ w = (q : Int) ∧ f (q) / 8 ^ (L - (z.toNat + 1)) = f (nw) / 8 ^ (L - (z.toNat + 1)) ∧ ∀ t, t < q → ¬ f (t) / 8 ^ (L - (z.toNat + 1)) = f (nw) / 8 ^ (L - (z.toNat + 1))) ∨ (w = -1 ∧ ∀ t, t < ct → ¬ f (t) / 8 ^ (L - (z.toNat + 1)) = f (nw) / 8 ^ (L - (z.toNat + 1)))))) ∧ v = (so, n, k, nw, ct, f, g)) := by
  refine CtM.start (by decide +kernel) rfl ?_
  intro p e s0 m below meth c A F hH
  have hl := lv_entry ([.ref (E.1 0), .int (zI (z))]) (n := 3) (Nat.le_of_ble_eq_true rfl)
  rw [lg_entry_eq]
  generalize (lg_sl ([.ref (E.1 0), .int (zI (z))]) ++ List.replicate (3 - (lg_sl ([.ref (E.1 0), .int (zI (z))])).length) Slot.unset).toArray = ls at hl ⊢
  have hl : lv_has ls 3 [(0, .ref (E.1 0)), (1, .int (zI (z)))] := hl
  obtain ⟨k1, k2, k3, k4, k5, k6, k7, k8⟩ := ko_cfg_b hm.1
  refine lv_aload_n F.x F.b dX1_firstLike_0 rfl (lv_at hl 0 rfl) ?_
  refine getM F hH 4 (by decide) q178 rfl (v := .int (zI (ct))) rfl dX1_firstLike_1 ?_
  refine zr_if_eq (tgt := 19) F.x F.b dX1_firstLike_4 (by decide) (by omega) (fun c4 => ?_) (fun c4 => ?_)
  · refine lv_iconst (v := zI (-1)) F.x F.b dX1_firstLike_19 (by decide +kernel) ?_
    exact CtM.iret F hH (⟨Or.inl ⟨by omega, rfl⟩, rfl⟩) dX1_firstLike_20
  · refine lv_iload_n F.x F.b dX1_firstLike_7 rfl (lv_at hl 1 rfl) ?_
    refine zr_if_lt (tgt := 19) F.x F.b dX1_firstLike_8 (by decide) (by omega) (fun c8 => ?_) (fun c8 => ?_)
    · refine lv_iconst (v := zI (-1)) F.x F.b dX1_firstLike_19 (by decide +kernel) ?_
      exact CtM.iret F hH (⟨Or.inl ⟨by omega, rfl⟩, rfl⟩) dX1_firstLike_20
    · refine lv_iload_n F.x F.b dX1_firstLike_11 rfl (lv_at hl 1 rfl) ?_
      refine lv_aload_n F.x F.b dX1_firstLike_12 rfl (lv_at hl 0 rfl) ?_
      refine CtM.call (n := 0) (cM_length l E so n k nw ct f g L hm) F hH (lw_V q164 q166 qs12 q18 q167) (by decide +kernel) ⟨Nat.le_of_ble_eq_true rfl, Nat.le_of_ble_eq_true rfl⟩ rfl hl.1 rfl (Nat.le_of_ble_eq_true rfl) dX1_firstLike_13 ⟨Nat.le_refl _, Nat.le_refl _⟩ (fun z9 v9 H locs hp hH => ?_)
      obtain ⟨rfl, rfl⟩ := hp
      refine zr_icmp_lt (tgt := 21) F.x F.b dX1_firstLike_16 (by decide) (by omega) (by omega) (fun c16 => ?_) (fun c16 => ?_)
      · obtain ⟨i, hi⟩ : ∃ i : Nat, z.toNat = i := ⟨_, rfl⟩
        have hzi : z = (i : Int) := by omega
        have hnc : nw < ct := by omega
        rw [hzi] at hl
        refine lv_iconst (v := zI (0)) F.x F.b dX1_firstLike_21 (by decide +kernel) ?_
        refine lv_istore_n (lv' := [(2, .int (zI (0))), (0, .ref (E.1 0)), (1, .int (zI (i)))]) F.x F.b dX1_firstLike_22 rfl hl (by decide) rfl (fun ls hl => ?_)
        have loop : ∀ d q : Nat, d + q = ct → (∀ t, t < q → ¬ f (t) / 8 ^ (L - (i + 1)) = f (nw) / 8 ^ (L - (i + 1))) → ∀ (H : Heap) (locs : List Loc), HM E s0 A (so, n, k, nw, ct, f, g) H locs → ∀ ls : Array Slot, lv_has ls 3 [(0, .ref (E.1 0)), (1, .int (zI (i))), (2, .int (zI (q)))] → W p l e (rmX 3 85) s0 m ([.ref (E.1 0), .int (zI (z))] : List Value).toArray below meth c H locs 0 0 (MQ below (QcM E A (fun w v => (((ct = 0 ∨ z < 0 ∨ (L : Int) ≤ z) ∧ w = -1) ∨ (¬ (ct = 0 ∨ z < 0 ∨ (L : Int) ≤ z) ∧ ((∃ q : Nat, q < ct ∧ w = (q : Int) ∧ f (q) / 8 ^ (L - (z.toNat + 1)) = f (nw) / 8 ^ (L - (z.toNat + 1)) ∧ ∀ t, t < q → ¬ f (t) / 8 ^ (L - (z.toNat + 1)) = f (nw) / 8 ^ (L - (z.toNat + 1))) ∨ (w = -1 ∧ ∀ t, t < ct → ¬ f (t) / 8 ^ (L - (z.toNat + 1)) = f (nw) / 8 ^ (L - (z.toNat + 1)))))) ∧ v = (so, n, k, nw, ct, f, g))) ([.ref (E.1 0), .int (zI (z))] : List Value).toArray s0 0 0 A) (F0 m 23 ls []) := by
          intro d
          induction d with
          | zero =>
            intro q hd ht H locs hH ls hl
            refine lv_iload_n F.x F.b dX1_firstLike_23 rfl (lv_at hl 2 rfl) ?_
            refine lv_aload_n F.x F.b dX1_firstLike_24 rfl (lv_at hl 0 rfl) ?_
            refine getM F hH 4 (by decide) q178 rfl (v := .int (zI (ct))) rfl dX1_firstLike_25 ?_
            refine zr_icmp_ge (tgt := 48) F.x F.b dX1_firstLike_28 (by decide) (by omega) (by omega) (fun c28 => ?_) (fun c28 => ?_)
            · have eq : q = ct := by omega
              rw [eq] at ht
              refine lv_iconst (v := zI (-1)) F.x F.b dX1_firstLike_48 (by decide +kernel) ?_
              exact CtM.iret F hH (⟨Or.inr ⟨by omega, Or.inr ⟨rfl, by rw [hi]; exact ht⟩⟩, rfl⟩) dX1_firstLike_49
            · exact absurd c28 (by omega)
          | succ d ih =>
            intro q hd ht H locs hH ls hl
            refine lv_iload_n F.x F.b dX1_firstLike_23 rfl (lv_at hl 2 rfl) ?_
            refine lv_aload_n F.x F.b dX1_firstLike_24 rfl (lv_at hl 0 rfl) ?_
            refine getM F hH 4 (by decide) q178 rfl (v := .int (zI (ct))) rfl dX1_firstLike_25 ?_
            refine zr_icmp_ge (tgt := 48) F.x F.b dX1_firstLike_28 (by decide) (by omega) (by omega) (fun c28 => ?_) (fun c28 => ?_)
            · exact absurd c28 (by omega)
            · refine lv_aload_n F.x F.b dX1_firstLike_31 rfl (lv_at hl 0 rfl) ?_
              refine lv_iload_n F.x F.b dX1_firstLike_32 rfl (lv_at hl 2 rfl) ?_
              refine lv_iload_n F.x F.b dX1_firstLike_33 rfl (lv_at hl 1 rfl) ?_
              refine CtM.call (n := 2) (cM_alike l E so n k nw ct f g L q i hm hct hf (by omega) hnc (by omega)) F hH (lw_V q233 q235 qs15 q18 q236) (by decide +kernel) ⟨Nat.le_of_ble_eq_true rfl, Nat.le_of_ble_eq_true rfl⟩ rfl hl.1 rfl (Nat.le_of_ble_eq_true rfl) dX1_firstLike_34 ⟨Nat.le_refl _, Nat.le_refl _⟩ (fun z9 v9 H locs hp hH => ?_)
              obtain ⟨rfl, rfl⟩ := hp
              by_cases hal : f (q) / 8 ^ (L - (i + 1)) = f (nw) / 8 ^ (L - (i + 1))
              · rw [if_pos hal]
                refine zr_if_eq (tgt := 42) F.x F.b dX1_firstLike_37 (by decide) (by omega) (fun c37 => ?_) (fun c37 => ?_)
                · exact absurd c37 (by omega)
                · refine lv_iload_n F.x F.b dX1_firstLike_40 rfl (lv_at hl 2 rfl) ?_
                  exact CtM.iret F hH (⟨Or.inr ⟨by omega, Or.inl ⟨q, by omega, rfl, by rw [hi]; exact ⟨hal, ht⟩⟩⟩, rfl⟩) dX1_firstLike_41
              · rw [if_neg hal]
                refine zr_if_eq (tgt := 42) F.x F.b dX1_firstLike_37 (by decide) (by omega) (fun c37 => ?_) (fun c37 => ?_)
                · refine zr_iinc F.x F.b (((q + 1 : Nat) : Int)) (lv' := [(2, .int (zI (((q + 1 : Nat) : Int)))), (0, .ref (E.1 0)), (1, .int (zI (i)))]) dX1_firstLike_42 hl (k := 2) rfl (by omega) (by decide) rfl (fun ls hl => ?_)
                  refine lv_goto (tgt := 23) F.x F.b dX1_firstLike_45 (by decide) ?_
                  refine ih (q + 1) (by omega) (fun t h => ?_) H locs hH ls (lv_sub hl [1, 2, 0] rfl)
                  by_cases e9 : t = q
                  · rw [e9]; exact hal
                  · exact ht t (by omega)
                · exact absurd rfl c37
        exact loop ct 0 (by omega) (fun t h => absurd h (Nat.not_lt_zero t)) _ _ hH ls (lv_sub hl [1, 2, 0] rfl)
      · refine lv_iconst (v := zI (-1)) F.x F.b dX1_firstLike_19 (by decide +kernel) ?_
        exact CtM.iret F hH (⟨Or.inl ⟨by omega, rfl⟩, rfl⟩) dX1_firstLike_20

set_option maxHeartbeats 4000000 in
/-- like(z) -/
theorem cM_like (l : Launch) (E : EM) (so n : Nat) (k : Int) (nw ct : Nat) (f g : Nat → Nat) (L : Nat) (z : Int) (hm : ko_mk so n k L) (hct : ct ≤ 5040) (hnw : (ct = 0 ∧ nw = 0) ∨ nw < ct) (hf : ∀ j, j < ct → f j < 8 ^ L) (hz : -2147483648 ≤ z ∧ z ≤ 2147483647) : CtM l yX1_like cX1_like 4 (some .int) 3 85 E [.int (zI (z))] (so, n, k, nw, ct, f, g) (fun w v => (((ct = 0 ∨ z < 0 ∨ (L : Int) ≤ z) ∧ w = -1) ∨ (¬ (ct = 0 ∨ z < 0 ∨ (L : Int) ≤ z) ∧ w = ((ko_cn (fun t => decide (f (t) / 8 ^ (L - (z.toNat + 1)) = f (nw) / 8 ^ (L - (z.toNat + 1)))) ct : Nat) : Int))) ∧ v = (so, n, k, nw, ct, f, g)) := by
  refine CtM.start (by decide +kernel) rfl ?_
  intro p e s0 m below meth c A F hH
  have hl := lv_entry ([.ref (E.1 0), .int (zI (z))]) (n := 4) (Nat.le_of_ble_eq_true rfl)
  rw [lg_entry_eq]
  generalize (lg_sl ([.ref (E.1 0), .int (zI (z))]) ++ List.replicate (4 - (lg_sl ([.ref (E.1 0), .int (zI (z))])).length) Slot.unset).toArray = ls at hl ⊢
  have hl : lv_has ls 4 [(0, .ref (E.1 0)), (1, .int (zI (z)))] := hl
  obtain ⟨k1, k2, k3, k4, k5, k6, k7, k8⟩ := ko_cfg_b hm.1
  refine lv_aload_n F.x F.b dX1_like_0 rfl (lv_at hl 0 rfl) ?_
  refine getM F hH 4 (by decide) q178 rfl (v := .int (zI (ct))) rfl dX1_like_1 ?_
  refine zr_if_eq (tgt := 19) F.x F.b dX1_like_4 (by decide) (by omega) (fun c4 => ?_) (fun c4 => ?_)
  · refine lv_iconst (v := zI (-1)) F.x F.b dX1_like_19 (by decide +kernel) ?_
    exact CtM.iret F hH (⟨Or.inl ⟨by omega, rfl⟩, rfl⟩) dX1_like_20
  · refine lv_iload_n F.x F.b dX1_like_7 rfl (lv_at hl 1 rfl) ?_
    refine zr_if_lt (tgt := 19) F.x F.b dX1_like_8 (by decide) (by omega) (fun c8 => ?_) (fun c8 => ?_)
    · refine lv_iconst (v := zI (-1)) F.x F.b dX1_like_19 (by decide +kernel) ?_
      exact CtM.iret F hH (⟨Or.inl ⟨by omega, rfl⟩, rfl⟩) dX1_like_20
    · refine lv_iload_n F.x F.b dX1_like_11 rfl (lv_at hl 1 rfl) ?_
      refine lv_aload_n F.x F.b dX1_like_12 rfl (lv_at hl 0 rfl) ?_
      refine CtM.call (n := 0) (cM_length l E so n k nw ct f g L hm) F hH (lw_V q164 q166 qs12 q18 q167) (by decide +kernel) ⟨Nat.le_of_ble_eq_true rfl, Nat.le_of_ble_eq_true rfl⟩ rfl hl.1 rfl (Nat.le_of_ble_eq_true rfl) dX1_like_13 ⟨Nat.le_refl _, Nat.le_refl _⟩ (fun z9 v9 H locs hp hH => ?_)
      obtain ⟨rfl, rfl⟩ := hp
      refine zr_icmp_lt (tgt := 21) F.x F.b dX1_like_16 (by decide) (by omega) (by omega) (fun c16 => ?_) (fun c16 => ?_)
      · obtain ⟨i, hi⟩ : ∃ i : Nat, z.toNat = i := ⟨_, rfl⟩
        have hzi : z = (i : Int) := by omega
        have hnc : nw < ct := by omega
        rw [hzi] at hl
        refine lv_iconst (v := zI (0)) F.x F.b dX1_like_21 (by decide +kernel) ?_
        refine lv_istore_n (lv' := [(2, .int (zI (0))), (0, .ref (E.1 0)), (1, .int (zI (i)))]) F.x F.b dX1_like_22 rfl hl (by decide) rfl (fun ls hl => ?_)
        refine lv_iconst (v := zI (0)) F.x F.b dX1_like_23 (by decide +kernel) ?_
        refine lv_istore_n (lv' := [(3, .int (zI (0))), (2, .int (zI (0))), (0, .ref (E.1 0)), (1, .int (zI (i)))]) F.x F.b dX1_like_24 rfl hl (by decide) rfl (fun ls hl => ?_)
        have loop : ∀ d q : Nat, d + q = ct → ∀ (H : Heap) (locs : List Loc), HM E s0 A (so, n, k, nw, ct, f, g) H locs → ∀ ls : Array Slot, lv_has ls 4 [(0, .ref (E.1 0)), (1, .int (zI (i))), (2, .int (zI (((ko_cn (fun t => decide (f (t) / 8 ^ (L - (i + 1)) = f (nw) / 8 ^ (L - (i + 1)))) q : Nat) : Int)))), (3, .int (zI (q)))] → W p l e (rmX 3 85) s0 m ([.ref (E.1 0), .int (zI (z))] : List Value).toArray below meth c H locs 0 0 (MQ below (QcM E A (fun w v => (((ct = 0 ∨ z < 0 ∨ (L : Int) ≤ z) ∧ w = -1) ∨ (¬ (ct = 0 ∨ z < 0 ∨ (L : Int) ≤ z) ∧ w = ((ko_cn (fun t => decide (f (t) / 8 ^ (L - (z.toNat + 1)) = f (nw) / 8 ^ (L - (z.toNat + 1)))) ct : Nat) : Int))) ∧ v = (so, n, k, nw, ct, f, g))) ([.ref (E.1 0), .int (zI (z))] : List Value).toArray s0 0 0 A) (F0 m 25 ls []) := by
          intro d
          induction d with
          | zero =>
            intro q hd H locs hH ls hl
            refine lv_iload_n F.x F.b dX1_like_25 rfl (lv_at hl 3 rfl) ?_
            refine lv_aload_n F.x F.b dX1_like_26 rfl (lv_at hl 0 rfl) ?_
            refine getM F hH 4 (by decide) q178 rfl (v := .int (zI (ct))) rfl dX1_like_27 ?_
            refine zr_icmp_ge (tgt := 51) F.x F.b dX1_like_30 (by decide) (by omega) (by omega) (fun c30 => ?_) (fun c30 => ?_)
            · have eq : q = ct := by omega
              rw [eq] at hl
              refine lv_iload_n F.x F.b dX1_like_51 rfl (lv_at hl 2 rfl) ?_
              exact CtM.iret F hH (⟨Or.inr ⟨by omega, by rw [hi]⟩, rfl⟩) dX1_like_52
            · exact absurd c30 (by omega)
          | succ d ih =>
            intro q hd H locs hH ls hl
            refine lv_iload_n F.x F.b dX1_like_25 rfl (lv_at hl 3 rfl) ?_
            refine lv_aload_n F.x F.b dX1_like_26 rfl (lv_at hl 0 rfl) ?_
            refine getM F hH 4 (by decide) q178 rfl (v := .int (zI (ct))) rfl dX1_like_27 ?_
            refine zr_icmp_ge (tgt := 51) F.x F.b dX1_like_30 (by decide) (by omega) (by omega) (fun c30 => ?_) (fun c30 => ?_)
            · exact absurd c30 (by omega)
            · have hcs := ko_cn_s (fun t => decide (f (t) / 8 ^ (L - (i + 1)) = f (nw) / 8 ^ (L - (i + 1)))) q
              refine lv_aload_n F.x F.b dX1_like_33 rfl (lv_at hl 0 rfl) ?_
              refine lv_iload_n F.x F.b dX1_like_34 rfl (lv_at hl 3 rfl) ?_
              refine lv_iload_n F.x F.b dX1_like_35 rfl (lv_at hl 1 rfl) ?_
              refine CtM.call (n := 2) (cM_alike l E so n k nw ct f g L q i hm hct hf (by omega) hnc (by omega)) F hH (lw_V q233 q235 qs15 q18 q236) (by decide +kernel) ⟨Nat.le_of_ble_eq_true rfl, Nat.le_of_ble_eq_true rfl⟩ rfl hl.1 rfl (Nat.le_of_ble_eq_true rfl) dX1_like_36 ⟨Nat.le_refl _, Nat.le_refl _⟩ (fun z9 v9 H locs hp hH => ?_)
              obtain ⟨rfl, rfl⟩ := hp
              by_cases hal : f (q) / 8 ^ (L - (i + 1)) = f (nw) / 8 ^ (L - (i + 1))
              · rw [if_pos hal]
                rw [if_pos (decide_eq_true hal)] at hcs
                refine zr_if_eq (tgt := 45) F.x F.b dX1_like_39 (by decide) (by omega) (fun c39 => ?_) (fun c39 => ?_)
                · exact absurd c39 (by omega)
                · refine zr_iinc F.x F.b (((ko_cn (fun t => decide (f (t) / 8 ^ (L - (i + 1)) = f (nw) / 8 ^ (L - (i + 1)))) (q + 1) : Nat) : Int)) (lv' := [(2, .int (zI (((ko_cn (fun t => decide (f (t) / 8 ^ (L - (i + 1)) = f (nw) / 8 ^ (L - (i + 1)))) (q + 1) : Nat) : Int)))), (0, .ref (E.1 0)), (1, .int (zI (i))), (3, .int (zI (q)))]) dX1_like_42 hl (k := 2) rfl (by omega) (by decide) rfl (fun ls hl => ?_)
                  refine zr_iinc F.x F.b (((q + 1 : Nat) : Int)) (lv' := [(3, .int (zI (((q + 1 : Nat) : Int)))), (2, .int (zI (((ko_cn (fun t => decide (f (t) / 8 ^ (L - (i + 1)) = f (nw) / 8 ^ (L - (i + 1)))) (q + 1) : Nat) : Int)))), (0, .ref (E.1 0)), (1, .int (zI (i)))]) dX1_like_45 hl (k := 3) rfl (by omega) (by decide) rfl (fun ls hl => ?_)
                  refine lv_goto (tgt := 25) F.x F.b dX1_like_48 (by decide) ?_
                  exact ih (q + 1) (by omega) H locs hH ls (lv_sub hl [2, 3, 1, 0] rfl)
              · rw [if_neg hal]
                rw [if_neg (by simpa using hal)] at hcs
                refine zr_if_eq (tgt := 45) F.x F.b dX1_like_39 (by decide) (by omega) (fun c39 => ?_) (fun c39 => ?_)
                · refine zr_iinc F.x F.b (((q + 1 : Nat) : Int)) (lv' := [(3, .int (zI (((q + 1 : Nat) : Int)))), (0, .ref (E.1 0)), (1, .int (zI (i))), (2, .int (zI (((ko_cn (fun t => decide (f (t) / 8 ^ (L - (i + 1)) = f (nw) / 8 ^ (L - (i + 1)))) q : Nat) : Int))))]) dX1_like_45 hl (k := 3) rfl (by omega) (by decide) rfl (fun ls hl => ?_)
                  refine lv_goto (tgt := 25) F.x F.b dX1_like_48 (by decide) ?_
                  rw [show ((ko_cn (fun t => decide (f (t) / 8 ^ (L - (i + 1)) = f (nw) / 8 ^ (L - (i + 1)))) q : Nat) : Int) = ((ko_cn (fun t => decide (f (t) / 8 ^ (L - (i + 1)) = f (nw) / 8 ^ (L - (i + 1)))) (q + 1) : Nat) : Int) by omega] at hl
                  exact ih (q + 1) (by omega) H locs hH ls (lv_sub hl [1, 2, 3, 0] rfl)
                · exact absurd rfl c39
        exact loop ct 0 (by omega) _ _ hH ls (lv_sub hl [2, 3, 1, 0] rfl)
      · refine lv_iconst (v := zI (-1)) F.x F.b dX1_like_19 (by decide +kernel) ?_
        exact CtM.iret F hH (⟨Or.inl ⟨by omega, rfl⟩, rfl⟩) dX1_like_20

set_option maxHeartbeats 4000000 in
/-- difference(z) -/
theorem cM_difference (l : Launch) (E : EM) (so n : Nat) (k : Int) (nw ct : Nat) (f g : Nat → Nat) (L : Nat) (z : Int) (hm : ko_mk so n k L) (hct : ct ≤ 5040) (hnw : (ct = 0 ∧ nw = 0) ∨ nw < ct) (hf : ∀ j, j < ct → f j < 8 ^ L) (hz : -2147483648 ≤ z ∧ z ≤ 2147483647) : CtM l yX1_difference cX1_difference 4 (some .int) 2 60 E [.int (zI (z))] (so, n, k, nw, ct, f, g) (fun w v => (¬ (0 ≤ z ∧ z < (ct : Nat)) ∧ w = -1 ∧ v = (so, n, k, nw, ct, f, g)) ∨ (0 ≤ z ∧ z < (ct : Nat) ∧ w = ((ko_df (ko_dig L (f z.toNat)) (ko_dig L (f nw)) L : Nat) : Int) ∧ v = (so, n, k, nw, ct, f, g))) := by
  refine CtM.start (by decide +kernel) rfl ?_
  intro p e s0 m below meth c A F hH
  have hl := lv_entry ([.ref (E.1 0), .int (zI (z))]) (n := 4) (Nat.le_of_ble_eq_true rfl)
  rw [lg_entry_eq]
  generalize (lg_sl ([.ref (E.1 0), .int (zI (z))]) ++ List.replicate (4 - (lg_sl ([.ref (E.1 0), .int (zI (z))])).length) Slot.unset).toArray = ls at hl ⊢
  have hl : lv_has ls 4 [(0, .ref (E.1 0)), (1, .int (zI (z)))] := hl
  obtain ⟨k1, k2, k3, k4, k5, k6, k7, k8⟩ := ko_cfg_b hm.1
  refine lv_iload_n F.x F.b dX1_difference_0 rfl (lv_at hl 1 rfl) ?_
  refine zr_if_lt (tgt := 12) F.x F.b dX1_difference_1 (by decide) (by omega) (fun c1 => ?_) (fun c1 => ?_)
  · refine lv_iconst (v := zI (-1)) F.x F.b dX1_difference_12 (by decide +kernel) ?_
    exact CtM.iret F hH (Or.inl ⟨by omega, rfl, rfl⟩) dX1_difference_13
  · refine lv_iload_n F.x F.b dX1_difference_4 rfl (lv_at hl 1 rfl) ?_
    refine lv_aload_n F.x F.b dX1_difference_5 rfl (lv_at hl 0 rfl) ?_
    refine getM F hH 4 (by decide) q178 rfl (v := .int (zI (ct))) rfl dX1_difference_6 ?_
    refine zr_icmp_lt (tgt := 14) F.x F.b dX1_difference_9 (by decide) (by omega) (by omega) (fun c9 => ?_) (fun c9 => ?_)
    · obtain ⟨q, hq⟩ : ∃ q : Nat, z.toNat = q := ⟨_, rfl⟩
      have hzq : z = (q : Int) := by omega
      rw [hzq] at hl
      have hf1 := ko_lt62 (hf q (by omega)) k4
      have hf2 := ko_lt62 (hf nw (by omega)) k4
      refine lv_iconst (v := zI (0)) F.x F.b dX1_difference_14 (by decide +kernel) ?_
      refine lv_istore_n (lv' := [(2, .int (zI (0))), (0, .ref (E.1 0)), (1, .int (zI (q)))]) F.x F.b dX1_difference_15 rfl hl (by decide) rfl (fun ls hl => ?_)
      refine lv_iconst (v := zI (0)) F.x F.b dX1_difference_16 (by decide +kernel) ?_
      refine lv_istore_n (lv' := [(3, .int (zI (0))), (2, .int (zI (0))), (0, .ref (E.1 0)), (1, .int (zI (q)))]) F.x F.b dX1_difference_17 rfl hl (by decide) rfl (fun ls hl => ?_)
      have loop : ∀ d i : Nat, d + i = L → ∀ (H : Heap) (locs : List Loc), HM E s0 A (so, n, k, nw, ct, f, g) H locs → ∀ ls : Array Slot, lv_has ls 4 [(0, .ref (E.1 0)), (1, .int (zI (q))), (2, .int (zI (((ko_df (ko_dig L (f q)) (ko_dig L (f nw)) i : Nat) : Int)))), (3, .int (zI (i)))] → W p l e (rmX 2 60) s0 m ([.ref (E.1 0), .int (zI (z))] : List Value).toArray below meth c H locs 0 0 (MQ below (QcM E A (fun w v => (¬ (0 ≤ z ∧ z < (ct : Nat)) ∧ w = -1 ∧ v = (so, n, k, nw, ct, f, g)) ∨ (0 ≤ z ∧ z < (ct : Nat) ∧ w = ((ko_df (ko_dig L (f z.toNat)) (ko_dig L (f nw)) L : Nat) : Int) ∧ v = (so, n, k, nw, ct, f, g)))) ([.ref (E.1 0), .int (zI (z))] : List Value).toArray s0 0 0 A) (F0 m 18 ls []) := by
        intro d
        induction d with
        | zero =>
          intro i hd H locs hH ls hl
          refine lv_iload_n F.x F.b dX1_difference_18 rfl (lv_at hl 3 rfl) ?_
          refine lv_aload_n F.x F.b dX1_difference_19 rfl (lv_at hl 0 rfl) ?_
          refine CtM.call (n := 0) (cM_length l E so n k nw ct f g L hm) F hH (lw_V q164 q166 qs12 q18 q167) (by decide +kernel) ⟨Nat.le_of_ble_eq_true rfl, Nat.le_of_ble_eq_true rfl⟩ rfl hl.1 rfl (Nat.le_of_ble_eq_true rfl) dX1_difference_20 ⟨Nat.le_refl _, Nat.le_refl _⟩ (fun z9 v9 H locs hp hH => ?_)
          obtain ⟨rfl, rfl⟩ := hp
          refine zr_icmp_ge (tgt := 63) F.x F.b dX1_difference_23 (by decide) (by omega) (by omega) (fun c23 => ?_) (fun c23 => ?_)
          · have eq : i = L := by omega
            rw [eq] at hl
            refine lv_iload_n F.x F.b dX1_difference_63 rfl (lv_at hl 2 rfl) ?_
            exact CtM.iret F hH (Or.inr ⟨by omega, by omega, by rw [hq], rfl⟩) dX1_difference_64
          · exact absurd c23 (by omega)
        | succ d ih =>
          intro i hd H locs hH ls hl
          refine lv_iload_n F.x F.b dX1_difference_18 rfl (lv_at hl 3 rfl) ?_
          refine lv_aload_n F.x F.b dX1_difference_19 rfl (lv_at hl 0 rfl) ?_
          refine CtM.call (n := 0) (cM_length l E so n k nw ct f g L hm) F hH (lw_V q164 q166 qs12 q18 q167) (by decide +kernel) ⟨Nat.le_of_ble_eq_true rfl, Nat.le_of_ble_eq_true rfl⟩ rfl hl.1 rfl (Nat.le_of_ble_eq_true rfl) dX1_difference_20 ⟨Nat.le_refl _, Nat.le_refl _⟩ (fun z9 v9 H locs hp hH => ?_)
          obtain ⟨rfl, rfl⟩ := hp
          refine zr_icmp_ge (tgt := 63) F.x F.b dX1_difference_23 (by decide) (by omega) (by omega) (fun c23 => ?_) (fun c23 => ?_)
          · exact absurd c23 (by omega)
          · have hdl := ko_df_le (ko_dig L (f q)) (ko_dig L (f nw)) i
            have hds := ko_df_s (ko_dig L (f q)) (ko_dig L (f nw)) i
            have hd1 := ko_dig8 L (f q) i
            have hd2 := ko_dig8 L (f nw) i
            refine lv_aload_n F.x F.b dX1_difference_26 rfl (lv_at hl 0 rfl) ?_
            refine lv_aload_n F.x F.b dX1_difference_27 rfl (lv_at hl 0 rfl) ?_
            refine getM F hH 5 (by decide) q179 rfl (v := .ref (E.1 5)) rfl dX1_difference_28 ?_
            refine lv_iload_n F.x F.b dX1_difference_31 rfl (lv_at hl 1 rfl) ?_
            refine laldM F hH 1 (f) rfl (q) (rfl) (by omega) dX1_difference_32 ?_
            refine lv_iload_n F.x F.b dX1_difference_33 rfl (lv_at hl 3 rfl) ?_
            refine CtM.call (n := 2) (cM_digit l E so n k nw ct f g L (f q) i hm hf1 (by omega)) F hH (lw_V q213 q215 qs14 q18 q216) (by decide +kernel) ⟨Nat.le_of_ble_eq_true rfl, Nat.le_of_ble_eq_true rfl⟩ rfl hl.1 rfl (Nat.le_of_ble_eq_true rfl) dX1_difference_34 ⟨Nat.le_refl _, Nat.le_refl _⟩ (fun z9 v9 H locs hp hH => ?_)
            obtain ⟨rfl, rfl⟩ := hp
            refine lv_aload_n F.x F.b dX1_difference_37 rfl (lv_at hl 0 rfl) ?_
            refine lv_aload_n F.x F.b dX1_difference_38 rfl (lv_at hl 0 rfl) ?_
            refine getM F hH 5 (by decide) q179 rfl (v := .ref (E.1 5)) rfl dX1_difference_39 ?_
            refine lv_aload_n F.x F.b dX1_difference_42 rfl (lv_at hl 0 rfl) ?_
            refine getM F hH 3 (by decide) q177 rfl (v := .int (zI (nw))) rfl dX1_difference_43 ?_
            refine laldM F hH 1 (f) rfl (nw) (rfl) (by omega) dX1_difference_46 ?_
            refine lv_iload_n F.x F.b dX1_difference_47 rfl (lv_at hl 3 rfl) ?_
            refine CtM.call (n := 2) (cM_digit l E so n k nw ct f g L (f nw) i hm hf2 (by omega)) F hH (lw_V q213 q215 qs14 q18 q216) (by decide +kernel) ⟨Nat.le_of_ble_eq_true rfl, Nat.le_of_ble_eq_true rfl⟩ rfl hl.1 rfl (Nat.le_of_ble_eq_true rfl) dX1_difference_48 ⟨Nat.le_refl _, Nat.le_refl _⟩ (fun z9 v9 H locs hp hH => ?_)
            obtain ⟨rfl, rfl⟩ := hp
            refine zr_icmp_eq (tgt := 57) F.x F.b dX1_difference_51 (by decide) (by omega) (by omega) (fun c51 => ?_) (fun c51 => ?_)
            · rw [if_pos (show ko_dig L (f q) i = ko_dig L (f nw) i by omega)] at hds
              refine zr_iinc F.x F.b (((i + 1 : Nat) : Int)) (lv' := [(3, .int (zI (((i + 1 : Nat) : Int)))), (0, .ref (E.1 0)), (1, .int (zI (q))), (2, .int (zI (((ko_df (ko_dig L (f q)) (ko_dig L (f nw)) i : Nat) : Int))))]) dX1_difference_57 hl (k := 3) rfl (by omega) (by decide) rfl (fun ls hl => ?_)
              refine lv_goto (tgt := 18) F.x F.b dX1_difference_60 (by decide) ?_
              rw [show ((ko_df (ko_dig L (f q)) (ko_dig L (f nw)) i : Nat) : Int) = ((ko_df (ko_dig L (f q)) (ko_dig L (f nw)) (i + 1) : Nat) : Int) by omega] at hl
              exact ih (i + 1) (by omega) H locs hH ls (lv_sub hl [1, 2, 3, 0] rfl)
            · rw [if_neg (show ¬ ko_dig L (f q) i = ko_dig L (f nw) i by omega)] at hds
              refine zr_iinc F.x F.b (((ko_df (ko_dig L (f q)) (ko_dig L (f nw)) (i + 1) : Nat) : Int)) (lv' := [(2, .int (zI (((ko_df (ko_dig L (f q)) (ko_dig L (f nw)) (i + 1) : Nat) : Int)))), (0, .ref (E.1 0)), (1, .int (zI (q))), (3, .int (zI (i)))]) dX1_difference_54 hl (k := 2) rfl (by omega) (by decide) rfl (fun ls hl => ?_)
              refine zr_iinc F.x F.b (((i + 1 : Nat) : Int)) (lv' := [(3, .int (zI (((i + 1 : Nat) : Int)))), (2, .int (zI (((ko_df (ko_dig L (f q)) (ko_dig L (f nw)) (i + 1) : Nat) : Int)))), (0, .ref (E.1 0)), (1, .int (zI (q)))]) dX1_difference_57 hl (k := 3) rfl (by omega) (by decide) rfl (fun ls hl => ?_)
              refine lv_goto (tgt := 18) F.x F.b dX1_difference_60 (by decide) ?_
              exact ih (i + 1) (by omega) H locs hH ls (lv_sub hl [2, 3, 1, 0] rfl)
      exact loop L 0 (by omega) _ _ hH ls (lv_sub hl [2, 3, 1, 0] rfl)
    · refine lv_iconst (v := zI (-1)) F.x F.b dX1_difference_12 (by decide +kernel) ?_
      exact CtM.iret F hH (Or.inl ⟨by omega, rfl, rfl⟩) dX1_difference_13

set_option maxHeartbeats 4000000 in
/-- mirrored() -/
theorem cM_mirrored (l : Launch) (E : EM) (so n : Nat) (k : Int) (nw ct : Nat) (f g : Nat → Nat) (L : Nat) (x : Nat → Nat) (hm : ko_mk so n k L) (hct : ct ≤ 5040) (hnw : (ct = 0 ∧ nw = 0) ∨ nw < ct) (hf : ∀ j, j < ct → f j < 8 ^ L) (hx : nw < ct → so ≠ 2 → (so = 4 → 0 < L) ∧ f nw = ko_cod x L ∧ ko_VP so n L x L) : CtM l yX1_mirrored cX1_mirrored 5 (some .int) 2 60 E [] (so, n, k, nw, ct, f, g) (fun w v => (((so = 2 ∨ ct = 0) ∧ w = -2) ∨ (¬ (so = 2 ∨ ct = 0) ∧ ((∃ q : Nat, q < ct ∧ w = (q : Int) ∧ f q = ko_cod (ko_mir so n L x) L ∧ ∀ t, t < q → ¬ f t = ko_cod (ko_mir so n L x) L) ∨ (w = -2 ∧ ∀ t, t < ct → ¬ f t = ko_cod (ko_mir so n L x) L)))) ∧ v = (so, n, k, nw, ct, f, g)) := by
  refine CtM.start (by decide +kernel) rfl ?_
  intro p e s0 m below meth c A F hH
  have hl := lv_entry ([.ref (E.1 0)]) (n := 5) (Nat.le_of_ble_eq_true rfl)
  rw [lg_entry_eq]
  generalize (lg_sl ([.ref (E.1 0)]) ++ List.replicate (5 - (lg_sl ([.ref (E.1 0)])).length) Slot.unset).toArray = ls at hl ⊢
  have hl : lv_has ls 5 [(0, .ref (E.1 0))] := hl
  obtain ⟨k1, k2, k3, k4, k5, k6, k7, k8⟩ := ko_cfg_b hm.1
  refine lv_aload_n F.x F.b dX1_mirrored_0 rfl (lv_at hl 0 rfl) ?_
  refine getM F hH 0 (by decide) q174 rfl (v := .int (zI (so))) rfl dX1_mirrored_1 ?_
  refine lv_iconst (v := zI (2)) F.x F.b dX1_mirrored_4 (by decide +kernel) ?_
  refine zr_icmp_eq (tgt := 15) F.x F.b dX1_mirrored_5 (by decide) (by omega) (by omega) (fun c5 => ?_) (fun c5 => ?_)
  · refine lv_bipush (v := zI (-2)) F.x F.b dX1_mirrored_15 (by decide +kernel) ?_
    exact CtM.iret F hH (⟨Or.inl ⟨by omega, rfl⟩, rfl⟩) dX1_mirrored_17
  · refine lv_aload_n F.x F.b dX1_mirrored_8 rfl (lv_at hl 0 rfl) ?_
    refine getM F hH 4 (by decide) q178 rfl (v := .int (zI (ct))) rfl dX1_mirrored_9 ?_
    refine zr_if_ne (tgt := 18) F.x F.b dX1_mirrored_12 (by decide) (by omega) (fun c12 => ?_) (fun c12 => ?_)
    · have hnc : nw < ct := by omega
      obtain ⟨hlv, hfx, hvp⟩ := hx hnc (by omega)
      have hf2 := ko_lt62 (hf nw hnc) k4
      have hmv := ko_mirV hm.1 hlv (by omega) hvp
      have ho62 : ko_cod (ko_mir so n L x) L < 2 ^ 62 := ko_lt62 (ko_cod_lt L (fun j hj => (hmv j hj).1)) k4
      refine lv_lconst (v := lN 0) F.x F.b dX1_mirrored_18 (by decide +kernel) ?_
      refine lv_lstore_n (lv' := [(1, .long (lN (0))), (0, .ref (E.1 0))]) F.x F.b dX1_mirrored_19 rfl hl (by decide) rfl (fun ls hl => ?_)
      refine lv_aload_n F.x F.b dX1_mirrored_20 rfl (lv_at hl 1 rfl) ?_
      refine CtM.call (n := 0) (cM_length l E so n k nw ct f g L hm) F hH (lw_V q164 q166 qs12 q18 q167) (by decide +kernel) ⟨Nat.le_of_ble_eq_true rfl, Nat.le_of_ble_eq_true rfl⟩ rfl hl.1 rfl (Nat.le_of_ble_eq_true rfl) dX1_mirrored_21 ⟨Nat.le_refl _, Nat.le_refl _⟩ (fun z9 v9 H locs hp hH => ?_)
      obtain ⟨rfl, rfl⟩ := hp
      refine lv_iconst (v := zI (1)) F.x F.b dX1_mirrored_24 (by decide +kernel) ?_
      refine zr_isub F.x F.b ((L : Int) - 1) dX1_mirrored_25 (rfl) ?_
      refine lv_istore_n (lv' := [(3, .int (zI ((L : Int) - 1))), (1, .long (lN (0))), (0, .ref (E.1 0))]) F.x F.b dX1_mirrored_26 rfl hl (by decide) rfl (fun ls hl => ?_)
      have search : ∀ d q : Nat, d + q = ct → (∀ t, t < q → ¬ f t = ko_cod (ko_mir so n L x) L) → ∀ (H : Heap) (locs : List Loc), HM E s0 A (so, n, k, nw, ct, f, g) H locs → ∀ ls : Array Slot, lv_has ls 5 [(0, .ref (E.1 0)), (1, .long (lN (ko_cod (ko_mir so n L x) L))), (3, .int (zI (q)))] → W p l e (rmX 2 60) s0 m ([.ref (E.1 0)] : List Value).toArray below meth c H locs 0 0 (MQ below (QcM E A (fun w v => (((so = 2 ∨ ct = 0) ∧ w = -2) ∨ (¬ (so = 2 ∨ ct = 0) ∧ ((∃ q : Nat, q < ct ∧ w = (q : Int) ∧ f q = ko_cod (ko_mir so n L x) L ∧ ∀ t, t < q → ¬ f t = ko_cod (ko_mir so n L x) L) ∨ (w = -2 ∧ ∀ t, t < ct → ¬ f t = ko_cod (ko_mir so n L x) L)))) ∧ v = (so, n, k, nw, ct, f, g))) ([.ref (E.1 0)] : List Value).toArray s0 0 0 A) (F0 m 99 ls []) := by
        intro d
        induction d with
        | zero =>
          intro q hd ht H locs hH ls hl
          refine lv_iload_n F.x F.b dX1_mirrored_99 rfl (lv_at hl 2 rfl) ?_
          refine lv_aload_n F.x F.b dX1_mirrored_100 rfl (lv_at hl 0 rfl) ?_
          refine getM F hH 4 (by decide) q178 rfl (v := .int (zI (ct))) rfl dX1_mirrored_101 ?_
          refine zr_icmp_ge (tgt := 126) F.x F.b dX1_mirrored_104 (by decide) (by omega) (by omega) (fun c104 => ?_) (fun c104 => ?_)
          · have eq : q = ct := by omega
            rw [eq] at ht
            refine lv_bipush (v := zI (-2)) F.x F.b dX1_mirrored_126 (by decide +kernel) ?_
            exact CtM.iret F hH (⟨Or.inr ⟨by omega, Or.inr ⟨rfl, ht⟩⟩, rfl⟩) dX1_mirrored_128
          · exact absurd c104 (by omega)
        | succ d ih =>
          intro q hd ht H locs hH ls hl
          refine lv_iload_n F.x F.b dX1_mirrored_99 rfl (lv_at hl 2 rfl) ?_
          refine lv_aload_n F.x F.b dX1_mirrored_100 rfl (lv_at hl 0 rfl) ?_
          refine getM F hH 4 (by decide) q178 rfl (v := .int (zI (ct))) rfl dX1_mirrored_101 ?_
          refine zr_icmp_ge (tgt := 126) F.x F.b dX1_mirrored_104 (by decide) (by omega) (by omega) (fun c104 => ?_) (fun c104 => ?_)
          · exact absurd c104 (by omega)
          · have hfq := ko_lt62 (hf q (by omega)) k4
            refine lv_aload_n F.x F.b dX1_mirrored_107 rfl (lv_at hl 0 rfl) ?_
            refine getM F hH 5 (by decide) q179 rfl (v := .ref (E.1 5)) rfl dX1_mirrored_108 ?_
            refine lv_iload_n F.x F.b dX1_mirrored_111 rfl (lv_at hl 2 rfl) ?_
            refine laldM F hH 1 (f) rfl (q) (rfl) (by omega) dX1_mirrored_112 ?_
            refine lv_lload_n F.x F.b dX1_mirrored_113 rfl (lv_at hl 1 rfl) ?_
            refine zr_lcmp F.x F.b hfq ho62 dX1_mirrored_114 (fun z9 hz9 hb9 => ?_)
            refine zr_if_ne (tgt := 120) F.x F.b dX1_mirrored_115 (by decide) (by omega) (fun c115 => ?_) (fun c115 => ?_)
            · refine zr_iinc F.x F.b (((q + 1 : Nat) : Int)) (lv' := [(3, .int (zI (((q + 1 : Nat) : Int)))), (0, .ref (E.1 0)), (1, .long (lN (ko_cod (ko_mir so n L x) L)))]) dX1_mirrored_120 hl (k := 2) rfl (by omega) (by decide) rfl (fun ls hl => ?_)
              refine lv_goto (tgt := 99) F.x F.b dX1_mirrored_123 (by decide) ?_
              refine ih (q + 1) (by omega) (fun t h => ?_) H locs hH ls (lv_sub hl [1, 2, 0] rfl)
              by_cases e9 : t = q
              · rw [e9]; exact fun h => c115 (hz9.mpr h)
              · exact ht t (by omega)
            · refine lv_iload_n F.x F.b dX1_mirrored_118 rfl (lv_at hl 2 rfl) ?_
              exact CtM.iret F hH (⟨Or.inr ⟨by omega, Or.inl ⟨q, by omega, rfl, hz9.mp c115, ht⟩⟩, rfl⟩) dX1_mirrored_119
      have loop : ∀ d t : Nat, d + t = L → ∀ (H : Heap) (locs : List Loc), HM E s0 A (so, n, k, nw, ct, f, g) H locs → ∀ ls : Array Slot, lv_has ls 5 [(0, .ref (E.1 0)), (1, .long (lN (ko_cod (ko_mir so n L x) t))), (3, .int (zI (((L - t : Nat) : Int) - 1)))] → W p l e (rmX 2 60) s0 m ([.ref (E.1 0)] : List Value).toArray below meth c H locs 0 0 (MQ below (QcM E A (fun w v => (((so = 2 ∨ ct = 0) ∧ w = -2) ∨ (¬ (so = 2 ∨ ct = 0) ∧ ((∃ q : Nat, q < ct ∧ w = (q : Int) ∧ f q = ko_cod (ko_mir so n L x) L ∧ ∀ t, t < q → ¬ f t = ko_cod (ko_mir so n L x) L) ∨ (w = -2 ∧ ∀ t, t < ct → ¬ f t = ko_cod (ko_mir so n L x) L)))) ∧ v = (so, n, k, nw, ct, f, g))) ([.ref (E.1 0)] : List Value).toArray s0 0 0 A) (F0 m 27 ls []) := by
        intro d
        induction d with
        | zero =>
          intro t hd H locs hH ls hl
          have et : t = L := by omega
          rw [et] at hl
          refine lv_iload_n F.x F.b dX1_mirrored_27 rfl (lv_at hl 2 rfl) ?_
          refine zr_if_lt (tgt := 97) F.x F.b dX1_mirrored_28 (by decide) (by omega) (fun c28 => ?_) (fun c28 => ?_)
          · refine lv_iconst (v := zI (0)) F.x F.b dX1_mirrored_97 (by decide +kernel) ?_
            refine lv_istore_n (lv' := [(3, .int (zI (0))), (0, .ref (E.1 0)), (1, .long (lN (ko_cod (ko_mir so n L x) L)))]) F.x F.b dX1_mirrored_98 rfl hl (by decide) rfl (fun ls hl => ?_)
            exact search ct 0 (by omega) (fun t h => absurd h (Nat.not_lt_zero t)) H locs hH ls (lv_sub hl [1, 2, 0] rfl)
          · exact absurd c28 (by omega)
        | succ d ih =>
          intro t hd H locs hH ls hl
          rw [show ((L - t : Nat) : Int) - 1 = ((L - 1 - t : Nat) : Int) by omega] at hl
          refine lv_iload_n F.x F.b dX1_mirrored_27 rfl (lv_at hl 2 rfl) ?_
          refine zr_if_lt (tgt := 97) F.x F.b dX1_mirrored_28 (by decide) (by omega) (fun c28 => ?_) (fun c28 => ?_)
          · exact absurd c28 (by omega)
          · obtain ⟨m1, m2, m3⟩ := ko_mir_le hvp (show t < L by omega)
            have hm8 := (hmv t (by omega)).1
            have hdg : ko_dig L (f nw) (L - 1 - t) = x (L - 1 - t) := by rw [hfx]; exact ko_dig_cod (fun j hj => (hvp j hj).1) (by omega)
            refine lv_aload_n F.x F.b dX1_mirrored_31 rfl (lv_at hl 0 rfl) ?_
            refine lv_aload_n F.x F.b dX1_mirrored_32 rfl (lv_at hl 0 rfl) ?_
            refine getM F hH 5 (by decide) q179 rfl (v := .ref (E.1 5)) rfl dX1_mirrored_33 ?_
            refine lv_aload_n F.x F.b dX1_mirrored_36 rfl (lv_at hl 0 rfl) ?_
            refine getM F hH 3 (by decide) q177 rfl (v := .int (zI (nw))) rfl dX1_mirrored_37 ?_
            refine laldM F hH 1 (f) rfl (nw) (rfl) (by omega) dX1_mirrored_40 ?_
            refine lv_iload_n F.x F.b dX1_mirrored_41 rfl (lv_at hl 2 rfl) ?_
            refine CtM.call (n := 2) (cM_digit l E so n k nw ct f g L (f nw) (L - 1 - t) hm hf2 (by omega)) F hH (lw_V q213 q215 qs14 q18 q216) (by decide +kernel) ⟨Nat.le_of_ble_eq_true rfl, Nat.le_of_ble_eq_true rfl⟩ rfl hl.1 rfl (Nat.le_of_ble_eq_true rfl) dX1_mirrored_42 ⟨Nat.le_refl _, Nat.le_refl _⟩ (fun z9 v9 H locs hp hH => ?_)
            obtain ⟨rfl, rfl⟩ := hp
            rw [hdg]
            have hx8 := (hvp (L - 1 - t) (by omega)).1
            refine lv_istore (lv' := [(4, .int (zI (((x (L - 1 - t) : Nat) : Int)))), (0, .ref (E.1 0)), (1, .long (lN (ko_cod (ko_mir so n L x) t))), (3, .int (zI (((L - 1 - t : Nat) : Int))))]) F.x F.b dX1_mirrored_45 hl (by decide) rfl (fun ls hl => ?_)
            refine lv_ldc2 F.x F.b F.2.2.2.1 (F.2.2.2.2.1 _ q173) dX1_mirrored_47 ?_
            refine zr_topl (y := lN (8)) (by decide +kernel) ?_
            refine lv_lload_n F.x F.b dX1_mirrored_50 rfl (lv_at hl 2 rfl) ?_
            refine lv_lmul F.x F.b dX1_mirrored_51 ?_
            refine zr_topl (y := lN (8 * ko_cod (ko_mir so n L x) t)) (lN_mul _ _) ?_
            refine lv_aload_n F.x F.b dX1_mirrored_52 rfl (lv_at hl 1 rfl) ?_
            refine getM F hH 0 (by decide) q174 rfl (v := .int (zI (so))) rfl dX1_mirrored_53 ?_
            refine zr_if_ne (tgt := 71) F.x F.b dX1_mirrored_56 (by decide) (by omega) (fun c56 => ?_) (fun c56 => ?_)
            · refine lv_aload_n F.x F.b dX1_mirrored_71 rfl (lv_at hl 1 rfl) ?_
              refine getM F hH 0 (by decide) q174 rfl (v := .int (zI (so))) rfl dX1_mirrored_72 ?_
              refine lv_iconst (v := zI (3)) F.x F.b dX1_mirrored_75 (by decide +kernel) ?_
              refine zr_icmp_ne (tgt := 86) F.x F.b dX1_mirrored_76 (by decide) (by omega) (by omega) (fun c76 => ?_) (fun c76 => ?_)
              · refine lv_iload F.x F.b dX1_mirrored_86 (lv_at hl 0 rfl) ?_
                refine zr_top (y := zI ((ko_mir so n L x t : Nat) : Int)) (by congr 1; omega) ?_
                refine lv_i2l (v := lN (ko_mir so n L x t)) F.x F.b dX1_mirrored_88 (zL_i2l (by omega)) ?_
                refine lv_ladd F.x F.b dX1_mirrored_89 ?_
                refine zr_topl (y := lN (ko_cod (ko_mir so n L x) (t + 1))) (lN_add _ _) ?_
                refine lv_lstore_n (lv' := [(1, .long (lN (ko_cod (ko_mir so n L x) (t + 1)))), (4, .int (zI (((x (L - 1 - t) : Nat) : Int)))), (0, .ref (E.1 0)), (3, .int (zI (((L - 1 - t : Nat) : Int))))]) F.x F.b dX1_mirrored_90 rfl hl (by decide) rfl (fun ls hl => ?_)
                refine zr_iinc F.x F.b (((L - (t + 1) : Nat) : Int) - 1) (lv' := [(3, .int (zI (((L - (t + 1) : Nat) : Int) - 1))), (1, .long (lN (ko_cod (ko_mir so n L x) (t + 1)))), (4, .int (zI (((x (L - 1 - t) : Nat) : Int)))), (0, .ref (E.1 0))]) dX1_mirrored_91 hl (k := 3) rfl (by omega) (by decide) rfl (fun ls hl => ?_)
                refine lv_goto (tgt := 27) F.x F.b dX1_mirrored_94 (by decide) ?_
                exact ih (t + 1) (by omega) H locs hH ls (lv_sub hl [3, 1, 0] rfl)
              · refine lv_iconst (v := zI (1)) F.x F.b dX1_mirrored_79 (by decide +kernel) ?_
                refine lv_iload F.x F.b dX1_mirrored_80 (lv_at hl 0 rfl) ?_
                refine zr_isub F.x F.b (((ko_mir so n L x t : Nat) : Int)) dX1_mirrored_82 (by omega) ?_
                refine lv_goto (tgt := 88) F.x F.b dX1_mirrored_83 (by decide) ?_
                refine lv_i2l (v := lN (ko_mir so n L x t)) F.x F.b dX1_mirrored_88 (zL_i2l (by omega)) ?_
                refine lv_ladd F.x F.b dX1_mirrored_89 ?_
                refine zr_topl (y := lN (ko_cod (ko_mir so n L x) (t + 1))) (lN_add _ _) ?_
                refine lv_lstore_n (lv' := [(1, .long (lN (ko_cod (ko_mir so n L x) (t + 1)))), (4, .int (zI (((x (L - 1 - t) : Nat) : Int)))), (0, .ref (E.1 0)), (3, .int (zI (((L - 1 - t : Nat) : Int))))]) F.x F.b dX1_mirrored_90 rfl hl (by decide) rfl (fun ls hl => ?_)
                refine zr_iinc F.x F.b (((L - (t + 1) : Nat) : Int) - 1) (lv' := [(3, .int (zI (((L - (t + 1) : Nat) : Int) - 1))), (1, .long (lN (ko_cod (ko_mir so n L x) (t + 1)))), (4, .int (zI (((x (L - 1 - t) : Nat) : Int)))), (0, .ref (E.1 0))]) dX1_mirrored_91 hl (k := 3) rfl (by omega) (by decide) rfl (fun ls hl => ?_)
                refine lv_goto (tgt := 27) F.x F.b dX1_mirrored_94 (by decide) ?_
                exact ih (t + 1) (by omega) H locs hH ls (lv_sub hl [3, 1, 0] rfl)
            · refine lv_aload_n F.x F.b dX1_mirrored_59 rfl (lv_at hl 1 rfl) ?_
              refine getM F hH 1 (by decide) q175 rfl (v := .int (zI (n))) rfl dX1_mirrored_60 ?_
              refine lv_iconst (v := zI (1)) F.x F.b dX1_mirrored_63 (by decide +kernel) ?_
              refine zr_isub F.x F.b ((n : Int) - 1) dX1_mirrored_64 (rfl) ?_
              refine lv_iload F.x F.b dX1_mirrored_65 (lv_at hl 0 rfl) ?_
              refine zr_isub F.x F.b (((ko_mir so n L x t : Nat) : Int)) dX1_mirrored_67 (by omega) ?_
              refine lv_goto (tgt := 88) F.x F.b dX1_mirrored_68 (by decide) ?_
              refine lv_i2l (v := lN (ko_mir so n L x t)) F.x F.b dX1_mirrored_88 (zL_i2l (by omega)) ?_
              refine lv_ladd F.x F.b dX1_mirrored_89 ?_
              refine zr_topl (y := lN (ko_cod (ko_mir so n L x) (t + 1))) (lN_add _ _) ?_
              refine lv_lstore_n (lv' := [(1, .long (lN (ko_cod (ko_mir so n L x) (t + 1)))), (4, .int (zI (((x (L - 1 - t) : Nat) : Int)))), (0, .ref (E.1 0)), (3, .int (zI (((L - 1 - t : Nat) : Int))))]) F.x F.b dX1_mirrored_90 rfl hl (by decide) rfl (fun ls hl => ?_)
              refine zr_iinc F.x F.b (((L - (t + 1) : Nat) : Int) - 1) (lv' := [(3, .int (zI (((L - (t + 1) : Nat) : Int) - 1))), (1, .long (lN (ko_cod (ko_mir so n L x) (t + 1)))), (4, .int (zI (((x (L - 1 - t) : Nat) : Int)))), (0, .ref (E.1 0))]) dX1_mirrored_91 hl (k := 3) rfl (by omega) (by decide) rfl (fun ls hl => ?_)
              refine lv_goto (tgt := 27) F.x F.b dX1_mirrored_94 (by decide) ?_
              exact ih (t + 1) (by omega) H locs hH ls (lv_sub hl [3, 1, 0] rfl)
      exact loop L 0 (by omega) _ _ hH ls (lv_sub hl [2, 1, 0] rfl)
    · refine lv_bipush (v := zI (-2)) F.x F.b dX1_mirrored_15 (by decide +kernel) ?_
      exact CtM.iret F hH (⟨Or.inl ⟨by omega, rfl⟩, rfl⟩) dX1_mirrored_17

/-- choose's answer and world -/
def ko_chM (u : SM) (a b c1 : Int) : Int → SM → Prop := fun w v => (¬ (0 ≤ a ∧ a ≤ 4 ∧ 1 ≤ b ∧ b ≤ 7 ∧ (a = 0 ∨ a = 4 → 0 ≤ c1 ∧ c1 ≤ b)) ∧ w = 0 ∧ v = u) ∨ ((0 ≤ a ∧ a ≤ 4 ∧ 1 ≤ b ∧ b ≤ 7 ∧ (a = 0 ∨ a = 4 → 0 ≤ c1 ∧ c1 ≤ b)) ∧ w = 1 ∧ ∃ f2 g2 : Nat → Nat, ko_holds f2 (ko_objs a.toNat b.toNat (ko_len a.toNat b.toNat c1.toNat)) ∧ v = (a.toNat, b.toNat, c1, 0, (ko_objs a.toNat b.toNat (ko_len a.toNat b.toNat c1.toNat)).length, f2, g2))

set_option maxHeartbeats 4000000 in
/-- choose(a, b, c1) -/
theorem cM_choose (l : Launch) (E : EM) (so n : Nat) (k : Int) (nw ct : Nat) (f g : Nat → Nat) (a b c1 : Int) (ha : -2147483648 ≤ a ∧ a ≤ 2147483647) (hb : -2147483648 ≤ b ∧ b ≤ 2147483647) (hc1 : -2147483648 ≤ c1 ∧ c1 ≤ 2147483647) : CtM l yX1_choose cX1_choose 4 (some .boolean) 2 55 E [.int (zI (a)), .int (zI (b)), .int (zI (c1))] (so, n, k, nw, ct, f, g) (ko_chM (so, n, k, nw, ct, f, g) a b c1) := by
  refine CtM.start (by decide +kernel) rfl ?_
  intro p e s0 m below meth c A F hH
  have hl := lv_entry ([.ref (E.1 0), .int (zI (a)), .int (zI (b)), .int (zI (c1))]) (n := 4) (Nat.le_of_ble_eq_true rfl)
  rw [lg_entry_eq]
  generalize (lg_sl ([.ref (E.1 0), .int (zI (a)), .int (zI (b)), .int (zI (c1))]) ++ List.replicate (4 - (lg_sl ([.ref (E.1 0), .int (zI (a)), .int (zI (b)), .int (zI (c1))])).length) Slot.unset).toArray = ls at hl ⊢
  have hl : lv_has ls 4 [(0, .ref (E.1 0)), (1, .int (zI (a))), (2, .int (zI (b))), (3, .int (zI (c1)))] := hl
  have tail : (0 ≤ a ∧ a ≤ 4 ∧ 1 ≤ b ∧ b ≤ 7 ∧ (a = 0 ∨ a = 4 → 0 ≤ c1 ∧ c1 ≤ b)) → ∀ ls : Array Slot, lv_has ls 4 [(0, .ref (E.1 0)), (1, .int (zI (a))), (2, .int (zI (b))), (3, .int (zI (c1)))] → W p l e (rmX 2 55) s0 m ([.ref (E.1 0), .int (zI (a)), .int (zI (b)), .int (zI (c1))] : List Value).toArray below meth c s0.heap [] 0 0 (MQ below (QcM E A (ko_chM (so, n, k, nw, ct, f, g) a b c1)) ([.ref (E.1 0), .int (zI (a)), .int (zI (b)), .int (zI (c1))] : List Value).toArray s0 0 0 A) (F0 m 42 ls []) := by
    intro hab ls hl
    obtain ⟨a, rfl⟩ : ∃ p : Nat, a = p := ⟨a.toNat, by omega⟩
    obtain ⟨b, rfl⟩ : ∃ p : Nat, b = p := ⟨b.toNat, by omega⟩
    have hcf := ko_len_ok (s := a) (n := b) (k := c1.toNat) (by omega) (by omega) (by omega) (by omega)
    obtain ⟨e1, e2, e3⟩ := ko_len_eq (s := a) b c1.toNat (by omega)
    have hm : ko_mk a b c1 (ko_len a b c1.toNat) := ⟨hcf, by omega, hc1⟩
    refine lv_aload_n F.x F.b dX1_choose_42 rfl (lv_at hl 0 rfl) ?_
    refine lv_iload_n F.x F.b dX1_choose_43 rfl (lv_at hl 1 rfl) ?_
    refine putM F hH 0 (by decide) q174 ⟨rfl, rfl, by decide +kernel⟩ (a, n, k, nw, ct, f, g) rfl dX1_choose_44 (fun H locs hH => ?_)
    refine lv_aload_n F.x F.b dX1_choose_47 rfl (lv_at hl 0 rfl) ?_
    refine lv_iload_n F.x F.b dX1_choose_48 rfl (lv_at hl 2 rfl) ?_
    refine putM F hH 1 (by decide) q175 ⟨rfl, rfl, by decide +kernel⟩ (a, b, k, nw, ct, f, g) rfl dX1_choose_49 (fun H locs hH => ?_)
    refine lv_aload_n F.x F.b dX1_choose_52 rfl (lv_at hl 0 rfl) ?_
    refine lv_iload_n F.x F.b dX1_choose_53 rfl (lv_at hl 3 rfl) ?_
    refine putM F hH 2 (by decide) q176 ⟨rfl, rfl, by decide +kernel⟩ (a, b, c1, nw, ct, f, g) rfl dX1_choose_54 (fun H locs hH => ?_)
    refine lv_aload_n F.x F.b dX1_choose_57 rfl (lv_at hl 0 rfl) ?_
    refine lv_iconst (v := zI (0)) F.x F.b dX1_choose_58 (by decide +kernel) ?_
    refine putM F hH 3 (by decide) q177 ⟨rfl, rfl, by decide +kernel⟩ (a, b, c1, 0, ct, f, g) rfl dX1_choose_59 (fun H locs hH => ?_)
    refine lv_aload_n F.x F.b dX1_choose_62 rfl (lv_at hl 0 rfl) ?_
    refine CtMv.call (n := 0) (cM_write l E a b c1 0 ct f g (ko_len a b c1.toNat) hm) F hH (lw_V q160 q162 qs11 q18 q163) (by decide +kernel) ⟨Nat.le_of_ble_eq_true rfl, Nat.le_of_ble_eq_true rfl⟩ rfl hl.1 rfl (Nat.le_of_ble_eq_true rfl) dX1_choose_63 ⟨Nat.le_refl _, Nat.le_refl _⟩ (fun v9 H locs hp hH => ?_)
    obtain ⟨f2, g2, hh2, rfl⟩ := hp
    refine lv_iconst (v := zI (1)) F.x F.b dX1_choose_66 (by decide +kernel) ?_
    exact CtM.zret F hH (by omega) (Or.inr ⟨by omega, rfl, f2, g2, hh2, rfl⟩) dX1_choose_67
  refine lv_iload_n F.x F.b dX1_choose_0 rfl (lv_at hl 1 rfl) ?_
  refine zr_if_lt (tgt := 20) F.x F.b dX1_choose_1 (by decide) (by omega) (fun c1_ => ?_) (fun c1_ => ?_)
  · refine lv_iconst (v := zI (0)) F.x F.b dX1_choose_20 (by decide +kernel) ?_
    exact CtM.zret F hH (by omega) (Or.inl ⟨by omega, rfl, rfl⟩) dX1_choose_21
  · refine lv_iload_n F.x F.b dX1_choose_4 rfl (lv_at hl 1 rfl) ?_
    refine lv_iconst (v := zI (4)) F.x F.b dX1_choose_5 (by decide +kernel) ?_
    refine zr_icmp_gt (tgt := 20) F.x F.b dX1_choose_6 (by decide) (by omega) (by omega) (fun c6 => ?_) (fun c6 => ?_)
    · refine lv_iconst (v := zI (0)) F.x F.b dX1_choose_20 (by decide +kernel) ?_
      exact CtM.zret F hH (by omega) (Or.inl ⟨by omega, rfl, rfl⟩) dX1_choose_21
    · refine lv_iload_n F.x F.b dX1_choose_9 rfl (lv_at hl 2 rfl) ?_
      refine lv_iconst (v := zI (1)) F.x F.b dX1_choose_10 (by decide +kernel) ?_
      refine zr_icmp_lt (tgt := 20) F.x F.b dX1_choose_11 (by decide) (by omega) (by omega) (fun c11 => ?_) (fun c11 => ?_)
      · refine lv_iconst (v := zI (0)) F.x F.b dX1_choose_20 (by decide +kernel) ?_
        exact CtM.zret F hH (by omega) (Or.inl ⟨by omega, rfl, rfl⟩) dX1_choose_21
      · refine lv_iload_n F.x F.b dX1_choose_14 rfl (lv_at hl 2 rfl) ?_
        refine lv_bipush (v := zI (7)) F.x F.b dX1_choose_15 (by decide +kernel) ?_
        refine zr_icmp_le (tgt := 22) F.x F.b dX1_choose_17 (by decide) (by omega) (by omega) (fun c17 => ?_) (fun c17 => ?_)
        · refine lv_iload_n F.x F.b dX1_choose_22 rfl (lv_at hl 1 rfl) ?_
          refine zr_if_eq (tgt := 31) F.x F.b dX1_choose_23 (by decide) (by omega) (fun c23 => ?_) (fun c23 => ?_)
          · refine lv_iload_n F.x F.b dX1_choose_31 rfl (lv_at hl 3 rfl) ?_
            refine zr_if_lt (tgt := 40) F.x F.b dX1_choose_32 (by decide) (by omega) (fun c32 => ?_) (fun c32 => ?_)
            · refine lv_iconst (v := zI (0)) F.x F.b dX1_choose_40 (by decide +kernel) ?_
              exact CtM.zret F hH (by omega) (Or.inl ⟨by omega, rfl, rfl⟩) dX1_choose_41
            · refine lv_iload_n F.x F.b dX1_choose_35 rfl (lv_at hl 3 rfl) ?_
              refine lv_iload_n F.x F.b dX1_choose_36 rfl (lv_at hl 2 rfl) ?_
              refine zr_icmp_le (tgt := 42) F.x F.b dX1_choose_37 (by decide) (by omega) (by omega) (fun c37 => ?_) (fun c37 => ?_)
              · exact tail (by omega) ls (lv_sub hl [0, 1, 2, 3] rfl)
              · refine lv_iconst (v := zI (0)) F.x F.b dX1_choose_40 (by decide +kernel) ?_
                exact CtM.zret F hH (by omega) (Or.inl ⟨by omega, rfl, rfl⟩) dX1_choose_41
          · refine lv_iload_n F.x F.b dX1_choose_26 rfl (lv_at hl 1 rfl) ?_
            refine lv_iconst (v := zI (4)) F.x F.b dX1_choose_27 (by decide +kernel) ?_
            refine zr_icmp_ne (tgt := 42) F.x F.b dX1_choose_28 (by decide) (by omega) (by omega) (fun c28 => ?_) (fun c28 => ?_)
            · exact tail (by omega) ls (lv_sub hl [0, 1, 2, 3] rfl)
            · refine lv_iload_n F.x F.b dX1_choose_31 rfl (lv_at hl 3 rfl) ?_
              refine zr_if_lt (tgt := 40) F.x F.b dX1_choose_32 (by decide) (by omega) (fun c32 => ?_) (fun c32 => ?_)
              · refine lv_iconst (v := zI (0)) F.x F.b dX1_choose_40 (by decide +kernel) ?_
                exact CtM.zret F hH (by omega) (Or.inl ⟨by omega, rfl, rfl⟩) dX1_choose_41
              · refine lv_iload_n F.x F.b dX1_choose_35 rfl (lv_at hl 3 rfl) ?_
                refine lv_iload_n F.x F.b dX1_choose_36 rfl (lv_at hl 2 rfl) ?_
                refine zr_icmp_le (tgt := 42) F.x F.b dX1_choose_37 (by decide) (by omega) (by omega) (fun c37 => ?_) (fun c37 => ?_)
                · exact tail (by omega) ls (lv_sub hl [0, 1, 2, 3] rfl)
                · refine lv_iconst (v := zI (0)) F.x F.b dX1_choose_40 (by decide +kernel) ?_
                  exact CtM.zret F hH (by omega) (Or.inl ⟨by omega, rfl, rfl⟩) dX1_choose_41
        · refine lv_iconst (v := zI (0)) F.x F.b dX1_choose_20 (by decide +kernel) ?_
          exact CtM.zret F hH (by omega) (Or.inl ⟨by omega, rfl, rfl⟩) dX1_choose_21
end
section
set_option maxRecDepth 100000
def ko_adM (h q5 q6 : Nat) : Nat → Nat := fun k => match k with
  | 0 => h
  | 5 => q5
  | 6 => q6
  | _ => 0
theorem ko_z0L (N : Nat) (cA : ClassId) : vp_cell cA (N, .inr (.inl (fun j => lN ((fun _ => 0 : Nat → Nat) j)))) = arrV cA N (fun _ => defaultValue .long) := rfl
abbrev fs0M : List Value := [.int (zI ((0 : Nat) : Int)), .int (zI ((0 : Nat) : Int)), .int (zI 0), .int (zI ((0 : Nat) : Int)), .int (zI ((0 : Nat) : Int)), .null, .null]
abbrev w0M (h : Nat) : va_W := [(h, .inr (1, fs0M))]
/-- what the reference's constructor leaves -/
def iniM (h : Nat) (D : va_G) (q : EM × SM) : Prop := q.1.1 0 = h ∧ q.1.2.2 = D ∧ ∃ f g : Nat → Nat, ko_holds f (ko_objs 1 3 3) ∧ q.2 = (1, 3, 0, 0, (ko_objs 1 3 3).length, f, g)

set_option maxHeartbeats 8000000 in
/-- RankedObjectsModel() -/
theorem cM_init (l : Launch) (D : va_G) (h0 sz : Nat) : Met l yX1_init (ws_ yX1_init cX1_init 1 none) (rmI 2 2 10080 55) (va_Pc [.ref h0] (fun U => U.heap.size = sz ∧ va_P D vwCl (w0M h0) U.heap ∧ va_K D vwCl [] U ∧ va_D (fun _ => True) (w0M h0))) (va_Qv (iniM h0 D) (fun q t => BM q.1 (va_A (w0M h0) sz) q.2 t) (va_A (w0M h0) sz)) 2 10080 (va_A (w0M h0) sz) := by
  refine Met.ofW (cc := cX1_init) (maxL := 1) (ret := none) (by decide +kernel) rfl ?_
  intro p e s m args below meth c s₁ B hml hv
  obtain ⟨rfl, hsz, hP, hK, hD0⟩ := hv
  have hx := B.exec
  have hb := B.bytes
  have hr := B.returns
  have hts := atoms_spec (ws := ws_ yX1_init cX1_init 1 none) B.pre
  have hts : ∀ w ∈ lw_all, w.before _ s = true := fun w h => hts w (List.mem_cons_of_mem _ h)
  have hown : s.vm.findClass RX1 = some m.cls := findClass_of_methodNamed B.named
  have hlk := B.notSynchronized
  subst hsz
  have hD := hD0.self (sz := s.heap.size)
  generalize hAe : va_A (w0M h0) s.heap.size = A at hD ⊢
  have hA : ∀ q : Nat, s.heap.size ≤ q → A q := fun q h => by rw [← hAe]; exact Or.inr h
  have hS : va_S A s.heap s.heap [] := va_S.rf
  have hl := lv_entry ([.ref h0]) (n := 1) (Nat.le_of_ble_eq_true rfl)
  rw [lg_entry_eq]
  generalize (lg_sl ([.ref h0]) ++ List.replicate (1 - (lg_sl ([.ref h0])).length) Slot.unset).toArray = ls at hl ⊢
  have hl : lv_has ls 1 [(0, .ref h0)] := hl
  refine lv_aload_n hx hb dX1_init_0 rfl (lv_at hl 0 rfl) ?_
  refine W.objInit hx hb hown (hts _ q159) (hts _ q25) (hts _ q26) rfl (by rw [hml]; exact hl.1) rfl dX1_init_1 (Nat.le_of_ble_eq_true rfl) (Nat.le_of_ble_eq_true rfl) ?_
  refine W.eq (g2 := F0 m 4 ls []) rfl ?_
  refine lv_aload_n hx hb dX1_init_4 rfl (lv_at hl 0 rfl) ?_
  refine lv_iconst (v := zI 1) hx hb dX1_init_5 (by decide +kernel) ?_
  refine va_put (D := D) (ci := 1) (v := .int (zI ((1 : Nat) : Int))) (ty := .int) (C := RX1) (T := TX1) (N := 7) hx hb hts in_X1 tyX1 tyX1_ok nmX1 hown hK hP hD hS 0 rfl rfl 0 (by decide) (hts _ q174) (fun _ h9 => h9) rfl (by decide +kernel) rfl rfl (Nat.le_of_ble_eq_true rfl) dX1_init_6 (fun H locs hP hD hS => ?_)
  have hP : va_P D vwCl [(h0, .inr (1, [.int (zI ((1 : Nat) : Int)), .int (zI ((0 : Nat) : Int)), .int (zI 0), .int (zI ((0 : Nat) : Int)), .int (zI ((0 : Nat) : Int)), .null, .null]))] H := hP
  have hD : va_D A [(h0, .inr (1, [.int (zI ((1 : Nat) : Int)), .int (zI ((0 : Nat) : Int)), .int (zI 0), .int (zI ((0 : Nat) : Int)), .int (zI ((0 : Nat) : Int)), .null, .null]))] := hD
  refine lv_aload_n hx hb dX1_init_9 rfl (lv_at hl 0 rfl) ?_
  refine lv_iconst (v := zI 3) hx hb dX1_init_10 (by decide +kernel) ?_
  refine va_put (D := D) (ci := 1) (v := .int (zI ((3 : Nat) : Int))) (ty := .int) (C := RX1) (T := TX1) (N := 7) hx hb hts in_X1 tyX1 tyX1_ok nmX1 hown hK hP hD hS 0 rfl rfl 1 (by decide) (hts _ q175) (fun _ h9 => h9) rfl (by decide +kernel) rfl rfl (Nat.le_of_ble_eq_true rfl) dX1_init_11 (fun H locs hP hD hS => ?_)
  have hP : va_P D vwCl [(h0, .inr (1, [.int (zI ((1 : Nat) : Int)), .int (zI ((3 : Nat) : Int)), .int (zI 0), .int (zI ((0 : Nat) : Int)), .int (zI ((0 : Nat) : Int)), .null, .null]))] H := hP
  have hD : va_D A [(h0, .inr (1, [.int (zI ((1 : Nat) : Int)), .int (zI ((3 : Nat) : Int)), .int (zI 0), .int (zI ((0 : Nat) : Int)), .int (zI ((0 : Nat) : Int)), .null, .null]))] := hD
  refine lv_aload_n hx hb dX1_init_14 rfl (lv_at hl 0 rfl) ?_
  refine lv_iconst (v := zI 0) hx hb dX1_init_15 (by decide +kernel) ?_
  refine va_put (D := D) (ci := 1) (v := .int (zI 0)) (ty := .int) (C := RX1) (T := TX1) (N := 7) hx hb hts in_X1 tyX1 tyX1_ok nmX1 hown hK hP hD hS 0 rfl rfl 2 (by decide) (hts _ q176) (fun _ h9 => h9) rfl (by decide +kernel) rfl rfl (Nat.le_of_ble_eq_true rfl) dX1_init_16 (fun H locs hP hD hS => ?_)
  have hP : va_P D vwCl [(h0, .inr (1, [.int (zI ((1 : Nat) : Int)), .int (zI ((3 : Nat) : Int)), .int (zI 0), .int (zI ((0 : Nat) : Int)), .int (zI ((0 : Nat) : Int)), .null, .null]))] H := hP
  have hD : va_D A [(h0, .inr (1, [.int (zI ((1 : Nat) : Int)), .int (zI ((3 : Nat) : Int)), .int (zI 0), .int (zI ((0 : Nat) : Int)), .int (zI ((0 : Nat) : Int)), .null, .null]))] := hD
  refine lv_aload_n hx hb dX1_init_19 rfl (lv_at hl 0 rfl) ?_
  refine lv_iconst (v := zI 0) hx hb dX1_init_20 (by decide +kernel) ?_
  refine va_put (D := D) (ci := 1) (v := .int (zI ((0 : Nat) : Int))) (ty := .int) (C := RX1) (T := TX1) (N := 7) hx hb hts in_X1 tyX1 tyX1_ok nmX1 hown hK hP hD hS 0 rfl rfl 3 (by decide) (hts _ q177) (fun _ h9 => h9) rfl (by decide +kernel) rfl rfl (Nat.le_of_ble_eq_true rfl) dX1_init_21 (fun H locs hP hD hS => ?_)
  have hP : va_P D vwCl [(h0, .inr (1, [.int (zI ((1 : Nat) : Int)), .int (zI ((3 : Nat) : Int)), .int (zI 0), .int (zI ((0 : Nat) : Int)), .int (zI ((0 : Nat) : Int)), .null, .null]))] H := hP
  have hD : va_D A [(h0, .inr (1, [.int (zI ((1 : Nat) : Int)), .int (zI ((3 : Nat) : Int)), .int (zI 0), .int (zI ((0 : Nat) : Int)), .int (zI ((0 : Nat) : Int)), .null, .null]))] := hD
  refine lv_aload_n hx hb dX1_init_24 rfl (lv_at hl 0 rfl) ?_
  refine lv_iconst (v := zI 0) hx hb dX1_init_25 (by decide +kernel) ?_
  refine va_put (D := D) (ci := 1) (v := .int (zI ((0 : Nat) : Int))) (ty := .int) (C := RX1) (T := TX1) (N := 7) hx hb hts in_X1 tyX1 tyX1_ok nmX1 hown hK hP hD hS 0 rfl rfl 4 (by decide) (hts _ q178) (fun _ h9 => h9) rfl (by decide +kernel) rfl rfl (Nat.le_of_ble_eq_true rfl) dX1_init_26 (fun H locs hP hD hS => ?_)
  have hP : va_P D vwCl [(h0, .inr (1, [.int (zI ((1 : Nat) : Int)), .int (zI ((3 : Nat) : Int)), .int (zI 0), .int (zI ((0 : Nat) : Int)), .int (zI ((0 : Nat) : Int)), .null, .null]))] H := hP
  have hD : va_D A [(h0, .inr (1, [.int (zI ((1 : Nat) : Int)), .int (zI ((3 : Nat) : Int)), .int (zI 0), .int (zI ((0 : Nat) : Int)), .int (zI ((0 : Nat) : Int)), .null, .null]))] := hD
  refine lv_aload_n hx hb dX1_init_29 rfl (lv_at hl 0 rfl) ?_
  refine lv_sipush (v := zI 5040) hx hb dX1_init_30 (by decide +kernel) ?_
  refine va_newa (atype := .long) (ty := .long) hx hb (hts _ q196) rfl hK hP hD hS hA (n := zI 5040) (N' := 5040) (a0 := (5040, .inr (.inl (fun j => lN ((fun _ => 0 : Nat → Nat) j))))) (ko_z0L 5040) (by decide +kernel) (by decide +kernel) (by decide +kernel) (Nat.le_of_ble_eq_true rfl) (Nat.le_of_ble_eq_true rfl) dX1_init_33 (fun q5 c5 H hK hP hD hS => ?_)
  have hP : va_P D vwCl [(h0, .inr (1, [.int (zI ((1 : Nat) : Int)), .int (zI ((3 : Nat) : Int)), .int (zI 0), .int (zI ((0 : Nat) : Int)), .int (zI ((0 : Nat) : Int)), .null, .null])), (q5, .inl (c5, 5040, .inr (.inl (fun j => lN ((fun _ => 0 : Nat → Nat) j)))))] H := hP
  have hD : va_D A [(h0, .inr (1, [.int (zI ((1 : Nat) : Int)), .int (zI ((3 : Nat) : Int)), .int (zI 0), .int (zI ((0 : Nat) : Int)), .int (zI ((0 : Nat) : Int)), .null, .null])), (q5, .inl (c5, 5040, .inr (.inl (fun j => lN ((fun _ => 0 : Nat → Nat) j)))))] := hD
  have hK : va_K D vwCl [(c5, .long)] s := hK
  refine va_put (D := D) (ci := 1) (v := .ref q5) (ty := .array .long) (C := RX1) (T := TX1) (N := 7) hx hb hts in_X1 tyX1 tyX1_ok nmX1 hown hK hP hD hS 0 rfl rfl 5 (by decide) (hts _ q179) (fun _ h9 => h9) rfl (by decide +kernel) rfl rfl (Nat.le_of_ble_eq_true rfl) dX1_init_35 (fun H locs hP hD hS => ?_)
  have hP : va_P D vwCl [(h0, .inr (1, [.int (zI ((1 : Nat) : Int)), .int (zI ((3 : Nat) : Int)), .int (zI 0), .int (zI ((0 : Nat) : Int)), .int (zI ((0 : Nat) : Int)), .ref q5, .null])), (q5, .inl (c5, 5040, .inr (.inl (fun j => lN ((fun _ => 0 : Nat → Nat) j)))))] H := hP
  have hD : va_D A [(h0, .inr (1, [.int (zI ((1 : Nat) : Int)), .int (zI ((3 : Nat) : Int)), .int (zI 0), .int (zI ((0 : Nat) : Int)), .int (zI ((0 : Nat) : Int)), .ref q5, .null])), (q5, .inl (c5, 5040, .inr (.inl (fun j => lN ((fun _ => 0 : Nat → Nat) j)))))] := hD
  refine lv_aload_n hx hb dX1_init_38 rfl (lv_at hl 0 rfl) ?_
  refine lv_sipush (v := zI 5040) hx hb dX1_init_39 (by decide +kernel) ?_
  refine va_newa (atype := .long) (ty := .long) hx hb (hts _ q196) rfl hK hP hD hS hA (n := zI 5040) (N' := 5040) (a0 := (5040, .inr (.inl (fun j => lN ((fun _ => 0 : Nat → Nat) j))))) (ko_z0L 5040) (by decide +kernel) (by decide +kernel) (by decide +kernel) (Nat.le_of_ble_eq_true rfl) (Nat.le_of_ble_eq_true rfl) dX1_init_42 (fun q6 c6 H hK hP hD hS => ?_)
  have hP : va_P D vwCl [(h0, .inr (1, [.int (zI ((1 : Nat) : Int)), .int (zI ((3 : Nat) : Int)), .int (zI 0), .int (zI ((0 : Nat) : Int)), .int (zI ((0 : Nat) : Int)), .ref q5, .null])), (q5, .inl (c5, 5040, .inr (.inl (fun j => lN ((fun _ => 0 : Nat → Nat) j))))), (q6, .inl (c6, 5040, .inr (.inl (fun j => lN ((fun _ => 0 : Nat → Nat) j)))))] H := hP
  have hD : va_D A [(h0, .inr (1, [.int (zI ((1 : Nat) : Int)), .int (zI ((3 : Nat) : Int)), .int (zI 0), .int (zI ((0 : Nat) : Int)), .int (zI ((0 : Nat) : Int)), .ref q5, .null])), (q5, .inl (c5, 5040, .inr (.inl (fun j => lN ((fun _ => 0 : Nat → Nat) j))))), (q6, .inl (c6, 5040, .inr (.inl (fun j => lN ((fun _ => 0 : Nat → Nat) j)))))] := hD
  have hK : va_K D vwCl [(c5, .long), (c6, .long)] s := hK
  refine va_put (D := D) (ci := 1) (v := .ref q6) (ty := .array .long) (C := RX1) (T := TX1) (N := 7) hx hb hts in_X1 tyX1 tyX1_ok nmX1 hown hK hP hD hS 0 rfl rfl 6 (by decide) (hts _ q180) (fun _ h9 => h9) rfl (by decide +kernel) rfl rfl (Nat.le_of_ble_eq_true rfl) dX1_init_44 (fun H locs hP hD hS => ?_)
  have hP : va_P D vwCl [(h0, .inr (1, [.int (zI ((1 : Nat) : Int)), .int (zI ((3 : Nat) : Int)), .int (zI 0), .int (zI ((0 : Nat) : Int)), .int (zI ((0 : Nat) : Int)), .ref q5, .ref q6])), (q5, .inl (c5, 5040, .inr (.inl (fun j => lN ((fun _ => 0 : Nat → Nat) j))))), (q6, .inl (c6, 5040, .inr (.inl (fun j => lN ((fun _ => 0 : Nat → Nat) j)))))] H := hP
  have hD : va_D A [(h0, .inr (1, [.int (zI ((1 : Nat) : Int)), .int (zI ((3 : Nat) : Int)), .int (zI 0), .int (zI ((0 : Nat) : Int)), .int (zI ((0 : Nat) : Int)), .ref q5, .ref q6])), (q5, .inl (c5, 5040, .inr (.inl (fun j => lN ((fun _ => 0 : Nat → Nat) j))))), (q6, .inl (c6, 5040, .inr (.inl (fun j => lN ((fun _ => 0 : Nat → Nat) j)))))] := hD
  have ec : c5 = c6 := Option.some.inj ((hK.2 0 _ rfl).2.symm.trans (hK.2 1 _ rfl).2)
  subst ec
  obtain ⟨E, hE⟩ : ∃ E : EM, E = (ko_adM h0 q5 q6, c5, D) := ⟨_, rfl⟩
  have hP : va_P E.2.2 vwCl (wM E (1, 3, 0, 0, 0, (fun _ => 0), (fun _ => 0))) H := by rw [hE]; exact hP
  have hD : va_D A (wM E (1, 3, 0, 0, 0, (fun _ => 0), (fun _ => 0))) := by rw [hE]; exact hD
  have hK2 : va_K E.2.2 vwCl (tyM E) s := by rw [hE]; exact hK.sub [0] rfl
  have F : FM p s m meth c cX1_init 1 none ([.ref h0] : List Value).toArray A E := ⟨hx, hb, hml, hown, hts, hr, hlk, hA, hK2⟩
  have hH : HM E s A (1, 3, 0, 0, 0, (fun _ => 0), (fun _ => 0)) H locs := ⟨hP, hD, hS⟩
  have hE0 : E.1 0 = h0 := by rw [hE]; rfl
  have hED : E.2.2 = D := by rw [hE]
  rw [← hE0] at hl
  refine lv_aload_n hx hb dX1_init_47 rfl (lv_at hl 0 rfl) ?_
  refine CtMv.call (n := 0) (cM_write l E 1 3 0 0 0 (fun _ => 0) (fun _ => 0) 3 ⟨by decide +kernel, by decide, by decide⟩) F hH (lw_V q160 q162 qs11 q18 q163) (by decide +kernel) ⟨Nat.le_of_ble_eq_true rfl, Nat.le_of_ble_eq_true rfl⟩ rfl hl.1 rfl (Nat.le_of_ble_eq_true rfl) dX1_init_48 ⟨Nat.le_of_ble_eq_true rfl, Nat.le_of_ble_eq_true rfl⟩ (fun v9 H locs hp hH => ?_)
  obtain ⟨f2, g2, hh2, rfl⟩ := hp
  obtain ⟨hP, hD, hS⟩ := hH
  refine W.widen (k := 2) (n := 10080) (Nat.le_of_ble_eq_true rfl) (Nat.le_of_ble_eq_true rfl) ?_
  exact W.vret hx hb hr (fun t ht hW => ⟨⟨(E, _), rfl, ⟨hE0, hED, f2, g2, hh2, rfl⟩, by rw [ht]; exact hP, va_K.moved hW.alike hK2, hD⟩, hS.F ht⟩) hS.2.2 dX1_init_51 hlk
end
section
set_option maxRecDepth 100000
/-! THE TWO SIDES AGREE: what holds between two calls of the law, and that each call answers alike -/
def ko_J (so n : Nat) (k : Int) (L : Nat) (cu : Int) (x o : Nat → Nat) (nw : Nat) (f : Nat → Nat) : Prop := ko_mk so n k L ∧ (∀ j, x j < 8) ∧ (∀ j, o j < 8) ∧ ko_holds f (ko_objs so n L) ∧ ((ko_g so n L 0 0 = 0 ∧ cu = -2 ∧ nw = 0) ∨ (0 < ko_g so n L 0 0 ∧ ko_VP so n L x L ∧ cu = (ko_rk so n L x L : Nat) ∧ nw = ko_rk so n L x L))
section KJ
variable {so n : Nat} {k : Int} {L : Nat} {cu : Int} {x o : Nat → Nat} {nw : Nat} {f : Nat → Nat}
theorem ko_J.inv (h : ko_J so n k L cu x o nw f) : (ko_g so n L 0 0 = 0 ∧ cu = -2) ∨ (0 < ko_g so n L 0 0 ∧ ko_VP so n L x L ∧ cu = (ko_rk so n L x L : Nat)) := by
  rcases h.2.2.2.2 with ⟨h1, h2, -⟩ | ⟨h1, h2, h3, -⟩
  · exact Or.inl ⟨h1, h2⟩
  · exact Or.inr ⟨h1, h2, h3⟩
theorem ko_J.ct (h : ko_J so n k L cu x o nw f) : (ko_objs so n L).length = ko_g so n L 0 0 ∧ (ko_objs so n L).length ≤ 5040 := by
  have h1 := ko_objs_len h.1.1
  exact ⟨h1, by rw [h1]; exact ko_count_le h.1.1⟩
theorem ko_J.nwb (h : ko_J so n k L cu x o nw f) : ((ko_objs so n L).length = 0 ∧ nw = 0) ∨ nw < (ko_objs so n L).length := by
  have hc := h.ct.1
  rcases h.2.2.2.2 with ⟨h1, -, h2⟩ | ⟨h1, h2, -, h3⟩
  · exact Or.inl ⟨by omega, h2⟩
  · have h4 := (ko_at h.1.1 (ko_live h.1.1 h1) h2).1
    exact Or.inr (by omega)
theorem ko_objs_lt {e : Nat} (h : e ∈ ko_objs so n L) : e < 8 ^ L := by
  unfold ko_objs at h
  by_cases h1 : so = 4 ∧ L = 0
  · rw [if_pos h1] at h
    exact absurd h List.not_mem_nil
  · rw [if_neg h1] at h
    have h2 := ko_sub_div L 0 0 0 e h
    rcases Nat.lt_or_ge e (8 ^ L) with h3 | h3
    · exact h3
    · have := Nat.div_pos h3 (Nat.pow_pos (show 0 < 8 by decide))
      omega
theorem ko_J.flt (h : ko_J so n k L cu x o nw f) : ∀ j, j < (ko_objs so n L).length → f j < 8 ^ L := fun j hj => by
  rw [h.2.2.2.1 j hj]
  exact ko_objs_lt (ko_getD_mem hj)
theorem ko_J.fat (h : ko_J so n k L cu x o nw f) {j : Nat} (hj : j < (ko_objs so n L).length) : (ko_objs so n L)[j]? = some (f j) := by
  rw [h.2.2.2.1 j hj, List.getD_eq_getElem?_getD, List.getElem?_eq_getElem hj]
  rfl
/-- with an object: all that is known of it -/
theorem ko_J.live (h : ko_J so n k L cu x o nw f) (hp : 0 < (ko_objs so n L).length) : (so = 4 → 0 < L) ∧ ko_VP so n L x L ∧ cu = (ko_rk so n L x L : Nat) ∧ nw = ko_rk so n L x L ∧ nw < (ko_objs so n L).length ∧ f nw = ko_cod x L := by
  have hc := h.ct.1
  rcases h.2.2.2.2 with ⟨h1, -, h2⟩ | ⟨h1, h2, h3, h4⟩
  · omega
  · have hl := ko_live h.1.1 h1
    obtain ⟨h5, h6⟩ := ko_at h.1.1 hl h2
    have h7 : nw < (ko_objs so n L).length := by omega
    have h8 := h.fat h7
    rw [h4, h6] at h8
    refine ⟨hl, h2, h3, h4, h7, ?_⟩
    rw [h4]
    exact (Option.some.inj h8).symm
theorem ko_J.cub (h : ko_J so n k L cu x o nw f) : -2 ≤ cu ∧ cu ≤ 5040 ∧ (cu < 0 ↔ (ko_objs so n L).length = 0) := by
  have hc := h.ct
  rcases h.2.2.2.2 with ⟨h1, h2, -⟩ | ⟨h1, h2, h3, -⟩
  · omega
  · have h4 := (ko_at h.1.1 (ko_live h.1.1 h1) h2).1
    omega
theorem ko_J.number (h : ko_J so n k L cu x o nw f) : cu = (if (ko_objs so n L).length = 0 then -2 else ((nw : Nat) : Int)) := by
  have hc := h.ct.1
  rcases h.2.2.2.2 with ⟨h1, h2, -⟩ | ⟨h1, -, h2, h3⟩
  · rw [if_pos (by omega)]; exact h2
  · rw [if_neg (by omega), h3]; exact h2
theorem ko_J.item (h : ko_J so n k L cu x o nw f) (z : Int) : (if cu < 0 ∨ z < 0 ∨ (L : Int) ≤ z then -1 else ((x z.toNat : Nat) : Int)) = (if (ko_objs so n L).length = 0 ∨ z < 0 ∨ (L : Int) ≤ z then -1 else ((ko_dig L (f nw) z.toNat : Nat) : Int)) := by
  have hb := h.cub.2.2
  by_cases e : cu < 0 ∨ z < 0 ∨ (L : Int) ≤ z
  · rw [if_pos e, if_pos (by omega)]
  · rw [if_neg e, if_neg (by omega)]
    obtain ⟨-, h2, -, -, -, h6⟩ := h.live (by omega)
    rw [h6, ko_dig_cod (fun j hj => (h2 j hj).1) (by omega)]
/-- which numbers have an object that begins like the current one -/
theorem ko_J.alike (h : ko_J so n k L cu x o nw f) (hp : 0 < (ko_objs so n L).length) {i : Nat} (hi : i < L) : ko_rk so n L x (i + 1) + ko_g so n L (i + 1) (ko_tau so x (i + 1)) ≤ (ko_objs so n L).length ∧ ko_rk so n L x (i + 1) ≤ nw ∧ nw < ko_rk so n L x (i + 1) + ko_g so n L (i + 1) (ko_tau so x (i + 1)) ∧ ∀ t, t < (ko_objs so n L).length → (f t / 8 ^ (L - (i + 1)) = f nw / 8 ^ (L - (i + 1)) ↔ ko_rk so n L x (i + 1) ≤ t ∧ t < ko_rk so n L x (i + 1) + ko_g so n L (i + 1) (ko_tau so x (i + 1))) := by
  obtain ⟨hl, h2, -, -, h5, h6⟩ := h.live hp
  obtain ⟨g1, g2⟩ := ko_where h.1.1 hl (show i + 1 ≤ L by omega) (ko_VP_le h2 (by omega))
  have hq : f nw / 8 ^ (L - (i + 1)) = ko_cod x (i + 1) := by
    rw [h6]
    have := ko_cod_div (x := x) (L - (i + 1)) (i + 1) (fun j hj => (h2 j (by omega)).1)
    rw [show i + 1 + (L - (i + 1)) = L by omega] at this
    exact this
  have h7 := (g2 nw (f nw) (h.fat h5)).mp hq
  exact ⟨g1, h7.1, h7.2, fun t ht => by rw [hq]; exact g2 t (f t) (h.fat ht)⟩
theorem ko_cn_iv {p : Nat → Bool} {a b c : Nat} (hab : a ≤ b) (h : ∀ t, t < c → (p t = true ↔ a ≤ t ∧ t < b)) : ∀ m, m ≤ c → ko_cn p m = min m b - min m a := by
  intro m
  induction m with
  | zero => intro _; show 0 = _; omega
  | succ m ih =>
    intro hm
    rw [ko_cn_s, ih (by omega)]
    have h1 := h m (by omega)
    by_cases e : p m = true
    · rw [if_pos e]
      have := h1.mp e
      omega
    · rw [if_neg e]
      have : ¬ (a ≤ m ∧ m < b) := fun q => e (h1.mpr q)
      omega
theorem ko_J.firstLike (h : ko_J so n k L cu x o nw f) {z w : Int} (hM : ((((ko_objs so n L).length = 0 ∨ z < 0 ∨ (L : Int) ≤ z) ∧ w = -1) ∨ (¬ ((ko_objs so n L).length = 0 ∨ z < 0 ∨ (L : Int) ≤ z) ∧ ((∃ q : Nat, q < (ko_objs so n L).length ∧ w = (q : Int) ∧ f q / 8 ^ (L - (z.toNat + 1)) = f nw / 8 ^ (L - (z.toNat + 1)) ∧ ∀ t, t < q → ¬ f t / 8 ^ (L - (z.toNat + 1)) = f nw / 8 ^ (L - (z.toNat + 1))) ∨ (w = -1 ∧ ∀ t, t < (ko_objs so n L).length → ¬ f t / 8 ^ (L - (z.toNat + 1)) = f nw / 8 ^ (L - (z.toNat + 1))))))) :
    (if cu < 0 ∨ z < 0 ∨ (L : Int) ≤ z then -1 else ((ko_rk so n L x (z.toNat + 1) : Nat) : Int)) = w := by
  have hb := h.cub.2.2
  rcases hM with ⟨h1, h2⟩ | ⟨h1, h2⟩
  · rw [if_pos (by omega), h2]
  · rw [if_neg (by omega)]
    obtain ⟨a1, a2, a3, a4⟩ := h.alike (by omega) (i := z.toNat) (by omega)
    rcases h2 with ⟨q, q1, q2, q3, q4⟩ | ⟨-, q2⟩
    · have q5 := (a4 q q1).mp q3
      have q6 : ¬ ko_rk so n L x (z.toNat + 1) < q := fun e => q4 _ e ((a4 _ (by omega)).mpr (by omega))
      omega
    · exact absurd rfl (q2 nw (by omega))
theorem ko_J.like (h : ko_J so n k L cu x o nw f) {z w : Int} (hM : ((((ko_objs so n L).length = 0 ∨ z < 0 ∨ (L : Int) ≤ z) ∧ w = -1) ∨ (¬ ((ko_objs so n L).length = 0 ∨ z < 0 ∨ (L : Int) ≤ z) ∧ w = ((ko_cn (fun t => decide (f t / 8 ^ (L - (z.toNat + 1)) = f nw / 8 ^ (L - (z.toNat + 1)))) (ko_objs so n L).length : Nat) : Int)))) :
    (if cu < 0 ∨ z < 0 ∨ (L : Int) ≤ z then -1 else ((ko_g so n L (z.toNat + 1) (ko_tau so x (z.toNat + 1)) : Nat) : Int)) = w := by
  have hb := h.cub.2.2
  rcases hM with ⟨h1, h2⟩ | ⟨h1, h2⟩
  · rw [if_pos (by omega), h2]
  · rw [if_neg (by omega), h2]
    obtain ⟨a1, a2, a3, a4⟩ := h.alike (by omega) (i := z.toNat) (by omega)
    rw [ko_cn_iv (a := ko_rk so n L x (z.toNat + 1)) (b := ko_rk so n L x (z.toNat + 1) + ko_g so n L (z.toNat + 1) (ko_tau so x (z.toNat + 1))) (by omega) (fun t ht => by rw [decide_eq_true_eq]; exact a4 t ht) _ (Nat.le_refl _)]
    omega
theorem ko_df_ext {a b c d : Nat → Nat} : ∀ i, (∀ j, j < i → a j = c j) → (∀ j, j < i → b j = d j) → ko_df a b i = ko_df c d i := by
  intro i
  induction i with
  | zero => intro _ _; rfl
  | succ i ih =>
    intro h1 h2
    rw [ko_df_s, ko_df_s, ih (fun j hj => h1 j (by omega)) (fun j hj => h2 j (by omega)), h1 i (by omega), h2 i (by omega)]
/-- the object of a number, by any valid items of that rank -/
theorem ko_J.code (h : ko_J so n k L cu x o nw f) {x2 : Nat → Nat} (hl : so = 4 → 0 < L) (hv : ko_VP so n L x2 L) : ko_rk so n L x2 L < (ko_objs so n L).length ∧ f (ko_rk so n L x2 L) = ko_cod x2 L := by
  obtain ⟨h1, h2⟩ := ko_at h.1.1 hl hv
  have h3 := h.fat h1
  rw [h2] at h3
  exact ⟨h1, (Option.some.inj h3).symm⟩
/-- another object is the current one -/
theorem ko_J.to (h : ko_J so n k L cu x o nw f) (hp : 0 < (ko_objs so n L).length) {x2 o2 : Nat → Nat} {c2 : Int} {n2 : Nat} (hv : ko_VP so n L x2 L) (h8 : ∀ j, x2 j < 8) (ho : ∀ j, o2 j < 8) (hc : c2 = (ko_rk so n L x2 L : Nat)) (hn : n2 = ko_rk so n L x2 L) : ko_J so n k L c2 x2 o2 n2 f := by
  have := h.ct.1
  exact ⟨h.1, h8, ho, h.2.2.2.1, Or.inr ⟨by omega, hv, hc, hn⟩⟩
theorem ko_J.mirrored (h : ko_J so n k L cu x o nw f) {w : Int} (hM : (((so = 2 ∨ (ko_objs so n L).length = 0) ∧ w = -2) ∨ (¬ (so = 2 ∨ (ko_objs so n L).length = 0) ∧ ((∃ q : Nat, q < (ko_objs so n L).length ∧ w = (q : Int) ∧ f q = ko_cod (ko_mir so n L x) L ∧ ∀ t, t < q → ¬ f t = ko_cod (ko_mir so n L x) L) ∨ (w = -2 ∧ ∀ t, t < (ko_objs so n L).length → ¬ f t = ko_cod (ko_mir so n L x) L))))) (hn : ¬ (cu < 0 ∨ so = 2)) : ((ko_rk so n L (ko_mir so n L x) L : Nat) : Int) = w := by
  have hb := h.cub.2.2
  obtain ⟨hl, h2, -, -, h5, h6⟩ := h.live (by omega)
  have hmv := ko_mirV h.1.1 hl (by omega) h2
  obtain ⟨c1, c2⟩ := h.code hl hmv
  obtain ⟨g1, g2⟩ := ko_where h.1.1 hl (Nat.le_refl L) hmv
  rw [ko_end_of h.1.1 hl (ko_rch_VP h.1.1 hl L (Nat.le_refl L) hmv)] at g1 g2
  rcases hM with ⟨e1, e2⟩ | ⟨e1, e2⟩
  · omega
  · rcases e2 with ⟨q, q1, q2, q3, q4⟩ | ⟨-, q2⟩
    · have q5 := (g2 q (f q) (h.fat q1)).mp (by rw [Nat.sub_self, Nat.pow_zero, Nat.div_one]; exact q3)
      omega
    · exact absurd c2 (q2 _ c1)
end KJ
end
section
set_option maxRecDepth 100000
/-! THE CLAIM OUT OF ONE WALK OF THE LAW'S BODY. Your part is whole_start (and what it stands on); all else here is the same for every law, but numbers. -/
def R_law : String := "RankedObjectsLaw"
def lw_P (b : Addr) (xs : List Int32) (args : Array Value) (s : State) : Prop := args = #[.ref b] ∧ s.IntsAt b xs ∧ xs.length ≤ 256 ∧ (Jvm.Cond.and given_1 narrow_1).before args s = true
def lw_Q (_ : Array Value) (s : State) (o : Outcome) (t : State) : Prop := o = .returned (some (.int 1)) ∧ Framed s o t [] 600000 7290000
def lw_Z (below : List Frame) (a : Array Value) (s : State) : State → Prop := fun t => ∃ o, t.status = .running ∧ Ended t below o ∧ lw_Q a s o t
/-- the law's own end, with 1 on the stack, nothing written that was there before, its room as the claim has it -/
theorem lw_ret {p : Program} {l : Launch} {e : Env} {s : State} {m : MethodId} {below : List Frame} {meth : Method} {c : Code} {b : Nat} (hx : p.tables.exec = Jvm.exec) (hb : c.code = code) (hr : meth.sig.returnType = ret) (hlocks : meth.locks = false) {pc : Nat} {H : Heap} {ls : Array Slot} (hdg : decode code pc = .ok (.ireturn, 1)) : W p l e room_1 s m #[Value.ref b] below meth c H [] 600000 7290000 (lw_Z below #[Value.ref b] s) (F0 m pc ls [.int 1]) := by
  intro T hT X
  obtain ⟨fs, hret, hrun, hended, hW, hframe⟩ := X.leave (v := some (.int 1)) (hlocks := hlocks) (fun h => by rw [hr] at h; cases h)
  have hmeth' : T.vm.method? m = some meth := X.method'
  refine ⟨T.setFrames fs, ?_, .returned (some (.int 1)), hrun, hended, rfl, ⟨_, rfl⟩, hW, hframe⟩
  jvm_step X.here [X.here.top, hx, hb, hdg, hmeth', hr, ret, narrow_b1]
  (try refine ⟨rfl, ?_⟩); (try refine ⟨rfl, ?_⟩)
  first | (intro acts; rw [hret _ acts rfl rfl rfl]) | rw [hret _ _ rfl rfl rfl]
  exact Steps.refl _
/-- what holds at the law's entry: the machine, the code, the tables' words (any of lw_tbl by 'hts w (by decide +kernel)'), the script of L ints xs at the cell b, what the Statement gives of the start (any of its parts by flat_of_before) -/
def lw_At (p : Program) (s : State) (m : MethodId) (meth : Method) (c : Code) (b L : Nat) (xs : Nat → Int32) : Prop :=
  p.tables.exec = Jvm.exec ∧ c.code = code ∧ meth.sig.returnType = ret ∧ c.maxLocals = 4 ∧ s.vm.findClass R_law = some m.cls ∧ (∀ w ∈ lw_tbl, w.before #[Value.ref b] s = true) ∧ va_X b L xs s s.heap ∧ b < s.heap.size ∧ meth.locks = false ∧ (Jvm.Cond.and given_1 narrow_1).before #[Value.ref b] s = true
end
section
set_option maxRecDepth 100000

/-! THE LAW'S WORLD: a RankedObjects and a RankedObjectsModel -/
abbrev EXL (ad : Nat → Nat) (cB cN : ClassId) (D : va_G) : EX := (ad, (cB, cN), D)
abbrev EML (ad : Nat → Nat) (cL : ClassId) (D : va_G) : EM := (ad, cL, D)
abbrev tyL (cB cN cL : ClassId) : List (ClassId × FieldType) := [(cB, .byte), (cN, .int), (cL, .long)]
def HL (ad ad2 : Nat → Nat) (cB cN cL : ClassId) (D : va_G) (s : State) (u : SX) (v : SM) (H : Heap) (locs : List Loc) : Prop := va_P D vwCl (wX (EXL ad cB cN D) u ++ wM (EML ad2 cL D) v) H ∧ va_D (fun q : Nat => s.heap.size ≤ q) (wX (EXL ad cB cN D) u ++ wM (EML ad2 cL D) v) ∧ va_S (fun q : Nat => s.heap.size ≤ q) s.heap H locs
def FL (p : Program) (s : State) (m : MethodId) (c : Code) (args : Array Value) (cB cN cL : ClassId) (D : va_G) : Prop := p.tables.exec = Jvm.exec ∧ c.code = code ∧ c.maxLocals = 4 ∧ s.vm.findClass R_law = some m.cls ∧ (∀ w ∈ lw_all, w.before args s = true) ∧ va_K D vwCl (tyL cB cN cL) s
section LC
variable {p : Program} {l : Launch} {e : Env} {R : Room} {s : State} {m : MethodId} {args : Array Value} {below : List Frame} {meth : Method} {c : Code} {H : Heap} {locs : List Loc} {cells slots : Nat} {Q : State → Prop}
variable {pc : Nat} {ls : Array Slot} {rest : List Value} {ad ad2 : Nat → Nat} {cB cN cL : ClassId} {D : va_G} {u : SX} {v : SM}
theorem callLX {y : MethodName} {cc2 : ByteArray} {nL2 : Nat} {ret2 : Option FieldType} {fr lo n index : Nat} {as : List Value} {post : Int → SX → Prop} {st0 : List Value} (h : CtX l y cc2 nL2 ret2 fr lo (EXL ad cB cN D) as u post) (F : FL p s m c args cB cN cL D) (hH : HL ad ad2 cB cN cL D s u v H locs)
    (hw : GoodIn lw_all (wsV R_law index RX0 y (ws_ y cc2 nL2 ret2))) (hd : y.cls = RX0 ∧ y.cls ≠ "java/lang/invoke/MethodHandle" ∧ y.cls ≠ "java/lang/invoke/VarHandle" ∧ (parseMethodDescriptor y.desc).map (fun d => d.parameters.length) = some n) (hR : fr + 1 ≤ R.frames ∧ 8 + (nL2 + 11) + lo ≤ R.locals)
    (hn : as.length = n) (hl : ls.size = 4) (hst : st0 = as.reverse ++ .ref (ad 0) :: rest) (hrm : (rest.map fun v => v.category).sum ≤ 8) (hdg : decode code pc = .ok (.invokevirtual index, 3)) (hcs : cells ≤ R.cells ∧ slots ≤ R.slots)
    (kk : ∀ (z : Int) (u2 : SX) (H1 : Heap) (locs1 : List Loc), post z u2 → HL ad ad2 cB cN cL D s u2 v H1 locs1 → W p l e R s m args below meth c H1 locs1 cells slots Q (F0 m (pc + 3) ls (.int (zI z) :: rest))) : W p l e R s m args below meth c H locs cells slots Q (F0 m pc ls st0) := by
  obtain ⟨hx, hb, hml, hown, hts, hK⟩ := F
  obtain ⟨hP, hD, hS⟩ := hH
  subst hst
  have hA : ∀ q : Nat, s.heap.size ≤ q → (fun q : Nat => s.heap.size ≤ q) q := fun _ h => h
  have hPc := hP.sub (ws' := wX (EXL ad cB cN D) u) [0, 1, 2, 3, 4, 5, 6] rfl
  have hDc := hD.sub (ws' := wX (EXL ad cB cN D) u) [0, 1, 2, 3, 4, 5, 6] (by decide) rfl
  have hKc := hK.sub (tys' := tyX (EXL ad cB cN D)) [0, 1] rfl
  have hFc := va_free (wc := wX (EXL ad cB cN D) u) hD hS hA [0, 1, 2, 3, 4, 5, 6] rfl
  refine va_calli (va_runV (As := as) (rest := rest) ⟨hx, hb, hml, hown, hts⟩ (h H.size) (cwV n hts hw rfl rfl rfl hd hR) ⟨fun a U g mk q => ?_, va_recv hKc hPc (ci := 0) (q0 := 0) rfl rfl, fun U hU hW => ⟨rfl, by rw [hU], by rw [hU]; exact hPc, va_K.moved hW.alike hKc, hDc.weaken (fun _ _ _ _ => trivial)⟩⟩ rfl hn hl rfl (lv_room hrm) hdg ⟨hcs.1, hcs.2⟩) hS (fun q _ h => hFc q h) hFc (fun r u2 t H1 locs1 ht hvm hw1 hB hz1 hk1 hS1 => ?_)
  · obtain ⟨q0, q1, qP, qK, qD⟩ := q
    exact ⟨q0, q1, qP, va_K.moved (u := U) (U := U.calling g mk a) (Vm.Alike.refl U.vm) qK, qD⟩
  · obtain ⟨z, rfl, hp⟩ := hw1
    obtain ⟨hP1, hK1, hD1⟩ := hB
    rw [ht] at hP1
    obtain ⟨hP2, hD2⟩ := va_join (wr := wM (EML ad2 cL D) v) (w1 := wX (EXL ad cB cN D) u2) hP hD [0, 1, 2, 3, 4, 5, 6] [7, 8, 9] rfl rfl (by decide) (by decide) hk1 hFc hP1 hD1
    exact kk z u2 H1 locs1 hp ⟨hP2.sub [3, 4, 5, 6, 7, 8, 9, 0, 1, 2] rfl, hD2.sub [3, 4, 5, 6, 7, 8, 9, 0, 1, 2] (by decide) rfl, hS1⟩
theorem callLM {y : MethodName} {cc2 : ByteArray} {nL2 : Nat} {ret2 : Option FieldType} {fr lo n index : Nat} {as : List Value} {post : Int → SM → Prop} {st0 : List Value} (h : CtM l y cc2 nL2 ret2 fr lo (EML ad2 cL D) as v post) (F : FL p s m c args cB cN cL D) (hH : HL ad ad2 cB cN cL D s u v H locs)
    (hw : GoodIn lw_all (wsV R_law index RX1 y (ws_ y cc2 nL2 ret2))) (hd : y.cls = RX1 ∧ y.cls ≠ "java/lang/invoke/MethodHandle" ∧ y.cls ≠ "java/lang/invoke/VarHandle" ∧ (parseMethodDescriptor y.desc).map (fun d => d.parameters.length) = some n) (hR : fr + 1 ≤ R.frames ∧ 8 + (nL2 + 11) + lo ≤ R.locals)
    (hn : as.length = n) (hl : ls.size = 4) (hst : st0 = as.reverse ++ .ref (ad2 0) :: rest) (hrm : (rest.map fun v => v.category).sum ≤ 8) (hdg : decode code pc = .ok (.invokevirtual index, 3)) (hcs : cells ≤ R.cells ∧ slots ≤ R.slots)
    (kk : ∀ (z : Int) (v2 : SM) (H1 : Heap) (locs1 : List Loc), post z v2 → HL ad ad2 cB cN cL D s u v2 H1 locs1 → W p l e R s m args below meth c H1 locs1 cells slots Q (F0 m (pc + 3) ls (.int (zI z) :: rest))) : W p l e R s m args below meth c H locs cells slots Q (F0 m pc ls st0) := by
  obtain ⟨hx, hb, hml, hown, hts, hK⟩ := F
  obtain ⟨hP, hD, hS⟩ := hH
  subst hst
  have hA : ∀ q : Nat, s.heap.size ≤ q → (fun q : Nat => s.heap.size ≤ q) q := fun _ h => h
  have hPc := hP.sub (ws' := wM (EML ad2 cL D) v) [7, 8, 9] rfl
  have hDc := hD.sub (ws' := wM (EML ad2 cL D) v) [7, 8, 9] (by decide) rfl
  have hKc := hK.sub (tys' := tyM (EML ad2 cL D)) [2] rfl
  have hFc := va_free (wc := wM (EML ad2 cL D) v) hD hS hA [7, 8, 9] rfl
  refine va_calli (va_runV (As := as) (rest := rest) ⟨hx, hb, hml, hown, hts⟩ (h H.size) (cwV n hts hw rfl rfl rfl hd hR) ⟨fun a U g mk q => ?_, va_recv hKc hPc (ci := 1) (q0 := 0) rfl rfl, fun U hU hW => ⟨rfl, by rw [hU], by rw [hU]; exact hPc, va_K.moved hW.alike hKc, hDc.weaken (fun _ _ _ _ => trivial)⟩⟩ rfl hn hl rfl (lv_room hrm) hdg ⟨hcs.1, hcs.2⟩) hS (fun q _ h => hFc q h) hFc (fun r v2 t H1 locs1 ht hvm hw1 hB hz1 hk1 hS1 => ?_)
  · obtain ⟨q0, q1, qP, qK, qD⟩ := q
    exact ⟨q0, q1, qP, va_K.moved (u := U) (U := U.calling g mk a) (Vm.Alike.refl U.vm) qK, qD⟩
  · obtain ⟨z, rfl, hp⟩ := hw1
    obtain ⟨hP1, hK1, hD1⟩ := hB
    rw [ht] at hP1
    obtain ⟨hP2, hD2⟩ := va_join (wr := wX (EXL ad cB cN D) u) (w1 := wM (EML ad2 cL D) v2) hP hD [7, 8, 9] [0, 1, 2, 3, 4, 5, 6] rfl rfl (by decide) (by decide) hk1 hFc hP1 hD1
    exact kk z v2 H1 locs1 hp ⟨hP2, hD2, hS1⟩
end LC

set_option maxHeartbeats 8000000 in
/-- THE LAW'S LOOP -/
theorem law_loop {p : Program} {l : Launch} {e : Env} {s : State} {m : MethodId} {below : List Frame} {meth : Method} {c : Code} {b L : Nat} {xs : Nat → Int32} {ad ad2 : Nat → Nat} {cB cN cL : ClassId} {D : va_G} (hL : L ≤ 256) (C0 : lw_At p s m meth c b L xs) (F : FL p s m c #[Value.ref b] cB cN cL D) :
    ∀ (fu i : Nat), i ≤ L → L + 1 ≤ i + fu → ∀ (so n : Nat) (ch : Int) (L1 : Nat) (cu : Int) (x o : Nat → Nat) (k : Int) (nw : Nat) (f g : Nat → Nat), ko_J so n k L1 cu x o nw f → ∀ (H : Heap) (locs : List Loc), HL ad ad2 cB cN cL D s (so, n, ch, L1, cu, x, o) (so, n, k, nw, (ko_objs so n L1).length, f, g) H locs → ∀ ls : Array Slot, lv_has ls 4 [(0, .ref b), (1, .ref (ad 0)), (2, .ref (ad2 0)), (3, .int (zI i))] → W p l e room_1 s m #[Value.ref b] below meth c H locs 600000 7290000 (lw_Z below #[Value.ref b] s) (F0 m 18 ls []) := by
  obtain ⟨hx, hb, hr, hml, hown, hts0, hX, hbl, hlocks, hgv⟩ := C0
  have hbA : ¬ (fun q : Nat => s.heap.size ≤ q) b := Nat.not_le.mpr hbl
  intro fu
  induction fu with
  | zero =>
    intro i h1 h2
    exact absurd h2 (by omega)
  | succ fu ih =>
    intro i hi hf so n ch L1 cu x o k nw f g hJ H locs hH ls hl
    refine lv_iload_n hx hb dL_law_18 rfl (lv_at hl 3 rfl) ?_
    refine lv_aload_n hx hb dL_law_19 rfl (lv_at hl 0 rfl) ?_
    refine va_slen hx hb hX hbl hbA hH.2.2 dL_law_20 ?_
    refine zr_top (y := zI (L : Nat)) (zI_nat L) ?_
    refine lv_iconst (v := zI 4) hx hb dL_law_21 (by decide +kernel) ?_
    refine zr_isub hx hb ((L : Int) - 4) dL_law_22 rfl ?_
    refine zr_icmp_gt (tgt := 321) hx hb dL_law_23 (by decide) (by omega) (by omega) (fun c23 => ?_) (fun c23 => ?_)
    · refine lv_iconst (v := 1) hx hb dL_law_321 (by decide) ?_
      refine va_forget (fun q hq => hH.2.2.2.2 q hq) ?_
      exact lw_ret hx hb hr hlocks dL_law_322
    · have hback : ∀ (so n : Nat) (ch : Int) (L1 : Nat) (cu : Int) (x o : Nat → Nat) (k : Int) (nw : Nat) (f g : Nat → Nat), ko_J so n k L1 cu x o nw f → ∀ (H : Heap) (locs : List Loc), HL ad ad2 cB cN cL D s (so, n, ch, L1, cu, x, o) (so, n, k, nw, (ko_objs so n L1).length, f, g) H locs → W p l e room_1 s m #[Value.ref b] below meth c H locs 600000 7290000 (lw_Z below #[Value.ref b] s) (F0 m 315 ls []) := by
        intro so n ch L1 cu x o k nw f g hJ H locs hH
        refine zr_iinc hx hb ((i + 4 : Nat) : Int) (lv' := [(3, .int (zI ((i + 4 : Nat) : Int))), (0, .ref b), (1, .ref (ad 0)), (2, .ref (ad2 0))]) dL_law_315 hl (k := 3) rfl (by omega) (by decide) rfl (fun ls hl => ?_)
        refine lv_goto (tgt := 18) hx hb dL_law_318 (by decide) ?_
        exact ih (i + 4) (by omega) (by omega) so n ch L1 cu x o k nw f g hJ H locs hH ls (lv_sub hl [1, 2, 3, 0] rfl)
      have hc := hJ.1.1
      have hinv := hJ.inv
      obtain ⟨hct, hct2⟩ := hJ.ct
      have hnw := hJ.nwb
      have hfl := hJ.flt
      have h8 := hJ.2.1
      have ho := hJ.2.2.1
      have hcub := hJ.cub
      refine lv_aload_n hx hb dL_law_26 rfl (lv_at hl 0 rfl) ?_
      refine lv_iload_n hx hb dL_law_27 rfl (lv_at hl 3 rfl) ?_
      refine va_sld hx hb hX hbl hbA hH.2.2 (zI_in (k := i) rfl (by omega) (by omega)) dL_law_28 ?_
      refine lv_bipush (v := zI 15) hx hb dL_law_29 (by decide +kernel) ?_
      refine lv_iand hx hb dL_law_31 ?_
      obtain ⟨j, hj, ej⟩ := pk_andE (xs (zI (i : Int)).toNatClampNeg) (m := zI 15) 4 (by decide +kernel)
      refine zr_top (y := zI (j : Nat)) (ej.trans (zI_nat j)) ?_
      obtain ⟨z1, hz1, ez1⟩ := zI_of (xs (i + 1))
      obtain ⟨z2, hz2, ez2⟩ := zI_of (xs (i + 2))
      obtain ⟨z3, hz3, ez3⟩ := zI_of (xs (i + 3))
      have hj2 : j = 0 ∨ j = 1 ∨ j = 2 ∨ j = 3 ∨ j = 4 ∨ j = 5 ∨ j = 6 ∨ j = 7 ∨ j = 8 ∨ j = 9 ∨ j = 10 ∨ j = 11 ∨ j = 12 ∨ j = 13 ∨ j = 14 ∨ j = 15 := by omega
      rcases hj2 with rfl | rfl | rfl | rfl | rfl | rfl | rfl | rfl | rfl | rfl | rfl | rfl | rfl | rfl | rfl | rfl
      · refine lv_tableIn (off := 60) (tgt := 92) hx hb dL_law_32 (by decide +kernel) (by decide +kernel) (by decide +kernel) (by decide) ?_
        refine lv_aload_n hx hb dL_law_92 rfl (lv_at hl 1 rfl) ?_
        refine lv_aload_n hx hb dL_law_93 rfl (lv_at hl 0 rfl) ?_
        refine lv_iload_n hx hb dL_law_94 rfl (lv_at hl 3 rfl) ?_
        refine lv_iconst (v := zI 1) hx hb dL_law_95 (by decide +kernel) ?_
        refine zr_iadd hx hb ((i + 1 : Nat) : Int) dL_law_96 (by omega) ?_
        refine va_sld hx hb hX hbl hbA hH.2.2 (zI_in (k := i + 1) rfl (by omega) (by omega)) dL_law_97 ?_
        refine zr_top (y := zI z1) (by rw [zI_cl (k := i + 1) rfl (by omega)]; exact ez1) ?_
        refine lv_aload_n hx hb dL_law_98 rfl (lv_at hl 0 rfl) ?_
        refine lv_iload_n hx hb dL_law_99 rfl (lv_at hl 3 rfl) ?_
        refine lv_iconst (v := zI 2) hx hb dL_law_100 (by decide +kernel) ?_
        refine zr_iadd hx hb ((i + 2 : Nat) : Int) dL_law_101 (by omega) ?_
        refine va_sld hx hb hX hbl hbA hH.2.2 (zI_in (k := i + 2) rfl (by omega) (by omega)) dL_law_102 ?_
        refine zr_top (y := zI z2) (by rw [zI_cl (k := i + 2) rfl (by omega)]; exact ez2) ?_
        refine lv_aload_n hx hb dL_law_103 rfl (lv_at hl 0 rfl) ?_
        refine lv_iload_n hx hb dL_law_104 rfl (lv_at hl 3 rfl) ?_
        refine lv_iconst (v := zI 3) hx hb dL_law_105 (by decide +kernel) ?_
        refine zr_iadd hx hb ((i + 3 : Nat) : Int) dL_law_106 (by omega) ?_
        refine va_sld hx hb hX hbl hbA hH.2.2 (zI_in (k := i + 3) rfl (by omega) (by omega)) dL_law_107 ?_
        refine zr_top (y := zI z3) (by rw [zI_cl (k := i + 3) rfl (by omega)]; exact ez3) ?_
        refine callLX (n := 3) (cX_choose l (EXL ad cB cN D) so n ch L1 cu x o z1 z2 z3 h8 hz1 hz2 hz3) F hH (lw_V q107 q32 q33 q17 q34) (by decide +kernel) ⟨Nat.le_of_ble_eq_true rfl, Nat.le_of_ble_eq_true rfl⟩ rfl hl.1 rfl (Nat.le_of_ble_eq_true rfl) dL_law_108 ⟨Nat.le_refl _, Nat.le_refl _⟩ (fun z9 u9 H locs hp hH => ?_)
        refine lv_aload_n hx hb dL_law_111 rfl (lv_at hl 2 rfl) ?_
        refine lv_aload_n hx hb dL_law_112 rfl (lv_at hl 0 rfl) ?_
        refine lv_iload_n hx hb dL_law_113 rfl (lv_at hl 3 rfl) ?_
        refine lv_iconst (v := zI 1) hx hb dL_law_114 (by decide +kernel) ?_
        refine zr_iadd hx hb ((i + 1 : Nat) : Int) dL_law_115 (by omega) ?_
        refine va_sld hx hb hX hbl hbA hH.2.2 (zI_in (k := i + 1) rfl (by omega) (by omega)) dL_law_116 ?_
        refine zr_top (y := zI z1) (by rw [zI_cl (k := i + 1) rfl (by omega)]; exact ez1) ?_
        refine lv_aload_n hx hb dL_law_117 rfl (lv_at hl 0 rfl) ?_
        refine lv_iload_n hx hb dL_law_118 rfl (lv_at hl 3 rfl) ?_
        refine lv_iconst (v := zI 2) hx hb dL_law_119 (by decide +kernel) ?_
        refine zr_iadd hx hb ((i + 2 : Nat) : Int) dL_law_120 (by omega) ?_
        refine va_sld hx hb hX hbl hbA hH.2.2 (zI_in (k := i + 2) rfl (by omega) (by omega)) dL_law_121 ?_
        refine zr_top (y := zI z2) (by rw [zI_cl (k := i + 2) rfl (by omega)]; exact ez2) ?_
        refine lv_aload_n hx hb dL_law_122 rfl (lv_at hl 0 rfl) ?_
        refine lv_iload_n hx hb dL_law_123 rfl (lv_at hl 3 rfl) ?_
        refine lv_iconst (v := zI 3) hx hb dL_law_124 (by decide +kernel) ?_
        refine zr_iadd hx hb ((i + 3 : Nat) : Int) dL_law_125 (by omega) ?_
        refine va_sld hx hb hX hbl hbA hH.2.2 (zI_in (k := i + 3) rfl (by omega) (by omega)) dL_law_126 ?_
        refine zr_top (y := zI z3) (by rw [zI_cl (k := i + 3) rfl (by omega)]; exact ez3) ?_
        refine callLM (n := 3) (cM_choose l (EML ad2 cL D) so n k nw (ko_objs so n L1).length f g z1 z2 z3 hz1 hz2 hz3) F hH (lw_V q197 q198 q199 q18 q200) (by decide +kernel) ⟨Nat.le_of_ble_eq_true rfl, Nat.le_of_ble_eq_true rfl⟩ rfl hl.1 rfl (Nat.le_of_ble_eq_true rfl) dL_law_127 ⟨Nat.le_refl _, Nat.le_refl _⟩ (fun w9 v9 H locs hq hH => ?_)
        refine lv_icmp_eq (tgt := 315) hx hb dL_law_130 (by decide) (fun _ => ?_) (fun hne => ?_)
        · rcases hp with ⟨a1, a2, rfl⟩ | ⟨a1, a2, ch2, cu2, x2, rfl, b1, b2⟩ <;> rcases hq with ⟨d1, d2, rfl⟩ | ⟨d1, d2, f2, g2, d3, rfl⟩
          · exact hback so n ch L1 cu x o k nw f g hJ H locs hH
          · exact absurd d1 a1
          · exact absurd a1 d1
          · have hcf := ko_len_ok (s := z1.toNat) (n := z2.toNat) (k := z3.toNat) (by omega) (by omega) (by omega) (by omega)
            obtain ⟨q1, q2, q3⟩ := ko_len_eq (s := z1.toNat) z2.toNat z3.toNat (by omega)
            refine hback z1.toNat z2.toNat ch2 (ko_len z1.toNat z2.toNat z3.toNat) cu2 x2 o z3 0 f2 g2 ⟨⟨hcf, by omega, hz3⟩, b1, ho, d3, ?_⟩ H locs hH
            rcases b2 with ⟨t1, t2⟩ | ⟨t1, t2, t3, t4⟩
            · exact Or.inl ⟨t1, t2, rfl⟩
            · exact Or.inr ⟨t1, t2, t3, by omega⟩
        · rcases hp with ⟨a1, a2, rfl⟩ | ⟨a1, a2, ch2, cu2, x2, rfl, b1, b2⟩ <;> rcases hq with ⟨d1, d2, rfl⟩ | ⟨d1, d2, f2, g2, d3, rfl⟩
          · exact absurd (by rw [a2, d2]) hne
          · exact absurd d1 a1
          · exact absurd a1 d1
          · exact absurd (by rw [a2, d2]) hne
      · refine lv_tableIn (off := 103) (tgt := 135) hx hb dL_law_32 (by decide +kernel) (by decide +kernel) (by decide +kernel) (by decide) ?_
        refine lv_aload_n hx hb dL_law_135 rfl (lv_at hl 1 rfl) ?_
        refine callLX (n := 0) (cX_count l (EXL ad cB cN D) so n ch L1 cu x o hc h8) F hH (lw_V q108 q36 q37 q17 q38) (by decide +kernel) ⟨Nat.le_of_ble_eq_true rfl, Nat.le_of_ble_eq_true rfl⟩ rfl hl.1 rfl (Nat.le_of_ble_eq_true rfl) dL_law_136 ⟨Nat.le_refl _, Nat.le_refl _⟩ (fun z9 u9 H locs hp hH => ?_)
        obtain ⟨e1, rfl⟩ := hp
        refine lv_aload_n hx hb dL_law_139 rfl (lv_at hl 2 rfl) ?_
        refine callLM (n := 0) (cM_count l (EML ad2 cL D) so n k nw (ko_objs so n L1).length f g) F hH (lw_V q201 q202 q203 q18 q204) (by decide +kernel) ⟨Nat.le_of_ble_eq_true rfl, Nat.le_of_ble_eq_true rfl⟩ rfl hl.1 rfl (Nat.le_of_ble_eq_true rfl) dL_law_140 ⟨Nat.le_refl _, Nat.le_refl _⟩ (fun w9 v9 H locs hq hH => ?_)
        refine lv_icmp_eq (tgt := 315) hx hb dL_law_143 (by decide) (fun _ => ?_) (fun hne => ?_)
        · obtain ⟨e2, rfl⟩ := hq
          exact hback so n ch L1 cu x o k nw f g hJ H locs hH
        · obtain ⟨e2, rfl⟩ := hq
          exact absurd (by rw [e1, e2, hct]) hne
      · refine lv_tableIn (off := 116) (tgt := 148) hx hb dL_law_32 (by decide +kernel) (by decide +kernel) (by decide +kernel) (by decide) ?_
        refine lv_aload_n hx hb dL_law_148 rfl (lv_at hl 1 rfl) ?_
        refine callLX (n := 0) (cX_number l (EXL ad cB cN D) so n ch L1 cu x o) F hH (lw_V q109 q110 q111 q17 q112) (by decide +kernel) ⟨Nat.le_of_ble_eq_true rfl, Nat.le_of_ble_eq_true rfl⟩ rfl hl.1 rfl (Nat.le_of_ble_eq_true rfl) dL_law_149 ⟨Nat.le_refl _, Nat.le_refl _⟩ (fun z9 u9 H locs hp hH => ?_)
        obtain ⟨e1, rfl⟩ := hp
        refine lv_aload_n hx hb dL_law_152 rfl (lv_at hl 2 rfl) ?_
        refine callLM (n := 0) (cM_number l (EML ad2 cL D) so n k nw (ko_objs so n L1).length f g hct2) F hH (lw_V q205 q206 q207 q18 q208) (by decide +kernel) ⟨Nat.le_of_ble_eq_true rfl, Nat.le_of_ble_eq_true rfl⟩ rfl hl.1 rfl (Nat.le_of_ble_eq_true rfl) dL_law_153 ⟨Nat.le_refl _, Nat.le_refl _⟩ (fun w9 v9 H locs hq hH => ?_)
        refine lv_icmp_eq (tgt := 315) hx hb dL_law_156 (by decide) (fun _ => ?_) (fun hne => ?_)
        · obtain ⟨e2, rfl⟩ := hq
          exact hback so n ch L1 cu x o k nw f g hJ H locs hH
        · obtain ⟨e2, rfl⟩ := hq
          exact absurd (by rw [e1, e2, ← hJ.number]) hne
      · refine lv_tableIn (off := 129) (tgt := 161) hx hb dL_law_32 (by decide +kernel) (by decide +kernel) (by decide +kernel) (by decide) ?_
        refine lv_aload_n hx hb dL_law_161 rfl (lv_at hl 1 rfl) ?_
        refine lv_aload_n hx hb dL_law_162 rfl (lv_at hl 0 rfl) ?_
        refine lv_iload_n hx hb dL_law_163 rfl (lv_at hl 3 rfl) ?_
        refine lv_iconst (v := zI 1) hx hb dL_law_164 (by decide +kernel) ?_
        refine zr_iadd hx hb ((i + 1 : Nat) : Int) dL_law_165 (by omega) ?_
        refine va_sld hx hb hX hbl hbA hH.2.2 (zI_in (k := i + 1) rfl (by omega) (by omega)) dL_law_166 ?_
        refine zr_top (y := zI z1) (by rw [zI_cl (k := i + 1) rfl (by omega)]; exact ez1) ?_
        refine callLX (n := 1) (cX_item l (EXL ad cB cN D) so n ch L1 cu x o z1 hc (by omega) hz1) F hH (lw_V q113 q114 q115 q17 q116) (by decide +kernel) ⟨Nat.le_of_ble_eq_true rfl, Nat.le_of_ble_eq_true rfl⟩ rfl hl.1 rfl (Nat.le_of_ble_eq_true rfl) dL_law_167 ⟨Nat.le_refl _, Nat.le_refl _⟩ (fun z9 u9 H locs hp hH => ?_)
        obtain ⟨e1, rfl⟩ := hp
        refine lv_aload_n hx hb dL_law_170 rfl (lv_at hl 2 rfl) ?_
        refine lv_aload_n hx hb dL_law_171 rfl (lv_at hl 0 rfl) ?_
        refine lv_iload_n hx hb dL_law_172 rfl (lv_at hl 3 rfl) ?_
        refine lv_iconst (v := zI 1) hx hb dL_law_173 (by decide +kernel) ?_
        refine zr_iadd hx hb ((i + 1 : Nat) : Int) dL_law_174 (by omega) ?_
        refine va_sld hx hb hX hbl hbA hH.2.2 (zI_in (k := i + 1) rfl (by omega) (by omega)) dL_law_175 ?_
        refine zr_top (y := zI z1) (by rw [zI_cl (k := i + 1) rfl (by omega)]; exact ez1) ?_
        refine callLM (n := 1) (cM_item l (EML ad2 cL D) so n k nw (ko_objs so n L1).length f g L1 z1 hJ.1 hct2 hnw hfl hz1) F hH (lw_V q209 q210 q211 q18 q212) (by decide +kernel) ⟨Nat.le_of_ble_eq_true rfl, Nat.le_of_ble_eq_true rfl⟩ rfl hl.1 rfl (Nat.le_of_ble_eq_true rfl) dL_law_176 ⟨Nat.le_refl _, Nat.le_refl _⟩ (fun w9 v9 H locs hq hH => ?_)
        refine lv_icmp_eq (tgt := 315) hx hb dL_law_179 (by decide) (fun _ => ?_) (fun hne => ?_)
        · obtain ⟨e2, rfl⟩ := hq
          exact hback so n ch L1 cu x o k nw f g hJ H locs hH
        · obtain ⟨e2, rfl⟩ := hq
          exact absurd (by rw [e1, e2, hJ.item z1]) hne
      · refine lv_tableIn (off := 152) (tgt := 184) hx hb dL_law_32 (by decide +kernel) (by decide +kernel) (by decide +kernel) (by decide) ?_
        refine lv_aload_n hx hb dL_law_184 rfl (lv_at hl 1 rfl) ?_
        refine lv_aload_n hx hb dL_law_185 rfl (lv_at hl 0 rfl) ?_
        refine lv_iload_n hx hb dL_law_186 rfl (lv_at hl 3 rfl) ?_
        refine lv_iconst (v := zI 1) hx hb dL_law_187 (by decide +kernel) ?_
        refine zr_iadd hx hb ((i + 1 : Nat) : Int) dL_law_188 (by omega) ?_
        refine va_sld hx hb hX hbl hbA hH.2.2 (zI_in (k := i + 1) rfl (by omega) (by omega)) dL_law_189 ?_
        refine zr_top (y := zI z1) (by rw [zI_cl (k := i + 1) rfl (by omega)]; exact ez1) ?_
        refine callLX (n := 1) (cX_go l (EXL ad cB cN D) so n ch L1 cu x o z1 hc h8 hz1) F hH (lw_V q117 q56 q57 q17 q58) (by decide +kernel) ⟨Nat.le_of_ble_eq_true rfl, Nat.le_of_ble_eq_true rfl⟩ rfl hl.1 rfl (Nat.le_of_ble_eq_true rfl) dL_law_190 ⟨Nat.le_refl _, Nat.le_refl _⟩ (fun z9 u9 H locs hp hH => ?_)
        refine lv_aload_n hx hb dL_law_193 rfl (lv_at hl 2 rfl) ?_
        refine lv_aload_n hx hb dL_law_194 rfl (lv_at hl 0 rfl) ?_
        refine lv_iload_n hx hb dL_law_195 rfl (lv_at hl 3 rfl) ?_
        refine lv_iconst (v := zI 1) hx hb dL_law_196 (by decide +kernel) ?_
        refine zr_iadd hx hb ((i + 1 : Nat) : Int) dL_law_197 (by omega) ?_
        refine va_sld hx hb hX hbl hbA hH.2.2 (zI_in (k := i + 1) rfl (by omega) (by omega)) dL_law_198 ?_
        refine zr_top (y := zI z1) (by rw [zI_cl (k := i + 1) rfl (by omega)]; exact ez1) ?_
        refine callLM (n := 1) (cM_go l (EML ad2 cL D) so n k nw (ko_objs so n L1).length f g z1 hct2 hz1) F hH (lw_V q217 q218 q219 q18 q220) (by decide +kernel) ⟨Nat.le_of_ble_eq_true rfl, Nat.le_of_ble_eq_true rfl⟩ rfl hl.1 rfl (Nat.le_of_ble_eq_true rfl) dL_law_199 ⟨Nat.le_refl _, Nat.le_refl _⟩ (fun w9 v9 H locs hq hH => ?_)
        refine lv_icmp_eq (tgt := 315) hx hb dL_law_202 (by decide) (fun _ => ?_) (fun hne => ?_)
        · rcases hp with ⟨a1, a2, rfl⟩ | ⟨a1, a2, a3, x2, b1, b2, b3, rfl⟩ <;> rcases hq with ⟨d1, d2, rfl⟩ | ⟨d1, d2, d3, rfl⟩
          · exact hback so n ch L1 cu x o k nw f g hJ H locs hH
          · exact absurd ⟨d1, by omega⟩ a1
          · exact absurd ⟨a1, by omega⟩ d1
          · exact hback so n ch L1 z1 x2 o k z1.toNat f g (hJ.to (by omega) b1 b3 ho b2.symm (by omega)) H locs hH
        · rcases hp with ⟨a1, a2, rfl⟩ | ⟨a1, a2, a3, x2, b1, b2, b3, rfl⟩ <;> rcases hq with ⟨d1, d2, rfl⟩ | ⟨d1, d2, d3, rfl⟩
          · exact absurd (by rw [a2, d2]) hne
          · exact absurd ⟨d1, by omega⟩ a1
          · exact absurd ⟨a1, by omega⟩ d1
          · exact absurd (by rw [a3, d3]) hne
      · refine lv_tableIn (off := 175) (tgt := 207) hx hb dL_law_32 (by decide +kernel) (by decide +kernel) (by decide +kernel) (by decide) ?_
        refine lv_aload_n hx hb dL_law_207 rfl (lv_at hl 1 rfl) ?_
        refine callLX (n := 0) (cX_next l (EXL ad cB cN D) so n ch L1 cu x o hc h8 hinv) F hH (lw_V q118 q119 q120 q17 q121) (by decide +kernel) ⟨Nat.le_of_ble_eq_true rfl, Nat.le_of_ble_eq_true rfl⟩ rfl hl.1 rfl (Nat.le_of_ble_eq_true rfl) dL_law_208 ⟨Nat.le_refl _, Nat.le_refl _⟩ (fun z9 u9 H locs hp hH => ?_)
        refine lv_aload_n hx hb dL_law_211 rfl (lv_at hl 2 rfl) ?_
        refine callLM (n := 0) (cM_next l (EML ad2 cL D) so n k nw (ko_objs so n L1).length f g hct2 hnw) F hH (lw_V q221 q222 q223 q18 q224) (by decide +kernel) ⟨Nat.le_of_ble_eq_true rfl, Nat.le_of_ble_eq_true rfl⟩ rfl hl.1 rfl (Nat.le_of_ble_eq_true rfl) dL_law_212 ⟨Nat.le_refl _, Nat.le_refl _⟩ (fun w9 v9 H locs hq hH => ?_)
        refine lv_icmp_eq (tgt := 315) hx hb dL_law_215 (by decide) (fun _ => ?_) (fun hne => ?_)
        · have hcn : (0 ≤ cu ∧ cu = (nw : Int)) ∨ (cu < 0 ∧ (ko_objs so n L1).length = 0) := by
            rcases hJ.2.2.2.2 with ⟨g1, g2, g3⟩ | ⟨g1, g2, g3, g4⟩
            · exact Or.inr ⟨by omega, by omega⟩
            · exact Or.inl ⟨by omega, by omega⟩
          rcases hp with ⟨a1, a2, rfl⟩ | ⟨a1, a2, a3, x2, b1, b2, b3, rfl⟩ <;> rcases hq with ⟨d1, d2, rfl⟩ | ⟨d1, d2, rfl⟩
          · exact hback so n ch L1 cu x o k nw f g hJ H locs hH
          · exact absurd (by omega) a1
          · exact absurd (by omega) d1
          · exact hback so n ch L1 (cu + 1) x2 o k (nw + 1) f g (hJ.to (by omega) b1 b3 ho b2.symm (by omega)) H locs hH
        · have hcn : (0 ≤ cu ∧ cu = (nw : Int)) ∨ (cu < 0 ∧ (ko_objs so n L1).length = 0) := by
            rcases hJ.2.2.2.2 with ⟨g1, g2, g3⟩ | ⟨g1, g2, g3, g4⟩
            · exact Or.inr ⟨by omega, by omega⟩
            · exact Or.inl ⟨by omega, by omega⟩
          rcases hp with ⟨a1, a2, rfl⟩ | ⟨a1, a2, a3, x2, b1, b2, b3, rfl⟩ <;> rcases hq with ⟨d1, d2, rfl⟩ | ⟨d1, d2, rfl⟩
          · exact absurd (by rw [a2, d2]) hne
          · exact absurd (by omega) a1
          · exact absurd (by omega) d1
          · exact absurd (by rw [a3, d2]; congr 1; omega) hne
      · refine lv_tableIn (off := 188) (tgt := 220) hx hb dL_law_32 (by decide +kernel) (by decide +kernel) (by decide +kernel) (by decide) ?_
        refine lv_aload_n hx hb dL_law_220 rfl (lv_at hl 1 rfl) ?_
        refine callLX (n := 0) (cX_previous l (EXL ad cB cN D) so n ch L1 cu x o hc h8 hinv) F hH (lw_V q126 q127 q128 q17 q129) (by decide +kernel) ⟨Nat.le_of_ble_eq_true rfl, Nat.le_of_ble_eq_true rfl⟩ rfl hl.1 rfl (Nat.le_of_ble_eq_true rfl) dL_law_221 ⟨Nat.le_refl _, Nat.le_refl _⟩ (fun z9 u9 H locs hp hH => ?_)
        refine lv_aload_n hx hb dL_law_224 rfl (lv_at hl 2 rfl) ?_
        refine callLM (n := 0) (cM_previous l (EML ad2 cL D) so n k nw (ko_objs so n L1).length f g hct2 hnw) F hH (lw_V q225 q226 q227 q18 q228) (by decide +kernel) ⟨Nat.le_of_ble_eq_true rfl, Nat.le_of_ble_eq_true rfl⟩ rfl hl.1 rfl (Nat.le_of_ble_eq_true rfl) dL_law_225 ⟨Nat.le_refl _, Nat.le_refl _⟩ (fun w9 v9 H locs hq hH => ?_)
        refine lv_icmp_eq (tgt := 315) hx hb dL_law_228 (by decide) (fun _ => ?_) (fun hne => ?_)
        · have hcn : (0 ≤ cu ∧ cu = (nw : Int) ∧ 0 < (ko_objs so n L1).length) ∨ (cu < 0 ∧ (ko_objs so n L1).length = 0) := by
            rcases hJ.2.2.2.2 with ⟨g1, g2, g3⟩ | ⟨g1, g2, g3, g4⟩
            · exact Or.inr ⟨by omega, by omega⟩
            · exact Or.inl ⟨by omega, by omega, by omega⟩
          rcases hp with ⟨a1, a2, rfl⟩ | ⟨a1, a3, x2, b1, b2, b3, rfl⟩ <;> rcases hq with ⟨d1, d2, rfl⟩ | ⟨d1, d2, rfl⟩
          · exact hback so n ch L1 cu x o k nw f g hJ H locs hH
          · exact absurd (by omega) a1
          · exact absurd (by omega) d1
          · exact hback so n ch L1 (cu - 1) x2 o k (nw - 1) f g (hJ.to (by omega) b1 b3 ho b2.symm (by omega)) H locs hH
        · have hcn : (0 ≤ cu ∧ cu = (nw : Int) ∧ 0 < (ko_objs so n L1).length) ∨ (cu < 0 ∧ (ko_objs so n L1).length = 0) := by
            rcases hJ.2.2.2.2 with ⟨g1, g2, g3⟩ | ⟨g1, g2, g3, g4⟩
            · exact Or.inr ⟨by omega, by omega⟩
            · exact Or.inl ⟨by omega, by omega, by omega⟩
          rcases hp with ⟨a1, a2, rfl⟩ | ⟨a1, a3, x2, b1, b2, b3, rfl⟩ <;> rcases hq with ⟨d1, d2, rfl⟩ | ⟨d1, d2, rfl⟩
          · exact absurd (by rw [a2, d2]) hne
          · exact absurd (by omega) a1
          · exact absurd (by omega) d1
          · exact absurd (by rw [a3, d2]; congr 1; omega) hne
      · refine lv_tableIn (off := 201) (tgt := 233) hx hb dL_law_32 (by decide +kernel) (by decide +kernel) (by decide +kernel) (by decide) ?_
        refine lv_aload_n hx hb dL_law_233 rfl (lv_at hl 1 rfl) ?_
        refine lv_aload_n hx hb dL_law_234 rfl (lv_at hl 0 rfl) ?_
        refine lv_iload_n hx hb dL_law_235 rfl (lv_at hl 3 rfl) ?_
        refine lv_iconst (v := zI 1) hx hb dL_law_236 (by decide +kernel) ?_
        refine zr_iadd hx hb ((i + 1 : Nat) : Int) dL_law_237 (by omega) ?_
        refine va_sld hx hb hX hbl hbA hH.2.2 (zI_in (k := i + 1) rfl (by omega) (by omega)) dL_law_238 ?_
        refine zr_top (y := zI z1) (by rw [zI_cl (k := i + 1) rfl (by omega)]; exact ez1) ?_
        refine callLX (n := 1) (cX_firstLike l (EXL ad cB cN D) so n ch L1 cu x o z1 hc h8 hz1 hinv) F hH (lw_V q134 q135 q136 q17 q137) (by decide +kernel) ⟨Nat.le_of_ble_eq_true rfl, Nat.le_of_ble_eq_true rfl⟩ rfl hl.1 rfl (Nat.le_of_ble_eq_true rfl) dL_law_239 ⟨Nat.le_refl _, Nat.le_refl _⟩ (fun z9 u9 H locs hp hH => ?_)
        obtain ⟨e1, rfl⟩ := hp
        refine lv_aload_n hx hb dL_law_242 rfl (lv_at hl 2 rfl) ?_
        refine lv_aload_n hx hb dL_law_243 rfl (lv_at hl 0 rfl) ?_
        refine lv_iload_n hx hb dL_law_244 rfl (lv_at hl 3 rfl) ?_
        refine lv_iconst (v := zI 1) hx hb dL_law_245 (by decide +kernel) ?_
        refine zr_iadd hx hb ((i + 1 : Nat) : Int) dL_law_246 (by omega) ?_
        refine va_sld hx hb hX hbl hbA hH.2.2 (zI_in (k := i + 1) rfl (by omega) (by omega)) dL_law_247 ?_
        refine zr_top (y := zI z1) (by rw [zI_cl (k := i + 1) rfl (by omega)]; exact ez1) ?_
        refine callLM (n := 1) (cM_firstLike l (EML ad2 cL D) so n k nw (ko_objs so n L1).length f g L1 z1 hJ.1 hct2 hnw hfl hz1) F hH (lw_V q229 q230 q231 q18 q232) (by decide +kernel) ⟨Nat.le_of_ble_eq_true rfl, Nat.le_of_ble_eq_true rfl⟩ rfl hl.1 rfl (Nat.le_of_ble_eq_true rfl) dL_law_248 ⟨Nat.le_refl _, Nat.le_refl _⟩ (fun w9 v9 H locs hq hH => ?_)
        refine lv_icmp_eq (tgt := 315) hx hb dL_law_251 (by decide) (fun _ => ?_) (fun hne => ?_)
        · obtain ⟨e2, rfl⟩ := hq
          exact hback so n ch L1 cu x o k nw f g hJ H locs hH
        · obtain ⟨e2, rfl⟩ := hq
          exact absurd (by rw [e1, hJ.firstLike e2]) hne
      · refine lv_tableIn (off := 224) (tgt := 256) hx hb dL_law_32 (by decide +kernel) (by decide +kernel) (by decide +kernel) (by decide) ?_
        refine lv_aload_n hx hb dL_law_256 rfl (lv_at hl 1 rfl) ?_
        refine lv_aload_n hx hb dL_law_257 rfl (lv_at hl 0 rfl) ?_
        refine lv_iload_n hx hb dL_law_258 rfl (lv_at hl 3 rfl) ?_
        refine lv_iconst (v := zI 1) hx hb dL_law_259 (by decide +kernel) ?_
        refine zr_iadd hx hb ((i + 1 : Nat) : Int) dL_law_260 (by omega) ?_
        refine va_sld hx hb hX hbl hbA hH.2.2 (zI_in (k := i + 1) rfl (by omega) (by omega)) dL_law_261 ?_
        refine zr_top (y := zI z1) (by rw [zI_cl (k := i + 1) rfl (by omega)]; exact ez1) ?_
        refine callLX (n := 1) (cX_like l (EXL ad cB cN D) so n ch L1 cu x o z1 hc h8 hz1 hinv) F hH (lw_V q142 q143 q144 q17 q145) (by decide +kernel) ⟨Nat.le_of_ble_eq_true rfl, Nat.le_of_ble_eq_true rfl⟩ rfl hl.1 rfl (Nat.le_of_ble_eq_true rfl) dL_law_262 ⟨Nat.le_refl _, Nat.le_refl _⟩ (fun z9 u9 H locs hp hH => ?_)
        obtain ⟨e1, rfl⟩ := hp
        refine lv_aload_n hx hb dL_law_265 rfl (lv_at hl 2 rfl) ?_
        refine lv_aload_n hx hb dL_law_266 rfl (lv_at hl 0 rfl) ?_
        refine lv_iload_n hx hb dL_law_267 rfl (lv_at hl 3 rfl) ?_
        refine lv_iconst (v := zI 1) hx hb dL_law_268 (by decide +kernel) ?_
        refine zr_iadd hx hb ((i + 1 : Nat) : Int) dL_law_269 (by omega) ?_
        refine va_sld hx hb hX hbl hbA hH.2.2 (zI_in (k := i + 1) rfl (by omega) (by omega)) dL_law_270 ?_
        refine zr_top (y := zI z1) (by rw [zI_cl (k := i + 1) rfl (by omega)]; exact ez1) ?_
        refine callLM (n := 1) (cM_like l (EML ad2 cL D) so n k nw (ko_objs so n L1).length f g L1 z1 hJ.1 hct2 hnw hfl hz1) F hH (lw_V q237 q238 q239 q18 q240) (by decide +kernel) ⟨Nat.le_of_ble_eq_true rfl, Nat.le_of_ble_eq_true rfl⟩ rfl hl.1 rfl (Nat.le_of_ble_eq_true rfl) dL_law_271 ⟨Nat.le_refl _, Nat.le_refl _⟩ (fun w9 v9 H locs hq hH => ?_)
        refine lv_icmp_eq (tgt := 315) hx hb dL_law_274 (by decide) (fun _ => ?_) (fun hne => ?_)
        · obtain ⟨e2, rfl⟩ := hq
          exact hback so n ch L1 cu x o k nw f g hJ H locs hH
        · obtain ⟨e2, rfl⟩ := hq
          exact absurd (by rw [e1, hJ.like e2]) hne
      · refine lv_tableIn (off := 247) (tgt := 279) hx hb dL_law_32 (by decide +kernel) (by decide +kernel) (by decide +kernel) (by decide) ?_
        refine lv_aload_n hx hb dL_law_279 rfl (lv_at hl 1 rfl) ?_
        refine lv_aload_n hx hb dL_law_280 rfl (lv_at hl 0 rfl) ?_
        refine lv_iload_n hx hb dL_law_281 rfl (lv_at hl 3 rfl) ?_
        refine lv_iconst (v := zI 1) hx hb dL_law_282 (by decide +kernel) ?_
        refine zr_iadd hx hb ((i + 1 : Nat) : Int) dL_law_283 (by omega) ?_
        refine va_sld hx hb hX hbl hbA hH.2.2 (zI_in (k := i + 1) rfl (by omega) (by omega)) dL_law_284 ?_
        refine zr_top (y := zI z1) (by rw [zI_cl (k := i + 1) rfl (by omega)]; exact ez1) ?_
        refine callLX (n := 1) (cX_difference l (EXL ad cB cN D) so n ch L1 cu x o z1 hc h8 ho hz1 hinv) F hH (lw_V q146 q147 q148 q17 q149) (by decide +kernel) ⟨Nat.le_of_ble_eq_true rfl, Nat.le_of_ble_eq_true rfl⟩ rfl hl.1 rfl (Nat.le_of_ble_eq_true rfl) dL_law_285 ⟨Nat.le_refl _, Nat.le_refl _⟩ (fun z9 u9 H locs hp hH => ?_)
        refine lv_aload_n hx hb dL_law_288 rfl (lv_at hl 2 rfl) ?_
        refine lv_aload_n hx hb dL_law_289 rfl (lv_at hl 0 rfl) ?_
        refine lv_iload_n hx hb dL_law_290 rfl (lv_at hl 3 rfl) ?_
        refine lv_iconst (v := zI 1) hx hb dL_law_291 (by decide +kernel) ?_
        refine zr_iadd hx hb ((i + 1 : Nat) : Int) dL_law_292 (by omega) ?_
        refine va_sld hx hb hX hbl hbA hH.2.2 (zI_in (k := i + 1) rfl (by omega) (by omega)) dL_law_293 ?_
        refine zr_top (y := zI z1) (by rw [zI_cl (k := i + 1) rfl (by omega)]; exact ez1) ?_
        refine callLM (n := 1) (cM_difference l (EML ad2 cL D) so n k nw (ko_objs so n L1).length f g L1 z1 hJ.1 hct2 hnw hfl hz1) F hH (lw_V q241 q242 q243 q18 q244) (by decide +kernel) ⟨Nat.le_of_ble_eq_true rfl, Nat.le_of_ble_eq_true rfl⟩ rfl hl.1 rfl (Nat.le_of_ble_eq_true rfl) dL_law_294 ⟨Nat.le_refl _, Nat.le_refl _⟩ (fun w9 v9 H locs hq hH => ?_)
        refine lv_icmp_eq (tgt := 315) hx hb dL_law_297 (by decide) (fun _ => ?_) (fun hne => ?_)
        · rcases hp with ⟨a1, a2, rfl⟩ | ⟨a1, a2, x2, x3, o2, b1, b2, b3, b4, b5, b6, b7, rfl⟩ <;> rcases hq with ⟨d1, d2, rfl⟩ | ⟨d1, d2, d3, rfl⟩
          · exact hback so n ch L1 cu x o k nw f g hJ H locs hH
          · exact absurd ⟨d1, by omega⟩ a1
          · exact absurd ⟨a1, by omega⟩ d1
          · obtain ⟨l1, l2, l3, l4, l5, l6⟩ := hJ.live (by omega)
            exact hback so n ch L1 cu x3 o2 k nw f g (hJ.to (by omega) b4 b6 b7 b5 (by omega)) H locs hH
        · rcases hp with ⟨a1, a2, rfl⟩ | ⟨a1, a2, x2, x3, o2, b1, b2, b3, b4, b5, b6, b7, rfl⟩ <;> rcases hq with ⟨d1, d2, rfl⟩ | ⟨d1, d2, d3, rfl⟩
          · exact absurd (by rw [a2, d2]) hne
          · exact absurd ⟨d1, by omega⟩ a1
          · exact absurd ⟨a1, by omega⟩ d1
          · obtain ⟨l1, l2, l3, l4, l5, l6⟩ := hJ.live (by omega)
            obtain ⟨c1, c2⟩ := hJ.code l1 b1
            have ez : z1.toNat = ko_rk so n L1 x2 L1 := by omega
            have hdf : ko_df x2 x L1 = ko_df (ko_dig L1 (f z1.toNat)) (ko_dig L1 (f nw)) L1 := by
              refine ko_df_ext L1 (fun j hj => ?_) (fun j hj => ?_)
              · rw [ez, c2, ko_dig_cod (fun q hq => (b1 q hq).1) hj]
              · rw [l6, ko_dig_cod (fun q hq => (l2 q hq).1) hj]
            exact absurd (by rw [b3, d3, hdf]) hne
      · refine lv_tableIn (off := 270) (tgt := 302) hx hb dL_law_32 (by decide +kernel) (by decide +kernel) (by decide +kernel) (by decide) ?_
        refine lv_aload_n hx hb dL_law_302 rfl (lv_at hl 1 rfl) ?_
        refine callLX (n := 0) (cX_mirrored l (EXL ad cB cN D) so n ch L1 cu x o hc h8 ho hinv) F hH (lw_V q150 q151 q152 q17 q153) (by decide +kernel) ⟨Nat.le_of_ble_eq_true rfl, Nat.le_of_ble_eq_true rfl⟩ rfl hl.1 rfl (Nat.le_of_ble_eq_true rfl) dL_law_303 ⟨Nat.le_refl _, Nat.le_refl _⟩ (fun z9 u9 H locs hp hH => ?_)
        refine lv_aload_n hx hb dL_law_306 rfl (lv_at hl 2 rfl) ?_
        have hxv : nw < (ko_objs so n L1).length → (so = 4 → 0 < L1) ∧ f nw = ko_cod x L1 ∧ ko_VP so n L1 x L1 := fun h1 => by obtain ⟨l1, l2, l3, l4, l5, l6⟩ := hJ.live (Nat.lt_of_le_of_lt (Nat.zero_le _) h1); exact ⟨l1, l6, l2⟩
        refine callLM (n := 0) (cM_mirrored l (EML ad2 cL D) so n k nw (ko_objs so n L1).length f g L1 x hJ.1 hct2 hnw hfl (fun h1 _ => hxv h1)) F hH (lw_V q245 q246 q247 q18 q248) (by decide +kernel) ⟨Nat.le_of_ble_eq_true rfl, Nat.le_of_ble_eq_true rfl⟩ rfl hl.1 rfl (Nat.le_of_ble_eq_true rfl) dL_law_307 ⟨Nat.le_refl _, Nat.le_refl _⟩ (fun w9 v9 H locs hq hH => ?_)
        refine lv_icmp_eq (tgt := 315) hx hb dL_law_310 (by decide) (fun _ => ?_) (fun hne => ?_)
        · obtain ⟨hq, rfl⟩ := hq
          clear hq
          rcases hp with ⟨a1, a2, rfl⟩ | ⟨a1, a2, x3, o2, b4, b5, b6, b7, rfl⟩
          · exact hback so n ch L1 cu x o k nw f g hJ H locs hH
          · obtain ⟨l1, l2, l3, l4, l5, l6⟩ := hJ.live (by omega)
            exact hback so n ch L1 cu x3 o2 k nw f g (hJ.to (by omega) b4 b6 b7 b5 (by omega)) H locs hH
        · obtain ⟨hq, rfl⟩ := hq
          rcases hp with ⟨a1, a2, rfl⟩ | ⟨a1, a2, x3, o2, b4, b5, b6, b7, rfl⟩
          · rcases hq with ⟨d1, d2⟩ | ⟨d1, -⟩
            · exact absurd (by rw [a2, d2]) hne
            · exact absurd (by omega) d1
          · exact absurd (by rw [a2, hJ.mirrored hq a1]) hne
      · refine lv_tableOut (tgt := 315) hx hb dL_law_32 (by decide +kernel) (by decide) ?_
        exact hback so n ch L1 cu x o k nw f g hJ H locs hH
      · refine lv_tableOut (tgt := 315) hx hb dL_law_32 (by decide +kernel) (by decide) ?_
        exact hback so n ch L1 cu x o k nw f g hJ H locs hH
      · refine lv_tableOut (tgt := 315) hx hb dL_law_32 (by decide +kernel) (by decide) ?_
        exact hback so n ch L1 cu x o k nw f g hJ H locs hH
      · refine lv_tableOut (tgt := 315) hx hb dL_law_32 (by decide +kernel) (by decide) ?_
        exact hback so n ch L1 cu x o k nw f g hJ H locs hH
      · refine lv_tableOut (tgt := 315) hx hb dL_law_32 (by decide +kernel) (by decide) ?_
        exact hback so n ch L1 cu x o k nw f g hJ H locs hH
end
section
set_option maxRecDepth 100000
set_option maxHeartbeats 8000000 in
/-- THE LAW, from its entry -/
theorem whole_start {p : Program} {e : Env} {s : State} {m : MethodId} {below : List Frame} {meth : Method} {c : Code} (l : Launch) {b L : Nat} {xs : Nat → Int32} (hL : L ≤ 256) (C0 : lw_At p s m meth c b L xs) : W p l e room_1 s m #[Value.ref b] below meth c s.heap [] 0 0 (lw_Z below #[Value.ref b] s) (entryFrame m ([Value.ref b] : List Value).toArray 4) := by
  obtain ⟨hx, hb, hr, hml, hown, hts0, hX, hbl, hlocks, hgv⟩ := id C0
  have hts : ∀ w ∈ lw_all, w.before #[Value.ref b] s = true := fun w h => hts0 w (lw_all_tbl h)
  have hA : ∀ q : Nat, s.heap.size ≤ q → (fun q : Nat => s.heap.size ≤ q) q := fun _ h => h
  obtain ⟨c0, iS0, hKn0⟩ := u_known (C := RX0) (T := TX0) (N := 11) (n := 11) hts0 (fun w h => lw_all_tbl (in_X0 w h)) (hts _ q20)
  obtain ⟨c1, iS1, hKn1⟩ := u_known (C := RX1) (T := TX1) (N := 7) (n := 7) hts0 (fun w h => lw_all_tbl (in_X1 w h)) (hts _ q155)
  obtain ⟨dC, dI, hKc⟩ : ∃ (dC : Nat → ClassId) (dI : Nat → Nat → Nat), ∀ (k : Nat) (q : vw_C), vwCl[k]? = some q → u_Kn s q.1 q.2.1 q.2.2 (dC k) (dI k) := by
    refine ⟨fun k => if k = 0 then c0 else c1, fun k => if k = 0 then iS0 else iS1, ?_⟩
    intro k q hq
    match k, hq with
    | 0, hq => cases hq; exact hKn0
    | 1, hq => cases hq; exact hKn1
    | k + 2, hq => simp [vwCl] at hq
  have hS : va_S (fun q : Nat => s.heap.size ≤ q) s.heap s.heap [] := va_S.rf
  have hK : va_K (dC, dI) vwCl [] s := ⟨hKc, fun k q h => by simp at h⟩
  have hP : va_P (dC, dI) vwCl [] s.heap := fun k q h => by simp at h
  have hD : va_D (fun q : Nat => s.heap.size ≤ q) [] := ⟨fun i j p q h => by simp at h, fun k q h => by simp at h⟩
  have hl := lv_entry ([.ref b]) (n := 4) (Nat.le_of_ble_eq_true rfl)
  rw [lg_entry_eq]
  generalize (lg_sl ([.ref b]) ++ List.replicate (4 - (lg_sl ([.ref b])).length) Slot.unset).toArray = ls at hl ⊢
  have hl : lv_has ls 4 [(0, .ref b)] := hl
  refine va_new (ci := 0) (fs := fs0) (C := RX0) (T := TX0) (N := 11) hx hb hts in_X0 tyX0 tyX0_ok hown (hts _ q19) (hts _ q20) (hts _ q17) hK hP hD hS hA rfl (fun j hj => by rcases (show j = 0 ∨ j = 1 ∨ j = 2 ∨ j = 3 ∨ j = 4 ∨ j = 5 ∨ j = 6 ∨ j = 7 ∨ j = 8 ∨ j = 9 ∨ j = 10 by omega) with rfl | rfl | rfl | rfl | rfl | rfl | rfl | rfl | rfl | rfl | rfl <;> rfl) (Nat.le_of_ble_eq_true rfl) (Nat.le_of_ble_eq_true rfl) dL_law_0 (fun q0 H hP hD hS => ?_)
  have hP : va_P (dC, dI) vwCl (w0X q0) H := hP
  have hD : va_D (fun q : Nat => s.heap.size ≤ q) (w0X q0) := hD
  refine lv_dup hx hb dL_law_3 rfl ?_
  have hFc := va_free (wc := w0X q0) hD hS hA [0] rfl
  refine va_callv (va_runI (As := []) (rest := [.ref q0]) ⟨hx, hb, hml, hown, hts⟩ (cX_init l (dC, dI) q0 H.size) (cwI 0 hts (lw_meth q23) rfl rfl rfl (hts _ q17) (hts _ q21) (hts _ q22) rfl (by decide +kernel) ⟨Nat.le_of_ble_eq_true rfl, Nat.le_of_ble_eq_true rfl⟩) ⟨fun a U g mk q => by obtain ⟨q0, q1, qP, qK, qD⟩ := q; exact ⟨q0, q1, qP, va_K.moved (u := U) (U := U.calling g mk a) (Vm.Alike.refl U.vm) qK, qD⟩, fun U hU hW => ⟨rfl, by rw [hU], by rw [hU]; exact hP, va_K.moved hW.alike hK, hD.weaken (fun _ _ _ _ => trivial)⟩⟩ rfl rfl hl.1 rfl (lv_room (Nat.le_of_ble_eq_true rfl)) dL_law_4 ⟨Nat.le_of_ble_eq_true rfl, Nat.le_of_ble_eq_true rfl⟩) hS (fun q _ h => hFc q h) hFc (fun q9 t H1 locs ht hvm hw hB hz1 hk1 hS => ?_)
  obtain ⟨⟨ad, ⟨cB, cN⟩, D9⟩, u9⟩ := q9
  obtain ⟨hE0, hED, ch, x, o, hu, h8, ho, hvp, hrk⟩ := hw
  obtain ⟨hP1, hK1, hD1⟩ := hB
  rw [ht] at hP1
  have hE0 : ad 0 = q0 := hE0
  have hED : D9 = (dC, dI) := hED
  have hu : u9 = (1, 3, ch, 3, 0, x, o) := hu
  subst hED
  subst hu
  subst hE0
  have hK1 := va_K.moved hvm.symm hK1
  have hP : va_P (dC, dI) vwCl (wX (EXL ad cB cN (dC, dI)) (1, 3, ch, 3, 0, x, o)) H1 := hP1
  have hD : va_D (fun q : Nat => s.heap.size ≤ q) (wX (EXL ad cB cN (dC, dI)) (1, 3, ch, 3, 0, x, o)) := hD1.weaken (fun _ _ _ h => hFc _ h)
  have hK : va_K (dC, dI) vwCl (tyX (EXL ad cB cN (dC, dI))) s := hK1
  generalize H1 = H at hP hS ⊢
  refine lv_astore_n (lv' := [(1, .ref (ad 0)), (0, .ref b)]) hx hb dL_law_7 rfl hl (by decide) rfl (fun ls hl => ?_)
  refine va_new (ci := 1) (fs := fs0M) (C := RX1) (T := TX1) (N := 7) hx hb hts in_X1 tyX1 tyX1_ok hown (hts _ q154) (hts _ q155) (hts _ q18) hK hP hD hS hA rfl (fun j hj => by rcases (show j = 0 ∨ j = 1 ∨ j = 2 ∨ j = 3 ∨ j = 4 ∨ j = 5 ∨ j = 6 by omega) with rfl | rfl | rfl | rfl | rfl | rfl | rfl <;> rfl) (Nat.le_of_ble_eq_true rfl) (Nat.le_of_ble_eq_true rfl) dL_law_8 (fun q2 H hP hD hS => ?_)
  refine lv_dup hx hb dL_law_11 rfl ?_
  have hPc := hP.sub (ws' := w0M q2) [7] rfl
  have hDc := hD.sub (ws' := w0M q2) [7] (by decide) rfl
  have hKc := hK.sub (tys' := []) [] rfl
  have hFc := va_free (wc := w0M q2) hD hS hA [7] rfl
  refine va_callv (va_runI (As := []) (rest := [.ref q2]) ⟨hx, hb, hml, hown, hts⟩ (cM_init l (dC, dI) q2 H.size) (cwI 0 hts (lw_meth q158) rfl rfl rfl (hts _ q18) (hts _ q156) (hts _ q157) rfl (by decide +kernel) ⟨Nat.le_of_ble_eq_true rfl, Nat.le_of_ble_eq_true rfl⟩) ⟨fun a U g mk q => by obtain ⟨q0, q1, qP, qK, qD⟩ := q; exact ⟨q0, q1, qP, va_K.moved (u := U) (U := U.calling g mk a) (Vm.Alike.refl U.vm) qK, qD⟩, fun U hU hW => ⟨rfl, by rw [hU], by rw [hU]; exact hPc, va_K.moved hW.alike hKc, hDc.weaken (fun _ _ _ _ => trivial)⟩⟩ rfl rfl hl.1 rfl (lv_room (Nat.le_of_ble_eq_true rfl)) dL_law_12 ⟨Nat.le_of_ble_eq_true rfl, Nat.le_of_ble_eq_true rfl⟩) hS (fun q _ h => hFc q h) hFc (fun q9 t H1 locs ht hvm hw hB hz1 hk1 hS => ?_)
  obtain ⟨⟨ad2, cL, D9⟩, v9⟩ := q9
  obtain ⟨hE0, hED, f, g, hh, hu⟩ := hw
  obtain ⟨hP1, hK1, hD1⟩ := hB
  rw [ht] at hP1
  have hE0 : ad2 0 = q2 := hE0
  have hED : D9 = (dC, dI) := hED
  have hu : v9 = (1, 3, 0, 0, (ko_objs 1 3 3).length, f, g) := hu
  subst hED
  subst hu
  subst hE0
  have hK1 := va_K.moved hvm.symm hK1
  obtain ⟨hP2, hD2⟩ := va_join (wr := wX (EXL ad cB cN (dC, dI)) (1, 3, ch, 3, 0, x, o)) (w1 := wM (EML ad2 cL (dC, dI)) (1, 3, 0, 0, (ko_objs 1 3 3).length, f, g)) hP hD [7] [0, 1, 2, 3, 4, 5, 6] rfl rfl (by decide) (by decide) hk1 hFc hP1 hD1
  have hKL : va_K (dC, dI) vwCl (tyL cB cN cL) s := hK.app hK1
  generalize H1 = H at hP2 hS ⊢
  refine lv_astore_n (lv' := [(2, .ref (ad2 0)), (1, .ref (ad 0)), (0, .ref b)]) hx hb dL_law_15 rfl hl (by decide) rfl (fun ls hl => ?_)
  refine lv_iconst (v := zI ((0 : Nat) : Int)) hx hb dL_law_16 (by decide +kernel) ?_
  refine lv_istore_n (lv' := [(3, .int (zI ((0 : Nat) : Int))), (2, .ref (ad2 0)), (1, .ref (ad 0)), (0, .ref b)]) hx hb dL_law_17 rfl hl (by decide) rfl (fun ls hl => ?_)
  refine W.widen (k := 600000) (n := 7290000) (Nat.le_of_ble_eq_true rfl) (Nat.le_of_ble_eq_true rfl) ?_
  exact law_loop hL C0 ⟨hx, hb, hml, hown, hts, hKL⟩ (L + 1) 0 (Nat.zero_le L) (by omega) 1 3 ch 3 0 x o 0 0 f g ⟨⟨by decide +kernel, by decide, by decide⟩, h8, ho, hh, Or.inr ⟨by decide +kernel, hvp, by rw [hrk]; rfl, hrk.symm⟩⟩ _ _ ⟨hP2, hD2, hS⟩ ls (lv_sub hl [3, 2, 1, 0] rfl)
end
section
set_option maxRecDepth 100000
set_option maxHeartbeats 4000000 in
theorem lw_walk (l : Launch) (b : Addr) (xs : List Int32) : MetFree l x (headSpec (Jvm.Cond.code x code maxLocals ret :: tables_1) room_1) (lw_P b xs) (fun _ _ _ _ _ => True) lw_Q := by
  refine MetFree.of_bodyS (code := code) (maxLocals := maxLocals) (ret := ret) (by decide) ?_ ?_
  · intro args s m h hn
    obtain ⟨meth, c, h1, h2, h3, h4, h5, h6, -, -⟩ := Cond.code_spec hn (atoms_spec (ws := Jvm.Cond.code x code maxLocals ret :: tables_1) h _ List.mem_cons_self)
    exact ⟨meth, c, h1, h2, h3, h4, h5, h6⟩
  · intro p e s m args below meth c s₁ B hml0 hP _
    obtain ⟨rfl, hx, hbd, hgv⟩ := hP
    obtain ⟨scr, harrAt, hlist, hof, hsmall⟩ := hx
    obtain ⟨hcb, hkn, -, -⟩ := State.arrayAt?_spec harrAt
    have hown : s.vm.findClass R_law = some m.cls := findClass_of_methodNamed B.named
    have hts0 : ∀ c ∈ (Jvm.Cond.code x code maxLocals ret :: tables_1), c.before #[Value.ref b] s = true := atoms_spec (ws := Jvm.Cond.code x code maxLocals ret :: tables_1) B.pre
    have hts : ∀ w ∈ lw_tbl, w.before #[Value.ref b] s = true := k2_hts_sels lw_privs (fun w hw => hts0 w (List.mem_cons_of_mem _ hw)) lw_privs_ok
    have hml : c.maxLocals = 4 := B.maxLocals_eq (hts0 _ List.mem_cons_self)
    have X₀ : Stand p l e room_1 s m #[Value.ref b] below meth c s₁ [] 0 0 := Stand.of_body B
    have hh0 : s₁.heap = s.heap := by rw [B.state]; rfl
    have hsz : scr.slots.size = xs.length := by rw [← Array.length_toList, hlist, List.length_map]
    have hval : ∀ j : Nat, j < xs.length → scr.slots[j]? = some (.int (xs.getD j 0)) := fun j hj => by
      rw [← Array.getElem?_toList, hlist]
      simp [hj]
    have hbl : b < s.heap.size := (Array.getElem?_eq_some_iff.mp hcb).1
    have hX : va_X b xs.length (fun j => xs.getD j 0) s s.heap := ⟨scr, hcb, hof, hkn, hsz, hval⟩
    have K : W p l e room_1 s m #[Value.ref b] below meth c s₁.heap [] 0 0 (lw_Z below #[Value.ref b] s) (entryFrame m ([Value.ref b] : List Value).toArray 4) := by
      rw [hh0]
      exact whole_start l hbd ⟨B.exec, B.bytes, B.returns, hml, hown, hts, hX, hbl, B.notSynchronized, hgv⟩
    obtain ⟨t, a1, o, b1, b2, b3⟩ := K s₁ rfl X₀
    exact ⟨t, o, a1, b1, b2, b3⟩
theorem lw_pre_spec {args : Array Value} {s : State} (h : (Jvm.Cond.and given_1 narrow_1).before args s = true) (hr : rest_1_c.before args s = true) : ∃ (b : Addr) (xs : List Int32), lw_P b xs args s := by
  have hs := flat_of_before _ h
  have hq := flat_of_before _ hr
  have hc : (Cond.count 1).before args s = true := hs _ (by decide +kernel)
  have harr : (Cond.arrayOf (.arg 0) .int).before args s = true := hs _ (by decide +kernel)
  have hle : (Cond.le (.length (.arg 0)) (.int 256)).before args s = true := hs _ (by decide +kernel)
  have hlen : (Cond.isInt (.length (.arg 0))).before args s = true := hq _ (by decide +kernel)
  have hall : (Cond.all (.arg 0) (.isInt (.elem (.arg 0) (.index 0)))).before args s = true := hq _ (by decide +kernel)
  obtain ⟨b, xs, hb, hx⟩ := State.ints_of_pre rfl harr hlen hall
  have hsm : xs.length < 2 ^ 31 := hx.choose_spec.2.2.2
  have hev : (Term.length (.arg 0)).eval args s none [] s = some (.int xs.length.toInt32) := hx.length_eval hb
  have hv := Cond.le_ints hev (show (Term.int 256).eval args s none [] s = some (.int 256) from rfl)
  have hd : xs.length.toInt32 ≤ 256 := by
    simpa [Cond.before, Cond.holds, hv] using hle
  have hN : xs.length ≤ 256 := (Int32.ofNat_le_ofNat hsm (by decide)).mp (show Int32.ofNat xs.length ≤ Int32.ofNat 256 from hd)
  exact ⟨b, xs, Cond.one_arg hc (show args[0]? = some (.ref b) from hb), hx, hN, h⟩
theorem lw_comes (l : Launch) : Comes l x (Jvm.Cond.code x code maxLocals ret :: tables_1) room_1 (fun tb e args s => Calls_1 tb e args s ∧ rest_1 tb e args s ∧ Pre_1 tb e args s)
    (fun _ _ args s o t => lw_Q args s o t) := by
  intro p e ha hc hk s m args below hf hfit hheap happ hpre
  obtain ⟨b, xs, hP⟩ := lw_pre_spec hpre.2.2 hpre.2.1
  obtain ⟨k, o, h1, h2, h3, hQ⟩ := lw_walk l b xs p e ha hc hk s m args below hf ((Spec.applies_iff_loose hf).mp happ).1 hP trivial
  exact ⟨k, o, h1, h2, h3, hQ⟩
theorem lw_frame {s t : State} {o : Outcome} {args : Array Value} (h : Framed s o t [] 600000 7290000) :
    Framed s o t (fieldLocs frame_1_writes args s ++ arrayLocs frame_1_arrays args s ++ staticLocs frame_1_statics s) 600000 7290000 := h
theorem lw_limb (L : Cond) (hL : ∀ (args : Array Value) (s t : State), L.after args s (.returned (some (.int 1))) t = true) :
    ArmFor flags0 classFile x code maxLocals ret World_1 tables_1 room_1 Calls_1 rest_1 Pre_1
      (fun tb e a s o t => postC L tb e a s o t ∧ Framed s o t (fieldLocs frame_1_writes a s ++ arrayLocs frame_1_arrays a s ++ staticLocs frame_1_statics s) 600000 7290000) := by
  intro l _ _ _ p e ha hc hk s m args below hf hfit hheap happ hpre
  obtain ⟨k, o, h1, h2, h3, rfl, hF⟩ := lw_comes l p e ha hc hk s m args below hf hfit hheap happ hpre
  exact ⟨k, _, h1, h2, h3, hL args s _, lw_frame hF⟩
theorem i_vc : Claimed_1_1 ∧ Claimed_1_2 := ⟨lw_limb limb_1_1 (fun args s t => by simp [limb_1_1, Cond.after, Cond.holds, Cond.value]), lw_limb limb_1_2 (fun args s t => Cond.after_iff.mpr (by
  first | (rw [show limb_1_2 = Cond.eq .result (.int 1) from rfl, Cond.eq_ints (x := 1) (y := 1) rfl rfl]; simp; done) | (simp [limb_1_2, Cond.value, Term.eval]; done)))⟩
end
