section
-- ===== PART A: goes FIRST, ahead of the names: the tables' words, and 'selects' of the private methods out of them =====
/-- a private method of a class that the tables say can be made, by its rows of tables_1 -/
def lw_okq (q : MethodName × Nat) : Prop := (q.1.cls ≠ "java/lang/invoke/MethodHandle" ∧ q.1.cls ≠ "java/lang/invoke/VarHandle") ∧ Cond.instantiable q.1.cls q.2 ∈ tables_1 ∧ Cond.privateMethod q.1 ∈ tables_1 ∧ Cond.instanceMethod q.1 ∈ tables_1
set_option maxRecDepth 100000
theorem lw_t1 {w : Cond} (h : w ∈ tables_1_1) : w ∈ tables_1 := List.mem_append_left _ h
theorem lw_t2 {w : Cond} (h : w ∈ tables_1_2) : w ∈ tables_1 := List.mem_append_right _ h
theorem lw_p0 : lw_okq (⟨"InvariantFinder", "takeValue", "(II)V"⟩, 19) := ⟨⟨by decide +kernel, by decide +kernel⟩, lw_t1 (List.mem_of_getElem? (i := 4) rfl), lw_t1 (List.mem_of_getElem? (i := 79) rfl), lw_t1 (List.mem_of_getElem? (i := 80) rfl)⟩
theorem lw_p1 : lw_okq (⟨"InvariantFinder", "takeDifferent", "(II)V"⟩, 19) := ⟨⟨by decide +kernel, by decide +kernel⟩, lw_t1 (List.mem_of_getElem? (i := 4) rfl), lw_t1 (List.mem_of_getElem? (i := 86) rfl), lw_t1 (List.mem_of_getElem? (i := 87) rfl)⟩
theorem lw_p2 : lw_okq (⟨"InvariantFinder", "takePair", "(II)V"⟩, 19) := ⟨⟨by decide +kernel, by decide +kernel⟩, lw_t1 (List.mem_of_getElem? (i := 4) rfl), lw_t1 (List.mem_of_getElem? (i := 90) rfl), lw_t1 (List.mem_of_getElem? (i := 91) rfl)⟩
theorem lw_p3 : lw_okq (⟨"InvariantFinder", "takeLine", "(III)V"⟩, 19) := ⟨⟨by decide +kernel, by decide +kernel⟩, lw_t1 (List.mem_of_getElem? (i := 4) rfl), lw_t1 (List.mem_of_getElem? (i := 94) rfl), lw_t1 (List.mem_of_getElem? (i := 95) rfl)⟩
theorem lw_p4 : lw_okq (⟨"InvariantFinder", "draw", "(IIIII)V"⟩, 19) := ⟨⟨by decide +kernel, by decide +kernel⟩, lw_t1 (List.mem_of_getElem? (i := 4) rfl), lw_t1 (List.mem_of_getElem? (i := 98) rfl), lw_t1 (List.mem_of_getElem? (i := 99) rfl)⟩
theorem lw_p5 : lw_okq (⟨"InvariantFinder", "takeSums", "()V"⟩, 19) := ⟨⟨by decide +kernel, by decide +kernel⟩, lw_t1 (List.mem_of_getElem? (i := 4) rfl), lw_t1 (List.mem_of_getElem? (i := 102) rfl), lw_t1 (List.mem_of_getElem? (i := 103) rfl)⟩
theorem lw_p6 : lw_okq (⟨"InvariantFinder", "hasLine", "(II)Z"⟩, 19) := ⟨⟨by decide +kernel, by decide +kernel⟩, lw_t1 (List.mem_of_getElem? (i := 4) rfl), lw_t1 (List.mem_of_getElem? (i := 157) rfl), lw_t1 (List.mem_of_getElem? (i := 158) rfl)⟩
theorem lw_p7 : lw_okq (⟨"InvariantFinderModel", "fits", "(I)Z"⟩, 6) := ⟨⟨by decide +kernel, by decide +kernel⟩, lw_t1 (List.mem_of_getElem? (i := 177) rfl), lw_t1 (List.mem_of_getElem? (i := 206) rfl), lw_t1 (List.mem_of_getElem? (i := 207) rfl)⟩
theorem lw_p8 : lw_okq (⟨"InvariantFinderModel", "is", "(I)Z"⟩, 6) := ⟨⟨by decide +kernel, by decide +kernel⟩, lw_t1 (List.mem_of_getElem? (i := 177) rfl), lw_t1 (List.mem_of_getElem? (i := 222) rfl), lw_t1 (List.mem_of_getElem? (i := 223) rfl)⟩
theorem lw_p9 : lw_okq (⟨"InvariantFinderModel", "modulo", "(II)I"⟩, 6) := ⟨⟨by decide +kernel, by decide +kernel⟩, lw_t1 (List.mem_of_getElem? (i := 177) rfl), lw_t2 (List.mem_of_getElem? (i := 3) rfl), lw_t2 (List.mem_of_getElem? (i := 4) rfl)⟩
theorem lw_p10 : lw_okq (⟨"InvariantFinderModel", "holds", "(III)Z"⟩, 6) := ⟨⟨by decide +kernel, by decide +kernel⟩, lw_t1 (List.mem_of_getElem? (i := 177) rfl), lw_t2 (List.mem_of_getElem? (i := 16) rfl), lw_t2 (List.mem_of_getElem? (i := 17) rfl)⟩
theorem lw_p11 : lw_okq (⟨"InvariantFinderModel", "find", "(II)Z"⟩, 6) := ⟨⟨by decide +kernel, by decide +kernel⟩, lw_t1 (List.mem_of_getElem? (i := 177) rfl), lw_t2 (List.mem_of_getElem? (i := 28) rfl), lw_t2 (List.mem_of_getElem? (i := 29) rfl)⟩
def lw_privs_1 : List (MethodName × Nat) := [(⟨"InvariantFinder", "takeValue", "(II)V"⟩, 19), (⟨"InvariantFinder", "takeDifferent", "(II)V"⟩, 19), (⟨"InvariantFinder", "takePair", "(II)V"⟩, 19), (⟨"InvariantFinder", "takeLine", "(III)V"⟩, 19), (⟨"InvariantFinder", "draw", "(IIIII)V"⟩, 19), (⟨"InvariantFinder", "takeSums", "()V"⟩, 19), (⟨"InvariantFinder", "hasLine", "(II)Z"⟩, 19), (⟨"InvariantFinderModel", "fits", "(I)Z"⟩, 6), (⟨"InvariantFinderModel", "is", "(I)Z"⟩, 6), (⟨"InvariantFinderModel", "modulo", "(II)I"⟩, 6), (⟨"InvariantFinderModel", "holds", "(III)Z"⟩, 6), (⟨"InvariantFinderModel", "find", "(II)Z"⟩, 6)]
theorem lw_r1 : ∀ q ∈ lw_privs_1, lw_okq q := List.forall_mem_cons.mpr ⟨lw_p0, List.forall_mem_cons.mpr ⟨lw_p1, List.forall_mem_cons.mpr ⟨lw_p2, List.forall_mem_cons.mpr ⟨lw_p3, List.forall_mem_cons.mpr ⟨lw_p4, List.forall_mem_cons.mpr ⟨lw_p5, List.forall_mem_cons.mpr ⟨lw_p6, List.forall_mem_cons.mpr ⟨lw_p7, List.forall_mem_cons.mpr ⟨lw_p8, List.forall_mem_cons.mpr ⟨lw_p9, List.forall_mem_cons.mpr ⟨lw_p10, List.forall_mem_cons.mpr ⟨lw_p11, fun _ h => absurd h List.not_mem_nil⟩⟩⟩⟩⟩⟩⟩⟩⟩⟩⟩⟩
def lw_privs : List (MethodName × Nat) := lw_privs_1
def lw_tbl : List Cond := k2_sels lw_privs ++ tables_1
theorem lw_privs_ok : ∀ q ∈ lw_privs, lw_okq q := lw_r1
-- ===== ONE list of words for every method: the tables' words that hold all through a run =====
def lw_all : List Cond := lw_tbl.filter goodWord
/-- a word of the tables by its place: claim/WORDS.tsv -/
theorem lw_w {w : Cond} (i : Nat) (h : lw_tbl[i]? = some w) (g : goodWord w = true) : w ∈ lw_all := List.mem_filter.mpr ⟨List.mem_of_getElem? h, g⟩
theorem lw_all_tbl {w : Cond} (h : w ∈ lw_all) : w ∈ lw_tbl := (List.mem_filter.mp h).1
theorem lw_self : GoodIn lw_all lw_all := fun w h => ⟨h, good_of_word (List.mem_filter.mp h).2⟩
/-- a class's field words, by their places -/
theorem lw_in (ws : List Cond) (ps : List Nat) (hp : ws = ps.filterMap (fun i => lw_tbl[i]?)) (hg : ws.all goodWord = true) : ∀ w ∈ ws, w ∈ lw_all := by
  intro w h
  have h1 := List.all_eq_true.mp hg w h
  rw [hp] at h
  obtain ⟨i, -, hi⟩ := List.mem_filterMap.mp h
  exact lw_w i hi h1
/-- the words of a contract for the method y with code b, L locals, answer r -/
abbrev ws_ (y : MethodName) (b : ByteArray) (L : Nat) (r : Option FieldType) : List Cond := Cond.code y b L r :: lw_all
theorem lw_meth {y : MethodName} {b : ByteArray} {L : Nat} {r : Option FieldType} (h : Cond.code y b L r ∈ lw_all) : GoodIn lw_all (ws_ y b L r) := by
  intro w hw
  rcases List.mem_cons.mp hw with e | e
  · rw [e]
    exact lw_self _ h
  · exact lw_self _ e
theorem lw_app {a c : List Cond} (ha : ∀ w ∈ a, w ∈ lw_all) (hc : GoodIn lw_all c) : GoodIn lw_all (a ++ c) := by
  intro w hw
  rcases List.mem_append.mp hw with e | e
  · exact lw_self w (ha w e)
  · exact hc w e
/-- what a call through an object asks: cwV n hts (lw_V ..) -/
theorem lw_V {own : String} {idx : Nat} {C : String} {y : MethodName} {b : ByteArray} {L : Nat} {r : Option FieldType} (h1 : Cond.methodLink own idx y ∈ lw_all) (h2 : Cond.instanceMethod y ∈ lw_all) (h3 : Cond.selects C y y ∈ lw_all) (h4 : Cond.initialized C ∈ lw_all) (h5 : Cond.code y b L r ∈ lw_all) : GoodIn lw_all (wsV own idx C y (ws_ y b L r)) := by
  refine lw_app ?_ (lw_meth h5)
  intro w hw
  simp only [List.mem_cons, List.not_mem_nil, or_false] at hw
  rcases hw with e | e | e | e
  · rw [e]; exact h1
  · rw [e]; exact h2
  · rw [e]; exact h3
  · rw [e]; exact h4
/-- what a static call asks: va_cwS n hts (lw_S ..) -/
theorem lw_S {own : String} {idx : Nat} {y : MethodName} {b : ByteArray} {L : Nat} {r : Option FieldType} (h1 : Cond.methodLink own idx y ∈ lw_all) (h2 : Cond.static y ∈ lw_all) (h3 : Cond.initialized y.cls ∈ lw_all) (h4 : Cond.code y b L r ∈ lw_all) : GoodIn lw_all (va_wsS own idx y (ws_ y b L r)) := by
  refine lw_app ?_ (lw_meth h4)
  intro w hw
  simp only [List.mem_cons, List.not_mem_nil, or_false] at hw
  rcases hw with e | e | e
  · rw [e]; exact h1
  · rw [e]; exact h2
  · rw [e]; exact h3
/-- the words of a contract for a method WITH HANDLERS (hh: its table) -/
abbrev wsW_ (y : MethodName) (b : ByteArray) (L : Nat) (r : Option FieldType) (hh : List (Nat × Nat × Nat × Nat)) : List Cond := Cond.codeWith y b L r hh :: lw_all
theorem lw_methW {y : MethodName} {b : ByteArray} {L : Nat} {r : Option FieldType} {hh : List (Nat × Nat × Nat × Nat)} (h : Cond.codeWith y b L r hh ∈ lw_all) : GoodIn lw_all (wsW_ y b L r hh) := by
  intro w hw
  rcases List.mem_cons.mp hw with e | e
  · rw [e]
    exact lw_self _ h
  · exact lw_self _ e
/-- any list of words by their places (lw_in), good -/
theorem lw_good {ws : List Cond} (h : ∀ w ∈ ws, w ∈ lw_all) : GoodIn lw_all ws := fun w hw => lw_self w (h w hw)
/-- what a call of a method with handlers asks: vx_cwVW n hts (lw_VW ..), vx_cwSW n hts (lw_SW ..) -/
theorem lw_VW {own : String} {idx : Nat} {C : String} {y : MethodName} {b : ByteArray} {L : Nat} {r : Option FieldType} {hh : List (Nat × Nat × Nat × Nat)} (h1 : Cond.methodLink own idx y ∈ lw_all) (h2 : Cond.instanceMethod y ∈ lw_all) (h3 : Cond.selects C y y ∈ lw_all) (h4 : Cond.initialized C ∈ lw_all) (h5 : Cond.codeWith y b L r hh ∈ lw_all) : GoodIn lw_all (wsV own idx C y (wsW_ y b L r hh)) := by
  refine lw_app ?_ (lw_methW h5)
  intro w hw
  simp only [List.mem_cons, List.not_mem_nil, or_false] at hw
  rcases hw with e | e | e | e
  · rw [e]; exact h1
  · rw [e]; exact h2
  · rw [e]; exact h3
  · rw [e]; exact h4
theorem lw_SW {own : String} {idx : Nat} {y : MethodName} {b : ByteArray} {L : Nat} {r : Option FieldType} {hh : List (Nat × Nat × Nat × Nat)} (h1 : Cond.methodLink own idx y ∈ lw_all) (h2 : Cond.static y ∈ lw_all) (h3 : Cond.initialized y.cls ∈ lw_all) (h4 : Cond.codeWith y b L r hh ∈ lw_all) : GoodIn lw_all (va_wsS own idx y (wsW_ y b L r hh)) := by
  refine lw_app ?_ (lw_methW h4)
  intro w hw
  simp only [List.mem_cons, List.not_mem_nil, or_false] at hw
  rcases hw with e | e | e
  · rw [e]; exact h1
  · rw [e]; exact h2
  · rw [e]; exact h3
/-- a word by its place in its run of the tables -/
theorem lw_at {r : List Cond} (hr : ∀ w ∈ r, w ∈ lw_tbl) {w : Cond} (i : Nat) (h : r[i]? = some w) : w ∈ lw_tbl := hr w (List.mem_of_getElem? h)
theorem lw_g {w : Cond} (h : w ∈ lw_tbl) (g : goodWord w = true) : w ∈ lw_all := List.mem_filter.mpr ⟨h, g⟩
theorem lw_ms : ∀ w ∈ k2_sels lw_privs, w ∈ lw_tbl := fun w h => show w ∈ k2_sels lw_privs ++ tables_1 from List.mem_append_left _ h
theorem lw_m1 : ∀ w ∈ tables_1_1, w ∈ lw_tbl := fun w h => show w ∈ k2_sels lw_privs ++ tables_1 from List.mem_append_right (k2_sels lw_privs) (show w ∈ tables_1 from List.mem_append_left _ h)
theorem lw_m2 : ∀ w ∈ tables_1_2, w ∈ lw_tbl := fun w h => show w ∈ k2_sels lw_privs ++ tables_1 from List.mem_append_right (k2_sels lw_privs) (show w ∈ tables_1 from List.mem_append_right _ h)
theorem qs0 : (Cond.selects "InvariantFinder" ⟨"InvariantFinder", "takeValue", "(II)V"⟩ ⟨"InvariantFinder", "takeValue", "(II)V"⟩) ∈ lw_all := lw_g (lw_at lw_ms 0 rfl) rfl
theorem qs1 : (Cond.selects "InvariantFinder" ⟨"InvariantFinder", "takeDifferent", "(II)V"⟩ ⟨"InvariantFinder", "takeDifferent", "(II)V"⟩) ∈ lw_all := lw_g (lw_at lw_ms 1 rfl) rfl
theorem qs2 : (Cond.selects "InvariantFinder" ⟨"InvariantFinder", "takePair", "(II)V"⟩ ⟨"InvariantFinder", "takePair", "(II)V"⟩) ∈ lw_all := lw_g (lw_at lw_ms 2 rfl) rfl
theorem qs3 : (Cond.selects "InvariantFinder" ⟨"InvariantFinder", "takeLine", "(III)V"⟩ ⟨"InvariantFinder", "takeLine", "(III)V"⟩) ∈ lw_all := lw_g (lw_at lw_ms 3 rfl) rfl
theorem qs4 : (Cond.selects "InvariantFinder" ⟨"InvariantFinder", "draw", "(IIIII)V"⟩ ⟨"InvariantFinder", "draw", "(IIIII)V"⟩) ∈ lw_all := lw_g (lw_at lw_ms 4 rfl) rfl
theorem qs5 : (Cond.selects "InvariantFinder" ⟨"InvariantFinder", "takeSums", "()V"⟩ ⟨"InvariantFinder", "takeSums", "()V"⟩) ∈ lw_all := lw_g (lw_at lw_ms 5 rfl) rfl
theorem qs6 : (Cond.selects "InvariantFinder" ⟨"InvariantFinder", "hasLine", "(II)Z"⟩ ⟨"InvariantFinder", "hasLine", "(II)Z"⟩) ∈ lw_all := lw_g (lw_at lw_ms 6 rfl) rfl
theorem qs7 : (Cond.selects "InvariantFinderModel" ⟨"InvariantFinderModel", "fits", "(I)Z"⟩ ⟨"InvariantFinderModel", "fits", "(I)Z"⟩) ∈ lw_all := lw_g (lw_at lw_ms 7 rfl) rfl
theorem qs8 : (Cond.selects "InvariantFinderModel" ⟨"InvariantFinderModel", "is", "(I)Z"⟩ ⟨"InvariantFinderModel", "is", "(I)Z"⟩) ∈ lw_all := lw_g (lw_at lw_ms 8 rfl) rfl
theorem qs9 : (Cond.selects "InvariantFinderModel" ⟨"InvariantFinderModel", "modulo", "(II)I"⟩ ⟨"InvariantFinderModel", "modulo", "(II)I"⟩) ∈ lw_all := lw_g (lw_at lw_ms 9 rfl) rfl
theorem qs10 : (Cond.selects "InvariantFinderModel" ⟨"InvariantFinderModel", "holds", "(III)Z"⟩ ⟨"InvariantFinderModel", "holds", "(III)Z"⟩) ∈ lw_all := lw_g (lw_at lw_ms 10 rfl) rfl
theorem qs11 : (Cond.selects "InvariantFinderModel" ⟨"InvariantFinderModel", "find", "(II)Z"⟩ ⟨"InvariantFinderModel", "find", "(II)Z"⟩) ∈ lw_all := lw_g (lw_at lw_ms 11 rfl) rfl
end
section
/-! java/lang/Object -/
set_option maxRecDepth 100000
def RJ0 : String := "java/lang/Object"
abbrev cJ0_init : ByteArray := object_method_1_code
def yJ0_init : MethodName := ⟨RJ0, "<init>", "()V"⟩
theorem q21 : (Jvm.Cond.instanceMethod ({ cls := "java/lang/Object", name := "<init>", desc := "()V" } : Jvm.MethodName)) ∈ lw_all := lw_g (lw_at lw_m1 9 rfl) rfl
theorem q22 : (Jvm.Cond.code ({ cls := "java/lang/Object", name := "<init>", desc := "()V" } : Jvm.MethodName) object_method_1_code (1 : Nat) (Option.none : Option Jvm.ClassFile.FieldType)) ∈ lw_all := lw_g (lw_at lw_m1 10 rfl) rfl

/-! InvariantFinder -/
set_option maxRecDepth 100000
def RX0 : String := "InvariantFinder"
def TX0 : u_T := fun k => match k with
  | 0 => ("InvariantFinder", "count", "I", false)
  | 1 => ("InvariantFinder", "now", "[I", true)
  | 2 => ("InvariantFinder", "first", "[I", true)
  | 3 => ("InvariantFinder", "least", "[I", true)
  | 4 => ("InvariantFinder", "greatest", "[I", true)
  | 5 => ("InvariantFinder", "gap", "[I", true)
  | 6 => ("InvariantFinder", "some", "[I", true)
  | 7 => ("InvariantFinder", "someCount", "[B", true)
  | 8 => ("InvariantFinder", "notLess", "I", false)
  | 9 => ("InvariantFinder", "greater", "I", false)
  | 10 => ("InvariantFinder", "unlike", "I", false)
  | 11 => ("InvariantFinder", "alike", "I", false)
  | 12 => ("InvariantFinder", "lineState", "[B", true)
  | 13 => ("InvariantFinder", "lineP", "[I", true)
  | 14 => ("InvariantFinder", "lineQ", "[I", true)
  | 15 => ("InvariantFinder", "lineR", "[I", true)
  | 16 => ("InvariantFinder", "away", "[I", true)
  | 17 => ("InvariantFinder", "awayBroken", "I", false)
  | _ => ("InvariantFinder", "sumBroken", "J", false)
def tyX0 : Nat → FieldType := fun k => match k with
  | 0 => .int
  | 1 => .array .int
  | 2 => .array .int
  | 3 => .array .int
  | 4 => .array .int
  | 5 => .array .int
  | 6 => .array .int
  | 7 => .array .byte
  | 8 => .int
  | 9 => .int
  | 10 => .int
  | 11 => .int
  | 12 => .array .byte
  | 13 => .array .int
  | 14 => .array .int
  | 15 => .array .int
  | 16 => .array .int
  | 17 => .int
  | _ => .long
abbrev wsX00 : List Cond := u_ws RX0 TX0 19
set_option maxRecDepth 100000 in
theorem nmX0 : ∀ a, a < 19 → ∀ b, b < 19 → a ≠ b → (TX0 a).2.1 ≠ (TX0 b).2.1 := by decide +kernel
set_option maxRecDepth 100000 in
theorem tyX0_ok : ∀ k, k < 19 → parseFieldDescriptor (TX0 k).2.2.1 = some (tyX0 k) := by decide +kernel
abbrev cX0_init : ByteArray := prog_1_method_1_code
def yX0_init : MethodName := ⟨RX0, "<init>", "()V"⟩
abbrev cX0_sample : ByteArray := prog_1_method_5_code
def yX0_sample : MethodName := ⟨RX0, "sample", "(IIII)I"⟩
abbrev cX0_isValue : ByteArray := prog_1_method_4_code
def yX0_isValue : MethodName := ⟨RX0, "isValue", "(I)Z"⟩
abbrev cX0_takeValue : ByteArray := prog_1_method_8_code
def yX0_takeValue : MethodName := ⟨RX0, "takeValue", "(II)V"⟩
abbrev cX0_divisor : ByteArray := prog_1_method_9_code
def yX0_divisor : MethodName := ⟨RX0, "divisor", "(II)I"⟩
abbrev cX0_takeDifferent : ByteArray := prog_1_method_10_code
def yX0_takeDifferent : MethodName := ⟨RX0, "takeDifferent", "(II)V"⟩
abbrev cX0_takePair : ByteArray := prog_1_method_11_code
def yX0_takePair : MethodName := ⟨RX0, "takePair", "(II)V"⟩
abbrev cX0_takeLine : ByteArray := prog_1_method_12_code
def yX0_takeLine : MethodName := ⟨RX0, "takeLine", "(III)V"⟩
abbrev cX0_draw : ByteArray := prog_1_method_13_code
def yX0_draw : MethodName := ⟨RX0, "draw", "(IIIII)V"⟩
abbrev cX0_takeSums : ByteArray := prog_1_method_14_code
def yX0_takeSums : MethodName := ⟨RX0, "takeSums", "()V"⟩
abbrev cX0_clear : ByteArray := prog_1_method_6_code
def yX0_clear : MethodName := ⟨RX0, "clear", "()V"⟩
abbrev cX0_samples : ByteArray := prog_1_method_7_code
def yX0_samples : MethodName := ⟨RX0, "samples", "()I"⟩
abbrev cX0_constant : ByteArray := prog_1_method_15_code
def yX0_constant : MethodName := ⟨RX0, "constant", "(I)I"⟩
abbrev cX0_isVariable : ByteArray := prog_1_method_2_code
def yX0_isVariable : MethodName := ⟨RX0, "isVariable", "(I)Z"⟩
abbrev cX0_bound : ByteArray := prog_1_method_16_code
def yX0_bound : MethodName := ⟨RX0, "bound", "(II)I"⟩
abbrev cX0_different : ByteArray := prog_1_method_17_code
def yX0_different : MethodName := ⟨RX0, "different", "(I)I"⟩
abbrev cX0_valueAt : ByteArray := prog_1_method_18_code
def yX0_valueAt : MethodName := ⟨RX0, "valueAt", "(II)I"⟩
abbrev cX0_modulus : ByteArray := prog_1_method_19_code
def yX0_modulus : MethodName := ⟨RX0, "modulus", "(I)I"⟩
abbrev cX0_remainder : ByteArray := prog_1_method_20_code
def yX0_remainder : MethodName := ⟨RX0, "remainder", "(I)I"⟩
abbrev cX0_relation : ByteArray := prog_1_method_21_code
def yX0_relation : MethodName := ⟨RX0, "relation", "(III)Z"⟩
abbrev cX0_isPair : ByteArray := prog_1_method_3_code
def yX0_isPair : MethodName := ⟨RX0, "isPair", "(II)Z"⟩
abbrev cX0_offset : ByteArray := prog_1_method_22_code
def yX0_offset : MethodName := ⟨RX0, "offset", "(II)I"⟩
abbrev cX0_line : ByteArray := prog_1_method_24_code
def yX0_line : MethodName := ⟨RX0, "line", "(II)I"⟩
abbrev cX0_hasLine : ByteArray := prog_1_method_23_code
def yX0_hasLine : MethodName := ⟨RX0, "hasLine", "(II)Z"⟩
abbrev cX0_slope : ByteArray := prog_1_method_25_code
def yX0_slope : MethodName := ⟨RX0, "slope", "(II)I"⟩
abbrev cX0_rise : ByteArray := prog_1_method_26_code
def yX0_rise : MethodName := ⟨RX0, "rise", "(II)I"⟩
abbrev cX0_equals : ByteArray := prog_1_method_27_code
def yX0_equals : MethodName := ⟨RX0, "equals", "()I"⟩
abbrev cX0_sums : ByteArray := prog_1_method_28_code
def yX0_sums : MethodName := ⟨RX0, "sums", "(III)Z"⟩
theorem q13 : (Jvm.Cond.initialized "InvariantFinder") ∈ lw_all := lw_g (lw_at lw_m1 1 rfl) rfl
theorem q16 : (Jvm.Cond.instantiable "InvariantFinder" (19 : Nat)) ∈ lw_all := lw_g (lw_at lw_m1 4 rfl) rfl
theorem q18 : (Jvm.Cond.instanceMethod ({ cls := "InvariantFinder", name := "<init>", desc := "()V" } : Jvm.MethodName)) ∈ lw_all := lw_g (lw_at lw_m1 6 rfl) rfl
theorem q19 : (Jvm.Cond.code ({ cls := "InvariantFinder", name := "<init>", desc := "()V" } : Jvm.MethodName) prog_1_method_1_code (1 : Nat) (Option.none : Option Jvm.ClassFile.FieldType)) ∈ lw_all := lw_g (lw_at lw_m1 7 rfl) rfl
theorem q20 : (Jvm.Cond.methodLink "InvariantFinder" (1 : Nat) ({ cls := "java/lang/Object", name := "<init>", desc := "()V" } : Jvm.MethodName)) ∈ lw_all := lw_g (lw_at lw_m1 8 rfl) rfl
theorem q23 : (Jvm.Cond.fieldLink "InvariantFinder" (54 : Nat) "InvariantFinder" "count" "I") ∈ lw_all := lw_g (lw_at lw_m1 11 rfl) rfl
theorem q24 : (Jvm.Cond.fieldLink "InvariantFinder" (7 : Nat) "InvariantFinder" "now" "[I") ∈ lw_all := lw_g (lw_at lw_m1 12 rfl) rfl
theorem q25 : (Jvm.Cond.fieldLink "InvariantFinder" (13 : Nat) "InvariantFinder" "first" "[I") ∈ lw_all := lw_g (lw_at lw_m1 13 rfl) rfl
theorem q26 : (Jvm.Cond.fieldLink "InvariantFinder" (16 : Nat) "InvariantFinder" "least" "[I") ∈ lw_all := lw_g (lw_at lw_m1 14 rfl) rfl
theorem q27 : (Jvm.Cond.fieldLink "InvariantFinder" (19 : Nat) "InvariantFinder" "greatest" "[I") ∈ lw_all := lw_g (lw_at lw_m1 15 rfl) rfl
theorem q28 : (Jvm.Cond.fieldLink "InvariantFinder" (22 : Nat) "InvariantFinder" "gap" "[I") ∈ lw_all := lw_g (lw_at lw_m1 16 rfl) rfl
theorem q29 : (Jvm.Cond.fieldLink "InvariantFinder" (25 : Nat) "InvariantFinder" "some" "[I") ∈ lw_all := lw_g (lw_at lw_m1 17 rfl) rfl
theorem q30 : (Jvm.Cond.fieldLink "InvariantFinder" (28 : Nat) "InvariantFinder" "someCount" "[B") ∈ lw_all := lw_g (lw_at lw_m1 18 rfl) rfl
theorem q31 : (Jvm.Cond.fieldLink "InvariantFinder" (68 : Nat) "InvariantFinder" "notLess" "I") ∈ lw_all := lw_g (lw_at lw_m1 19 rfl) rfl
theorem q32 : (Jvm.Cond.fieldLink "InvariantFinder" (71 : Nat) "InvariantFinder" "greater" "I") ∈ lw_all := lw_g (lw_at lw_m1 20 rfl) rfl
theorem q33 : (Jvm.Cond.fieldLink "InvariantFinder" (74 : Nat) "InvariantFinder" "unlike" "I") ∈ lw_all := lw_g (lw_at lw_m1 21 rfl) rfl
theorem q34 : (Jvm.Cond.fieldLink "InvariantFinder" (77 : Nat) "InvariantFinder" "alike" "I") ∈ lw_all := lw_g (lw_at lw_m1 22 rfl) rfl
theorem q35 : (Jvm.Cond.fieldLink "InvariantFinder" (32 : Nat) "InvariantFinder" "lineState" "[B") ∈ lw_all := lw_g (lw_at lw_m1 23 rfl) rfl
theorem q36 : (Jvm.Cond.fieldLink "InvariantFinder" (35 : Nat) "InvariantFinder" "lineP" "[I") ∈ lw_all := lw_g (lw_at lw_m1 24 rfl) rfl
theorem q37 : (Jvm.Cond.fieldLink "InvariantFinder" (38 : Nat) "InvariantFinder" "lineQ" "[I") ∈ lw_all := lw_g (lw_at lw_m1 25 rfl) rfl
theorem q38 : (Jvm.Cond.fieldLink "InvariantFinder" (41 : Nat) "InvariantFinder" "lineR" "[I") ∈ lw_all := lw_g (lw_at lw_m1 26 rfl) rfl
theorem q39 : (Jvm.Cond.fieldLink "InvariantFinder" (44 : Nat) "InvariantFinder" "away" "[I") ∈ lw_all := lw_g (lw_at lw_m1 27 rfl) rfl
theorem q40 : (Jvm.Cond.fieldLink "InvariantFinder" (80 : Nat) "InvariantFinder" "awayBroken" "I") ∈ lw_all := lw_g (lw_at lw_m1 28 rfl) rfl
theorem q41 : (Jvm.Cond.fieldLink "InvariantFinder" (83 : Nat) "InvariantFinder" "sumBroken" "J") ∈ lw_all := lw_g (lw_at lw_m1 29 rfl) rfl
theorem q42 : (Jvm.Cond.lays "InvariantFinder" "InvariantFinder" "count" "I") ∈ lw_all := lw_g (lw_at lw_m1 30 rfl) rfl
theorem q43 : (Jvm.Cond.soleField "InvariantFinder" "count") ∈ lw_all := lw_g (lw_at lw_m1 31 rfl) rfl
theorem q44 : (Jvm.Cond.laysFinal "InvariantFinder" "InvariantFinder" "now" "[I") ∈ lw_all := lw_g (lw_at lw_m1 32 rfl) rfl
theorem q45 : (Jvm.Cond.soleField "InvariantFinder" "now") ∈ lw_all := lw_g (lw_at lw_m1 33 rfl) rfl
theorem q46 : (Jvm.Cond.laysFinal "InvariantFinder" "InvariantFinder" "first" "[I") ∈ lw_all := lw_g (lw_at lw_m1 34 rfl) rfl
theorem q47 : (Jvm.Cond.soleField "InvariantFinder" "first") ∈ lw_all := lw_g (lw_at lw_m1 35 rfl) rfl
theorem q48 : (Jvm.Cond.laysFinal "InvariantFinder" "InvariantFinder" "least" "[I") ∈ lw_all := lw_g (lw_at lw_m1 36 rfl) rfl
theorem q49 : (Jvm.Cond.soleField "InvariantFinder" "least") ∈ lw_all := lw_g (lw_at lw_m1 37 rfl) rfl
theorem q50 : (Jvm.Cond.laysFinal "InvariantFinder" "InvariantFinder" "greatest" "[I") ∈ lw_all := lw_g (lw_at lw_m1 38 rfl) rfl
theorem q51 : (Jvm.Cond.soleField "InvariantFinder" "greatest") ∈ lw_all := lw_g (lw_at lw_m1 39 rfl) rfl
theorem q52 : (Jvm.Cond.laysFinal "InvariantFinder" "InvariantFinder" "gap" "[I") ∈ lw_all := lw_g (lw_at lw_m1 40 rfl) rfl
theorem q53 : (Jvm.Cond.soleField "InvariantFinder" "gap") ∈ lw_all := lw_g (lw_at lw_m1 41 rfl) rfl
theorem q54 : (Jvm.Cond.laysFinal "InvariantFinder" "InvariantFinder" "some" "[I") ∈ lw_all := lw_g (lw_at lw_m1 42 rfl) rfl
theorem q55 : (Jvm.Cond.soleField "InvariantFinder" "some") ∈ lw_all := lw_g (lw_at lw_m1 43 rfl) rfl
theorem q56 : (Jvm.Cond.laysFinal "InvariantFinder" "InvariantFinder" "someCount" "[B") ∈ lw_all := lw_g (lw_at lw_m1 44 rfl) rfl
theorem q57 : (Jvm.Cond.soleField "InvariantFinder" "someCount") ∈ lw_all := lw_g (lw_at lw_m1 45 rfl) rfl
theorem q58 : (Jvm.Cond.lays "InvariantFinder" "InvariantFinder" "notLess" "I") ∈ lw_all := lw_g (lw_at lw_m1 46 rfl) rfl
theorem q59 : (Jvm.Cond.soleField "InvariantFinder" "notLess") ∈ lw_all := lw_g (lw_at lw_m1 47 rfl) rfl
theorem q60 : (Jvm.Cond.lays "InvariantFinder" "InvariantFinder" "greater" "I") ∈ lw_all := lw_g (lw_at lw_m1 48 rfl) rfl
theorem q61 : (Jvm.Cond.soleField "InvariantFinder" "greater") ∈ lw_all := lw_g (lw_at lw_m1 49 rfl) rfl
theorem q62 : (Jvm.Cond.lays "InvariantFinder" "InvariantFinder" "unlike" "I") ∈ lw_all := lw_g (lw_at lw_m1 50 rfl) rfl
theorem q63 : (Jvm.Cond.soleField "InvariantFinder" "unlike") ∈ lw_all := lw_g (lw_at lw_m1 51 rfl) rfl
theorem q64 : (Jvm.Cond.lays "InvariantFinder" "InvariantFinder" "alike" "I") ∈ lw_all := lw_g (lw_at lw_m1 52 rfl) rfl
theorem q65 : (Jvm.Cond.soleField "InvariantFinder" "alike") ∈ lw_all := lw_g (lw_at lw_m1 53 rfl) rfl
theorem q66 : (Jvm.Cond.laysFinal "InvariantFinder" "InvariantFinder" "lineState" "[B") ∈ lw_all := lw_g (lw_at lw_m1 54 rfl) rfl
theorem q67 : (Jvm.Cond.soleField "InvariantFinder" "lineState") ∈ lw_all := lw_g (lw_at lw_m1 55 rfl) rfl
theorem q68 : (Jvm.Cond.laysFinal "InvariantFinder" "InvariantFinder" "lineP" "[I") ∈ lw_all := lw_g (lw_at lw_m1 56 rfl) rfl
theorem q69 : (Jvm.Cond.soleField "InvariantFinder" "lineP") ∈ lw_all := lw_g (lw_at lw_m1 57 rfl) rfl
theorem q70 : (Jvm.Cond.laysFinal "InvariantFinder" "InvariantFinder" "lineQ" "[I") ∈ lw_all := lw_g (lw_at lw_m1 58 rfl) rfl
theorem q71 : (Jvm.Cond.soleField "InvariantFinder" "lineQ") ∈ lw_all := lw_g (lw_at lw_m1 59 rfl) rfl
theorem q72 : (Jvm.Cond.laysFinal "InvariantFinder" "InvariantFinder" "lineR" "[I") ∈ lw_all := lw_g (lw_at lw_m1 60 rfl) rfl
theorem q73 : (Jvm.Cond.soleField "InvariantFinder" "lineR") ∈ lw_all := lw_g (lw_at lw_m1 61 rfl) rfl
theorem q74 : (Jvm.Cond.laysFinal "InvariantFinder" "InvariantFinder" "away" "[I") ∈ lw_all := lw_g (lw_at lw_m1 62 rfl) rfl
theorem q75 : (Jvm.Cond.soleField "InvariantFinder" "away") ∈ lw_all := lw_g (lw_at lw_m1 63 rfl) rfl
theorem q76 : (Jvm.Cond.lays "InvariantFinder" "InvariantFinder" "awayBroken" "I") ∈ lw_all := lw_g (lw_at lw_m1 64 rfl) rfl
theorem q77 : (Jvm.Cond.soleField "InvariantFinder" "awayBroken") ∈ lw_all := lw_g (lw_at lw_m1 65 rfl) rfl
theorem q78 : (Jvm.Cond.lays "InvariantFinder" "InvariantFinder" "sumBroken" "J") ∈ lw_all := lw_g (lw_at lw_m1 66 rfl) rfl
theorem q79 : (Jvm.Cond.soleField "InvariantFinder" "sumBroken") ∈ lw_all := lw_g (lw_at lw_m1 67 rfl) rfl
theorem q80 : (Jvm.Cond.superclass "InvariantFinder" "java/lang/Object") ∈ lw_all := lw_g (lw_at lw_m1 68 rfl) rfl
theorem q84 : (Jvm.Cond.instanceMethod ({ cls := "InvariantFinder", name := "sample", desc := "(IIII)I" } : Jvm.MethodName)) ∈ lw_all := lw_g (lw_at lw_m1 72 rfl) rfl
theorem q85 : (Jvm.Cond.selects "InvariantFinder" ({ cls := "InvariantFinder", name := "sample", desc := "(IIII)I" } : Jvm.MethodName) ({ cls := "InvariantFinder", name := "sample", desc := "(IIII)I" } : Jvm.MethodName)) ∈ lw_all := lw_g (lw_at lw_m1 73 rfl) rfl
theorem q86 : (Jvm.Cond.code ({ cls := "InvariantFinder", name := "sample", desc := "(IIII)I" } : Jvm.MethodName) prog_1_method_5_code (7 : Nat) (Option.some Jvm.ClassFile.FieldType.int)) ∈ lw_all := lw_g (lw_at lw_m1 74 rfl) rfl
theorem q87 : (Jvm.Cond.methodLink "InvariantFinder" (51 : Nat) ({ cls := "InvariantFinder", name := "isValue", desc := "(I)Z" } : Jvm.MethodName)) ∈ lw_all := lw_g (lw_at lw_m1 75 rfl) rfl
theorem q88 : (Jvm.Cond.static ({ cls := "InvariantFinder", name := "isValue", desc := "(I)Z" } : Jvm.MethodName)) ∈ lw_all := lw_g (lw_at lw_m1 76 rfl) rfl
theorem q89 : (Jvm.Cond.code ({ cls := "InvariantFinder", name := "isValue", desc := "(I)Z" } : Jvm.MethodName) prog_1_method_4_code (1 : Nat) (Option.some Jvm.ClassFile.FieldType.boolean)) ∈ lw_all := lw_g (lw_at lw_m1 77 rfl) rfl
theorem q90 : (Jvm.Cond.methodLink "InvariantFinder" (58 : Nat) ({ cls := "InvariantFinder", name := "takeValue", desc := "(II)V" } : Jvm.MethodName)) ∈ lw_all := lw_g (lw_at lw_m1 78 rfl) rfl
theorem q91 : (Jvm.Cond.privateMethod ({ cls := "InvariantFinder", name := "takeValue", desc := "(II)V" } : Jvm.MethodName)) ∈ lw_tbl := lw_at lw_m1 79 rfl
theorem q92 : (Jvm.Cond.instanceMethod ({ cls := "InvariantFinder", name := "takeValue", desc := "(II)V" } : Jvm.MethodName)) ∈ lw_all := lw_g (lw_at lw_m1 80 rfl) rfl
theorem q93 : (Jvm.Cond.code ({ cls := "InvariantFinder", name := "takeValue", desc := "(II)V" } : Jvm.MethodName) prog_1_method_8_code (3 : Nat) (Option.none : Option Jvm.ClassFile.FieldType)) ∈ lw_all := lw_g (lw_at lw_m1 81 rfl) rfl
theorem q94 : (Jvm.Cond.methodLink "InvariantFinder" (87 : Nat) ({ cls := "InvariantFinder", name := "divisor", desc := "(II)I" } : Jvm.MethodName)) ∈ lw_all := lw_g (lw_at lw_m1 82 rfl) rfl
theorem q95 : (Jvm.Cond.static ({ cls := "InvariantFinder", name := "divisor", desc := "(II)I" } : Jvm.MethodName)) ∈ lw_all := lw_g (lw_at lw_m1 83 rfl) rfl
theorem q96 : (Jvm.Cond.code ({ cls := "InvariantFinder", name := "divisor", desc := "(II)I" } : Jvm.MethodName) prog_1_method_9_code (6 : Nat) (Option.some Jvm.ClassFile.FieldType.int)) ∈ lw_all := lw_g (lw_at lw_m1 84 rfl) rfl
theorem q97 : (Jvm.Cond.methodLink "InvariantFinder" (91 : Nat) ({ cls := "InvariantFinder", name := "takeDifferent", desc := "(II)V" } : Jvm.MethodName)) ∈ lw_all := lw_g (lw_at lw_m1 85 rfl) rfl
theorem q98 : (Jvm.Cond.privateMethod ({ cls := "InvariantFinder", name := "takeDifferent", desc := "(II)V" } : Jvm.MethodName)) ∈ lw_tbl := lw_at lw_m1 86 rfl
theorem q99 : (Jvm.Cond.instanceMethod ({ cls := "InvariantFinder", name := "takeDifferent", desc := "(II)V" } : Jvm.MethodName)) ∈ lw_all := lw_g (lw_at lw_m1 87 rfl) rfl
theorem q100 : (Jvm.Cond.code ({ cls := "InvariantFinder", name := "takeDifferent", desc := "(II)V" } : Jvm.MethodName) prog_1_method_10_code (5 : Nat) (Option.none : Option Jvm.ClassFile.FieldType)) ∈ lw_all := lw_g (lw_at lw_m1 88 rfl) rfl
theorem q101 : (Jvm.Cond.methodLink "InvariantFinder" (62 : Nat) ({ cls := "InvariantFinder", name := "takePair", desc := "(II)V" } : Jvm.MethodName)) ∈ lw_all := lw_g (lw_at lw_m1 89 rfl) rfl
theorem q102 : (Jvm.Cond.privateMethod ({ cls := "InvariantFinder", name := "takePair", desc := "(II)V" } : Jvm.MethodName)) ∈ lw_tbl := lw_at lw_m1 90 rfl
theorem q103 : (Jvm.Cond.instanceMethod ({ cls := "InvariantFinder", name := "takePair", desc := "(II)V" } : Jvm.MethodName)) ∈ lw_all := lw_g (lw_at lw_m1 91 rfl) rfl
theorem q104 : (Jvm.Cond.code ({ cls := "InvariantFinder", name := "takePair", desc := "(II)V" } : Jvm.MethodName) prog_1_method_11_code (6 : Nat) (Option.none : Option Jvm.ClassFile.FieldType)) ∈ lw_all := lw_g (lw_at lw_m1 92 rfl) rfl
theorem q105 : (Jvm.Cond.methodLink "InvariantFinder" (94 : Nat) ({ cls := "InvariantFinder", name := "takeLine", desc := "(III)V" } : Jvm.MethodName)) ∈ lw_all := lw_g (lw_at lw_m1 93 rfl) rfl
theorem q106 : (Jvm.Cond.privateMethod ({ cls := "InvariantFinder", name := "takeLine", desc := "(III)V" } : Jvm.MethodName)) ∈ lw_tbl := lw_at lw_m1 94 rfl
theorem q107 : (Jvm.Cond.instanceMethod ({ cls := "InvariantFinder", name := "takeLine", desc := "(III)V" } : Jvm.MethodName)) ∈ lw_all := lw_g (lw_at lw_m1 95 rfl) rfl
theorem q108 : (Jvm.Cond.code ({ cls := "InvariantFinder", name := "takeLine", desc := "(III)V" } : Jvm.MethodName) prog_1_method_12_code (6 : Nat) (Option.none : Option Jvm.ClassFile.FieldType)) ∈ lw_all := lw_g (lw_at lw_m1 96 rfl) rfl
theorem q109 : (Jvm.Cond.methodLink "InvariantFinder" (98 : Nat) ({ cls := "InvariantFinder", name := "draw", desc := "(IIIII)V" } : Jvm.MethodName)) ∈ lw_all := lw_g (lw_at lw_m1 97 rfl) rfl
theorem q110 : (Jvm.Cond.privateMethod ({ cls := "InvariantFinder", name := "draw", desc := "(IIIII)V" } : Jvm.MethodName)) ∈ lw_tbl := lw_at lw_m1 98 rfl
theorem q111 : (Jvm.Cond.instanceMethod ({ cls := "InvariantFinder", name := "draw", desc := "(IIIII)V" } : Jvm.MethodName)) ∈ lw_all := lw_g (lw_at lw_m1 99 rfl) rfl
theorem q112 : (Jvm.Cond.code ({ cls := "InvariantFinder", name := "draw", desc := "(IIIII)V" } : Jvm.MethodName) prog_1_method_13_code (10 : Nat) (Option.none : Option Jvm.ClassFile.FieldType)) ∈ lw_all := lw_g (lw_at lw_m1 100 rfl) rfl
theorem q113 : (Jvm.Cond.methodLink "InvariantFinder" (65 : Nat) ({ cls := "InvariantFinder", name := "takeSums", desc := "()V" } : Jvm.MethodName)) ∈ lw_all := lw_g (lw_at lw_m1 101 rfl) rfl
theorem q114 : (Jvm.Cond.privateMethod ({ cls := "InvariantFinder", name := "takeSums", desc := "()V" } : Jvm.MethodName)) ∈ lw_tbl := lw_at lw_m1 102 rfl
theorem q115 : (Jvm.Cond.instanceMethod ({ cls := "InvariantFinder", name := "takeSums", desc := "()V" } : Jvm.MethodName)) ∈ lw_all := lw_g (lw_at lw_m1 103 rfl) rfl
theorem q116 : (Jvm.Cond.code ({ cls := "InvariantFinder", name := "takeSums", desc := "()V" } : Jvm.MethodName) prog_1_method_14_code (3 : Nat) (Option.none : Option Jvm.ClassFile.FieldType)) ∈ lw_all := lw_g (lw_at lw_m1 104 rfl) rfl
theorem q118 : (Jvm.Cond.instanceMethod ({ cls := "InvariantFinder", name := "clear", desc := "()V" } : Jvm.MethodName)) ∈ lw_all := lw_g (lw_at lw_m1 106 rfl) rfl
theorem q119 : (Jvm.Cond.selects "InvariantFinder" ({ cls := "InvariantFinder", name := "clear", desc := "()V" } : Jvm.MethodName) ({ cls := "InvariantFinder", name := "clear", desc := "()V" } : Jvm.MethodName)) ∈ lw_all := lw_g (lw_at lw_m1 107 rfl) rfl
theorem q120 : (Jvm.Cond.code ({ cls := "InvariantFinder", name := "clear", desc := "()V" } : Jvm.MethodName) prog_1_method_6_code (2 : Nat) (Option.none : Option Jvm.ClassFile.FieldType)) ∈ lw_all := lw_g (lw_at lw_m1 108 rfl) rfl
theorem q122 : (Jvm.Cond.instanceMethod ({ cls := "InvariantFinder", name := "samples", desc := "()I" } : Jvm.MethodName)) ∈ lw_all := lw_g (lw_at lw_m1 110 rfl) rfl
theorem q123 : (Jvm.Cond.selects "InvariantFinder" ({ cls := "InvariantFinder", name := "samples", desc := "()I" } : Jvm.MethodName) ({ cls := "InvariantFinder", name := "samples", desc := "()I" } : Jvm.MethodName)) ∈ lw_all := lw_g (lw_at lw_m1 111 rfl) rfl
theorem q124 : (Jvm.Cond.code ({ cls := "InvariantFinder", name := "samples", desc := "()I" } : Jvm.MethodName) prog_1_method_7_code (1 : Nat) (Option.some Jvm.ClassFile.FieldType.int)) ∈ lw_all := lw_g (lw_at lw_m1 112 rfl) rfl
theorem q126 : (Jvm.Cond.instanceMethod ({ cls := "InvariantFinder", name := "constant", desc := "(I)I" } : Jvm.MethodName)) ∈ lw_all := lw_g (lw_at lw_m1 114 rfl) rfl
theorem q127 : (Jvm.Cond.selects "InvariantFinder" ({ cls := "InvariantFinder", name := "constant", desc := "(I)I" } : Jvm.MethodName) ({ cls := "InvariantFinder", name := "constant", desc := "(I)I" } : Jvm.MethodName)) ∈ lw_all := lw_g (lw_at lw_m1 115 rfl) rfl
theorem q128 : (Jvm.Cond.code ({ cls := "InvariantFinder", name := "constant", desc := "(I)I" } : Jvm.MethodName) prog_1_method_15_code (2 : Nat) (Option.some Jvm.ClassFile.FieldType.int)) ∈ lw_all := lw_g (lw_at lw_m1 116 rfl) rfl
theorem q129 : (Jvm.Cond.methodLink "InvariantFinder" (47 : Nat) ({ cls := "InvariantFinder", name := "isVariable", desc := "(I)Z" } : Jvm.MethodName)) ∈ lw_all := lw_g (lw_at lw_m1 117 rfl) rfl
theorem q130 : (Jvm.Cond.static ({ cls := "InvariantFinder", name := "isVariable", desc := "(I)Z" } : Jvm.MethodName)) ∈ lw_all := lw_g (lw_at lw_m1 118 rfl) rfl
theorem q131 : (Jvm.Cond.code ({ cls := "InvariantFinder", name := "isVariable", desc := "(I)Z" } : Jvm.MethodName) prog_1_method_2_code (1 : Nat) (Option.some Jvm.ClassFile.FieldType.boolean)) ∈ lw_all := lw_g (lw_at lw_m1 119 rfl) rfl
theorem q133 : (Jvm.Cond.instanceMethod ({ cls := "InvariantFinder", name := "bound", desc := "(II)I" } : Jvm.MethodName)) ∈ lw_all := lw_g (lw_at lw_m1 121 rfl) rfl
theorem q134 : (Jvm.Cond.selects "InvariantFinder" ({ cls := "InvariantFinder", name := "bound", desc := "(II)I" } : Jvm.MethodName) ({ cls := "InvariantFinder", name := "bound", desc := "(II)I" } : Jvm.MethodName)) ∈ lw_all := lw_g (lw_at lw_m1 122 rfl) rfl
theorem q135 : (Jvm.Cond.code ({ cls := "InvariantFinder", name := "bound", desc := "(II)I" } : Jvm.MethodName) prog_1_method_16_code (3 : Nat) (Option.some Jvm.ClassFile.FieldType.int)) ∈ lw_all := lw_g (lw_at lw_m1 123 rfl) rfl
theorem q137 : (Jvm.Cond.instanceMethod ({ cls := "InvariantFinder", name := "different", desc := "(I)I" } : Jvm.MethodName)) ∈ lw_all := lw_g (lw_at lw_m1 125 rfl) rfl
theorem q138 : (Jvm.Cond.selects "InvariantFinder" ({ cls := "InvariantFinder", name := "different", desc := "(I)I" } : Jvm.MethodName) ({ cls := "InvariantFinder", name := "different", desc := "(I)I" } : Jvm.MethodName)) ∈ lw_all := lw_g (lw_at lw_m1 126 rfl) rfl
theorem q139 : (Jvm.Cond.code ({ cls := "InvariantFinder", name := "different", desc := "(I)I" } : Jvm.MethodName) prog_1_method_17_code (2 : Nat) (Option.some Jvm.ClassFile.FieldType.int)) ∈ lw_all := lw_g (lw_at lw_m1 127 rfl) rfl
theorem q141 : (Jvm.Cond.instanceMethod ({ cls := "InvariantFinder", name := "valueAt", desc := "(II)I" } : Jvm.MethodName)) ∈ lw_all := lw_g (lw_at lw_m1 129 rfl) rfl
theorem q142 : (Jvm.Cond.selects "InvariantFinder" ({ cls := "InvariantFinder", name := "valueAt", desc := "(II)I" } : Jvm.MethodName) ({ cls := "InvariantFinder", name := "valueAt", desc := "(II)I" } : Jvm.MethodName)) ∈ lw_all := lw_g (lw_at lw_m1 130 rfl) rfl
theorem q143 : (Jvm.Cond.code ({ cls := "InvariantFinder", name := "valueAt", desc := "(II)I" } : Jvm.MethodName) prog_1_method_18_code (3 : Nat) (Option.some Jvm.ClassFile.FieldType.int)) ∈ lw_all := lw_g (lw_at lw_m1 131 rfl) rfl
theorem q145 : (Jvm.Cond.instanceMethod ({ cls := "InvariantFinder", name := "modulus", desc := "(I)I" } : Jvm.MethodName)) ∈ lw_all := lw_g (lw_at lw_m1 133 rfl) rfl
theorem q146 : (Jvm.Cond.selects "InvariantFinder" ({ cls := "InvariantFinder", name := "modulus", desc := "(I)I" } : Jvm.MethodName) ({ cls := "InvariantFinder", name := "modulus", desc := "(I)I" } : Jvm.MethodName)) ∈ lw_all := lw_g (lw_at lw_m1 134 rfl) rfl
theorem q147 : (Jvm.Cond.code ({ cls := "InvariantFinder", name := "modulus", desc := "(I)I" } : Jvm.MethodName) prog_1_method_19_code (2 : Nat) (Option.some Jvm.ClassFile.FieldType.int)) ∈ lw_all := lw_g (lw_at lw_m1 135 rfl) rfl
theorem q149 : (Jvm.Cond.instanceMethod ({ cls := "InvariantFinder", name := "remainder", desc := "(I)I" } : Jvm.MethodName)) ∈ lw_all := lw_g (lw_at lw_m1 137 rfl) rfl
theorem q150 : (Jvm.Cond.selects "InvariantFinder" ({ cls := "InvariantFinder", name := "remainder", desc := "(I)I" } : Jvm.MethodName) ({ cls := "InvariantFinder", name := "remainder", desc := "(I)I" } : Jvm.MethodName)) ∈ lw_all := lw_g (lw_at lw_m1 138 rfl) rfl
theorem q151 : (Jvm.Cond.code ({ cls := "InvariantFinder", name := "remainder", desc := "(I)I" } : Jvm.MethodName) prog_1_method_20_code (4 : Nat) (Option.some Jvm.ClassFile.FieldType.int)) ∈ lw_all := lw_g (lw_at lw_m1 139 rfl) rfl
theorem q152 : (Jvm.Cond.methodLink "InvariantFinder" (102 : Nat) ({ cls := "InvariantFinder", name := "modulus", desc := "(I)I" } : Jvm.MethodName)) ∈ lw_all := lw_g (lw_at lw_m1 140 rfl) rfl
theorem q154 : (Jvm.Cond.instanceMethod ({ cls := "InvariantFinder", name := "relation", desc := "(III)Z" } : Jvm.MethodName)) ∈ lw_all := lw_g (lw_at lw_m1 142 rfl) rfl
theorem q155 : (Jvm.Cond.selects "InvariantFinder" ({ cls := "InvariantFinder", name := "relation", desc := "(III)Z" } : Jvm.MethodName) ({ cls := "InvariantFinder", name := "relation", desc := "(III)Z" } : Jvm.MethodName)) ∈ lw_all := lw_g (lw_at lw_m1 143 rfl) rfl
theorem q156 : (Jvm.Cond.code ({ cls := "InvariantFinder", name := "relation", desc := "(III)Z" } : Jvm.MethodName) prog_1_method_21_code (5 : Nat) (Option.some Jvm.ClassFile.FieldType.boolean)) ∈ lw_all := lw_g (lw_at lw_m1 144 rfl) rfl
theorem q157 : (Jvm.Cond.methodLink "InvariantFinder" (106 : Nat) ({ cls := "InvariantFinder", name := "isPair", desc := "(II)Z" } : Jvm.MethodName)) ∈ lw_all := lw_g (lw_at lw_m1 145 rfl) rfl
theorem q158 : (Jvm.Cond.static ({ cls := "InvariantFinder", name := "isPair", desc := "(II)Z" } : Jvm.MethodName)) ∈ lw_all := lw_g (lw_at lw_m1 146 rfl) rfl
theorem q159 : (Jvm.Cond.code ({ cls := "InvariantFinder", name := "isPair", desc := "(II)Z" } : Jvm.MethodName) prog_1_method_3_code (2 : Nat) (Option.some Jvm.ClassFile.FieldType.boolean)) ∈ lw_all := lw_g (lw_at lw_m1 147 rfl) rfl
theorem q161 : (Jvm.Cond.instanceMethod ({ cls := "InvariantFinder", name := "offset", desc := "(II)I" } : Jvm.MethodName)) ∈ lw_all := lw_g (lw_at lw_m1 149 rfl) rfl
theorem q162 : (Jvm.Cond.selects "InvariantFinder" ({ cls := "InvariantFinder", name := "offset", desc := "(II)I" } : Jvm.MethodName) ({ cls := "InvariantFinder", name := "offset", desc := "(II)I" } : Jvm.MethodName)) ∈ lw_all := lw_g (lw_at lw_m1 150 rfl) rfl
theorem q163 : (Jvm.Cond.code ({ cls := "InvariantFinder", name := "offset", desc := "(II)I" } : Jvm.MethodName) prog_1_method_22_code (4 : Nat) (Option.some Jvm.ClassFile.FieldType.int)) ∈ lw_all := lw_g (lw_at lw_m1 151 rfl) rfl
theorem q165 : (Jvm.Cond.instanceMethod ({ cls := "InvariantFinder", name := "line", desc := "(II)I" } : Jvm.MethodName)) ∈ lw_all := lw_g (lw_at lw_m1 153 rfl) rfl
theorem q166 : (Jvm.Cond.selects "InvariantFinder" ({ cls := "InvariantFinder", name := "line", desc := "(II)I" } : Jvm.MethodName) ({ cls := "InvariantFinder", name := "line", desc := "(II)I" } : Jvm.MethodName)) ∈ lw_all := lw_g (lw_at lw_m1 154 rfl) rfl
theorem q167 : (Jvm.Cond.code ({ cls := "InvariantFinder", name := "line", desc := "(II)I" } : Jvm.MethodName) prog_1_method_24_code (3 : Nat) (Option.some Jvm.ClassFile.FieldType.int)) ∈ lw_all := lw_g (lw_at lw_m1 155 rfl) rfl
theorem q168 : (Jvm.Cond.methodLink "InvariantFinder" (110 : Nat) ({ cls := "InvariantFinder", name := "hasLine", desc := "(II)Z" } : Jvm.MethodName)) ∈ lw_all := lw_g (lw_at lw_m1 156 rfl) rfl
theorem q169 : (Jvm.Cond.privateMethod ({ cls := "InvariantFinder", name := "hasLine", desc := "(II)Z" } : Jvm.MethodName)) ∈ lw_tbl := lw_at lw_m1 157 rfl
theorem q170 : (Jvm.Cond.instanceMethod ({ cls := "InvariantFinder", name := "hasLine", desc := "(II)Z" } : Jvm.MethodName)) ∈ lw_all := lw_g (lw_at lw_m1 158 rfl) rfl
theorem q171 : (Jvm.Cond.code ({ cls := "InvariantFinder", name := "hasLine", desc := "(II)Z" } : Jvm.MethodName) prog_1_method_23_code (3 : Nat) (Option.some Jvm.ClassFile.FieldType.boolean)) ∈ lw_all := lw_g (lw_at lw_m1 159 rfl) rfl
theorem q173 : (Jvm.Cond.instanceMethod ({ cls := "InvariantFinder", name := "slope", desc := "(II)I" } : Jvm.MethodName)) ∈ lw_all := lw_g (lw_at lw_m1 161 rfl) rfl
theorem q174 : (Jvm.Cond.selects "InvariantFinder" ({ cls := "InvariantFinder", name := "slope", desc := "(II)I" } : Jvm.MethodName) ({ cls := "InvariantFinder", name := "slope", desc := "(II)I" } : Jvm.MethodName)) ∈ lw_all := lw_g (lw_at lw_m1 162 rfl) rfl
theorem q175 : (Jvm.Cond.code ({ cls := "InvariantFinder", name := "slope", desc := "(II)I" } : Jvm.MethodName) prog_1_method_25_code (3 : Nat) (Option.some Jvm.ClassFile.FieldType.int)) ∈ lw_all := lw_g (lw_at lw_m1 163 rfl) rfl
theorem q177 : (Jvm.Cond.instanceMethod ({ cls := "InvariantFinder", name := "rise", desc := "(II)I" } : Jvm.MethodName)) ∈ lw_all := lw_g (lw_at lw_m1 165 rfl) rfl
theorem q178 : (Jvm.Cond.selects "InvariantFinder" ({ cls := "InvariantFinder", name := "rise", desc := "(II)I" } : Jvm.MethodName) ({ cls := "InvariantFinder", name := "rise", desc := "(II)I" } : Jvm.MethodName)) ∈ lw_all := lw_g (lw_at lw_m1 166 rfl) rfl
theorem q179 : (Jvm.Cond.code ({ cls := "InvariantFinder", name := "rise", desc := "(II)I" } : Jvm.MethodName) prog_1_method_26_code (3 : Nat) (Option.some Jvm.ClassFile.FieldType.int)) ∈ lw_all := lw_g (lw_at lw_m1 167 rfl) rfl
theorem q181 : (Jvm.Cond.instanceMethod ({ cls := "InvariantFinder", name := "equals", desc := "()I" } : Jvm.MethodName)) ∈ lw_all := lw_g (lw_at lw_m1 169 rfl) rfl
theorem q182 : (Jvm.Cond.selects "InvariantFinder" ({ cls := "InvariantFinder", name := "equals", desc := "()I" } : Jvm.MethodName) ({ cls := "InvariantFinder", name := "equals", desc := "()I" } : Jvm.MethodName)) ∈ lw_all := lw_g (lw_at lw_m1 170 rfl) rfl
theorem q183 : (Jvm.Cond.code ({ cls := "InvariantFinder", name := "equals", desc := "()I" } : Jvm.MethodName) prog_1_method_27_code (5 : Nat) (Option.some Jvm.ClassFile.FieldType.int)) ∈ lw_all := lw_g (lw_at lw_m1 171 rfl) rfl
theorem q185 : (Jvm.Cond.instanceMethod ({ cls := "InvariantFinder", name := "sums", desc := "(III)Z" } : Jvm.MethodName)) ∈ lw_all := lw_g (lw_at lw_m1 173 rfl) rfl
theorem q186 : (Jvm.Cond.selects "InvariantFinder" ({ cls := "InvariantFinder", name := "sums", desc := "(III)Z" } : Jvm.MethodName) ({ cls := "InvariantFinder", name := "sums", desc := "(III)Z" } : Jvm.MethodName)) ∈ lw_all := lw_g (lw_at lw_m1 174 rfl) rfl
theorem q187 : (Jvm.Cond.code ({ cls := "InvariantFinder", name := "sums", desc := "(III)Z" } : Jvm.MethodName) prog_1_method_28_code (4 : Nat) (Option.some Jvm.ClassFile.FieldType.boolean)) ∈ lw_all := lw_g (lw_at lw_m1 175 rfl) rfl
theorem in_X0 : ∀ w ∈ wsX00, w ∈ lw_all := lw_in wsX00 [42, 44, 46, 48, 50, 52, 54, 56, 58, 60, 62, 64, 66, 68, 70, 72, 74, 76, 78] (by decide +kernel) (by decide +kernel)

/-! InvariantFinderModel -/
set_option maxRecDepth 100000
def RX1 : String := "InvariantFinderModel"
def TX1 : u_T := fun k => match k with
  | 0 => ("InvariantFinderModel", "size", "I", false)
  | 1 => ("InvariantFinderModel", "values", "[I", false)
  | 2 => ("InvariantFinderModel", "few", "[I", false)
  | 3 => ("InvariantFinderModel", "p", "I", false)
  | 4 => ("InvariantFinderModel", "q", "I", false)
  | _ => ("InvariantFinderModel", (String.ofList ['r']), "I", false)
def tyX1 : Nat → FieldType := fun k => match k with
  | 0 => .int
  | 1 => .array .int
  | 2 => .array .int
  | 3 => .int
  | 4 => .int
  | _ => .int
abbrev wsX10 : List Cond := u_ws RX1 TX1 6
theorem nmX1 : ∀ a, a < 6 → ∀ b, b < 6 → a ≠ b → (TX1 a).2.1 ≠ (TX1 b).2.1 := by decide +kernel
theorem tyX1_ok : ∀ k, k < 6 → parseFieldDescriptor (TX1 k).2.2.1 = some (tyX1 k) := by decide +kernel
abbrev cX1_init : ByteArray := prog_3_method_1_code
def yX1_init : MethodName := ⟨RX1, "<init>", "()V"⟩
abbrev cX1_sample : ByteArray := prog_3_method_4_code
def yX1_sample : MethodName := ⟨RX1, "sample", "(IIII)I"⟩
abbrev cX1_fits : ByteArray := prog_3_method_2_code
def yX1_fits : MethodName := ⟨RX1, "fits", "(I)Z"⟩
abbrev cX1_clear : ByteArray := prog_3_method_5_code
def yX1_clear : MethodName := ⟨RX1, "clear", "()V"⟩
abbrev cX1_samples : ByteArray := prog_3_method_6_code
def yX1_samples : MethodName := ⟨RX1, "samples", "()I"⟩
abbrev cX1_constant : ByteArray := prog_3_method_7_code
def yX1_constant : MethodName := ⟨RX1, "constant", "(I)I"⟩
abbrev cX1_is : ByteArray := prog_3_method_3_code
def yX1_is : MethodName := ⟨RX1, "is", "(I)Z"⟩
abbrev cX1_different : ByteArray := prog_3_method_9_code
def yX1_different : MethodName := ⟨RX1, "different", "(I)I"⟩
abbrev cX1_bound : ByteArray := prog_3_method_8_code
def yX1_bound : MethodName := ⟨RX1, "bound", "(II)I"⟩
abbrev cX1_valueAt : ByteArray := prog_3_method_10_code
def yX1_valueAt : MethodName := ⟨RX1, "valueAt", "(II)I"⟩
abbrev cX1_modulus : ByteArray := prog_3_method_12_code
def yX1_modulus : MethodName := ⟨RX1, "modulus", "(I)I"⟩
abbrev cX1_modulo : ByteArray := prog_3_method_11_code
def yX1_modulo : MethodName := ⟨RX1, "modulo", "(II)I"⟩
abbrev cX1_remainder : ByteArray := prog_3_method_13_code
def yX1_remainder : MethodName := ⟨RX1, "remainder", "(I)I"⟩
abbrev cX1_relation : ByteArray := prog_3_method_15_code
def yX1_relation : MethodName := ⟨RX1, "relation", "(III)Z"⟩
abbrev cX1_holds : ByteArray := prog_3_method_14_code
def yX1_holds : MethodName := ⟨RX1, "holds", "(III)Z"⟩
abbrev cX1_offset : ByteArray := prog_3_method_16_code
def yX1_offset : MethodName := ⟨RX1, "offset", "(II)I"⟩
abbrev cX1_line : ByteArray := prog_3_method_18_code
def yX1_line : MethodName := ⟨RX1, "line", "(II)I"⟩
abbrev cX1_find : ByteArray := prog_3_method_17_code
def yX1_find : MethodName := ⟨RX1, "find", "(II)Z"⟩
abbrev cX1_slope : ByteArray := prog_3_method_19_code
def yX1_slope : MethodName := ⟨RX1, "slope", "(II)I"⟩
abbrev cX1_rise : ByteArray := prog_3_method_20_code
def yX1_rise : MethodName := ⟨RX1, "rise", "(II)I"⟩
abbrev cX1_equals : ByteArray := prog_3_method_21_code
def yX1_equals : MethodName := ⟨RX1, "equals", "()I"⟩
abbrev cX1_sums : ByteArray := prog_3_method_22_code
def yX1_sums : MethodName := ⟨RX1, "sums", "(III)Z"⟩
theorem q14 : (Jvm.Cond.initialized "InvariantFinderModel") ∈ lw_all := lw_g (lw_at lw_m1 2 rfl) rfl
theorem q189 : (Jvm.Cond.instantiable "InvariantFinderModel" (6 : Nat)) ∈ lw_all := lw_g (lw_at lw_m1 177 rfl) rfl
theorem q191 : (Jvm.Cond.instanceMethod ({ cls := "InvariantFinderModel", name := "<init>", desc := "()V" } : Jvm.MethodName)) ∈ lw_all := lw_g (lw_at lw_m1 179 rfl) rfl
theorem q192 : (Jvm.Cond.code ({ cls := "InvariantFinderModel", name := "<init>", desc := "()V" } : Jvm.MethodName) prog_3_method_1_code (1 : Nat) (Option.none : Option Jvm.ClassFile.FieldType)) ∈ lw_all := lw_g (lw_at lw_m1 180 rfl) rfl
theorem q193 : (Jvm.Cond.methodLink "InvariantFinderModel" (1 : Nat) ({ cls := "java/lang/Object", name := "<init>", desc := "()V" } : Jvm.MethodName)) ∈ lw_all := lw_g (lw_at lw_m1 181 rfl) rfl
theorem q194 : (Jvm.Cond.fieldLink "InvariantFinderModel" (20 : Nat) "InvariantFinderModel" "size" "I") ∈ lw_all := lw_g (lw_at lw_m1 182 rfl) rfl
theorem q195 : (Jvm.Cond.fieldLink "InvariantFinderModel" (7 : Nat) "InvariantFinderModel" "values" "[I") ∈ lw_all := lw_g (lw_at lw_m1 183 rfl) rfl
theorem q196 : (Jvm.Cond.fieldLink "InvariantFinderModel" (13 : Nat) "InvariantFinderModel" "few" "[I") ∈ lw_all := lw_g (lw_at lw_m1 184 rfl) rfl
theorem q197 : (Jvm.Cond.fieldLink "InvariantFinderModel" (42 : Nat) "InvariantFinderModel" "p" "I") ∈ lw_all := lw_g (lw_at lw_m1 185 rfl) rfl
theorem q198 : (Jvm.Cond.fieldLink "InvariantFinderModel" (45 : Nat) "InvariantFinderModel" "q" "I") ∈ lw_all := lw_g (lw_at lw_m1 186 rfl) rfl
theorem q199 : (Jvm.Cond.fieldLink "InvariantFinderModel" (48 : Nat) "InvariantFinderModel" (String.ofList ['r']) "I") ∈ lw_all := lw_g (lw_at lw_m1 187 rfl) rfl
theorem q200 : (Jvm.Cond.lays "InvariantFinderModel" "InvariantFinderModel" "size" "I") ∈ lw_all := lw_g (lw_at lw_m1 188 rfl) rfl
theorem q201 : (Jvm.Cond.soleField "InvariantFinderModel" "size") ∈ lw_all := lw_g (lw_at lw_m1 189 rfl) rfl
theorem q202 : (Jvm.Cond.lays "InvariantFinderModel" "InvariantFinderModel" "values" "[I") ∈ lw_all := lw_g (lw_at lw_m1 190 rfl) rfl
theorem q203 : (Jvm.Cond.soleField "InvariantFinderModel" "values") ∈ lw_all := lw_g (lw_at lw_m1 191 rfl) rfl
theorem q204 : (Jvm.Cond.lays "InvariantFinderModel" "InvariantFinderModel" "few" "[I") ∈ lw_all := lw_g (lw_at lw_m1 192 rfl) rfl
theorem q205 : (Jvm.Cond.soleField "InvariantFinderModel" "few") ∈ lw_all := lw_g (lw_at lw_m1 193 rfl) rfl
theorem q206 : (Jvm.Cond.lays "InvariantFinderModel" "InvariantFinderModel" "p" "I") ∈ lw_all := lw_g (lw_at lw_m1 194 rfl) rfl
theorem q207 : (Jvm.Cond.soleField "InvariantFinderModel" "p") ∈ lw_all := lw_g (lw_at lw_m1 195 rfl) rfl
theorem q208 : (Jvm.Cond.lays "InvariantFinderModel" "InvariantFinderModel" "q" "I") ∈ lw_all := lw_g (lw_at lw_m1 196 rfl) rfl
theorem q209 : (Jvm.Cond.soleField "InvariantFinderModel" "q") ∈ lw_all := lw_g (lw_at lw_m1 197 rfl) rfl
theorem q210 : (Jvm.Cond.lays "InvariantFinderModel" "InvariantFinderModel" (String.ofList ['r']) "I") ∈ lw_all := lw_g (lw_at lw_m1 198 rfl) rfl
theorem q211 : (Jvm.Cond.soleField "InvariantFinderModel" (String.ofList ['r'])) ∈ lw_all := lw_g (lw_at lw_m1 199 rfl) rfl
theorem q212 : (Jvm.Cond.superclass "InvariantFinderModel" "java/lang/Object") ∈ lw_all := lw_g (lw_at lw_m1 200 rfl) rfl
theorem q214 : (Jvm.Cond.instanceMethod ({ cls := "InvariantFinderModel", name := "sample", desc := "(IIII)I" } : Jvm.MethodName)) ∈ lw_all := lw_g (lw_at lw_m1 202 rfl) rfl
theorem q215 : (Jvm.Cond.selects "InvariantFinderModel" ({ cls := "InvariantFinderModel", name := "sample", desc := "(IIII)I" } : Jvm.MethodName) ({ cls := "InvariantFinderModel", name := "sample", desc := "(IIII)I" } : Jvm.MethodName)) ∈ lw_all := lw_g (lw_at lw_m1 203 rfl) rfl
theorem q216 : (Jvm.Cond.code ({ cls := "InvariantFinderModel", name := "sample", desc := "(IIII)I" } : Jvm.MethodName) prog_3_method_4_code (5 : Nat) (Option.some Jvm.ClassFile.FieldType.int)) ∈ lw_all := lw_g (lw_at lw_m1 204 rfl) rfl
theorem q217 : (Jvm.Cond.methodLink "InvariantFinderModel" (16 : Nat) ({ cls := "InvariantFinderModel", name := "fits", desc := "(I)Z" } : Jvm.MethodName)) ∈ lw_all := lw_g (lw_at lw_m1 205 rfl) rfl
theorem q218 : (Jvm.Cond.privateMethod ({ cls := "InvariantFinderModel", name := "fits", desc := "(I)Z" } : Jvm.MethodName)) ∈ lw_tbl := lw_at lw_m1 206 rfl
theorem q219 : (Jvm.Cond.instanceMethod ({ cls := "InvariantFinderModel", name := "fits", desc := "(I)Z" } : Jvm.MethodName)) ∈ lw_all := lw_g (lw_at lw_m1 207 rfl) rfl
theorem q220 : (Jvm.Cond.code ({ cls := "InvariantFinderModel", name := "fits", desc := "(I)Z" } : Jvm.MethodName) prog_3_method_2_code (2 : Nat) (Option.some Jvm.ClassFile.FieldType.boolean)) ∈ lw_all := lw_g (lw_at lw_m1 208 rfl) rfl
theorem q222 : (Jvm.Cond.instanceMethod ({ cls := "InvariantFinderModel", name := "clear", desc := "()V" } : Jvm.MethodName)) ∈ lw_all := lw_g (lw_at lw_m1 210 rfl) rfl
theorem q223 : (Jvm.Cond.selects "InvariantFinderModel" ({ cls := "InvariantFinderModel", name := "clear", desc := "()V" } : Jvm.MethodName) ({ cls := "InvariantFinderModel", name := "clear", desc := "()V" } : Jvm.MethodName)) ∈ lw_all := lw_g (lw_at lw_m1 211 rfl) rfl
theorem q224 : (Jvm.Cond.code ({ cls := "InvariantFinderModel", name := "clear", desc := "()V" } : Jvm.MethodName) prog_3_method_5_code (1 : Nat) (Option.none : Option Jvm.ClassFile.FieldType)) ∈ lw_all := lw_g (lw_at lw_m1 212 rfl) rfl
theorem q226 : (Jvm.Cond.instanceMethod ({ cls := "InvariantFinderModel", name := "samples", desc := "()I" } : Jvm.MethodName)) ∈ lw_all := lw_g (lw_at lw_m1 214 rfl) rfl
theorem q227 : (Jvm.Cond.selects "InvariantFinderModel" ({ cls := "InvariantFinderModel", name := "samples", desc := "()I" } : Jvm.MethodName) ({ cls := "InvariantFinderModel", name := "samples", desc := "()I" } : Jvm.MethodName)) ∈ lw_all := lw_g (lw_at lw_m1 215 rfl) rfl
theorem q228 : (Jvm.Cond.code ({ cls := "InvariantFinderModel", name := "samples", desc := "()I" } : Jvm.MethodName) prog_3_method_6_code (1 : Nat) (Option.some Jvm.ClassFile.FieldType.int)) ∈ lw_all := lw_g (lw_at lw_m1 216 rfl) rfl
theorem q230 : (Jvm.Cond.instanceMethod ({ cls := "InvariantFinderModel", name := "constant", desc := "(I)I" } : Jvm.MethodName)) ∈ lw_all := lw_g (lw_at lw_m1 218 rfl) rfl
theorem q231 : (Jvm.Cond.selects "InvariantFinderModel" ({ cls := "InvariantFinderModel", name := "constant", desc := "(I)I" } : Jvm.MethodName) ({ cls := "InvariantFinderModel", name := "constant", desc := "(I)I" } : Jvm.MethodName)) ∈ lw_all := lw_g (lw_at lw_m1 219 rfl) rfl
theorem q232 : (Jvm.Cond.code ({ cls := "InvariantFinderModel", name := "constant", desc := "(I)I" } : Jvm.MethodName) prog_3_method_7_code (2 : Nat) (Option.some Jvm.ClassFile.FieldType.int)) ∈ lw_all := lw_g (lw_at lw_m1 220 rfl) rfl
theorem q233 : (Jvm.Cond.methodLink "InvariantFinderModel" (24 : Nat) ({ cls := "InvariantFinderModel", name := "is", desc := "(I)Z" } : Jvm.MethodName)) ∈ lw_all := lw_g (lw_at lw_m1 221 rfl) rfl
theorem q234 : (Jvm.Cond.privateMethod ({ cls := "InvariantFinderModel", name := "is", desc := "(I)Z" } : Jvm.MethodName)) ∈ lw_tbl := lw_at lw_m1 222 rfl
theorem q235 : (Jvm.Cond.instanceMethod ({ cls := "InvariantFinderModel", name := "is", desc := "(I)Z" } : Jvm.MethodName)) ∈ lw_all := lw_g (lw_at lw_m1 223 rfl) rfl
theorem q236 : (Jvm.Cond.code ({ cls := "InvariantFinderModel", name := "is", desc := "(I)Z" } : Jvm.MethodName) prog_3_method_3_code (2 : Nat) (Option.some Jvm.ClassFile.FieldType.boolean)) ∈ lw_all := lw_g (lw_at lw_m1 224 rfl) rfl
theorem q237 : (Jvm.Cond.methodLink "InvariantFinderModel" (27 : Nat) ({ cls := "InvariantFinderModel", name := "different", desc := "(I)I" } : Jvm.MethodName)) ∈ lw_all := lw_g (lw_at lw_m1 225 rfl) rfl
theorem q238 : (Jvm.Cond.instanceMethod ({ cls := "InvariantFinderModel", name := "different", desc := "(I)I" } : Jvm.MethodName)) ∈ lw_all := lw_g (lw_at lw_m1 226 rfl) rfl
theorem q239 : (Jvm.Cond.selects "InvariantFinderModel" ({ cls := "InvariantFinderModel", name := "different", desc := "(I)I" } : Jvm.MethodName) ({ cls := "InvariantFinderModel", name := "different", desc := "(I)I" } : Jvm.MethodName)) ∈ lw_all := lw_g (lw_at lw_m1 227 rfl) rfl
theorem q240 : (Jvm.Cond.code ({ cls := "InvariantFinderModel", name := "different", desc := "(I)I" } : Jvm.MethodName) prog_3_method_9_code (6 : Nat) (Option.some Jvm.ClassFile.FieldType.int)) ∈ lw_all := lw_g (lw_at lw_m1 228 rfl) rfl
theorem q242 : (Jvm.Cond.instanceMethod ({ cls := "InvariantFinderModel", name := "bound", desc := "(II)I" } : Jvm.MethodName)) ∈ lw_all := lw_g (lw_at lw_m1 230 rfl) rfl
theorem q243 : (Jvm.Cond.selects "InvariantFinderModel" ({ cls := "InvariantFinderModel", name := "bound", desc := "(II)I" } : Jvm.MethodName) ({ cls := "InvariantFinderModel", name := "bound", desc := "(II)I" } : Jvm.MethodName)) ∈ lw_all := lw_g (lw_at lw_m1 231 rfl) rfl
theorem q244 : (Jvm.Cond.code ({ cls := "InvariantFinderModel", name := "bound", desc := "(II)I" } : Jvm.MethodName) prog_3_method_8_code (6 : Nat) (Option.some Jvm.ClassFile.FieldType.int)) ∈ lw_all := lw_g (lw_at lw_m1 232 rfl) rfl
theorem q247 : (Jvm.Cond.instanceMethod ({ cls := "InvariantFinderModel", name := "valueAt", desc := "(II)I" } : Jvm.MethodName)) ∈ lw_all := lw_g (lw_at lw_m1 235 rfl) rfl
theorem q248 : (Jvm.Cond.selects "InvariantFinderModel" ({ cls := "InvariantFinderModel", name := "valueAt", desc := "(II)I" } : Jvm.MethodName) ({ cls := "InvariantFinderModel", name := "valueAt", desc := "(II)I" } : Jvm.MethodName)) ∈ lw_all := lw_g (lw_at lw_m1 236 rfl) rfl
theorem q249 : (Jvm.Cond.code ({ cls := "InvariantFinderModel", name := "valueAt", desc := "(II)I" } : Jvm.MethodName) prog_3_method_10_code (7 : Nat) (Option.some Jvm.ClassFile.FieldType.int)) ∈ lw_all := lw_g (lw_at lw_m1 237 rfl) rfl
theorem q251 : (Jvm.Cond.instanceMethod ({ cls := "InvariantFinderModel", name := "modulus", desc := "(I)I" } : Jvm.MethodName)) ∈ lw_all := lw_g (lw_at lw_m1 239 rfl) rfl
theorem q252 : (Jvm.Cond.selects "InvariantFinderModel" ({ cls := "InvariantFinderModel", name := "modulus", desc := "(I)I" } : Jvm.MethodName) ({ cls := "InvariantFinderModel", name := "modulus", desc := "(I)I" } : Jvm.MethodName)) ∈ lw_all := lw_g (lw_at lw_m2 0 rfl) rfl
theorem q253 : (Jvm.Cond.code ({ cls := "InvariantFinderModel", name := "modulus", desc := "(I)I" } : Jvm.MethodName) prog_3_method_12_code (5 : Nat) (Option.some Jvm.ClassFile.FieldType.int)) ∈ lw_all := lw_g (lw_at lw_m2 1 rfl) rfl
theorem q254 : (Jvm.Cond.methodLink "InvariantFinderModel" (31 : Nat) ({ cls := "InvariantFinderModel", name := "modulo", desc := "(II)I" } : Jvm.MethodName)) ∈ lw_all := lw_g (lw_at lw_m2 2 rfl) rfl
theorem q255 : (Jvm.Cond.privateMethod ({ cls := "InvariantFinderModel", name := "modulo", desc := "(II)I" } : Jvm.MethodName)) ∈ lw_tbl := lw_at lw_m2 3 rfl
theorem q256 : (Jvm.Cond.instanceMethod ({ cls := "InvariantFinderModel", name := "modulo", desc := "(II)I" } : Jvm.MethodName)) ∈ lw_all := lw_g (lw_at lw_m2 4 rfl) rfl
theorem q257 : (Jvm.Cond.code ({ cls := "InvariantFinderModel", name := "modulo", desc := "(II)I" } : Jvm.MethodName) prog_3_method_11_code (3 : Nat) (Option.some Jvm.ClassFile.FieldType.int)) ∈ lw_all := lw_g (lw_at lw_m2 5 rfl) rfl
theorem q259 : (Jvm.Cond.instanceMethod ({ cls := "InvariantFinderModel", name := "remainder", desc := "(I)I" } : Jvm.MethodName)) ∈ lw_all := lw_g (lw_at lw_m2 7 rfl) rfl
theorem q260 : (Jvm.Cond.selects "InvariantFinderModel" ({ cls := "InvariantFinderModel", name := "remainder", desc := "(I)I" } : Jvm.MethodName) ({ cls := "InvariantFinderModel", name := "remainder", desc := "(I)I" } : Jvm.MethodName)) ∈ lw_all := lw_g (lw_at lw_m2 8 rfl) rfl
theorem q261 : (Jvm.Cond.code ({ cls := "InvariantFinderModel", name := "remainder", desc := "(I)I" } : Jvm.MethodName) prog_3_method_13_code (3 : Nat) (Option.some Jvm.ClassFile.FieldType.int)) ∈ lw_all := lw_g (lw_at lw_m2 9 rfl) rfl
theorem q262 : (Jvm.Cond.methodLink "InvariantFinderModel" (35 : Nat) ({ cls := "InvariantFinderModel", name := "modulus", desc := "(I)I" } : Jvm.MethodName)) ∈ lw_all := lw_g (lw_at lw_m2 10 rfl) rfl
theorem q264 : (Jvm.Cond.instanceMethod ({ cls := "InvariantFinderModel", name := "relation", desc := "(III)Z" } : Jvm.MethodName)) ∈ lw_all := lw_g (lw_at lw_m2 12 rfl) rfl
theorem q265 : (Jvm.Cond.selects "InvariantFinderModel" ({ cls := "InvariantFinderModel", name := "relation", desc := "(III)Z" } : Jvm.MethodName) ({ cls := "InvariantFinderModel", name := "relation", desc := "(III)Z" } : Jvm.MethodName)) ∈ lw_all := lw_g (lw_at lw_m2 13 rfl) rfl
theorem q266 : (Jvm.Cond.code ({ cls := "InvariantFinderModel", name := "relation", desc := "(III)Z" } : Jvm.MethodName) prog_3_method_15_code (6 : Nat) (Option.some Jvm.ClassFile.FieldType.boolean)) ∈ lw_all := lw_g (lw_at lw_m2 14 rfl) rfl
theorem q267 : (Jvm.Cond.methodLink "InvariantFinderModel" (38 : Nat) ({ cls := "InvariantFinderModel", name := "holds", desc := "(III)Z" } : Jvm.MethodName)) ∈ lw_all := lw_g (lw_at lw_m2 15 rfl) rfl
theorem q268 : (Jvm.Cond.privateMethod ({ cls := "InvariantFinderModel", name := "holds", desc := "(III)Z" } : Jvm.MethodName)) ∈ lw_tbl := lw_at lw_m2 16 rfl
theorem q269 : (Jvm.Cond.instanceMethod ({ cls := "InvariantFinderModel", name := "holds", desc := "(III)Z" } : Jvm.MethodName)) ∈ lw_all := lw_g (lw_at lw_m2 17 rfl) rfl
theorem q270 : (Jvm.Cond.code ({ cls := "InvariantFinderModel", name := "holds", desc := "(III)Z" } : Jvm.MethodName) prog_3_method_14_code (4 : Nat) (Option.some Jvm.ClassFile.FieldType.boolean)) ∈ lw_all := lw_g (lw_at lw_m2 18 rfl) rfl
theorem q272 : (Jvm.Cond.instanceMethod ({ cls := "InvariantFinderModel", name := "offset", desc := "(II)I" } : Jvm.MethodName)) ∈ lw_all := lw_g (lw_at lw_m2 20 rfl) rfl
theorem q273 : (Jvm.Cond.selects "InvariantFinderModel" ({ cls := "InvariantFinderModel", name := "offset", desc := "(II)I" } : Jvm.MethodName) ({ cls := "InvariantFinderModel", name := "offset", desc := "(II)I" } : Jvm.MethodName)) ∈ lw_all := lw_g (lw_at lw_m2 21 rfl) rfl
theorem q274 : (Jvm.Cond.code ({ cls := "InvariantFinderModel", name := "offset", desc := "(II)I" } : Jvm.MethodName) prog_3_method_16_code (6 : Nat) (Option.some Jvm.ClassFile.FieldType.int)) ∈ lw_all := lw_g (lw_at lw_m2 22 rfl) rfl
theorem q276 : (Jvm.Cond.instanceMethod ({ cls := "InvariantFinderModel", name := "line", desc := "(II)I" } : Jvm.MethodName)) ∈ lw_all := lw_g (lw_at lw_m2 24 rfl) rfl
theorem q277 : (Jvm.Cond.selects "InvariantFinderModel" ({ cls := "InvariantFinderModel", name := "line", desc := "(II)I" } : Jvm.MethodName) ({ cls := "InvariantFinderModel", name := "line", desc := "(II)I" } : Jvm.MethodName)) ∈ lw_all := lw_g (lw_at lw_m2 25 rfl) rfl
theorem q278 : (Jvm.Cond.code ({ cls := "InvariantFinderModel", name := "line", desc := "(II)I" } : Jvm.MethodName) prog_3_method_18_code (3 : Nat) (Option.some Jvm.ClassFile.FieldType.int)) ∈ lw_all := lw_g (lw_at lw_m2 26 rfl) rfl
theorem q279 : (Jvm.Cond.methodLink "InvariantFinderModel" (51 : Nat) ({ cls := "InvariantFinderModel", name := "find", desc := "(II)Z" } : Jvm.MethodName)) ∈ lw_all := lw_g (lw_at lw_m2 27 rfl) rfl
theorem q280 : (Jvm.Cond.privateMethod ({ cls := "InvariantFinderModel", name := "find", desc := "(II)Z" } : Jvm.MethodName)) ∈ lw_tbl := lw_at lw_m2 28 rfl
theorem q281 : (Jvm.Cond.instanceMethod ({ cls := "InvariantFinderModel", name := "find", desc := "(II)Z" } : Jvm.MethodName)) ∈ lw_all := lw_g (lw_at lw_m2 29 rfl) rfl
theorem q282 : (Jvm.Cond.code ({ cls := "InvariantFinderModel", name := "find", desc := "(II)Z" } : Jvm.MethodName) prog_3_method_17_code (8 : Nat) (Option.some Jvm.ClassFile.FieldType.boolean)) ∈ lw_all := lw_g (lw_at lw_m2 30 rfl) rfl
theorem q284 : (Jvm.Cond.instanceMethod ({ cls := "InvariantFinderModel", name := "slope", desc := "(II)I" } : Jvm.MethodName)) ∈ lw_all := lw_g (lw_at lw_m2 32 rfl) rfl
theorem q285 : (Jvm.Cond.selects "InvariantFinderModel" ({ cls := "InvariantFinderModel", name := "slope", desc := "(II)I" } : Jvm.MethodName) ({ cls := "InvariantFinderModel", name := "slope", desc := "(II)I" } : Jvm.MethodName)) ∈ lw_all := lw_g (lw_at lw_m2 33 rfl) rfl
theorem q286 : (Jvm.Cond.code ({ cls := "InvariantFinderModel", name := "slope", desc := "(II)I" } : Jvm.MethodName) prog_3_method_19_code (3 : Nat) (Option.some Jvm.ClassFile.FieldType.int)) ∈ lw_all := lw_g (lw_at lw_m2 34 rfl) rfl
theorem q288 : (Jvm.Cond.instanceMethod ({ cls := "InvariantFinderModel", name := "rise", desc := "(II)I" } : Jvm.MethodName)) ∈ lw_all := lw_g (lw_at lw_m2 36 rfl) rfl
theorem q289 : (Jvm.Cond.selects "InvariantFinderModel" ({ cls := "InvariantFinderModel", name := "rise", desc := "(II)I" } : Jvm.MethodName) ({ cls := "InvariantFinderModel", name := "rise", desc := "(II)I" } : Jvm.MethodName)) ∈ lw_all := lw_g (lw_at lw_m2 37 rfl) rfl
theorem q290 : (Jvm.Cond.code ({ cls := "InvariantFinderModel", name := "rise", desc := "(II)I" } : Jvm.MethodName) prog_3_method_20_code (3 : Nat) (Option.some Jvm.ClassFile.FieldType.int)) ∈ lw_all := lw_g (lw_at lw_m2 38 rfl) rfl
theorem q292 : (Jvm.Cond.instanceMethod ({ cls := "InvariantFinderModel", name := "equals", desc := "()I" } : Jvm.MethodName)) ∈ lw_all := lw_g (lw_at lw_m2 40 rfl) rfl
theorem q293 : (Jvm.Cond.selects "InvariantFinderModel" ({ cls := "InvariantFinderModel", name := "equals", desc := "()I" } : Jvm.MethodName) ({ cls := "InvariantFinderModel", name := "equals", desc := "()I" } : Jvm.MethodName)) ∈ lw_all := lw_g (lw_at lw_m2 41 rfl) rfl
theorem q294 : (Jvm.Cond.code ({ cls := "InvariantFinderModel", name := "equals", desc := "()I" } : Jvm.MethodName) prog_3_method_21_code (4 : Nat) (Option.some Jvm.ClassFile.FieldType.int)) ∈ lw_all := lw_g (lw_at lw_m2 42 rfl) rfl
theorem q295 : (Jvm.Cond.methodLink "InvariantFinderModel" (55 : Nat) ({ cls := "InvariantFinderModel", name := "relation", desc := "(III)Z" } : Jvm.MethodName)) ∈ lw_all := lw_g (lw_at lw_m2 43 rfl) rfl
theorem q297 : (Jvm.Cond.instanceMethod ({ cls := "InvariantFinderModel", name := "sums", desc := "(III)Z" } : Jvm.MethodName)) ∈ lw_all := lw_g (lw_at lw_m2 45 rfl) rfl
theorem q298 : (Jvm.Cond.selects "InvariantFinderModel" ({ cls := "InvariantFinderModel", name := "sums", desc := "(III)Z" } : Jvm.MethodName) ({ cls := "InvariantFinderModel", name := "sums", desc := "(III)Z" } : Jvm.MethodName)) ∈ lw_all := lw_g (lw_at lw_m2 46 rfl) rfl
theorem q299 : (Jvm.Cond.code ({ cls := "InvariantFinderModel", name := "sums", desc := "(III)Z" } : Jvm.MethodName) prog_3_method_22_code (6 : Nat) (Option.some Jvm.ClassFile.FieldType.boolean)) ∈ lw_all := lw_g (lw_at lw_m2 47 rfl) rfl
theorem in_X1 : ∀ w ∈ wsX10, w ∈ lw_all := lw_in wsX10 [200, 202, 204, 206, 208, 210] (by decide +kernel) (by decide +kernel)

/-! the law's own entry -/
set_option maxRecDepth 100000
abbrev cL_law : ByteArray := code

theorem q12 : (Jvm.Cond.initialized "InvariantFinderLaw") ∈ lw_all := lw_g (lw_at lw_m1 0 rfl) rfl
set_option maxRecDepth 100000
theorem q15 : (Jvm.Cond.classLink "InvariantFinderLaw" (7 : Nat) "InvariantFinder") ∈ lw_all := lw_g (lw_at lw_m1 3 rfl) rfl
theorem q17 : (Jvm.Cond.methodLink "InvariantFinderLaw" (9 : Nat) ({ cls := "InvariantFinder", name := "<init>", desc := "()V" } : Jvm.MethodName)) ∈ lw_all := lw_g (lw_at lw_m1 5 rfl) rfl
theorem q83 : (Jvm.Cond.methodLink "InvariantFinderLaw" (13 : Nat) ({ cls := "InvariantFinder", name := "sample", desc := "(IIII)I" } : Jvm.MethodName)) ∈ lw_all := lw_g (lw_at lw_m1 71 rfl) rfl
theorem q117 : (Jvm.Cond.methodLink "InvariantFinderLaw" (18 : Nat) ({ cls := "InvariantFinder", name := "clear", desc := "()V" } : Jvm.MethodName)) ∈ lw_all := lw_g (lw_at lw_m1 105 rfl) rfl
theorem q121 : (Jvm.Cond.methodLink "InvariantFinderLaw" (22 : Nat) ({ cls := "InvariantFinder", name := "samples", desc := "()I" } : Jvm.MethodName)) ∈ lw_all := lw_g (lw_at lw_m1 109 rfl) rfl
theorem q125 : (Jvm.Cond.methodLink "InvariantFinderLaw" (27 : Nat) ({ cls := "InvariantFinder", name := "constant", desc := "(I)I" } : Jvm.MethodName)) ∈ lw_all := lw_g (lw_at lw_m1 113 rfl) rfl
theorem q132 : (Jvm.Cond.methodLink "InvariantFinderLaw" (32 : Nat) ({ cls := "InvariantFinder", name := "bound", desc := "(II)I" } : Jvm.MethodName)) ∈ lw_all := lw_g (lw_at lw_m1 120 rfl) rfl
theorem q136 : (Jvm.Cond.methodLink "InvariantFinderLaw" (37 : Nat) ({ cls := "InvariantFinder", name := "different", desc := "(I)I" } : Jvm.MethodName)) ∈ lw_all := lw_g (lw_at lw_m1 124 rfl) rfl
theorem q140 : (Jvm.Cond.methodLink "InvariantFinderLaw" (41 : Nat) ({ cls := "InvariantFinder", name := "valueAt", desc := "(II)I" } : Jvm.MethodName)) ∈ lw_all := lw_g (lw_at lw_m1 128 rfl) rfl
theorem q144 : (Jvm.Cond.methodLink "InvariantFinderLaw" (45 : Nat) ({ cls := "InvariantFinder", name := "modulus", desc := "(I)I" } : Jvm.MethodName)) ∈ lw_all := lw_g (lw_at lw_m1 132 rfl) rfl
theorem q148 : (Jvm.Cond.methodLink "InvariantFinderLaw" (49 : Nat) ({ cls := "InvariantFinder", name := "remainder", desc := "(I)I" } : Jvm.MethodName)) ∈ lw_all := lw_g (lw_at lw_m1 136 rfl) rfl
theorem q153 : (Jvm.Cond.methodLink "InvariantFinderLaw" (53 : Nat) ({ cls := "InvariantFinder", name := "relation", desc := "(III)Z" } : Jvm.MethodName)) ∈ lw_all := lw_g (lw_at lw_m1 141 rfl) rfl
theorem q160 : (Jvm.Cond.methodLink "InvariantFinderLaw" (58 : Nat) ({ cls := "InvariantFinder", name := "offset", desc := "(II)I" } : Jvm.MethodName)) ∈ lw_all := lw_g (lw_at lw_m1 148 rfl) rfl
theorem q164 : (Jvm.Cond.methodLink "InvariantFinderLaw" (62 : Nat) ({ cls := "InvariantFinder", name := "line", desc := "(II)I" } : Jvm.MethodName)) ∈ lw_all := lw_g (lw_at lw_m1 152 rfl) rfl
theorem q172 : (Jvm.Cond.methodLink "InvariantFinderLaw" (66 : Nat) ({ cls := "InvariantFinder", name := "slope", desc := "(II)I" } : Jvm.MethodName)) ∈ lw_all := lw_g (lw_at lw_m1 160 rfl) rfl
theorem q176 : (Jvm.Cond.methodLink "InvariantFinderLaw" (70 : Nat) ({ cls := "InvariantFinder", name := "rise", desc := "(II)I" } : Jvm.MethodName)) ∈ lw_all := lw_g (lw_at lw_m1 164 rfl) rfl
theorem q180 : (Jvm.Cond.methodLink "InvariantFinderLaw" (74 : Nat) ({ cls := "InvariantFinder", name := "equals", desc := "()I" } : Jvm.MethodName)) ∈ lw_all := lw_g (lw_at lw_m1 168 rfl) rfl
theorem q184 : (Jvm.Cond.methodLink "InvariantFinderLaw" (78 : Nat) ({ cls := "InvariantFinder", name := "sums", desc := "(III)Z" } : Jvm.MethodName)) ∈ lw_all := lw_g (lw_at lw_m1 172 rfl) rfl
theorem q188 : (Jvm.Cond.classLink "InvariantFinderLaw" (10 : Nat) "InvariantFinderModel") ∈ lw_all := lw_g (lw_at lw_m1 176 rfl) rfl
theorem q190 : (Jvm.Cond.methodLink "InvariantFinderLaw" (12 : Nat) ({ cls := "InvariantFinderModel", name := "<init>", desc := "()V" } : Jvm.MethodName)) ∈ lw_all := lw_g (lw_at lw_m1 178 rfl) rfl
theorem q213 : (Jvm.Cond.methodLink "InvariantFinderLaw" (17 : Nat) ({ cls := "InvariantFinderModel", name := "sample", desc := "(IIII)I" } : Jvm.MethodName)) ∈ lw_all := lw_g (lw_at lw_m1 201 rfl) rfl
theorem q221 : (Jvm.Cond.methodLink "InvariantFinderLaw" (21 : Nat) ({ cls := "InvariantFinderModel", name := "clear", desc := "()V" } : Jvm.MethodName)) ∈ lw_all := lw_g (lw_at lw_m1 209 rfl) rfl
theorem q225 : (Jvm.Cond.methodLink "InvariantFinderLaw" (26 : Nat) ({ cls := "InvariantFinderModel", name := "samples", desc := "()I" } : Jvm.MethodName)) ∈ lw_all := lw_g (lw_at lw_m1 213 rfl) rfl
theorem q229 : (Jvm.Cond.methodLink "InvariantFinderLaw" (31 : Nat) ({ cls := "InvariantFinderModel", name := "constant", desc := "(I)I" } : Jvm.MethodName)) ∈ lw_all := lw_g (lw_at lw_m1 217 rfl) rfl
theorem q241 : (Jvm.Cond.methodLink "InvariantFinderLaw" (36 : Nat) ({ cls := "InvariantFinderModel", name := "bound", desc := "(II)I" } : Jvm.MethodName)) ∈ lw_all := lw_g (lw_at lw_m1 229 rfl) rfl
theorem q245 : (Jvm.Cond.methodLink "InvariantFinderLaw" (40 : Nat) ({ cls := "InvariantFinderModel", name := "different", desc := "(I)I" } : Jvm.MethodName)) ∈ lw_all := lw_g (lw_at lw_m1 233 rfl) rfl
theorem q246 : (Jvm.Cond.methodLink "InvariantFinderLaw" (44 : Nat) ({ cls := "InvariantFinderModel", name := "valueAt", desc := "(II)I" } : Jvm.MethodName)) ∈ lw_all := lw_g (lw_at lw_m1 234 rfl) rfl
theorem q250 : (Jvm.Cond.methodLink "InvariantFinderLaw" (48 : Nat) ({ cls := "InvariantFinderModel", name := "modulus", desc := "(I)I" } : Jvm.MethodName)) ∈ lw_all := lw_g (lw_at lw_m1 238 rfl) rfl
theorem q258 : (Jvm.Cond.methodLink "InvariantFinderLaw" (52 : Nat) ({ cls := "InvariantFinderModel", name := "remainder", desc := "(I)I" } : Jvm.MethodName)) ∈ lw_all := lw_g (lw_at lw_m2 6 rfl) rfl
theorem q263 : (Jvm.Cond.methodLink "InvariantFinderLaw" (57 : Nat) ({ cls := "InvariantFinderModel", name := "relation", desc := "(III)Z" } : Jvm.MethodName)) ∈ lw_all := lw_g (lw_at lw_m2 11 rfl) rfl
theorem q271 : (Jvm.Cond.methodLink "InvariantFinderLaw" (61 : Nat) ({ cls := "InvariantFinderModel", name := "offset", desc := "(II)I" } : Jvm.MethodName)) ∈ lw_all := lw_g (lw_at lw_m2 19 rfl) rfl
theorem q275 : (Jvm.Cond.methodLink "InvariantFinderLaw" (65 : Nat) ({ cls := "InvariantFinderModel", name := "line", desc := "(II)I" } : Jvm.MethodName)) ∈ lw_all := lw_g (lw_at lw_m2 23 rfl) rfl
theorem q283 : (Jvm.Cond.methodLink "InvariantFinderLaw" (69 : Nat) ({ cls := "InvariantFinderModel", name := "slope", desc := "(II)I" } : Jvm.MethodName)) ∈ lw_all := lw_g (lw_at lw_m2 31 rfl) rfl
theorem q287 : (Jvm.Cond.methodLink "InvariantFinderLaw" (73 : Nat) ({ cls := "InvariantFinderModel", name := "rise", desc := "(II)I" } : Jvm.MethodName)) ∈ lw_all := lw_g (lw_at lw_m2 35 rfl) rfl
theorem q291 : (Jvm.Cond.methodLink "InvariantFinderLaw" (77 : Nat) ({ cls := "InvariantFinderModel", name := "equals", desc := "()I" } : Jvm.MethodName)) ∈ lw_all := lw_g (lw_at lw_m2 39 rfl) rfl
theorem q296 : (Jvm.Cond.methodLink "InvariantFinderLaw" (81 : Nat) ({ cls := "InvariantFinderModel", name := "sums", desc := "(III)Z" } : Jvm.MethodName)) ∈ lw_all := lw_g (lw_at lw_m2 44 rfl) rfl
theorem q81 : (Jvm.Cond.arrayClass Jvm.ClassFile.FieldType.int) ∈ lw_all := lw_g (lw_at lw_m1 69 rfl) rfl
set_option maxRecDepth 100000
theorem q82 : (Jvm.Cond.arrayClass Jvm.ClassFile.FieldType.byte) ∈ lw_all := lw_g (lw_at lw_m1 70 rfl) rfl
end
section
set_option maxRecDepth 100000
theorem dX0_init_0 : decode cX0_init 0 = .ok (.aload_n 0, 1) := by decide +kernel
theorem dX0_init_1 : decode cX0_init 1 = .ok (.invokespecial 1, 3) := by decide +kernel
theorem dX0_init_4 : decode cX0_init 4 = .ok (.aload_n 0, 1) := by decide +kernel
theorem dX0_init_5 : decode cX0_init 5 = .ok (.iconst 4, 1) := by decide +kernel
theorem dX0_init_6 : decode cX0_init 6 = .ok (.newarray .int, 2) := by decide +kernel
theorem dX0_init_8 : decode cX0_init 8 = .ok (.putfield 7, 3) := by decide +kernel
theorem dX0_init_11 : decode cX0_init 11 = .ok (.aload_n 0, 1) := by decide +kernel
theorem dX0_init_12 : decode cX0_init 12 = .ok (.iconst 4, 1) := by decide +kernel
theorem dX0_init_13 : decode cX0_init 13 = .ok (.newarray .int, 2) := by decide +kernel
theorem dX0_init_15 : decode cX0_init 15 = .ok (.putfield 13, 3) := by decide +kernel
theorem dX0_init_18 : decode cX0_init 18 = .ok (.aload_n 0, 1) := by decide +kernel
theorem dX0_init_19 : decode cX0_init 19 = .ok (.iconst 4, 1) := by decide +kernel
theorem dX0_init_20 : decode cX0_init 20 = .ok (.newarray .int, 2) := by decide +kernel
theorem dX0_init_22 : decode cX0_init 22 = .ok (.putfield 16, 3) := by decide +kernel
theorem dX0_init_25 : decode cX0_init 25 = .ok (.aload_n 0, 1) := by decide +kernel
theorem dX0_init_26 : decode cX0_init 26 = .ok (.iconst 4, 1) := by decide +kernel
theorem dX0_init_27 : decode cX0_init 27 = .ok (.newarray .int, 2) := by decide +kernel
theorem dX0_init_29 : decode cX0_init 29 = .ok (.putfield 19, 3) := by decide +kernel
theorem dX0_init_32 : decode cX0_init 32 = .ok (.aload_n 0, 1) := by decide +kernel
theorem dX0_init_33 : decode cX0_init 33 = .ok (.iconst 4, 1) := by decide +kernel
theorem dX0_init_34 : decode cX0_init 34 = .ok (.newarray .int, 2) := by decide +kernel
theorem dX0_init_36 : decode cX0_init 36 = .ok (.putfield 22, 3) := by decide +kernel
theorem dX0_init_39 : decode cX0_init 39 = .ok (.aload_n 0, 1) := by decide +kernel
theorem dX0_init_40 : decode cX0_init 40 = .ok (.bipush 16, 2) := by decide +kernel
theorem dX0_init_42 : decode cX0_init 42 = .ok (.newarray .int, 2) := by decide +kernel
theorem dX0_init_44 : decode cX0_init 44 = .ok (.putfield 25, 3) := by decide +kernel
theorem dX0_init_47 : decode cX0_init 47 = .ok (.aload_n 0, 1) := by decide +kernel
theorem dX0_init_48 : decode cX0_init 48 = .ok (.iconst 4, 1) := by decide +kernel
theorem dX0_init_49 : decode cX0_init 49 = .ok (.newarray .byte, 2) := by decide +kernel
theorem dX0_init_51 : decode cX0_init 51 = .ok (.putfield 28, 3) := by decide +kernel
theorem dX0_init_54 : decode cX0_init 54 = .ok (.aload_n 0, 1) := by decide +kernel
theorem dX0_init_55 : decode cX0_init 55 = .ok (.bipush 16, 2) := by decide +kernel
theorem dX0_init_57 : decode cX0_init 57 = .ok (.newarray .byte, 2) := by decide +kernel
theorem dX0_init_59 : decode cX0_init 59 = .ok (.putfield 32, 3) := by decide +kernel
theorem dX0_init_62 : decode cX0_init 62 = .ok (.aload_n 0, 1) := by decide +kernel
theorem dX0_init_63 : decode cX0_init 63 = .ok (.bipush 16, 2) := by decide +kernel
theorem dX0_init_65 : decode cX0_init 65 = .ok (.newarray .int, 2) := by decide +kernel
theorem dX0_init_67 : decode cX0_init 67 = .ok (.putfield 35, 3) := by decide +kernel
theorem dX0_init_70 : decode cX0_init 70 = .ok (.aload_n 0, 1) := by decide +kernel
theorem dX0_init_71 : decode cX0_init 71 = .ok (.bipush 16, 2) := by decide +kernel
theorem dX0_init_73 : decode cX0_init 73 = .ok (.newarray .int, 2) := by decide +kernel
theorem dX0_init_75 : decode cX0_init 75 = .ok (.putfield 38, 3) := by decide +kernel
theorem dX0_init_78 : decode cX0_init 78 = .ok (.aload_n 0, 1) := by decide +kernel
theorem dX0_init_79 : decode cX0_init 79 = .ok (.bipush 16, 2) := by decide +kernel
theorem dX0_init_81 : decode cX0_init 81 = .ok (.newarray .int, 2) := by decide +kernel
theorem dX0_init_83 : decode cX0_init 83 = .ok (.putfield 41, 3) := by decide +kernel
theorem dX0_init_86 : decode cX0_init 86 = .ok (.aload_n 0, 1) := by decide +kernel
theorem dX0_init_87 : decode cX0_init 87 = .ok (.bipush 16, 2) := by decide +kernel
theorem dX0_init_89 : decode cX0_init 89 = .ok (.newarray .int, 2) := by decide +kernel
theorem dX0_init_91 : decode cX0_init 91 = .ok (.putfield 44, 3) := by decide +kernel
theorem dX0_init_94 : decode cX0_init 94 = .ok (.return_, 1) := by decide +kernel
theorem dX0_sample_0 : decode cX0_sample 0 = .ok (.iload_n 1, 1) := by decide +kernel
theorem dX0_sample_1 : decode cX0_sample 1 = .ok (.invokestatic 51, 3) := by decide +kernel
theorem dX0_sample_4 : decode cX0_sample 4 = .ok (.ifCond .eq 25, 3) := by decide +kernel
theorem dX0_sample_7 : decode cX0_sample 7 = .ok (.iload_n 2, 1) := by decide +kernel
theorem dX0_sample_8 : decode cX0_sample 8 = .ok (.invokestatic 51, 3) := by decide +kernel
theorem dX0_sample_11 : decode cX0_sample 11 = .ok (.ifCond .eq 18, 3) := by decide +kernel
theorem dX0_sample_14 : decode cX0_sample 14 = .ok (.iload_n 3, 1) := by decide +kernel
theorem dX0_sample_15 : decode cX0_sample 15 = .ok (.invokestatic 51, 3) := by decide +kernel
theorem dX0_sample_18 : decode cX0_sample 18 = .ok (.ifCond .eq 11, 3) := by decide +kernel
theorem dX0_sample_21 : decode cX0_sample 21 = .ok (.iload 4, 2) := by decide +kernel
theorem dX0_sample_23 : decode cX0_sample 23 = .ok (.invokestatic 51, 3) := by decide +kernel
theorem dX0_sample_26 : decode cX0_sample 26 = .ok (.ifCond .ne 5, 3) := by decide +kernel
theorem dX0_sample_29 : decode cX0_sample 29 = .ok (.iconst (-1), 1) := by decide +kernel
theorem dX0_sample_30 : decode cX0_sample 30 = .ok (.ireturn, 1) := by decide +kernel
theorem dX0_sample_31 : decode cX0_sample 31 = .ok (.aload_n 0, 1) := by decide +kernel
theorem dX0_sample_32 : decode cX0_sample 32 = .ok (.getfield 54, 3) := by decide +kernel
theorem dX0_sample_35 : decode cX0_sample 35 = .ok (.bipush 100, 2) := by decide +kernel
theorem dX0_sample_37 : decode cX0_sample 37 = .ok (.if_icmp .lt 6, 3) := by decide +kernel
theorem dX0_sample_40 : decode cX0_sample 40 = .ok (.bipush (-2), 2) := by decide +kernel
theorem dX0_sample_42 : decode cX0_sample 42 = .ok (.ireturn, 1) := by decide +kernel
theorem dX0_sample_43 : decode cX0_sample 43 = .ok (.aload_n 0, 1) := by decide +kernel
theorem dX0_sample_44 : decode cX0_sample 44 = .ok (.getfield 7, 3) := by decide +kernel
theorem dX0_sample_47 : decode cX0_sample 47 = .ok (.iconst 0, 1) := by decide +kernel
theorem dX0_sample_48 : decode cX0_sample 48 = .ok (.iload_n 1, 1) := by decide +kernel
theorem dX0_sample_49 : decode cX0_sample 49 = .ok (.iastore, 1) := by decide +kernel
theorem dX0_sample_50 : decode cX0_sample 50 = .ok (.aload_n 0, 1) := by decide +kernel
theorem dX0_sample_51 : decode cX0_sample 51 = .ok (.getfield 7, 3) := by decide +kernel
theorem dX0_sample_54 : decode cX0_sample 54 = .ok (.iconst 1, 1) := by decide +kernel
theorem dX0_sample_55 : decode cX0_sample 55 = .ok (.iload_n 2, 1) := by decide +kernel
theorem dX0_sample_56 : decode cX0_sample 56 = .ok (.iastore, 1) := by decide +kernel
theorem dX0_sample_57 : decode cX0_sample 57 = .ok (.aload_n 0, 1) := by decide +kernel
theorem dX0_sample_58 : decode cX0_sample 58 = .ok (.getfield 7, 3) := by decide +kernel
theorem dX0_sample_61 : decode cX0_sample 61 = .ok (.iconst 2, 1) := by decide +kernel
theorem dX0_sample_62 : decode cX0_sample 62 = .ok (.iload_n 3, 1) := by decide +kernel
theorem dX0_sample_63 : decode cX0_sample 63 = .ok (.iastore, 1) := by decide +kernel
theorem dX0_sample_64 : decode cX0_sample 64 = .ok (.aload_n 0, 1) := by decide +kernel
theorem dX0_sample_65 : decode cX0_sample 65 = .ok (.getfield 7, 3) := by decide +kernel
theorem dX0_sample_68 : decode cX0_sample 68 = .ok (.iconst 3, 1) := by decide +kernel
theorem dX0_sample_69 : decode cX0_sample 69 = .ok (.iload 4, 2) := by decide +kernel
theorem dX0_sample_71 : decode cX0_sample 71 = .ok (.iastore, 1) := by decide +kernel
theorem dX0_sample_72 : decode cX0_sample 72 = .ok (.iconst 0, 1) := by decide +kernel
theorem dX0_sample_73 : decode cX0_sample 73 = .ok (.istore 5, 2) := by decide +kernel
theorem dX0_sample_75 : decode cX0_sample 75 = .ok (.iload 5, 2) := by decide +kernel
theorem dX0_sample_77 : decode cX0_sample 77 = .ok (.iconst 4, 1) := by decide +kernel
theorem dX0_sample_78 : decode cX0_sample 78 = .ok (.if_icmp .ge 52, 3) := by decide +kernel
theorem dX0_sample_81 : decode cX0_sample 81 = .ok (.aload_n 0, 1) := by decide +kernel
theorem dX0_sample_82 : decode cX0_sample 82 = .ok (.iload 5, 2) := by decide +kernel
theorem dX0_sample_84 : decode cX0_sample 84 = .ok (.aload_n 0, 1) := by decide +kernel
theorem dX0_sample_85 : decode cX0_sample 85 = .ok (.getfield 7, 3) := by decide +kernel
theorem dX0_sample_88 : decode cX0_sample 88 = .ok (.iload 5, 2) := by decide +kernel
theorem dX0_sample_90 : decode cX0_sample 90 = .ok (.iaload, 1) := by decide +kernel
theorem dX0_sample_91 : decode cX0_sample 91 = .ok (.invokevirtual 58, 3) := by decide +kernel
theorem dX0_sample_94 : decode cX0_sample 94 = .ok (.iconst 0, 1) := by decide +kernel
theorem dX0_sample_95 : decode cX0_sample 95 = .ok (.istore 6, 2) := by decide +kernel
theorem dX0_sample_97 : decode cX0_sample 97 = .ok (.iload 6, 2) := by decide +kernel
theorem dX0_sample_99 : decode cX0_sample 99 = .ok (.iconst 4, 1) := by decide +kernel
theorem dX0_sample_100 : decode cX0_sample 100 = .ok (.if_icmp .ge 24, 3) := by decide +kernel
theorem dX0_sample_103 : decode cX0_sample 103 = .ok (.iload 5, 2) := by decide +kernel
theorem dX0_sample_105 : decode cX0_sample 105 = .ok (.iload 6, 2) := by decide +kernel
theorem dX0_sample_107 : decode cX0_sample 107 = .ok (.if_icmp .eq 11, 3) := by decide +kernel
theorem dX0_sample_110 : decode cX0_sample 110 = .ok (.aload_n 0, 1) := by decide +kernel
theorem dX0_sample_111 : decode cX0_sample 111 = .ok (.iload 5, 2) := by decide +kernel
theorem dX0_sample_113 : decode cX0_sample 113 = .ok (.iload 6, 2) := by decide +kernel
theorem dX0_sample_115 : decode cX0_sample 115 = .ok (.invokevirtual 62, 3) := by decide +kernel
theorem dX0_sample_118 : decode cX0_sample 118 = .ok (.iinc 6 1, 3) := by decide +kernel
theorem dX0_sample_121 : decode cX0_sample 121 = .ok (.goto (-24), 3) := by decide +kernel
theorem dX0_sample_124 : decode cX0_sample 124 = .ok (.iinc 5 1, 3) := by decide +kernel
theorem dX0_sample_127 : decode cX0_sample 127 = .ok (.goto (-52), 3) := by decide +kernel
theorem dX0_sample_130 : decode cX0_sample 130 = .ok (.aload_n 0, 1) := by decide +kernel
theorem dX0_sample_131 : decode cX0_sample 131 = .ok (.invokevirtual 65, 3) := by decide +kernel
theorem dX0_sample_134 : decode cX0_sample 134 = .ok (.aload_n 0, 1) := by decide +kernel
theorem dX0_sample_135 : decode cX0_sample 135 = .ok (.dup, 1) := by decide +kernel
theorem dX0_sample_136 : decode cX0_sample 136 = .ok (.getfield 54, 3) := by decide +kernel
theorem dX0_sample_139 : decode cX0_sample 139 = .ok (.iconst 1, 1) := by decide +kernel
theorem dX0_sample_140 : decode cX0_sample 140 = .ok (.iadd, 1) := by decide +kernel
theorem dX0_sample_141 : decode cX0_sample 141 = .ok (.putfield 54, 3) := by decide +kernel
theorem dX0_sample_144 : decode cX0_sample 144 = .ok (.aload_n 0, 1) := by decide +kernel
theorem dX0_sample_145 : decode cX0_sample 145 = .ok (.getfield 54, 3) := by decide +kernel
theorem dX0_sample_148 : decode cX0_sample 148 = .ok (.ireturn, 1) := by decide +kernel
theorem dX0_isValue_0 : decode cX0_isValue 0 = .ok (.iload_n 0, 1) := by decide +kernel
theorem dX0_isValue_1 : decode cX0_isValue 1 = .ok (.bipush (-100), 2) := by decide +kernel
theorem dX0_isValue_3 : decode cX0_isValue 3 = .ok (.if_icmp .lt 13, 3) := by decide +kernel
theorem dX0_isValue_6 : decode cX0_isValue 6 = .ok (.iload_n 0, 1) := by decide +kernel
theorem dX0_isValue_7 : decode cX0_isValue 7 = .ok (.bipush 100, 2) := by decide +kernel
theorem dX0_isValue_9 : decode cX0_isValue 9 = .ok (.if_icmp .gt 7, 3) := by decide +kernel
theorem dX0_isValue_12 : decode cX0_isValue 12 = .ok (.iconst 1, 1) := by decide +kernel
theorem dX0_isValue_13 : decode cX0_isValue 13 = .ok (.goto 4, 3) := by decide +kernel
theorem dX0_isValue_16 : decode cX0_isValue 16 = .ok (.iconst 0, 1) := by decide +kernel
theorem dX0_isValue_17 : decode cX0_isValue 17 = .ok (.ireturn, 1) := by decide +kernel
theorem dX0_takeValue_0 : decode cX0_takeValue 0 = .ok (.aload_n 0, 1) := by decide +kernel
theorem dX0_takeValue_1 : decode cX0_takeValue 1 = .ok (.getfield 54, 3) := by decide +kernel
theorem dX0_takeValue_4 : decode cX0_takeValue 4 = .ok (.ifCond .ne 31, 3) := by decide +kernel
theorem dX0_takeValue_7 : decode cX0_takeValue 7 = .ok (.aload_n 0, 1) := by decide +kernel
theorem dX0_takeValue_8 : decode cX0_takeValue 8 = .ok (.getfield 13, 3) := by decide +kernel
theorem dX0_takeValue_11 : decode cX0_takeValue 11 = .ok (.iload_n 1, 1) := by decide +kernel
theorem dX0_takeValue_12 : decode cX0_takeValue 12 = .ok (.iload_n 2, 1) := by decide +kernel
theorem dX0_takeValue_13 : decode cX0_takeValue 13 = .ok (.iastore, 1) := by decide +kernel
theorem dX0_takeValue_14 : decode cX0_takeValue 14 = .ok (.aload_n 0, 1) := by decide +kernel
theorem dX0_takeValue_15 : decode cX0_takeValue 15 = .ok (.getfield 16, 3) := by decide +kernel
theorem dX0_takeValue_18 : decode cX0_takeValue 18 = .ok (.iload_n 1, 1) := by decide +kernel
theorem dX0_takeValue_19 : decode cX0_takeValue 19 = .ok (.iload_n 2, 1) := by decide +kernel
theorem dX0_takeValue_20 : decode cX0_takeValue 20 = .ok (.iastore, 1) := by decide +kernel
theorem dX0_takeValue_21 : decode cX0_takeValue 21 = .ok (.aload_n 0, 1) := by decide +kernel
theorem dX0_takeValue_22 : decode cX0_takeValue 22 = .ok (.getfield 19, 3) := by decide +kernel
theorem dX0_takeValue_25 : decode cX0_takeValue 25 = .ok (.iload_n 1, 1) := by decide +kernel
theorem dX0_takeValue_26 : decode cX0_takeValue 26 = .ok (.iload_n 2, 1) := by decide +kernel
theorem dX0_takeValue_27 : decode cX0_takeValue 27 = .ok (.iastore, 1) := by decide +kernel
theorem dX0_takeValue_28 : decode cX0_takeValue 28 = .ok (.aload_n 0, 1) := by decide +kernel
theorem dX0_takeValue_29 : decode cX0_takeValue 29 = .ok (.getfield 22, 3) := by decide +kernel
theorem dX0_takeValue_32 : decode cX0_takeValue 32 = .ok (.iload_n 1, 1) := by decide +kernel
theorem dX0_takeValue_33 : decode cX0_takeValue 33 = .ok (.iconst 0, 1) := by decide +kernel
theorem dX0_takeValue_34 : decode cX0_takeValue 34 = .ok (.iastore, 1) := by decide +kernel
theorem dX0_takeValue_35 : decode cX0_takeValue 35 = .ok (.aload_n 0, 1) := by decide +kernel
theorem dX0_takeValue_36 : decode cX0_takeValue 36 = .ok (.getfield 16, 3) := by decide +kernel
theorem dX0_takeValue_39 : decode cX0_takeValue 39 = .ok (.iload_n 1, 1) := by decide +kernel
theorem dX0_takeValue_40 : decode cX0_takeValue 40 = .ok (.iload_n 2, 1) := by decide +kernel
theorem dX0_takeValue_41 : decode cX0_takeValue 41 = .ok (.aload_n 0, 1) := by decide +kernel
theorem dX0_takeValue_42 : decode cX0_takeValue 42 = .ok (.getfield 16, 3) := by decide +kernel
theorem dX0_takeValue_45 : decode cX0_takeValue 45 = .ok (.iload_n 1, 1) := by decide +kernel
theorem dX0_takeValue_46 : decode cX0_takeValue 46 = .ok (.iaload, 1) := by decide +kernel
theorem dX0_takeValue_47 : decode cX0_takeValue 47 = .ok (.if_icmp .ge 7, 3) := by decide +kernel
theorem dX0_takeValue_50 : decode cX0_takeValue 50 = .ok (.iload_n 2, 1) := by decide +kernel
theorem dX0_takeValue_51 : decode cX0_takeValue 51 = .ok (.goto 9, 3) := by decide +kernel
theorem dX0_takeValue_54 : decode cX0_takeValue 54 = .ok (.aload_n 0, 1) := by decide +kernel
theorem dX0_takeValue_55 : decode cX0_takeValue 55 = .ok (.getfield 16, 3) := by decide +kernel
theorem dX0_takeValue_58 : decode cX0_takeValue 58 = .ok (.iload_n 1, 1) := by decide +kernel
theorem dX0_takeValue_59 : decode cX0_takeValue 59 = .ok (.iaload, 1) := by decide +kernel
theorem dX0_takeValue_60 : decode cX0_takeValue 60 = .ok (.iastore, 1) := by decide +kernel
theorem dX0_takeValue_61 : decode cX0_takeValue 61 = .ok (.aload_n 0, 1) := by decide +kernel
theorem dX0_takeValue_62 : decode cX0_takeValue 62 = .ok (.getfield 19, 3) := by decide +kernel
theorem dX0_takeValue_65 : decode cX0_takeValue 65 = .ok (.iload_n 1, 1) := by decide +kernel
theorem dX0_takeValue_66 : decode cX0_takeValue 66 = .ok (.iload_n 2, 1) := by decide +kernel
theorem dX0_takeValue_67 : decode cX0_takeValue 67 = .ok (.aload_n 0, 1) := by decide +kernel
theorem dX0_takeValue_68 : decode cX0_takeValue 68 = .ok (.getfield 19, 3) := by decide +kernel
theorem dX0_takeValue_71 : decode cX0_takeValue 71 = .ok (.iload_n 1, 1) := by decide +kernel
theorem dX0_takeValue_72 : decode cX0_takeValue 72 = .ok (.iaload, 1) := by decide +kernel
theorem dX0_takeValue_73 : decode cX0_takeValue 73 = .ok (.if_icmp .le 7, 3) := by decide +kernel
theorem dX0_takeValue_76 : decode cX0_takeValue 76 = .ok (.iload_n 2, 1) := by decide +kernel
theorem dX0_takeValue_77 : decode cX0_takeValue 77 = .ok (.goto 9, 3) := by decide +kernel
theorem dX0_takeValue_80 : decode cX0_takeValue 80 = .ok (.aload_n 0, 1) := by decide +kernel
theorem dX0_takeValue_81 : decode cX0_takeValue 81 = .ok (.getfield 19, 3) := by decide +kernel
theorem dX0_takeValue_84 : decode cX0_takeValue 84 = .ok (.iload_n 1, 1) := by decide +kernel
theorem dX0_takeValue_85 : decode cX0_takeValue 85 = .ok (.iaload, 1) := by decide +kernel
theorem dX0_takeValue_86 : decode cX0_takeValue 86 = .ok (.iastore, 1) := by decide +kernel
theorem dX0_takeValue_87 : decode cX0_takeValue 87 = .ok (.aload_n 0, 1) := by decide +kernel
theorem dX0_takeValue_88 : decode cX0_takeValue 88 = .ok (.getfield 22, 3) := by decide +kernel
theorem dX0_takeValue_91 : decode cX0_takeValue 91 = .ok (.iload_n 1, 1) := by decide +kernel
theorem dX0_takeValue_92 : decode cX0_takeValue 92 = .ok (.aload_n 0, 1) := by decide +kernel
theorem dX0_takeValue_93 : decode cX0_takeValue 93 = .ok (.getfield 22, 3) := by decide +kernel
theorem dX0_takeValue_96 : decode cX0_takeValue 96 = .ok (.iload_n 1, 1) := by decide +kernel
theorem dX0_takeValue_97 : decode cX0_takeValue 97 = .ok (.iaload, 1) := by decide +kernel
theorem dX0_takeValue_98 : decode cX0_takeValue 98 = .ok (.iload_n 2, 1) := by decide +kernel
theorem dX0_takeValue_99 : decode cX0_takeValue 99 = .ok (.aload_n 0, 1) := by decide +kernel
theorem dX0_takeValue_100 : decode cX0_takeValue 100 = .ok (.getfield 13, 3) := by decide +kernel
theorem dX0_takeValue_103 : decode cX0_takeValue 103 = .ok (.iload_n 1, 1) := by decide +kernel
theorem dX0_takeValue_104 : decode cX0_takeValue 104 = .ok (.iaload, 1) := by decide +kernel
theorem dX0_takeValue_105 : decode cX0_takeValue 105 = .ok (.isub, 1) := by decide +kernel
theorem dX0_takeValue_106 : decode cX0_takeValue 106 = .ok (.invokestatic 87, 3) := by decide +kernel
theorem dX0_takeValue_109 : decode cX0_takeValue 109 = .ok (.iastore, 1) := by decide +kernel
theorem dX0_takeValue_110 : decode cX0_takeValue 110 = .ok (.aload_n 0, 1) := by decide +kernel
theorem dX0_takeValue_111 : decode cX0_takeValue 111 = .ok (.iload_n 1, 1) := by decide +kernel
theorem dX0_takeValue_112 : decode cX0_takeValue 112 = .ok (.iload_n 2, 1) := by decide +kernel
theorem dX0_takeValue_113 : decode cX0_takeValue 113 = .ok (.invokevirtual 91, 3) := by decide +kernel
theorem dX0_takeValue_116 : decode cX0_takeValue 116 = .ok (.return_, 1) := by decide +kernel
theorem dX0_divisor_0 : decode cX0_divisor 0 = .ok (.iload_n 0, 1) := by decide +kernel
theorem dX0_divisor_1 : decode cX0_divisor 1 = .ok (.ifCond .ge 8, 3) := by decide +kernel
theorem dX0_divisor_4 : decode cX0_divisor 4 = .ok (.iload_n 0, 1) := by decide +kernel
theorem dX0_divisor_5 : decode cX0_divisor 5 = .ok (.ineg, 1) := by decide +kernel
theorem dX0_divisor_6 : decode cX0_divisor 6 = .ok (.goto 4, 3) := by decide +kernel
theorem dX0_divisor_9 : decode cX0_divisor 9 = .ok (.iload_n 0, 1) := by decide +kernel
theorem dX0_divisor_10 : decode cX0_divisor 10 = .ok (.istore_n 2, 1) := by decide +kernel
theorem dX0_divisor_11 : decode cX0_divisor 11 = .ok (.iload_n 1, 1) := by decide +kernel
theorem dX0_divisor_12 : decode cX0_divisor 12 = .ok (.ifCond .ge 8, 3) := by decide +kernel
theorem dX0_divisor_15 : decode cX0_divisor 15 = .ok (.iload_n 1, 1) := by decide +kernel
theorem dX0_divisor_16 : decode cX0_divisor 16 = .ok (.ineg, 1) := by decide +kernel
theorem dX0_divisor_17 : decode cX0_divisor 17 = .ok (.goto 4, 3) := by decide +kernel
theorem dX0_divisor_20 : decode cX0_divisor 20 = .ok (.iload_n 1, 1) := by decide +kernel
theorem dX0_divisor_21 : decode cX0_divisor 21 = .ok (.istore_n 3, 1) := by decide +kernel
theorem dX0_divisor_22 : decode cX0_divisor 22 = .ok (.iconst 0, 1) := by decide +kernel
theorem dX0_divisor_23 : decode cX0_divisor 23 = .ok (.istore 4, 2) := by decide +kernel
theorem dX0_divisor_25 : decode cX0_divisor 25 = .ok (.iload 4, 2) := by decide +kernel
theorem dX0_divisor_27 : decode cX0_divisor 27 = .ok (.bipush 24, 2) := by decide +kernel
theorem dX0_divisor_29 : decode cX0_divisor 29 = .ok (.if_icmp .ge 23, 3) := by decide +kernel
theorem dX0_divisor_32 : decode cX0_divisor 32 = .ok (.iload_n 3, 1) := by decide +kernel
theorem dX0_divisor_33 : decode cX0_divisor 33 = .ok (.ifCond .eq 19, 3) := by decide +kernel
theorem dX0_divisor_36 : decode cX0_divisor 36 = .ok (.iload_n 2, 1) := by decide +kernel
theorem dX0_divisor_37 : decode cX0_divisor 37 = .ok (.iload_n 3, 1) := by decide +kernel
theorem dX0_divisor_38 : decode cX0_divisor 38 = .ok (.irem, 1) := by decide +kernel
theorem dX0_divisor_39 : decode cX0_divisor 39 = .ok (.istore 5, 2) := by decide +kernel
theorem dX0_divisor_41 : decode cX0_divisor 41 = .ok (.iload_n 3, 1) := by decide +kernel
theorem dX0_divisor_42 : decode cX0_divisor 42 = .ok (.istore_n 2, 1) := by decide +kernel
theorem dX0_divisor_43 : decode cX0_divisor 43 = .ok (.iload 5, 2) := by decide +kernel
theorem dX0_divisor_45 : decode cX0_divisor 45 = .ok (.istore_n 3, 1) := by decide +kernel
theorem dX0_divisor_46 : decode cX0_divisor 46 = .ok (.iinc 4 1, 3) := by decide +kernel
theorem dX0_divisor_49 : decode cX0_divisor 49 = .ok (.goto (-24), 3) := by decide +kernel
theorem dX0_divisor_52 : decode cX0_divisor 52 = .ok (.iload_n 2, 1) := by decide +kernel
theorem dX0_divisor_53 : decode cX0_divisor 53 = .ok (.ireturn, 1) := by decide +kernel
theorem dX0_takeDifferent_0 : decode cX0_takeDifferent 0 = .ok (.aload_n 0, 1) := by decide +kernel
theorem dX0_takeDifferent_1 : decode cX0_takeDifferent 1 = .ok (.getfield 28, 3) := by decide +kernel
theorem dX0_takeDifferent_4 : decode cX0_takeDifferent 4 = .ok (.iload_n 1, 1) := by decide +kernel
theorem dX0_takeDifferent_5 : decode cX0_takeDifferent 5 = .ok (.baload, 1) := by decide +kernel
theorem dX0_takeDifferent_6 : decode cX0_takeDifferent 6 = .ok (.istore_n 3, 1) := by decide +kernel
theorem dX0_takeDifferent_7 : decode cX0_takeDifferent 7 = .ok (.iconst 0, 1) := by decide +kernel
theorem dX0_takeDifferent_8 : decode cX0_takeDifferent 8 = .ok (.istore 4, 2) := by decide +kernel
theorem dX0_takeDifferent_10 : decode cX0_takeDifferent 10 = .ok (.iload 4, 2) := by decide +kernel
theorem dX0_takeDifferent_12 : decode cX0_takeDifferent 12 = .ok (.iload_n 3, 1) := by decide +kernel
theorem dX0_takeDifferent_13 : decode cX0_takeDifferent 13 = .ok (.if_icmp .ge 30, 3) := by decide +kernel
theorem dX0_takeDifferent_16 : decode cX0_takeDifferent 16 = .ok (.iload_n 3, 1) := by decide +kernel
theorem dX0_takeDifferent_17 : decode cX0_takeDifferent 17 = .ok (.iconst 4, 1) := by decide +kernel
theorem dX0_takeDifferent_18 : decode cX0_takeDifferent 18 = .ok (.if_icmp .ge 25, 3) := by decide +kernel
theorem dX0_takeDifferent_21 : decode cX0_takeDifferent 21 = .ok (.aload_n 0, 1) := by decide +kernel
theorem dX0_takeDifferent_22 : decode cX0_takeDifferent 22 = .ok (.getfield 25, 3) := by decide +kernel
theorem dX0_takeDifferent_25 : decode cX0_takeDifferent 25 = .ok (.iload_n 1, 1) := by decide +kernel
theorem dX0_takeDifferent_26 : decode cX0_takeDifferent 26 = .ok (.iconst 4, 1) := by decide +kernel
theorem dX0_takeDifferent_27 : decode cX0_takeDifferent 27 = .ok (.imul, 1) := by decide +kernel
theorem dX0_takeDifferent_28 : decode cX0_takeDifferent 28 = .ok (.iload 4, 2) := by decide +kernel
theorem dX0_takeDifferent_30 : decode cX0_takeDifferent 30 = .ok (.iadd, 1) := by decide +kernel
theorem dX0_takeDifferent_31 : decode cX0_takeDifferent 31 = .ok (.iaload, 1) := by decide +kernel
theorem dX0_takeDifferent_32 : decode cX0_takeDifferent 32 = .ok (.iload_n 2, 1) := by decide +kernel
theorem dX0_takeDifferent_33 : decode cX0_takeDifferent 33 = .ok (.if_icmp .ne 4, 3) := by decide +kernel
theorem dX0_takeDifferent_36 : decode cX0_takeDifferent 36 = .ok (.return_, 1) := by decide +kernel
theorem dX0_takeDifferent_37 : decode cX0_takeDifferent 37 = .ok (.iinc 4 1, 3) := by decide +kernel
theorem dX0_takeDifferent_40 : decode cX0_takeDifferent 40 = .ok (.goto (-30), 3) := by decide +kernel
theorem dX0_takeDifferent_43 : decode cX0_takeDifferent 43 = .ok (.iload_n 3, 1) := by decide +kernel
theorem dX0_takeDifferent_44 : decode cX0_takeDifferent 44 = .ok (.iconst 3, 1) := by decide +kernel
theorem dX0_takeDifferent_45 : decode cX0_takeDifferent 45 = .ok (.if_icmp .lt 11, 3) := by decide +kernel
theorem dX0_takeDifferent_48 : decode cX0_takeDifferent 48 = .ok (.aload_n 0, 1) := by decide +kernel
theorem dX0_takeDifferent_49 : decode cX0_takeDifferent 49 = .ok (.getfield 28, 3) := by decide +kernel
theorem dX0_takeDifferent_52 : decode cX0_takeDifferent 52 = .ok (.iload_n 1, 1) := by decide +kernel
theorem dX0_takeDifferent_53 : decode cX0_takeDifferent 53 = .ok (.iconst 4, 1) := by decide +kernel
theorem dX0_takeDifferent_54 : decode cX0_takeDifferent 54 = .ok (.bastore, 1) := by decide +kernel
theorem dX0_takeDifferent_55 : decode cX0_takeDifferent 55 = .ok (.return_, 1) := by decide +kernel
theorem dX0_takeDifferent_56 : decode cX0_takeDifferent 56 = .ok (.iload_n 3, 1) := by decide +kernel
theorem dX0_takeDifferent_57 : decode cX0_takeDifferent 57 = .ok (.istore 4, 2) := by decide +kernel
theorem dX0_takeDifferent_59 : decode cX0_takeDifferent 59 = .ok (.iload 4, 2) := by decide +kernel
theorem dX0_takeDifferent_61 : decode cX0_takeDifferent 61 = .ok (.ifCond .le 50, 3) := by decide +kernel
theorem dX0_takeDifferent_64 : decode cX0_takeDifferent 64 = .ok (.aload_n 0, 1) := by decide +kernel
theorem dX0_takeDifferent_65 : decode cX0_takeDifferent 65 = .ok (.getfield 25, 3) := by decide +kernel
theorem dX0_takeDifferent_68 : decode cX0_takeDifferent 68 = .ok (.iload_n 1, 1) := by decide +kernel
theorem dX0_takeDifferent_69 : decode cX0_takeDifferent 69 = .ok (.iconst 4, 1) := by decide +kernel
theorem dX0_takeDifferent_70 : decode cX0_takeDifferent 70 = .ok (.imul, 1) := by decide +kernel
theorem dX0_takeDifferent_71 : decode cX0_takeDifferent 71 = .ok (.iload 4, 2) := by decide +kernel
theorem dX0_takeDifferent_73 : decode cX0_takeDifferent 73 = .ok (.iadd, 1) := by decide +kernel
theorem dX0_takeDifferent_74 : decode cX0_takeDifferent 74 = .ok (.iconst 1, 1) := by decide +kernel
theorem dX0_takeDifferent_75 : decode cX0_takeDifferent 75 = .ok (.isub, 1) := by decide +kernel
theorem dX0_takeDifferent_76 : decode cX0_takeDifferent 76 = .ok (.iaload, 1) := by decide +kernel
theorem dX0_takeDifferent_77 : decode cX0_takeDifferent 77 = .ok (.iload_n 2, 1) := by decide +kernel
theorem dX0_takeDifferent_78 : decode cX0_takeDifferent 78 = .ok (.if_icmp .le 33, 3) := by decide +kernel
theorem dX0_takeDifferent_81 : decode cX0_takeDifferent 81 = .ok (.aload_n 0, 1) := by decide +kernel
theorem dX0_takeDifferent_82 : decode cX0_takeDifferent 82 = .ok (.getfield 25, 3) := by decide +kernel
theorem dX0_takeDifferent_85 : decode cX0_takeDifferent 85 = .ok (.iload_n 1, 1) := by decide +kernel
theorem dX0_takeDifferent_86 : decode cX0_takeDifferent 86 = .ok (.iconst 4, 1) := by decide +kernel
theorem dX0_takeDifferent_87 : decode cX0_takeDifferent 87 = .ok (.imul, 1) := by decide +kernel
theorem dX0_takeDifferent_88 : decode cX0_takeDifferent 88 = .ok (.iload 4, 2) := by decide +kernel
theorem dX0_takeDifferent_90 : decode cX0_takeDifferent 90 = .ok (.iadd, 1) := by decide +kernel
theorem dX0_takeDifferent_91 : decode cX0_takeDifferent 91 = .ok (.aload_n 0, 1) := by decide +kernel
theorem dX0_takeDifferent_92 : decode cX0_takeDifferent 92 = .ok (.getfield 25, 3) := by decide +kernel
theorem dX0_takeDifferent_95 : decode cX0_takeDifferent 95 = .ok (.iload_n 1, 1) := by decide +kernel
theorem dX0_takeDifferent_96 : decode cX0_takeDifferent 96 = .ok (.iconst 4, 1) := by decide +kernel
theorem dX0_takeDifferent_97 : decode cX0_takeDifferent 97 = .ok (.imul, 1) := by decide +kernel
theorem dX0_takeDifferent_98 : decode cX0_takeDifferent 98 = .ok (.iload 4, 2) := by decide +kernel
theorem dX0_takeDifferent_100 : decode cX0_takeDifferent 100 = .ok (.iadd, 1) := by decide +kernel
theorem dX0_takeDifferent_101 : decode cX0_takeDifferent 101 = .ok (.iconst 1, 1) := by decide +kernel
theorem dX0_takeDifferent_102 : decode cX0_takeDifferent 102 = .ok (.isub, 1) := by decide +kernel
theorem dX0_takeDifferent_103 : decode cX0_takeDifferent 103 = .ok (.iaload, 1) := by decide +kernel
theorem dX0_takeDifferent_104 : decode cX0_takeDifferent 104 = .ok (.iastore, 1) := by decide +kernel
theorem dX0_takeDifferent_105 : decode cX0_takeDifferent 105 = .ok (.iinc 4 (-1), 3) := by decide +kernel
theorem dX0_takeDifferent_108 : decode cX0_takeDifferent 108 = .ok (.goto (-49), 3) := by decide +kernel
theorem dX0_takeDifferent_111 : decode cX0_takeDifferent 111 = .ok (.aload_n 0, 1) := by decide +kernel
theorem dX0_takeDifferent_112 : decode cX0_takeDifferent 112 = .ok (.getfield 25, 3) := by decide +kernel
theorem dX0_takeDifferent_115 : decode cX0_takeDifferent 115 = .ok (.iload_n 1, 1) := by decide +kernel
theorem dX0_takeDifferent_116 : decode cX0_takeDifferent 116 = .ok (.iconst 4, 1) := by decide +kernel
theorem dX0_takeDifferent_117 : decode cX0_takeDifferent 117 = .ok (.imul, 1) := by decide +kernel
theorem dX0_takeDifferent_118 : decode cX0_takeDifferent 118 = .ok (.iload 4, 2) := by decide +kernel
theorem dX0_takeDifferent_120 : decode cX0_takeDifferent 120 = .ok (.iadd, 1) := by decide +kernel
theorem dX0_takeDifferent_121 : decode cX0_takeDifferent 121 = .ok (.iload_n 2, 1) := by decide +kernel
theorem dX0_takeDifferent_122 : decode cX0_takeDifferent 122 = .ok (.iastore, 1) := by decide +kernel
theorem dX0_takeDifferent_123 : decode cX0_takeDifferent 123 = .ok (.aload_n 0, 1) := by decide +kernel
theorem dX0_takeDifferent_124 : decode cX0_takeDifferent 124 = .ok (.getfield 28, 3) := by decide +kernel
theorem dX0_takeDifferent_127 : decode cX0_takeDifferent 127 = .ok (.iload_n 1, 1) := by decide +kernel
theorem dX0_takeDifferent_128 : decode cX0_takeDifferent 128 = .ok (.dup2, 1) := by decide +kernel
theorem dX0_takeDifferent_129 : decode cX0_takeDifferent 129 = .ok (.baload, 1) := by decide +kernel
theorem dX0_takeDifferent_130 : decode cX0_takeDifferent 130 = .ok (.iconst 1, 1) := by decide +kernel
theorem dX0_takeDifferent_131 : decode cX0_takeDifferent 131 = .ok (.iadd, 1) := by decide +kernel
theorem dX0_takeDifferent_132 : decode cX0_takeDifferent 132 = .ok (.i2b, 1) := by decide +kernel
theorem dX0_takeDifferent_133 : decode cX0_takeDifferent 133 = .ok (.bastore, 1) := by decide +kernel
theorem dX0_takeDifferent_134 : decode cX0_takeDifferent 134 = .ok (.return_, 1) := by decide +kernel
theorem dX0_takePair_0 : decode cX0_takePair 0 = .ok (.iconst 4, 1) := by decide +kernel
theorem dX0_takePair_1 : decode cX0_takePair 1 = .ok (.iload_n 1, 1) := by decide +kernel
theorem dX0_takePair_2 : decode cX0_takePair 2 = .ok (.imul, 1) := by decide +kernel
theorem dX0_takePair_3 : decode cX0_takePair 3 = .ok (.iload_n 2, 1) := by decide +kernel
theorem dX0_takePair_4 : decode cX0_takePair 4 = .ok (.iadd, 1) := by decide +kernel
theorem dX0_takePair_5 : decode cX0_takePair 5 = .ok (.istore_n 3, 1) := by decide +kernel
theorem dX0_takePair_6 : decode cX0_takePair 6 = .ok (.iconst 1, 1) := by decide +kernel
theorem dX0_takePair_7 : decode cX0_takePair 7 = .ok (.iload_n 3, 1) := by decide +kernel
theorem dX0_takePair_8 : decode cX0_takePair 8 = .ok (.ishl, 1) := by decide +kernel
theorem dX0_takePair_9 : decode cX0_takePair 9 = .ok (.istore 4, 2) := by decide +kernel
theorem dX0_takePair_11 : decode cX0_takePair 11 = .ok (.aload_n 0, 1) := by decide +kernel
theorem dX0_takePair_12 : decode cX0_takePair 12 = .ok (.dup, 1) := by decide +kernel
theorem dX0_takePair_13 : decode cX0_takePair 13 = .ok (.getfield 68, 3) := by decide +kernel
theorem dX0_takePair_16 : decode cX0_takePair 16 = .ok (.aload_n 0, 1) := by decide +kernel
theorem dX0_takePair_17 : decode cX0_takePair 17 = .ok (.getfield 7, 3) := by decide +kernel
theorem dX0_takePair_20 : decode cX0_takePair 20 = .ok (.iload_n 1, 1) := by decide +kernel
theorem dX0_takePair_21 : decode cX0_takePair 21 = .ok (.iaload, 1) := by decide +kernel
theorem dX0_takePair_22 : decode cX0_takePair 22 = .ok (.aload_n 0, 1) := by decide +kernel
theorem dX0_takePair_23 : decode cX0_takePair 23 = .ok (.getfield 7, 3) := by decide +kernel
theorem dX0_takePair_26 : decode cX0_takePair 26 = .ok (.iload_n 2, 1) := by decide +kernel
theorem dX0_takePair_27 : decode cX0_takePair 27 = .ok (.iaload, 1) := by decide +kernel
theorem dX0_takePair_28 : decode cX0_takePair 28 = .ok (.if_icmp .lt 8, 3) := by decide +kernel
theorem dX0_takePair_31 : decode cX0_takePair 31 = .ok (.iload 4, 2) := by decide +kernel
theorem dX0_takePair_33 : decode cX0_takePair 33 = .ok (.goto 4, 3) := by decide +kernel
theorem dX0_takePair_36 : decode cX0_takePair 36 = .ok (.iconst 0, 1) := by decide +kernel
theorem dX0_takePair_37 : decode cX0_takePair 37 = .ok (.ior, 1) := by decide +kernel
theorem dX0_takePair_38 : decode cX0_takePair 38 = .ok (.putfield 68, 3) := by decide +kernel
theorem dX0_takePair_41 : decode cX0_takePair 41 = .ok (.aload_n 0, 1) := by decide +kernel
theorem dX0_takePair_42 : decode cX0_takePair 42 = .ok (.dup, 1) := by decide +kernel
theorem dX0_takePair_43 : decode cX0_takePair 43 = .ok (.getfield 71, 3) := by decide +kernel
theorem dX0_takePair_46 : decode cX0_takePair 46 = .ok (.aload_n 0, 1) := by decide +kernel
theorem dX0_takePair_47 : decode cX0_takePair 47 = .ok (.getfield 7, 3) := by decide +kernel
theorem dX0_takePair_50 : decode cX0_takePair 50 = .ok (.iload_n 1, 1) := by decide +kernel
theorem dX0_takePair_51 : decode cX0_takePair 51 = .ok (.iaload, 1) := by decide +kernel
theorem dX0_takePair_52 : decode cX0_takePair 52 = .ok (.aload_n 0, 1) := by decide +kernel
theorem dX0_takePair_53 : decode cX0_takePair 53 = .ok (.getfield 7, 3) := by decide +kernel
theorem dX0_takePair_56 : decode cX0_takePair 56 = .ok (.iload_n 2, 1) := by decide +kernel
theorem dX0_takePair_57 : decode cX0_takePair 57 = .ok (.iaload, 1) := by decide +kernel
theorem dX0_takePair_58 : decode cX0_takePair 58 = .ok (.if_icmp .le 8, 3) := by decide +kernel
theorem dX0_takePair_61 : decode cX0_takePair 61 = .ok (.iload 4, 2) := by decide +kernel
theorem dX0_takePair_63 : decode cX0_takePair 63 = .ok (.goto 4, 3) := by decide +kernel
theorem dX0_takePair_66 : decode cX0_takePair 66 = .ok (.iconst 0, 1) := by decide +kernel
theorem dX0_takePair_67 : decode cX0_takePair 67 = .ok (.ior, 1) := by decide +kernel
theorem dX0_takePair_68 : decode cX0_takePair 68 = .ok (.putfield 71, 3) := by decide +kernel
theorem dX0_takePair_71 : decode cX0_takePair 71 = .ok (.aload_n 0, 1) := by decide +kernel
theorem dX0_takePair_72 : decode cX0_takePair 72 = .ok (.dup, 1) := by decide +kernel
theorem dX0_takePair_73 : decode cX0_takePair 73 = .ok (.getfield 74, 3) := by decide +kernel
theorem dX0_takePair_76 : decode cX0_takePair 76 = .ok (.aload_n 0, 1) := by decide +kernel
theorem dX0_takePair_77 : decode cX0_takePair 77 = .ok (.getfield 7, 3) := by decide +kernel
theorem dX0_takePair_80 : decode cX0_takePair 80 = .ok (.iload_n 1, 1) := by decide +kernel
theorem dX0_takePair_81 : decode cX0_takePair 81 = .ok (.iaload, 1) := by decide +kernel
theorem dX0_takePair_82 : decode cX0_takePair 82 = .ok (.aload_n 0, 1) := by decide +kernel
theorem dX0_takePair_83 : decode cX0_takePair 83 = .ok (.getfield 7, 3) := by decide +kernel
theorem dX0_takePair_86 : decode cX0_takePair 86 = .ok (.iload_n 2, 1) := by decide +kernel
theorem dX0_takePair_87 : decode cX0_takePair 87 = .ok (.iaload, 1) := by decide +kernel
theorem dX0_takePair_88 : decode cX0_takePair 88 = .ok (.if_icmp .eq 8, 3) := by decide +kernel
theorem dX0_takePair_91 : decode cX0_takePair 91 = .ok (.iload 4, 2) := by decide +kernel
theorem dX0_takePair_93 : decode cX0_takePair 93 = .ok (.goto 4, 3) := by decide +kernel
theorem dX0_takePair_96 : decode cX0_takePair 96 = .ok (.iconst 0, 1) := by decide +kernel
theorem dX0_takePair_97 : decode cX0_takePair 97 = .ok (.ior, 1) := by decide +kernel
theorem dX0_takePair_98 : decode cX0_takePair 98 = .ok (.putfield 74, 3) := by decide +kernel
theorem dX0_takePair_101 : decode cX0_takePair 101 = .ok (.aload_n 0, 1) := by decide +kernel
theorem dX0_takePair_102 : decode cX0_takePair 102 = .ok (.dup, 1) := by decide +kernel
theorem dX0_takePair_103 : decode cX0_takePair 103 = .ok (.getfield 77, 3) := by decide +kernel
theorem dX0_takePair_106 : decode cX0_takePair 106 = .ok (.aload_n 0, 1) := by decide +kernel
theorem dX0_takePair_107 : decode cX0_takePair 107 = .ok (.getfield 7, 3) := by decide +kernel
theorem dX0_takePair_110 : decode cX0_takePair 110 = .ok (.iload_n 1, 1) := by decide +kernel
theorem dX0_takePair_111 : decode cX0_takePair 111 = .ok (.iaload, 1) := by decide +kernel
theorem dX0_takePair_112 : decode cX0_takePair 112 = .ok (.aload_n 0, 1) := by decide +kernel
theorem dX0_takePair_113 : decode cX0_takePair 113 = .ok (.getfield 7, 3) := by decide +kernel
theorem dX0_takePair_116 : decode cX0_takePair 116 = .ok (.iload_n 2, 1) := by decide +kernel
theorem dX0_takePair_117 : decode cX0_takePair 117 = .ok (.iaload, 1) := by decide +kernel
theorem dX0_takePair_118 : decode cX0_takePair 118 = .ok (.if_icmp .ne 8, 3) := by decide +kernel
theorem dX0_takePair_121 : decode cX0_takePair 121 = .ok (.iload 4, 2) := by decide +kernel
theorem dX0_takePair_123 : decode cX0_takePair 123 = .ok (.goto 4, 3) := by decide +kernel
theorem dX0_takePair_126 : decode cX0_takePair 126 = .ok (.iconst 0, 1) := by decide +kernel
theorem dX0_takePair_127 : decode cX0_takePair 127 = .ok (.ior, 1) := by decide +kernel
theorem dX0_takePair_128 : decode cX0_takePair 128 = .ok (.putfield 77, 3) := by decide +kernel
theorem dX0_takePair_131 : decode cX0_takePair 131 = .ok (.aload_n 0, 1) := by decide +kernel
theorem dX0_takePair_132 : decode cX0_takePair 132 = .ok (.getfield 7, 3) := by decide +kernel
theorem dX0_takePair_135 : decode cX0_takePair 135 = .ok (.iload_n 2, 1) := by decide +kernel
theorem dX0_takePair_136 : decode cX0_takePair 136 = .ok (.iaload, 1) := by decide +kernel
theorem dX0_takePair_137 : decode cX0_takePair 137 = .ok (.aload_n 0, 1) := by decide +kernel
theorem dX0_takePair_138 : decode cX0_takePair 138 = .ok (.getfield 7, 3) := by decide +kernel
theorem dX0_takePair_141 : decode cX0_takePair 141 = .ok (.iload_n 1, 1) := by decide +kernel
theorem dX0_takePair_142 : decode cX0_takePair 142 = .ok (.iaload, 1) := by decide +kernel
theorem dX0_takePair_143 : decode cX0_takePair 143 = .ok (.isub, 1) := by decide +kernel
theorem dX0_takePair_144 : decode cX0_takePair 144 = .ok (.istore 5, 2) := by decide +kernel
theorem dX0_takePair_146 : decode cX0_takePair 146 = .ok (.aload_n 0, 1) := by decide +kernel
theorem dX0_takePair_147 : decode cX0_takePair 147 = .ok (.getfield 54, 3) := by decide +kernel
theorem dX0_takePair_150 : decode cX0_takePair 150 = .ok (.ifCond .ne 14, 3) := by decide +kernel
theorem dX0_takePair_153 : decode cX0_takePair 153 = .ok (.aload_n 0, 1) := by decide +kernel
theorem dX0_takePair_154 : decode cX0_takePair 154 = .ok (.getfield 44, 3) := by decide +kernel
theorem dX0_takePair_157 : decode cX0_takePair 157 = .ok (.iload_n 3, 1) := by decide +kernel
theorem dX0_takePair_158 : decode cX0_takePair 158 = .ok (.iload 5, 2) := by decide +kernel
theorem dX0_takePair_160 : decode cX0_takePair 160 = .ok (.iastore, 1) := by decide +kernel
theorem dX0_takePair_161 : decode cX0_takePair 161 = .ok (.goto 25, 3) := by decide +kernel
theorem dX0_takePair_164 : decode cX0_takePair 164 = .ok (.iload 5, 2) := by decide +kernel
theorem dX0_takePair_166 : decode cX0_takePair 166 = .ok (.aload_n 0, 1) := by decide +kernel
theorem dX0_takePair_167 : decode cX0_takePair 167 = .ok (.getfield 44, 3) := by decide +kernel
theorem dX0_takePair_170 : decode cX0_takePair 170 = .ok (.iload_n 3, 1) := by decide +kernel
theorem dX0_takePair_171 : decode cX0_takePair 171 = .ok (.iaload, 1) := by decide +kernel
theorem dX0_takePair_172 : decode cX0_takePair 172 = .ok (.if_icmp .eq 14, 3) := by decide +kernel
theorem dX0_takePair_175 : decode cX0_takePair 175 = .ok (.aload_n 0, 1) := by decide +kernel
theorem dX0_takePair_176 : decode cX0_takePair 176 = .ok (.dup, 1) := by decide +kernel
theorem dX0_takePair_177 : decode cX0_takePair 177 = .ok (.getfield 80, 3) := by decide +kernel
theorem dX0_takePair_180 : decode cX0_takePair 180 = .ok (.iload 4, 2) := by decide +kernel
theorem dX0_takePair_182 : decode cX0_takePair 182 = .ok (.ior, 1) := by decide +kernel
theorem dX0_takePair_183 : decode cX0_takePair 183 = .ok (.putfield 80, 3) := by decide +kernel
theorem dX0_takePair_186 : decode cX0_takePair 186 = .ok (.aload_n 0, 1) := by decide +kernel
theorem dX0_takePair_187 : decode cX0_takePair 187 = .ok (.iload_n 3, 1) := by decide +kernel
theorem dX0_takePair_188 : decode cX0_takePair 188 = .ok (.aload_n 0, 1) := by decide +kernel
theorem dX0_takePair_189 : decode cX0_takePair 189 = .ok (.getfield 7, 3) := by decide +kernel
theorem dX0_takePair_192 : decode cX0_takePair 192 = .ok (.iload_n 1, 1) := by decide +kernel
theorem dX0_takePair_193 : decode cX0_takePair 193 = .ok (.iaload, 1) := by decide +kernel
theorem dX0_takePair_194 : decode cX0_takePair 194 = .ok (.aload_n 0, 1) := by decide +kernel
theorem dX0_takePair_195 : decode cX0_takePair 195 = .ok (.getfield 7, 3) := by decide +kernel
theorem dX0_takePair_198 : decode cX0_takePair 198 = .ok (.iload_n 2, 1) := by decide +kernel
theorem dX0_takePair_199 : decode cX0_takePair 199 = .ok (.iaload, 1) := by decide +kernel
theorem dX0_takePair_200 : decode cX0_takePair 200 = .ok (.invokevirtual 94, 3) := by decide +kernel
theorem dX0_takePair_203 : decode cX0_takePair 203 = .ok (.return_, 1) := by decide +kernel
theorem dX0_takeLine_0 : decode cX0_takeLine 0 = .ok (.aload_n 0, 1) := by decide +kernel
theorem dX0_takeLine_1 : decode cX0_takeLine 1 = .ok (.getfield 32, 3) := by decide +kernel
theorem dX0_takeLine_4 : decode cX0_takeLine 4 = .ok (.iload_n 1, 1) := by decide +kernel
theorem dX0_takeLine_5 : decode cX0_takeLine 5 = .ok (.baload, 1) := by decide +kernel
theorem dX0_takeLine_6 : decode cX0_takeLine 6 = .ok (.ifCond .ne 27, 3) := by decide +kernel
theorem dX0_takeLine_9 : decode cX0_takeLine 9 = .ok (.aload_n 0, 1) := by decide +kernel
theorem dX0_takeLine_10 : decode cX0_takeLine 10 = .ok (.getfield 32, 3) := by decide +kernel
theorem dX0_takeLine_13 : decode cX0_takeLine 13 = .ok (.iload_n 1, 1) := by decide +kernel
theorem dX0_takeLine_14 : decode cX0_takeLine 14 = .ok (.iconst 1, 1) := by decide +kernel
theorem dX0_takeLine_15 : decode cX0_takeLine 15 = .ok (.bastore, 1) := by decide +kernel
theorem dX0_takeLine_16 : decode cX0_takeLine 16 = .ok (.aload_n 0, 1) := by decide +kernel
theorem dX0_takeLine_17 : decode cX0_takeLine 17 = .ok (.getfield 35, 3) := by decide +kernel
theorem dX0_takeLine_20 : decode cX0_takeLine 20 = .ok (.iload_n 1, 1) := by decide +kernel
theorem dX0_takeLine_21 : decode cX0_takeLine 21 = .ok (.iload_n 2, 1) := by decide +kernel
theorem dX0_takeLine_22 : decode cX0_takeLine 22 = .ok (.iastore, 1) := by decide +kernel
theorem dX0_takeLine_23 : decode cX0_takeLine 23 = .ok (.aload_n 0, 1) := by decide +kernel
theorem dX0_takeLine_24 : decode cX0_takeLine 24 = .ok (.getfield 38, 3) := by decide +kernel
theorem dX0_takeLine_27 : decode cX0_takeLine 27 = .ok (.iload_n 1, 1) := by decide +kernel
theorem dX0_takeLine_28 : decode cX0_takeLine 28 = .ok (.iload_n 3, 1) := by decide +kernel
theorem dX0_takeLine_29 : decode cX0_takeLine 29 = .ok (.iastore, 1) := by decide +kernel
theorem dX0_takeLine_30 : decode cX0_takeLine 30 = .ok (.goto 120, 3) := by decide +kernel
theorem dX0_takeLine_33 : decode cX0_takeLine 33 = .ok (.aload_n 0, 1) := by decide +kernel
theorem dX0_takeLine_34 : decode cX0_takeLine 34 = .ok (.getfield 32, 3) := by decide +kernel
theorem dX0_takeLine_37 : decode cX0_takeLine 37 = .ok (.iload_n 1, 1) := by decide +kernel
theorem dX0_takeLine_38 : decode cX0_takeLine 38 = .ok (.baload, 1) := by decide +kernel
theorem dX0_takeLine_39 : decode cX0_takeLine 39 = .ok (.iconst 1, 1) := by decide +kernel
theorem dX0_takeLine_40 : decode cX0_takeLine 40 = .ok (.if_icmp .ne 67, 3) := by decide +kernel
theorem dX0_takeLine_43 : decode cX0_takeLine 43 = .ok (.iload_n 2, 1) := by decide +kernel
theorem dX0_takeLine_44 : decode cX0_takeLine 44 = .ok (.aload_n 0, 1) := by decide +kernel
theorem dX0_takeLine_45 : decode cX0_takeLine 45 = .ok (.getfield 35, 3) := by decide +kernel
theorem dX0_takeLine_48 : decode cX0_takeLine 48 = .ok (.iload_n 1, 1) := by decide +kernel
theorem dX0_takeLine_49 : decode cX0_takeLine 49 = .ok (.iaload, 1) := by decide +kernel
theorem dX0_takeLine_50 : decode cX0_takeLine 50 = .ok (.isub, 1) := by decide +kernel
theorem dX0_takeLine_51 : decode cX0_takeLine 51 = .ok (.istore 4, 2) := by decide +kernel
theorem dX0_takeLine_53 : decode cX0_takeLine 53 = .ok (.iload_n 3, 1) := by decide +kernel
theorem dX0_takeLine_54 : decode cX0_takeLine 54 = .ok (.aload_n 0, 1) := by decide +kernel
theorem dX0_takeLine_55 : decode cX0_takeLine 55 = .ok (.getfield 38, 3) := by decide +kernel
theorem dX0_takeLine_58 : decode cX0_takeLine 58 = .ok (.iload_n 1, 1) := by decide +kernel
theorem dX0_takeLine_59 : decode cX0_takeLine 59 = .ok (.iaload, 1) := by decide +kernel
theorem dX0_takeLine_60 : decode cX0_takeLine 60 = .ok (.isub, 1) := by decide +kernel
theorem dX0_takeLine_61 : decode cX0_takeLine 61 = .ok (.istore 5, 2) := by decide +kernel
theorem dX0_takeLine_63 : decode cX0_takeLine 63 = .ok (.iload 4, 2) := by decide +kernel
theorem dX0_takeLine_65 : decode cX0_takeLine 65 = .ok (.ifCond .eq 22, 3) := by decide +kernel
theorem dX0_takeLine_68 : decode cX0_takeLine 68 = .ok (.iload 5, 2) := by decide +kernel
theorem dX0_takeLine_70 : decode cX0_takeLine 70 = .ok (.ifCond .eq 17, 3) := by decide +kernel
theorem dX0_takeLine_73 : decode cX0_takeLine 73 = .ok (.aload_n 0, 1) := by decide +kernel
theorem dX0_takeLine_74 : decode cX0_takeLine 74 = .ok (.iload_n 1, 1) := by decide +kernel
theorem dX0_takeLine_75 : decode cX0_takeLine 75 = .ok (.iload 4, 2) := by decide +kernel
theorem dX0_takeLine_77 : decode cX0_takeLine 77 = .ok (.iload 5, 2) := by decide +kernel
theorem dX0_takeLine_79 : decode cX0_takeLine 79 = .ok (.iload_n 2, 1) := by decide +kernel
theorem dX0_takeLine_80 : decode cX0_takeLine 80 = .ok (.iload_n 3, 1) := by decide +kernel
theorem dX0_takeLine_81 : decode cX0_takeLine 81 = .ok (.invokevirtual 98, 3) := by decide +kernel
theorem dX0_takeLine_84 : decode cX0_takeLine 84 = .ok (.goto 20, 3) := by decide +kernel
theorem dX0_takeLine_87 : decode cX0_takeLine 87 = .ok (.iload 4, 2) := by decide +kernel
theorem dX0_takeLine_89 : decode cX0_takeLine 89 = .ok (.ifCond .ne 8, 3) := by decide +kernel
theorem dX0_takeLine_92 : decode cX0_takeLine 92 = .ok (.iload 5, 2) := by decide +kernel
theorem dX0_takeLine_94 : decode cX0_takeLine 94 = .ok (.ifCond .eq 10, 3) := by decide +kernel
theorem dX0_takeLine_97 : decode cX0_takeLine 97 = .ok (.aload_n 0, 1) := by decide +kernel
theorem dX0_takeLine_98 : decode cX0_takeLine 98 = .ok (.getfield 32, 3) := by decide +kernel
theorem dX0_takeLine_101 : decode cX0_takeLine 101 = .ok (.iload_n 1, 1) := by decide +kernel
theorem dX0_takeLine_102 : decode cX0_takeLine 102 = .ok (.iconst 3, 1) := by decide +kernel
theorem dX0_takeLine_103 : decode cX0_takeLine 103 = .ok (.bastore, 1) := by decide +kernel
theorem dX0_takeLine_104 : decode cX0_takeLine 104 = .ok (.goto 46, 3) := by decide +kernel
theorem dX0_takeLine_107 : decode cX0_takeLine 107 = .ok (.aload_n 0, 1) := by decide +kernel
theorem dX0_takeLine_108 : decode cX0_takeLine 108 = .ok (.getfield 32, 3) := by decide +kernel
theorem dX0_takeLine_111 : decode cX0_takeLine 111 = .ok (.iload_n 1, 1) := by decide +kernel
theorem dX0_takeLine_112 : decode cX0_takeLine 112 = .ok (.baload, 1) := by decide +kernel
theorem dX0_takeLine_113 : decode cX0_takeLine 113 = .ok (.iconst 2, 1) := by decide +kernel
theorem dX0_takeLine_114 : decode cX0_takeLine 114 = .ok (.if_icmp .ne 36, 3) := by decide +kernel
theorem dX0_takeLine_117 : decode cX0_takeLine 117 = .ok (.aload_n 0, 1) := by decide +kernel
theorem dX0_takeLine_118 : decode cX0_takeLine 118 = .ok (.getfield 35, 3) := by decide +kernel
end
section
set_option maxRecDepth 100000
theorem dX0_takeLine_121 : decode cX0_takeLine 121 = .ok (.iload_n 1, 1) := by decide +kernel
theorem dX0_takeLine_122 : decode cX0_takeLine 122 = .ok (.iaload, 1) := by decide +kernel
theorem dX0_takeLine_123 : decode cX0_takeLine 123 = .ok (.iload_n 3, 1) := by decide +kernel
theorem dX0_takeLine_124 : decode cX0_takeLine 124 = .ok (.imul, 1) := by decide +kernel
theorem dX0_takeLine_125 : decode cX0_takeLine 125 = .ok (.aload_n 0, 1) := by decide +kernel
theorem dX0_takeLine_126 : decode cX0_takeLine 126 = .ok (.getfield 38, 3) := by decide +kernel
theorem dX0_takeLine_129 : decode cX0_takeLine 129 = .ok (.iload_n 1, 1) := by decide +kernel
theorem dX0_takeLine_130 : decode cX0_takeLine 130 = .ok (.iaload, 1) := by decide +kernel
theorem dX0_takeLine_131 : decode cX0_takeLine 131 = .ok (.iload_n 2, 1) := by decide +kernel
theorem dX0_takeLine_132 : decode cX0_takeLine 132 = .ok (.imul, 1) := by decide +kernel
theorem dX0_takeLine_133 : decode cX0_takeLine 133 = .ok (.aload_n 0, 1) := by decide +kernel
theorem dX0_takeLine_134 : decode cX0_takeLine 134 = .ok (.getfield 41, 3) := by decide +kernel
theorem dX0_takeLine_137 : decode cX0_takeLine 137 = .ok (.iload_n 1, 1) := by decide +kernel
theorem dX0_takeLine_138 : decode cX0_takeLine 138 = .ok (.iaload, 1) := by decide +kernel
theorem dX0_takeLine_139 : decode cX0_takeLine 139 = .ok (.iadd, 1) := by decide +kernel
theorem dX0_takeLine_140 : decode cX0_takeLine 140 = .ok (.if_icmp .eq 10, 3) := by decide +kernel
theorem dX0_takeLine_143 : decode cX0_takeLine 143 = .ok (.aload_n 0, 1) := by decide +kernel
theorem dX0_takeLine_144 : decode cX0_takeLine 144 = .ok (.getfield 32, 3) := by decide +kernel
theorem dX0_takeLine_147 : decode cX0_takeLine 147 = .ok (.iload_n 1, 1) := by decide +kernel
theorem dX0_takeLine_148 : decode cX0_takeLine 148 = .ok (.iconst 3, 1) := by decide +kernel
theorem dX0_takeLine_149 : decode cX0_takeLine 149 = .ok (.bastore, 1) := by decide +kernel
theorem dX0_takeLine_150 : decode cX0_takeLine 150 = .ok (.return_, 1) := by decide +kernel
theorem dX0_draw_0 : decode cX0_draw 0 = .ok (.iload_n 2, 1) := by decide +kernel
theorem dX0_draw_1 : decode cX0_draw 1 = .ok (.iload_n 3, 1) := by decide +kernel
theorem dX0_draw_2 : decode cX0_draw 2 = .ok (.invokestatic 87, 3) := by decide +kernel
theorem dX0_draw_5 : decode cX0_draw 5 = .ok (.istore 6, 2) := by decide +kernel
theorem dX0_draw_7 : decode cX0_draw 7 = .ok (.iload_n 2, 1) := by decide +kernel
theorem dX0_draw_8 : decode cX0_draw 8 = .ok (.ifCond .ge 7, 3) := by decide +kernel
theorem dX0_draw_11 : decode cX0_draw 11 = .ok (.iconst (-1), 1) := by decide +kernel
theorem dX0_draw_12 : decode cX0_draw 12 = .ok (.goto 4, 3) := by decide +kernel
theorem dX0_draw_15 : decode cX0_draw 15 = .ok (.iconst 1, 1) := by decide +kernel
theorem dX0_draw_16 : decode cX0_draw 16 = .ok (.istore 7, 2) := by decide +kernel
theorem dX0_draw_18 : decode cX0_draw 18 = .ok (.iload 6, 2) := by decide +kernel
theorem dX0_draw_20 : decode cX0_draw 20 = .ok (.ifCond .le 13, 3) := by decide +kernel
theorem dX0_draw_23 : decode cX0_draw 23 = .ok (.iload 7, 2) := by decide +kernel
theorem dX0_draw_25 : decode cX0_draw 25 = .ok (.iload_n 2, 1) := by decide +kernel
theorem dX0_draw_26 : decode cX0_draw 26 = .ok (.imul, 1) := by decide +kernel
theorem dX0_draw_27 : decode cX0_draw 27 = .ok (.iload 6, 2) := by decide +kernel
theorem dX0_draw_29 : decode cX0_draw 29 = .ok (.idiv, 1) := by decide +kernel
theorem dX0_draw_30 : decode cX0_draw 30 = .ok (.goto 4, 3) := by decide +kernel
theorem dX0_draw_33 : decode cX0_draw 33 = .ok (.iconst 1, 1) := by decide +kernel
theorem dX0_draw_34 : decode cX0_draw 34 = .ok (.istore 8, 2) := by decide +kernel
theorem dX0_draw_36 : decode cX0_draw 36 = .ok (.iload 6, 2) := by decide +kernel
theorem dX0_draw_38 : decode cX0_draw 38 = .ok (.ifCond .le 13, 3) := by decide +kernel
theorem dX0_draw_41 : decode cX0_draw 41 = .ok (.iload 7, 2) := by decide +kernel
theorem dX0_draw_43 : decode cX0_draw 43 = .ok (.iload_n 3, 1) := by decide +kernel
theorem dX0_draw_44 : decode cX0_draw 44 = .ok (.imul, 1) := by decide +kernel
theorem dX0_draw_45 : decode cX0_draw 45 = .ok (.iload 6, 2) := by decide +kernel
theorem dX0_draw_47 : decode cX0_draw 47 = .ok (.idiv, 1) := by decide +kernel
theorem dX0_draw_48 : decode cX0_draw 48 = .ok (.goto 4, 3) := by decide +kernel
theorem dX0_draw_51 : decode cX0_draw 51 = .ok (.iconst 0, 1) := by decide +kernel
theorem dX0_draw_52 : decode cX0_draw 52 = .ok (.istore 9, 2) := by decide +kernel
theorem dX0_draw_54 : decode cX0_draw 54 = .ok (.aload_n 0, 1) := by decide +kernel
theorem dX0_draw_55 : decode cX0_draw 55 = .ok (.getfield 32, 3) := by decide +kernel
theorem dX0_draw_58 : decode cX0_draw 58 = .ok (.iload_n 1, 1) := by decide +kernel
theorem dX0_draw_59 : decode cX0_draw 59 = .ok (.iconst 2, 1) := by decide +kernel
theorem dX0_draw_60 : decode cX0_draw 60 = .ok (.bastore, 1) := by decide +kernel
theorem dX0_draw_61 : decode cX0_draw 61 = .ok (.aload_n 0, 1) := by decide +kernel
theorem dX0_draw_62 : decode cX0_draw 62 = .ok (.getfield 35, 3) := by decide +kernel
theorem dX0_draw_65 : decode cX0_draw 65 = .ok (.iload_n 1, 1) := by decide +kernel
theorem dX0_draw_66 : decode cX0_draw 66 = .ok (.iload 8, 2) := by decide +kernel
theorem dX0_draw_68 : decode cX0_draw 68 = .ok (.iastore, 1) := by decide +kernel
theorem dX0_draw_69 : decode cX0_draw 69 = .ok (.aload_n 0, 1) := by decide +kernel
theorem dX0_draw_70 : decode cX0_draw 70 = .ok (.getfield 38, 3) := by decide +kernel
theorem dX0_draw_73 : decode cX0_draw 73 = .ok (.iload_n 1, 1) := by decide +kernel
theorem dX0_draw_74 : decode cX0_draw 74 = .ok (.iload 9, 2) := by decide +kernel
theorem dX0_draw_76 : decode cX0_draw 76 = .ok (.iastore, 1) := by decide +kernel
theorem dX0_draw_77 : decode cX0_draw 77 = .ok (.aload_n 0, 1) := by decide +kernel
theorem dX0_draw_78 : decode cX0_draw 78 = .ok (.getfield 41, 3) := by decide +kernel
theorem dX0_draw_81 : decode cX0_draw 81 = .ok (.iload_n 1, 1) := by decide +kernel
theorem dX0_draw_82 : decode cX0_draw 82 = .ok (.iload 8, 2) := by decide +kernel
theorem dX0_draw_84 : decode cX0_draw 84 = .ok (.iload 5, 2) := by decide +kernel
theorem dX0_draw_86 : decode cX0_draw 86 = .ok (.imul, 1) := by decide +kernel
theorem dX0_draw_87 : decode cX0_draw 87 = .ok (.iload 9, 2) := by decide +kernel
theorem dX0_draw_89 : decode cX0_draw 89 = .ok (.iload 4, 2) := by decide +kernel
theorem dX0_draw_91 : decode cX0_draw 91 = .ok (.imul, 1) := by decide +kernel
theorem dX0_draw_92 : decode cX0_draw 92 = .ok (.isub, 1) := by decide +kernel
theorem dX0_draw_93 : decode cX0_draw 93 = .ok (.iastore, 1) := by decide +kernel
theorem dX0_draw_94 : decode cX0_draw 94 = .ok (.return_, 1) := by decide +kernel
theorem dX0_takeSums_0 : decode cX0_takeSums 0 = .ok (.iconst 0, 1) := by decide +kernel
theorem dX0_takeSums_1 : decode cX0_takeSums 1 = .ok (.istore_n 1, 1) := by decide +kernel
theorem dX0_takeSums_2 : decode cX0_takeSums 2 = .ok (.iload_n 1, 1) := by decide +kernel
theorem dX0_takeSums_3 : decode cX0_takeSums 3 = .ok (.bipush 64, 2) := by decide +kernel
theorem dX0_takeSums_5 : decode cX0_takeSums 5 = .ok (.if_icmp .ge 53, 3) := by decide +kernel
theorem dX0_takeSums_8 : decode cX0_takeSums 8 = .ok (.aload_n 0, 1) := by decide +kernel
theorem dX0_takeSums_9 : decode cX0_takeSums 9 = .ok (.getfield 7, 3) := by decide +kernel
theorem dX0_takeSums_12 : decode cX0_takeSums 12 = .ok (.iload_n 1, 1) := by decide +kernel
theorem dX0_takeSums_13 : decode cX0_takeSums 13 = .ok (.iconst 4, 1) := by decide +kernel
theorem dX0_takeSums_14 : decode cX0_takeSums 14 = .ok (.ishr, 1) := by decide +kernel
theorem dX0_takeSums_15 : decode cX0_takeSums 15 = .ok (.iaload, 1) := by decide +kernel
theorem dX0_takeSums_16 : decode cX0_takeSums 16 = .ok (.aload_n 0, 1) := by decide +kernel
theorem dX0_takeSums_17 : decode cX0_takeSums 17 = .ok (.getfield 7, 3) := by decide +kernel
theorem dX0_takeSums_20 : decode cX0_takeSums 20 = .ok (.iload_n 1, 1) := by decide +kernel
theorem dX0_takeSums_21 : decode cX0_takeSums 21 = .ok (.iconst 2, 1) := by decide +kernel
theorem dX0_takeSums_22 : decode cX0_takeSums 22 = .ok (.ishr, 1) := by decide +kernel
theorem dX0_takeSums_23 : decode cX0_takeSums 23 = .ok (.iconst 3, 1) := by decide +kernel
theorem dX0_takeSums_24 : decode cX0_takeSums 24 = .ok (.iand, 1) := by decide +kernel
theorem dX0_takeSums_25 : decode cX0_takeSums 25 = .ok (.iaload, 1) := by decide +kernel
theorem dX0_takeSums_26 : decode cX0_takeSums 26 = .ok (.iadd, 1) := by decide +kernel
theorem dX0_takeSums_27 : decode cX0_takeSums 27 = .ok (.istore_n 2, 1) := by decide +kernel
theorem dX0_takeSums_28 : decode cX0_takeSums 28 = .ok (.iload_n 2, 1) := by decide +kernel
theorem dX0_takeSums_29 : decode cX0_takeSums 29 = .ok (.aload_n 0, 1) := by decide +kernel
theorem dX0_takeSums_30 : decode cX0_takeSums 30 = .ok (.getfield 7, 3) := by decide +kernel
theorem dX0_takeSums_33 : decode cX0_takeSums 33 = .ok (.iload_n 1, 1) := by decide +kernel
theorem dX0_takeSums_34 : decode cX0_takeSums 34 = .ok (.iconst 3, 1) := by decide +kernel
theorem dX0_takeSums_35 : decode cX0_takeSums 35 = .ok (.iand, 1) := by decide +kernel
theorem dX0_takeSums_36 : decode cX0_takeSums 36 = .ok (.iaload, 1) := by decide +kernel
theorem dX0_takeSums_37 : decode cX0_takeSums 37 = .ok (.if_icmp .eq 15, 3) := by decide +kernel
theorem dX0_takeSums_40 : decode cX0_takeSums 40 = .ok (.aload_n 0, 1) := by decide +kernel
theorem dX0_takeSums_41 : decode cX0_takeSums 41 = .ok (.dup, 1) := by decide +kernel
theorem dX0_takeSums_42 : decode cX0_takeSums 42 = .ok (.getfield 83, 3) := by decide +kernel
theorem dX0_takeSums_45 : decode cX0_takeSums 45 = .ok (.lconst 1, 1) := by decide +kernel
theorem dX0_takeSums_46 : decode cX0_takeSums 46 = .ok (.iload_n 1, 1) := by decide +kernel
theorem dX0_takeSums_47 : decode cX0_takeSums 47 = .ok (.lshl, 1) := by decide +kernel
theorem dX0_takeSums_48 : decode cX0_takeSums 48 = .ok (.lor, 1) := by decide +kernel
theorem dX0_takeSums_49 : decode cX0_takeSums 49 = .ok (.putfield 83, 3) := by decide +kernel
theorem dX0_takeSums_52 : decode cX0_takeSums 52 = .ok (.iinc 1 1, 3) := by decide +kernel
theorem dX0_takeSums_55 : decode cX0_takeSums 55 = .ok (.goto (-53), 3) := by decide +kernel
theorem dX0_takeSums_58 : decode cX0_takeSums 58 = .ok (.return_, 1) := by decide +kernel
theorem dX0_clear_0 : decode cX0_clear 0 = .ok (.aload_n 0, 1) := by decide +kernel
theorem dX0_clear_1 : decode cX0_clear 1 = .ok (.iconst 0, 1) := by decide +kernel
theorem dX0_clear_2 : decode cX0_clear 2 = .ok (.putfield 54, 3) := by decide +kernel
theorem dX0_clear_5 : decode cX0_clear 5 = .ok (.aload_n 0, 1) := by decide +kernel
theorem dX0_clear_6 : decode cX0_clear 6 = .ok (.iconst 0, 1) := by decide +kernel
theorem dX0_clear_7 : decode cX0_clear 7 = .ok (.putfield 68, 3) := by decide +kernel
theorem dX0_clear_10 : decode cX0_clear 10 = .ok (.aload_n 0, 1) := by decide +kernel
theorem dX0_clear_11 : decode cX0_clear 11 = .ok (.iconst 0, 1) := by decide +kernel
theorem dX0_clear_12 : decode cX0_clear 12 = .ok (.putfield 71, 3) := by decide +kernel
theorem dX0_clear_15 : decode cX0_clear 15 = .ok (.aload_n 0, 1) := by decide +kernel
theorem dX0_clear_16 : decode cX0_clear 16 = .ok (.iconst 0, 1) := by decide +kernel
theorem dX0_clear_17 : decode cX0_clear 17 = .ok (.putfield 74, 3) := by decide +kernel
theorem dX0_clear_20 : decode cX0_clear 20 = .ok (.aload_n 0, 1) := by decide +kernel
theorem dX0_clear_21 : decode cX0_clear 21 = .ok (.iconst 0, 1) := by decide +kernel
theorem dX0_clear_22 : decode cX0_clear 22 = .ok (.putfield 77, 3) := by decide +kernel
theorem dX0_clear_25 : decode cX0_clear 25 = .ok (.aload_n 0, 1) := by decide +kernel
theorem dX0_clear_26 : decode cX0_clear 26 = .ok (.iconst 0, 1) := by decide +kernel
theorem dX0_clear_27 : decode cX0_clear 27 = .ok (.putfield 80, 3) := by decide +kernel
theorem dX0_clear_30 : decode cX0_clear 30 = .ok (.aload_n 0, 1) := by decide +kernel
theorem dX0_clear_31 : decode cX0_clear 31 = .ok (.lconst 0, 1) := by decide +kernel
theorem dX0_clear_32 : decode cX0_clear 32 = .ok (.putfield 83, 3) := by decide +kernel
theorem dX0_clear_35 : decode cX0_clear 35 = .ok (.iconst 0, 1) := by decide +kernel
theorem dX0_clear_36 : decode cX0_clear 36 = .ok (.istore_n 1, 1) := by decide +kernel
theorem dX0_clear_37 : decode cX0_clear 37 = .ok (.iload_n 1, 1) := by decide +kernel
theorem dX0_clear_38 : decode cX0_clear 38 = .ok (.iconst 4, 1) := by decide +kernel
theorem dX0_clear_39 : decode cX0_clear 39 = .ok (.if_icmp .ge 16, 3) := by decide +kernel
theorem dX0_clear_42 : decode cX0_clear 42 = .ok (.aload_n 0, 1) := by decide +kernel
theorem dX0_clear_43 : decode cX0_clear 43 = .ok (.getfield 28, 3) := by decide +kernel
theorem dX0_clear_46 : decode cX0_clear 46 = .ok (.iload_n 1, 1) := by decide +kernel
theorem dX0_clear_47 : decode cX0_clear 47 = .ok (.iconst 0, 1) := by decide +kernel
theorem dX0_clear_48 : decode cX0_clear 48 = .ok (.bastore, 1) := by decide +kernel
theorem dX0_clear_49 : decode cX0_clear 49 = .ok (.iinc 1 1, 3) := by decide +kernel
theorem dX0_clear_52 : decode cX0_clear 52 = .ok (.goto (-15), 3) := by decide +kernel
theorem dX0_clear_55 : decode cX0_clear 55 = .ok (.iconst 0, 1) := by decide +kernel
theorem dX0_clear_56 : decode cX0_clear 56 = .ok (.istore_n 1, 1) := by decide +kernel
theorem dX0_clear_57 : decode cX0_clear 57 = .ok (.iload_n 1, 1) := by decide +kernel
theorem dX0_clear_58 : decode cX0_clear 58 = .ok (.bipush 16, 2) := by decide +kernel
theorem dX0_clear_60 : decode cX0_clear 60 = .ok (.if_icmp .ge 16, 3) := by decide +kernel
theorem dX0_clear_63 : decode cX0_clear 63 = .ok (.aload_n 0, 1) := by decide +kernel
theorem dX0_clear_64 : decode cX0_clear 64 = .ok (.getfield 32, 3) := by decide +kernel
theorem dX0_clear_67 : decode cX0_clear 67 = .ok (.iload_n 1, 1) := by decide +kernel
theorem dX0_clear_68 : decode cX0_clear 68 = .ok (.iconst 0, 1) := by decide +kernel
theorem dX0_clear_69 : decode cX0_clear 69 = .ok (.bastore, 1) := by decide +kernel
theorem dX0_clear_70 : decode cX0_clear 70 = .ok (.iinc 1 1, 3) := by decide +kernel
theorem dX0_clear_73 : decode cX0_clear 73 = .ok (.goto (-16), 3) := by decide +kernel
theorem dX0_clear_76 : decode cX0_clear 76 = .ok (.return_, 1) := by decide +kernel
theorem dX0_samples_0 : decode cX0_samples 0 = .ok (.aload_n 0, 1) := by decide +kernel
theorem dX0_samples_1 : decode cX0_samples 1 = .ok (.getfield 54, 3) := by decide +kernel
theorem dX0_samples_4 : decode cX0_samples 4 = .ok (.ireturn, 1) := by decide +kernel
theorem dX0_constant_0 : decode cX0_constant 0 = .ok (.iload_n 1, 1) := by decide +kernel
theorem dX0_constant_1 : decode cX0_constant 1 = .ok (.invokestatic 47, 3) := by decide +kernel
theorem dX0_constant_4 : decode cX0_constant 4 = .ok (.ifCond .eq 25, 3) := by decide +kernel
theorem dX0_constant_7 : decode cX0_constant 7 = .ok (.aload_n 0, 1) := by decide +kernel
theorem dX0_constant_8 : decode cX0_constant 8 = .ok (.getfield 54, 3) := by decide +kernel
theorem dX0_constant_11 : decode cX0_constant 11 = .ok (.ifCond .eq 18, 3) := by decide +kernel
theorem dX0_constant_14 : decode cX0_constant 14 = .ok (.aload_n 0, 1) := by decide +kernel
theorem dX0_constant_15 : decode cX0_constant 15 = .ok (.getfield 16, 3) := by decide +kernel
theorem dX0_constant_18 : decode cX0_constant 18 = .ok (.iload_n 1, 1) := by decide +kernel
theorem dX0_constant_19 : decode cX0_constant 19 = .ok (.iaload, 1) := by decide +kernel
theorem dX0_constant_20 : decode cX0_constant 20 = .ok (.aload_n 0, 1) := by decide +kernel
theorem dX0_constant_21 : decode cX0_constant 21 = .ok (.getfield 19, 3) := by decide +kernel
theorem dX0_constant_24 : decode cX0_constant 24 = .ok (.iload_n 1, 1) := by decide +kernel
theorem dX0_constant_25 : decode cX0_constant 25 = .ok (.iaload, 1) := by decide +kernel
theorem dX0_constant_26 : decode cX0_constant 26 = .ok (.if_icmp .eq 7, 3) := by decide +kernel
theorem dX0_constant_29 : decode cX0_constant 29 = .ok (.sipush (-1000), 3) := by decide +kernel
theorem dX0_constant_32 : decode cX0_constant 32 = .ok (.ireturn, 1) := by decide +kernel
theorem dX0_constant_33 : decode cX0_constant 33 = .ok (.aload_n 0, 1) := by decide +kernel
theorem dX0_constant_34 : decode cX0_constant 34 = .ok (.getfield 16, 3) := by decide +kernel
theorem dX0_constant_37 : decode cX0_constant 37 = .ok (.iload_n 1, 1) := by decide +kernel
theorem dX0_constant_38 : decode cX0_constant 38 = .ok (.iaload, 1) := by decide +kernel
theorem dX0_constant_39 : decode cX0_constant 39 = .ok (.ireturn, 1) := by decide +kernel
theorem dX0_isVariable_0 : decode cX0_isVariable 0 = .ok (.iload_n 0, 1) := by decide +kernel
theorem dX0_isVariable_1 : decode cX0_isVariable 1 = .ok (.ifCond .lt 12, 3) := by decide +kernel
theorem dX0_isVariable_4 : decode cX0_isVariable 4 = .ok (.iload_n 0, 1) := by decide +kernel
theorem dX0_isVariable_5 : decode cX0_isVariable 5 = .ok (.iconst 4, 1) := by decide +kernel
theorem dX0_isVariable_6 : decode cX0_isVariable 6 = .ok (.if_icmp .ge 7, 3) := by decide +kernel
theorem dX0_isVariable_9 : decode cX0_isVariable 9 = .ok (.iconst 1, 1) := by decide +kernel
theorem dX0_isVariable_10 : decode cX0_isVariable 10 = .ok (.goto 4, 3) := by decide +kernel
theorem dX0_isVariable_13 : decode cX0_isVariable 13 = .ok (.iconst 0, 1) := by decide +kernel
theorem dX0_isVariable_14 : decode cX0_isVariable 14 = .ok (.ireturn, 1) := by decide +kernel
theorem dX0_bound_0 : decode cX0_bound 0 = .ok (.iload_n 1, 1) := by decide +kernel
theorem dX0_bound_1 : decode cX0_bound 1 = .ok (.invokestatic 47, 3) := by decide +kernel
theorem dX0_bound_4 : decode cX0_bound 4 = .ok (.ifCond .eq 19, 3) := by decide +kernel
theorem dX0_bound_7 : decode cX0_bound 7 = .ok (.aload_n 0, 1) := by decide +kernel
theorem dX0_bound_8 : decode cX0_bound 8 = .ok (.getfield 54, 3) := by decide +kernel
theorem dX0_bound_11 : decode cX0_bound 11 = .ok (.ifCond .eq 12, 3) := by decide +kernel
theorem dX0_bound_14 : decode cX0_bound 14 = .ok (.iload_n 2, 1) := by decide +kernel
theorem dX0_bound_15 : decode cX0_bound 15 = .ok (.ifCond .lt 8, 3) := by decide +kernel
theorem dX0_bound_18 : decode cX0_bound 18 = .ok (.iload_n 2, 1) := by decide +kernel
theorem dX0_bound_19 : decode cX0_bound 19 = .ok (.iconst 1, 1) := by decide +kernel
theorem dX0_bound_20 : decode cX0_bound 20 = .ok (.if_icmp .le 7, 3) := by decide +kernel
theorem dX0_bound_23 : decode cX0_bound 23 = .ok (.sipush (-1000), 3) := by decide +kernel
theorem dX0_bound_26 : decode cX0_bound 26 = .ok (.ireturn, 1) := by decide +kernel
theorem dX0_bound_27 : decode cX0_bound 27 = .ok (.iload_n 2, 1) := by decide +kernel
theorem dX0_bound_28 : decode cX0_bound 28 = .ok (.ifCond .ne 12, 3) := by decide +kernel
theorem dX0_bound_31 : decode cX0_bound 31 = .ok (.aload_n 0, 1) := by decide +kernel
theorem dX0_bound_32 : decode cX0_bound 32 = .ok (.getfield 16, 3) := by decide +kernel
theorem dX0_bound_35 : decode cX0_bound 35 = .ok (.iload_n 1, 1) := by decide +kernel
theorem dX0_bound_36 : decode cX0_bound 36 = .ok (.iaload, 1) := by decide +kernel
theorem dX0_bound_37 : decode cX0_bound 37 = .ok (.goto 9, 3) := by decide +kernel
theorem dX0_bound_40 : decode cX0_bound 40 = .ok (.aload_n 0, 1) := by decide +kernel
theorem dX0_bound_41 : decode cX0_bound 41 = .ok (.getfield 19, 3) := by decide +kernel
theorem dX0_bound_44 : decode cX0_bound 44 = .ok (.iload_n 1, 1) := by decide +kernel
theorem dX0_bound_45 : decode cX0_bound 45 = .ok (.iaload, 1) := by decide +kernel
theorem dX0_bound_46 : decode cX0_bound 46 = .ok (.ireturn, 1) := by decide +kernel
theorem dX0_different_0 : decode cX0_different 0 = .ok (.iload_n 1, 1) := by decide +kernel
theorem dX0_different_1 : decode cX0_different 1 = .ok (.invokestatic 47, 3) := by decide +kernel
theorem dX0_different_4 : decode cX0_different 4 = .ok (.ifCond .eq 12, 3) := by decide +kernel
theorem dX0_different_7 : decode cX0_different 7 = .ok (.aload_n 0, 1) := by decide +kernel
theorem dX0_different_8 : decode cX0_different 8 = .ok (.getfield 28, 3) := by decide +kernel
theorem dX0_different_11 : decode cX0_different 11 = .ok (.iload_n 1, 1) := by decide +kernel
theorem dX0_different_12 : decode cX0_different 12 = .ok (.baload, 1) := by decide +kernel
theorem dX0_different_13 : decode cX0_different 13 = .ok (.goto 4, 3) := by decide +kernel
theorem dX0_different_16 : decode cX0_different 16 = .ok (.iconst (-1), 1) := by decide +kernel
theorem dX0_different_17 : decode cX0_different 17 = .ok (.ireturn, 1) := by decide +kernel
theorem dX0_valueAt_0 : decode cX0_valueAt 0 = .ok (.iload_n 1, 1) := by decide +kernel
theorem dX0_valueAt_1 : decode cX0_valueAt 1 = .ok (.invokestatic 47, 3) := by decide +kernel
theorem dX0_valueAt_4 : decode cX0_valueAt 4 = .ok (.ifCond .eq 27, 3) := by decide +kernel
theorem dX0_valueAt_7 : decode cX0_valueAt 7 = .ok (.aload_n 0, 1) := by decide +kernel
theorem dX0_valueAt_8 : decode cX0_valueAt 8 = .ok (.getfield 28, 3) := by decide +kernel
theorem dX0_valueAt_11 : decode cX0_valueAt 11 = .ok (.iload_n 1, 1) := by decide +kernel
theorem dX0_valueAt_12 : decode cX0_valueAt 12 = .ok (.baload, 1) := by decide +kernel
theorem dX0_valueAt_13 : decode cX0_valueAt 13 = .ok (.iconst 3, 1) := by decide +kernel
theorem dX0_valueAt_14 : decode cX0_valueAt 14 = .ok (.if_icmp .gt 17, 3) := by decide +kernel
theorem dX0_valueAt_17 : decode cX0_valueAt 17 = .ok (.iload_n 2, 1) := by decide +kernel
theorem dX0_valueAt_18 : decode cX0_valueAt 18 = .ok (.ifCond .lt 13, 3) := by decide +kernel
theorem dX0_valueAt_21 : decode cX0_valueAt 21 = .ok (.iload_n 2, 1) := by decide +kernel
theorem dX0_valueAt_22 : decode cX0_valueAt 22 = .ok (.aload_n 0, 1) := by decide +kernel
theorem dX0_valueAt_23 : decode cX0_valueAt 23 = .ok (.getfield 28, 3) := by decide +kernel
theorem dX0_valueAt_26 : decode cX0_valueAt 26 = .ok (.iload_n 1, 1) := by decide +kernel
theorem dX0_valueAt_27 : decode cX0_valueAt 27 = .ok (.baload, 1) := by decide +kernel
theorem dX0_valueAt_28 : decode cX0_valueAt 28 = .ok (.if_icmp .lt 7, 3) := by decide +kernel
theorem dX0_valueAt_31 : decode cX0_valueAt 31 = .ok (.sipush (-1000), 3) := by decide +kernel
theorem dX0_valueAt_34 : decode cX0_valueAt 34 = .ok (.ireturn, 1) := by decide +kernel
theorem dX0_valueAt_35 : decode cX0_valueAt 35 = .ok (.aload_n 0, 1) := by decide +kernel
theorem dX0_valueAt_36 : decode cX0_valueAt 36 = .ok (.getfield 25, 3) := by decide +kernel
theorem dX0_valueAt_39 : decode cX0_valueAt 39 = .ok (.iload_n 1, 1) := by decide +kernel
theorem dX0_valueAt_40 : decode cX0_valueAt 40 = .ok (.iconst 4, 1) := by decide +kernel
theorem dX0_valueAt_41 : decode cX0_valueAt 41 = .ok (.imul, 1) := by decide +kernel
theorem dX0_valueAt_42 : decode cX0_valueAt 42 = .ok (.iload_n 2, 1) := by decide +kernel
theorem dX0_valueAt_43 : decode cX0_valueAt 43 = .ok (.iadd, 1) := by decide +kernel
theorem dX0_valueAt_44 : decode cX0_valueAt 44 = .ok (.iaload, 1) := by decide +kernel
theorem dX0_valueAt_45 : decode cX0_valueAt 45 = .ok (.ireturn, 1) := by decide +kernel
theorem dX0_modulus_0 : decode cX0_modulus 0 = .ok (.iload_n 1, 1) := by decide +kernel
theorem dX0_modulus_1 : decode cX0_modulus 1 = .ok (.invokestatic 47, 3) := by decide +kernel
theorem dX0_modulus_4 : decode cX0_modulus 4 = .ok (.ifCond .ne 5, 3) := by decide +kernel
theorem dX0_modulus_7 : decode cX0_modulus 7 = .ok (.iconst (-1), 1) := by decide +kernel
theorem dX0_modulus_8 : decode cX0_modulus 8 = .ok (.ireturn, 1) := by decide +kernel
theorem dX0_modulus_9 : decode cX0_modulus 9 = .ok (.aload_n 0, 1) := by decide +kernel
theorem dX0_modulus_10 : decode cX0_modulus 10 = .ok (.getfield 54, 3) := by decide +kernel
theorem dX0_modulus_13 : decode cX0_modulus 13 = .ok (.ifCond .ne 7, 3) := by decide +kernel
theorem dX0_modulus_16 : decode cX0_modulus 16 = .ok (.iconst 0, 1) := by decide +kernel
theorem dX0_modulus_17 : decode cX0_modulus 17 = .ok (.goto 9, 3) := by decide +kernel
theorem dX0_modulus_20 : decode cX0_modulus 20 = .ok (.aload_n 0, 1) := by decide +kernel
theorem dX0_modulus_21 : decode cX0_modulus 21 = .ok (.getfield 22, 3) := by decide +kernel
theorem dX0_modulus_24 : decode cX0_modulus 24 = .ok (.iload_n 1, 1) := by decide +kernel
theorem dX0_modulus_25 : decode cX0_modulus 25 = .ok (.iaload, 1) := by decide +kernel
theorem dX0_modulus_26 : decode cX0_modulus 26 = .ok (.ireturn, 1) := by decide +kernel
theorem dX0_remainder_0 : decode cX0_remainder 0 = .ok (.aload_n 0, 1) := by decide +kernel
theorem dX0_remainder_1 : decode cX0_remainder 1 = .ok (.iload_n 1, 1) := by decide +kernel
theorem dX0_remainder_2 : decode cX0_remainder 2 = .ok (.invokevirtual 102, 3) := by decide +kernel
theorem dX0_remainder_5 : decode cX0_remainder 5 = .ok (.istore_n 2, 1) := by decide +kernel
theorem dX0_remainder_6 : decode cX0_remainder 6 = .ok (.iload_n 2, 1) := by decide +kernel
theorem dX0_remainder_7 : decode cX0_remainder 7 = .ok (.iconst 2, 1) := by decide +kernel
theorem dX0_remainder_8 : decode cX0_remainder 8 = .ok (.if_icmp .ge 7, 3) := by decide +kernel
theorem dX0_remainder_11 : decode cX0_remainder 11 = .ok (.sipush (-1000), 3) := by decide +kernel
theorem dX0_remainder_14 : decode cX0_remainder 14 = .ok (.ireturn, 1) := by decide +kernel
theorem dX0_remainder_15 : decode cX0_remainder 15 = .ok (.aload_n 0, 1) := by decide +kernel
theorem dX0_remainder_16 : decode cX0_remainder 16 = .ok (.getfield 13, 3) := by decide +kernel
theorem dX0_remainder_19 : decode cX0_remainder 19 = .ok (.iload_n 1, 1) := by decide +kernel
theorem dX0_remainder_20 : decode cX0_remainder 20 = .ok (.iaload, 1) := by decide +kernel
theorem dX0_remainder_21 : decode cX0_remainder 21 = .ok (.iload_n 2, 1) := by decide +kernel
theorem dX0_remainder_22 : decode cX0_remainder 22 = .ok (.irem, 1) := by decide +kernel
theorem dX0_remainder_23 : decode cX0_remainder 23 = .ok (.istore_n 3, 1) := by decide +kernel
theorem dX0_remainder_24 : decode cX0_remainder 24 = .ok (.iload_n 3, 1) := by decide +kernel
theorem dX0_remainder_25 : decode cX0_remainder 25 = .ok (.ifCond .ge 9, 3) := by decide +kernel
theorem dX0_remainder_28 : decode cX0_remainder 28 = .ok (.iload_n 3, 1) := by decide +kernel
theorem dX0_remainder_29 : decode cX0_remainder 29 = .ok (.iload_n 2, 1) := by decide +kernel
theorem dX0_remainder_30 : decode cX0_remainder 30 = .ok (.iadd, 1) := by decide +kernel
theorem dX0_remainder_31 : decode cX0_remainder 31 = .ok (.goto 4, 3) := by decide +kernel
theorem dX0_remainder_34 : decode cX0_remainder 34 = .ok (.iload_n 3, 1) := by decide +kernel
theorem dX0_remainder_35 : decode cX0_remainder 35 = .ok (.ireturn, 1) := by decide +kernel
theorem dX0_relation_0 : decode cX0_relation 0 = .ok (.iload_n 1, 1) := by decide +kernel
theorem dX0_relation_1 : decode cX0_relation 1 = .ok (.iload_n 2, 1) := by decide +kernel
theorem dX0_relation_2 : decode cX0_relation 2 = .ok (.invokestatic 106, 3) := by decide +kernel
theorem dX0_relation_5 : decode cX0_relation 5 = .ok (.ifCond .eq 12, 3) := by decide +kernel
theorem dX0_relation_8 : decode cX0_relation 8 = .ok (.iload_n 3, 1) := by decide +kernel
theorem dX0_relation_9 : decode cX0_relation 9 = .ok (.ifCond .lt 8, 3) := by decide +kernel
theorem dX0_relation_12 : decode cX0_relation 12 = .ok (.iload_n 3, 1) := by decide +kernel
theorem dX0_relation_13 : decode cX0_relation 13 = .ok (.iconst 3, 1) := by decide +kernel
theorem dX0_relation_14 : decode cX0_relation 14 = .ok (.if_icmp .le 5, 3) := by decide +kernel
theorem dX0_relation_17 : decode cX0_relation 17 = .ok (.iconst 0, 1) := by decide +kernel
theorem dX0_relation_18 : decode cX0_relation 18 = .ok (.ireturn, 1) := by decide +kernel
theorem dX0_relation_19 : decode cX0_relation 19 = .ok (.iload_n 3, 1) := by decide +kernel
theorem dX0_relation_20 : decode cX0_relation 20 = .ok (.ifCond .ne 10, 3) := by decide +kernel
theorem dX0_relation_23 : decode cX0_relation 23 = .ok (.aload_n 0, 1) := by decide +kernel
theorem dX0_relation_24 : decode cX0_relation 24 = .ok (.getfield 68, 3) := by decide +kernel
theorem dX0_relation_27 : decode cX0_relation 27 = .ok (.goto 31, 3) := by decide +kernel
theorem dX0_relation_30 : decode cX0_relation 30 = .ok (.iload_n 3, 1) := by decide +kernel
theorem dX0_relation_31 : decode cX0_relation 31 = .ok (.iconst 1, 1) := by decide +kernel
theorem dX0_relation_32 : decode cX0_relation 32 = .ok (.if_icmp .ne 10, 3) := by decide +kernel
theorem dX0_relation_35 : decode cX0_relation 35 = .ok (.aload_n 0, 1) := by decide +kernel
theorem dX0_relation_36 : decode cX0_relation 36 = .ok (.getfield 71, 3) := by decide +kernel
theorem dX0_relation_39 : decode cX0_relation 39 = .ok (.goto 19, 3) := by decide +kernel
theorem dX0_relation_42 : decode cX0_relation 42 = .ok (.iload_n 3, 1) := by decide +kernel
theorem dX0_relation_43 : decode cX0_relation 43 = .ok (.iconst 2, 1) := by decide +kernel
theorem dX0_relation_44 : decode cX0_relation 44 = .ok (.if_icmp .ne 10, 3) := by decide +kernel
theorem dX0_relation_47 : decode cX0_relation 47 = .ok (.aload_n 0, 1) := by decide +kernel
theorem dX0_relation_48 : decode cX0_relation 48 = .ok (.getfield 74, 3) := by decide +kernel
theorem dX0_relation_51 : decode cX0_relation 51 = .ok (.goto 7, 3) := by decide +kernel
theorem dX0_relation_54 : decode cX0_relation 54 = .ok (.aload_n 0, 1) := by decide +kernel
theorem dX0_relation_55 : decode cX0_relation 55 = .ok (.getfield 77, 3) := by decide +kernel
theorem dX0_relation_58 : decode cX0_relation 58 = .ok (.istore 4, 2) := by decide +kernel
theorem dX0_relation_60 : decode cX0_relation 60 = .ok (.iload 4, 2) := by decide +kernel
theorem dX0_relation_62 : decode cX0_relation 62 = .ok (.iconst 4, 1) := by decide +kernel
theorem dX0_relation_63 : decode cX0_relation 63 = .ok (.iload_n 1, 1) := by decide +kernel
theorem dX0_relation_64 : decode cX0_relation 64 = .ok (.imul, 1) := by decide +kernel
theorem dX0_relation_65 : decode cX0_relation 65 = .ok (.iload_n 2, 1) := by decide +kernel
theorem dX0_relation_66 : decode cX0_relation 66 = .ok (.iadd, 1) := by decide +kernel
theorem dX0_relation_67 : decode cX0_relation 67 = .ok (.ishr, 1) := by decide +kernel
theorem dX0_relation_68 : decode cX0_relation 68 = .ok (.iconst 1, 1) := by decide +kernel
theorem dX0_relation_69 : decode cX0_relation 69 = .ok (.iand, 1) := by decide +kernel
theorem dX0_relation_70 : decode cX0_relation 70 = .ok (.ifCond .ne 7, 3) := by decide +kernel
theorem dX0_relation_73 : decode cX0_relation 73 = .ok (.iconst 1, 1) := by decide +kernel
theorem dX0_relation_74 : decode cX0_relation 74 = .ok (.goto 4, 3) := by decide +kernel
theorem dX0_relation_77 : decode cX0_relation 77 = .ok (.iconst 0, 1) := by decide +kernel
theorem dX0_relation_78 : decode cX0_relation 78 = .ok (.ireturn, 1) := by decide +kernel
theorem dX0_isPair_0 : decode cX0_isPair 0 = .ok (.iload_n 0, 1) := by decide +kernel
theorem dX0_isPair_1 : decode cX0_isPair 1 = .ok (.invokestatic 47, 3) := by decide +kernel
theorem dX0_isPair_4 : decode cX0_isPair 4 = .ok (.ifCond .eq 19, 3) := by decide +kernel
theorem dX0_isPair_7 : decode cX0_isPair 7 = .ok (.iload_n 1, 1) := by decide +kernel
theorem dX0_isPair_8 : decode cX0_isPair 8 = .ok (.invokestatic 47, 3) := by decide +kernel
theorem dX0_isPair_11 : decode cX0_isPair 11 = .ok (.ifCond .eq 12, 3) := by decide +kernel
theorem dX0_isPair_14 : decode cX0_isPair 14 = .ok (.iload_n 0, 1) := by decide +kernel
theorem dX0_isPair_15 : decode cX0_isPair 15 = .ok (.iload_n 1, 1) := by decide +kernel
theorem dX0_isPair_16 : decode cX0_isPair 16 = .ok (.if_icmp .eq 7, 3) := by decide +kernel
theorem dX0_isPair_19 : decode cX0_isPair 19 = .ok (.iconst 1, 1) := by decide +kernel
theorem dX0_isPair_20 : decode cX0_isPair 20 = .ok (.goto 4, 3) := by decide +kernel
theorem dX0_isPair_23 : decode cX0_isPair 23 = .ok (.iconst 0, 1) := by decide +kernel
theorem dX0_isPair_24 : decode cX0_isPair 24 = .ok (.ireturn, 1) := by decide +kernel
theorem dX0_offset_0 : decode cX0_offset 0 = .ok (.iload_n 1, 1) := by decide +kernel
theorem dX0_offset_1 : decode cX0_offset 1 = .ok (.iload_n 2, 1) := by decide +kernel
theorem dX0_offset_2 : decode cX0_offset 2 = .ok (.invokestatic 106, 3) := by decide +kernel
theorem dX0_offset_5 : decode cX0_offset 5 = .ok (.ifCond .eq 10, 3) := by decide +kernel
theorem dX0_offset_8 : decode cX0_offset 8 = .ok (.aload_n 0, 1) := by decide +kernel
theorem dX0_offset_9 : decode cX0_offset 9 = .ok (.getfield 54, 3) := by decide +kernel
theorem dX0_offset_12 : decode cX0_offset 12 = .ok (.ifCond .ne 7, 3) := by decide +kernel
theorem dX0_offset_15 : decode cX0_offset 15 = .ok (.sipush (-1000), 3) := by decide +kernel
theorem dX0_offset_18 : decode cX0_offset 18 = .ok (.ireturn, 1) := by decide +kernel
theorem dX0_offset_19 : decode cX0_offset 19 = .ok (.iconst 4, 1) := by decide +kernel
theorem dX0_offset_20 : decode cX0_offset 20 = .ok (.iload_n 1, 1) := by decide +kernel
theorem dX0_offset_21 : decode cX0_offset 21 = .ok (.imul, 1) := by decide +kernel
theorem dX0_offset_22 : decode cX0_offset 22 = .ok (.iload_n 2, 1) := by decide +kernel
theorem dX0_offset_23 : decode cX0_offset 23 = .ok (.iadd, 1) := by decide +kernel
theorem dX0_offset_24 : decode cX0_offset 24 = .ok (.istore_n 3, 1) := by decide +kernel
theorem dX0_offset_25 : decode cX0_offset 25 = .ok (.aload_n 0, 1) := by decide +kernel
theorem dX0_offset_26 : decode cX0_offset 26 = .ok (.getfield 80, 3) := by decide +kernel
theorem dX0_offset_29 : decode cX0_offset 29 = .ok (.iload_n 3, 1) := by decide +kernel
theorem dX0_offset_30 : decode cX0_offset 30 = .ok (.ishr, 1) := by decide +kernel
theorem dX0_offset_31 : decode cX0_offset 31 = .ok (.iconst 1, 1) := by decide +kernel
theorem dX0_offset_32 : decode cX0_offset 32 = .ok (.iand, 1) := by decide +kernel
theorem dX0_offset_33 : decode cX0_offset 33 = .ok (.ifCond .ne 12, 3) := by decide +kernel
theorem dX0_offset_36 : decode cX0_offset 36 = .ok (.aload_n 0, 1) := by decide +kernel
theorem dX0_offset_37 : decode cX0_offset 37 = .ok (.getfield 44, 3) := by decide +kernel
theorem dX0_offset_40 : decode cX0_offset 40 = .ok (.iload_n 3, 1) := by decide +kernel
theorem dX0_offset_41 : decode cX0_offset 41 = .ok (.iaload, 1) := by decide +kernel
theorem dX0_offset_42 : decode cX0_offset 42 = .ok (.goto 6, 3) := by decide +kernel
theorem dX0_offset_45 : decode cX0_offset 45 = .ok (.sipush (-1000), 3) := by decide +kernel
theorem dX0_offset_48 : decode cX0_offset 48 = .ok (.ireturn, 1) := by decide +kernel
theorem dX0_line_0 : decode cX0_line 0 = .ok (.aload_n 0, 1) := by decide +kernel
theorem dX0_line_1 : decode cX0_line 1 = .ok (.iload_n 1, 1) := by decide +kernel
theorem dX0_line_2 : decode cX0_line 2 = .ok (.iload_n 2, 1) := by decide +kernel
theorem dX0_line_3 : decode cX0_line 3 = .ok (.invokevirtual 110, 3) := by decide +kernel
theorem dX0_line_6 : decode cX0_line 6 = .ok (.ifCond .eq 16, 3) := by decide +kernel
theorem dX0_line_9 : decode cX0_line 9 = .ok (.aload_n 0, 1) := by decide +kernel
theorem dX0_line_10 : decode cX0_line 10 = .ok (.getfield 35, 3) := by decide +kernel
theorem dX0_line_13 : decode cX0_line 13 = .ok (.iconst 4, 1) := by decide +kernel
theorem dX0_line_14 : decode cX0_line 14 = .ok (.iload_n 1, 1) := by decide +kernel
theorem dX0_line_15 : decode cX0_line 15 = .ok (.imul, 1) := by decide +kernel
theorem dX0_line_16 : decode cX0_line 16 = .ok (.iload_n 2, 1) := by decide +kernel
theorem dX0_line_17 : decode cX0_line 17 = .ok (.iadd, 1) := by decide +kernel
theorem dX0_line_18 : decode cX0_line 18 = .ok (.iaload, 1) := by decide +kernel
theorem dX0_line_19 : decode cX0_line 19 = .ok (.goto 4, 3) := by decide +kernel
theorem dX0_line_22 : decode cX0_line 22 = .ok (.iconst 0, 1) := by decide +kernel
theorem dX0_line_23 : decode cX0_line 23 = .ok (.ireturn, 1) := by decide +kernel
theorem dX0_hasLine_0 : decode cX0_hasLine 0 = .ok (.iload_n 1, 1) := by decide +kernel
theorem dX0_hasLine_1 : decode cX0_hasLine 1 = .ok (.iload_n 2, 1) := by decide +kernel
theorem dX0_hasLine_2 : decode cX0_hasLine 2 = .ok (.invokestatic 106, 3) := by decide +kernel
theorem dX0_hasLine_5 : decode cX0_hasLine 5 = .ok (.ifCond .eq 21, 3) := by decide +kernel
theorem dX0_hasLine_8 : decode cX0_hasLine 8 = .ok (.aload_n 0, 1) := by decide +kernel
theorem dX0_hasLine_9 : decode cX0_hasLine 9 = .ok (.getfield 32, 3) := by decide +kernel
theorem dX0_hasLine_12 : decode cX0_hasLine 12 = .ok (.iconst 4, 1) := by decide +kernel
theorem dX0_hasLine_13 : decode cX0_hasLine 13 = .ok (.iload_n 1, 1) := by decide +kernel
theorem dX0_hasLine_14 : decode cX0_hasLine 14 = .ok (.imul, 1) := by decide +kernel
theorem dX0_hasLine_15 : decode cX0_hasLine 15 = .ok (.iload_n 2, 1) := by decide +kernel
theorem dX0_hasLine_16 : decode cX0_hasLine 16 = .ok (.iadd, 1) := by decide +kernel
theorem dX0_hasLine_17 : decode cX0_hasLine 17 = .ok (.baload, 1) := by decide +kernel
theorem dX0_hasLine_18 : decode cX0_hasLine 18 = .ok (.iconst 2, 1) := by decide +kernel
theorem dX0_hasLine_19 : decode cX0_hasLine 19 = .ok (.if_icmp .ne 7, 3) := by decide +kernel
theorem dX0_hasLine_22 : decode cX0_hasLine 22 = .ok (.iconst 1, 1) := by decide +kernel
theorem dX0_hasLine_23 : decode cX0_hasLine 23 = .ok (.goto 4, 3) := by decide +kernel
theorem dX0_hasLine_26 : decode cX0_hasLine 26 = .ok (.iconst 0, 1) := by decide +kernel
theorem dX0_hasLine_27 : decode cX0_hasLine 27 = .ok (.ireturn, 1) := by decide +kernel
theorem dX0_slope_0 : decode cX0_slope 0 = .ok (.aload_n 0, 1) := by decide +kernel
theorem dX0_slope_1 : decode cX0_slope 1 = .ok (.iload_n 1, 1) := by decide +kernel
theorem dX0_slope_2 : decode cX0_slope 2 = .ok (.iload_n 2, 1) := by decide +kernel
theorem dX0_slope_3 : decode cX0_slope 3 = .ok (.invokevirtual 110, 3) := by decide +kernel
theorem dX0_slope_6 : decode cX0_slope 6 = .ok (.ifCond .eq 16, 3) := by decide +kernel
theorem dX0_slope_9 : decode cX0_slope 9 = .ok (.aload_n 0, 1) := by decide +kernel
theorem dX0_slope_10 : decode cX0_slope 10 = .ok (.getfield 38, 3) := by decide +kernel
theorem dX0_slope_13 : decode cX0_slope 13 = .ok (.iconst 4, 1) := by decide +kernel
theorem dX0_slope_14 : decode cX0_slope 14 = .ok (.iload_n 1, 1) := by decide +kernel
theorem dX0_slope_15 : decode cX0_slope 15 = .ok (.imul, 1) := by decide +kernel
theorem dX0_slope_16 : decode cX0_slope 16 = .ok (.iload_n 2, 1) := by decide +kernel
theorem dX0_slope_17 : decode cX0_slope 17 = .ok (.iadd, 1) := by decide +kernel
theorem dX0_slope_18 : decode cX0_slope 18 = .ok (.iaload, 1) := by decide +kernel
theorem dX0_slope_19 : decode cX0_slope 19 = .ok (.goto 4, 3) := by decide +kernel
theorem dX0_slope_22 : decode cX0_slope 22 = .ok (.iconst 0, 1) := by decide +kernel
theorem dX0_slope_23 : decode cX0_slope 23 = .ok (.ireturn, 1) := by decide +kernel
theorem dX0_rise_0 : decode cX0_rise 0 = .ok (.aload_n 0, 1) := by decide +kernel
theorem dX0_rise_1 : decode cX0_rise 1 = .ok (.iload_n 1, 1) := by decide +kernel
theorem dX0_rise_2 : decode cX0_rise 2 = .ok (.iload_n 2, 1) := by decide +kernel
theorem dX0_rise_3 : decode cX0_rise 3 = .ok (.invokevirtual 110, 3) := by decide +kernel
theorem dX0_rise_6 : decode cX0_rise 6 = .ok (.ifCond .eq 16, 3) := by decide +kernel
theorem dX0_rise_9 : decode cX0_rise 9 = .ok (.aload_n 0, 1) := by decide +kernel
theorem dX0_rise_10 : decode cX0_rise 10 = .ok (.getfield 41, 3) := by decide +kernel
theorem dX0_rise_13 : decode cX0_rise 13 = .ok (.iconst 4, 1) := by decide +kernel
theorem dX0_rise_14 : decode cX0_rise 14 = .ok (.iload_n 1, 1) := by decide +kernel
theorem dX0_rise_15 : decode cX0_rise 15 = .ok (.imul, 1) := by decide +kernel
theorem dX0_rise_16 : decode cX0_rise 16 = .ok (.iload_n 2, 1) := by decide +kernel
theorem dX0_rise_17 : decode cX0_rise 17 = .ok (.iadd, 1) := by decide +kernel
theorem dX0_rise_18 : decode cX0_rise 18 = .ok (.iaload, 1) := by decide +kernel
theorem dX0_rise_19 : decode cX0_rise 19 = .ok (.goto 4, 3) := by decide +kernel
theorem dX0_rise_22 : decode cX0_rise 22 = .ok (.iconst 0, 1) := by decide +kernel
theorem dX0_rise_23 : decode cX0_rise 23 = .ok (.ireturn, 1) := by decide +kernel
theorem dX0_equals_0 : decode cX0_equals 0 = .ok (.iconst 0, 1) := by decide +kernel
theorem dX0_equals_1 : decode cX0_equals 1 = .ok (.istore_n 1, 1) := by decide +kernel
theorem dX0_equals_2 : decode cX0_equals 2 = .ok (.iconst 0, 1) := by decide +kernel
theorem dX0_equals_3 : decode cX0_equals 3 = .ok (.istore_n 2, 1) := by decide +kernel
theorem dX0_equals_4 : decode cX0_equals 4 = .ok (.iload_n 2, 1) := by decide +kernel
theorem dX0_equals_5 : decode cX0_equals 5 = .ok (.iconst 4, 1) := by decide +kernel
theorem dX0_equals_6 : decode cX0_equals 6 = .ok (.if_icmp .ge 45, 3) := by decide +kernel
theorem dX0_equals_9 : decode cX0_equals 9 = .ok (.iload_n 2, 1) := by decide +kernel
theorem dX0_equals_10 : decode cX0_equals 10 = .ok (.iconst 1, 1) := by decide +kernel
theorem dX0_equals_11 : decode cX0_equals 11 = .ok (.iadd, 1) := by decide +kernel
theorem dX0_equals_12 : decode cX0_equals 12 = .ok (.istore_n 3, 1) := by decide +kernel
theorem dX0_equals_13 : decode cX0_equals 13 = .ok (.iload_n 3, 1) := by decide +kernel
theorem dX0_equals_14 : decode cX0_equals 14 = .ok (.iconst 4, 1) := by decide +kernel
theorem dX0_equals_15 : decode cX0_equals 15 = .ok (.if_icmp .ge 30, 3) := by decide +kernel
theorem dX0_equals_18 : decode cX0_equals 18 = .ok (.iconst 1, 1) := by decide +kernel
theorem dX0_equals_19 : decode cX0_equals 19 = .ok (.iconst 4, 1) := by decide +kernel
theorem dX0_equals_20 : decode cX0_equals 20 = .ok (.iload_n 2, 1) := by decide +kernel
theorem dX0_equals_21 : decode cX0_equals 21 = .ok (.imul, 1) := by decide +kernel
theorem dX0_equals_22 : decode cX0_equals 22 = .ok (.iload_n 3, 1) := by decide +kernel
theorem dX0_equals_23 : decode cX0_equals 23 = .ok (.iadd, 1) := by decide +kernel
theorem dX0_equals_24 : decode cX0_equals 24 = .ok (.ishl, 1) := by decide +kernel
theorem dX0_equals_25 : decode cX0_equals 25 = .ok (.istore 4, 2) := by decide +kernel
theorem dX0_equals_27 : decode cX0_equals 27 = .ok (.iload_n 1, 1) := by decide +kernel
theorem dX0_equals_28 : decode cX0_equals 28 = .ok (.iload 4, 2) := by decide +kernel
theorem dX0_equals_30 : decode cX0_equals 30 = .ok (.aload_n 0, 1) := by decide +kernel
theorem dX0_equals_31 : decode cX0_equals 31 = .ok (.getfield 74, 3) := by decide +kernel
theorem dX0_equals_34 : decode cX0_equals 34 = .ok (.iconst (-1), 1) := by decide +kernel
theorem dX0_equals_35 : decode cX0_equals 35 = .ok (.ixor, 1) := by decide +kernel
theorem dX0_equals_36 : decode cX0_equals 36 = .ok (.iand, 1) := by decide +kernel
theorem dX0_equals_37 : decode cX0_equals 37 = .ok (.ior, 1) := by decide +kernel
theorem dX0_equals_38 : decode cX0_equals 38 = .ok (.istore_n 1, 1) := by decide +kernel
theorem dX0_equals_39 : decode cX0_equals 39 = .ok (.iinc 3 1, 3) := by decide +kernel
theorem dX0_equals_42 : decode cX0_equals 42 = .ok (.goto (-29), 3) := by decide +kernel
theorem dX0_equals_45 : decode cX0_equals 45 = .ok (.iinc 2 1, 3) := by decide +kernel
theorem dX0_equals_48 : decode cX0_equals 48 = .ok (.goto (-44), 3) := by decide +kernel
theorem dX0_equals_51 : decode cX0_equals 51 = .ok (.iload_n 1, 1) := by decide +kernel
theorem dX0_equals_52 : decode cX0_equals 52 = .ok (.ireturn, 1) := by decide +kernel
theorem dX0_sums_0 : decode cX0_sums 0 = .ok (.iload_n 1, 1) := by decide +kernel
theorem dX0_sums_1 : decode cX0_sums 1 = .ok (.invokestatic 47, 3) := by decide +kernel
theorem dX0_sums_4 : decode cX0_sums 4 = .ok (.ifCond .eq 17, 3) := by decide +kernel
theorem dX0_sums_7 : decode cX0_sums 7 = .ok (.iload_n 2, 1) := by decide +kernel
theorem dX0_sums_8 : decode cX0_sums 8 = .ok (.invokestatic 47, 3) := by decide +kernel
theorem dX0_sums_11 : decode cX0_sums 11 = .ok (.ifCond .eq 10, 3) := by decide +kernel
theorem dX0_sums_14 : decode cX0_sums 14 = .ok (.iload_n 3, 1) := by decide +kernel
theorem dX0_sums_15 : decode cX0_sums 15 = .ok (.invokestatic 47, 3) := by decide +kernel
theorem dX0_sums_18 : decode cX0_sums 18 = .ok (.ifCond .ne 5, 3) := by decide +kernel
theorem dX0_sums_21 : decode cX0_sums 21 = .ok (.iconst 0, 1) := by decide +kernel
theorem dX0_sums_22 : decode cX0_sums 22 = .ok (.ireturn, 1) := by decide +kernel
theorem dX0_sums_23 : decode cX0_sums 23 = .ok (.aload_n 0, 1) := by decide +kernel
theorem dX0_sums_24 : decode cX0_sums 24 = .ok (.getfield 83, 3) := by decide +kernel
theorem dX0_sums_27 : decode cX0_sums 27 = .ok (.bipush 16, 2) := by decide +kernel
theorem dX0_sums_29 : decode cX0_sums 29 = .ok (.iload_n 1, 1) := by decide +kernel
theorem dX0_sums_30 : decode cX0_sums 30 = .ok (.imul, 1) := by decide +kernel
theorem dX0_sums_31 : decode cX0_sums 31 = .ok (.iconst 4, 1) := by decide +kernel
theorem dX0_sums_32 : decode cX0_sums 32 = .ok (.iload_n 2, 1) := by decide +kernel
theorem dX0_sums_33 : decode cX0_sums 33 = .ok (.imul, 1) := by decide +kernel
theorem dX0_sums_34 : decode cX0_sums 34 = .ok (.iadd, 1) := by decide +kernel
theorem dX0_sums_35 : decode cX0_sums 35 = .ok (.iload_n 3, 1) := by decide +kernel
theorem dX0_sums_36 : decode cX0_sums 36 = .ok (.iadd, 1) := by decide +kernel
theorem dX0_sums_37 : decode cX0_sums 37 = .ok (.lushr, 1) := by decide +kernel
theorem dX0_sums_38 : decode cX0_sums 38 = .ok (.lconst 1, 1) := by decide +kernel
theorem dX0_sums_39 : decode cX0_sums 39 = .ok (.land, 1) := by decide +kernel
theorem dX0_sums_40 : decode cX0_sums 40 = .ok (.lconst 0, 1) := by decide +kernel
theorem dX0_sums_41 : decode cX0_sums 41 = .ok (.lcmp, 1) := by decide +kernel
theorem dX0_sums_42 : decode cX0_sums 42 = .ok (.ifCond .ne 7, 3) := by decide +kernel
theorem dX0_sums_45 : decode cX0_sums 45 = .ok (.iconst 1, 1) := by decide +kernel
theorem dX0_sums_46 : decode cX0_sums 46 = .ok (.goto 4, 3) := by decide +kernel
theorem dX0_sums_49 : decode cX0_sums 49 = .ok (.iconst 0, 1) := by decide +kernel
theorem dX0_sums_50 : decode cX0_sums 50 = .ok (.ireturn, 1) := by decide +kernel
end
section
set_option maxRecDepth 100000
theorem dX1_init_0 : decode cX1_init 0 = .ok (.aload_n 0, 1) := by decide +kernel
theorem dX1_init_1 : decode cX1_init 1 = .ok (.invokespecial 1, 3) := by decide +kernel
theorem dX1_init_4 : decode cX1_init 4 = .ok (.aload_n 0, 1) := by decide +kernel
theorem dX1_init_5 : decode cX1_init 5 = .ok (.sipush 400, 3) := by decide +kernel
theorem dX1_init_8 : decode cX1_init 8 = .ok (.newarray .int, 2) := by decide +kernel
theorem dX1_init_10 : decode cX1_init 10 = .ok (.putfield 7, 3) := by decide +kernel
theorem dX1_init_13 : decode cX1_init 13 = .ok (.aload_n 0, 1) := by decide +kernel
theorem dX1_init_14 : decode cX1_init 14 = .ok (.iconst 4, 1) := by decide +kernel
theorem dX1_init_15 : decode cX1_init 15 = .ok (.newarray .int, 2) := by decide +kernel
theorem dX1_init_17 : decode cX1_init 17 = .ok (.putfield 13, 3) := by decide +kernel
theorem dX1_init_20 : decode cX1_init 20 = .ok (.return_, 1) := by decide +kernel
theorem dX1_sample_0 : decode cX1_sample 0 = .ok (.aload_n 0, 1) := by decide +kernel
theorem dX1_sample_1 : decode cX1_sample 1 = .ok (.iload_n 1, 1) := by decide +kernel
theorem dX1_sample_2 : decode cX1_sample 2 = .ok (.invokevirtual 16, 3) := by decide +kernel
theorem dX1_sample_5 : decode cX1_sample 5 = .ok (.ifCond .eq 28, 3) := by decide +kernel
theorem dX1_sample_8 : decode cX1_sample 8 = .ok (.aload_n 0, 1) := by decide +kernel
theorem dX1_sample_9 : decode cX1_sample 9 = .ok (.iload_n 2, 1) := by decide +kernel
theorem dX1_sample_10 : decode cX1_sample 10 = .ok (.invokevirtual 16, 3) := by decide +kernel
theorem dX1_sample_13 : decode cX1_sample 13 = .ok (.ifCond .eq 20, 3) := by decide +kernel
theorem dX1_sample_16 : decode cX1_sample 16 = .ok (.aload_n 0, 1) := by decide +kernel
theorem dX1_sample_17 : decode cX1_sample 17 = .ok (.iload_n 3, 1) := by decide +kernel
theorem dX1_sample_18 : decode cX1_sample 18 = .ok (.invokevirtual 16, 3) := by decide +kernel
theorem dX1_sample_21 : decode cX1_sample 21 = .ok (.ifCond .eq 12, 3) := by decide +kernel
theorem dX1_sample_24 : decode cX1_sample 24 = .ok (.aload_n 0, 1) := by decide +kernel
theorem dX1_sample_25 : decode cX1_sample 25 = .ok (.iload 4, 2) := by decide +kernel
theorem dX1_sample_27 : decode cX1_sample 27 = .ok (.invokevirtual 16, 3) := by decide +kernel
theorem dX1_sample_30 : decode cX1_sample 30 = .ok (.ifCond .ne 5, 3) := by decide +kernel
theorem dX1_sample_33 : decode cX1_sample 33 = .ok (.iconst (-1), 1) := by decide +kernel
theorem dX1_sample_34 : decode cX1_sample 34 = .ok (.ireturn, 1) := by decide +kernel
theorem dX1_sample_35 : decode cX1_sample 35 = .ok (.aload_n 0, 1) := by decide +kernel
theorem dX1_sample_36 : decode cX1_sample 36 = .ok (.getfield 20, 3) := by decide +kernel
theorem dX1_sample_39 : decode cX1_sample 39 = .ok (.bipush 100, 2) := by decide +kernel
theorem dX1_sample_41 : decode cX1_sample 41 = .ok (.if_icmp .lt 6, 3) := by decide +kernel
theorem dX1_sample_44 : decode cX1_sample 44 = .ok (.bipush (-2), 2) := by decide +kernel
theorem dX1_sample_46 : decode cX1_sample 46 = .ok (.ireturn, 1) := by decide +kernel
theorem dX1_sample_47 : decode cX1_sample 47 = .ok (.aload_n 0, 1) := by decide +kernel
theorem dX1_sample_48 : decode cX1_sample 48 = .ok (.getfield 7, 3) := by decide +kernel
theorem dX1_sample_51 : decode cX1_sample 51 = .ok (.iconst 4, 1) := by decide +kernel
theorem dX1_sample_52 : decode cX1_sample 52 = .ok (.aload_n 0, 1) := by decide +kernel
theorem dX1_sample_53 : decode cX1_sample 53 = .ok (.getfield 20, 3) := by decide +kernel
theorem dX1_sample_56 : decode cX1_sample 56 = .ok (.imul, 1) := by decide +kernel
theorem dX1_sample_57 : decode cX1_sample 57 = .ok (.iload_n 1, 1) := by decide +kernel
theorem dX1_sample_58 : decode cX1_sample 58 = .ok (.iastore, 1) := by decide +kernel
theorem dX1_sample_59 : decode cX1_sample 59 = .ok (.aload_n 0, 1) := by decide +kernel
theorem dX1_sample_60 : decode cX1_sample 60 = .ok (.getfield 7, 3) := by decide +kernel
theorem dX1_sample_63 : decode cX1_sample 63 = .ok (.iconst 4, 1) := by decide +kernel
theorem dX1_sample_64 : decode cX1_sample 64 = .ok (.aload_n 0, 1) := by decide +kernel
theorem dX1_sample_65 : decode cX1_sample 65 = .ok (.getfield 20, 3) := by decide +kernel
theorem dX1_sample_68 : decode cX1_sample 68 = .ok (.imul, 1) := by decide +kernel
theorem dX1_sample_69 : decode cX1_sample 69 = .ok (.iconst 1, 1) := by decide +kernel
theorem dX1_sample_70 : decode cX1_sample 70 = .ok (.iadd, 1) := by decide +kernel
theorem dX1_sample_71 : decode cX1_sample 71 = .ok (.iload_n 2, 1) := by decide +kernel
theorem dX1_sample_72 : decode cX1_sample 72 = .ok (.iastore, 1) := by decide +kernel
theorem dX1_sample_73 : decode cX1_sample 73 = .ok (.aload_n 0, 1) := by decide +kernel
theorem dX1_sample_74 : decode cX1_sample 74 = .ok (.getfield 7, 3) := by decide +kernel
theorem dX1_sample_77 : decode cX1_sample 77 = .ok (.iconst 4, 1) := by decide +kernel
theorem dX1_sample_78 : decode cX1_sample 78 = .ok (.aload_n 0, 1) := by decide +kernel
theorem dX1_sample_79 : decode cX1_sample 79 = .ok (.getfield 20, 3) := by decide +kernel
theorem dX1_sample_82 : decode cX1_sample 82 = .ok (.imul, 1) := by decide +kernel
theorem dX1_sample_83 : decode cX1_sample 83 = .ok (.iconst 2, 1) := by decide +kernel
theorem dX1_sample_84 : decode cX1_sample 84 = .ok (.iadd, 1) := by decide +kernel
theorem dX1_sample_85 : decode cX1_sample 85 = .ok (.iload_n 3, 1) := by decide +kernel
theorem dX1_sample_86 : decode cX1_sample 86 = .ok (.iastore, 1) := by decide +kernel
theorem dX1_sample_87 : decode cX1_sample 87 = .ok (.aload_n 0, 1) := by decide +kernel
theorem dX1_sample_88 : decode cX1_sample 88 = .ok (.getfield 7, 3) := by decide +kernel
theorem dX1_sample_91 : decode cX1_sample 91 = .ok (.iconst 4, 1) := by decide +kernel
theorem dX1_sample_92 : decode cX1_sample 92 = .ok (.aload_n 0, 1) := by decide +kernel
theorem dX1_sample_93 : decode cX1_sample 93 = .ok (.getfield 20, 3) := by decide +kernel
theorem dX1_sample_96 : decode cX1_sample 96 = .ok (.imul, 1) := by decide +kernel
theorem dX1_sample_97 : decode cX1_sample 97 = .ok (.iconst 3, 1) := by decide +kernel
theorem dX1_sample_98 : decode cX1_sample 98 = .ok (.iadd, 1) := by decide +kernel
theorem dX1_sample_99 : decode cX1_sample 99 = .ok (.iload 4, 2) := by decide +kernel
theorem dX1_sample_101 : decode cX1_sample 101 = .ok (.iastore, 1) := by decide +kernel
theorem dX1_sample_102 : decode cX1_sample 102 = .ok (.aload_n 0, 1) := by decide +kernel
theorem dX1_sample_103 : decode cX1_sample 103 = .ok (.dup, 1) := by decide +kernel
theorem dX1_sample_104 : decode cX1_sample 104 = .ok (.getfield 20, 3) := by decide +kernel
theorem dX1_sample_107 : decode cX1_sample 107 = .ok (.iconst 1, 1) := by decide +kernel
theorem dX1_sample_108 : decode cX1_sample 108 = .ok (.iadd, 1) := by decide +kernel
theorem dX1_sample_109 : decode cX1_sample 109 = .ok (.putfield 20, 3) := by decide +kernel
theorem dX1_sample_112 : decode cX1_sample 112 = .ok (.aload_n 0, 1) := by decide +kernel
theorem dX1_sample_113 : decode cX1_sample 113 = .ok (.getfield 20, 3) := by decide +kernel
theorem dX1_sample_116 : decode cX1_sample 116 = .ok (.ireturn, 1) := by decide +kernel
theorem dX1_fits_0 : decode cX1_fits 0 = .ok (.iload_n 1, 1) := by decide +kernel
theorem dX1_fits_1 : decode cX1_fits 1 = .ok (.bipush (-100), 2) := by decide +kernel
theorem dX1_fits_3 : decode cX1_fits 3 = .ok (.if_icmp .lt 13, 3) := by decide +kernel
theorem dX1_fits_6 : decode cX1_fits 6 = .ok (.iload_n 1, 1) := by decide +kernel
theorem dX1_fits_7 : decode cX1_fits 7 = .ok (.bipush 100, 2) := by decide +kernel
theorem dX1_fits_9 : decode cX1_fits 9 = .ok (.if_icmp .gt 7, 3) := by decide +kernel
theorem dX1_fits_12 : decode cX1_fits 12 = .ok (.iconst 1, 1) := by decide +kernel
theorem dX1_fits_13 : decode cX1_fits 13 = .ok (.goto 4, 3) := by decide +kernel
theorem dX1_fits_16 : decode cX1_fits 16 = .ok (.iconst 0, 1) := by decide +kernel
theorem dX1_fits_17 : decode cX1_fits 17 = .ok (.ireturn, 1) := by decide +kernel
theorem dX1_clear_0 : decode cX1_clear 0 = .ok (.aload_n 0, 1) := by decide +kernel
theorem dX1_clear_1 : decode cX1_clear 1 = .ok (.iconst 0, 1) := by decide +kernel
theorem dX1_clear_2 : decode cX1_clear 2 = .ok (.putfield 20, 3) := by decide +kernel
theorem dX1_clear_5 : decode cX1_clear 5 = .ok (.return_, 1) := by decide +kernel
theorem dX1_samples_0 : decode cX1_samples 0 = .ok (.aload_n 0, 1) := by decide +kernel
theorem dX1_samples_1 : decode cX1_samples 1 = .ok (.getfield 20, 3) := by decide +kernel
theorem dX1_samples_4 : decode cX1_samples 4 = .ok (.ireturn, 1) := by decide +kernel
theorem dX1_constant_0 : decode cX1_constant 0 = .ok (.aload_n 0, 1) := by decide +kernel
theorem dX1_constant_1 : decode cX1_constant 1 = .ok (.iload_n 1, 1) := by decide +kernel
theorem dX1_constant_2 : decode cX1_constant 2 = .ok (.invokevirtual 24, 3) := by decide +kernel
theorem dX1_constant_5 : decode cX1_constant 5 = .ok (.ifCond .eq 21, 3) := by decide +kernel
theorem dX1_constant_8 : decode cX1_constant 8 = .ok (.aload_n 0, 1) := by decide +kernel
theorem dX1_constant_9 : decode cX1_constant 9 = .ok (.iload_n 1, 1) := by decide +kernel
theorem dX1_constant_10 : decode cX1_constant 10 = .ok (.invokevirtual 27, 3) := by decide +kernel
theorem dX1_constant_13 : decode cX1_constant 13 = .ok (.iconst 1, 1) := by decide +kernel
theorem dX1_constant_14 : decode cX1_constant 14 = .ok (.if_icmp .ne 12, 3) := by decide +kernel
theorem dX1_constant_17 : decode cX1_constant 17 = .ok (.aload_n 0, 1) := by decide +kernel
theorem dX1_constant_18 : decode cX1_constant 18 = .ok (.getfield 7, 3) := by decide +kernel
theorem dX1_constant_21 : decode cX1_constant 21 = .ok (.iload_n 1, 1) := by decide +kernel
theorem dX1_constant_22 : decode cX1_constant 22 = .ok (.iaload, 1) := by decide +kernel
theorem dX1_constant_23 : decode cX1_constant 23 = .ok (.goto 6, 3) := by decide +kernel
theorem dX1_constant_26 : decode cX1_constant 26 = .ok (.sipush (-1000), 3) := by decide +kernel
theorem dX1_constant_29 : decode cX1_constant 29 = .ok (.ireturn, 1) := by decide +kernel
theorem dX1_is_0 : decode cX1_is 0 = .ok (.iload_n 1, 1) := by decide +kernel
theorem dX1_is_1 : decode cX1_is 1 = .ok (.ifCond .lt 12, 3) := by decide +kernel
theorem dX1_is_4 : decode cX1_is 4 = .ok (.iload_n 1, 1) := by decide +kernel
theorem dX1_is_5 : decode cX1_is 5 = .ok (.iconst 3, 1) := by decide +kernel
theorem dX1_is_6 : decode cX1_is 6 = .ok (.if_icmp .gt 7, 3) := by decide +kernel
theorem dX1_is_9 : decode cX1_is 9 = .ok (.iconst 1, 1) := by decide +kernel
theorem dX1_is_10 : decode cX1_is 10 = .ok (.goto 4, 3) := by decide +kernel
theorem dX1_is_13 : decode cX1_is 13 = .ok (.iconst 0, 1) := by decide +kernel
theorem dX1_is_14 : decode cX1_is 14 = .ok (.ireturn, 1) := by decide +kernel
theorem dX1_different_0 : decode cX1_different 0 = .ok (.aload_n 0, 1) := by decide +kernel
theorem dX1_different_1 : decode cX1_different 1 = .ok (.iload_n 1, 1) := by decide +kernel
theorem dX1_different_2 : decode cX1_different 2 = .ok (.invokevirtual 24, 3) := by decide +kernel
theorem dX1_different_5 : decode cX1_different 5 = .ok (.ifCond .ne 5, 3) := by decide +kernel
theorem dX1_different_8 : decode cX1_different 8 = .ok (.iconst (-1), 1) := by decide +kernel
theorem dX1_different_9 : decode cX1_different 9 = .ok (.ireturn, 1) := by decide +kernel
theorem dX1_different_10 : decode cX1_different 10 = .ok (.iconst 0, 1) := by decide +kernel
theorem dX1_different_11 : decode cX1_different 11 = .ok (.istore_n 2, 1) := by decide +kernel
theorem dX1_different_12 : decode cX1_different 12 = .ok (.iconst 0, 1) := by decide +kernel
theorem dX1_different_13 : decode cX1_different 13 = .ok (.istore_n 3, 1) := by decide +kernel
theorem dX1_different_14 : decode cX1_different 14 = .ok (.iload_n 3, 1) := by decide +kernel
theorem dX1_different_15 : decode cX1_different 15 = .ok (.aload_n 0, 1) := by decide +kernel
theorem dX1_different_16 : decode cX1_different 16 = .ok (.getfield 20, 3) := by decide +kernel
theorem dX1_different_19 : decode cX1_different 19 = .ok (.if_icmp .ge 88, 3) := by decide +kernel
theorem dX1_different_22 : decode cX1_different 22 = .ok (.iconst 0, 1) := by decide +kernel
theorem dX1_different_23 : decode cX1_different 23 = .ok (.istore 4, 2) := by decide +kernel
theorem dX1_different_25 : decode cX1_different 25 = .ok (.iconst 0, 1) := by decide +kernel
theorem dX1_different_26 : decode cX1_different 26 = .ok (.istore 5, 2) := by decide +kernel
theorem dX1_different_28 : decode cX1_different 28 = .ok (.iload 5, 2) := by decide +kernel
theorem dX1_different_30 : decode cX1_different 30 = .ok (.iload_n 2, 1) := by decide +kernel
theorem dX1_different_31 : decode cX1_different 31 = .ok (.if_icmp .ge 41, 3) := by decide +kernel
theorem dX1_different_34 : decode cX1_different 34 = .ok (.iload 4, 2) := by decide +kernel
theorem dX1_different_36 : decode cX1_different 36 = .ok (.ifCond .ne 23, 3) := by decide +kernel
theorem dX1_different_39 : decode cX1_different 39 = .ok (.aload_n 0, 1) := by decide +kernel
theorem dX1_different_40 : decode cX1_different 40 = .ok (.getfield 13, 3) := by decide +kernel
theorem dX1_different_43 : decode cX1_different 43 = .ok (.iload 5, 2) := by decide +kernel
theorem dX1_different_45 : decode cX1_different 45 = .ok (.iaload, 1) := by decide +kernel
theorem dX1_different_46 : decode cX1_different 46 = .ok (.aload_n 0, 1) := by decide +kernel
theorem dX1_different_47 : decode cX1_different 47 = .ok (.getfield 7, 3) := by decide +kernel
theorem dX1_different_50 : decode cX1_different 50 = .ok (.iconst 4, 1) := by decide +kernel
theorem dX1_different_51 : decode cX1_different 51 = .ok (.iload_n 3, 1) := by decide +kernel
theorem dX1_different_52 : decode cX1_different 52 = .ok (.imul, 1) := by decide +kernel
theorem dX1_different_53 : decode cX1_different 53 = .ok (.iload_n 1, 1) := by decide +kernel
theorem dX1_different_54 : decode cX1_different 54 = .ok (.iadd, 1) := by decide +kernel
theorem dX1_different_55 : decode cX1_different 55 = .ok (.iaload, 1) := by decide +kernel
theorem dX1_different_56 : decode cX1_different 56 = .ok (.if_icmp .ne 7, 3) := by decide +kernel
theorem dX1_different_59 : decode cX1_different 59 = .ok (.iconst 1, 1) := by decide +kernel
theorem dX1_different_60 : decode cX1_different 60 = .ok (.goto 4, 3) := by decide +kernel
theorem dX1_different_63 : decode cX1_different 63 = .ok (.iconst 0, 1) := by decide +kernel
theorem dX1_different_64 : decode cX1_different 64 = .ok (.istore 4, 2) := by decide +kernel
theorem dX1_different_66 : decode cX1_different 66 = .ok (.iinc 5 1, 3) := by decide +kernel
theorem dX1_different_69 : decode cX1_different 69 = .ok (.goto (-41), 3) := by decide +kernel
theorem dX1_different_72 : decode cX1_different 72 = .ok (.iload 4, 2) := by decide +kernel
theorem dX1_different_74 : decode cX1_different 74 = .ok (.ifCond .ne 27, 3) := by decide +kernel
theorem dX1_different_77 : decode cX1_different 77 = .ok (.iload_n 2, 1) := by decide +kernel
theorem dX1_different_78 : decode cX1_different 78 = .ok (.iconst 4, 1) := by decide +kernel
theorem dX1_different_79 : decode cX1_different 79 = .ok (.if_icmp .ge 22, 3) := by decide +kernel
theorem dX1_different_82 : decode cX1_different 82 = .ok (.aload_n 0, 1) := by decide +kernel
theorem dX1_different_83 : decode cX1_different 83 = .ok (.getfield 13, 3) := by decide +kernel
theorem dX1_different_86 : decode cX1_different 86 = .ok (.iload_n 2, 1) := by decide +kernel
theorem dX1_different_87 : decode cX1_different 87 = .ok (.aload_n 0, 1) := by decide +kernel
theorem dX1_different_88 : decode cX1_different 88 = .ok (.getfield 7, 3) := by decide +kernel
theorem dX1_different_91 : decode cX1_different 91 = .ok (.iconst 4, 1) := by decide +kernel
theorem dX1_different_92 : decode cX1_different 92 = .ok (.iload_n 3, 1) := by decide +kernel
theorem dX1_different_93 : decode cX1_different 93 = .ok (.imul, 1) := by decide +kernel
theorem dX1_different_94 : decode cX1_different 94 = .ok (.iload_n 1, 1) := by decide +kernel
theorem dX1_different_95 : decode cX1_different 95 = .ok (.iadd, 1) := by decide +kernel
theorem dX1_different_96 : decode cX1_different 96 = .ok (.iaload, 1) := by decide +kernel
theorem dX1_different_97 : decode cX1_different 97 = .ok (.iastore, 1) := by decide +kernel
theorem dX1_different_98 : decode cX1_different 98 = .ok (.iinc 2 1, 3) := by decide +kernel
theorem dX1_different_101 : decode cX1_different 101 = .ok (.iinc 3 1, 3) := by decide +kernel
theorem dX1_different_104 : decode cX1_different 104 = .ok (.goto (-90), 3) := by decide +kernel
theorem dX1_different_107 : decode cX1_different 107 = .ok (.iload_n 2, 1) := by decide +kernel
theorem dX1_different_108 : decode cX1_different 108 = .ok (.ireturn, 1) := by decide +kernel
theorem dX1_bound_0 : decode cX1_bound 0 = .ok (.aload_n 0, 1) := by decide +kernel
theorem dX1_bound_1 : decode cX1_bound 1 = .ok (.iload_n 1, 1) := by decide +kernel
theorem dX1_bound_2 : decode cX1_bound 2 = .ok (.invokevirtual 24, 3) := by decide +kernel
theorem dX1_bound_5 : decode cX1_bound 5 = .ok (.ifCond .eq 19, 3) := by decide +kernel
theorem dX1_bound_8 : decode cX1_bound 8 = .ok (.aload_n 0, 1) := by decide +kernel
theorem dX1_bound_9 : decode cX1_bound 9 = .ok (.getfield 20, 3) := by decide +kernel
theorem dX1_bound_12 : decode cX1_bound 12 = .ok (.ifCond .eq 12, 3) := by decide +kernel
theorem dX1_bound_15 : decode cX1_bound 15 = .ok (.iload_n 2, 1) := by decide +kernel
theorem dX1_bound_16 : decode cX1_bound 16 = .ok (.ifCond .eq 12, 3) := by decide +kernel
theorem dX1_bound_19 : decode cX1_bound 19 = .ok (.iload_n 2, 1) := by decide +kernel
theorem dX1_bound_20 : decode cX1_bound 20 = .ok (.iconst 1, 1) := by decide +kernel
theorem dX1_bound_21 : decode cX1_bound 21 = .ok (.if_icmp .eq 7, 3) := by decide +kernel
theorem dX1_bound_24 : decode cX1_bound 24 = .ok (.sipush (-1000), 3) := by decide +kernel
theorem dX1_bound_27 : decode cX1_bound 27 = .ok (.ireturn, 1) := by decide +kernel
theorem dX1_bound_28 : decode cX1_bound 28 = .ok (.aload_n 0, 1) := by decide +kernel
theorem dX1_bound_29 : decode cX1_bound 29 = .ok (.getfield 7, 3) := by decide +kernel
theorem dX1_bound_32 : decode cX1_bound 32 = .ok (.iload_n 1, 1) := by decide +kernel
theorem dX1_bound_33 : decode cX1_bound 33 = .ok (.iaload, 1) := by decide +kernel
theorem dX1_bound_34 : decode cX1_bound 34 = .ok (.istore_n 3, 1) := by decide +kernel
theorem dX1_bound_35 : decode cX1_bound 35 = .ok (.iconst 0, 1) := by decide +kernel
theorem dX1_bound_36 : decode cX1_bound 36 = .ok (.istore 4, 2) := by decide +kernel
theorem dX1_bound_38 : decode cX1_bound 38 = .ok (.iload 4, 2) := by decide +kernel
theorem dX1_bound_40 : decode cX1_bound 40 = .ok (.aload_n 0, 1) := by decide +kernel
theorem dX1_bound_41 : decode cX1_bound 41 = .ok (.getfield 20, 3) := by decide +kernel
theorem dX1_bound_44 : decode cX1_bound 44 = .ok (.if_icmp .ge 54, 3) := by decide +kernel
theorem dX1_bound_47 : decode cX1_bound 47 = .ok (.aload_n 0, 1) := by decide +kernel
theorem dX1_bound_48 : decode cX1_bound 48 = .ok (.getfield 7, 3) := by decide +kernel
theorem dX1_bound_51 : decode cX1_bound 51 = .ok (.iconst 4, 1) := by decide +kernel
theorem dX1_bound_52 : decode cX1_bound 52 = .ok (.iload 4, 2) := by decide +kernel
theorem dX1_bound_54 : decode cX1_bound 54 = .ok (.imul, 1) := by decide +kernel
theorem dX1_bound_55 : decode cX1_bound 55 = .ok (.iload_n 1, 1) := by decide +kernel
theorem dX1_bound_56 : decode cX1_bound 56 = .ok (.iadd, 1) := by decide +kernel
theorem dX1_bound_57 : decode cX1_bound 57 = .ok (.iaload, 1) := by decide +kernel
theorem dX1_bound_58 : decode cX1_bound 58 = .ok (.istore 5, 2) := by decide +kernel
theorem dX1_bound_60 : decode cX1_bound 60 = .ok (.iload_n 2, 1) := by decide +kernel
theorem dX1_bound_61 : decode cX1_bound 61 = .ok (.ifCond .ne 18, 3) := by decide +kernel
theorem dX1_bound_64 : decode cX1_bound 64 = .ok (.iload 5, 2) := by decide +kernel
theorem dX1_bound_66 : decode cX1_bound 66 = .ok (.iload_n 3, 1) := by decide +kernel
theorem dX1_bound_67 : decode cX1_bound 67 = .ok (.if_icmp .ge 8, 3) := by decide +kernel
theorem dX1_bound_70 : decode cX1_bound 70 = .ok (.iload 5, 2) := by decide +kernel
theorem dX1_bound_72 : decode cX1_bound 72 = .ok (.goto 19, 3) := by decide +kernel
theorem dX1_bound_75 : decode cX1_bound 75 = .ok (.iload_n 3, 1) := by decide +kernel
theorem dX1_bound_76 : decode cX1_bound 76 = .ok (.goto 15, 3) := by decide +kernel
theorem dX1_bound_79 : decode cX1_bound 79 = .ok (.iload 5, 2) := by decide +kernel
theorem dX1_bound_81 : decode cX1_bound 81 = .ok (.iload_n 3, 1) := by decide +kernel
theorem dX1_bound_82 : decode cX1_bound 82 = .ok (.if_icmp .le 8, 3) := by decide +kernel
theorem dX1_bound_85 : decode cX1_bound 85 = .ok (.iload 5, 2) := by decide +kernel
theorem dX1_bound_87 : decode cX1_bound 87 = .ok (.goto 4, 3) := by decide +kernel
theorem dX1_bound_90 : decode cX1_bound 90 = .ok (.iload_n 3, 1) := by decide +kernel
theorem dX1_bound_91 : decode cX1_bound 91 = .ok (.istore_n 3, 1) := by decide +kernel
theorem dX1_bound_92 : decode cX1_bound 92 = .ok (.iinc 4 1, 3) := by decide +kernel
theorem dX1_bound_95 : decode cX1_bound 95 = .ok (.goto (-57), 3) := by decide +kernel
theorem dX1_bound_98 : decode cX1_bound 98 = .ok (.iload_n 3, 1) := by decide +kernel
theorem dX1_bound_99 : decode cX1_bound 99 = .ok (.ireturn, 1) := by decide +kernel
theorem dX1_valueAt_0 : decode cX1_valueAt 0 = .ok (.aload_n 0, 1) := by decide +kernel
theorem dX1_valueAt_1 : decode cX1_valueAt 1 = .ok (.iload_n 1, 1) := by decide +kernel
theorem dX1_valueAt_2 : decode cX1_valueAt 2 = .ok (.invokevirtual 27, 3) := by decide +kernel
theorem dX1_valueAt_5 : decode cX1_valueAt 5 = .ok (.istore_n 3, 1) := by decide +kernel
theorem dX1_valueAt_6 : decode cX1_valueAt 6 = .ok (.iload_n 3, 1) := by decide +kernel
theorem dX1_valueAt_7 : decode cX1_valueAt 7 = .ok (.iconst 3, 1) := by decide +kernel
theorem dX1_valueAt_8 : decode cX1_valueAt 8 = .ok (.if_icmp .gt 12, 3) := by decide +kernel
theorem dX1_valueAt_11 : decode cX1_valueAt 11 = .ok (.iload_n 2, 1) := by decide +kernel
theorem dX1_valueAt_12 : decode cX1_valueAt 12 = .ok (.ifCond .lt 8, 3) := by decide +kernel
theorem dX1_valueAt_15 : decode cX1_valueAt 15 = .ok (.iload_n 2, 1) := by decide +kernel
theorem dX1_valueAt_16 : decode cX1_valueAt 16 = .ok (.iload_n 3, 1) := by decide +kernel
theorem dX1_valueAt_17 : decode cX1_valueAt 17 = .ok (.if_icmp .lt 7, 3) := by decide +kernel
theorem dX1_valueAt_20 : decode cX1_valueAt 20 = .ok (.sipush (-1000), 3) := by decide +kernel
theorem dX1_valueAt_23 : decode cX1_valueAt 23 = .ok (.ireturn, 1) := by decide +kernel
theorem dX1_valueAt_24 : decode cX1_valueAt 24 = .ok (.iconst 0, 1) := by decide +kernel
theorem dX1_valueAt_25 : decode cX1_valueAt 25 = .ok (.istore 4, 2) := by decide +kernel
theorem dX1_valueAt_27 : decode cX1_valueAt 27 = .ok (.iload 4, 2) := by decide +kernel
theorem dX1_valueAt_29 : decode cX1_valueAt 29 = .ok (.iload_n 3, 1) := by decide +kernel
theorem dX1_valueAt_30 : decode cX1_valueAt 30 = .ok (.if_icmp .ge 69, 3) := by decide +kernel
theorem dX1_valueAt_33 : decode cX1_valueAt 33 = .ok (.iconst 0, 1) := by decide +kernel
theorem dX1_valueAt_34 : decode cX1_valueAt 34 = .ok (.istore 5, 2) := by decide +kernel
theorem dX1_valueAt_36 : decode cX1_valueAt 36 = .ok (.iconst 0, 1) := by decide +kernel
theorem dX1_valueAt_37 : decode cX1_valueAt 37 = .ok (.istore 6, 2) := by decide +kernel
theorem dX1_valueAt_39 : decode cX1_valueAt 39 = .ok (.iload 6, 2) := by decide +kernel
theorem dX1_valueAt_41 : decode cX1_valueAt 41 = .ok (.iload_n 3, 1) := by decide +kernel
theorem dX1_valueAt_42 : decode cX1_valueAt 42 = .ok (.if_icmp .ge 37, 3) := by decide +kernel
theorem dX1_valueAt_45 : decode cX1_valueAt 45 = .ok (.aload_n 0, 1) := by decide +kernel
theorem dX1_valueAt_46 : decode cX1_valueAt 46 = .ok (.getfield 13, 3) := by decide +kernel
theorem dX1_valueAt_49 : decode cX1_valueAt 49 = .ok (.iload 6, 2) := by decide +kernel
theorem dX1_valueAt_51 : decode cX1_valueAt 51 = .ok (.iaload, 1) := by decide +kernel
theorem dX1_valueAt_52 : decode cX1_valueAt 52 = .ok (.aload_n 0, 1) := by decide +kernel
theorem dX1_valueAt_53 : decode cX1_valueAt 53 = .ok (.getfield 13, 3) := by decide +kernel
theorem dX1_valueAt_56 : decode cX1_valueAt 56 = .ok (.iload 4, 2) := by decide +kernel
theorem dX1_valueAt_58 : decode cX1_valueAt 58 = .ok (.iaload, 1) := by decide +kernel
theorem dX1_valueAt_59 : decode cX1_valueAt 59 = .ok (.if_icmp .ge 10, 3) := by decide +kernel
theorem dX1_valueAt_62 : decode cX1_valueAt 62 = .ok (.iload 5, 2) := by decide +kernel
theorem dX1_valueAt_64 : decode cX1_valueAt 64 = .ok (.iconst 1, 1) := by decide +kernel
theorem dX1_valueAt_65 : decode cX1_valueAt 65 = .ok (.iadd, 1) := by decide +kernel
theorem dX1_valueAt_66 : decode cX1_valueAt 66 = .ok (.goto 5, 3) := by decide +kernel
theorem dX1_valueAt_69 : decode cX1_valueAt 69 = .ok (.iload 5, 2) := by decide +kernel
theorem dX1_valueAt_71 : decode cX1_valueAt 71 = .ok (.istore 5, 2) := by decide +kernel
theorem dX1_valueAt_73 : decode cX1_valueAt 73 = .ok (.iinc 6 1, 3) := by decide +kernel
theorem dX1_valueAt_76 : decode cX1_valueAt 76 = .ok (.goto (-37), 3) := by decide +kernel
theorem dX1_valueAt_79 : decode cX1_valueAt 79 = .ok (.iload 5, 2) := by decide +kernel
theorem dX1_valueAt_81 : decode cX1_valueAt 81 = .ok (.iload_n 2, 1) := by decide +kernel
theorem dX1_valueAt_82 : decode cX1_valueAt 82 = .ok (.if_icmp .ne 11, 3) := by decide +kernel
theorem dX1_valueAt_85 : decode cX1_valueAt 85 = .ok (.aload_n 0, 1) := by decide +kernel
theorem dX1_valueAt_86 : decode cX1_valueAt 86 = .ok (.getfield 13, 3) := by decide +kernel
theorem dX1_valueAt_89 : decode cX1_valueAt 89 = .ok (.iload 4, 2) := by decide +kernel
theorem dX1_valueAt_91 : decode cX1_valueAt 91 = .ok (.iaload, 1) := by decide +kernel
theorem dX1_valueAt_92 : decode cX1_valueAt 92 = .ok (.ireturn, 1) := by decide +kernel
theorem dX1_valueAt_93 : decode cX1_valueAt 93 = .ok (.iinc 4 1, 3) := by decide +kernel
theorem dX1_valueAt_96 : decode cX1_valueAt 96 = .ok (.goto (-69), 3) := by decide +kernel
theorem dX1_valueAt_99 : decode cX1_valueAt 99 = .ok (.sipush (-1000), 3) := by decide +kernel
theorem dX1_valueAt_102 : decode cX1_valueAt 102 = .ok (.ireturn, 1) := by decide +kernel
theorem dX1_modulus_0 : decode cX1_modulus 0 = .ok (.aload_n 0, 1) := by decide +kernel
theorem dX1_modulus_1 : decode cX1_modulus 1 = .ok (.iload_n 1, 1) := by decide +kernel
theorem dX1_modulus_2 : decode cX1_modulus 2 = .ok (.invokevirtual 24, 3) := by decide +kernel
theorem dX1_modulus_5 : decode cX1_modulus 5 = .ok (.ifCond .ne 5, 3) := by decide +kernel
theorem dX1_modulus_8 : decode cX1_modulus 8 = .ok (.iconst (-1), 1) := by decide +kernel
theorem dX1_modulus_9 : decode cX1_modulus 9 = .ok (.ireturn, 1) := by decide +kernel
theorem dX1_modulus_10 : decode cX1_modulus 10 = .ok (.aload_n 0, 1) := by decide +kernel
theorem dX1_modulus_11 : decode cX1_modulus 11 = .ok (.iload_n 1, 1) := by decide +kernel
theorem dX1_modulus_12 : decode cX1_modulus 12 = .ok (.invokevirtual 27, 3) := by decide +kernel
theorem dX1_modulus_15 : decode cX1_modulus 15 = .ok (.iconst 2, 1) := by decide +kernel
theorem dX1_modulus_16 : decode cX1_modulus 16 = .ok (.if_icmp .ge 5, 3) := by decide +kernel
theorem dX1_modulus_19 : decode cX1_modulus 19 = .ok (.iconst 0, 1) := by decide +kernel
theorem dX1_modulus_20 : decode cX1_modulus 20 = .ok (.ireturn, 1) := by decide +kernel
theorem dX1_modulus_21 : decode cX1_modulus 21 = .ok (.sipush 200, 3) := by decide +kernel
theorem dX1_modulus_24 : decode cX1_modulus 24 = .ok (.istore_n 2, 1) := by decide +kernel
theorem dX1_modulus_25 : decode cX1_modulus 25 = .ok (.iload_n 2, 1) := by decide +kernel
theorem dX1_modulus_26 : decode cX1_modulus 26 = .ok (.iconst 2, 1) := by decide +kernel
theorem dX1_modulus_27 : decode cX1_modulus 27 = .ok (.if_icmp .lt 75, 3) := by decide +kernel
theorem dX1_modulus_30 : decode cX1_modulus 30 = .ok (.iconst 1, 1) := by decide +kernel
theorem dX1_modulus_31 : decode cX1_modulus 31 = .ok (.istore_n 3, 1) := by decide +kernel
theorem dX1_modulus_32 : decode cX1_modulus 32 = .ok (.iconst 0, 1) := by decide +kernel
theorem dX1_modulus_33 : decode cX1_modulus 33 = .ok (.istore 4, 2) := by decide +kernel
theorem dX1_modulus_35 : decode cX1_modulus 35 = .ok (.iload 4, 2) := by decide +kernel
theorem dX1_modulus_37 : decode cX1_modulus 37 = .ok (.aload_n 0, 1) := by decide +kernel
theorem dX1_modulus_38 : decode cX1_modulus 38 = .ok (.getfield 20, 3) := by decide +kernel
theorem dX1_modulus_41 : decode cX1_modulus 41 = .ok (.if_icmp .ge 49, 3) := by decide +kernel
theorem dX1_modulus_44 : decode cX1_modulus 44 = .ok (.iload_n 3, 1) := by decide +kernel
theorem dX1_modulus_45 : decode cX1_modulus 45 = .ok (.ifCond .eq 37, 3) := by decide +kernel
theorem dX1_modulus_48 : decode cX1_modulus 48 = .ok (.aload_n 0, 1) := by decide +kernel
theorem dX1_modulus_49 : decode cX1_modulus 49 = .ok (.aload_n 0, 1) := by decide +kernel
theorem dX1_modulus_50 : decode cX1_modulus 50 = .ok (.getfield 7, 3) := by decide +kernel
theorem dX1_modulus_53 : decode cX1_modulus 53 = .ok (.iconst 4, 1) := by decide +kernel
theorem dX1_modulus_54 : decode cX1_modulus 54 = .ok (.iload 4, 2) := by decide +kernel
theorem dX1_modulus_56 : decode cX1_modulus 56 = .ok (.imul, 1) := by decide +kernel
theorem dX1_modulus_57 : decode cX1_modulus 57 = .ok (.iload_n 1, 1) := by decide +kernel
theorem dX1_modulus_58 : decode cX1_modulus 58 = .ok (.iadd, 1) := by decide +kernel
theorem dX1_modulus_59 : decode cX1_modulus 59 = .ok (.iaload, 1) := by decide +kernel
theorem dX1_modulus_60 : decode cX1_modulus 60 = .ok (.iload_n 2, 1) := by decide +kernel
theorem dX1_modulus_61 : decode cX1_modulus 61 = .ok (.invokevirtual 31, 3) := by decide +kernel
theorem dX1_modulus_64 : decode cX1_modulus 64 = .ok (.aload_n 0, 1) := by decide +kernel
theorem dX1_modulus_65 : decode cX1_modulus 65 = .ok (.aload_n 0, 1) := by decide +kernel
theorem dX1_modulus_66 : decode cX1_modulus 66 = .ok (.getfield 7, 3) := by decide +kernel
theorem dX1_modulus_69 : decode cX1_modulus 69 = .ok (.iload_n 1, 1) := by decide +kernel
theorem dX1_modulus_70 : decode cX1_modulus 70 = .ok (.iaload, 1) := by decide +kernel
theorem dX1_modulus_71 : decode cX1_modulus 71 = .ok (.iload_n 2, 1) := by decide +kernel
theorem dX1_modulus_72 : decode cX1_modulus 72 = .ok (.invokevirtual 31, 3) := by decide +kernel
theorem dX1_modulus_75 : decode cX1_modulus 75 = .ok (.if_icmp .ne 7, 3) := by decide +kernel
theorem dX1_modulus_78 : decode cX1_modulus 78 = .ok (.iconst 1, 1) := by decide +kernel
theorem dX1_modulus_79 : decode cX1_modulus 79 = .ok (.goto 4, 3) := by decide +kernel
theorem dX1_modulus_82 : decode cX1_modulus 82 = .ok (.iconst 0, 1) := by decide +kernel
theorem dX1_modulus_83 : decode cX1_modulus 83 = .ok (.istore_n 3, 1) := by decide +kernel
theorem dX1_modulus_84 : decode cX1_modulus 84 = .ok (.iinc 4 1, 3) := by decide +kernel
theorem dX1_modulus_87 : decode cX1_modulus 87 = .ok (.goto (-52), 3) := by decide +kernel
theorem dX1_modulus_90 : decode cX1_modulus 90 = .ok (.iload_n 3, 1) := by decide +kernel
theorem dX1_modulus_91 : decode cX1_modulus 91 = .ok (.ifCond .eq 5, 3) := by decide +kernel
theorem dX1_modulus_94 : decode cX1_modulus 94 = .ok (.iload_n 2, 1) := by decide +kernel
theorem dX1_modulus_95 : decode cX1_modulus 95 = .ok (.ireturn, 1) := by decide +kernel
theorem dX1_modulus_96 : decode cX1_modulus 96 = .ok (.iinc 2 (-1), 3) := by decide +kernel
theorem dX1_modulus_99 : decode cX1_modulus 99 = .ok (.goto (-74), 3) := by decide +kernel
theorem dX1_modulus_102 : decode cX1_modulus 102 = .ok (.iconst 1, 1) := by decide +kernel
theorem dX1_modulus_103 : decode cX1_modulus 103 = .ok (.ireturn, 1) := by decide +kernel
theorem dX1_modulo_0 : decode cX1_modulo 0 = .ok (.iload_n 1, 1) := by decide +kernel
theorem dX1_modulo_1 : decode cX1_modulo 1 = .ok (.iload_n 2, 1) := by decide +kernel
theorem dX1_modulo_2 : decode cX1_modulo 2 = .ok (.irem, 1) := by decide +kernel
theorem dX1_modulo_3 : decode cX1_modulo 3 = .ok (.iload_n 2, 1) := by decide +kernel
theorem dX1_modulo_4 : decode cX1_modulo 4 = .ok (.iadd, 1) := by decide +kernel
theorem dX1_modulo_5 : decode cX1_modulo 5 = .ok (.iload_n 2, 1) := by decide +kernel
theorem dX1_modulo_6 : decode cX1_modulo 6 = .ok (.irem, 1) := by decide +kernel
theorem dX1_modulo_7 : decode cX1_modulo 7 = .ok (.ireturn, 1) := by decide +kernel
theorem dX1_remainder_0 : decode cX1_remainder 0 = .ok (.aload_n 0, 1) := by decide +kernel
theorem dX1_remainder_1 : decode cX1_remainder 1 = .ok (.iload_n 1, 1) := by decide +kernel
theorem dX1_remainder_2 : decode cX1_remainder 2 = .ok (.invokevirtual 35, 3) := by decide +kernel
theorem dX1_remainder_5 : decode cX1_remainder 5 = .ok (.istore_n 2, 1) := by decide +kernel
theorem dX1_remainder_6 : decode cX1_remainder 6 = .ok (.iload_n 2, 1) := by decide +kernel
theorem dX1_remainder_7 : decode cX1_remainder 7 = .ok (.iconst 2, 1) := by decide +kernel
theorem dX1_remainder_8 : decode cX1_remainder 8 = .ok (.if_icmp .lt 17, 3) := by decide +kernel
theorem dX1_remainder_11 : decode cX1_remainder 11 = .ok (.aload_n 0, 1) := by decide +kernel
theorem dX1_remainder_12 : decode cX1_remainder 12 = .ok (.aload_n 0, 1) := by decide +kernel
theorem dX1_remainder_13 : decode cX1_remainder 13 = .ok (.getfield 7, 3) := by decide +kernel
theorem dX1_remainder_16 : decode cX1_remainder 16 = .ok (.iload_n 1, 1) := by decide +kernel
theorem dX1_remainder_17 : decode cX1_remainder 17 = .ok (.iaload, 1) := by decide +kernel
theorem dX1_remainder_18 : decode cX1_remainder 18 = .ok (.iload_n 2, 1) := by decide +kernel
theorem dX1_remainder_19 : decode cX1_remainder 19 = .ok (.invokevirtual 31, 3) := by decide +kernel
theorem dX1_remainder_22 : decode cX1_remainder 22 = .ok (.goto 6, 3) := by decide +kernel
theorem dX1_remainder_25 : decode cX1_remainder 25 = .ok (.sipush (-1000), 3) := by decide +kernel
theorem dX1_remainder_28 : decode cX1_remainder 28 = .ok (.ireturn, 1) := by decide +kernel
theorem dX1_relation_0 : decode cX1_relation 0 = .ok (.aload_n 0, 1) := by decide +kernel
theorem dX1_relation_1 : decode cX1_relation 1 = .ok (.iload_n 1, 1) := by decide +kernel
theorem dX1_relation_2 : decode cX1_relation 2 = .ok (.invokevirtual 24, 3) := by decide +kernel
theorem dX1_relation_5 : decode cX1_relation 5 = .ok (.ifCond .eq 25, 3) := by decide +kernel
theorem dX1_relation_8 : decode cX1_relation 8 = .ok (.aload_n 0, 1) := by decide +kernel
theorem dX1_relation_9 : decode cX1_relation 9 = .ok (.iload_n 2, 1) := by decide +kernel
theorem dX1_relation_10 : decode cX1_relation 10 = .ok (.invokevirtual 24, 3) := by decide +kernel
theorem dX1_relation_13 : decode cX1_relation 13 = .ok (.ifCond .eq 17, 3) := by decide +kernel
theorem dX1_relation_16 : decode cX1_relation 16 = .ok (.iload_n 1, 1) := by decide +kernel
theorem dX1_relation_17 : decode cX1_relation 17 = .ok (.iload_n 2, 1) := by decide +kernel
theorem dX1_relation_18 : decode cX1_relation 18 = .ok (.if_icmp .eq 12, 3) := by decide +kernel
theorem dX1_relation_21 : decode cX1_relation 21 = .ok (.iload_n 3, 1) := by decide +kernel
theorem dX1_relation_22 : decode cX1_relation 22 = .ok (.ifCond .lt 8, 3) := by decide +kernel
theorem dX1_relation_25 : decode cX1_relation 25 = .ok (.iload_n 3, 1) := by decide +kernel
theorem dX1_relation_26 : decode cX1_relation 26 = .ok (.iconst 3, 1) := by decide +kernel
theorem dX1_relation_27 : decode cX1_relation 27 = .ok (.if_icmp .le 5, 3) := by decide +kernel
theorem dX1_relation_30 : decode cX1_relation 30 = .ok (.iconst 0, 1) := by decide +kernel
theorem dX1_relation_31 : decode cX1_relation 31 = .ok (.ireturn, 1) := by decide +kernel
theorem dX1_relation_32 : decode cX1_relation 32 = .ok (.iconst 1, 1) := by decide +kernel
theorem dX1_relation_33 : decode cX1_relation 33 = .ok (.istore 4, 2) := by decide +kernel
theorem dX1_relation_35 : decode cX1_relation 35 = .ok (.iconst 0, 1) := by decide +kernel
theorem dX1_relation_36 : decode cX1_relation 36 = .ok (.istore 5, 2) := by decide +kernel
theorem dX1_relation_38 : decode cX1_relation 38 = .ok (.iload 5, 2) := by decide +kernel
theorem dX1_relation_40 : decode cX1_relation 40 = .ok (.aload_n 0, 1) := by decide +kernel
theorem dX1_relation_41 : decode cX1_relation 41 = .ok (.getfield 20, 3) := by decide +kernel
theorem dX1_relation_44 : decode cX1_relation 44 = .ok (.if_icmp .ge 51, 3) := by decide +kernel
theorem dX1_relation_47 : decode cX1_relation 47 = .ok (.iload 4, 2) := by decide +kernel
theorem dX1_relation_49 : decode cX1_relation 49 = .ok (.ifCond .eq 37, 3) := by decide +kernel
theorem dX1_relation_52 : decode cX1_relation 52 = .ok (.aload_n 0, 1) := by decide +kernel
theorem dX1_relation_53 : decode cX1_relation 53 = .ok (.aload_n 0, 1) := by decide +kernel
theorem dX1_relation_54 : decode cX1_relation 54 = .ok (.getfield 7, 3) := by decide +kernel
theorem dX1_relation_57 : decode cX1_relation 57 = .ok (.iconst 4, 1) := by decide +kernel
theorem dX1_relation_58 : decode cX1_relation 58 = .ok (.iload 5, 2) := by decide +kernel
theorem dX1_relation_60 : decode cX1_relation 60 = .ok (.imul, 1) := by decide +kernel
theorem dX1_relation_61 : decode cX1_relation 61 = .ok (.iload_n 1, 1) := by decide +kernel
theorem dX1_relation_62 : decode cX1_relation 62 = .ok (.iadd, 1) := by decide +kernel
theorem dX1_relation_63 : decode cX1_relation 63 = .ok (.iaload, 1) := by decide +kernel
theorem dX1_relation_64 : decode cX1_relation 64 = .ok (.aload_n 0, 1) := by decide +kernel
theorem dX1_relation_65 : decode cX1_relation 65 = .ok (.getfield 7, 3) := by decide +kernel
theorem dX1_relation_68 : decode cX1_relation 68 = .ok (.iconst 4, 1) := by decide +kernel
theorem dX1_relation_69 : decode cX1_relation 69 = .ok (.iload 5, 2) := by decide +kernel
theorem dX1_relation_71 : decode cX1_relation 71 = .ok (.imul, 1) := by decide +kernel
theorem dX1_relation_72 : decode cX1_relation 72 = .ok (.iload_n 2, 1) := by decide +kernel
theorem dX1_relation_73 : decode cX1_relation 73 = .ok (.iadd, 1) := by decide +kernel
theorem dX1_relation_74 : decode cX1_relation 74 = .ok (.iaload, 1) := by decide +kernel
theorem dX1_relation_75 : decode cX1_relation 75 = .ok (.iload_n 3, 1) := by decide +kernel
theorem dX1_relation_76 : decode cX1_relation 76 = .ok (.invokevirtual 38, 3) := by decide +kernel
end
section
set_option maxRecDepth 100000
theorem dX1_relation_79 : decode cX1_relation 79 = .ok (.ifCond .eq 7, 3) := by decide +kernel
theorem dX1_relation_82 : decode cX1_relation 82 = .ok (.iconst 1, 1) := by decide +kernel
theorem dX1_relation_83 : decode cX1_relation 83 = .ok (.goto 4, 3) := by decide +kernel
theorem dX1_relation_86 : decode cX1_relation 86 = .ok (.iconst 0, 1) := by decide +kernel
theorem dX1_relation_87 : decode cX1_relation 87 = .ok (.istore 4, 2) := by decide +kernel
theorem dX1_relation_89 : decode cX1_relation 89 = .ok (.iinc 5 1, 3) := by decide +kernel
theorem dX1_relation_92 : decode cX1_relation 92 = .ok (.goto (-54), 3) := by decide +kernel
theorem dX1_relation_95 : decode cX1_relation 95 = .ok (.iload 4, 2) := by decide +kernel
theorem dX1_relation_97 : decode cX1_relation 97 = .ok (.ireturn, 1) := by decide +kernel
theorem dX1_holds_0 : decode cX1_holds 0 = .ok (.iload_n 3, 1) := by decide +kernel
theorem dX1_holds_1 : decode cX1_holds 1 = .ok (.ifCond .ne 16, 3) := by decide +kernel
theorem dX1_holds_4 : decode cX1_holds 4 = .ok (.iload_n 1, 1) := by decide +kernel
theorem dX1_holds_5 : decode cX1_holds 5 = .ok (.iload_n 2, 1) := by decide +kernel
theorem dX1_holds_6 : decode cX1_holds 6 = .ok (.if_icmp .ge 7, 3) := by decide +kernel
theorem dX1_holds_9 : decode cX1_holds 9 = .ok (.iconst 1, 1) := by decide +kernel
theorem dX1_holds_10 : decode cX1_holds 10 = .ok (.goto 53, 3) := by decide +kernel
theorem dX1_holds_13 : decode cX1_holds 13 = .ok (.iconst 0, 1) := by decide +kernel
theorem dX1_holds_14 : decode cX1_holds 14 = .ok (.goto 49, 3) := by decide +kernel
theorem dX1_holds_17 : decode cX1_holds 17 = .ok (.iload_n 3, 1) := by decide +kernel
theorem dX1_holds_18 : decode cX1_holds 18 = .ok (.iconst 1, 1) := by decide +kernel
theorem dX1_holds_19 : decode cX1_holds 19 = .ok (.if_icmp .ne 16, 3) := by decide +kernel
theorem dX1_holds_22 : decode cX1_holds 22 = .ok (.iload_n 1, 1) := by decide +kernel
theorem dX1_holds_23 : decode cX1_holds 23 = .ok (.iload_n 2, 1) := by decide +kernel
theorem dX1_holds_24 : decode cX1_holds 24 = .ok (.if_icmp .gt 7, 3) := by decide +kernel
theorem dX1_holds_27 : decode cX1_holds 27 = .ok (.iconst 1, 1) := by decide +kernel
theorem dX1_holds_28 : decode cX1_holds 28 = .ok (.goto 35, 3) := by decide +kernel
theorem dX1_holds_31 : decode cX1_holds 31 = .ok (.iconst 0, 1) := by decide +kernel
theorem dX1_holds_32 : decode cX1_holds 32 = .ok (.goto 31, 3) := by decide +kernel
theorem dX1_holds_35 : decode cX1_holds 35 = .ok (.iload_n 3, 1) := by decide +kernel
theorem dX1_holds_36 : decode cX1_holds 36 = .ok (.iconst 2, 1) := by decide +kernel
theorem dX1_holds_37 : decode cX1_holds 37 = .ok (.if_icmp .ne 16, 3) := by decide +kernel
theorem dX1_holds_40 : decode cX1_holds 40 = .ok (.iload_n 1, 1) := by decide +kernel
theorem dX1_holds_41 : decode cX1_holds 41 = .ok (.iload_n 2, 1) := by decide +kernel
theorem dX1_holds_42 : decode cX1_holds 42 = .ok (.if_icmp .ne 7, 3) := by decide +kernel
theorem dX1_holds_45 : decode cX1_holds 45 = .ok (.iconst 1, 1) := by decide +kernel
theorem dX1_holds_46 : decode cX1_holds 46 = .ok (.goto 17, 3) := by decide +kernel
theorem dX1_holds_49 : decode cX1_holds 49 = .ok (.iconst 0, 1) := by decide +kernel
theorem dX1_holds_50 : decode cX1_holds 50 = .ok (.goto 13, 3) := by decide +kernel
theorem dX1_holds_53 : decode cX1_holds 53 = .ok (.iload_n 1, 1) := by decide +kernel
theorem dX1_holds_54 : decode cX1_holds 54 = .ok (.iload_n 2, 1) := by decide +kernel
theorem dX1_holds_55 : decode cX1_holds 55 = .ok (.if_icmp .eq 7, 3) := by decide +kernel
theorem dX1_holds_58 : decode cX1_holds 58 = .ok (.iconst 1, 1) := by decide +kernel
theorem dX1_holds_59 : decode cX1_holds 59 = .ok (.goto 4, 3) := by decide +kernel
theorem dX1_holds_62 : decode cX1_holds 62 = .ok (.iconst 0, 1) := by decide +kernel
theorem dX1_holds_63 : decode cX1_holds 63 = .ok (.ireturn, 1) := by decide +kernel
theorem dX1_offset_0 : decode cX1_offset 0 = .ok (.aload_n 0, 1) := by decide +kernel
theorem dX1_offset_1 : decode cX1_offset 1 = .ok (.iload_n 1, 1) := by decide +kernel
theorem dX1_offset_2 : decode cX1_offset 2 = .ok (.invokevirtual 24, 3) := by decide +kernel
theorem dX1_offset_5 : decode cX1_offset 5 = .ok (.ifCond .eq 23, 3) := by decide +kernel
theorem dX1_offset_8 : decode cX1_offset 8 = .ok (.aload_n 0, 1) := by decide +kernel
theorem dX1_offset_9 : decode cX1_offset 9 = .ok (.iload_n 2, 1) := by decide +kernel
theorem dX1_offset_10 : decode cX1_offset 10 = .ok (.invokevirtual 24, 3) := by decide +kernel
theorem dX1_offset_13 : decode cX1_offset 13 = .ok (.ifCond .eq 15, 3) := by decide +kernel
theorem dX1_offset_16 : decode cX1_offset 16 = .ok (.iload_n 1, 1) := by decide +kernel
theorem dX1_offset_17 : decode cX1_offset 17 = .ok (.iload_n 2, 1) := by decide +kernel
theorem dX1_offset_18 : decode cX1_offset 18 = .ok (.if_icmp .eq 10, 3) := by decide +kernel
theorem dX1_offset_21 : decode cX1_offset 21 = .ok (.aload_n 0, 1) := by decide +kernel
theorem dX1_offset_22 : decode cX1_offset 22 = .ok (.getfield 20, 3) := by decide +kernel
theorem dX1_offset_25 : decode cX1_offset 25 = .ok (.ifCond .ne 7, 3) := by decide +kernel
theorem dX1_offset_28 : decode cX1_offset 28 = .ok (.sipush (-1000), 3) := by decide +kernel
theorem dX1_offset_31 : decode cX1_offset 31 = .ok (.ireturn, 1) := by decide +kernel
theorem dX1_offset_32 : decode cX1_offset 32 = .ok (.aload_n 0, 1) := by decide +kernel
theorem dX1_offset_33 : decode cX1_offset 33 = .ok (.getfield 7, 3) := by decide +kernel
theorem dX1_offset_36 : decode cX1_offset 36 = .ok (.iload_n 2, 1) := by decide +kernel
theorem dX1_offset_37 : decode cX1_offset 37 = .ok (.iaload, 1) := by decide +kernel
theorem dX1_offset_38 : decode cX1_offset 38 = .ok (.aload_n 0, 1) := by decide +kernel
theorem dX1_offset_39 : decode cX1_offset 39 = .ok (.getfield 7, 3) := by decide +kernel
theorem dX1_offset_42 : decode cX1_offset 42 = .ok (.iload_n 1, 1) := by decide +kernel
theorem dX1_offset_43 : decode cX1_offset 43 = .ok (.iaload, 1) := by decide +kernel
theorem dX1_offset_44 : decode cX1_offset 44 = .ok (.isub, 1) := by decide +kernel
theorem dX1_offset_45 : decode cX1_offset 45 = .ok (.istore_n 3, 1) := by decide +kernel
theorem dX1_offset_46 : decode cX1_offset 46 = .ok (.iconst 1, 1) := by decide +kernel
theorem dX1_offset_47 : decode cX1_offset 47 = .ok (.istore 4, 2) := by decide +kernel
theorem dX1_offset_49 : decode cX1_offset 49 = .ok (.iconst 0, 1) := by decide +kernel
theorem dX1_offset_50 : decode cX1_offset 50 = .ok (.istore 5, 2) := by decide +kernel
theorem dX1_offset_52 : decode cX1_offset 52 = .ok (.iload 5, 2) := by decide +kernel
theorem dX1_offset_54 : decode cX1_offset 54 = .ok (.aload_n 0, 1) := by decide +kernel
theorem dX1_offset_55 : decode cX1_offset 55 = .ok (.getfield 20, 3) := by decide +kernel
theorem dX1_offset_58 : decode cX1_offset 58 = .ok (.if_icmp .ge 48, 3) := by decide +kernel
theorem dX1_offset_61 : decode cX1_offset 61 = .ok (.iload 4, 2) := by decide +kernel
theorem dX1_offset_63 : decode cX1_offset 63 = .ok (.ifCond .eq 34, 3) := by decide +kernel
theorem dX1_offset_66 : decode cX1_offset 66 = .ok (.aload_n 0, 1) := by decide +kernel
theorem dX1_offset_67 : decode cX1_offset 67 = .ok (.getfield 7, 3) := by decide +kernel
theorem dX1_offset_70 : decode cX1_offset 70 = .ok (.iconst 4, 1) := by decide +kernel
theorem dX1_offset_71 : decode cX1_offset 71 = .ok (.iload 5, 2) := by decide +kernel
theorem dX1_offset_73 : decode cX1_offset 73 = .ok (.imul, 1) := by decide +kernel
theorem dX1_offset_74 : decode cX1_offset 74 = .ok (.iload_n 2, 1) := by decide +kernel
theorem dX1_offset_75 : decode cX1_offset 75 = .ok (.iadd, 1) := by decide +kernel
theorem dX1_offset_76 : decode cX1_offset 76 = .ok (.iaload, 1) := by decide +kernel
theorem dX1_offset_77 : decode cX1_offset 77 = .ok (.aload_n 0, 1) := by decide +kernel
theorem dX1_offset_78 : decode cX1_offset 78 = .ok (.getfield 7, 3) := by decide +kernel
theorem dX1_offset_81 : decode cX1_offset 81 = .ok (.iconst 4, 1) := by decide +kernel
theorem dX1_offset_82 : decode cX1_offset 82 = .ok (.iload 5, 2) := by decide +kernel
theorem dX1_offset_84 : decode cX1_offset 84 = .ok (.imul, 1) := by decide +kernel
theorem dX1_offset_85 : decode cX1_offset 85 = .ok (.iload_n 1, 1) := by decide +kernel
theorem dX1_offset_86 : decode cX1_offset 86 = .ok (.iadd, 1) := by decide +kernel
theorem dX1_offset_87 : decode cX1_offset 87 = .ok (.iaload, 1) := by decide +kernel
theorem dX1_offset_88 : decode cX1_offset 88 = .ok (.iload_n 3, 1) := by decide +kernel
theorem dX1_offset_89 : decode cX1_offset 89 = .ok (.iadd, 1) := by decide +kernel
theorem dX1_offset_90 : decode cX1_offset 90 = .ok (.if_icmp .ne 7, 3) := by decide +kernel
theorem dX1_offset_93 : decode cX1_offset 93 = .ok (.iconst 1, 1) := by decide +kernel
theorem dX1_offset_94 : decode cX1_offset 94 = .ok (.goto 4, 3) := by decide +kernel
theorem dX1_offset_97 : decode cX1_offset 97 = .ok (.iconst 0, 1) := by decide +kernel
theorem dX1_offset_98 : decode cX1_offset 98 = .ok (.istore 4, 2) := by decide +kernel
theorem dX1_offset_100 : decode cX1_offset 100 = .ok (.iinc 5 1, 3) := by decide +kernel
theorem dX1_offset_103 : decode cX1_offset 103 = .ok (.goto (-51), 3) := by decide +kernel
theorem dX1_offset_106 : decode cX1_offset 106 = .ok (.iload 4, 2) := by decide +kernel
theorem dX1_offset_108 : decode cX1_offset 108 = .ok (.ifCond .eq 7, 3) := by decide +kernel
theorem dX1_offset_111 : decode cX1_offset 111 = .ok (.iload_n 3, 1) := by decide +kernel
theorem dX1_offset_112 : decode cX1_offset 112 = .ok (.goto 6, 3) := by decide +kernel
theorem dX1_offset_115 : decode cX1_offset 115 = .ok (.sipush (-1000), 3) := by decide +kernel
theorem dX1_offset_118 : decode cX1_offset 118 = .ok (.ireturn, 1) := by decide +kernel
theorem dX1_line_0 : decode cX1_line 0 = .ok (.aload_n 0, 1) := by decide +kernel
theorem dX1_line_1 : decode cX1_line 1 = .ok (.iload_n 1, 1) := by decide +kernel
theorem dX1_line_2 : decode cX1_line 2 = .ok (.iload_n 2, 1) := by decide +kernel
theorem dX1_line_3 : decode cX1_line 3 = .ok (.invokevirtual 51, 3) := by decide +kernel
theorem dX1_line_6 : decode cX1_line 6 = .ok (.ifCond .eq 10, 3) := by decide +kernel
theorem dX1_line_9 : decode cX1_line 9 = .ok (.aload_n 0, 1) := by decide +kernel
theorem dX1_line_10 : decode cX1_line 10 = .ok (.getfield 42, 3) := by decide +kernel
theorem dX1_line_13 : decode cX1_line 13 = .ok (.goto 4, 3) := by decide +kernel
theorem dX1_line_16 : decode cX1_line 16 = .ok (.iconst 0, 1) := by decide +kernel
theorem dX1_line_17 : decode cX1_line 17 = .ok (.ireturn, 1) := by decide +kernel
theorem dX1_find_0 : decode cX1_find 0 = .ok (.aload_n 0, 1) := by decide +kernel
theorem dX1_find_1 : decode cX1_find 1 = .ok (.iconst 0, 1) := by decide +kernel
theorem dX1_find_2 : decode cX1_find 2 = .ok (.putfield 42, 3) := by decide +kernel
theorem dX1_find_5 : decode cX1_find 5 = .ok (.aload_n 0, 1) := by decide +kernel
theorem dX1_find_6 : decode cX1_find 6 = .ok (.iconst 0, 1) := by decide +kernel
theorem dX1_find_7 : decode cX1_find 7 = .ok (.putfield 45, 3) := by decide +kernel
theorem dX1_find_10 : decode cX1_find 10 = .ok (.aload_n 0, 1) := by decide +kernel
theorem dX1_find_11 : decode cX1_find 11 = .ok (.iconst 0, 1) := by decide +kernel
theorem dX1_find_12 : decode cX1_find 12 = .ok (.putfield 48, 3) := by decide +kernel
theorem dX1_find_15 : decode cX1_find 15 = .ok (.aload_n 0, 1) := by decide +kernel
theorem dX1_find_16 : decode cX1_find 16 = .ok (.iload_n 1, 1) := by decide +kernel
theorem dX1_find_17 : decode cX1_find 17 = .ok (.invokevirtual 24, 3) := by decide +kernel
theorem dX1_find_20 : decode cX1_find 20 = .ok (.ifCond .eq 25, 3) := by decide +kernel
theorem dX1_find_23 : decode cX1_find 23 = .ok (.aload_n 0, 1) := by decide +kernel
theorem dX1_find_24 : decode cX1_find 24 = .ok (.iload_n 2, 1) := by decide +kernel
theorem dX1_find_25 : decode cX1_find 25 = .ok (.invokevirtual 24, 3) := by decide +kernel
theorem dX1_find_28 : decode cX1_find 28 = .ok (.ifCond .eq 17, 3) := by decide +kernel
theorem dX1_find_31 : decode cX1_find 31 = .ok (.iload_n 1, 1) := by decide +kernel
theorem dX1_find_32 : decode cX1_find 32 = .ok (.iload_n 2, 1) := by decide +kernel
theorem dX1_find_33 : decode cX1_find 33 = .ok (.if_icmp .eq 12, 3) := by decide +kernel
theorem dX1_find_36 : decode cX1_find 36 = .ok (.aload_n 0, 1) := by decide +kernel
theorem dX1_find_37 : decode cX1_find 37 = .ok (.iload_n 1, 1) := by decide +kernel
theorem dX1_find_38 : decode cX1_find 38 = .ok (.invokevirtual 27, 3) := by decide +kernel
theorem dX1_find_41 : decode cX1_find 41 = .ok (.iconst 2, 1) := by decide +kernel
theorem dX1_find_42 : decode cX1_find 42 = .ok (.if_icmp .ge 5, 3) := by decide +kernel
theorem dX1_find_45 : decode cX1_find 45 = .ok (.iconst 0, 1) := by decide +kernel
theorem dX1_find_46 : decode cX1_find 46 = .ok (.ireturn, 1) := by decide +kernel
theorem dX1_find_47 : decode cX1_find 47 = .ok (.iconst 0, 1) := by decide +kernel
theorem dX1_find_48 : decode cX1_find 48 = .ok (.istore_n 3, 1) := by decide +kernel
theorem dX1_find_49 : decode cX1_find 49 = .ok (.iload_n 3, 1) := by decide +kernel
theorem dX1_find_50 : decode cX1_find 50 = .ok (.aload_n 0, 1) := by decide +kernel
theorem dX1_find_51 : decode cX1_find 51 = .ok (.getfield 20, 3) := by decide +kernel
theorem dX1_find_54 : decode cX1_find 54 = .ok (.iconst 1, 1) := by decide +kernel
theorem dX1_find_55 : decode cX1_find 55 = .ok (.isub, 1) := by decide +kernel
theorem dX1_find_56 : decode cX1_find 56 = .ok (.if_icmp .ge 28, 3) := by decide +kernel
theorem dX1_find_59 : decode cX1_find 59 = .ok (.aload_n 0, 1) := by decide +kernel
theorem dX1_find_60 : decode cX1_find 60 = .ok (.getfield 7, 3) := by decide +kernel
theorem dX1_find_63 : decode cX1_find 63 = .ok (.iconst 4, 1) := by decide +kernel
theorem dX1_find_64 : decode cX1_find 64 = .ok (.iload_n 3, 1) := by decide +kernel
theorem dX1_find_65 : decode cX1_find 65 = .ok (.imul, 1) := by decide +kernel
theorem dX1_find_66 : decode cX1_find 66 = .ok (.iload_n 1, 1) := by decide +kernel
theorem dX1_find_67 : decode cX1_find 67 = .ok (.iadd, 1) := by decide +kernel
theorem dX1_find_68 : decode cX1_find 68 = .ok (.iaload, 1) := by decide +kernel
theorem dX1_find_69 : decode cX1_find 69 = .ok (.aload_n 0, 1) := by decide +kernel
theorem dX1_find_70 : decode cX1_find 70 = .ok (.getfield 7, 3) := by decide +kernel
theorem dX1_find_73 : decode cX1_find 73 = .ok (.iload_n 1, 1) := by decide +kernel
theorem dX1_find_74 : decode cX1_find 74 = .ok (.iaload, 1) := by decide +kernel
theorem dX1_find_75 : decode cX1_find 75 = .ok (.if_icmp .ne 9, 3) := by decide +kernel
theorem dX1_find_78 : decode cX1_find 78 = .ok (.iinc 3 1, 3) := by decide +kernel
theorem dX1_find_81 : decode cX1_find 81 = .ok (.goto (-32), 3) := by decide +kernel
theorem dX1_find_84 : decode cX1_find 84 = .ok (.aload_n 0, 1) := by decide +kernel
theorem dX1_find_85 : decode cX1_find 85 = .ok (.getfield 7, 3) := by decide +kernel
theorem dX1_find_88 : decode cX1_find 88 = .ok (.iconst 4, 1) := by decide +kernel
theorem dX1_find_89 : decode cX1_find 89 = .ok (.iload_n 3, 1) := by decide +kernel
theorem dX1_find_90 : decode cX1_find 90 = .ok (.imul, 1) := by decide +kernel
theorem dX1_find_91 : decode cX1_find 91 = .ok (.iload_n 1, 1) := by decide +kernel
theorem dX1_find_92 : decode cX1_find 92 = .ok (.iadd, 1) := by decide +kernel
theorem dX1_find_93 : decode cX1_find 93 = .ok (.iaload, 1) := by decide +kernel
theorem dX1_find_94 : decode cX1_find 94 = .ok (.aload_n 0, 1) := by decide +kernel
theorem dX1_find_95 : decode cX1_find 95 = .ok (.getfield 7, 3) := by decide +kernel
theorem dX1_find_98 : decode cX1_find 98 = .ok (.iload_n 1, 1) := by decide +kernel
theorem dX1_find_99 : decode cX1_find 99 = .ok (.iaload, 1) := by decide +kernel
theorem dX1_find_100 : decode cX1_find 100 = .ok (.isub, 1) := by decide +kernel
theorem dX1_find_101 : decode cX1_find 101 = .ok (.istore 4, 2) := by decide +kernel
theorem dX1_find_103 : decode cX1_find 103 = .ok (.aload_n 0, 1) := by decide +kernel
theorem dX1_find_104 : decode cX1_find 104 = .ok (.getfield 7, 3) := by decide +kernel
theorem dX1_find_107 : decode cX1_find 107 = .ok (.iconst 4, 1) := by decide +kernel
theorem dX1_find_108 : decode cX1_find 108 = .ok (.iload_n 3, 1) := by decide +kernel
theorem dX1_find_109 : decode cX1_find 109 = .ok (.imul, 1) := by decide +kernel
theorem dX1_find_110 : decode cX1_find 110 = .ok (.iload_n 2, 1) := by decide +kernel
theorem dX1_find_111 : decode cX1_find 111 = .ok (.iadd, 1) := by decide +kernel
theorem dX1_find_112 : decode cX1_find 112 = .ok (.iaload, 1) := by decide +kernel
theorem dX1_find_113 : decode cX1_find 113 = .ok (.aload_n 0, 1) := by decide +kernel
theorem dX1_find_114 : decode cX1_find 114 = .ok (.getfield 7, 3) := by decide +kernel
theorem dX1_find_117 : decode cX1_find 117 = .ok (.iload_n 2, 1) := by decide +kernel
theorem dX1_find_118 : decode cX1_find 118 = .ok (.iaload, 1) := by decide +kernel
theorem dX1_find_119 : decode cX1_find 119 = .ok (.isub, 1) := by decide +kernel
theorem dX1_find_120 : decode cX1_find 120 = .ok (.istore 5, 2) := by decide +kernel
theorem dX1_find_122 : decode cX1_find 122 = .ok (.sipush 200, 3) := by decide +kernel
theorem dX1_find_125 : decode cX1_find 125 = .ok (.istore 6, 2) := by decide +kernel
theorem dX1_find_127 : decode cX1_find 127 = .ok (.iload 6, 2) := by decide +kernel
theorem dX1_find_129 : decode cX1_find 129 = .ok (.iconst 1, 1) := by decide +kernel
theorem dX1_find_130 : decode cX1_find 130 = .ok (.if_icmp .lt 43, 3) := by decide +kernel
theorem dX1_find_133 : decode cX1_find 133 = .ok (.iload 4, 2) := by decide +kernel
theorem dX1_find_135 : decode cX1_find 135 = .ok (.ifCond .eq 38, 3) := by decide +kernel
theorem dX1_find_138 : decode cX1_find 138 = .ok (.iload 6, 2) := by decide +kernel
theorem dX1_find_140 : decode cX1_find 140 = .ok (.iload 5, 2) := by decide +kernel
theorem dX1_find_142 : decode cX1_find 142 = .ok (.imul, 1) := by decide +kernel
theorem dX1_find_143 : decode cX1_find 143 = .ok (.iload 4, 2) := by decide +kernel
theorem dX1_find_145 : decode cX1_find 145 = .ok (.irem, 1) := by decide +kernel
theorem dX1_find_146 : decode cX1_find 146 = .ok (.ifCond .ne 21, 3) := by decide +kernel
theorem dX1_find_149 : decode cX1_find 149 = .ok (.aload_n 0, 1) := by decide +kernel
theorem dX1_find_150 : decode cX1_find 150 = .ok (.iload 6, 2) := by decide +kernel
theorem dX1_find_152 : decode cX1_find 152 = .ok (.putfield 42, 3) := by decide +kernel
theorem dX1_find_155 : decode cX1_find 155 = .ok (.aload_n 0, 1) := by decide +kernel
theorem dX1_find_156 : decode cX1_find 156 = .ok (.iload 6, 2) := by decide +kernel
theorem dX1_find_158 : decode cX1_find 158 = .ok (.iload 5, 2) := by decide +kernel
theorem dX1_find_160 : decode cX1_find 160 = .ok (.imul, 1) := by decide +kernel
theorem dX1_find_161 : decode cX1_find 161 = .ok (.iload 4, 2) := by decide +kernel
theorem dX1_find_163 : decode cX1_find 163 = .ok (.idiv, 1) := by decide +kernel
theorem dX1_find_164 : decode cX1_find 164 = .ok (.putfield 45, 3) := by decide +kernel
theorem dX1_find_167 : decode cX1_find 167 = .ok (.iinc 6 (-1), 3) := by decide +kernel
theorem dX1_find_170 : decode cX1_find 170 = .ok (.goto (-43), 3) := by decide +kernel
theorem dX1_find_173 : decode cX1_find 173 = .ok (.aload_n 0, 1) := by decide +kernel
theorem dX1_find_174 : decode cX1_find 174 = .ok (.aload_n 0, 1) := by decide +kernel
theorem dX1_find_175 : decode cX1_find 175 = .ok (.getfield 42, 3) := by decide +kernel
theorem dX1_find_178 : decode cX1_find 178 = .ok (.aload_n 0, 1) := by decide +kernel
theorem dX1_find_179 : decode cX1_find 179 = .ok (.getfield 7, 3) := by decide +kernel
theorem dX1_find_182 : decode cX1_find 182 = .ok (.iload_n 2, 1) := by decide +kernel
theorem dX1_find_183 : decode cX1_find 183 = .ok (.iaload, 1) := by decide +kernel
theorem dX1_find_184 : decode cX1_find 184 = .ok (.imul, 1) := by decide +kernel
theorem dX1_find_185 : decode cX1_find 185 = .ok (.aload_n 0, 1) := by decide +kernel
theorem dX1_find_186 : decode cX1_find 186 = .ok (.getfield 45, 3) := by decide +kernel
theorem dX1_find_189 : decode cX1_find 189 = .ok (.aload_n 0, 1) := by decide +kernel
theorem dX1_find_190 : decode cX1_find 190 = .ok (.getfield 7, 3) := by decide +kernel
theorem dX1_find_193 : decode cX1_find 193 = .ok (.iload_n 1, 1) := by decide +kernel
theorem dX1_find_194 : decode cX1_find 194 = .ok (.iaload, 1) := by decide +kernel
theorem dX1_find_195 : decode cX1_find 195 = .ok (.imul, 1) := by decide +kernel
theorem dX1_find_196 : decode cX1_find 196 = .ok (.isub, 1) := by decide +kernel
theorem dX1_find_197 : decode cX1_find 197 = .ok (.putfield 48, 3) := by decide +kernel
theorem dX1_find_200 : decode cX1_find 200 = .ok (.aload_n 0, 1) := by decide +kernel
theorem dX1_find_201 : decode cX1_find 201 = .ok (.getfield 42, 3) := by decide +kernel
theorem dX1_find_204 : decode cX1_find 204 = .ok (.ifCond .le 14, 3) := by decide +kernel
theorem dX1_find_207 : decode cX1_find 207 = .ok (.aload_n 0, 1) := by decide +kernel
theorem dX1_find_208 : decode cX1_find 208 = .ok (.getfield 45, 3) := by decide +kernel
theorem dX1_find_211 : decode cX1_find 211 = .ok (.ifCond .eq 7, 3) := by decide +kernel
theorem dX1_find_214 : decode cX1_find 214 = .ok (.iconst 1, 1) := by decide +kernel
theorem dX1_find_215 : decode cX1_find 215 = .ok (.goto 4, 3) := by decide +kernel
theorem dX1_find_218 : decode cX1_find 218 = .ok (.iconst 0, 1) := by decide +kernel
theorem dX1_find_219 : decode cX1_find 219 = .ok (.istore 6, 2) := by decide +kernel
theorem dX1_find_221 : decode cX1_find 221 = .ok (.iconst 0, 1) := by decide +kernel
theorem dX1_find_222 : decode cX1_find 222 = .ok (.istore 7, 2) := by decide +kernel
theorem dX1_find_224 : decode cX1_find 224 = .ok (.iload 7, 2) := by decide +kernel
theorem dX1_find_226 : decode cX1_find 226 = .ok (.aload_n 0, 1) := by decide +kernel
theorem dX1_find_227 : decode cX1_find 227 = .ok (.getfield 20, 3) := by decide +kernel
theorem dX1_find_230 : decode cX1_find 230 = .ok (.if_icmp .ge 61, 3) := by decide +kernel
theorem dX1_find_233 : decode cX1_find 233 = .ok (.iload 6, 2) := by decide +kernel
theorem dX1_find_235 : decode cX1_find 235 = .ok (.ifCond .eq 47, 3) := by decide +kernel
theorem dX1_find_238 : decode cX1_find 238 = .ok (.aload_n 0, 1) := by decide +kernel
theorem dX1_find_239 : decode cX1_find 239 = .ok (.getfield 42, 3) := by decide +kernel
theorem dX1_find_242 : decode cX1_find 242 = .ok (.aload_n 0, 1) := by decide +kernel
theorem dX1_find_243 : decode cX1_find 243 = .ok (.getfield 7, 3) := by decide +kernel
theorem dX1_find_246 : decode cX1_find 246 = .ok (.iconst 4, 1) := by decide +kernel
theorem dX1_find_247 : decode cX1_find 247 = .ok (.iload 7, 2) := by decide +kernel
theorem dX1_find_249 : decode cX1_find 249 = .ok (.imul, 1) := by decide +kernel
theorem dX1_find_250 : decode cX1_find 250 = .ok (.iload_n 2, 1) := by decide +kernel
theorem dX1_find_251 : decode cX1_find 251 = .ok (.iadd, 1) := by decide +kernel
theorem dX1_find_252 : decode cX1_find 252 = .ok (.iaload, 1) := by decide +kernel
theorem dX1_find_253 : decode cX1_find 253 = .ok (.imul, 1) := by decide +kernel
theorem dX1_find_254 : decode cX1_find 254 = .ok (.aload_n 0, 1) := by decide +kernel
theorem dX1_find_255 : decode cX1_find 255 = .ok (.getfield 45, 3) := by decide +kernel
theorem dX1_find_258 : decode cX1_find 258 = .ok (.aload_n 0, 1) := by decide +kernel
theorem dX1_find_259 : decode cX1_find 259 = .ok (.getfield 7, 3) := by decide +kernel
theorem dX1_find_262 : decode cX1_find 262 = .ok (.iconst 4, 1) := by decide +kernel
theorem dX1_find_263 : decode cX1_find 263 = .ok (.iload 7, 2) := by decide +kernel
theorem dX1_find_265 : decode cX1_find 265 = .ok (.imul, 1) := by decide +kernel
theorem dX1_find_266 : decode cX1_find 266 = .ok (.iload_n 1, 1) := by decide +kernel
theorem dX1_find_267 : decode cX1_find 267 = .ok (.iadd, 1) := by decide +kernel
theorem dX1_find_268 : decode cX1_find 268 = .ok (.iaload, 1) := by decide +kernel
theorem dX1_find_269 : decode cX1_find 269 = .ok (.imul, 1) := by decide +kernel
theorem dX1_find_270 : decode cX1_find 270 = .ok (.aload_n 0, 1) := by decide +kernel
theorem dX1_find_271 : decode cX1_find 271 = .ok (.getfield 48, 3) := by decide +kernel
theorem dX1_find_274 : decode cX1_find 274 = .ok (.iadd, 1) := by decide +kernel
theorem dX1_find_275 : decode cX1_find 275 = .ok (.if_icmp .ne 7, 3) := by decide +kernel
theorem dX1_find_278 : decode cX1_find 278 = .ok (.iconst 1, 1) := by decide +kernel
theorem dX1_find_279 : decode cX1_find 279 = .ok (.goto 4, 3) := by decide +kernel
theorem dX1_find_282 : decode cX1_find 282 = .ok (.iconst 0, 1) := by decide +kernel
theorem dX1_find_283 : decode cX1_find 283 = .ok (.istore 6, 2) := by decide +kernel
theorem dX1_find_285 : decode cX1_find 285 = .ok (.iinc 7 1, 3) := by decide +kernel
theorem dX1_find_288 : decode cX1_find 288 = .ok (.goto (-64), 3) := by decide +kernel
theorem dX1_find_291 : decode cX1_find 291 = .ok (.iload 6, 2) := by decide +kernel
theorem dX1_find_293 : decode cX1_find 293 = .ok (.ireturn, 1) := by decide +kernel
theorem dX1_slope_0 : decode cX1_slope 0 = .ok (.aload_n 0, 1) := by decide +kernel
theorem dX1_slope_1 : decode cX1_slope 1 = .ok (.iload_n 1, 1) := by decide +kernel
theorem dX1_slope_2 : decode cX1_slope 2 = .ok (.iload_n 2, 1) := by decide +kernel
theorem dX1_slope_3 : decode cX1_slope 3 = .ok (.invokevirtual 51, 3) := by decide +kernel
theorem dX1_slope_6 : decode cX1_slope 6 = .ok (.ifCond .eq 10, 3) := by decide +kernel
theorem dX1_slope_9 : decode cX1_slope 9 = .ok (.aload_n 0, 1) := by decide +kernel
theorem dX1_slope_10 : decode cX1_slope 10 = .ok (.getfield 45, 3) := by decide +kernel
theorem dX1_slope_13 : decode cX1_slope 13 = .ok (.goto 4, 3) := by decide +kernel
theorem dX1_slope_16 : decode cX1_slope 16 = .ok (.iconst 0, 1) := by decide +kernel
theorem dX1_slope_17 : decode cX1_slope 17 = .ok (.ireturn, 1) := by decide +kernel
theorem dX1_rise_0 : decode cX1_rise 0 = .ok (.aload_n 0, 1) := by decide +kernel
theorem dX1_rise_1 : decode cX1_rise 1 = .ok (.iload_n 1, 1) := by decide +kernel
theorem dX1_rise_2 : decode cX1_rise 2 = .ok (.iload_n 2, 1) := by decide +kernel
theorem dX1_rise_3 : decode cX1_rise 3 = .ok (.invokevirtual 51, 3) := by decide +kernel
theorem dX1_rise_6 : decode cX1_rise 6 = .ok (.ifCond .eq 10, 3) := by decide +kernel
theorem dX1_rise_9 : decode cX1_rise 9 = .ok (.aload_n 0, 1) := by decide +kernel
theorem dX1_rise_10 : decode cX1_rise 10 = .ok (.getfield 48, 3) := by decide +kernel
theorem dX1_rise_13 : decode cX1_rise 13 = .ok (.goto 4, 3) := by decide +kernel
theorem dX1_rise_16 : decode cX1_rise 16 = .ok (.iconst 0, 1) := by decide +kernel
theorem dX1_rise_17 : decode cX1_rise 17 = .ok (.ireturn, 1) := by decide +kernel
theorem dX1_equals_0 : decode cX1_equals 0 = .ok (.iconst 0, 1) := by decide +kernel
theorem dX1_equals_1 : decode cX1_equals 1 = .ok (.istore_n 1, 1) := by decide +kernel
theorem dX1_equals_2 : decode cX1_equals 2 = .ok (.iconst 0, 1) := by decide +kernel
theorem dX1_equals_3 : decode cX1_equals 3 = .ok (.istore_n 2, 1) := by decide +kernel
theorem dX1_equals_4 : decode cX1_equals 4 = .ok (.iload_n 2, 1) := by decide +kernel
theorem dX1_equals_5 : decode cX1_equals 5 = .ok (.iconst 4, 1) := by decide +kernel
theorem dX1_equals_6 : decode cX1_equals 6 = .ok (.if_icmp .ge 48, 3) := by decide +kernel
theorem dX1_equals_9 : decode cX1_equals 9 = .ok (.iload_n 2, 1) := by decide +kernel
theorem dX1_equals_10 : decode cX1_equals 10 = .ok (.iconst 1, 1) := by decide +kernel
theorem dX1_equals_11 : decode cX1_equals 11 = .ok (.iadd, 1) := by decide +kernel
theorem dX1_equals_12 : decode cX1_equals 12 = .ok (.istore_n 3, 1) := by decide +kernel
theorem dX1_equals_13 : decode cX1_equals 13 = .ok (.iload_n 3, 1) := by decide +kernel
theorem dX1_equals_14 : decode cX1_equals 14 = .ok (.iconst 4, 1) := by decide +kernel
theorem dX1_equals_15 : decode cX1_equals 15 = .ok (.if_icmp .ge 33, 3) := by decide +kernel
theorem dX1_equals_18 : decode cX1_equals 18 = .ok (.aload_n 0, 1) := by decide +kernel
theorem dX1_equals_19 : decode cX1_equals 19 = .ok (.iload_n 2, 1) := by decide +kernel
theorem dX1_equals_20 : decode cX1_equals 20 = .ok (.iload_n 3, 1) := by decide +kernel
theorem dX1_equals_21 : decode cX1_equals 21 = .ok (.iconst 2, 1) := by decide +kernel
theorem dX1_equals_22 : decode cX1_equals 22 = .ok (.invokevirtual 55, 3) := by decide +kernel
theorem dX1_equals_25 : decode cX1_equals 25 = .ok (.ifCond .eq 15, 3) := by decide +kernel
theorem dX1_equals_28 : decode cX1_equals 28 = .ok (.iload_n 1, 1) := by decide +kernel
theorem dX1_equals_29 : decode cX1_equals 29 = .ok (.iconst 1, 1) := by decide +kernel
theorem dX1_equals_30 : decode cX1_equals 30 = .ok (.iconst 4, 1) := by decide +kernel
theorem dX1_equals_31 : decode cX1_equals 31 = .ok (.iload_n 2, 1) := by decide +kernel
theorem dX1_equals_32 : decode cX1_equals 32 = .ok (.imul, 1) := by decide +kernel
theorem dX1_equals_33 : decode cX1_equals 33 = .ok (.iload_n 3, 1) := by decide +kernel
theorem dX1_equals_34 : decode cX1_equals 34 = .ok (.iadd, 1) := by decide +kernel
theorem dX1_equals_35 : decode cX1_equals 35 = .ok (.ishl, 1) := by decide +kernel
theorem dX1_equals_36 : decode cX1_equals 36 = .ok (.ior, 1) := by decide +kernel
theorem dX1_equals_37 : decode cX1_equals 37 = .ok (.goto 4, 3) := by decide +kernel
theorem dX1_equals_40 : decode cX1_equals 40 = .ok (.iload_n 1, 1) := by decide +kernel
theorem dX1_equals_41 : decode cX1_equals 41 = .ok (.istore_n 1, 1) := by decide +kernel
theorem dX1_equals_42 : decode cX1_equals 42 = .ok (.iinc 3 1, 3) := by decide +kernel
theorem dX1_equals_45 : decode cX1_equals 45 = .ok (.goto (-32), 3) := by decide +kernel
theorem dX1_equals_48 : decode cX1_equals 48 = .ok (.iinc 2 1, 3) := by decide +kernel
theorem dX1_equals_51 : decode cX1_equals 51 = .ok (.goto (-47), 3) := by decide +kernel
theorem dX1_equals_54 : decode cX1_equals 54 = .ok (.iload_n 1, 1) := by decide +kernel
theorem dX1_equals_55 : decode cX1_equals 55 = .ok (.ireturn, 1) := by decide +kernel
theorem dX1_sums_0 : decode cX1_sums 0 = .ok (.aload_n 0, 1) := by decide +kernel
theorem dX1_sums_1 : decode cX1_sums 1 = .ok (.iload_n 1, 1) := by decide +kernel
theorem dX1_sums_2 : decode cX1_sums 2 = .ok (.invokevirtual 24, 3) := by decide +kernel
theorem dX1_sums_5 : decode cX1_sums 5 = .ok (.ifCond .eq 23, 3) := by decide +kernel
theorem dX1_sums_8 : decode cX1_sums 8 = .ok (.aload_n 0, 1) := by decide +kernel
theorem dX1_sums_9 : decode cX1_sums 9 = .ok (.iload_n 2, 1) := by decide +kernel
theorem dX1_sums_10 : decode cX1_sums 10 = .ok (.invokevirtual 24, 3) := by decide +kernel
theorem dX1_sums_13 : decode cX1_sums 13 = .ok (.ifCond .eq 15, 3) := by decide +kernel
theorem dX1_sums_16 : decode cX1_sums 16 = .ok (.aload_n 0, 1) := by decide +kernel
theorem dX1_sums_17 : decode cX1_sums 17 = .ok (.iload_n 3, 1) := by decide +kernel
theorem dX1_sums_18 : decode cX1_sums 18 = .ok (.invokevirtual 24, 3) := by decide +kernel
theorem dX1_sums_21 : decode cX1_sums 21 = .ok (.ifCond .eq 7, 3) := by decide +kernel
theorem dX1_sums_24 : decode cX1_sums 24 = .ok (.iconst 1, 1) := by decide +kernel
theorem dX1_sums_25 : decode cX1_sums 25 = .ok (.goto 4, 3) := by decide +kernel
theorem dX1_sums_28 : decode cX1_sums 28 = .ok (.iconst 0, 1) := by decide +kernel
theorem dX1_sums_29 : decode cX1_sums 29 = .ok (.istore 4, 2) := by decide +kernel
theorem dX1_sums_31 : decode cX1_sums 31 = .ok (.iconst 0, 1) := by decide +kernel
theorem dX1_sums_32 : decode cX1_sums 32 = .ok (.istore 5, 2) := by decide +kernel
theorem dX1_sums_34 : decode cX1_sums 34 = .ok (.iload 5, 2) := by decide +kernel
theorem dX1_sums_36 : decode cX1_sums 36 = .ok (.aload_n 0, 1) := by decide +kernel
theorem dX1_sums_37 : decode cX1_sums 37 = .ok (.getfield 20, 3) := by decide +kernel
theorem dX1_sums_40 : decode cX1_sums 40 = .ok (.if_icmp .ge 58, 3) := by decide +kernel
theorem dX1_sums_43 : decode cX1_sums 43 = .ok (.iload 4, 2) := by decide +kernel
theorem dX1_sums_45 : decode cX1_sums 45 = .ok (.ifCond .eq 53, 3) := by decide +kernel
theorem dX1_sums_48 : decode cX1_sums 48 = .ok (.aload_n 0, 1) := by decide +kernel
theorem dX1_sums_49 : decode cX1_sums 49 = .ok (.getfield 7, 3) := by decide +kernel
theorem dX1_sums_52 : decode cX1_sums 52 = .ok (.iconst 4, 1) := by decide +kernel
theorem dX1_sums_53 : decode cX1_sums 53 = .ok (.iload 5, 2) := by decide +kernel
theorem dX1_sums_55 : decode cX1_sums 55 = .ok (.imul, 1) := by decide +kernel
theorem dX1_sums_56 : decode cX1_sums 56 = .ok (.iload_n 1, 1) := by decide +kernel
theorem dX1_sums_57 : decode cX1_sums 57 = .ok (.iadd, 1) := by decide +kernel
theorem dX1_sums_58 : decode cX1_sums 58 = .ok (.iaload, 1) := by decide +kernel
theorem dX1_sums_59 : decode cX1_sums 59 = .ok (.aload_n 0, 1) := by decide +kernel
theorem dX1_sums_60 : decode cX1_sums 60 = .ok (.getfield 7, 3) := by decide +kernel
theorem dX1_sums_63 : decode cX1_sums 63 = .ok (.iconst 4, 1) := by decide +kernel
theorem dX1_sums_64 : decode cX1_sums 64 = .ok (.iload 5, 2) := by decide +kernel
theorem dX1_sums_66 : decode cX1_sums 66 = .ok (.imul, 1) := by decide +kernel
theorem dX1_sums_67 : decode cX1_sums 67 = .ok (.iload_n 2, 1) := by decide +kernel
theorem dX1_sums_68 : decode cX1_sums 68 = .ok (.iadd, 1) := by decide +kernel
theorem dX1_sums_69 : decode cX1_sums 69 = .ok (.iaload, 1) := by decide +kernel
theorem dX1_sums_70 : decode cX1_sums 70 = .ok (.iadd, 1) := by decide +kernel
theorem dX1_sums_71 : decode cX1_sums 71 = .ok (.aload_n 0, 1) := by decide +kernel
theorem dX1_sums_72 : decode cX1_sums 72 = .ok (.getfield 7, 3) := by decide +kernel
theorem dX1_sums_75 : decode cX1_sums 75 = .ok (.iconst 4, 1) := by decide +kernel
theorem dX1_sums_76 : decode cX1_sums 76 = .ok (.iload 5, 2) := by decide +kernel
theorem dX1_sums_78 : decode cX1_sums 78 = .ok (.imul, 1) := by decide +kernel
theorem dX1_sums_79 : decode cX1_sums 79 = .ok (.iload_n 3, 1) := by decide +kernel
theorem dX1_sums_80 : decode cX1_sums 80 = .ok (.iadd, 1) := by decide +kernel
theorem dX1_sums_81 : decode cX1_sums 81 = .ok (.iaload, 1) := by decide +kernel
theorem dX1_sums_82 : decode cX1_sums 82 = .ok (.if_icmp .ne 7, 3) := by decide +kernel
theorem dX1_sums_85 : decode cX1_sums 85 = .ok (.iconst 1, 1) := by decide +kernel
theorem dX1_sums_86 : decode cX1_sums 86 = .ok (.goto 4, 3) := by decide +kernel
theorem dX1_sums_89 : decode cX1_sums 89 = .ok (.iconst 0, 1) := by decide +kernel
theorem dX1_sums_90 : decode cX1_sums 90 = .ok (.istore 4, 2) := by decide +kernel
theorem dX1_sums_92 : decode cX1_sums 92 = .ok (.iinc 5 1, 3) := by decide +kernel
theorem dX1_sums_95 : decode cX1_sums 95 = .ok (.goto (-61), 3) := by decide +kernel
theorem dX1_sums_98 : decode cX1_sums 98 = .ok (.iload 4, 2) := by decide +kernel
theorem dX1_sums_100 : decode cX1_sums 100 = .ok (.ireturn, 1) := by decide +kernel
end
section
set_option maxRecDepth 100000
theorem dL_law_0 : decode cL_law 0 = .ok (.new 7, 3) := by decide +kernel
theorem dL_law_3 : decode cL_law 3 = .ok (.dup, 1) := by decide +kernel
theorem dL_law_4 : decode cL_law 4 = .ok (.invokespecial 9, 3) := by decide +kernel
theorem dL_law_7 : decode cL_law 7 = .ok (.astore_n 1, 1) := by decide +kernel
theorem dL_law_8 : decode cL_law 8 = .ok (.new 10, 3) := by decide +kernel
theorem dL_law_11 : decode cL_law 11 = .ok (.dup, 1) := by decide +kernel
theorem dL_law_12 : decode cL_law 12 = .ok (.invokespecial 12, 3) := by decide +kernel
theorem dL_law_15 : decode cL_law 15 = .ok (.astore_n 2, 1) := by decide +kernel
theorem dL_law_16 : decode cL_law 16 = .ok (.iconst 0, 1) := by decide +kernel
theorem dL_law_17 : decode cL_law 17 = .ok (.istore_n 3, 1) := by decide +kernel
theorem dL_law_18 : decode cL_law 18 = .ok (.iload_n 3, 1) := by decide +kernel
theorem dL_law_19 : decode cL_law 19 = .ok (.aload_n 0, 1) := by decide +kernel
theorem dL_law_20 : decode cL_law 20 = .ok (.arraylength, 1) := by decide +kernel
theorem dL_law_21 : decode cL_law 21 = .ok (.iconst 5, 1) := by decide +kernel
theorem dL_law_22 : decode cL_law 22 = .ok (.isub, 1) := by decide +kernel
theorem dL_law_23 : decode cL_law 23 = .ok (.if_icmp .gt 561, 3) := by decide +kernel
theorem dL_law_26 : decode cL_law 26 = .ok (.aload_n 0, 1) := by decide +kernel
theorem dL_law_27 : decode cL_law 27 = .ok (.iload_n 3, 1) := by decide +kernel
theorem dL_law_28 : decode cL_law 28 = .ok (.iaload, 1) := by decide +kernel
theorem dL_law_29 : decode cL_law 29 = .ok (.bipush 15, 2) := by decide +kernel
theorem dL_law_31 : decode cL_law 31 = .ok (.iand, 1) := by decide +kernel
theorem dL_law_32 : decode cL_law 32 = .ok (.tableswitch 546 0 15 #[80, 133, 144, 157, 180, 213, 236, 269, 292, 315, 358, 391, 424, 457, 490, 503], 80) := by decide +kernel
theorem dL_law_112 : decode cL_law 112 = .ok (.aload_n 1, 1) := by decide +kernel
theorem dL_law_113 : decode cL_law 113 = .ok (.aload_n 0, 1) := by decide +kernel
theorem dL_law_114 : decode cL_law 114 = .ok (.iload_n 3, 1) := by decide +kernel
theorem dL_law_115 : decode cL_law 115 = .ok (.iconst 1, 1) := by decide +kernel
theorem dL_law_116 : decode cL_law 116 = .ok (.iadd, 1) := by decide +kernel
theorem dL_law_117 : decode cL_law 117 = .ok (.iaload, 1) := by decide +kernel
theorem dL_law_118 : decode cL_law 118 = .ok (.aload_n 0, 1) := by decide +kernel
theorem dL_law_119 : decode cL_law 119 = .ok (.iload_n 3, 1) := by decide +kernel
theorem dL_law_120 : decode cL_law 120 = .ok (.iconst 2, 1) := by decide +kernel
theorem dL_law_121 : decode cL_law 121 = .ok (.iadd, 1) := by decide +kernel
theorem dL_law_122 : decode cL_law 122 = .ok (.iaload, 1) := by decide +kernel
theorem dL_law_123 : decode cL_law 123 = .ok (.aload_n 0, 1) := by decide +kernel
theorem dL_law_124 : decode cL_law 124 = .ok (.iload_n 3, 1) := by decide +kernel
theorem dL_law_125 : decode cL_law 125 = .ok (.iconst 3, 1) := by decide +kernel
theorem dL_law_126 : decode cL_law 126 = .ok (.iadd, 1) := by decide +kernel
theorem dL_law_127 : decode cL_law 127 = .ok (.iaload, 1) := by decide +kernel
theorem dL_law_128 : decode cL_law 128 = .ok (.aload_n 0, 1) := by decide +kernel
theorem dL_law_129 : decode cL_law 129 = .ok (.iload_n 3, 1) := by decide +kernel
theorem dL_law_130 : decode cL_law 130 = .ok (.iconst 4, 1) := by decide +kernel
theorem dL_law_131 : decode cL_law 131 = .ok (.iadd, 1) := by decide +kernel
theorem dL_law_132 : decode cL_law 132 = .ok (.iaload, 1) := by decide +kernel
theorem dL_law_133 : decode cL_law 133 = .ok (.invokevirtual 13, 3) := by decide +kernel
theorem dL_law_136 : decode cL_law 136 = .ok (.aload_n 2, 1) := by decide +kernel
theorem dL_law_137 : decode cL_law 137 = .ok (.aload_n 0, 1) := by decide +kernel
theorem dL_law_138 : decode cL_law 138 = .ok (.iload_n 3, 1) := by decide +kernel
theorem dL_law_139 : decode cL_law 139 = .ok (.iconst 1, 1) := by decide +kernel
theorem dL_law_140 : decode cL_law 140 = .ok (.iadd, 1) := by decide +kernel
theorem dL_law_141 : decode cL_law 141 = .ok (.iaload, 1) := by decide +kernel
theorem dL_law_142 : decode cL_law 142 = .ok (.aload_n 0, 1) := by decide +kernel
theorem dL_law_143 : decode cL_law 143 = .ok (.iload_n 3, 1) := by decide +kernel
theorem dL_law_144 : decode cL_law 144 = .ok (.iconst 2, 1) := by decide +kernel
theorem dL_law_145 : decode cL_law 145 = .ok (.iadd, 1) := by decide +kernel
theorem dL_law_146 : decode cL_law 146 = .ok (.iaload, 1) := by decide +kernel
theorem dL_law_147 : decode cL_law 147 = .ok (.aload_n 0, 1) := by decide +kernel
theorem dL_law_148 : decode cL_law 148 = .ok (.iload_n 3, 1) := by decide +kernel
theorem dL_law_149 : decode cL_law 149 = .ok (.iconst 3, 1) := by decide +kernel
theorem dL_law_150 : decode cL_law 150 = .ok (.iadd, 1) := by decide +kernel
theorem dL_law_151 : decode cL_law 151 = .ok (.iaload, 1) := by decide +kernel
theorem dL_law_152 : decode cL_law 152 = .ok (.aload_n 0, 1) := by decide +kernel
theorem dL_law_153 : decode cL_law 153 = .ok (.iload_n 3, 1) := by decide +kernel
theorem dL_law_154 : decode cL_law 154 = .ok (.iconst 4, 1) := by decide +kernel
theorem dL_law_155 : decode cL_law 155 = .ok (.iadd, 1) := by decide +kernel
theorem dL_law_156 : decode cL_law 156 = .ok (.iaload, 1) := by decide +kernel
theorem dL_law_157 : decode cL_law 157 = .ok (.invokevirtual 17, 3) := by decide +kernel
theorem dL_law_160 : decode cL_law 160 = .ok (.if_icmp .eq 418, 3) := by decide +kernel
theorem dL_law_163 : decode cL_law 163 = .ok (.iconst 0, 1) := by decide +kernel
theorem dL_law_164 : decode cL_law 164 = .ok (.ireturn, 1) := by decide +kernel
theorem dL_law_165 : decode cL_law 165 = .ok (.aload_n 1, 1) := by decide +kernel
theorem dL_law_166 : decode cL_law 166 = .ok (.invokevirtual 18, 3) := by decide +kernel
theorem dL_law_169 : decode cL_law 169 = .ok (.aload_n 2, 1) := by decide +kernel
theorem dL_law_170 : decode cL_law 170 = .ok (.invokevirtual 21, 3) := by decide +kernel
theorem dL_law_173 : decode cL_law 173 = .ok (.goto 405, 3) := by decide +kernel
theorem dL_law_176 : decode cL_law 176 = .ok (.aload_n 1, 1) := by decide +kernel
theorem dL_law_177 : decode cL_law 177 = .ok (.invokevirtual 22, 3) := by decide +kernel
theorem dL_law_180 : decode cL_law 180 = .ok (.aload_n 2, 1) := by decide +kernel
theorem dL_law_181 : decode cL_law 181 = .ok (.invokevirtual 26, 3) := by decide +kernel
theorem dL_law_184 : decode cL_law 184 = .ok (.if_icmp .eq 394, 3) := by decide +kernel
theorem dL_law_187 : decode cL_law 187 = .ok (.iconst 0, 1) := by decide +kernel
theorem dL_law_188 : decode cL_law 188 = .ok (.ireturn, 1) := by decide +kernel
theorem dL_law_189 : decode cL_law 189 = .ok (.aload_n 1, 1) := by decide +kernel
theorem dL_law_190 : decode cL_law 190 = .ok (.aload_n 0, 1) := by decide +kernel
theorem dL_law_191 : decode cL_law 191 = .ok (.iload_n 3, 1) := by decide +kernel
theorem dL_law_192 : decode cL_law 192 = .ok (.iconst 1, 1) := by decide +kernel
theorem dL_law_193 : decode cL_law 193 = .ok (.iadd, 1) := by decide +kernel
theorem dL_law_194 : decode cL_law 194 = .ok (.iaload, 1) := by decide +kernel
theorem dL_law_195 : decode cL_law 195 = .ok (.invokevirtual 27, 3) := by decide +kernel
theorem dL_law_198 : decode cL_law 198 = .ok (.aload_n 2, 1) := by decide +kernel
theorem dL_law_199 : decode cL_law 199 = .ok (.aload_n 0, 1) := by decide +kernel
theorem dL_law_200 : decode cL_law 200 = .ok (.iload_n 3, 1) := by decide +kernel
theorem dL_law_201 : decode cL_law 201 = .ok (.iconst 1, 1) := by decide +kernel
theorem dL_law_202 : decode cL_law 202 = .ok (.iadd, 1) := by decide +kernel
theorem dL_law_203 : decode cL_law 203 = .ok (.iaload, 1) := by decide +kernel
theorem dL_law_204 : decode cL_law 204 = .ok (.invokevirtual 31, 3) := by decide +kernel
theorem dL_law_207 : decode cL_law 207 = .ok (.if_icmp .eq 371, 3) := by decide +kernel
theorem dL_law_210 : decode cL_law 210 = .ok (.iconst 0, 1) := by decide +kernel
theorem dL_law_211 : decode cL_law 211 = .ok (.ireturn, 1) := by decide +kernel
theorem dL_law_212 : decode cL_law 212 = .ok (.aload_n 1, 1) := by decide +kernel
theorem dL_law_213 : decode cL_law 213 = .ok (.aload_n 0, 1) := by decide +kernel
theorem dL_law_214 : decode cL_law 214 = .ok (.iload_n 3, 1) := by decide +kernel
theorem dL_law_215 : decode cL_law 215 = .ok (.iconst 1, 1) := by decide +kernel
theorem dL_law_216 : decode cL_law 216 = .ok (.iadd, 1) := by decide +kernel
theorem dL_law_217 : decode cL_law 217 = .ok (.iaload, 1) := by decide +kernel
theorem dL_law_218 : decode cL_law 218 = .ok (.aload_n 0, 1) := by decide +kernel
theorem dL_law_219 : decode cL_law 219 = .ok (.iload_n 3, 1) := by decide +kernel
theorem dL_law_220 : decode cL_law 220 = .ok (.iconst 2, 1) := by decide +kernel
theorem dL_law_221 : decode cL_law 221 = .ok (.iadd, 1) := by decide +kernel
theorem dL_law_222 : decode cL_law 222 = .ok (.iaload, 1) := by decide +kernel
theorem dL_law_223 : decode cL_law 223 = .ok (.invokevirtual 32, 3) := by decide +kernel
theorem dL_law_226 : decode cL_law 226 = .ok (.aload_n 2, 1) := by decide +kernel
theorem dL_law_227 : decode cL_law 227 = .ok (.aload_n 0, 1) := by decide +kernel
theorem dL_law_228 : decode cL_law 228 = .ok (.iload_n 3, 1) := by decide +kernel
theorem dL_law_229 : decode cL_law 229 = .ok (.iconst 1, 1) := by decide +kernel
theorem dL_law_230 : decode cL_law 230 = .ok (.iadd, 1) := by decide +kernel
theorem dL_law_231 : decode cL_law 231 = .ok (.iaload, 1) := by decide +kernel
theorem dL_law_232 : decode cL_law 232 = .ok (.aload_n 0, 1) := by decide +kernel
theorem dL_law_233 : decode cL_law 233 = .ok (.iload_n 3, 1) := by decide +kernel
theorem dL_law_234 : decode cL_law 234 = .ok (.iconst 2, 1) := by decide +kernel
theorem dL_law_235 : decode cL_law 235 = .ok (.iadd, 1) := by decide +kernel
theorem dL_law_236 : decode cL_law 236 = .ok (.iaload, 1) := by decide +kernel
theorem dL_law_237 : decode cL_law 237 = .ok (.invokevirtual 36, 3) := by decide +kernel
theorem dL_law_240 : decode cL_law 240 = .ok (.if_icmp .eq 338, 3) := by decide +kernel
theorem dL_law_243 : decode cL_law 243 = .ok (.iconst 0, 1) := by decide +kernel
theorem dL_law_244 : decode cL_law 244 = .ok (.ireturn, 1) := by decide +kernel
theorem dL_law_245 : decode cL_law 245 = .ok (.aload_n 1, 1) := by decide +kernel
theorem dL_law_246 : decode cL_law 246 = .ok (.aload_n 0, 1) := by decide +kernel
theorem dL_law_247 : decode cL_law 247 = .ok (.iload_n 3, 1) := by decide +kernel
theorem dL_law_248 : decode cL_law 248 = .ok (.iconst 1, 1) := by decide +kernel
theorem dL_law_249 : decode cL_law 249 = .ok (.iadd, 1) := by decide +kernel
theorem dL_law_250 : decode cL_law 250 = .ok (.iaload, 1) := by decide +kernel
theorem dL_law_251 : decode cL_law 251 = .ok (.invokevirtual 37, 3) := by decide +kernel
theorem dL_law_254 : decode cL_law 254 = .ok (.aload_n 2, 1) := by decide +kernel
theorem dL_law_255 : decode cL_law 255 = .ok (.aload_n 0, 1) := by decide +kernel
theorem dL_law_256 : decode cL_law 256 = .ok (.iload_n 3, 1) := by decide +kernel
theorem dL_law_257 : decode cL_law 257 = .ok (.iconst 1, 1) := by decide +kernel
theorem dL_law_258 : decode cL_law 258 = .ok (.iadd, 1) := by decide +kernel
theorem dL_law_259 : decode cL_law 259 = .ok (.iaload, 1) := by decide +kernel
theorem dL_law_260 : decode cL_law 260 = .ok (.invokevirtual 40, 3) := by decide +kernel
theorem dL_law_263 : decode cL_law 263 = .ok (.if_icmp .eq 315, 3) := by decide +kernel
theorem dL_law_266 : decode cL_law 266 = .ok (.iconst 0, 1) := by decide +kernel
theorem dL_law_267 : decode cL_law 267 = .ok (.ireturn, 1) := by decide +kernel
theorem dL_law_268 : decode cL_law 268 = .ok (.aload_n 1, 1) := by decide +kernel
theorem dL_law_269 : decode cL_law 269 = .ok (.aload_n 0, 1) := by decide +kernel
theorem dL_law_270 : decode cL_law 270 = .ok (.iload_n 3, 1) := by decide +kernel
theorem dL_law_271 : decode cL_law 271 = .ok (.iconst 1, 1) := by decide +kernel
theorem dL_law_272 : decode cL_law 272 = .ok (.iadd, 1) := by decide +kernel
theorem dL_law_273 : decode cL_law 273 = .ok (.iaload, 1) := by decide +kernel
theorem dL_law_274 : decode cL_law 274 = .ok (.aload_n 0, 1) := by decide +kernel
theorem dL_law_275 : decode cL_law 275 = .ok (.iload_n 3, 1) := by decide +kernel
theorem dL_law_276 : decode cL_law 276 = .ok (.iconst 2, 1) := by decide +kernel
theorem dL_law_277 : decode cL_law 277 = .ok (.iadd, 1) := by decide +kernel
theorem dL_law_278 : decode cL_law 278 = .ok (.iaload, 1) := by decide +kernel
theorem dL_law_279 : decode cL_law 279 = .ok (.invokevirtual 41, 3) := by decide +kernel
theorem dL_law_282 : decode cL_law 282 = .ok (.aload_n 2, 1) := by decide +kernel
theorem dL_law_283 : decode cL_law 283 = .ok (.aload_n 0, 1) := by decide +kernel
theorem dL_law_284 : decode cL_law 284 = .ok (.iload_n 3, 1) := by decide +kernel
theorem dL_law_285 : decode cL_law 285 = .ok (.iconst 1, 1) := by decide +kernel
theorem dL_law_286 : decode cL_law 286 = .ok (.iadd, 1) := by decide +kernel
theorem dL_law_287 : decode cL_law 287 = .ok (.iaload, 1) := by decide +kernel
theorem dL_law_288 : decode cL_law 288 = .ok (.aload_n 0, 1) := by decide +kernel
theorem dL_law_289 : decode cL_law 289 = .ok (.iload_n 3, 1) := by decide +kernel
theorem dL_law_290 : decode cL_law 290 = .ok (.iconst 2, 1) := by decide +kernel
theorem dL_law_291 : decode cL_law 291 = .ok (.iadd, 1) := by decide +kernel
theorem dL_law_292 : decode cL_law 292 = .ok (.iaload, 1) := by decide +kernel
theorem dL_law_293 : decode cL_law 293 = .ok (.invokevirtual 44, 3) := by decide +kernel
theorem dL_law_296 : decode cL_law 296 = .ok (.if_icmp .eq 282, 3) := by decide +kernel
theorem dL_law_299 : decode cL_law 299 = .ok (.iconst 0, 1) := by decide +kernel
theorem dL_law_300 : decode cL_law 300 = .ok (.ireturn, 1) := by decide +kernel
theorem dL_law_301 : decode cL_law 301 = .ok (.aload_n 1, 1) := by decide +kernel
theorem dL_law_302 : decode cL_law 302 = .ok (.aload_n 0, 1) := by decide +kernel
theorem dL_law_303 : decode cL_law 303 = .ok (.iload_n 3, 1) := by decide +kernel
theorem dL_law_304 : decode cL_law 304 = .ok (.iconst 1, 1) := by decide +kernel
theorem dL_law_305 : decode cL_law 305 = .ok (.iadd, 1) := by decide +kernel
theorem dL_law_306 : decode cL_law 306 = .ok (.iaload, 1) := by decide +kernel
theorem dL_law_307 : decode cL_law 307 = .ok (.invokevirtual 45, 3) := by decide +kernel
theorem dL_law_310 : decode cL_law 310 = .ok (.aload_n 2, 1) := by decide +kernel
theorem dL_law_311 : decode cL_law 311 = .ok (.aload_n 0, 1) := by decide +kernel
theorem dL_law_312 : decode cL_law 312 = .ok (.iload_n 3, 1) := by decide +kernel
theorem dL_law_313 : decode cL_law 313 = .ok (.iconst 1, 1) := by decide +kernel
theorem dL_law_314 : decode cL_law 314 = .ok (.iadd, 1) := by decide +kernel
theorem dL_law_315 : decode cL_law 315 = .ok (.iaload, 1) := by decide +kernel
theorem dL_law_316 : decode cL_law 316 = .ok (.invokevirtual 48, 3) := by decide +kernel
theorem dL_law_319 : decode cL_law 319 = .ok (.if_icmp .eq 259, 3) := by decide +kernel
theorem dL_law_322 : decode cL_law 322 = .ok (.iconst 0, 1) := by decide +kernel
theorem dL_law_323 : decode cL_law 323 = .ok (.ireturn, 1) := by decide +kernel
theorem dL_law_324 : decode cL_law 324 = .ok (.aload_n 1, 1) := by decide +kernel
theorem dL_law_325 : decode cL_law 325 = .ok (.aload_n 0, 1) := by decide +kernel
theorem dL_law_326 : decode cL_law 326 = .ok (.iload_n 3, 1) := by decide +kernel
theorem dL_law_327 : decode cL_law 327 = .ok (.iconst 1, 1) := by decide +kernel
theorem dL_law_328 : decode cL_law 328 = .ok (.iadd, 1) := by decide +kernel
theorem dL_law_329 : decode cL_law 329 = .ok (.iaload, 1) := by decide +kernel
theorem dL_law_330 : decode cL_law 330 = .ok (.invokevirtual 49, 3) := by decide +kernel
theorem dL_law_333 : decode cL_law 333 = .ok (.aload_n 2, 1) := by decide +kernel
theorem dL_law_334 : decode cL_law 334 = .ok (.aload_n 0, 1) := by decide +kernel
theorem dL_law_335 : decode cL_law 335 = .ok (.iload_n 3, 1) := by decide +kernel
theorem dL_law_336 : decode cL_law 336 = .ok (.iconst 1, 1) := by decide +kernel
theorem dL_law_337 : decode cL_law 337 = .ok (.iadd, 1) := by decide +kernel
theorem dL_law_338 : decode cL_law 338 = .ok (.iaload, 1) := by decide +kernel
theorem dL_law_339 : decode cL_law 339 = .ok (.invokevirtual 52, 3) := by decide +kernel
theorem dL_law_342 : decode cL_law 342 = .ok (.if_icmp .eq 236, 3) := by decide +kernel
theorem dL_law_345 : decode cL_law 345 = .ok (.iconst 0, 1) := by decide +kernel
theorem dL_law_346 : decode cL_law 346 = .ok (.ireturn, 1) := by decide +kernel
theorem dL_law_347 : decode cL_law 347 = .ok (.aload_n 1, 1) := by decide +kernel
theorem dL_law_348 : decode cL_law 348 = .ok (.aload_n 0, 1) := by decide +kernel
theorem dL_law_349 : decode cL_law 349 = .ok (.iload_n 3, 1) := by decide +kernel
theorem dL_law_350 : decode cL_law 350 = .ok (.iconst 1, 1) := by decide +kernel
theorem dL_law_351 : decode cL_law 351 = .ok (.iadd, 1) := by decide +kernel
theorem dL_law_352 : decode cL_law 352 = .ok (.iaload, 1) := by decide +kernel
theorem dL_law_353 : decode cL_law 353 = .ok (.aload_n 0, 1) := by decide +kernel
theorem dL_law_354 : decode cL_law 354 = .ok (.iload_n 3, 1) := by decide +kernel
theorem dL_law_355 : decode cL_law 355 = .ok (.iconst 2, 1) := by decide +kernel
theorem dL_law_356 : decode cL_law 356 = .ok (.iadd, 1) := by decide +kernel
theorem dL_law_357 : decode cL_law 357 = .ok (.iaload, 1) := by decide +kernel
theorem dL_law_358 : decode cL_law 358 = .ok (.aload_n 0, 1) := by decide +kernel
theorem dL_law_359 : decode cL_law 359 = .ok (.iload_n 3, 1) := by decide +kernel
theorem dL_law_360 : decode cL_law 360 = .ok (.iconst 3, 1) := by decide +kernel
theorem dL_law_361 : decode cL_law 361 = .ok (.iadd, 1) := by decide +kernel
theorem dL_law_362 : decode cL_law 362 = .ok (.iaload, 1) := by decide +kernel
theorem dL_law_363 : decode cL_law 363 = .ok (.invokevirtual 53, 3) := by decide +kernel
theorem dL_law_366 : decode cL_law 366 = .ok (.aload_n 2, 1) := by decide +kernel
theorem dL_law_367 : decode cL_law 367 = .ok (.aload_n 0, 1) := by decide +kernel
theorem dL_law_368 : decode cL_law 368 = .ok (.iload_n 3, 1) := by decide +kernel
theorem dL_law_369 : decode cL_law 369 = .ok (.iconst 1, 1) := by decide +kernel
theorem dL_law_370 : decode cL_law 370 = .ok (.iadd, 1) := by decide +kernel
theorem dL_law_371 : decode cL_law 371 = .ok (.iaload, 1) := by decide +kernel
theorem dL_law_372 : decode cL_law 372 = .ok (.aload_n 0, 1) := by decide +kernel
theorem dL_law_373 : decode cL_law 373 = .ok (.iload_n 3, 1) := by decide +kernel
theorem dL_law_374 : decode cL_law 374 = .ok (.iconst 2, 1) := by decide +kernel
theorem dL_law_375 : decode cL_law 375 = .ok (.iadd, 1) := by decide +kernel
theorem dL_law_376 : decode cL_law 376 = .ok (.iaload, 1) := by decide +kernel
theorem dL_law_377 : decode cL_law 377 = .ok (.aload_n 0, 1) := by decide +kernel
theorem dL_law_378 : decode cL_law 378 = .ok (.iload_n 3, 1) := by decide +kernel
theorem dL_law_379 : decode cL_law 379 = .ok (.iconst 3, 1) := by decide +kernel
theorem dL_law_380 : decode cL_law 380 = .ok (.iadd, 1) := by decide +kernel
theorem dL_law_381 : decode cL_law 381 = .ok (.iaload, 1) := by decide +kernel
theorem dL_law_382 : decode cL_law 382 = .ok (.invokevirtual 57, 3) := by decide +kernel
theorem dL_law_385 : decode cL_law 385 = .ok (.if_icmp .eq 193, 3) := by decide +kernel
theorem dL_law_388 : decode cL_law 388 = .ok (.iconst 0, 1) := by decide +kernel
theorem dL_law_389 : decode cL_law 389 = .ok (.ireturn, 1) := by decide +kernel
theorem dL_law_390 : decode cL_law 390 = .ok (.aload_n 1, 1) := by decide +kernel
theorem dL_law_391 : decode cL_law 391 = .ok (.aload_n 0, 1) := by decide +kernel
theorem dL_law_392 : decode cL_law 392 = .ok (.iload_n 3, 1) := by decide +kernel
theorem dL_law_393 : decode cL_law 393 = .ok (.iconst 1, 1) := by decide +kernel
theorem dL_law_394 : decode cL_law 394 = .ok (.iadd, 1) := by decide +kernel
theorem dL_law_395 : decode cL_law 395 = .ok (.iaload, 1) := by decide +kernel
theorem dL_law_396 : decode cL_law 396 = .ok (.aload_n 0, 1) := by decide +kernel
theorem dL_law_397 : decode cL_law 397 = .ok (.iload_n 3, 1) := by decide +kernel
theorem dL_law_398 : decode cL_law 398 = .ok (.iconst 2, 1) := by decide +kernel
theorem dL_law_399 : decode cL_law 399 = .ok (.iadd, 1) := by decide +kernel
theorem dL_law_400 : decode cL_law 400 = .ok (.iaload, 1) := by decide +kernel
theorem dL_law_401 : decode cL_law 401 = .ok (.invokevirtual 58, 3) := by decide +kernel
theorem dL_law_404 : decode cL_law 404 = .ok (.aload_n 2, 1) := by decide +kernel
theorem dL_law_405 : decode cL_law 405 = .ok (.aload_n 0, 1) := by decide +kernel
theorem dL_law_406 : decode cL_law 406 = .ok (.iload_n 3, 1) := by decide +kernel
theorem dL_law_407 : decode cL_law 407 = .ok (.iconst 1, 1) := by decide +kernel
theorem dL_law_408 : decode cL_law 408 = .ok (.iadd, 1) := by decide +kernel
theorem dL_law_409 : decode cL_law 409 = .ok (.iaload, 1) := by decide +kernel
theorem dL_law_410 : decode cL_law 410 = .ok (.aload_n 0, 1) := by decide +kernel
theorem dL_law_411 : decode cL_law 411 = .ok (.iload_n 3, 1) := by decide +kernel
theorem dL_law_412 : decode cL_law 412 = .ok (.iconst 2, 1) := by decide +kernel
theorem dL_law_413 : decode cL_law 413 = .ok (.iadd, 1) := by decide +kernel
theorem dL_law_414 : decode cL_law 414 = .ok (.iaload, 1) := by decide +kernel
theorem dL_law_415 : decode cL_law 415 = .ok (.invokevirtual 61, 3) := by decide +kernel
theorem dL_law_418 : decode cL_law 418 = .ok (.if_icmp .eq 160, 3) := by decide +kernel
theorem dL_law_421 : decode cL_law 421 = .ok (.iconst 0, 1) := by decide +kernel
theorem dL_law_422 : decode cL_law 422 = .ok (.ireturn, 1) := by decide +kernel
theorem dL_law_423 : decode cL_law 423 = .ok (.aload_n 1, 1) := by decide +kernel
theorem dL_law_424 : decode cL_law 424 = .ok (.aload_n 0, 1) := by decide +kernel
theorem dL_law_425 : decode cL_law 425 = .ok (.iload_n 3, 1) := by decide +kernel
theorem dL_law_426 : decode cL_law 426 = .ok (.iconst 1, 1) := by decide +kernel
theorem dL_law_427 : decode cL_law 427 = .ok (.iadd, 1) := by decide +kernel
theorem dL_law_428 : decode cL_law 428 = .ok (.iaload, 1) := by decide +kernel
theorem dL_law_429 : decode cL_law 429 = .ok (.aload_n 0, 1) := by decide +kernel
theorem dL_law_430 : decode cL_law 430 = .ok (.iload_n 3, 1) := by decide +kernel
theorem dL_law_431 : decode cL_law 431 = .ok (.iconst 2, 1) := by decide +kernel
theorem dL_law_432 : decode cL_law 432 = .ok (.iadd, 1) := by decide +kernel
theorem dL_law_433 : decode cL_law 433 = .ok (.iaload, 1) := by decide +kernel
theorem dL_law_434 : decode cL_law 434 = .ok (.invokevirtual 62, 3) := by decide +kernel
theorem dL_law_437 : decode cL_law 437 = .ok (.aload_n 2, 1) := by decide +kernel
theorem dL_law_438 : decode cL_law 438 = .ok (.aload_n 0, 1) := by decide +kernel
theorem dL_law_439 : decode cL_law 439 = .ok (.iload_n 3, 1) := by decide +kernel
theorem dL_law_440 : decode cL_law 440 = .ok (.iconst 1, 1) := by decide +kernel
theorem dL_law_441 : decode cL_law 441 = .ok (.iadd, 1) := by decide +kernel
theorem dL_law_442 : decode cL_law 442 = .ok (.iaload, 1) := by decide +kernel
theorem dL_law_443 : decode cL_law 443 = .ok (.aload_n 0, 1) := by decide +kernel
theorem dL_law_444 : decode cL_law 444 = .ok (.iload_n 3, 1) := by decide +kernel
theorem dL_law_445 : decode cL_law 445 = .ok (.iconst 2, 1) := by decide +kernel
theorem dL_law_446 : decode cL_law 446 = .ok (.iadd, 1) := by decide +kernel
theorem dL_law_447 : decode cL_law 447 = .ok (.iaload, 1) := by decide +kernel
theorem dL_law_448 : decode cL_law 448 = .ok (.invokevirtual 65, 3) := by decide +kernel
theorem dL_law_451 : decode cL_law 451 = .ok (.if_icmp .eq 127, 3) := by decide +kernel
theorem dL_law_454 : decode cL_law 454 = .ok (.iconst 0, 1) := by decide +kernel
theorem dL_law_455 : decode cL_law 455 = .ok (.ireturn, 1) := by decide +kernel
theorem dL_law_456 : decode cL_law 456 = .ok (.aload_n 1, 1) := by decide +kernel
theorem dL_law_457 : decode cL_law 457 = .ok (.aload_n 0, 1) := by decide +kernel
theorem dL_law_458 : decode cL_law 458 = .ok (.iload_n 3, 1) := by decide +kernel
theorem dL_law_459 : decode cL_law 459 = .ok (.iconst 1, 1) := by decide +kernel
theorem dL_law_460 : decode cL_law 460 = .ok (.iadd, 1) := by decide +kernel
theorem dL_law_461 : decode cL_law 461 = .ok (.iaload, 1) := by decide +kernel
theorem dL_law_462 : decode cL_law 462 = .ok (.aload_n 0, 1) := by decide +kernel
theorem dL_law_463 : decode cL_law 463 = .ok (.iload_n 3, 1) := by decide +kernel
theorem dL_law_464 : decode cL_law 464 = .ok (.iconst 2, 1) := by decide +kernel
theorem dL_law_465 : decode cL_law 465 = .ok (.iadd, 1) := by decide +kernel
theorem dL_law_466 : decode cL_law 466 = .ok (.iaload, 1) := by decide +kernel
theorem dL_law_467 : decode cL_law 467 = .ok (.invokevirtual 66, 3) := by decide +kernel
theorem dL_law_470 : decode cL_law 470 = .ok (.aload_n 2, 1) := by decide +kernel
theorem dL_law_471 : decode cL_law 471 = .ok (.aload_n 0, 1) := by decide +kernel
theorem dL_law_472 : decode cL_law 472 = .ok (.iload_n 3, 1) := by decide +kernel
theorem dL_law_473 : decode cL_law 473 = .ok (.iconst 1, 1) := by decide +kernel
theorem dL_law_474 : decode cL_law 474 = .ok (.iadd, 1) := by decide +kernel
theorem dL_law_475 : decode cL_law 475 = .ok (.iaload, 1) := by decide +kernel
theorem dL_law_476 : decode cL_law 476 = .ok (.aload_n 0, 1) := by decide +kernel
theorem dL_law_477 : decode cL_law 477 = .ok (.iload_n 3, 1) := by decide +kernel
theorem dL_law_478 : decode cL_law 478 = .ok (.iconst 2, 1) := by decide +kernel
theorem dL_law_479 : decode cL_law 479 = .ok (.iadd, 1) := by decide +kernel
theorem dL_law_480 : decode cL_law 480 = .ok (.iaload, 1) := by decide +kernel
theorem dL_law_481 : decode cL_law 481 = .ok (.invokevirtual 69, 3) := by decide +kernel
theorem dL_law_484 : decode cL_law 484 = .ok (.if_icmp .eq 94, 3) := by decide +kernel
theorem dL_law_487 : decode cL_law 487 = .ok (.iconst 0, 1) := by decide +kernel
theorem dL_law_488 : decode cL_law 488 = .ok (.ireturn, 1) := by decide +kernel
theorem dL_law_489 : decode cL_law 489 = .ok (.aload_n 1, 1) := by decide +kernel
theorem dL_law_490 : decode cL_law 490 = .ok (.aload_n 0, 1) := by decide +kernel
theorem dL_law_491 : decode cL_law 491 = .ok (.iload_n 3, 1) := by decide +kernel
theorem dL_law_492 : decode cL_law 492 = .ok (.iconst 1, 1) := by decide +kernel
theorem dL_law_493 : decode cL_law 493 = .ok (.iadd, 1) := by decide +kernel
theorem dL_law_494 : decode cL_law 494 = .ok (.iaload, 1) := by decide +kernel
theorem dL_law_495 : decode cL_law 495 = .ok (.aload_n 0, 1) := by decide +kernel
theorem dL_law_496 : decode cL_law 496 = .ok (.iload_n 3, 1) := by decide +kernel
theorem dL_law_497 : decode cL_law 497 = .ok (.iconst 2, 1) := by decide +kernel
theorem dL_law_498 : decode cL_law 498 = .ok (.iadd, 1) := by decide +kernel
theorem dL_law_499 : decode cL_law 499 = .ok (.iaload, 1) := by decide +kernel
theorem dL_law_500 : decode cL_law 500 = .ok (.invokevirtual 70, 3) := by decide +kernel
theorem dL_law_503 : decode cL_law 503 = .ok (.aload_n 2, 1) := by decide +kernel
theorem dL_law_504 : decode cL_law 504 = .ok (.aload_n 0, 1) := by decide +kernel
theorem dL_law_505 : decode cL_law 505 = .ok (.iload_n 3, 1) := by decide +kernel
theorem dL_law_506 : decode cL_law 506 = .ok (.iconst 1, 1) := by decide +kernel
theorem dL_law_507 : decode cL_law 507 = .ok (.iadd, 1) := by decide +kernel
theorem dL_law_508 : decode cL_law 508 = .ok (.iaload, 1) := by decide +kernel
theorem dL_law_509 : decode cL_law 509 = .ok (.aload_n 0, 1) := by decide +kernel
theorem dL_law_510 : decode cL_law 510 = .ok (.iload_n 3, 1) := by decide +kernel
theorem dL_law_511 : decode cL_law 511 = .ok (.iconst 2, 1) := by decide +kernel
theorem dL_law_512 : decode cL_law 512 = .ok (.iadd, 1) := by decide +kernel
theorem dL_law_513 : decode cL_law 513 = .ok (.iaload, 1) := by decide +kernel
theorem dL_law_514 : decode cL_law 514 = .ok (.invokevirtual 73, 3) := by decide +kernel
theorem dL_law_517 : decode cL_law 517 = .ok (.if_icmp .eq 61, 3) := by decide +kernel
theorem dL_law_520 : decode cL_law 520 = .ok (.iconst 0, 1) := by decide +kernel
theorem dL_law_521 : decode cL_law 521 = .ok (.ireturn, 1) := by decide +kernel
theorem dL_law_522 : decode cL_law 522 = .ok (.aload_n 1, 1) := by decide +kernel
theorem dL_law_523 : decode cL_law 523 = .ok (.invokevirtual 74, 3) := by decide +kernel
theorem dL_law_526 : decode cL_law 526 = .ok (.aload_n 2, 1) := by decide +kernel
theorem dL_law_527 : decode cL_law 527 = .ok (.invokevirtual 77, 3) := by decide +kernel
theorem dL_law_530 : decode cL_law 530 = .ok (.if_icmp .eq 48, 3) := by decide +kernel
theorem dL_law_533 : decode cL_law 533 = .ok (.iconst 0, 1) := by decide +kernel
theorem dL_law_534 : decode cL_law 534 = .ok (.ireturn, 1) := by decide +kernel
theorem dL_law_535 : decode cL_law 535 = .ok (.aload_n 1, 1) := by decide +kernel
theorem dL_law_536 : decode cL_law 536 = .ok (.aload_n 0, 1) := by decide +kernel
theorem dL_law_537 : decode cL_law 537 = .ok (.iload_n 3, 1) := by decide +kernel
theorem dL_law_538 : decode cL_law 538 = .ok (.iconst 1, 1) := by decide +kernel
theorem dL_law_539 : decode cL_law 539 = .ok (.iadd, 1) := by decide +kernel
theorem dL_law_540 : decode cL_law 540 = .ok (.iaload, 1) := by decide +kernel
theorem dL_law_541 : decode cL_law 541 = .ok (.aload_n 0, 1) := by decide +kernel
theorem dL_law_542 : decode cL_law 542 = .ok (.iload_n 3, 1) := by decide +kernel
theorem dL_law_543 : decode cL_law 543 = .ok (.iconst 2, 1) := by decide +kernel
theorem dL_law_544 : decode cL_law 544 = .ok (.iadd, 1) := by decide +kernel
theorem dL_law_545 : decode cL_law 545 = .ok (.iaload, 1) := by decide +kernel
theorem dL_law_546 : decode cL_law 546 = .ok (.aload_n 0, 1) := by decide +kernel
theorem dL_law_547 : decode cL_law 547 = .ok (.iload_n 3, 1) := by decide +kernel
theorem dL_law_548 : decode cL_law 548 = .ok (.iconst 3, 1) := by decide +kernel
theorem dL_law_549 : decode cL_law 549 = .ok (.iadd, 1) := by decide +kernel
theorem dL_law_550 : decode cL_law 550 = .ok (.iaload, 1) := by decide +kernel
theorem dL_law_551 : decode cL_law 551 = .ok (.invokevirtual 78, 3) := by decide +kernel
theorem dL_law_554 : decode cL_law 554 = .ok (.aload_n 2, 1) := by decide +kernel
theorem dL_law_555 : decode cL_law 555 = .ok (.aload_n 0, 1) := by decide +kernel
theorem dL_law_556 : decode cL_law 556 = .ok (.iload_n 3, 1) := by decide +kernel
theorem dL_law_557 : decode cL_law 557 = .ok (.iconst 1, 1) := by decide +kernel
theorem dL_law_558 : decode cL_law 558 = .ok (.iadd, 1) := by decide +kernel
theorem dL_law_559 : decode cL_law 559 = .ok (.iaload, 1) := by decide +kernel
theorem dL_law_560 : decode cL_law 560 = .ok (.aload_n 0, 1) := by decide +kernel
theorem dL_law_561 : decode cL_law 561 = .ok (.iload_n 3, 1) := by decide +kernel
theorem dL_law_562 : decode cL_law 562 = .ok (.iconst 2, 1) := by decide +kernel
theorem dL_law_563 : decode cL_law 563 = .ok (.iadd, 1) := by decide +kernel
theorem dL_law_564 : decode cL_law 564 = .ok (.iaload, 1) := by decide +kernel
theorem dL_law_565 : decode cL_law 565 = .ok (.aload_n 0, 1) := by decide +kernel
theorem dL_law_566 : decode cL_law 566 = .ok (.iload_n 3, 1) := by decide +kernel
theorem dL_law_567 : decode cL_law 567 = .ok (.iconst 3, 1) := by decide +kernel
theorem dL_law_568 : decode cL_law 568 = .ok (.iadd, 1) := by decide +kernel
theorem dL_law_569 : decode cL_law 569 = .ok (.iaload, 1) := by decide +kernel
theorem dL_law_570 : decode cL_law 570 = .ok (.invokevirtual 81, 3) := by decide +kernel
theorem dL_law_573 : decode cL_law 573 = .ok (.if_icmp .eq 5, 3) := by decide +kernel
theorem dL_law_576 : decode cL_law 576 = .ok (.iconst 0, 1) := by decide +kernel
theorem dL_law_577 : decode cL_law 577 = .ok (.ireturn, 1) := by decide +kernel
theorem dL_law_578 : decode cL_law 578 = .ok (.iinc 3 5, 3) := by decide +kernel
theorem dL_law_581 : decode cL_law 581 = .ok (.goto (-563), 3) := by decide +kernel
theorem dL_law_584 : decode cL_law 584 = .ok (.iconst 1, 1) := by decide +kernel
theorem dL_law_585 : decode cL_law 585 = .ok (.ireturn, 1) := by decide +kernel
end
section
/-! the rows of this claim's own kit: numbers as naturals on the stack, arrays read and written at a natural place, contracts' starts and ends, calls -/
abbrev vwCl : List vw_C := [(RX0, TX0, 19), (RX1, TX1, 6)]
section XKA
variable {p : Program} {l : Launch} {e : Env} {R : Room} {s : State} {m : MethodId} {args : Array Value} {below : List Frame} {meth : Method} {c : Code} {H : Heap} {locs : List Loc} {cells slots : Nat} {Q : State → Prop} {cc : ByteArray} {pc : Nat} {ls : Array Slot} {rest : List Value} {D : va_G} {cl : List vw_C} {A : Nat → Prop} {a : Nat} {tys : List (ClassId × FieldType)} {ws : va_W} {H0 : Heap}
theorem xw_i {x y : Int32} (h : x = y) (k : W p l e R s m args below meth c H locs cells slots Q (F0 m pc ls (.int y :: rest))) : W p l e R s m args below meth c H locs cells slots Q (F0 m pc ls (.int x :: rest)) := h ▸ k
theorem xw_l {x y : Int64} (h : x = y) (k : W p l e R s m args below meth c H locs cells slots Q (F0 m pc ls (.long y :: rest))) : W p l e R s m args below meth c H locs cells slots Q (F0 m pc ls (.long x :: rest)) := h ▸ k
theorem xn_add (hexec : p.tables.exec = Jvm.exec) (hb : c.code = cc) {a b : Nat} (hdg : decode cc pc = .ok (.iadd, 1)) (k : W p l e R s m args below meth c H locs cells slots Q (F0 m (pc + 1) ls (.int (nI (a + b)) :: rest))) : W p l e R s m args below meth c H locs cells slots Q (F0 m pc ls (.int (nI b) :: .int (nI a) :: rest)) := lv_iadd hexec hb hdg (by rw [nI_add]; exact k)
theorem xn_mul (hexec : p.tables.exec = Jvm.exec) (hb : c.code = cc) {a b : Nat} (hdg : decode cc pc = .ok (.imul, 1)) (k : W p l e R s m args below meth c H locs cells slots Q (F0 m (pc + 1) ls (.int (nI (a * b)) :: rest))) : W p l e R s m args below meth c H locs cells slots Q (F0 m pc ls (.int (nI b) :: .int (nI a) :: rest)) := lv_imul hexec hb hdg (by rw [pk_mul]; exact k)
theorem xn_sub (hexec : p.tables.exec = Jvm.exec) (hb : c.code = cc) {a b : Nat} (h : b ≤ a) (hdg : decode cc pc = .ok (.isub, 1)) (k : W p l e R s m args below meth c H locs cells slots Q (F0 m (pc + 1) ls (.int (nI (a - b)) :: rest))) : W p l e R s m args below meth c H locs cells slots Q (F0 m pc ls (.int (nI b) :: .int (nI a) :: rest)) := lv_isub hexec hb hdg (by rw [pk_sub h]; exact k)
theorem xn_ge (hexec : p.tables.exec = Jvm.exec) (hb : c.code = cc) {a b : Nat} {off : Int} {tgt : Nat} (hdg : decode cc pc = .ok (.if_icmp .ge off, 3)) (ht : (pc : Int) + off = (tgt : Int)) (ha : a < 2 ^ 31) (hb2 : b < 2 ^ 31)
    (kt : b ≤ a → W p l e R s m args below meth c H locs cells slots Q (F0 m tgt ls rest)) (kf : a < b → W p l e R s m args below meth c H locs cells slots Q (F0 m (pc + 3) ls rest)) : W p l e R s m args below meth c H locs cells slots Q (F0 m pc ls (.int (nI b) :: .int (nI a) :: rest)) :=
  lv_icmp_ge hexec hb hdg ht (fun h => kt ((nI_leI hb2 ha).mp h)) (fun h => kf (Nat.lt_of_not_le (fun q => h ((nI_leI hb2 ha).mpr q))))
theorem xn_lt (hexec : p.tables.exec = Jvm.exec) (hb : c.code = cc) {a b : Nat} {off : Int} {tgt : Nat} (hdg : decode cc pc = .ok (.if_icmp .lt off, 3)) (ht : (pc : Int) + off = (tgt : Int)) (ha : a < 2 ^ 31) (hb2 : b < 2 ^ 31)
    (kt : a < b → W p l e R s m args below meth c H locs cells slots Q (F0 m tgt ls rest)) (kf : b ≤ a → W p l e R s m args below meth c H locs cells slots Q (F0 m (pc + 3) ls rest)) : W p l e R s m args below meth c H locs cells slots Q (F0 m pc ls (.int (nI b) :: .int (nI a) :: rest)) :=
  lv_icmp_lt hexec hb hdg ht (fun h => kt ((nI_ltI ha hb2).mp h)) (fun h => kf (Nat.le_of_not_lt (fun q => h ((nI_ltI ha hb2).mpr q))))
theorem xn_gt (hexec : p.tables.exec = Jvm.exec) (hb : c.code = cc) {a b : Nat} {off : Int} {tgt : Nat} (hdg : decode cc pc = .ok (.if_icmp .gt off, 3)) (ht : (pc : Int) + off = (tgt : Int)) (ha : a < 2 ^ 31) (hb2 : b < 2 ^ 31)
    (kt : b < a → W p l e R s m args below meth c H locs cells slots Q (F0 m tgt ls rest)) (kf : a ≤ b → W p l e R s m args below meth c H locs cells slots Q (F0 m (pc + 3) ls rest)) : W p l e R s m args below meth c H locs cells slots Q (F0 m pc ls (.int (nI b) :: .int (nI a) :: rest)) :=
  lv_icmp_gt hexec hb hdg ht (fun h => kt ((nI_ltI hb2 ha).mp h)) (fun h => kf (Nat.le_of_not_lt (fun q => h ((nI_ltI hb2 ha).mpr q))))
theorem xn_le (hexec : p.tables.exec = Jvm.exec) (hb : c.code = cc) {a b : Nat} {off : Int} {tgt : Nat} (hdg : decode cc pc = .ok (.if_icmp .le off, 3)) (ht : (pc : Int) + off = (tgt : Int)) (ha : a < 2 ^ 31) (hb2 : b < 2 ^ 31)
    (kt : a ≤ b → W p l e R s m args below meth c H locs cells slots Q (F0 m tgt ls rest)) (kf : b < a → W p l e R s m args below meth c H locs cells slots Q (F0 m (pc + 3) ls rest)) : W p l e R s m args below meth c H locs cells slots Q (F0 m pc ls (.int (nI b) :: .int (nI a) :: rest)) :=
  lv_icmp_le hexec hb hdg ht (fun h => kt ((nI_leI ha hb2).mp h)) (fun h => kf (Nat.lt_of_not_le (fun q => h ((nI_leI ha hb2).mpr q))))
theorem xn_eq (hexec : p.tables.exec = Jvm.exec) (hb : c.code = cc) {a b : Nat} {off : Int} {tgt : Nat} (hdg : decode cc pc = .ok (.if_icmp .eq off, 3)) (ht : (pc : Int) + off = (tgt : Int)) (ha : a < 2 ^ 31) (hb2 : b < 2 ^ 31)
    (kt : a = b → W p l e R s m args below meth c H locs cells slots Q (F0 m tgt ls rest)) (kf : a ≠ b → W p l e R s m args below meth c H locs cells slots Q (F0 m (pc + 3) ls rest)) : W p l e R s m args below meth c H locs cells slots Q (F0 m pc ls (.int (nI b) :: .int (nI a) :: rest)) :=
  lv_icmp_eq hexec hb hdg ht (fun h => kt ((nI_eq ha hb2).mp h)) (fun h => kf (fun q => h ((nI_eq ha hb2).mpr q)))
theorem xn_ne (hexec : p.tables.exec = Jvm.exec) (hb : c.code = cc) {a b : Nat} {off : Int} {tgt : Nat} (hdg : decode cc pc = .ok (.if_icmp .ne off, 3)) (ht : (pc : Int) + off = (tgt : Int)) (ha : a < 2 ^ 31) (hb2 : b < 2 ^ 31)
    (kt : a ≠ b → W p l e R s m args below meth c H locs cells slots Q (F0 m tgt ls rest)) (kf : a = b → W p l e R s m args below meth c H locs cells slots Q (F0 m (pc + 3) ls rest)) : W p l e R s m args below meth c H locs cells slots Q (F0 m pc ls (.int (nI b) :: .int (nI a) :: rest)) :=
  lv_icmp_ne hexec hb hdg ht (fun h => kt (fun q => h ((nI_eq ha hb2).mpr q))) (fun h => kf ((nI_eq ha hb2).mp h))
theorem xn_if_eq (hexec : p.tables.exec = Jvm.exec) (hb : c.code = cc) {a : Nat} {off : Int} {tgt : Nat} (hdg : decode cc pc = .ok (.ifCond .eq off, 3)) (ht : (pc : Int) + off = (tgt : Int)) (ha : a < 2 ^ 31)
    (kt : a = 0 → W p l e R s m args below meth c H locs cells slots Q (F0 m tgt ls rest)) (kf : 0 < a → W p l e R s m args below meth c H locs cells slots Q (F0 m (pc + 3) ls rest)) : W p l e R s m args below meth c H locs cells slots Q (F0 m pc ls (.int (nI a) :: rest)) :=
  lv_if_eq hexec hb hdg ht (fun h => kt (by rcases Nat.eq_zero_or_pos a with z | z; exact z; exact absurd h (nI_ne0 z ha))) (fun h => kf (Nat.pos_of_ne_zero (fun z => h (by rw [z]; rfl))))
theorem xn_if_ne (hexec : p.tables.exec = Jvm.exec) (hb : c.code = cc) {a : Nat} {off : Int} {tgt : Nat} (hdg : decode cc pc = .ok (.ifCond .ne off, 3)) (ht : (pc : Int) + off = (tgt : Int)) (ha : a < 2 ^ 31)
    (kt : 0 < a → W p l e R s m args below meth c H locs cells slots Q (F0 m tgt ls rest)) (kf : a = 0 → W p l e R s m args below meth c H locs cells slots Q (F0 m (pc + 3) ls rest)) : W p l e R s m args below meth c H locs cells slots Q (F0 m pc ls (.int (nI a) :: rest)) :=
  lv_if_ne hexec hb hdg ht (fun h => kt (Nat.pos_of_ne_zero (fun z => h (by rw [z]; rfl)))) (fun h => kf (by rcases Nat.eq_zero_or_pos a with z | z; exact z; exact absurd h (nI_ne0 z ha)))
theorem xn_if_le (hexec : p.tables.exec = Jvm.exec) (hb : c.code = cc) {a : Nat} {off : Int} {tgt : Nat} (hdg : decode cc pc = .ok (.ifCond .le off, 3)) (ht : (pc : Int) + off = (tgt : Int)) (ha : a < 2 ^ 31)
    (kt : a = 0 → W p l e R s m args below meth c H locs cells slots Q (F0 m tgt ls rest)) (kf : 0 < a → W p l e R s m args below meth c H locs cells slots Q (F0 m (pc + 3) ls rest)) : W p l e R s m args below meth c H locs cells slots Q (F0 m pc ls (.int (nI a) :: rest)) :=
  lv_if_le hexec hb hdg ht (fun h => kt (by rcases Nat.eq_zero_or_pos a with z | z; exact z; exact absurd h (nI_nle z ha))) (fun h => kf (Nat.pos_of_ne_zero (fun z => h (by rw [z]; exact Int32.le_refl _))))
theorem xa_iald (hexec : p.tables.exec = Jvm.exec) (hb : c.code = cc) (hK : va_K D cl tys s) (hP : va_P D cl ws H) (q0 t0 : Nat) {cA : ClassId} {n : Nat} {f : Nat → Int32} (ha : ws[q0]? = some (a, .inl (cA, n, .inl f))) (ht : tys[t0]? = some (cA, .int)) {k : Nat} (hk : k < n) (hn : n < 2 ^ 31) (hdg : decode cc pc = .ok (.iaload, 1))
    (kk : W p l e R s m args below meth c H locs cells slots Q (F0 m (pc + 1) ls (.int (f k) :: rest))) : W p l e R s m args below meth c H locs cells slots Q (F0 m pc ls (.int (nI k) :: .ref a :: rest)) := by
  refine va_iald hexec hb hK hP q0 t0 ha ht (vp_in_nI hk hn) hdg ?_
  rw [nI_clamp (Nat.lt_trans hk hn)]
  exact kk
theorem xa_bald (hexec : p.tables.exec = Jvm.exec) (hb : c.code = cc) (hK : va_K D cl tys s) (hP : va_P D cl ws H) (q0 t0 : Nat) {cA : ClassId} {n : Nat} {f : Nat → Int32} (ha : ws[q0]? = some (a, .inl (cA, n, .inl f))) (ht : tys[t0]? = some (cA, .byte)) {k : Nat} (hk : k < n) (hn : n < 2 ^ 31) (hdg : decode cc pc = .ok (.baload, 1))
    (kk : W p l e R s m args below meth c H locs cells slots Q (F0 m (pc + 1) ls (.int (f k) :: rest))) : W p l e R s m args below meth c H locs cells slots Q (F0 m pc ls (.int (nI k) :: .ref a :: rest)) := by
  refine va_bald hexec hb hK hP q0 t0 ha ht (vp_in_nI hk hn) hdg ?_
  rw [nI_clamp (Nat.lt_trans hk hn)]
  exact kk
theorem xa_iast (hexec : p.tables.exec = Jvm.exec) (hb : c.code = cc) (hK : va_K D cl tys s) (hP : va_P D cl ws H) (hD : va_D A ws) (hS : va_S A H0 H locs) (q0 t0 : Nat) {cA : ClassId} {n : Nat} {f : Nat → Int32} (ha : ws[q0]? = some (a, .inl (cA, n, .inl f))) (ht : tys[t0]? = some (cA, .int)) {k : Nat} {x : Int32} (hk : k < n) (hn : n < 2 ^ 31) (w' : va_W) (hw : ws.set q0 (a, .inl (cA, n, .inl (upd f k x))) = w') (hdg : decode cc pc = .ok (.iastore, 1))
    (kk : ∀ (H1 : Heap) (locs1 : List Loc), va_P D cl w' H1 → va_D A w' → va_S A H0 H1 locs1 → W p l e R s m args below meth c H1 locs1 cells slots Q (F0 m (pc + 1) ls rest)) : W p l e R s m args below meth c H locs cells slots Q (F0 m pc ls (.int x :: .int (nI k) :: .ref a :: rest)) := by
  subst hw
  refine va_iast hexec hb hK hP hD hS q0 t0 ha ht (vp_in_nI hk hn) hdg (fun H1 locs1 h1 h2 h3 => ?_)
  rw [nI_clamp (Nat.lt_trans hk hn)] at h1 h2
  exact kk H1 locs1 h1 h2 h3
theorem xa_bast (hexec : p.tables.exec = Jvm.exec) (hb : c.code = cc) (hK : va_K D cl tys s) (hP : va_P D cl ws H) (hD : va_D A ws) (hS : va_S A H0 H locs) (q0 t0 : Nat) {cA : ClassId} {n : Nat} {f : Nat → Int32} (ha : ws[q0]? = some (a, .inl (cA, n, .inl f))) (ht : tys[t0]? = some (cA, .byte)) {k : Nat} {x : Int32} (v : Int32) (hv : vp_nar .byte x = v) (hk : k < n) (hn : n < 2 ^ 31) (w' : va_W) (hw : ws.set q0 (a, .inl (cA, n, .inl (upd f k v))) = w') (hdg : decode cc pc = .ok (.bastore, 1))
    (kk : ∀ (H1 : Heap) (locs1 : List Loc), va_P D cl w' H1 → va_D A w' → va_S A H0 H1 locs1 → W p l e R s m args below meth c H1 locs1 cells slots Q (F0 m (pc + 1) ls rest)) : W p l e R s m args below meth c H locs cells slots Q (F0 m pc ls (.int x :: .int (nI k) :: .ref a :: rest)) := by
  subst hw
  refine va_bast hexec hb hK hP hD hS q0 t0 ha ht (vp_in_nI hk hn) hdg (fun H1 locs1 h1 h2 h3 => ?_)
  rw [nI_clamp (Nat.lt_trans hk hn), hv] at h1 h2
  exact kk H1 locs1 h1 h2 h3
theorem x0_get (hexec : p.tables.exec = Jvm.exec) (hb : c.code = cc) (hts : ∀ w ∈ lw_all, w.before args s = true) (hown : s.vm.findClass RX0 = some m.cls) (hK : va_K D vwCl tys s) (hP : va_P D vwCl ws H) (q0 : Nat) {fs : List Value} (he : ws[q0]? = some (a, .inr (0, fs))) (k : Nat) (hk : k < 19) {index : Nat} (hlink : (Cond.fieldLink RX0 index RX0 (TX0 k).2.1 (TX0 k).2.2.1).before args s = true) (hT : (TX0 k).1 = RX0) {v : Value} (hv : fs[k]? = some v) (hdg : decode cc pc = .ok (.getfield index, 3))
    (kk : W p l e R s m args below meth c H locs cells slots Q (F0 m (pc + 3) ls (v :: rest))) : W p l e R s m args below meth c H locs cells slots Q (F0 m pc ls (.ref a :: rest)) :=
  va_get (ci := 0) (C := RX0) (T := TX0) (N := 19) hexec hb hts in_X0 hown hK hP q0 he rfl k hk hlink (fun _ h => hT ▸ h) hv hdg kk
theorem x1_get (hexec : p.tables.exec = Jvm.exec) (hb : c.code = cc) (hts : ∀ w ∈ lw_all, w.before args s = true) (hown : s.vm.findClass RX1 = some m.cls) (hK : va_K D vwCl tys s) (hP : va_P D vwCl ws H) (q0 : Nat) {fs : List Value} (he : ws[q0]? = some (a, .inr (1, fs))) (k : Nat) (hk : k < 6) {index : Nat} (hlink : (Cond.fieldLink RX1 index RX1 (TX1 k).2.1 (TX1 k).2.2.1).before args s = true) (hT : (TX1 k).1 = RX1) {v : Value} (hv : fs[k]? = some v) (hdg : decode cc pc = .ok (.getfield index, 3))
    (kk : W p l e R s m args below meth c H locs cells slots Q (F0 m (pc + 3) ls (v :: rest))) : W p l e R s m args below meth c H locs cells slots Q (F0 m pc ls (.ref a :: rest)) :=
  va_get (ci := 1) (C := RX1) (T := TX1) (N := 6) hexec hb hts in_X1 hown hK hP q0 he rfl k hk hlink (fun _ h => hT ▸ h) hv hdg kk
theorem x0_put (hexec : p.tables.exec = Jvm.exec) (hb : c.code = cc) (hts : ∀ w ∈ lw_all, w.before args s = true) (hown : s.vm.findClass RX0 = some m.cls) (hK : va_K D vwCl tys s) (hP : va_P D vwCl ws H) (hD : va_D A ws) (hS : va_S A H0 H locs) (q0 : Nat) {fs : List Value} (he : ws[q0]? = some (a, .inr (0, fs))) (k : Nat) (hk : k < 19) {index : Nat} (hlink : (Cond.fieldLink RX0 index RX0 (TX0 k).2.1 (TX0 k).2.2.1).before args s = true) (hT : (TX0 k).1 = RX0) (hfin : (TX0 k).2.2.2 = false) (ty : FieldType) {v : Value} (hd : parseFieldDescriptor (TX0 k).2.2.1 = some ty) (hn : narrow ty v = v) (hfit : fits ty v = true) (hl : k < fs.length) (w' : va_W) (hw : ws.set q0 (a, .inr (0, fs.set k v)) = w') (hdg : decode cc pc = .ok (.putfield index, 3))
    (kk : ∀ (H1 : Heap) (locs1 : List Loc), va_P D vwCl w' H1 → va_D A w' → va_S A H0 H1 locs1 → W p l e R s m args below meth c H1 locs1 cells slots Q (F0 m (pc + 3) ls rest)) : W p l e R s m args below meth c H locs cells slots Q (F0 m pc ls (v :: .ref a :: rest)) := by
  subst hw
  exact va_put (ci := 0) (C := RX0) (T := TX0) (N := 19) (ty := ty) hexec hb hts in_X0 tyX0 tyX0_ok nmX0 hown hK hP hD hS q0 he rfl k hk hlink (fun _ h => hT ▸ h) hfin hd hn hfit hl hdg kk
theorem x1_put (hexec : p.tables.exec = Jvm.exec) (hb : c.code = cc) (hts : ∀ w ∈ lw_all, w.before args s = true) (hown : s.vm.findClass RX1 = some m.cls) (hK : va_K D vwCl tys s) (hP : va_P D vwCl ws H) (hD : va_D A ws) (hS : va_S A H0 H locs) (q0 : Nat) {fs : List Value} (he : ws[q0]? = some (a, .inr (1, fs))) (k : Nat) (hk : k < 6) {index : Nat} (hlink : (Cond.fieldLink RX1 index RX1 (TX1 k).2.1 (TX1 k).2.2.1).before args s = true) (hT : (TX1 k).1 = RX1) (hfin : (TX1 k).2.2.2 = false) (ty : FieldType) {v : Value} (hd : parseFieldDescriptor (TX1 k).2.2.1 = some ty) (hn : narrow ty v = v) (hfit : fits ty v = true) (hl : k < fs.length) (w' : va_W) (hw : ws.set q0 (a, .inr (1, fs.set k v)) = w') (hdg : decode cc pc = .ok (.putfield index, 3))
    (kk : ∀ (H1 : Heap) (locs1 : List Loc), va_P D vwCl w' H1 → va_D A w' → va_S A H0 H1 locs1 → W p l e R s m args below meth c H1 locs1 cells slots Q (F0 m (pc + 3) ls rest)) : W p l e R s m args below meth c H locs cells slots Q (F0 m pc ls (v :: .ref a :: rest)) := by
  subst hw
  exact va_put (ci := 1) (C := RX1) (T := TX1) (N := 6) (ty := ty) hexec hb hts in_X1 tyX1 tyX1_ok nmX1 hown hK hP hD hS q0 he rfl k hk hlink (fun _ h => hT ▸ h) hfin hd hn hfit hl hdg kk
end XKA
/-! contracts' starts -/
def xPre (D : va_G) (cl : List vw_C) (tys : List (ClassId × FieldType)) (ws : va_W) (sz : Nat) (U : State) : Prop := U.heap.size = sz ∧ va_P D cl ws U.heap ∧ va_K D cl tys U ∧ va_D (fun _ => True) ws
def xPreR (D : va_G) (cl : List vw_C) (tys : List (ClassId × FieldType)) (ws : va_W) (U : State) : Prop := va_P D cl ws U.heap ∧ va_K D cl tys U
theorem xPre.blind {D : va_G} {cl : List vw_C} {tys : List (ClassId × FieldType)} {ws : va_W} {sz : Nat} {av : List Value} : FrameBlind (va_Pc av (xPre D cl tys ws sz)) := fun a U g mk q => by
  obtain ⟨q0, q1, qP, qK, qD⟩ := q
  exact ⟨q0, q1, qP, va_K.moved (u := U) (U := U.calling g mk a) (Vm.Alike.refl U.vm) qK, qD⟩
theorem xPreR.blind {D : va_G} {cl : List vw_C} {tys : List (ClassId × FieldType)} {ws : va_W} {av : List Value} : FrameBlind (va_Pc av (xPreR D cl tys ws)) := fun a U g mk q => by
  obtain ⟨q0, qP, qK⟩ := q
  exact ⟨q0, qP, va_K.moved (u := U) (U := U.calling g mk a) (Vm.Alike.refl U.vm) qK⟩
theorem va_nil {D : va_G} {cl : List vw_C} {H : Heap} : va_P D cl [] H := fun k q h => by simp at h
/-! contracts: the body is walked over any heap H, any arguments' array -/
abbrev oF (ad : Nat → Nat) (c nl gr un al ab : Int32) (sb : Int64) : va_E := .inr (0, [.int c, .ref (ad 0), .ref (ad 1), .ref (ad 2), .ref (ad 3), .ref (ad 4), .ref (ad 5), .ref (ad 6), .int nl, .int gr, .int un, .int al, .ref (ad 7), .ref (ad 8), .ref (ad 9), .ref (ad 10), .ref (ad 11), .int ab, .long sb])
abbrev oM (b1 b2 : Nat) (n p q r : Int32) : va_E := .inr (1, [.int n, .ref b1, .ref b2, .int p, .int q, .int r])
abbrev xT (dI dB : ClassId) : List (ClassId × FieldType) := [(dI, .int), (dB, .byte)]
abbrev rmz : Room := { frames := 0, cells := 0, slots := 0, locals := 0 }
/-- a static method that needs nothing of the heap -/
theorem xm_S {l : Launch} {y : MethodName} {cc : ByteArray} {maxL : Nat} {ty : FieldType} {rm : Room} {av : List Value} {post : Int32 → Prop} (hy : plainName y.cls = true) (hav : (lg_sl av).length ≤ maxL)
    (body : ∀ (p : Program) (e : Env) (s : State) (m : MethodId) (args : Array Value) (below : List Frame) (meth : Method) (c : Code), p.tables.exec = Jvm.exec → c.code = cc → c.maxLocals = maxL → s.vm.findClass y.cls = some m.cls → (∀ w ∈ lw_all, w.before args s = true) → ∀ (H : Heap) (locs : List Loc) (Q : State → Prop),
      (∀ (r : Int32) (pc : Nat) (ls : Array Slot), post r → narrow ty (.int r) = .int r → decode cc pc = .ok (.ireturn, 1) → W p l e rm s m args below meth c H locs 0 0 Q (F0 m pc ls [.int r])) →
      ∀ ls : Array Slot, lv_has ls maxL (lv_args 0 av) → W p l e rm s m args below meth c H locs 0 0 Q (F0 m 0 ls [])) :
    Met l y (ws_ y cc maxL (some ty)) rm (va_Pc av (fun _ => True)) (vp_Si post) 0 0 (fun _ => False) := by
  refine Met.ofW (cc := cc) (maxL := maxL) (ret := some ty) hy rfl ?_
  intro p e s m args below meth c s₁ B1 hml hv
  obtain ⟨rfl, -⟩ := hv
  have hx := B1.exec
  have hb := B1.bytes
  have hr := B1.returns
  have hts := atoms_spec (ws := ws_ y cc maxL (some ty)) B1.pre
  have hts : ∀ w ∈ lw_all, w.before _ s = true := fun w h => hts w (List.mem_cons_of_mem _ h)
  have hown : s.vm.findClass y.cls = some m.cls := findClass_of_methodNamed B1.named
  have hlocks := B1.notSynchronized
  have hl := lv_entry av (n := maxL) hav
  rw [lg_entry_eq]
  refine body p e s m _ below meth c hx hb hml hown hts _ _ _ (fun r pc ls hp hn hd => ?_) _ hl
  exact W.zret (v := r) hx hb hr hn (fun t ht hW => ⟨r, rfl, hp, ht⟩) (fun q h => by cases h) hd
/-- a method that only reads and answers an int (or a boolean) -/
theorem xm_R {l : Launch} {y : MethodName} {cc : ByteArray} {maxL : Nat} {ty : FieldType} {rm : Room} {av : List Value} {D : va_G} {cl : List vw_C} {tys : List (ClassId × FieldType)} {w0 : va_W} {post : Int32 → Prop} (hy : plainName y.cls = true) (hav : (lg_sl av).length ≤ maxL)
    (body : ∀ (p : Program) (e : Env) (s : State) (m : MethodId) (args : Array Value) (below : List Frame) (meth : Method) (c : Code), p.tables.exec = Jvm.exec → c.code = cc → c.maxLocals = maxL → s.vm.findClass y.cls = some m.cls → (∀ w ∈ lw_all, w.before args s = true) → va_K D cl tys s → ∀ (H : Heap) (locs : List Loc), va_P D cl w0 H → ∀ Q : State → Prop,
      (∀ (r : Int32) (pc : Nat) (ls : Array Slot), post r → narrow ty (.int r) = .int r → decode cc pc = .ok (.ireturn, 1) → W p l e rm s m args below meth c H locs 0 0 Q (F0 m pc ls [.int r])) →
      ∀ ls : Array Slot, lv_has ls maxL (lv_args 0 av) → W p l e rm s m args below meth c H locs 0 0 Q (F0 m 0 ls [])) :
    Met l y (ws_ y cc maxL (some ty)) rm (va_Pc av (xPreR D cl tys w0)) (vp_Si post) 0 0 (fun _ => False) := by
  refine Met.ofW (cc := cc) (maxL := maxL) (ret := some ty) hy rfl ?_
  intro p e s m args below meth c s₁ B1 hml hv
  obtain ⟨rfl, hP, hK⟩ := hv
  have hx := B1.exec
  have hb := B1.bytes
  have hr := B1.returns
  have hts := atoms_spec (ws := ws_ y cc maxL (some ty)) B1.pre
  have hts : ∀ w ∈ lw_all, w.before _ s = true := fun w h => hts w (List.mem_cons_of_mem _ h)
  have hown : s.vm.findClass y.cls = some m.cls := findClass_of_methodNamed B1.named
  have hlocks := B1.notSynchronized
  have hl := lv_entry av (n := maxL) hav
  rw [lg_entry_eq]
  refine body p e s m _ below meth c hx hb hml hown hts hK _ _ hP _ (fun r pc ls hp hn hd => ?_) _ hl
  exact W.zret (v := r) hx hb hr hn (fun t ht hW => ⟨r, rfl, hp, ht⟩) (fun q h => by cases h) hd
/-! a contract of a method that writes to its world -/
theorem xm_Qv {l : Launch} {y : MethodName} {cc : ByteArray} {maxL : Nat} {rm : Room} {av : List Value} {S : Type} {D : va_G} {cl : List vw_C} {tys : List (ClassId × FieldType)} {w0 : va_W} {sz : Nat} {post : S → Prop} {w1 : S → va_W} (hy : plainName y.cls = true) (hav : (lg_sl av).length ≤ maxL)
    (body : ∀ (p : Program) (e : Env) (s : State) (m : MethodId) (args : Array Value) (below : List Frame) (meth : Method) (c : Code), p.tables.exec = Jvm.exec → c.code = cc → c.maxLocals = maxL → s.vm.findClass y.cls = some m.cls → (∀ w ∈ lw_all, w.before args s = true) → va_K D cl tys s → ∀ A : Nat → Prop, (∀ q : Nat, s.heap.size ≤ q → A q) → ∀ (H : Heap) (locs : List Loc), va_P D cl w0 H → va_D A w0 → va_S A s.heap H locs → ∀ Q : State → Prop,
      (∀ (u : S) (pc : Nat) (ls : Array Slot) (H : Heap) (locs : List Loc), post u → va_P D cl (w1 u) H → va_D A (w1 u) → va_S A s.heap H locs → decode cc pc = .ok (.return_, 1) → W p l e rm s m args below meth c H locs 0 0 Q (F0 m pc ls [])) →
      ∀ ls : Array Slot, lv_has ls maxL (lv_args 0 av) → W p l e rm s m args below meth c H locs 0 0 Q (F0 m 0 ls [])) :
    Met l y (ws_ y cc maxL none) rm (va_Pc av (xPre D cl tys w0 sz)) (va_Qv post (fun u t => va_P D cl (w1 u) t.heap ∧ va_D (va_A w0 sz) (w1 u)) (va_A w0 sz)) 0 0 (va_A w0 sz) := by
  refine Met.ofW (cc := cc) (maxL := maxL) (ret := none) hy rfl ?_
  intro p e s m args below meth c s₁ B1 hml hv
  obtain ⟨rfl, hsz, hP, hK, hD0⟩ := hv
  have hx := B1.exec
  have hb := B1.bytes
  have hr := B1.returns
  have hts := atoms_spec (ws := ws_ y cc maxL none) B1.pre
  have hts : ∀ w ∈ lw_all, w.before _ s = true := fun w h => hts w (List.mem_cons_of_mem _ h)
  have hown : s.vm.findClass y.cls = some m.cls := findClass_of_methodNamed B1.named
  have hlocks := B1.notSynchronized
  subst hsz
  have hD := hD0.self (sz := s.heap.size)
  have hA : ∀ q : Nat, s.heap.size ≤ q → va_A w0 s.heap.size q := fun q h => Or.inr h
  have hS : va_S (va_A w0 s.heap.size) s.heap s.heap [] := va_S.rf
  have hl := lv_entry av (n := maxL) hav
  rw [lg_entry_eq]
  refine body p e s m _ below meth c hx hb hml hown hts hK _ hA _ _ hP hD hS _ (fun u pc ls H locs hp hP1 hD1 hS1 hd => ?_) _ hl
  exact W.vret hx hb hr (fun t ht hW => ⟨⟨u, rfl, hp, by rw [ht]; exact hP1, hD1⟩, hS1.F ht⟩) hS1.2.2 hd
theorem xm_Qi {l : Launch} {y : MethodName} {cc : ByteArray} {maxL : Nat} {ty : FieldType} {rm : Room} {av : List Value} {S : Type} {D : va_G} {cl : List vw_C} {tys : List (ClassId × FieldType)} {w0 : va_W} {sz : Nat} {post : Int32 → S → Prop} {w1 : S → va_W} (hy : plainName y.cls = true) (hav : (lg_sl av).length ≤ maxL)
    (body : ∀ (p : Program) (e : Env) (s : State) (m : MethodId) (args : Array Value) (below : List Frame) (meth : Method) (c : Code), p.tables.exec = Jvm.exec → c.code = cc → c.maxLocals = maxL → s.vm.findClass y.cls = some m.cls → (∀ w ∈ lw_all, w.before args s = true) → va_K D cl tys s → ∀ A : Nat → Prop, (∀ q : Nat, s.heap.size ≤ q → A q) → ∀ (H : Heap) (locs : List Loc), va_P D cl w0 H → va_D A w0 → va_S A s.heap H locs → ∀ Q : State → Prop,
      (∀ (r : Int32) (u : S) (pc : Nat) (ls : Array Slot) (H : Heap) (locs : List Loc), post r u → va_P D cl (w1 u) H → va_D A (w1 u) → va_S A s.heap H locs → narrow ty (.int r) = .int r → decode cc pc = .ok (.ireturn, 1) → W p l e rm s m args below meth c H locs 0 0 Q (F0 m pc ls [.int r])) →
      ∀ ls : Array Slot, lv_has ls maxL (lv_args 0 av) → W p l e rm s m args below meth c H locs 0 0 Q (F0 m 0 ls [])) :
    Met l y (ws_ y cc maxL (some ty)) rm (va_Pc av (xPre D cl tys w0 sz)) (va_Qi post (fun u t => va_P D cl (w1 u) t.heap ∧ va_D (va_A w0 sz) (w1 u)) (va_A w0 sz)) 0 0 (va_A w0 sz) := by
  refine Met.ofW (cc := cc) (maxL := maxL) (ret := some ty) hy rfl ?_
  intro p e s m args below meth c s₁ B1 hml hv
  obtain ⟨rfl, hsz, hP, hK, hD0⟩ := hv
  have hx := B1.exec
  have hb := B1.bytes
  have hr := B1.returns
  have hts := atoms_spec (ws := ws_ y cc maxL (some ty)) B1.pre
  have hts : ∀ w ∈ lw_all, w.before _ s = true := fun w h => hts w (List.mem_cons_of_mem _ h)
  have hown : s.vm.findClass y.cls = some m.cls := findClass_of_methodNamed B1.named
  have hlocks := B1.notSynchronized
  subst hsz
  have hD := hD0.self (sz := s.heap.size)
  have hA : ∀ q : Nat, s.heap.size ≤ q → va_A w0 s.heap.size q := fun q h => Or.inr h
  have hS : va_S (va_A w0 s.heap.size) s.heap s.heap [] := va_S.rf
  have hl := lv_entry av (n := maxL) hav
  rw [lg_entry_eq]
  refine body p e s m _ below meth c hx hb hml hown hts hK _ hA _ _ hP hD hS _ (fun r u pc ls H locs hp hP1 hD1 hS1 hn hd => ?_) _ hl
  exact W.zret (v := r) hx hb hr hn (fun t ht hW => ⟨⟨r, u, rfl, hp, by rw [ht]; exact hP1, hD1⟩, hS1.F ht⟩) hS1.2.2 hd
/-! calls -/
section XKC
variable {p : Program} {l : Launch} {e : Env} {R : Room} {s : State} {m : MethodId} {args : Array Value} {below : List Frame} {meth : Method} {c : Code} {H : Heap} {locs : List Loc} {cells slots : Nat} {Q : State → Prop} {cc : ByteArray} {pc : Nat} {ls : Array Slot} {rest : List Value} {D : va_G} {cl : List vw_C} {A : Nat → Prop} {b : Nat} {tys : List (ClassId × FieldType)} {ws : va_W} {H0 : Heap}
variable {y : MethodName} {bytes : ByteArray} {maxL nL n index : Nat} {ret : Option FieldType} {rm : Room} {own C : String} {st : List Value}
/-- a static method that needs nothing of the heap -/
theorem xc_S {post : Int32 → Prop} (As : List Value) (S : CallFix p m c cc nL s args lw_all own) (hM : Met l y (ws_ y bytes maxL ret) rm (va_Pc As (fun _ => True)) (vp_Si post) 0 0 (fun _ => False)) (cw : CallB R s args own index y bytes maxL ret (ws_ y bytes maxL ret) rm 0 0 n ∧ (Cond.static y).before args s = true)
    (hn : As.length = n) (hsize : ls.size = nL) (hst : st = As.reverse ++ rest) (hW : (rest.map fun v => v.category).sum ≤ 8) (hdg : decode cc pc = .ok (.invokestatic index, 3)) (hf : cells + 0 ≤ R.cells ∧ slots + 0 ≤ R.slots)
    (kk : ∀ r : Int32, post r → W p l e R s m args below meth c H locs cells slots Q (F0 m (pc + 3) ls (.int r :: rest))) : W p l e R s m args below meth c H locs cells slots Q (F0 m pc ls st) :=
  vp_callSi (W.runS (As := As) (rest := rest) S hM cw ⟨fun _ _ _ _ q => q, fun _ _ _ => ⟨rfl, trivial⟩⟩ rfl hn hsize hst (lv_room hW) hdg hf) kk
/-- a method of an object that only reads -/
theorem xc_V {post : Int32 → Prop} {ci q0 : Nat} {q : vw_C} {fs : List Value} {wc : va_W} (As : List Value) (S : CallFix p m c cc nL s args lw_all own) (hK : va_K D cl tys s) (hP : va_P D cl ws H) (hc : cl[ci]? = some q) (hq : q.1 = C) (he : ws[q0]? = some (b, .inr (ci, fs))) (isC : List Nat) (hC : isC.filterMap (fun i => ws[i]?) = wc)
    (hM : Met l y (ws_ y bytes maxL ret) rm (va_Pc (.ref b :: As) (xPreR D cl tys wc)) (vp_Si post) 0 0 (fun _ => False)) (cw : CallW R s args own C index y bytes maxL ret (ws_ y bytes maxL ret) rm 0 0 n)
    (hn : As.length = n) (hsize : ls.size = nL) (hst : st = As.reverse ++ .ref b :: rest) (hW : (rest.map fun v => v.category).sum ≤ 8) (hdg : decode cc pc = .ok (.invokevirtual index, 3)) (hf : cells + 0 ≤ R.cells ∧ slots + 0 ≤ R.slots)
    (kk : ∀ r : Int32, post r → W p l e R s m args below meth c H locs cells slots Q (F0 m (pc + 3) ls (.int r :: rest))) : W p l e R s m args below meth c H locs cells slots Q (F0 m pc ls st) := by
  have hPc := hP.sub isC hC
  subst hq
  exact vp_callSi (W.runV (As := As) (rest := rest) S hM cw ⟨xPreR.blind, va_recv hK hP hc he, fun U hU hW2 => ⟨rfl, by rw [hU]; exact hPc, va_K.moved hW2.alike hK⟩⟩ rfl hn hsize hst (lv_room hW) hdg hf) kk
/-- a method of an object that writes to the part wc of the world and answers nothing -/
theorem xc_W {S0 : Type} {post : S0 → Prop} {w1 : S0 → va_W} {ci q0 : Nat} {q : vw_C} {fs : List Value} {wc wr : va_W} (As : List Value) (S : CallFix p m c cc nL s args lw_all own) (hK : va_K D cl tys s) (hP : va_P D cl ws H) (hD : va_D A ws) (hS : va_S A H0 H locs) (hA : ∀ q : Nat, H0.size ≤ q → A q) (hc : cl[ci]? = some q) (hq : q.1 = C) (he : ws[q0]? = some (b, .inr (ci, fs))) (isC isR isJ : List Nat) (hC : isC.map (fun i => ws[i]?) = wc.map some) (hC2 : isC.filterMap (fun i => ws[i]?) = wc) (hCn : va_nd isC = true) (hR : isR.map (fun i => ws[i]?) = wr.map some) (hRn : va_nd isR = true) (hdis : ∀ i ∈ isR, i ∉ isC)
    (w2 : S0 → va_W) (hJ : ∀ u, isJ.map (fun i => (wr ++ w1 u)[i]?) = (w2 u).map some) (hJ2 : ∀ u, isJ.filterMap (fun i => (wr ++ w1 u)[i]?) = w2 u) (hJn : va_nd isJ = true)
    (hM : Met l y (ws_ y bytes maxL ret) rm (va_Pc (.ref b :: As) (xPre D cl tys wc H.size)) (va_Qv post (fun u t => va_P D cl (w1 u) t.heap ∧ va_D (va_A wc H.size) (w1 u)) (va_A wc H.size)) 0 0 (va_A wc H.size)) (cw : CallW R s args own C index y bytes maxL ret (ws_ y bytes maxL ret) rm 0 0 n)
    (hn : As.length = n) (hsize : ls.size = nL) (hst : st = As.reverse ++ .ref b :: rest) (hW : (rest.map fun v => v.category).sum ≤ 8) (hdg : decode cc pc = .ok (.invokevirtual index, 3)) (hf : cells + 0 ≤ R.cells ∧ slots + 0 ≤ R.slots)
    (kk : ∀ (u : S0) (H1 : Heap) (locs1 : List Loc), post u → va_P D cl (w2 u) H1 → va_D A (w2 u) → va_S A H0 H1 locs1 → W p l e R s m args below meth c H1 locs1 cells slots Q (F0 m (pc + 3) ls rest)) : W p l e R s m args below meth c H locs cells slots Q (F0 m pc ls st) := by
  have hPc := hP.sub isC hC2
  have hDc := hD.sub isC hCn hC
  have hFc := va_free (wc := wc) hD hS hA isC hC
  subst hq
  refine va_callv (va_runV (As := As) (rest := rest) S hM cw ⟨xPre.blind, va_recv hK hP hc he, fun U hU hW2 => ⟨rfl, by rw [hU], by rw [hU]; exact hPc, va_K.moved hW2.alike hK, hDc.weaken (fun _ _ _ _ => trivial)⟩⟩ rfl hn hsize hst (lv_room hW) hdg hf) hS (fun q _ h => hFc q h) hFc (fun u t H1 locs1 ht hvm hw1 hB hz1 hk1 hS1 => ?_)
  obtain ⟨hP1, hD1⟩ := hB
  rw [ht] at hP1
  obtain ⟨hP2, hD2⟩ := va_join (wr := wr) (w1 := w1 u) hP hD isC isR hC hR hRn hdis hk1 hFc hP1 hD1
  exact kk u H1 locs1 hw1 (hP2.sub isJ (hJ2 u)) (hD2.sub isJ hJn (hJ u)) hS1
/-- the same, and it answers an int -/
theorem xc_Wi {S0 : Type} {post : Int32 → S0 → Prop} {w1 : S0 → va_W} {ci q0 : Nat} {q : vw_C} {fs : List Value} {wc wr : va_W} (As : List Value) (S : CallFix p m c cc nL s args lw_all own) (hK : va_K D cl tys s) (hP : va_P D cl ws H) (hD : va_D A ws) (hS : va_S A H0 H locs) (hA : ∀ q : Nat, H0.size ≤ q → A q) (hc : cl[ci]? = some q) (hq : q.1 = C) (he : ws[q0]? = some (b, .inr (ci, fs))) (isC isR isJ : List Nat) (hC : isC.map (fun i => ws[i]?) = wc.map some) (hC2 : isC.filterMap (fun i => ws[i]?) = wc) (hCn : va_nd isC = true) (hR : isR.map (fun i => ws[i]?) = wr.map some) (hRn : va_nd isR = true) (hdis : ∀ i ∈ isR, i ∉ isC)
    (w2 : S0 → va_W) (hJ : ∀ u, isJ.map (fun i => (wr ++ w1 u)[i]?) = (w2 u).map some) (hJ2 : ∀ u, isJ.filterMap (fun i => (wr ++ w1 u)[i]?) = w2 u) (hJn : va_nd isJ = true)
    (hM : Met l y (ws_ y bytes maxL ret) rm (va_Pc (.ref b :: As) (xPre D cl tys wc H.size)) (va_Qi post (fun u t => va_P D cl (w1 u) t.heap ∧ va_D (va_A wc H.size) (w1 u)) (va_A wc H.size)) 0 0 (va_A wc H.size)) (cw : CallW R s args own C index y bytes maxL ret (ws_ y bytes maxL ret) rm 0 0 n)
    (hn : As.length = n) (hsize : ls.size = nL) (hst : st = As.reverse ++ .ref b :: rest) (hW : (rest.map fun v => v.category).sum ≤ 8) (hdg : decode cc pc = .ok (.invokevirtual index, 3)) (hf : cells + 0 ≤ R.cells ∧ slots + 0 ≤ R.slots)
    (kk : ∀ (r : Int32) (u : S0) (H1 : Heap) (locs1 : List Loc), post r u → va_P D cl (w2 u) H1 → va_D A (w2 u) → va_S A H0 H1 locs1 → W p l e R s m args below meth c H1 locs1 cells slots Q (F0 m (pc + 3) ls (.int r :: rest))) : W p l e R s m args below meth c H locs cells slots Q (F0 m pc ls st) := by
  have hPc := hP.sub isC hC2
  have hDc := hD.sub isC hCn hC
  have hFc := va_free (wc := wc) hD hS hA isC hC
  subst hq
  refine va_calli (va_runV (As := As) (rest := rest) S hM cw ⟨xPre.blind, va_recv hK hP hc he, fun U hU hW2 => ⟨rfl, by rw [hU], by rw [hU]; exact hPc, va_K.moved hW2.alike hK, hDc.weaken (fun _ _ _ _ => trivial)⟩⟩ rfl hn hsize hst (lv_room hW) hdg hf) hS (fun q _ h => hFc q h) hFc (fun r u t H1 locs1 ht hvm hw1 hB hz1 hk1 hS1 => ?_)
  obtain ⟨hP1, hD1⟩ := hB
  rw [ht] at hP1
  obtain ⟨hP2, hD2⟩ := va_join (wr := wr) (w1 := w1 u) hP hD isC isR hC hR hRn hdis hk1 hFc hP1 hD1
  exact kk r u H1 locs1 hw1 (hP2.sub isJ (hJ2 u)) (hD2.sub isJ hJn (hJ u)) hS1
end XKC

/-! a variable's number, a pair's numbers -/
def bad4 (x : Int32) : Prop := ∀ j : Nat, j < 4 → ¬ x = nI j
theorem bad4_or (x : Int32) : (∃ j : Nat, j < 4 ∧ x = nI j) ∨ bad4 x := by
  by_cases h : ∃ j : Nat, j < 4 ∧ x = nI j
  · exact Or.inl h
  · exact Or.inr (fun j hj e => h ⟨j, hj, e⟩)
theorem bad4_of {x : Int32} (h : x < 0 ∨ nI 4 ≤ x) : bad4 x := by
  intro j hj e
  subst e
  rcases h with h | h
  · exact nI_pos (by omega) h
  · exact nI_ge hj (by decide) h
theorem good4_of {x : Int32} (h : ¬ x < 0) (h2 : ¬ nI 4 ≤ x) : ∃ j : Nat, j < 4 ∧ x = nI j := by
  rcases pk_ix x (n := 4) (by decide) with q | q | q
  · exact absurd q h
  · exact absurd q h2
  · exact q
def px4 (x : Int32) (X : Prop) (P : Nat → Prop) : Prop := (bad4 x → X) ∧ ∀ j : Nat, j < 4 → x = nI j → P j
theorem px4.good {j : Nat} (hj : j < 4) {X : Prop} {P : Nat → Prop} (h : P j) : px4 (nI j) X P := by
  refine ⟨fun q => absurd rfl (q j hj), fun k hk e => ?_⟩
  rw [← (nI_eq (by omega) (by omega)).mp e]
  exact h
theorem px4.bad {x : Int32} (hb : bad4 x) {X : Prop} {P : Nat → Prop} (h : X) : px4 x X P := ⟨fun _ => h, fun j hj e => absurd e (hb j hj)⟩
theorem px4.two {x : Int32} {X Y Z : Prop} {P P2 : Nat → Prop} (h1 : px4 x X P) (h2 : px4 x Y P2) (hx : X → Y → Z) (hp : ∀ j, j < 4 → P j → P2 j → Z) : Z := by
  rcases bad4_or x with ⟨j, hj, e⟩ | h
  · exact hp j hj (h1.2 j hj e) (h2.2 j hj e)
  · exact hx (h1.1 h) (h2.1 h)
def badP (x y : Int32) : Prop := ∀ i j : Nat, i < 4 → j < 4 → i ≠ j → x = nI i → ¬ y = nI j
theorem badP_or (x y : Int32) : (∃ i j : Nat, i < 4 ∧ j < 4 ∧ i ≠ j ∧ x = nI i ∧ y = nI j) ∨ badP x y := by
  by_cases h : ∃ i j : Nat, i < 4 ∧ j < 4 ∧ i ≠ j ∧ x = nI i ∧ y = nI j
  · exact Or.inl h
  · exact Or.inr (fun i j hi hj hn e e2 => h ⟨i, j, hi, hj, hn, e, e2⟩)
theorem badP_1 {x y : Int32} (h : bad4 x) : badP x y := fun i _ hi _ _ e _ => h i hi e
theorem badP_2 {x y : Int32} (h : bad4 y) : badP x y := fun _ j _ hj _ _ e => h j hj e
theorem badP_3 {x y : Int32} (h : x = y) : badP x y := fun i j hi hj hn e e2 => hn ((nI_eq (by omega) (by omega)).mp (e.symm.trans (h.trans e2)))
def pxP (x y : Int32) (X : Prop) (P : Nat → Nat → Prop) : Prop := (badP x y → X) ∧ ∀ i j : Nat, i < 4 → j < 4 → i ≠ j → x = nI i → y = nI j → P i j
theorem pxP.good {i j : Nat} (hi : i < 4) (hj : j < 4) (hn : i ≠ j) {X : Prop} {P : Nat → Nat → Prop} (h : P i j) : pxP (nI i) (nI j) X P := by
  refine ⟨fun q => absurd rfl (q i j hi hj hn rfl), fun k k2 hk hk2 _ e e2 => ?_⟩
  rw [← (nI_eq (by omega) (by omega)).mp e, ← (nI_eq (by omega) (by omega)).mp e2]
  exact h
theorem pxP.bad {x y : Int32} (hb : badP x y) {X : Prop} {P : Nat → Nat → Prop} (h : X) : pxP x y X P := ⟨fun _ => h, fun i j hi hj hn e e2 => absurd e2 (hb i j hi hj hn e)⟩
theorem pxP.two {x y : Int32} {X Y Z : Prop} {P P2 : Nat → Nat → Prop} (h1 : pxP x y X P) (h2 : pxP x y Y P2) (hx : X → Y → Z) (hp : ∀ i j, i < 4 → j < 4 → i ≠ j → P i j → P2 i j → Z) : Z := by
  rcases badP_or x y with ⟨i, j, hi, hj, hn, e, e2⟩ | h
  · exact hp i j hi hj hn (h1.2 i j hi hj hn e e2) (h2.2 i j hi hj hn e e2)
  · exact hx (h1.1 h) (h2.1 h)
/-! a value that a sample may hold -/
def okw (x : Int32) : Prop := -100 ≤ x.toInt ∧ x.toInt ≤ 100
theorem okw_lo {x : Int32} : x < (-100) ↔ x.toInt < -100 := by rw [Int32.lt_iff_toInt_lt]; rfl
theorem okw_hi {x : Int32} : nI 100 < x ↔ 100 < x.toInt := by rw [Int32.lt_iff_toInt_lt]; rfl
end
section
/-! plain words for what the two classes compute, and small rows on numbers that the walks use -/
theorem nar_s {n : Nat} (h : n < 8) : vp_nar .byte (nI n) = nI n := by
  have : ∀ k : Fin 8, vp_nar .byte (nI k.val) = nI k.val := by decide +kernel
  exact this ⟨n, h⟩
theorem byt_s {n : Nat} (h : n < 8) : (nI n).toInt8.toInt32 = nI n := by
  have : ∀ k : Fin 8, (nI k.val).toInt8.toInt32 = nI k.val := by decide +kernel
  exact this ⟨n, h⟩
theorem abs_neg {x : Int32} (h : ¬ 0 ≤ x) (h2 : -200 ≤ x.toInt) : -x = nI x.toInt.natAbs := by
  rw [Int32.le_iff_toInt_le] at h
  have h0 : (0 : Int32).toInt = 0 := rfl
  rw [h0] at h
  have e : x = -nI x.toInt.natAbs := by
    apply Int32.toInt_inj.mp
    rw [sb_negT (by omega)]
    omega
  calc -x = - -nI x.toInt.natAbs := by rw [← e]
    _ = nI x.toInt.natAbs := by simp
theorem abs_pos {x : Int32} (h : 0 ≤ x) : x = nI x.toInt.natAbs := by
  rw [Int32.le_iff_toInt_le] at h
  have h0 : (0 : Int32).toInt = 0 := rfl
  rw [h0] at h
  have hl := Int32.toInt_lt x
  apply Int32.toInt_inj.mp
  rw [nI_toInt (by omega)]
  omega
/-- Euclid's rounds -/
def euI (rd M N : Nat) : Prop := M ≤ 200 ∧ N ≤ 200 ∧ (rd = 0 ∨ (N < M ∧ M * N < 2 ^ (23 - rd)))
theorem eu_step {M N rd : Nat} (hN : 0 < N) (hrd : rd < 24) (h : euI rd M N) : euI (rd + 1) N (M % N) ∧ Nat.gcd N (M % N) = Nat.gcd M N := by
  obtain ⟨h1, h2, h3⟩ := h
  have hlt : M % N < N := Nat.mod_lt M hN
  refine ⟨⟨h2, by omega, Or.inr ⟨hlt, ?_⟩⟩, ?_⟩
  · rcases h3 with h3 | ⟨h3, h4⟩
    · subst h3
      have : N * (M % N) ≤ 200 * 200 := Nat.mul_le_mul h2 (by omega)
      have e : (2 : Nat) ^ (23 - (0 + 1)) = 4194304 := by decide
      rw [e]
      omega
    · have h5 : M % N + N ≤ M := by
        have := Nat.div_add_mod M N
        have h6 : 1 ≤ M / N := Nat.div_pos (by omega) hN
        have h7 : N * 1 ≤ N * (M / N) := Nat.mul_le_mul_left N h6
        omega
      have h8 : N * (2 * (M % N) + 1) ≤ N * M := Nat.mul_le_mul_left N (by omega)
      have h9 : N * (2 * (M % N) + 1) = 2 * (N * (M % N)) + N := by
        rw [Nat.mul_add, Nat.mul_one, ← Nat.mul_assoc, Nat.mul_comm N 2, Nat.mul_assoc]
      have h10 : N * M = M * N := Nat.mul_comm N M
      rcases Nat.lt_or_ge rd 23 with q | q
      · have e : (2 : Nat) ^ (23 - rd) = 2 * 2 ^ (23 - (rd + 1)) := by
          rw [show 23 - rd = (23 - (rd + 1)) + 1 by omega, Nat.pow_succ, Nat.mul_comm]
        rw [e] at h4
        omega
      · have e : 23 - rd = 0 := by omega
        rw [e] at h4
        have : 2 ^ 0 = 1 := rfl
        omega
  · rw [Nat.gcd_comm N (M % N)]
    exact (Nat.gcd_rec N M).symm.trans (Nat.gcd_comm N M)
theorem eu_end {M N rd : Nat} (h : euI rd M N) (hr : 24 ≤ rd) : N = 0 := by
  obtain ⟨h1, h2, h3⟩ := h
  rcases h3 with h3 | ⟨h3, h4⟩
  · omega
  · rw [show 23 - rd = 0 by omega] at h4
    have e : (2 : Nat) ^ 0 = 1 := rfl
    rw [e] at h4
    rcases Nat.eq_zero_or_pos N with z | z
    · exact z
    · have : 1 * 1 ≤ M * N := Nat.mul_le_mul (by omega) z
      omega
/-- the insertion of a value among the sorted ones -/
def insR (so so' : Nat → Int32) (b q k : Nat) (v : Int32) : Prop := q ≤ k ∧ (q = 0 ∨ ¬ v < so (b + q - 1)) ∧ (∀ z, q ≤ z → z < k → v < so (b + z)) ∧ so' (b + q) = v ∧ (∀ z, q ≤ z → z < k → so' (b + z + 1) = so (b + z)) ∧ (∀ z, z < b + q ∨ b + k < z → so' z = so z)
def tdR (so sc : Nat → Int32) (j : Nat) (v : Int32) (k : Nat) (so' sc' : Nat → Int32) : Prop :=
  (k < 4 ∧ (∃ q, q < k ∧ so (j * 4 + q) = v) ∧ so' = so ∧ sc' = sc) ∨
  ((k < 4 → ∀ q, q < k → ¬ so (j * 4 + q) = v) ∧ 3 ≤ k ∧ so' = so ∧ sc' = upd sc j (nI 4)) ∨
  ((∀ q, q < k → ¬ so (j * 4 + q) = v) ∧ k < 3 ∧ sc' = upd sc j (nI (k + 1)) ∧ ∃ q, insR so so' (j * 4) q k v)
/-- what draw makes -/
def drwR (ac up x y P Q R : Int32) : Prop := P.toInt = (ac.toInt.natAbs / Int.gcd ac.toInt up.toInt : Nat) ∧ Q.toInt * (Int.gcd ac.toInt up.toInt : Nat) = ac.toInt.sign * up.toInt ∧ R = P * y - Q * x
def tlR (ls P Q R : Nat → Int32) (k : Nat) (x y : Int32) (ls' P' Q' R' : Nat → Int32) : Prop :=
  (∀ z, z ≠ k → ls' z = ls z ∧ P' z = P z ∧ Q' z = Q z ∧ R' z = R z) ∧
  ((ls k = 0 ∧ ls' k = nI 1 ∧ P' k = x ∧ Q' k = y) ∨
   (ls k = nI 1 ∧ ¬ x - P k = 0 ∧ ¬ y - Q k = 0 ∧ ls' k = nI 2 ∧ drwR (x - P k) (y - Q k) x y (P' k) (Q' k) (R' k)) ∨
   (ls k = nI 1 ∧ (x - P k = 0 ∨ y - Q k = 0) ∧ (¬ x - P k = 0 ∨ ¬ y - Q k = 0) ∧ ls' k = nI 3) ∨
   (ls k = nI 1 ∧ x - P k = 0 ∧ y - Q k = 0 ∧ ls' k = nI 1 ∧ P' k = P k ∧ Q' k = Q k) ∨
   (ls k = nI 2 ∧ ¬ P k * y = Q k * x + R k ∧ ls' k = nI 3) ∨
   (ls k = nI 2 ∧ P k * y = Q k * x + R k ∧ ls' k = nI 2 ∧ P' k = P k ∧ Q' k = Q k ∧ R' k = R k) ∨
   (¬ ls k = 0 ∧ ¬ ls k = nI 1 ∧ ¬ ls k = nI 2 ∧ ls' k = ls k))
/-- a bit of a long -/
def lbt (x : Int64) (i : Nat) : Bool := x.toBitVec.getLsbD i
def smB (f : Nat → Int32) (i : Nat) : Prop := ¬ f (i / 16) + f (i / 4 % 4) = f (i % 4)
/-! the model's words: cell 4 * i + x of the values is sample i's variable x -/
def fB (w : Int32) (a : Nat → Int32) (j : Nat) : Nat → Int32
  | 0 => a j
  | i + 1 => if w = 0 then (if a (4 * i + j) < fB w a j i then a (4 * i + j) else fB w a j i) else (if fB w a j i < a (4 * i + j) then a (4 * i + j) else fB w a j i)
def dl (a : Nat → Int32) (j : Nat) : Nat → List Int32
  | 0 => []
  | i + 1 => if a (4 * i + j) ∈ dl a j i then dl a j i else if (dl a j i).length < 4 then dl a j i ++ [a (4 * i + j)] else dl a j i
theorem dl_len (a : Nat → Int32) (j n : Nat) : (dl a j n).length ≤ 4 := by
  induction n with
  | zero => simp [dl]
  | succ n ih =>
    unfold dl
    split
    · exact ih
    · split
      · simp; omega
      · exact ih
/-- the four cells hold the list's values in its order -/
def fewR (w : Nat → Int32) (L : List Int32) : Prop := ∀ k, k < L.length → L[k]? = some (w k)
theorem fewR_mem {w : Nat → Int32} {L : List Int32} (h : fewR w L) (v : Int32) : v ∈ L ↔ ∃ k, k < L.length ∧ w k = v := by
  constructor
  · intro hm
    obtain ⟨k, hk, e⟩ := List.mem_iff_getElem.mp hm
    have h1 := h k hk
    rw [List.getElem?_eq_getElem hk, e] at h1
    exact ⟨k, hk, (Option.some.inj h1).symm⟩
  · rintro ⟨k, hk, e⟩
    rw [← e]
    exact List.mem_of_getElem? (h k hk)
theorem fewR_add {w : Nat → Int32} {L : List Int32} (h : fewR w L) (v : Int32) : fewR (upd w L.length v) (L ++ [v]) := by
  intro k hk
  rw [List.length_append] at hk
  rcases Nat.lt_or_ge k L.length with q | q
  · rw [List.getElem?_append_left q, pk_un (by omega)]
    exact h k q
  · have e : k = L.length := by simp at hk; omega
    subst e
    rw [List.getElem?_append_right (Nat.le_refl _), pk_us]
    simp
/-- how many of the first cells are less than a value -/
def rkn (w : Nat → Int32) (v : Int32) : Nat → Nat
  | 0 => 0
  | i + 1 => if w i < v then rkn w v i + 1 else rkn w v i
theorem rkn_le (w : Nat → Int32) (v : Int32) (n : Nat) : rkn w v n ≤ n := by
  induction n with
  | zero => simp [rkn]
  | succ n ih => unfold rkn; split <;> omega
/-- all samples leave the same rest by m -/
def sameM (a : Nat → Int32) (j n m : Nat) : Prop := ∀ i, i < n → (a (4 * i + j)).toInt % (m : Int) = (a j).toInt % (m : Int)
def modR (a : Nat → Int32) (j n : Nat) (r : Int32) : Prop :=
  (∃ m : Nat, 2 ≤ m ∧ m ≤ 200 ∧ r = nI m ∧ sameM a j n m ∧ ∀ z : Nat, m < z → z ≤ 200 → ¬ sameM a j n z) ∨ (r = nI 1 ∧ ∀ z : Nat, 2 ≤ z → z ≤ 200 → ¬ sameM a j n z)
def holdR (r : Nat) (x y : Int32) : Prop := match r with
  | 0 => x < y
  | 1 => x ≤ y
  | 2 => x = y
  | _ => ¬ x = y
/-- what find leaves: the first sample o with another x, the least p, and q, r -/
def lnR (a : Nat → Int32) (i j n : Nat) (o : Nat) (P Q R : Int32) : Prop :=
  o < n ∧ (∀ z, z < o → a (4 * z + i) = a i) ∧ ¬ a (4 * o + i) = a i ∧ 1 ≤ P.toInt ∧ P.toInt ≤ 200 ∧
  Q.toInt * ((a (4 * o + i)).toInt - (a i).toInt) = P.toInt * ((a (4 * o + j)).toInt - (a j).toInt) ∧
  (∀ k : Int, 1 ≤ k → k < P.toInt → ¬ ((a (4 * o + i)).toInt - (a i).toInt) ∣ k * ((a (4 * o + j)).toInt - (a j).toInt)) ∧ R = P * a j - Q * a i
def okA (a : Nat → Int32) (n : Nat) : Prop := ∀ k, k < 4 * n → okw (a k)
end
section
/-! bits of ints and longs, rests of a division -/
def ibt (x : Int32) (i : Nat) : Bool := x.toBitVec.getLsbD i
def bit1 (k : Nat) : Int32 := nI 1 <<< (nI k &&& 31)
theorem bt_sl (k : Nat) (hk : k < 32) : ((nI k &&& 31).toBitVec.smod 32).toNat = k := by
  have h : ∀ j : Fin 32, ((nI j.val &&& 31).toBitVec.smod 32).toNat = j.val := by decide +kernel
  exact h ⟨k, hk⟩
theorem ibt_shr {x : Int32} {k : Nat} (hk : k < 32) : (x >>> (nI k &&& 31)) &&& nI 1 = 0 ↔ ibt x k = false := by
  rw [← Int32.toBitVec_inj, Int32.toBitVec_and, Int32.toBitVec_shiftRight]
  show (x.toBitVec.sshiftRight ((nI k &&& 31).toBitVec.smod 32).toNat) &&& 1#32 = 0#32 ↔ x.toBitVec.getLsbD k = false
  rw [bt_sl k hk]
  have e : ∀ y : BitVec 32, (y &&& 1#32 = 0#32) ↔ y.getLsbD 0 = false := by
    intro y
    constructor
    · intro h
      have t := congrArg (fun z => z.getLsbD 0) h
      simpa using t
    · intro h
      apply BitVec.eq_of_getLsbD_eq
      intro i hi
      rcases Nat.eq_zero_or_pos i with z | z
      · subst z; rw [BitVec.getLsbD_and, h]; simp
      · rw [BitVec.getLsbD_and]
        have : (1#32).getLsbD i = false := by simp [BitVec.getLsbD_one]; omega
        rw [this]; simp
  rw [e, BitVec.getLsbD_sshiftRight]
  simp [hk]
theorem bit1_bv {k : Nat} (hk : k < 32) : (bit1 k).toBitVec = BitVec.twoPow 32 k := by
  have h : ∀ j : Fin 32, (bit1 j.val).toBitVec = BitVec.twoPow 32 j.val := by decide +kernel
  exact h ⟨k, hk⟩
theorem ibt_or1 {x : Int32} {k b : Nat} (hk : k < 32) : ibt (x ||| bit1 k) b = (ibt x b || decide (b = k)) := by
  show (x.toBitVec ||| (bit1 k).toBitVec).getLsbD b = _
  rw [bit1_bv hk, BitVec.getLsbD_or, BitVec.getLsbD_twoPow]
  unfold ibt
  congr 1
  simp only [hk, decide_true, Bool.true_and]
  exact decide_eq_decide.mpr ⟨fun e => e.symm, fun e => e.symm⟩
theorem ibt_or0 {x : Int32} {b : Nat} : ibt (x ||| nI 0) b = ibt x b := by
  show (x.toBitVec ||| (nI 0).toBitVec).getLsbD b = _
  have e : (nI 0).toBitVec = 0#32 := rfl
  rw [e]
  simp [ibt]
theorem or_0 (x : Int32) : x ||| nI 0 = x := by
  apply Int32.toBitVec_inj.mp
  show (x.toBitVec ||| 0#32) = _
  simp
theorem bit1_and {x : Int32} {k : Nat} (hk : k < 32) : bit1 k &&& (x ^^^ (-1)) = if ibt x k = true then nI 0 else bit1 k := by
  apply Int32.toBitVec_inj.mp
  have h1 : (bit1 k &&& (x ^^^ (-1))).toBitVec = BitVec.twoPow 32 k &&& (x.toBitVec ^^^ BitVec.allOnes 32) := by
    show (bit1 k).toBitVec &&& (x.toBitVec ^^^ (-1 : Int32).toBitVec) = _
    rw [bit1_bv hk]
    rfl
  rw [h1]
  by_cases h : ibt x k = true
  · rw [if_pos h]
    apply BitVec.eq_of_getLsbD_eq
    intro i hi
    rw [BitVec.getLsbD_and, BitVec.getLsbD_twoPow, BitVec.getLsbD_xor]
    show _ = (0#32).getLsbD i
    by_cases e : k = i
    · subst e
      unfold ibt at h
      rw [h, BitVec.getLsbD_allOnes]
      simp [hk]
    · simp [e]
  · rw [if_neg h, bit1_bv hk]
    apply BitVec.eq_of_getLsbD_eq
    intro i hi
    rw [BitVec.getLsbD_and, BitVec.getLsbD_twoPow, BitVec.getLsbD_xor]
    by_cases e : k = i
    · subst e
      unfold ibt at h
      rw [Bool.eq_false_iff.mpr h, BitVec.getLsbD_allOnes]
      simp [hk]
    · simp [e]
theorem lbt_shr {w : Int64} {j : Nat} (hj : j < 64) : ((w.toUInt64 >>> ((nI j).toInt64.toUInt64 &&& Int64.toUInt64 63)).toInt64 &&& 1) = 0 ↔ w.toBitVec.getLsbD j = false := by
  have hs0 : ∀ k : Fin 64, ((nI k.val).toInt64.toUInt64 &&& Int64.toUInt64 63).toNat = k.val := by decide +kernel
  have hs := hs0 ⟨j, hj⟩
  dsimp only at hs
  have e : (w.toUInt64 >>> ((nI j).toInt64.toUInt64 &&& Int64.toUInt64 63)).toInt64.toBitVec = w.toBitVec >>> j := by
    apply BitVec.eq_of_toNat_eq
    show (w.toUInt64 >>> ((nI j).toInt64.toUInt64 &&& Int64.toUInt64 63)).toNat = _
    rw [UInt64.toNat_shiftRight, hs, Nat.mod_eq_of_lt hj, BitVec.toNat_ushiftRight]
    rfl
  rw [← Int64.toBitVec_inj, Int64.toBitVec_and, e]
  show w.toBitVec >>> j &&& 1#64 = 0#64 ↔ _
  constructor
  · intro h
    have t := congrArg (fun x => x.getLsbD 0) h
    simpa using t
  · intro h
    apply BitVec.eq_of_getLsbD_eq
    intro i hi
    rcases Nat.eq_zero_or_pos i with z | z
    · subst z; simp [h]
    · rw [BitVec.getLsbD_and]
      have : (1#64).getLsbD i = false := by simp [BitVec.getLsbD_one]; omega
      rw [this]; simp
theorem lcmp_0 {x y : Int64} : lg_cmp x y = 0 ↔ x = y := by
  unfold lg_cmp
  constructor
  · intro h
    by_cases h1 : y < x
    · simp [h1] at h
    · by_cases h2 : x = y
      · exact h2
      · simp [h1, h2] at h
  · intro h
    subst h
    simp
/-- the rest of a small number by a small one -/
theorem rem_nI {x : Int32} {g : Nat} (hg : 0 < g) (hg2 : g ≤ 200) (h1 : -100000 ≤ x.toInt ∧ x.toInt ≤ 100000) : (x - x / nI g * nI g).toInt = x.toInt.tmod g := by
  have e1 : (x / nI g).toInt = x.toInt.tdiv g := by
    rw [Int32.toInt_div, nI_toInt (by omega)]
    have h2 : (x.toInt.tdiv g).natAbs ≤ x.toInt.natAbs := Int.natAbs_tdiv_le_natAbs _ _
    rw [Int.bmod_eq_of_le (by omega) (by omega)]
  have h3 : (x.toInt.tmod g).natAbs < g := by
    have := Int.natAbs_tmod x.toInt g
    rw [this]
    exact Nat.mod_lt _ hg
  have h4 : (g : Int) * x.toInt.tdiv g + x.toInt.tmod g = x.toInt := Int.mul_tdiv_add_tmod _ _
  have e2 : (x / nI g * nI g).toInt = x.toInt - x.toInt.tmod g := by
    rw [Int32.toInt_mul, e1, nI_toInt (by omega), show x.toInt.tdiv g * (g : Int) = x.toInt - x.toInt.tmod g by rw [Int.mul_comm]; omega, Int.bmod_eq_of_le (by omega) (by omega)]
  rw [Int32.toInt_sub, e2, Int.bmod_eq_of_le (by omega) (by omega)]
  omega
theorem tmod_emod {x : Int} {g : Nat} (hg : 0 < g) : (if x.tmod g < 0 then x.tmod g + g else x.tmod g) = x % (g : Int) := by
  have h3 : (x.tmod g).natAbs < g := by
    have := Int.natAbs_tmod x g
    rw [this]
    exact Nat.mod_lt _ hg
  have h4 : (g : Int) * x.tdiv g + x.tmod g = x := Int.mul_tdiv_add_tmod _ _
  have h5 : (x.tmod g) % (g : Int) = x % (g : Int) := by
    conv => rhs; rw [← h4]
    rw [Int.add_comm, Int.add_mul_emod_self_left]
  rw [← h5]
  split
  · rw [← Int.add_emod_right, Int.emod_eq_of_lt (by omega) (by omega)]
  · rw [Int.emod_eq_of_lt (by omega) (by omega)]
/-- the set of pairs that both classes make -/
def eqrow (P : Nat → Nat → Bool) (x : Nat) (s : Int32) : Nat → Int32
  | 0 => s
  | t + 1 => if P x (x + 1 + t) = true then eqrow P x s t ||| bit1 (4 * x + (x + 1 + t)) else eqrow P x s t
def eqall (P : Nat → Nat → Bool) : Nat → Int32
  | 0 => nI 0
  | x + 1 => eqrow P x (eqall P x) (3 - x)
theorem eqrow_congr {P P2 : Nat → Nat → Bool} {x : Nat} {s : Int32} (t : Nat) (h : ∀ y, x < y → y < x + 1 + t → P x y = P2 x y) : eqrow P x s t = eqrow P2 x s t := by
  induction t with
  | zero => rfl
  | succ t ih =>
    unfold eqrow
    rw [h (x + 1 + t) (by omega) (by omega), ih (fun y h1 h2 => h y h1 (by omega))]
theorem eqall_congr {P P2 : Nat → Nat → Bool} (h : ∀ x y, x < y → y < 4 → P x y = P2 x y) (n : Nat) (hn : n ≤ 4) : eqall P n = eqall P2 n := by
  induction n with
  | zero => rfl
  | succ n ih =>
    unfold eqall
    rw [ih (by omega)]
    exact eqrow_congr _ (fun y h1 h2 => h n y h1 (by omega))
end
section
theorem bad4_of2 {x : Int32} (h : x < 0 ∨ nI 3 < x) : bad4 x := by
  rcases h with h | h
  · exact bad4_of (Or.inl h)
  · refine bad4_of (Or.inr ?_)
    rw [Int32.lt_iff_toInt_lt] at h
    rw [Int32.le_iff_toInt_le]
    have e3 : (nI 3).toInt = 3 := rfl
    have e4 : (nI 4).toInt = 4 := rfl
    omega
theorem good4_of2 {x : Int32} (h : ¬ x < 0) (h2 : ¬ nI 3 < x) : ∃ j : Nat, j < 4 ∧ x = nI j := by
  refine good4_of h (fun q => h2 ?_)
  rw [Int32.le_iff_toInt_le] at q
  rw [Int32.lt_iff_toInt_lt]
  have e3 : (nI 3).toInt = 3 := rfl
  have e4 : (nI 4).toInt = 4 := rfl
  omega
set_option maxHeartbeats 4000000 in
set_option maxRecDepth 100000 in
theorem mX0_isVariable (l : Launch) (x : Int32) : Met l yX0_isVariable (ws_ yX0_isVariable cX0_isVariable 1 (some .boolean)) rmz (va_Pc [.int x] (fun _ => True)) (vp_Si (fun r => (∃ j : Nat, j < 4 ∧ x = nI j ∧ r = nI 1) ∨ (bad4 x ∧ r = nI 0))) 0 0 (fun _ => False) := by
  refine xm_S (by decide) (Nat.le_of_ble_eq_true rfl) ?_
  intro p e s m args below meth c hx hb hml hown hts H locs Q K ls hl
  have hown : s.vm.findClass RX0 = some m.cls := hown
  have hl : lv_has ls 1 [(0, .int x)] := hl
  refine lv_iload_n hx hb dX0_isVariable_0 rfl (lv_at hl 0 rfl) ?_
  refine lv_if_lt (tgt := 13) hx hb dX0_isVariable_1 (by decide) (fun c_1 => ?_) (fun c_1 => ?_)
  · refine lv_iconst (v := nI 0) hx hb dX0_isVariable_13 rfl ?_
    exact K _ _ _ (Or.inr ⟨bad4_of (by first | exact Or.inl c_1 | exact Or.inr c_6), rfl⟩) rfl dX0_isVariable_14
  · refine lv_iload_n hx hb dX0_isVariable_4 rfl (lv_at hl 0 rfl) ?_
    refine lv_iconst (v := nI 4) hx hb dX0_isVariable_5 rfl ?_
    refine lv_icmp_ge (tgt := 13) hx hb dX0_isVariable_6 (by decide) (fun c_6 => ?_) (fun c_6 => ?_)
    · refine lv_iconst (v := nI 0) hx hb dX0_isVariable_13 rfl ?_
      exact K _ _ _ (Or.inr ⟨bad4_of (by first | exact Or.inl c_1 | exact Or.inr c_6), rfl⟩) rfl dX0_isVariable_14
    · refine lv_iconst (v := nI 1) hx hb dX0_isVariable_9 rfl ?_
      refine lv_goto (tgt := 14) hx hb dX0_isVariable_10 (by decide) ?_
      obtain ⟨j, hj, e⟩ := good4_of c_1 c_6
      exact K _ _ _ (Or.inl ⟨j, hj, e, rfl⟩) rfl dX0_isVariable_14
set_option maxHeartbeats 4000000 in
set_option maxRecDepth 100000 in
theorem mX0_isPair (l : Launch) (x y : Int32) : Met l yX0_isPair (ws_ yX0_isPair cX0_isPair 2 (some .boolean)) ({ frames := 1, cells := 0, slots := 0, locals := 20 } : Room) (va_Pc [.int x, .int y] (fun _ => True)) (vp_Si (fun r => (∃ i j : Nat, i < 4 ∧ j < 4 ∧ i ≠ j ∧ x = nI i ∧ y = nI j ∧ r = nI 1) ∨ (badP x y ∧ r = nI 0))) 0 0 (fun _ => False) := by
  refine xm_S (by decide) (Nat.le_of_ble_eq_true rfl) ?_
  intro p e s m args below meth c hx hb hml hown hts H locs Q K ls hl
  have hown : s.vm.findClass RX0 = some m.cls := hown
  have hl : lv_has ls 2 [(0, .int x), (1, .int y)] := hl
  refine lv_iload_n hx hb dX0_isPair_0 rfl (lv_at hl 0 rfl) ?_
  refine xc_S [.int x] ⟨hx, hb, hml, hown, hts⟩ (mX0_isVariable l x) (va_cwS 1 hts (lw_S q129 q130 q13 q131) rfl rfl rfl (by decide +kernel) ⟨Nat.le_of_ble_eq_true rfl, Nat.le_of_ble_eq_true rfl⟩) rfl hl.1 rfl (Nat.le_of_ble_eq_true rfl) dX0_isPair_1 ⟨Nat.le_of_ble_eq_true rfl, Nat.le_of_ble_eq_true rfl⟩ (fun r_1 h_1 => ?_)
  rcases h_1 with ⟨i, hi, rfl, rfl⟩ | ⟨hbad_x, rfl⟩
  · refine xn_if_eq (tgt := 23) hx hb dX0_isPair_4 (by decide) (by omega) (fun c_4 => absurd c_4 (by omega)) (fun c_4 => ?_)
    refine lv_iload_n hx hb dX0_isPair_7 rfl (lv_at hl 1 rfl) ?_
    refine xc_S [.int y] ⟨hx, hb, hml, hown, hts⟩ (mX0_isVariable l y) (va_cwS 1 hts (lw_S q129 q130 q13 q131) rfl rfl rfl (by decide +kernel) ⟨Nat.le_of_ble_eq_true rfl, Nat.le_of_ble_eq_true rfl⟩) rfl hl.1 rfl (Nat.le_of_ble_eq_true rfl) dX0_isPair_8 ⟨Nat.le_of_ble_eq_true rfl, Nat.le_of_ble_eq_true rfl⟩ (fun r_8 h_8 => ?_)
    rcases h_8 with ⟨j, hj, rfl, rfl⟩ | ⟨hbad_y, rfl⟩
    · refine xn_if_eq (tgt := 23) hx hb dX0_isPair_11 (by decide) (by omega) (fun c_11 => absurd c_11 (by omega)) (fun c_11 => ?_)
      refine lv_iload_n hx hb dX0_isPair_14 rfl (lv_at hl 0 rfl) ?_
      refine lv_iload_n hx hb dX0_isPair_15 rfl (lv_at hl 1 rfl) ?_
      refine xn_eq (tgt := 23) hx hb dX0_isPair_16 (by decide) (by omega) (by omega) (fun c_16 => ?_) (fun c_16 => ?_)
      · refine lv_iconst (v := nI 0) hx hb dX0_isPair_23 rfl ?_
        exact K _ _ _ (Or.inr ⟨by first | exact badP_1 hbad_x | exact badP_2 hbad_y | exact badP_3 (by rw [c_16]), rfl⟩) rfl dX0_isPair_24
      · refine lv_iconst (v := nI 1) hx hb dX0_isPair_19 rfl ?_
        refine lv_goto (tgt := 24) hx hb dX0_isPair_20 (by decide) ?_
        exact K _ _ _ (Or.inl ⟨i, j, hi, hj, c_16, rfl, rfl, rfl⟩) rfl dX0_isPair_24
    · refine xn_if_eq (tgt := 23) hx hb dX0_isPair_11 (by decide) (by omega) (fun c_11 => ?_) (fun c_11 => absurd c_11 (by omega))
      refine lv_iconst (v := nI 0) hx hb dX0_isPair_23 rfl ?_
      exact K _ _ _ (Or.inr ⟨by first | exact badP_1 hbad_x | exact badP_2 hbad_y | exact badP_3 (by rw [c_16]), rfl⟩) rfl dX0_isPair_24
  · refine xn_if_eq (tgt := 23) hx hb dX0_isPair_4 (by decide) (by omega) (fun c_4 => ?_) (fun c_4 => absurd c_4 (by omega))
    refine lv_iconst (v := nI 0) hx hb dX0_isPair_23 rfl ?_
    exact K _ _ _ (Or.inr ⟨by first | exact badP_1 hbad_x | exact badP_2 hbad_y | exact badP_3 (by rw [c_16]), rfl⟩) rfl dX0_isPair_24
set_option maxHeartbeats 4000000 in
set_option maxRecDepth 100000 in
theorem mX0_isValue (l : Launch) (x : Int32) : Met l yX0_isValue (ws_ yX0_isValue cX0_isValue 1 (some .boolean)) rmz (va_Pc [.int x] (fun _ => True)) (vp_Si (fun r => (okw x ∧ r = nI 1) ∨ (¬ okw x ∧ r = nI 0))) 0 0 (fun _ => False) := by
  refine xm_S (by decide) (Nat.le_of_ble_eq_true rfl) ?_
  intro p e s m args below meth c hx hb hml hown hts H locs Q K ls hl
  have hown : s.vm.findClass RX0 = some m.cls := hown
  have hl : lv_has ls 1 [(0, .int x)] := hl
  refine lv_iload_n hx hb dX0_isValue_0 rfl (lv_at hl 0 rfl) ?_
  refine lv_bipush (v := (-100)) hx hb dX0_isValue_1 rfl ?_
  refine lv_icmp_lt (tgt := 16) hx hb dX0_isValue_3 (by decide) (fun c_3 => ?_) (fun c_3 => ?_)
  · refine lv_iconst (v := nI 0) hx hb dX0_isValue_16 rfl ?_
    exact K _ _ _ (Or.inr ⟨fun q => by first | (rw [okw_hi] at c_9; exact absurd q.2 (by omega)) | (rw [okw_lo] at c_3; exact absurd q.1 (by omega)), rfl⟩) rfl dX0_isValue_17
  · refine lv_iload_n hx hb dX0_isValue_6 rfl (lv_at hl 0 rfl) ?_
    refine lv_bipush (v := nI 100) hx hb dX0_isValue_7 rfl ?_
    refine lv_icmp_gt (tgt := 16) hx hb dX0_isValue_9 (by decide) (fun c_9 => ?_) (fun c_9 => ?_)
    · refine lv_iconst (v := nI 0) hx hb dX0_isValue_16 rfl ?_
      exact K _ _ _ (Or.inr ⟨fun q => by first | (rw [okw_hi] at c_9; exact absurd q.2 (by omega)) | (rw [okw_lo] at c_3; exact absurd q.1 (by omega)), rfl⟩) rfl dX0_isValue_17
    · refine lv_iconst (v := nI 1) hx hb dX0_isValue_12 rfl ?_
      refine lv_goto (tgt := 17) hx hb dX0_isValue_13 (by decide) ?_
      exact K _ _ _ (Or.inl ⟨⟨by rw [okw_lo] at c_3; omega, by rw [okw_hi] at c_9; omega⟩, rfl⟩) rfl dX0_isValue_17
set_option maxHeartbeats 4000000 in
set_option maxRecDepth 100000 in
theorem mX1_fits (l : Launch) (dC : Nat → ClassId) (dI : Nat → Nat → Nat) (dA dB : ClassId) (g0 : Nat) (x : Int32) : Met l yX1_fits (ws_ yX1_fits cX1_fits 2 (some .boolean)) rmz (va_Pc [.ref g0, .int x] (xPreR (dC, dI) vwCl (xT dA dB) [])) (vp_Si (fun r => (okw x ∧ r = nI 1) ∨ (¬ okw x ∧ r = nI 0))) 0 0 (fun _ => False) := by
  refine xm_R (by decide) (Nat.le_of_ble_eq_true rfl) ?_
  intro p e s m args below meth c hx hb hml hown hts hK H locs hP Q K ls hl
  have hown : s.vm.findClass RX1 = some m.cls := hown
  have hl : lv_has ls 2 [(0, .ref g0), (1, .int x)] := hl
  refine lv_iload_n hx hb dX1_fits_0 rfl (lv_at hl 1 rfl) ?_
  refine lv_bipush (v := (-100)) hx hb dX1_fits_1 rfl ?_
  refine lv_icmp_lt (tgt := 16) hx hb dX1_fits_3 (by decide) (fun c_3 => ?_) (fun c_3 => ?_)
  · refine lv_iconst (v := nI 0) hx hb dX1_fits_16 rfl ?_
    exact K _ _ _ (Or.inr ⟨fun q => by first | (rw [okw_hi] at c_9; exact absurd q.2 (by omega)) | (rw [okw_lo] at c_3; exact absurd q.1 (by omega)), rfl⟩) rfl dX1_fits_17
  · refine lv_iload_n hx hb dX1_fits_6 rfl (lv_at hl 1 rfl) ?_
    refine lv_bipush (v := nI 100) hx hb dX1_fits_7 rfl ?_
    refine lv_icmp_gt (tgt := 16) hx hb dX1_fits_9 (by decide) (fun c_9 => ?_) (fun c_9 => ?_)
    · refine lv_iconst (v := nI 0) hx hb dX1_fits_16 rfl ?_
      exact K _ _ _ (Or.inr ⟨fun q => by first | (rw [okw_hi] at c_9; exact absurd q.2 (by omega)) | (rw [okw_lo] at c_3; exact absurd q.1 (by omega)), rfl⟩) rfl dX1_fits_17
    · refine lv_iconst (v := nI 1) hx hb dX1_fits_12 rfl ?_
      refine lv_goto (tgt := 17) hx hb dX1_fits_13 (by decide) ?_
      exact K _ _ _ (Or.inl ⟨⟨by rw [okw_lo] at c_3; omega, by rw [okw_hi] at c_9; omega⟩, rfl⟩) rfl dX1_fits_17
set_option maxHeartbeats 4000000 in
set_option maxRecDepth 100000 in
theorem mX1_is (l : Launch) (dC : Nat → ClassId) (dI : Nat → Nat → Nat) (dA dB : ClassId) (g0 : Nat) (x : Int32) : Met l yX1_is (ws_ yX1_is cX1_is 2 (some .boolean)) rmz (va_Pc [.ref g0, .int x] (xPreR (dC, dI) vwCl (xT dA dB) [])) (vp_Si (fun r => (∃ j : Nat, j < 4 ∧ x = nI j ∧ r = nI 1) ∨ (bad4 x ∧ r = nI 0))) 0 0 (fun _ => False) := by
  refine xm_R (by decide) (Nat.le_of_ble_eq_true rfl) ?_
  intro p e s m args below meth c hx hb hml hown hts hK H locs hP Q K ls hl
  have hown : s.vm.findClass RX1 = some m.cls := hown
  have hl : lv_has ls 2 [(0, .ref g0), (1, .int x)] := hl
  refine lv_iload_n hx hb dX1_is_0 rfl (lv_at hl 1 rfl) ?_
  refine lv_if_lt (tgt := 13) hx hb dX1_is_1 (by decide) (fun c_1 => ?_) (fun c_1 => ?_)
  · refine lv_iconst (v := nI 0) hx hb dX1_is_13 rfl ?_
    exact K _ _ _ (Or.inr ⟨bad4_of2 (by first | exact Or.inl c_1 | exact Or.inr c_6), rfl⟩) rfl dX1_is_14
  · refine lv_iload_n hx hb dX1_is_4 rfl (lv_at hl 1 rfl) ?_
    refine lv_iconst (v := nI 3) hx hb dX1_is_5 rfl ?_
    refine lv_icmp_gt (tgt := 13) hx hb dX1_is_6 (by decide) (fun c_6 => ?_) (fun c_6 => ?_)
    · refine lv_iconst (v := nI 0) hx hb dX1_is_13 rfl ?_
      exact K _ _ _ (Or.inr ⟨bad4_of2 (by first | exact Or.inl c_1 | exact Or.inr c_6), rfl⟩) rfl dX1_is_14
    · refine lv_iconst (v := nI 1) hx hb dX1_is_9 rfl ?_
      refine lv_goto (tgt := 14) hx hb dX1_is_10 (by decide) ?_
      obtain ⟨j, hj, e⟩ := good4_of2 c_1 c_6
      exact K _ _ _ (Or.inl ⟨j, hj, e, rfl⟩) rfl dX1_is_14
end
section
set_option maxHeartbeats 4000000 in
set_option maxRecDepth 100000 in
theorem mX0_divisor (l : Launch) (a b : Int32) (ha : -200 ≤ a.toInt ∧ a.toInt ≤ 200) (hb9 : -200 ≤ b.toInt ∧ b.toInt ≤ 200) : Met l yX0_divisor (ws_ yX0_divisor cX0_divisor 6 (some .int)) rmz (va_Pc [.int a, .int b] (fun _ => True)) (vp_Si (fun r => r = nI (Int.gcd a.toInt b.toInt))) 0 0 (fun _ => False) := by
  refine xm_S (by decide) (Nat.le_of_ble_eq_true rfl) ?_
  intro p e s m args below meth c hx hb hml hown hts H locs Q K ls hl
  have hown : s.vm.findClass RX0 = some m.cls := hown
  have hl : lv_has ls 6 [(0, .int a), (1, .int b)] := hl
  have loop : ∀ (k rd M Nn : Nat), 25 ≤ rd + k → rd ≤ 24 → euI rd M Nn → Nat.gcd M Nn = Int.gcd a.toInt b.toInt → ∀ ls : Array Slot, lv_has ls 6 [(4, .int (nI rd)), (3, .int (nI Nn)), (2, .int (nI M)), (0, .int a), (1, .int b)] → W p l e rmz s m args below meth c H locs 0 0 Q (F0 m 25 ls []) := by
    intro k
    induction k with
    | zero =>
      intro rd M Nn h1 h2
      exact absurd h1 (by omega)
    | succ k ih =>
      intro rd M Nn h1 h2 h3 h4 ls hl
      have hM : M ≤ 200 := h3.1
      have hN : Nn ≤ 200 := h3.2.1
      refine lv_iload hx hb dX0_divisor_25 (lv_at hl 0 rfl) ?_
      refine lv_bipush (v := nI 24) hx hb dX0_divisor_27 rfl ?_
      refine xn_ge (tgt := 52) hx hb dX0_divisor_29 (by decide) (by omega) (by omega) (fun c_29 => ?_) (fun c_29 => ?_)
      · refine lv_iload_n hx hb dX0_divisor_52 rfl (lv_at hl 2 rfl) ?_
        exact K _ _ _ (by rw [← h4]; have hz : Nn = 0 := (by first | exact c_33 | exact eu_end h3 c_29); rw [hz, Nat.gcd_zero_right]) rfl dX0_divisor_53
      · refine lv_iload_n hx hb dX0_divisor_32 rfl (lv_at hl 1 rfl) ?_
        refine xn_if_eq (tgt := 52) hx hb dX0_divisor_33 (by decide) (by omega) (fun c_33 => ?_) (fun c_33 => ?_)
        · refine lv_iload_n hx hb dX0_divisor_52 rfl (lv_at hl 2 rfl) ?_
          exact K _ _ _ (by rw [← h4]; have hz : Nn = 0 := (by first | exact c_33 | exact eu_end h3 c_29); rw [hz, Nat.gcd_zero_right]) rfl dX0_divisor_53
        · refine lv_iload_n hx hb dX0_divisor_36 rfl (lv_at hl 2 rfl) ?_
          refine lv_iload_n hx hb dX0_divisor_37 rfl (lv_at hl 1 rfl) ?_
          refine lv_irem hx hb dX0_divisor_38 (nI_ne0 c_33 (by omega)) ?_
          refine xw_i (y := nI (M % Nn)) (pk_rem (by omega) c_33 (by omega)) ?_
          refine lv_istore (lv' := [(5, .int (nI (M % Nn))), (4, .int (nI rd)), (3, .int (nI Nn)), (2, .int (nI M)), (0, .int a), (1, .int b)]) hx hb dX0_divisor_39 hl (by decide) rfl (fun ls hl => ?_)
          refine lv_iload_n hx hb dX0_divisor_41 rfl (lv_at hl 2 rfl) ?_
          refine lv_istore_n (lv' := [(2, .int (nI Nn)), (5, .int (nI (M % Nn))), (4, .int (nI rd)), (3, .int (nI Nn)), (0, .int a), (1, .int b)]) hx hb dX0_divisor_42 rfl hl (by decide) rfl (fun ls hl => ?_)
          refine lv_iload hx hb dX0_divisor_43 (lv_at hl 1 rfl) ?_
          refine lv_istore_n (lv' := [(3, .int (nI (M % Nn))), (2, .int (nI Nn)), (5, .int (nI (M % Nn))), (4, .int (nI rd)), (0, .int a), (1, .int b)]) hx hb dX0_divisor_45 rfl hl (by decide) rfl (fun ls hl => ?_)
          refine lv_iinc (v := nI (rd + 1)) (lv' := [(4, .int (nI (rd + 1))), (3, .int (nI (M % Nn))), (2, .int (nI Nn)), (5, .int (nI (M % Nn))), (0, .int a), (1, .int b)]) hx hb dX0_divisor_46 hl (k := 3) rfl (nI_add _ 1) (by decide) rfl (fun ls hl => ?_)
          refine lv_goto (tgt := 25) hx hb dX0_divisor_49 (by decide) ?_
          obtain ⟨e1, e2⟩ := eu_step c_33 c_29 h3
          exact ih _ _ _ (by omega) (by omega) e1 (e2.trans h4) ls (lv_sub hl [0, 1, 2, 4, 5] rfl)
  refine lv_iload_n hx hb dX0_divisor_0 rfl (lv_at hl 0 rfl) ?_
  refine lv_if_ge (tgt := 9) hx hb dX0_divisor_1 (by decide) (fun c_1 => ?_) (fun c_1 => ?_)
  · refine lv_iload_n hx hb dX0_divisor_9 rfl (lv_at hl 0 rfl) ?_
    refine xw_i (y := nI a.toInt.natAbs) (abs_pos c_1) ?_
    refine lv_istore_n (lv' := [(2, .int (nI a.toInt.natAbs)), (0, .int a), (1, .int b)]) hx hb dX0_divisor_10 rfl hl (by decide) rfl (fun ls hl => ?_)
    refine lv_iload_n hx hb dX0_divisor_11 rfl (lv_at hl 2 rfl) ?_
    refine lv_if_ge (tgt := 20) hx hb dX0_divisor_12 (by decide) (fun c_12 => ?_) (fun c_12 => ?_)
    · refine lv_iload_n hx hb dX0_divisor_20 rfl (lv_at hl 2 rfl) ?_
      refine xw_i (y := nI b.toInt.natAbs) (abs_pos c_12) ?_
      refine lv_istore_n (lv' := [(3, .int (nI b.toInt.natAbs)), (2, .int (nI a.toInt.natAbs)), (0, .int a), (1, .int b)]) hx hb dX0_divisor_21 rfl hl (by decide) rfl (fun ls hl => ?_)
      refine lv_iconst (v := nI 0) hx hb dX0_divisor_22 rfl ?_
      refine lv_istore (lv' := [(4, .int (nI 0)), (3, .int (nI b.toInt.natAbs)), (2, .int (nI a.toInt.natAbs)), (0, .int a), (1, .int b)]) hx hb dX0_divisor_23 hl (by decide) rfl (fun ls hl => ?_)
      exact loop 25 0 _ _ (by omega) (by omega) ⟨by omega, by omega, Or.inl rfl⟩ rfl ls (lv_sub hl [0, 1, 2, 3, 4] rfl)
    · refine lv_iload_n hx hb dX0_divisor_15 rfl (lv_at hl 2 rfl) ?_
      refine lv_ineg hx hb dX0_divisor_16 ?_
      refine xw_i (y := nI b.toInt.natAbs) (abs_neg c_12 hb9.1) ?_
      refine lv_goto (tgt := 21) hx hb dX0_divisor_17 (by decide) ?_
      refine lv_istore_n (lv' := [(3, .int (nI b.toInt.natAbs)), (2, .int (nI a.toInt.natAbs)), (0, .int a), (1, .int b)]) hx hb dX0_divisor_21 rfl hl (by decide) rfl (fun ls hl => ?_)
      refine lv_iconst (v := nI 0) hx hb dX0_divisor_22 rfl ?_
      refine lv_istore (lv' := [(4, .int (nI 0)), (3, .int (nI b.toInt.natAbs)), (2, .int (nI a.toInt.natAbs)), (0, .int a), (1, .int b)]) hx hb dX0_divisor_23 hl (by decide) rfl (fun ls hl => ?_)
      exact loop 25 0 _ _ (by omega) (by omega) ⟨by omega, by omega, Or.inl rfl⟩ rfl ls (lv_sub hl [0, 1, 2, 3, 4] rfl)
  · refine lv_iload_n hx hb dX0_divisor_4 rfl (lv_at hl 0 rfl) ?_
    refine lv_ineg hx hb dX0_divisor_5 ?_
    refine xw_i (y := nI a.toInt.natAbs) (abs_neg c_1 ha.1) ?_
    refine lv_goto (tgt := 10) hx hb dX0_divisor_6 (by decide) ?_
    refine lv_istore_n (lv' := [(2, .int (nI a.toInt.natAbs)), (0, .int a), (1, .int b)]) hx hb dX0_divisor_10 rfl hl (by decide) rfl (fun ls hl => ?_)
    refine lv_iload_n hx hb dX0_divisor_11 rfl (lv_at hl 2 rfl) ?_
    refine lv_if_ge (tgt := 20) hx hb dX0_divisor_12 (by decide) (fun c_12 => ?_) (fun c_12 => ?_)
    · refine lv_iload_n hx hb dX0_divisor_20 rfl (lv_at hl 2 rfl) ?_
      refine xw_i (y := nI b.toInt.natAbs) (abs_pos c_12) ?_
      refine lv_istore_n (lv' := [(3, .int (nI b.toInt.natAbs)), (2, .int (nI a.toInt.natAbs)), (0, .int a), (1, .int b)]) hx hb dX0_divisor_21 rfl hl (by decide) rfl (fun ls hl => ?_)
      refine lv_iconst (v := nI 0) hx hb dX0_divisor_22 rfl ?_
      refine lv_istore (lv' := [(4, .int (nI 0)), (3, .int (nI b.toInt.natAbs)), (2, .int (nI a.toInt.natAbs)), (0, .int a), (1, .int b)]) hx hb dX0_divisor_23 hl (by decide) rfl (fun ls hl => ?_)
      exact loop 25 0 _ _ (by omega) (by omega) ⟨by omega, by omega, Or.inl rfl⟩ rfl ls (lv_sub hl [0, 1, 2, 3, 4] rfl)
    · refine lv_iload_n hx hb dX0_divisor_15 rfl (lv_at hl 2 rfl) ?_
      refine lv_ineg hx hb dX0_divisor_16 ?_
      refine xw_i (y := nI b.toInt.natAbs) (abs_neg c_12 hb9.1) ?_
      refine lv_goto (tgt := 21) hx hb dX0_divisor_17 (by decide) ?_
      refine lv_istore_n (lv' := [(3, .int (nI b.toInt.natAbs)), (2, .int (nI a.toInt.natAbs)), (0, .int a), (1, .int b)]) hx hb dX0_divisor_21 rfl hl (by decide) rfl (fun ls hl => ?_)
      refine lv_iconst (v := nI 0) hx hb dX0_divisor_22 rfl ?_
      refine lv_istore (lv' := [(4, .int (nI 0)), (3, .int (nI b.toInt.natAbs)), (2, .int (nI a.toInt.natAbs)), (0, .int a), (1, .int b)]) hx hb dX0_divisor_23 hl (by decide) rfl (fun ls hl => ?_)
      exact loop 25 0 _ _ (by omega) (by omega) ⟨by omega, by omega, Or.inl rfl⟩ rfl ls (lv_sub hl [0, 1, 2, 3, 4] rfl)
end
section
set_option maxHeartbeats 4000000 in
set_option maxRecDepth 100000 in
theorem mX0_takeDifferent (l : Launch) (dC : Nat → ClassId) (dI : Nat → Nat → Nat) (dA dB : ClassId) (sz : Nat) (h0 : Nat) (ad : Nat → Nat) (nl gr un al ab : Int32) (sb : Int64) (cn : Int32) (so sc : Nat → Int32) (j : Nat) (v : Int32) (k : Nat) (hj : j < 4) (hk : k ≤ 4) (hc : sc j = nI k) : Met l yX0_takeDifferent (ws_ yX0_takeDifferent cX0_takeDifferent 5 none) rmz (va_Pc [.ref h0, .int (nI j), .int v] (xPre (dC, dI) vwCl (xT dA dB) [(h0, oF ad cn nl gr un al ab sb), (ad 5, .inl (dA, 16, .inl so)), (ad 6, .inl (dB, 4, .inl sc))] sz)) (va_Qv (fun u => tdR so sc j v k u.1 u.2) (fun u t => va_P (dC, dI) vwCl ((fun u : (Nat → Int32) × (Nat → Int32) => [(h0, oF ad cn nl gr un al ab sb), (ad 5, .inl (dA, 16, .inl u.1)), (ad 6, .inl (dB, 4, .inl u.2))]) u) t.heap ∧ va_D (va_A [(h0, oF ad cn nl gr un al ab sb), (ad 5, .inl (dA, 16, .inl so)), (ad 6, .inl (dB, 4, .inl sc))] sz) ((fun u : (Nat → Int32) × (Nat → Int32) => [(h0, oF ad cn nl gr un al ab sb), (ad 5, .inl (dA, 16, .inl u.1)), (ad 6, .inl (dB, 4, .inl u.2))]) u)) (va_A [(h0, oF ad cn nl gr un al ab sb), (ad 5, .inl (dA, 16, .inl so)), (ad 6, .inl (dB, 4, .inl sc))] sz)) 0 0 (va_A [(h0, oF ad cn nl gr un al ab sb), (ad 5, .inl (dA, 16, .inl so)), (ad 6, .inl (dB, 4, .inl sc))] sz) := by
  refine xm_Qv (by decide) (Nat.le_of_ble_eq_true rfl) ?_
  intro p e s m args below meth c hx hb hml hown hts hK A hA H locs hP hD hS Q K ls hl
  have hown : s.vm.findClass RX0 = some m.cls := hown
  have hl : lv_has ls 5 [(0, .ref h0), (1, .int (nI j)), (2, .int v)] := hl
  refine lv_aload_n hx hb dX0_takeDifferent_0 rfl (lv_at hl 0 rfl) ?_
  refine x0_get hx hb hts hown hK hP 0 rfl 7 (by decide) (hts _ q30) rfl (v := .ref (ad 6)) rfl dX0_takeDifferent_1 ?_
  refine lv_iload_n hx hb dX0_takeDifferent_4 rfl (lv_at hl 1 rfl) ?_
  refine xa_bald hx hb hK hP 2 1 rfl rfl (k := j) (by omega) (by decide) dX0_takeDifferent_5 ?_
  refine xw_i (y := nI k) hc ?_
  refine lv_istore_n (lv' := [(3, .int (nI k)), (0, .ref h0), (1, .int (nI j)), (2, .int v)]) hx hb dX0_takeDifferent_6 rfl hl (by decide) rfl (fun ls hl => ?_)
  refine lv_iconst (v := nI 0) hx hb dX0_takeDifferent_7 rfl ?_
  refine lv_istore (lv' := [(4, .int (nI 0)), (3, .int (nI k)), (0, .ref h0), (1, .int (nI j)), (2, .int v)]) hx hb dX0_takeDifferent_8 hl (by decide) rfl (fun ls hl => ?_)
  have loop : ∀ (f i : Nat), k + 1 ≤ i + f → i ≤ k → (k < 4 → ∀ q, q < i → ¬ so (j * 4 + q) = v) → ∀ ls : Array Slot, lv_has ls 5 [(4, .int (nI i)), (3, .int (nI k)), (0, .ref h0), (1, .int (nI j)), (2, .int v)] → W p l e rmz s m args below meth c H locs 0 0 Q (F0 m 10 ls []) := by
    intro f
    induction f with
    | zero =>
      intro i h1 h2
      exact absurd h1 (by omega)
    | succ f ih =>
      intro i h1 h2 h3 ls hl
      refine lv_iload hx hb dX0_takeDifferent_10 (lv_at hl 0 rfl) ?_
      refine lv_iload_n hx hb dX0_takeDifferent_12 rfl (lv_at hl 1 rfl) ?_
      refine xn_ge (tgt := 43) hx hb dX0_takeDifferent_13 (by decide) (by omega) (by omega) (fun c_13 => ?_) (fun c_13 => ?_)
      · refine lv_iload_n hx hb dX0_takeDifferent_43 rfl (lv_at hl 1 rfl) ?_
        refine lv_iconst (v := nI 3) hx hb dX0_takeDifferent_44 rfl ?_
        refine xn_lt (tgt := 56) hx hb dX0_takeDifferent_45 (by decide) (by omega) (by omega) (fun c_45 => ?_) (fun c_45 => ?_)
        · refine lv_iload_n hx hb dX0_takeDifferent_56 rfl (lv_at hl 1 rfl) ?_
          refine lv_istore (lv' := [(4, .int (nI k)), (3, .int (nI k)), (0, .ref h0), (1, .int (nI j)), (2, .int v)]) hx hb dX0_takeDifferent_57 hl (by decide) rfl (fun ls hl => ?_)
          have hno : ∀ q, q < k → ¬ so (j * 4 + q) = v := fun q hq => h3 (by omega) q (by omega)
          have loop2 : ∀ (f q0 : Nat) (so1 : Nat → Int32), q0 + 1 ≤ f → q0 ≤ k → (∀ z, q0 ≤ z → z < k → v < so (j * 4 + z) ∧ so1 (j * 4 + z + 1) = so (j * 4 + z)) → (∀ z, z ≤ j * 4 + q0 ∨ j * 4 + k < z → so1 z = so z) → ∀ (H : Heap) (locs : List Loc), va_P (dC, dI) vwCl [(h0, oF ad cn nl gr un al ab sb), (ad 5, .inl (dA, 16, .inl so1)), (ad 6, .inl (dB, 4, .inl sc))] H → va_D A [(h0, oF ad cn nl gr un al ab sb), (ad 5, .inl (dA, 16, .inl so1)), (ad 6, .inl (dB, 4, .inl sc))] → va_S A s.heap H locs → ∀ ls : Array Slot, lv_has ls 5 [(4, .int (nI q0)), (3, .int (nI k)), (0, .ref h0), (1, .int (nI j)), (2, .int v)] → W p l e rmz s m args below meth c H locs 0 0 Q (F0 m 59 ls []) := by
            intro f
            induction f with
            | zero =>
              intro q0 so1 h1
              exact absurd h1 (by omega)
            | succ f ih2 =>
              intro q0 so1 h1 h2 h5 h6 H locs hP hD hS ls hl
              rcases Nat.eq_zero_or_pos q0 with hq0 | hq0
              · refine lv_iload hx hb dX0_takeDifferent_59 (lv_at hl 0 rfl) ?_
                refine xn_if_le (tgt := 111) hx hb dX0_takeDifferent_61 (by decide) (by omega) (fun c_61 => ?_) (fun c_61 => absurd c_61 (by omega))
                refine lv_aload_n hx hb dX0_takeDifferent_111 rfl (lv_at hl 2 rfl) ?_
                refine x0_get hx hb hts hown hK hP 0 rfl 6 (by decide) (hts _ q29) rfl (v := .ref (ad 5)) rfl dX0_takeDifferent_112 ?_
                refine lv_iload_n hx hb dX0_takeDifferent_115 rfl (lv_at hl 3 rfl) ?_
                refine lv_iconst (v := nI 4) hx hb dX0_takeDifferent_116 rfl ?_
                refine xn_mul hx hb dX0_takeDifferent_117 ?_
                refine lv_iload hx hb dX0_takeDifferent_118 (lv_at hl 0 rfl) ?_
                refine xn_add hx hb dX0_takeDifferent_120 ?_
                refine lv_iload_n hx hb dX0_takeDifferent_121 rfl (lv_at hl 4 rfl) ?_
                refine xa_iast hx hb hK hP hD hS 1 0 rfl rfl (by omega) (by decide) [(h0, oF ad cn nl gr un al ab sb), (ad 5, .inl (dA, 16, .inl (upd so1 (j * 4 + q0) v))), (ad 6, .inl (dB, 4, .inl sc))] rfl dX0_takeDifferent_122 (fun H locs hP hD hS => ?_)
                refine lv_aload_n hx hb dX0_takeDifferent_123 rfl (lv_at hl 2 rfl) ?_
                refine x0_get hx hb hts hown hK hP 0 rfl 7 (by decide) (hts _ q30) rfl (v := .ref (ad 6)) rfl dX0_takeDifferent_124 ?_
                refine lv_iload_n hx hb dX0_takeDifferent_127 rfl (lv_at hl 3 rfl) ?_
                refine lv_dup2_11 hx hb dX0_takeDifferent_128 rfl rfl ?_
                refine xa_bald hx hb hK hP 2 1 rfl rfl (k := j) (by omega) (by decide) dX0_takeDifferent_129 ?_
                refine xw_i (y := nI k) hc ?_
                refine lv_iconst (v := nI 1) hx hb dX0_takeDifferent_130 rfl ?_
                refine xn_add hx hb dX0_takeDifferent_131 ?_
                refine lv_i2b hx hb dX0_takeDifferent_132 rfl ?_
                refine xw_i (y := nI (k + 1)) (byt_s (by omega)) ?_
                refine xa_bast hx hb hK hP hD hS 2 1 rfl rfl (nI (k + 1)) (nar_s (by omega)) (by omega) (by decide) [(h0, oF ad cn nl gr un al ab sb), (ad 5, .inl (dA, 16, .inl (upd so1 (j * 4 + q0) v))), (ad 6, .inl (dB, 4, .inl (upd sc j (nI (k + 1)))))] rfl dX0_takeDifferent_133 (fun H locs hP hD hS => ?_)
                exact K (upd so1 (j * 4 + q0) v, upd sc j (nI (k + 1))) _ _ _ _ (Or.inr (Or.inr ⟨hno, by omega, rfl, q0, h2, Or.inl hq0, fun z h8 h9 => (h5 z h8 h9).1, pk_us, fun z h8 h9 => by show upd _ _ _ _ = _; rw [pk_un (by omega)]; exact (h5 z h8 h9).2, fun z h8 => by show upd _ _ _ _ = _; rw [pk_un (by omega)]; exact h6 z (by omega)⟩)) hP hD hS dX0_takeDifferent_134
              · obtain ⟨q1, rfl⟩ : ∃ q1, q0 = q1 + 1 := ⟨q0 - 1, by omega⟩
                refine lv_iload hx hb dX0_takeDifferent_59 (lv_at hl 0 rfl) ?_
                refine xn_if_le (tgt := 111) hx hb dX0_takeDifferent_61 (by decide) (by omega) (fun c_61 => absurd c_61 (by omega)) (fun c_61 => ?_)
                refine lv_aload_n hx hb dX0_takeDifferent_64 rfl (lv_at hl 2 rfl) ?_
                refine x0_get hx hb hts hown hK hP 0 rfl 6 (by decide) (hts _ q29) rfl (v := .ref (ad 5)) rfl dX0_takeDifferent_65 ?_
                refine lv_iload_n hx hb dX0_takeDifferent_68 rfl (lv_at hl 3 rfl) ?_
                refine lv_iconst (v := nI 4) hx hb dX0_takeDifferent_69 rfl ?_
                refine xn_mul hx hb dX0_takeDifferent_70 ?_
                refine lv_iload hx hb dX0_takeDifferent_71 (lv_at hl 0 rfl) ?_
                refine xn_add hx hb dX0_takeDifferent_73 ?_
                refine lv_iconst (v := nI 1) hx hb dX0_takeDifferent_74 rfl ?_
                refine xn_sub hx hb (by omega) dX0_takeDifferent_75 ?_
                refine xa_iald hx hb hK hP 1 0 rfl rfl (k := j * 4 + (q1 + 1) - 1) (by omega) (by decide) dX0_takeDifferent_76 ?_
                refine lv_iload_n hx hb dX0_takeDifferent_77 rfl (lv_at hl 4 rfl) ?_
                refine lv_icmp_le (tgt := 111) hx hb dX0_takeDifferent_78 (by decide) (fun c_78 => ?_) (fun c_78 => ?_)
                · refine lv_aload_n hx hb dX0_takeDifferent_111 rfl (lv_at hl 2 rfl) ?_
                  refine x0_get hx hb hts hown hK hP 0 rfl 6 (by decide) (hts _ q29) rfl (v := .ref (ad 5)) rfl dX0_takeDifferent_112 ?_
                  refine lv_iload_n hx hb dX0_takeDifferent_115 rfl (lv_at hl 3 rfl) ?_
                  refine lv_iconst (v := nI 4) hx hb dX0_takeDifferent_116 rfl ?_
                  refine xn_mul hx hb dX0_takeDifferent_117 ?_
                  refine lv_iload hx hb dX0_takeDifferent_118 (lv_at hl 0 rfl) ?_
                  refine xn_add hx hb dX0_takeDifferent_120 ?_
                  refine lv_iload_n hx hb dX0_takeDifferent_121 rfl (lv_at hl 4 rfl) ?_
                  refine xa_iast hx hb hK hP hD hS 1 0 rfl rfl (by omega) (by decide) [(h0, oF ad cn nl gr un al ab sb), (ad 5, .inl (dA, 16, .inl (upd so1 (j * 4 + (q1 + 1)) v))), (ad 6, .inl (dB, 4, .inl sc))] rfl dX0_takeDifferent_122 (fun H locs hP hD hS => ?_)
                  refine lv_aload_n hx hb dX0_takeDifferent_123 rfl (lv_at hl 2 rfl) ?_
                  refine x0_get hx hb hts hown hK hP 0 rfl 7 (by decide) (hts _ q30) rfl (v := .ref (ad 6)) rfl dX0_takeDifferent_124 ?_
                  refine lv_iload_n hx hb dX0_takeDifferent_127 rfl (lv_at hl 3 rfl) ?_
                  refine lv_dup2_11 hx hb dX0_takeDifferent_128 rfl rfl ?_
                  refine xa_bald hx hb hK hP 2 1 rfl rfl (k := j) (by omega) (by decide) dX0_takeDifferent_129 ?_
                  refine xw_i (y := nI k) hc ?_
                  refine lv_iconst (v := nI 1) hx hb dX0_takeDifferent_130 rfl ?_
                  refine xn_add hx hb dX0_takeDifferent_131 ?_
                  refine lv_i2b hx hb dX0_takeDifferent_132 rfl ?_
                  refine xw_i (y := nI (k + 1)) (byt_s (by omega)) ?_
                  refine xa_bast hx hb hK hP hD hS 2 1 rfl rfl (nI (k + 1)) (nar_s (by omega)) (by omega) (by decide) [(h0, oF ad cn nl gr un al ab sb), (ad 5, .inl (dA, 16, .inl (upd so1 (j * 4 + (q1 + 1)) v))), (ad 6, .inl (dB, 4, .inl (upd sc j (nI (k + 1)))))] rfl dX0_takeDifferent_133 (fun H locs hP hD hS => ?_)
                  exact K (upd so1 (j * 4 + (q1 + 1)) v, upd sc j (nI (k + 1))) _ _ _ _ (Or.inr (Or.inr ⟨hno, by omega, rfl, q1 + 1, h2, Or.inr (fun e9 => by have e8 := h6 (j * 4 + (q1 + 1) - 1) (by omega); rw [e8, Int32.le_iff_toInt_le] at c_78; rw [Int32.lt_iff_toInt_lt] at e9; omega), fun z h8 h9 => (h5 z h8 h9).1, pk_us, fun z h8 h9 => by show upd _ _ _ _ = _; rw [pk_un (by omega)]; exact (h5 z h8 h9).2, fun z h8 => by show upd _ _ _ _ = _; rw [pk_un (by omega)]; exact h6 z (by omega)⟩)) hP hD hS dX0_takeDifferent_134
                · refine lv_aload_n hx hb dX0_takeDifferent_81 rfl (lv_at hl 2 rfl) ?_
                  refine x0_get hx hb hts hown hK hP 0 rfl 6 (by decide) (hts _ q29) rfl (v := .ref (ad 5)) rfl dX0_takeDifferent_82 ?_
                  refine lv_iload_n hx hb dX0_takeDifferent_85 rfl (lv_at hl 3 rfl) ?_
                  refine lv_iconst (v := nI 4) hx hb dX0_takeDifferent_86 rfl ?_
                  refine xn_mul hx hb dX0_takeDifferent_87 ?_
                  refine lv_iload hx hb dX0_takeDifferent_88 (lv_at hl 0 rfl) ?_
                  refine xn_add hx hb dX0_takeDifferent_90 ?_
                  refine lv_aload_n hx hb dX0_takeDifferent_91 rfl (lv_at hl 2 rfl) ?_
                  refine x0_get hx hb hts hown hK hP 0 rfl 6 (by decide) (hts _ q29) rfl (v := .ref (ad 5)) rfl dX0_takeDifferent_92 ?_
                  refine lv_iload_n hx hb dX0_takeDifferent_95 rfl (lv_at hl 3 rfl) ?_
                  refine lv_iconst (v := nI 4) hx hb dX0_takeDifferent_96 rfl ?_
                  refine xn_mul hx hb dX0_takeDifferent_97 ?_
                  refine lv_iload hx hb dX0_takeDifferent_98 (lv_at hl 0 rfl) ?_
                  refine xn_add hx hb dX0_takeDifferent_100 ?_
                  refine lv_iconst (v := nI 1) hx hb dX0_takeDifferent_101 rfl ?_
                  refine xn_sub hx hb (by omega) dX0_takeDifferent_102 ?_
                  refine xa_iald hx hb hK hP 1 0 rfl rfl (k := j * 4 + (q1 + 1) - 1) (by omega) (by decide) dX0_takeDifferent_103 ?_
                  refine xa_iast hx hb hK hP hD hS 1 0 rfl rfl (by omega) (by decide) [(h0, oF ad cn nl gr un al ab sb), (ad 5, .inl (dA, 16, .inl (upd so1 (j * 4 + (q1 + 1)) (so1 (j * 4 + (q1 + 1) - 1))))), (ad 6, .inl (dB, 4, .inl sc))] rfl dX0_takeDifferent_104 (fun H locs hP hD hS => ?_)
                  refine lv_iinc (v := nI q1) (lv' := [(4, .int (nI q1)), (3, .int (nI k)), (0, .ref h0), (1, .int (nI j)), (2, .int v)]) hx hb dX0_takeDifferent_105 hl (k := 0) rfl (pk_m1 _) (by decide) rfl (fun ls hl => ?_)
                  refine lv_goto (tgt := 59) hx hb dX0_takeDifferent_108 (by decide) ?_
                  refine ih2 q1 _ (by omega) (by omega) (fun z h8 h9 => ?_) (fun z h8 => ?_) H locs hP hD hS ls (lv_sub hl [0, 1, 2, 3, 4] rfl)
                  · rcases Nat.lt_or_ge q1 z with h10 | h10
                    · rw [pk_un (by omega)]; exact h5 z (by omega) h9
                    · have e7 : z = q1 := by omega
                      subst e7
                      have e8 := h6 (j * 4 + (z + 1) - 1) (by omega)
                      have e9 : j * 4 + (z + 1) - 1 = j * 4 + z := by omega
                      rw [e9] at e8 c_78
                      refine ⟨?_, ?_⟩
                      · rw [← e8, Int32.lt_iff_toInt_lt]; rw [Int32.le_iff_toInt_le] at c_78; omega
                      · rw [show j * 4 + z + 1 = j * 4 + (z + 1) by omega, pk_us, e9]; exact e8
                  · rw [pk_un (by omega)]; exact h6 z (by omega)
          exact loop2 (k + 1) k so (by omega) (by omega) (fun z h8 h9 => absurd h8 (by omega)) (fun z _ => rfl) H locs hP hD hS ls (lv_sub hl [0, 1, 2, 3, 4] rfl)
        · refine lv_aload_n hx hb dX0_takeDifferent_48 rfl (lv_at hl 2 rfl) ?_
          refine x0_get hx hb hts hown hK hP 0 rfl 7 (by decide) (hts _ q30) rfl (v := .ref (ad 6)) rfl dX0_takeDifferent_49 ?_
          refine lv_iload_n hx hb dX0_takeDifferent_52 rfl (lv_at hl 3 rfl) ?_
          refine lv_iconst (v := nI 4) hx hb dX0_takeDifferent_53 rfl ?_
          refine xa_bast hx hb hK hP hD hS 2 1 rfl rfl (nI 4) (nar_s (by omega)) (by omega) (by decide) [(h0, oF ad cn nl gr un al ab sb), (ad 5, .inl (dA, 16, .inl so)), (ad 6, .inl (dB, 4, .inl (upd sc j (nI 4))))] rfl dX0_takeDifferent_54 (fun H locs hP hD hS => ?_)
          exact K (so, upd sc j (nI 4)) _ _ _ _ (Or.inr (Or.inl ⟨fun h8 q hq => h3 h8 q (by omega), c_45, rfl, rfl⟩)) hP hD hS dX0_takeDifferent_55
      · refine lv_iload_n hx hb dX0_takeDifferent_16 rfl (lv_at hl 1 rfl) ?_
        refine lv_iconst (v := nI 4) hx hb dX0_takeDifferent_17 rfl ?_
        refine xn_ge (tgt := 43) hx hb dX0_takeDifferent_18 (by decide) (by omega) (by omega) (fun c_18 => ?_) (fun c_18 => ?_)
        · refine lv_iload_n hx hb dX0_takeDifferent_43 rfl (lv_at hl 1 rfl) ?_
          refine lv_iconst (v := nI 3) hx hb dX0_takeDifferent_44 rfl ?_
          refine xn_lt (tgt := 56) hx hb dX0_takeDifferent_45 (by decide) (by omega) (by omega) (fun c_45 => ?_) (fun c_45 => ?_)
          · refine lv_iload_n hx hb dX0_takeDifferent_56 rfl (lv_at hl 1 rfl) ?_
            refine lv_istore (lv' := [(4, .int (nI k)), (3, .int (nI k)), (0, .ref h0), (1, .int (nI j)), (2, .int v)]) hx hb dX0_takeDifferent_57 hl (by decide) rfl (fun ls hl => ?_)
            have hno : ∀ q, q < k → ¬ so (j * 4 + q) = v := fun q hq => h3 (by omega) q (by omega)
            have loop2 : ∀ (f q0 : Nat) (so1 : Nat → Int32), q0 + 1 ≤ f → q0 ≤ k → (∀ z, q0 ≤ z → z < k → v < so (j * 4 + z) ∧ so1 (j * 4 + z + 1) = so (j * 4 + z)) → (∀ z, z ≤ j * 4 + q0 ∨ j * 4 + k < z → so1 z = so z) → ∀ (H : Heap) (locs : List Loc), va_P (dC, dI) vwCl [(h0, oF ad cn nl gr un al ab sb), (ad 5, .inl (dA, 16, .inl so1)), (ad 6, .inl (dB, 4, .inl sc))] H → va_D A [(h0, oF ad cn nl gr un al ab sb), (ad 5, .inl (dA, 16, .inl so1)), (ad 6, .inl (dB, 4, .inl sc))] → va_S A s.heap H locs → ∀ ls : Array Slot, lv_has ls 5 [(4, .int (nI q0)), (3, .int (nI k)), (0, .ref h0), (1, .int (nI j)), (2, .int v)] → W p l e rmz s m args below meth c H locs 0 0 Q (F0 m 59 ls []) := by
              intro f
              induction f with
              | zero =>
                intro q0 so1 h1
                exact absurd h1 (by omega)
              | succ f ih2 =>
                intro q0 so1 h1 h2 h5 h6 H locs hP hD hS ls hl
                rcases Nat.eq_zero_or_pos q0 with hq0 | hq0
                · refine lv_iload hx hb dX0_takeDifferent_59 (lv_at hl 0 rfl) ?_
                  refine xn_if_le (tgt := 111) hx hb dX0_takeDifferent_61 (by decide) (by omega) (fun c_61 => ?_) (fun c_61 => absurd c_61 (by omega))
                  refine lv_aload_n hx hb dX0_takeDifferent_111 rfl (lv_at hl 2 rfl) ?_
                  refine x0_get hx hb hts hown hK hP 0 rfl 6 (by decide) (hts _ q29) rfl (v := .ref (ad 5)) rfl dX0_takeDifferent_112 ?_
                  refine lv_iload_n hx hb dX0_takeDifferent_115 rfl (lv_at hl 3 rfl) ?_
                  refine lv_iconst (v := nI 4) hx hb dX0_takeDifferent_116 rfl ?_
                  refine xn_mul hx hb dX0_takeDifferent_117 ?_
                  refine lv_iload hx hb dX0_takeDifferent_118 (lv_at hl 0 rfl) ?_
                  refine xn_add hx hb dX0_takeDifferent_120 ?_
                  refine lv_iload_n hx hb dX0_takeDifferent_121 rfl (lv_at hl 4 rfl) ?_
                  refine xa_iast hx hb hK hP hD hS 1 0 rfl rfl (by omega) (by decide) [(h0, oF ad cn nl gr un al ab sb), (ad 5, .inl (dA, 16, .inl (upd so1 (j * 4 + q0) v))), (ad 6, .inl (dB, 4, .inl sc))] rfl dX0_takeDifferent_122 (fun H locs hP hD hS => ?_)
                  refine lv_aload_n hx hb dX0_takeDifferent_123 rfl (lv_at hl 2 rfl) ?_
                  refine x0_get hx hb hts hown hK hP 0 rfl 7 (by decide) (hts _ q30) rfl (v := .ref (ad 6)) rfl dX0_takeDifferent_124 ?_
                  refine lv_iload_n hx hb dX0_takeDifferent_127 rfl (lv_at hl 3 rfl) ?_
                  refine lv_dup2_11 hx hb dX0_takeDifferent_128 rfl rfl ?_
                  refine xa_bald hx hb hK hP 2 1 rfl rfl (k := j) (by omega) (by decide) dX0_takeDifferent_129 ?_
                  refine xw_i (y := nI k) hc ?_
                  refine lv_iconst (v := nI 1) hx hb dX0_takeDifferent_130 rfl ?_
                  refine xn_add hx hb dX0_takeDifferent_131 ?_
                  refine lv_i2b hx hb dX0_takeDifferent_132 rfl ?_
                  refine xw_i (y := nI (k + 1)) (byt_s (by omega)) ?_
                  refine xa_bast hx hb hK hP hD hS 2 1 rfl rfl (nI (k + 1)) (nar_s (by omega)) (by omega) (by decide) [(h0, oF ad cn nl gr un al ab sb), (ad 5, .inl (dA, 16, .inl (upd so1 (j * 4 + q0) v))), (ad 6, .inl (dB, 4, .inl (upd sc j (nI (k + 1)))))] rfl dX0_takeDifferent_133 (fun H locs hP hD hS => ?_)
                  exact K (upd so1 (j * 4 + q0) v, upd sc j (nI (k + 1))) _ _ _ _ (Or.inr (Or.inr ⟨hno, by omega, rfl, q0, h2, Or.inl hq0, fun z h8 h9 => (h5 z h8 h9).1, pk_us, fun z h8 h9 => by show upd _ _ _ _ = _; rw [pk_un (by omega)]; exact (h5 z h8 h9).2, fun z h8 => by show upd _ _ _ _ = _; rw [pk_un (by omega)]; exact h6 z (by omega)⟩)) hP hD hS dX0_takeDifferent_134
                · obtain ⟨q1, rfl⟩ : ∃ q1, q0 = q1 + 1 := ⟨q0 - 1, by omega⟩
                  refine lv_iload hx hb dX0_takeDifferent_59 (lv_at hl 0 rfl) ?_
                  refine xn_if_le (tgt := 111) hx hb dX0_takeDifferent_61 (by decide) (by omega) (fun c_61 => absurd c_61 (by omega)) (fun c_61 => ?_)
                  refine lv_aload_n hx hb dX0_takeDifferent_64 rfl (lv_at hl 2 rfl) ?_
                  refine x0_get hx hb hts hown hK hP 0 rfl 6 (by decide) (hts _ q29) rfl (v := .ref (ad 5)) rfl dX0_takeDifferent_65 ?_
                  refine lv_iload_n hx hb dX0_takeDifferent_68 rfl (lv_at hl 3 rfl) ?_
                  refine lv_iconst (v := nI 4) hx hb dX0_takeDifferent_69 rfl ?_
                  refine xn_mul hx hb dX0_takeDifferent_70 ?_
                  refine lv_iload hx hb dX0_takeDifferent_71 (lv_at hl 0 rfl) ?_
                  refine xn_add hx hb dX0_takeDifferent_73 ?_
                  refine lv_iconst (v := nI 1) hx hb dX0_takeDifferent_74 rfl ?_
                  refine xn_sub hx hb (by omega) dX0_takeDifferent_75 ?_
                  refine xa_iald hx hb hK hP 1 0 rfl rfl (k := j * 4 + (q1 + 1) - 1) (by omega) (by decide) dX0_takeDifferent_76 ?_
                  refine lv_iload_n hx hb dX0_takeDifferent_77 rfl (lv_at hl 4 rfl) ?_
                  refine lv_icmp_le (tgt := 111) hx hb dX0_takeDifferent_78 (by decide) (fun c_78 => ?_) (fun c_78 => ?_)
                  · refine lv_aload_n hx hb dX0_takeDifferent_111 rfl (lv_at hl 2 rfl) ?_
                    refine x0_get hx hb hts hown hK hP 0 rfl 6 (by decide) (hts _ q29) rfl (v := .ref (ad 5)) rfl dX0_takeDifferent_112 ?_
                    refine lv_iload_n hx hb dX0_takeDifferent_115 rfl (lv_at hl 3 rfl) ?_
                    refine lv_iconst (v := nI 4) hx hb dX0_takeDifferent_116 rfl ?_
                    refine xn_mul hx hb dX0_takeDifferent_117 ?_
                    refine lv_iload hx hb dX0_takeDifferent_118 (lv_at hl 0 rfl) ?_
                    refine xn_add hx hb dX0_takeDifferent_120 ?_
                    refine lv_iload_n hx hb dX0_takeDifferent_121 rfl (lv_at hl 4 rfl) ?_
                    refine xa_iast hx hb hK hP hD hS 1 0 rfl rfl (by omega) (by decide) [(h0, oF ad cn nl gr un al ab sb), (ad 5, .inl (dA, 16, .inl (upd so1 (j * 4 + (q1 + 1)) v))), (ad 6, .inl (dB, 4, .inl sc))] rfl dX0_takeDifferent_122 (fun H locs hP hD hS => ?_)
                    refine lv_aload_n hx hb dX0_takeDifferent_123 rfl (lv_at hl 2 rfl) ?_
                    refine x0_get hx hb hts hown hK hP 0 rfl 7 (by decide) (hts _ q30) rfl (v := .ref (ad 6)) rfl dX0_takeDifferent_124 ?_
                    refine lv_iload_n hx hb dX0_takeDifferent_127 rfl (lv_at hl 3 rfl) ?_
                    refine lv_dup2_11 hx hb dX0_takeDifferent_128 rfl rfl ?_
                    refine xa_bald hx hb hK hP 2 1 rfl rfl (k := j) (by omega) (by decide) dX0_takeDifferent_129 ?_
                    refine xw_i (y := nI k) hc ?_
                    refine lv_iconst (v := nI 1) hx hb dX0_takeDifferent_130 rfl ?_
                    refine xn_add hx hb dX0_takeDifferent_131 ?_
                    refine lv_i2b hx hb dX0_takeDifferent_132 rfl ?_
                    refine xw_i (y := nI (k + 1)) (byt_s (by omega)) ?_
                    refine xa_bast hx hb hK hP hD hS 2 1 rfl rfl (nI (k + 1)) (nar_s (by omega)) (by omega) (by decide) [(h0, oF ad cn nl gr un al ab sb), (ad 5, .inl (dA, 16, .inl (upd so1 (j * 4 + (q1 + 1)) v))), (ad 6, .inl (dB, 4, .inl (upd sc j (nI (k + 1)))))] rfl dX0_takeDifferent_133 (fun H locs hP hD hS => ?_)
                    exact K (upd so1 (j * 4 + (q1 + 1)) v, upd sc j (nI (k + 1))) _ _ _ _ (Or.inr (Or.inr ⟨hno, by omega, rfl, q1 + 1, h2, Or.inr (fun e9 => by have e8 := h6 (j * 4 + (q1 + 1) - 1) (by omega); rw [e8, Int32.le_iff_toInt_le] at c_78; rw [Int32.lt_iff_toInt_lt] at e9; omega), fun z h8 h9 => (h5 z h8 h9).1, pk_us, fun z h8 h9 => by show upd _ _ _ _ = _; rw [pk_un (by omega)]; exact (h5 z h8 h9).2, fun z h8 => by show upd _ _ _ _ = _; rw [pk_un (by omega)]; exact h6 z (by omega)⟩)) hP hD hS dX0_takeDifferent_134
                  · refine lv_aload_n hx hb dX0_takeDifferent_81 rfl (lv_at hl 2 rfl) ?_
                    refine x0_get hx hb hts hown hK hP 0 rfl 6 (by decide) (hts _ q29) rfl (v := .ref (ad 5)) rfl dX0_takeDifferent_82 ?_
                    refine lv_iload_n hx hb dX0_takeDifferent_85 rfl (lv_at hl 3 rfl) ?_
                    refine lv_iconst (v := nI 4) hx hb dX0_takeDifferent_86 rfl ?_
                    refine xn_mul hx hb dX0_takeDifferent_87 ?_
                    refine lv_iload hx hb dX0_takeDifferent_88 (lv_at hl 0 rfl) ?_
                    refine xn_add hx hb dX0_takeDifferent_90 ?_
                    refine lv_aload_n hx hb dX0_takeDifferent_91 rfl (lv_at hl 2 rfl) ?_
                    refine x0_get hx hb hts hown hK hP 0 rfl 6 (by decide) (hts _ q29) rfl (v := .ref (ad 5)) rfl dX0_takeDifferent_92 ?_
                    refine lv_iload_n hx hb dX0_takeDifferent_95 rfl (lv_at hl 3 rfl) ?_
                    refine lv_iconst (v := nI 4) hx hb dX0_takeDifferent_96 rfl ?_
                    refine xn_mul hx hb dX0_takeDifferent_97 ?_
                    refine lv_iload hx hb dX0_takeDifferent_98 (lv_at hl 0 rfl) ?_
                    refine xn_add hx hb dX0_takeDifferent_100 ?_
                    refine lv_iconst (v := nI 1) hx hb dX0_takeDifferent_101 rfl ?_
                    refine xn_sub hx hb (by omega) dX0_takeDifferent_102 ?_
                    refine xa_iald hx hb hK hP 1 0 rfl rfl (k := j * 4 + (q1 + 1) - 1) (by omega) (by decide) dX0_takeDifferent_103 ?_
                    refine xa_iast hx hb hK hP hD hS 1 0 rfl rfl (by omega) (by decide) [(h0, oF ad cn nl gr un al ab sb), (ad 5, .inl (dA, 16, .inl (upd so1 (j * 4 + (q1 + 1)) (so1 (j * 4 + (q1 + 1) - 1))))), (ad 6, .inl (dB, 4, .inl sc))] rfl dX0_takeDifferent_104 (fun H locs hP hD hS => ?_)
                    refine lv_iinc (v := nI q1) (lv' := [(4, .int (nI q1)), (3, .int (nI k)), (0, .ref h0), (1, .int (nI j)), (2, .int v)]) hx hb dX0_takeDifferent_105 hl (k := 0) rfl (pk_m1 _) (by decide) rfl (fun ls hl => ?_)
                    refine lv_goto (tgt := 59) hx hb dX0_takeDifferent_108 (by decide) ?_
                    refine ih2 q1 _ (by omega) (by omega) (fun z h8 h9 => ?_) (fun z h8 => ?_) H locs hP hD hS ls (lv_sub hl [0, 1, 2, 3, 4] rfl)
                    · rcases Nat.lt_or_ge q1 z with h10 | h10
                      · rw [pk_un (by omega)]; exact h5 z (by omega) h9
                      · have e7 : z = q1 := by omega
                        subst e7
                        have e8 := h6 (j * 4 + (z + 1) - 1) (by omega)
                        have e9 : j * 4 + (z + 1) - 1 = j * 4 + z := by omega
                        rw [e9] at e8 c_78
                        refine ⟨?_, ?_⟩
                        · rw [← e8, Int32.lt_iff_toInt_lt]; rw [Int32.le_iff_toInt_le] at c_78; omega
                        · rw [show j * 4 + z + 1 = j * 4 + (z + 1) by omega, pk_us, e9]; exact e8
                    · rw [pk_un (by omega)]; exact h6 z (by omega)
            exact loop2 (k + 1) k so (by omega) (by omega) (fun z h8 h9 => absurd h8 (by omega)) (fun z _ => rfl) H locs hP hD hS ls (lv_sub hl [0, 1, 2, 3, 4] rfl)
          · refine lv_aload_n hx hb dX0_takeDifferent_48 rfl (lv_at hl 2 rfl) ?_
            refine x0_get hx hb hts hown hK hP 0 rfl 7 (by decide) (hts _ q30) rfl (v := .ref (ad 6)) rfl dX0_takeDifferent_49 ?_
            refine lv_iload_n hx hb dX0_takeDifferent_52 rfl (lv_at hl 3 rfl) ?_
            refine lv_iconst (v := nI 4) hx hb dX0_takeDifferent_53 rfl ?_
            refine xa_bast hx hb hK hP hD hS 2 1 rfl rfl (nI 4) (nar_s (by omega)) (by omega) (by decide) [(h0, oF ad cn nl gr un al ab sb), (ad 5, .inl (dA, 16, .inl so)), (ad 6, .inl (dB, 4, .inl (upd sc j (nI 4))))] rfl dX0_takeDifferent_54 (fun H locs hP hD hS => ?_)
            exact K (so, upd sc j (nI 4)) _ _ _ _ (Or.inr (Or.inl ⟨fun h8 q hq => h3 h8 q (by omega), c_45, rfl, rfl⟩)) hP hD hS dX0_takeDifferent_55
        · refine lv_aload_n hx hb dX0_takeDifferent_21 rfl (lv_at hl 2 rfl) ?_
          refine x0_get hx hb hts hown hK hP 0 rfl 6 (by decide) (hts _ q29) rfl (v := .ref (ad 5)) rfl dX0_takeDifferent_22 ?_
          refine lv_iload_n hx hb dX0_takeDifferent_25 rfl (lv_at hl 3 rfl) ?_
          refine lv_iconst (v := nI 4) hx hb dX0_takeDifferent_26 rfl ?_
          refine xn_mul hx hb dX0_takeDifferent_27 ?_
          refine lv_iload hx hb dX0_takeDifferent_28 (lv_at hl 0 rfl) ?_
          refine xn_add hx hb dX0_takeDifferent_30 ?_
          refine xa_iald hx hb hK hP 1 0 rfl rfl (k := j * 4 + i) (by omega) (by decide) dX0_takeDifferent_31 ?_
          refine lv_iload_n hx hb dX0_takeDifferent_32 rfl (lv_at hl 4 rfl) ?_
          refine lv_icmp_ne (tgt := 37) hx hb dX0_takeDifferent_33 (by decide) (fun c_33 => ?_) (fun c_33 => ?_)
          · refine lv_iinc (v := nI (i + 1)) (lv' := [(4, .int (nI (i + 1))), (3, .int (nI k)), (0, .ref h0), (1, .int (nI j)), (2, .int v)]) hx hb dX0_takeDifferent_37 hl (k := 0) rfl (nI_add _ 1) (by decide) rfl (fun ls hl => ?_)
            refine lv_goto (tgt := 10) hx hb dX0_takeDifferent_40 (by decide) ?_
            exact ih (i + 1) (by omega) (by omega) (fun h q hq => by rcases Nat.lt_or_ge q i with z | z; exact h3 h q z; rw [show q = i by omega]; exact c_33) ls (lv_sub hl [0, 1, 2, 3, 4] rfl)
          · exact K (so, sc) _ _ _ _ (Or.inl ⟨c_18, ⟨i, c_13, c_33⟩, rfl, rfl⟩) hP hD hS dX0_takeDifferent_36
  exact loop (k + 1) 0 (by omega) (by omega) (fun _ q hq => absurd hq (by omega)) ls (lv_sub hl [0, 1, 2, 3, 4] rfl)
end
section
theorem drw_a {ac up : Int32} (ha : ¬ ac = 0) (h1 : -200 ≤ ac.toInt ∧ ac.toInt ≤ 200) : 0 < Int.gcd ac.toInt up.toInt ∧ Int.gcd ac.toInt up.toInt ≤ 200 := by
  have hz : ac.toInt ≠ 0 := fun e => ha (Int32.toInt_inj.mp e)
  have h3 : Int.gcd ac.toInt up.toInt = Nat.gcd ac.toInt.natAbs up.toInt.natAbs := rfl
  refine ⟨?_, ?_⟩
  · rw [h3]; exact Nat.gcd_pos_of_pos_left _ (Int.natAbs_pos.mpr hz)
  · have h2 := Nat.le_of_dvd (Int.natAbs_pos.mpr hz) (Nat.gcd_dvd_left ac.toInt.natAbs up.toInt.natAbs)
    rw [h3]
    omega
theorem okw_sub {x y : Int32} (hx : okw x) (hy : okw y) : -200 ≤ (x - y).toInt ∧ (x - y).toInt ≤ 200 := by
  obtain ⟨h1, h2⟩ := hx
  obtain ⟨h3, h4⟩ := hy
  rw [Int32.toInt_sub, Int.bmod_eq_of_le (by omega) (by omega)]
  omega
theorem mul_sg {x sg : Int32} (h : sg = 1 ∨ sg = -1) (h1 : -200 ≤ x.toInt ∧ x.toInt ≤ 200) : (sg * x).toInt = sg.toInt * x.toInt := by
  rw [Int32.toInt_mul]
  rcases h with h | h
  · subst h
    have e : (1 : Int32).toInt = 1 := rfl
    rw [e, Int.bmod_eq_of_le (by omega) (by omega)]
  · subst h
    have e : (-1 : Int32).toInt = -1 := rfl
    rw [e, Int.bmod_eq_of_le (by omega) (by omega)]
theorem div_nI {x : Int32} {g : Nat} (hg : 0 < g) (hg2 : g ≤ 200) (h1 : -200 ≤ x.toInt ∧ x.toInt ≤ 200) : (x / nI g).toInt = x.toInt.tdiv g := by
  rw [Int32.toInt_div, nI_toInt (by omega)]
  have h2 : (x.toInt.tdiv g).natAbs ≤ x.toInt.natAbs := Int.natAbs_tdiv_le_natAbs _ _
  rw [Int.bmod_eq_of_le (by omega) (by omega)]
theorem drw_b {ac up x y sg : Int32} {g : Nat} (hg : g = Int.gcd ac.toInt up.toInt) (hg0 : 0 < g) (hg1 : g ≤ 200) (h1 : -200 ≤ ac.toInt ∧ ac.toInt ≤ 200) (h2 : -200 ≤ up.toInt ∧ up.toInt ≤ 200) (hs : sg = if 0 ≤ ac then nI 1 else (-1)) (hac : ¬ ac = 0) :
    (sg * ac / nI g).toInt = (ac.toInt.natAbs / g : Nat) ∧ (sg * up / nI g).toInt * (g : Nat) = ac.toInt.sign * up.toInt ∧ (sg * ac / nI g) * y - (sg * up / nI g) * x = (sg * ac / nI g) * y - (sg * up / nI g) * x := by
  obtain ⟨d1, hd1⟩ : ∃ d1 : Nat, ac.toInt.natAbs = g * d1 := by rw [hg]; exact Int.gcd_dvd_natAbs_left _ _
  obtain ⟨d2, hd2⟩ : ∃ d2 : Int, up.toInt = (g : Int) * d2 := by rw [hg]; exact Int.gcd_dvd_right _ _
  have hs1 : sg = 1 ∨ sg = -1 := by
    rw [hs]
    split
    · exact Or.inl rfl
    · exact Or.inr rfl
  have hb : ∀ z : Int32, (-200 ≤ z.toInt ∧ z.toInt ≤ 200) → -200 ≤ (sg * z).toInt ∧ (sg * z).toInt ≤ 200 := by
    intro z hz
    rw [mul_sg hs1 hz]
    rcases hs1 with e | e
    · rw [e, show (1 : Int32).toInt = 1 from rfl]; omega
    · rw [e, show (-1 : Int32).toInt = -1 from rfl]; omega
  have hgz : (g : Int) ≠ 0 := by omega
  refine ⟨?_, ?_, rfl⟩
  · rw [div_nI hg0 hg1 (hb ac h1), mul_sg hs1 h1]
    have e1 : sg.toInt * ac.toInt = (g : Int) * (d1 : Int) := by
      rw [← Int.natCast_mul, ← hd1, hs]
      split
      · rename_i h
        rw [Int32.le_iff_toInt_le, show (0 : Int32).toInt = 0 from rfl] at h
        rw [show (nI 1).toInt = 1 from rfl]; omega
      · rename_i h
        rw [Int32.le_iff_toInt_le, show (0 : Int32).toInt = 0 from rfl] at h
        rw [show (-1 : Int32).toInt = -1 from rfl]; omega
    rw [e1, Int.mul_tdiv_cancel_left _ hgz, hd1, Nat.mul_div_cancel_left _ hg0]
  · rw [div_nI hg0 hg1 (hb up h2), mul_sg hs1 h2, hd2]
    have e1 : sg.toInt * ((g : Int) * d2) = (g : Int) * (sg.toInt * d2) := by
      rw [← Int.mul_assoc, Int.mul_comm sg.toInt, Int.mul_assoc]
    have e3 : sg.toInt = ac.toInt.sign := by
      have hz : ac.toInt ≠ 0 := fun e => hac (Int32.toInt_inj.mp e)
      rw [hs]
      split
      · rename_i h
        rw [Int32.le_iff_toInt_le, show (0 : Int32).toInt = 0 from rfl] at h
        rw [show (nI 1).toInt = 1 from rfl, Int.sign_eq_one_of_pos (by omega)]
      · rename_i h
        rw [Int32.le_iff_toInt_le, show (0 : Int32).toInt = 0 from rfl] at h
        rw [show (-1 : Int32).toInt = -1 from rfl, Int.sign_eq_neg_one_of_neg (by omega)]
    rw [e1, Int.mul_tdiv_cancel_left _ hgz, e3, Int.mul_comm _ (g : Int), ← Int.mul_assoc, ← Int.mul_assoc, Int.mul_comm (g : Int)]

set_option maxHeartbeats 4000000 in
set_option maxRecDepth 100000 in
theorem mX0_draw (l : Launch) (dC : Nat → ClassId) (dI : Nat → Nat → Nat) (dA dB : ClassId) (sz : Nat) (h0 : Nat) (ad : Nat → Nat) (nl gr un al ab : Int32) (sb : Int64) (cn : Int32) (ls0 lp lq lr : Nat → Int32) (k : Nat) (ac up x y : Int32) (hk : k < 16) (hac : ¬ ac = 0) (h1 : -200 ≤ ac.toInt ∧ ac.toInt ≤ 200) (h2 : -200 ≤ up.toInt ∧ up.toInt ≤ 200) : Met l yX0_draw (ws_ yX0_draw cX0_draw 10 none) ({ frames := 1, cells := 0, slots := 0, locals := 25 } : Room) (va_Pc [.ref h0, .int (nI k), .int ac, .int up, .int x, .int y] (xPre (dC, dI) vwCl (xT dA dB) [(h0, oF ad cn nl gr un al ab sb), (ad 7, .inl (dB, 16, .inl ls0)), (ad 8, .inl (dA, 16, .inl lp)), (ad 9, .inl (dA, 16, .inl lq)), (ad 10, .inl (dA, 16, .inl lr))] sz)) (va_Qv (fun u => ∃ P Q R, drwR ac up x y P Q R ∧ u = (upd ls0 k (nI 2), upd lp k P, upd lq k Q, upd lr k R)) (fun u t => va_P (dC, dI) vwCl ((fun u : (Nat → Int32) × (Nat → Int32) × (Nat → Int32) × (Nat → Int32) => [(h0, oF ad cn nl gr un al ab sb), (ad 7, .inl (dB, 16, .inl u.1)), (ad 8, .inl (dA, 16, .inl u.2.1)), (ad 9, .inl (dA, 16, .inl u.2.2.1)), (ad 10, .inl (dA, 16, .inl u.2.2.2))]) u) t.heap ∧ va_D (va_A [(h0, oF ad cn nl gr un al ab sb), (ad 7, .inl (dB, 16, .inl ls0)), (ad 8, .inl (dA, 16, .inl lp)), (ad 9, .inl (dA, 16, .inl lq)), (ad 10, .inl (dA, 16, .inl lr))] sz) ((fun u : (Nat → Int32) × (Nat → Int32) × (Nat → Int32) × (Nat → Int32) => [(h0, oF ad cn nl gr un al ab sb), (ad 7, .inl (dB, 16, .inl u.1)), (ad 8, .inl (dA, 16, .inl u.2.1)), (ad 9, .inl (dA, 16, .inl u.2.2.1)), (ad 10, .inl (dA, 16, .inl u.2.2.2))]) u)) (va_A [(h0, oF ad cn nl gr un al ab sb), (ad 7, .inl (dB, 16, .inl ls0)), (ad 8, .inl (dA, 16, .inl lp)), (ad 9, .inl (dA, 16, .inl lq)), (ad 10, .inl (dA, 16, .inl lr))] sz)) 0 0 (va_A [(h0, oF ad cn nl gr un al ab sb), (ad 7, .inl (dB, 16, .inl ls0)), (ad 8, .inl (dA, 16, .inl lp)), (ad 9, .inl (dA, 16, .inl lq)), (ad 10, .inl (dA, 16, .inl lr))] sz) := by
  refine xm_Qv (by decide) (Nat.le_of_ble_eq_true rfl) ?_
  intro p e s m args below meth c hx hb hml hown hts hK A hA H locs hP hD hS Q K ls hl
  have hown : s.vm.findClass RX0 = some m.cls := hown
  have hl : lv_has ls 10 [(0, .ref h0), (1, .int (nI k)), (2, .int ac), (3, .int up), (4, .int x), (5, .int y)] := hl
  obtain ⟨hg0, hg1⟩ := drw_a (up := up) hac h1
  refine lv_iload_n hx hb dX0_draw_0 rfl (lv_at hl 2 rfl) ?_
  refine lv_iload_n hx hb dX0_draw_1 rfl (lv_at hl 3 rfl) ?_
  refine xc_S [.int ac, .int up] ⟨hx, hb, hml, hown, hts⟩ (mX0_divisor l ac up h1 h2) (va_cwS 2 hts (lw_S q94 q95 q13 q96) rfl rfl rfl (by decide +kernel) ⟨Nat.le_of_ble_eq_true rfl, Nat.le_of_ble_eq_true rfl⟩) rfl hl.1 rfl (Nat.le_of_ble_eq_true rfl) dX0_draw_2 ⟨Nat.le_of_ble_eq_true rfl, Nat.le_of_ble_eq_true rfl⟩ (fun r_2 h_2 => ?_)
  subst h_2
  obtain ⟨g, hg⟩ : ∃ g : Nat, g = Int.gcd ac.toInt up.toInt := ⟨_, rfl⟩
  rw [← hg] at hg0 hg1 ⊢
  refine lv_istore (lv' := [(6, .int (nI g)), (0, .ref h0), (1, .int (nI k)), (2, .int ac), (3, .int up), (4, .int x), (5, .int y)]) hx hb dX0_draw_5 hl (by decide) rfl (fun ls hl => ?_)
  refine lv_iload_n hx hb dX0_draw_7 rfl (lv_at hl 3 rfl) ?_
  have J_8 : ∀ z_8 : Int32, z_8 = (if 0 ≤ ac then nI 1 else (-1)) → W p l e ({ frames := 1, cells := 0, slots := 0, locals := 25 } : Room) s m args below meth c H locs 0 0 Q (F0 m 16 ls [.int z_8]) := by
    intro z_8 e_8
    refine lv_istore (lv' := [(7, .int z_8), (6, .int (nI g)), (0, .ref h0), (1, .int (nI k)), (2, .int ac), (3, .int up), (4, .int x), (5, .int y)]) hx hb dX0_draw_16 hl (by decide) rfl (fun ls hl => ?_)
    refine lv_iload hx hb dX0_draw_18 (lv_at hl 1 rfl) ?_
    refine xn_if_le (tgt := 33) hx hb dX0_draw_20 (by decide) (by omega) (fun c_20 => absurd c_20 (by omega)) (fun c_20 => ?_)
    refine lv_iload hx hb dX0_draw_23 (lv_at hl 0 rfl) ?_
    refine lv_iload_n hx hb dX0_draw_25 rfl (lv_at hl 4 rfl) ?_
    refine lv_imul hx hb dX0_draw_26 ?_
    refine lv_iload hx hb dX0_draw_27 (lv_at hl 1 rfl) ?_
    refine lv_idiv hx hb dX0_draw_29 (nI_ne0 hg0 (by omega)) ?_
    refine lv_goto (tgt := 34) hx hb dX0_draw_30 (by decide) ?_
    refine lv_istore (lv' := [(8, .int ((z_8 * ac) / (nI g))), (7, .int z_8), (6, .int (nI g)), (0, .ref h0), (1, .int (nI k)), (2, .int ac), (3, .int up), (4, .int x), (5, .int y)]) hx hb dX0_draw_34 hl (by decide) rfl (fun ls hl => ?_)
    refine lv_iload hx hb dX0_draw_36 (lv_at hl 2 rfl) ?_
    refine xn_if_le (tgt := 51) hx hb dX0_draw_38 (by decide) (by omega) (fun c_38 => absurd c_38 (by omega)) (fun c_38 => ?_)
    refine lv_iload hx hb dX0_draw_41 (lv_at hl 1 rfl) ?_
    refine lv_iload_n hx hb dX0_draw_43 rfl (lv_at hl 6 rfl) ?_
    refine lv_imul hx hb dX0_draw_44 ?_
    refine lv_iload hx hb dX0_draw_45 (lv_at hl 2 rfl) ?_
    refine lv_idiv hx hb dX0_draw_47 (nI_ne0 hg0 (by omega)) ?_
    refine lv_goto (tgt := 52) hx hb dX0_draw_48 (by decide) ?_
    refine lv_istore (lv' := [(9, .int ((z_8 * up) / (nI g))), (8, .int ((z_8 * ac) / (nI g))), (7, .int z_8), (6, .int (nI g)), (0, .ref h0), (1, .int (nI k)), (2, .int ac), (3, .int up), (4, .int x), (5, .int y)]) hx hb dX0_draw_52 hl (by decide) rfl (fun ls hl => ?_)
    refine lv_aload_n hx hb dX0_draw_54 rfl (lv_at hl 4 rfl) ?_
    refine x0_get hx hb hts hown hK hP 0 rfl 12 (by decide) (hts _ q35) rfl (v := .ref (ad 7)) rfl dX0_draw_55 ?_
    refine lv_iload_n hx hb dX0_draw_58 rfl (lv_at hl 5 rfl) ?_
    refine lv_iconst (v := nI 2) hx hb dX0_draw_59 rfl ?_
    refine xa_bast hx hb hK hP hD hS 1 1 rfl rfl (nI 2) (nar_s (by omega)) (by omega) (by decide) [(h0, oF ad cn nl gr un al ab sb), (ad 7, .inl (dB, 16, .inl (upd ls0 k (nI 2)))), (ad 8, .inl (dA, 16, .inl lp)), (ad 9, .inl (dA, 16, .inl lq)), (ad 10, .inl (dA, 16, .inl lr))] rfl dX0_draw_60 (fun H locs hP hD hS => ?_)
    refine lv_aload_n hx hb dX0_draw_61 rfl (lv_at hl 4 rfl) ?_
    refine x0_get hx hb hts hown hK hP 0 rfl 13 (by decide) (hts _ q36) rfl (v := .ref (ad 8)) rfl dX0_draw_62 ?_
    refine lv_iload_n hx hb dX0_draw_65 rfl (lv_at hl 5 rfl) ?_
    refine lv_iload hx hb dX0_draw_66 (lv_at hl 1 rfl) ?_
    refine xa_iast hx hb hK hP hD hS 2 0 rfl rfl (by omega) (by decide) [(h0, oF ad cn nl gr un al ab sb), (ad 7, .inl (dB, 16, .inl (upd ls0 k (nI 2)))), (ad 8, .inl (dA, 16, .inl (upd lp k ((z_8 * ac) / (nI g))))), (ad 9, .inl (dA, 16, .inl lq)), (ad 10, .inl (dA, 16, .inl lr))] rfl dX0_draw_68 (fun H locs hP hD hS => ?_)
    refine lv_aload_n hx hb dX0_draw_69 rfl (lv_at hl 4 rfl) ?_
    refine x0_get hx hb hts hown hK hP 0 rfl 14 (by decide) (hts _ q37) rfl (v := .ref (ad 9)) rfl dX0_draw_70 ?_
    refine lv_iload_n hx hb dX0_draw_73 rfl (lv_at hl 5 rfl) ?_
    refine lv_iload hx hb dX0_draw_74 (lv_at hl 0 rfl) ?_
    refine xa_iast hx hb hK hP hD hS 3 0 rfl rfl (by omega) (by decide) [(h0, oF ad cn nl gr un al ab sb), (ad 7, .inl (dB, 16, .inl (upd ls0 k (nI 2)))), (ad 8, .inl (dA, 16, .inl (upd lp k ((z_8 * ac) / (nI g))))), (ad 9, .inl (dA, 16, .inl (upd lq k ((z_8 * up) / (nI g))))), (ad 10, .inl (dA, 16, .inl lr))] rfl dX0_draw_76 (fun H locs hP hD hS => ?_)
    refine lv_aload_n hx hb dX0_draw_77 rfl (lv_at hl 4 rfl) ?_
    refine x0_get hx hb hts hown hK hP 0 rfl 15 (by decide) (hts _ q38) rfl (v := .ref (ad 10)) rfl dX0_draw_78 ?_
    refine lv_iload_n hx hb dX0_draw_81 rfl (lv_at hl 5 rfl) ?_
    refine lv_iload hx hb dX0_draw_82 (lv_at hl 1 rfl) ?_
    refine lv_iload hx hb dX0_draw_84 (lv_at hl 9 rfl) ?_
    refine lv_imul hx hb dX0_draw_86 ?_
    refine lv_iload hx hb dX0_draw_87 (lv_at hl 0 rfl) ?_
    refine lv_iload hx hb dX0_draw_89 (lv_at hl 8 rfl) ?_
    refine lv_imul hx hb dX0_draw_91 ?_
    refine lv_isub hx hb dX0_draw_92 ?_
    refine xa_iast hx hb hK hP hD hS 4 0 rfl rfl (by omega) (by decide) [(h0, oF ad cn nl gr un al ab sb), (ad 7, .inl (dB, 16, .inl (upd ls0 k (nI 2)))), (ad 8, .inl (dA, 16, .inl (upd lp k ((z_8 * ac) / (nI g))))), (ad 9, .inl (dA, 16, .inl (upd lq k ((z_8 * up) / (nI g))))), (ad 10, .inl (dA, 16, .inl (upd lr k ((((z_8 * ac) / (nI g)) * y) - (((z_8 * up) / (nI g)) * x)))))] rfl dX0_draw_93 (fun H locs hP hD hS => ?_)
    exact K (upd ls0 k (nI 2), upd lp k ((z_8 * ac) / (nI g)), upd lq k ((z_8 * up) / (nI g)), upd lr k ((((z_8 * ac) / (nI g)) * y) - (((z_8 * up) / (nI g)) * x))) _ _ _ _ ⟨_, _, _, by rw [drwR, ← hg]; exact drw_b hg hg0 hg1 h1 h2 e_8 hac, rfl⟩ hP hD hS dX0_draw_94
  refine lv_if_ge (tgt := 15) hx hb dX0_draw_8 (by decide) (fun c_8 => ?_) (fun c_8 => ?_)
  · refine lv_iconst (v := nI 1) hx hb dX0_draw_15 rfl ?_
    exact J_8 _ (by first | rw [if_pos c_8] | rw [if_neg c_8])
  · refine lv_iconst (v := (-1)) hx hb dX0_draw_11 rfl ?_
    refine lv_goto (tgt := 16) hx hb dX0_draw_12 (by decide) ?_
    exact J_8 _ (by first | rw [if_pos c_8] | rw [if_neg c_8])
set_option maxHeartbeats 4000000 in
set_option maxRecDepth 100000 in
theorem mX0_takeLine (l : Launch) (dC : Nat → ClassId) (dI : Nat → Nat → Nat) (dA dB : ClassId) (sz : Nat) (h0 : Nat) (ad : Nat → Nat) (nl gr un al ab : Int32) (sb : Int64) (cn : Int32) (ls0 lp lq lr : Nat → Int32) (k : Nat) (x y : Int32) (hk : k < 16) (hx0 : okw x) (hy0 : okw y) (hp0 : ls0 k = nI 1 → okw (lp k) ∧ okw (lq k)) : Met l yX0_takeLine (ws_ yX0_takeLine cX0_takeLine 6 none) ({ frames := 2, cells := 0, slots := 0, locals := 54 } : Room) (va_Pc [.ref h0, .int (nI k), .int x, .int y] (xPre (dC, dI) vwCl (xT dA dB) [(h0, oF ad cn nl gr un al ab sb), (ad 7, .inl (dB, 16, .inl ls0)), (ad 8, .inl (dA, 16, .inl lp)), (ad 9, .inl (dA, 16, .inl lq)), (ad 10, .inl (dA, 16, .inl lr))] sz)) (va_Qv (fun u => tlR ls0 lp lq lr k x y u.1 u.2.1 u.2.2.1 u.2.2.2) (fun u t => va_P (dC, dI) vwCl ((fun u : (Nat → Int32) × (Nat → Int32) × (Nat → Int32) × (Nat → Int32) => [(h0, oF ad cn nl gr un al ab sb), (ad 7, .inl (dB, 16, .inl u.1)), (ad 8, .inl (dA, 16, .inl u.2.1)), (ad 9, .inl (dA, 16, .inl u.2.2.1)), (ad 10, .inl (dA, 16, .inl u.2.2.2))]) u) t.heap ∧ va_D (va_A [(h0, oF ad cn nl gr un al ab sb), (ad 7, .inl (dB, 16, .inl ls0)), (ad 8, .inl (dA, 16, .inl lp)), (ad 9, .inl (dA, 16, .inl lq)), (ad 10, .inl (dA, 16, .inl lr))] sz) ((fun u : (Nat → Int32) × (Nat → Int32) × (Nat → Int32) × (Nat → Int32) => [(h0, oF ad cn nl gr un al ab sb), (ad 7, .inl (dB, 16, .inl u.1)), (ad 8, .inl (dA, 16, .inl u.2.1)), (ad 9, .inl (dA, 16, .inl u.2.2.1)), (ad 10, .inl (dA, 16, .inl u.2.2.2))]) u)) (va_A [(h0, oF ad cn nl gr un al ab sb), (ad 7, .inl (dB, 16, .inl ls0)), (ad 8, .inl (dA, 16, .inl lp)), (ad 9, .inl (dA, 16, .inl lq)), (ad 10, .inl (dA, 16, .inl lr))] sz)) 0 0 (va_A [(h0, oF ad cn nl gr un al ab sb), (ad 7, .inl (dB, 16, .inl ls0)), (ad 8, .inl (dA, 16, .inl lp)), (ad 9, .inl (dA, 16, .inl lq)), (ad 10, .inl (dA, 16, .inl lr))] sz) := by
  refine xm_Qv (by decide) (Nat.le_of_ble_eq_true rfl) ?_
  intro p e s m args below meth c hx hb hml hown hts hK A hA H locs hP hD hS Q K ls hl
  have hown : s.vm.findClass RX0 = some m.cls := hown
  have hl : lv_has ls 6 [(0, .ref h0), (1, .int (nI k)), (2, .int x), (3, .int y)] := hl
  refine lv_aload_n hx hb dX0_takeLine_0 rfl (lv_at hl 0 rfl) ?_
  refine x0_get hx hb hts hown hK hP 0 rfl 12 (by decide) (hts _ q35) rfl (v := .ref (ad 7)) rfl dX0_takeLine_1 ?_
  refine lv_iload_n hx hb dX0_takeLine_4 rfl (lv_at hl 1 rfl) ?_
  refine xa_bald hx hb hK hP 1 1 rfl rfl (k := k) (by omega) (by decide) dX0_takeLine_5 ?_
  refine lv_if_ne (tgt := 33) hx hb dX0_takeLine_6 (by decide) (fun c_6 => ?_) (fun c_6 => ?_)
  · refine lv_aload_n hx hb dX0_takeLine_33 rfl (lv_at hl 0 rfl) ?_
    refine x0_get hx hb hts hown hK hP 0 rfl 12 (by decide) (hts _ q35) rfl (v := .ref (ad 7)) rfl dX0_takeLine_34 ?_
    refine lv_iload_n hx hb dX0_takeLine_37 rfl (lv_at hl 1 rfl) ?_
    refine xa_bald hx hb hK hP 1 1 rfl rfl (k := k) (by omega) (by decide) dX0_takeLine_38 ?_
    refine lv_iconst (v := nI 1) hx hb dX0_takeLine_39 rfl ?_
    refine lv_icmp_ne (tgt := 107) hx hb dX0_takeLine_40 (by decide) (fun c_40 => ?_) (fun c_40 => ?_)
    · refine lv_aload_n hx hb dX0_takeLine_107 rfl (lv_at hl 0 rfl) ?_
      refine x0_get hx hb hts hown hK hP 0 rfl 12 (by decide) (hts _ q35) rfl (v := .ref (ad 7)) rfl dX0_takeLine_108 ?_
      refine lv_iload_n hx hb dX0_takeLine_111 rfl (lv_at hl 1 rfl) ?_
      refine xa_bald hx hb hK hP 1 1 rfl rfl (k := k) (by omega) (by decide) dX0_takeLine_112 ?_
      refine lv_iconst (v := nI 2) hx hb dX0_takeLine_113 rfl ?_
      refine lv_icmp_ne (tgt := 150) hx hb dX0_takeLine_114 (by decide) (fun c_114 => ?_) (fun c_114 => ?_)
      · first
        | exact K (ls0, lp, lq, lr) _ _ _ _ ⟨fun z hz => ⟨rfl, rfl, rfl, rfl⟩, Or.inr (Or.inr (Or.inr (Or.inl ⟨c_40, c_89, c_94, c_40, rfl, rfl⟩)))⟩ hP hD hS dX0_takeLine_150
        | exact K (ls0, lp, lq, lr) _ _ _ _ ⟨fun z hz => ⟨rfl, rfl, rfl, rfl⟩, Or.inr (Or.inr (Or.inr (Or.inr (Or.inr (Or.inl ⟨c_114, c_140, c_114, rfl, rfl, rfl⟩)))))⟩ hP hD hS dX0_takeLine_150
        | exact K (ls0, lp, lq, lr) _ _ _ _ ⟨fun z hz => ⟨rfl, rfl, rfl, rfl⟩, Or.inr (Or.inr (Or.inr (Or.inr (Or.inr (Or.inr ⟨c_6, c_40, c_114, rfl⟩)))))⟩ hP hD hS dX0_takeLine_150
      · refine lv_aload_n hx hb dX0_takeLine_117 rfl (lv_at hl 0 rfl) ?_
        refine x0_get hx hb hts hown hK hP 0 rfl 13 (by decide) (hts _ q36) rfl (v := .ref (ad 8)) rfl dX0_takeLine_118 ?_
        refine lv_iload_n hx hb dX0_takeLine_121 rfl (lv_at hl 1 rfl) ?_
        refine xa_iald hx hb hK hP 2 0 rfl rfl (k := k) (by omega) (by decide) dX0_takeLine_122 ?_
        refine lv_iload_n hx hb dX0_takeLine_123 rfl (lv_at hl 3 rfl) ?_
        refine lv_imul hx hb dX0_takeLine_124 ?_
        refine lv_aload_n hx hb dX0_takeLine_125 rfl (lv_at hl 0 rfl) ?_
        refine x0_get hx hb hts hown hK hP 0 rfl 14 (by decide) (hts _ q37) rfl (v := .ref (ad 9)) rfl dX0_takeLine_126 ?_
        refine lv_iload_n hx hb dX0_takeLine_129 rfl (lv_at hl 1 rfl) ?_
        refine xa_iald hx hb hK hP 3 0 rfl rfl (k := k) (by omega) (by decide) dX0_takeLine_130 ?_
        refine lv_iload_n hx hb dX0_takeLine_131 rfl (lv_at hl 2 rfl) ?_
        refine lv_imul hx hb dX0_takeLine_132 ?_
        refine lv_aload_n hx hb dX0_takeLine_133 rfl (lv_at hl 0 rfl) ?_
        refine x0_get hx hb hts hown hK hP 0 rfl 15 (by decide) (hts _ q38) rfl (v := .ref (ad 10)) rfl dX0_takeLine_134 ?_
        refine lv_iload_n hx hb dX0_takeLine_137 rfl (lv_at hl 1 rfl) ?_
        refine xa_iald hx hb hK hP 4 0 rfl rfl (k := k) (by omega) (by decide) dX0_takeLine_138 ?_
        refine lv_iadd hx hb dX0_takeLine_139 ?_
        refine lv_icmp_eq (tgt := 150) hx hb dX0_takeLine_140 (by decide) (fun c_140 => ?_) (fun c_140 => ?_)
        · first
          | exact K (ls0, lp, lq, lr) _ _ _ _ ⟨fun z hz => ⟨rfl, rfl, rfl, rfl⟩, Or.inr (Or.inr (Or.inr (Or.inl ⟨c_40, c_89, c_94, c_40, rfl, rfl⟩)))⟩ hP hD hS dX0_takeLine_150
          | exact K (ls0, lp, lq, lr) _ _ _ _ ⟨fun z hz => ⟨rfl, rfl, rfl, rfl⟩, Or.inr (Or.inr (Or.inr (Or.inr (Or.inr (Or.inl ⟨c_114, c_140, c_114, rfl, rfl, rfl⟩)))))⟩ hP hD hS dX0_takeLine_150
          | exact K (ls0, lp, lq, lr) _ _ _ _ ⟨fun z hz => ⟨rfl, rfl, rfl, rfl⟩, Or.inr (Or.inr (Or.inr (Or.inr (Or.inr (Or.inr ⟨c_6, c_40, c_114, rfl⟩)))))⟩ hP hD hS dX0_takeLine_150
        · refine lv_aload_n hx hb dX0_takeLine_143 rfl (lv_at hl 0 rfl) ?_
          refine x0_get hx hb hts hown hK hP 0 rfl 12 (by decide) (hts _ q35) rfl (v := .ref (ad 7)) rfl dX0_takeLine_144 ?_
          refine lv_iload_n hx hb dX0_takeLine_147 rfl (lv_at hl 1 rfl) ?_
          refine lv_iconst (v := nI 3) hx hb dX0_takeLine_148 rfl ?_
          refine xa_bast hx hb hK hP hD hS 1 1 rfl rfl (nI 3) (nar_s (by omega)) (by omega) (by decide) [(h0, oF ad cn nl gr un al ab sb), (ad 7, .inl (dB, 16, .inl (upd ls0 k (nI 3)))), (ad 8, .inl (dA, 16, .inl lp)), (ad 9, .inl (dA, 16, .inl lq)), (ad 10, .inl (dA, 16, .inl lr))] rfl dX0_takeLine_149 (fun H locs hP hD hS => ?_)
          first
          | exact K (upd ls0 k (nI 3), lp, lq, lr) _ _ _ _ ⟨fun z hz => ⟨pk_un hz, rfl, rfl, rfl⟩, Or.inr (Or.inr (Or.inr (Or.inr (Or.inl ⟨c_114, c_140, pk_us⟩))))⟩ hP hD hS dX0_takeLine_150
          | exact K (upd ls0 k (nI 3), lp, lq, lr) _ _ _ _ ⟨fun z hz => ⟨pk_un hz, rfl, rfl, rfl⟩, Or.inr (Or.inr (Or.inl ⟨c_40, by first | exact Or.inl c_65 | exact Or.inr c_70, by first | exact Or.inl c_89 | exact Or.inr c_94, pk_us⟩))⟩ hP hD hS dX0_takeLine_150
    · refine lv_iload_n hx hb dX0_takeLine_43 rfl (lv_at hl 2 rfl) ?_
      refine lv_aload_n hx hb dX0_takeLine_44 rfl (lv_at hl 0 rfl) ?_
      refine x0_get hx hb hts hown hK hP 0 rfl 13 (by decide) (hts _ q36) rfl (v := .ref (ad 8)) rfl dX0_takeLine_45 ?_
      refine lv_iload_n hx hb dX0_takeLine_48 rfl (lv_at hl 1 rfl) ?_
      refine xa_iald hx hb hK hP 2 0 rfl rfl (k := k) (by omega) (by decide) dX0_takeLine_49 ?_
      refine lv_isub hx hb dX0_takeLine_50 ?_
      refine lv_istore (lv' := [(4, .int (x - (lp k))), (0, .ref h0), (1, .int (nI k)), (2, .int x), (3, .int y)]) hx hb dX0_takeLine_51 hl (by decide) rfl (fun ls hl => ?_)
      refine lv_iload_n hx hb dX0_takeLine_53 rfl (lv_at hl 4 rfl) ?_
      refine lv_aload_n hx hb dX0_takeLine_54 rfl (lv_at hl 1 rfl) ?_
      refine x0_get hx hb hts hown hK hP 0 rfl 14 (by decide) (hts _ q37) rfl (v := .ref (ad 9)) rfl dX0_takeLine_55 ?_
      refine lv_iload_n hx hb dX0_takeLine_58 rfl (lv_at hl 2 rfl) ?_
      refine xa_iald hx hb hK hP 3 0 rfl rfl (k := k) (by omega) (by decide) dX0_takeLine_59 ?_
      refine lv_isub hx hb dX0_takeLine_60 ?_
      refine lv_istore (lv' := [(5, .int (y - (lq k))), (4, .int (x - (lp k))), (0, .ref h0), (1, .int (nI k)), (2, .int x), (3, .int y)]) hx hb dX0_takeLine_61 hl (by decide) rfl (fun ls hl => ?_)
      refine lv_iload hx hb dX0_takeLine_63 (lv_at hl 1 rfl) ?_
      refine lv_if_eq (tgt := 87) hx hb dX0_takeLine_65 (by decide) (fun c_65 => ?_) (fun c_65 => ?_)
      · refine lv_iload hx hb dX0_takeLine_87 (lv_at hl 1 rfl) ?_
        refine lv_if_ne (tgt := 97) hx hb dX0_takeLine_89 (by decide) (fun c_89 => ?_) (fun c_89 => ?_)
        · refine lv_aload_n hx hb dX0_takeLine_97 rfl (lv_at hl 2 rfl) ?_
          refine x0_get hx hb hts hown hK hP 0 rfl 12 (by decide) (hts _ q35) rfl (v := .ref (ad 7)) rfl dX0_takeLine_98 ?_
          refine lv_iload_n hx hb dX0_takeLine_101 rfl (lv_at hl 3 rfl) ?_
          refine lv_iconst (v := nI 3) hx hb dX0_takeLine_102 rfl ?_
          refine xa_bast hx hb hK hP hD hS 1 1 rfl rfl (nI 3) (nar_s (by omega)) (by omega) (by decide) [(h0, oF ad cn nl gr un al ab sb), (ad 7, .inl (dB, 16, .inl (upd ls0 k (nI 3)))), (ad 8, .inl (dA, 16, .inl lp)), (ad 9, .inl (dA, 16, .inl lq)), (ad 10, .inl (dA, 16, .inl lr))] rfl dX0_takeLine_103 (fun H locs hP hD hS => ?_)
          refine lv_goto (tgt := 150) hx hb dX0_takeLine_104 (by decide) ?_
          first
          | exact K (upd ls0 k (nI 3), lp, lq, lr) _ _ _ _ ⟨fun z hz => ⟨pk_un hz, rfl, rfl, rfl⟩, Or.inr (Or.inr (Or.inr (Or.inr (Or.inl ⟨c_114, c_140, pk_us⟩))))⟩ hP hD hS dX0_takeLine_150
          | exact K (upd ls0 k (nI 3), lp, lq, lr) _ _ _ _ ⟨fun z hz => ⟨pk_un hz, rfl, rfl, rfl⟩, Or.inr (Or.inr (Or.inl ⟨c_40, by first | exact Or.inl c_65 | exact Or.inr c_70, by first | exact Or.inl c_89 | exact Or.inr c_94, pk_us⟩))⟩ hP hD hS dX0_takeLine_150
        · refine lv_iload hx hb dX0_takeLine_92 (lv_at hl 0 rfl) ?_
          refine lv_if_eq (tgt := 104) hx hb dX0_takeLine_94 (by decide) (fun c_94 => ?_) (fun c_94 => ?_)
          · refine lv_goto (tgt := 150) hx hb dX0_takeLine_104 (by decide) ?_
            first
            | exact K (ls0, lp, lq, lr) _ _ _ _ ⟨fun z hz => ⟨rfl, rfl, rfl, rfl⟩, Or.inr (Or.inr (Or.inr (Or.inl ⟨c_40, c_89, c_94, c_40, rfl, rfl⟩)))⟩ hP hD hS dX0_takeLine_150
            | exact K (ls0, lp, lq, lr) _ _ _ _ ⟨fun z hz => ⟨rfl, rfl, rfl, rfl⟩, Or.inr (Or.inr (Or.inr (Or.inr (Or.inr (Or.inl ⟨c_114, c_140, c_114, rfl, rfl, rfl⟩)))))⟩ hP hD hS dX0_takeLine_150
            | exact K (ls0, lp, lq, lr) _ _ _ _ ⟨fun z hz => ⟨rfl, rfl, rfl, rfl⟩, Or.inr (Or.inr (Or.inr (Or.inr (Or.inr (Or.inr ⟨c_6, c_40, c_114, rfl⟩)))))⟩ hP hD hS dX0_takeLine_150
          · refine lv_aload_n hx hb dX0_takeLine_97 rfl (lv_at hl 2 rfl) ?_
            refine x0_get hx hb hts hown hK hP 0 rfl 12 (by decide) (hts _ q35) rfl (v := .ref (ad 7)) rfl dX0_takeLine_98 ?_
            refine lv_iload_n hx hb dX0_takeLine_101 rfl (lv_at hl 3 rfl) ?_
            refine lv_iconst (v := nI 3) hx hb dX0_takeLine_102 rfl ?_
            refine xa_bast hx hb hK hP hD hS 1 1 rfl rfl (nI 3) (nar_s (by omega)) (by omega) (by decide) [(h0, oF ad cn nl gr un al ab sb), (ad 7, .inl (dB, 16, .inl (upd ls0 k (nI 3)))), (ad 8, .inl (dA, 16, .inl lp)), (ad 9, .inl (dA, 16, .inl lq)), (ad 10, .inl (dA, 16, .inl lr))] rfl dX0_takeLine_103 (fun H locs hP hD hS => ?_)
            refine lv_goto (tgt := 150) hx hb dX0_takeLine_104 (by decide) ?_
            first
            | exact K (upd ls0 k (nI 3), lp, lq, lr) _ _ _ _ ⟨fun z hz => ⟨pk_un hz, rfl, rfl, rfl⟩, Or.inr (Or.inr (Or.inr (Or.inr (Or.inl ⟨c_114, c_140, pk_us⟩))))⟩ hP hD hS dX0_takeLine_150
            | exact K (upd ls0 k (nI 3), lp, lq, lr) _ _ _ _ ⟨fun z hz => ⟨pk_un hz, rfl, rfl, rfl⟩, Or.inr (Or.inr (Or.inl ⟨c_40, by first | exact Or.inl c_65 | exact Or.inr c_70, by first | exact Or.inl c_89 | exact Or.inr c_94, pk_us⟩))⟩ hP hD hS dX0_takeLine_150
      · refine lv_iload hx hb dX0_takeLine_68 (lv_at hl 0 rfl) ?_
        refine lv_if_eq (tgt := 87) hx hb dX0_takeLine_70 (by decide) (fun c_70 => ?_) (fun c_70 => ?_)
        · refine lv_iload hx hb dX0_takeLine_87 (lv_at hl 1 rfl) ?_
          refine lv_if_ne (tgt := 97) hx hb dX0_takeLine_89 (by decide) (fun c_89 => ?_) (fun c_89 => ?_)
          · refine lv_aload_n hx hb dX0_takeLine_97 rfl (lv_at hl 2 rfl) ?_
            refine x0_get hx hb hts hown hK hP 0 rfl 12 (by decide) (hts _ q35) rfl (v := .ref (ad 7)) rfl dX0_takeLine_98 ?_
            refine lv_iload_n hx hb dX0_takeLine_101 rfl (lv_at hl 3 rfl) ?_
            refine lv_iconst (v := nI 3) hx hb dX0_takeLine_102 rfl ?_
            refine xa_bast hx hb hK hP hD hS 1 1 rfl rfl (nI 3) (nar_s (by omega)) (by omega) (by decide) [(h0, oF ad cn nl gr un al ab sb), (ad 7, .inl (dB, 16, .inl (upd ls0 k (nI 3)))), (ad 8, .inl (dA, 16, .inl lp)), (ad 9, .inl (dA, 16, .inl lq)), (ad 10, .inl (dA, 16, .inl lr))] rfl dX0_takeLine_103 (fun H locs hP hD hS => ?_)
            refine lv_goto (tgt := 150) hx hb dX0_takeLine_104 (by decide) ?_
            first
            | exact K (upd ls0 k (nI 3), lp, lq, lr) _ _ _ _ ⟨fun z hz => ⟨pk_un hz, rfl, rfl, rfl⟩, Or.inr (Or.inr (Or.inr (Or.inr (Or.inl ⟨c_114, c_140, pk_us⟩))))⟩ hP hD hS dX0_takeLine_150
            | exact K (upd ls0 k (nI 3), lp, lq, lr) _ _ _ _ ⟨fun z hz => ⟨pk_un hz, rfl, rfl, rfl⟩, Or.inr (Or.inr (Or.inl ⟨c_40, by first | exact Or.inl c_65 | exact Or.inr c_70, by first | exact Or.inl c_89 | exact Or.inr c_94, pk_us⟩))⟩ hP hD hS dX0_takeLine_150
          · refine lv_iload hx hb dX0_takeLine_92 (lv_at hl 0 rfl) ?_
            refine lv_if_eq (tgt := 104) hx hb dX0_takeLine_94 (by decide) (fun c_94 => ?_) (fun c_94 => ?_)
            · refine lv_goto (tgt := 150) hx hb dX0_takeLine_104 (by decide) ?_
              first
              | exact K (ls0, lp, lq, lr) _ _ _ _ ⟨fun z hz => ⟨rfl, rfl, rfl, rfl⟩, Or.inr (Or.inr (Or.inr (Or.inl ⟨c_40, c_89, c_94, c_40, rfl, rfl⟩)))⟩ hP hD hS dX0_takeLine_150
              | exact K (ls0, lp, lq, lr) _ _ _ _ ⟨fun z hz => ⟨rfl, rfl, rfl, rfl⟩, Or.inr (Or.inr (Or.inr (Or.inr (Or.inr (Or.inl ⟨c_114, c_140, c_114, rfl, rfl, rfl⟩)))))⟩ hP hD hS dX0_takeLine_150
              | exact K (ls0, lp, lq, lr) _ _ _ _ ⟨fun z hz => ⟨rfl, rfl, rfl, rfl⟩, Or.inr (Or.inr (Or.inr (Or.inr (Or.inr (Or.inr ⟨c_6, c_40, c_114, rfl⟩)))))⟩ hP hD hS dX0_takeLine_150
            · refine lv_aload_n hx hb dX0_takeLine_97 rfl (lv_at hl 2 rfl) ?_
              refine x0_get hx hb hts hown hK hP 0 rfl 12 (by decide) (hts _ q35) rfl (v := .ref (ad 7)) rfl dX0_takeLine_98 ?_
              refine lv_iload_n hx hb dX0_takeLine_101 rfl (lv_at hl 3 rfl) ?_
              refine lv_iconst (v := nI 3) hx hb dX0_takeLine_102 rfl ?_
              refine xa_bast hx hb hK hP hD hS 1 1 rfl rfl (nI 3) (nar_s (by omega)) (by omega) (by decide) [(h0, oF ad cn nl gr un al ab sb), (ad 7, .inl (dB, 16, .inl (upd ls0 k (nI 3)))), (ad 8, .inl (dA, 16, .inl lp)), (ad 9, .inl (dA, 16, .inl lq)), (ad 10, .inl (dA, 16, .inl lr))] rfl dX0_takeLine_103 (fun H locs hP hD hS => ?_)
              refine lv_goto (tgt := 150) hx hb dX0_takeLine_104 (by decide) ?_
              first
              | exact K (upd ls0 k (nI 3), lp, lq, lr) _ _ _ _ ⟨fun z hz => ⟨pk_un hz, rfl, rfl, rfl⟩, Or.inr (Or.inr (Or.inr (Or.inr (Or.inl ⟨c_114, c_140, pk_us⟩))))⟩ hP hD hS dX0_takeLine_150
              | exact K (upd ls0 k (nI 3), lp, lq, lr) _ _ _ _ ⟨fun z hz => ⟨pk_un hz, rfl, rfl, rfl⟩, Or.inr (Or.inr (Or.inl ⟨c_40, by first | exact Or.inl c_65 | exact Or.inr c_70, by first | exact Or.inl c_89 | exact Or.inr c_94, pk_us⟩))⟩ hP hD hS dX0_takeLine_150
        · refine lv_aload_n hx hb dX0_takeLine_73 rfl (lv_at hl 2 rfl) ?_
          refine lv_iload_n hx hb dX0_takeLine_74 rfl (lv_at hl 3 rfl) ?_
          refine lv_iload hx hb dX0_takeLine_75 (lv_at hl 1 rfl) ?_
          refine lv_iload hx hb dX0_takeLine_77 (lv_at hl 0 rfl) ?_
          refine lv_iload_n hx hb dX0_takeLine_79 rfl (lv_at hl 4 rfl) ?_
          refine lv_iload_n hx hb dX0_takeLine_80 rfl (lv_at hl 5 rfl) ?_
          refine xc_W (ci := 0) (q0 := 0) (wc := [(h0, oF ad cn nl gr un al ab sb), (ad 7, .inl (dB, 16, .inl ls0)), (ad 8, .inl (dA, 16, .inl lp)), (ad 9, .inl (dA, 16, .inl lq)), (ad 10, .inl (dA, 16, .inl lr))]) (wr := []) [.int (nI k), .int (x - lp k), .int (y - lq k), .int x, .int y] ⟨hx, hb, hml, hown, hts⟩ hK hP hD hS hA rfl rfl rfl [0, 1, 2, 3, 4] [] [0, 1, 2, 3, 4] rfl rfl rfl rfl rfl (by decide) (fun u : (Nat → Int32) × (Nat → Int32) × (Nat → Int32) × (Nat → Int32) => [(h0, oF ad cn nl gr un al ab sb), (ad 7, .inl (dB, 16, .inl u.1)), (ad 8, .inl (dA, 16, .inl u.2.1)), (ad 9, .inl (dA, 16, .inl u.2.2.1)), (ad 10, .inl (dA, 16, .inl u.2.2.2))]) (fun _ => rfl) (fun _ => rfl) rfl (mX0_draw l dC dI dA dB H.size h0 ad nl gr un al ab sb cn ls0 lp lq lr k (x - lp k) (y - lq k) x y hk c_65 (okw_sub hx0 (hp0 c_40).1) (okw_sub hy0 (hp0 c_40).2)) (cwV 5 hts (lw_V q109 q111 qs4 q13 q112) rfl rfl rfl (by decide +kernel) ⟨Nat.le_of_ble_eq_true rfl, Nat.le_of_ble_eq_true rfl⟩) rfl hl.1 rfl (Nat.le_of_ble_eq_true rfl) dX0_takeLine_81 ⟨Nat.le_of_ble_eq_true rfl, Nat.le_of_ble_eq_true rfl⟩ (fun u_81 H locs h_81 hP hD hS => ?_)
          refine lv_goto (tgt := 104) hx hb dX0_takeLine_84 (by decide) ?_
          refine lv_goto (tgt := 150) hx hb dX0_takeLine_104 (by decide) ?_
          obtain ⟨P, Q9, R, hd, rfl⟩ := h_81
          refine K (_, _, _, _) _ _ _ _ ⟨fun z hz => ⟨pk_un hz, pk_un hz, pk_un hz, pk_un hz⟩, ?_⟩ hP hD hS dX0_takeLine_150
          exact Or.inr (Or.inl ⟨c_40, c_65, c_70, pk_us, by show drwR _ _ _ _ (upd _ _ _ _) (upd _ _ _ _) (upd _ _ _ _); rw [pk_us, pk_us, pk_us]; exact hd⟩)
  · refine lv_aload_n hx hb dX0_takeLine_9 rfl (lv_at hl 0 rfl) ?_
    refine x0_get hx hb hts hown hK hP 0 rfl 12 (by decide) (hts _ q35) rfl (v := .ref (ad 7)) rfl dX0_takeLine_10 ?_
    refine lv_iload_n hx hb dX0_takeLine_13 rfl (lv_at hl 1 rfl) ?_
    refine lv_iconst (v := nI 1) hx hb dX0_takeLine_14 rfl ?_
    refine xa_bast hx hb hK hP hD hS 1 1 rfl rfl (nI 1) (nar_s (by omega)) (by omega) (by decide) [(h0, oF ad cn nl gr un al ab sb), (ad 7, .inl (dB, 16, .inl (upd ls0 k (nI 1)))), (ad 8, .inl (dA, 16, .inl lp)), (ad 9, .inl (dA, 16, .inl lq)), (ad 10, .inl (dA, 16, .inl lr))] rfl dX0_takeLine_15 (fun H locs hP hD hS => ?_)
    refine lv_aload_n hx hb dX0_takeLine_16 rfl (lv_at hl 0 rfl) ?_
    refine x0_get hx hb hts hown hK hP 0 rfl 13 (by decide) (hts _ q36) rfl (v := .ref (ad 8)) rfl dX0_takeLine_17 ?_
    refine lv_iload_n hx hb dX0_takeLine_20 rfl (lv_at hl 1 rfl) ?_
    refine lv_iload_n hx hb dX0_takeLine_21 rfl (lv_at hl 2 rfl) ?_
    refine xa_iast hx hb hK hP hD hS 2 0 rfl rfl (by omega) (by decide) [(h0, oF ad cn nl gr un al ab sb), (ad 7, .inl (dB, 16, .inl (upd ls0 k (nI 1)))), (ad 8, .inl (dA, 16, .inl (upd lp k x))), (ad 9, .inl (dA, 16, .inl lq)), (ad 10, .inl (dA, 16, .inl lr))] rfl dX0_takeLine_22 (fun H locs hP hD hS => ?_)
    refine lv_aload_n hx hb dX0_takeLine_23 rfl (lv_at hl 0 rfl) ?_
    refine x0_get hx hb hts hown hK hP 0 rfl 14 (by decide) (hts _ q37) rfl (v := .ref (ad 9)) rfl dX0_takeLine_24 ?_
    refine lv_iload_n hx hb dX0_takeLine_27 rfl (lv_at hl 1 rfl) ?_
    refine lv_iload_n hx hb dX0_takeLine_28 rfl (lv_at hl 3 rfl) ?_
    refine xa_iast hx hb hK hP hD hS 3 0 rfl rfl (by omega) (by decide) [(h0, oF ad cn nl gr un al ab sb), (ad 7, .inl (dB, 16, .inl (upd ls0 k (nI 1)))), (ad 8, .inl (dA, 16, .inl (upd lp k x))), (ad 9, .inl (dA, 16, .inl (upd lq k y))), (ad 10, .inl (dA, 16, .inl lr))] rfl dX0_takeLine_29 (fun H locs hP hD hS => ?_)
    refine lv_goto (tgt := 150) hx hb dX0_takeLine_30 (by decide) ?_
    exact K (upd ls0 k (nI 1), upd lp k x, upd lq k y, lr) _ _ _ _ ⟨fun z hz => ⟨pk_un hz, pk_un hz, pk_un hz, rfl⟩, Or.inl ⟨c_6, pk_us, pk_us, pk_us⟩⟩ hP hD hS dX0_takeLine_150
end
section
/-- what takePair does -/
def tpR (cn nl gr un al ab : Int32) (aw ls P Q R : Nat → Int32) (k : Nat) (v1 v2 : Int32) (nl' gr' un' al' ab' : Int32) (aw' ls' P' Q' R' : Nat → Int32) : Prop :=
  nl' = nl ||| (if v1 < v2 then nI 0 else bit1 k) ∧ gr' = gr ||| (if v1 ≤ v2 then nI 0 else bit1 k) ∧ un' = un ||| (if v1 = v2 then nI 0 else bit1 k) ∧ al' = al ||| (if v1 = v2 then bit1 k else nI 0) ∧
  ((cn = 0 ∧ aw' = upd aw k (v2 - v1) ∧ ab' = ab) ∨ (¬ cn = 0 ∧ aw' = aw ∧ ab' = (if v2 - v1 = aw k then ab else ab ||| bit1 k))) ∧ tlR ls P Q R k v1 v2 ls' P' Q' R'
theorem lbt_or {x : Int64} {i b : Nat} (hi : i < 64) (hb : b < 64) : lbt (x ||| (1 <<< ((nI i).toInt64 &&& 63))) b = (lbt x b || decide (b = i)) := by
  have h : ∀ k : Fin 64, ((1 : Int64) <<< ((nI k.val).toInt64 &&& 63)).toBitVec = BitVec.twoPow 64 k.val := by decide +kernel
  have h2 := h ⟨i, hi⟩
  show (x.toBitVec ||| ((1 : Int64) <<< ((nI i).toInt64 &&& 63)).toBitVec).getLsbD b = _
  rw [h2, BitVec.getLsbD_or, BitVec.getLsbD_twoPow]
  simp only [lbt]
  congr 1
  simp only [hi, decide_true, Bool.true_and]
  exact decide_eq_decide.mpr ⟨fun e => e.symm, fun e => e.symm⟩
def tvR (n : Nat) (fi le ge ga so sc : Nat → Int32) (j : Nat) (v : Int32) (k : Nat) (fi' le' ge' ga' so' sc' : Nat → Int32) : Prop :=
  (∀ z, z ≠ j → fi' z = fi z ∧ le' z = le z ∧ ge' z = ge z ∧ ga' z = ga z) ∧ (n = 0 → fi' j = v ∧ le' j = v ∧ ge' j = v ∧ ga' j = nI 0) ∧
  (0 < n → fi' j = fi j ∧ le' j = (if v < le j then v else le j) ∧ ge' j = (if ge j < v then v else ge j) ∧ ga' j = nI (Int.gcd (ga j).toInt (v - fi j).toInt)) ∧ tdR so sc j v k so' sc'
theorem if_le (v x : Int32) (z : Int32) (h : z = if x ≤ v then x else v) : z = if v < x then v else x := by
  rw [h]
  by_cases q : x ≤ v
  · rw [if_pos q, if_neg (fun w => ?_)]
    rw [Int32.le_iff_toInt_le] at q; rw [Int32.lt_iff_toInt_lt] at w; omega
  · rw [if_neg q, if_pos ?_]
    rw [Int32.le_iff_toInt_le] at q; rw [Int32.lt_iff_toInt_lt]; omega
set_option maxHeartbeats 4000000 in
set_option maxRecDepth 100000 in
theorem mX0_takePair (l : Launch) (dC : Nat → ClassId) (dI : Nat → Nat → Nat) (dA dB : ClassId) (sz : Nat) (h0 : Nat) (ad : Nat → Nat) (nl gr un al ab : Int32) (sb : Int64) (cn : Int32) (now ls0 lp lq lr aw : Nat → Int32) (i j : Nat) (hi : i < 4) (hj : j < 4) (hx0 : okw (now i)) (hy0 : okw (now j)) (hp0 : ls0 (4 * i + j) = nI 1 → okw (lp (4 * i + j)) ∧ okw (lq (4 * i + j))) : Met l yX0_takePair (ws_ yX0_takePair cX0_takePair 6 none) ({ frames := 3, cells := 0, slots := 0, locals := 79 } : Room) (va_Pc [.ref h0, .int (nI i), .int (nI j)] (xPre (dC, dI) vwCl (xT dA dB) [(h0, oF ad cn nl gr un al ab sb), (ad 0, .inl (dA, 4, .inl now)), (ad 7, .inl (dB, 16, .inl ls0)), (ad 8, .inl (dA, 16, .inl lp)), (ad 9, .inl (dA, 16, .inl lq)), (ad 10, .inl (dA, 16, .inl lr)), (ad 11, .inl (dA, 16, .inl aw))] sz)) (va_Qv (fun u => tpR cn nl gr un al ab aw ls0 lp lq lr (4 * i + j) (now i) (now j) u.1 u.2.1 u.2.2.1 u.2.2.2.1 u.2.2.2.2.1 u.2.2.2.2.2.1 u.2.2.2.2.2.2.1 u.2.2.2.2.2.2.2.1 u.2.2.2.2.2.2.2.2.1 u.2.2.2.2.2.2.2.2.2) (fun u t => va_P (dC, dI) vwCl ((fun u : Int32 × Int32 × Int32 × Int32 × Int32 × (Nat → Int32) × (Nat → Int32) × (Nat → Int32) × (Nat → Int32) × (Nat → Int32) => [(h0, oF ad cn u.1 u.2.1 u.2.2.1 u.2.2.2.1 u.2.2.2.2.1 sb), (ad 0, .inl (dA, 4, .inl now)), (ad 7, .inl (dB, 16, .inl u.2.2.2.2.2.2.1)), (ad 8, .inl (dA, 16, .inl u.2.2.2.2.2.2.2.1)), (ad 9, .inl (dA, 16, .inl u.2.2.2.2.2.2.2.2.1)), (ad 10, .inl (dA, 16, .inl u.2.2.2.2.2.2.2.2.2)), (ad 11, .inl (dA, 16, .inl u.2.2.2.2.2.1))]) u) t.heap ∧ va_D (va_A [(h0, oF ad cn nl gr un al ab sb), (ad 0, .inl (dA, 4, .inl now)), (ad 7, .inl (dB, 16, .inl ls0)), (ad 8, .inl (dA, 16, .inl lp)), (ad 9, .inl (dA, 16, .inl lq)), (ad 10, .inl (dA, 16, .inl lr)), (ad 11, .inl (dA, 16, .inl aw))] sz) ((fun u : Int32 × Int32 × Int32 × Int32 × Int32 × (Nat → Int32) × (Nat → Int32) × (Nat → Int32) × (Nat → Int32) × (Nat → Int32) => [(h0, oF ad cn u.1 u.2.1 u.2.2.1 u.2.2.2.1 u.2.2.2.2.1 sb), (ad 0, .inl (dA, 4, .inl now)), (ad 7, .inl (dB, 16, .inl u.2.2.2.2.2.2.1)), (ad 8, .inl (dA, 16, .inl u.2.2.2.2.2.2.2.1)), (ad 9, .inl (dA, 16, .inl u.2.2.2.2.2.2.2.2.1)), (ad 10, .inl (dA, 16, .inl u.2.2.2.2.2.2.2.2.2)), (ad 11, .inl (dA, 16, .inl u.2.2.2.2.2.1))]) u)) (va_A [(h0, oF ad cn nl gr un al ab sb), (ad 0, .inl (dA, 4, .inl now)), (ad 7, .inl (dB, 16, .inl ls0)), (ad 8, .inl (dA, 16, .inl lp)), (ad 9, .inl (dA, 16, .inl lq)), (ad 10, .inl (dA, 16, .inl lr)), (ad 11, .inl (dA, 16, .inl aw))] sz)) 0 0 (va_A [(h0, oF ad cn nl gr un al ab sb), (ad 0, .inl (dA, 4, .inl now)), (ad 7, .inl (dB, 16, .inl ls0)), (ad 8, .inl (dA, 16, .inl lp)), (ad 9, .inl (dA, 16, .inl lq)), (ad 10, .inl (dA, 16, .inl lr)), (ad 11, .inl (dA, 16, .inl aw))] sz) := by
  refine xm_Qv (by decide) (Nat.le_of_ble_eq_true rfl) ?_
  intro p e s m args below meth c hx hb hml hown hts hK A hA H locs hP hD hS Q K ls hl
  have hown : s.vm.findClass RX0 = some m.cls := hown
  have hl : lv_has ls 6 [(0, .ref h0), (1, .int (nI i)), (2, .int (nI j))] := hl
  refine lv_iconst (v := nI 4) hx hb dX0_takePair_0 rfl ?_
  refine lv_iload_n hx hb dX0_takePair_1 rfl (lv_at hl 1 rfl) ?_
  refine xn_mul hx hb dX0_takePair_2 ?_
  refine lv_iload_n hx hb dX0_takePair_3 rfl (lv_at hl 2 rfl) ?_
  refine xn_add hx hb dX0_takePair_4 ?_
  refine lv_istore_n (lv' := [(3, .int (nI (4 * i + j))), (0, .ref h0), (1, .int (nI i)), (2, .int (nI j))]) hx hb dX0_takePair_5 rfl hl (by decide) rfl (fun ls hl => ?_)
  refine lv_iconst (v := nI 1) hx hb dX0_takePair_6 rfl ?_
  refine lv_iload_n hx hb dX0_takePair_7 rfl (lv_at hl 0 rfl) ?_
  refine lv_ishl hx hb dX0_takePair_8 ?_
  refine xw_i (y := bit1 (4 * i + j)) rfl ?_
  refine lv_istore (lv' := [(4, .int (bit1 (4 * i + j))), (3, .int (nI (4 * i + j))), (0, .ref h0), (1, .int (nI i)), (2, .int (nI j))]) hx hb dX0_takePair_9 hl (by decide) rfl (fun ls hl => ?_)
  refine lv_aload_n hx hb dX0_takePair_11 rfl (lv_at hl 2 rfl) ?_
  refine lv_dup hx hb dX0_takePair_12 rfl ?_
  refine x0_get hx hb hts hown hK hP 0 rfl 8 (by decide) (hts _ q31) rfl (v := .int nl) rfl dX0_takePair_13 ?_
  refine lv_aload_n hx hb dX0_takePair_16 rfl (lv_at hl 2 rfl) ?_
  refine x0_get hx hb hts hown hK hP 0 rfl 1 (by decide) (hts _ q24) rfl (v := .ref (ad 0)) rfl dX0_takePair_17 ?_
  refine lv_iload_n hx hb dX0_takePair_20 rfl (lv_at hl 3 rfl) ?_
  refine xa_iald hx hb hK hP 1 0 rfl rfl (k := i) (by omega) (by decide) dX0_takePair_21 ?_
  refine lv_aload_n hx hb dX0_takePair_22 rfl (lv_at hl 2 rfl) ?_
  refine x0_get hx hb hts hown hK hP 0 rfl 1 (by decide) (hts _ q24) rfl (v := .ref (ad 0)) rfl dX0_takePair_23 ?_
  refine lv_iload_n hx hb dX0_takePair_26 rfl (lv_at hl 4 rfl) ?_
  refine xa_iald hx hb hK hP 1 0 rfl rfl (k := j) (by omega) (by decide) dX0_takePair_27 ?_
  have J_28 : ∀ z_28 : Int32, z_28 = (if (now i) < (now j) then nI 0 else bit1 (4 * i + j)) → W p l e ({ frames := 3, cells := 0, slots := 0, locals := 79 } : Room) s m args below meth c H locs 0 0 Q (F0 m 37 ls [.int z_28, .int nl, .ref h0]) := by
    intro z_28 e_28
    refine lv_ior hx hb dX0_takePair_37 ?_
    refine x0_put hx hb hts hown hK hP hD hS 0 rfl 8 (by decide) (hts _ q31) rfl rfl .int (by decide +kernel) rfl rfl (Nat.le_of_ble_eq_true rfl) [(h0, oF ad cn (nl ||| z_28) gr un al ab sb), (ad 0, .inl (dA, 4, .inl now)), (ad 7, .inl (dB, 16, .inl ls0)), (ad 8, .inl (dA, 16, .inl lp)), (ad 9, .inl (dA, 16, .inl lq)), (ad 10, .inl (dA, 16, .inl lr)), (ad 11, .inl (dA, 16, .inl aw))] rfl dX0_takePair_38 (fun H locs hP hD hS => ?_)
    refine lv_aload_n hx hb dX0_takePair_41 rfl (lv_at hl 2 rfl) ?_
    refine lv_dup hx hb dX0_takePair_42 rfl ?_
    refine x0_get hx hb hts hown hK hP 0 rfl 9 (by decide) (hts _ q32) rfl (v := .int gr) rfl dX0_takePair_43 ?_
    refine lv_aload_n hx hb dX0_takePair_46 rfl (lv_at hl 2 rfl) ?_
    refine x0_get hx hb hts hown hK hP 0 rfl 1 (by decide) (hts _ q24) rfl (v := .ref (ad 0)) rfl dX0_takePair_47 ?_
    refine lv_iload_n hx hb dX0_takePair_50 rfl (lv_at hl 3 rfl) ?_
    refine xa_iald hx hb hK hP 1 0 rfl rfl (k := i) (by omega) (by decide) dX0_takePair_51 ?_
    refine lv_aload_n hx hb dX0_takePair_52 rfl (lv_at hl 2 rfl) ?_
    refine x0_get hx hb hts hown hK hP 0 rfl 1 (by decide) (hts _ q24) rfl (v := .ref (ad 0)) rfl dX0_takePair_53 ?_
    refine lv_iload_n hx hb dX0_takePair_56 rfl (lv_at hl 4 rfl) ?_
    refine xa_iald hx hb hK hP 1 0 rfl rfl (k := j) (by omega) (by decide) dX0_takePair_57 ?_
    have J_58 : ∀ z_58 : Int32, z_58 = (if (now i) ≤ (now j) then nI 0 else bit1 (4 * i + j)) → W p l e ({ frames := 3, cells := 0, slots := 0, locals := 79 } : Room) s m args below meth c H locs 0 0 Q (F0 m 67 ls [.int z_58, .int gr, .ref h0]) := by
      intro z_58 e_58
      refine lv_ior hx hb dX0_takePair_67 ?_
      refine x0_put hx hb hts hown hK hP hD hS 0 rfl 9 (by decide) (hts _ q32) rfl rfl .int (by decide +kernel) rfl rfl (Nat.le_of_ble_eq_true rfl) [(h0, oF ad cn (nl ||| z_28) (gr ||| z_58) un al ab sb), (ad 0, .inl (dA, 4, .inl now)), (ad 7, .inl (dB, 16, .inl ls0)), (ad 8, .inl (dA, 16, .inl lp)), (ad 9, .inl (dA, 16, .inl lq)), (ad 10, .inl (dA, 16, .inl lr)), (ad 11, .inl (dA, 16, .inl aw))] rfl dX0_takePair_68 (fun H locs hP hD hS => ?_)
      refine lv_aload_n hx hb dX0_takePair_71 rfl (lv_at hl 2 rfl) ?_
      refine lv_dup hx hb dX0_takePair_72 rfl ?_
      refine x0_get hx hb hts hown hK hP 0 rfl 10 (by decide) (hts _ q33) rfl (v := .int un) rfl dX0_takePair_73 ?_
      refine lv_aload_n hx hb dX0_takePair_76 rfl (lv_at hl 2 rfl) ?_
      refine x0_get hx hb hts hown hK hP 0 rfl 1 (by decide) (hts _ q24) rfl (v := .ref (ad 0)) rfl dX0_takePair_77 ?_
      refine lv_iload_n hx hb dX0_takePair_80 rfl (lv_at hl 3 rfl) ?_
      refine xa_iald hx hb hK hP 1 0 rfl rfl (k := i) (by omega) (by decide) dX0_takePair_81 ?_
      refine lv_aload_n hx hb dX0_takePair_82 rfl (lv_at hl 2 rfl) ?_
      refine x0_get hx hb hts hown hK hP 0 rfl 1 (by decide) (hts _ q24) rfl (v := .ref (ad 0)) rfl dX0_takePair_83 ?_
      refine lv_iload_n hx hb dX0_takePair_86 rfl (lv_at hl 4 rfl) ?_
      refine xa_iald hx hb hK hP 1 0 rfl rfl (k := j) (by omega) (by decide) dX0_takePair_87 ?_
      have J_88 : ∀ z_88 : Int32, z_88 = (if (now i) = (now j) then nI 0 else bit1 (4 * i + j)) → W p l e ({ frames := 3, cells := 0, slots := 0, locals := 79 } : Room) s m args below meth c H locs 0 0 Q (F0 m 97 ls [.int z_88, .int un, .ref h0]) := by
        intro z_88 e_88
        refine lv_ior hx hb dX0_takePair_97 ?_
        refine x0_put hx hb hts hown hK hP hD hS 0 rfl 10 (by decide) (hts _ q33) rfl rfl .int (by decide +kernel) rfl rfl (Nat.le_of_ble_eq_true rfl) [(h0, oF ad cn (nl ||| z_28) (gr ||| z_58) (un ||| z_88) al ab sb), (ad 0, .inl (dA, 4, .inl now)), (ad 7, .inl (dB, 16, .inl ls0)), (ad 8, .inl (dA, 16, .inl lp)), (ad 9, .inl (dA, 16, .inl lq)), (ad 10, .inl (dA, 16, .inl lr)), (ad 11, .inl (dA, 16, .inl aw))] rfl dX0_takePair_98 (fun H locs hP hD hS => ?_)
        refine lv_aload_n hx hb dX0_takePair_101 rfl (lv_at hl 2 rfl) ?_
        refine lv_dup hx hb dX0_takePair_102 rfl ?_
        refine x0_get hx hb hts hown hK hP 0 rfl 11 (by decide) (hts _ q34) rfl (v := .int al) rfl dX0_takePair_103 ?_
        refine lv_aload_n hx hb dX0_takePair_106 rfl (lv_at hl 2 rfl) ?_
        refine x0_get hx hb hts hown hK hP 0 rfl 1 (by decide) (hts _ q24) rfl (v := .ref (ad 0)) rfl dX0_takePair_107 ?_
        refine lv_iload_n hx hb dX0_takePair_110 rfl (lv_at hl 3 rfl) ?_
        refine xa_iald hx hb hK hP 1 0 rfl rfl (k := i) (by omega) (by decide) dX0_takePair_111 ?_
        refine lv_aload_n hx hb dX0_takePair_112 rfl (lv_at hl 2 rfl) ?_
        refine x0_get hx hb hts hown hK hP 0 rfl 1 (by decide) (hts _ q24) rfl (v := .ref (ad 0)) rfl dX0_takePair_113 ?_
        refine lv_iload_n hx hb dX0_takePair_116 rfl (lv_at hl 4 rfl) ?_
        refine xa_iald hx hb hK hP 1 0 rfl rfl (k := j) (by omega) (by decide) dX0_takePair_117 ?_
        have J_118 : ∀ z_118 : Int32, z_118 = (if (now i) = (now j) then bit1 (4 * i + j) else nI 0) → W p l e ({ frames := 3, cells := 0, slots := 0, locals := 79 } : Room) s m args below meth c H locs 0 0 Q (F0 m 127 ls [.int z_118, .int al, .ref h0]) := by
          intro z_118 e_118
          refine lv_ior hx hb dX0_takePair_127 ?_
          refine x0_put hx hb hts hown hK hP hD hS 0 rfl 11 (by decide) (hts _ q34) rfl rfl .int (by decide +kernel) rfl rfl (Nat.le_of_ble_eq_true rfl) [(h0, oF ad cn (nl ||| z_28) (gr ||| z_58) (un ||| z_88) (al ||| z_118) ab sb), (ad 0, .inl (dA, 4, .inl now)), (ad 7, .inl (dB, 16, .inl ls0)), (ad 8, .inl (dA, 16, .inl lp)), (ad 9, .inl (dA, 16, .inl lq)), (ad 10, .inl (dA, 16, .inl lr)), (ad 11, .inl (dA, 16, .inl aw))] rfl dX0_takePair_128 (fun H locs hP hD hS => ?_)
          refine lv_aload_n hx hb dX0_takePair_131 rfl (lv_at hl 2 rfl) ?_
          refine x0_get hx hb hts hown hK hP 0 rfl 1 (by decide) (hts _ q24) rfl (v := .ref (ad 0)) rfl dX0_takePair_132 ?_
          refine lv_iload_n hx hb dX0_takePair_135 rfl (lv_at hl 4 rfl) ?_
          refine xa_iald hx hb hK hP 1 0 rfl rfl (k := j) (by omega) (by decide) dX0_takePair_136 ?_
          refine lv_aload_n hx hb dX0_takePair_137 rfl (lv_at hl 2 rfl) ?_
          refine x0_get hx hb hts hown hK hP 0 rfl 1 (by decide) (hts _ q24) rfl (v := .ref (ad 0)) rfl dX0_takePair_138 ?_
          refine lv_iload_n hx hb dX0_takePair_141 rfl (lv_at hl 3 rfl) ?_
          refine xa_iald hx hb hK hP 1 0 rfl rfl (k := i) (by omega) (by decide) dX0_takePair_142 ?_
          refine lv_isub hx hb dX0_takePair_143 ?_
          refine lv_istore (lv' := [(5, .int ((now j) - (now i))), (4, .int (bit1 (4 * i + j))), (3, .int (nI (4 * i + j))), (0, .ref h0), (1, .int (nI i)), (2, .int (nI j))]) hx hb dX0_takePair_144 hl (by decide) rfl (fun ls hl => ?_)
          refine lv_aload_n hx hb dX0_takePair_146 rfl (lv_at hl 3 rfl) ?_
          refine x0_get hx hb hts hown hK hP 0 rfl 0 (by decide) (hts _ q23) rfl (v := .int cn) rfl dX0_takePair_147 ?_
          refine lv_if_ne (tgt := 164) hx hb dX0_takePair_150 (by decide) (fun c_150 => ?_) (fun c_150 => ?_)
          · refine lv_iload hx hb dX0_takePair_164 (lv_at hl 0 rfl) ?_
            refine lv_aload_n hx hb dX0_takePair_166 rfl (lv_at hl 3 rfl) ?_
            refine x0_get hx hb hts hown hK hP 0 rfl 16 (by decide) (hts _ q39) rfl (v := .ref (ad 11)) rfl dX0_takePair_167 ?_
            refine lv_iload_n hx hb dX0_takePair_170 rfl (lv_at hl 2 rfl) ?_
            refine xa_iald hx hb hK hP 6 0 rfl rfl (k := 4 * i + j) (by omega) (by decide) dX0_takePair_171 ?_
            refine lv_icmp_eq (tgt := 186) hx hb dX0_takePair_172 (by decide) (fun c_172 => ?_) (fun c_172 => ?_)
            · refine lv_aload_n hx hb dX0_takePair_186 rfl (lv_at hl 3 rfl) ?_
              refine lv_iload_n hx hb dX0_takePair_187 rfl (lv_at hl 2 rfl) ?_
              refine lv_aload_n hx hb dX0_takePair_188 rfl (lv_at hl 3 rfl) ?_
              refine x0_get hx hb hts hown hK hP 0 rfl 1 (by decide) (hts _ q24) rfl (v := .ref (ad 0)) rfl dX0_takePair_189 ?_
              refine lv_iload_n hx hb dX0_takePair_192 rfl (lv_at hl 4 rfl) ?_
              refine xa_iald hx hb hK hP 1 0 rfl rfl (k := i) (by omega) (by decide) dX0_takePair_193 ?_
              refine lv_aload_n hx hb dX0_takePair_194 rfl (lv_at hl 3 rfl) ?_
              refine x0_get hx hb hts hown hK hP 0 rfl 1 (by decide) (hts _ q24) rfl (v := .ref (ad 0)) rfl dX0_takePair_195 ?_
              refine lv_iload_n hx hb dX0_takePair_198 rfl (lv_at hl 5 rfl) ?_
              refine xa_iald hx hb hK hP 1 0 rfl rfl (k := j) (by omega) (by decide) dX0_takePair_199 ?_
              refine xc_W (ci := 0) (q0 := 0) (wc := [(h0, oF ad cn (nl ||| z_28) (gr ||| z_58) (un ||| z_88) (al ||| z_118) ab sb), (ad 7, .inl (dB, 16, .inl ls0)), (ad 8, .inl (dA, 16, .inl lp)), (ad 9, .inl (dA, 16, .inl lq)), (ad 10, .inl (dA, 16, .inl lr))]) (wr := [(ad 0, .inl (dA, 4, .inl now)), (ad 11, .inl (dA, 16, .inl aw))]) [.int (nI (4 * i + j)), .int (now i), .int (now j)] ⟨hx, hb, hml, hown, hts⟩ hK hP hD hS hA rfl rfl rfl [0, 2, 3, 4, 5] [1, 6] [2, 0, 3, 4, 5, 6, 1] rfl rfl rfl rfl rfl (by decide) (fun u : (Nat → Int32) × (Nat → Int32) × (Nat → Int32) × (Nat → Int32) => [(h0, oF ad cn (nl ||| z_28) (gr ||| z_58) (un ||| z_88) (al ||| z_118) ab sb), (ad 0, .inl (dA, 4, .inl now)), (ad 7, .inl (dB, 16, .inl u.1)), (ad 8, .inl (dA, 16, .inl u.2.1)), (ad 9, .inl (dA, 16, .inl u.2.2.1)), (ad 10, .inl (dA, 16, .inl u.2.2.2)), (ad 11, .inl (dA, 16, .inl aw))]) (fun _ => rfl) (fun _ => rfl) rfl (mX0_takeLine l dC dI dA dB H.size h0 ad (nl ||| z_28) (gr ||| z_58) (un ||| z_88) (al ||| z_118) ab sb cn ls0 lp lq lr (4 * i + j) (now i) (now j) (by omega) hx0 hy0 hp0) (cwV 3 hts (lw_V q105 q107 qs3 q13 q108) rfl rfl rfl (by decide +kernel) ⟨Nat.le_of_ble_eq_true rfl, Nat.le_of_ble_eq_true rfl⟩) rfl hl.1 rfl (Nat.le_of_ble_eq_true rfl) dX0_takePair_200 ⟨Nat.le_of_ble_eq_true rfl, Nat.le_of_ble_eq_true rfl⟩ (fun u_200 H locs h_200 hP hD hS => ?_)
              exact K (nl ||| z_28, gr ||| z_58, un ||| z_88, al ||| z_118, ab, aw, u_200.1, u_200.2.1, u_200.2.2.1, u_200.2.2.2) _ _ _ _ ⟨by rw [e_28], by rw [e_58], by rw [e_88], by rw [e_118], by first | exact Or.inl ⟨c_150, rfl, rfl⟩ | exact Or.inr ⟨c_150, rfl, by first | rw [if_pos c_172] | rw [if_neg c_172]⟩, h_200⟩ hP hD hS dX0_takePair_203
            · refine lv_aload_n hx hb dX0_takePair_175 rfl (lv_at hl 3 rfl) ?_
              refine lv_dup hx hb dX0_takePair_176 rfl ?_
              refine x0_get hx hb hts hown hK hP 0 rfl 17 (by decide) (hts _ q40) rfl (v := .int ab) rfl dX0_takePair_177 ?_
              refine lv_iload hx hb dX0_takePair_180 (lv_at hl 1 rfl) ?_
              refine lv_ior hx hb dX0_takePair_182 ?_
              refine x0_put hx hb hts hown hK hP hD hS 0 rfl 17 (by decide) (hts _ q40) rfl rfl .int (by decide +kernel) rfl rfl (Nat.le_of_ble_eq_true rfl) [(h0, oF ad cn (nl ||| z_28) (gr ||| z_58) (un ||| z_88) (al ||| z_118) (ab ||| (bit1 (4 * i + j))) sb), (ad 0, .inl (dA, 4, .inl now)), (ad 7, .inl (dB, 16, .inl ls0)), (ad 8, .inl (dA, 16, .inl lp)), (ad 9, .inl (dA, 16, .inl lq)), (ad 10, .inl (dA, 16, .inl lr)), (ad 11, .inl (dA, 16, .inl aw))] rfl dX0_takePair_183 (fun H locs hP hD hS => ?_)
              refine lv_aload_n hx hb dX0_takePair_186 rfl (lv_at hl 3 rfl) ?_
              refine lv_iload_n hx hb dX0_takePair_187 rfl (lv_at hl 2 rfl) ?_
              refine lv_aload_n hx hb dX0_takePair_188 rfl (lv_at hl 3 rfl) ?_
              refine x0_get hx hb hts hown hK hP 0 rfl 1 (by decide) (hts _ q24) rfl (v := .ref (ad 0)) rfl dX0_takePair_189 ?_
              refine lv_iload_n hx hb dX0_takePair_192 rfl (lv_at hl 4 rfl) ?_
              refine xa_iald hx hb hK hP 1 0 rfl rfl (k := i) (by omega) (by decide) dX0_takePair_193 ?_
              refine lv_aload_n hx hb dX0_takePair_194 rfl (lv_at hl 3 rfl) ?_
              refine x0_get hx hb hts hown hK hP 0 rfl 1 (by decide) (hts _ q24) rfl (v := .ref (ad 0)) rfl dX0_takePair_195 ?_
              refine lv_iload_n hx hb dX0_takePair_198 rfl (lv_at hl 5 rfl) ?_
              refine xa_iald hx hb hK hP 1 0 rfl rfl (k := j) (by omega) (by decide) dX0_takePair_199 ?_
              refine xc_W (ci := 0) (q0 := 0) (wc := [(h0, oF ad cn (nl ||| z_28) (gr ||| z_58) (un ||| z_88) (al ||| z_118) (ab ||| (bit1 (4 * i + j))) sb), (ad 7, .inl (dB, 16, .inl ls0)), (ad 8, .inl (dA, 16, .inl lp)), (ad 9, .inl (dA, 16, .inl lq)), (ad 10, .inl (dA, 16, .inl lr))]) (wr := [(ad 0, .inl (dA, 4, .inl now)), (ad 11, .inl (dA, 16, .inl aw))]) [.int (nI (4 * i + j)), .int (now i), .int (now j)] ⟨hx, hb, hml, hown, hts⟩ hK hP hD hS hA rfl rfl rfl [0, 2, 3, 4, 5] [1, 6] [2, 0, 3, 4, 5, 6, 1] rfl rfl rfl rfl rfl (by decide) (fun u : (Nat → Int32) × (Nat → Int32) × (Nat → Int32) × (Nat → Int32) => [(h0, oF ad cn (nl ||| z_28) (gr ||| z_58) (un ||| z_88) (al ||| z_118) (ab ||| (bit1 (4 * i + j))) sb), (ad 0, .inl (dA, 4, .inl now)), (ad 7, .inl (dB, 16, .inl u.1)), (ad 8, .inl (dA, 16, .inl u.2.1)), (ad 9, .inl (dA, 16, .inl u.2.2.1)), (ad 10, .inl (dA, 16, .inl u.2.2.2)), (ad 11, .inl (dA, 16, .inl aw))]) (fun _ => rfl) (fun _ => rfl) rfl (mX0_takeLine l dC dI dA dB H.size h0 ad (nl ||| z_28) (gr ||| z_58) (un ||| z_88) (al ||| z_118) (ab ||| (bit1 (4 * i + j))) sb cn ls0 lp lq lr (4 * i + j) (now i) (now j) (by omega) hx0 hy0 hp0) (cwV 3 hts (lw_V q105 q107 qs3 q13 q108) rfl rfl rfl (by decide +kernel) ⟨Nat.le_of_ble_eq_true rfl, Nat.le_of_ble_eq_true rfl⟩) rfl hl.1 rfl (Nat.le_of_ble_eq_true rfl) dX0_takePair_200 ⟨Nat.le_of_ble_eq_true rfl, Nat.le_of_ble_eq_true rfl⟩ (fun u_200 H locs h_200 hP hD hS => ?_)
              exact K (nl ||| z_28, gr ||| z_58, un ||| z_88, al ||| z_118, ab ||| (bit1 (4 * i + j)), aw, u_200.1, u_200.2.1, u_200.2.2.1, u_200.2.2.2) _ _ _ _ ⟨by rw [e_28], by rw [e_58], by rw [e_88], by rw [e_118], by first | exact Or.inl ⟨c_150, rfl, rfl⟩ | exact Or.inr ⟨c_150, rfl, by first | rw [if_pos c_172] | rw [if_neg c_172]⟩, h_200⟩ hP hD hS dX0_takePair_203
          · refine lv_aload_n hx hb dX0_takePair_153 rfl (lv_at hl 3 rfl) ?_
            refine x0_get hx hb hts hown hK hP 0 rfl 16 (by decide) (hts _ q39) rfl (v := .ref (ad 11)) rfl dX0_takePair_154 ?_
            refine lv_iload_n hx hb dX0_takePair_157 rfl (lv_at hl 2 rfl) ?_
            refine lv_iload hx hb dX0_takePair_158 (lv_at hl 0 rfl) ?_
            refine xa_iast hx hb hK hP hD hS 6 0 rfl rfl (by omega) (by decide) [(h0, oF ad cn (nl ||| z_28) (gr ||| z_58) (un ||| z_88) (al ||| z_118) ab sb), (ad 0, .inl (dA, 4, .inl now)), (ad 7, .inl (dB, 16, .inl ls0)), (ad 8, .inl (dA, 16, .inl lp)), (ad 9, .inl (dA, 16, .inl lq)), (ad 10, .inl (dA, 16, .inl lr)), (ad 11, .inl (dA, 16, .inl (upd aw (4 * i + j) ((now j) - (now i)))))] rfl dX0_takePair_160 (fun H locs hP hD hS => ?_)
            refine lv_goto (tgt := 186) hx hb dX0_takePair_161 (by decide) ?_
            refine lv_aload_n hx hb dX0_takePair_186 rfl (lv_at hl 3 rfl) ?_
            refine lv_iload_n hx hb dX0_takePair_187 rfl (lv_at hl 2 rfl) ?_
            refine lv_aload_n hx hb dX0_takePair_188 rfl (lv_at hl 3 rfl) ?_
            refine x0_get hx hb hts hown hK hP 0 rfl 1 (by decide) (hts _ q24) rfl (v := .ref (ad 0)) rfl dX0_takePair_189 ?_
            refine lv_iload_n hx hb dX0_takePair_192 rfl (lv_at hl 4 rfl) ?_
            refine xa_iald hx hb hK hP 1 0 rfl rfl (k := i) (by omega) (by decide) dX0_takePair_193 ?_
            refine lv_aload_n hx hb dX0_takePair_194 rfl (lv_at hl 3 rfl) ?_
            refine x0_get hx hb hts hown hK hP 0 rfl 1 (by decide) (hts _ q24) rfl (v := .ref (ad 0)) rfl dX0_takePair_195 ?_
            refine lv_iload_n hx hb dX0_takePair_198 rfl (lv_at hl 5 rfl) ?_
            refine xa_iald hx hb hK hP 1 0 rfl rfl (k := j) (by omega) (by decide) dX0_takePair_199 ?_
            refine xc_W (ci := 0) (q0 := 0) (wc := [(h0, oF ad cn (nl ||| z_28) (gr ||| z_58) (un ||| z_88) (al ||| z_118) ab sb), (ad 7, .inl (dB, 16, .inl ls0)), (ad 8, .inl (dA, 16, .inl lp)), (ad 9, .inl (dA, 16, .inl lq)), (ad 10, .inl (dA, 16, .inl lr))]) (wr := [(ad 0, .inl (dA, 4, .inl now)), (ad 11, .inl (dA, 16, .inl (upd aw (4 * i + j) ((now j) - (now i)))))]) [.int (nI (4 * i + j)), .int (now i), .int (now j)] ⟨hx, hb, hml, hown, hts⟩ hK hP hD hS hA rfl rfl rfl [0, 2, 3, 4, 5] [1, 6] [2, 0, 3, 4, 5, 6, 1] rfl rfl rfl rfl rfl (by decide) (fun u : (Nat → Int32) × (Nat → Int32) × (Nat → Int32) × (Nat → Int32) => [(h0, oF ad cn (nl ||| z_28) (gr ||| z_58) (un ||| z_88) (al ||| z_118) ab sb), (ad 0, .inl (dA, 4, .inl now)), (ad 7, .inl (dB, 16, .inl u.1)), (ad 8, .inl (dA, 16, .inl u.2.1)), (ad 9, .inl (dA, 16, .inl u.2.2.1)), (ad 10, .inl (dA, 16, .inl u.2.2.2)), (ad 11, .inl (dA, 16, .inl (upd aw (4 * i + j) ((now j) - (now i)))))]) (fun _ => rfl) (fun _ => rfl) rfl (mX0_takeLine l dC dI dA dB H.size h0 ad (nl ||| z_28) (gr ||| z_58) (un ||| z_88) (al ||| z_118) ab sb cn ls0 lp lq lr (4 * i + j) (now i) (now j) (by omega) hx0 hy0 hp0) (cwV 3 hts (lw_V q105 q107 qs3 q13 q108) rfl rfl rfl (by decide +kernel) ⟨Nat.le_of_ble_eq_true rfl, Nat.le_of_ble_eq_true rfl⟩) rfl hl.1 rfl (Nat.le_of_ble_eq_true rfl) dX0_takePair_200 ⟨Nat.le_of_ble_eq_true rfl, Nat.le_of_ble_eq_true rfl⟩ (fun u_200 H locs h_200 hP hD hS => ?_)
            exact K (nl ||| z_28, gr ||| z_58, un ||| z_88, al ||| z_118, ab, upd aw (4 * i + j) ((now j) - (now i)), u_200.1, u_200.2.1, u_200.2.2.1, u_200.2.2.2) _ _ _ _ ⟨by rw [e_28], by rw [e_58], by rw [e_88], by rw [e_118], by first | exact Or.inl ⟨c_150, rfl, rfl⟩ | exact Or.inr ⟨c_150, rfl, by first | rw [if_pos c_172] | rw [if_neg c_172]⟩, h_200⟩ hP hD hS dX0_takePair_203
        refine lv_icmp_ne (tgt := 126) hx hb dX0_takePair_118 (by decide) (fun c_118 => ?_) (fun c_118 => ?_)
        · refine lv_iconst (v := nI 0) hx hb dX0_takePair_126 rfl ?_
          exact J_118 _ (by first | rw [if_pos c_118] | rw [if_neg c_118])
        · refine lv_iload hx hb dX0_takePair_121 (lv_at hl 0 rfl) ?_
          refine lv_goto (tgt := 127) hx hb dX0_takePair_123 (by decide) ?_
          exact J_118 _ (by first | rw [if_pos c_118] | rw [if_neg c_118])
      refine lv_icmp_eq (tgt := 96) hx hb dX0_takePair_88 (by decide) (fun c_88 => ?_) (fun c_88 => ?_)
      · refine lv_iconst (v := nI 0) hx hb dX0_takePair_96 rfl ?_
        exact J_88 _ (by first | rw [if_pos c_88] | rw [if_neg c_88])
      · refine lv_iload hx hb dX0_takePair_91 (lv_at hl 0 rfl) ?_
        refine lv_goto (tgt := 97) hx hb dX0_takePair_93 (by decide) ?_
        exact J_88 _ (by first | rw [if_pos c_88] | rw [if_neg c_88])
    refine lv_icmp_le (tgt := 66) hx hb dX0_takePair_58 (by decide) (fun c_58 => ?_) (fun c_58 => ?_)
    · refine lv_iconst (v := nI 0) hx hb dX0_takePair_66 rfl ?_
      exact J_58 _ (by first | rw [if_pos c_58] | rw [if_neg c_58])
    · refine lv_iload hx hb dX0_takePair_61 (lv_at hl 0 rfl) ?_
      refine lv_goto (tgt := 67) hx hb dX0_takePair_63 (by decide) ?_
      exact J_58 _ (by first | rw [if_pos c_58] | rw [if_neg c_58])
  refine lv_icmp_lt (tgt := 36) hx hb dX0_takePair_28 (by decide) (fun c_28 => ?_) (fun c_28 => ?_)
  · refine lv_iconst (v := nI 0) hx hb dX0_takePair_36 rfl ?_
    exact J_28 _ (by first | rw [if_pos c_28] | rw [if_neg c_28])
  · refine lv_iload hx hb dX0_takePair_31 (lv_at hl 0 rfl) ?_
    refine lv_goto (tgt := 37) hx hb dX0_takePair_33 (by decide) ?_
    exact J_28 _ (by first | rw [if_pos c_28] | rw [if_neg c_28])
theorem sm_no {sb sb1 : Int64} {now : Nat → Int32} {i : Nat} (h3 : ∀ b, b < 64 → (lbt sb1 b = true ↔ (lbt sb b = true ∨ (b < i ∧ smB now b)))) (c : now (i / 16) + now (i / 4 % 4) = now (i % 4)) : ∀ b, b < 64 → (lbt sb1 b = true ↔ (lbt sb b = true ∨ (b < i + 1 ∧ smB now b))) := by
  intro b hb
  rw [h3 b hb]
  constructor
  · rintro (h | h)
    · exact Or.inl h
    · exact Or.inr ⟨by omega, h.2⟩
  · rintro (h | ⟨h1, h2⟩)
    · exact Or.inl h
    · rcases Nat.lt_or_ge b i with q | q
      · exact Or.inr ⟨q, h2⟩
      · have e : b = i := by omega
        subst e
        exact absurd c h2
theorem sm_yes {sb sb1 : Int64} {now : Nat → Int32} {i : Nat} (hi : i < 64) (h3 : ∀ b, b < 64 → (lbt sb1 b = true ↔ (lbt sb b = true ∨ (b < i ∧ smB now b)))) (c : ¬ now (i / 16) + now (i / 4 % 4) = now (i % 4)) : ∀ b, b < 64 → (lbt (sb1 ||| (1 <<< ((nI i).toInt64 &&& 63))) b = true ↔ (lbt sb b = true ∨ (b < i + 1 ∧ smB now b))) := by
  intro b hb
  rw [lbt_or hi hb, Bool.or_eq_true, h3 b hb, decide_eq_true_eq]
  constructor
  · rintro ((h | h) | h)
    · exact Or.inl h
    · exact Or.inr ⟨by omega, h.2⟩
    · subst h
      exact Or.inr ⟨by omega, c⟩
  · rintro (h | ⟨h1, h2⟩)
    · exact Or.inl (Or.inl h)
    · rcases Nat.lt_or_ge b i with q | q
      · exact Or.inl (Or.inr ⟨q, h2⟩)
      · exact Or.inr (by omega)
set_option maxHeartbeats 4000000 in
set_option maxRecDepth 100000 in
theorem mX0_takeSums (l : Launch) (dC : Nat → ClassId) (dI : Nat → Nat → Nat) (dA dB : ClassId) (sz : Nat) (h0 : Nat) (ad : Nat → Nat) (nl gr un al ab : Int32) (sb : Int64) (cn : Int32) (now : Nat → Int32) : Met l yX0_takeSums (ws_ yX0_takeSums cX0_takeSums 3 none) rmz (va_Pc [.ref h0] (xPre (dC, dI) vwCl (xT dA dB) [(h0, oF ad cn nl gr un al ab sb), (ad 0, .inl (dA, 4, .inl now))] sz)) (va_Qv (fun u => ∀ b, b < 64 → (lbt u b = true ↔ (lbt sb b = true ∨ smB now b))) (fun u t => va_P (dC, dI) vwCl ((fun u : Int64 => [(h0, oF ad cn nl gr un al ab u), (ad 0, .inl (dA, 4, .inl now))]) u) t.heap ∧ va_D (va_A [(h0, oF ad cn nl gr un al ab sb), (ad 0, .inl (dA, 4, .inl now))] sz) ((fun u : Int64 => [(h0, oF ad cn nl gr un al ab u), (ad 0, .inl (dA, 4, .inl now))]) u)) (va_A [(h0, oF ad cn nl gr un al ab sb), (ad 0, .inl (dA, 4, .inl now))] sz)) 0 0 (va_A [(h0, oF ad cn nl gr un al ab sb), (ad 0, .inl (dA, 4, .inl now))] sz) := by
  refine xm_Qv (by decide) (Nat.le_of_ble_eq_true rfl) ?_
  intro p e s m args below meth c hx hb hml hown hts hK A hA H locs hP hD hS Q K ls hl
  have hown : s.vm.findClass RX0 = some m.cls := hown
  have hl : lv_has ls 3 [(0, .ref h0)] := hl
  refine lv_iconst (v := nI 0) hx hb dX0_takeSums_0 rfl ?_
  refine lv_istore_n (lv' := [(1, .int (nI 0)), (0, .ref h0)]) hx hb dX0_takeSums_1 rfl hl (by decide) rfl (fun ls hl => ?_)
  have loop : ∀ (f i : Nat) (sb1 : Int64), 65 ≤ i + f → i ≤ 64 → (∀ b, b < 64 → (lbt sb1 b = true ↔ (lbt sb b = true ∨ (b < i ∧ smB now b)))) → ∀ (H : Heap) (locs : List Loc), va_P (dC, dI) vwCl [(h0, oF ad cn nl gr un al ab sb1), (ad 0, .inl (dA, 4, .inl now))] H → va_D A [(h0, oF ad cn nl gr un al ab sb1), (ad 0, .inl (dA, 4, .inl now))] → va_S A s.heap H locs → ∀ ls : Array Slot, lv_has ls 3 [(1, .int (nI i)), (0, .ref h0)] → W p l e rmz s m args below meth c H locs 0 0 Q (F0 m 2 ls []) := by
    intro f
    induction f with
    | zero =>
      intro i sb1 h1 h2
      exact absurd h1 (by omega)
    | succ f ih =>
      intro i sb1 h1 h2 h3 H locs hP hD hS ls hl
      refine lv_iload_n hx hb dX0_takeSums_2 rfl (lv_at hl 0 rfl) ?_
      refine lv_bipush (v := nI 64) hx hb dX0_takeSums_3 rfl ?_
      refine xn_ge (tgt := 58) hx hb dX0_takeSums_5 (by decide) (by omega) (by omega) (fun c_5 => ?_) (fun c_5 => ?_)
      · exact K sb1 _ _ _ _ (fun b hb => by rw [h3 b hb]; exact ⟨fun h => h.elim Or.inl (fun h => Or.inr h.2), fun h => h.elim Or.inl (fun h => Or.inr ⟨by omega, h⟩)⟩) hP hD hS dX0_takeSums_58
      · refine lv_aload_n hx hb dX0_takeSums_8 rfl (lv_at hl 1 rfl) ?_
        refine x0_get hx hb hts hown hK hP 0 rfl 1 (by decide) (hts _ q24) rfl (v := .ref (ad 0)) rfl dX0_takeSums_9 ?_
        refine lv_iload_n hx hb dX0_takeSums_12 rfl (lv_at hl 0 rfl) ?_
        refine lv_iconst (v := nI 4) hx hb dX0_takeSums_13 rfl ?_
        refine lv_ishr hx hb dX0_takeSums_14 ?_
        refine xw_i (y := nI (i / 16)) (pk_shrN (by omega) _ 4 (by decide)) ?_
        refine xa_iald hx hb hK hP 1 0 rfl rfl (k := i / 16) (by omega) (by decide) dX0_takeSums_15 ?_
        refine lv_aload_n hx hb dX0_takeSums_16 rfl (lv_at hl 1 rfl) ?_
        refine x0_get hx hb hts hown hK hP 0 rfl 1 (by decide) (hts _ q24) rfl (v := .ref (ad 0)) rfl dX0_takeSums_17 ?_
        refine lv_iload_n hx hb dX0_takeSums_20 rfl (lv_at hl 0 rfl) ?_
        refine lv_iconst (v := nI 2) hx hb dX0_takeSums_21 rfl ?_
        refine lv_ishr hx hb dX0_takeSums_22 ?_
        refine xw_i (y := nI (i / 4)) (pk_shrN (by omega) _ 2 (by decide)) ?_
        refine lv_iconst (v := nI 3) hx hb dX0_takeSums_23 rfl ?_
        refine lv_iand hx hb dX0_takeSums_24 ?_
        refine xw_i (y := nI (i / 4 % 4)) (pk_andN (by omega) 2 (by decide)) ?_
        refine xa_iald hx hb hK hP 1 0 rfl rfl (k := i / 4 % 4) (by omega) (by decide) dX0_takeSums_25 ?_
        refine lv_iadd hx hb dX0_takeSums_26 ?_
        refine lv_istore_n (lv' := [(2, .int ((now (i / 16)) + (now (i / 4 % 4)))), (1, .int (nI i)), (0, .ref h0)]) hx hb dX0_takeSums_27 rfl hl (by decide) rfl (fun ls hl => ?_)
        refine lv_iload_n hx hb dX0_takeSums_28 rfl (lv_at hl 0 rfl) ?_
        refine lv_aload_n hx hb dX0_takeSums_29 rfl (lv_at hl 2 rfl) ?_
        refine x0_get hx hb hts hown hK hP 0 rfl 1 (by decide) (hts _ q24) rfl (v := .ref (ad 0)) rfl dX0_takeSums_30 ?_
        refine lv_iload_n hx hb dX0_takeSums_33 rfl (lv_at hl 1 rfl) ?_
        refine lv_iconst (v := nI 3) hx hb dX0_takeSums_34 rfl ?_
        refine lv_iand hx hb dX0_takeSums_35 ?_
        refine xw_i (y := nI (i % 4)) (pk_andN (by omega) 2 (by decide)) ?_
        refine xa_iald hx hb hK hP 1 0 rfl rfl (k := i % 4) (by omega) (by decide) dX0_takeSums_36 ?_
        refine lv_icmp_eq (tgt := 52) hx hb dX0_takeSums_37 (by decide) (fun c_37 => ?_) (fun c_37 => ?_)
        · refine lv_iinc (v := nI (i + 1)) (lv' := [(1, .int (nI (i + 1))), (2, .int ((now (i / 16)) + (now (i / 4 % 4)))), (0, .ref h0)]) hx hb dX0_takeSums_52 hl (k := 1) rfl (nI_add _ 1) (by decide) rfl (fun ls hl => ?_)
          refine lv_goto (tgt := 2) hx hb dX0_takeSums_55 (by decide) ?_
          exact ih (i + 1) _ (by omega) (by omega) (sm_no h3 c_37) H locs hP hD hS ls (lv_sub hl [0, 2] rfl)
        · refine lv_aload_n hx hb dX0_takeSums_40 rfl (lv_at hl 2 rfl) ?_
          refine lv_dup hx hb dX0_takeSums_41 rfl ?_
          refine x0_get hx hb hts hown hK hP 0 rfl 18 (by decide) (hts _ q41) rfl (v := .long sb1) rfl dX0_takeSums_42 ?_
          refine lv_lconst (v := 1) hx hb dX0_takeSums_45 rfl ?_
          refine lv_iload_n hx hb dX0_takeSums_46 rfl (lv_at hl 1 rfl) ?_
          refine lv_lshl hx hb dX0_takeSums_47 rfl ?_
          refine lv_lor hx hb dX0_takeSums_48 ?_
          refine x0_put hx hb hts hown hK hP hD hS 0 rfl 18 (by decide) (hts _ q41) rfl rfl .long (by decide +kernel) rfl rfl (Nat.le_of_ble_eq_true rfl) [(h0, oF ad cn nl gr un al ab (sb1 ||| (1 <<< ((nI i).toInt64 &&& 63)))), (ad 0, .inl (dA, 4, .inl now))] rfl dX0_takeSums_49 (fun H locs hP hD hS => ?_)
          refine lv_iinc (v := nI (i + 1)) (lv' := [(1, .int (nI (i + 1))), (2, .int ((now (i / 16)) + (now (i / 4 % 4)))), (0, .ref h0)]) hx hb dX0_takeSums_52 hl (k := 1) rfl (nI_add _ 1) (by decide) rfl (fun ls hl => ?_)
          refine lv_goto (tgt := 2) hx hb dX0_takeSums_55 (by decide) ?_
          exact ih (i + 1) _ (by omega) (by omega) (sm_yes c_5 h3 c_37) H locs hP hD hS ls (lv_sub hl [0, 2] rfl)
  exact loop 65 0 sb (by omega) (by omega) (fun b _ => ⟨fun h => Or.inl h, fun h => h.elim id (fun h => absurd h.1 (by omega))⟩) H locs hP hD hS ls (lv_sub hl [0, 1] rfl)
theorem if_ge (v x : Int32) (z : Int32) (h : z = if v ≤ x then x else v) : z = if x < v then v else x := by
  rw [h]
  by_cases q : v ≤ x
  · rw [if_pos q, if_neg (fun w => ?_)]
    rw [Int32.le_iff_toInt_le] at q; rw [Int32.lt_iff_toInt_lt] at w; omega
  · rw [if_neg q, if_pos ?_]
    rw [Int32.le_iff_toInt_le] at q; rw [Int32.lt_iff_toInt_lt]; omega
theorem ga_ok {x : Int32} (h : ∃ g : Nat, g ≤ 200 ∧ x = nI g) : -200 ≤ x.toInt ∧ x.toInt ≤ 200 := by
  obtain ⟨g, h1, h2⟩ := h
  rw [h2, nI_toInt (by omega)]
  omega
set_option maxHeartbeats 4000000 in
set_option maxRecDepth 100000 in
theorem mX0_takeValue (l : Launch) (dC : Nat → ClassId) (dI : Nat → Nat → Nat) (dA dB : ClassId) (sz : Nat) (h0 : Nat) (ad : Nat → Nat) (nl gr un al ab : Int32) (sb : Int64) (n : Nat) (fi le ge ga so sc : Nat → Int32) (j : Nat) (v : Int32) (k : Nat) (hn : n ≤ 100) (hj : j < 4) (hk : k ≤ 4) (hc : sc j = nI k) (hv0 : okw v) (hp0 : 0 < n → okw (fi j) ∧ ∃ g : Nat, g ≤ 200 ∧ ga j = nI g) : Met l yX0_takeValue (ws_ yX0_takeValue cX0_takeValue 3 none) ({ frames := 1, cells := 0, slots := 0, locals := 25 } : Room) (va_Pc [.ref h0, .int (nI j), .int v] (xPre (dC, dI) vwCl (xT dA dB) [(h0, oF ad (nI n) nl gr un al ab sb), (ad 1, .inl (dA, 4, .inl fi)), (ad 2, .inl (dA, 4, .inl le)), (ad 3, .inl (dA, 4, .inl ge)), (ad 4, .inl (dA, 4, .inl ga)), (ad 5, .inl (dA, 16, .inl so)), (ad 6, .inl (dB, 4, .inl sc))] sz)) (va_Qv (fun u => tvR n fi le ge ga so sc j v k u.1 u.2.1 u.2.2.1 u.2.2.2.1 u.2.2.2.2.1 u.2.2.2.2.2) (fun u t => va_P (dC, dI) vwCl ((fun u : (Nat → Int32) × (Nat → Int32) × (Nat → Int32) × (Nat → Int32) × (Nat → Int32) × (Nat → Int32) => [(h0, oF ad (nI n) nl gr un al ab sb), (ad 1, .inl (dA, 4, .inl u.1)), (ad 2, .inl (dA, 4, .inl u.2.1)), (ad 3, .inl (dA, 4, .inl u.2.2.1)), (ad 4, .inl (dA, 4, .inl u.2.2.2.1)), (ad 5, .inl (dA, 16, .inl u.2.2.2.2.1)), (ad 6, .inl (dB, 4, .inl u.2.2.2.2.2))]) u) t.heap ∧ va_D (va_A [(h0, oF ad (nI n) nl gr un al ab sb), (ad 1, .inl (dA, 4, .inl fi)), (ad 2, .inl (dA, 4, .inl le)), (ad 3, .inl (dA, 4, .inl ge)), (ad 4, .inl (dA, 4, .inl ga)), (ad 5, .inl (dA, 16, .inl so)), (ad 6, .inl (dB, 4, .inl sc))] sz) ((fun u : (Nat → Int32) × (Nat → Int32) × (Nat → Int32) × (Nat → Int32) × (Nat → Int32) × (Nat → Int32) => [(h0, oF ad (nI n) nl gr un al ab sb), (ad 1, .inl (dA, 4, .inl u.1)), (ad 2, .inl (dA, 4, .inl u.2.1)), (ad 3, .inl (dA, 4, .inl u.2.2.1)), (ad 4, .inl (dA, 4, .inl u.2.2.2.1)), (ad 5, .inl (dA, 16, .inl u.2.2.2.2.1)), (ad 6, .inl (dB, 4, .inl u.2.2.2.2.2))]) u)) (va_A [(h0, oF ad (nI n) nl gr un al ab sb), (ad 1, .inl (dA, 4, .inl fi)), (ad 2, .inl (dA, 4, .inl le)), (ad 3, .inl (dA, 4, .inl ge)), (ad 4, .inl (dA, 4, .inl ga)), (ad 5, .inl (dA, 16, .inl so)), (ad 6, .inl (dB, 4, .inl sc))] sz)) 0 0 (va_A [(h0, oF ad (nI n) nl gr un al ab sb), (ad 1, .inl (dA, 4, .inl fi)), (ad 2, .inl (dA, 4, .inl le)), (ad 3, .inl (dA, 4, .inl ge)), (ad 4, .inl (dA, 4, .inl ga)), (ad 5, .inl (dA, 16, .inl so)), (ad 6, .inl (dB, 4, .inl sc))] sz) := by
  refine xm_Qv (by decide) (Nat.le_of_ble_eq_true rfl) ?_
  intro p e s m args below meth c hx hb hml hown hts hK A hA H locs hP hD hS Q K ls hl
  have hown : s.vm.findClass RX0 = some m.cls := hown
  have hl : lv_has ls 3 [(0, .ref h0), (1, .int (nI j)), (2, .int v)] := hl
  refine lv_aload_n hx hb dX0_takeValue_0 rfl (lv_at hl 0 rfl) ?_
  refine x0_get hx hb hts hown hK hP 0 rfl 0 (by decide) (hts _ q23) rfl (v := .int (nI n)) rfl dX0_takeValue_1 ?_
  refine xn_if_ne (tgt := 35) hx hb dX0_takeValue_4 (by decide) (by omega) (fun c_4 => ?_) (fun c_4 => ?_)
  · refine lv_aload_n hx hb dX0_takeValue_35 rfl (lv_at hl 0 rfl) ?_
    refine x0_get hx hb hts hown hK hP 0 rfl 3 (by decide) (hts _ q26) rfl (v := .ref (ad 2)) rfl dX0_takeValue_36 ?_
    refine lv_iload_n hx hb dX0_takeValue_39 rfl (lv_at hl 1 rfl) ?_
    refine lv_iload_n hx hb dX0_takeValue_40 rfl (lv_at hl 2 rfl) ?_
    refine lv_aload_n hx hb dX0_takeValue_41 rfl (lv_at hl 0 rfl) ?_
    refine x0_get hx hb hts hown hK hP 0 rfl 3 (by decide) (hts _ q26) rfl (v := .ref (ad 2)) rfl dX0_takeValue_42 ?_
    refine lv_iload_n hx hb dX0_takeValue_45 rfl (lv_at hl 1 rfl) ?_
    refine xa_iald hx hb hK hP 2 0 rfl rfl (k := j) (by omega) (by decide) dX0_takeValue_46 ?_
    have J_47 : ∀ z_47 : Int32, z_47 = (if (le j) ≤ v then le j else v) → W p l e ({ frames := 1, cells := 0, slots := 0, locals := 25 } : Room) s m args below meth c H locs 0 0 Q (F0 m 60 ls [.int z_47, .int (nI j), .ref (ad 2)]) := by
      intro z_47 e_47
      refine xa_iast hx hb hK hP hD hS 2 0 rfl rfl (by omega) (by decide) [(h0, oF ad (nI n) nl gr un al ab sb), (ad 1, .inl (dA, 4, .inl fi)), (ad 2, .inl (dA, 4, .inl (upd le j z_47))), (ad 3, .inl (dA, 4, .inl ge)), (ad 4, .inl (dA, 4, .inl ga)), (ad 5, .inl (dA, 16, .inl so)), (ad 6, .inl (dB, 4, .inl sc))] rfl dX0_takeValue_60 (fun H locs hP hD hS => ?_)
      refine lv_aload_n hx hb dX0_takeValue_61 rfl (lv_at hl 0 rfl) ?_
      refine x0_get hx hb hts hown hK hP 0 rfl 4 (by decide) (hts _ q27) rfl (v := .ref (ad 3)) rfl dX0_takeValue_62 ?_
      refine lv_iload_n hx hb dX0_takeValue_65 rfl (lv_at hl 1 rfl) ?_
      refine lv_iload_n hx hb dX0_takeValue_66 rfl (lv_at hl 2 rfl) ?_
      refine lv_aload_n hx hb dX0_takeValue_67 rfl (lv_at hl 0 rfl) ?_
      refine x0_get hx hb hts hown hK hP 0 rfl 4 (by decide) (hts _ q27) rfl (v := .ref (ad 3)) rfl dX0_takeValue_68 ?_
      refine lv_iload_n hx hb dX0_takeValue_71 rfl (lv_at hl 1 rfl) ?_
      refine xa_iald hx hb hK hP 3 0 rfl rfl (k := j) (by omega) (by decide) dX0_takeValue_72 ?_
      have J_73 : ∀ z_73 : Int32, z_73 = (if v ≤ (ge j) then ge j else v) → W p l e ({ frames := 1, cells := 0, slots := 0, locals := 25 } : Room) s m args below meth c H locs 0 0 Q (F0 m 86 ls [.int z_73, .int (nI j), .ref (ad 3)]) := by
        intro z_73 e_73
        refine xa_iast hx hb hK hP hD hS 3 0 rfl rfl (by omega) (by decide) [(h0, oF ad (nI n) nl gr un al ab sb), (ad 1, .inl (dA, 4, .inl fi)), (ad 2, .inl (dA, 4, .inl (upd le j z_47))), (ad 3, .inl (dA, 4, .inl (upd ge j z_73))), (ad 4, .inl (dA, 4, .inl ga)), (ad 5, .inl (dA, 16, .inl so)), (ad 6, .inl (dB, 4, .inl sc))] rfl dX0_takeValue_86 (fun H locs hP hD hS => ?_)
        refine lv_aload_n hx hb dX0_takeValue_87 rfl (lv_at hl 0 rfl) ?_
        refine x0_get hx hb hts hown hK hP 0 rfl 5 (by decide) (hts _ q28) rfl (v := .ref (ad 4)) rfl dX0_takeValue_88 ?_
        refine lv_iload_n hx hb dX0_takeValue_91 rfl (lv_at hl 1 rfl) ?_
        refine lv_aload_n hx hb dX0_takeValue_92 rfl (lv_at hl 0 rfl) ?_
        refine x0_get hx hb hts hown hK hP 0 rfl 5 (by decide) (hts _ q28) rfl (v := .ref (ad 4)) rfl dX0_takeValue_93 ?_
        refine lv_iload_n hx hb dX0_takeValue_96 rfl (lv_at hl 1 rfl) ?_
        refine xa_iald hx hb hK hP 4 0 rfl rfl (k := j) (by omega) (by decide) dX0_takeValue_97 ?_
        refine lv_iload_n hx hb dX0_takeValue_98 rfl (lv_at hl 2 rfl) ?_
        refine lv_aload_n hx hb dX0_takeValue_99 rfl (lv_at hl 0 rfl) ?_
        refine x0_get hx hb hts hown hK hP 0 rfl 2 (by decide) (hts _ q25) rfl (v := .ref (ad 1)) rfl dX0_takeValue_100 ?_
        refine lv_iload_n hx hb dX0_takeValue_103 rfl (lv_at hl 1 rfl) ?_
        refine xa_iald hx hb hK hP 1 0 rfl rfl (k := j) (by omega) (by decide) dX0_takeValue_104 ?_
        refine lv_isub hx hb dX0_takeValue_105 ?_
        refine xc_S [.int (ga j), .int (v - (fi j))] ⟨hx, hb, hml, hown, hts⟩ (mX0_divisor l (ga j) (v - (fi j)) (ga_ok (hp0 c_4).2) (okw_sub hv0 (hp0 c_4).1)) (va_cwS 2 hts (lw_S q94 q95 q13 q96) rfl rfl rfl (by decide +kernel) ⟨Nat.le_of_ble_eq_true rfl, Nat.le_of_ble_eq_true rfl⟩) rfl hl.1 rfl (Nat.le_of_ble_eq_true rfl) dX0_takeValue_106 ⟨Nat.le_of_ble_eq_true rfl, Nat.le_of_ble_eq_true rfl⟩ (fun r_106 h_106 => ?_)
        subst h_106
        refine xa_iast hx hb hK hP hD hS 4 0 rfl rfl (by omega) (by decide) [(h0, oF ad (nI n) nl gr un al ab sb), (ad 1, .inl (dA, 4, .inl fi)), (ad 2, .inl (dA, 4, .inl (upd le j z_47))), (ad 3, .inl (dA, 4, .inl (upd ge j z_73))), (ad 4, .inl (dA, 4, .inl (upd ga j (nI (Int.gcd (ga j).toInt (v - (fi j)).toInt))))), (ad 5, .inl (dA, 16, .inl so)), (ad 6, .inl (dB, 4, .inl sc))] rfl dX0_takeValue_109 (fun H locs hP hD hS => ?_)
        refine lv_aload_n hx hb dX0_takeValue_110 rfl (lv_at hl 0 rfl) ?_
        refine lv_iload_n hx hb dX0_takeValue_111 rfl (lv_at hl 1 rfl) ?_
        refine lv_iload_n hx hb dX0_takeValue_112 rfl (lv_at hl 2 rfl) ?_
        refine xc_W (ci := 0) (q0 := 0) (wc := [(h0, oF ad (nI n) nl gr un al ab sb), (ad 5, .inl (dA, 16, .inl so)), (ad 6, .inl (dB, 4, .inl sc))]) (wr := [(ad 1, .inl (dA, 4, .inl fi)), (ad 2, .inl (dA, 4, .inl (upd le j z_47))), (ad 3, .inl (dA, 4, .inl (upd ge j z_73))), (ad 4, .inl (dA, 4, .inl (upd ga j (nI (Int.gcd (ga j).toInt (v - (fi j)).toInt)))))]) [.int (nI j), .int v] ⟨hx, hb, hml, hown, hts⟩ hK hP hD hS hA rfl rfl rfl [0, 5, 6] [1, 2, 3, 4] [4, 0, 1, 2, 3, 5, 6] rfl rfl rfl rfl rfl (by decide) (fun u : (Nat → Int32) × (Nat → Int32) => [(h0, oF ad (nI n) nl gr un al ab sb), (ad 1, .inl (dA, 4, .inl fi)), (ad 2, .inl (dA, 4, .inl (upd le j z_47))), (ad 3, .inl (dA, 4, .inl (upd ge j z_73))), (ad 4, .inl (dA, 4, .inl (upd ga j (nI (Int.gcd (ga j).toInt (v - (fi j)).toInt))))), (ad 5, .inl (dA, 16, .inl u.1)), (ad 6, .inl (dB, 4, .inl u.2))]) (fun _ => rfl) (fun _ => rfl) rfl (mX0_takeDifferent l dC dI dA dB H.size h0 ad nl gr un al ab sb (nI n) so sc j v k hj hk hc) (cwV 2 hts (lw_V q97 q99 qs1 q13 q100) rfl rfl rfl (by decide +kernel) ⟨Nat.le_of_ble_eq_true rfl, Nat.le_of_ble_eq_true rfl⟩) rfl hl.1 rfl (Nat.le_of_ble_eq_true rfl) dX0_takeValue_113 ⟨Nat.le_of_ble_eq_true rfl, Nat.le_of_ble_eq_true rfl⟩ (fun u_113 H locs h_113 hP hD hS => ?_)
        exact K (fi, upd le j z_47, upd ge j z_73, upd ga j (nI (Int.gcd (ga j).toInt (v - (fi j)).toInt)), u_113.1, u_113.2) _ _ _ _ ⟨fun z hz => ⟨rfl, pk_un hz, pk_un hz, pk_un hz⟩, fun h => absurd h (by omega), fun _ => ⟨rfl, by show upd _ _ _ _ = _; rw [pk_us]; exact if_le _ _ _ e_47, by show upd _ _ _ _ = _; rw [pk_us]; exact if_ge _ _ _ e_73, pk_us⟩, h_113⟩ hP hD hS dX0_takeValue_116
      refine lv_icmp_le (tgt := 80) hx hb dX0_takeValue_73 (by decide) (fun c_73 => ?_) (fun c_73 => ?_)
      · refine lv_aload_n hx hb dX0_takeValue_80 rfl (lv_at hl 0 rfl) ?_
        refine x0_get hx hb hts hown hK hP 0 rfl 4 (by decide) (hts _ q27) rfl (v := .ref (ad 3)) rfl dX0_takeValue_81 ?_
        refine lv_iload_n hx hb dX0_takeValue_84 rfl (lv_at hl 1 rfl) ?_
        refine xa_iald hx hb hK hP 3 0 rfl rfl (k := j) (by omega) (by decide) dX0_takeValue_85 ?_
        exact J_73 _ (by first | rw [if_pos c_73] | rw [if_neg c_73])
      · refine lv_iload_n hx hb dX0_takeValue_76 rfl (lv_at hl 2 rfl) ?_
        refine lv_goto (tgt := 86) hx hb dX0_takeValue_77 (by decide) ?_
        exact J_73 _ (by first | rw [if_pos c_73] | rw [if_neg c_73])
    refine lv_icmp_ge (tgt := 54) hx hb dX0_takeValue_47 (by decide) (fun c_47 => ?_) (fun c_47 => ?_)
    · refine lv_aload_n hx hb dX0_takeValue_54 rfl (lv_at hl 0 rfl) ?_
      refine x0_get hx hb hts hown hK hP 0 rfl 3 (by decide) (hts _ q26) rfl (v := .ref (ad 2)) rfl dX0_takeValue_55 ?_
      refine lv_iload_n hx hb dX0_takeValue_58 rfl (lv_at hl 1 rfl) ?_
      refine xa_iald hx hb hK hP 2 0 rfl rfl (k := j) (by omega) (by decide) dX0_takeValue_59 ?_
      exact J_47 _ (by first | rw [if_pos c_47] | rw [if_neg c_47])
    · refine lv_iload_n hx hb dX0_takeValue_50 rfl (lv_at hl 2 rfl) ?_
      refine lv_goto (tgt := 60) hx hb dX0_takeValue_51 (by decide) ?_
      exact J_47 _ (by first | rw [if_pos c_47] | rw [if_neg c_47])
  · refine lv_aload_n hx hb dX0_takeValue_7 rfl (lv_at hl 0 rfl) ?_
    refine x0_get hx hb hts hown hK hP 0 rfl 2 (by decide) (hts _ q25) rfl (v := .ref (ad 1)) rfl dX0_takeValue_8 ?_
    refine lv_iload_n hx hb dX0_takeValue_11 rfl (lv_at hl 1 rfl) ?_
    refine lv_iload_n hx hb dX0_takeValue_12 rfl (lv_at hl 2 rfl) ?_
    refine xa_iast hx hb hK hP hD hS 1 0 rfl rfl (by omega) (by decide) [(h0, oF ad (nI n) nl gr un al ab sb), (ad 1, .inl (dA, 4, .inl (upd fi j v))), (ad 2, .inl (dA, 4, .inl le)), (ad 3, .inl (dA, 4, .inl ge)), (ad 4, .inl (dA, 4, .inl ga)), (ad 5, .inl (dA, 16, .inl so)), (ad 6, .inl (dB, 4, .inl sc))] rfl dX0_takeValue_13 (fun H locs hP hD hS => ?_)
    refine lv_aload_n hx hb dX0_takeValue_14 rfl (lv_at hl 0 rfl) ?_
    refine x0_get hx hb hts hown hK hP 0 rfl 3 (by decide) (hts _ q26) rfl (v := .ref (ad 2)) rfl dX0_takeValue_15 ?_
    refine lv_iload_n hx hb dX0_takeValue_18 rfl (lv_at hl 1 rfl) ?_
    refine lv_iload_n hx hb dX0_takeValue_19 rfl (lv_at hl 2 rfl) ?_
    refine xa_iast hx hb hK hP hD hS 2 0 rfl rfl (by omega) (by decide) [(h0, oF ad (nI n) nl gr un al ab sb), (ad 1, .inl (dA, 4, .inl (upd fi j v))), (ad 2, .inl (dA, 4, .inl (upd le j v))), (ad 3, .inl (dA, 4, .inl ge)), (ad 4, .inl (dA, 4, .inl ga)), (ad 5, .inl (dA, 16, .inl so)), (ad 6, .inl (dB, 4, .inl sc))] rfl dX0_takeValue_20 (fun H locs hP hD hS => ?_)
    refine lv_aload_n hx hb dX0_takeValue_21 rfl (lv_at hl 0 rfl) ?_
    refine x0_get hx hb hts hown hK hP 0 rfl 4 (by decide) (hts _ q27) rfl (v := .ref (ad 3)) rfl dX0_takeValue_22 ?_
    refine lv_iload_n hx hb dX0_takeValue_25 rfl (lv_at hl 1 rfl) ?_
    refine lv_iload_n hx hb dX0_takeValue_26 rfl (lv_at hl 2 rfl) ?_
    refine xa_iast hx hb hK hP hD hS 3 0 rfl rfl (by omega) (by decide) [(h0, oF ad (nI n) nl gr un al ab sb), (ad 1, .inl (dA, 4, .inl (upd fi j v))), (ad 2, .inl (dA, 4, .inl (upd le j v))), (ad 3, .inl (dA, 4, .inl (upd ge j v))), (ad 4, .inl (dA, 4, .inl ga)), (ad 5, .inl (dA, 16, .inl so)), (ad 6, .inl (dB, 4, .inl sc))] rfl dX0_takeValue_27 (fun H locs hP hD hS => ?_)
    refine lv_aload_n hx hb dX0_takeValue_28 rfl (lv_at hl 0 rfl) ?_
    refine x0_get hx hb hts hown hK hP 0 rfl 5 (by decide) (hts _ q28) rfl (v := .ref (ad 4)) rfl dX0_takeValue_29 ?_
    refine lv_iload_n hx hb dX0_takeValue_32 rfl (lv_at hl 1 rfl) ?_
    refine lv_iconst (v := nI 0) hx hb dX0_takeValue_33 rfl ?_
    refine xa_iast hx hb hK hP hD hS 4 0 rfl rfl (by omega) (by decide) [(h0, oF ad (nI n) nl gr un al ab sb), (ad 1, .inl (dA, 4, .inl (upd fi j v))), (ad 2, .inl (dA, 4, .inl (upd le j v))), (ad 3, .inl (dA, 4, .inl (upd ge j v))), (ad 4, .inl (dA, 4, .inl (upd ga j (nI 0)))), (ad 5, .inl (dA, 16, .inl so)), (ad 6, .inl (dB, 4, .inl sc))] rfl dX0_takeValue_34 (fun H locs hP hD hS => ?_)
    refine lv_aload_n hx hb dX0_takeValue_35 rfl (lv_at hl 0 rfl) ?_
    refine x0_get hx hb hts hown hK hP 0 rfl 3 (by decide) (hts _ q26) rfl (v := .ref (ad 2)) rfl dX0_takeValue_36 ?_
    refine lv_iload_n hx hb dX0_takeValue_39 rfl (lv_at hl 1 rfl) ?_
    refine lv_iload_n hx hb dX0_takeValue_40 rfl (lv_at hl 2 rfl) ?_
    refine lv_aload_n hx hb dX0_takeValue_41 rfl (lv_at hl 0 rfl) ?_
    refine x0_get hx hb hts hown hK hP 0 rfl 3 (by decide) (hts _ q26) rfl (v := .ref (ad 2)) rfl dX0_takeValue_42 ?_
    refine lv_iload_n hx hb dX0_takeValue_45 rfl (lv_at hl 1 rfl) ?_
    refine xa_iald hx hb hK hP 2 0 rfl rfl (k := j) (by omega) (by decide) dX0_takeValue_46 ?_
    refine xw_i (y := v) pk_us ?_
    refine lv_icmp_ge (tgt := 54) hx hb dX0_takeValue_47 (by decide) (fun c_47 => ?_) (fun c_47 => absurd (Int32.le_refl v) c_47)
    refine lv_aload_n hx hb dX0_takeValue_54 rfl (lv_at hl 0 rfl) ?_
    refine x0_get hx hb hts hown hK hP 0 rfl 3 (by decide) (hts _ q26) rfl (v := .ref (ad 2)) rfl dX0_takeValue_55 ?_
    refine lv_iload_n hx hb dX0_takeValue_58 rfl (lv_at hl 1 rfl) ?_
    refine xa_iald hx hb hK hP 2 0 rfl rfl (k := j) (by omega) (by decide) dX0_takeValue_59 ?_
    refine xw_i (y := v) pk_us ?_
    refine xa_iast hx hb hK hP hD hS 2 0 rfl rfl (by omega) (by decide) [(h0, oF ad (nI n) nl gr un al ab sb), (ad 1, .inl (dA, 4, .inl (upd fi j v))), (ad 2, .inl (dA, 4, .inl (upd (upd le j v) j v))), (ad 3, .inl (dA, 4, .inl (upd ge j v))), (ad 4, .inl (dA, 4, .inl (upd ga j (nI 0)))), (ad 5, .inl (dA, 16, .inl so)), (ad 6, .inl (dB, 4, .inl sc))] rfl dX0_takeValue_60 (fun H locs hP hD hS => ?_)
    refine lv_aload_n hx hb dX0_takeValue_61 rfl (lv_at hl 0 rfl) ?_
    refine x0_get hx hb hts hown hK hP 0 rfl 4 (by decide) (hts _ q27) rfl (v := .ref (ad 3)) rfl dX0_takeValue_62 ?_
    refine lv_iload_n hx hb dX0_takeValue_65 rfl (lv_at hl 1 rfl) ?_
    refine lv_iload_n hx hb dX0_takeValue_66 rfl (lv_at hl 2 rfl) ?_
    refine lv_aload_n hx hb dX0_takeValue_67 rfl (lv_at hl 0 rfl) ?_
    refine x0_get hx hb hts hown hK hP 0 rfl 4 (by decide) (hts _ q27) rfl (v := .ref (ad 3)) rfl dX0_takeValue_68 ?_
    refine lv_iload_n hx hb dX0_takeValue_71 rfl (lv_at hl 1 rfl) ?_
    refine xa_iald hx hb hK hP 3 0 rfl rfl (k := j) (by omega) (by decide) dX0_takeValue_72 ?_
    refine xw_i (y := v) pk_us ?_
    refine lv_icmp_le (tgt := 80) hx hb dX0_takeValue_73 (by decide) (fun c_73 => ?_) (fun c_73 => absurd (Int32.le_refl v) c_73)
    refine lv_aload_n hx hb dX0_takeValue_80 rfl (lv_at hl 0 rfl) ?_
    refine x0_get hx hb hts hown hK hP 0 rfl 4 (by decide) (hts _ q27) rfl (v := .ref (ad 3)) rfl dX0_takeValue_81 ?_
    refine lv_iload_n hx hb dX0_takeValue_84 rfl (lv_at hl 1 rfl) ?_
    refine xa_iald hx hb hK hP 3 0 rfl rfl (k := j) (by omega) (by decide) dX0_takeValue_85 ?_
    refine xw_i (y := v) pk_us ?_
    refine xa_iast hx hb hK hP hD hS 3 0 rfl rfl (by omega) (by decide) [(h0, oF ad (nI n) nl gr un al ab sb), (ad 1, .inl (dA, 4, .inl (upd fi j v))), (ad 2, .inl (dA, 4, .inl (upd (upd le j v) j v))), (ad 3, .inl (dA, 4, .inl (upd (upd ge j v) j v))), (ad 4, .inl (dA, 4, .inl (upd ga j (nI 0)))), (ad 5, .inl (dA, 16, .inl so)), (ad 6, .inl (dB, 4, .inl sc))] rfl dX0_takeValue_86 (fun H locs hP hD hS => ?_)
    refine lv_aload_n hx hb dX0_takeValue_87 rfl (lv_at hl 0 rfl) ?_
    refine x0_get hx hb hts hown hK hP 0 rfl 5 (by decide) (hts _ q28) rfl (v := .ref (ad 4)) rfl dX0_takeValue_88 ?_
    refine lv_iload_n hx hb dX0_takeValue_91 rfl (lv_at hl 1 rfl) ?_
    refine lv_aload_n hx hb dX0_takeValue_92 rfl (lv_at hl 0 rfl) ?_
    refine x0_get hx hb hts hown hK hP 0 rfl 5 (by decide) (hts _ q28) rfl (v := .ref (ad 4)) rfl dX0_takeValue_93 ?_
    refine lv_iload_n hx hb dX0_takeValue_96 rfl (lv_at hl 1 rfl) ?_
    refine xa_iald hx hb hK hP 4 0 rfl rfl (k := j) (by omega) (by decide) dX0_takeValue_97 ?_
    refine xw_i (y := nI 0) pk_us ?_
    refine lv_iload_n hx hb dX0_takeValue_98 rfl (lv_at hl 2 rfl) ?_
    refine lv_aload_n hx hb dX0_takeValue_99 rfl (lv_at hl 0 rfl) ?_
    refine x0_get hx hb hts hown hK hP 0 rfl 2 (by decide) (hts _ q25) rfl (v := .ref (ad 1)) rfl dX0_takeValue_100 ?_
    refine lv_iload_n hx hb dX0_takeValue_103 rfl (lv_at hl 1 rfl) ?_
    refine xa_iald hx hb hK hP 1 0 rfl rfl (k := j) (by omega) (by decide) dX0_takeValue_104 ?_
    refine xw_i (y := v) pk_us ?_
    refine lv_isub hx hb dX0_takeValue_105 ?_
    refine xc_S [.int (nI 0), .int (v - v)] ⟨hx, hb, hml, hown, hts⟩ (mX0_divisor l (nI 0) (v - v) (by decide) (okw_sub hv0 hv0)) (va_cwS 2 hts (lw_S q94 q95 q13 q96) rfl rfl rfl (by decide +kernel) ⟨Nat.le_of_ble_eq_true rfl, Nat.le_of_ble_eq_true rfl⟩) rfl hl.1 rfl (Nat.le_of_ble_eq_true rfl) dX0_takeValue_106 ⟨Nat.le_of_ble_eq_true rfl, Nat.le_of_ble_eq_true rfl⟩ (fun r_106 h_106 => ?_)
    subst h_106
    refine xa_iast hx hb hK hP hD hS 4 0 rfl rfl (by omega) (by decide) [(h0, oF ad (nI n) nl gr un al ab sb), (ad 1, .inl (dA, 4, .inl (upd fi j v))), (ad 2, .inl (dA, 4, .inl (upd (upd le j v) j v))), (ad 3, .inl (dA, 4, .inl (upd (upd ge j v) j v))), (ad 4, .inl (dA, 4, .inl (upd (upd ga j (nI 0)) j (nI (Int.gcd (nI 0).toInt (v - v).toInt))))), (ad 5, .inl (dA, 16, .inl so)), (ad 6, .inl (dB, 4, .inl sc))] rfl dX0_takeValue_109 (fun H locs hP hD hS => ?_)
    refine lv_aload_n hx hb dX0_takeValue_110 rfl (lv_at hl 0 rfl) ?_
    refine lv_iload_n hx hb dX0_takeValue_111 rfl (lv_at hl 1 rfl) ?_
    refine lv_iload_n hx hb dX0_takeValue_112 rfl (lv_at hl 2 rfl) ?_
    refine xc_W (ci := 0) (q0 := 0) (wc := [(h0, oF ad (nI n) nl gr un al ab sb), (ad 5, .inl (dA, 16, .inl so)), (ad 6, .inl (dB, 4, .inl sc))]) (wr := [(ad 1, .inl (dA, 4, .inl (upd fi j v))), (ad 2, .inl (dA, 4, .inl (upd (upd le j v) j v))), (ad 3, .inl (dA, 4, .inl (upd (upd ge j v) j v))), (ad 4, .inl (dA, 4, .inl (upd (upd ga j (nI 0)) j (nI (Int.gcd (nI 0).toInt (v - v).toInt)))))]) [.int (nI j), .int v] ⟨hx, hb, hml, hown, hts⟩ hK hP hD hS hA rfl rfl rfl [0, 5, 6] [1, 2, 3, 4] [4, 0, 1, 2, 3, 5, 6] rfl rfl rfl rfl rfl (by decide) (fun u : (Nat → Int32) × (Nat → Int32) => [(h0, oF ad (nI n) nl gr un al ab sb), (ad 1, .inl (dA, 4, .inl (upd fi j v))), (ad 2, .inl (dA, 4, .inl (upd (upd le j v) j v))), (ad 3, .inl (dA, 4, .inl (upd (upd ge j v) j v))), (ad 4, .inl (dA, 4, .inl (upd (upd ga j (nI 0)) j (nI (Int.gcd (nI 0).toInt (v - v).toInt))))), (ad 5, .inl (dA, 16, .inl u.1)), (ad 6, .inl (dB, 4, .inl u.2))]) (fun _ => rfl) (fun _ => rfl) rfl (mX0_takeDifferent l dC dI dA dB H.size h0 ad nl gr un al ab sb (nI n) so sc j v k hj hk hc) (cwV 2 hts (lw_V q97 q99 qs1 q13 q100) rfl rfl rfl (by decide +kernel) ⟨Nat.le_of_ble_eq_true rfl, Nat.le_of_ble_eq_true rfl⟩) rfl hl.1 rfl (Nat.le_of_ble_eq_true rfl) dX0_takeValue_113 ⟨Nat.le_of_ble_eq_true rfl, Nat.le_of_ble_eq_true rfl⟩ (fun u_113 H locs h_113 hP hD hS => ?_)
    exact K (upd fi j v, upd (upd le j v) j v, upd (upd ge j v) j v, upd (upd ga j (nI 0)) j (nI (Int.gcd (nI 0).toInt (v - v).toInt)), u_113.1, u_113.2) _ _ _ _ ⟨fun z hz => ⟨pk_un hz, by show upd _ _ _ _ = _; rw [pk_un hz, pk_un hz], by show upd _ _ _ _ = _; rw [pk_un hz, pk_un hz], by show upd _ _ _ _ = _; rw [pk_un hz, pk_un hz]⟩, fun _ => ⟨pk_us, pk_us, pk_us, by show upd _ _ _ _ = _; rw [pk_us, Int32.sub_self]; rfl⟩, fun h => absurd h (by omega), h_113⟩ hP hD hS dX0_takeValue_116
set_option maxHeartbeats 4000000 in
set_option maxRecDepth 100000 in
theorem mX0_clear (l : Launch) (dC : Nat → ClassId) (dI : Nat → Nat → Nat) (dA dB : ClassId) (sz : Nat) (h0 : Nat) (ad : Nat → Nat) (nl gr un al ab : Int32) (sb : Int64) (cn : Int32) (sc ls0 : Nat → Int32) : Met l yX0_clear (ws_ yX0_clear cX0_clear 2 none) rmz (va_Pc [.ref h0] (xPre (dC, dI) vwCl (xT dA dB) [(h0, oF ad cn nl gr un al ab sb), (ad 6, .inl (dB, 4, .inl sc)), (ad 7, .inl (dB, 16, .inl ls0))] sz)) (va_Qv (fun u => (∀ z, z < 4 → u.1 z = nI 0) ∧ ∀ z, z < 16 → u.2 z = nI 0) (fun u t => va_P (dC, dI) vwCl ((fun u : (Nat → Int32) × (Nat → Int32) => [(h0, oF ad (nI 0) (nI 0) (nI 0) (nI 0) (nI 0) (nI 0) 0), (ad 6, .inl (dB, 4, .inl u.1)), (ad 7, .inl (dB, 16, .inl u.2))]) u) t.heap ∧ va_D (va_A [(h0, oF ad cn nl gr un al ab sb), (ad 6, .inl (dB, 4, .inl sc)), (ad 7, .inl (dB, 16, .inl ls0))] sz) ((fun u : (Nat → Int32) × (Nat → Int32) => [(h0, oF ad (nI 0) (nI 0) (nI 0) (nI 0) (nI 0) (nI 0) 0), (ad 6, .inl (dB, 4, .inl u.1)), (ad 7, .inl (dB, 16, .inl u.2))]) u)) (va_A [(h0, oF ad cn nl gr un al ab sb), (ad 6, .inl (dB, 4, .inl sc)), (ad 7, .inl (dB, 16, .inl ls0))] sz)) 0 0 (va_A [(h0, oF ad cn nl gr un al ab sb), (ad 6, .inl (dB, 4, .inl sc)), (ad 7, .inl (dB, 16, .inl ls0))] sz) := by
  refine xm_Qv (by decide) (Nat.le_of_ble_eq_true rfl) ?_
  intro p e s m args below meth c hx hb hml hown hts hK A hA H locs hP hD hS Q K ls hl
  have hown : s.vm.findClass RX0 = some m.cls := hown
  have hl : lv_has ls 2 [(0, .ref h0)] := hl
  refine lv_aload_n hx hb dX0_clear_0 rfl (lv_at hl 0 rfl) ?_
  refine lv_iconst (v := nI 0) hx hb dX0_clear_1 rfl ?_
  refine x0_put hx hb hts hown hK hP hD hS 0 rfl 0 (by decide) (hts _ q23) rfl rfl .int (by decide +kernel) rfl rfl (Nat.le_of_ble_eq_true rfl) [(h0, oF ad (nI 0) nl gr un al ab sb), (ad 6, .inl (dB, 4, .inl sc)), (ad 7, .inl (dB, 16, .inl ls0))] rfl dX0_clear_2 (fun H locs hP hD hS => ?_)
  refine lv_aload_n hx hb dX0_clear_5 rfl (lv_at hl 0 rfl) ?_
  refine lv_iconst (v := nI 0) hx hb dX0_clear_6 rfl ?_
  refine x0_put hx hb hts hown hK hP hD hS 0 rfl 8 (by decide) (hts _ q31) rfl rfl .int (by decide +kernel) rfl rfl (Nat.le_of_ble_eq_true rfl) [(h0, oF ad (nI 0) (nI 0) gr un al ab sb), (ad 6, .inl (dB, 4, .inl sc)), (ad 7, .inl (dB, 16, .inl ls0))] rfl dX0_clear_7 (fun H locs hP hD hS => ?_)
  refine lv_aload_n hx hb dX0_clear_10 rfl (lv_at hl 0 rfl) ?_
  refine lv_iconst (v := nI 0) hx hb dX0_clear_11 rfl ?_
  refine x0_put hx hb hts hown hK hP hD hS 0 rfl 9 (by decide) (hts _ q32) rfl rfl .int (by decide +kernel) rfl rfl (Nat.le_of_ble_eq_true rfl) [(h0, oF ad (nI 0) (nI 0) (nI 0) un al ab sb), (ad 6, .inl (dB, 4, .inl sc)), (ad 7, .inl (dB, 16, .inl ls0))] rfl dX0_clear_12 (fun H locs hP hD hS => ?_)
  refine lv_aload_n hx hb dX0_clear_15 rfl (lv_at hl 0 rfl) ?_
  refine lv_iconst (v := nI 0) hx hb dX0_clear_16 rfl ?_
  refine x0_put hx hb hts hown hK hP hD hS 0 rfl 10 (by decide) (hts _ q33) rfl rfl .int (by decide +kernel) rfl rfl (Nat.le_of_ble_eq_true rfl) [(h0, oF ad (nI 0) (nI 0) (nI 0) (nI 0) al ab sb), (ad 6, .inl (dB, 4, .inl sc)), (ad 7, .inl (dB, 16, .inl ls0))] rfl dX0_clear_17 (fun H locs hP hD hS => ?_)
  refine lv_aload_n hx hb dX0_clear_20 rfl (lv_at hl 0 rfl) ?_
  refine lv_iconst (v := nI 0) hx hb dX0_clear_21 rfl ?_
  refine x0_put hx hb hts hown hK hP hD hS 0 rfl 11 (by decide) (hts _ q34) rfl rfl .int (by decide +kernel) rfl rfl (Nat.le_of_ble_eq_true rfl) [(h0, oF ad (nI 0) (nI 0) (nI 0) (nI 0) (nI 0) ab sb), (ad 6, .inl (dB, 4, .inl sc)), (ad 7, .inl (dB, 16, .inl ls0))] rfl dX0_clear_22 (fun H locs hP hD hS => ?_)
  refine lv_aload_n hx hb dX0_clear_25 rfl (lv_at hl 0 rfl) ?_
  refine lv_iconst (v := nI 0) hx hb dX0_clear_26 rfl ?_
  refine x0_put hx hb hts hown hK hP hD hS 0 rfl 17 (by decide) (hts _ q40) rfl rfl .int (by decide +kernel) rfl rfl (Nat.le_of_ble_eq_true rfl) [(h0, oF ad (nI 0) (nI 0) (nI 0) (nI 0) (nI 0) (nI 0) sb), (ad 6, .inl (dB, 4, .inl sc)), (ad 7, .inl (dB, 16, .inl ls0))] rfl dX0_clear_27 (fun H locs hP hD hS => ?_)
  refine lv_aload_n hx hb dX0_clear_30 rfl (lv_at hl 0 rfl) ?_
  refine lv_lconst (v := 0) hx hb dX0_clear_31 rfl ?_
  refine x0_put hx hb hts hown hK hP hD hS 0 rfl 18 (by decide) (hts _ q41) rfl rfl .long (by decide +kernel) rfl rfl (Nat.le_of_ble_eq_true rfl) [(h0, oF ad (nI 0) (nI 0) (nI 0) (nI 0) (nI 0) (nI 0) 0), (ad 6, .inl (dB, 4, .inl sc)), (ad 7, .inl (dB, 16, .inl ls0))] rfl dX0_clear_32 (fun H locs hP hD hS => ?_)
  refine lv_iconst (v := nI 0) hx hb dX0_clear_35 rfl ?_
  refine lv_istore_n (lv' := [(1, .int (nI 0)), (0, .ref h0)]) hx hb dX0_clear_36 rfl hl (by decide) rfl (fun ls hl => ?_)
  have loop : ∀ (f i : Nat) (sc1 : Nat → Int32), 5 ≤ i + f → i ≤ 4 → (∀ z, z < i → sc1 z = nI 0) → ∀ (H : Heap) (locs : List Loc), va_P (dC, dI) vwCl [(h0, oF ad (nI 0) (nI 0) (nI 0) (nI 0) (nI 0) (nI 0) 0), (ad 6, .inl (dB, 4, .inl sc1)), (ad 7, .inl (dB, 16, .inl ls0))] H → va_D A [(h0, oF ad (nI 0) (nI 0) (nI 0) (nI 0) (nI 0) (nI 0) 0), (ad 6, .inl (dB, 4, .inl sc1)), (ad 7, .inl (dB, 16, .inl ls0))] → va_S A s.heap H locs → ∀ ls : Array Slot, lv_has ls 2 [(1, .int (nI i)), (0, .ref h0)] → W p l e rmz s m args below meth c H locs 0 0 Q (F0 m 37 ls []) := by
    intro f
    induction f with
    | zero =>
      intro i sc1 h1 h2
      exact absurd h1 (by omega)
    | succ f ih =>
      intro i sc1 h1 h2 h3 H locs hP hD hS ls hl
      refine lv_iload_n hx hb dX0_clear_37 rfl (lv_at hl 0 rfl) ?_
      refine lv_iconst (v := nI 4) hx hb dX0_clear_38 rfl ?_
      refine xn_ge (tgt := 55) hx hb dX0_clear_39 (by decide) (by omega) (by omega) (fun c_39 => ?_) (fun c_39 => ?_)
      · refine lv_iconst (v := nI 0) hx hb dX0_clear_55 rfl ?_
        refine lv_istore_n (lv' := [(1, .int (nI 0)), (0, .ref h0)]) hx hb dX0_clear_56 rfl hl (by decide) rfl (fun ls hl => ?_)
        have h3 : ∀ z, z < 4 → sc1 z = nI 0 := fun z hz => h3 z (by omega)
        have loop2 : ∀ (f i2 : Nat) (ls1 : Nat → Int32), 17 ≤ i2 + f → i2 ≤ 16 → (∀ z, z < i2 → ls1 z = nI 0) → ∀ (H : Heap) (locs : List Loc), va_P (dC, dI) vwCl [(h0, oF ad (nI 0) (nI 0) (nI 0) (nI 0) (nI 0) (nI 0) 0), (ad 6, .inl (dB, 4, .inl sc1)), (ad 7, .inl (dB, 16, .inl ls1))] H → va_D A [(h0, oF ad (nI 0) (nI 0) (nI 0) (nI 0) (nI 0) (nI 0) 0), (ad 6, .inl (dB, 4, .inl sc1)), (ad 7, .inl (dB, 16, .inl ls1))] → va_S A s.heap H locs → ∀ ls : Array Slot, lv_has ls 2 [(1, .int (nI i2)), (0, .ref h0)] → W p l e rmz s m args below meth c H locs 0 0 Q (F0 m 57 ls []) := by
          intro f
          induction f with
          | zero =>
            intro i2 ls1 h1 h2
            exact absurd h1 (by omega)
          | succ f ih =>
            intro i2 ls1 h1 h2 h5 H locs hP hD hS ls hl
            refine lv_iload_n hx hb dX0_clear_57 rfl (lv_at hl 0 rfl) ?_
            refine lv_bipush (v := nI 16) hx hb dX0_clear_58 rfl ?_
            refine xn_ge (tgt := 76) hx hb dX0_clear_60 (by decide) (by omega) (by omega) (fun c_60 => ?_) (fun c_60 => ?_)
            · exact K (sc1, ls1) _ _ _ _ ⟨h3, fun z hz => h5 z (by omega)⟩ hP hD hS dX0_clear_76
            · refine lv_aload_n hx hb dX0_clear_63 rfl (lv_at hl 1 rfl) ?_
              refine x0_get hx hb hts hown hK hP 0 rfl 12 (by decide) (hts _ q35) rfl (v := .ref (ad 7)) rfl dX0_clear_64 ?_
              refine lv_iload_n hx hb dX0_clear_67 rfl (lv_at hl 0 rfl) ?_
              refine lv_iconst (v := nI 0) hx hb dX0_clear_68 rfl ?_
              refine xa_bast hx hb hK hP hD hS 2 1 rfl rfl (nI 0) (nar_s (by omega)) (by omega) (by decide) [(h0, oF ad (nI 0) (nI 0) (nI 0) (nI 0) (nI 0) (nI 0) 0), (ad 6, .inl (dB, 4, .inl sc1)), (ad 7, .inl (dB, 16, .inl (upd ls1 i2 (nI 0))))] rfl dX0_clear_69 (fun H locs hP hD hS => ?_)
              refine lv_iinc (v := nI (i2 + 1)) (lv' := [(1, .int (nI (i2 + 1))), (0, .ref h0)]) hx hb dX0_clear_70 hl (k := 0) rfl (nI_add _ 1) (by decide) rfl (fun ls hl => ?_)
              refine lv_goto (tgt := 57) hx hb dX0_clear_73 (by decide) ?_
              exact ih (i2 + 1) _ (by omega) (by omega) (fun z hz => by rcases Nat.lt_or_ge z i2 with q | q; rw [pk_un (by omega)]; exact h5 z q; rw [show z = i2 by omega]; exact pk_us) H locs hP hD hS ls (lv_sub hl [0, 1] rfl)
        exact loop2 17 0 ls0 (by omega) (by omega) (fun z hz => absurd hz (by omega)) H locs hP hD hS ls (lv_sub hl [0, 1] rfl)
      · refine lv_aload_n hx hb dX0_clear_42 rfl (lv_at hl 1 rfl) ?_
        refine x0_get hx hb hts hown hK hP 0 rfl 7 (by decide) (hts _ q30) rfl (v := .ref (ad 6)) rfl dX0_clear_43 ?_
        refine lv_iload_n hx hb dX0_clear_46 rfl (lv_at hl 0 rfl) ?_
        refine lv_iconst (v := nI 0) hx hb dX0_clear_47 rfl ?_
        refine xa_bast hx hb hK hP hD hS 1 1 rfl rfl (nI 0) (nar_s (by omega)) (by omega) (by decide) [(h0, oF ad (nI 0) (nI 0) (nI 0) (nI 0) (nI 0) (nI 0) 0), (ad 6, .inl (dB, 4, .inl (upd sc1 i (nI 0)))), (ad 7, .inl (dB, 16, .inl ls0))] rfl dX0_clear_48 (fun H locs hP hD hS => ?_)
        refine lv_iinc (v := nI (i + 1)) (lv' := [(1, .int (nI (i + 1))), (0, .ref h0)]) hx hb dX0_clear_49 hl (k := 0) rfl (nI_add _ 1) (by decide) rfl (fun ls hl => ?_)
        refine lv_goto (tgt := 37) hx hb dX0_clear_52 (by decide) ?_
        exact ih (i + 1) _ (by omega) (by omega) (fun z hz => by rcases Nat.lt_or_ge z i with q | q; rw [pk_un (by omega)]; exact h3 z q; rw [show z = i by omega]; exact pk_us) H locs hP hD hS ls (lv_sub hl [0, 1] rfl)
  exact loop 5 0 sc (by omega) (by omega) (fun z hz => absurd hz (by omega)) H locs hP hD hS ls (lv_sub hl [0, 1] rfl)
end
section
set_option maxHeartbeats 4000000 in
set_option maxRecDepth 100000 in
theorem mX0_samples (l : Launch) (dC : Nat → ClassId) (dI : Nat → Nat → Nat) (dA dB : ClassId) (h0 : Nat) (ad : Nat → Nat) (nl gr un al ab : Int32) (sb : Int64) (cn : Int32) : Met l yX0_samples (ws_ yX0_samples cX0_samples 1 (some .int)) rmz (va_Pc [.ref h0] (xPreR (dC, dI) vwCl (xT dA dB) [(h0, oF ad cn nl gr un al ab sb)])) (vp_Si (fun r => r = cn)) 0 0 (fun _ => False) := by
  refine xm_R (by decide) (Nat.le_of_ble_eq_true rfl) ?_
  intro p e s m args below meth c hx hb hml hown hts hK H locs hP Q K ls hl
  have hown : s.vm.findClass RX0 = some m.cls := hown
  have hl : lv_has ls 1 [(0, .ref h0)] := hl
  refine lv_aload_n hx hb dX0_samples_0 rfl (lv_at hl 0 rfl) ?_
  refine x0_get hx hb hts hown hK hP 0 rfl 0 (by decide) (hts _ q23) rfl (v := .int cn) rfl dX0_samples_1 ?_
  exact K _ _ _ rfl rfl dX0_samples_4
set_option maxHeartbeats 4000000 in
set_option maxRecDepth 100000 in
theorem mX0_constant (l : Launch) (dC : Nat → ClassId) (dI : Nat → Nat → Nat) (dA dB : ClassId) (h0 : Nat) (ad : Nat → Nat) (nl gr un al ab : Int32) (sb : Int64) (cn : Int32) (le ge : Nat → Int32) (x : Int32) : Met l yX0_constant (ws_ yX0_constant cX0_constant 2 (some .int)) ({ frames := 1, cells := 0, slots := 0, locals := 20 } : Room) (va_Pc [.ref h0, .int x] (xPreR (dC, dI) vwCl (xT dA dB) [(h0, oF ad cn nl gr un al ab sb), (ad 2, .inl (dA, 4, .inl le)), (ad 3, .inl (dA, 4, .inl ge))])) (vp_Si (fun r => px4 x (r = (-1000)) (fun j => r = if cn = 0 then (-1000) else if le j = ge j then le j else (-1000)))) 0 0 (fun _ => False) := by
  refine xm_R (by decide) (Nat.le_of_ble_eq_true rfl) ?_
  intro p e s m args below meth c hx hb hml hown hts hK H locs hP Q K ls hl
  have hown : s.vm.findClass RX0 = some m.cls := hown
  have hl : lv_has ls 2 [(0, .ref h0), (1, .int x)] := hl
  refine lv_iload_n hx hb dX0_constant_0 rfl (lv_at hl 1 rfl) ?_
  refine xc_S [.int x] ⟨hx, hb, hml, hown, hts⟩ (mX0_isVariable l x) (va_cwS 1 hts (lw_S q129 q130 q13 q131) rfl rfl rfl (by decide +kernel) ⟨Nat.le_of_ble_eq_true rfl, Nat.le_of_ble_eq_true rfl⟩) rfl hl.1 rfl (Nat.le_of_ble_eq_true rfl) dX0_constant_1 ⟨Nat.le_of_ble_eq_true rfl, Nat.le_of_ble_eq_true rfl⟩ (fun r_1 h_1 => ?_)
  rcases h_1 with ⟨j, hj, rfl, rfl⟩ | ⟨hbad_x, rfl⟩
  · refine xn_if_eq (tgt := 29) hx hb dX0_constant_4 (by decide) (by omega) (fun c_4 => absurd c_4 (by omega)) (fun c_4 => ?_)
    refine lv_aload_n hx hb dX0_constant_7 rfl (lv_at hl 0 rfl) ?_
    refine x0_get hx hb hts hown hK hP 0 rfl 0 (by decide) (hts _ q23) rfl (v := .int cn) rfl dX0_constant_8 ?_
    refine lv_if_eq (tgt := 29) hx hb dX0_constant_11 (by decide) (fun c_11 => ?_) (fun c_11 => ?_)
    · refine lv_sipush (v := (-1000)) hx hb dX0_constant_29 rfl ?_
      exact K _ _ _ (px4.good hj (by first | rw [if_pos c_11] | rw [if_neg c_11, if_pos c_26] | rw [if_neg c_11, if_neg c_26])) rfl dX0_constant_32
    · refine lv_aload_n hx hb dX0_constant_14 rfl (lv_at hl 0 rfl) ?_
      refine x0_get hx hb hts hown hK hP 0 rfl 3 (by decide) (hts _ q26) rfl (v := .ref (ad 2)) rfl dX0_constant_15 ?_
      refine lv_iload_n hx hb dX0_constant_18 rfl (lv_at hl 1 rfl) ?_
      refine xa_iald hx hb hK hP 1 0 rfl rfl (k := j) (by omega) (by decide) dX0_constant_19 ?_
      refine lv_aload_n hx hb dX0_constant_20 rfl (lv_at hl 0 rfl) ?_
      refine x0_get hx hb hts hown hK hP 0 rfl 4 (by decide) (hts _ q27) rfl (v := .ref (ad 3)) rfl dX0_constant_21 ?_
      refine lv_iload_n hx hb dX0_constant_24 rfl (lv_at hl 1 rfl) ?_
      refine xa_iald hx hb hK hP 2 0 rfl rfl (k := j) (by omega) (by decide) dX0_constant_25 ?_
      refine lv_icmp_eq (tgt := 33) hx hb dX0_constant_26 (by decide) (fun c_26 => ?_) (fun c_26 => ?_)
      · refine lv_aload_n hx hb dX0_constant_33 rfl (lv_at hl 0 rfl) ?_
        refine x0_get hx hb hts hown hK hP 0 rfl 3 (by decide) (hts _ q26) rfl (v := .ref (ad 2)) rfl dX0_constant_34 ?_
        refine lv_iload_n hx hb dX0_constant_37 rfl (lv_at hl 1 rfl) ?_
        refine xa_iald hx hb hK hP 1 0 rfl rfl (k := j) (by omega) (by decide) dX0_constant_38 ?_
        exact K _ _ _ (px4.good hj (by first | rw [if_pos c_11] | rw [if_neg c_11, if_pos c_26] | rw [if_neg c_11, if_neg c_26])) rfl dX0_constant_39
      · refine lv_sipush (v := (-1000)) hx hb dX0_constant_29 rfl ?_
        exact K _ _ _ (px4.good hj (by first | rw [if_pos c_11] | rw [if_neg c_11, if_pos c_26] | rw [if_neg c_11, if_neg c_26])) rfl dX0_constant_32
  · refine xn_if_eq (tgt := 29) hx hb dX0_constant_4 (by decide) (by omega) (fun c_4 => ?_) (fun c_4 => absurd c_4 (by omega))
    refine lv_sipush (v := (-1000)) hx hb dX0_constant_29 rfl ?_
    exact K _ _ _ (px4.bad hbad_x rfl) rfl dX0_constant_32
theorem bnd_1 {w : Int32} (h : ¬ w < 0) (h2 : w ≤ nI 1) (h3 : ¬ w = 0) : w = nI 1 := by
  rw [Int32.lt_iff_toInt_lt, show (0 : Int32).toInt = 0 from rfl] at h
  rw [Int32.le_iff_toInt_le, show (nI 1).toInt = 1 from rfl] at h2
  have h4 : w.toInt ≠ 0 := fun e => h3 (Int32.toInt_inj.mp e)
  apply Int32.toInt_inj.mp
  rw [show (nI 1).toInt = 1 from rfl]
  omega
theorem bnd_2 {w : Int32} (h : w < 0) : ¬ w = 0 ∧ ¬ w = nI 1 := by
  constructor
  · intro e; subst e; exact absurd h (by decide)
  · intro e; subst e; exact absurd h (by decide)
theorem bnd_3 {w : Int32} (h : ¬ w ≤ nI 1) : ¬ w = 0 ∧ ¬ w = nI 1 := by
  constructor
  · intro e; subst e; exact absurd h (by decide)
  · intro e; subst e; exact absurd h (by decide)
set_option maxHeartbeats 4000000 in
set_option maxRecDepth 100000 in
theorem mX0_bound (l : Launch) (dC : Nat → ClassId) (dI : Nat → Nat → Nat) (dA dB : ClassId) (h0 : Nat) (ad : Nat → Nat) (nl gr un al ab : Int32) (sb : Int64) (cn : Int32) (le ge : Nat → Int32) (x wh : Int32) : Met l yX0_bound (ws_ yX0_bound cX0_bound 3 (some .int)) ({ frames := 1, cells := 0, slots := 0, locals := 20 } : Room) (va_Pc [.ref h0, .int x, .int wh] (xPreR (dC, dI) vwCl (xT dA dB) [(h0, oF ad cn nl gr un al ab sb), (ad 2, .inl (dA, 4, .inl le)), (ad 3, .inl (dA, 4, .inl ge))])) (vp_Si (fun r => px4 x (r = (-1000)) (fun j => r = if cn = 0 then (-1000) else if wh = 0 then le j else if wh = nI 1 then ge j else (-1000)))) 0 0 (fun _ => False) := by
  refine xm_R (by decide) (Nat.le_of_ble_eq_true rfl) ?_
  intro p e s m args below meth c hx hb hml hown hts hK H locs hP Q K ls hl
  have hown : s.vm.findClass RX0 = some m.cls := hown
  have hl : lv_has ls 3 [(0, .ref h0), (1, .int x), (2, .int wh)] := hl
  refine lv_iload_n hx hb dX0_bound_0 rfl (lv_at hl 1 rfl) ?_
  refine xc_S [.int x] ⟨hx, hb, hml, hown, hts⟩ (mX0_isVariable l x) (va_cwS 1 hts (lw_S q129 q130 q13 q131) rfl rfl rfl (by decide +kernel) ⟨Nat.le_of_ble_eq_true rfl, Nat.le_of_ble_eq_true rfl⟩) rfl hl.1 rfl (Nat.le_of_ble_eq_true rfl) dX0_bound_1 ⟨Nat.le_of_ble_eq_true rfl, Nat.le_of_ble_eq_true rfl⟩ (fun r_1 h_1 => ?_)
  rcases h_1 with ⟨j, hj, rfl, rfl⟩ | ⟨hbad_x, rfl⟩
  · refine xn_if_eq (tgt := 23) hx hb dX0_bound_4 (by decide) (by omega) (fun c_4 => absurd c_4 (by omega)) (fun c_4 => ?_)
    refine lv_aload_n hx hb dX0_bound_7 rfl (lv_at hl 0 rfl) ?_
    refine x0_get hx hb hts hown hK hP 0 rfl 0 (by decide) (hts _ q23) rfl (v := .int cn) rfl dX0_bound_8 ?_
    refine lv_if_eq (tgt := 23) hx hb dX0_bound_11 (by decide) (fun c_11 => ?_) (fun c_11 => ?_)
    · refine lv_sipush (v := (-1000)) hx hb dX0_bound_23 rfl ?_
      exact K _ _ _ (px4.good hj (by first | (rw [if_pos c_11]; done) | (rw [if_neg c_11, if_pos c_28]; done) | (rw [if_neg c_11, if_neg c_28, if_pos (bnd_1 c_15 c_20 c_28)]; done) | (rw [if_neg c_11, if_neg (bnd_2 c_15).1, if_neg (bnd_2 c_15).2]; done) | (rw [if_neg c_11, if_neg (bnd_3 c_20).1, if_neg (bnd_3 c_20).2]))) rfl dX0_bound_26
    · refine lv_iload_n hx hb dX0_bound_14 rfl (lv_at hl 2 rfl) ?_
      refine lv_if_lt (tgt := 23) hx hb dX0_bound_15 (by decide) (fun c_15 => ?_) (fun c_15 => ?_)
      · refine lv_sipush (v := (-1000)) hx hb dX0_bound_23 rfl ?_
        exact K _ _ _ (px4.good hj (by first | (rw [if_pos c_11]; done) | (rw [if_neg c_11, if_pos c_28]; done) | (rw [if_neg c_11, if_neg c_28, if_pos (bnd_1 c_15 c_20 c_28)]; done) | (rw [if_neg c_11, if_neg (bnd_2 c_15).1, if_neg (bnd_2 c_15).2]; done) | (rw [if_neg c_11, if_neg (bnd_3 c_20).1, if_neg (bnd_3 c_20).2]))) rfl dX0_bound_26
      · refine lv_iload_n hx hb dX0_bound_18 rfl (lv_at hl 2 rfl) ?_
        refine lv_iconst (v := nI 1) hx hb dX0_bound_19 rfl ?_
        refine lv_icmp_le (tgt := 27) hx hb dX0_bound_20 (by decide) (fun c_20 => ?_) (fun c_20 => ?_)
        · refine lv_iload_n hx hb dX0_bound_27 rfl (lv_at hl 2 rfl) ?_
          refine lv_if_ne (tgt := 40) hx hb dX0_bound_28 (by decide) (fun c_28 => ?_) (fun c_28 => ?_)
          · refine lv_aload_n hx hb dX0_bound_40 rfl (lv_at hl 0 rfl) ?_
            refine x0_get hx hb hts hown hK hP 0 rfl 4 (by decide) (hts _ q27) rfl (v := .ref (ad 3)) rfl dX0_bound_41 ?_
            refine lv_iload_n hx hb dX0_bound_44 rfl (lv_at hl 1 rfl) ?_
            refine xa_iald hx hb hK hP 2 0 rfl rfl (k := j) (by omega) (by decide) dX0_bound_45 ?_
            exact K _ _ _ (px4.good hj (by first | (rw [if_pos c_11]; done) | (rw [if_neg c_11, if_pos c_28]; done) | (rw [if_neg c_11, if_neg c_28, if_pos (bnd_1 c_15 c_20 c_28)]; done) | (rw [if_neg c_11, if_neg (bnd_2 c_15).1, if_neg (bnd_2 c_15).2]; done) | (rw [if_neg c_11, if_neg (bnd_3 c_20).1, if_neg (bnd_3 c_20).2]))) rfl dX0_bound_46
          · refine lv_aload_n hx hb dX0_bound_31 rfl (lv_at hl 0 rfl) ?_
            refine x0_get hx hb hts hown hK hP 0 rfl 3 (by decide) (hts _ q26) rfl (v := .ref (ad 2)) rfl dX0_bound_32 ?_
            refine lv_iload_n hx hb dX0_bound_35 rfl (lv_at hl 1 rfl) ?_
            refine xa_iald hx hb hK hP 1 0 rfl rfl (k := j) (by omega) (by decide) dX0_bound_36 ?_
            refine lv_goto (tgt := 46) hx hb dX0_bound_37 (by decide) ?_
            exact K _ _ _ (px4.good hj (by first | (rw [if_pos c_11]; done) | (rw [if_neg c_11, if_pos c_28]; done) | (rw [if_neg c_11, if_neg c_28, if_pos (bnd_1 c_15 c_20 c_28)]; done) | (rw [if_neg c_11, if_neg (bnd_2 c_15).1, if_neg (bnd_2 c_15).2]; done) | (rw [if_neg c_11, if_neg (bnd_3 c_20).1, if_neg (bnd_3 c_20).2]))) rfl dX0_bound_46
        · refine lv_sipush (v := (-1000)) hx hb dX0_bound_23 rfl ?_
          exact K _ _ _ (px4.good hj (by first | (rw [if_pos c_11]; done) | (rw [if_neg c_11, if_pos c_28]; done) | (rw [if_neg c_11, if_neg c_28, if_pos (bnd_1 c_15 c_20 c_28)]; done) | (rw [if_neg c_11, if_neg (bnd_2 c_15).1, if_neg (bnd_2 c_15).2]; done) | (rw [if_neg c_11, if_neg (bnd_3 c_20).1, if_neg (bnd_3 c_20).2]))) rfl dX0_bound_26
  · refine xn_if_eq (tgt := 23) hx hb dX0_bound_4 (by decide) (by omega) (fun c_4 => ?_) (fun c_4 => absurd c_4 (by omega))
    refine lv_sipush (v := (-1000)) hx hb dX0_bound_23 rfl ?_
    exact K _ _ _ (px4.bad hbad_x rfl) rfl dX0_bound_26
set_option maxHeartbeats 4000000 in
set_option maxRecDepth 100000 in
theorem mX0_different (l : Launch) (dC : Nat → ClassId) (dI : Nat → Nat → Nat) (dA dB : ClassId) (h0 : Nat) (ad : Nat → Nat) (nl gr un al ab : Int32) (sb : Int64) (cn : Int32) (sc : Nat → Int32) (x : Int32) : Met l yX0_different (ws_ yX0_different cX0_different 2 (some .int)) ({ frames := 1, cells := 0, slots := 0, locals := 20 } : Room) (va_Pc [.ref h0, .int x] (xPreR (dC, dI) vwCl (xT dA dB) [(h0, oF ad cn nl gr un al ab sb), (ad 6, .inl (dB, 4, .inl sc))])) (vp_Si (fun r => px4 x (r = (-1)) (fun j => r = sc j))) 0 0 (fun _ => False) := by
  refine xm_R (by decide) (Nat.le_of_ble_eq_true rfl) ?_
  intro p e s m args below meth c hx hb hml hown hts hK H locs hP Q K ls hl
  have hown : s.vm.findClass RX0 = some m.cls := hown
  have hl : lv_has ls 2 [(0, .ref h0), (1, .int x)] := hl
  refine lv_iload_n hx hb dX0_different_0 rfl (lv_at hl 1 rfl) ?_
  refine xc_S [.int x] ⟨hx, hb, hml, hown, hts⟩ (mX0_isVariable l x) (va_cwS 1 hts (lw_S q129 q130 q13 q131) rfl rfl rfl (by decide +kernel) ⟨Nat.le_of_ble_eq_true rfl, Nat.le_of_ble_eq_true rfl⟩) rfl hl.1 rfl (Nat.le_of_ble_eq_true rfl) dX0_different_1 ⟨Nat.le_of_ble_eq_true rfl, Nat.le_of_ble_eq_true rfl⟩ (fun r_1 h_1 => ?_)
  rcases h_1 with ⟨j, hj, rfl, rfl⟩ | ⟨hbad_x, rfl⟩
  · refine xn_if_eq (tgt := 16) hx hb dX0_different_4 (by decide) (by omega) (fun c_4 => absurd c_4 (by omega)) (fun c_4 => ?_)
    refine lv_aload_n hx hb dX0_different_7 rfl (lv_at hl 0 rfl) ?_
    refine x0_get hx hb hts hown hK hP 0 rfl 7 (by decide) (hts _ q30) rfl (v := .ref (ad 6)) rfl dX0_different_8 ?_
    refine lv_iload_n hx hb dX0_different_11 rfl (lv_at hl 1 rfl) ?_
    refine xa_bald hx hb hK hP 1 1 rfl rfl (k := j) (by omega) (by decide) dX0_different_12 ?_
    refine lv_goto (tgt := 17) hx hb dX0_different_13 (by decide) ?_
    exact K _ _ _ (px4.good hj rfl) rfl dX0_different_17
  · refine xn_if_eq (tgt := 16) hx hb dX0_different_4 (by decide) (by omega) (fun c_4 => ?_) (fun c_4 => absurd c_4 (by omega))
    refine lv_iconst (v := (-1)) hx hb dX0_different_16 rfl ?_
    exact K _ _ _ (px4.bad hbad_x rfl) rfl dX0_different_17
set_option maxHeartbeats 4000000 in
set_option maxRecDepth 100000 in
theorem mX0_valueAt (l : Launch) (dC : Nat → ClassId) (dI : Nat → Nat → Nat) (dA dB : ClassId) (h0 : Nat) (ad : Nat → Nat) (nl gr un al ab : Int32) (sb : Int64) (cn : Int32) (so sc : Nat → Int32) (sk : Nat → Nat) (x kk : Int32) (hsc : ∀ j, j < 4 → sk j ≤ 4 ∧ sc j = nI (sk j)) : Met l yX0_valueAt (ws_ yX0_valueAt cX0_valueAt 3 (some .int)) ({ frames := 1, cells := 0, slots := 0, locals := 20 } : Room) (va_Pc [.ref h0, .int x, .int kk] (xPreR (dC, dI) vwCl (xT dA dB) [(h0, oF ad cn nl gr un al ab sb), (ad 5, .inl (dA, 16, .inl so)), (ad 6, .inl (dB, 4, .inl sc))])) (vp_Si (fun r => px4 x (r = (-1000)) (fun j => (∀ z, z < sk j → sk j ≤ 3 → kk = nI z → r = so (j * 4 + z)) ∧ ((3 < sk j ∨ ∀ z, z < sk j → ¬ kk = nI z) → r = (-1000))))) 0 0 (fun _ => False) := by
  refine xm_R (by decide) (Nat.le_of_ble_eq_true rfl) ?_
  intro p e s m args below meth c hx hb hml hown hts hK H locs hP Q K ls hl
  have hown : s.vm.findClass RX0 = some m.cls := hown
  have hl : lv_has ls 3 [(0, .ref h0), (1, .int x), (2, .int kk)] := hl
  refine lv_iload_n hx hb dX0_valueAt_0 rfl (lv_at hl 1 rfl) ?_
  refine xc_S [.int x] ⟨hx, hb, hml, hown, hts⟩ (mX0_isVariable l x) (va_cwS 1 hts (lw_S q129 q130 q13 q131) rfl rfl rfl (by decide +kernel) ⟨Nat.le_of_ble_eq_true rfl, Nat.le_of_ble_eq_true rfl⟩) rfl hl.1 rfl (Nat.le_of_ble_eq_true rfl) dX0_valueAt_1 ⟨Nat.le_of_ble_eq_true rfl, Nat.le_of_ble_eq_true rfl⟩ (fun r_1 h_1 => ?_)
  rcases h_1 with ⟨j, hj, rfl, rfl⟩ | ⟨hbad_x, rfl⟩
  · refine xn_if_eq (tgt := 31) hx hb dX0_valueAt_4 (by decide) (by omega) (fun c_4 => absurd c_4 (by omega)) (fun c_4 => ?_)
    refine lv_aload_n hx hb dX0_valueAt_7 rfl (lv_at hl 0 rfl) ?_
    refine x0_get hx hb hts hown hK hP 0 rfl 7 (by decide) (hts _ q30) rfl (v := .ref (ad 6)) rfl dX0_valueAt_8 ?_
    refine lv_iload_n hx hb dX0_valueAt_11 rfl (lv_at hl 1 rfl) ?_
    refine xa_bald hx hb hK hP 2 1 rfl rfl (k := j) (by omega) (by decide) dX0_valueAt_12 ?_
    refine xw_i (y := nI (sk j)) (hsc j hj).2 ?_
    have hsk := (hsc j hj).1
    refine lv_iconst (v := nI 3) hx hb dX0_valueAt_13 rfl ?_
    refine xn_gt (tgt := 31) hx hb dX0_valueAt_14 (by decide) (by omega) (by omega) (fun c_14 => ?_) (fun c_14 => ?_)
    · refine lv_sipush (v := (-1000)) hx hb dX0_valueAt_31 rfl ?_
      exact K _ _ _ (px4.good hj ⟨fun z2 h1 h2 e => by first | (exact absurd h2 (by omega)) | (subst e; exact absurd c_18 (nI_pos (by omega))) | (subst e; exact absurd (nI_lt h1 (by omega)) c_28), fun _ => rfl⟩) rfl dX0_valueAt_34
    · refine lv_iload_n hx hb dX0_valueAt_17 rfl (lv_at hl 2 rfl) ?_
      refine lv_if_lt (tgt := 31) hx hb dX0_valueAt_18 (by decide) (fun c_18 => ?_) (fun c_18 => ?_)
      · refine lv_sipush (v := (-1000)) hx hb dX0_valueAt_31 rfl ?_
        exact K _ _ _ (px4.good hj ⟨fun z2 h1 h2 e => by first | (exact absurd h2 (by omega)) | (subst e; exact absurd c_18 (nI_pos (by omega))) | (subst e; exact absurd (nI_lt h1 (by omega)) c_28), fun _ => rfl⟩) rfl dX0_valueAt_34
      · refine lv_iload_n hx hb dX0_valueAt_21 rfl (lv_at hl 2 rfl) ?_
        refine lv_aload_n hx hb dX0_valueAt_22 rfl (lv_at hl 0 rfl) ?_
        refine x0_get hx hb hts hown hK hP 0 rfl 7 (by decide) (hts _ q30) rfl (v := .ref (ad 6)) rfl dX0_valueAt_23 ?_
        refine lv_iload_n hx hb dX0_valueAt_26 rfl (lv_at hl 1 rfl) ?_
        refine xa_bald hx hb hK hP 2 1 rfl rfl (k := j) (by omega) (by decide) dX0_valueAt_27 ?_
        refine xw_i (y := nI (sk j)) (hsc j hj).2 ?_
        refine lv_icmp_lt (tgt := 35) hx hb dX0_valueAt_28 (by decide) (fun c_28 => ?_) (fun c_28 => ?_)
        · have hsk := (hsc j hj).1
          obtain ⟨z, hz, rfl⟩ : ∃ z : Nat, z < sk j ∧ kk = nI z := by
            obtain ⟨z, hz, e⟩ := nI_of c_18
            subst e
            exact ⟨z, (nI_ltI hz (by omega)).mp c_28, rfl⟩
          refine lv_aload_n hx hb dX0_valueAt_35 rfl (lv_at hl 0 rfl) ?_
          refine x0_get hx hb hts hown hK hP 0 rfl 6 (by decide) (hts _ q29) rfl (v := .ref (ad 5)) rfl dX0_valueAt_36 ?_
          refine lv_iload_n hx hb dX0_valueAt_39 rfl (lv_at hl 1 rfl) ?_
          refine lv_iconst (v := nI 4) hx hb dX0_valueAt_40 rfl ?_
          refine xn_mul hx hb dX0_valueAt_41 ?_
          refine lv_iload_n hx hb dX0_valueAt_42 rfl (lv_at hl 2 rfl) ?_
          refine xn_add hx hb dX0_valueAt_43 ?_
          refine xa_iald hx hb hK hP 1 0 rfl rfl (k := j * 4 + z) (by omega) (by decide) dX0_valueAt_44 ?_
          exact K _ _ _ (px4.good hj ⟨fun z2 h1 h2 e => by rw [(nI_eq (by omega) (by omega)).mp e], fun h => h.elim (fun h => absurd h (by omega)) (fun h => absurd rfl (h z hz))⟩) rfl dX0_valueAt_45
        · refine lv_sipush (v := (-1000)) hx hb dX0_valueAt_31 rfl ?_
          exact K _ _ _ (px4.good hj ⟨fun z2 h1 h2 e => by first | (exact absurd h2 (by omega)) | (subst e; exact absurd c_18 (nI_pos (by omega))) | (subst e; exact absurd (nI_lt h1 (by omega)) c_28), fun _ => rfl⟩) rfl dX0_valueAt_34
  · refine xn_if_eq (tgt := 31) hx hb dX0_valueAt_4 (by decide) (by omega) (fun c_4 => ?_) (fun c_4 => absurd c_4 (by omega))
    refine lv_sipush (v := (-1000)) hx hb dX0_valueAt_31 rfl ?_
    exact K _ _ _ (px4.bad hbad_x rfl) rfl dX0_valueAt_34
set_option maxHeartbeats 4000000 in
set_option maxRecDepth 100000 in
theorem mX0_modulus (l : Launch) (dC : Nat → ClassId) (dI : Nat → Nat → Nat) (dA dB : ClassId) (h0 : Nat) (ad : Nat → Nat) (nl gr un al ab : Int32) (sb : Int64) (cn : Int32) (ga : Nat → Int32) (x : Int32) : Met l yX0_modulus (ws_ yX0_modulus cX0_modulus 2 (some .int)) ({ frames := 1, cells := 0, slots := 0, locals := 20 } : Room) (va_Pc [.ref h0, .int x] (xPreR (dC, dI) vwCl (xT dA dB) [(h0, oF ad cn nl gr un al ab sb), (ad 4, .inl (dA, 4, .inl ga))])) (vp_Si (fun r => px4 x (r = (-1)) (fun j => r = if cn = 0 then nI 0 else ga j))) 0 0 (fun _ => False) := by
  refine xm_R (by decide) (Nat.le_of_ble_eq_true rfl) ?_
  intro p e s m args below meth c hx hb hml hown hts hK H locs hP Q K ls hl
  have hown : s.vm.findClass RX0 = some m.cls := hown
  have hl : lv_has ls 2 [(0, .ref h0), (1, .int x)] := hl
  refine lv_iload_n hx hb dX0_modulus_0 rfl (lv_at hl 1 rfl) ?_
  refine xc_S [.int x] ⟨hx, hb, hml, hown, hts⟩ (mX0_isVariable l x) (va_cwS 1 hts (lw_S q129 q130 q13 q131) rfl rfl rfl (by decide +kernel) ⟨Nat.le_of_ble_eq_true rfl, Nat.le_of_ble_eq_true rfl⟩) rfl hl.1 rfl (Nat.le_of_ble_eq_true rfl) dX0_modulus_1 ⟨Nat.le_of_ble_eq_true rfl, Nat.le_of_ble_eq_true rfl⟩ (fun r_1 h_1 => ?_)
  rcases h_1 with ⟨j, hj, rfl, rfl⟩ | ⟨hbad_x, rfl⟩
  · refine xn_if_ne (tgt := 9) hx hb dX0_modulus_4 (by decide) (by omega) (fun c_4 => ?_) (fun c_4 => absurd c_4 (by omega))
    refine lv_aload_n hx hb dX0_modulus_9 rfl (lv_at hl 0 rfl) ?_
    refine x0_get hx hb hts hown hK hP 0 rfl 0 (by decide) (hts _ q23) rfl (v := .int cn) rfl dX0_modulus_10 ?_
    refine lv_if_ne (tgt := 20) hx hb dX0_modulus_13 (by decide) (fun c_13 => ?_) (fun c_13 => ?_)
    · refine lv_aload_n hx hb dX0_modulus_20 rfl (lv_at hl 0 rfl) ?_
      refine x0_get hx hb hts hown hK hP 0 rfl 5 (by decide) (hts _ q28) rfl (v := .ref (ad 4)) rfl dX0_modulus_21 ?_
      refine lv_iload_n hx hb dX0_modulus_24 rfl (lv_at hl 1 rfl) ?_
      refine xa_iald hx hb hK hP 1 0 rfl rfl (k := j) (by omega) (by decide) dX0_modulus_25 ?_
      exact K _ _ _ (px4.good hj (by first | rw [if_pos c_13] | rw [if_neg c_13])) rfl dX0_modulus_26
    · refine lv_iconst (v := nI 0) hx hb dX0_modulus_16 rfl ?_
      refine lv_goto (tgt := 26) hx hb dX0_modulus_17 (by decide) ?_
      exact K _ _ _ (px4.good hj (by first | rw [if_pos c_13] | rw [if_neg c_13])) rfl dX0_modulus_26
  · refine xn_if_ne (tgt := 9) hx hb dX0_modulus_4 (by decide) (by omega) (fun c_4 => absurd c_4 (by omega)) (fun c_4 => ?_)
    refine lv_iconst (v := (-1)) hx hb dX0_modulus_7 rfl ?_
    exact K _ _ _ (px4.bad hbad_x rfl) rfl dX0_modulus_8
theorem rem_fix1 {x : Int32} {g : Nat} (hg : 0 < g) (hg2 : g ≤ 200) (h : okw x) (c : ¬ 0 ≤ x - x / nI g * nI g) : (x - x / nI g * nI g + nI g).toInt = x.toInt % (g : Int) := by
  have e := rem_nI hg hg2 (x := x) ⟨by have := h.1; omega, by have := h.2; omega⟩
  rw [Int32.le_iff_toInt_le, e, show (0 : Int32).toInt = 0 from rfl] at c
  have h3 : (x.toInt.tmod g).natAbs < g := by
    have := Int.natAbs_tmod x.toInt g
    rw [this]
    exact Nat.mod_lt _ hg
  rw [Int32.toInt_add, e, nI_toInt (by omega), Int.bmod_eq_of_le (by omega) (by omega), ← tmod_emod hg, if_pos (by omega)]
theorem rem_fix2 {x : Int32} {g : Nat} (hg : 0 < g) (hg2 : g ≤ 200) (h : okw x) (c : 0 ≤ x - x / nI g * nI g) : (x - x / nI g * nI g).toInt = x.toInt % (g : Int) := by
  have e := rem_nI hg hg2 (x := x) ⟨by have := h.1; omega, by have := h.2; omega⟩
  rw [Int32.le_iff_toInt_le, e, show (0 : Int32).toInt = 0 from rfl] at c
  rw [e, ← tmod_emod hg, if_neg (by omega)]
set_option maxHeartbeats 4000000 in
set_option maxRecDepth 100000 in
theorem mX0_remainder (l : Launch) (dC : Nat → ClassId) (dI : Nat → Nat → Nat) (dA dB : ClassId) (h0 : Nat) (ad : Nat → Nat) (nl gr un al ab : Int32) (sb : Int64) (n : Nat) (fi ga : Nat → Int32) (gk : Nat → Nat) (x : Int32) (hn : n ≤ 100) (hga : 0 < n → ∀ j, j < 4 → gk j ≤ 200 ∧ ga j = nI (gk j) ∧ okw (fi j)) : Met l yX0_remainder (ws_ yX0_remainder cX0_remainder 4 (some .int)) ({ frames := 2, cells := 0, slots := 0, locals := 41 } : Room) (va_Pc [.ref h0, .int x] (xPreR (dC, dI) vwCl (xT dA dB) [(h0, oF ad (nI n) nl gr un al ab sb), (ad 1, .inl (dA, 4, .inl fi)), (ad 4, .inl (dA, 4, .inl ga))])) (vp_Si (fun r => px4 x (r = (-1000)) (fun j => (n = 0 ∨ gk j < 2 → r = (-1000)) ∧ (0 < n → 2 ≤ gk j → r.toInt = (fi j).toInt % (gk j : Int))))) 0 0 (fun _ => False) := by
  refine xm_R (by decide) (Nat.le_of_ble_eq_true rfl) ?_
  intro p e s m args below meth c hx hb hml hown hts hK H locs hP Q K ls hl
  have hown : s.vm.findClass RX0 = some m.cls := hown
  have hl : lv_has ls 4 [(0, .ref h0), (1, .int x)] := hl
  refine lv_aload_n hx hb dX0_remainder_0 rfl (lv_at hl 0 rfl) ?_
  refine lv_iload_n hx hb dX0_remainder_1 rfl (lv_at hl 1 rfl) ?_
  refine xc_V (ci := 0) (q0 := 0) [.int x] ⟨hx, hb, hml, hown, hts⟩ hK hP rfl rfl rfl [0, 2] rfl (mX0_modulus l dC dI dA dB h0 ad nl gr un al ab sb (nI n) ga x) (cwV 1 hts (lw_V q152 q145 q146 q13 q147) rfl rfl rfl (by decide +kernel) ⟨Nat.le_of_ble_eq_true rfl, Nat.le_of_ble_eq_true rfl⟩) rfl hl.1 rfl (Nat.le_of_ble_eq_true rfl) dX0_remainder_2 ⟨Nat.le_of_ble_eq_true rfl, Nat.le_of_ble_eq_true rfl⟩ (fun r_2 h_2 => ?_)
  rcases bad4_or x with ⟨j, hj, rfl⟩ | hbad_x
  · have h_2 : r_2 = if nI n = 0 then nI 0 else ga j := h_2.2 j hj rfl
    rcases Nat.eq_zero_or_pos n with hn0 | hn0
    · rw [if_pos (show nI n = 0 by rw [hn0]; rfl)] at h_2
      subst h_2
      refine lv_istore_n (lv' := [(2, .int (nI 0)), (0, .ref h0), (1, .int (nI j))]) hx hb dX0_remainder_5 rfl hl (by decide) rfl (fun ls hl => ?_)
      refine lv_iload_n hx hb dX0_remainder_6 rfl (lv_at hl 0 rfl) ?_
      refine lv_iconst (v := nI 2) hx hb dX0_remainder_7 rfl ?_
      refine xn_ge (tgt := 15) hx hb dX0_remainder_8 (by decide) (by omega) (by omega) (fun c_8 => absurd c_8 (by omega)) (fun c_8 => ?_)
      refine lv_sipush (v := (-1000)) hx hb dX0_remainder_11 rfl ?_
      exact K _ _ _ (px4.good hj ⟨fun _ => rfl, fun h => absurd h (by omega)⟩) rfl dX0_remainder_14
    · rw [if_neg (nI_ne0 hn0 (by omega))] at h_2
      obtain ⟨hg1, hg2, hg3⟩ := hga hn0 j hj
      rw [hg2] at h_2
      subst h_2
      refine lv_istore_n (lv' := [(2, .int (nI (gk j))), (0, .ref h0), (1, .int (nI j))]) hx hb dX0_remainder_5 rfl hl (by decide) rfl (fun ls hl => ?_)
      refine lv_iload_n hx hb dX0_remainder_6 rfl (lv_at hl 0 rfl) ?_
      refine lv_iconst (v := nI 2) hx hb dX0_remainder_7 rfl ?_
      refine xn_ge (tgt := 15) hx hb dX0_remainder_8 (by decide) (by omega) (by omega) (fun c_8 => ?_) (fun c_8 => ?_)
      · refine lv_aload_n hx hb dX0_remainder_15 rfl (lv_at hl 1 rfl) ?_
        refine x0_get hx hb hts hown hK hP 0 rfl 2 (by decide) (hts _ q25) rfl (v := .ref (ad 1)) rfl dX0_remainder_16 ?_
        refine lv_iload_n hx hb dX0_remainder_19 rfl (lv_at hl 2 rfl) ?_
        refine xa_iald hx hb hK hP 1 0 rfl rfl (k := j) (by omega) (by decide) dX0_remainder_20 ?_
        refine lv_iload_n hx hb dX0_remainder_21 rfl (lv_at hl 0 rfl) ?_
        refine lv_irem hx hb dX0_remainder_22 (nI_ne0 (by omega) (by omega)) ?_
        refine lv_istore_n (lv' := [(3, .int ((fi j) - (fi j) / (nI (gk j)) * (nI (gk j)))), (2, .int (nI (gk j))), (0, .ref h0), (1, .int (nI j))]) hx hb dX0_remainder_23 rfl hl (by decide) rfl (fun ls hl => ?_)
        refine lv_iload_n hx hb dX0_remainder_24 rfl (lv_at hl 0 rfl) ?_
        refine lv_if_ge (tgt := 34) hx hb dX0_remainder_25 (by decide) (fun c_25 => ?_) (fun c_25 => ?_)
        · refine lv_iload_n hx hb dX0_remainder_34 rfl (lv_at hl 0 rfl) ?_
          exact K _ _ _ (px4.good hj ⟨fun h => absurd h (by omega), fun _ _ => rem_fix2 (by omega) hg1 hg3 c_25⟩) rfl dX0_remainder_35
        · refine lv_iload_n hx hb dX0_remainder_28 rfl (lv_at hl 0 rfl) ?_
          refine lv_iload_n hx hb dX0_remainder_29 rfl (lv_at hl 1 rfl) ?_
          refine lv_iadd hx hb dX0_remainder_30 ?_
          refine lv_goto (tgt := 35) hx hb dX0_remainder_31 (by decide) ?_
          exact K _ _ _ (px4.good hj ⟨fun h => absurd h (by omega), fun _ _ => rem_fix1 (by omega) hg1 hg3 c_25⟩) rfl dX0_remainder_35
      · refine lv_sipush (v := (-1000)) hx hb dX0_remainder_11 rfl ?_
        exact K _ _ _ (px4.good hj ⟨fun _ => rfl, fun _ h => absurd h (by omega)⟩) rfl dX0_remainder_14
  · have h_2 := h_2.1 hbad_x
    subst h_2
    refine lv_istore_n (lv' := [(2, .int (-1)), (0, .ref h0), (1, .int x)]) hx hb dX0_remainder_5 rfl hl (by decide) rfl (fun ls hl => ?_)
    refine lv_iload_n hx hb dX0_remainder_6 rfl (lv_at hl 0 rfl) ?_
    refine lv_iconst (v := nI 2) hx hb dX0_remainder_7 rfl ?_
    refine lv_icmp_ge (tgt := 15) hx hb dX0_remainder_8 (by decide) (fun c_8 => absurd c_8 (by decide)) (fun c_8 => ?_)
    refine lv_sipush (v := (-1000)) hx hb dX0_remainder_11 rfl ?_
    exact K _ _ _ (px4.bad hbad_x rfl) rfl dX0_remainder_14
def selR (nl gr un al : Int32) (q : Nat) : Int32 := match q with
  | 0 => nl
  | 1 => gr
  | 2 => un
  | _ => al
theorem selR_3 {nl gr un al : Int32} {q : Nat} (h : q < 4) (h0 : 0 < q) (h1 : q ≠ 1) (h2 : q ≠ 2) : selR nl gr un al q = al := by
  rw [show q = 3 by omega]; rfl
theorem bool_post {r : Nat} {b : Bool} (h : (r = 1 ∧ b = false) ∨ (r = 0 ∧ b = true)) : (nI r = nI 1 ∧ b = false) ∨ (nI r = nI 0 ∧ b = true) := by
  rcases h with ⟨h, e⟩ | ⟨h, e⟩
  · exact Or.inl ⟨by rw [h], e⟩
  · exact Or.inr ⟨by rw [h], e⟩
theorem le3 {x : Int32} (h : x ≤ nI 3) : ¬ nI 3 < x := by
  rw [Int32.le_iff_toInt_le] at h
  rw [Int32.lt_iff_toInt_lt]
  omega
theorem nle3 {x : Int32} (h : ¬ x ≤ nI 3) : nI 3 < x := by
  rw [Int32.le_iff_toInt_le] at h
  rw [Int32.lt_iff_toInt_lt]
  omega
set_option maxHeartbeats 4000000 in
set_option maxRecDepth 100000 in
theorem mX0_relation (l : Launch) (dC : Nat → ClassId) (dI : Nat → Nat → Nat) (dA dB : ClassId) (h0 : Nat) (ad : Nat → Nat) (nl gr un al ab : Int32) (sb : Int64) (cn : Int32) (x y rel : Int32) : Met l yX0_relation (ws_ yX0_relation cX0_relation 5 (some .boolean)) ({ frames := 2, cells := 0, slots := 0, locals := 41 } : Room) (va_Pc [.ref h0, .int x, .int y, .int rel] (xPreR (dC, dI) vwCl (xT dA dB) [(h0, oF ad cn nl gr un al ab sb)])) (vp_Si (fun r => pxP x y (r = nI 0) (fun i j => px4 rel (r = nI 0) (fun q => (r = nI 1 ∧ ibt (selR nl gr un al q) (4 * i + j) = false) ∨ (r = nI 0 ∧ ibt (selR nl gr un al q) (4 * i + j) = true))))) 0 0 (fun _ => False) := by
  refine xm_R (by decide) (Nat.le_of_ble_eq_true rfl) ?_
  intro p e s m args below meth c hx hb hml hown hts hK H locs hP Q K ls hl
  have hown : s.vm.findClass RX0 = some m.cls := hown
  have hl : lv_has ls 5 [(0, .ref h0), (1, .int x), (2, .int y), (3, .int rel)] := hl
  refine lv_iload_n hx hb dX0_relation_0 rfl (lv_at hl 1 rfl) ?_
  refine lv_iload_n hx hb dX0_relation_1 rfl (lv_at hl 2 rfl) ?_
  refine xc_S [.int x, .int y] ⟨hx, hb, hml, hown, hts⟩ (mX0_isPair l x y) (va_cwS 2 hts (lw_S q157 q158 q13 q159) rfl rfl rfl (by decide +kernel) ⟨Nat.le_of_ble_eq_true rfl, Nat.le_of_ble_eq_true rfl⟩) rfl hl.1 rfl (Nat.le_of_ble_eq_true rfl) dX0_relation_2 ⟨Nat.le_of_ble_eq_true rfl, Nat.le_of_ble_eq_true rfl⟩ (fun r_2 h_2 => ?_)
  rcases h_2 with ⟨i, j, hi, hj, hij, rfl, rfl, rfl⟩ | ⟨hbad, rfl⟩
  · refine xn_if_eq (tgt := 17) hx hb dX0_relation_5 (by decide) (by omega) (fun c_5 => absurd c_5 (by omega)) (fun c_5 => ?_)
    refine lv_iload_n hx hb dX0_relation_8 rfl (lv_at hl 3 rfl) ?_
    refine lv_if_lt (tgt := 17) hx hb dX0_relation_9 (by decide) (fun c_9 => ?_) (fun c_9 => ?_)
    · refine lv_iconst (v := nI 0) hx hb dX0_relation_17 rfl ?_
      exact K _ _ _ (pxP.good hi hj hij (px4.bad (bad4_of2 (by first | exact Or.inl c_9 | exact Or.inr (nle3 c_14))) rfl)) rfl dX0_relation_18
    · refine lv_iload_n hx hb dX0_relation_12 rfl (lv_at hl 3 rfl) ?_
      refine lv_iconst (v := nI 3) hx hb dX0_relation_13 rfl ?_
      refine lv_icmp_le (tgt := 19) hx hb dX0_relation_14 (by decide) (fun c_14 => ?_) (fun c_14 => ?_)
      · obtain ⟨q, hq, rfl⟩ := good4_of2 c_9 (le3 c_14)
        refine lv_iload_n hx hb dX0_relation_19 rfl (lv_at hl 3 rfl) ?_
        refine xn_if_ne (tgt := 30) hx hb dX0_relation_20 (by decide) (by omega) (fun c_20 => ?_) (fun c_20 => ?_)
        · refine lv_iload_n hx hb dX0_relation_30 rfl (lv_at hl 3 rfl) ?_
          refine lv_iconst (v := nI 1) hx hb dX0_relation_31 rfl ?_
          refine xn_ne (tgt := 42) hx hb dX0_relation_32 (by decide) (by omega) (by omega) (fun c_32 => ?_) (fun c_32 => ?_)
          · refine lv_iload_n hx hb dX0_relation_42 rfl (lv_at hl 3 rfl) ?_
            refine lv_iconst (v := nI 2) hx hb dX0_relation_43 rfl ?_
            refine xn_ne (tgt := 54) hx hb dX0_relation_44 (by decide) (by omega) (by omega) (fun c_44 => ?_) (fun c_44 => ?_)
            · refine lv_aload_n hx hb dX0_relation_54 rfl (lv_at hl 0 rfl) ?_
              refine x0_get hx hb hts hown hK hP 0 rfl 11 (by decide) (hts _ q34) rfl (v := .int al) rfl dX0_relation_55 ?_
              refine lv_istore (lv' := [(4, .int al), (0, .ref h0), (1, .int (nI i)), (2, .int (nI j)), (3, .int (nI q))]) hx hb dX0_relation_58 hl (by decide) rfl (fun ls hl => ?_)
              refine lv_iload hx hb dX0_relation_60 (lv_at hl 0 rfl) ?_
              refine lv_iconst (v := nI 4) hx hb dX0_relation_62 rfl ?_
              refine lv_iload_n hx hb dX0_relation_63 rfl (lv_at hl 2 rfl) ?_
              refine xn_mul hx hb dX0_relation_64 ?_
              refine lv_iload_n hx hb dX0_relation_65 rfl (lv_at hl 3 rfl) ?_
              refine xn_add hx hb dX0_relation_66 ?_
              refine lv_ishr hx hb dX0_relation_67 ?_
              refine lv_iconst (v := nI 1) hx hb dX0_relation_68 rfl ?_
              refine lv_iand hx hb dX0_relation_69 ?_
              refine lv_if_ne (tgt := 77) hx hb dX0_relation_70 (by decide) (fun c_70 => ?_) (fun c_70 => ?_)
              · refine lv_iconst (v := nI 0) hx hb dX0_relation_77 rfl ?_
                exact K _ _ _ (pxP.good hi hj hij (px4.good hq (Or.inr ⟨rfl, by rw [show selR nl gr un al q = _ from (by first | rw [selR_3 hq c_20 c_32 c_44] | (subst c_20; rfl) | (subst c_32; rfl) | (subst c_44; rfl))]; exact Bool.not_eq_false _ ▸ (fun h => c_70 ((ibt_shr (by omega)).mpr h))⟩))) rfl dX0_relation_78
              · refine lv_iconst (v := nI 1) hx hb dX0_relation_73 rfl ?_
                refine lv_goto (tgt := 78) hx hb dX0_relation_74 (by decide) ?_
                exact K _ _ _ (pxP.good hi hj hij (px4.good hq (Or.inl ⟨rfl, by rw [show selR nl gr un al q = _ from (by first | rw [selR_3 hq c_20 c_32 c_44] | (subst c_20; rfl) | (subst c_32; rfl) | (subst c_44; rfl))]; exact (ibt_shr (by omega)).mp c_70⟩))) rfl dX0_relation_78
            · refine lv_aload_n hx hb dX0_relation_47 rfl (lv_at hl 0 rfl) ?_
              refine x0_get hx hb hts hown hK hP 0 rfl 10 (by decide) (hts _ q33) rfl (v := .int un) rfl dX0_relation_48 ?_
              refine lv_goto (tgt := 58) hx hb dX0_relation_51 (by decide) ?_
              refine lv_istore (lv' := [(4, .int un), (0, .ref h0), (1, .int (nI i)), (2, .int (nI j)), (3, .int (nI q))]) hx hb dX0_relation_58 hl (by decide) rfl (fun ls hl => ?_)
              refine lv_iload hx hb dX0_relation_60 (lv_at hl 0 rfl) ?_
              refine lv_iconst (v := nI 4) hx hb dX0_relation_62 rfl ?_
              refine lv_iload_n hx hb dX0_relation_63 rfl (lv_at hl 2 rfl) ?_
              refine xn_mul hx hb dX0_relation_64 ?_
              refine lv_iload_n hx hb dX0_relation_65 rfl (lv_at hl 3 rfl) ?_
              refine xn_add hx hb dX0_relation_66 ?_
              refine lv_ishr hx hb dX0_relation_67 ?_
              refine lv_iconst (v := nI 1) hx hb dX0_relation_68 rfl ?_
              refine lv_iand hx hb dX0_relation_69 ?_
              refine lv_if_ne (tgt := 77) hx hb dX0_relation_70 (by decide) (fun c_70 => ?_) (fun c_70 => ?_)
              · refine lv_iconst (v := nI 0) hx hb dX0_relation_77 rfl ?_
                exact K _ _ _ (pxP.good hi hj hij (px4.good hq (Or.inr ⟨rfl, by rw [show selR nl gr un al q = _ from (by first | rw [selR_3 hq c_20 c_32 c_44] | (subst c_20; rfl) | (subst c_32; rfl) | (subst c_44; rfl))]; exact Bool.not_eq_false _ ▸ (fun h => c_70 ((ibt_shr (by omega)).mpr h))⟩))) rfl dX0_relation_78
              · refine lv_iconst (v := nI 1) hx hb dX0_relation_73 rfl ?_
                refine lv_goto (tgt := 78) hx hb dX0_relation_74 (by decide) ?_
                exact K _ _ _ (pxP.good hi hj hij (px4.good hq (Or.inl ⟨rfl, by rw [show selR nl gr un al q = _ from (by first | rw [selR_3 hq c_20 c_32 c_44] | (subst c_20; rfl) | (subst c_32; rfl) | (subst c_44; rfl))]; exact (ibt_shr (by omega)).mp c_70⟩))) rfl dX0_relation_78
          · refine lv_aload_n hx hb dX0_relation_35 rfl (lv_at hl 0 rfl) ?_
            refine x0_get hx hb hts hown hK hP 0 rfl 9 (by decide) (hts _ q32) rfl (v := .int gr) rfl dX0_relation_36 ?_
            refine lv_goto (tgt := 58) hx hb dX0_relation_39 (by decide) ?_
            refine lv_istore (lv' := [(4, .int gr), (0, .ref h0), (1, .int (nI i)), (2, .int (nI j)), (3, .int (nI q))]) hx hb dX0_relation_58 hl (by decide) rfl (fun ls hl => ?_)
            refine lv_iload hx hb dX0_relation_60 (lv_at hl 0 rfl) ?_
            refine lv_iconst (v := nI 4) hx hb dX0_relation_62 rfl ?_
            refine lv_iload_n hx hb dX0_relation_63 rfl (lv_at hl 2 rfl) ?_
            refine xn_mul hx hb dX0_relation_64 ?_
            refine lv_iload_n hx hb dX0_relation_65 rfl (lv_at hl 3 rfl) ?_
            refine xn_add hx hb dX0_relation_66 ?_
            refine lv_ishr hx hb dX0_relation_67 ?_
            refine lv_iconst (v := nI 1) hx hb dX0_relation_68 rfl ?_
            refine lv_iand hx hb dX0_relation_69 ?_
            refine lv_if_ne (tgt := 77) hx hb dX0_relation_70 (by decide) (fun c_70 => ?_) (fun c_70 => ?_)
            · refine lv_iconst (v := nI 0) hx hb dX0_relation_77 rfl ?_
              exact K _ _ _ (pxP.good hi hj hij (px4.good hq (Or.inr ⟨rfl, by rw [show selR nl gr un al q = _ from (by first | rw [selR_3 hq c_20 c_32 c_44] | (subst c_20; rfl) | (subst c_32; rfl) | (subst c_44; rfl))]; exact Bool.not_eq_false _ ▸ (fun h => c_70 ((ibt_shr (by omega)).mpr h))⟩))) rfl dX0_relation_78
            · refine lv_iconst (v := nI 1) hx hb dX0_relation_73 rfl ?_
              refine lv_goto (tgt := 78) hx hb dX0_relation_74 (by decide) ?_
              exact K _ _ _ (pxP.good hi hj hij (px4.good hq (Or.inl ⟨rfl, by rw [show selR nl gr un al q = _ from (by first | rw [selR_3 hq c_20 c_32 c_44] | (subst c_20; rfl) | (subst c_32; rfl) | (subst c_44; rfl))]; exact (ibt_shr (by omega)).mp c_70⟩))) rfl dX0_relation_78
        · refine lv_aload_n hx hb dX0_relation_23 rfl (lv_at hl 0 rfl) ?_
          refine x0_get hx hb hts hown hK hP 0 rfl 8 (by decide) (hts _ q31) rfl (v := .int nl) rfl dX0_relation_24 ?_
          refine lv_goto (tgt := 58) hx hb dX0_relation_27 (by decide) ?_
          refine lv_istore (lv' := [(4, .int nl), (0, .ref h0), (1, .int (nI i)), (2, .int (nI j)), (3, .int (nI q))]) hx hb dX0_relation_58 hl (by decide) rfl (fun ls hl => ?_)
          refine lv_iload hx hb dX0_relation_60 (lv_at hl 0 rfl) ?_
          refine lv_iconst (v := nI 4) hx hb dX0_relation_62 rfl ?_
          refine lv_iload_n hx hb dX0_relation_63 rfl (lv_at hl 2 rfl) ?_
          refine xn_mul hx hb dX0_relation_64 ?_
          refine lv_iload_n hx hb dX0_relation_65 rfl (lv_at hl 3 rfl) ?_
          refine xn_add hx hb dX0_relation_66 ?_
          refine lv_ishr hx hb dX0_relation_67 ?_
          refine lv_iconst (v := nI 1) hx hb dX0_relation_68 rfl ?_
          refine lv_iand hx hb dX0_relation_69 ?_
          refine lv_if_ne (tgt := 77) hx hb dX0_relation_70 (by decide) (fun c_70 => ?_) (fun c_70 => ?_)
          · refine lv_iconst (v := nI 0) hx hb dX0_relation_77 rfl ?_
            exact K _ _ _ (pxP.good hi hj hij (px4.good hq (Or.inr ⟨rfl, by rw [show selR nl gr un al q = _ from (by first | rw [selR_3 hq c_20 c_32 c_44] | (subst c_20; rfl) | (subst c_32; rfl) | (subst c_44; rfl))]; exact Bool.not_eq_false _ ▸ (fun h => c_70 ((ibt_shr (by omega)).mpr h))⟩))) rfl dX0_relation_78
          · refine lv_iconst (v := nI 1) hx hb dX0_relation_73 rfl ?_
            refine lv_goto (tgt := 78) hx hb dX0_relation_74 (by decide) ?_
            exact K _ _ _ (pxP.good hi hj hij (px4.good hq (Or.inl ⟨rfl, by rw [show selR nl gr un al q = _ from (by first | rw [selR_3 hq c_20 c_32 c_44] | (subst c_20; rfl) | (subst c_32; rfl) | (subst c_44; rfl))]; exact (ibt_shr (by omega)).mp c_70⟩))) rfl dX0_relation_78
      · refine lv_iconst (v := nI 0) hx hb dX0_relation_17 rfl ?_
        exact K _ _ _ (pxP.good hi hj hij (px4.bad (bad4_of2 (by first | exact Or.inl c_9 | exact Or.inr (nle3 c_14))) rfl)) rfl dX0_relation_18
  · refine xn_if_eq (tgt := 17) hx hb dX0_relation_5 (by decide) (by omega) (fun c_5 => ?_) (fun c_5 => absurd c_5 (by omega))
    refine lv_iconst (v := nI 0) hx hb dX0_relation_17 rfl ?_
    exact K _ _ _ (pxP.bad hbad rfl) rfl dX0_relation_18
set_option maxHeartbeats 4000000 in
set_option maxRecDepth 100000 in
theorem mX0_offset (l : Launch) (dC : Nat → ClassId) (dI : Nat → Nat → Nat) (dA dB : ClassId) (h0 : Nat) (ad : Nat → Nat) (nl gr un al ab : Int32) (sb : Int64) (cn : Int32) (aw : Nat → Int32) (x y : Int32) : Met l yX0_offset (ws_ yX0_offset cX0_offset 4 (some .int)) ({ frames := 2, cells := 0, slots := 0, locals := 41 } : Room) (va_Pc [.ref h0, .int x, .int y] (xPreR (dC, dI) vwCl (xT dA dB) [(h0, oF ad cn nl gr un al ab sb), (ad 11, .inl (dA, 16, .inl aw))])) (vp_Si (fun r => pxP x y (r = (-1000)) (fun i j => r = if cn = 0 then (-1000) else if ibt ab (4 * i + j) = true then (-1000) else aw (4 * i + j)))) 0 0 (fun _ => False) := by
  refine xm_R (by decide) (Nat.le_of_ble_eq_true rfl) ?_
  intro p e s m args below meth c hx hb hml hown hts hK H locs hP Q K ls hl
  have hown : s.vm.findClass RX0 = some m.cls := hown
  have hl : lv_has ls 4 [(0, .ref h0), (1, .int x), (2, .int y)] := hl
  refine lv_iload_n hx hb dX0_offset_0 rfl (lv_at hl 1 rfl) ?_
  refine lv_iload_n hx hb dX0_offset_1 rfl (lv_at hl 2 rfl) ?_
  refine xc_S [.int x, .int y] ⟨hx, hb, hml, hown, hts⟩ (mX0_isPair l x y) (va_cwS 2 hts (lw_S q157 q158 q13 q159) rfl rfl rfl (by decide +kernel) ⟨Nat.le_of_ble_eq_true rfl, Nat.le_of_ble_eq_true rfl⟩) rfl hl.1 rfl (Nat.le_of_ble_eq_true rfl) dX0_offset_2 ⟨Nat.le_of_ble_eq_true rfl, Nat.le_of_ble_eq_true rfl⟩ (fun r_2 h_2 => ?_)
  rcases h_2 with ⟨i, j, hi, hj, hij, rfl, rfl, rfl⟩ | ⟨hbad, rfl⟩
  · refine xn_if_eq (tgt := 15) hx hb dX0_offset_5 (by decide) (by omega) (fun c_5 => absurd c_5 (by omega)) (fun c_5 => ?_)
    refine lv_aload_n hx hb dX0_offset_8 rfl (lv_at hl 0 rfl) ?_
    refine x0_get hx hb hts hown hK hP 0 rfl 0 (by decide) (hts _ q23) rfl (v := .int cn) rfl dX0_offset_9 ?_
    refine lv_if_ne (tgt := 19) hx hb dX0_offset_12 (by decide) (fun c_12 => ?_) (fun c_12 => ?_)
    · refine lv_iconst (v := nI 4) hx hb dX0_offset_19 rfl ?_
      refine lv_iload_n hx hb dX0_offset_20 rfl (lv_at hl 1 rfl) ?_
      refine xn_mul hx hb dX0_offset_21 ?_
      refine lv_iload_n hx hb dX0_offset_22 rfl (lv_at hl 2 rfl) ?_
      refine xn_add hx hb dX0_offset_23 ?_
      refine lv_istore_n (lv' := [(3, .int (nI (4 * i + j))), (0, .ref h0), (1, .int (nI i)), (2, .int (nI j))]) hx hb dX0_offset_24 rfl hl (by decide) rfl (fun ls hl => ?_)
      refine lv_aload_n hx hb dX0_offset_25 rfl (lv_at hl 1 rfl) ?_
      refine x0_get hx hb hts hown hK hP 0 rfl 17 (by decide) (hts _ q40) rfl (v := .int ab) rfl dX0_offset_26 ?_
      refine lv_iload_n hx hb dX0_offset_29 rfl (lv_at hl 0 rfl) ?_
      refine lv_ishr hx hb dX0_offset_30 ?_
      refine lv_iconst (v := nI 1) hx hb dX0_offset_31 rfl ?_
      refine lv_iand hx hb dX0_offset_32 ?_
      refine lv_if_ne (tgt := 45) hx hb dX0_offset_33 (by decide) (fun c_33 => ?_) (fun c_33 => ?_)
      · refine lv_sipush (v := (-1000)) hx hb dX0_offset_45 rfl ?_
        exact K _ _ _ (pxP.good hi hj hij (by first | (rw [if_pos c_12]; done) | (rw [if_neg c_12, if_neg (by rw [(ibt_shr (by omega)).mp c_33]; decide)]; done) | (rw [if_neg c_12, if_pos (Classical.byContradiction fun h => c_33 ((ibt_shr (by omega)).mpr (Bool.eq_false_iff.mpr h)))]))) rfl dX0_offset_48
      · refine lv_aload_n hx hb dX0_offset_36 rfl (lv_at hl 1 rfl) ?_
        refine x0_get hx hb hts hown hK hP 0 rfl 16 (by decide) (hts _ q39) rfl (v := .ref (ad 11)) rfl dX0_offset_37 ?_
        refine lv_iload_n hx hb dX0_offset_40 rfl (lv_at hl 0 rfl) ?_
        refine xa_iald hx hb hK hP 1 0 rfl rfl (k := 4 * i + j) (by omega) (by decide) dX0_offset_41 ?_
        refine lv_goto (tgt := 48) hx hb dX0_offset_42 (by decide) ?_
        exact K _ _ _ (pxP.good hi hj hij (by first | (rw [if_pos c_12]; done) | (rw [if_neg c_12, if_neg (by rw [(ibt_shr (by omega)).mp c_33]; decide)]; done) | (rw [if_neg c_12, if_pos (Classical.byContradiction fun h => c_33 ((ibt_shr (by omega)).mpr (Bool.eq_false_iff.mpr h)))]))) rfl dX0_offset_48
    · refine lv_sipush (v := (-1000)) hx hb dX0_offset_15 rfl ?_
      exact K _ _ _ (pxP.good hi hj hij (by first | (rw [if_pos c_12]; done) | (rw [if_neg c_12, if_neg (by rw [(ibt_shr (by omega)).mp c_33]; decide)]; done) | (rw [if_neg c_12, if_pos (Classical.byContradiction fun h => c_33 ((ibt_shr (by omega)).mpr (Bool.eq_false_iff.mpr h)))]))) rfl dX0_offset_18
  · refine xn_if_eq (tgt := 15) hx hb dX0_offset_5 (by decide) (by omega) (fun c_5 => ?_) (fun c_5 => absurd c_5 (by omega))
    refine lv_sipush (v := (-1000)) hx hb dX0_offset_15 rfl ?_
    exact K _ _ _ (pxP.bad hbad rfl) rfl dX0_offset_18
set_option maxHeartbeats 4000000 in
set_option maxRecDepth 100000 in
theorem mX0_hasLine (l : Launch) (dC : Nat → ClassId) (dI : Nat → Nat → Nat) (dA dB : ClassId) (h0 : Nat) (ad : Nat → Nat) (nl gr un al ab : Int32) (sb : Int64) (cn : Int32) (ls0 : Nat → Int32) (x y : Int32) : Met l yX0_hasLine (ws_ yX0_hasLine cX0_hasLine 3 (some .boolean)) ({ frames := 2, cells := 0, slots := 0, locals := 41 } : Room) (va_Pc [.ref h0, .int x, .int y] (xPreR (dC, dI) vwCl (xT dA dB) [(h0, oF ad cn nl gr un al ab sb), (ad 7, .inl (dB, 16, .inl ls0))])) (vp_Si (fun r => pxP x y (r = nI 0) (fun i j => (ls0 (4 * i + j) = nI 2 ∧ r = nI 1) ∨ (¬ ls0 (4 * i + j) = nI 2 ∧ r = nI 0)))) 0 0 (fun _ => False) := by
  refine xm_R (by decide) (Nat.le_of_ble_eq_true rfl) ?_
  intro p e s m args below meth c hx hb hml hown hts hK H locs hP Q K ls hl
  have hown : s.vm.findClass RX0 = some m.cls := hown
  have hl : lv_has ls 3 [(0, .ref h0), (1, .int x), (2, .int y)] := hl
  refine lv_iload_n hx hb dX0_hasLine_0 rfl (lv_at hl 1 rfl) ?_
  refine lv_iload_n hx hb dX0_hasLine_1 rfl (lv_at hl 2 rfl) ?_
  refine xc_S [.int x, .int y] ⟨hx, hb, hml, hown, hts⟩ (mX0_isPair l x y) (va_cwS 2 hts (lw_S q157 q158 q13 q159) rfl rfl rfl (by decide +kernel) ⟨Nat.le_of_ble_eq_true rfl, Nat.le_of_ble_eq_true rfl⟩) rfl hl.1 rfl (Nat.le_of_ble_eq_true rfl) dX0_hasLine_2 ⟨Nat.le_of_ble_eq_true rfl, Nat.le_of_ble_eq_true rfl⟩ (fun r_2 h_2 => ?_)
  rcases h_2 with ⟨i, j, hi, hj, hij, rfl, rfl, rfl⟩ | ⟨hbad, rfl⟩
  · refine xn_if_eq (tgt := 26) hx hb dX0_hasLine_5 (by decide) (by omega) (fun c_5 => absurd c_5 (by omega)) (fun c_5 => ?_)
    refine lv_aload_n hx hb dX0_hasLine_8 rfl (lv_at hl 0 rfl) ?_
    refine x0_get hx hb hts hown hK hP 0 rfl 12 (by decide) (hts _ q35) rfl (v := .ref (ad 7)) rfl dX0_hasLine_9 ?_
    refine lv_iconst (v := nI 4) hx hb dX0_hasLine_12 rfl ?_
    refine lv_iload_n hx hb dX0_hasLine_13 rfl (lv_at hl 1 rfl) ?_
    refine xn_mul hx hb dX0_hasLine_14 ?_
    refine lv_iload_n hx hb dX0_hasLine_15 rfl (lv_at hl 2 rfl) ?_
    refine xn_add hx hb dX0_hasLine_16 ?_
    refine xa_bald hx hb hK hP 1 1 rfl rfl (k := 4 * i + j) (by omega) (by decide) dX0_hasLine_17 ?_
    refine lv_iconst (v := nI 2) hx hb dX0_hasLine_18 rfl ?_
    refine lv_icmp_ne (tgt := 26) hx hb dX0_hasLine_19 (by decide) (fun c_19 => ?_) (fun c_19 => ?_)
    · refine lv_iconst (v := nI 0) hx hb dX0_hasLine_26 rfl ?_
      exact K _ _ _ (pxP.good hi hj hij (Or.inr ⟨c_19, rfl⟩)) rfl dX0_hasLine_27
    · refine lv_iconst (v := nI 1) hx hb dX0_hasLine_22 rfl ?_
      refine lv_goto (tgt := 27) hx hb dX0_hasLine_23 (by decide) ?_
      exact K _ _ _ (pxP.good hi hj hij (Or.inl ⟨c_19, rfl⟩)) rfl dX0_hasLine_27
  · refine xn_if_eq (tgt := 26) hx hb dX0_hasLine_5 (by decide) (by omega) (fun c_5 => ?_) (fun c_5 => absurd c_5 (by omega))
    refine lv_iconst (v := nI 0) hx hb dX0_hasLine_26 rfl ?_
    exact K _ _ _ (pxP.bad hbad rfl) rfl dX0_hasLine_27
set_option maxHeartbeats 4000000 in
set_option maxRecDepth 100000 in
theorem mX0_line (l : Launch) (dC : Nat → ClassId) (dI : Nat → Nat → Nat) (dA dB : ClassId) (h0 : Nat) (ad : Nat → Nat) (nl gr un al ab : Int32) (sb : Int64) (cn : Int32) (ls0 lp : Nat → Int32) (x y : Int32) : Met l yX0_line (ws_ yX0_line cX0_line 3 (some .int)) ({ frames := 3, cells := 0, slots := 0, locals := 63 } : Room) (va_Pc [.ref h0, .int x, .int y] (xPreR (dC, dI) vwCl (xT dA dB) [(h0, oF ad cn nl gr un al ab sb), (ad 7, .inl (dB, 16, .inl ls0)), (ad 8, .inl (dA, 16, .inl lp))])) (vp_Si (fun r => pxP x y (r = nI 0) (fun i j => r = if ls0 (4 * i + j) = nI 2 then lp (4 * i + j) else nI 0))) 0 0 (fun _ => False) := by
  refine xm_R (by decide) (Nat.le_of_ble_eq_true rfl) ?_
  intro p e s m args below meth c hx hb hml hown hts hK H locs hP Q K ls hl
  have hown : s.vm.findClass RX0 = some m.cls := hown
  have hl : lv_has ls 3 [(0, .ref h0), (1, .int x), (2, .int y)] := hl
  refine lv_aload_n hx hb dX0_line_0 rfl (lv_at hl 0 rfl) ?_
  refine lv_iload_n hx hb dX0_line_1 rfl (lv_at hl 1 rfl) ?_
  refine lv_iload_n hx hb dX0_line_2 rfl (lv_at hl 2 rfl) ?_
  refine xc_V (ci := 0) (q0 := 0) [.int x, .int y] ⟨hx, hb, hml, hown, hts⟩ hK hP rfl rfl rfl [0, 1] rfl (mX0_hasLine l dC dI dA dB h0 ad nl gr un al ab sb cn ls0 x y) (cwV 2 hts (lw_V q168 q170 qs6 q13 q171) rfl rfl rfl (by decide +kernel) ⟨Nat.le_of_ble_eq_true rfl, Nat.le_of_ble_eq_true rfl⟩) rfl hl.1 rfl (Nat.le_of_ble_eq_true rfl) dX0_line_3 ⟨Nat.le_of_ble_eq_true rfl, Nat.le_of_ble_eq_true rfl⟩ (fun r_3 h_3 => ?_)
  rcases badP_or x y with ⟨i, j, hi, hj, hij, rfl, rfl⟩ | hbad
  · rcases h_3.2 i j hi hj hij rfl rfl with ⟨hs, rfl⟩ | ⟨hs, rfl⟩
    · refine xn_if_eq (tgt := 22) hx hb dX0_line_6 (by decide) (by omega) (fun c_6 => absurd c_6 (by omega)) (fun c_6 => ?_)
      refine lv_aload_n hx hb dX0_line_9 rfl (lv_at hl 0 rfl) ?_
      refine x0_get hx hb hts hown hK hP 0 rfl 13 (by decide) (hts _ q36) rfl (v := .ref (ad 8)) rfl dX0_line_10 ?_
      refine lv_iconst (v := nI 4) hx hb dX0_line_13 rfl ?_
      refine lv_iload_n hx hb dX0_line_14 rfl (lv_at hl 1 rfl) ?_
      refine xn_mul hx hb dX0_line_15 ?_
      refine lv_iload_n hx hb dX0_line_16 rfl (lv_at hl 2 rfl) ?_
      refine xn_add hx hb dX0_line_17 ?_
      refine xa_iald hx hb hK hP 2 0 rfl rfl (k := 4 * i + j) (by omega) (by decide) dX0_line_18 ?_
      refine lv_goto (tgt := 23) hx hb dX0_line_19 (by decide) ?_
      exact K _ _ _ (pxP.good hi hj hij (by rw [if_pos hs])) rfl dX0_line_23
    · refine xn_if_eq (tgt := 22) hx hb dX0_line_6 (by decide) (by omega) (fun c_6 => ?_) (fun c_6 => absurd c_6 (by omega))
      refine lv_iconst (v := nI 0) hx hb dX0_line_22 rfl ?_
      exact K _ _ _ (pxP.good hi hj hij (by rw [if_neg hs])) rfl dX0_line_23
  · have h_3 := h_3.1 hbad
    subst h_3
    refine xn_if_eq (tgt := 22) hx hb dX0_line_6 (by decide) (by omega) (fun c_6 => ?_) (fun c_6 => absurd c_6 (by omega))
    refine lv_iconst (v := nI 0) hx hb dX0_line_22 rfl ?_
    exact K _ _ _ (pxP.bad hbad rfl) rfl dX0_line_23
set_option maxHeartbeats 4000000 in
set_option maxRecDepth 100000 in
theorem mX0_slope (l : Launch) (dC : Nat → ClassId) (dI : Nat → Nat → Nat) (dA dB : ClassId) (h0 : Nat) (ad : Nat → Nat) (nl gr un al ab : Int32) (sb : Int64) (cn : Int32) (ls0 lq : Nat → Int32) (x y : Int32) : Met l yX0_slope (ws_ yX0_slope cX0_slope 3 (some .int)) ({ frames := 3, cells := 0, slots := 0, locals := 63 } : Room) (va_Pc [.ref h0, .int x, .int y] (xPreR (dC, dI) vwCl (xT dA dB) [(h0, oF ad cn nl gr un al ab sb), (ad 7, .inl (dB, 16, .inl ls0)), (ad 9, .inl (dA, 16, .inl lq))])) (vp_Si (fun r => pxP x y (r = nI 0) (fun i j => r = if ls0 (4 * i + j) = nI 2 then lq (4 * i + j) else nI 0))) 0 0 (fun _ => False) := by
  refine xm_R (by decide) (Nat.le_of_ble_eq_true rfl) ?_
  intro p e s m args below meth c hx hb hml hown hts hK H locs hP Q K ls hl
  have hown : s.vm.findClass RX0 = some m.cls := hown
  have hl : lv_has ls 3 [(0, .ref h0), (1, .int x), (2, .int y)] := hl
  refine lv_aload_n hx hb dX0_slope_0 rfl (lv_at hl 0 rfl) ?_
  refine lv_iload_n hx hb dX0_slope_1 rfl (lv_at hl 1 rfl) ?_
  refine lv_iload_n hx hb dX0_slope_2 rfl (lv_at hl 2 rfl) ?_
  refine xc_V (ci := 0) (q0 := 0) [.int x, .int y] ⟨hx, hb, hml, hown, hts⟩ hK hP rfl rfl rfl [0, 1] rfl (mX0_hasLine l dC dI dA dB h0 ad nl gr un al ab sb cn ls0 x y) (cwV 2 hts (lw_V q168 q170 qs6 q13 q171) rfl rfl rfl (by decide +kernel) ⟨Nat.le_of_ble_eq_true rfl, Nat.le_of_ble_eq_true rfl⟩) rfl hl.1 rfl (Nat.le_of_ble_eq_true rfl) dX0_slope_3 ⟨Nat.le_of_ble_eq_true rfl, Nat.le_of_ble_eq_true rfl⟩ (fun r_3 h_3 => ?_)
  rcases badP_or x y with ⟨i, j, hi, hj, hij, rfl, rfl⟩ | hbad
  · rcases h_3.2 i j hi hj hij rfl rfl with ⟨hs, rfl⟩ | ⟨hs, rfl⟩
    · refine xn_if_eq (tgt := 22) hx hb dX0_slope_6 (by decide) (by omega) (fun c_6 => absurd c_6 (by omega)) (fun c_6 => ?_)
      refine lv_aload_n hx hb dX0_slope_9 rfl (lv_at hl 0 rfl) ?_
      refine x0_get hx hb hts hown hK hP 0 rfl 14 (by decide) (hts _ q37) rfl (v := .ref (ad 9)) rfl dX0_slope_10 ?_
      refine lv_iconst (v := nI 4) hx hb dX0_slope_13 rfl ?_
      refine lv_iload_n hx hb dX0_slope_14 rfl (lv_at hl 1 rfl) ?_
      refine xn_mul hx hb dX0_slope_15 ?_
      refine lv_iload_n hx hb dX0_slope_16 rfl (lv_at hl 2 rfl) ?_
      refine xn_add hx hb dX0_slope_17 ?_
      refine xa_iald hx hb hK hP 2 0 rfl rfl (k := 4 * i + j) (by omega) (by decide) dX0_slope_18 ?_
      refine lv_goto (tgt := 23) hx hb dX0_slope_19 (by decide) ?_
      exact K _ _ _ (pxP.good hi hj hij (by rw [if_pos hs])) rfl dX0_slope_23
    · refine xn_if_eq (tgt := 22) hx hb dX0_slope_6 (by decide) (by omega) (fun c_6 => ?_) (fun c_6 => absurd c_6 (by omega))
      refine lv_iconst (v := nI 0) hx hb dX0_slope_22 rfl ?_
      exact K _ _ _ (pxP.good hi hj hij (by rw [if_neg hs])) rfl dX0_slope_23
  · have h_3 := h_3.1 hbad
    subst h_3
    refine xn_if_eq (tgt := 22) hx hb dX0_slope_6 (by decide) (by omega) (fun c_6 => ?_) (fun c_6 => absurd c_6 (by omega))
    refine lv_iconst (v := nI 0) hx hb dX0_slope_22 rfl ?_
    exact K _ _ _ (pxP.bad hbad rfl) rfl dX0_slope_23
set_option maxHeartbeats 4000000 in
set_option maxRecDepth 100000 in
theorem mX0_rise (l : Launch) (dC : Nat → ClassId) (dI : Nat → Nat → Nat) (dA dB : ClassId) (h0 : Nat) (ad : Nat → Nat) (nl gr un al ab : Int32) (sb : Int64) (cn : Int32) (ls0 lr : Nat → Int32) (x y : Int32) : Met l yX0_rise (ws_ yX0_rise cX0_rise 3 (some .int)) ({ frames := 3, cells := 0, slots := 0, locals := 63 } : Room) (va_Pc [.ref h0, .int x, .int y] (xPreR (dC, dI) vwCl (xT dA dB) [(h0, oF ad cn nl gr un al ab sb), (ad 7, .inl (dB, 16, .inl ls0)), (ad 10, .inl (dA, 16, .inl lr))])) (vp_Si (fun r => pxP x y (r = nI 0) (fun i j => r = if ls0 (4 * i + j) = nI 2 then lr (4 * i + j) else nI 0))) 0 0 (fun _ => False) := by
  refine xm_R (by decide) (Nat.le_of_ble_eq_true rfl) ?_
  intro p e s m args below meth c hx hb hml hown hts hK H locs hP Q K ls hl
  have hown : s.vm.findClass RX0 = some m.cls := hown
  have hl : lv_has ls 3 [(0, .ref h0), (1, .int x), (2, .int y)] := hl
  refine lv_aload_n hx hb dX0_rise_0 rfl (lv_at hl 0 rfl) ?_
  refine lv_iload_n hx hb dX0_rise_1 rfl (lv_at hl 1 rfl) ?_
  refine lv_iload_n hx hb dX0_rise_2 rfl (lv_at hl 2 rfl) ?_
  refine xc_V (ci := 0) (q0 := 0) [.int x, .int y] ⟨hx, hb, hml, hown, hts⟩ hK hP rfl rfl rfl [0, 1] rfl (mX0_hasLine l dC dI dA dB h0 ad nl gr un al ab sb cn ls0 x y) (cwV 2 hts (lw_V q168 q170 qs6 q13 q171) rfl rfl rfl (by decide +kernel) ⟨Nat.le_of_ble_eq_true rfl, Nat.le_of_ble_eq_true rfl⟩) rfl hl.1 rfl (Nat.le_of_ble_eq_true rfl) dX0_rise_3 ⟨Nat.le_of_ble_eq_true rfl, Nat.le_of_ble_eq_true rfl⟩ (fun r_3 h_3 => ?_)
  rcases badP_or x y with ⟨i, j, hi, hj, hij, rfl, rfl⟩ | hbad
  · rcases h_3.2 i j hi hj hij rfl rfl with ⟨hs, rfl⟩ | ⟨hs, rfl⟩
    · refine xn_if_eq (tgt := 22) hx hb dX0_rise_6 (by decide) (by omega) (fun c_6 => absurd c_6 (by omega)) (fun c_6 => ?_)
      refine lv_aload_n hx hb dX0_rise_9 rfl (lv_at hl 0 rfl) ?_
      refine x0_get hx hb hts hown hK hP 0 rfl 15 (by decide) (hts _ q38) rfl (v := .ref (ad 10)) rfl dX0_rise_10 ?_
      refine lv_iconst (v := nI 4) hx hb dX0_rise_13 rfl ?_
      refine lv_iload_n hx hb dX0_rise_14 rfl (lv_at hl 1 rfl) ?_
      refine xn_mul hx hb dX0_rise_15 ?_
      refine lv_iload_n hx hb dX0_rise_16 rfl (lv_at hl 2 rfl) ?_
      refine xn_add hx hb dX0_rise_17 ?_
      refine xa_iald hx hb hK hP 2 0 rfl rfl (k := 4 * i + j) (by omega) (by decide) dX0_rise_18 ?_
      refine lv_goto (tgt := 23) hx hb dX0_rise_19 (by decide) ?_
      exact K _ _ _ (pxP.good hi hj hij (by rw [if_pos hs])) rfl dX0_rise_23
    · refine xn_if_eq (tgt := 22) hx hb dX0_rise_6 (by decide) (by omega) (fun c_6 => ?_) (fun c_6 => absurd c_6 (by omega))
      refine lv_iconst (v := nI 0) hx hb dX0_rise_22 rfl ?_
      exact K _ _ _ (pxP.good hi hj hij (by rw [if_neg hs])) rfl dX0_rise_23
  · have h_3 := h_3.1 hbad
    subst h_3
    refine xn_if_eq (tgt := 22) hx hb dX0_rise_6 (by decide) (by omega) (fun c_6 => ?_) (fun c_6 => absurd c_6 (by omega))
    refine lv_iconst (v := nI 0) hx hb dX0_rise_22 rfl ?_
    exact K _ _ _ (pxP.bad hbad rfl) rfl dX0_rise_23
set_option maxHeartbeats 4000000 in
set_option maxRecDepth 100000 in
theorem mX0_equals (l : Launch) (dC : Nat → ClassId) (dI : Nat → Nat → Nat) (dA dB : ClassId) (h0 : Nat) (ad : Nat → Nat) (nl gr un al ab : Int32) (sb : Int64) (cn : Int32) : Met l yX0_equals (ws_ yX0_equals cX0_equals 5 (some .int)) rmz (va_Pc [.ref h0] (xPreR (dC, dI) vwCl (xT dA dB) [(h0, oF ad cn nl gr un al ab sb)])) (vp_Si (fun r => r = eqall (fun i j => !(ibt un (4 * i + j))) 4)) 0 0 (fun _ => False) := by
  refine xm_R (by decide) (Nat.le_of_ble_eq_true rfl) ?_
  intro p e s m args below meth c hx hb hml hown hts hK H locs hP Q K ls hl
  have hown : s.vm.findClass RX0 = some m.cls := hown
  have hl : lv_has ls 5 [(0, .ref h0)] := hl
  refine lv_iconst (v := nI 0) hx hb dX0_equals_0 rfl ?_
  refine lv_istore_n (lv' := [(1, .int (nI 0)), (0, .ref h0)]) hx hb dX0_equals_1 rfl hl (by decide) rfl (fun ls hl => ?_)
  refine lv_iconst (v := nI 0) hx hb dX0_equals_2 rfl ?_
  refine lv_istore_n (lv' := [(2, .int (nI 0)), (1, .int (nI 0)), (0, .ref h0)]) hx hb dX0_equals_3 rfl hl (by decide) rfl (fun ls hl => ?_)
  have loop : ∀ (f i : Nat), 5 ≤ i + f → i ≤ 4 → ∀ ls : Array Slot, lv_has ls 5 [(2, .int (nI i)), (1, .int (eqall (fun i j => !(ibt un (4 * i + j))) i)), (0, .ref h0)] → W p l e rmz s m args below meth c H locs 0 0 Q (F0 m 4 ls []) := by
    intro f
    induction f with
    | zero =>
      intro i h1 h2
      exact absurd h1 (by omega)
    | succ f ih =>
      intro i h1 h2 ls hl
      refine lv_iload_n hx hb dX0_equals_4 rfl (lv_at hl 0 rfl) ?_
      refine lv_iconst (v := nI 4) hx hb dX0_equals_5 rfl ?_
      refine xn_ge (tgt := 51) hx hb dX0_equals_6 (by decide) (by omega) (by omega) (fun c_6 => ?_) (fun c_6 => ?_)
      · refine lv_iload_n hx hb dX0_equals_51 rfl (lv_at hl 1 rfl) ?_
        exact K _ _ _ (by rw [show i = 4 by omega]) rfl dX0_equals_52
      · refine lv_iload_n hx hb dX0_equals_9 rfl (lv_at hl 0 rfl) ?_
        refine lv_iconst (v := nI 1) hx hb dX0_equals_10 rfl ?_
        refine xn_add hx hb dX0_equals_11 ?_
        refine lv_istore_n (lv' := [(3, .int (nI (i + 1))), (2, .int (nI i)), (1, .int (eqall (fun i j => !(ibt un (4 * i + j))) i)), (0, .ref h0)]) hx hb dX0_equals_12 rfl hl (by decide) rfl (fun ls hl => ?_)
        have loop2 : ∀ (f2 t : Nat), 4 ≤ i + t + f2 → i + t ≤ 3 → ∀ ls : Array Slot, lv_has ls 5 [(3, .int (nI (i + 1 + t))), (2, .int (nI i)), (1, .int (eqrow (fun i j => !(ibt un (4 * i + j))) i (eqall (fun i j => !(ibt un (4 * i + j))) i) t)), (0, .ref h0)] → W p l e rmz s m args below meth c H locs 0 0 Q (F0 m 13 ls []) := by
          intro f2
          induction f2 with
          | zero =>
            intro t h3 h4
            exact absurd h3 (by omega)
          | succ f2 ih2 =>
            intro t h3 h4 ls hl
            refine lv_iload_n hx hb dX0_equals_13 rfl (lv_at hl 0 rfl) ?_
            refine lv_iconst (v := nI 4) hx hb dX0_equals_14 rfl ?_
            refine xn_ge (tgt := 45) hx hb dX0_equals_15 (by decide) (by omega) (by omega) (fun c_15 => ?_) (fun c_15 => ?_)
            · have hl : lv_has ls 5 [(3, .int (nI (i + 1 + t))), (2, .int (nI i)), (1, .int (eqall (fun i j => !(ibt un (4 * i + j))) (i + 1))), (0, .ref h0)] := by
                rw [show eqall (fun i j => !(ibt un (4 * i + j))) (i + 1) = eqrow (fun i j => !(ibt un (4 * i + j))) i (eqall (fun i j => !(ibt un (4 * i + j))) i) t by rw [show t = 3 - i by omega]; rfl]
                exact lv_sub hl [0, 1, 2, 3] rfl
              refine lv_iinc (v := nI (i + 1)) (lv' := [(2, .int (nI (i + 1))), (3, .int (nI (i + 1 + t))), (1, .int (eqall (fun i j => !(ibt un (4 * i + j))) (i + 1))), (0, .ref h0)]) hx hb dX0_equals_45 hl (k := 1) rfl (nI_add _ 1) (by decide) rfl (fun ls hl => ?_)
              refine lv_goto (tgt := 4) hx hb dX0_equals_48 (by decide) ?_
              exact ih (i + 1) (by omega) (by omega) ls (lv_sub hl [0, 2, 3] rfl)
            · refine lv_iconst (v := nI 1) hx hb dX0_equals_18 rfl ?_
              refine lv_iconst (v := nI 4) hx hb dX0_equals_19 rfl ?_
              refine lv_iload_n hx hb dX0_equals_20 rfl (lv_at hl 1 rfl) ?_
              refine xn_mul hx hb dX0_equals_21 ?_
              refine lv_iload_n hx hb dX0_equals_22 rfl (lv_at hl 0 rfl) ?_
              refine xn_add hx hb dX0_equals_23 ?_
              refine lv_ishl hx hb dX0_equals_24 ?_
              refine xw_i (y := bit1 (4 * i + (i + 1 + t))) rfl ?_
              refine lv_istore (lv' := [(4, .int (bit1 (4 * i + (i + 1 + t)))), (3, .int (nI (i + 1 + t))), (2, .int (nI i)), (1, .int (eqrow (fun i j => !(ibt un (4 * i + j))) i (eqall (fun i j => !(ibt un (4 * i + j))) i) t)), (0, .ref h0)]) hx hb dX0_equals_25 hl (by decide) rfl (fun ls hl => ?_)
              refine lv_iload_n hx hb dX0_equals_27 rfl (lv_at hl 3 rfl) ?_
              refine lv_iload hx hb dX0_equals_28 (lv_at hl 0 rfl) ?_
              refine lv_aload_n hx hb dX0_equals_30 rfl (lv_at hl 4 rfl) ?_
              refine x0_get hx hb hts hown hK hP 0 rfl 10 (by decide) (hts _ q33) rfl (v := .int un) rfl dX0_equals_31 ?_
              refine lv_iconst (v := (-1)) hx hb dX0_equals_34 rfl ?_
              refine lv_ixor hx hb dX0_equals_35 ?_
              refine lv_iand hx hb dX0_equals_36 ?_
              refine lv_ior hx hb dX0_equals_37 ?_
              refine xw_i (y := eqrow (fun i j => !(ibt un (4 * i + j))) i (eqall (fun i j => !(ibt un (4 * i + j))) i) (t + 1)) (by rw [bit1_and (by omega)]; show _ = (if (!(ibt un (4 * i + (i + 1 + t)))) = true then _ else _); cases ibt un (4 * i + (i + 1 + t)) <;> simp [or_0]) ?_
              refine lv_istore_n (lv' := [(1, .int (eqrow (fun i j => !(ibt un (4 * i + j))) i (eqall (fun i j => !(ibt un (4 * i + j))) i) (t + 1))), (4, .int (bit1 (4 * i + (i + 1 + t)))), (3, .int (nI (i + 1 + t))), (2, .int (nI i)), (0, .ref h0)]) hx hb dX0_equals_38 rfl hl (by decide) rfl (fun ls hl => ?_)
              refine lv_iinc (v := nI (i + 1 + t + 1)) (lv' := [(3, .int (nI (i + 1 + t + 1))), (1, .int (eqrow (fun i j => !(ibt un (4 * i + j))) i (eqall (fun i j => !(ibt un (4 * i + j))) i) (t + 1))), (4, .int (bit1 (4 * i + (i + 1 + t)))), (2, .int (nI i)), (0, .ref h0)]) hx hb dX0_equals_39 hl (k := 2) rfl (nI_add _ 1) (by decide) rfl (fun ls hl => ?_)
              refine lv_goto (tgt := 13) hx hb dX0_equals_42 (by decide) ?_
              exact ih2 (t + 1) (by omega) (by omega) ls (lv_sub hl [0, 3, 1, 4] rfl)
        exact loop2 4 0 (by omega) (by omega) ls (lv_sub hl [0, 1, 2, 3] rfl)
  exact loop 5 0 (by omega) (by omega) ls (lv_sub hl [0, 1, 2] rfl)
set_option maxHeartbeats 4000000 in
set_option maxRecDepth 100000 in
theorem mX0_sums (l : Launch) (dC : Nat → ClassId) (dI : Nat → Nat → Nat) (dA dB : ClassId) (h0 : Nat) (ad : Nat → Nat) (nl gr un al ab : Int32) (sb : Int64) (cn : Int32) (x y zz : Int32) : Met l yX0_sums (ws_ yX0_sums cX0_sums 4 (some .boolean)) ({ frames := 1, cells := 0, slots := 0, locals := 20 } : Room) (va_Pc [.ref h0, .int x, .int y, .int zz] (xPreR (dC, dI) vwCl (xT dA dB) [(h0, oF ad cn nl gr un al ab sb)])) (vp_Si (fun r => px4 x (r = nI 0) (fun j => px4 y (r = nI 0) (fun j2 => px4 zz (r = nI 0) (fun j3 => (r = nI 1 ∧ lbt sb (16 * j + 4 * j2 + j3) = false) ∨ (r = nI 0 ∧ lbt sb (16 * j + 4 * j2 + j3) = true)))))) 0 0 (fun _ => False) := by
  refine xm_R (by decide) (Nat.le_of_ble_eq_true rfl) ?_
  intro p e s m args below meth c hx hb hml hown hts hK H locs hP Q K ls hl
  have hown : s.vm.findClass RX0 = some m.cls := hown
  have hl : lv_has ls 4 [(0, .ref h0), (1, .int x), (2, .int y), (3, .int zz)] := hl
  refine lv_iload_n hx hb dX0_sums_0 rfl (lv_at hl 1 rfl) ?_
  refine xc_S [.int x] ⟨hx, hb, hml, hown, hts⟩ (mX0_isVariable l x) (va_cwS 1 hts (lw_S q129 q130 q13 q131) rfl rfl rfl (by decide +kernel) ⟨Nat.le_of_ble_eq_true rfl, Nat.le_of_ble_eq_true rfl⟩) rfl hl.1 rfl (Nat.le_of_ble_eq_true rfl) dX0_sums_1 ⟨Nat.le_of_ble_eq_true rfl, Nat.le_of_ble_eq_true rfl⟩ (fun r_1 h_1 => ?_)
  rcases h_1 with ⟨j, hj, rfl, rfl⟩ | ⟨hbad_x, rfl⟩
  · refine xn_if_eq (tgt := 21) hx hb dX0_sums_4 (by decide) (by omega) (fun c_4 => absurd c_4 (by omega)) (fun c_4 => ?_)
    refine lv_iload_n hx hb dX0_sums_7 rfl (lv_at hl 2 rfl) ?_
    refine xc_S [.int y] ⟨hx, hb, hml, hown, hts⟩ (mX0_isVariable l y) (va_cwS 1 hts (lw_S q129 q130 q13 q131) rfl rfl rfl (by decide +kernel) ⟨Nat.le_of_ble_eq_true rfl, Nat.le_of_ble_eq_true rfl⟩) rfl hl.1 rfl (Nat.le_of_ble_eq_true rfl) dX0_sums_8 ⟨Nat.le_of_ble_eq_true rfl, Nat.le_of_ble_eq_true rfl⟩ (fun r_8 h_8 => ?_)
    rcases h_8 with ⟨j2, hj2, rfl, rfl⟩ | ⟨hbad_y, rfl⟩
    · refine xn_if_eq (tgt := 21) hx hb dX0_sums_11 (by decide) (by omega) (fun c_11 => absurd c_11 (by omega)) (fun c_11 => ?_)
      refine lv_iload_n hx hb dX0_sums_14 rfl (lv_at hl 3 rfl) ?_
      refine xc_S [.int zz] ⟨hx, hb, hml, hown, hts⟩ (mX0_isVariable l zz) (va_cwS 1 hts (lw_S q129 q130 q13 q131) rfl rfl rfl (by decide +kernel) ⟨Nat.le_of_ble_eq_true rfl, Nat.le_of_ble_eq_true rfl⟩) rfl hl.1 rfl (Nat.le_of_ble_eq_true rfl) dX0_sums_15 ⟨Nat.le_of_ble_eq_true rfl, Nat.le_of_ble_eq_true rfl⟩ (fun r_15 h_15 => ?_)
      rcases h_15 with ⟨j3, hj3, rfl, rfl⟩ | ⟨hbad_zz, rfl⟩
      · refine xn_if_ne (tgt := 23) hx hb dX0_sums_18 (by decide) (by omega) (fun c_18 => ?_) (fun c_18 => absurd c_18 (by omega))
        refine lv_aload_n hx hb dX0_sums_23 rfl (lv_at hl 0 rfl) ?_
        refine x0_get hx hb hts hown hK hP 0 rfl 18 (by decide) (hts _ q41) rfl (v := .long sb) rfl dX0_sums_24 ?_
        refine lv_bipush (v := nI 16) hx hb dX0_sums_27 rfl ?_
        refine lv_iload_n hx hb dX0_sums_29 rfl (lv_at hl 1 rfl) ?_
        refine xn_mul hx hb dX0_sums_30 ?_
        refine lv_iconst (v := nI 4) hx hb dX0_sums_31 rfl ?_
        refine lv_iload_n hx hb dX0_sums_32 rfl (lv_at hl 2 rfl) ?_
        refine xn_mul hx hb dX0_sums_33 ?_
        refine xn_add hx hb dX0_sums_34 ?_
        refine lv_iload_n hx hb dX0_sums_35 rfl (lv_at hl 3 rfl) ?_
        refine xn_add hx hb dX0_sums_36 ?_
        refine lv_lushr hx hb dX0_sums_37 rfl ?_
        refine lv_lconst (v := 1) hx hb dX0_sums_38 rfl ?_
        refine lv_land hx hb dX0_sums_39 ?_
        refine lv_lconst (v := 0) hx hb dX0_sums_40 rfl ?_
        refine W.lcmp hx hb dX0_sums_41 ?_
        refine lv_if_ne (tgt := 49) hx hb dX0_sums_42 (by decide) (fun c_42 => ?_) (fun c_42 => ?_)
        · refine lv_iconst (v := nI 0) hx hb dX0_sums_49 rfl ?_
          exact K _ _ _ (px4.good hj (px4.good hj2 (px4.good hj3 (Or.inr ⟨rfl, by cases hq : lbt sb (16 * j + 4 * j2 + j3) with | true => rfl | false => exact absurd (lcmp_0.mpr ((lbt_shr (by omega)).mpr hq)) c_42⟩)))) rfl dX0_sums_50
        · refine lv_iconst (v := nI 1) hx hb dX0_sums_45 rfl ?_
          refine lv_goto (tgt := 50) hx hb dX0_sums_46 (by decide) ?_
          exact K _ _ _ (px4.good hj (px4.good hj2 (px4.good hj3 (Or.inl ⟨rfl, (lbt_shr (by omega)).mp (lcmp_0.mp c_42)⟩)))) rfl dX0_sums_50
      · refine xn_if_ne (tgt := 23) hx hb dX0_sums_18 (by decide) (by omega) (fun c_18 => absurd c_18 (by omega)) (fun c_18 => ?_)
        refine lv_iconst (v := nI 0) hx hb dX0_sums_21 rfl ?_
        exact K _ _ _ (px4.good hj (px4.good hj2 (px4.bad hbad_zz rfl))) rfl dX0_sums_22
    · refine xn_if_eq (tgt := 21) hx hb dX0_sums_11 (by decide) (by omega) (fun c_11 => ?_) (fun c_11 => absurd c_11 (by omega))
      refine lv_iconst (v := nI 0) hx hb dX0_sums_21 rfl ?_
      exact K _ _ _ (px4.good hj (px4.bad hbad_y rfl)) rfl dX0_sums_22
  · refine xn_if_eq (tgt := 21) hx hb dX0_sums_4 (by decide) (by omega) (fun c_4 => ?_) (fun c_4 => absurd c_4 (by omega))
    refine lv_iconst (v := nI 0) hx hb dX0_sums_21 rfl ?_
    exact K _ _ _ (px4.bad hbad_x rfl) rfl dX0_sums_22
end
section
def put4 (a : Nat → Int32) (n : Nat) (x1 x2 x3 x4 : Int32) : Nat → Int32 := upd (upd (upd (upd a (4 * n) x1) (4 * n + 1) x2) (4 * n + 2) x3) (4 * n + 3) x4
def smpR (n : Nat) (x1 x2 x3 x4 r : Int32) (X Y : Prop) : Prop := (okw x1 ∧ okw x2 ∧ okw x3 ∧ okw x4 ∧ n < 100 ∧ r = nI (n + 1) ∧ X) ∨ (okw x1 ∧ okw x2 ∧ okw x3 ∧ okw x4 ∧ 100 ≤ n ∧ r = (-2) ∧ Y) ∨ (¬ (okw x1 ∧ okw x2 ∧ okw x3 ∧ okw x4) ∧ r = (-1) ∧ Y)
set_option maxHeartbeats 4000000 in
set_option maxRecDepth 100000 in
theorem mX1_sample (l : Launch) (dC : Nat → ClassId) (dI : Nat → Nat → Nat) (dA dB : ClassId) (sz : Nat) (g0 b1 b2 : Nat) (p0 q0 r0 : Int32) (n : Nat) (a : Nat → Int32) (x1 x2 x3 x4 : Int32) (hn : n ≤ 100) : Met l yX1_sample (ws_ yX1_sample cX1_sample 5 (some .int)) ({ frames := 1, cells := 0, slots := 0, locals := 21 } : Room) (va_Pc [.ref g0, .int x1, .int x2, .int x3, .int x4] (xPre (dC, dI) vwCl (xT dA dB) [(g0, oM b1 b2 (nI n) p0 q0 r0), (b1, .inl (dA, 400, .inl a))] sz)) (va_Qi (fun r u => smpR n x1 x2 x3 x4 r (u = (nI (n + 1), put4 a n x1 x2 x3 x4)) (u = (nI n, a))) (fun u t => va_P (dC, dI) vwCl ((fun u : Int32 × (Nat → Int32) => [(g0, oM b1 b2 u.1 p0 q0 r0), (b1, .inl (dA, 400, .inl u.2))]) u) t.heap ∧ va_D (va_A [(g0, oM b1 b2 (nI n) p0 q0 r0), (b1, .inl (dA, 400, .inl a))] sz) ((fun u : Int32 × (Nat → Int32) => [(g0, oM b1 b2 u.1 p0 q0 r0), (b1, .inl (dA, 400, .inl u.2))]) u)) (va_A [(g0, oM b1 b2 (nI n) p0 q0 r0), (b1, .inl (dA, 400, .inl a))] sz)) 0 0 (va_A [(g0, oM b1 b2 (nI n) p0 q0 r0), (b1, .inl (dA, 400, .inl a))] sz) := by
  refine xm_Qi (by decide) (Nat.le_of_ble_eq_true rfl) ?_
  intro p e s m args below meth c hx hb hml hown hts hK A hA H locs hP hD hS Q K ls hl
  have hown : s.vm.findClass RX1 = some m.cls := hown
  have hl : lv_has ls 5 [(0, .ref g0), (1, .int x1), (2, .int x2), (3, .int x3), (4, .int x4)] := hl
  refine lv_aload_n hx hb dX1_sample_0 rfl (lv_at hl 0 rfl) ?_
  refine lv_iload_n hx hb dX1_sample_1 rfl (lv_at hl 1 rfl) ?_
  refine xc_V (ci := 1) (q0 := 0) [.int x1] ⟨hx, hb, hml, hown, hts⟩ hK hP rfl rfl rfl [] rfl (mX1_fits l dC dI dA dB g0 x1) (cwV 1 hts (lw_V q217 q219 qs7 q14 q220) rfl rfl rfl (by decide +kernel) ⟨Nat.le_of_ble_eq_true rfl, Nat.le_of_ble_eq_true rfl⟩) rfl hl.1 rfl (Nat.le_of_ble_eq_true rfl) dX1_sample_2 ⟨Nat.le_of_ble_eq_true rfl, Nat.le_of_ble_eq_true rfl⟩ (fun r_2 h_2 => ?_)
  rcases h_2 with ⟨hk1, rfl⟩ | ⟨hk1, rfl⟩
  · refine xn_if_eq (tgt := 33) hx hb dX1_sample_5 (by decide) (by omega) (fun c_5 => absurd c_5 (by omega)) (fun c_5 => ?_)
    refine lv_aload_n hx hb dX1_sample_8 rfl (lv_at hl 0 rfl) ?_
    refine lv_iload_n hx hb dX1_sample_9 rfl (lv_at hl 2 rfl) ?_
    refine xc_V (ci := 1) (q0 := 0) [.int x2] ⟨hx, hb, hml, hown, hts⟩ hK hP rfl rfl rfl [] rfl (mX1_fits l dC dI dA dB g0 x2) (cwV 1 hts (lw_V q217 q219 qs7 q14 q220) rfl rfl rfl (by decide +kernel) ⟨Nat.le_of_ble_eq_true rfl, Nat.le_of_ble_eq_true rfl⟩) rfl hl.1 rfl (Nat.le_of_ble_eq_true rfl) dX1_sample_10 ⟨Nat.le_of_ble_eq_true rfl, Nat.le_of_ble_eq_true rfl⟩ (fun r_10 h_10 => ?_)
    rcases h_10 with ⟨hk2, rfl⟩ | ⟨hk2, rfl⟩
    · refine xn_if_eq (tgt := 33) hx hb dX1_sample_13 (by decide) (by omega) (fun c_13 => absurd c_13 (by omega)) (fun c_13 => ?_)
      refine lv_aload_n hx hb dX1_sample_16 rfl (lv_at hl 0 rfl) ?_
      refine lv_iload_n hx hb dX1_sample_17 rfl (lv_at hl 3 rfl) ?_
      refine xc_V (ci := 1) (q0 := 0) [.int x3] ⟨hx, hb, hml, hown, hts⟩ hK hP rfl rfl rfl [] rfl (mX1_fits l dC dI dA dB g0 x3) (cwV 1 hts (lw_V q217 q219 qs7 q14 q220) rfl rfl rfl (by decide +kernel) ⟨Nat.le_of_ble_eq_true rfl, Nat.le_of_ble_eq_true rfl⟩) rfl hl.1 rfl (Nat.le_of_ble_eq_true rfl) dX1_sample_18 ⟨Nat.le_of_ble_eq_true rfl, Nat.le_of_ble_eq_true rfl⟩ (fun r_18 h_18 => ?_)
      rcases h_18 with ⟨hk3, rfl⟩ | ⟨hk3, rfl⟩
      · refine xn_if_eq (tgt := 33) hx hb dX1_sample_21 (by decide) (by omega) (fun c_21 => absurd c_21 (by omega)) (fun c_21 => ?_)
        refine lv_aload_n hx hb dX1_sample_24 rfl (lv_at hl 0 rfl) ?_
        refine lv_iload hx hb dX1_sample_25 (lv_at hl 4 rfl) ?_
        refine xc_V (ci := 1) (q0 := 0) [.int x4] ⟨hx, hb, hml, hown, hts⟩ hK hP rfl rfl rfl [] rfl (mX1_fits l dC dI dA dB g0 x4) (cwV 1 hts (lw_V q217 q219 qs7 q14 q220) rfl rfl rfl (by decide +kernel) ⟨Nat.le_of_ble_eq_true rfl, Nat.le_of_ble_eq_true rfl⟩) rfl hl.1 rfl (Nat.le_of_ble_eq_true rfl) dX1_sample_27 ⟨Nat.le_of_ble_eq_true rfl, Nat.le_of_ble_eq_true rfl⟩ (fun r_27 h_27 => ?_)
        rcases h_27 with ⟨hk4, rfl⟩ | ⟨hk4, rfl⟩
        · refine xn_if_ne (tgt := 35) hx hb dX1_sample_30 (by decide) (by omega) (fun c_30 => ?_) (fun c_30 => absurd c_30 (by omega))
          refine lv_aload_n hx hb dX1_sample_35 rfl (lv_at hl 0 rfl) ?_
          refine x1_get hx hb hts hown hK hP 0 rfl 0 (by decide) (hts _ q194) rfl (v := .int (nI n)) rfl dX1_sample_36 ?_
          refine lv_bipush (v := nI 100) hx hb dX1_sample_39 rfl ?_
          refine xn_lt (tgt := 47) hx hb dX1_sample_41 (by decide) (by omega) (by omega) (fun c_41 => ?_) (fun c_41 => ?_)
          · refine lv_aload_n hx hb dX1_sample_47 rfl (lv_at hl 0 rfl) ?_
            refine x1_get hx hb hts hown hK hP 0 rfl 1 (by decide) (hts _ q195) rfl (v := .ref b1) rfl dX1_sample_48 ?_
            refine lv_iconst (v := nI 4) hx hb dX1_sample_51 rfl ?_
            refine lv_aload_n hx hb dX1_sample_52 rfl (lv_at hl 0 rfl) ?_
            refine x1_get hx hb hts hown hK hP 0 rfl 0 (by decide) (hts _ q194) rfl (v := .int (nI n)) rfl dX1_sample_53 ?_
            refine xn_mul hx hb dX1_sample_56 ?_
            refine lv_iload_n hx hb dX1_sample_57 rfl (lv_at hl 1 rfl) ?_
            refine xa_iast hx hb hK hP hD hS 1 0 rfl rfl (by omega) (by decide) [(g0, oM b1 b2 (nI n) p0 q0 r0), (b1, .inl (dA, 400, .inl (upd a (4 * n) x1)))] rfl dX1_sample_58 (fun H locs hP hD hS => ?_)
            refine lv_aload_n hx hb dX1_sample_59 rfl (lv_at hl 0 rfl) ?_
            refine x1_get hx hb hts hown hK hP 0 rfl 1 (by decide) (hts _ q195) rfl (v := .ref b1) rfl dX1_sample_60 ?_
            refine lv_iconst (v := nI 4) hx hb dX1_sample_63 rfl ?_
            refine lv_aload_n hx hb dX1_sample_64 rfl (lv_at hl 0 rfl) ?_
            refine x1_get hx hb hts hown hK hP 0 rfl 0 (by decide) (hts _ q194) rfl (v := .int (nI n)) rfl dX1_sample_65 ?_
            refine xn_mul hx hb dX1_sample_68 ?_
            refine lv_iconst (v := nI 1) hx hb dX1_sample_69 rfl ?_
            refine xn_add hx hb dX1_sample_70 ?_
            refine lv_iload_n hx hb dX1_sample_71 rfl (lv_at hl 2 rfl) ?_
            refine xa_iast hx hb hK hP hD hS 1 0 rfl rfl (by omega) (by decide) [(g0, oM b1 b2 (nI n) p0 q0 r0), (b1, .inl (dA, 400, .inl (upd (upd a (4 * n) x1) (4 * n + 1) x2)))] rfl dX1_sample_72 (fun H locs hP hD hS => ?_)
            refine lv_aload_n hx hb dX1_sample_73 rfl (lv_at hl 0 rfl) ?_
            refine x1_get hx hb hts hown hK hP 0 rfl 1 (by decide) (hts _ q195) rfl (v := .ref b1) rfl dX1_sample_74 ?_
            refine lv_iconst (v := nI 4) hx hb dX1_sample_77 rfl ?_
            refine lv_aload_n hx hb dX1_sample_78 rfl (lv_at hl 0 rfl) ?_
            refine x1_get hx hb hts hown hK hP 0 rfl 0 (by decide) (hts _ q194) rfl (v := .int (nI n)) rfl dX1_sample_79 ?_
            refine xn_mul hx hb dX1_sample_82 ?_
            refine lv_iconst (v := nI 2) hx hb dX1_sample_83 rfl ?_
            refine xn_add hx hb dX1_sample_84 ?_
            refine lv_iload_n hx hb dX1_sample_85 rfl (lv_at hl 3 rfl) ?_
            refine xa_iast hx hb hK hP hD hS 1 0 rfl rfl (by omega) (by decide) [(g0, oM b1 b2 (nI n) p0 q0 r0), (b1, .inl (dA, 400, .inl (upd (upd (upd a (4 * n) x1) (4 * n + 1) x2) (4 * n + 2) x3)))] rfl dX1_sample_86 (fun H locs hP hD hS => ?_)
            refine lv_aload_n hx hb dX1_sample_87 rfl (lv_at hl 0 rfl) ?_
            refine x1_get hx hb hts hown hK hP 0 rfl 1 (by decide) (hts _ q195) rfl (v := .ref b1) rfl dX1_sample_88 ?_
            refine lv_iconst (v := nI 4) hx hb dX1_sample_91 rfl ?_
            refine lv_aload_n hx hb dX1_sample_92 rfl (lv_at hl 0 rfl) ?_
            refine x1_get hx hb hts hown hK hP 0 rfl 0 (by decide) (hts _ q194) rfl (v := .int (nI n)) rfl dX1_sample_93 ?_
            refine xn_mul hx hb dX1_sample_96 ?_
            refine lv_iconst (v := nI 3) hx hb dX1_sample_97 rfl ?_
            refine xn_add hx hb dX1_sample_98 ?_
            refine lv_iload hx hb dX1_sample_99 (lv_at hl 4 rfl) ?_
            refine xa_iast hx hb hK hP hD hS 1 0 rfl rfl (by omega) (by decide) [(g0, oM b1 b2 (nI n) p0 q0 r0), (b1, .inl (dA, 400, .inl (upd (upd (upd (upd a (4 * n) x1) (4 * n + 1) x2) (4 * n + 2) x3) (4 * n + 3) x4)))] rfl dX1_sample_101 (fun H locs hP hD hS => ?_)
            refine lv_aload_n hx hb dX1_sample_102 rfl (lv_at hl 0 rfl) ?_
            refine lv_dup hx hb dX1_sample_103 rfl ?_
            refine x1_get hx hb hts hown hK hP 0 rfl 0 (by decide) (hts _ q194) rfl (v := .int (nI n)) rfl dX1_sample_104 ?_
            refine lv_iconst (v := nI 1) hx hb dX1_sample_107 rfl ?_
            refine xn_add hx hb dX1_sample_108 ?_
            refine x1_put hx hb hts hown hK hP hD hS 0 rfl 0 (by decide) (hts _ q194) rfl rfl .int (by decide +kernel) rfl rfl (Nat.le_of_ble_eq_true rfl) [(g0, oM b1 b2 (nI (n + 1)) p0 q0 r0), (b1, .inl (dA, 400, .inl (upd (upd (upd (upd a (4 * n) x1) (4 * n + 1) x2) (4 * n + 2) x3) (4 * n + 3) x4)))] rfl dX1_sample_109 (fun H locs hP hD hS => ?_)
            refine lv_aload_n hx hb dX1_sample_112 rfl (lv_at hl 0 rfl) ?_
            refine x1_get hx hb hts hown hK hP 0 rfl 0 (by decide) (hts _ q194) rfl (v := .int (nI (n + 1))) rfl dX1_sample_113 ?_
            exact K _ (nI (n + 1), put4 a n x1 x2 x3 x4) _ _ _ _ (Or.inl ⟨hk1, hk2, hk3, hk4, c_41, rfl, rfl⟩) hP hD hS rfl dX1_sample_116
          · refine lv_bipush (v := (-2)) hx hb dX1_sample_44 rfl ?_
            exact K _ (nI n, a) _ _ _ _ (Or.inr (Or.inl ⟨hk1, hk2, hk3, hk4, c_41, rfl, rfl⟩)) hP hD hS rfl dX1_sample_46
        · refine xn_if_ne (tgt := 35) hx hb dX1_sample_30 (by decide) (by omega) (fun c_30 => absurd c_30 (by omega)) (fun c_30 => ?_)
          refine lv_iconst (v := (-1)) hx hb dX1_sample_33 rfl ?_
          exact K _ (nI n, a) _ _ _ _ (Or.inr (Or.inr ⟨fun h => hk4 h.2.2.2, rfl, rfl⟩)) hP hD hS rfl dX1_sample_34
      · refine xn_if_eq (tgt := 33) hx hb dX1_sample_21 (by decide) (by omega) (fun c_21 => ?_) (fun c_21 => absurd c_21 (by omega))
        refine lv_iconst (v := (-1)) hx hb dX1_sample_33 rfl ?_
        exact K _ (nI n, a) _ _ _ _ (Or.inr (Or.inr ⟨fun h => hk3 h.2.2.1, rfl, rfl⟩)) hP hD hS rfl dX1_sample_34
    · refine xn_if_eq (tgt := 33) hx hb dX1_sample_13 (by decide) (by omega) (fun c_13 => ?_) (fun c_13 => absurd c_13 (by omega))
      refine lv_iconst (v := (-1)) hx hb dX1_sample_33 rfl ?_
      exact K _ (nI n, a) _ _ _ _ (Or.inr (Or.inr ⟨fun h => hk2 h.2.1, rfl, rfl⟩)) hP hD hS rfl dX1_sample_34
  · refine xn_if_eq (tgt := 33) hx hb dX1_sample_5 (by decide) (by omega) (fun c_5 => ?_) (fun c_5 => absurd c_5 (by omega))
    refine lv_iconst (v := (-1)) hx hb dX1_sample_33 rfl ?_
    exact K _ (nI n, a) _ _ _ _ (Or.inr (Or.inr ⟨fun h => hk1 h.1, rfl, rfl⟩)) hP hD hS rfl dX1_sample_34
set_option maxHeartbeats 4000000 in
set_option maxRecDepth 100000 in
theorem mX1_clear (l : Launch) (dC : Nat → ClassId) (dI : Nat → Nat → Nat) (dA dB : ClassId) (sz : Nat) (g0 b1 b2 : Nat) (p0 q0 r0 : Int32) (n : Int32) : Met l yX1_clear (ws_ yX1_clear cX1_clear 1 none) rmz (va_Pc [.ref g0] (xPre (dC, dI) vwCl (xT dA dB) [(g0, oM b1 b2 n p0 q0 r0)] sz)) (va_Qv (fun _ => True) (fun u t => va_P (dC, dI) vwCl ((fun u : Unit => [(g0, oM b1 b2 (nI 0) p0 q0 r0)]) u) t.heap ∧ va_D (va_A [(g0, oM b1 b2 n p0 q0 r0)] sz) ((fun u : Unit => [(g0, oM b1 b2 (nI 0) p0 q0 r0)]) u)) (va_A [(g0, oM b1 b2 n p0 q0 r0)] sz)) 0 0 (va_A [(g0, oM b1 b2 n p0 q0 r0)] sz) := by
  refine xm_Qv (by decide) (Nat.le_of_ble_eq_true rfl) ?_
  intro p e s m args below meth c hx hb hml hown hts hK A hA H locs hP hD hS Q K ls hl
  have hown : s.vm.findClass RX1 = some m.cls := hown
  have hl : lv_has ls 1 [(0, .ref g0)] := hl
  refine lv_aload_n hx hb dX1_clear_0 rfl (lv_at hl 0 rfl) ?_
  refine lv_iconst (v := nI 0) hx hb dX1_clear_1 rfl ?_
  refine x1_put hx hb hts hown hK hP hD hS 0 rfl 0 (by decide) (hts _ q194) rfl rfl .int (by decide +kernel) rfl rfl (Nat.le_of_ble_eq_true rfl) [(g0, oM b1 b2 (nI 0) p0 q0 r0)] rfl dX1_clear_2 (fun H locs hP hD hS => ?_)
  exact K () _ _ _ _ trivial hP hD hS dX1_clear_5
set_option maxHeartbeats 4000000 in
set_option maxRecDepth 100000 in
theorem mX1_samples (l : Launch) (dC : Nat → ClassId) (dI : Nat → Nat → Nat) (dA dB : ClassId) (g0 b1 b2 : Nat) (p0 q0 r0 : Int32) (n : Nat)  : Met l yX1_samples (ws_ yX1_samples cX1_samples 1 (some .int)) rmz (va_Pc [.ref g0] (xPreR (dC, dI) vwCl (xT dA dB) [(g0, oM b1 b2 (nI n) p0 q0 r0)])) (vp_Si (fun r => r = nI n)) 0 0 (fun _ => False) := by
  refine xm_R (by decide) (Nat.le_of_ble_eq_true rfl) ?_
  intro p e s m args below meth c hx hb hml hown hts hK H locs hP Q K ls hl
  have hown : s.vm.findClass RX1 = some m.cls := hown
  have hl : lv_has ls 1 [(0, .ref g0)] := hl
  refine lv_aload_n hx hb dX1_samples_0 rfl (lv_at hl 0 rfl) ?_
  refine x1_get hx hb hts hown hK hP 0 rfl 0 (by decide) (hts _ q194) rfl (v := .int (nI n)) rfl dX1_samples_1 ?_
  exact K _ _ _ rfl rfl dX1_samples_4
theorem dl_in {a : Nat → Int32} {j i : Nat} (h : a (4 * i + j) ∈ dl a j i) : dl a j (i + 1) = dl a j i := by
  show (if a (4 * i + j) ∈ dl a j i then dl a j i else _) = _
  rw [if_pos h]
theorem dl_full {a : Nat → Int32} {j i : Nat} (h : 4 ≤ (dl a j i).length) : dl a j (i + 1) = dl a j i := by
  show (if a (4 * i + j) ∈ dl a j i then dl a j i else if (dl a j i).length < 4 then _ else _) = _
  split
  · rfl
  · rw [if_neg (by omega)]
theorem dl_new {a : Nat → Int32} {j i : Nat} (h : ¬ a (4 * i + j) ∈ dl a j i) (h2 : (dl a j i).length < 4) : dl a j (i + 1) = dl a j i ++ [a (4 * i + j)] := by
  show (if a (4 * i + j) ∈ dl a j i then dl a j i else if (dl a j i).length < 4 then _ else _) = _
  rw [if_neg h, if_pos h2]
set_option maxHeartbeats 4000000 in
set_option maxRecDepth 100000 in
theorem mX1_different (l : Launch) (dC : Nat → ClassId) (dI : Nat → Nat → Nat) (dA dB : ClassId) (sz : Nat) (g0 b1 b2 : Nat) (p0 q0 r0 : Int32) (n : Nat) (a w : Nat → Int32) (x : Int32) (hn : n ≤ 100) : Met l yX1_different (ws_ yX1_different cX1_different 6 (some .int)) ({ frames := 1, cells := 0, slots := 0, locals := 21 } : Room) (va_Pc [.ref g0, .int x] (xPre (dC, dI) vwCl (xT dA dB) [(g0, oM b1 b2 (nI n) p0 q0 r0), (b1, .inl (dA, 400, .inl a)), (b2, .inl (dA, 4, .inl w))] sz)) (va_Qi (fun r u => px4 x (r = (-1)) (fun j => r = nI (dl a j n).length ∧ fewR u (dl a j n))) (fun u t => va_P (dC, dI) vwCl ((fun u : Nat → Int32 => [(g0, oM b1 b2 (nI n) p0 q0 r0), (b1, .inl (dA, 400, .inl a)), (b2, .inl (dA, 4, .inl u))]) u) t.heap ∧ va_D (va_A [(g0, oM b1 b2 (nI n) p0 q0 r0), (b1, .inl (dA, 400, .inl a)), (b2, .inl (dA, 4, .inl w))] sz) ((fun u : Nat → Int32 => [(g0, oM b1 b2 (nI n) p0 q0 r0), (b1, .inl (dA, 400, .inl a)), (b2, .inl (dA, 4, .inl u))]) u)) (va_A [(g0, oM b1 b2 (nI n) p0 q0 r0), (b1, .inl (dA, 400, .inl a)), (b2, .inl (dA, 4, .inl w))] sz)) 0 0 (va_A [(g0, oM b1 b2 (nI n) p0 q0 r0), (b1, .inl (dA, 400, .inl a)), (b2, .inl (dA, 4, .inl w))] sz) := by
  refine xm_Qi (by decide) (Nat.le_of_ble_eq_true rfl) ?_
  intro p e s m args below meth c hx hb hml hown hts hK A hA H locs hP hD hS Q K ls hl
  have hown : s.vm.findClass RX1 = some m.cls := hown
  have hl : lv_has ls 6 [(0, .ref g0), (1, .int x)] := hl
  refine lv_aload_n hx hb dX1_different_0 rfl (lv_at hl 0 rfl) ?_
  refine lv_iload_n hx hb dX1_different_1 rfl (lv_at hl 1 rfl) ?_
  refine xc_V (ci := 1) (q0 := 0) [.int x] ⟨hx, hb, hml, hown, hts⟩ hK hP rfl rfl rfl [] rfl (mX1_is l dC dI dA dB g0 x) (cwV 1 hts (lw_V q233 q235 qs8 q14 q236) rfl rfl rfl (by decide +kernel) ⟨Nat.le_of_ble_eq_true rfl, Nat.le_of_ble_eq_true rfl⟩) rfl hl.1 rfl (Nat.le_of_ble_eq_true rfl) dX1_different_2 ⟨Nat.le_of_ble_eq_true rfl, Nat.le_of_ble_eq_true rfl⟩ (fun r_2 h_2 => ?_)
  rcases h_2 with ⟨j, hj, rfl, rfl⟩ | ⟨hbad_x, rfl⟩
  · refine xn_if_ne (tgt := 10) hx hb dX1_different_5 (by decide) (by omega) (fun c_5 => ?_) (fun c_5 => absurd c_5 (by omega))
    refine lv_iconst (v := nI 0) hx hb dX1_different_10 rfl ?_
    refine lv_istore_n (lv' := [(2, .int (nI 0)), (0, .ref g0), (1, .int (nI j))]) hx hb dX1_different_11 rfl hl (by decide) rfl (fun ls hl => ?_)
    refine lv_iconst (v := nI 0) hx hb dX1_different_12 rfl ?_
    refine lv_istore_n (lv' := [(3, .int (nI 0)), (2, .int (nI 0)), (0, .ref g0), (1, .int (nI j))]) hx hb dX1_different_13 rfl hl (by decide) rfl (fun ls hl => ?_)
    have loop : ∀ (f i : Nat) (w1 : Nat → Int32), n + 1 ≤ i + f → i ≤ n → fewR w1 (dl a j i) → ∀ (H : Heap) (locs : List Loc), va_P (dC, dI) vwCl [(g0, oM b1 b2 (nI n) p0 q0 r0), (b1, .inl (dA, 400, .inl a)), (b2, .inl (dA, 4, .inl w1))] H → va_D A [(g0, oM b1 b2 (nI n) p0 q0 r0), (b1, .inl (dA, 400, .inl a)), (b2, .inl (dA, 4, .inl w1))] → va_S A s.heap H locs → ∀ ls : Array Slot, lv_has ls 6 [(3, .int (nI i)), (2, .int (nI ((dl a j i).length))), (0, .ref g0), (1, .int (nI j))] → W p l e ({ frames := 1, cells := 0, slots := 0, locals := 21 } : Room) s m args below meth c H locs 0 0 Q (F0 m 14 ls []) := by
      intro f
      induction f with
      | zero =>
        intro i w1 h1 h2
        exact absurd h1 (by omega)
      | succ f ih =>
        intro i w1 h1 h2 h3 H locs hP hD hS ls hl
        have hlen := dl_len a j i
        refine lv_iload_n hx hb dX1_different_14 rfl (lv_at hl 0 rfl) ?_
        refine lv_aload_n hx hb dX1_different_15 rfl (lv_at hl 2 rfl) ?_
        refine x1_get hx hb hts hown hK hP 0 rfl 0 (by decide) (hts _ q194) rfl (v := .int (nI n)) rfl dX1_different_16 ?_
        refine xn_ge (tgt := 107) hx hb dX1_different_19 (by decide) (by omega) (by omega) (fun c_19 => ?_) (fun c_19 => ?_)
        · refine lv_iload_n hx hb dX1_different_107 rfl (lv_at hl 1 rfl) ?_
          exact K _ w1 _ _ _ _ (px4.good hj (by rw [show n = i by omega]; exact ⟨rfl, h3⟩)) hP hD hS rfl dX1_different_108
        · refine lv_iconst (v := nI 0) hx hb dX1_different_22 rfl ?_
          refine lv_istore (lv' := [(4, .int (nI 0)), (3, .int (nI i)), (2, .int (nI ((dl a j i).length))), (0, .ref g0), (1, .int (nI j))]) hx hb dX1_different_23 hl (by decide) rfl (fun ls hl => ?_)
          refine lv_iconst (v := nI 0) hx hb dX1_different_25 rfl ?_
          refine lv_istore (lv' := [(5, .int (nI 0)), (4, .int (nI 0)), (3, .int (nI i)), (2, .int (nI ((dl a j i).length))), (0, .ref g0), (1, .int (nI j))]) hx hb dX1_different_26 hl (by decide) rfl (fun ls hl => ?_)
          have loop2 : ∀ (f2 q kn : Nat), (dl a j i).length + 1 ≤ q + f2 → q ≤ (dl a j i).length → ((kn = 0 ∧ ∀ z, z < q → ¬ w1 z = a (4 * i + j)) ∨ (kn = 1 ∧ ∃ z, z < q ∧ w1 z = a (4 * i + j))) → ∀ ls : Array Slot, lv_has ls 6 [(5, .int (nI q)), (4, .int (nI kn)), (3, .int (nI i)), (2, .int (nI ((dl a j i).length))), (0, .ref g0), (1, .int (nI j))] → W p l e ({ frames := 1, cells := 0, slots := 0, locals := 21 } : Room) s m args below meth c H locs 0 0 Q (F0 m 28 ls []) := by
            intro f2
            induction f2 with
            | zero =>
              intro q kn h5 h6
              exact absurd h5 (by omega)
            | succ f2 ih2 =>
              intro q kn h5 h6 h7 ls hl
              have hkb : kn ≤ 1 := by omega
              refine lv_iload hx hb dX1_different_28 (lv_at hl 0 rfl) ?_
              refine lv_iload_n hx hb dX1_different_30 rfl (lv_at hl 3 rfl) ?_
              refine xn_ge (tgt := 72) hx hb dX1_different_31 (by decide) (by omega) (by omega) (fun c_31 => ?_) (fun c_31 => ?_)
              · have hqe : q = (dl a j i).length := by omega
                have hkn : (kn = 0 ∧ ¬ a (4 * i + j) ∈ dl a j i) ∨ (kn = 1 ∧ a (4 * i + j) ∈ dl a j i) := by
                  rcases h7 with ⟨h8, h9⟩ | ⟨h8, z, h9, h10⟩
                  · exact Or.inl ⟨h8, fun hm => by obtain ⟨z, hz, e⟩ := (fewR_mem h3 _).mp hm; exact h9 z (by omega) e⟩
                  · exact Or.inr ⟨h8, (fewR_mem h3 _).mpr ⟨z, by omega, h10⟩⟩
                refine lv_iload hx hb dX1_different_72 (lv_at hl 1 rfl) ?_
                refine xn_if_ne (tgt := 101) hx hb dX1_different_74 (by decide) (by omega) (fun c_74 => ?_) (fun c_74 => ?_)
                · refine lv_iinc (v := nI (i + 1)) (lv' := [(3, .int (nI (i + 1))), (5, .int (nI q)), (4, .int (nI kn)), (2, .int (nI ((dl a j i).length))), (0, .ref g0), (1, .int (nI j))]) hx hb dX1_different_101 hl (k := 2) rfl (nI_add _ 1) (by decide) rfl (fun ls hl => ?_)
                  refine lv_goto (tgt := 14) hx hb dX1_different_104 (by decide) ?_
                  have e9 : dl a j (i + 1) = dl a j i := by
                    first
                    | exact dl_in (hkn.resolve_left (fun h => absurd c_74 (by omega))).2
                    | exact dl_full c_79
                  refine ih (i + 1) w1 (by omega) (by omega) (by rw [e9]; exact h3) H locs hP hD hS ls (by rw [e9]; exact lv_sub hl [0, 3, 4, 5] rfl)
                · refine lv_iload_n hx hb dX1_different_77 rfl (lv_at hl 3 rfl) ?_
                  refine lv_iconst (v := nI 4) hx hb dX1_different_78 rfl ?_
                  refine xn_ge (tgt := 101) hx hb dX1_different_79 (by decide) (by omega) (by omega) (fun c_79 => ?_) (fun c_79 => ?_)
                  · refine lv_iinc (v := nI (i + 1)) (lv' := [(3, .int (nI (i + 1))), (5, .int (nI q)), (4, .int (nI kn)), (2, .int (nI ((dl a j i).length))), (0, .ref g0), (1, .int (nI j))]) hx hb dX1_different_101 hl (k := 2) rfl (nI_add _ 1) (by decide) rfl (fun ls hl => ?_)
                    refine lv_goto (tgt := 14) hx hb dX1_different_104 (by decide) ?_
                    have e9 : dl a j (i + 1) = dl a j i := by
                      first
                      | exact dl_in (hkn.resolve_left (fun h => absurd c_74 (by omega))).2
                      | exact dl_full c_79
                    refine ih (i + 1) w1 (by omega) (by omega) (by rw [e9]; exact h3) H locs hP hD hS ls (by rw [e9]; exact lv_sub hl [0, 3, 4, 5] rfl)
                  · refine lv_aload_n hx hb dX1_different_82 rfl (lv_at hl 4 rfl) ?_
                    refine x1_get hx hb hts hown hK hP 0 rfl 2 (by decide) (hts _ q196) rfl (v := .ref b2) rfl dX1_different_83 ?_
                    refine lv_iload_n hx hb dX1_different_86 rfl (lv_at hl 3 rfl) ?_
                    refine lv_aload_n hx hb dX1_different_87 rfl (lv_at hl 4 rfl) ?_
                    refine x1_get hx hb hts hown hK hP 0 rfl 1 (by decide) (hts _ q195) rfl (v := .ref b1) rfl dX1_different_88 ?_
                    refine lv_iconst (v := nI 4) hx hb dX1_different_91 rfl ?_
                    refine lv_iload_n hx hb dX1_different_92 rfl (lv_at hl 2 rfl) ?_
                    refine xn_mul hx hb dX1_different_93 ?_
                    refine lv_iload_n hx hb dX1_different_94 rfl (lv_at hl 5 rfl) ?_
                    refine xn_add hx hb dX1_different_95 ?_
                    refine xa_iald hx hb hK hP 1 0 rfl rfl (k := 4 * i + j) (by omega) (by decide) dX1_different_96 ?_
                    refine xa_iast hx hb hK hP hD hS 2 0 rfl rfl (by omega) (by decide) [(g0, oM b1 b2 (nI n) p0 q0 r0), (b1, .inl (dA, 400, .inl a)), (b2, .inl (dA, 4, .inl (upd w1 ((dl a j i).length) (a (4 * i + j)))))] rfl dX1_different_97 (fun H locs hP hD hS => ?_)
                    refine lv_iinc (v := nI ((dl a j i).length + 1)) (lv' := [(2, .int (nI ((dl a j i).length + 1))), (5, .int (nI q)), (4, .int (nI kn)), (3, .int (nI i)), (0, .ref g0), (1, .int (nI j))]) hx hb dX1_different_98 hl (k := 3) rfl (nI_add _ 1) (by decide) rfl (fun ls hl => ?_)
                    refine lv_iinc (v := nI (i + 1)) (lv' := [(3, .int (nI (i + 1))), (2, .int (nI ((dl a j i).length + 1))), (5, .int (nI q)), (4, .int (nI kn)), (0, .ref g0), (1, .int (nI j))]) hx hb dX1_different_101 hl (k := 3) rfl (nI_add _ 1) (by decide) rfl (fun ls hl => ?_)
                    refine lv_goto (tgt := 14) hx hb dX1_different_104 (by decide) ?_
                    have e9 : dl a j (i + 1) = dl a j i ++ [a (4 * i + j)] := dl_new (hkn.resolve_right (fun h => absurd c_74 (by omega))).2 c_79
                    refine ih (i + 1) _ (by omega) (by omega) (by rw [e9]; exact fewR_add h3 _) H locs hP hD hS ls (by rw [e9, List.length_append]; exact lv_sub hl [0, 1, 4, 5] rfl)
              · refine lv_iload hx hb dX1_different_34 (lv_at hl 1 rfl) ?_
                refine xn_if_ne (tgt := 59) hx hb dX1_different_36 (by decide) (by omega) (fun c_36 => ?_) (fun c_36 => ?_)
                · refine lv_iconst (v := nI 1) hx hb dX1_different_59 rfl ?_
                  refine lv_goto (tgt := 64) hx hb dX1_different_60 (by decide) ?_
                  refine lv_istore (lv' := [(4, .int (nI 1)), (5, .int (nI q)), (3, .int (nI i)), (2, .int (nI ((dl a j i).length))), (0, .ref g0), (1, .int (nI j))]) hx hb dX1_different_64 hl (by decide) rfl (fun ls hl => ?_)
                  refine lv_iinc (v := nI (q + 1)) (lv' := [(5, .int (nI (q + 1))), (4, .int (nI 1)), (3, .int (nI i)), (2, .int (nI ((dl a j i).length))), (0, .ref g0), (1, .int (nI j))]) hx hb dX1_different_66 hl (k := 1) rfl (nI_add _ 1) (by decide) rfl (fun ls hl => ?_)
                  refine lv_goto (tgt := 28) hx hb dX1_different_69 (by decide) ?_
                  refine ih2 (q + 1) 1 (by omega) (by omega) (Or.inr ⟨rfl, ?_⟩) ls (lv_sub hl [0, 1, 2, 3, 4, 5] rfl)
                  first
                  | exact ⟨q, by omega, c_56⟩
                  | (obtain ⟨z, hz, e⟩ := (h7.resolve_left (fun h => absurd c_36 (by omega))).2; exact ⟨z, by omega, e⟩)
                · refine lv_aload_n hx hb dX1_different_39 rfl (lv_at hl 4 rfl) ?_
                  refine x1_get hx hb hts hown hK hP 0 rfl 2 (by decide) (hts _ q196) rfl (v := .ref b2) rfl dX1_different_40 ?_
                  refine lv_iload hx hb dX1_different_43 (lv_at hl 0 rfl) ?_
                  refine xa_iald hx hb hK hP 2 0 rfl rfl (k := q) (by omega) (by decide) dX1_different_45 ?_
                  refine lv_aload_n hx hb dX1_different_46 rfl (lv_at hl 4 rfl) ?_
                  refine x1_get hx hb hts hown hK hP 0 rfl 1 (by decide) (hts _ q195) rfl (v := .ref b1) rfl dX1_different_47 ?_
                  refine lv_iconst (v := nI 4) hx hb dX1_different_50 rfl ?_
                  refine lv_iload_n hx hb dX1_different_51 rfl (lv_at hl 2 rfl) ?_
                  refine xn_mul hx hb dX1_different_52 ?_
                  refine lv_iload_n hx hb dX1_different_53 rfl (lv_at hl 5 rfl) ?_
                  refine xn_add hx hb dX1_different_54 ?_
                  refine xa_iald hx hb hK hP 1 0 rfl rfl (k := 4 * i + j) (by omega) (by decide) dX1_different_55 ?_
                  refine lv_icmp_ne (tgt := 63) hx hb dX1_different_56 (by decide) (fun c_56 => ?_) (fun c_56 => ?_)
                  · refine lv_iconst (v := nI 0) hx hb dX1_different_63 rfl ?_
                    refine lv_istore (lv' := [(4, .int (nI 0)), (5, .int (nI q)), (3, .int (nI i)), (2, .int (nI ((dl a j i).length))), (0, .ref g0), (1, .int (nI j))]) hx hb dX1_different_64 hl (by decide) rfl (fun ls hl => ?_)
                    refine lv_iinc (v := nI (q + 1)) (lv' := [(5, .int (nI (q + 1))), (4, .int (nI 0)), (3, .int (nI i)), (2, .int (nI ((dl a j i).length))), (0, .ref g0), (1, .int (nI j))]) hx hb dX1_different_66 hl (k := 1) rfl (nI_add _ 1) (by decide) rfl (fun ls hl => ?_)
                    refine lv_goto (tgt := 28) hx hb dX1_different_69 (by decide) ?_
                    refine ih2 (q + 1) 0 (by omega) (by omega) (Or.inl ⟨rfl, fun z hz => ?_⟩) ls (lv_sub hl [0, 1, 2, 3, 4, 5] rfl)
                    rcases Nat.lt_or_ge z q with h8 | h8
                    · exact (h7.resolve_right (fun h => absurd c_36 (by omega))).2 z h8
                    · rw [show z = q by omega]; exact c_56
                  · refine lv_iconst (v := nI 1) hx hb dX1_different_59 rfl ?_
                    refine lv_goto (tgt := 64) hx hb dX1_different_60 (by decide) ?_
                    refine lv_istore (lv' := [(4, .int (nI 1)), (5, .int (nI q)), (3, .int (nI i)), (2, .int (nI ((dl a j i).length))), (0, .ref g0), (1, .int (nI j))]) hx hb dX1_different_64 hl (by decide) rfl (fun ls hl => ?_)
                    refine lv_iinc (v := nI (q + 1)) (lv' := [(5, .int (nI (q + 1))), (4, .int (nI 1)), (3, .int (nI i)), (2, .int (nI ((dl a j i).length))), (0, .ref g0), (1, .int (nI j))]) hx hb dX1_different_66 hl (k := 1) rfl (nI_add _ 1) (by decide) rfl (fun ls hl => ?_)
                    refine lv_goto (tgt := 28) hx hb dX1_different_69 (by decide) ?_
                    refine ih2 (q + 1) 1 (by omega) (by omega) (Or.inr ⟨rfl, ?_⟩) ls (lv_sub hl [0, 1, 2, 3, 4, 5] rfl)
                    first
                    | exact ⟨q, by omega, c_56⟩
                    | (obtain ⟨z, hz, e⟩ := (h7.resolve_left (fun h => absurd c_36 (by omega))).2; exact ⟨z, by omega, e⟩)
          exact loop2 ((dl a j i).length + 1) 0 0 (by omega) (by omega) (Or.inl ⟨rfl, fun z hz => absurd hz (by omega)⟩) ls (lv_sub hl [0, 1, 2, 3, 4, 5] rfl)
    exact loop (n + 1) 0 w (by omega) (by omega) (fun k hk => absurd hk (by simp [dl])) H locs hP hD hS ls (lv_sub hl [0, 1, 2, 3] rfl)
  · refine xn_if_ne (tgt := 10) hx hb dX1_different_5 (by decide) (by omega) (fun c_5 => absurd c_5 (by omega)) (fun c_5 => ?_)
    refine lv_iconst (v := (-1)) hx hb dX1_different_8 rfl ?_
    exact K _ w _ _ _ _ (px4.bad hbad_x rfl) hP hD hS rfl dX1_different_9
end
section
set_option maxHeartbeats 4000000 in
set_option maxRecDepth 100000 in
theorem mX1_constant (l : Launch) (dC : Nat → ClassId) (dI : Nat → Nat → Nat) (dA dB : ClassId) (sz : Nat) (g0 b1 b2 : Nat) (p0 q0 r0 : Int32) (n : Nat) (a w : Nat → Int32) (x : Int32) (hn : n ≤ 100) : Met l yX1_constant (ws_ yX1_constant cX1_constant 2 (some .int)) ({ frames := 2, cells := 0, slots := 0, locals := 46 } : Room) (va_Pc [.ref g0, .int x] (xPre (dC, dI) vwCl (xT dA dB) [(g0, oM b1 b2 (nI n) p0 q0 r0), (b1, .inl (dA, 400, .inl a)), (b2, .inl (dA, 4, .inl w))] sz)) (va_Qi (fun r _ => px4 x (r = (-1000)) (fun j => r = if (dl a j n).length = 1 then a j else (-1000))) (fun u t => va_P (dC, dI) vwCl ((fun u : Nat → Int32 => [(g0, oM b1 b2 (nI n) p0 q0 r0), (b1, .inl (dA, 400, .inl a)), (b2, .inl (dA, 4, .inl u))]) u) t.heap ∧ va_D (va_A [(g0, oM b1 b2 (nI n) p0 q0 r0), (b1, .inl (dA, 400, .inl a)), (b2, .inl (dA, 4, .inl w))] sz) ((fun u : Nat → Int32 => [(g0, oM b1 b2 (nI n) p0 q0 r0), (b1, .inl (dA, 400, .inl a)), (b2, .inl (dA, 4, .inl u))]) u)) (va_A [(g0, oM b1 b2 (nI n) p0 q0 r0), (b1, .inl (dA, 400, .inl a)), (b2, .inl (dA, 4, .inl w))] sz)) 0 0 (va_A [(g0, oM b1 b2 (nI n) p0 q0 r0), (b1, .inl (dA, 400, .inl a)), (b2, .inl (dA, 4, .inl w))] sz) := by
  refine xm_Qi (by decide) (Nat.le_of_ble_eq_true rfl) ?_
  intro p e s m args below meth c hx hb hml hown hts hK A hA H locs hP hD hS Q K ls hl
  have hown : s.vm.findClass RX1 = some m.cls := hown
  have hl : lv_has ls 2 [(0, .ref g0), (1, .int x)] := hl
  refine lv_aload_n hx hb dX1_constant_0 rfl (lv_at hl 0 rfl) ?_
  refine lv_iload_n hx hb dX1_constant_1 rfl (lv_at hl 1 rfl) ?_
  refine xc_V (ci := 1) (q0 := 0) [.int x] ⟨hx, hb, hml, hown, hts⟩ hK hP rfl rfl rfl [] rfl (mX1_is l dC dI dA dB g0 x) (cwV 1 hts (lw_V q233 q235 qs8 q14 q236) rfl rfl rfl (by decide +kernel) ⟨Nat.le_of_ble_eq_true rfl, Nat.le_of_ble_eq_true rfl⟩) rfl hl.1 rfl (Nat.le_of_ble_eq_true rfl) dX1_constant_2 ⟨Nat.le_of_ble_eq_true rfl, Nat.le_of_ble_eq_true rfl⟩ (fun r_2 h_2 => ?_)
  rcases h_2 with ⟨j, hj, rfl, rfl⟩ | ⟨hbad_x, rfl⟩
  · refine xn_if_eq (tgt := 26) hx hb dX1_constant_5 (by decide) (by omega) (fun c_5 => absurd c_5 (by omega)) (fun c_5 => ?_)
    refine lv_aload_n hx hb dX1_constant_8 rfl (lv_at hl 0 rfl) ?_
    refine lv_iload_n hx hb dX1_constant_9 rfl (lv_at hl 1 rfl) ?_
    refine xc_Wi (ci := 1) (q0 := 0) (wc := [(g0, oM b1 b2 (nI n) p0 q0 r0), (b1, .inl (dA, 400, .inl a)), (b2, .inl (dA, 4, .inl w))]) (wr := []) [.int (nI j)] ⟨hx, hb, hml, hown, hts⟩ hK hP hD hS hA rfl rfl rfl [0, 1, 2] [] [0, 1, 2] rfl rfl rfl rfl rfl (by decide) (fun u : Nat → Int32 => [(g0, oM b1 b2 (nI n) p0 q0 r0), (b1, .inl (dA, 400, .inl a)), (b2, .inl (dA, 4, .inl u))]) (fun _ => rfl) (fun _ => rfl) rfl (mX1_different l dC dI dA dB H.size g0 b1 b2 p0 q0 r0 n a w (nI j) hn) (cwV 1 hts (lw_V q237 q238 q239 q14 q240) rfl rfl rfl (by decide +kernel) ⟨Nat.le_of_ble_eq_true rfl, Nat.le_of_ble_eq_true rfl⟩) rfl hl.1 rfl (Nat.le_of_ble_eq_true rfl) dX1_constant_10 ⟨Nat.le_of_ble_eq_true rfl, Nat.le_of_ble_eq_true rfl⟩ (fun r_10 u_10 H locs h_10 hP hD hS => ?_)
    obtain ⟨h_10, hfew⟩ : r_10 = nI (dl a j n).length ∧ fewR u_10 (dl a j n) := h_10.2 j hj rfl
    have hlen := dl_len a j n
    subst h_10
    refine lv_iconst (v := nI 1) hx hb dX1_constant_13 rfl ?_
    refine xn_ne (tgt := 26) hx hb dX1_constant_14 (by decide) (by omega) (by omega) (fun c_14 => ?_) (fun c_14 => ?_)
    · refine lv_sipush (v := (-1000)) hx hb dX1_constant_26 rfl ?_
      exact K _ u_10 _ _ _ _ (px4.good hj (by first | rw [if_pos c_14] | rw [if_neg c_14])) hP hD hS rfl dX1_constant_29
    · refine lv_aload_n hx hb dX1_constant_17 rfl (lv_at hl 0 rfl) ?_
      refine x1_get hx hb hts hown hK hP 0 rfl 1 (by decide) (hts _ q195) rfl (v := .ref b1) rfl dX1_constant_18 ?_
      refine lv_iload_n hx hb dX1_constant_21 rfl (lv_at hl 1 rfl) ?_
      refine xa_iald hx hb hK hP 1 0 rfl rfl (k := j) (by omega) (by decide) dX1_constant_22 ?_
      refine lv_goto (tgt := 29) hx hb dX1_constant_23 (by decide) ?_
      exact K _ u_10 _ _ _ _ (px4.good hj (by first | rw [if_pos c_14] | rw [if_neg c_14])) hP hD hS rfl dX1_constant_29
  · refine xn_if_eq (tgt := 26) hx hb dX1_constant_5 (by decide) (by omega) (fun c_5 => ?_) (fun c_5 => absurd c_5 (by omega))
    refine lv_sipush (v := (-1000)) hx hb dX1_constant_26 rfl ?_
    exact K _ w _ _ _ _ (px4.bad hbad_x rfl) hP hD hS rfl dX1_constant_29
theorem i32_ge {x y : Int32} (h : y ≤ x) : ¬ x < y := by
  rw [Int32.le_iff_toInt_le] at h
  rw [Int32.lt_iff_toInt_lt]
  omega
theorem i32_lt {x y : Int32} (h : ¬ y ≤ x) : x < y := by
  rw [Int32.le_iff_toInt_le] at h
  rw [Int32.lt_iff_toInt_lt]
  omega
def vatR (L : List Int32) (kk r : Int32) : Prop := ∃ f : Nat → Int32, fewR f L ∧
  (∀ z, L.length ≤ 3 → z < L.length → kk = nI z → ((∃ i, i < L.length ∧ rkn f (f i) L.length = z ∧ r = f i) ∨ ((∀ i, i < L.length → ¬ rkn f (f i) L.length = z) ∧ r = (-1000)))) ∧ ((3 < L.length ∨ ∀ z, z < L.length → ¬ kk = nI z) → r = (-1000))
set_option maxHeartbeats 4000000 in
set_option maxRecDepth 100000 in
theorem mX1_bound (l : Launch) (dC : Nat → ClassId) (dI : Nat → Nat → Nat) (dA dB : ClassId) (g0 b1 b2 : Nat) (p0 q0 r0 : Int32) (n : Nat) (a : Nat → Int32) (x wh : Int32) (hn : n ≤ 100) : Met l yX1_bound (ws_ yX1_bound cX1_bound 6 (some .int)) ({ frames := 1, cells := 0, slots := 0, locals := 21 } : Room) (va_Pc [.ref g0, .int x, .int wh] (xPreR (dC, dI) vwCl (xT dA dB) [(g0, oM b1 b2 (nI n) p0 q0 r0), (b1, .inl (dA, 400, .inl a))])) (vp_Si (fun r => px4 x (r = (-1000)) (fun j => (n = 0 ∨ (¬ wh = 0 ∧ ¬ wh = nI 1) → r = (-1000)) ∧ (0 < n → (wh = 0 ∨ wh = nI 1) → r = fB wh a j n)))) 0 0 (fun _ => False) := by
  refine xm_R (by decide) (Nat.le_of_ble_eq_true rfl) ?_
  intro p e s m args below meth c hx hb hml hown hts hK H locs hP Q K ls hl
  have hown : s.vm.findClass RX1 = some m.cls := hown
  have hl : lv_has ls 6 [(0, .ref g0), (1, .int x), (2, .int wh)] := hl
  refine lv_aload_n hx hb dX1_bound_0 rfl (lv_at hl 0 rfl) ?_
  refine lv_iload_n hx hb dX1_bound_1 rfl (lv_at hl 1 rfl) ?_
  refine xc_V (ci := 1) (q0 := 0) [.int x] ⟨hx, hb, hml, hown, hts⟩ hK hP rfl rfl rfl [] rfl (mX1_is l dC dI dA dB g0 x) (cwV 1 hts (lw_V q233 q235 qs8 q14 q236) rfl rfl rfl (by decide +kernel) ⟨Nat.le_of_ble_eq_true rfl, Nat.le_of_ble_eq_true rfl⟩) rfl hl.1 rfl (Nat.le_of_ble_eq_true rfl) dX1_bound_2 ⟨Nat.le_of_ble_eq_true rfl, Nat.le_of_ble_eq_true rfl⟩ (fun r_2 h_2 => ?_)
  rcases h_2 with ⟨j, hj, rfl, rfl⟩ | ⟨hbad_x, rfl⟩
  · refine xn_if_eq (tgt := 24) hx hb dX1_bound_5 (by decide) (by omega) (fun c_5 => absurd c_5 (by omega)) (fun c_5 => ?_)
    refine lv_aload_n hx hb dX1_bound_8 rfl (lv_at hl 0 rfl) ?_
    refine x1_get hx hb hts hown hK hP 0 rfl 0 (by decide) (hts _ q194) rfl (v := .int (nI n)) rfl dX1_bound_9 ?_
    refine xn_if_eq (tgt := 24) hx hb dX1_bound_12 (by decide) (by omega) (fun c_12 => ?_) (fun c_12 => ?_)
    · refine lv_sipush (v := (-1000)) hx hb dX1_bound_24 rfl ?_
      exact K _ _ _ (px4.good hj ⟨fun _ => rfl, fun h1 h2 => by first | (exact absurd h1 (by omega)) | (exact absurd h2 (fun h => h.elim c_16 c_21))⟩) rfl dX1_bound_27
    · refine lv_iload_n hx hb dX1_bound_15 rfl (lv_at hl 2 rfl) ?_
      refine lv_if_eq (tgt := 28) hx hb dX1_bound_16 (by decide) (fun c_16 => ?_) (fun c_16 => ?_)
      · refine lv_aload_n hx hb dX1_bound_28 rfl (lv_at hl 0 rfl) ?_
        refine x1_get hx hb hts hown hK hP 0 rfl 1 (by decide) (hts _ q195) rfl (v := .ref b1) rfl dX1_bound_29 ?_
        refine lv_iload_n hx hb dX1_bound_32 rfl (lv_at hl 1 rfl) ?_
        refine xa_iald hx hb hK hP 1 0 rfl rfl (k := j) (by omega) (by decide) dX1_bound_33 ?_
        refine lv_istore_n (lv' := [(3, .int (a j)), (0, .ref g0), (1, .int (nI j)), (2, .int wh)]) hx hb dX1_bound_34 rfl hl (by decide) rfl (fun ls hl => ?_)
        refine lv_iconst (v := nI 0) hx hb dX1_bound_35 rfl ?_
        refine lv_istore (lv' := [(4, .int (nI 0)), (3, .int (a j)), (0, .ref g0), (1, .int (nI j)), (2, .int wh)]) hx hb dX1_bound_36 hl (by decide) rfl (fun ls hl => ?_)
        have loop : ∀ (f i : Nat), n + 1 ≤ i + f → i ≤ n → ∀ ls : Array Slot, lv_has ls 6 [(4, .int (nI i)), (3, .int (fB wh a j i)), (0, .ref g0), (1, .int (nI j)), (2, .int wh)] → W p l e ({ frames := 1, cells := 0, slots := 0, locals := 21 } : Room) s m args below meth c H locs 0 0 Q (F0 m 38 ls []) := by
          intro f
          induction f with
          | zero =>
            intro i h1 h2
            exact absurd h1 (by omega)
          | succ f ih =>
            intro i h1 h2 ls hl
            refine lv_iload hx hb dX1_bound_38 (lv_at hl 0 rfl) ?_
            refine lv_aload_n hx hb dX1_bound_40 rfl (lv_at hl 2 rfl) ?_
            refine x1_get hx hb hts hown hK hP 0 rfl 0 (by decide) (hts _ q194) rfl (v := .int (nI n)) rfl dX1_bound_41 ?_
            refine xn_ge (tgt := 98) hx hb dX1_bound_44 (by decide) (by omega) (by omega) (fun c_44 => ?_) (fun c_44 => ?_)
            · refine lv_iload_n hx hb dX1_bound_98 rfl (lv_at hl 1 rfl) ?_
              exact K _ _ _ (px4.good hj ⟨fun h => by rcases h with h | h; exact absurd h (by omega); first | exact absurd c_16 h.1 | exact absurd c_21 h.2, fun _ _ => by rw [show n = i by omega]⟩) rfl dX1_bound_99
            · refine lv_aload_n hx hb dX1_bound_47 rfl (lv_at hl 2 rfl) ?_
              refine x1_get hx hb hts hown hK hP 0 rfl 1 (by decide) (hts _ q195) rfl (v := .ref b1) rfl dX1_bound_48 ?_
              refine lv_iconst (v := nI 4) hx hb dX1_bound_51 rfl ?_
              refine lv_iload hx hb dX1_bound_52 (lv_at hl 0 rfl) ?_
              refine xn_mul hx hb dX1_bound_54 ?_
              refine lv_iload_n hx hb dX1_bound_55 rfl (lv_at hl 3 rfl) ?_
              refine xn_add hx hb dX1_bound_56 ?_
              refine xa_iald hx hb hK hP 1 0 rfl rfl (k := 4 * i + j) (by omega) (by decide) dX1_bound_57 ?_
              refine lv_istore (lv' := [(5, .int (a (4 * i + j))), (4, .int (nI i)), (3, .int (fB wh a j i)), (0, .ref g0), (1, .int (nI j)), (2, .int wh)]) hx hb dX1_bound_58 hl (by decide) rfl (fun ls hl => ?_)
              refine lv_iload_n hx hb dX1_bound_60 rfl (lv_at hl 5 rfl) ?_
              refine lv_if_ne (tgt := 79) hx hb dX1_bound_61 (by decide) (fun c_61 => ?_) (fun c_61 => ?_)
              · refine lv_iload hx hb dX1_bound_79 (lv_at hl 0 rfl) ?_
                refine lv_iload_n hx hb dX1_bound_81 rfl (lv_at hl 2 rfl) ?_
                refine lv_icmp_le (tgt := 90) hx hb dX1_bound_82 (by decide) (fun c_82 => ?_) (fun c_82 => ?_)
                · refine lv_iload_n hx hb dX1_bound_90 rfl (lv_at hl 2 rfl) ?_
                  refine lv_istore_n (lv' := [(3, .int (fB wh a j i)), (5, .int (a (4 * i + j))), (4, .int (nI i)), (0, .ref g0), (1, .int (nI j)), (2, .int wh)]) hx hb dX1_bound_91 rfl hl (by decide) rfl (fun ls hl => ?_)
                  refine lv_iinc (v := nI (i + 1)) (lv' := [(4, .int (nI (i + 1))), (3, .int (fB wh a j i)), (5, .int (a (4 * i + j))), (0, .ref g0), (1, .int (nI j)), (2, .int wh)]) hx hb dX1_bound_92 hl (k := 2) rfl (nI_add _ 1) (by decide) rfl (fun ls hl => ?_)
                  refine lv_goto (tgt := 38) hx hb dX1_bound_95 (by decide) ?_
                  refine ih (i + 1) (by omega) (by omega) ls ?_
                  rw [show fB wh a j (i + 1) = fB wh a j i by
                    show (if wh = 0 then (if a (4 * i + j) < fB wh a j i then a (4 * i + j) else fB wh a j i) else (if fB wh a j i < a (4 * i + j) then a (4 * i + j) else fB wh a j i)) = _
                    first
                    | rw [if_pos c_61, if_neg (fun h => i32_ge c_67 h)]
                    | rw [if_pos c_61, if_pos (i32_lt c_67)]
                    | rw [if_neg c_61, if_neg (fun h => i32_ge c_82 h)]
                    | rw [if_neg c_61, if_pos (i32_lt c_82)]]
                  exact lv_sub hl [0, 1, 3, 4, 5] rfl
                · refine lv_iload hx hb dX1_bound_85 (lv_at hl 0 rfl) ?_
                  refine lv_goto (tgt := 91) hx hb dX1_bound_87 (by decide) ?_
                  refine lv_istore_n (lv' := [(3, .int (a (4 * i + j))), (5, .int (a (4 * i + j))), (4, .int (nI i)), (0, .ref g0), (1, .int (nI j)), (2, .int wh)]) hx hb dX1_bound_91 rfl hl (by decide) rfl (fun ls hl => ?_)
                  refine lv_iinc (v := nI (i + 1)) (lv' := [(4, .int (nI (i + 1))), (3, .int (a (4 * i + j))), (5, .int (a (4 * i + j))), (0, .ref g0), (1, .int (nI j)), (2, .int wh)]) hx hb dX1_bound_92 hl (k := 2) rfl (nI_add _ 1) (by decide) rfl (fun ls hl => ?_)
                  refine lv_goto (tgt := 38) hx hb dX1_bound_95 (by decide) ?_
                  refine ih (i + 1) (by omega) (by omega) ls ?_
                  rw [show fB wh a j (i + 1) = a (4 * i + j) by
                    show (if wh = 0 then (if a (4 * i + j) < fB wh a j i then a (4 * i + j) else fB wh a j i) else (if fB wh a j i < a (4 * i + j) then a (4 * i + j) else fB wh a j i)) = _
                    first
                    | rw [if_pos c_61, if_neg (fun h => i32_ge c_67 h)]
                    | rw [if_pos c_61, if_pos (i32_lt c_67)]
                    | rw [if_neg c_61, if_neg (fun h => i32_ge c_82 h)]
                    | rw [if_neg c_61, if_pos (i32_lt c_82)]]
                  exact lv_sub hl [0, 1, 3, 4, 5] rfl
              · refine lv_iload hx hb dX1_bound_64 (lv_at hl 0 rfl) ?_
                refine lv_iload_n hx hb dX1_bound_66 rfl (lv_at hl 2 rfl) ?_
                refine lv_icmp_ge (tgt := 75) hx hb dX1_bound_67 (by decide) (fun c_67 => ?_) (fun c_67 => ?_)
                · refine lv_iload_n hx hb dX1_bound_75 rfl (lv_at hl 2 rfl) ?_
                  refine lv_goto (tgt := 91) hx hb dX1_bound_76 (by decide) ?_
                  refine lv_istore_n (lv' := [(3, .int (fB wh a j i)), (5, .int (a (4 * i + j))), (4, .int (nI i)), (0, .ref g0), (1, .int (nI j)), (2, .int wh)]) hx hb dX1_bound_91 rfl hl (by decide) rfl (fun ls hl => ?_)
                  refine lv_iinc (v := nI (i + 1)) (lv' := [(4, .int (nI (i + 1))), (3, .int (fB wh a j i)), (5, .int (a (4 * i + j))), (0, .ref g0), (1, .int (nI j)), (2, .int wh)]) hx hb dX1_bound_92 hl (k := 2) rfl (nI_add _ 1) (by decide) rfl (fun ls hl => ?_)
                  refine lv_goto (tgt := 38) hx hb dX1_bound_95 (by decide) ?_
                  refine ih (i + 1) (by omega) (by omega) ls ?_
                  rw [show fB wh a j (i + 1) = fB wh a j i by
                    show (if wh = 0 then (if a (4 * i + j) < fB wh a j i then a (4 * i + j) else fB wh a j i) else (if fB wh a j i < a (4 * i + j) then a (4 * i + j) else fB wh a j i)) = _
                    first
                    | rw [if_pos c_61, if_neg (fun h => i32_ge c_67 h)]
                    | rw [if_pos c_61, if_pos (i32_lt c_67)]
                    | rw [if_neg c_61, if_neg (fun h => i32_ge c_82 h)]
                    | rw [if_neg c_61, if_pos (i32_lt c_82)]]
                  exact lv_sub hl [0, 1, 3, 4, 5] rfl
                · refine lv_iload hx hb dX1_bound_70 (lv_at hl 0 rfl) ?_
                  refine lv_goto (tgt := 91) hx hb dX1_bound_72 (by decide) ?_
                  refine lv_istore_n (lv' := [(3, .int (a (4 * i + j))), (5, .int (a (4 * i + j))), (4, .int (nI i)), (0, .ref g0), (1, .int (nI j)), (2, .int wh)]) hx hb dX1_bound_91 rfl hl (by decide) rfl (fun ls hl => ?_)
                  refine lv_iinc (v := nI (i + 1)) (lv' := [(4, .int (nI (i + 1))), (3, .int (a (4 * i + j))), (5, .int (a (4 * i + j))), (0, .ref g0), (1, .int (nI j)), (2, .int wh)]) hx hb dX1_bound_92 hl (k := 2) rfl (nI_add _ 1) (by decide) rfl (fun ls hl => ?_)
                  refine lv_goto (tgt := 38) hx hb dX1_bound_95 (by decide) ?_
                  refine ih (i + 1) (by omega) (by omega) ls ?_
                  rw [show fB wh a j (i + 1) = a (4 * i + j) by
                    show (if wh = 0 then (if a (4 * i + j) < fB wh a j i then a (4 * i + j) else fB wh a j i) else (if fB wh a j i < a (4 * i + j) then a (4 * i + j) else fB wh a j i)) = _
                    first
                    | rw [if_pos c_61, if_neg (fun h => i32_ge c_67 h)]
                    | rw [if_pos c_61, if_pos (i32_lt c_67)]
                    | rw [if_neg c_61, if_neg (fun h => i32_ge c_82 h)]
                    | rw [if_neg c_61, if_pos (i32_lt c_82)]]
                  exact lv_sub hl [0, 1, 3, 4, 5] rfl
        exact loop (n + 1) 0 (by omega) (by omega) ls (lv_sub hl [0, 1, 2, 3, 4] rfl)
      · refine lv_iload_n hx hb dX1_bound_19 rfl (lv_at hl 2 rfl) ?_
        refine lv_iconst (v := nI 1) hx hb dX1_bound_20 rfl ?_
        refine lv_icmp_eq (tgt := 28) hx hb dX1_bound_21 (by decide) (fun c_21 => ?_) (fun c_21 => ?_)
        · refine lv_aload_n hx hb dX1_bound_28 rfl (lv_at hl 0 rfl) ?_
          refine x1_get hx hb hts hown hK hP 0 rfl 1 (by decide) (hts _ q195) rfl (v := .ref b1) rfl dX1_bound_29 ?_
          refine lv_iload_n hx hb dX1_bound_32 rfl (lv_at hl 1 rfl) ?_
          refine xa_iald hx hb hK hP 1 0 rfl rfl (k := j) (by omega) (by decide) dX1_bound_33 ?_
          refine lv_istore_n (lv' := [(3, .int (a j)), (0, .ref g0), (1, .int (nI j)), (2, .int wh)]) hx hb dX1_bound_34 rfl hl (by decide) rfl (fun ls hl => ?_)
          refine lv_iconst (v := nI 0) hx hb dX1_bound_35 rfl ?_
          refine lv_istore (lv' := [(4, .int (nI 0)), (3, .int (a j)), (0, .ref g0), (1, .int (nI j)), (2, .int wh)]) hx hb dX1_bound_36 hl (by decide) rfl (fun ls hl => ?_)
          have loop : ∀ (f i : Nat), n + 1 ≤ i + f → i ≤ n → ∀ ls : Array Slot, lv_has ls 6 [(4, .int (nI i)), (3, .int (fB wh a j i)), (0, .ref g0), (1, .int (nI j)), (2, .int wh)] → W p l e ({ frames := 1, cells := 0, slots := 0, locals := 21 } : Room) s m args below meth c H locs 0 0 Q (F0 m 38 ls []) := by
            intro f
            induction f with
            | zero =>
              intro i h1 h2
              exact absurd h1 (by omega)
            | succ f ih =>
              intro i h1 h2 ls hl
              refine lv_iload hx hb dX1_bound_38 (lv_at hl 0 rfl) ?_
              refine lv_aload_n hx hb dX1_bound_40 rfl (lv_at hl 2 rfl) ?_
              refine x1_get hx hb hts hown hK hP 0 rfl 0 (by decide) (hts _ q194) rfl (v := .int (nI n)) rfl dX1_bound_41 ?_
              refine xn_ge (tgt := 98) hx hb dX1_bound_44 (by decide) (by omega) (by omega) (fun c_44 => ?_) (fun c_44 => ?_)
              · refine lv_iload_n hx hb dX1_bound_98 rfl (lv_at hl 1 rfl) ?_
                exact K _ _ _ (px4.good hj ⟨fun h => by rcases h with h | h; exact absurd h (by omega); first | exact absurd c_16 h.1 | exact absurd c_21 h.2, fun _ _ => by rw [show n = i by omega]⟩) rfl dX1_bound_99
              · refine lv_aload_n hx hb dX1_bound_47 rfl (lv_at hl 2 rfl) ?_
                refine x1_get hx hb hts hown hK hP 0 rfl 1 (by decide) (hts _ q195) rfl (v := .ref b1) rfl dX1_bound_48 ?_
                refine lv_iconst (v := nI 4) hx hb dX1_bound_51 rfl ?_
                refine lv_iload hx hb dX1_bound_52 (lv_at hl 0 rfl) ?_
                refine xn_mul hx hb dX1_bound_54 ?_
                refine lv_iload_n hx hb dX1_bound_55 rfl (lv_at hl 3 rfl) ?_
                refine xn_add hx hb dX1_bound_56 ?_
                refine xa_iald hx hb hK hP 1 0 rfl rfl (k := 4 * i + j) (by omega) (by decide) dX1_bound_57 ?_
                refine lv_istore (lv' := [(5, .int (a (4 * i + j))), (4, .int (nI i)), (3, .int (fB wh a j i)), (0, .ref g0), (1, .int (nI j)), (2, .int wh)]) hx hb dX1_bound_58 hl (by decide) rfl (fun ls hl => ?_)
                refine lv_iload_n hx hb dX1_bound_60 rfl (lv_at hl 5 rfl) ?_
                refine lv_if_ne (tgt := 79) hx hb dX1_bound_61 (by decide) (fun c_61 => ?_) (fun c_61 => ?_)
                · refine lv_iload hx hb dX1_bound_79 (lv_at hl 0 rfl) ?_
                  refine lv_iload_n hx hb dX1_bound_81 rfl (lv_at hl 2 rfl) ?_
                  refine lv_icmp_le (tgt := 90) hx hb dX1_bound_82 (by decide) (fun c_82 => ?_) (fun c_82 => ?_)
                  · refine lv_iload_n hx hb dX1_bound_90 rfl (lv_at hl 2 rfl) ?_
                    refine lv_istore_n (lv' := [(3, .int (fB wh a j i)), (5, .int (a (4 * i + j))), (4, .int (nI i)), (0, .ref g0), (1, .int (nI j)), (2, .int wh)]) hx hb dX1_bound_91 rfl hl (by decide) rfl (fun ls hl => ?_)
                    refine lv_iinc (v := nI (i + 1)) (lv' := [(4, .int (nI (i + 1))), (3, .int (fB wh a j i)), (5, .int (a (4 * i + j))), (0, .ref g0), (1, .int (nI j)), (2, .int wh)]) hx hb dX1_bound_92 hl (k := 2) rfl (nI_add _ 1) (by decide) rfl (fun ls hl => ?_)
                    refine lv_goto (tgt := 38) hx hb dX1_bound_95 (by decide) ?_
                    refine ih (i + 1) (by omega) (by omega) ls ?_
                    rw [show fB wh a j (i + 1) = fB wh a j i by
                      show (if wh = 0 then (if a (4 * i + j) < fB wh a j i then a (4 * i + j) else fB wh a j i) else (if fB wh a j i < a (4 * i + j) then a (4 * i + j) else fB wh a j i)) = _
                      first
                      | rw [if_pos c_61, if_neg (fun h => i32_ge c_67 h)]
                      | rw [if_pos c_61, if_pos (i32_lt c_67)]
                      | rw [if_neg c_61, if_neg (fun h => i32_ge c_82 h)]
                      | rw [if_neg c_61, if_pos (i32_lt c_82)]]
                    exact lv_sub hl [0, 1, 3, 4, 5] rfl
                  · refine lv_iload hx hb dX1_bound_85 (lv_at hl 0 rfl) ?_
                    refine lv_goto (tgt := 91) hx hb dX1_bound_87 (by decide) ?_
                    refine lv_istore_n (lv' := [(3, .int (a (4 * i + j))), (5, .int (a (4 * i + j))), (4, .int (nI i)), (0, .ref g0), (1, .int (nI j)), (2, .int wh)]) hx hb dX1_bound_91 rfl hl (by decide) rfl (fun ls hl => ?_)
                    refine lv_iinc (v := nI (i + 1)) (lv' := [(4, .int (nI (i + 1))), (3, .int (a (4 * i + j))), (5, .int (a (4 * i + j))), (0, .ref g0), (1, .int (nI j)), (2, .int wh)]) hx hb dX1_bound_92 hl (k := 2) rfl (nI_add _ 1) (by decide) rfl (fun ls hl => ?_)
                    refine lv_goto (tgt := 38) hx hb dX1_bound_95 (by decide) ?_
                    refine ih (i + 1) (by omega) (by omega) ls ?_
                    rw [show fB wh a j (i + 1) = a (4 * i + j) by
                      show (if wh = 0 then (if a (4 * i + j) < fB wh a j i then a (4 * i + j) else fB wh a j i) else (if fB wh a j i < a (4 * i + j) then a (4 * i + j) else fB wh a j i)) = _
                      first
                      | rw [if_pos c_61, if_neg (fun h => i32_ge c_67 h)]
                      | rw [if_pos c_61, if_pos (i32_lt c_67)]
                      | rw [if_neg c_61, if_neg (fun h => i32_ge c_82 h)]
                      | rw [if_neg c_61, if_pos (i32_lt c_82)]]
                    exact lv_sub hl [0, 1, 3, 4, 5] rfl
                · refine lv_iload hx hb dX1_bound_64 (lv_at hl 0 rfl) ?_
                  refine lv_iload_n hx hb dX1_bound_66 rfl (lv_at hl 2 rfl) ?_
                  refine lv_icmp_ge (tgt := 75) hx hb dX1_bound_67 (by decide) (fun c_67 => ?_) (fun c_67 => ?_)
                  · refine lv_iload_n hx hb dX1_bound_75 rfl (lv_at hl 2 rfl) ?_
                    refine lv_goto (tgt := 91) hx hb dX1_bound_76 (by decide) ?_
                    refine lv_istore_n (lv' := [(3, .int (fB wh a j i)), (5, .int (a (4 * i + j))), (4, .int (nI i)), (0, .ref g0), (1, .int (nI j)), (2, .int wh)]) hx hb dX1_bound_91 rfl hl (by decide) rfl (fun ls hl => ?_)
                    refine lv_iinc (v := nI (i + 1)) (lv' := [(4, .int (nI (i + 1))), (3, .int (fB wh a j i)), (5, .int (a (4 * i + j))), (0, .ref g0), (1, .int (nI j)), (2, .int wh)]) hx hb dX1_bound_92 hl (k := 2) rfl (nI_add _ 1) (by decide) rfl (fun ls hl => ?_)
                    refine lv_goto (tgt := 38) hx hb dX1_bound_95 (by decide) ?_
                    refine ih (i + 1) (by omega) (by omega) ls ?_
                    rw [show fB wh a j (i + 1) = fB wh a j i by
                      show (if wh = 0 then (if a (4 * i + j) < fB wh a j i then a (4 * i + j) else fB wh a j i) else (if fB wh a j i < a (4 * i + j) then a (4 * i + j) else fB wh a j i)) = _
                      first
                      | rw [if_pos c_61, if_neg (fun h => i32_ge c_67 h)]
                      | rw [if_pos c_61, if_pos (i32_lt c_67)]
                      | rw [if_neg c_61, if_neg (fun h => i32_ge c_82 h)]
                      | rw [if_neg c_61, if_pos (i32_lt c_82)]]
                    exact lv_sub hl [0, 1, 3, 4, 5] rfl
                  · refine lv_iload hx hb dX1_bound_70 (lv_at hl 0 rfl) ?_
                    refine lv_goto (tgt := 91) hx hb dX1_bound_72 (by decide) ?_
                    refine lv_istore_n (lv' := [(3, .int (a (4 * i + j))), (5, .int (a (4 * i + j))), (4, .int (nI i)), (0, .ref g0), (1, .int (nI j)), (2, .int wh)]) hx hb dX1_bound_91 rfl hl (by decide) rfl (fun ls hl => ?_)
                    refine lv_iinc (v := nI (i + 1)) (lv' := [(4, .int (nI (i + 1))), (3, .int (a (4 * i + j))), (5, .int (a (4 * i + j))), (0, .ref g0), (1, .int (nI j)), (2, .int wh)]) hx hb dX1_bound_92 hl (k := 2) rfl (nI_add _ 1) (by decide) rfl (fun ls hl => ?_)
                    refine lv_goto (tgt := 38) hx hb dX1_bound_95 (by decide) ?_
                    refine ih (i + 1) (by omega) (by omega) ls ?_
                    rw [show fB wh a j (i + 1) = a (4 * i + j) by
                      show (if wh = 0 then (if a (4 * i + j) < fB wh a j i then a (4 * i + j) else fB wh a j i) else (if fB wh a j i < a (4 * i + j) then a (4 * i + j) else fB wh a j i)) = _
                      first
                      | rw [if_pos c_61, if_neg (fun h => i32_ge c_67 h)]
                      | rw [if_pos c_61, if_pos (i32_lt c_67)]
                      | rw [if_neg c_61, if_neg (fun h => i32_ge c_82 h)]
                      | rw [if_neg c_61, if_pos (i32_lt c_82)]]
                    exact lv_sub hl [0, 1, 3, 4, 5] rfl
          exact loop (n + 1) 0 (by omega) (by omega) ls (lv_sub hl [0, 1, 2, 3, 4] rfl)
        · refine lv_sipush (v := (-1000)) hx hb dX1_bound_24 rfl ?_
          exact K _ _ _ (px4.good hj ⟨fun _ => rfl, fun h1 h2 => by first | (exact absurd h1 (by omega)) | (exact absurd h2 (fun h => h.elim c_16 c_21))⟩) rfl dX1_bound_27
  · refine xn_if_eq (tgt := 24) hx hb dX1_bound_5 (by decide) (by omega) (fun c_5 => ?_) (fun c_5 => absurd c_5 (by omega))
    refine lv_sipush (v := (-1000)) hx hb dX1_bound_24 rfl ?_
    exact K _ _ _ (px4.bad hbad_x rfl) rfl dX1_bound_27
theorem neg1 {x : Int32} (h : ¬ x < 0) : ¬ x < (-1) := by
  rw [Int32.lt_iff_toInt_lt, show (0 : Int32).toInt = 0 from rfl] at h
  rw [Int32.lt_iff_toInt_lt, show (-1 : Int32).toInt = -1 from rfl]
  omega
set_option maxHeartbeats 4000000 in
set_option maxRecDepth 100000 in
theorem mX1_valueAt (l : Launch) (dC : Nat → ClassId) (dI : Nat → Nat → Nat) (dA dB : ClassId) (sz : Nat) (g0 b1 b2 : Nat) (p0 q0 r0 : Int32) (n : Nat) (a w : Nat → Int32) (x kk : Int32) (hn : n ≤ 100) : Met l yX1_valueAt (ws_ yX1_valueAt cX1_valueAt 7 (some .int)) ({ frames := 2, cells := 0, slots := 0, locals := 46 } : Room) (va_Pc [.ref g0, .int x, .int kk] (xPre (dC, dI) vwCl (xT dA dB) [(g0, oM b1 b2 (nI n) p0 q0 r0), (b1, .inl (dA, 400, .inl a)), (b2, .inl (dA, 4, .inl w))] sz)) (va_Qi (fun r _ => px4 x (r = (-1000)) (fun j => vatR (dl a j n) kk r)) (fun u t => va_P (dC, dI) vwCl ((fun u : Nat → Int32 => [(g0, oM b1 b2 (nI n) p0 q0 r0), (b1, .inl (dA, 400, .inl a)), (b2, .inl (dA, 4, .inl u))]) u) t.heap ∧ va_D (va_A [(g0, oM b1 b2 (nI n) p0 q0 r0), (b1, .inl (dA, 400, .inl a)), (b2, .inl (dA, 4, .inl w))] sz) ((fun u : Nat → Int32 => [(g0, oM b1 b2 (nI n) p0 q0 r0), (b1, .inl (dA, 400, .inl a)), (b2, .inl (dA, 4, .inl u))]) u)) (va_A [(g0, oM b1 b2 (nI n) p0 q0 r0), (b1, .inl (dA, 400, .inl a)), (b2, .inl (dA, 4, .inl w))] sz)) 0 0 (va_A [(g0, oM b1 b2 (nI n) p0 q0 r0), (b1, .inl (dA, 400, .inl a)), (b2, .inl (dA, 4, .inl w))] sz) := by
  refine xm_Qi (by decide) (Nat.le_of_ble_eq_true rfl) ?_
  intro p e s m args below meth c hx hb hml hown hts hK A hA H locs hP hD hS Q K ls hl
  have hown : s.vm.findClass RX1 = some m.cls := hown
  have hl : lv_has ls 7 [(0, .ref g0), (1, .int x), (2, .int kk)] := hl
  refine lv_aload_n hx hb dX1_valueAt_0 rfl (lv_at hl 0 rfl) ?_
  refine lv_iload_n hx hb dX1_valueAt_1 rfl (lv_at hl 1 rfl) ?_
  refine xc_Wi (ci := 1) (q0 := 0) (wc := [(g0, oM b1 b2 (nI n) p0 q0 r0), (b1, .inl (dA, 400, .inl a)), (b2, .inl (dA, 4, .inl w))]) (wr := []) [.int x] ⟨hx, hb, hml, hown, hts⟩ hK hP hD hS hA rfl rfl rfl [0, 1, 2] [] [0, 1, 2] rfl rfl rfl rfl rfl (by decide) (fun u : Nat → Int32 => [(g0, oM b1 b2 (nI n) p0 q0 r0), (b1, .inl (dA, 400, .inl a)), (b2, .inl (dA, 4, .inl u))]) (fun _ => rfl) (fun _ => rfl) rfl (mX1_different l dC dI dA dB H.size g0 b1 b2 p0 q0 r0 n a w x hn) (cwV 1 hts (lw_V q237 q238 q239 q14 q240) rfl rfl rfl (by decide +kernel) ⟨Nat.le_of_ble_eq_true rfl, Nat.le_of_ble_eq_true rfl⟩) rfl hl.1 rfl (Nat.le_of_ble_eq_true rfl) dX1_valueAt_2 ⟨Nat.le_of_ble_eq_true rfl, Nat.le_of_ble_eq_true rfl⟩ (fun r_2 u_2 H locs h_2 hP hD hS => ?_)
  rcases bad4_or x with ⟨j, hj, rfl⟩ | hbad_x
  · obtain ⟨h_2, hfew⟩ : r_2 = nI (dl a j n).length ∧ fewR u_2 (dl a j n) := h_2.2 j hj rfl
    have hlen := dl_len a j n
    subst h_2
    refine lv_istore_n (lv' := [(3, .int (nI ((dl a j n).length))), (0, .ref g0), (1, .int (nI j)), (2, .int kk)]) hx hb dX1_valueAt_5 rfl hl (by decide) rfl (fun ls hl => ?_)
    refine lv_iload_n hx hb dX1_valueAt_6 rfl (lv_at hl 0 rfl) ?_
    refine lv_iconst (v := nI 3) hx hb dX1_valueAt_7 rfl ?_
    refine xn_gt (tgt := 20) hx hb dX1_valueAt_8 (by decide) (by omega) (by omega) (fun c_8 => ?_) (fun c_8 => ?_)
    · refine lv_sipush (v := (-1000)) hx hb dX1_valueAt_20 rfl ?_
      exact K _ u_2 _ _ _ _ (px4.good hj ⟨u_2, hfew, fun z h1 h2 e => by first | (exact absurd h1 (by omega)) | (subst e; exact absurd c_12 (nI_pos (by omega))) | (subst e; exact absurd (nI_lt h2 (by omega)) c_17), fun _ => rfl⟩) hP hD hS rfl dX1_valueAt_23
    · refine lv_iload_n hx hb dX1_valueAt_11 rfl (lv_at hl 3 rfl) ?_
      refine lv_if_lt (tgt := 20) hx hb dX1_valueAt_12 (by decide) (fun c_12 => ?_) (fun c_12 => ?_)
      · refine lv_sipush (v := (-1000)) hx hb dX1_valueAt_20 rfl ?_
        exact K _ u_2 _ _ _ _ (px4.good hj ⟨u_2, hfew, fun z h1 h2 e => by first | (exact absurd h1 (by omega)) | (subst e; exact absurd c_12 (nI_pos (by omega))) | (subst e; exact absurd (nI_lt h2 (by omega)) c_17), fun _ => rfl⟩) hP hD hS rfl dX1_valueAt_23
      · refine lv_iload_n hx hb dX1_valueAt_15 rfl (lv_at hl 3 rfl) ?_
        refine lv_iload_n hx hb dX1_valueAt_16 rfl (lv_at hl 0 rfl) ?_
        refine lv_icmp_lt (tgt := 24) hx hb dX1_valueAt_17 (by decide) (fun c_17 => ?_) (fun c_17 => ?_)
        · obtain ⟨z, hz, rfl⟩ : ∃ z : Nat, z < (dl a j n).length ∧ kk = nI z := by
            obtain ⟨z, hz, e⟩ := nI_of c_12
            subst e
            exact ⟨z, (nI_ltI hz (by omega)).mp c_17, rfl⟩
          refine lv_iconst (v := nI 0) hx hb dX1_valueAt_24 rfl ?_
          refine lv_istore (lv' := [(4, .int (nI 0)), (3, .int (nI ((dl a j n).length))), (0, .ref g0), (1, .int (nI j)), (2, .int (nI z))]) hx hb dX1_valueAt_25 hl (by decide) rfl (fun ls hl => ?_)
          have loop : ∀ (f i : Nat), (dl a j n).length + 1 ≤ i + f → i ≤ (dl a j n).length → (∀ t, t < i → ¬ rkn u_2 (u_2 t) (dl a j n).length = z) → ∀ ls : Array Slot, lv_has ls 7 [(4, .int (nI i)), (3, .int (nI ((dl a j n).length))), (0, .ref g0), (1, .int (nI j)), (2, .int (nI z))] → W p l e ({ frames := 2, cells := 0, slots := 0, locals := 46 } : Room) s m args below meth c H locs 0 0 Q (F0 m 27 ls []) := by
            intro f
            induction f with
            | zero =>
              intro i h1 h2
              exact absurd h1 (by omega)
            | succ f ih =>
              intro i h1 h2 h3 ls hl
              refine lv_iload hx hb dX1_valueAt_27 (lv_at hl 0 rfl) ?_
              refine lv_iload_n hx hb dX1_valueAt_29 rfl (lv_at hl 1 rfl) ?_
              refine xn_ge (tgt := 99) hx hb dX1_valueAt_30 (by decide) (by omega) (by omega) (fun c_30 => ?_) (fun c_30 => ?_)
              · refine lv_sipush (v := (-1000)) hx hb dX1_valueAt_99 rfl ?_
                exact K _ u_2 _ _ _ _ (px4.good hj ⟨u_2, hfew, fun z2 h1 h2 e => Or.inr ⟨fun t ht => by rw [← (nI_eq (by omega) (by omega)).mp e]; exact h3 t (by omega), rfl⟩, fun _ => rfl⟩) hP hD hS rfl dX1_valueAt_102
              · refine lv_iconst (v := nI 0) hx hb dX1_valueAt_33 rfl ?_
                refine lv_istore (lv' := [(5, .int (nI 0)), (4, .int (nI i)), (3, .int (nI ((dl a j n).length))), (0, .ref g0), (1, .int (nI j)), (2, .int (nI z))]) hx hb dX1_valueAt_34 hl (by decide) rfl (fun ls hl => ?_)
                refine lv_iconst (v := nI 0) hx hb dX1_valueAt_36 rfl ?_
                refine lv_istore (lv' := [(6, .int (nI 0)), (5, .int (nI 0)), (4, .int (nI i)), (3, .int (nI ((dl a j n).length))), (0, .ref g0), (1, .int (nI j)), (2, .int (nI z))]) hx hb dX1_valueAt_37 hl (by decide) rfl (fun ls hl => ?_)
                have loop2 : ∀ (f2 q2 : Nat), (dl a j n).length + 1 ≤ q2 + f2 → q2 ≤ (dl a j n).length → ∀ ls : Array Slot, lv_has ls 7 [(6, .int (nI q2)), (5, .int (nI (rkn u_2 (u_2 i) q2))), (4, .int (nI i)), (3, .int (nI ((dl a j n).length))), (0, .ref g0), (1, .int (nI j)), (2, .int (nI z))] → W p l e ({ frames := 2, cells := 0, slots := 0, locals := 46 } : Room) s m args below meth c H locs 0 0 Q (F0 m 39 ls []) := by
                  intro f2
                  induction f2 with
                  | zero =>
                    intro q2 h5 h6
                    exact absurd h5 (by omega)
                  | succ f2 ih2 =>
                    intro q2 h5 h6 ls hl
                    have hrk := rkn_le u_2 (u_2 i) q2
                    refine lv_iload hx hb dX1_valueAt_39 (lv_at hl 0 rfl) ?_
                    refine lv_iload_n hx hb dX1_valueAt_41 rfl (lv_at hl 3 rfl) ?_
                    refine xn_ge (tgt := 79) hx hb dX1_valueAt_42 (by decide) (by omega) (by omega) (fun c_42 => ?_) (fun c_42 => ?_)
                    · refine lv_iload hx hb dX1_valueAt_79 (lv_at hl 1 rfl) ?_
                      refine lv_iload_n hx hb dX1_valueAt_81 rfl (lv_at hl 6 rfl) ?_
                      refine xn_ne (tgt := 93) hx hb dX1_valueAt_82 (by decide) (by omega) (by omega) (fun c_82 => ?_) (fun c_82 => ?_)
                      · refine lv_iinc (v := nI (i + 1)) (lv' := [(4, .int (nI (i + 1))), (6, .int (nI q2)), (5, .int (nI (rkn u_2 (u_2 i) q2))), (3, .int (nI ((dl a j n).length))), (0, .ref g0), (1, .int (nI j)), (2, .int (nI z))]) hx hb dX1_valueAt_93 hl (k := 2) rfl (nI_add _ 1) (by decide) rfl (fun ls hl => ?_)
                        refine lv_goto (tgt := 27) hx hb dX1_valueAt_96 (by decide) ?_
                        exact ih (i + 1) (by omega) (by omega) (fun t ht => by rcases Nat.lt_or_ge t i with q | q; exact h3 t q; rw [show t = i by omega]; rw [show q2 = (dl a j n).length by omega] at c_82; exact c_82) ls (lv_sub hl [0, 3, 4, 5, 6] rfl)
                      · refine lv_aload_n hx hb dX1_valueAt_85 rfl (lv_at hl 4 rfl) ?_
                        refine x1_get hx hb hts hown hK hP 0 rfl 2 (by decide) (hts _ q196) rfl (v := .ref b2) rfl dX1_valueAt_86 ?_
                        refine lv_iload hx hb dX1_valueAt_89 (lv_at hl 2 rfl) ?_
                        refine xa_iald hx hb hK hP 2 0 rfl rfl (k := i) (by omega) (by decide) dX1_valueAt_91 ?_
                        exact K _ u_2 _ _ _ _ (px4.good hj ⟨u_2, hfew, fun z2 h1 h2 e => Or.inl ⟨i, by omega, by rw [← (nI_eq (by omega) (by omega)).mp e]; rw [show q2 = (dl a j n).length by omega] at c_82; exact c_82, rfl⟩, fun h => h.elim (fun h => absurd h (by omega)) (fun h => absurd rfl (h z hz))⟩) hP hD hS rfl dX1_valueAt_92
                    · refine lv_aload_n hx hb dX1_valueAt_45 rfl (lv_at hl 4 rfl) ?_
                      refine x1_get hx hb hts hown hK hP 0 rfl 2 (by decide) (hts _ q196) rfl (v := .ref b2) rfl dX1_valueAt_46 ?_
                      refine lv_iload hx hb dX1_valueAt_49 (lv_at hl 0 rfl) ?_
                      refine xa_iald hx hb hK hP 2 0 rfl rfl (k := q2) (by omega) (by decide) dX1_valueAt_51 ?_
                      refine lv_aload_n hx hb dX1_valueAt_52 rfl (lv_at hl 4 rfl) ?_
                      refine x1_get hx hb hts hown hK hP 0 rfl 2 (by decide) (hts _ q196) rfl (v := .ref b2) rfl dX1_valueAt_53 ?_
                      refine lv_iload hx hb dX1_valueAt_56 (lv_at hl 2 rfl) ?_
                      refine xa_iald hx hb hK hP 2 0 rfl rfl (k := i) (by omega) (by decide) dX1_valueAt_58 ?_
                      refine lv_icmp_ge (tgt := 69) hx hb dX1_valueAt_59 (by decide) (fun c_59 => ?_) (fun c_59 => ?_)
                      · refine lv_iload hx hb dX1_valueAt_69 (lv_at hl 1 rfl) ?_
                        refine lv_istore (lv' := [(5, .int (nI (rkn u_2 (u_2 i) q2))), (6, .int (nI q2)), (4, .int (nI i)), (3, .int (nI ((dl a j n).length))), (0, .ref g0), (1, .int (nI j)), (2, .int (nI z))]) hx hb dX1_valueAt_71 hl (by decide) rfl (fun ls hl => ?_)
                        refine lv_iinc (v := nI (q2 + 1)) (lv' := [(6, .int (nI (q2 + 1))), (5, .int (nI (rkn u_2 (u_2 i) q2))), (4, .int (nI i)), (3, .int (nI ((dl a j n).length))), (0, .ref g0), (1, .int (nI j)), (2, .int (nI z))]) hx hb dX1_valueAt_73 hl (k := 1) rfl (nI_add _ 1) (by decide) rfl (fun ls hl => ?_)
                        refine lv_goto (tgt := 39) hx hb dX1_valueAt_76 (by decide) ?_
                        refine ih2 (q2 + 1) (by omega) (by omega) ls ?_
                        rw [show rkn u_2 (u_2 i) (q2 + 1) = rkn u_2 (u_2 i) q2 by
                          show (if u_2 q2 < u_2 i then rkn u_2 (u_2 i) q2 + 1 else rkn u_2 (u_2 i) q2) = _
                          first | rw [if_neg (fun h => i32_ge c_59 h)] | rw [if_pos (i32_lt c_59)]]
                        exact lv_sub hl [0, 1, 2, 3, 4, 5, 6] rfl
                      · refine lv_iload hx hb dX1_valueAt_62 (lv_at hl 1 rfl) ?_
                        refine lv_iconst (v := nI 1) hx hb dX1_valueAt_64 rfl ?_
                        refine xn_add hx hb dX1_valueAt_65 ?_
                        refine lv_goto (tgt := 71) hx hb dX1_valueAt_66 (by decide) ?_
                        refine lv_istore (lv' := [(5, .int (nI (rkn u_2 (u_2 i) q2 + 1))), (6, .int (nI q2)), (4, .int (nI i)), (3, .int (nI ((dl a j n).length))), (0, .ref g0), (1, .int (nI j)), (2, .int (nI z))]) hx hb dX1_valueAt_71 hl (by decide) rfl (fun ls hl => ?_)
                        refine lv_iinc (v := nI (q2 + 1)) (lv' := [(6, .int (nI (q2 + 1))), (5, .int (nI (rkn u_2 (u_2 i) q2 + 1))), (4, .int (nI i)), (3, .int (nI ((dl a j n).length))), (0, .ref g0), (1, .int (nI j)), (2, .int (nI z))]) hx hb dX1_valueAt_73 hl (k := 1) rfl (nI_add _ 1) (by decide) rfl (fun ls hl => ?_)
                        refine lv_goto (tgt := 39) hx hb dX1_valueAt_76 (by decide) ?_
                        refine ih2 (q2 + 1) (by omega) (by omega) ls ?_
                        rw [show rkn u_2 (u_2 i) (q2 + 1) = rkn u_2 (u_2 i) q2 + 1 by
                          show (if u_2 q2 < u_2 i then rkn u_2 (u_2 i) q2 + 1 else rkn u_2 (u_2 i) q2) = _
                          first | rw [if_neg (fun h => i32_ge c_59 h)] | rw [if_pos (i32_lt c_59)]]
                        exact lv_sub hl [0, 1, 2, 3, 4, 5, 6] rfl
                exact loop2 ((dl a j n).length + 1) 0 (by omega) (by omega) ls (lv_sub hl [0, 1, 2, 3, 4, 5, 6] rfl)
          exact loop ((dl a j n).length + 1) 0 (by omega) (by omega) (fun t ht => absurd ht (by omega)) ls (lv_sub hl [0, 1, 2, 3, 4] rfl)
        · refine lv_sipush (v := (-1000)) hx hb dX1_valueAt_20 rfl ?_
          exact K _ u_2 _ _ _ _ (px4.good hj ⟨u_2, hfew, fun z h1 h2 e => by first | (exact absurd h1 (by omega)) | (subst e; exact absurd c_12 (nI_pos (by omega))) | (subst e; exact absurd (nI_lt h2 (by omega)) c_17), fun _ => rfl⟩) hP hD hS rfl dX1_valueAt_23
  · have h_2 := h_2.1 hbad_x
    subst h_2
    refine lv_istore_n (lv' := [(3, .int (-1)), (0, .ref g0), (1, .int x), (2, .int kk)]) hx hb dX1_valueAt_5 rfl hl (by decide) rfl (fun ls hl => ?_)
    refine lv_iload_n hx hb dX1_valueAt_6 rfl (lv_at hl 0 rfl) ?_
    refine lv_iconst (v := nI 3) hx hb dX1_valueAt_7 rfl ?_
    refine lv_icmp_gt (tgt := 20) hx hb dX1_valueAt_8 (by decide) (fun c_8 => absurd c_8 (by decide)) (fun c_8 => ?_)
    refine lv_iload_n hx hb dX1_valueAt_11 rfl (lv_at hl 3 rfl) ?_
    refine lv_if_lt (tgt := 20) hx hb dX1_valueAt_12 (by decide) (fun c_12 => ?_) (fun c_12 => ?_)
    · refine lv_sipush (v := (-1000)) hx hb dX1_valueAt_20 rfl ?_
      exact K _ u_2 _ _ _ _ (px4.bad hbad_x rfl) hP hD hS rfl dX1_valueAt_23
    · refine lv_iload_n hx hb dX1_valueAt_15 rfl (lv_at hl 3 rfl) ?_
      refine lv_iload_n hx hb dX1_valueAt_16 rfl (lv_at hl 0 rfl) ?_
      refine lv_icmp_lt (tgt := 24) hx hb dX1_valueAt_17 (by decide) (fun c_17 => absurd c_17 (neg1 c_12)) (fun c_17 => ?_)
      refine lv_sipush (v := (-1000)) hx hb dX1_valueAt_20 rfl ?_
      exact K _ u_2 _ _ _ _ (px4.bad hbad_x rfl) hP hD hS rfl dX1_valueAt_23
theorem modulo_eq {v : Int32} {g : Nat} (hg : 0 < g) (hg2 : g ≤ 200) (hv : okw v) : (v - v / nI g * nI g + nI g - (v - v / nI g * nI g + nI g) / nI g * nI g).toInt = v.toInt % (g : Int) := by
  obtain ⟨h1, h2⟩ := hv
  have e := rem_nI hg hg2 (x := v) ⟨by omega, by omega⟩
  have h3 : (v.toInt.tmod g).natAbs < g := by
    have := Int.natAbs_tmod v.toInt g
    rw [this]
    exact Nat.mod_lt _ hg
  have e2 : (v - v / nI g * nI g + nI g).toInt = v.toInt.tmod g + g := by
    rw [Int32.toInt_add, e, nI_toInt (by omega), Int.bmod_eq_of_le (by omega) (by omega)]
  rw [rem_nI hg hg2 (by rw [e2]; omega), e2, Int.tmod_eq_emod_of_nonneg (by omega), Int.add_emod_right]
  have h4 : (g : Int) * v.toInt.tdiv g + v.toInt.tmod g = v.toInt := Int.mul_tdiv_add_tmod _ _
  conv => rhs; rw [← h4]
  rw [Int.add_comm, Int.add_mul_emod_self_left]
set_option maxHeartbeats 4000000 in
set_option maxRecDepth 100000 in
theorem mX1_modulo (l : Launch) (dC : Nat → ClassId) (dI : Nat → Nat → Nat) (dA dB : ClassId) (g0 : Nat) (v : Int32) (g : Nat) (hg : 0 < g) (hg2 : g ≤ 200) (hv : okw v) : Met l yX1_modulo (ws_ yX1_modulo cX1_modulo 3 (some .int)) rmz (va_Pc [.ref g0, .int v, .int (nI g)] (xPreR (dC, dI) vwCl (xT dA dB) [])) (vp_Si (fun r => r.toInt = v.toInt % (g : Int))) 0 0 (fun _ => False) := by
  refine xm_R (by decide) (Nat.le_of_ble_eq_true rfl) ?_
  intro p e s m args below meth c hx hb hml hown hts hK H locs hP Q K ls hl
  have hown : s.vm.findClass RX1 = some m.cls := hown
  have hl : lv_has ls 3 [(0, .ref g0), (1, .int v), (2, .int (nI g))] := hl
  refine lv_iload_n hx hb dX1_modulo_0 rfl (lv_at hl 1 rfl) ?_
  refine lv_iload_n hx hb dX1_modulo_1 rfl (lv_at hl 2 rfl) ?_
  refine lv_irem hx hb dX1_modulo_2 (nI_ne0 hg (by omega)) ?_
  refine lv_iload_n hx hb dX1_modulo_3 rfl (lv_at hl 2 rfl) ?_
  refine lv_iadd hx hb dX1_modulo_4 ?_
  refine lv_iload_n hx hb dX1_modulo_5 rfl (lv_at hl 2 rfl) ?_
  refine lv_irem hx hb dX1_modulo_6 (nI_ne0 hg (by omega)) ?_
  exact K _ _ _ (modulo_eq hg hg2 hv) rfl dX1_modulo_7
set_option maxHeartbeats 4000000 in
set_option maxRecDepth 100000 in
theorem mX1_modulus (l : Launch) (dC : Nat → ClassId) (dI : Nat → Nat → Nat) (dA dB : ClassId) (sz : Nat) (g0 b1 b2 : Nat) (p0 q0 r0 : Int32) (n : Nat) (a w : Nat → Int32) (x : Int32) (hn : n ≤ 100) (hok : okA a n) : Met l yX1_modulus (ws_ yX1_modulus cX1_modulus 5 (some .int)) ({ frames := 2, cells := 0, slots := 0, locals := 46 } : Room) (va_Pc [.ref g0, .int x] (xPre (dC, dI) vwCl (xT dA dB) [(g0, oM b1 b2 (nI n) p0 q0 r0), (b1, .inl (dA, 400, .inl a)), (b2, .inl (dA, 4, .inl w))] sz)) (va_Qi (fun r _ => px4 x (r = (-1)) (fun j => ((dl a j n).length < 2 → r = nI 0) ∧ (2 ≤ (dl a j n).length → modR a j n r))) (fun u t => va_P (dC, dI) vwCl ((fun u : Nat → Int32 => [(g0, oM b1 b2 (nI n) p0 q0 r0), (b1, .inl (dA, 400, .inl a)), (b2, .inl (dA, 4, .inl u))]) u) t.heap ∧ va_D (va_A [(g0, oM b1 b2 (nI n) p0 q0 r0), (b1, .inl (dA, 400, .inl a)), (b2, .inl (dA, 4, .inl w))] sz) ((fun u : Nat → Int32 => [(g0, oM b1 b2 (nI n) p0 q0 r0), (b1, .inl (dA, 400, .inl a)), (b2, .inl (dA, 4, .inl u))]) u)) (va_A [(g0, oM b1 b2 (nI n) p0 q0 r0), (b1, .inl (dA, 400, .inl a)), (b2, .inl (dA, 4, .inl w))] sz)) 0 0 (va_A [(g0, oM b1 b2 (nI n) p0 q0 r0), (b1, .inl (dA, 400, .inl a)), (b2, .inl (dA, 4, .inl w))] sz) := by
  refine xm_Qi (by decide) (Nat.le_of_ble_eq_true rfl) ?_
  intro p e s m args below meth c hx hb hml hown hts hK A hA H locs hP hD hS Q K ls hl
  have hown : s.vm.findClass RX1 = some m.cls := hown
  have hl : lv_has ls 5 [(0, .ref g0), (1, .int x)] := hl
  refine lv_aload_n hx hb dX1_modulus_0 rfl (lv_at hl 0 rfl) ?_
  refine lv_iload_n hx hb dX1_modulus_1 rfl (lv_at hl 1 rfl) ?_
  refine xc_V (ci := 1) (q0 := 0) [.int x] ⟨hx, hb, hml, hown, hts⟩ hK hP rfl rfl rfl [] rfl (mX1_is l dC dI dA dB g0 x) (cwV 1 hts (lw_V q233 q235 qs8 q14 q236) rfl rfl rfl (by decide +kernel) ⟨Nat.le_of_ble_eq_true rfl, Nat.le_of_ble_eq_true rfl⟩) rfl hl.1 rfl (Nat.le_of_ble_eq_true rfl) dX1_modulus_2 ⟨Nat.le_of_ble_eq_true rfl, Nat.le_of_ble_eq_true rfl⟩ (fun r_2 h_2 => ?_)
  rcases h_2 with ⟨j, hj, rfl, rfl⟩ | ⟨hbad_x, rfl⟩
  · refine xn_if_ne (tgt := 10) hx hb dX1_modulus_5 (by decide) (by omega) (fun c_5 => ?_) (fun c_5 => absurd c_5 (by omega))
    refine lv_aload_n hx hb dX1_modulus_10 rfl (lv_at hl 0 rfl) ?_
    refine lv_iload_n hx hb dX1_modulus_11 rfl (lv_at hl 1 rfl) ?_
    refine xc_Wi (ci := 1) (q0 := 0) (wc := [(g0, oM b1 b2 (nI n) p0 q0 r0), (b1, .inl (dA, 400, .inl a)), (b2, .inl (dA, 4, .inl w))]) (wr := []) [.int (nI j)] ⟨hx, hb, hml, hown, hts⟩ hK hP hD hS hA rfl rfl rfl [0, 1, 2] [] [0, 1, 2] rfl rfl rfl rfl rfl (by decide) (fun u : Nat → Int32 => [(g0, oM b1 b2 (nI n) p0 q0 r0), (b1, .inl (dA, 400, .inl a)), (b2, .inl (dA, 4, .inl u))]) (fun _ => rfl) (fun _ => rfl) rfl (mX1_different l dC dI dA dB H.size g0 b1 b2 p0 q0 r0 n a w (nI j) hn) (cwV 1 hts (lw_V q237 q238 q239 q14 q240) rfl rfl rfl (by decide +kernel) ⟨Nat.le_of_ble_eq_true rfl, Nat.le_of_ble_eq_true rfl⟩) rfl hl.1 rfl (Nat.le_of_ble_eq_true rfl) dX1_modulus_12 ⟨Nat.le_of_ble_eq_true rfl, Nat.le_of_ble_eq_true rfl⟩ (fun r_12 u_12 H locs h_12 hP hD hS => ?_)
    obtain ⟨h_12, hfew⟩ : r_12 = nI (dl a j n).length ∧ fewR u_12 (dl a j n) := h_12.2 j hj rfl
    have hlen := dl_len a j n
    subst h_12
    refine lv_iconst (v := nI 2) hx hb dX1_modulus_15 rfl ?_
    refine xn_ge (tgt := 21) hx hb dX1_modulus_16 (by decide) (by omega) (by omega) (fun c_16 => ?_) (fun c_16 => ?_)
    · refine lv_sipush (v := nI 200) hx hb dX1_modulus_21 rfl ?_
      refine lv_istore_n (lv' := [(2, .int (nI 200)), (0, .ref g0), (1, .int (nI j))]) hx hb dX1_modulus_24 rfl hl (by decide) rfl (fun ls hl => ?_)
      have hn0 : 0 < n := by rcases Nat.eq_zero_or_pos n with z | z; exact absurd c_16 (by rw [z]; simp [dl]); exact z
      have loop : ∀ (mm : Nat), mm ≤ 199 → (∀ z, mm + 1 < z → z ≤ 200 → ¬ sameM a j n z) → ∀ ls : Array Slot, lv_has ls 5 [(2, .int (nI (mm + 1))), (0, .ref g0), (1, .int (nI j))] → W p l e ({ frames := 2, cells := 0, slots := 0, locals := 46 } : Room) s m args below meth c H locs 0 0 Q (F0 m 25 ls []) := by
        intro mm
        induction mm with
        | zero =>
          intro h1 h2 ls hl
          refine lv_iload_n hx hb dX1_modulus_25 rfl (lv_at hl 0 rfl) ?_
          refine lv_iconst (v := nI 2) hx hb dX1_modulus_26 rfl ?_
          refine xn_lt (tgt := 102) hx hb dX1_modulus_27 (by decide) (by omega) (by omega) (fun c_27 => ?_) (fun c_27 => absurd c_27 (by omega))
          refine lv_iconst (v := nI 1) hx hb dX1_modulus_102 rfl ?_
          exact K _ u_12 _ _ _ _ (px4.good hj ⟨fun h => absurd h (by omega), fun _ => Or.inr ⟨rfl, fun z h8 h9 => h2 z (by omega) h9⟩⟩) hP hD hS rfl dX1_modulus_103
        | succ mm ih =>
          intro h1 h2 ls hl
          refine lv_iload_n hx hb dX1_modulus_25 rfl (lv_at hl 0 rfl) ?_
          refine lv_iconst (v := nI 2) hx hb dX1_modulus_26 rfl ?_
          refine xn_lt (tgt := 102) hx hb dX1_modulus_27 (by decide) (by omega) (by omega) (fun c_27 => absurd c_27 (by omega)) (fun c_27 => ?_)
          refine lv_iconst (v := nI 1) hx hb dX1_modulus_30 rfl ?_
          refine lv_istore_n (lv' := [(3, .int (nI 1)), (2, .int (nI (mm + 1 + 1))), (0, .ref g0), (1, .int (nI j))]) hx hb dX1_modulus_31 rfl hl (by decide) rfl (fun ls hl => ?_)
          refine lv_iconst (v := nI 0) hx hb dX1_modulus_32 rfl ?_
          refine lv_istore (lv' := [(4, .int (nI 0)), (3, .int (nI 1)), (2, .int (nI (mm + 1 + 1))), (0, .ref g0), (1, .int (nI j))]) hx hb dX1_modulus_33 hl (by decide) rfl (fun ls hl => ?_)
          have loop2 : ∀ (f i sm : Nat), n + 1 ≤ i + f → i ≤ n → ((sm = 1 ∧ ∀ t, t < i → (a (4 * t + j)).toInt % ((mm + 1 + 1 : Nat) : Int) = (a j).toInt % ((mm + 1 + 1 : Nat) : Int)) ∨ (sm = 0 ∧ ¬ ∀ t, t < i → (a (4 * t + j)).toInt % ((mm + 1 + 1 : Nat) : Int) = (a j).toInt % ((mm + 1 + 1 : Nat) : Int))) → ∀ ls : Array Slot, lv_has ls 5 [(4, .int (nI i)), (3, .int (nI sm)), (2, .int (nI (mm + 1 + 1))), (0, .ref g0), (1, .int (nI j))] → W p l e ({ frames := 2, cells := 0, slots := 0, locals := 46 } : Room) s m args below meth c H locs 0 0 Q (F0 m 35 ls []) := by
            intro f
            induction f with
            | zero =>
              intro i sm h3 h4
              exact absurd h3 (by omega)
            | succ f ih2 =>
              intro i sm h3 h4 h5 ls hl
              have hsm : sm ≤ 1 := by omega
              refine lv_iload hx hb dX1_modulus_35 (lv_at hl 0 rfl) ?_
              refine lv_aload_n hx hb dX1_modulus_37 rfl (lv_at hl 3 rfl) ?_
              refine x1_get hx hb hts hown hK hP 0 rfl 0 (by decide) (hts _ q194) rfl (v := .int (nI n)) rfl dX1_modulus_38 ?_
              refine xn_ge (tgt := 90) hx hb dX1_modulus_41 (by decide) (by omega) (by omega) (fun c_41 => ?_) (fun c_41 => ?_)
              · refine lv_iload_n hx hb dX1_modulus_90 rfl (lv_at hl 1 rfl) ?_
                refine xn_if_eq (tgt := 96) hx hb dX1_modulus_91 (by decide) (by omega) (fun c_91 => ?_) (fun c_91 => ?_)
                · refine lv_iinc (v := nI (mm + 1)) (lv' := [(2, .int (nI (mm + 1))), (4, .int (nI i)), (3, .int (nI sm)), (0, .ref g0), (1, .int (nI j))]) hx hb dX1_modulus_96 hl (k := 2) rfl (pk_m1 _) (by decide) rfl (fun ls hl => ?_)
                  refine lv_goto (tgt := 25) hx hb dX1_modulus_99 (by decide) ?_
                  exact ih (by omega) (fun z h8 h9 hs => by rcases Nat.lt_or_ge (mm + 1 + 1) z with q | q; exact h2 z q h9 hs; rw [show z = mm + 1 + 1 by omega] at hs; exact (h5.resolve_left (fun h => absurd c_91 (by omega))).2 (fun t ht => hs t (by omega))) ls (lv_sub hl [0, 3, 4] rfl)
                · refine lv_iload_n hx hb dX1_modulus_94 rfl (lv_at hl 2 rfl) ?_
                  exact K _ u_12 _ _ _ _ (px4.good hj ⟨fun h => absurd h (by omega), fun _ => Or.inl ⟨mm + 1 + 1, by omega, by omega, rfl, fun t ht => (h5.resolve_right (fun h => absurd c_91 (by omega))).2 t (by omega), h2⟩⟩) hP hD hS rfl dX1_modulus_95
              · refine lv_iload_n hx hb dX1_modulus_44 rfl (lv_at hl 1 rfl) ?_
                refine xn_if_eq (tgt := 82) hx hb dX1_modulus_45 (by decide) (by omega) (fun c_45 => ?_) (fun c_45 => ?_)
                · refine lv_iconst (v := nI 0) hx hb dX1_modulus_82 rfl ?_
                  refine lv_istore_n (lv' := [(3, .int (nI 0)), (4, .int (nI i)), (2, .int (nI (mm + 1 + 1))), (0, .ref g0), (1, .int (nI j))]) hx hb dX1_modulus_83 rfl hl (by decide) rfl (fun ls hl => ?_)
                  refine lv_iinc (v := nI (i + 1)) (lv' := [(4, .int (nI (i + 1))), (3, .int (nI 0)), (2, .int (nI (mm + 1 + 1))), (0, .ref g0), (1, .int (nI j))]) hx hb dX1_modulus_84 hl (k := 1) rfl (nI_add _ 1) (by decide) rfl (fun ls hl => ?_)
                  refine lv_goto (tgt := 35) hx hb dX1_modulus_87 (by decide) ?_
                  refine ih2 (i + 1) 0 (by omega) (by omega) (Or.inr ⟨rfl, fun hq => ?_⟩) ls (lv_sub hl [0, 1, 2, 3, 4] rfl)
                  first
                  | exact (h5.resolve_left (fun h => absurd c_45 (by omega))).2 (fun t ht => hq t (by omega))
                  | (have e := hq i (by omega); rw [← h_61, ← h_72] at e; exact c_75 (Int32.toInt_inj.mp e))
                · refine lv_aload_n hx hb dX1_modulus_48 rfl (lv_at hl 3 rfl) ?_
                  refine lv_aload_n hx hb dX1_modulus_49 rfl (lv_at hl 3 rfl) ?_
                  refine x1_get hx hb hts hown hK hP 0 rfl 1 (by decide) (hts _ q195) rfl (v := .ref b1) rfl dX1_modulus_50 ?_
                  refine lv_iconst (v := nI 4) hx hb dX1_modulus_53 rfl ?_
                  refine lv_iload hx hb dX1_modulus_54 (lv_at hl 0 rfl) ?_
                  refine xn_mul hx hb dX1_modulus_56 ?_
                  refine lv_iload_n hx hb dX1_modulus_57 rfl (lv_at hl 4 rfl) ?_
                  refine xn_add hx hb dX1_modulus_58 ?_
                  refine xa_iald hx hb hK hP 1 0 rfl rfl (k := 4 * i + j) (by omega) (by decide) dX1_modulus_59 ?_
                  refine lv_iload_n hx hb dX1_modulus_60 rfl (lv_at hl 2 rfl) ?_
                  refine xc_V (ci := 1) (q0 := 0) [.int (a (4 * i + j)), .int (nI (mm + 1 + 1))] ⟨hx, hb, hml, hown, hts⟩ hK hP rfl rfl rfl [] rfl (mX1_modulo l dC dI dA dB g0 (a (4 * i + j)) (mm + 1 + 1) (by omega) (by omega) (hok _ (by omega))) (cwV 2 hts (lw_V q254 q256 qs9 q14 q257) rfl rfl rfl (by decide +kernel) ⟨Nat.le_of_ble_eq_true rfl, Nat.le_of_ble_eq_true rfl⟩) rfl hl.1 rfl (Nat.le_of_ble_eq_true rfl) dX1_modulus_61 ⟨Nat.le_of_ble_eq_true rfl, Nat.le_of_ble_eq_true rfl⟩ (fun r_61 h_61 => ?_)
                  refine lv_aload_n hx hb dX1_modulus_64 rfl (lv_at hl 3 rfl) ?_
                  refine lv_aload_n hx hb dX1_modulus_65 rfl (lv_at hl 3 rfl) ?_
                  refine x1_get hx hb hts hown hK hP 0 rfl 1 (by decide) (hts _ q195) rfl (v := .ref b1) rfl dX1_modulus_66 ?_
                  refine lv_iload_n hx hb dX1_modulus_69 rfl (lv_at hl 4 rfl) ?_
                  refine xa_iald hx hb hK hP 1 0 rfl rfl (k := j) (by omega) (by decide) dX1_modulus_70 ?_
                  refine lv_iload_n hx hb dX1_modulus_71 rfl (lv_at hl 2 rfl) ?_
                  refine xc_V (ci := 1) (q0 := 0) [.int (a j), .int (nI (mm + 1 + 1))] ⟨hx, hb, hml, hown, hts⟩ hK hP rfl rfl rfl [] rfl (mX1_modulo l dC dI dA dB g0 (a j) (mm + 1 + 1) (by omega) (by omega) (hok _ (by omega))) (cwV 2 hts (lw_V q254 q256 qs9 q14 q257) rfl rfl rfl (by decide +kernel) ⟨Nat.le_of_ble_eq_true rfl, Nat.le_of_ble_eq_true rfl⟩) rfl hl.1 rfl (Nat.le_of_ble_eq_true rfl) dX1_modulus_72 ⟨Nat.le_of_ble_eq_true rfl, Nat.le_of_ble_eq_true rfl⟩ (fun r_72 h_72 => ?_)
                  refine lv_icmp_ne (tgt := 82) hx hb dX1_modulus_75 (by decide) (fun c_75 => ?_) (fun c_75 => ?_)
                  · refine lv_iconst (v := nI 0) hx hb dX1_modulus_82 rfl ?_
                    refine lv_istore_n (lv' := [(3, .int (nI 0)), (4, .int (nI i)), (2, .int (nI (mm + 1 + 1))), (0, .ref g0), (1, .int (nI j))]) hx hb dX1_modulus_83 rfl hl (by decide) rfl (fun ls hl => ?_)
                    refine lv_iinc (v := nI (i + 1)) (lv' := [(4, .int (nI (i + 1))), (3, .int (nI 0)), (2, .int (nI (mm + 1 + 1))), (0, .ref g0), (1, .int (nI j))]) hx hb dX1_modulus_84 hl (k := 1) rfl (nI_add _ 1) (by decide) rfl (fun ls hl => ?_)
                    refine lv_goto (tgt := 35) hx hb dX1_modulus_87 (by decide) ?_
                    refine ih2 (i + 1) 0 (by omega) (by omega) (Or.inr ⟨rfl, fun hq => ?_⟩) ls (lv_sub hl [0, 1, 2, 3, 4] rfl)
                    first
                    | exact (h5.resolve_left (fun h => absurd c_45 (by omega))).2 (fun t ht => hq t (by omega))
                    | (have e := hq i (by omega); rw [← h_61, ← h_72] at e; exact c_75 (Int32.toInt_inj.mp e))
                  · refine lv_iconst (v := nI 1) hx hb dX1_modulus_78 rfl ?_
                    refine lv_goto (tgt := 83) hx hb dX1_modulus_79 (by decide) ?_
                    refine lv_istore_n (lv' := [(3, .int (nI 1)), (4, .int (nI i)), (2, .int (nI (mm + 1 + 1))), (0, .ref g0), (1, .int (nI j))]) hx hb dX1_modulus_83 rfl hl (by decide) rfl (fun ls hl => ?_)
                    refine lv_iinc (v := nI (i + 1)) (lv' := [(4, .int (nI (i + 1))), (3, .int (nI 1)), (2, .int (nI (mm + 1 + 1))), (0, .ref g0), (1, .int (nI j))]) hx hb dX1_modulus_84 hl (k := 1) rfl (nI_add _ 1) (by decide) rfl (fun ls hl => ?_)
                    refine lv_goto (tgt := 35) hx hb dX1_modulus_87 (by decide) ?_
                    refine ih2 (i + 1) 1 (by omega) (by omega) (Or.inl ⟨rfl, fun t ht => ?_⟩) ls (lv_sub hl [0, 1, 2, 3, 4] rfl)
                    rcases Nat.lt_or_ge t i with q | q
                    · exact (h5.resolve_right (fun h => absurd c_45 (by omega))).2 t q
                    · rw [show t = i by omega, ← h_61, ← h_72, c_75]
          exact loop2 (n + 1) 0 1 (by omega) (by omega) (Or.inl ⟨rfl, fun t ht => absurd ht (by omega)⟩) ls (lv_sub hl [0, 1, 2, 3, 4] rfl)
      exact loop 199 (by omega) (fun z h8 h9 => absurd h8 (by omega)) ls (lv_sub hl [0, 1, 2] rfl)
    · refine lv_iconst (v := nI 0) hx hb dX1_modulus_19 rfl ?_
      exact K _ u_12 _ _ _ _ (px4.good hj ⟨fun _ => rfl, fun h => absurd h (by omega)⟩) hP hD hS rfl dX1_modulus_20
  · refine xn_if_ne (tgt := 10) hx hb dX1_modulus_5 (by decide) (by omega) (fun c_5 => absurd c_5 (by omega)) (fun c_5 => ?_)
    refine lv_iconst (v := (-1)) hx hb dX1_modulus_8 rfl ?_
    exact K _ w _ _ _ _ (px4.bad hbad_x rfl) hP hD hS rfl dX1_modulus_9
end
section
set_option maxHeartbeats 4000000 in
set_option maxRecDepth 100000 in
theorem mX1_remainder (l : Launch) (dC : Nat → ClassId) (dI : Nat → Nat → Nat) (dA dB : ClassId) (sz : Nat) (g0 b1 b2 : Nat) (p0 q0 r0 : Int32) (n : Nat) (a w : Nat → Int32) (x : Int32) (hn : n ≤ 100) (hok : okA a n) : Met l yX1_remainder (ws_ yX1_remainder cX1_remainder 3 (some .int)) ({ frames := 3, cells := 0, slots := 0, locals := 70 } : Room) (va_Pc [.ref g0, .int x] (xPre (dC, dI) vwCl (xT dA dB) [(g0, oM b1 b2 (nI n) p0 q0 r0), (b1, .inl (dA, 400, .inl a)), (b2, .inl (dA, 4, .inl w))] sz)) (va_Qi (fun r _ => px4 x (r = (-1000)) (fun j => ((dl a j n).length < 2 → r = (-1000)) ∧ (2 ≤ (dl a j n).length → ∃ m2, modR a j n m2 ∧ ((m2 = nI 1 ∧ r = (-1000)) ∨ ∃ g : Nat, 2 ≤ g ∧ g ≤ 200 ∧ m2 = nI g ∧ r.toInt = (a j).toInt % (g : Int))))) (fun u t => va_P (dC, dI) vwCl ((fun u : Nat → Int32 => [(g0, oM b1 b2 (nI n) p0 q0 r0), (b1, .inl (dA, 400, .inl a)), (b2, .inl (dA, 4, .inl u))]) u) t.heap ∧ va_D (va_A [(g0, oM b1 b2 (nI n) p0 q0 r0), (b1, .inl (dA, 400, .inl a)), (b2, .inl (dA, 4, .inl w))] sz) ((fun u : Nat → Int32 => [(g0, oM b1 b2 (nI n) p0 q0 r0), (b1, .inl (dA, 400, .inl a)), (b2, .inl (dA, 4, .inl u))]) u)) (va_A [(g0, oM b1 b2 (nI n) p0 q0 r0), (b1, .inl (dA, 400, .inl a)), (b2, .inl (dA, 4, .inl w))] sz)) 0 0 (va_A [(g0, oM b1 b2 (nI n) p0 q0 r0), (b1, .inl (dA, 400, .inl a)), (b2, .inl (dA, 4, .inl w))] sz) := by
  refine xm_Qi (by decide) (Nat.le_of_ble_eq_true rfl) ?_
  intro p e s m args below meth c hx hb hml hown hts hK A hA H locs hP hD hS Q K ls hl
  have hown : s.vm.findClass RX1 = some m.cls := hown
  have hl : lv_has ls 3 [(0, .ref g0), (1, .int x)] := hl
  refine lv_aload_n hx hb dX1_remainder_0 rfl (lv_at hl 0 rfl) ?_
  refine lv_iload_n hx hb dX1_remainder_1 rfl (lv_at hl 1 rfl) ?_
  refine xc_Wi (ci := 1) (q0 := 0) (wc := [(g0, oM b1 b2 (nI n) p0 q0 r0), (b1, .inl (dA, 400, .inl a)), (b2, .inl (dA, 4, .inl w))]) (wr := []) [.int x] ⟨hx, hb, hml, hown, hts⟩ hK hP hD hS hA rfl rfl rfl [0, 1, 2] [] [0, 1, 2] rfl rfl rfl rfl rfl (by decide) (fun u : Nat → Int32 => [(g0, oM b1 b2 (nI n) p0 q0 r0), (b1, .inl (dA, 400, .inl a)), (b2, .inl (dA, 4, .inl u))]) (fun _ => rfl) (fun _ => rfl) rfl (mX1_modulus l dC dI dA dB H.size g0 b1 b2 p0 q0 r0 n a w x hn hok) (cwV 1 hts (lw_V q262 q251 q252 q14 q253) rfl rfl rfl (by decide +kernel) ⟨Nat.le_of_ble_eq_true rfl, Nat.le_of_ble_eq_true rfl⟩) rfl hl.1 rfl (Nat.le_of_ble_eq_true rfl) dX1_remainder_2 ⟨Nat.le_of_ble_eq_true rfl, Nat.le_of_ble_eq_true rfl⟩ (fun r_2 u_2 H locs h_2 hP hD hS => ?_)
  rcases bad4_or x with ⟨j, hj, rfl⟩ | hbad_x
  · obtain ⟨h5, h6⟩ : ((dl a j n).length < 2 → r_2 = nI 0) ∧ (2 ≤ (dl a j n).length → modR a j n r_2) := h_2.2 j hj rfl
    rcases Nat.lt_or_ge (dl a j n).length 2 with h7 | h7
    · have h5 := h5 h7
      subst h5
      refine lv_istore_n (lv' := [(2, .int (nI 0)), (0, .ref g0), (1, .int (nI j))]) hx hb dX1_remainder_5 rfl hl (by decide) rfl (fun ls hl => ?_)
      refine lv_iload_n hx hb dX1_remainder_6 rfl (lv_at hl 0 rfl) ?_
      refine lv_iconst (v := nI 2) hx hb dX1_remainder_7 rfl ?_
      refine xn_lt (tgt := 25) hx hb dX1_remainder_8 (by decide) (by omega) (by omega) (fun c_8 => ?_) (fun c_8 => absurd c_8 (by omega))
      refine lv_sipush (v := (-1000)) hx hb dX1_remainder_25 rfl ?_
      exact K _ u_2 _ _ _ _ (px4.good hj ⟨fun _ => rfl, fun h => absurd h (by omega)⟩) hP hD hS rfl dX1_remainder_28
    · have h6 := h6 h7
      have hn0 : 0 < n := by rcases Nat.eq_zero_or_pos n with z | z; exact absurd h7 (by rw [z]; simp [dl]); exact z
      rcases id h6 with ⟨g, h8, h9, rfl, h10, h11⟩ | ⟨rfl, h10⟩
      · refine lv_istore_n (lv' := [(2, .int (nI g)), (0, .ref g0), (1, .int (nI j))]) hx hb dX1_remainder_5 rfl hl (by decide) rfl (fun ls hl => ?_)
        refine lv_iload_n hx hb dX1_remainder_6 rfl (lv_at hl 0 rfl) ?_
        refine lv_iconst (v := nI 2) hx hb dX1_remainder_7 rfl ?_
        refine xn_lt (tgt := 25) hx hb dX1_remainder_8 (by decide) (by omega) (by omega) (fun c_8 => absurd c_8 (by omega)) (fun c_8 => ?_)
        refine lv_aload_n hx hb dX1_remainder_11 rfl (lv_at hl 1 rfl) ?_
        refine lv_aload_n hx hb dX1_remainder_12 rfl (lv_at hl 1 rfl) ?_
        refine x1_get hx hb hts hown hK hP 0 rfl 1 (by decide) (hts _ q195) rfl (v := .ref b1) rfl dX1_remainder_13 ?_
        refine lv_iload_n hx hb dX1_remainder_16 rfl (lv_at hl 2 rfl) ?_
        refine xa_iald hx hb hK hP 1 0 rfl rfl (k := j) (by omega) (by decide) dX1_remainder_17 ?_
        refine lv_iload_n hx hb dX1_remainder_18 rfl (lv_at hl 0 rfl) ?_
        refine xc_V (ci := 1) (q0 := 0) [.int (a j), .int (nI g)] ⟨hx, hb, hml, hown, hts⟩ hK hP rfl rfl rfl [] rfl (mX1_modulo l dC dI dA dB g0 (a j) g (by omega) (by omega) (hok _ (by omega))) (cwV 2 hts (lw_V q254 q256 qs9 q14 q257) rfl rfl rfl (by decide +kernel) ⟨Nat.le_of_ble_eq_true rfl, Nat.le_of_ble_eq_true rfl⟩) rfl hl.1 rfl (Nat.le_of_ble_eq_true rfl) dX1_remainder_19 ⟨Nat.le_of_ble_eq_true rfl, Nat.le_of_ble_eq_true rfl⟩ (fun r_19 h_19 => ?_)
        refine lv_goto (tgt := 28) hx hb dX1_remainder_22 (by decide) ?_
        exact K _ u_2 _ _ _ _ (px4.good hj ⟨fun h => absurd h (by omega), fun _ => ⟨_, h6, Or.inr ⟨g, h8, h9, rfl, h_19⟩⟩⟩) hP hD hS rfl dX1_remainder_28
      · refine lv_istore_n (lv' := [(2, .int (nI 1)), (0, .ref g0), (1, .int (nI j))]) hx hb dX1_remainder_5 rfl hl (by decide) rfl (fun ls hl => ?_)
        refine lv_iload_n hx hb dX1_remainder_6 rfl (lv_at hl 0 rfl) ?_
        refine lv_iconst (v := nI 2) hx hb dX1_remainder_7 rfl ?_
        refine xn_lt (tgt := 25) hx hb dX1_remainder_8 (by decide) (by omega) (by omega) (fun c_8 => ?_) (fun c_8 => absurd c_8 (by omega))
        refine lv_sipush (v := (-1000)) hx hb dX1_remainder_25 rfl ?_
        exact K _ u_2 _ _ _ _ (px4.good hj ⟨fun h => absurd h (by omega), fun _ => ⟨_, h6, Or.inl ⟨rfl, rfl⟩⟩⟩) hP hD hS rfl dX1_remainder_28
  · have h_2 := h_2.1 hbad_x
    subst h_2
    refine lv_istore_n (lv' := [(2, .int (-1)), (0, .ref g0), (1, .int x)]) hx hb dX1_remainder_5 rfl hl (by decide) rfl (fun ls hl => ?_)
    refine lv_iload_n hx hb dX1_remainder_6 rfl (lv_at hl 0 rfl) ?_
    refine lv_iconst (v := nI 2) hx hb dX1_remainder_7 rfl ?_
    refine lv_icmp_lt (tgt := 25) hx hb dX1_remainder_8 (by decide) (fun c_8 => ?_) (fun c_8 => absurd (show (-1 : Int32) < nI 2 by decide) c_8)
    refine lv_sipush (v := (-1000)) hx hb dX1_remainder_25 rfl ?_
    exact K _ u_2 _ _ _ _ (px4.bad hbad_x rfl) hP hD hS rfl dX1_remainder_28
theorem i32_le {x y : Int32} (h : ¬ y < x) : x ≤ y := by
  rw [Int32.lt_iff_toInt_lt] at h
  rw [Int32.le_iff_toInt_le]
  omega
theorem i32_gt {x y : Int32} (h : y < x) : ¬ x ≤ y := by
  rw [Int32.lt_iff_toInt_lt] at h
  rw [Int32.le_iff_toInt_le]
  omega
set_option maxHeartbeats 4000000 in
set_option maxRecDepth 100000 in
theorem mX1_holds (l : Launch) (dC : Nat → ClassId) (dI : Nat → Nat → Nat) (dA dB : ClassId) (g0 : Nat) (v1 v2 : Int32) (q : Nat) (hq : q < 4) : Met l yX1_holds (ws_ yX1_holds cX1_holds 4 (some .boolean)) rmz (va_Pc [.ref g0, .int v1, .int v2, .int (nI q)] (xPreR (dC, dI) vwCl (xT dA dB) [])) (vp_Si (fun r => (holdR q v1 v2 ∧ r = nI 1) ∨ (¬ holdR q v1 v2 ∧ r = nI 0))) 0 0 (fun _ => False) := by
  refine xm_R (by decide) (Nat.le_of_ble_eq_true rfl) ?_
  intro p e s m args below meth c hx hb hml hown hts hK H locs hP Q K ls hl
  have hown : s.vm.findClass RX1 = some m.cls := hown
  have hl : lv_has ls 4 [(0, .ref g0), (1, .int v1), (2, .int v2), (3, .int (nI q))] := hl
  refine lv_iload_n hx hb dX1_holds_0 rfl (lv_at hl 3 rfl) ?_
  refine xn_if_ne (tgt := 17) hx hb dX1_holds_1 (by decide) (by omega) (fun c_1 => ?_) (fun c_1 => ?_)
  · refine lv_iload_n hx hb dX1_holds_17 rfl (lv_at hl 3 rfl) ?_
    refine lv_iconst (v := nI 1) hx hb dX1_holds_18 rfl ?_
    refine xn_ne (tgt := 35) hx hb dX1_holds_19 (by decide) (by omega) (by omega) (fun c_19 => ?_) (fun c_19 => ?_)
    · refine lv_iload_n hx hb dX1_holds_35 rfl (lv_at hl 3 rfl) ?_
      refine lv_iconst (v := nI 2) hx hb dX1_holds_36 rfl ?_
      refine xn_ne (tgt := 53) hx hb dX1_holds_37 (by decide) (by omega) (by omega) (fun c_37 => ?_) (fun c_37 => ?_)
      · refine lv_iload_n hx hb dX1_holds_53 rfl (lv_at hl 1 rfl) ?_
        refine lv_iload_n hx hb dX1_holds_54 rfl (lv_at hl 2 rfl) ?_
        refine lv_icmp_eq (tgt := 62) hx hb dX1_holds_55 (by decide) (fun c_55 => ?_) (fun c_55 => ?_)
        · refine lv_iconst (v := nI 0) hx hb dX1_holds_62 rfl ?_
          exact K _ _ _ (Or.inr ⟨by first | (subst c_1; first | exact i32_lt c_6 | exact i32_ge c_6) | (subst c_19; first | exact i32_le c_24 | exact i32_gt c_24) | (subst c_37; exact c_42) | (rw [show q = 3 by omega]; first | exact c_55 | exact fun h => h c_55), rfl⟩) rfl dX1_holds_63
        · refine lv_iconst (v := nI 1) hx hb dX1_holds_58 rfl ?_
          refine lv_goto (tgt := 63) hx hb dX1_holds_59 (by decide) ?_
          exact K _ _ _ (Or.inl ⟨by first | (subst c_1; first | exact i32_lt c_6 | exact i32_ge c_6) | (subst c_19; first | exact i32_le c_24 | exact i32_gt c_24) | (subst c_37; exact c_42) | (rw [show q = 3 by omega]; first | exact c_55 | exact fun h => h c_55), rfl⟩) rfl dX1_holds_63
      · refine lv_iload_n hx hb dX1_holds_40 rfl (lv_at hl 1 rfl) ?_
        refine lv_iload_n hx hb dX1_holds_41 rfl (lv_at hl 2 rfl) ?_
        refine lv_icmp_ne (tgt := 49) hx hb dX1_holds_42 (by decide) (fun c_42 => ?_) (fun c_42 => ?_)
        · refine lv_iconst (v := nI 0) hx hb dX1_holds_49 rfl ?_
          refine lv_goto (tgt := 63) hx hb dX1_holds_50 (by decide) ?_
          exact K _ _ _ (Or.inr ⟨by first | (subst c_1; first | exact i32_lt c_6 | exact i32_ge c_6) | (subst c_19; first | exact i32_le c_24 | exact i32_gt c_24) | (subst c_37; exact c_42) | (rw [show q = 3 by omega]; first | exact c_55 | exact fun h => h c_55), rfl⟩) rfl dX1_holds_63
        · refine lv_iconst (v := nI 1) hx hb dX1_holds_45 rfl ?_
          refine lv_goto (tgt := 63) hx hb dX1_holds_46 (by decide) ?_
          exact K _ _ _ (Or.inl ⟨by first | (subst c_1; first | exact i32_lt c_6 | exact i32_ge c_6) | (subst c_19; first | exact i32_le c_24 | exact i32_gt c_24) | (subst c_37; exact c_42) | (rw [show q = 3 by omega]; first | exact c_55 | exact fun h => h c_55), rfl⟩) rfl dX1_holds_63
    · refine lv_iload_n hx hb dX1_holds_22 rfl (lv_at hl 1 rfl) ?_
      refine lv_iload_n hx hb dX1_holds_23 rfl (lv_at hl 2 rfl) ?_
      refine lv_icmp_gt (tgt := 31) hx hb dX1_holds_24 (by decide) (fun c_24 => ?_) (fun c_24 => ?_)
      · refine lv_iconst (v := nI 0) hx hb dX1_holds_31 rfl ?_
        refine lv_goto (tgt := 63) hx hb dX1_holds_32 (by decide) ?_
        exact K _ _ _ (Or.inr ⟨by first | (subst c_1; first | exact i32_lt c_6 | exact i32_ge c_6) | (subst c_19; first | exact i32_le c_24 | exact i32_gt c_24) | (subst c_37; exact c_42) | (rw [show q = 3 by omega]; first | exact c_55 | exact fun h => h c_55), rfl⟩) rfl dX1_holds_63
      · refine lv_iconst (v := nI 1) hx hb dX1_holds_27 rfl ?_
        refine lv_goto (tgt := 63) hx hb dX1_holds_28 (by decide) ?_
        exact K _ _ _ (Or.inl ⟨by first | (subst c_1; first | exact i32_lt c_6 | exact i32_ge c_6) | (subst c_19; first | exact i32_le c_24 | exact i32_gt c_24) | (subst c_37; exact c_42) | (rw [show q = 3 by omega]; first | exact c_55 | exact fun h => h c_55), rfl⟩) rfl dX1_holds_63
  · refine lv_iload_n hx hb dX1_holds_4 rfl (lv_at hl 1 rfl) ?_
    refine lv_iload_n hx hb dX1_holds_5 rfl (lv_at hl 2 rfl) ?_
    refine lv_icmp_ge (tgt := 13) hx hb dX1_holds_6 (by decide) (fun c_6 => ?_) (fun c_6 => ?_)
    · refine lv_iconst (v := nI 0) hx hb dX1_holds_13 rfl ?_
      refine lv_goto (tgt := 63) hx hb dX1_holds_14 (by decide) ?_
      exact K _ _ _ (Or.inr ⟨by first | (subst c_1; first | exact i32_lt c_6 | exact i32_ge c_6) | (subst c_19; first | exact i32_le c_24 | exact i32_gt c_24) | (subst c_37; exact c_42) | (rw [show q = 3 by omega]; first | exact c_55 | exact fun h => h c_55), rfl⟩) rfl dX1_holds_63
    · refine lv_iconst (v := nI 1) hx hb dX1_holds_9 rfl ?_
      refine lv_goto (tgt := 63) hx hb dX1_holds_10 (by decide) ?_
      exact K _ _ _ (Or.inl ⟨by first | (subst c_1; first | exact i32_lt c_6 | exact i32_ge c_6) | (subst c_19; first | exact i32_le c_24 | exact i32_gt c_24) | (subst c_37; exact c_42) | (rw [show q = 3 by omega]; first | exact c_55 | exact fun h => h c_55), rfl⟩) rfl dX1_holds_63
set_option maxHeartbeats 4000000 in
set_option maxRecDepth 100000 in
theorem mX1_relation (l : Launch) (dC : Nat → ClassId) (dI : Nat → Nat → Nat) (dA dB : ClassId) (g0 b1 b2 : Nat) (p0 q0 r0 : Int32) (n : Nat) (a : Nat → Int32) (x y rel : Int32) (hn : n ≤ 100) : Met l yX1_relation (ws_ yX1_relation cX1_relation 6 (some .boolean)) ({ frames := 1, cells := 0, slots := 0, locals := 23 } : Room) (va_Pc [.ref g0, .int x, .int y, .int rel] (xPreR (dC, dI) vwCl (xT dA dB) [(g0, oM b1 b2 (nI n) p0 q0 r0), (b1, .inl (dA, 400, .inl a))])) (vp_Si (fun r => pxP x y (r = nI 0) (fun i j => px4 rel (r = nI 0) (fun q => (r = nI 1 ∧ ∀ t, t < n → holdR q (a (4 * t + i)) (a (4 * t + j))) ∨ (r = nI 0 ∧ ¬ ∀ t, t < n → holdR q (a (4 * t + i)) (a (4 * t + j))))))) 0 0 (fun _ => False) := by
  refine xm_R (by decide) (Nat.le_of_ble_eq_true rfl) ?_
  intro p e s m args below meth c hx hb hml hown hts hK H locs hP Q K ls hl
  have hown : s.vm.findClass RX1 = some m.cls := hown
  have hl : lv_has ls 6 [(0, .ref g0), (1, .int x), (2, .int y), (3, .int rel)] := hl
  refine lv_aload_n hx hb dX1_relation_0 rfl (lv_at hl 0 rfl) ?_
  refine lv_iload_n hx hb dX1_relation_1 rfl (lv_at hl 1 rfl) ?_
  refine xc_V (ci := 1) (q0 := 0) [.int x] ⟨hx, hb, hml, hown, hts⟩ hK hP rfl rfl rfl [] rfl (mX1_is l dC dI dA dB g0 x) (cwV 1 hts (lw_V q233 q235 qs8 q14 q236) rfl rfl rfl (by decide +kernel) ⟨Nat.le_of_ble_eq_true rfl, Nat.le_of_ble_eq_true rfl⟩) rfl hl.1 rfl (Nat.le_of_ble_eq_true rfl) dX1_relation_2 ⟨Nat.le_of_ble_eq_true rfl, Nat.le_of_ble_eq_true rfl⟩ (fun r_2 h_2 => ?_)
  rcases h_2 with ⟨i, hi, rfl, rfl⟩ | ⟨hbad_x, rfl⟩
  · refine xn_if_eq (tgt := 30) hx hb dX1_relation_5 (by decide) (by omega) (fun c_5 => absurd c_5 (by omega)) (fun c_5 => ?_)
    refine lv_aload_n hx hb dX1_relation_8 rfl (lv_at hl 0 rfl) ?_
    refine lv_iload_n hx hb dX1_relation_9 rfl (lv_at hl 2 rfl) ?_
    refine xc_V (ci := 1) (q0 := 0) [.int y] ⟨hx, hb, hml, hown, hts⟩ hK hP rfl rfl rfl [] rfl (mX1_is l dC dI dA dB g0 y) (cwV 1 hts (lw_V q233 q235 qs8 q14 q236) rfl rfl rfl (by decide +kernel) ⟨Nat.le_of_ble_eq_true rfl, Nat.le_of_ble_eq_true rfl⟩) rfl hl.1 rfl (Nat.le_of_ble_eq_true rfl) dX1_relation_10 ⟨Nat.le_of_ble_eq_true rfl, Nat.le_of_ble_eq_true rfl⟩ (fun r_10 h_10 => ?_)
    rcases h_10 with ⟨j, hj, rfl, rfl⟩ | ⟨hbad_y, rfl⟩
    · refine xn_if_eq (tgt := 30) hx hb dX1_relation_13 (by decide) (by omega) (fun c_13 => absurd c_13 (by omega)) (fun c_13 => ?_)
      refine lv_iload_n hx hb dX1_relation_16 rfl (lv_at hl 1 rfl) ?_
      refine lv_iload_n hx hb dX1_relation_17 rfl (lv_at hl 2 rfl) ?_
      refine xn_eq (tgt := 30) hx hb dX1_relation_18 (by decide) (by omega) (by omega) (fun c_18 => ?_) (fun c_18 => ?_)
      · refine lv_iconst (v := nI 0) hx hb dX1_relation_30 rfl ?_
        first
        | exact K _ _ _ (pxP.good hi hj c_18 (px4.bad (bad4_of2 (by first | exact Or.inl c_22 | exact Or.inr (nle3 c_27))) rfl)) rfl dX1_relation_31
        | exact K _ _ _ (pxP.bad (badP_3 (by rw [c_18])) rfl) rfl dX1_relation_31
      · refine lv_iload_n hx hb dX1_relation_21 rfl (lv_at hl 3 rfl) ?_
        refine lv_if_lt (tgt := 30) hx hb dX1_relation_22 (by decide) (fun c_22 => ?_) (fun c_22 => ?_)
        · refine lv_iconst (v := nI 0) hx hb dX1_relation_30 rfl ?_
          first
          | exact K _ _ _ (pxP.good hi hj c_18 (px4.bad (bad4_of2 (by first | exact Or.inl c_22 | exact Or.inr (nle3 c_27))) rfl)) rfl dX1_relation_31
          | exact K _ _ _ (pxP.bad (badP_3 (by rw [c_18])) rfl) rfl dX1_relation_31
        · refine lv_iload_n hx hb dX1_relation_25 rfl (lv_at hl 3 rfl) ?_
          refine lv_iconst (v := nI 3) hx hb dX1_relation_26 rfl ?_
          refine lv_icmp_le (tgt := 32) hx hb dX1_relation_27 (by decide) (fun c_27 => ?_) (fun c_27 => ?_)
          · obtain ⟨q, hq, rfl⟩ := good4_of2 c_22 (le3 c_27)
            refine lv_iconst (v := nI 1) hx hb dX1_relation_32 rfl ?_
            refine lv_istore (lv' := [(4, .int (nI 1)), (0, .ref g0), (1, .int (nI i)), (2, .int (nI j)), (3, .int (nI q))]) hx hb dX1_relation_33 hl (by decide) rfl (fun ls hl => ?_)
            refine lv_iconst (v := nI 0) hx hb dX1_relation_35 rfl ?_
            refine lv_istore (lv' := [(5, .int (nI 0)), (4, .int (nI 1)), (0, .ref g0), (1, .int (nI i)), (2, .int (nI j)), (3, .int (nI q))]) hx hb dX1_relation_36 hl (by decide) rfl (fun ls hl => ?_)
            have loop : ∀ (f9 i9 fl : Nat), n + 1 ≤ i9 + f9 → i9 ≤ n → ((fl = 1 ∧ ∀ t, t < i9 → holdR q (a (4 * t + i)) (a (4 * t + j))) ∨ (fl = 0 ∧ ¬ ∀ t, t < i9 → holdR q (a (4 * t + i)) (a (4 * t + j)))) → ∀ ls : Array Slot, lv_has ls 6 [(5, .int (nI i9)), (4, .int (nI fl)), (0, .ref g0), (1, .int (nI i)), (2, .int (nI j)), (3, .int (nI q))] → W p l e ({ frames := 1, cells := 0, slots := 0, locals := 23 } : Room) s m args below meth c H locs 0 0 Q (F0 m 38 ls []) := by
              intro f9
              induction f9 with
              | zero =>
                intro i9 fl h31 h32
                exact absurd h31 (by omega)
              | succ f9 ih9 =>
                intro i9 fl h31 h32 h33 ls hl
                have hfl : fl ≤ 1 := by omega
                refine lv_iload hx hb dX1_relation_38 (lv_at hl 0 rfl) ?_
                refine lv_aload_n hx hb dX1_relation_40 rfl (lv_at hl 2 rfl) ?_
                refine x1_get hx hb hts hown hK hP 0 rfl 0 (by decide) (hts _ q194) rfl (v := .int (nI n)) rfl dX1_relation_41 ?_
                refine xn_ge (tgt := 95) hx hb dX1_relation_44 (by decide) (by omega) (by omega) (fun c_44 => ?_) (fun c_44 => ?_)
                · refine lv_iload hx hb dX1_relation_95 (lv_at hl 1 rfl) ?_
                  refine K _ _ _ (pxP.good hi hj c_18 (px4.good hq ?_)) ?_ dX1_relation_97
                  · rcases h33 with ⟨h34, h35⟩ | ⟨h34, h35⟩
                    · exact Or.inl ⟨by rw [h34], fun t ht => h35 t (by omega)⟩
                    · exact Or.inr ⟨by rw [h34], fun h => h35 (fun t ht => h t (by omega))⟩
                  · rcases h33 with ⟨h34, -⟩ | ⟨h34, -⟩ <;> rw [h34] <;> rfl
                · refine lv_iload hx hb dX1_relation_47 (lv_at hl 1 rfl) ?_
                  refine xn_if_eq (tgt := 86) hx hb dX1_relation_49 (by decide) (by omega) (fun c_49 => ?_) (fun c_49 => ?_)
                  · refine lv_iconst (v := nI 0) hx hb dX1_relation_86 rfl ?_
                    refine lv_istore (lv' := [(4, .int (nI 0)), (5, .int (nI i9)), (0, .ref g0), (1, .int (nI i)), (2, .int (nI j)), (3, .int (nI q))]) hx hb dX1_relation_87 hl (by decide) rfl (fun ls hl => ?_)
                    refine lv_iinc (v := nI (i9 + 1)) (lv' := [(5, .int (nI (i9 + 1))), (4, .int (nI 0)), (0, .ref g0), (1, .int (nI i)), (2, .int (nI j)), (3, .int (nI q))]) hx hb dX1_relation_89 hl (k := 1) rfl (nI_add _ 1) (by decide) rfl (fun ls hl => ?_)
                    refine lv_goto (tgt := 38) hx hb dX1_relation_92 (by decide) ?_
                    refine ih9 (i9 + 1) 0 (by omega) (by omega) (Or.inr ⟨rfl, fun hq9 => ?_⟩) ls (lv_sub hl [0, 1, 2, 3, 4, 5] rfl)
                    first
                    | exact (h33.resolve_left (fun h => absurd c_49 (by omega))).2 (fun t ht => hq9 t (by omega))
                    | (have e9 := hq9 i9 (by omega); exact (h_76.resolve_left (fun h => absurd c_79 (by rw [h.2]; decide))).1 e9)
                  · refine lv_aload_n hx hb dX1_relation_52 rfl (lv_at hl 2 rfl) ?_
                    refine lv_aload_n hx hb dX1_relation_53 rfl (lv_at hl 2 rfl) ?_
                    refine x1_get hx hb hts hown hK hP 0 rfl 1 (by decide) (hts _ q195) rfl (v := .ref b1) rfl dX1_relation_54 ?_
                    refine lv_iconst (v := nI 4) hx hb dX1_relation_57 rfl ?_
                    refine lv_iload hx hb dX1_relation_58 (lv_at hl 0 rfl) ?_
                    refine xn_mul hx hb dX1_relation_60 ?_
                    refine lv_iload_n hx hb dX1_relation_61 rfl (lv_at hl 3 rfl) ?_
                    refine xn_add hx hb dX1_relation_62 ?_
                    refine xa_iald hx hb hK hP 1 0 rfl rfl (k := 4 * i9 + i) (by omega) (by decide) dX1_relation_63 ?_
                    refine lv_aload_n hx hb dX1_relation_64 rfl (lv_at hl 2 rfl) ?_
                    refine x1_get hx hb hts hown hK hP 0 rfl 1 (by decide) (hts _ q195) rfl (v := .ref b1) rfl dX1_relation_65 ?_
                    refine lv_iconst (v := nI 4) hx hb dX1_relation_68 rfl ?_
                    refine lv_iload hx hb dX1_relation_69 (lv_at hl 0 rfl) ?_
                    refine xn_mul hx hb dX1_relation_71 ?_
                    refine lv_iload_n hx hb dX1_relation_72 rfl (lv_at hl 4 rfl) ?_
                    refine xn_add hx hb dX1_relation_73 ?_
                    refine xa_iald hx hb hK hP 1 0 rfl rfl (k := 4 * i9 + j) (by omega) (by decide) dX1_relation_74 ?_
                    refine lv_iload_n hx hb dX1_relation_75 rfl (lv_at hl 5 rfl) ?_
                    refine xc_V (ci := 1) (q0 := 0) [.int (a (4 * i9 + i)), .int (a (4 * i9 + j)), .int (nI q)] ⟨hx, hb, hml, hown, hts⟩ hK hP rfl rfl rfl [] rfl (mX1_holds l dC dI dA dB g0 (a (4 * i9 + i)) (a (4 * i9 + j)) q hq) (cwV 3 hts (lw_V q267 q269 qs10 q14 q270) rfl rfl rfl (by decide +kernel) ⟨Nat.le_of_ble_eq_true rfl, Nat.le_of_ble_eq_true rfl⟩) rfl hl.1 rfl (Nat.le_of_ble_eq_true rfl) dX1_relation_76 ⟨Nat.le_of_ble_eq_true rfl, Nat.le_of_ble_eq_true rfl⟩ (fun r_76 h_76 => ?_)
                    refine lv_if_eq (tgt := 86) hx hb dX1_relation_79 (by decide) (fun c_79 => ?_) (fun c_79 => ?_)
                    · refine lv_iconst (v := nI 0) hx hb dX1_relation_86 rfl ?_
                      refine lv_istore (lv' := [(4, .int (nI 0)), (5, .int (nI i9)), (0, .ref g0), (1, .int (nI i)), (2, .int (nI j)), (3, .int (nI q))]) hx hb dX1_relation_87 hl (by decide) rfl (fun ls hl => ?_)
                      refine lv_iinc (v := nI (i9 + 1)) (lv' := [(5, .int (nI (i9 + 1))), (4, .int (nI 0)), (0, .ref g0), (1, .int (nI i)), (2, .int (nI j)), (3, .int (nI q))]) hx hb dX1_relation_89 hl (k := 1) rfl (nI_add _ 1) (by decide) rfl (fun ls hl => ?_)
                      refine lv_goto (tgt := 38) hx hb dX1_relation_92 (by decide) ?_
                      refine ih9 (i9 + 1) 0 (by omega) (by omega) (Or.inr ⟨rfl, fun hq9 => ?_⟩) ls (lv_sub hl [0, 1, 2, 3, 4, 5] rfl)
                      first
                      | exact (h33.resolve_left (fun h => absurd c_49 (by omega))).2 (fun t ht => hq9 t (by omega))
                      | (have e9 := hq9 i9 (by omega); exact (h_76.resolve_left (fun h => absurd c_79 (by rw [h.2]; decide))).1 e9)
                    · refine lv_iconst (v := nI 1) hx hb dX1_relation_82 rfl ?_
                      refine lv_goto (tgt := 87) hx hb dX1_relation_83 (by decide) ?_
                      refine lv_istore (lv' := [(4, .int (nI 1)), (5, .int (nI i9)), (0, .ref g0), (1, .int (nI i)), (2, .int (nI j)), (3, .int (nI q))]) hx hb dX1_relation_87 hl (by decide) rfl (fun ls hl => ?_)
                      refine lv_iinc (v := nI (i9 + 1)) (lv' := [(5, .int (nI (i9 + 1))), (4, .int (nI 1)), (0, .ref g0), (1, .int (nI i)), (2, .int (nI j)), (3, .int (nI q))]) hx hb dX1_relation_89 hl (k := 1) rfl (nI_add _ 1) (by decide) rfl (fun ls hl => ?_)
                      refine lv_goto (tgt := 38) hx hb dX1_relation_92 (by decide) ?_
                      refine ih9 (i9 + 1) 1 (by omega) (by omega) (Or.inl ⟨rfl, fun t ht => ?_⟩) ls (lv_sub hl [0, 1, 2, 3, 4, 5] rfl)
                      rcases Nat.lt_or_ge t i9 with q | q
                      · exact (h33.resolve_right (fun h => absurd c_49 (by omega))).2 t q
                      · rw [show t = i9 by omega]; exact (h_76.resolve_right (fun h => absurd c_79 (by rw [h.2]; decide))).1
            exact loop (n + 1) 0 1 (by omega) (by omega) (Or.inl ⟨rfl, fun t ht => absurd ht (by omega)⟩) ls (lv_sub hl [0, 1, 2, 3, 4, 5] rfl)
          · refine lv_iconst (v := nI 0) hx hb dX1_relation_30 rfl ?_
            first
            | exact K _ _ _ (pxP.good hi hj c_18 (px4.bad (bad4_of2 (by first | exact Or.inl c_22 | exact Or.inr (nle3 c_27))) rfl)) rfl dX1_relation_31
            | exact K _ _ _ (pxP.bad (badP_3 (by rw [c_18])) rfl) rfl dX1_relation_31
    · refine xn_if_eq (tgt := 30) hx hb dX1_relation_13 (by decide) (by omega) (fun c_13 => ?_) (fun c_13 => absurd c_13 (by omega))
      refine lv_iconst (v := nI 0) hx hb dX1_relation_30 rfl ?_
      exact K _ _ _ (pxP.bad (badP_2 hbad_y) rfl) rfl dX1_relation_31
  · refine xn_if_eq (tgt := 30) hx hb dX1_relation_5 (by decide) (by omega) (fun c_5 => ?_) (fun c_5 => absurd c_5 (by omega))
    refine lv_iconst (v := nI 0) hx hb dX1_relation_30 rfl ?_
    exact K _ _ _ (pxP.bad (badP_1 hbad_x) rfl) rfl dX1_relation_31
set_option maxHeartbeats 4000000 in
set_option maxRecDepth 100000 in
theorem mX1_offset (l : Launch) (dC : Nat → ClassId) (dI : Nat → Nat → Nat) (dA dB : ClassId) (g0 b1 b2 : Nat) (p0 q0 r0 : Int32) (n : Nat) (a : Nat → Int32) (x y : Int32) (hn : n ≤ 100) : Met l yX1_offset (ws_ yX1_offset cX1_offset 6 (some .int)) ({ frames := 1, cells := 0, slots := 0, locals := 23 } : Room) (va_Pc [.ref g0, .int x, .int y] (xPreR (dC, dI) vwCl (xT dA dB) [(g0, oM b1 b2 (nI n) p0 q0 r0), (b1, .inl (dA, 400, .inl a))])) (vp_Si (fun r => pxP x y (r = (-1000)) (fun i j => (n = 0 → r = (-1000)) ∧ (0 < n → ((∀ t, t < n → a (4 * t + j) = a (4 * t + i) + (a j - a i)) ∧ r = a j - a i) ∨ ((¬ ∀ t, t < n → a (4 * t + j) = a (4 * t + i) + (a j - a i)) ∧ r = (-1000)))))) 0 0 (fun _ => False) := by
  refine xm_R (by decide) (Nat.le_of_ble_eq_true rfl) ?_
  intro p e s m args below meth c hx hb hml hown hts hK H locs hP Q K ls hl
  have hown : s.vm.findClass RX1 = some m.cls := hown
  have hl : lv_has ls 6 [(0, .ref g0), (1, .int x), (2, .int y)] := hl
  refine lv_aload_n hx hb dX1_offset_0 rfl (lv_at hl 0 rfl) ?_
  refine lv_iload_n hx hb dX1_offset_1 rfl (lv_at hl 1 rfl) ?_
  refine xc_V (ci := 1) (q0 := 0) [.int x] ⟨hx, hb, hml, hown, hts⟩ hK hP rfl rfl rfl [] rfl (mX1_is l dC dI dA dB g0 x) (cwV 1 hts (lw_V q233 q235 qs8 q14 q236) rfl rfl rfl (by decide +kernel) ⟨Nat.le_of_ble_eq_true rfl, Nat.le_of_ble_eq_true rfl⟩) rfl hl.1 rfl (Nat.le_of_ble_eq_true rfl) dX1_offset_2 ⟨Nat.le_of_ble_eq_true rfl, Nat.le_of_ble_eq_true rfl⟩ (fun r_2 h_2 => ?_)
  rcases h_2 with ⟨i, hi, rfl, rfl⟩ | ⟨hbad_x, rfl⟩
  · refine xn_if_eq (tgt := 28) hx hb dX1_offset_5 (by decide) (by omega) (fun c_5 => absurd c_5 (by omega)) (fun c_5 => ?_)
    refine lv_aload_n hx hb dX1_offset_8 rfl (lv_at hl 0 rfl) ?_
    refine lv_iload_n hx hb dX1_offset_9 rfl (lv_at hl 2 rfl) ?_
    refine xc_V (ci := 1) (q0 := 0) [.int y] ⟨hx, hb, hml, hown, hts⟩ hK hP rfl rfl rfl [] rfl (mX1_is l dC dI dA dB g0 y) (cwV 1 hts (lw_V q233 q235 qs8 q14 q236) rfl rfl rfl (by decide +kernel) ⟨Nat.le_of_ble_eq_true rfl, Nat.le_of_ble_eq_true rfl⟩) rfl hl.1 rfl (Nat.le_of_ble_eq_true rfl) dX1_offset_10 ⟨Nat.le_of_ble_eq_true rfl, Nat.le_of_ble_eq_true rfl⟩ (fun r_10 h_10 => ?_)
    rcases h_10 with ⟨j, hj, rfl, rfl⟩ | ⟨hbad_y, rfl⟩
    · refine xn_if_eq (tgt := 28) hx hb dX1_offset_13 (by decide) (by omega) (fun c_13 => absurd c_13 (by omega)) (fun c_13 => ?_)
      refine lv_iload_n hx hb dX1_offset_16 rfl (lv_at hl 1 rfl) ?_
      refine lv_iload_n hx hb dX1_offset_17 rfl (lv_at hl 2 rfl) ?_
      refine xn_eq (tgt := 28) hx hb dX1_offset_18 (by decide) (by omega) (by omega) (fun c_18 => ?_) (fun c_18 => ?_)
      · refine lv_sipush (v := (-1000)) hx hb dX1_offset_28 rfl ?_
        first
        | exact K _ _ _ (pxP.good hi hj c_18 ⟨fun _ => rfl, fun h => absurd h (by omega)⟩) rfl dX1_offset_31
        | exact K _ _ _ (pxP.bad (badP_3 (by rw [c_18])) rfl) rfl dX1_offset_31
      · refine lv_aload_n hx hb dX1_offset_21 rfl (lv_at hl 0 rfl) ?_
        refine x1_get hx hb hts hown hK hP 0 rfl 0 (by decide) (hts _ q194) rfl (v := .int (nI n)) rfl dX1_offset_22 ?_
        refine xn_if_ne (tgt := 32) hx hb dX1_offset_25 (by decide) (by omega) (fun c_25 => ?_) (fun c_25 => ?_)
        · refine lv_aload_n hx hb dX1_offset_32 rfl (lv_at hl 0 rfl) ?_
          refine x1_get hx hb hts hown hK hP 0 rfl 1 (by decide) (hts _ q195) rfl (v := .ref b1) rfl dX1_offset_33 ?_
          refine lv_iload_n hx hb dX1_offset_36 rfl (lv_at hl 2 rfl) ?_
          refine xa_iald hx hb hK hP 1 0 rfl rfl (k := j) (by omega) (by decide) dX1_offset_37 ?_
          refine lv_aload_n hx hb dX1_offset_38 rfl (lv_at hl 0 rfl) ?_
          refine x1_get hx hb hts hown hK hP 0 rfl 1 (by decide) (hts _ q195) rfl (v := .ref b1) rfl dX1_offset_39 ?_
          refine lv_iload_n hx hb dX1_offset_42 rfl (lv_at hl 1 rfl) ?_
          refine xa_iald hx hb hK hP 1 0 rfl rfl (k := i) (by omega) (by decide) dX1_offset_43 ?_
          refine lv_isub hx hb dX1_offset_44 ?_
          refine lv_istore_n (lv' := [(3, .int ((a j) - (a i))), (0, .ref g0), (1, .int (nI i)), (2, .int (nI j))]) hx hb dX1_offset_45 rfl hl (by decide) rfl (fun ls hl => ?_)
          refine lv_iconst (v := nI 1) hx hb dX1_offset_46 rfl ?_
          refine lv_istore (lv' := [(4, .int (nI 1)), (3, .int ((a j) - (a i))), (0, .ref g0), (1, .int (nI i)), (2, .int (nI j))]) hx hb dX1_offset_47 hl (by decide) rfl (fun ls hl => ?_)
          refine lv_iconst (v := nI 0) hx hb dX1_offset_49 rfl ?_
          refine lv_istore (lv' := [(5, .int (nI 0)), (4, .int (nI 1)), (3, .int ((a j) - (a i))), (0, .ref g0), (1, .int (nI i)), (2, .int (nI j))]) hx hb dX1_offset_50 hl (by decide) rfl (fun ls hl => ?_)
          have loop : ∀ (f9 i9 fl : Nat), n + 1 ≤ i9 + f9 → i9 ≤ n → ((fl = 1 ∧ ∀ t, t < i9 → a (4 * t + j) = a (4 * t + i) + (a j - a i)) ∨ (fl = 0 ∧ ¬ ∀ t, t < i9 → a (4 * t + j) = a (4 * t + i) + (a j - a i))) → ∀ ls : Array Slot, lv_has ls 6 [(5, .int (nI i9)), (4, .int (nI fl)), (3, .int (a j - a i)), (0, .ref g0), (1, .int (nI i)), (2, .int (nI j))] → W p l e ({ frames := 1, cells := 0, slots := 0, locals := 23 } : Room) s m args below meth c H locs 0 0 Q (F0 m 52 ls []) := by
            intro f9
            induction f9 with
            | zero =>
              intro i9 fl h31 h32
              exact absurd h31 (by omega)
            | succ f9 ih9 =>
              intro i9 fl h31 h32 h33 ls hl
              have hfl : fl ≤ 1 := by omega
              refine lv_iload hx hb dX1_offset_52 (lv_at hl 0 rfl) ?_
              refine lv_aload_n hx hb dX1_offset_54 rfl (lv_at hl 3 rfl) ?_
              refine x1_get hx hb hts hown hK hP 0 rfl 0 (by decide) (hts _ q194) rfl (v := .int (nI n)) rfl dX1_offset_55 ?_
              refine xn_ge (tgt := 106) hx hb dX1_offset_58 (by decide) (by omega) (by omega) (fun c_58 => ?_) (fun c_58 => ?_)
              · refine lv_iload hx hb dX1_offset_106 (lv_at hl 1 rfl) ?_
                refine xn_if_eq (tgt := 115) hx hb dX1_offset_108 (by decide) (by omega) (fun c_108 => ?_) (fun c_108 => ?_)
                · refine lv_sipush (v := (-1000)) hx hb dX1_offset_115 rfl ?_
                  exact K _ _ _ (pxP.good hi hj c_18 ⟨fun h => absurd h (by omega), fun _ => Or.inr ⟨fun h => (h33.resolve_left (fun h => absurd c_108 (by omega))).2 (fun t ht => h t (by omega)), rfl⟩⟩) rfl dX1_offset_118
                · refine lv_iload_n hx hb dX1_offset_111 rfl (lv_at hl 2 rfl) ?_
                  refine lv_goto (tgt := 118) hx hb dX1_offset_112 (by decide) ?_
                  exact K _ _ _ (pxP.good hi hj c_18 ⟨fun h => absurd h (by omega), fun _ => Or.inl ⟨fun t ht => (h33.resolve_right (fun h => absurd c_108 (by omega))).2 t (by omega), rfl⟩⟩) rfl dX1_offset_118
              · refine lv_iload hx hb dX1_offset_61 (lv_at hl 1 rfl) ?_
                refine xn_if_eq (tgt := 97) hx hb dX1_offset_63 (by decide) (by omega) (fun c_63 => ?_) (fun c_63 => ?_)
                · refine lv_iconst (v := nI 0) hx hb dX1_offset_97 rfl ?_
                  refine lv_istore (lv' := [(4, .int (nI 0)), (5, .int (nI i9)), (3, .int (a j - a i)), (0, .ref g0), (1, .int (nI i)), (2, .int (nI j))]) hx hb dX1_offset_98 hl (by decide) rfl (fun ls hl => ?_)
                  refine lv_iinc (v := nI (i9 + 1)) (lv' := [(5, .int (nI (i9 + 1))), (4, .int (nI 0)), (3, .int (a j - a i)), (0, .ref g0), (1, .int (nI i)), (2, .int (nI j))]) hx hb dX1_offset_100 hl (k := 1) rfl (nI_add _ 1) (by decide) rfl (fun ls hl => ?_)
                  refine lv_goto (tgt := 52) hx hb dX1_offset_103 (by decide) ?_
                  refine ih9 (i9 + 1) 0 (by omega) (by omega) (Or.inr ⟨rfl, fun hq9 => ?_⟩) ls (lv_sub hl [0, 1, 2, 3, 4, 5] rfl)
                  first
                  | exact (h33.resolve_left (fun h => absurd c_63 (by omega))).2 (fun t ht => hq9 t (by omega))
                  | (have e9 := hq9 i9 (by omega); exact c_90 e9)
                · refine lv_aload_n hx hb dX1_offset_66 rfl (lv_at hl 3 rfl) ?_
                  refine x1_get hx hb hts hown hK hP 0 rfl 1 (by decide) (hts _ q195) rfl (v := .ref b1) rfl dX1_offset_67 ?_
                  refine lv_iconst (v := nI 4) hx hb dX1_offset_70 rfl ?_
                  refine lv_iload hx hb dX1_offset_71 (lv_at hl 0 rfl) ?_
                  refine xn_mul hx hb dX1_offset_73 ?_
                  refine lv_iload_n hx hb dX1_offset_74 rfl (lv_at hl 5 rfl) ?_
                  refine xn_add hx hb dX1_offset_75 ?_
                  refine xa_iald hx hb hK hP 1 0 rfl rfl (k := 4 * i9 + j) (by omega) (by decide) dX1_offset_76 ?_
                  refine lv_aload_n hx hb dX1_offset_77 rfl (lv_at hl 3 rfl) ?_
                  refine x1_get hx hb hts hown hK hP 0 rfl 1 (by decide) (hts _ q195) rfl (v := .ref b1) rfl dX1_offset_78 ?_
                  refine lv_iconst (v := nI 4) hx hb dX1_offset_81 rfl ?_
                  refine lv_iload hx hb dX1_offset_82 (lv_at hl 0 rfl) ?_
                  refine xn_mul hx hb dX1_offset_84 ?_
                  refine lv_iload_n hx hb dX1_offset_85 rfl (lv_at hl 4 rfl) ?_
                  refine xn_add hx hb dX1_offset_86 ?_
                  refine xa_iald hx hb hK hP 1 0 rfl rfl (k := 4 * i9 + i) (by omega) (by decide) dX1_offset_87 ?_
                  refine lv_iload_n hx hb dX1_offset_88 rfl (lv_at hl 2 rfl) ?_
                  refine lv_iadd hx hb dX1_offset_89 ?_
                  refine lv_icmp_ne (tgt := 97) hx hb dX1_offset_90 (by decide) (fun c_90 => ?_) (fun c_90 => ?_)
                  · refine lv_iconst (v := nI 0) hx hb dX1_offset_97 rfl ?_
                    refine lv_istore (lv' := [(4, .int (nI 0)), (5, .int (nI i9)), (3, .int (a j - a i)), (0, .ref g0), (1, .int (nI i)), (2, .int (nI j))]) hx hb dX1_offset_98 hl (by decide) rfl (fun ls hl => ?_)
                    refine lv_iinc (v := nI (i9 + 1)) (lv' := [(5, .int (nI (i9 + 1))), (4, .int (nI 0)), (3, .int (a j - a i)), (0, .ref g0), (1, .int (nI i)), (2, .int (nI j))]) hx hb dX1_offset_100 hl (k := 1) rfl (nI_add _ 1) (by decide) rfl (fun ls hl => ?_)
                    refine lv_goto (tgt := 52) hx hb dX1_offset_103 (by decide) ?_
                    refine ih9 (i9 + 1) 0 (by omega) (by omega) (Or.inr ⟨rfl, fun hq9 => ?_⟩) ls (lv_sub hl [0, 1, 2, 3, 4, 5] rfl)
                    first
                    | exact (h33.resolve_left (fun h => absurd c_63 (by omega))).2 (fun t ht => hq9 t (by omega))
                    | (have e9 := hq9 i9 (by omega); exact c_90 e9)
                  · refine lv_iconst (v := nI 1) hx hb dX1_offset_93 rfl ?_
                    refine lv_goto (tgt := 98) hx hb dX1_offset_94 (by decide) ?_
                    refine lv_istore (lv' := [(4, .int (nI 1)), (5, .int (nI i9)), (3, .int (a j - a i)), (0, .ref g0), (1, .int (nI i)), (2, .int (nI j))]) hx hb dX1_offset_98 hl (by decide) rfl (fun ls hl => ?_)
                    refine lv_iinc (v := nI (i9 + 1)) (lv' := [(5, .int (nI (i9 + 1))), (4, .int (nI 1)), (3, .int (a j - a i)), (0, .ref g0), (1, .int (nI i)), (2, .int (nI j))]) hx hb dX1_offset_100 hl (k := 1) rfl (nI_add _ 1) (by decide) rfl (fun ls hl => ?_)
                    refine lv_goto (tgt := 52) hx hb dX1_offset_103 (by decide) ?_
                    refine ih9 (i9 + 1) 1 (by omega) (by omega) (Or.inl ⟨rfl, fun t ht => ?_⟩) ls (lv_sub hl [0, 1, 2, 3, 4, 5] rfl)
                    rcases Nat.lt_or_ge t i9 with q | q
                    · exact (h33.resolve_right (fun h => absurd c_63 (by omega))).2 t q
                    · rw [show t = i9 by omega]; exact c_90
          exact loop (n + 1) 0 1 (by omega) (by omega) (Or.inl ⟨rfl, fun t ht => absurd ht (by omega)⟩) ls (lv_sub hl [0, 1, 2, 3, 4, 5] rfl)
        · refine lv_sipush (v := (-1000)) hx hb dX1_offset_28 rfl ?_
          first
          | exact K _ _ _ (pxP.good hi hj c_18 ⟨fun _ => rfl, fun h => absurd h (by omega)⟩) rfl dX1_offset_31
          | exact K _ _ _ (pxP.bad (badP_3 (by rw [c_18])) rfl) rfl dX1_offset_31
    · refine xn_if_eq (tgt := 28) hx hb dX1_offset_13 (by decide) (by omega) (fun c_13 => ?_) (fun c_13 => absurd c_13 (by omega))
      refine lv_sipush (v := (-1000)) hx hb dX1_offset_28 rfl ?_
      exact K _ _ _ (pxP.bad (badP_2 hbad_y) rfl) rfl dX1_offset_31
  · refine xn_if_eq (tgt := 28) hx hb dX1_offset_5 (by decide) (by omega) (fun c_5 => ?_) (fun c_5 => absurd c_5 (by omega))
    refine lv_sipush (v := (-1000)) hx hb dX1_offset_28 rfl ?_
    exact K _ _ _ (pxP.bad (badP_1 hbad_x) rfl) rfl dX1_offset_31
set_option maxHeartbeats 4000000 in
set_option maxRecDepth 100000 in
theorem mX1_sums (l : Launch) (dC : Nat → ClassId) (dI : Nat → Nat → Nat) (dA dB : ClassId) (g0 b1 b2 : Nat) (p0 q0 r0 : Int32) (n : Nat) (a : Nat → Int32) (x y zz : Int32) (hn : n ≤ 100) : Met l yX1_sums (ws_ yX1_sums cX1_sums 6 (some .boolean)) ({ frames := 1, cells := 0, slots := 0, locals := 23 } : Room) (va_Pc [.ref g0, .int x, .int y, .int zz] (xPreR (dC, dI) vwCl (xT dA dB) [(g0, oM b1 b2 (nI n) p0 q0 r0), (b1, .inl (dA, 400, .inl a))])) (vp_Si (fun r => px4 x (r = nI 0) (fun j => px4 y (r = nI 0) (fun j2 => px4 zz (r = nI 0) (fun j3 => (r = nI 1 ∧ ∀ t, t < n → a (4 * t + j) + a (4 * t + j2) = a (4 * t + j3)) ∨ (r = nI 0 ∧ ¬ ∀ t, t < n → a (4 * t + j) + a (4 * t + j2) = a (4 * t + j3))))))) 0 0 (fun _ => False) := by
  refine xm_R (by decide) (Nat.le_of_ble_eq_true rfl) ?_
  intro p e s m args below meth c hx hb hml hown hts hK H locs hP Q K ls hl
  have hown : s.vm.findClass RX1 = some m.cls := hown
  have hl : lv_has ls 6 [(0, .ref g0), (1, .int x), (2, .int y), (3, .int zz)] := hl
  refine lv_aload_n hx hb dX1_sums_0 rfl (lv_at hl 0 rfl) ?_
  refine lv_iload_n hx hb dX1_sums_1 rfl (lv_at hl 1 rfl) ?_
  refine xc_V (ci := 1) (q0 := 0) [.int x] ⟨hx, hb, hml, hown, hts⟩ hK hP rfl rfl rfl [] rfl (mX1_is l dC dI dA dB g0 x) (cwV 1 hts (lw_V q233 q235 qs8 q14 q236) rfl rfl rfl (by decide +kernel) ⟨Nat.le_of_ble_eq_true rfl, Nat.le_of_ble_eq_true rfl⟩) rfl hl.1 rfl (Nat.le_of_ble_eq_true rfl) dX1_sums_2 ⟨Nat.le_of_ble_eq_true rfl, Nat.le_of_ble_eq_true rfl⟩ (fun r_2 h_2 => ?_)
  rcases h_2 with ⟨j, hj, rfl, rfl⟩ | ⟨hbad_x, rfl⟩
  · refine xn_if_eq (tgt := 28) hx hb dX1_sums_5 (by decide) (by omega) (fun c_5 => absurd c_5 (by omega)) (fun c_5 => ?_)
    refine lv_aload_n hx hb dX1_sums_8 rfl (lv_at hl 0 rfl) ?_
    refine lv_iload_n hx hb dX1_sums_9 rfl (lv_at hl 2 rfl) ?_
    refine xc_V (ci := 1) (q0 := 0) [.int y] ⟨hx, hb, hml, hown, hts⟩ hK hP rfl rfl rfl [] rfl (mX1_is l dC dI dA dB g0 y) (cwV 1 hts (lw_V q233 q235 qs8 q14 q236) rfl rfl rfl (by decide +kernel) ⟨Nat.le_of_ble_eq_true rfl, Nat.le_of_ble_eq_true rfl⟩) rfl hl.1 rfl (Nat.le_of_ble_eq_true rfl) dX1_sums_10 ⟨Nat.le_of_ble_eq_true rfl, Nat.le_of_ble_eq_true rfl⟩ (fun r_10 h_10 => ?_)
    rcases h_10 with ⟨j2, hj2, rfl, rfl⟩ | ⟨hbad_y, rfl⟩
    · refine xn_if_eq (tgt := 28) hx hb dX1_sums_13 (by decide) (by omega) (fun c_13 => absurd c_13 (by omega)) (fun c_13 => ?_)
      refine lv_aload_n hx hb dX1_sums_16 rfl (lv_at hl 0 rfl) ?_
      refine lv_iload_n hx hb dX1_sums_17 rfl (lv_at hl 3 rfl) ?_
      refine xc_V (ci := 1) (q0 := 0) [.int zz] ⟨hx, hb, hml, hown, hts⟩ hK hP rfl rfl rfl [] rfl (mX1_is l dC dI dA dB g0 zz) (cwV 1 hts (lw_V q233 q235 qs8 q14 q236) rfl rfl rfl (by decide +kernel) ⟨Nat.le_of_ble_eq_true rfl, Nat.le_of_ble_eq_true rfl⟩) rfl hl.1 rfl (Nat.le_of_ble_eq_true rfl) dX1_sums_18 ⟨Nat.le_of_ble_eq_true rfl, Nat.le_of_ble_eq_true rfl⟩ (fun r_18 h_18 => ?_)
      rcases h_18 with ⟨j3, hj3, rfl, rfl⟩ | ⟨hbad_zz, rfl⟩
      · refine xn_if_eq (tgt := 28) hx hb dX1_sums_21 (by decide) (by omega) (fun c_21 => absurd c_21 (by omega)) (fun c_21 => ?_)
        refine lv_iconst (v := nI 1) hx hb dX1_sums_24 rfl ?_
        refine lv_goto (tgt := 29) hx hb dX1_sums_25 (by decide) ?_
        refine lv_istore (lv' := [(4, .int (nI 1)), (0, .ref g0), (1, .int (nI j)), (2, .int (nI j2)), (3, .int (nI j3))]) hx hb dX1_sums_29 hl (by decide) rfl (fun ls hl => ?_)
        refine lv_iconst (v := nI 0) hx hb dX1_sums_31 rfl ?_
        refine lv_istore (lv' := [(5, .int (nI 0)), (4, .int (nI 1)), (0, .ref g0), (1, .int (nI j)), (2, .int (nI j2)), (3, .int (nI j3))]) hx hb dX1_sums_32 hl (by decide) rfl (fun ls hl => ?_)
        have loop : ∀ (f9 i9 fl : Nat), n + 1 ≤ i9 + f9 → i9 ≤ n → ((fl = 1 ∧ ∀ t, t < i9 → a (4 * t + j) + a (4 * t + j2) = a (4 * t + j3)) ∨ (fl = 0 ∧ ¬ ∀ t, t < i9 → a (4 * t + j) + a (4 * t + j2) = a (4 * t + j3))) → ∀ ls : Array Slot, lv_has ls 6 [(5, .int (nI i9)), (4, .int (nI fl)), (0, .ref g0), (1, .int (nI j)), (2, .int (nI j2)), (3, .int (nI j3))] → W p l e ({ frames := 1, cells := 0, slots := 0, locals := 23 } : Room) s m args below meth c H locs 0 0 Q (F0 m 34 ls []) := by
          intro f9
          induction f9 with
          | zero =>
            intro i9 fl h31 h32
            exact absurd h31 (by omega)
          | succ f9 ih9 =>
            intro i9 fl h31 h32 h33 ls hl
            have hfl : fl ≤ 1 := by omega
            refine lv_iload hx hb dX1_sums_34 (lv_at hl 0 rfl) ?_
            refine lv_aload_n hx hb dX1_sums_36 rfl (lv_at hl 2 rfl) ?_
            refine x1_get hx hb hts hown hK hP 0 rfl 0 (by decide) (hts _ q194) rfl (v := .int (nI n)) rfl dX1_sums_37 ?_
            refine xn_ge (tgt := 98) hx hb dX1_sums_40 (by decide) (by omega) (by omega) (fun c_40 => ?_) (fun c_40 => ?_)
            · refine lv_iload hx hb dX1_sums_98 (lv_at hl 1 rfl) ?_
              refine K _ _ _ (px4.good hj (px4.good hj2 (px4.good hj3 ?_))) ?_ dX1_sums_100
              · rcases h33 with ⟨h34, h35⟩ | ⟨h34, h35⟩
                · exact Or.inl ⟨by rw [h34], fun t ht => h35 t (by omega)⟩
                · exact Or.inr ⟨by rw [h34], fun h => h35 (fun t ht => h t (by omega))⟩
              · rcases h33 with ⟨h34, -⟩ | ⟨h34, -⟩ <;> rw [h34] <;> rfl
            · refine lv_iload hx hb dX1_sums_43 (lv_at hl 1 rfl) ?_
              refine xn_if_eq (tgt := 98) hx hb dX1_sums_45 (by decide) (by omega) (fun c_45 => ?_) (fun c_45 => ?_)
              · refine lv_iload hx hb dX1_sums_98 (lv_at hl 1 rfl) ?_
                refine K _ _ _ (px4.good hj (px4.good hj2 (px4.good hj3 ?_))) ?_ dX1_sums_100
                · rcases h33 with ⟨h34, h35⟩ | ⟨h34, h35⟩
                  · exact Or.inl ⟨by rw [h34], fun t ht => h35 t (by omega)⟩
                  · exact Or.inr ⟨by rw [h34], fun h => h35 (fun t ht => h t (by omega))⟩
                · rcases h33 with ⟨h34, -⟩ | ⟨h34, -⟩ <;> rw [h34] <;> rfl
              · refine lv_aload_n hx hb dX1_sums_48 rfl (lv_at hl 2 rfl) ?_
                refine x1_get hx hb hts hown hK hP 0 rfl 1 (by decide) (hts _ q195) rfl (v := .ref b1) rfl dX1_sums_49 ?_
                refine lv_iconst (v := nI 4) hx hb dX1_sums_52 rfl ?_
                refine lv_iload hx hb dX1_sums_53 (lv_at hl 0 rfl) ?_
                refine xn_mul hx hb dX1_sums_55 ?_
                refine lv_iload_n hx hb dX1_sums_56 rfl (lv_at hl 3 rfl) ?_
                refine xn_add hx hb dX1_sums_57 ?_
                refine xa_iald hx hb hK hP 1 0 rfl rfl (k := 4 * i9 + j) (by omega) (by decide) dX1_sums_58 ?_
                refine lv_aload_n hx hb dX1_sums_59 rfl (lv_at hl 2 rfl) ?_
                refine x1_get hx hb hts hown hK hP 0 rfl 1 (by decide) (hts _ q195) rfl (v := .ref b1) rfl dX1_sums_60 ?_
                refine lv_iconst (v := nI 4) hx hb dX1_sums_63 rfl ?_
                refine lv_iload hx hb dX1_sums_64 (lv_at hl 0 rfl) ?_
                refine xn_mul hx hb dX1_sums_66 ?_
                refine lv_iload_n hx hb dX1_sums_67 rfl (lv_at hl 4 rfl) ?_
                refine xn_add hx hb dX1_sums_68 ?_
                refine xa_iald hx hb hK hP 1 0 rfl rfl (k := 4 * i9 + j2) (by omega) (by decide) dX1_sums_69 ?_
                refine lv_iadd hx hb dX1_sums_70 ?_
                refine lv_aload_n hx hb dX1_sums_71 rfl (lv_at hl 2 rfl) ?_
                refine x1_get hx hb hts hown hK hP 0 rfl 1 (by decide) (hts _ q195) rfl (v := .ref b1) rfl dX1_sums_72 ?_
                refine lv_iconst (v := nI 4) hx hb dX1_sums_75 rfl ?_
                refine lv_iload hx hb dX1_sums_76 (lv_at hl 0 rfl) ?_
                refine xn_mul hx hb dX1_sums_78 ?_
                refine lv_iload_n hx hb dX1_sums_79 rfl (lv_at hl 5 rfl) ?_
                refine xn_add hx hb dX1_sums_80 ?_
                refine xa_iald hx hb hK hP 1 0 rfl rfl (k := 4 * i9 + j3) (by omega) (by decide) dX1_sums_81 ?_
                refine lv_icmp_ne (tgt := 89) hx hb dX1_sums_82 (by decide) (fun c_82 => ?_) (fun c_82 => ?_)
                · refine lv_iconst (v := nI 0) hx hb dX1_sums_89 rfl ?_
                  refine lv_istore (lv' := [(4, .int (nI 0)), (5, .int (nI i9)), (0, .ref g0), (1, .int (nI j)), (2, .int (nI j2)), (3, .int (nI j3))]) hx hb dX1_sums_90 hl (by decide) rfl (fun ls hl => ?_)
                  refine lv_iinc (v := nI (i9 + 1)) (lv' := [(5, .int (nI (i9 + 1))), (4, .int (nI 0)), (0, .ref g0), (1, .int (nI j)), (2, .int (nI j2)), (3, .int (nI j3))]) hx hb dX1_sums_92 hl (k := 1) rfl (nI_add _ 1) (by decide) rfl (fun ls hl => ?_)
                  refine lv_goto (tgt := 34) hx hb dX1_sums_95 (by decide) ?_
                  exact ih9 (i9 + 1) 0 (by omega) (by omega) (Or.inr ⟨rfl, fun hq9 => c_82 (hq9 i9 (by omega))⟩) ls (lv_sub hl [0, 1, 2, 3, 4, 5] rfl)
                · refine lv_iconst (v := nI 1) hx hb dX1_sums_85 rfl ?_
                  refine lv_goto (tgt := 90) hx hb dX1_sums_86 (by decide) ?_
                  refine lv_istore (lv' := [(4, .int (nI 1)), (5, .int (nI i9)), (0, .ref g0), (1, .int (nI j)), (2, .int (nI j2)), (3, .int (nI j3))]) hx hb dX1_sums_90 hl (by decide) rfl (fun ls hl => ?_)
                  refine lv_iinc (v := nI (i9 + 1)) (lv' := [(5, .int (nI (i9 + 1))), (4, .int (nI 1)), (0, .ref g0), (1, .int (nI j)), (2, .int (nI j2)), (3, .int (nI j3))]) hx hb dX1_sums_92 hl (k := 1) rfl (nI_add _ 1) (by decide) rfl (fun ls hl => ?_)
                  refine lv_goto (tgt := 34) hx hb dX1_sums_95 (by decide) ?_
                  refine ih9 (i9 + 1) 1 (by omega) (by omega) (Or.inl ⟨rfl, fun t ht => ?_⟩) ls (lv_sub hl [0, 1, 2, 3, 4, 5] rfl)
                  rcases Nat.lt_or_ge t i9 with q | q
                  · exact (h33.resolve_right (fun h => absurd c_45 (by omega))).2 t q
                  · rw [show t = i9 by omega]; exact c_82
        exact loop (n + 1) 0 1 (by omega) (by omega) (Or.inl ⟨rfl, fun t ht => absurd ht (by omega)⟩) ls (lv_sub hl [0, 1, 2, 3, 4, 5] rfl)
      · refine xn_if_eq (tgt := 28) hx hb dX1_sums_21 (by decide) (by omega) (fun c_21 => ?_) (fun c_21 => absurd c_21 (by omega))
        refine lv_iconst (v := nI 0) hx hb dX1_sums_28 rfl ?_
        refine lv_istore (lv' := [(4, .int (nI 0)), (0, .ref g0), (1, .int (nI j)), (2, .int (nI j2)), (3, .int zz)]) hx hb dX1_sums_29 hl (by decide) rfl (fun ls hl => ?_)
        refine lv_iconst (v := nI 0) hx hb dX1_sums_31 rfl ?_
        refine lv_istore (lv' := [(5, .int (nI 0)), (4, .int (nI 0)), (0, .ref g0), (1, .int (nI j)), (2, .int (nI j2)), (3, .int zz)]) hx hb dX1_sums_32 hl (by decide) rfl (fun ls hl => ?_)
        refine lv_iload hx hb dX1_sums_34 (lv_at hl 0 rfl) ?_
        refine lv_aload_n hx hb dX1_sums_36 rfl (lv_at hl 2 rfl) ?_
        refine x1_get hx hb hts hown hK hP 0 rfl 0 (by decide) (hts _ q194) rfl (v := .int (nI n)) rfl dX1_sums_37 ?_
        refine xn_ge (tgt := 98) hx hb dX1_sums_40 (by decide) (by omega) (by omega) (fun c_40 => ?_) (fun c_40 => ?_)
        · refine lv_iload hx hb dX1_sums_98 (lv_at hl 1 rfl) ?_
          exact K _ _ _ (px4.good hj (px4.good hj2 (px4.bad hbad_zz rfl))) rfl dX1_sums_100
        · refine lv_iload hx hb dX1_sums_43 (lv_at hl 1 rfl) ?_
          refine xn_if_eq (tgt := 98) hx hb dX1_sums_45 (by decide) (by omega) (fun c_45 => ?_) (fun c_45 => absurd c_45 (by omega))
          refine lv_iload hx hb dX1_sums_98 (lv_at hl 1 rfl) ?_
          exact K _ _ _ (px4.good hj (px4.good hj2 (px4.bad hbad_zz rfl))) rfl dX1_sums_100
    · refine xn_if_eq (tgt := 28) hx hb dX1_sums_13 (by decide) (by omega) (fun c_13 => ?_) (fun c_13 => absurd c_13 (by omega))
      refine lv_iconst (v := nI 0) hx hb dX1_sums_28 rfl ?_
      refine lv_istore (lv' := [(4, .int (nI 0)), (0, .ref g0), (1, .int (nI j)), (2, .int y), (3, .int zz)]) hx hb dX1_sums_29 hl (by decide) rfl (fun ls hl => ?_)
      refine lv_iconst (v := nI 0) hx hb dX1_sums_31 rfl ?_
      refine lv_istore (lv' := [(5, .int (nI 0)), (4, .int (nI 0)), (0, .ref g0), (1, .int (nI j)), (2, .int y), (3, .int zz)]) hx hb dX1_sums_32 hl (by decide) rfl (fun ls hl => ?_)
      refine lv_iload hx hb dX1_sums_34 (lv_at hl 0 rfl) ?_
      refine lv_aload_n hx hb dX1_sums_36 rfl (lv_at hl 2 rfl) ?_
      refine x1_get hx hb hts hown hK hP 0 rfl 0 (by decide) (hts _ q194) rfl (v := .int (nI n)) rfl dX1_sums_37 ?_
      refine xn_ge (tgt := 98) hx hb dX1_sums_40 (by decide) (by omega) (by omega) (fun c_40 => ?_) (fun c_40 => ?_)
      · refine lv_iload hx hb dX1_sums_98 (lv_at hl 1 rfl) ?_
        exact K _ _ _ (px4.good hj (px4.bad hbad_y rfl)) rfl dX1_sums_100
      · refine lv_iload hx hb dX1_sums_43 (lv_at hl 1 rfl) ?_
        refine xn_if_eq (tgt := 98) hx hb dX1_sums_45 (by decide) (by omega) (fun c_45 => ?_) (fun c_45 => absurd c_45 (by omega))
        refine lv_iload hx hb dX1_sums_98 (lv_at hl 1 rfl) ?_
        exact K _ _ _ (px4.good hj (px4.bad hbad_y rfl)) rfl dX1_sums_100
  · refine xn_if_eq (tgt := 28) hx hb dX1_sums_5 (by decide) (by omega) (fun c_5 => ?_) (fun c_5 => absurd c_5 (by omega))
    refine lv_iconst (v := nI 0) hx hb dX1_sums_28 rfl ?_
    refine lv_istore (lv' := [(4, .int (nI 0)), (0, .ref g0), (1, .int x), (2, .int y), (3, .int zz)]) hx hb dX1_sums_29 hl (by decide) rfl (fun ls hl => ?_)
    refine lv_iconst (v := nI 0) hx hb dX1_sums_31 rfl ?_
    refine lv_istore (lv' := [(5, .int (nI 0)), (4, .int (nI 0)), (0, .ref g0), (1, .int x), (2, .int y), (3, .int zz)]) hx hb dX1_sums_32 hl (by decide) rfl (fun ls hl => ?_)
    refine lv_iload hx hb dX1_sums_34 (lv_at hl 0 rfl) ?_
    refine lv_aload_n hx hb dX1_sums_36 rfl (lv_at hl 2 rfl) ?_
    refine x1_get hx hb hts hown hK hP 0 rfl 0 (by decide) (hts _ q194) rfl (v := .int (nI n)) rfl dX1_sums_37 ?_
    refine xn_ge (tgt := 98) hx hb dX1_sums_40 (by decide) (by omega) (by omega) (fun c_40 => ?_) (fun c_40 => ?_)
    · refine lv_iload hx hb dX1_sums_98 (lv_at hl 1 rfl) ?_
      exact K _ _ _ (px4.bad hbad_x rfl) rfl dX1_sums_100
    · refine lv_iload hx hb dX1_sums_43 (lv_at hl 1 rfl) ?_
      refine xn_if_eq (tgt := 98) hx hb dX1_sums_45 (by decide) (by omega) (fun c_45 => ?_) (fun c_45 => absurd c_45 (by omega))
      refine lv_iload hx hb dX1_sums_98 (lv_at hl 1 rfl) ?_
      exact K _ _ _ (px4.bad hbad_x rfl) rfl dX1_sums_100
set_option maxHeartbeats 4000000 in
set_option maxRecDepth 100000 in
theorem mX1_equals (l : Launch) (dC : Nat → ClassId) (dI : Nat → Nat → Nat) (dA dB : ClassId) (g0 b1 b2 : Nat) (p0 q0 r0 : Int32) (n : Nat) (a : Nat → Int32) (hn : n ≤ 100) : Met l yX1_equals (ws_ yX1_equals cX1_equals 4 (some .int)) ({ frames := 2, cells := 0, slots := 0, locals := 48 } : Room) (va_Pc [.ref g0] (xPreR (dC, dI) vwCl (xT dA dB) [(g0, oM b1 b2 (nI n) p0 q0 r0), (b1, .inl (dA, 400, .inl a))])) (vp_Si (fun r => r = eqall (fun i j => decide (∀ t, t < n → a (4 * t + i) = a (4 * t + j))) 4)) 0 0 (fun _ => False) := by
  refine xm_R (by decide) (Nat.le_of_ble_eq_true rfl) ?_
  intro p e s m args below meth c hx hb hml hown hts hK H locs hP Q K ls hl
  have hown : s.vm.findClass RX1 = some m.cls := hown
  have hl : lv_has ls 4 [(0, .ref g0)] := hl
  refine lv_iconst (v := nI 0) hx hb dX1_equals_0 rfl ?_
  refine lv_istore_n (lv' := [(1, .int (nI 0)), (0, .ref g0)]) hx hb dX1_equals_1 rfl hl (by decide) rfl (fun ls hl => ?_)
  refine lv_iconst (v := nI 0) hx hb dX1_equals_2 rfl ?_
  refine lv_istore_n (lv' := [(2, .int (nI 0)), (1, .int (nI 0)), (0, .ref g0)]) hx hb dX1_equals_3 rfl hl (by decide) rfl (fun ls hl => ?_)
  have loop : ∀ (f i : Nat), 5 ≤ i + f → i ≤ 4 → ∀ ls : Array Slot, lv_has ls 4 [(2, .int (nI i)), (1, .int (eqall (fun i j => decide (∀ t, t < n → a (4 * t + i) = a (4 * t + j))) i)), (0, .ref g0)] → W p l e ({ frames := 2, cells := 0, slots := 0, locals := 48 } : Room) s m args below meth c H locs 0 0 Q (F0 m 4 ls []) := by
    intro f
    induction f with
    | zero =>
      intro i h1 h2
      exact absurd h1 (by omega)
    | succ f ih =>
      intro i h1 h2 ls hl
      refine lv_iload_n hx hb dX1_equals_4 rfl (lv_at hl 0 rfl) ?_
      refine lv_iconst (v := nI 4) hx hb dX1_equals_5 rfl ?_
      refine xn_ge (tgt := 54) hx hb dX1_equals_6 (by decide) (by omega) (by omega) (fun c_6 => ?_) (fun c_6 => ?_)
      · refine lv_iload_n hx hb dX1_equals_54 rfl (lv_at hl 1 rfl) ?_
        exact K _ _ _ (by rw [show i = 4 by omega]) rfl dX1_equals_55
      · refine lv_iload_n hx hb dX1_equals_9 rfl (lv_at hl 0 rfl) ?_
        refine lv_iconst (v := nI 1) hx hb dX1_equals_10 rfl ?_
        refine xn_add hx hb dX1_equals_11 ?_
        refine lv_istore_n (lv' := [(3, .int (nI (i + 1))), (2, .int (nI i)), (1, .int (eqall (fun i j => decide (∀ t, t < n → a (4 * t + i) = a (4 * t + j))) i)), (0, .ref g0)]) hx hb dX1_equals_12 rfl hl (by decide) rfl (fun ls hl => ?_)
        have loop2 : ∀ (f2 t : Nat), 4 ≤ i + t + f2 → i + t ≤ 3 → ∀ ls : Array Slot, lv_has ls 4 [(3, .int (nI (i + 1 + t))), (2, .int (nI i)), (1, .int (eqrow (fun i j => decide (∀ t, t < n → a (4 * t + i) = a (4 * t + j))) i (eqall (fun i j => decide (∀ t, t < n → a (4 * t + i) = a (4 * t + j))) i) t)), (0, .ref g0)] → W p l e ({ frames := 2, cells := 0, slots := 0, locals := 48 } : Room) s m args below meth c H locs 0 0 Q (F0 m 13 ls []) := by
          intro f2
          induction f2 with
          | zero =>
            intro t h3 h4
            exact absurd h3 (by omega)
          | succ f2 ih2 =>
            intro t h3 h4 ls hl
            refine lv_iload_n hx hb dX1_equals_13 rfl (lv_at hl 0 rfl) ?_
            refine lv_iconst (v := nI 4) hx hb dX1_equals_14 rfl ?_
            refine xn_ge (tgt := 48) hx hb dX1_equals_15 (by decide) (by omega) (by omega) (fun c_15 => ?_) (fun c_15 => ?_)
            · have hl : lv_has ls 4 [(3, .int (nI (i + 1 + t))), (2, .int (nI i)), (1, .int (eqall (fun i j => decide (∀ t, t < n → a (4 * t + i) = a (4 * t + j))) (i + 1))), (0, .ref g0)] := by
                rw [show eqall (fun i j => decide (∀ t, t < n → a (4 * t + i) = a (4 * t + j))) (i + 1) = eqrow (fun i j => decide (∀ t, t < n → a (4 * t + i) = a (4 * t + j))) i (eqall (fun i j => decide (∀ t, t < n → a (4 * t + i) = a (4 * t + j))) i) t by rw [show t = 3 - i by omega]; rfl]
                exact lv_sub hl [0, 1, 2, 3] rfl
              refine lv_iinc (v := nI (i + 1)) (lv' := [(2, .int (nI (i + 1))), (3, .int (nI (i + 1 + t))), (1, .int (eqall (fun i j => decide (∀ t, t < n → a (4 * t + i) = a (4 * t + j))) (i + 1))), (0, .ref g0)]) hx hb dX1_equals_48 hl (k := 1) rfl (nI_add _ 1) (by decide) rfl (fun ls hl => ?_)
              refine lv_goto (tgt := 4) hx hb dX1_equals_51 (by decide) ?_
              exact ih (i + 1) (by omega) (by omega) ls (lv_sub hl [0, 2, 3] rfl)
            · refine lv_aload_n hx hb dX1_equals_18 rfl (lv_at hl 3 rfl) ?_
              refine lv_iload_n hx hb dX1_equals_19 rfl (lv_at hl 1 rfl) ?_
              refine lv_iload_n hx hb dX1_equals_20 rfl (lv_at hl 0 rfl) ?_
              refine lv_iconst (v := nI 2) hx hb dX1_equals_21 rfl ?_
              refine xc_V (ci := 1) (q0 := 0) [.int (nI i), .int (nI (i + 1 + t)), .int (nI 2)] ⟨hx, hb, hml, hown, hts⟩ hK hP rfl rfl rfl [0, 1] rfl (mX1_relation l dC dI dA dB g0 b1 b2 p0 q0 r0 n a (nI i) (nI (i + 1 + t)) (nI 2) hn) (cwV 3 hts (lw_V q295 q264 q265 q14 q266) rfl rfl rfl (by decide +kernel) ⟨Nat.le_of_ble_eq_true rfl, Nat.le_of_ble_eq_true rfl⟩) rfl hl.1 rfl (Nat.le_of_ble_eq_true rfl) dX1_equals_22 ⟨Nat.le_of_ble_eq_true rfl, Nat.le_of_ble_eq_true rfl⟩ (fun r_22 h_22 => ?_)
              have h_22 : (r_22 = nI 1 ∧ ∀ t9, t9 < n → a (4 * t9 + i) = a (4 * t9 + (i + 1 + t))) ∨ (r_22 = nI 0 ∧ ¬ ∀ t9, t9 < n → a (4 * t9 + i) = a (4 * t9 + (i + 1 + t))) := (h_22.2 i (i + 1 + t) (by omega) (by omega) (by omega) rfl rfl).2 2 (by omega) rfl
              refine lv_if_eq (tgt := 40) hx hb dX1_equals_25 (by decide) (fun c_25 => ?_) (fun c_25 => ?_)
              · refine lv_iload_n hx hb dX1_equals_40 rfl (lv_at hl 2 rfl) ?_
                refine lv_istore_n (lv' := [(1, .int (eqrow (fun i j => decide (∀ t, t < n → a (4 * t + i) = a (4 * t + j))) i (eqall (fun i j => decide (∀ t, t < n → a (4 * t + i) = a (4 * t + j))) i) t)), (3, .int (nI (i + 1 + t))), (2, .int (nI i)), (0, .ref g0)]) hx hb dX1_equals_41 rfl hl (by decide) rfl (fun ls hl => ?_)
                refine lv_iinc (v := nI (i + 1 + t + 1)) (lv' := [(3, .int (nI (i + 1 + t + 1))), (1, .int (eqrow (fun i j => decide (∀ t, t < n → a (4 * t + i) = a (4 * t + j))) i (eqall (fun i j => decide (∀ t, t < n → a (4 * t + i) = a (4 * t + j))) i) t)), (2, .int (nI i)), (0, .ref g0)]) hx hb dX1_equals_42 hl (k := 1) rfl (nI_add _ 1) (by decide) rfl (fun ls hl => ?_)
                refine lv_goto (tgt := 13) hx hb dX1_equals_45 (by decide) ?_
                refine ih2 (t + 1) (by omega) (by omega) ls ?_
                rw [show eqrow (fun i j => decide (∀ t, t < n → a (4 * t + i) = a (4 * t + j))) i (eqall (fun i j => decide (∀ t, t < n → a (4 * t + i) = a (4 * t + j))) i) (t + 1) = eqrow (fun i j => decide (∀ t, t < n → a (4 * t + i) = a (4 * t + j))) i (eqall (fun i j => decide (∀ t, t < n → a (4 * t + i) = a (4 * t + j))) i) t by
                  show (if decide (∀ t9, t9 < n → a (4 * t9 + i) = a (4 * t9 + (i + 1 + t))) = true then _ else _) = _
                  rcases h_22 with ⟨h23, h24⟩ | ⟨h23, h24⟩
                  · first | exact absurd c_25 (by rw [h23]; decide) | rw [if_pos (decide_eq_true h24)]
                  · first | exact absurd h23 (fun e => c_25 (by rw [e]; rfl)) | rw [if_neg (fun e => h24 (of_decide_eq_true e))]]
                exact lv_sub hl [0, 2, 1, 3] rfl
              · refine lv_iload_n hx hb dX1_equals_28 rfl (lv_at hl 2 rfl) ?_
                refine lv_iconst (v := nI 1) hx hb dX1_equals_29 rfl ?_
                refine lv_iconst (v := nI 4) hx hb dX1_equals_30 rfl ?_
                refine lv_iload_n hx hb dX1_equals_31 rfl (lv_at hl 1 rfl) ?_
                refine xn_mul hx hb dX1_equals_32 ?_
                refine lv_iload_n hx hb dX1_equals_33 rfl (lv_at hl 0 rfl) ?_
                refine xn_add hx hb dX1_equals_34 ?_
                refine lv_ishl hx hb dX1_equals_35 ?_
                refine xw_i (y := bit1 (4 * i + (i + 1 + t))) rfl ?_
                refine lv_ior hx hb dX1_equals_36 ?_
                refine lv_goto (tgt := 41) hx hb dX1_equals_37 (by decide) ?_
                refine lv_istore_n (lv' := [(1, .int ((eqrow (fun i j => decide (∀ t, t < n → a (4 * t + i) = a (4 * t + j))) i (eqall (fun i j => decide (∀ t, t < n → a (4 * t + i) = a (4 * t + j))) i) t) ||| (bit1 (4 * i + (i + 1 + t))))), (3, .int (nI (i + 1 + t))), (2, .int (nI i)), (0, .ref g0)]) hx hb dX1_equals_41 rfl hl (by decide) rfl (fun ls hl => ?_)
                refine lv_iinc (v := nI (i + 1 + t + 1)) (lv' := [(3, .int (nI (i + 1 + t + 1))), (1, .int ((eqrow (fun i j => decide (∀ t, t < n → a (4 * t + i) = a (4 * t + j))) i (eqall (fun i j => decide (∀ t, t < n → a (4 * t + i) = a (4 * t + j))) i) t) ||| (bit1 (4 * i + (i + 1 + t))))), (2, .int (nI i)), (0, .ref g0)]) hx hb dX1_equals_42 hl (k := 1) rfl (nI_add _ 1) (by decide) rfl (fun ls hl => ?_)
                refine lv_goto (tgt := 13) hx hb dX1_equals_45 (by decide) ?_
                refine ih2 (t + 1) (by omega) (by omega) ls ?_
                rw [show eqrow (fun i j => decide (∀ t, t < n → a (4 * t + i) = a (4 * t + j))) i (eqall (fun i j => decide (∀ t, t < n → a (4 * t + i) = a (4 * t + j))) i) (t + 1) = (eqrow (fun i j => decide (∀ t, t < n → a (4 * t + i) = a (4 * t + j))) i (eqall (fun i j => decide (∀ t, t < n → a (4 * t + i) = a (4 * t + j))) i) t) ||| (bit1 (4 * i + (i + 1 + t))) by
                  show (if decide (∀ t9, t9 < n → a (4 * t9 + i) = a (4 * t9 + (i + 1 + t))) = true then _ else _) = _
                  rcases h_22 with ⟨h23, h24⟩ | ⟨h23, h24⟩
                  · first | exact absurd c_25 (by rw [h23]; decide) | rw [if_pos (decide_eq_true h24)]
                  · first | exact absurd h23 (fun e => c_25 (by rw [e]; rfl)) | rw [if_neg (fun e => h24 (of_decide_eq_true e))]]
                exact lv_sub hl [0, 2, 1, 3] rfl
        exact loop2 4 0 (by omega) (by omega) ls (lv_sub hl [0, 1, 2, 3] rfl)
  exact loop 5 0 (by omega) (by omega) ls (lv_sub hl [0, 1, 2] rfl)
end
section
theorem sub_ok {x y : Int32} (hx : okw x) (hy : okw y) : (x - y).toInt = x.toInt - y.toInt := by
  obtain ⟨h1, h2⟩ := hx
  obtain ⟨h3, h4⟩ := hy
  rw [Int32.toInt_sub, Int.bmod_eq_of_le (by omega) (by omega)]
theorem dl_mem {a : Nat → Int32} {j n : Nat} {v : Int32} (h : v ∈ dl a j n) : ∃ t, t < n ∧ a (4 * t + j) = v := by
  induction n with
  | zero => simp [dl] at h
  | succ n ih =>
    unfold dl at h
    split at h
    · obtain ⟨t, ht, e⟩ := ih h
      exact ⟨t, by omega, e⟩
    · split at h
      · rcases List.mem_append.mp h with q | q
        · obtain ⟨t, ht, e⟩ := ih q
          exact ⟨t, by omega, e⟩
        · exact ⟨n, by omega, (List.mem_singleton.mp q).symm⟩
      · obtain ⟨t, ht, e⟩ := ih h
        exact ⟨t, by omega, e⟩
theorem dl_one {a : Nat → Int32} {j n : Nat} (h : ∀ t, t < n → a (4 * t + j) = a j) : (dl a j n).length ≤ 1 ∧ (0 < n → dl a j n = [a j]) := by
  induction n with
  | zero => exact ⟨by simp [dl], fun h => absurd h (by omega)⟩
  | succ n ih =>
    obtain ⟨h1, h2⟩ := ih (fun t ht => h t (by omega))
    have hv := h n (by omega)
    rcases Nat.eq_zero_or_pos n with z | z
    · subst z
      have e : dl a j (0 + 1) = [a j] := by simp [dl]
      rw [e]
      exact ⟨by simp, fun _ => rfl⟩
    · have e : dl a j (n + 1) = [a j] := by
        rw [dl_in (by rw [h2 z, hv]; exact List.mem_singleton.mpr rfl), h2 z]
      rw [e]
      exact ⟨by simp, fun _ => rfl⟩
theorem dl_two {a : Nat → Int32} {j n : Nat} (h : 2 ≤ (dl a j n).length) : ∃ t, t < n ∧ ¬ a (4 * t + j) = a j := by
  apply Classical.byContradiction
  intro q
  have := (dl_one (a := a) (j := j) (n := n) (fun t ht => Classical.byContradiction fun e => q ⟨t, ht, e⟩)).1
  omega
/-- division by a small number of any sign -/
theorem div_32 {x d : Int32} (hd : ¬ d = 0) (h1 : -100000 ≤ x.toInt ∧ x.toInt ≤ 100000) : (x / d).toInt = x.toInt.tdiv d.toInt := by
  rw [Int32.toInt_div]
  have h2 : (x.toInt.tdiv d.toInt).natAbs ≤ x.toInt.natAbs := Int.natAbs_tdiv_le_natAbs _ _
  rw [Int.bmod_eq_of_le (by omega) (by omega)]
theorem rem_32 {x d : Int32} (hd : ¬ d = 0) (hd2 : -200 ≤ d.toInt ∧ d.toInt ≤ 200) (h1 : -100000 ≤ x.toInt ∧ x.toInt ≤ 100000) : (x - x / d * d).toInt = x.toInt.tmod d.toInt := by
  have hz : d.toInt ≠ 0 := fun e => hd (Int32.toInt_inj.mp e)
  have e1 := div_32 hd h1
  have h3 : (x.toInt.tmod d.toInt).natAbs < d.toInt.natAbs := by
    rw [Int.natAbs_tmod]
    exact Nat.mod_lt _ (Int.natAbs_pos.mpr hz)
  have h4 : d.toInt * x.toInt.tdiv d.toInt + x.toInt.tmod d.toInt = x.toInt := Int.mul_tdiv_add_tmod _ _
  have e2 : (x / d * d).toInt = x.toInt - x.toInt.tmod d.toInt := by
    rw [Int32.toInt_mul, e1, show x.toInt.tdiv d.toInt * d.toInt = x.toInt - x.toInt.tmod d.toInt by rw [Int.mul_comm]; omega, Int.bmod_eq_of_le (by omega) (by omega)]
  rw [Int32.toInt_sub, e2, Int.bmod_eq_of_le (by omega) (by omega)]
  omega
theorem mulk {k : Nat} {x : Int32} (hk : k ≤ 200) (hx : -200 ≤ x.toInt ∧ x.toInt ≤ 200) : (nI k * x).toInt = (k : Int) * x.toInt ∧ -100000 ≤ (k : Int) * x.toInt ∧ (k : Int) * x.toInt ≤ 100000 := by
  have h1 : (k : Int) * x.toInt ≤ 200 * 200 := by
    rcases Int.le_total 0 x.toInt with q | q
    · exact Int.mul_le_mul (by omega) hx.2 q (by omega)
    · have : (k : Int) * x.toInt ≤ 0 := Int.mul_nonpos_of_nonneg_of_nonpos (by omega) q
      omega
  have h2 : -(200 * 200) ≤ (k : Int) * x.toInt := by
    rcases Int.le_total 0 x.toInt with q | q
    · have : 0 ≤ (k : Int) * x.toInt := Int.mul_nonneg (by omega) q
      omega
    · have h3 : (k : Int) * (-x.toInt) ≤ 200 * 200 := Int.mul_le_mul (by omega) (by omega) (by omega) (by omega)
      rw [Int.mul_neg] at h3
      omega
  refine ⟨?_, by omega, by omega⟩
  rw [Int32.toInt_mul, nI_toInt (by omega), Int.bmod_eq_of_le (by omega) (by omega)]
theorem fnd_dvd {k : Nat} {rise run : Int32} (hk : k ≤ 200) (hr : -200 ≤ rise.toInt ∧ rise.toInt ≤ 200) (hd : ¬ run = 0) (hd2 : -200 ≤ run.toInt ∧ run.toInt ≤ 200) : (nI k * rise - nI k * rise / run * run = 0) ↔ run.toInt ∣ (k : Int) * rise.toInt := by
  obtain ⟨e1, e2, e3⟩ := mulk hk hr
  rw [← Int32.toInt_inj, rem_32 hd hd2 (by rw [e1]; exact ⟨e2, e3⟩), e1, show (0 : Int32).toInt = 0 from rfl]
  exact (Int.dvd_iff_tmod_eq_zero).symm
theorem fnd_q {k : Nat} {rise run : Int32} (hk : k ≤ 200) (hr : -200 ≤ rise.toInt ∧ rise.toInt ≤ 200) (hd : ¬ run = 0) (h : run.toInt ∣ (k : Int) * rise.toInt) : (nI k * rise / run).toInt * run.toInt = (k : Int) * rise.toInt := by
  obtain ⟨e1, e2, e3⟩ := mulk hk hr
  rw [div_32 hd (by rw [e1]; exact ⟨e2, e3⟩), e1]
  exact Int.tdiv_mul_cancel h
/-- what the search holds, k and all above it gone through -/
def fndI (run rise : Int32) (k : Nat) (P Q : Int32) : Prop :=
  (∀ t : Nat, k < t → t ≤ 200 → ¬ run.toInt ∣ (t : Int) * rise.toInt) ∨ ∃ pn : Nat, k < pn ∧ pn ≤ 200 ∧ P = nI pn ∧ Q.toInt * run.toInt = (pn : Int) * rise.toInt ∧ ∀ t : Nat, k < t → t < pn → ¬ run.toInt ∣ (t : Int) * rise.toInt
theorem fnd_no {run rise P Q : Int32} {k : Nat} (h : fndI run rise (k + 1) P Q) (hc : ¬ run.toInt ∣ ((k + 1 : Nat) : Int) * rise.toInt) : fndI run rise k P Q := by
  rcases h with h | ⟨pn, h1, h2, h3, h4, h5⟩
  · refine Or.inl (fun t ht ht2 hd => ?_)
    rcases Nat.lt_or_ge (k + 1) t with q | q
    · exact h t q ht2 hd
    · rw [show t = k + 1 by omega] at hd
      exact hc hd
  · refine Or.inr ⟨pn, by omega, h2, h3, h4, fun t ht ht2 hd => ?_⟩
    rcases Nat.lt_or_ge (k + 1) t with q | q
    · exact h5 t q ht2 hd
    · rw [show t = k + 1 by omega] at hd
      exact hc hd
theorem fnd_fin {run rise P Q : Int32} (hd : ¬ run = 0) (hd2 : -200 ≤ run.toInt ∧ run.toInt ≤ 200) (h : fndI run rise 0 P Q) : ∃ pn : Nat, 0 < pn ∧ pn ≤ 200 ∧ P = nI pn ∧ Q.toInt * run.toInt = (pn : Int) * rise.toInt ∧ ∀ t : Nat, 0 < t → t < pn → ¬ run.toInt ∣ (t : Int) * rise.toInt := by
  have hz : run.toInt ≠ 0 := fun e => hd (Int32.toInt_inj.mp e)
  rcases h with h | h
  · refine absurd ?_ (h run.toInt.natAbs (by omega) (by omega))
    exact Int.dvd_trans (Int.dvd_natAbs_self) (Int.dvd_mul_right _ _)
  · exact h
theorem fnd_ln {a : Nat → Int32} {i j n o : Nat} {run rise P Q : Int32} {pn : Nat} (ho : o < n) (hz : ∀ z, z < o → a (4 * z + i) = a i) (hne : ¬ a (4 * o + i) = a i) (hr1 : run.toInt = (a (4 * o + i)).toInt - (a i).toInt) (hr2 : rise.toInt = (a (4 * o + j)).toInt - (a j).toInt) (h1 : 0 < pn) (h2 : pn ≤ 200) (h3 : P = nI pn) (h4 : Q.toInt * run.toInt = (pn : Int) * rise.toInt) (h5 : ∀ t : Nat, 0 < t → t < pn → ¬ run.toInt ∣ (t : Int) * rise.toInt) : lnR a i j n o P Q (P * a j - Q * a i) := by
  have e : P.toInt = pn := by rw [h3, nI_toInt (by omega)]
  refine ⟨ho, hz, hne, by omega, by omega, by rw [← hr1, ← hr2, e]; exact h4, fun k hk1 hk2 hd => ?_, rfl⟩
  rw [← hr1, ← hr2] at hd
  obtain ⟨t, rfl⟩ := Int.eq_ofNat_of_zero_le (show 0 ≤ k by omega)
  exact h5 t (by omega) (by omega) hd
set_option maxHeartbeats 4000000 in
set_option maxRecDepth 100000 in
theorem mX1_find (l : Launch) (dC : Nat → ClassId) (dI : Nat → Nat → Nat) (dA dB : ClassId) (sz : Nat) (g0 b1 b2 : Nat) (p0 q0 r0 : Int32) (n : Nat) (a w : Nat → Int32) (x y : Int32) (hn : n ≤ 100) (hok : okA a n) : Met l yX1_find (ws_ yX1_find cX1_find 8 (some .boolean)) ({ frames := 2, cells := 0, slots := 0, locals := 46 } : Room) (va_Pc [.ref g0, .int x, .int y] (xPre (dC, dI) vwCl (xT dA dB) [(g0, oM b1 b2 (nI n) p0 q0 r0), (b1, .inl (dA, 400, .inl a)), (b2, .inl (dA, 4, .inl w))] sz)) (va_Qi (fun r u => pxP x y (r = nI 0) (fun i j => ((dl a i n).length < 2 → r = nI 0) ∧ (2 ≤ (dl a i n).length → ∃ o, lnR a i j n o u.1 u.2.1 u.2.2.1 ∧ ((r = nI 1 ∧ ¬ u.2.1 = 0 ∧ ∀ t, t < n → u.1 * a (4 * t + j) = u.2.1 * a (4 * t + i) + u.2.2.1) ∨ (r = nI 0 ∧ ¬ (¬ u.2.1 = 0 ∧ ∀ t, t < n → u.1 * a (4 * t + j) = u.2.1 * a (4 * t + i) + u.2.2.1)))))) (fun u t => va_P (dC, dI) vwCl ((fun u : Int32 × Int32 × Int32 × (Nat → Int32) => [(g0, oM b1 b2 (nI n) u.1 u.2.1 u.2.2.1), (b1, .inl (dA, 400, .inl a)), (b2, .inl (dA, 4, .inl u.2.2.2))]) u) t.heap ∧ va_D (va_A [(g0, oM b1 b2 (nI n) p0 q0 r0), (b1, .inl (dA, 400, .inl a)), (b2, .inl (dA, 4, .inl w))] sz) ((fun u : Int32 × Int32 × Int32 × (Nat → Int32) => [(g0, oM b1 b2 (nI n) u.1 u.2.1 u.2.2.1), (b1, .inl (dA, 400, .inl a)), (b2, .inl (dA, 4, .inl u.2.2.2))]) u)) (va_A [(g0, oM b1 b2 (nI n) p0 q0 r0), (b1, .inl (dA, 400, .inl a)), (b2, .inl (dA, 4, .inl w))] sz)) 0 0 (va_A [(g0, oM b1 b2 (nI n) p0 q0 r0), (b1, .inl (dA, 400, .inl a)), (b2, .inl (dA, 4, .inl w))] sz) := by
  refine xm_Qi (by decide) (Nat.le_of_ble_eq_true rfl) ?_
  intro p e s m args below meth c hx hb hml hown hts hK A hA H locs hP hD hS Q K ls hl
  have hown : s.vm.findClass RX1 = some m.cls := hown
  have hl : lv_has ls 8 [(0, .ref g0), (1, .int x), (2, .int y)] := hl
  refine lv_aload_n hx hb dX1_find_0 rfl (lv_at hl 0 rfl) ?_
  refine lv_iconst (v := nI 0) hx hb dX1_find_1 rfl ?_
  refine x1_put hx hb hts hown hK hP hD hS 0 rfl 3 (by decide) (hts _ q197) rfl rfl .int (by decide +kernel) rfl rfl (Nat.le_of_ble_eq_true rfl) [(g0, oM b1 b2 (nI n) (nI 0) q0 r0), (b1, .inl (dA, 400, .inl a)), (b2, .inl (dA, 4, .inl w))] rfl dX1_find_2 (fun H locs hP hD hS => ?_)
  refine lv_aload_n hx hb dX1_find_5 rfl (lv_at hl 0 rfl) ?_
  refine lv_iconst (v := nI 0) hx hb dX1_find_6 rfl ?_
  refine x1_put hx hb hts hown hK hP hD hS 0 rfl 4 (by decide) (hts _ q198) rfl rfl .int (by decide +kernel) rfl rfl (Nat.le_of_ble_eq_true rfl) [(g0, oM b1 b2 (nI n) (nI 0) (nI 0) r0), (b1, .inl (dA, 400, .inl a)), (b2, .inl (dA, 4, .inl w))] rfl dX1_find_7 (fun H locs hP hD hS => ?_)
  refine lv_aload_n hx hb dX1_find_10 rfl (lv_at hl 0 rfl) ?_
  refine lv_iconst (v := nI 0) hx hb dX1_find_11 rfl ?_
  refine x1_put hx hb hts hown hK hP hD hS 0 rfl 5 (by decide) (hts _ q199) rfl rfl .int (by decide +kernel) rfl rfl (Nat.le_of_ble_eq_true rfl) [(g0, oM b1 b2 (nI n) (nI 0) (nI 0) (nI 0)), (b1, .inl (dA, 400, .inl a)), (b2, .inl (dA, 4, .inl w))] rfl dX1_find_12 (fun H locs hP hD hS => ?_)
  refine lv_aload_n hx hb dX1_find_15 rfl (lv_at hl 0 rfl) ?_
  refine lv_iload_n hx hb dX1_find_16 rfl (lv_at hl 1 rfl) ?_
  refine xc_V (ci := 1) (q0 := 0) [.int x] ⟨hx, hb, hml, hown, hts⟩ hK hP rfl rfl rfl [] rfl (mX1_is l dC dI dA dB g0 x) (cwV 1 hts (lw_V q233 q235 qs8 q14 q236) rfl rfl rfl (by decide +kernel) ⟨Nat.le_of_ble_eq_true rfl, Nat.le_of_ble_eq_true rfl⟩) rfl hl.1 rfl (Nat.le_of_ble_eq_true rfl) dX1_find_17 ⟨Nat.le_of_ble_eq_true rfl, Nat.le_of_ble_eq_true rfl⟩ (fun r_17 h_17 => ?_)
  rcases h_17 with ⟨i, hi, rfl, rfl⟩ | ⟨hbad_x, rfl⟩
  · refine xn_if_eq (tgt := 45) hx hb dX1_find_20 (by decide) (by omega) (fun c_20 => absurd c_20 (by omega)) (fun c_20 => ?_)
    refine lv_aload_n hx hb dX1_find_23 rfl (lv_at hl 0 rfl) ?_
    refine lv_iload_n hx hb dX1_find_24 rfl (lv_at hl 2 rfl) ?_
    refine xc_V (ci := 1) (q0 := 0) [.int y] ⟨hx, hb, hml, hown, hts⟩ hK hP rfl rfl rfl [] rfl (mX1_is l dC dI dA dB g0 y) (cwV 1 hts (lw_V q233 q235 qs8 q14 q236) rfl rfl rfl (by decide +kernel) ⟨Nat.le_of_ble_eq_true rfl, Nat.le_of_ble_eq_true rfl⟩) rfl hl.1 rfl (Nat.le_of_ble_eq_true rfl) dX1_find_25 ⟨Nat.le_of_ble_eq_true rfl, Nat.le_of_ble_eq_true rfl⟩ (fun r_25 h_25 => ?_)
    rcases h_25 with ⟨j, hj, rfl, rfl⟩ | ⟨hbad_y, rfl⟩
    · refine xn_if_eq (tgt := 45) hx hb dX1_find_28 (by decide) (by omega) (fun c_28 => absurd c_28 (by omega)) (fun c_28 => ?_)
      refine lv_iload_n hx hb dX1_find_31 rfl (lv_at hl 1 rfl) ?_
      refine lv_iload_n hx hb dX1_find_32 rfl (lv_at hl 2 rfl) ?_
      refine xn_eq (tgt := 45) hx hb dX1_find_33 (by decide) (by omega) (by omega) (fun c_33 => ?_) (fun c_33 => ?_)
      · refine lv_iconst (v := nI 0) hx hb dX1_find_45 rfl ?_
        first
        | exact K _ (nI 0, nI 0, nI 0, w) _ _ _ _ (pxP.good hi hj c_33 ⟨fun _ => rfl, fun h => absurd h (by omega)⟩) hP hD hS rfl dX1_find_46
        | exact K _ (nI 0, nI 0, nI 0, w) _ _ _ _ (pxP.bad (badP_3 (by rw [c_33])) rfl) hP hD hS rfl dX1_find_46
      · refine lv_aload_n hx hb dX1_find_36 rfl (lv_at hl 0 rfl) ?_
        refine lv_iload_n hx hb dX1_find_37 rfl (lv_at hl 1 rfl) ?_
        refine xc_Wi (ci := 1) (q0 := 0) (wc := [(g0, oM b1 b2 (nI n) (nI 0) (nI 0) (nI 0)), (b1, .inl (dA, 400, .inl a)), (b2, .inl (dA, 4, .inl w))]) (wr := []) [.int (nI i)] ⟨hx, hb, hml, hown, hts⟩ hK hP hD hS hA rfl rfl rfl [0, 1, 2] [] [0, 1, 2] rfl rfl rfl rfl rfl (by decide) (fun u : Nat → Int32 => [(g0, oM b1 b2 (nI n) (nI 0) (nI 0) (nI 0)), (b1, .inl (dA, 400, .inl a)), (b2, .inl (dA, 4, .inl u))]) (fun _ => rfl) (fun _ => rfl) rfl (mX1_different l dC dI dA dB H.size g0 b1 b2 (nI 0) (nI 0) (nI 0) n a w (nI i) hn) (cwV 1 hts (lw_V q237 q238 q239 q14 q240) rfl rfl rfl (by decide +kernel) ⟨Nat.le_of_ble_eq_true rfl, Nat.le_of_ble_eq_true rfl⟩) rfl hl.1 rfl (Nat.le_of_ble_eq_true rfl) dX1_find_38 ⟨Nat.le_of_ble_eq_true rfl, Nat.le_of_ble_eq_true rfl⟩ (fun r_38 u_38 H locs h_38 hP hD hS => ?_)
        obtain ⟨h_38, hfew⟩ : r_38 = nI (dl a i n).length ∧ fewR u_38 (dl a i n) := h_38.2 i hi rfl
        have hlen := dl_len a i n
        subst h_38
        refine lv_iconst (v := nI 2) hx hb dX1_find_41 rfl ?_
        refine xn_ge (tgt := 47) hx hb dX1_find_42 (by decide) (by omega) (by omega) (fun c_42 => ?_) (fun c_42 => ?_)
        · refine lv_iconst (v := nI 0) hx hb dX1_find_47 rfl ?_
          refine lv_istore_n (lv' := [(3, .int (nI 0)), (0, .ref g0), (1, .int (nI i)), (2, .int (nI j))]) hx hb dX1_find_48 rfl hl (by decide) rfl (fun ls hl => ?_)
          have hn0 : 0 < n := by rcases Nat.eq_zero_or_pos n with z | z; exact absurd c_42 (by rw [z]; simp [dl]); exact z
          have J84 : ∀ o : Nat, o < n → (∀ z, z < o → a (4 * z + i) = a i) → ¬ a (4 * o + i) = a i → ∀ ls : Array Slot, lv_has ls 8 [(3, .int (nI o)), (0, .ref g0), (1, .int (nI i)), (2, .int (nI j))] → W p l e ({ frames := 2, cells := 0, slots := 0, locals := 46 } : Room) s m args below meth c H locs 0 0 Q (F0 m 84 ls []) := by
            intro o ho hoz hone ls hl
            refine lv_aload_n hx hb dX1_find_84 rfl (lv_at hl 1 rfl) ?_
            refine x1_get hx hb hts hown hK hP 0 rfl 1 (by decide) (hts _ q195) rfl (v := .ref b1) rfl dX1_find_85 ?_
            refine lv_iconst (v := nI 4) hx hb dX1_find_88 rfl ?_
            refine lv_iload_n hx hb dX1_find_89 rfl (lv_at hl 0 rfl) ?_
            refine xn_mul hx hb dX1_find_90 ?_
            refine lv_iload_n hx hb dX1_find_91 rfl (lv_at hl 2 rfl) ?_
            refine xn_add hx hb dX1_find_92 ?_
            refine xa_iald hx hb hK hP 1 0 rfl rfl (k := 4 * o + i) (by omega) (by decide) dX1_find_93 ?_
            refine lv_aload_n hx hb dX1_find_94 rfl (lv_at hl 1 rfl) ?_
            refine x1_get hx hb hts hown hK hP 0 rfl 1 (by decide) (hts _ q195) rfl (v := .ref b1) rfl dX1_find_95 ?_
            refine lv_iload_n hx hb dX1_find_98 rfl (lv_at hl 2 rfl) ?_
            refine xa_iald hx hb hK hP 1 0 rfl rfl (k := i) (by omega) (by decide) dX1_find_99 ?_
            refine lv_isub hx hb dX1_find_100 ?_
            refine lv_topi (fun run erun => ?_)
            have hr1 : run.toInt = (a (4 * o + i)).toInt - (a i).toInt := by rw [erun]; exact sub_ok (hok _ (by omega)) (hok _ (by omega))
            have hrb : -200 ≤ run.toInt ∧ run.toInt ≤ 200 := by rw [erun]; exact okw_sub (hok _ (by omega)) (hok _ (by omega))
            have hrz : ¬ run = 0 := fun e => hone (Int32.toInt_inj.mp (by rw [e, show (0 : Int32).toInt = 0 from rfl] at hr1; omega))
            refine lv_istore (lv' := [(4, .int run), (3, .int (nI o)), (0, .ref g0), (1, .int (nI i)), (2, .int (nI j))]) hx hb dX1_find_101 hl (by decide) rfl (fun ls hl => ?_)
            refine lv_aload_n hx hb dX1_find_103 rfl (lv_at hl 2 rfl) ?_
            refine x1_get hx hb hts hown hK hP 0 rfl 1 (by decide) (hts _ q195) rfl (v := .ref b1) rfl dX1_find_104 ?_
            refine lv_iconst (v := nI 4) hx hb dX1_find_107 rfl ?_
            refine lv_iload_n hx hb dX1_find_108 rfl (lv_at hl 1 rfl) ?_
            refine xn_mul hx hb dX1_find_109 ?_
            refine lv_iload_n hx hb dX1_find_110 rfl (lv_at hl 4 rfl) ?_
            refine xn_add hx hb dX1_find_111 ?_
            refine xa_iald hx hb hK hP 1 0 rfl rfl (k := 4 * o + j) (by omega) (by decide) dX1_find_112 ?_
            refine lv_aload_n hx hb dX1_find_113 rfl (lv_at hl 2 rfl) ?_
            refine x1_get hx hb hts hown hK hP 0 rfl 1 (by decide) (hts _ q195) rfl (v := .ref b1) rfl dX1_find_114 ?_
            refine lv_iload_n hx hb dX1_find_117 rfl (lv_at hl 4 rfl) ?_
            refine xa_iald hx hb hK hP 1 0 rfl rfl (k := j) (by omega) (by decide) dX1_find_118 ?_
            refine lv_isub hx hb dX1_find_119 ?_
            refine lv_topi (fun rise erise => ?_)
            have hs1 : rise.toInt = (a (4 * o + j)).toInt - (a j).toInt := by rw [erise]; exact sub_ok (hok _ (by omega)) (hok _ (by omega))
            have hsb : -200 ≤ rise.toInt ∧ rise.toInt ≤ 200 := by rw [erise]; exact okw_sub (hok _ (by omega)) (hok _ (by omega))
            refine lv_istore (lv' := [(5, .int rise), (4, .int run), (3, .int (nI o)), (0, .ref g0), (1, .int (nI i)), (2, .int (nI j))]) hx hb dX1_find_120 hl (by decide) rfl (fun ls hl => ?_)
            refine lv_sipush (v := nI 200) hx hb dX1_find_122 rfl ?_
            refine lv_istore (lv' := [(6, .int (nI 200)), (5, .int rise), (4, .int run), (3, .int (nI o)), (0, .ref g0), (1, .int (nI i)), (2, .int (nI j))]) hx hb dX1_find_125 hl (by decide) rfl (fun ls hl => ?_)
            have loop3 : ∀ (k : Nat) (P9 Q9 : Int32), k ≤ 200 → fndI run rise k P9 Q9 → ∀ (H : Heap) (locs : List Loc), va_P (dC, dI) vwCl [(g0, oM b1 b2 (nI n) P9 Q9 (nI 0)), (b1, .inl (dA, 400, .inl a)), (b2, .inl (dA, 4, .inl u_38))] H → va_D A [(g0, oM b1 b2 (nI n) P9 Q9 (nI 0)), (b1, .inl (dA, 400, .inl a)), (b2, .inl (dA, 4, .inl u_38))] → va_S A s.heap H locs → ∀ ls : Array Slot, lv_has ls 8 [(6, .int (nI k)), (5, .int rise), (4, .int run), (3, .int (nI o)), (0, .ref g0), (1, .int (nI i)), (2, .int (nI j))] → W p l e ({ frames := 2, cells := 0, slots := 0, locals := 46 } : Room) s m args below meth c H locs 0 0 Q (F0 m 127 ls []) := by
              intro k
              induction k with
              | zero =>
                intro P9 Q9 h7 h8 H locs hP hD hS ls hl
                refine lv_iload hx hb dX1_find_127 (lv_at hl 0 rfl) ?_
                refine lv_iconst (v := nI 1) hx hb dX1_find_129 rfl ?_
                refine xn_lt (tgt := 173) hx hb dX1_find_130 (by decide) (by omega) (by omega) (fun c_130 => ?_) (fun c_130 => absurd c_130 (by omega))
                obtain ⟨pn, h11, h12, rfl, h13, h14⟩ := fnd_fin hrz hrb h8
                have hln := fnd_ln ho hoz hone hr1 hs1 h11 h12 rfl h13 h14
                refine lv_aload_n hx hb dX1_find_173 rfl (lv_at hl 4 rfl) ?_
                refine lv_aload_n hx hb dX1_find_174 rfl (lv_at hl 4 rfl) ?_
                refine x1_get hx hb hts hown hK hP 0 rfl 3 (by decide) (hts _ q197) rfl (v := .int (nI pn)) rfl dX1_find_175 ?_
                refine lv_aload_n hx hb dX1_find_178 rfl (lv_at hl 4 rfl) ?_
                refine x1_get hx hb hts hown hK hP 0 rfl 1 (by decide) (hts _ q195) rfl (v := .ref b1) rfl dX1_find_179 ?_
                refine lv_iload_n hx hb dX1_find_182 rfl (lv_at hl 6 rfl) ?_
                refine xa_iald hx hb hK hP 1 0 rfl rfl (k := j) (by omega) (by decide) dX1_find_183 ?_
                refine lv_imul hx hb dX1_find_184 ?_
                refine lv_aload_n hx hb dX1_find_185 rfl (lv_at hl 4 rfl) ?_
                refine x1_get hx hb hts hown hK hP 0 rfl 4 (by decide) (hts _ q198) rfl (v := .int Q9) rfl dX1_find_186 ?_
                refine lv_aload_n hx hb dX1_find_189 rfl (lv_at hl 4 rfl) ?_
                refine x1_get hx hb hts hown hK hP 0 rfl 1 (by decide) (hts _ q195) rfl (v := .ref b1) rfl dX1_find_190 ?_
                refine lv_iload_n hx hb dX1_find_193 rfl (lv_at hl 5 rfl) ?_
                refine xa_iald hx hb hK hP 1 0 rfl rfl (k := i) (by omega) (by decide) dX1_find_194 ?_
                refine lv_imul hx hb dX1_find_195 ?_
                refine lv_isub hx hb dX1_find_196 ?_
                refine x1_put hx hb hts hown hK hP hD hS 0 rfl 5 (by decide) (hts _ q199) rfl rfl .int (by decide +kernel) rfl rfl (Nat.le_of_ble_eq_true rfl) [(g0, oM b1 b2 (nI n) (nI pn) Q9 (((nI pn) * (a j)) - (Q9 * (a i)))), (b1, .inl (dA, 400, .inl a)), (b2, .inl (dA, 4, .inl u_38))] rfl dX1_find_197 (fun H locs hP hD hS => ?_)
                refine lv_aload_n hx hb dX1_find_200 rfl (lv_at hl 4 rfl) ?_
                refine x1_get hx hb hts hown hK hP 0 rfl 3 (by decide) (hts _ q197) rfl (v := .int (nI pn)) rfl dX1_find_201 ?_
                refine xn_if_le (tgt := 218) hx hb dX1_find_204 (by decide) (by omega) (fun c_204 => absurd c_204 (by omega)) (fun c_204 => ?_)
                refine lv_aload_n hx hb dX1_find_207 rfl (lv_at hl 4 rfl) ?_
                refine x1_get hx hb hts hown hK hP 0 rfl 4 (by decide) (hts _ q198) rfl (v := .int Q9) rfl dX1_find_208 ?_
                refine lv_if_eq (tgt := 218) hx hb dX1_find_211 (by decide) (fun c_211 => ?_) (fun c_211 => ?_)
                · refine lv_iconst (v := nI 0) hx hb dX1_find_218 rfl ?_
                  refine lv_istore (lv' := [(6, .int (nI 0)), (5, .int rise), (4, .int run), (3, .int (nI o)), (0, .ref g0), (1, .int (nI i)), (2, .int (nI j))]) hx hb dX1_find_219 hl (by decide) rfl (fun ls hl => ?_)
                  refine lv_iconst (v := nI 0) hx hb dX1_find_221 rfl ?_
                  refine lv_istore (lv' := [(7, .int (nI 0)), (6, .int (nI 0)), (5, .int rise), (4, .int run), (3, .int (nI o)), (0, .ref g0), (1, .int (nI i)), (2, .int (nI j))]) hx hb dX1_find_222 hl (by decide) rfl (fun ls hl => ?_)
                  have loop4 : ∀ (f9 i9 fl : Nat), n + 1 ≤ i9 + f9 → i9 ≤ n → ((fl = 1 ∧ (¬ Q9 = 0 ∧ ∀ t, t < i9 → nI pn * a (4 * t + j) = Q9 * a (4 * t + i) + (nI pn * a j - Q9 * a i))) ∨ (fl = 0 ∧ ¬ (¬ Q9 = 0 ∧ ∀ t, t < i9 → nI pn * a (4 * t + j) = Q9 * a (4 * t + i) + (nI pn * a j - Q9 * a i)))) → ∀ ls : Array Slot, lv_has ls 8 [(7, .int (nI i9)), (6, .int (nI fl)), (0, .ref g0), (1, .int (nI i)), (2, .int (nI j))] → W p l e ({ frames := 2, cells := 0, slots := 0, locals := 46 } : Room) s m args below meth c H locs 0 0 Q (F0 m 224 ls []) := by
                    intro f9
                    induction f9 with
                    | zero =>
                      intro i9 fl h31 h32
                      exact absurd h31 (by omega)
                    | succ f9 ih9 =>
                      intro i9 fl h31 h32 h33 ls hl
                      have hfl : fl ≤ 1 := by omega
                      refine lv_iload hx hb dX1_find_224 (lv_at hl 0 rfl) ?_
                      refine lv_aload_n hx hb dX1_find_226 rfl (lv_at hl 2 rfl) ?_
                      refine x1_get hx hb hts hown hK hP 0 rfl 0 (by decide) (hts _ q194) rfl (v := .int (nI n)) rfl dX1_find_227 ?_
                      refine xn_ge (tgt := 291) hx hb dX1_find_230 (by decide) (by omega) (by omega) (fun c_230 => ?_) (fun c_230 => ?_)
                      · refine lv_iload hx hb dX1_find_291 (lv_at hl 1 rfl) ?_
                        refine K _ (nI pn, Q9, nI pn * a j - Q9 * a i, u_38) _ _ _ _ (pxP.good hi hj c_33 ⟨fun h => absurd h (by omega), fun _ => ⟨o, hln, ?_⟩⟩) hP hD hS ?_ dX1_find_293
                        · rcases h33 with ⟨h34, h35, h36⟩ | ⟨h34, h35⟩
                          · exact Or.inl ⟨by rw [h34], h35, fun t ht => h36 t (by omega)⟩
                          · exact Or.inr ⟨by rw [h34], fun h => h35 ⟨h.1, fun t ht => h.2 t (by omega)⟩⟩
                        · rcases h33 with ⟨h34, -⟩ | ⟨h34, -⟩ <;> rw [h34] <;> rfl
                      · refine lv_iload hx hb dX1_find_233 (lv_at hl 1 rfl) ?_
                        refine xn_if_eq (tgt := 282) hx hb dX1_find_235 (by decide) (by omega) (fun c_235 => ?_) (fun c_235 => ?_)
                        · refine lv_iconst (v := nI 0) hx hb dX1_find_282 rfl ?_
                          refine lv_istore (lv' := [(6, .int (nI 0)), (7, .int (nI i9)), (0, .ref g0), (1, .int (nI i)), (2, .int (nI j))]) hx hb dX1_find_283 hl (by decide) rfl (fun ls hl => ?_)
                          refine lv_iinc (v := nI (i9 + 1)) (lv' := [(7, .int (nI (i9 + 1))), (6, .int (nI 0)), (0, .ref g0), (1, .int (nI i)), (2, .int (nI j))]) hx hb dX1_find_285 hl (k := 1) rfl (nI_add _ 1) (by decide) rfl (fun ls hl => ?_)
                          refine lv_goto (tgt := 224) hx hb dX1_find_288 (by decide) ?_
                          refine ih9 (i9 + 1) 0 (by omega) (by omega) (Or.inr ⟨rfl, fun hq9 => ?_⟩) ls (lv_sub hl [0, 1, 2, 3, 4] rfl)
                          first
                          | exact (h33.resolve_left (fun h => absurd c_235 (by omega))).2 ⟨hq9.1, fun t ht => hq9.2 t (by omega)⟩
                          | exact c_275 (hq9.2 i9 (by omega))
                        · refine lv_aload_n hx hb dX1_find_238 rfl (lv_at hl 2 rfl) ?_
                          refine x1_get hx hb hts hown hK hP 0 rfl 3 (by decide) (hts _ q197) rfl (v := .int (nI pn)) rfl dX1_find_239 ?_
                          refine lv_aload_n hx hb dX1_find_242 rfl (lv_at hl 2 rfl) ?_
                          refine x1_get hx hb hts hown hK hP 0 rfl 1 (by decide) (hts _ q195) rfl (v := .ref b1) rfl dX1_find_243 ?_
                          refine lv_iconst (v := nI 4) hx hb dX1_find_246 rfl ?_
                          refine lv_iload hx hb dX1_find_247 (lv_at hl 0 rfl) ?_
                          refine xn_mul hx hb dX1_find_249 ?_
                          refine lv_iload_n hx hb dX1_find_250 rfl (lv_at hl 4 rfl) ?_
                          refine xn_add hx hb dX1_find_251 ?_
                          refine xa_iald hx hb hK hP 1 0 rfl rfl (k := 4 * i9 + j) (by omega) (by decide) dX1_find_252 ?_
                          refine lv_imul hx hb dX1_find_253 ?_
                          refine lv_aload_n hx hb dX1_find_254 rfl (lv_at hl 2 rfl) ?_
                          refine x1_get hx hb hts hown hK hP 0 rfl 4 (by decide) (hts _ q198) rfl (v := .int Q9) rfl dX1_find_255 ?_
                          refine lv_aload_n hx hb dX1_find_258 rfl (lv_at hl 2 rfl) ?_
                          refine x1_get hx hb hts hown hK hP 0 rfl 1 (by decide) (hts _ q195) rfl (v := .ref b1) rfl dX1_find_259 ?_
                          refine lv_iconst (v := nI 4) hx hb dX1_find_262 rfl ?_
                          refine lv_iload hx hb dX1_find_263 (lv_at hl 0 rfl) ?_
                          refine xn_mul hx hb dX1_find_265 ?_
                          refine lv_iload_n hx hb dX1_find_266 rfl (lv_at hl 3 rfl) ?_
                          refine xn_add hx hb dX1_find_267 ?_
                          refine xa_iald hx hb hK hP 1 0 rfl rfl (k := 4 * i9 + i) (by omega) (by decide) dX1_find_268 ?_
                          refine lv_imul hx hb dX1_find_269 ?_
                          refine lv_aload_n hx hb dX1_find_270 rfl (lv_at hl 2 rfl) ?_
                          refine x1_get hx hb hts hown hK hP 0 rfl 5 (by decide) (hts _ q199) rfl (v := .int (nI pn * a j - Q9 * a i)) rfl dX1_find_271 ?_
                          refine lv_iadd hx hb dX1_find_274 ?_
                          refine lv_icmp_ne (tgt := 282) hx hb dX1_find_275 (by decide) (fun c_275 => ?_) (fun c_275 => ?_)
                          · refine lv_iconst (v := nI 0) hx hb dX1_find_282 rfl ?_
                            refine lv_istore (lv' := [(6, .int (nI 0)), (7, .int (nI i9)), (0, .ref g0), (1, .int (nI i)), (2, .int (nI j))]) hx hb dX1_find_283 hl (by decide) rfl (fun ls hl => ?_)
                            refine lv_iinc (v := nI (i9 + 1)) (lv' := [(7, .int (nI (i9 + 1))), (6, .int (nI 0)), (0, .ref g0), (1, .int (nI i)), (2, .int (nI j))]) hx hb dX1_find_285 hl (k := 1) rfl (nI_add _ 1) (by decide) rfl (fun ls hl => ?_)
                            refine lv_goto (tgt := 224) hx hb dX1_find_288 (by decide) ?_
                            refine ih9 (i9 + 1) 0 (by omega) (by omega) (Or.inr ⟨rfl, fun hq9 => ?_⟩) ls (lv_sub hl [0, 1, 2, 3, 4] rfl)
                            first
                            | exact (h33.resolve_left (fun h => absurd c_235 (by omega))).2 ⟨hq9.1, fun t ht => hq9.2 t (by omega)⟩
                            | exact c_275 (hq9.2 i9 (by omega))
                          · refine lv_iconst (v := nI 1) hx hb dX1_find_278 rfl ?_
                            refine lv_goto (tgt := 283) hx hb dX1_find_279 (by decide) ?_
                            refine lv_istore (lv' := [(6, .int (nI 1)), (7, .int (nI i9)), (0, .ref g0), (1, .int (nI i)), (2, .int (nI j))]) hx hb dX1_find_283 hl (by decide) rfl (fun ls hl => ?_)
                            refine lv_iinc (v := nI (i9 + 1)) (lv' := [(7, .int (nI (i9 + 1))), (6, .int (nI 1)), (0, .ref g0), (1, .int (nI i)), (2, .int (nI j))]) hx hb dX1_find_285 hl (k := 1) rfl (nI_add _ 1) (by decide) rfl (fun ls hl => ?_)
                            refine lv_goto (tgt := 224) hx hb dX1_find_288 (by decide) ?_
                            refine ih9 (i9 + 1) 1 (by omega) (by omega) (Or.inl ⟨rfl, (h33.resolve_right (fun h => absurd c_235 (by omega))).2.1, fun t ht => ?_⟩) ls (lv_sub hl [0, 1, 2, 3, 4] rfl)
                            rcases Nat.lt_or_ge t i9 with q | q
                            · exact (h33.resolve_right (fun h => absurd c_235 (by omega))).2.2 t q
                            · rw [show t = i9 by omega]; exact c_275
                  exact loop4 (n + 1) 0 0 (by omega) (by omega) (Or.inr ⟨rfl, fun h => h.1 c_211⟩) ls (lv_sub hl [0, 1, 5, 6, 7] rfl)
                · refine lv_iconst (v := nI 1) hx hb dX1_find_214 rfl ?_
                  refine lv_goto (tgt := 219) hx hb dX1_find_215 (by decide) ?_
                  refine lv_istore (lv' := [(6, .int (nI 1)), (5, .int rise), (4, .int run), (3, .int (nI o)), (0, .ref g0), (1, .int (nI i)), (2, .int (nI j))]) hx hb dX1_find_219 hl (by decide) rfl (fun ls hl => ?_)
                  refine lv_iconst (v := nI 0) hx hb dX1_find_221 rfl ?_
                  refine lv_istore (lv' := [(7, .int (nI 0)), (6, .int (nI 1)), (5, .int rise), (4, .int run), (3, .int (nI o)), (0, .ref g0), (1, .int (nI i)), (2, .int (nI j))]) hx hb dX1_find_222 hl (by decide) rfl (fun ls hl => ?_)
                  have loop4 : ∀ (f9 i9 fl : Nat), n + 1 ≤ i9 + f9 → i9 ≤ n → ((fl = 1 ∧ (¬ Q9 = 0 ∧ ∀ t, t < i9 → nI pn * a (4 * t + j) = Q9 * a (4 * t + i) + (nI pn * a j - Q9 * a i))) ∨ (fl = 0 ∧ ¬ (¬ Q9 = 0 ∧ ∀ t, t < i9 → nI pn * a (4 * t + j) = Q9 * a (4 * t + i) + (nI pn * a j - Q9 * a i)))) → ∀ ls : Array Slot, lv_has ls 8 [(7, .int (nI i9)), (6, .int (nI fl)), (0, .ref g0), (1, .int (nI i)), (2, .int (nI j))] → W p l e ({ frames := 2, cells := 0, slots := 0, locals := 46 } : Room) s m args below meth c H locs 0 0 Q (F0 m 224 ls []) := by
                    intro f9
                    induction f9 with
                    | zero =>
                      intro i9 fl h31 h32
                      exact absurd h31 (by omega)
                    | succ f9 ih9 =>
                      intro i9 fl h31 h32 h33 ls hl
                      have hfl : fl ≤ 1 := by omega
                      refine lv_iload hx hb dX1_find_224 (lv_at hl 0 rfl) ?_
                      refine lv_aload_n hx hb dX1_find_226 rfl (lv_at hl 2 rfl) ?_
                      refine x1_get hx hb hts hown hK hP 0 rfl 0 (by decide) (hts _ q194) rfl (v := .int (nI n)) rfl dX1_find_227 ?_
                      refine xn_ge (tgt := 291) hx hb dX1_find_230 (by decide) (by omega) (by omega) (fun c_230 => ?_) (fun c_230 => ?_)
                      · refine lv_iload hx hb dX1_find_291 (lv_at hl 1 rfl) ?_
                        refine K _ (nI pn, Q9, nI pn * a j - Q9 * a i, u_38) _ _ _ _ (pxP.good hi hj c_33 ⟨fun h => absurd h (by omega), fun _ => ⟨o, hln, ?_⟩⟩) hP hD hS ?_ dX1_find_293
                        · rcases h33 with ⟨h34, h35, h36⟩ | ⟨h34, h35⟩
                          · exact Or.inl ⟨by rw [h34], h35, fun t ht => h36 t (by omega)⟩
                          · exact Or.inr ⟨by rw [h34], fun h => h35 ⟨h.1, fun t ht => h.2 t (by omega)⟩⟩
                        · rcases h33 with ⟨h34, -⟩ | ⟨h34, -⟩ <;> rw [h34] <;> rfl
                      · refine lv_iload hx hb dX1_find_233 (lv_at hl 1 rfl) ?_
                        refine xn_if_eq (tgt := 282) hx hb dX1_find_235 (by decide) (by omega) (fun c_235 => ?_) (fun c_235 => ?_)
                        · refine lv_iconst (v := nI 0) hx hb dX1_find_282 rfl ?_
                          refine lv_istore (lv' := [(6, .int (nI 0)), (7, .int (nI i9)), (0, .ref g0), (1, .int (nI i)), (2, .int (nI j))]) hx hb dX1_find_283 hl (by decide) rfl (fun ls hl => ?_)
                          refine lv_iinc (v := nI (i9 + 1)) (lv' := [(7, .int (nI (i9 + 1))), (6, .int (nI 0)), (0, .ref g0), (1, .int (nI i)), (2, .int (nI j))]) hx hb dX1_find_285 hl (k := 1) rfl (nI_add _ 1) (by decide) rfl (fun ls hl => ?_)
                          refine lv_goto (tgt := 224) hx hb dX1_find_288 (by decide) ?_
                          refine ih9 (i9 + 1) 0 (by omega) (by omega) (Or.inr ⟨rfl, fun hq9 => ?_⟩) ls (lv_sub hl [0, 1, 2, 3, 4] rfl)
                          first
                          | exact (h33.resolve_left (fun h => absurd c_235 (by omega))).2 ⟨hq9.1, fun t ht => hq9.2 t (by omega)⟩
                          | exact c_275 (hq9.2 i9 (by omega))
                        · refine lv_aload_n hx hb dX1_find_238 rfl (lv_at hl 2 rfl) ?_
                          refine x1_get hx hb hts hown hK hP 0 rfl 3 (by decide) (hts _ q197) rfl (v := .int (nI pn)) rfl dX1_find_239 ?_
                          refine lv_aload_n hx hb dX1_find_242 rfl (lv_at hl 2 rfl) ?_
                          refine x1_get hx hb hts hown hK hP 0 rfl 1 (by decide) (hts _ q195) rfl (v := .ref b1) rfl dX1_find_243 ?_
                          refine lv_iconst (v := nI 4) hx hb dX1_find_246 rfl ?_
                          refine lv_iload hx hb dX1_find_247 (lv_at hl 0 rfl) ?_
                          refine xn_mul hx hb dX1_find_249 ?_
                          refine lv_iload_n hx hb dX1_find_250 rfl (lv_at hl 4 rfl) ?_
                          refine xn_add hx hb dX1_find_251 ?_
                          refine xa_iald hx hb hK hP 1 0 rfl rfl (k := 4 * i9 + j) (by omega) (by decide) dX1_find_252 ?_
                          refine lv_imul hx hb dX1_find_253 ?_
                          refine lv_aload_n hx hb dX1_find_254 rfl (lv_at hl 2 rfl) ?_
                          refine x1_get hx hb hts hown hK hP 0 rfl 4 (by decide) (hts _ q198) rfl (v := .int Q9) rfl dX1_find_255 ?_
                          refine lv_aload_n hx hb dX1_find_258 rfl (lv_at hl 2 rfl) ?_
                          refine x1_get hx hb hts hown hK hP 0 rfl 1 (by decide) (hts _ q195) rfl (v := .ref b1) rfl dX1_find_259 ?_
                          refine lv_iconst (v := nI 4) hx hb dX1_find_262 rfl ?_
                          refine lv_iload hx hb dX1_find_263 (lv_at hl 0 rfl) ?_
                          refine xn_mul hx hb dX1_find_265 ?_
                          refine lv_iload_n hx hb dX1_find_266 rfl (lv_at hl 3 rfl) ?_
                          refine xn_add hx hb dX1_find_267 ?_
                          refine xa_iald hx hb hK hP 1 0 rfl rfl (k := 4 * i9 + i) (by omega) (by decide) dX1_find_268 ?_
                          refine lv_imul hx hb dX1_find_269 ?_
                          refine lv_aload_n hx hb dX1_find_270 rfl (lv_at hl 2 rfl) ?_
                          refine x1_get hx hb hts hown hK hP 0 rfl 5 (by decide) (hts _ q199) rfl (v := .int (nI pn * a j - Q9 * a i)) rfl dX1_find_271 ?_
                          refine lv_iadd hx hb dX1_find_274 ?_
                          refine lv_icmp_ne (tgt := 282) hx hb dX1_find_275 (by decide) (fun c_275 => ?_) (fun c_275 => ?_)
                          · refine lv_iconst (v := nI 0) hx hb dX1_find_282 rfl ?_
                            refine lv_istore (lv' := [(6, .int (nI 0)), (7, .int (nI i9)), (0, .ref g0), (1, .int (nI i)), (2, .int (nI j))]) hx hb dX1_find_283 hl (by decide) rfl (fun ls hl => ?_)
                            refine lv_iinc (v := nI (i9 + 1)) (lv' := [(7, .int (nI (i9 + 1))), (6, .int (nI 0)), (0, .ref g0), (1, .int (nI i)), (2, .int (nI j))]) hx hb dX1_find_285 hl (k := 1) rfl (nI_add _ 1) (by decide) rfl (fun ls hl => ?_)
                            refine lv_goto (tgt := 224) hx hb dX1_find_288 (by decide) ?_
                            refine ih9 (i9 + 1) 0 (by omega) (by omega) (Or.inr ⟨rfl, fun hq9 => ?_⟩) ls (lv_sub hl [0, 1, 2, 3, 4] rfl)
                            first
                            | exact (h33.resolve_left (fun h => absurd c_235 (by omega))).2 ⟨hq9.1, fun t ht => hq9.2 t (by omega)⟩
                            | exact c_275 (hq9.2 i9 (by omega))
                          · refine lv_iconst (v := nI 1) hx hb dX1_find_278 rfl ?_
                            refine lv_goto (tgt := 283) hx hb dX1_find_279 (by decide) ?_
                            refine lv_istore (lv' := [(6, .int (nI 1)), (7, .int (nI i9)), (0, .ref g0), (1, .int (nI i)), (2, .int (nI j))]) hx hb dX1_find_283 hl (by decide) rfl (fun ls hl => ?_)
                            refine lv_iinc (v := nI (i9 + 1)) (lv' := [(7, .int (nI (i9 + 1))), (6, .int (nI 1)), (0, .ref g0), (1, .int (nI i)), (2, .int (nI j))]) hx hb dX1_find_285 hl (k := 1) rfl (nI_add _ 1) (by decide) rfl (fun ls hl => ?_)
                            refine lv_goto (tgt := 224) hx hb dX1_find_288 (by decide) ?_
                            refine ih9 (i9 + 1) 1 (by omega) (by omega) (Or.inl ⟨rfl, (h33.resolve_right (fun h => absurd c_235 (by omega))).2.1, fun t ht => ?_⟩) ls (lv_sub hl [0, 1, 2, 3, 4] rfl)
                            rcases Nat.lt_or_ge t i9 with q | q
                            · exact (h33.resolve_right (fun h => absurd c_235 (by omega))).2.2 t q
                            · rw [show t = i9 by omega]; exact c_275
                  exact loop4 (n + 1) 0 1 (by omega) (by omega) (Or.inl ⟨rfl, c_211, fun t ht => absurd ht (by omega)⟩) ls (lv_sub hl [0, 1, 5, 6, 7] rfl)
              | succ k ih3 =>
                intro P9 Q9 h7 h8 H locs hP hD hS ls hl
                refine lv_iload hx hb dX1_find_127 (lv_at hl 0 rfl) ?_
                refine lv_iconst (v := nI 1) hx hb dX1_find_129 rfl ?_
                refine xn_lt (tgt := 173) hx hb dX1_find_130 (by decide) (by omega) (by omega) (fun c_130 => absurd c_130 (by omega)) (fun c_130 => ?_)
                refine lv_iload hx hb dX1_find_133 (lv_at hl 2 rfl) ?_
                refine lv_if_eq (tgt := 173) hx hb dX1_find_135 (by decide) (fun c_135 => absurd c_135 hrz) (fun c_135 => ?_)
                refine lv_iload hx hb dX1_find_138 (lv_at hl 0 rfl) ?_
                refine lv_iload hx hb dX1_find_140 (lv_at hl 1 rfl) ?_
                refine lv_imul hx hb dX1_find_142 ?_
                refine lv_iload hx hb dX1_find_143 (lv_at hl 2 rfl) ?_
                refine lv_irem hx hb dX1_find_145 hrz ?_
                refine lv_if_ne (tgt := 167) hx hb dX1_find_146 (by decide) (fun c_146 => ?_) (fun c_146 => ?_)
                · refine lv_iinc (v := nI k) (lv' := [(6, .int (nI k)), (5, .int rise), (4, .int run), (3, .int (nI o)), (0, .ref g0), (1, .int (nI i)), (2, .int (nI j))]) hx hb dX1_find_167 hl (k := 0) rfl (pk_m1 _) (by decide) rfl (fun ls hl => ?_)
                  refine lv_goto (tgt := 127) hx hb dX1_find_170 (by decide) ?_
                  exact ih3 P9 Q9 (by omega) (fnd_no h8 (fun hd => c_146 ((fnd_dvd (by omega) hsb hrz hrb).mpr hd))) H locs hP hD hS ls (lv_sub hl [0, 1, 2, 3, 4, 5, 6] rfl)
                · refine lv_aload_n hx hb dX1_find_149 rfl (lv_at hl 4 rfl) ?_
                  refine lv_iload hx hb dX1_find_150 (lv_at hl 0 rfl) ?_
                  refine x1_put hx hb hts hown hK hP hD hS 0 rfl 3 (by decide) (hts _ q197) rfl rfl .int (by decide +kernel) rfl rfl (Nat.le_of_ble_eq_true rfl) [(g0, oM b1 b2 (nI n) (nI (k + 1)) Q9 (nI 0)), (b1, .inl (dA, 400, .inl a)), (b2, .inl (dA, 4, .inl u_38))] rfl dX1_find_152 (fun H locs hP hD hS => ?_)
                  refine lv_aload_n hx hb dX1_find_155 rfl (lv_at hl 4 rfl) ?_
                  refine lv_iload hx hb dX1_find_156 (lv_at hl 0 rfl) ?_
                  refine lv_iload hx hb dX1_find_158 (lv_at hl 1 rfl) ?_
                  refine lv_imul hx hb dX1_find_160 ?_
                  refine lv_iload hx hb dX1_find_161 (lv_at hl 2 rfl) ?_
                  refine lv_idiv hx hb dX1_find_163 hrz ?_
                  refine x1_put hx hb hts hown hK hP hD hS 0 rfl 4 (by decide) (hts _ q198) rfl rfl .int (by decide +kernel) rfl rfl (Nat.le_of_ble_eq_true rfl) [(g0, oM b1 b2 (nI n) (nI (k + 1)) (((nI (k + 1)) * rise) / run) (nI 0)), (b1, .inl (dA, 400, .inl a)), (b2, .inl (dA, 4, .inl u_38))] rfl dX1_find_164 (fun H locs hP hD hS => ?_)
                  refine lv_iinc (v := nI k) (lv' := [(6, .int (nI k)), (5, .int rise), (4, .int run), (3, .int (nI o)), (0, .ref g0), (1, .int (nI i)), (2, .int (nI j))]) hx hb dX1_find_167 hl (k := 0) rfl (pk_m1 _) (by decide) rfl (fun ls hl => ?_)
                  refine lv_goto (tgt := 127) hx hb dX1_find_170 (by decide) ?_
                  exact ih3 _ _ (by omega) (Or.inr ⟨k + 1, by omega, by omega, rfl, fnd_q (by omega) hsb hrz ((fnd_dvd (by omega) hsb hrz hrb).mp c_146), fun t h10 h11 => absurd h10 (by omega)⟩) H locs hP hD hS ls (lv_sub hl [0, 1, 2, 3, 4, 5, 6] rfl)
            exact loop3 200 _ _ (by omega) (Or.inl (fun t h10 h11 => absurd h10 (by omega))) H locs hP hD hS ls (lv_sub hl [0, 1, 2, 3, 4, 5, 6] rfl)
          have loop : ∀ (f o : Nat), n + 1 ≤ o + f → o < n → (∀ z, z < o → a (4 * z + i) = a i) → ∀ ls : Array Slot, lv_has ls 8 [(3, .int (nI o)), (0, .ref g0), (1, .int (nI i)), (2, .int (nI j))] → W p l e ({ frames := 2, cells := 0, slots := 0, locals := 46 } : Room) s m args below meth c H locs 0 0 Q (F0 m 49 ls []) := by
            intro f
            induction f with
            | zero =>
              intro o h1 h2
              exact absurd h1 (by omega)
            | succ f ih =>
              intro o h1 h2 h3 ls hl
              refine lv_iload_n hx hb dX1_find_49 rfl (lv_at hl 0 rfl) ?_
              refine lv_aload_n hx hb dX1_find_50 rfl (lv_at hl 1 rfl) ?_
              refine x1_get hx hb hts hown hK hP 0 rfl 0 (by decide) (hts _ q194) rfl (v := .int (nI n)) rfl dX1_find_51 ?_
              refine lv_iconst (v := nI 1) hx hb dX1_find_54 rfl ?_
              refine xn_sub hx hb (by omega) dX1_find_55 ?_
              refine xn_ge (tgt := 84) hx hb dX1_find_56 (by decide) (by omega) (by omega) (fun c_56 => ?_) (fun c_56 => ?_)
              · refine J84 o h2 h3 ?_ ls (lv_sub hl [0, 1, 2, 3] rfl)
                first
                | exact c_75
                | (obtain ⟨t, ht, e⟩ := dl_two c_42; intro e2; rcases Nat.lt_or_ge t o with q | q; exact e (h3 t q); exact e (by rw [show t = o by omega]; exact e2))
              · refine lv_aload_n hx hb dX1_find_59 rfl (lv_at hl 1 rfl) ?_
                refine x1_get hx hb hts hown hK hP 0 rfl 1 (by decide) (hts _ q195) rfl (v := .ref b1) rfl dX1_find_60 ?_
                refine lv_iconst (v := nI 4) hx hb dX1_find_63 rfl ?_
                refine lv_iload_n hx hb dX1_find_64 rfl (lv_at hl 0 rfl) ?_
                refine xn_mul hx hb dX1_find_65 ?_
                refine lv_iload_n hx hb dX1_find_66 rfl (lv_at hl 2 rfl) ?_
                refine xn_add hx hb dX1_find_67 ?_
                refine xa_iald hx hb hK hP 1 0 rfl rfl (k := 4 * o + i) (by omega) (by decide) dX1_find_68 ?_
                refine lv_aload_n hx hb dX1_find_69 rfl (lv_at hl 1 rfl) ?_
                refine x1_get hx hb hts hown hK hP 0 rfl 1 (by decide) (hts _ q195) rfl (v := .ref b1) rfl dX1_find_70 ?_
                refine lv_iload_n hx hb dX1_find_73 rfl (lv_at hl 2 rfl) ?_
                refine xa_iald hx hb hK hP 1 0 rfl rfl (k := i) (by omega) (by decide) dX1_find_74 ?_
                refine lv_icmp_ne (tgt := 84) hx hb dX1_find_75 (by decide) (fun c_75 => ?_) (fun c_75 => ?_)
                · refine J84 o h2 h3 ?_ ls (lv_sub hl [0, 1, 2, 3] rfl)
                  first
                  | exact c_75
                  | (obtain ⟨t, ht, e⟩ := dl_two c_42; intro e2; rcases Nat.lt_or_ge t o with q | q; exact e (h3 t q); exact e (by rw [show t = o by omega]; exact e2))
                · refine lv_iinc (v := nI (o + 1)) (lv' := [(3, .int (nI (o + 1))), (0, .ref g0), (1, .int (nI i)), (2, .int (nI j))]) hx hb dX1_find_78 hl (k := 0) rfl (nI_add _ 1) (by decide) rfl (fun ls hl => ?_)
                  refine lv_goto (tgt := 49) hx hb dX1_find_81 (by decide) ?_
                  exact ih (o + 1) (by omega) (by omega) (fun z hz => by rcases Nat.lt_or_ge z o with q | q; exact h3 z q; rw [show z = o by omega]; exact c_75) ls (lv_sub hl [0, 1, 2, 3] rfl)
          exact loop (n + 1) 0 (by omega) (by omega) (fun z hz => absurd hz (by omega)) ls (lv_sub hl [0, 1, 2, 3] rfl)
        · refine lv_iconst (v := nI 0) hx hb dX1_find_45 rfl ?_
          first
          | exact K _ (nI 0, nI 0, nI 0, u_38) _ _ _ _ (pxP.good hi hj c_33 ⟨fun _ => rfl, fun h => absurd h (by omega)⟩) hP hD hS rfl dX1_find_46
          | exact K _ (nI 0, nI 0, nI 0, u_38) _ _ _ _ (pxP.bad (badP_3 (by rw [c_33])) rfl) hP hD hS rfl dX1_find_46
    · refine xn_if_eq (tgt := 45) hx hb dX1_find_28 (by decide) (by omega) (fun c_28 => ?_) (fun c_28 => absurd c_28 (by omega))
      refine lv_iconst (v := nI 0) hx hb dX1_find_45 rfl ?_
      exact K _ (nI 0, nI 0, nI 0, w) _ _ _ _ (pxP.bad (badP_2 hbad_y) rfl) hP hD hS rfl dX1_find_46
  · refine xn_if_eq (tgt := 45) hx hb dX1_find_20 (by decide) (by omega) (fun c_20 => ?_) (fun c_20 => absurd c_20 (by omega))
    refine lv_iconst (v := nI 0) hx hb dX1_find_45 rfl ?_
    exact K _ (nI 0, nI 0, nI 0, w) _ _ _ _ (pxP.bad (badP_1 hbad_x) rfl) hP hD hS rfl dX1_find_46
set_option maxHeartbeats 4000000 in
set_option maxRecDepth 100000 in
theorem mX1_line (l : Launch) (dC : Nat → ClassId) (dI : Nat → Nat → Nat) (dA dB : ClassId) (sz : Nat) (g0 b1 b2 : Nat) (p0 q0 r0 : Int32) (n : Nat) (a w : Nat → Int32) (x y : Int32) (hn : n ≤ 100) (hok : okA a n) : Met l yX1_line (ws_ yX1_line cX1_line 3 (some .int)) ({ frames := 3, cells := 0, slots := 0, locals := 73 } : Room) (va_Pc [.ref g0, .int x, .int y] (xPre (dC, dI) vwCl (xT dA dB) [(g0, oM b1 b2 (nI n) p0 q0 r0), (b1, .inl (dA, 400, .inl a)), (b2, .inl (dA, 4, .inl w))] sz)) (va_Qi (fun r _ => pxP x y (r = nI 0) (fun i j => ((dl a i n).length < 2 → r = nI 0) ∧ (2 ≤ (dl a i n).length → ∃ o P Q R, lnR a i j n o P Q R ∧ ((r = P ∧ ¬ Q = 0 ∧ ∀ t, t < n → P * a (4 * t + j) = Q * a (4 * t + i) + R) ∨ (r = nI 0 ∧ ¬ (¬ Q = 0 ∧ ∀ t, t < n → P * a (4 * t + j) = Q * a (4 * t + i) + R)))))) (fun u t => va_P (dC, dI) vwCl ((fun u : Int32 × Int32 × Int32 × (Nat → Int32) => [(g0, oM b1 b2 (nI n) u.1 u.2.1 u.2.2.1), (b1, .inl (dA, 400, .inl a)), (b2, .inl (dA, 4, .inl u.2.2.2))]) u) t.heap ∧ va_D (va_A [(g0, oM b1 b2 (nI n) p0 q0 r0), (b1, .inl (dA, 400, .inl a)), (b2, .inl (dA, 4, .inl w))] sz) ((fun u : Int32 × Int32 × Int32 × (Nat → Int32) => [(g0, oM b1 b2 (nI n) u.1 u.2.1 u.2.2.1), (b1, .inl (dA, 400, .inl a)), (b2, .inl (dA, 4, .inl u.2.2.2))]) u)) (va_A [(g0, oM b1 b2 (nI n) p0 q0 r0), (b1, .inl (dA, 400, .inl a)), (b2, .inl (dA, 4, .inl w))] sz)) 0 0 (va_A [(g0, oM b1 b2 (nI n) p0 q0 r0), (b1, .inl (dA, 400, .inl a)), (b2, .inl (dA, 4, .inl w))] sz) := by
  refine xm_Qi (by decide) (Nat.le_of_ble_eq_true rfl) ?_
  intro p e s m args below meth c hx hb hml hown hts hK A hA H locs hP hD hS Q K ls hl
  have hown : s.vm.findClass RX1 = some m.cls := hown
  have hl : lv_has ls 3 [(0, .ref g0), (1, .int x), (2, .int y)] := hl
  refine lv_aload_n hx hb dX1_line_0 rfl (lv_at hl 0 rfl) ?_
  refine lv_iload_n hx hb dX1_line_1 rfl (lv_at hl 1 rfl) ?_
  refine lv_iload_n hx hb dX1_line_2 rfl (lv_at hl 2 rfl) ?_
  refine xc_Wi (ci := 1) (q0 := 0) (wc := [(g0, oM b1 b2 (nI n) p0 q0 r0), (b1, .inl (dA, 400, .inl a)), (b2, .inl (dA, 4, .inl w))]) (wr := []) [.int x, .int y] ⟨hx, hb, hml, hown, hts⟩ hK hP hD hS hA rfl rfl rfl [0, 1, 2] [] [0, 1, 2] rfl rfl rfl rfl rfl (by decide) (fun u : Int32 × Int32 × Int32 × (Nat → Int32) => [(g0, oM b1 b2 (nI n) u.1 u.2.1 u.2.2.1), (b1, .inl (dA, 400, .inl a)), (b2, .inl (dA, 4, .inl u.2.2.2))]) (fun _ => rfl) (fun _ => rfl) rfl (mX1_find l dC dI dA dB H.size g0 b1 b2 p0 q0 r0 n a w x y hn hok) (cwV 2 hts (lw_V q279 q281 qs11 q14 q282) rfl rfl rfl (by decide +kernel) ⟨Nat.le_of_ble_eq_true rfl, Nat.le_of_ble_eq_true rfl⟩) rfl hl.1 rfl (Nat.le_of_ble_eq_true rfl) dX1_line_3 ⟨Nat.le_of_ble_eq_true rfl, Nat.le_of_ble_eq_true rfl⟩ (fun r_3 u_3 H locs h_3 hP hD hS => ?_)
  rcases badP_or x y with ⟨i, j, hi, hj, hij, rfl, rfl⟩ | hbad
  · obtain ⟨h5, h6⟩ := h_3.2 i j hi hj hij rfl rfl
    rcases Nat.lt_or_ge (dl a i n).length 2 with h7 | h7
    · have h5 := h5 h7
      subst h5
      refine xn_if_eq (tgt := 16) hx hb dX1_line_6 (by decide) (by omega) (fun c_6 => ?_) (fun c_6 => absurd c_6 (by omega))
      refine lv_iconst (v := nI 0) hx hb dX1_line_16 rfl ?_
      exact K _ u_3 _ _ _ _ (pxP.good hi hj hij ⟨fun _ => rfl, fun h => absurd h (by omega)⟩) hP hD hS rfl dX1_line_17
    · obtain ⟨o, h8, h9⟩ := h6 h7
      rcases h9 with ⟨rfl, h10, h11⟩ | ⟨rfl, h10⟩
      · refine xn_if_eq (tgt := 16) hx hb dX1_line_6 (by decide) (by omega) (fun c_6 => absurd c_6 (by omega)) (fun c_6 => ?_)
        refine lv_aload_n hx hb dX1_line_9 rfl (lv_at hl 0 rfl) ?_
        refine x1_get hx hb hts hown hK hP 0 rfl 3 (by decide) (hts _ q197) rfl (v := .int u_3.1) rfl dX1_line_10 ?_
        refine lv_goto (tgt := 17) hx hb dX1_line_13 (by decide) ?_
        exact K _ u_3 _ _ _ _ (pxP.good hi hj hij ⟨fun h => absurd h (by omega), fun _ => ⟨o, u_3.1, u_3.2.1, u_3.2.2.1, h8, Or.inl ⟨rfl, h10, h11⟩⟩⟩) hP hD hS rfl dX1_line_17
      · refine xn_if_eq (tgt := 16) hx hb dX1_line_6 (by decide) (by omega) (fun c_6 => ?_) (fun c_6 => absurd c_6 (by omega))
        refine lv_iconst (v := nI 0) hx hb dX1_line_16 rfl ?_
        exact K _ u_3 _ _ _ _ (pxP.good hi hj hij ⟨fun h => absurd h (by omega), fun _ => ⟨o, u_3.1, u_3.2.1, u_3.2.2.1, h8, Or.inr ⟨rfl, h10⟩⟩⟩) hP hD hS rfl dX1_line_17
  · have h_3 := h_3.1 hbad
    subst h_3
    refine xn_if_eq (tgt := 16) hx hb dX1_line_6 (by decide) (by omega) (fun c_6 => ?_) (fun c_6 => absurd c_6 (by omega))
    refine lv_iconst (v := nI 0) hx hb dX1_line_16 rfl ?_
    exact K _ u_3 _ _ _ _ (pxP.bad hbad rfl) hP hD hS rfl dX1_line_17
set_option maxHeartbeats 4000000 in
set_option maxRecDepth 100000 in
theorem mX1_slope (l : Launch) (dC : Nat → ClassId) (dI : Nat → Nat → Nat) (dA dB : ClassId) (sz : Nat) (g0 b1 b2 : Nat) (p0 q0 r0 : Int32) (n : Nat) (a w : Nat → Int32) (x y : Int32) (hn : n ≤ 100) (hok : okA a n) : Met l yX1_slope (ws_ yX1_slope cX1_slope 3 (some .int)) ({ frames := 3, cells := 0, slots := 0, locals := 73 } : Room) (va_Pc [.ref g0, .int x, .int y] (xPre (dC, dI) vwCl (xT dA dB) [(g0, oM b1 b2 (nI n) p0 q0 r0), (b1, .inl (dA, 400, .inl a)), (b2, .inl (dA, 4, .inl w))] sz)) (va_Qi (fun r _ => pxP x y (r = nI 0) (fun i j => ((dl a i n).length < 2 → r = nI 0) ∧ (2 ≤ (dl a i n).length → ∃ o P Q R, lnR a i j n o P Q R ∧ ((r = Q ∧ ¬ Q = 0 ∧ ∀ t, t < n → P * a (4 * t + j) = Q * a (4 * t + i) + R) ∨ (r = nI 0 ∧ ¬ (¬ Q = 0 ∧ ∀ t, t < n → P * a (4 * t + j) = Q * a (4 * t + i) + R)))))) (fun u t => va_P (dC, dI) vwCl ((fun u : Int32 × Int32 × Int32 × (Nat → Int32) => [(g0, oM b1 b2 (nI n) u.1 u.2.1 u.2.2.1), (b1, .inl (dA, 400, .inl a)), (b2, .inl (dA, 4, .inl u.2.2.2))]) u) t.heap ∧ va_D (va_A [(g0, oM b1 b2 (nI n) p0 q0 r0), (b1, .inl (dA, 400, .inl a)), (b2, .inl (dA, 4, .inl w))] sz) ((fun u : Int32 × Int32 × Int32 × (Nat → Int32) => [(g0, oM b1 b2 (nI n) u.1 u.2.1 u.2.2.1), (b1, .inl (dA, 400, .inl a)), (b2, .inl (dA, 4, .inl u.2.2.2))]) u)) (va_A [(g0, oM b1 b2 (nI n) p0 q0 r0), (b1, .inl (dA, 400, .inl a)), (b2, .inl (dA, 4, .inl w))] sz)) 0 0 (va_A [(g0, oM b1 b2 (nI n) p0 q0 r0), (b1, .inl (dA, 400, .inl a)), (b2, .inl (dA, 4, .inl w))] sz) := by
  refine xm_Qi (by decide) (Nat.le_of_ble_eq_true rfl) ?_
  intro p e s m args below meth c hx hb hml hown hts hK A hA H locs hP hD hS Q K ls hl
  have hown : s.vm.findClass RX1 = some m.cls := hown
  have hl : lv_has ls 3 [(0, .ref g0), (1, .int x), (2, .int y)] := hl
  refine lv_aload_n hx hb dX1_slope_0 rfl (lv_at hl 0 rfl) ?_
  refine lv_iload_n hx hb dX1_slope_1 rfl (lv_at hl 1 rfl) ?_
  refine lv_iload_n hx hb dX1_slope_2 rfl (lv_at hl 2 rfl) ?_
  refine xc_Wi (ci := 1) (q0 := 0) (wc := [(g0, oM b1 b2 (nI n) p0 q0 r0), (b1, .inl (dA, 400, .inl a)), (b2, .inl (dA, 4, .inl w))]) (wr := []) [.int x, .int y] ⟨hx, hb, hml, hown, hts⟩ hK hP hD hS hA rfl rfl rfl [0, 1, 2] [] [0, 1, 2] rfl rfl rfl rfl rfl (by decide) (fun u : Int32 × Int32 × Int32 × (Nat → Int32) => [(g0, oM b1 b2 (nI n) u.1 u.2.1 u.2.2.1), (b1, .inl (dA, 400, .inl a)), (b2, .inl (dA, 4, .inl u.2.2.2))]) (fun _ => rfl) (fun _ => rfl) rfl (mX1_find l dC dI dA dB H.size g0 b1 b2 p0 q0 r0 n a w x y hn hok) (cwV 2 hts (lw_V q279 q281 qs11 q14 q282) rfl rfl rfl (by decide +kernel) ⟨Nat.le_of_ble_eq_true rfl, Nat.le_of_ble_eq_true rfl⟩) rfl hl.1 rfl (Nat.le_of_ble_eq_true rfl) dX1_slope_3 ⟨Nat.le_of_ble_eq_true rfl, Nat.le_of_ble_eq_true rfl⟩ (fun r_3 u_3 H locs h_3 hP hD hS => ?_)
  rcases badP_or x y with ⟨i, j, hi, hj, hij, rfl, rfl⟩ | hbad
  · obtain ⟨h5, h6⟩ := h_3.2 i j hi hj hij rfl rfl
    rcases Nat.lt_or_ge (dl a i n).length 2 with h7 | h7
    · have h5 := h5 h7
      subst h5
      refine xn_if_eq (tgt := 16) hx hb dX1_slope_6 (by decide) (by omega) (fun c_6 => ?_) (fun c_6 => absurd c_6 (by omega))
      refine lv_iconst (v := nI 0) hx hb dX1_slope_16 rfl ?_
      exact K _ u_3 _ _ _ _ (pxP.good hi hj hij ⟨fun _ => rfl, fun h => absurd h (by omega)⟩) hP hD hS rfl dX1_slope_17
    · obtain ⟨o, h8, h9⟩ := h6 h7
      rcases h9 with ⟨rfl, h10, h11⟩ | ⟨rfl, h10⟩
      · refine xn_if_eq (tgt := 16) hx hb dX1_slope_6 (by decide) (by omega) (fun c_6 => absurd c_6 (by omega)) (fun c_6 => ?_)
        refine lv_aload_n hx hb dX1_slope_9 rfl (lv_at hl 0 rfl) ?_
        refine x1_get hx hb hts hown hK hP 0 rfl 4 (by decide) (hts _ q198) rfl (v := .int u_3.2.1) rfl dX1_slope_10 ?_
        refine lv_goto (tgt := 17) hx hb dX1_slope_13 (by decide) ?_
        exact K _ u_3 _ _ _ _ (pxP.good hi hj hij ⟨fun h => absurd h (by omega), fun _ => ⟨o, u_3.1, u_3.2.1, u_3.2.2.1, h8, Or.inl ⟨rfl, h10, h11⟩⟩⟩) hP hD hS rfl dX1_slope_17
      · refine xn_if_eq (tgt := 16) hx hb dX1_slope_6 (by decide) (by omega) (fun c_6 => ?_) (fun c_6 => absurd c_6 (by omega))
        refine lv_iconst (v := nI 0) hx hb dX1_slope_16 rfl ?_
        exact K _ u_3 _ _ _ _ (pxP.good hi hj hij ⟨fun h => absurd h (by omega), fun _ => ⟨o, u_3.1, u_3.2.1, u_3.2.2.1, h8, Or.inr ⟨rfl, h10⟩⟩⟩) hP hD hS rfl dX1_slope_17
  · have h_3 := h_3.1 hbad
    subst h_3
    refine xn_if_eq (tgt := 16) hx hb dX1_slope_6 (by decide) (by omega) (fun c_6 => ?_) (fun c_6 => absurd c_6 (by omega))
    refine lv_iconst (v := nI 0) hx hb dX1_slope_16 rfl ?_
    exact K _ u_3 _ _ _ _ (pxP.bad hbad rfl) hP hD hS rfl dX1_slope_17
set_option maxHeartbeats 4000000 in
set_option maxRecDepth 100000 in
theorem mX1_rise (l : Launch) (dC : Nat → ClassId) (dI : Nat → Nat → Nat) (dA dB : ClassId) (sz : Nat) (g0 b1 b2 : Nat) (p0 q0 r0 : Int32) (n : Nat) (a w : Nat → Int32) (x y : Int32) (hn : n ≤ 100) (hok : okA a n) : Met l yX1_rise (ws_ yX1_rise cX1_rise 3 (some .int)) ({ frames := 3, cells := 0, slots := 0, locals := 73 } : Room) (va_Pc [.ref g0, .int x, .int y] (xPre (dC, dI) vwCl (xT dA dB) [(g0, oM b1 b2 (nI n) p0 q0 r0), (b1, .inl (dA, 400, .inl a)), (b2, .inl (dA, 4, .inl w))] sz)) (va_Qi (fun r _ => pxP x y (r = nI 0) (fun i j => ((dl a i n).length < 2 → r = nI 0) ∧ (2 ≤ (dl a i n).length → ∃ o P Q R, lnR a i j n o P Q R ∧ ((r = R ∧ ¬ Q = 0 ∧ ∀ t, t < n → P * a (4 * t + j) = Q * a (4 * t + i) + R) ∨ (r = nI 0 ∧ ¬ (¬ Q = 0 ∧ ∀ t, t < n → P * a (4 * t + j) = Q * a (4 * t + i) + R)))))) (fun u t => va_P (dC, dI) vwCl ((fun u : Int32 × Int32 × Int32 × (Nat → Int32) => [(g0, oM b1 b2 (nI n) u.1 u.2.1 u.2.2.1), (b1, .inl (dA, 400, .inl a)), (b2, .inl (dA, 4, .inl u.2.2.2))]) u) t.heap ∧ va_D (va_A [(g0, oM b1 b2 (nI n) p0 q0 r0), (b1, .inl (dA, 400, .inl a)), (b2, .inl (dA, 4, .inl w))] sz) ((fun u : Int32 × Int32 × Int32 × (Nat → Int32) => [(g0, oM b1 b2 (nI n) u.1 u.2.1 u.2.2.1), (b1, .inl (dA, 400, .inl a)), (b2, .inl (dA, 4, .inl u.2.2.2))]) u)) (va_A [(g0, oM b1 b2 (nI n) p0 q0 r0), (b1, .inl (dA, 400, .inl a)), (b2, .inl (dA, 4, .inl w))] sz)) 0 0 (va_A [(g0, oM b1 b2 (nI n) p0 q0 r0), (b1, .inl (dA, 400, .inl a)), (b2, .inl (dA, 4, .inl w))] sz) := by
  refine xm_Qi (by decide) (Nat.le_of_ble_eq_true rfl) ?_
  intro p e s m args below meth c hx hb hml hown hts hK A hA H locs hP hD hS Q K ls hl
  have hown : s.vm.findClass RX1 = some m.cls := hown
  have hl : lv_has ls 3 [(0, .ref g0), (1, .int x), (2, .int y)] := hl
  refine lv_aload_n hx hb dX1_rise_0 rfl (lv_at hl 0 rfl) ?_
  refine lv_iload_n hx hb dX1_rise_1 rfl (lv_at hl 1 rfl) ?_
  refine lv_iload_n hx hb dX1_rise_2 rfl (lv_at hl 2 rfl) ?_
  refine xc_Wi (ci := 1) (q0 := 0) (wc := [(g0, oM b1 b2 (nI n) p0 q0 r0), (b1, .inl (dA, 400, .inl a)), (b2, .inl (dA, 4, .inl w))]) (wr := []) [.int x, .int y] ⟨hx, hb, hml, hown, hts⟩ hK hP hD hS hA rfl rfl rfl [0, 1, 2] [] [0, 1, 2] rfl rfl rfl rfl rfl (by decide) (fun u : Int32 × Int32 × Int32 × (Nat → Int32) => [(g0, oM b1 b2 (nI n) u.1 u.2.1 u.2.2.1), (b1, .inl (dA, 400, .inl a)), (b2, .inl (dA, 4, .inl u.2.2.2))]) (fun _ => rfl) (fun _ => rfl) rfl (mX1_find l dC dI dA dB H.size g0 b1 b2 p0 q0 r0 n a w x y hn hok) (cwV 2 hts (lw_V q279 q281 qs11 q14 q282) rfl rfl rfl (by decide +kernel) ⟨Nat.le_of_ble_eq_true rfl, Nat.le_of_ble_eq_true rfl⟩) rfl hl.1 rfl (Nat.le_of_ble_eq_true rfl) dX1_rise_3 ⟨Nat.le_of_ble_eq_true rfl, Nat.le_of_ble_eq_true rfl⟩ (fun r_3 u_3 H locs h_3 hP hD hS => ?_)
  rcases badP_or x y with ⟨i, j, hi, hj, hij, rfl, rfl⟩ | hbad
  · obtain ⟨h5, h6⟩ := h_3.2 i j hi hj hij rfl rfl
    rcases Nat.lt_or_ge (dl a i n).length 2 with h7 | h7
    · have h5 := h5 h7
      subst h5
      refine xn_if_eq (tgt := 16) hx hb dX1_rise_6 (by decide) (by omega) (fun c_6 => ?_) (fun c_6 => absurd c_6 (by omega))
      refine lv_iconst (v := nI 0) hx hb dX1_rise_16 rfl ?_
      exact K _ u_3 _ _ _ _ (pxP.good hi hj hij ⟨fun _ => rfl, fun h => absurd h (by omega)⟩) hP hD hS rfl dX1_rise_17
    · obtain ⟨o, h8, h9⟩ := h6 h7
      rcases h9 with ⟨rfl, h10, h11⟩ | ⟨rfl, h10⟩
      · refine xn_if_eq (tgt := 16) hx hb dX1_rise_6 (by decide) (by omega) (fun c_6 => absurd c_6 (by omega)) (fun c_6 => ?_)
        refine lv_aload_n hx hb dX1_rise_9 rfl (lv_at hl 0 rfl) ?_
        refine x1_get hx hb hts hown hK hP 0 rfl 5 (by decide) (hts _ q199) rfl (v := .int u_3.2.2.1) rfl dX1_rise_10 ?_
        refine lv_goto (tgt := 17) hx hb dX1_rise_13 (by decide) ?_
        exact K _ u_3 _ _ _ _ (pxP.good hi hj hij ⟨fun h => absurd h (by omega), fun _ => ⟨o, u_3.1, u_3.2.1, u_3.2.2.1, h8, Or.inl ⟨rfl, h10, h11⟩⟩⟩) hP hD hS rfl dX1_rise_17
      · refine xn_if_eq (tgt := 16) hx hb dX1_rise_6 (by decide) (by omega) (fun c_6 => ?_) (fun c_6 => absurd c_6 (by omega))
        refine lv_iconst (v := nI 0) hx hb dX1_rise_16 rfl ?_
        exact K _ u_3 _ _ _ _ (pxP.good hi hj hij ⟨fun h => absurd h (by omega), fun _ => ⟨o, u_3.1, u_3.2.1, u_3.2.2.1, h8, Or.inr ⟨rfl, h10⟩⟩⟩) hP hD hS rfl dX1_rise_17
  · have h_3 := h_3.1 hbad
    subst h_3
    refine xn_if_eq (tgt := 16) hx hb dX1_rise_6 (by decide) (by omega) (fun c_6 => ?_) (fun c_6 => absurd c_6 (by omega))
    refine lv_iconst (v := nI 0) hx hb dX1_rise_16 rfl ?_
    exact K _ u_3 _ _ _ _ (pxP.bad hbad rfl) hP hD hS rfl dX1_rise_17
end
section
/-! what the finder's cells say of the samples (a: the values, cell 4 * t + x; n samples), and that one more sample keeps it so -/
def gdR (a : Nat → Int32) (j n g : Nat) : Prop := (∀ i, i < n → (g : Int) ∣ (a (4 * i + j)).toInt - (a j).toInt) ∧ ∀ d : Nat, (∀ i, i < n → (d : Int) ∣ (a (4 * i + j)).toInt - (a j).toInt) → d ∣ g
def vrR (a : Nat → Int32) (n j : Nat) (fi le ge ga : Nat → Int32) : Prop := 0 < n → fi j = a j ∧ le j = fB 0 a j n ∧ ge j = fB (nI 1) a j n ∧ ∃ g : Nat, g ≤ 200 ∧ ga j = nI g ∧ gdR a j n g
def drR (a : Nat → Int32) (n j : Nat) (so sc : Nat → Int32) : Prop := sc j = nI (dl a j n).length ∧ ((dl a j n).length ≤ 3 → (∀ q q2, q < q2 → q2 < (dl a j n).length → so (j * 4 + q) < so (j * 4 + q2)) ∧ ∀ v, v ∈ dl a j n ↔ ∃ q, q < (dl a j n).length ∧ so (j * 4 + q) = v)
def prR (a : Nat → Int32) (n i j : Nat) (nl gr un al ab : Int32) (aw : Nat → Int32) : Prop :=
  (ibt nl (4 * i + j) = true ↔ ∃ t, t < n ∧ ¬ a (4 * t + i) < a (4 * t + j)) ∧ (ibt gr (4 * i + j) = true ↔ ∃ t, t < n ∧ ¬ a (4 * t + i) ≤ a (4 * t + j)) ∧
  (ibt un (4 * i + j) = true ↔ ∃ t, t < n ∧ ¬ a (4 * t + i) = a (4 * t + j)) ∧ (ibt al (4 * i + j) = true ↔ ∃ t, t < n ∧ a (4 * t + i) = a (4 * t + j)) ∧
  (0 < n → aw (4 * i + j) = a j - a i) ∧ (ibt ab (4 * i + j) = true ↔ ∃ t, t < n ∧ ¬ a (4 * t + j) - a (4 * t + i) = a j - a i)
def frst (a : Nat → Int32) (i j n o : Nat) : Prop := o < n ∧ ∀ z, z < o → a (4 * z + i) = a i ∧ a (4 * z + j) = a j
def lnS (a : Nat → Int32) (n i j : Nat) (ls P Q R : Nat → Int32) : Prop :=
  (n = 0 ∧ ls (4 * i + j) = nI 0) ∨
  (0 < n ∧ ls (4 * i + j) = nI 1 ∧ P (4 * i + j) = a i ∧ Q (4 * i + j) = a j ∧ ∀ t, t < n → a (4 * t + i) = a i ∧ a (4 * t + j) = a j) ∨
  (ls (4 * i + j) = nI 2 ∧ ∃ o, frst a i j n o ∧ ¬ a (4 * o + i) = a i ∧ ¬ a (4 * o + j) = a j ∧ drwR (a (4 * o + i) - a i) (a (4 * o + j) - a j) (a (4 * o + i)) (a (4 * o + j)) (P (4 * i + j)) (Q (4 * i + j)) (R (4 * i + j)) ∧ ∀ t, t < n → P (4 * i + j) * a (4 * t + j) = Q (4 * i + j) * a (4 * t + i) + R (4 * i + j)) ∨
  (ls (4 * i + j) = nI 3 ∧ ∃ o, frst a i j n o ∧ ((a (4 * o + i) = a i ∧ ¬ a (4 * o + j) = a j) ∨ (¬ a (4 * o + i) = a i ∧ a (4 * o + j) = a j) ∨ (¬ a (4 * o + i) = a i ∧ ¬ a (4 * o + j) = a j ∧ ∃ p q r, drwR (a (4 * o + i) - a i) (a (4 * o + j) - a j) (a (4 * o + i)) (a (4 * o + j)) p q r ∧ ¬ ∀ t, t < n → p * a (4 * t + j) = q * a (4 * t + i) + r)))
def smS (a : Nat → Int32) (n : Nat) (sb : Int64) : Prop := ∀ b, b < 64 → (lbt sb b = true ↔ ∃ t, t < n ∧ ¬ a (4 * t + b / 16) + a (4 * t + b / 4 % 4) = a (4 * t + b % 4))
/-! ===== one more sample ===== -/
theorem gcd_step {a : Nat → Int32} {j n g : Nat} {v : Int32} (h : gdR a j n g) (hg : g ≤ 200) (hv : v = a (4 * n + j)) (hb : -200 ≤ v.toInt - (a j).toInt ∧ v.toInt - (a j).toInt ≤ 200) : Int.gcd (g : Int) (v.toInt - (a j).toInt) ≤ 200 ∧ gdR a j (n + 1) (Int.gcd (g : Int) (v.toInt - (a j).toInt)) := by
  obtain ⟨h1, h2⟩ := h
  have d1 : ((Int.gcd (g : Int) (v.toInt - (a j).toInt) : Nat) : Int) ∣ (g : Int) := Int.gcd_dvd_left _ _
  have d2 : ((Int.gcd (g : Int) (v.toInt - (a j).toInt) : Nat) : Int) ∣ v.toInt - (a j).toInt := Int.gcd_dvd_right _ _
  refine ⟨?_, ?_, ?_⟩
  · rcases Nat.eq_zero_or_pos g with z | z
    · subst z
      have e : Int.gcd ((0 : Nat) : Int) (v.toInt - (a j).toInt) = (v.toInt - (a j).toInt).natAbs := by simp
      rw [e]
      omega
    · have := Nat.le_of_dvd z (Int.natCast_dvd_natCast.mp d1)
      omega
  · intro i hi
    rcases Nat.lt_or_ge i n with q | q
    · exact Int.dvd_trans d1 (h1 i q)
    · rw [show i = n by omega, ← hv]
      exact d2
  · intro d hd
    have e1 : d ∣ g := h2 d (fun i hi => hd i (by omega))
    have e2 : (d : Int) ∣ v.toInt - (a j).toInt := by rw [hv]; exact hd n (by omega)
    exact Int.dvd_gcd (Int.natCast_dvd_natCast.mpr e1) e2
theorem vr_step {a : Nat → Int32} {n j k : Nat} {fi le ge ga so sc fi' le' ge' ga' so' sc' : Nat → Int32} (hj : j < 4) (hok : okA a (n + 1)) (h : vrR a n j fi le ge ga) (ht : tvR n fi le ge ga so sc j (a (4 * n + j)) k fi' le' ge' ga' so' sc') : vrR a (n + 1) j fi' le' ge' ga' := by
  intro _
  obtain ⟨-, t0, t1, -⟩ := ht
  rcases Nat.eq_zero_or_pos n with z | z
  · subst z
    obtain ⟨e1, e2, e3, e4⟩ := t0 rfl
    have ez : 4 * 0 + j = j := by omega
    rw [ez] at e1 e2 e3
    refine ⟨e1, ?_, ?_, 0, by omega, e4, ?_, ?_⟩
    · rw [e2]
      show a j = (if (0 : Int32) = 0 then (if a (4 * 0 + j) < fB 0 a j 0 then a (4 * 0 + j) else fB 0 a j 0) else _)
      rw [if_pos rfl, ez]
      show a j = if a j < a j then a j else a j
      split <;> rfl
    · rw [e3]
      show a j = (if nI 1 = 0 then _ else (if fB (nI 1) a j 0 < a (4 * 0 + j) then a (4 * 0 + j) else fB (nI 1) a j 0))
      rw [if_neg (show ¬ nI 1 = 0 by decide), ez]
      show a j = if a j < a j then a j else a j
      split <;> rfl
    · intro i hi
      rw [show i = 0 by omega, ez, Int.sub_self]
      exact Int.dvd_zero _
    · intro d _
      exact Nat.dvd_zero d
  · obtain ⟨e1, e2, e3, e4⟩ := t1 z
    obtain ⟨f1, f2, f3, g, f4, f5, f6⟩ := h z
    have hv : okw (a (4 * n + j)) := hok _ (by omega)
    have hf : okw (a j) := hok _ (by omega)
    refine ⟨by rw [e1, f1], ?_, ?_, Int.gcd (g : Int) ((a (4 * n + j)).toInt - (a j).toInt), ?_⟩
    · rw [e2, f2]
      show _ = (if (0 : Int32) = 0 then (if a (4 * n + j) < fB 0 a j n then a (4 * n + j) else fB 0 a j n) else _)
      rw [if_pos rfl]
    · rw [e3, f3]
      show _ = (if nI 1 = 0 then _ else (if fB (nI 1) a j n < a (4 * n + j) then a (4 * n + j) else fB (nI 1) a j n))
      rw [if_neg (show ¬ nI 1 = 0 by decide)]
    · have hd := sub_ok hv hf
      have hb := okw_sub hv hf
      rw [hd] at hb
      obtain ⟨s1, s2⟩ := gcd_step f6 f4 rfl hb
      refine ⟨s1, ?_, s2⟩
      rw [e4, f5, f1, hd, nI_toInt (by omega)]
theorem vr_frame {a : Nat → Int32} {n m j j2 k : Nat} {v : Int32} {fi le ge ga so sc fi' le' ge' ga' so' sc' : Nat → Int32} (hn : j2 ≠ j) (h : vrR a m j2 fi le ge ga) (ht : tvR n fi le ge ga so sc j v k fi' le' ge' ga' so' sc') : vrR a m j2 fi' le' ge' ga' := by
  intro hm
  obtain ⟨e1, e2, e3, e4⟩ := ht.1 j2 hn
  rw [e1, e2, e3, e4]
  exact h hm
theorem lt_tr {x y z : Int32} (h : x < y) (h2 : y < z) : x < z := by
  rw [Int32.lt_iff_toInt_lt] at *
  omega
theorem dr_step {a : Nat → Int32} {n j : Nat} {so sc so' sc' : Nat → Int32} (h : drR a n j so sc) (ht : tdR so sc j (a (4 * n + j)) (dl a j n).length so' sc') : drR a (n + 1) j so' sc' := by
  obtain ⟨h1, h2⟩ := h
  have hlen := dl_len a j n
  rcases ht with ⟨t1, t2, t3, t4⟩ | ⟨t1, t2, t3, t4⟩ | ⟨t1, t2, t3, p, t4⟩
  · have e : dl a j (n + 1) = dl a j n := dl_in (((h2 (by omega)).2 _).mpr t2)
    unfold drR
    rw [e, t3, t4]
    exact ⟨h1, h2⟩
  · rcases Nat.lt_or_ge (dl a j n).length 4 with q | q
    · have hnm : ¬ a (4 * n + j) ∈ dl a j n := fun hm => by
        obtain ⟨z, hz, e⟩ := ((h2 (by omega)).2 _).mp hm
        exact t1 q z hz e
      have e := dl_new hnm q
      unfold drR
      rw [e, t3, t4, pk_us, List.length_append, List.length_singleton]
      refine ⟨by rw [show (dl a j n).length + 1 = 4 by omega], fun hc => absurd hc (by omega)⟩
    · have e : dl a j (n + 1) = dl a j n := dl_full q
      unfold drR
      rw [e, t3, t4, pk_us]
      refine ⟨by rw [show (dl a j n).length = 4 by omega], fun hc => absurd hc (by omega)⟩
  · obtain ⟨s1, s2, s3, s4, s5, s6⟩ := t4
    obtain ⟨o1, o2⟩ := h2 (by omega)
    have hnm : ¬ a (4 * n + j) ∈ dl a j n := fun hm => by
      obtain ⟨z, hz, e⟩ := (o2 _).mp hm
      exact t1 z hz e
    have e := dl_new hnm (by omega)
    -- below the place: less than the value
    have low : ∀ z, z < p → so (j * 4 + z) < a (4 * n + j) := by
      intro z hz
      rcases s2 with s2 | s2
      · omega
      · have e1 : so (j * 4 + p - 1) < a (4 * n + j) := by
          have := t1 (p - 1) (by omega)
          rw [show j * 4 + (p - 1) = j * 4 + p - 1 by omega] at this
          rw [Int32.lt_iff_toInt_lt] at s2 ⊢
          have h9 : (so (j * 4 + p - 1)).toInt ≠ (a (4 * n + j)).toInt := fun q => this (Int32.toInt_inj.mp q)
          omega
        rcases Nat.lt_or_ge z (p - 1) with q | q
        · have := o1 z (p - 1) q (by omega)
          rw [show j * 4 + (p - 1) = j * 4 + p - 1 by omega] at this
          exact lt_tr this e1
        · rw [show j * 4 + z = j * 4 + p - 1 by omega]
          exact e1
    have n1 : ∀ z, z < p → so' (j * 4 + z) = so (j * 4 + z) := fun z hz => s6 _ (by omega)
    have n2 : ∀ z, p < z → z ≤ (dl a j n).length → so' (j * 4 + z) = so (j * 4 + (z - 1)) := by
      intro z hz hz2
      have := s5 (z - 1) (by omega) (by omega)
      rw [show j * 4 + (z - 1) + 1 = j * 4 + z by omega] at this
      exact this
    unfold drR
    rw [e, t3, pk_us, List.length_append, List.length_singleton]
    refine ⟨rfl, fun _ => ⟨?_, ?_⟩⟩
    · intro q q2 hq hq2
      rcases Nat.lt_trichotomy q p with x1 | x1 | x1
      · rw [n1 q x1]
        rcases Nat.lt_trichotomy q2 p with x2 | x2 | x2
        · rw [n1 q2 x2]; exact o1 q q2 hq (by omega)
        · rw [x2, s4]; exact low q x1
        · rw [n2 q2 x2 (by omega)]
          exact lt_tr (low q x1) (s3 (q2 - 1) (by omega) (by omega))
      · rw [x1, s4, n2 q2 (by omega) (by omega)]
        exact s3 (q2 - 1) (by omega) (by omega)
      · rw [n2 q x1 (by omega), n2 q2 (by omega) (by omega)]
        exact o1 (q - 1) (q2 - 1) (by omega) (by omega)
    · intro v
      rw [List.mem_append, List.mem_singleton, o2 v]
      constructor
      · rintro (⟨z, hz, hv⟩ | hv)
        · rcases Nat.lt_or_ge z p with x1 | x1
          · exact ⟨z, by omega, by rw [n1 z x1]; exact hv⟩
          · exact ⟨z + 1, by omega, by rw [n2 (z + 1) (by omega) (by omega)]; exact hv⟩
        · exact ⟨p, by omega, by rw [s4, hv]⟩
      · rintro ⟨z, hz, hv⟩
        rcases Nat.lt_trichotomy z p with x1 | x1 | x1
        · rw [n1 z x1] at hv; exact Or.inl ⟨z, by omega, hv⟩
        · rw [x1, s4] at hv; exact Or.inr hv.symm
        · rw [n2 z x1 (by omega)] at hv; exact Or.inl ⟨z - 1, by omega, hv⟩
theorem td_frame {so sc so' sc' : Nat → Int32} {j k : Nat} {v : Int32} (ht : tdR so sc j v k so' sc') : (∀ z, z < j * 4 ∨ j * 4 + 4 ≤ z → so' z = so z) ∧ ∀ z, z ≠ j → sc' z = sc z := by
  rcases ht with ⟨t1, t2, t3, t4⟩ | ⟨t1, t2, t3, t4⟩ | ⟨t1, t2, t3, p, t4⟩
  · rw [t3, t4]; exact ⟨fun _ _ => rfl, fun _ _ => rfl⟩
  · rw [t3, t4]; exact ⟨fun _ _ => rfl, fun z hz => pk_un hz⟩
  · obtain ⟨s1, s2, s3, s4, s5, s6⟩ := t4
    rw [t3]
    exact ⟨fun z hz => s6 z (by omega), fun z hz => pk_un hz⟩
theorem dr_frame {a : Nat → Int32} {m j j2 k : Nat} {v : Int32} {so sc so' sc' : Nat → Int32} (hn : j2 ≠ j) (h : drR a m j2 so sc) (ht : tdR so sc j v k so' sc') : drR a m j2 so' sc' := by
  obtain ⟨f1, f2⟩ := td_frame ht
  have hlen := dl_len a j2 m
  have e : ∀ q, q < 4 → so' (j2 * 4 + q) = so (j2 * 4 + q) := fun q hq => f1 _ (by omega)
  refine ⟨by rw [f2 j2 hn]; exact h.1, fun hl => ?_⟩
  obtain ⟨h1, h2⟩ := h.2 hl
  refine ⟨fun q q2 x1 x2 => by rw [e q (by omega), e q2 (by omega)]; exact h1 q q2 x1 x2, fun v => ?_⟩
  rw [h2 v]
  constructor
  · rintro ⟨q, hq, hv⟩
    exact ⟨q, hq, by rw [e q (by omega)]; exact hv⟩
  · rintro ⟨q, hq, hv⟩
    exact ⟨q, hq, by rw [← e q (by omega)]; exact hv⟩
theorem bit_step {x : Int32} {k n : Nat} {P : Nat → Prop} {c : Prop} [Decidable c] (hk : k < 32) (h : ibt x k = true ↔ ∃ t, t < n ∧ P t) (hc : ¬ c ↔ P n) : ibt (x ||| if c then nI 0 else bit1 k) k = true ↔ ∃ t, t < n + 1 ∧ P t := by
  by_cases q : c
  · rw [if_pos q, ibt_or0, h]
    constructor
    · rintro ⟨t, ht, hp⟩
      exact ⟨t, by omega, hp⟩
    · rintro ⟨t, ht, hp⟩
      rcases Nat.lt_or_ge t n with z | z
      · exact ⟨t, z, hp⟩
      · rw [show t = n by omega] at hp
        exact absurd q (hc.mpr hp)
  · rw [if_neg q, ibt_or1 hk]
    constructor
    · intro _
      exact ⟨n, by omega, hc.mp q⟩
    · intro _
      simp
theorem bit_frame {x : Int32} {k k2 : Nat} {c : Prop} [Decidable c] (hk : k < 32) (hn : k2 ≠ k) : ibt (x ||| if c then nI 0 else bit1 k) k2 = ibt x k2 := by
  by_cases q : c
  · rw [if_pos q, ibt_or0]
  · rw [if_neg q, ibt_or1 hk]
    simp [hn]
theorem if_swap {c : Prop} [Decidable c] (x y : Int32) : (if c then x else y) = if ¬ c then y else x := by
  by_cases q : c
  · rw [if_pos q, if_neg (fun h => h q)]
  · rw [if_neg q, if_pos q]
theorem ab_if {c : Prop} [Decidable c] (x y : Int32) : (if c then x else x ||| y) = x ||| if c then nI 0 else y := by
  by_cases q : c
  · rw [if_pos q, if_pos q, or_0]
  · rw [if_neg q, if_neg q]
theorem pr_step {a : Nat → Int32} {n i j : Nat} {nl gr un al ab nl' gr' un' al' ab' : Int32} {aw ls P Q R aw' ls' P' Q' R' : Nat → Int32} (hi : i < 4) (hj : j < 4) (hn : n ≤ 100) (h : prR a n i j nl gr un al ab aw) (ht : tpR (nI n) nl gr un al ab aw ls P Q R (4 * i + j) (a (4 * n + i)) (a (4 * n + j)) nl' gr' un' al' ab' aw' ls' P' Q' R') : prR a (n + 1) i j nl' gr' un' al' ab' aw' := by
  obtain ⟨h1, h2, h3, h4, h5, h6⟩ := h
  obtain ⟨t1, t2, t3, t4, t5, -⟩ := ht
  have hk : 4 * i + j < 32 := by omega
  refine ⟨?_, ?_, ?_, ?_, ?_, ?_⟩
  · rw [t1]; exact bit_step hk h1 Iff.rfl
  · rw [t2]; exact bit_step hk h2 Iff.rfl
  · rw [t3]; exact bit_step hk h3 Iff.rfl
  · rw [t4, if_swap]; exact bit_step hk h4 Classical.not_not
  · intro _
    rcases t5 with ⟨c1, c2, c3⟩ | ⟨c1, c2, c3⟩
    · have z : n = 0 := by
        rcases Nat.eq_zero_or_pos n with z | z
        · exact z
        · exact absurd c1 (nI_ne0 z (by omega))
      subst z
      rw [c2, pk_us, show 4 * 0 + j = j by omega, show 4 * 0 + i = i by omega]
    · rw [c2]
      refine h5 (Nat.pos_of_ne_zero (fun z => c1 ?_))
      rw [z]; rfl
  · rcases t5 with ⟨c1, c2, c3⟩ | ⟨c1, c2, c3⟩
    · have z : n = 0 := by
        rcases Nat.eq_zero_or_pos n with z | z
        · exact z
        · exact absurd c1 (nI_ne0 z (by omega))
      subst z
      rw [c3, h6]
      constructor
      · rintro ⟨t, ht, -⟩
        exact absurd ht (by omega)
      · rintro ⟨t, ht, hp⟩
        rw [show t = 0 by omega, show 4 * 0 + j = j by omega, show 4 * 0 + i = i by omega] at hp
        exact absurd rfl hp
    · have z : 0 < n := Nat.pos_of_ne_zero (fun z => c1 (by rw [z]; rfl))
      rw [c3, ab_if, h5 z]
      exact bit_step hk h6 Iff.rfl
theorem pr_frame {a : Nat → Int32} {m i j i2 j2 : Nat} {cn v1 v2 nl gr un al ab nl' gr' un' al' ab' : Int32} {aw ls P Q R aw' ls' P' Q' R' : Nat → Int32} (hi : i < 4) (hj : j < 4) (hn : 4 * i2 + j2 ≠ 4 * i + j) (h : prR a m i2 j2 nl gr un al ab aw) (ht : tpR cn nl gr un al ab aw ls P Q R (4 * i + j) v1 v2 nl' gr' un' al' ab' aw' ls' P' Q' R') : prR a m i2 j2 nl' gr' un' al' ab' aw' := by
  obtain ⟨h1, h2, h3, h4, h5, h6⟩ := h
  obtain ⟨t1, t2, t3, t4, t5, -⟩ := ht
  have hk : 4 * i + j < 32 := by omega
  have ea : aw' (4 * i2 + j2) = aw (4 * i2 + j2) := by
    rcases t5 with ⟨c1, c2, c3⟩ | ⟨c1, c2, c3⟩
    · rw [c2, pk_un hn]
    · rw [c2]
  refine ⟨?_, ?_, ?_, ?_, ?_, ?_⟩
  · rw [t1, bit_frame hk hn]; exact h1
  · rw [t2, bit_frame hk hn]; exact h2
  · rw [t3, bit_frame hk hn]; exact h3
  · rw [t4, if_swap, bit_frame hk hn]; exact h4
  · rw [ea]; exact h5
  · rcases t5 with ⟨c1, c2, c3⟩ | ⟨c1, c2, c3⟩
    · rw [c3]; exact h6
    · rw [c3, ab_if, bit_frame hk hn]; exact h6
theorem drw_line {ac up x y P Q R : Int32} (hac : ¬ ac = 0) (h : drwR ac up x y P Q R) : P * up = Q * ac := by
  obtain ⟨h1, h2, -⟩ := h
  have hz : ac.toInt ≠ 0 := fun e => hac (Int32.toInt_inj.mp e)
  have hg : 0 < Int.gcd ac.toInt up.toInt := Nat.gcd_pos_of_pos_left _ (Int.natAbs_pos.mpr hz)
  obtain ⟨g, eg⟩ : ∃ g : Nat, g = Int.gcd ac.toInt up.toInt := ⟨_, rfl⟩
  rw [← eg] at h1 h2 hg
  have hd : g ∣ ac.toInt.natAbs := by rw [eg]; exact Int.gcd_dvd_natAbs_left _ _
  have e1 : P.toInt * (g : Int) = (ac.toInt.natAbs : Int) := by
    rw [h1, ← Int.natCast_mul, Nat.div_mul_cancel hd]
  have e2 : P.toInt * up.toInt = Q.toInt * ac.toInt := by
    apply Int.eq_of_mul_eq_mul_right (show (g : Int) ≠ 0 by omega)
    rw [Int.mul_right_comm, e1, Int.mul_right_comm, h2]
    have e3 : (ac.toInt.natAbs : Int) = ac.toInt.sign * ac.toInt := by
      rcases Int.lt_or_gt_of_ne hz with q | q
      · rw [Int.sign_eq_neg_one_of_neg q]; omega
      · rw [Int.sign_eq_one_of_pos q]; omega
    rw [e3, Int.mul_assoc, Int.mul_assoc, Int.mul_comm ac.toInt up.toInt]
  apply Int32.toInt_inj.mp
  rw [Int32.toInt_mul, Int32.toInt_mul, e2]
theorem sub_0 {x y : Int32} : x - y = 0 ↔ x = y := by
  constructor
  · intro h
    have : x = x - y + y := by grind
    rw [this, h]
    grind
  · intro h
    rw [h, Int32.sub_self]
theorem ln_ring1 {P Q x y : Int32} : P * y = Q * x + (P * y - Q * x) := by grind
theorem ln_ring2 {P Q x y x0 y0 : Int32} (h : P * (y - y0) = Q * (x - x0)) : P * y0 = Q * x0 + (P * y - Q * x) := by grind
theorem ln_step {a : Nat → Int32} {n i j : Nat} {ls P Q R ls' P' Q' R' : Nat → Int32} (h : lnS a n i j ls P Q R) (ht : tlR ls P Q R (4 * i + j) (a (4 * n + i)) (a (4 * n + j)) ls' P' Q' R') : lnS a (n + 1) i j ls' P' Q' R' := by
  obtain ⟨-, ht⟩ := ht
  rcases h with ⟨h1, h2⟩ | ⟨h1, h2, h3, h4, h5⟩ | ⟨h1, o, h2, h3, h4, h5, h6⟩ | ⟨h1, o, h2, h3⟩
  · rw [h2] at ht
    rcases ht with ⟨c, t1, t2, t3⟩ | ⟨c, _⟩ | ⟨c, _⟩ | ⟨c, _⟩ | ⟨c, _⟩ | ⟨c, _⟩ | ⟨c, _⟩
    · subst h1
      have e1 : 4 * 0 + i = i := by omega
      have e2 : 4 * 0 + j = j := by omega
      rw [e1] at t2
      rw [e2] at t3
      refine Or.inr (Or.inl ⟨by omega, t1, t2, t3, fun t ht => ?_⟩)
      rw [show t = 0 by omega, e1, e2]
      exact ⟨rfl, rfl⟩
    · exact absurd c (by decide)
    · exact absurd c (by decide)
    · exact absurd c (by decide)
    · exact absurd c (by decide)
    · exact absurd c (by decide)
    · exact absurd rfl c
  · rw [h2, h3, h4] at ht
    have hf : frst a i j (n + 1) n := ⟨by omega, h5⟩
    rcases ht with ⟨c, _⟩ | ⟨c, t1, t2, t3, t4⟩ | ⟨c, t1, t2, t3⟩ | ⟨c, t1, t2, t3, t4, t5⟩ | ⟨c, _⟩ | ⟨c, _⟩ | ⟨_, c, _⟩
    · exact absurd c (by decide)
    · refine Or.inr (Or.inr (Or.inl ⟨t3, n, hf, fun e => t1 (sub_0.mpr e), fun e => t2 (sub_0.mpr e), t4, fun t ht => ?_⟩))
      have hl := drw_line t1 t4
      have hR := t4.2.2
      rcases Nat.lt_or_ge t n with q | q
      · rw [(h5 t q).1, (h5 t q).2, hR]
        exact ln_ring2 hl
      · rw [show t = n by omega, hR]
        exact ln_ring1
    · refine Or.inr (Or.inr (Or.inr ⟨t3, n, hf, ?_⟩))
      rcases t1 with t1 | t1
      · rcases t2 with t2 | t2
        · exact absurd t1 t2
        · exact Or.inl ⟨sub_0.mp t1, fun e => t2 (sub_0.mpr e)⟩
      · rcases t2 with t2 | t2
        · exact Or.inr (Or.inl ⟨fun e => t2 (sub_0.mpr e), sub_0.mp t1⟩)
        · exact absurd t1 t2
    · refine Or.inr (Or.inl ⟨by omega, t3, t4, t5, fun t ht => ?_⟩)
      rcases Nat.lt_or_ge t n with q | q
      · exact h5 t q
      · rw [show t = n by omega]
        exact ⟨sub_0.mp t1, sub_0.mp t2⟩
    · exact absurd c (by decide)
    · exact absurd c (by decide)
    · exact absurd rfl c
  · rw [h1] at ht
    have hf : frst a i j (n + 1) o := ⟨by have := h2.1; omega, h2.2⟩
    rcases ht with ⟨c, _⟩ | ⟨c, _⟩ | ⟨c, _⟩ | ⟨c, _⟩ | ⟨c, t1, t2⟩ | ⟨c, t1, t2, t3, t4, t5⟩ | ⟨_, _, c, _⟩
    · exact absurd c (by decide)
    · exact absurd c (by decide)
    · exact absurd c (by decide)
    · exact absurd c (by decide)
    · exact Or.inr (Or.inr (Or.inr ⟨t2, o, hf, Or.inr (Or.inr ⟨h3, h4, _, _, _, h5, fun q => t1 (q n (by omega))⟩)⟩))
    · refine Or.inr (Or.inr (Or.inl ⟨t2, o, hf, h3, h4, by rw [t3, t4, t5]; exact h5, fun t ht => ?_⟩))
      rw [t3, t4, t5]
      rcases Nat.lt_or_ge t n with q | q
      · exact h6 t q
      · rw [show t = n by omega]; exact t1
    · exact absurd rfl c
  · rw [h1] at ht
    have hf : frst a i j (n + 1) o := ⟨by have := h2.1; omega, h2.2⟩
    rcases ht with ⟨c, _⟩ | ⟨c, _⟩ | ⟨c, _⟩ | ⟨c, _⟩ | ⟨c, _⟩ | ⟨c, _⟩ | ⟨_, _, _, c⟩
    · exact absurd c (by decide)
    · exact absurd c (by decide)
    · exact absurd c (by decide)
    · exact absurd c (by decide)
    · exact absurd c (by decide)
    · exact absurd c (by decide)
    · refine Or.inr (Or.inr (Or.inr ⟨c, o, hf, ?_⟩))
      rcases h3 with h3 | h3 | ⟨x1, x2, p, q, r, x3, x4⟩
      · exact Or.inl h3
      · exact Or.inr (Or.inl h3)
      · exact Or.inr (Or.inr ⟨x1, x2, p, q, r, x3, fun z => x4 (fun t ht => z t (by omega))⟩)
theorem ln_frame {a : Nat → Int32} {m i2 j2 k : Nat} {v1 v2 : Int32} {ls P Q R ls' P' Q' R' : Nat → Int32} (hn : 4 * i2 + j2 ≠ k) (h : lnS a m i2 j2 ls P Q R) (ht : tlR ls P Q R k v1 v2 ls' P' Q' R') : lnS a m i2 j2 ls' P' Q' R' := by
  obtain ⟨e1, e2, e3, e4⟩ := ht.1 _ hn
  unfold lnS
  rw [e1, e2, e3, e4]
  exact h
theorem sm_step {a now : Nat → Int32} {n : Nat} {sb sb' : Int64} (hnow : ∀ x, x < 4 → now x = a (4 * n + x)) (h : smS a n sb) (ht : ∀ b, b < 64 → (lbt sb' b = true ↔ (lbt sb b = true ∨ smB now b))) : smS a (n + 1) sb' := by
  intro b hb
  rw [ht b hb, h b hb]
  have e : smB now b ↔ ¬ a (4 * n + b / 16) + a (4 * n + b / 4 % 4) = a (4 * n + b % 4) := by
    unfold smB
    rw [hnow _ (by omega), hnow _ (by omega), hnow _ (by omega)]
  rw [e]
  constructor
  · rintro (⟨t, ht, hp⟩ | hp)
    · exact ⟨t, by omega, hp⟩
    · exact ⟨n, by omega, hp⟩
  · rintro ⟨t, ht, hp⟩
    rcases Nat.lt_or_ge t n with q | q
    · exact Or.inl ⟨t, q, hp⟩
    · rw [show t = n by omega] at hp
      exact Or.inr hp
end
section
/-! the finder's whole state: ints g 0 .. g 5 (count, notLess, greater, unlike, alike, awayBroken), the long, arrays F 0 .. F 11 -/
def mkI (c nl gr un al ab : Int32) : Nat → Int32 := fun k => match k with
  | 0 => c
  | 1 => nl
  | 2 => gr
  | 3 => un
  | 4 => al
  | _ => ab
def mkA (f0 f1 f2 f3 f4 f5 f6 f7 f8 f9 f10 f11 : Nat → Int32) : Nat → Nat → Int32 := fun k => match k with
  | 0 => f0
  | 1 => f1
  | 2 => f2
  | 3 => f3
  | 4 => f4
  | 5 => f5
  | 6 => f6
  | 7 => f7
  | 8 => f8
  | 9 => f9
  | 10 => f10
  | _ => f11
abbrev FSt : Type := (Nat → Int32) × Int64 × (Nat → Nat → Int32)
/-- each variable at its own number of samples, each pair at its own -/
def SI (a : Nat → Int32) (Lv : Nat → Nat) (Lp : Nat → Nat → Nat) (nl gr un al ab : Int32) (fi le ge ga so sc ls P Q R aw : Nat → Int32) : Prop :=
  (∀ j, j < 4 → vrR a (Lv j) j fi le ge ga ∧ drR a (Lv j) j so sc) ∧ ∀ i j, i < 4 → j < 4 → i ≠ j → prR a (Lp i j) i j nl gr un al ab aw ∧ lnS a (Lp i j) i j ls P Q R
def FI (n : Nat) (a : Nat → Int32) (g : Nat → Int32) (sb : Int64) (F : Nat → Nat → Int32) : Prop :=
  g 0 = nI n ∧ n ≤ 100 ∧ okA a n ∧ SI a (fun _ => n) (fun _ _ => n) (g 1) (g 2) (g 3) (g 4) (g 5) (F 1) (F 2) (F 3) (F 4) (F 5) (F 6) (F 7) (F 8) (F 9) (F 10) (F 11) ∧ smS a n sb
theorem SI.lv {a : Nat → Int32} {Lv Lv' : Nat → Nat} {Lp Lp' : Nat → Nat → Nat} {nl gr un al ab : Int32} {fi le ge ga so sc ls P Q R aw : Nat → Int32} (h : SI a Lv Lp nl gr un al ab fi le ge ga so sc ls P Q R aw) (h1 : ∀ j, j < 4 → Lv j = Lv' j) (h2 : ∀ i j, i < 4 → j < 4 → i ≠ j → Lp i j = Lp' i j) : SI a Lv' Lp' nl gr un al ab fi le ge ga so sc ls P Q R aw :=
  ⟨fun j hj => by rw [← h1 j hj]; exact h.1 j hj, fun i j hi hj hn => by rw [← h2 i j hi hj hn]; exact h.2 i j hi hj hn⟩
theorem SI.val {a : Nat → Int32} {Lv : Nat → Nat} {Lp : Nat → Nat → Nat} {nl gr un al ab : Int32} {fi le ge ga so sc ls P Q R aw fi' le' ge' ga' so' sc' : Nat → Int32} {n x : Nat} (h : SI a Lv Lp nl gr un al ab fi le ge ga so sc ls P Q R aw) (hx : x < 4) (hl : Lv x = n) (hok : okA a (n + 1)) (ht : tvR n fi le ge ga so sc x (a (4 * n + x)) (dl a x n).length fi' le' ge' ga' so' sc') : SI a (fun j => if j = x then n + 1 else Lv j) Lp nl gr un al ab fi' le' ge' ga' so' sc' ls P Q R aw := by
  refine ⟨fun j hj => ?_, h.2⟩
  obtain ⟨h1, h2⟩ := h.1 j hj
  by_cases e : j = x
  · subst e
    rw [hl] at h1 h2
    show vrR a (if j = j then n + 1 else Lv j) _ _ _ _ _ ∧ drR a (if j = j then n + 1 else Lv j) _ _ _
    rw [if_pos rfl]
    exact ⟨vr_step hj hok h1 ht, dr_step h2 ht.2.2.2⟩
  · show vrR a (if j = x then n + 1 else Lv j) _ _ _ _ _ ∧ drR a (if j = x then n + 1 else Lv j) _ _ _
    rw [if_neg e]
    exact ⟨vr_frame e h1 ht, dr_frame e h2 ht.2.2.2⟩
theorem SI.pair {a : Nat → Int32} {Lv : Nat → Nat} {Lp : Nat → Nat → Nat} {nl gr un al ab nl' gr' un' al' ab' : Int32} {fi le ge ga so sc ls P Q R aw ls' P' Q' R' aw' : Nat → Int32} {n x y : Nat} (h : SI a Lv Lp nl gr un al ab fi le ge ga so sc ls P Q R aw) (hx : x < 4) (hy : y < 4) (hxy : x ≠ y) (hn : n ≤ 100) (hl : Lp x y = n) (ht : tpR (nI n) nl gr un al ab aw ls P Q R (4 * x + y) (a (4 * n + x)) (a (4 * n + y)) nl' gr' un' al' ab' aw' ls' P' Q' R') : SI a Lv (fun i j => if i = x ∧ j = y then n + 1 else Lp i j) nl' gr' un' al' ab' fi le ge ga so sc ls' P' Q' R' aw' := by
  refine ⟨h.1, fun i j hi hj hn2 => ?_⟩
  obtain ⟨h1, h2⟩ := h.2 i j hi hj hn2
  by_cases e : i = x ∧ j = y
  · obtain ⟨e1, e2⟩ := e
    subst e1
    subst e2
    rw [hl] at h1 h2
    show prR a (if i = i ∧ j = j then n + 1 else Lp i j) _ _ _ _ _ _ _ _ ∧ lnS a (if i = i ∧ j = j then n + 1 else Lp i j) _ _ _ _ _ _
    rw [if_pos ⟨rfl, rfl⟩]
    exact ⟨pr_step hi hj hn h1 ht, ln_step h2 ht.2.2.2.2.2⟩
  · show prR a (if i = x ∧ j = y then n + 1 else Lp i j) _ _ _ _ _ _ _ _ ∧ lnS a (if i = x ∧ j = y then n + 1 else Lp i j) _ _ _ _ _ _
    rw [if_neg e]
    have hk : 4 * i + j ≠ 4 * x + y := by omega
    exact ⟨pr_frame hx hy hk h1 ht, ln_frame hk h2 ht.2.2.2.2.2⟩
/-! the samples before the last one are all that matters -/
theorem fB_congr {a b : Nat → Int32} {w : Int32} {j : Nat} (n : Nat) (h : ∀ k, k < 4 * n → a k = b k) (h0 : a j = b j) (hj : j < 4) : fB w a j n = fB w b j n := by
  induction n with
  | zero => exact h0
  | succ n ih =>
    unfold fB
    rw [ih (fun k hk => h k (by omega)), h (4 * n + j) (by omega)]
theorem dl_congr {a b : Nat → Int32} {j : Nat} (n : Nat) (h : ∀ k, k < 4 * n → a k = b k) (hj : j < 4) : dl a j n = dl b j n := by
  induction n with
  | zero => rfl
  | succ n ih =>
    unfold dl
    rw [ih (fun k hk => h k (by omega)), h (4 * n + j) (by omega)]
theorem FI.congr {n : Nat} {a b : Nat → Int32} {g : Nat → Int32} {sb : Int64} {F : Nat → Nat → Int32} (h : FI n a g sb F) (hab : ∀ k, k < 4 * n → a k = b k) : FI n b g sb F := by
  obtain ⟨h1, h2, h3, ⟨h4, h5⟩, h6⟩ := h
  have e : ∀ t j, t < n → j < 4 → a (4 * t + j) = b (4 * t + j) := fun t j ht hj => hab _ (by omega)
  have e0 : ∀ j, 0 < n → j < 4 → a j = b j := fun j hn hj => hab _ (by omega)
  have ex : ∀ {P P2 : Nat → Prop}, (∀ t, t < n → (P t ↔ P2 t)) → ((∃ t, t < n ∧ P t) ↔ ∃ t, t < n ∧ P2 t) := by
    intro P P2 hp
    constructor
    · rintro ⟨t, ht, q⟩; exact ⟨t, ht, (hp t ht).mp q⟩
    · rintro ⟨t, ht, q⟩; exact ⟨t, ht, (hp t ht).mpr q⟩
  refine ⟨h1, h2, fun k hk => by rw [← hab k hk]; exact h3 k hk, ⟨fun j hj => ?_, fun i j hi hj hn => ?_⟩, fun b9 hb => ?_⟩
  · obtain ⟨h7, h8⟩ := h4 j hj
    refine ⟨fun hn => ?_, ?_⟩
    · obtain ⟨f1, f2, f3, g9, f4, f5, f6, f7⟩ := h7 hn
      refine ⟨by rw [← e0 j hn hj]; exact f1, by rw [← fB_congr n hab (e0 j hn hj) hj]; exact f2, by rw [← fB_congr n hab (e0 j hn hj) hj]; exact f3, g9, f4, f5, ?_, ?_⟩
      · intro i hi
        rw [← e i j hi hj, ← e0 j hn hj]
        exact f6 i hi
      · intro d hd
        refine f7 d (fun i hi => ?_)
        rw [e i j hi hj, e0 j hn hj]
        exact hd i hi
    · unfold drR
      rw [← dl_congr n hab hj]
      exact h8
  · obtain ⟨⟨p1, p2, p3, p4, p5, p6⟩, q⟩ := h5 i j hi hj hn
    refine ⟨⟨?_, ?_, ?_, ?_, ?_, ?_⟩, ?_⟩
    · rw [p1]; exact ex (fun t ht => by rw [e t i ht hi, e t j ht hj])
    · rw [p2]; exact ex (fun t ht => by rw [e t i ht hi, e t j ht hj])
    · rw [p3]; exact ex (fun t ht => by rw [e t i ht hi, e t j ht hj])
    · rw [p4]; exact ex (fun t ht => by rw [e t i ht hi, e t j ht hj])
    · intro hn0; rw [← e0 i hn0 hi, ← e0 j hn0 hj]; exact p5 hn0
    · rw [p6]; exact ex (fun t ht => by rw [e t i ht hi, e t j ht hj, e0 i (by omega) hi, e0 j (by omega) hj])
    · rcases q with q | ⟨q1, q2, q3, q4, q5⟩ | ⟨q1, o, q2, q3, q4, q5, q6⟩ | ⟨q1, o, q2, q3⟩
      · exact Or.inl q
      · refine Or.inr (Or.inl ⟨q1, q2, by rw [← e0 i q1 hi]; exact q3, by rw [← e0 j q1 hj]; exact q4, fun t ht => ?_⟩)
        rw [← e t i ht hi, ← e t j ht hj, ← e0 i q1 hi, ← e0 j q1 hj]
        exact q5 t ht
      · have ho : o < n := q2.1
        have hn0 : 0 < n := by omega
        refine Or.inr (Or.inr (Or.inl ⟨q1, o, ⟨ho, fun z hz => ?_⟩, ?_, ?_, ?_, fun t ht => ?_⟩))
        · rw [← e z i (by omega) hi, ← e z j (by omega) hj, ← e0 i hn0 hi, ← e0 j hn0 hj]; exact q2.2 z hz
        · rw [← e o i ho hi, ← e0 i hn0 hi]; exact q3
        · rw [← e o j ho hj, ← e0 j hn0 hj]; exact q4
        · rw [← e o i ho hi, ← e0 i hn0 hi, ← e o j ho hj, ← e0 j hn0 hj]; exact q5
        · rw [← e t i ht hi, ← e t j ht hj]; exact q6 t ht
      · have ho : o < n := q2.1
        have hn0 : 0 < n := by omega
        refine Or.inr (Or.inr (Or.inr ⟨q1, o, ⟨ho, fun z hz => ?_⟩, ?_⟩))
        · rw [← e z i (by omega) hi, ← e z j (by omega) hj, ← e0 i hn0 hi, ← e0 j hn0 hj]; exact q2.2 z hz
        · rw [← e o i ho hi, ← e0 i hn0 hi, ← e o j ho hj, ← e0 j hn0 hj]
          rcases q3 with q3 | q3 | ⟨x1, x2, p, q, r, x3, x4⟩
          · exact Or.inl q3
          · exact Or.inr (Or.inl q3)
          · refine Or.inr (Or.inr ⟨x1, x2, p, q, r, x3, fun z => x4 (fun t ht => ?_)⟩)
            rw [e t i ht hi, e t j ht hj]
            exact z t ht
  · rw [h6 b9 hb]
    exact ex (fun t ht => by rw [e t _ ht (show b9 / 16 < 4 by omega), e t _ ht (show b9 / 4 % 4 < 4 by omega), e t _ ht (show b9 % 4 < 4 by omega)])
/-- nothing seen yet -/
theorem FI.zero {a : Nat → Int32} {g : Nat → Int32} {F : Nat → Nat → Int32} (h0 : g 0 = nI 0) (h1 : ∀ k, k < 6 → g k = nI 0) (h2 : ∀ j, j < 4 → F 6 j = nI 0) (h3 : ∀ k, k < 16 → F 7 k = nI 0) : FI 0 a g 0 F := by
  have hz : ∀ k, ibt (nI 0) k = false := by
    intro k
    show (0#32).getLsbD k = false
    simp
  have no : ∀ {P : Nat → Prop} {x : Int32} {k : Nat}, x = nI 0 → (ibt x k = true ↔ ∃ t, t < 0 ∧ P t) := by
    intro P x k e
    rw [e, hz]
    constructor
    · intro h; cases h
    · rintro ⟨t, ht, -⟩; exact absurd ht (by omega)
  refine ⟨h0, by omega, fun k hk => absurd hk (by omega), ⟨fun j hj => ⟨fun h => absurd h (Nat.lt_irrefl 0), ?_⟩, fun i j hi hj hn => ⟨⟨no (h1 1 (by omega)), no (h1 2 (by omega)), no (h1 3 (by omega)), no (h1 4 (by omega)), fun h => absurd h (Nat.lt_irrefl 0), no (h1 5 (by omega))⟩, Or.inl ⟨rfl, h3 _ (by omega)⟩⟩⟩, fun b hb => ?_⟩
  · refine ⟨h2 j hj, fun _ => ⟨fun q q2 _ h => absurd h (by simp [dl]), fun v => ?_⟩⟩
    constructor
    · intro h; simp [dl] at h
    · rintro ⟨q, hq, -⟩; simp [dl] at hq
  · constructor
    · intro h
      have : lbt 0 b = false := by show (0#64).getLsbD b = false; simp
      rw [this] at h; cases h
    · rintro ⟨t, ht, -⟩; exact absurd ht (by omega)
theorem put4_low {a : Nat → Int32} {n : Nat} {x1 x2 x3 x4 : Int32} : ∀ k, k < 4 * n → a k = put4 a n x1 x2 x3 x4 k := by
  intro k hk
  unfold put4
  rw [pk_un (by omega), pk_un (by omega), pk_un (by omega), pk_un (by omega)]
theorem put4_at {a : Nat → Int32} {n : Nat} {x1 x2 x3 x4 : Int32} : put4 a n x1 x2 x3 x4 (4 * n + 0) = x1 ∧ put4 a n x1 x2 x3 x4 (4 * n + 1) = x2 ∧ put4 a n x1 x2 x3 x4 (4 * n + 2) = x3 ∧ put4 a n x1 x2 x3 x4 (4 * n + 3) = x4 := by
  unfold put4
  refine ⟨?_, ?_, ?_, ?_⟩
  · rw [pk_un (by omega), pk_un (by omega), pk_un (by omega), Nat.add_zero, pk_us]
  · rw [pk_un (by omega), pk_un (by omega), pk_us]
  · rw [pk_un (by omega), pk_us]
  · rw [pk_us]
theorem put4_ok {a : Nat → Int32} {n : Nat} {x1 x2 x3 x4 : Int32} (h : okA a n) (h1 : okw x1) (h2 : okw x2) (h3 : okw x3) (h4 : okw x4) : okA (put4 a n x1 x2 x3 x4) (n + 1) := by
  intro k hk
  obtain ⟨e1, e2, e3, e4⟩ := put4_at (a := a) (n := n) (x1 := x1) (x2 := x2) (x3 := x3) (x4 := x4)
  rcases Nat.lt_or_ge k (4 * n) with q | q
  · rw [← put4_low k q]; exact h k q
  · rcases (show k = 4 * n + 0 ∨ k = 4 * n + 1 ∨ k = 4 * n + 2 ∨ k = 4 * n + 3 by omega) with e | e | e | e
    · rw [e, e1]; exact h1
    · rw [e, e2]; exact h2
    · rw [e, e3]; exact h3
    · rw [e, e4]; exact h4
/-- the four cells 'now' hold the sample -/
def now4 (x1 x2 x3 x4 : Int32) (f : Nat → Int32) : Nat → Int32 := upd (upd (upd (upd f 0 x1) 1 x2) 2 x3) 3 x4
theorem now4_at {a f : Nat → Int32} {n : Nat} {x1 x2 x3 x4 : Int32} : ∀ x, x < 4 → now4 x1 x2 x3 x4 f x = put4 a n x1 x2 x3 x4 (4 * n + x) := by
  intro x hx
  obtain ⟨e1, e2, e3, e4⟩ := put4_at (a := a) (n := n) (x1 := x1) (x2 := x2) (x3 := x3) (x4 := x4)
  unfold now4
  rcases (show x = 0 ∨ x = 1 ∨ x = 2 ∨ x = 3 by omega) with e | e | e | e
  · subst e; rw [e1, pk_un (by omega), pk_un (by omega), pk_un (by omega), pk_us]
  · subst e; rw [e2, pk_un (by omega), pk_un (by omega), pk_us]
  · subst e; rw [e3, pk_un (by omega), pk_us]
  · subst e; rw [e4, pk_us]
end
section
theorem ln_ok {a : Nat → Int32} {n i j : Nat} {ls P Q R : Nat → Int32} (hi : i < 4) (hj : j < 4) (hok : okA a n) (h : lnS a n i j ls P Q R) (h1 : ls (4 * i + j) = nI 1) : okw (P (4 * i + j)) ∧ okw (Q (4 * i + j)) := by
  rcases h with ⟨_, h⟩ | ⟨h0, _, h2, h3, _⟩ | ⟨h, _⟩ | ⟨h, _⟩
  · exact absurd (h.symm.trans h1) (by decide)
  · rw [h2, h3]; exact ⟨hok _ (by omega), hok _ (by omega)⟩
  · exact absurd (h.symm.trans h1) (by decide)
  · exact absurd (h.symm.trans h1) (by decide)
theorem if_congr2 {c d : Prop} [Decidable c] [Decidable d] {x y : Nat} (h : c ↔ d) : (if c then x else y) = if d then x else y := by
  by_cases q : c
  · rw [if_pos q, if_pos (h.mp q)]
  · rw [if_neg q, if_neg (fun z => q (h.mpr z))]
theorem if_congr3 {c d e : Prop} [Decidable c] [Decidable d] [Decidable e] {x y : Nat} (h : c ∨ d → e) (h2 : e → c ∨ d) : (if c then x else if d then x else y) = if e then x else y := by
  by_cases q : c
  · rw [if_pos q, if_pos (h (Or.inl q))]
  · rw [if_neg q]
    by_cases q2 : d
    · rw [if_pos q2, if_pos (h (Or.inr q2))]
    · rw [if_neg q2, if_neg (fun z => (h2 z).elim q q2)]
theorem if_congr4 {c d e : Prop} [Decidable c] [Decidable d] [Decidable e] {x y : Nat} (h : c ∨ d ↔ e) : (if c then x else if d then x else y) = if e then x else y := if_congr3 h.mp h.mpr
set_option maxHeartbeats 4000000 in
set_option maxRecDepth 100000 in
theorem mX0_sample (l : Launch) (dC : Nat → ClassId) (dI : Nat → Nat → Nat) (dA dB : ClassId) (sz : Nat) (h0 : Nat) (ad : Nat → Nat) (g : Nat → Int32) (sb : Int64) (F : Nat → Nat → Int32) (n : Nat) (a : Nat → Int32) (x1 x2 x3 x4 : Int32) (hFI : FI n a g sb F) : Met l yX0_sample (ws_ yX0_sample cX0_sample 7 (some .int)) ({ frames := 4, cells := 0, slots := 0, locals := 104 } : Room) (va_Pc [.ref h0, .int x1, .int x2, .int x3, .int x4] (xPre (dC, dI) vwCl (xT dA dB) [(h0, oF ad (g 0) (g 1) (g 2) (g 3) (g 4) (g 5) sb), (ad 0, .inl (dA, 4, .inl (F 0))), (ad 1, .inl (dA, 4, .inl (F 1))), (ad 2, .inl (dA, 4, .inl (F 2))), (ad 3, .inl (dA, 4, .inl (F 3))), (ad 4, .inl (dA, 4, .inl (F 4))), (ad 5, .inl (dA, 16, .inl (F 5))), (ad 6, .inl (dB, 4, .inl (F 6))), (ad 7, .inl (dB, 16, .inl (F 7))), (ad 8, .inl (dA, 16, .inl (F 8))), (ad 9, .inl (dA, 16, .inl (F 9))), (ad 10, .inl (dA, 16, .inl (F 10))), (ad 11, .inl (dA, 16, .inl (F 11)))] sz)) (va_Qi (fun r u => smpR n x1 x2 x3 x4 r (FI (n + 1) (put4 a n x1 x2 x3 x4) u.1 u.2.1 u.2.2) (FI n a u.1 u.2.1 u.2.2)) (fun u t => va_P (dC, dI) vwCl ((fun u : FSt => [(h0, oF ad (u.1 0) (u.1 1) (u.1 2) (u.1 3) (u.1 4) (u.1 5) u.2.1), (ad 0, .inl (dA, 4, .inl (u.2.2 0))), (ad 1, .inl (dA, 4, .inl (u.2.2 1))), (ad 2, .inl (dA, 4, .inl (u.2.2 2))), (ad 3, .inl (dA, 4, .inl (u.2.2 3))), (ad 4, .inl (dA, 4, .inl (u.2.2 4))), (ad 5, .inl (dA, 16, .inl (u.2.2 5))), (ad 6, .inl (dB, 4, .inl (u.2.2 6))), (ad 7, .inl (dB, 16, .inl (u.2.2 7))), (ad 8, .inl (dA, 16, .inl (u.2.2 8))), (ad 9, .inl (dA, 16, .inl (u.2.2 9))), (ad 10, .inl (dA, 16, .inl (u.2.2 10))), (ad 11, .inl (dA, 16, .inl (u.2.2 11)))]) u) t.heap ∧ va_D (va_A [(h0, oF ad (g 0) (g 1) (g 2) (g 3) (g 4) (g 5) sb), (ad 0, .inl (dA, 4, .inl (F 0))), (ad 1, .inl (dA, 4, .inl (F 1))), (ad 2, .inl (dA, 4, .inl (F 2))), (ad 3, .inl (dA, 4, .inl (F 3))), (ad 4, .inl (dA, 4, .inl (F 4))), (ad 5, .inl (dA, 16, .inl (F 5))), (ad 6, .inl (dB, 4, .inl (F 6))), (ad 7, .inl (dB, 16, .inl (F 7))), (ad 8, .inl (dA, 16, .inl (F 8))), (ad 9, .inl (dA, 16, .inl (F 9))), (ad 10, .inl (dA, 16, .inl (F 10))), (ad 11, .inl (dA, 16, .inl (F 11)))] sz) ((fun u : FSt => [(h0, oF ad (u.1 0) (u.1 1) (u.1 2) (u.1 3) (u.1 4) (u.1 5) u.2.1), (ad 0, .inl (dA, 4, .inl (u.2.2 0))), (ad 1, .inl (dA, 4, .inl (u.2.2 1))), (ad 2, .inl (dA, 4, .inl (u.2.2 2))), (ad 3, .inl (dA, 4, .inl (u.2.2 3))), (ad 4, .inl (dA, 4, .inl (u.2.2 4))), (ad 5, .inl (dA, 16, .inl (u.2.2 5))), (ad 6, .inl (dB, 4, .inl (u.2.2 6))), (ad 7, .inl (dB, 16, .inl (u.2.2 7))), (ad 8, .inl (dA, 16, .inl (u.2.2 8))), (ad 9, .inl (dA, 16, .inl (u.2.2 9))), (ad 10, .inl (dA, 16, .inl (u.2.2 10))), (ad 11, .inl (dA, 16, .inl (u.2.2 11)))]) u)) (va_A [(h0, oF ad (g 0) (g 1) (g 2) (g 3) (g 4) (g 5) sb), (ad 0, .inl (dA, 4, .inl (F 0))), (ad 1, .inl (dA, 4, .inl (F 1))), (ad 2, .inl (dA, 4, .inl (F 2))), (ad 3, .inl (dA, 4, .inl (F 3))), (ad 4, .inl (dA, 4, .inl (F 4))), (ad 5, .inl (dA, 16, .inl (F 5))), (ad 6, .inl (dB, 4, .inl (F 6))), (ad 7, .inl (dB, 16, .inl (F 7))), (ad 8, .inl (dA, 16, .inl (F 8))), (ad 9, .inl (dA, 16, .inl (F 9))), (ad 10, .inl (dA, 16, .inl (F 10))), (ad 11, .inl (dA, 16, .inl (F 11)))] sz)) 0 0 (va_A [(h0, oF ad (g 0) (g 1) (g 2) (g 3) (g 4) (g 5) sb), (ad 0, .inl (dA, 4, .inl (F 0))), (ad 1, .inl (dA, 4, .inl (F 1))), (ad 2, .inl (dA, 4, .inl (F 2))), (ad 3, .inl (dA, 4, .inl (F 3))), (ad 4, .inl (dA, 4, .inl (F 4))), (ad 5, .inl (dA, 16, .inl (F 5))), (ad 6, .inl (dB, 4, .inl (F 6))), (ad 7, .inl (dB, 16, .inl (F 7))), (ad 8, .inl (dA, 16, .inl (F 8))), (ad 9, .inl (dA, 16, .inl (F 9))), (ad 10, .inl (dA, 16, .inl (F 10))), (ad 11, .inl (dA, 16, .inl (F 11)))] sz) := by
  refine xm_Qi (by decide) (Nat.le_of_ble_eq_true rfl) ?_
  intro p e s m args below meth c hx hb hml hown hts hK A hA H locs hP hD hS Q K ls hl
  have hown : s.vm.findClass RX0 = some m.cls := hown
  have hl : lv_has ls 7 [(0, .ref h0), (1, .int x1), (2, .int x2), (3, .int x3), (4, .int x4)] := hl
  have hg0 := hFI.1
  have hn : n ≤ 100 := hFI.2.1
  have hP : va_P (dC, dI) vwCl [(h0, oF ad (nI n) (g 1) (g 2) (g 3) (g 4) (g 5) sb), (ad 0, .inl (dA, 4, .inl (F 0))), (ad 1, .inl (dA, 4, .inl (F 1))), (ad 2, .inl (dA, 4, .inl (F 2))), (ad 3, .inl (dA, 4, .inl (F 3))), (ad 4, .inl (dA, 4, .inl (F 4))), (ad 5, .inl (dA, 16, .inl (F 5))), (ad 6, .inl (dB, 4, .inl (F 6))), (ad 7, .inl (dB, 16, .inl (F 7))), (ad 8, .inl (dA, 16, .inl (F 8))), (ad 9, .inl (dA, 16, .inl (F 9))), (ad 10, .inl (dA, 16, .inl (F 10))), (ad 11, .inl (dA, 16, .inl (F 11)))] H := by rw [← hg0]; exact hP
  have hD : va_D A [(h0, oF ad (nI n) (g 1) (g 2) (g 3) (g 4) (g 5) sb), (ad 0, .inl (dA, 4, .inl (F 0))), (ad 1, .inl (dA, 4, .inl (F 1))), (ad 2, .inl (dA, 4, .inl (F 2))), (ad 3, .inl (dA, 4, .inl (F 3))), (ad 4, .inl (dA, 4, .inl (F 4))), (ad 5, .inl (dA, 16, .inl (F 5))), (ad 6, .inl (dB, 4, .inl (F 6))), (ad 7, .inl (dB, 16, .inl (F 7))), (ad 8, .inl (dA, 16, .inl (F 8))), (ad 9, .inl (dA, 16, .inl (F 9))), (ad 10, .inl (dA, 16, .inl (F 10))), (ad 11, .inl (dA, 16, .inl (F 11)))] := by rw [← hg0]; exact hD
  refine lv_iload_n hx hb dX0_sample_0 rfl (lv_at hl 1 rfl) ?_
  refine xc_S [.int x1] ⟨hx, hb, hml, hown, hts⟩ (mX0_isValue l x1) (va_cwS 1 hts (lw_S q87 q88 q13 q89) rfl rfl rfl (by decide +kernel) ⟨Nat.le_of_ble_eq_true rfl, Nat.le_of_ble_eq_true rfl⟩) rfl hl.1 rfl (Nat.le_of_ble_eq_true rfl) dX0_sample_1 ⟨Nat.le_of_ble_eq_true rfl, Nat.le_of_ble_eq_true rfl⟩ (fun r_1 h_1 => ?_)
  rcases h_1 with ⟨hk1, rfl⟩ | ⟨hk1, rfl⟩
  · refine xn_if_eq (tgt := 29) hx hb dX0_sample_4 (by decide) (by omega) (fun c_4 => absurd c_4 (by omega)) (fun c_4 => ?_)
    refine lv_iload_n hx hb dX0_sample_7 rfl (lv_at hl 2 rfl) ?_
    refine xc_S [.int x2] ⟨hx, hb, hml, hown, hts⟩ (mX0_isValue l x2) (va_cwS 1 hts (lw_S q87 q88 q13 q89) rfl rfl rfl (by decide +kernel) ⟨Nat.le_of_ble_eq_true rfl, Nat.le_of_ble_eq_true rfl⟩) rfl hl.1 rfl (Nat.le_of_ble_eq_true rfl) dX0_sample_8 ⟨Nat.le_of_ble_eq_true rfl, Nat.le_of_ble_eq_true rfl⟩ (fun r_8 h_8 => ?_)
    rcases h_8 with ⟨hk2, rfl⟩ | ⟨hk2, rfl⟩
    · refine xn_if_eq (tgt := 29) hx hb dX0_sample_11 (by decide) (by omega) (fun c_11 => absurd c_11 (by omega)) (fun c_11 => ?_)
      refine lv_iload_n hx hb dX0_sample_14 rfl (lv_at hl 3 rfl) ?_
      refine xc_S [.int x3] ⟨hx, hb, hml, hown, hts⟩ (mX0_isValue l x3) (va_cwS 1 hts (lw_S q87 q88 q13 q89) rfl rfl rfl (by decide +kernel) ⟨Nat.le_of_ble_eq_true rfl, Nat.le_of_ble_eq_true rfl⟩) rfl hl.1 rfl (Nat.le_of_ble_eq_true rfl) dX0_sample_15 ⟨Nat.le_of_ble_eq_true rfl, Nat.le_of_ble_eq_true rfl⟩ (fun r_15 h_15 => ?_)
      rcases h_15 with ⟨hk3, rfl⟩ | ⟨hk3, rfl⟩
      · refine xn_if_eq (tgt := 29) hx hb dX0_sample_18 (by decide) (by omega) (fun c_18 => absurd c_18 (by omega)) (fun c_18 => ?_)
        refine lv_iload hx hb dX0_sample_21 (lv_at hl 4 rfl) ?_
        refine xc_S [.int x4] ⟨hx, hb, hml, hown, hts⟩ (mX0_isValue l x4) (va_cwS 1 hts (lw_S q87 q88 q13 q89) rfl rfl rfl (by decide +kernel) ⟨Nat.le_of_ble_eq_true rfl, Nat.le_of_ble_eq_true rfl⟩) rfl hl.1 rfl (Nat.le_of_ble_eq_true rfl) dX0_sample_23 ⟨Nat.le_of_ble_eq_true rfl, Nat.le_of_ble_eq_true rfl⟩ (fun r_23 h_23 => ?_)
        rcases h_23 with ⟨hk4, rfl⟩ | ⟨hk4, rfl⟩
        · refine xn_if_ne (tgt := 31) hx hb dX0_sample_26 (by decide) (by omega) (fun c_26 => ?_) (fun c_26 => absurd c_26 (by omega))
          refine lv_aload_n hx hb dX0_sample_31 rfl (lv_at hl 0 rfl) ?_
          refine x0_get hx hb hts hown hK hP 0 rfl 0 (by decide) (hts _ q23) rfl (v := .int (nI n)) rfl dX0_sample_32 ?_
          refine lv_bipush (v := nI 100) hx hb dX0_sample_35 rfl ?_
          refine xn_lt (tgt := 43) hx hb dX0_sample_37 (by decide) (by omega) (by omega) (fun c_37 => ?_) (fun c_37 => ?_)
          · refine lv_aload_n hx hb dX0_sample_43 rfl (lv_at hl 0 rfl) ?_
            refine x0_get hx hb hts hown hK hP 0 rfl 1 (by decide) (hts _ q24) rfl (v := .ref (ad 0)) rfl dX0_sample_44 ?_
            refine lv_iconst (v := nI 0) hx hb dX0_sample_47 rfl ?_
            refine lv_iload_n hx hb dX0_sample_48 rfl (lv_at hl 1 rfl) ?_
            refine xa_iast hx hb hK hP hD hS 1 0 rfl rfl (by omega) (by decide) [(h0, oF ad (nI n) (g 1) (g 2) (g 3) (g 4) (g 5) sb), (ad 0, .inl (dA, 4, .inl (upd (F 0) 0 x1))), (ad 1, .inl (dA, 4, .inl (F 1))), (ad 2, .inl (dA, 4, .inl (F 2))), (ad 3, .inl (dA, 4, .inl (F 3))), (ad 4, .inl (dA, 4, .inl (F 4))), (ad 5, .inl (dA, 16, .inl (F 5))), (ad 6, .inl (dB, 4, .inl (F 6))), (ad 7, .inl (dB, 16, .inl (F 7))), (ad 8, .inl (dA, 16, .inl (F 8))), (ad 9, .inl (dA, 16, .inl (F 9))), (ad 10, .inl (dA, 16, .inl (F 10))), (ad 11, .inl (dA, 16, .inl (F 11)))] rfl dX0_sample_49 (fun H locs hP hD hS => ?_)
            refine lv_aload_n hx hb dX0_sample_50 rfl (lv_at hl 0 rfl) ?_
            refine x0_get hx hb hts hown hK hP 0 rfl 1 (by decide) (hts _ q24) rfl (v := .ref (ad 0)) rfl dX0_sample_51 ?_
            refine lv_iconst (v := nI 1) hx hb dX0_sample_54 rfl ?_
            refine lv_iload_n hx hb dX0_sample_55 rfl (lv_at hl 2 rfl) ?_
            refine xa_iast hx hb hK hP hD hS 1 0 rfl rfl (by omega) (by decide) [(h0, oF ad (nI n) (g 1) (g 2) (g 3) (g 4) (g 5) sb), (ad 0, .inl (dA, 4, .inl (upd (upd (F 0) 0 x1) 1 x2))), (ad 1, .inl (dA, 4, .inl (F 1))), (ad 2, .inl (dA, 4, .inl (F 2))), (ad 3, .inl (dA, 4, .inl (F 3))), (ad 4, .inl (dA, 4, .inl (F 4))), (ad 5, .inl (dA, 16, .inl (F 5))), (ad 6, .inl (dB, 4, .inl (F 6))), (ad 7, .inl (dB, 16, .inl (F 7))), (ad 8, .inl (dA, 16, .inl (F 8))), (ad 9, .inl (dA, 16, .inl (F 9))), (ad 10, .inl (dA, 16, .inl (F 10))), (ad 11, .inl (dA, 16, .inl (F 11)))] rfl dX0_sample_56 (fun H locs hP hD hS => ?_)
            refine lv_aload_n hx hb dX0_sample_57 rfl (lv_at hl 0 rfl) ?_
            refine x0_get hx hb hts hown hK hP 0 rfl 1 (by decide) (hts _ q24) rfl (v := .ref (ad 0)) rfl dX0_sample_58 ?_
            refine lv_iconst (v := nI 2) hx hb dX0_sample_61 rfl ?_
            refine lv_iload_n hx hb dX0_sample_62 rfl (lv_at hl 3 rfl) ?_
            refine xa_iast hx hb hK hP hD hS 1 0 rfl rfl (by omega) (by decide) [(h0, oF ad (nI n) (g 1) (g 2) (g 3) (g 4) (g 5) sb), (ad 0, .inl (dA, 4, .inl (upd (upd (upd (F 0) 0 x1) 1 x2) 2 x3))), (ad 1, .inl (dA, 4, .inl (F 1))), (ad 2, .inl (dA, 4, .inl (F 2))), (ad 3, .inl (dA, 4, .inl (F 3))), (ad 4, .inl (dA, 4, .inl (F 4))), (ad 5, .inl (dA, 16, .inl (F 5))), (ad 6, .inl (dB, 4, .inl (F 6))), (ad 7, .inl (dB, 16, .inl (F 7))), (ad 8, .inl (dA, 16, .inl (F 8))), (ad 9, .inl (dA, 16, .inl (F 9))), (ad 10, .inl (dA, 16, .inl (F 10))), (ad 11, .inl (dA, 16, .inl (F 11)))] rfl dX0_sample_63 (fun H locs hP hD hS => ?_)
            refine lv_aload_n hx hb dX0_sample_64 rfl (lv_at hl 0 rfl) ?_
            refine x0_get hx hb hts hown hK hP 0 rfl 1 (by decide) (hts _ q24) rfl (v := .ref (ad 0)) rfl dX0_sample_65 ?_
            refine lv_iconst (v := nI 3) hx hb dX0_sample_68 rfl ?_
            refine lv_iload hx hb dX0_sample_69 (lv_at hl 4 rfl) ?_
            refine xa_iast hx hb hK hP hD hS 1 0 rfl rfl (by omega) (by decide) [(h0, oF ad (nI n) (g 1) (g 2) (g 3) (g 4) (g 5) sb), (ad 0, .inl (dA, 4, .inl (upd (upd (upd (upd (F 0) 0 x1) 1 x2) 2 x3) 3 x4))), (ad 1, .inl (dA, 4, .inl (F 1))), (ad 2, .inl (dA, 4, .inl (F 2))), (ad 3, .inl (dA, 4, .inl (F 3))), (ad 4, .inl (dA, 4, .inl (F 4))), (ad 5, .inl (dA, 16, .inl (F 5))), (ad 6, .inl (dB, 4, .inl (F 6))), (ad 7, .inl (dB, 16, .inl (F 7))), (ad 8, .inl (dA, 16, .inl (F 8))), (ad 9, .inl (dA, 16, .inl (F 9))), (ad 10, .inl (dA, 16, .inl (F 10))), (ad 11, .inl (dA, 16, .inl (F 11)))] rfl dX0_sample_71 (fun H locs hP hD hS => ?_)
            obtain ⟨b9, hb9⟩ : ∃ b9 : Nat → Int32, b9 = put4 a n x1 x2 x3 x4 := ⟨_, rfl⟩
            obtain ⟨now, hnow⟩ : ∃ now : Nat → Int32, now = now4 x1 x2 x3 x4 (F 0) := ⟨_, rfl⟩
            have hP : va_P (dC, dI) vwCl [(h0, oF ad (nI n) (g 1) (g 2) (g 3) (g 4) (g 5) sb), (ad 0, .inl (dA, 4, .inl now)), (ad 1, .inl (dA, 4, .inl (F 1))), (ad 2, .inl (dA, 4, .inl (F 2))), (ad 3, .inl (dA, 4, .inl (F 3))), (ad 4, .inl (dA, 4, .inl (F 4))), (ad 5, .inl (dA, 16, .inl (F 5))), (ad 6, .inl (dB, 4, .inl (F 6))), (ad 7, .inl (dB, 16, .inl (F 7))), (ad 8, .inl (dA, 16, .inl (F 8))), (ad 9, .inl (dA, 16, .inl (F 9))), (ad 10, .inl (dA, 16, .inl (F 10))), (ad 11, .inl (dA, 16, .inl (F 11)))] H := by rw [hnow]; exact hP
            have hD : va_D A [(h0, oF ad (nI n) (g 1) (g 2) (g 3) (g 4) (g 5) sb), (ad 0, .inl (dA, 4, .inl now)), (ad 1, .inl (dA, 4, .inl (F 1))), (ad 2, .inl (dA, 4, .inl (F 2))), (ad 3, .inl (dA, 4, .inl (F 3))), (ad 4, .inl (dA, 4, .inl (F 4))), (ad 5, .inl (dA, 16, .inl (F 5))), (ad 6, .inl (dB, 4, .inl (F 6))), (ad 7, .inl (dB, 16, .inl (F 7))), (ad 8, .inl (dA, 16, .inl (F 8))), (ad 9, .inl (dA, 16, .inl (F 9))), (ad 10, .inl (dA, 16, .inl (F 10))), (ad 11, .inl (dA, 16, .inl (F 11)))] := by rw [hnow]; exact hD
            have hnw : ∀ x, x < 4 → now x = b9 (4 * n + x) := by rw [hnow, hb9]; exact now4_at
            have hok9 : okA b9 (n + 1) := by rw [hb9]; exact put4_ok hFI.2.2.1 hk1 hk2 hk3 hk4
            have hokn : okA b9 n := fun k hk => hok9 k (by omega)
            have hFb : FI n b9 g sb F := hFI.congr (by rw [hb9]; exact put4_low)
            have hSI0 := hFb.2.2.2.1
            refine lv_iconst (v := nI 0) hx hb dX0_sample_72 rfl ?_
            refine lv_istore (lv' := [(5, .int (nI 0)), (0, .ref h0), (1, .int x1), (2, .int x2), (3, .int x3), (4, .int x4)]) hx hb dX0_sample_73 hl (by decide) rfl (fun ls hl => ?_)
            have loop : ∀ (f x : Nat) (nl gr un al ab : Int32) (fi le ge ga so sc ls0 lp lq lr aw : Nat → Int32), 5 ≤ x + f → x ≤ 4 → SI b9 (fun j => if j < x then n + 1 else n) (fun i _ => if i < x then n + 1 else n) nl gr un al ab fi le ge ga so sc ls0 lp lq lr aw → ∀ (H : Heap) (locs : List Loc), va_P (dC, dI) vwCl [(h0, oF ad (nI n) nl gr un al ab sb), (ad 0, .inl (dA, 4, .inl now)), (ad 1, .inl (dA, 4, .inl fi)), (ad 2, .inl (dA, 4, .inl le)), (ad 3, .inl (dA, 4, .inl ge)), (ad 4, .inl (dA, 4, .inl ga)), (ad 5, .inl (dA, 16, .inl so)), (ad 6, .inl (dB, 4, .inl sc)), (ad 7, .inl (dB, 16, .inl ls0)), (ad 8, .inl (dA, 16, .inl lp)), (ad 9, .inl (dA, 16, .inl lq)), (ad 10, .inl (dA, 16, .inl lr)), (ad 11, .inl (dA, 16, .inl aw))] H → va_D A [(h0, oF ad (nI n) nl gr un al ab sb), (ad 0, .inl (dA, 4, .inl now)), (ad 1, .inl (dA, 4, .inl fi)), (ad 2, .inl (dA, 4, .inl le)), (ad 3, .inl (dA, 4, .inl ge)), (ad 4, .inl (dA, 4, .inl ga)), (ad 5, .inl (dA, 16, .inl so)), (ad 6, .inl (dB, 4, .inl sc)), (ad 7, .inl (dB, 16, .inl ls0)), (ad 8, .inl (dA, 16, .inl lp)), (ad 9, .inl (dA, 16, .inl lq)), (ad 10, .inl (dA, 16, .inl lr)), (ad 11, .inl (dA, 16, .inl aw))] → va_S A s.heap H locs → ∀ ls : Array Slot, lv_has ls 7 [(5, .int (nI x)), (0, .ref h0), (1, .int x1), (2, .int x2), (3, .int x3), (4, .int x4)] → W p l e ({ frames := 4, cells := 0, slots := 0, locals := 104 } : Room) s m args below meth c H locs 0 0 Q (F0 m 75 ls []) := by
              intro f
              induction f with
              | zero =>
                intro x nl gr un al ab fi le ge ga so sc ls0 lp lq lr aw h1 h2
                exact absurd h1 (by omega)
              | succ f ih =>
                intro x nl gr un al ab fi le ge ga so sc ls0 lp lq lr aw h1 h2 hSI H locs hP hD hS ls hl
                refine lv_iload hx hb dX0_sample_75 (lv_at hl 0 rfl) ?_
                refine lv_iconst (v := nI 4) hx hb dX0_sample_77 rfl ?_
                refine xn_ge (tgt := 130) hx hb dX0_sample_78 (by decide) (by omega) (by omega) (fun c_78 => ?_) (fun c_78 => ?_)
                · refine lv_aload_n hx hb dX0_sample_130 rfl (lv_at hl 1 rfl) ?_
                  refine xc_W (ci := 0) (q0 := 0) (wc := [(h0, oF ad (nI n) nl gr un al ab sb), (ad 0, .inl (dA, 4, .inl now))]) (wr := [(ad 1, .inl (dA, 4, .inl fi)), (ad 2, .inl (dA, 4, .inl le)), (ad 3, .inl (dA, 4, .inl ge)), (ad 4, .inl (dA, 4, .inl ga)), (ad 5, .inl (dA, 16, .inl so)), (ad 6, .inl (dB, 4, .inl sc)), (ad 7, .inl (dB, 16, .inl ls0)), (ad 8, .inl (dA, 16, .inl lp)), (ad 9, .inl (dA, 16, .inl lq)), (ad 10, .inl (dA, 16, .inl lr)), (ad 11, .inl (dA, 16, .inl aw))]) [] ⟨hx, hb, hml, hown, hts⟩ hK hP hD hS hA rfl rfl rfl [0, 1] [2, 3, 4, 5, 6, 7, 8, 9, 10, 11, 12] [11, 12, 0, 1, 2, 3, 4, 5, 6, 7, 8, 9, 10] rfl rfl rfl rfl rfl (by decide) (fun u : Int64 => [(h0, oF ad (nI n) nl gr un al ab u), (ad 0, .inl (dA, 4, .inl now)), (ad 1, .inl (dA, 4, .inl fi)), (ad 2, .inl (dA, 4, .inl le)), (ad 3, .inl (dA, 4, .inl ge)), (ad 4, .inl (dA, 4, .inl ga)), (ad 5, .inl (dA, 16, .inl so)), (ad 6, .inl (dB, 4, .inl sc)), (ad 7, .inl (dB, 16, .inl ls0)), (ad 8, .inl (dA, 16, .inl lp)), (ad 9, .inl (dA, 16, .inl lq)), (ad 10, .inl (dA, 16, .inl lr)), (ad 11, .inl (dA, 16, .inl aw))]) (fun _ => rfl) (fun _ => rfl) rfl (mX0_takeSums l dC dI dA dB H.size h0 ad nl gr un al ab sb (nI n) now) (cwV 0 hts (lw_V q113 q115 qs5 q13 q116) rfl rfl rfl (by decide +kernel) ⟨Nat.le_of_ble_eq_true rfl, Nat.le_of_ble_eq_true rfl⟩) rfl hl.1 rfl (Nat.le_of_ble_eq_true rfl) dX0_sample_131 ⟨Nat.le_of_ble_eq_true rfl, Nat.le_of_ble_eq_true rfl⟩ (fun u_131 H locs h_131 hP hD hS => ?_)
                  refine lv_aload_n hx hb dX0_sample_134 rfl (lv_at hl 1 rfl) ?_
                  refine lv_dup hx hb dX0_sample_135 rfl ?_
                  refine x0_get hx hb hts hown hK hP 0 rfl 0 (by decide) (hts _ q23) rfl (v := .int (nI n)) rfl dX0_sample_136 ?_
                  refine lv_iconst (v := nI 1) hx hb dX0_sample_139 rfl ?_
                  refine xn_add hx hb dX0_sample_140 ?_
                  refine x0_put hx hb hts hown hK hP hD hS 0 rfl 0 (by decide) (hts _ q23) rfl rfl .int (by decide +kernel) rfl rfl (Nat.le_of_ble_eq_true rfl) [(h0, oF ad (nI (n + 1)) nl gr un al ab u_131), (ad 0, .inl (dA, 4, .inl now)), (ad 1, .inl (dA, 4, .inl fi)), (ad 2, .inl (dA, 4, .inl le)), (ad 3, .inl (dA, 4, .inl ge)), (ad 4, .inl (dA, 4, .inl ga)), (ad 5, .inl (dA, 16, .inl so)), (ad 6, .inl (dB, 4, .inl sc)), (ad 7, .inl (dB, 16, .inl ls0)), (ad 8, .inl (dA, 16, .inl lp)), (ad 9, .inl (dA, 16, .inl lq)), (ad 10, .inl (dA, 16, .inl lr)), (ad 11, .inl (dA, 16, .inl aw))] rfl dX0_sample_141 (fun H locs hP hD hS => ?_)
                  refine lv_aload_n hx hb dX0_sample_144 rfl (lv_at hl 1 rfl) ?_
                  refine x0_get hx hb hts hown hK hP 0 rfl 0 (by decide) (hts _ q23) rfl (v := .int (nI (n + 1))) rfl dX0_sample_145 ?_
                  exact K _ (mkI (nI (n + 1)) nl gr un al ab, u_131, mkA now fi le ge ga so sc ls0 lp lq lr aw) _ _ _ _ (Or.inl ⟨hk1, hk2, hk3, hk4, c_37, rfl, by rw [← hb9]; exact ⟨rfl, by omega, hok9, hSI.lv (fun j hj => if_pos (by omega)) (fun i j hi hj hij => if_pos (by omega)), sm_step hnw hFb.2.2.2.2 h_131⟩⟩) hP hD hS rfl dX0_sample_148
                · refine lv_aload_n hx hb dX0_sample_81 rfl (lv_at hl 1 rfl) ?_
                  refine lv_iload hx hb dX0_sample_82 (lv_at hl 0 rfl) ?_
                  refine lv_aload_n hx hb dX0_sample_84 rfl (lv_at hl 1 rfl) ?_
                  refine x0_get hx hb hts hown hK hP 0 rfl 1 (by decide) (hts _ q24) rfl (v := .ref (ad 0)) rfl dX0_sample_85 ?_
                  refine lv_iload hx hb dX0_sample_88 (lv_at hl 0 rfl) ?_
                  refine xa_iald hx hb hK hP 1 0 rfl rfl (k := x) (by omega) (by decide) dX0_sample_90 ?_
                  have hv : vrR b9 n x fi le ge ga ∧ drR b9 n x so sc := by
                    have h9 := hSI.1 x (by omega)
                    dsimp only at h9
                    rw [if_neg (Nat.lt_irrefl x)] at h9
                    exact h9
                  refine xc_W (ci := 0) (q0 := 0) (wc := [(h0, oF ad (nI n) nl gr un al ab sb), (ad 1, .inl (dA, 4, .inl fi)), (ad 2, .inl (dA, 4, .inl le)), (ad 3, .inl (dA, 4, .inl ge)), (ad 4, .inl (dA, 4, .inl ga)), (ad 5, .inl (dA, 16, .inl so)), (ad 6, .inl (dB, 4, .inl sc))]) (wr := [(ad 0, .inl (dA, 4, .inl now)), (ad 7, .inl (dB, 16, .inl ls0)), (ad 8, .inl (dA, 16, .inl lp)), (ad 9, .inl (dA, 16, .inl lq)), (ad 10, .inl (dA, 16, .inl lr)), (ad 11, .inl (dA, 16, .inl aw))]) [.int (nI x), .int (now x)] ⟨hx, hb, hml, hown, hts⟩ hK hP hD hS hA rfl rfl rfl [0, 2, 3, 4, 5, 6, 7] [1, 8, 9, 10, 11, 12] [6, 0, 7, 8, 9, 10, 11, 12, 1, 2, 3, 4, 5] rfl rfl rfl rfl rfl (by decide) (fun u : (Nat → Int32) × (Nat → Int32) × (Nat → Int32) × (Nat → Int32) × (Nat → Int32) × (Nat → Int32) => [(h0, oF ad (nI n) nl gr un al ab sb), (ad 0, .inl (dA, 4, .inl now)), (ad 1, .inl (dA, 4, .inl u.1)), (ad 2, .inl (dA, 4, .inl u.2.1)), (ad 3, .inl (dA, 4, .inl u.2.2.1)), (ad 4, .inl (dA, 4, .inl u.2.2.2.1)), (ad 5, .inl (dA, 16, .inl u.2.2.2.2.1)), (ad 6, .inl (dB, 4, .inl u.2.2.2.2.2)), (ad 7, .inl (dB, 16, .inl ls0)), (ad 8, .inl (dA, 16, .inl lp)), (ad 9, .inl (dA, 16, .inl lq)), (ad 10, .inl (dA, 16, .inl lr)), (ad 11, .inl (dA, 16, .inl aw))]) (fun _ => rfl) (fun _ => rfl) rfl (mX0_takeValue l dC dI dA dB H.size h0 ad nl gr un al ab sb n fi le ge ga so sc x (now x) (dl b9 x n).length hn (by omega) (dl_len b9 x n) hv.2.1 (by rw [hnw x (by omega)]; exact hok9 _ (by omega)) (fun hn0 => ⟨by rw [(hv.1 hn0).1]; exact hokn _ (by omega), by obtain ⟨-, -, -, g9, h7, h8, -⟩ := hv.1 hn0; exact ⟨g9, h7, h8⟩⟩)) (cwV 2 hts (lw_V q90 q92 qs0 q13 q93) rfl rfl rfl (by decide +kernel) ⟨Nat.le_of_ble_eq_true rfl, Nat.le_of_ble_eq_true rfl⟩) rfl hl.1 rfl (Nat.le_of_ble_eq_true rfl) dX0_sample_91 ⟨Nat.le_of_ble_eq_true rfl, Nat.le_of_ble_eq_true rfl⟩ (fun u_91 H locs h_91 hP hD hS => ?_)
                  obtain ⟨fi2, le2, ge2, ga2, so2, sc2⟩ := u_91
                  have h_91 : tvR n fi le ge ga so sc x (now x) (dl b9 x n).length fi2 le2 ge2 ga2 so2 sc2 := h_91
                  rw [hnw x (by omega)] at h_91
                  have hP : va_P (dC, dI) vwCl [(h0, oF ad (nI n) nl gr un al ab sb), (ad 0, .inl (dA, 4, .inl now)), (ad 1, .inl (dA, 4, .inl fi2)), (ad 2, .inl (dA, 4, .inl le2)), (ad 3, .inl (dA, 4, .inl ge2)), (ad 4, .inl (dA, 4, .inl ga2)), (ad 5, .inl (dA, 16, .inl so2)), (ad 6, .inl (dB, 4, .inl sc2)), (ad 7, .inl (dB, 16, .inl ls0)), (ad 8, .inl (dA, 16, .inl lp)), (ad 9, .inl (dA, 16, .inl lq)), (ad 10, .inl (dA, 16, .inl lr)), (ad 11, .inl (dA, 16, .inl aw))] H := hP
                  have hD : va_D A [(h0, oF ad (nI n) nl gr un al ab sb), (ad 0, .inl (dA, 4, .inl now)), (ad 1, .inl (dA, 4, .inl fi2)), (ad 2, .inl (dA, 4, .inl le2)), (ad 3, .inl (dA, 4, .inl ge2)), (ad 4, .inl (dA, 4, .inl ga2)), (ad 5, .inl (dA, 16, .inl so2)), (ad 6, .inl (dB, 4, .inl sc2)), (ad 7, .inl (dB, 16, .inl ls0)), (ad 8, .inl (dA, 16, .inl lp)), (ad 9, .inl (dA, 16, .inl lq)), (ad 10, .inl (dA, 16, .inl lr)), (ad 11, .inl (dA, 16, .inl aw))] := hD
                  have hSI := hSI.val (by omega) (if_neg (Nat.lt_irrefl x)) hok9 h_91
                  refine lv_iconst (v := nI 0) hx hb dX0_sample_94 rfl ?_
                  refine lv_istore (lv' := [(6, .int (nI 0)), (5, .int (nI x)), (0, .ref h0), (1, .int x1), (2, .int x2), (3, .int x3), (4, .int x4)]) hx hb dX0_sample_95 hl (by decide) rfl (fun ls hl => ?_)
                  have loop2 : ∀ (f2 y : Nat) (nl gr un al ab : Int32) (ls0 lp lq lr aw : Nat → Int32), 5 ≤ y + f2 → y ≤ 4 → SI b9 (fun j => if j < (x + 1) then n + 1 else n) (fun i j => if i < x ∨ (i = x ∧ j < y) then n + 1 else n) nl gr un al ab fi2 le2 ge2 ga2 so2 sc2 ls0 lp lq lr aw → ∀ (H : Heap) (locs : List Loc), va_P (dC, dI) vwCl [(h0, oF ad (nI n) nl gr un al ab sb), (ad 0, .inl (dA, 4, .inl now)), (ad 1, .inl (dA, 4, .inl fi2)), (ad 2, .inl (dA, 4, .inl le2)), (ad 3, .inl (dA, 4, .inl ge2)), (ad 4, .inl (dA, 4, .inl ga2)), (ad 5, .inl (dA, 16, .inl so2)), (ad 6, .inl (dB, 4, .inl sc2)), (ad 7, .inl (dB, 16, .inl ls0)), (ad 8, .inl (dA, 16, .inl lp)), (ad 9, .inl (dA, 16, .inl lq)), (ad 10, .inl (dA, 16, .inl lr)), (ad 11, .inl (dA, 16, .inl aw))] H → va_D A [(h0, oF ad (nI n) nl gr un al ab sb), (ad 0, .inl (dA, 4, .inl now)), (ad 1, .inl (dA, 4, .inl fi2)), (ad 2, .inl (dA, 4, .inl le2)), (ad 3, .inl (dA, 4, .inl ge2)), (ad 4, .inl (dA, 4, .inl ga2)), (ad 5, .inl (dA, 16, .inl so2)), (ad 6, .inl (dB, 4, .inl sc2)), (ad 7, .inl (dB, 16, .inl ls0)), (ad 8, .inl (dA, 16, .inl lp)), (ad 9, .inl (dA, 16, .inl lq)), (ad 10, .inl (dA, 16, .inl lr)), (ad 11, .inl (dA, 16, .inl aw))] → va_S A s.heap H locs → ∀ ls : Array Slot, lv_has ls 7 [(6, .int (nI y)), (5, .int (nI x)), (0, .ref h0), (1, .int x1), (2, .int x2), (3, .int x3), (4, .int x4)] → W p l e ({ frames := 4, cells := 0, slots := 0, locals := 104 } : Room) s m args below meth c H locs 0 0 Q (F0 m 97 ls []) := by
                    intro f2
                    induction f2 with
                    | zero =>
                      intro y nl gr un al ab ls0 lp lq lr aw h3 h4
                      exact absurd h3 (by omega)
                    | succ f2 ih2 =>
                      intro y nl gr un al ab ls0 lp lq lr aw h3 h4 hSI H locs hP hD hS ls hl
                      refine lv_iload hx hb dX0_sample_97 (lv_at hl 0 rfl) ?_
                      refine lv_iconst (v := nI 4) hx hb dX0_sample_99 rfl ?_
                      refine xn_ge (tgt := 124) hx hb dX0_sample_100 (by decide) (by omega) (by omega) (fun c_100 => ?_) (fun c_100 => ?_)
                      · refine lv_iinc (v := nI (x + 1)) (lv' := [(5, .int (nI (x + 1))), (6, .int (nI y)), (0, .ref h0), (1, .int x1), (2, .int x2), (3, .int x3), (4, .int x4)]) hx hb dX0_sample_124 hl (k := 1) rfl (nI_add _ 1) (by decide) rfl (fun ls hl => ?_)
                        refine lv_goto (tgt := 75) hx hb dX0_sample_127 (by decide) ?_
                        exact ih (x + 1) nl gr un al ab fi2 le2 ge2 ga2 so2 sc2 ls0 lp lq lr aw (by omega) (by omega) (hSI.lv (fun j hj => rfl) (fun i j hi hj hij => if_congr2 (by omega))) H locs hP hD hS ls (lv_sub hl [0, 2, 3, 4, 5, 6] rfl)
                      · refine lv_iload hx hb dX0_sample_103 (lv_at hl 1 rfl) ?_
                        refine lv_iload hx hb dX0_sample_105 (lv_at hl 0 rfl) ?_
                        refine xn_eq (tgt := 118) hx hb dX0_sample_107 (by decide) (by omega) (by omega) (fun c_107 => ?_) (fun c_107 => ?_)
                        · refine lv_iinc (v := nI (y + 1)) (lv' := [(6, .int (nI (y + 1))), (5, .int (nI x)), (0, .ref h0), (1, .int x1), (2, .int x2), (3, .int x3), (4, .int x4)]) hx hb dX0_sample_118 hl (k := 0) rfl (nI_add _ 1) (by decide) rfl (fun ls hl => ?_)
                          refine lv_goto (tgt := 97) hx hb dX0_sample_121 (by decide) ?_
                          exact ih2 (y + 1) nl gr un al ab ls0 lp lq lr aw (by omega) (by omega) (hSI.lv (fun j hj => rfl) (fun i j hi hj hij => if_congr2 (by omega))) H locs hP hD hS ls (lv_sub hl [0, 1, 2, 3, 4, 5, 6] rfl)
                        · refine lv_aload_n hx hb dX0_sample_110 rfl (lv_at hl 2 rfl) ?_
                          refine lv_iload hx hb dX0_sample_111 (lv_at hl 1 rfl) ?_
                          refine lv_iload hx hb dX0_sample_113 (lv_at hl 0 rfl) ?_
                          have hv2 : prR b9 n x y nl gr un al ab aw ∧ lnS b9 n x y ls0 lp lq lr := by
                            have h9 := hSI.2 x y (by omega) (by omega) c_107
                            dsimp only at h9
                            rw [if_neg (by omega)] at h9
                            exact h9
                          refine xc_W (ci := 0) (q0 := 0) (wc := [(h0, oF ad (nI n) nl gr un al ab sb), (ad 0, .inl (dA, 4, .inl now)), (ad 7, .inl (dB, 16, .inl ls0)), (ad 8, .inl (dA, 16, .inl lp)), (ad 9, .inl (dA, 16, .inl lq)), (ad 10, .inl (dA, 16, .inl lr)), (ad 11, .inl (dA, 16, .inl aw))]) (wr := [(ad 1, .inl (dA, 4, .inl fi2)), (ad 2, .inl (dA, 4, .inl le2)), (ad 3, .inl (dA, 4, .inl ge2)), (ad 4, .inl (dA, 4, .inl ga2)), (ad 5, .inl (dA, 16, .inl so2)), (ad 6, .inl (dB, 4, .inl sc2))]) [.int (nI x), .int (nI y)] ⟨hx, hb, hml, hown, hts⟩ hK hP hD hS hA rfl rfl rfl [0, 1, 8, 9, 10, 11, 12] [2, 3, 4, 5, 6, 7] [6, 7, 0, 1, 2, 3, 4, 5, 8, 9, 10, 11, 12] rfl rfl rfl rfl rfl (by decide) (fun u : Int32 × Int32 × Int32 × Int32 × Int32 × (Nat → Int32) × (Nat → Int32) × (Nat → Int32) × (Nat → Int32) × (Nat → Int32) => [(h0, oF ad (nI n) u.1 u.2.1 u.2.2.1 u.2.2.2.1 u.2.2.2.2.1 sb), (ad 0, .inl (dA, 4, .inl now)), (ad 1, .inl (dA, 4, .inl fi2)), (ad 2, .inl (dA, 4, .inl le2)), (ad 3, .inl (dA, 4, .inl ge2)), (ad 4, .inl (dA, 4, .inl ga2)), (ad 5, .inl (dA, 16, .inl so2)), (ad 6, .inl (dB, 4, .inl sc2)), (ad 7, .inl (dB, 16, .inl u.2.2.2.2.2.2.1)), (ad 8, .inl (dA, 16, .inl u.2.2.2.2.2.2.2.1)), (ad 9, .inl (dA, 16, .inl u.2.2.2.2.2.2.2.2.1)), (ad 10, .inl (dA, 16, .inl u.2.2.2.2.2.2.2.2.2)), (ad 11, .inl (dA, 16, .inl u.2.2.2.2.2.1))]) (fun _ => rfl) (fun _ => rfl) rfl (mX0_takePair l dC dI dA dB H.size h0 ad nl gr un al ab sb (nI n) now ls0 lp lq lr aw x y (by omega) (by omega) (by rw [hnw x (by omega)]; exact hok9 _ (by omega)) (by rw [hnw y (by omega)]; exact hok9 _ (by omega)) (ln_ok (by omega) (by omega) hokn hv2.2)) (cwV 2 hts (lw_V q101 q103 qs2 q13 q104) rfl rfl rfl (by decide +kernel) ⟨Nat.le_of_ble_eq_true rfl, Nat.le_of_ble_eq_true rfl⟩) rfl hl.1 rfl (Nat.le_of_ble_eq_true rfl) dX0_sample_115 ⟨Nat.le_of_ble_eq_true rfl, Nat.le_of_ble_eq_true rfl⟩ (fun u_115 H locs h_115 hP hD hS => ?_)
                          obtain ⟨nl2, gr2, un2, al2, ab2, aw2, ls2, lp2, lq2, lr2⟩ := u_115
                          have h_115 : tpR (nI n) nl gr un al ab aw ls0 lp lq lr (4 * x + y) (now x) (now y) nl2 gr2 un2 al2 ab2 aw2 ls2 lp2 lq2 lr2 := h_115
                          rw [hnw x (by omega), hnw y (by omega)] at h_115
                          have hP : va_P (dC, dI) vwCl [(h0, oF ad (nI n) nl2 gr2 un2 al2 ab2 sb), (ad 0, .inl (dA, 4, .inl now)), (ad 1, .inl (dA, 4, .inl fi2)), (ad 2, .inl (dA, 4, .inl le2)), (ad 3, .inl (dA, 4, .inl ge2)), (ad 4, .inl (dA, 4, .inl ga2)), (ad 5, .inl (dA, 16, .inl so2)), (ad 6, .inl (dB, 4, .inl sc2)), (ad 7, .inl (dB, 16, .inl ls2)), (ad 8, .inl (dA, 16, .inl lp2)), (ad 9, .inl (dA, 16, .inl lq2)), (ad 10, .inl (dA, 16, .inl lr2)), (ad 11, .inl (dA, 16, .inl aw2))] H := hP
                          have hD : va_D A [(h0, oF ad (nI n) nl2 gr2 un2 al2 ab2 sb), (ad 0, .inl (dA, 4, .inl now)), (ad 1, .inl (dA, 4, .inl fi2)), (ad 2, .inl (dA, 4, .inl le2)), (ad 3, .inl (dA, 4, .inl ge2)), (ad 4, .inl (dA, 4, .inl ga2)), (ad 5, .inl (dA, 16, .inl so2)), (ad 6, .inl (dB, 4, .inl sc2)), (ad 7, .inl (dB, 16, .inl ls2)), (ad 8, .inl (dA, 16, .inl lp2)), (ad 9, .inl (dA, 16, .inl lq2)), (ad 10, .inl (dA, 16, .inl lr2)), (ad 11, .inl (dA, 16, .inl aw2))] := hD
                          have hSI := hSI.pair (by omega) (by omega) c_107 hn (if_neg (by omega)) h_115
                          refine lv_iinc (v := nI (y + 1)) (lv' := [(6, .int (nI (y + 1))), (5, .int (nI x)), (0, .ref h0), (1, .int x1), (2, .int x2), (3, .int x3), (4, .int x4)]) hx hb dX0_sample_118 hl (k := 0) rfl (nI_add _ 1) (by decide) rfl (fun ls hl => ?_)
                          refine lv_goto (tgt := 97) hx hb dX0_sample_121 (by decide) ?_
                          exact ih2 (y + 1) nl2 gr2 un2 al2 ab2 ls2 lp2 lq2 lr2 aw2 (by omega) (by omega) (hSI.lv (fun j hj => rfl) (fun i j hi hj hij => if_congr3 (by omega) (by omega))) H locs hP hD hS ls (lv_sub hl [0, 1, 2, 3, 4, 5, 6] rfl)
                  exact loop2 5 0 nl gr un al ab ls0 lp lq lr aw (by omega) (by omega) (hSI.lv (fun j hj => if_congr4 (by omega)) (fun i j hi hj hij => if_congr2 (by omega))) H locs hP hD hS ls (lv_sub hl [0, 1, 2, 3, 4, 5, 6] rfl)
            exact loop 5 0 (g 1) (g 2) (g 3) (g 4) (g 5) (F 1) (F 2) (F 3) (F 4) (F 5) (F 6) (F 7) (F 8) (F 9) (F 10) (F 11) (by omega) (by omega) (hSI0.lv (fun j hj => rfl) (fun i j hi hj hij => rfl)) H locs hP hD hS ls (lv_sub hl [0, 1, 2, 3, 4, 5] rfl)
          · refine lv_bipush (v := (-2)) hx hb dX0_sample_40 rfl ?_
            exact K _ (mkI (nI n) (g 1) (g 2) (g 3) (g 4) (g 5), sb, mkA (F 0) (F 1) (F 2) (F 3) (F 4) (F 5) (F 6) (F 7) (F 8) (F 9) (F 10) (F 11)) _ _ _ _ (Or.inr (Or.inl ⟨hk1, hk2, hk3, hk4, c_37, rfl, ⟨rfl, hFI.2⟩⟩)) hP hD hS rfl dX0_sample_42
        · refine xn_if_ne (tgt := 31) hx hb dX0_sample_26 (by decide) (by omega) (fun c_26 => absurd c_26 (by omega)) (fun c_26 => ?_)
          refine lv_iconst (v := (-1)) hx hb dX0_sample_29 rfl ?_
          exact K _ (mkI (nI n) (g 1) (g 2) (g 3) (g 4) (g 5), sb, mkA (F 0) (F 1) (F 2) (F 3) (F 4) (F 5) (F 6) (F 7) (F 8) (F 9) (F 10) (F 11)) _ _ _ _ (Or.inr (Or.inr ⟨fun h => hk4 h.2.2.2, rfl, ⟨rfl, hFI.2⟩⟩)) hP hD hS rfl dX0_sample_30
      · refine xn_if_eq (tgt := 29) hx hb dX0_sample_18 (by decide) (by omega) (fun c_18 => ?_) (fun c_18 => absurd c_18 (by omega))
        refine lv_iconst (v := (-1)) hx hb dX0_sample_29 rfl ?_
        exact K _ (mkI (nI n) (g 1) (g 2) (g 3) (g 4) (g 5), sb, mkA (F 0) (F 1) (F 2) (F 3) (F 4) (F 5) (F 6) (F 7) (F 8) (F 9) (F 10) (F 11)) _ _ _ _ (Or.inr (Or.inr ⟨fun h => hk3 h.2.2.1, rfl, ⟨rfl, hFI.2⟩⟩)) hP hD hS rfl dX0_sample_30
    · refine xn_if_eq (tgt := 29) hx hb dX0_sample_11 (by decide) (by omega) (fun c_11 => ?_) (fun c_11 => absurd c_11 (by omega))
      refine lv_iconst (v := (-1)) hx hb dX0_sample_29 rfl ?_
      exact K _ (mkI (nI n) (g 1) (g 2) (g 3) (g 4) (g 5), sb, mkA (F 0) (F 1) (F 2) (F 3) (F 4) (F 5) (F 6) (F 7) (F 8) (F 9) (F 10) (F 11)) _ _ _ _ (Or.inr (Or.inr ⟨fun h => hk2 h.2.1, rfl, ⟨rfl, hFI.2⟩⟩)) hP hD hS rfl dX0_sample_30
  · refine xn_if_eq (tgt := 29) hx hb dX0_sample_4 (by decide) (by omega) (fun c_4 => ?_) (fun c_4 => absurd c_4 (by omega))
    refine lv_iconst (v := (-1)) hx hb dX0_sample_29 rfl ?_
    exact K _ (mkI (nI n) (g 1) (g 2) (g 3) (g 4) (g 5), sb, mkA (F 0) (F 1) (F 2) (F 3) (F 4) (F 5) (F 6) (F 7) (F 8) (F 9) (F 10) (F 11)) _ _ _ _ (Or.inr (Or.inr ⟨fun h => hk1 h.1, rfl, ⟨rfl, hFI.2⟩⟩)) hP hD hS rfl dX0_sample_30
end
section
/-! the plain law: what the finder's cells answer is what the model computes -/
theorem dl_has {a : Nat → Int32} {j n : Nat} : ∀ t, t < n → a (4 * t + j) ∈ dl a j n ∨ (dl a j n).length = 4 := by
  induction n with
  | zero => intro t ht; exact absurd ht (by omega)
  | succ n ih =>
    intro t ht
    have hlen := dl_len a j n
    by_cases h : a (4 * n + j) ∈ dl a j n
    · rw [dl_in h]
      rcases Nat.lt_or_ge t n with q | q
      · exact ih t q
      · rw [show t = n by omega]; exact Or.inl h
    · rcases Nat.lt_or_ge (dl a j n).length 4 with q2 | q2
      · rw [dl_new h q2]
        rcases Nat.lt_or_ge t n with q | q
        · rcases ih t q with h3 | h3
          · exact Or.inl (List.mem_append_left _ h3)
          · omega
        · rw [show t = n by omega]; exact Or.inl (List.mem_append_right _ (List.mem_singleton.mpr rfl))
      · rw [dl_full q2]
        exact Or.inr (by omega)
theorem dl_two' {a : Nat → Int32} {j n t : Nat} (ht : t < n) (h : ¬ a (4 * t + j) = a j) : 2 ≤ (dl a j n).length := by
  have h1 := dl_has (a := a) (j := j) t ht
  have h2 := dl_has (a := a) (j := j) 0 (show 0 < n by omega)
  rw [show 4 * 0 + j = j by omega] at h2
  rcases h1 with h1 | h1
  · rcases h2 with h2 | h2
    · cases hl : dl a j n with
      | nil => rw [hl] at h1; cases h1
      | cons x L =>
        cases L with
        | nil =>
          rw [hl] at h1 h2
          rw [List.mem_singleton] at h1 h2
          exact absurd (h1.trans h2.symm) h
        | cons y L => simp
    · omega
  · omega
theorem dl_same {a : Nat → Int32} {j n : Nat} (h : (dl a j n).length < 2) : ∀ t, t < n → a (4 * t + j) = a j := by
  intro t ht
  apply Classical.byContradiction
  intro q
  have := dl_two' ht q
  omega
theorem fB_le {a : Nat → Int32} {j n : Nat} : ∀ t, t < n → (fB 0 a j n).toInt ≤ (a (4 * t + j)).toInt := by
  induction n with
  | zero => intro t ht; exact absurd ht (by omega)
  | succ n ih =>
    intro t ht
    have e : fB 0 a j (n + 1) = if a (4 * n + j) < fB 0 a j n then a (4 * n + j) else fB 0 a j n := by
      show (if (0 : Int32) = 0 then _ else _) = _
      rw [if_pos rfl]
    rw [e]
    split
    · rename_i h
      rw [Int32.lt_iff_toInt_lt] at h
      rcases Nat.lt_or_ge t n with q | q
      · have := ih t q; omega
      · rw [show t = n by omega]; omega
    · rename_i h
      rw [Int32.lt_iff_toInt_lt] at h
      rcases Nat.lt_or_ge t n with q | q
      · exact ih t q
      · rw [show t = n by omega]; omega
theorem fB_ge {a : Nat → Int32} {j n : Nat} : ∀ t, t < n → (a (4 * t + j)).toInt ≤ (fB (nI 1) a j n).toInt := by
  induction n with
  | zero => intro t ht; exact absurd ht (by omega)
  | succ n ih =>
    intro t ht
    have e : fB (nI 1) a j (n + 1) = if fB (nI 1) a j n < a (4 * n + j) then a (4 * n + j) else fB (nI 1) a j n := by
      show (if nI 1 = 0 then _ else _) = _
      rw [if_neg (show ¬ nI 1 = 0 by decide)]
    rw [e]
    split
    · rename_i h
      rw [Int32.lt_iff_toInt_lt] at h
      rcases Nat.lt_or_ge t n with q | q
      · have := ih t q; omega
      · rw [show t = n by omega]; omega
    · rename_i h
      rw [Int32.lt_iff_toInt_lt] at h
      rcases Nat.lt_or_ge t n with q | q
      · exact ih t q
      · rw [show t = n by omega]; omega
theorem fB_same {a : Nat → Int32} {w : Int32} {j n : Nat} (h : ∀ t, t < n → a (4 * t + j) = a j) : fB w a j n = a j := by
  induction n with
  | zero => rfl
  | succ n ih =>
    unfold fB
    rw [ih (fun t ht => h t (by omega)), h n (by omega)]
    split <;> split <;> rfl
section LAWS
variable {n : Nat} {a g : Nat → Int32} {sb : Int64} {F : Nat → Nat → Int32} {r1 r2 : Int32}
theorem FI.n0 (hF : FI n a g sb F) : g 0 = 0 ↔ n = 0 := by
  have h2 := hF.2.1
  rw [hF.1]
  constructor
  · intro h
    rcases Nat.eq_zero_or_pos n with z | z
    · exact z
    · exact absurd h (nI_ne0 z (by omega))
  · intro h; rw [h]; rfl
theorem FI.vr (hF : FI n a g sb F) {j : Nat} (hj : j < 4) : vrR a n j (F 1) (F 2) (F 3) (F 4) := (hF.2.2.2.1.1 j hj).1
theorem FI.dr (hF : FI n a g sb F) {j : Nat} (hj : j < 4) : drR a n j (F 5) (F 6) := (hF.2.2.2.1.1 j hj).2
theorem FI.pr (hF : FI n a g sb F) {i j : Nat} (hi : i < 4) (hj : j < 4) (hn : i ≠ j) : prR a n i j (g 1) (g 2) (g 3) (g 4) (g 5) (F 11) := (hF.2.2.2.1.2 i j hi hj hn).1
theorem FI.ln (hF : FI n a g sb F) {i j : Nat} (hi : i < 4) (hj : j < 4) (hn : i ≠ j) : lnS a n i j (F 7) (F 8) (F 9) (F 10) := (hF.2.2.2.1.2 i j hi hj hn).2
theorem eq_constant {x : Int32} (hF : FI n a g sb F) (h1 : px4 x (r1 = (-1000)) (fun j => r1 = if g 0 = 0 then (-1000) else if F 2 j = F 3 j then F 2 j else (-1000))) (h2 : px4 x (r2 = (-1000)) (fun j => r2 = if (dl a j n).length = 1 then a j else (-1000))) : r1 = r2 := by
  refine h1.two h2 (fun e1 e2 => by rw [e1, e2]) (fun j hj e1 e2 => ?_)
  rw [e1, e2]
  rcases Nat.eq_zero_or_pos n with z | z
  · rw [if_pos (hF.n0.mpr z), if_neg (by rw [z]; simp [dl])]
  · rw [if_neg (fun h => by have := hF.n0.mp h; omega)]
    obtain ⟨-, f2, f3, -⟩ := hF.vr hj z
    rw [f2, f3]
    by_cases hl : (dl a j n).length = 1
    · have hs := dl_same (a := a) (j := j) (n := n) (by omega)
      rw [if_pos hl, fB_same hs, fB_same hs, if_pos rfl]
    · rw [if_neg hl, if_neg (fun e => hl ?_)]
      have hs : ∀ t, t < n → a (4 * t + j) = a j := by
        have k : ∀ t, t < n → a (4 * t + j) = fB 0 a j n := fun t ht => by
          have q1 := fB_le (a := a) (j := j) t ht
          have q2 := fB_ge (a := a) (j := j) t ht
          rw [← e] at q2
          exact Int32.toInt_inj.mp (by omega)
        intro t ht
        have k0 := k 0 z
        rw [show 4 * 0 + j = j by omega] at k0
        rw [k t ht, k0]
      rw [(dl_one hs).2 z]
      rfl
theorem eq_bound {x wh : Int32} (hF : FI n a g sb F) (h1 : px4 x (r1 = (-1000)) (fun j => r1 = if g 0 = 0 then (-1000) else if wh = 0 then F 2 j else if wh = nI 1 then F 3 j else (-1000))) (h2 : px4 x (r2 = (-1000)) (fun j => (n = 0 ∨ (¬ wh = 0 ∧ ¬ wh = nI 1) → r2 = (-1000)) ∧ (0 < n → (wh = 0 ∨ wh = nI 1) → r2 = fB wh a j n))) : r1 = r2 := by
  refine h1.two h2 (fun e1 e2 => by rw [e1, e2]) (fun j hj e1 e2 => ?_)
  rw [e1]
  rcases Nat.eq_zero_or_pos n with z | z
  · rw [if_pos (hF.n0.mpr z), e2.1 (Or.inl z)]
  · rw [if_neg (fun h => by have := hF.n0.mp h; omega)]
    obtain ⟨-, f2, f3, -⟩ := hF.vr hj z
    by_cases w0 : wh = 0
    · rw [if_pos w0, e2.2 z (Or.inl w0), w0, f2]
    · rw [if_neg w0]
      by_cases w1 : wh = nI 1
      · rw [if_pos w1, e2.2 z (Or.inr w1), w1, f3]
      · rw [if_neg w1, e2.1 (Or.inr ⟨w0, w1⟩)]
theorem eq_different {x : Int32} {u : Nat → Int32} (hF : FI n a g sb F) (h1 : px4 x (r1 = (-1)) (fun j => r1 = F 6 j)) (h2 : px4 x (r2 = (-1)) (fun j => r2 = nI (dl a j n).length ∧ fewR u (dl a j n))) : r1 = r2 := by
  refine h1.two h2 (fun e1 e2 => by rw [e1, e2]) (fun j hj e1 e2 => ?_)
  rw [e1, e2.1, (hF.dr hj).1]
theorem mod_law {j : Nat} (hF : FI n a g sb F) (hj : j < 4) (hl : 2 ≤ (dl a j n).length) : ∃ k : Nat, 1 ≤ k ∧ k ≤ 200 ∧ F 4 j = nI k ∧ (∀ m : Nat, sameM a j n m ↔ m ∣ k) := by
  obtain ⟨t, ht, hne⟩ := dl_two hl
  obtain ⟨-, -, -, k, h1, h2, h3, h4⟩ := hF.vr hj (by omega)
  refine ⟨k, ?_, h1, h2, fun m => ?_⟩
  · rcases Nat.eq_zero_or_pos k with z | z
    · have := h3 t ht
      rw [z] at this
      have h5 := Int.zero_dvd.mp this
      exact absurd (Int32.toInt_inj.mp (by omega)) hne
    · exact z
  · constructor
    · intro hs
      refine h4 m (fun i hi => ?_)
      exact Int.dvd_of_emod_eq_zero (Int.emod_eq_emod_iff_emod_sub_eq_zero.mp (hs i hi))
    · intro hd i hi
      have h5 : (m : Int) ∣ (a (4 * i + j)).toInt - (a j).toInt := Int.dvd_trans (Int.natCast_dvd_natCast.mpr hd) (h3 i hi)
      exact Int.emod_eq_emod_iff_emod_sub_eq_zero.mpr (Int.emod_eq_zero_of_dvd h5)
theorem mod_eq {j k : Nat} {m2 : Int32} (hk : 1 ≤ k) (hk2 : k ≤ 200) (hs : ∀ m : Nat, sameM a j n m ↔ m ∣ k) (h : modR a j n m2) : m2 = nI k := by
  rcases h with ⟨m, h1, h2, h3, h4, h5⟩ | ⟨h1, h2⟩
  · have hd := (hs m).mp h4
    have hle := Nat.le_of_dvd hk hd
    rcases Nat.lt_or_ge m k with q | q
    · exact absurd ((hs k).mpr (Nat.dvd_refl k)) (h5 k q hk2)
    · rw [h3, show m = k by omega]
  · rcases Nat.lt_or_ge k 2 with q | q
    · rw [h1, show k = 1 by omega]
    · exact absurd ((hs k).mpr (Nat.dvd_refl k)) (h2 k q hk2)
theorem mod_zero {j : Nat} (hF : FI n a g sb F) (hj : j < 4) (hn : 0 < n) (hl : (dl a j n).length < 2) : F 4 j = nI 0 := by
  obtain ⟨-, -, -, k, h1, h2, h3, h4⟩ := hF.vr hj hn
  have hs := dl_same hl
  have := h4 0 (fun i hi => by rw [hs i hi, Int.sub_self]; exact Int.dvd_zero _)
  rw [h2, Nat.eq_zero_of_zero_dvd this]
theorem eq_modulus {x : Int32} (hF : FI n a g sb F) (h1 : px4 x (r1 = (-1)) (fun j => r1 = if g 0 = 0 then nI 0 else F 4 j)) (h2 : px4 x (r2 = (-1)) (fun j => ((dl a j n).length < 2 → r2 = nI 0) ∧ (2 ≤ (dl a j n).length → modR a j n r2))) : r1 = r2 := by
  refine h1.two h2 (fun e1 e2 => by rw [e1, e2]) (fun j hj e1 e2 => ?_)
  rw [e1]
  rcases Nat.eq_zero_or_pos n with z | z
  · rw [if_pos (hF.n0.mpr z), e2.1 (by rw [z]; simp [dl])]
  · rw [if_neg (fun h => by have := hF.n0.mp h; omega)]
    rcases Nat.lt_or_ge (dl a j n).length 2 with q | q
    · rw [e2.1 q, mod_zero hF hj z q]
    · obtain ⟨k, k1, k2, k3, k4⟩ := mod_law hF hj q
      rw [mod_eq k1 k2 k4 (e2.2 q), k3]
theorem FI.gk (hF : FI n a g sb F) : ∃ gk : Nat → Nat, 0 < n → ∀ j, j < 4 → gk j ≤ 200 ∧ F 4 j = nI (gk j) ∧ okw (F 1 j) := by
  refine ⟨fun j => (F 4 j).toInt.toNat, fun hn j hj => ?_⟩
  obtain ⟨f1, -, -, k, h1, h2, -⟩ := hF.vr hj hn
  have e : (F 4 j).toInt.toNat = k := by rw [h2, nI_toInt (by omega)]; omega
  dsimp only
  rw [e, f1]
  exact ⟨h1, h2, hF.2.2.1 _ (by omega)⟩
theorem eq_remainder {x : Int32} {gk : Nat → Nat} (hF : FI n a g sb F) (hgk : 0 < n → ∀ j, j < 4 → gk j ≤ 200 ∧ F 4 j = nI (gk j) ∧ okw (F 1 j)) (h1 : px4 x (r1 = (-1000)) (fun j => (n = 0 ∨ gk j < 2 → r1 = (-1000)) ∧ (0 < n → 2 ≤ gk j → r1.toInt = (F 1 j).toInt % (gk j : Int)))) (h2 : px4 x (r2 = (-1000)) (fun j => ((dl a j n).length < 2 → r2 = (-1000)) ∧ (2 ≤ (dl a j n).length → ∃ m2, modR a j n m2 ∧ ((m2 = nI 1 ∧ r2 = (-1000)) ∨ ∃ k : Nat, 2 ≤ k ∧ k ≤ 200 ∧ m2 = nI k ∧ r2.toInt = (a j).toInt % (k : Int))))) : r1 = r2 := by
  refine h1.two h2 (fun e1 e2 => by rw [e1, e2]) (fun j hj e1 e2 => ?_)
  rcases Nat.eq_zero_or_pos n with z | z
  · rw [e1.1 (Or.inl z), e2.1 (by rw [z]; simp [dl])]
  · obtain ⟨g1, g2, -⟩ := hgk z j hj
    rcases Nat.lt_or_ge (dl a j n).length 2 with q | q
    · have e := mod_zero hF hj z q
      rw [g2] at e
      have e3 := (nI_eq (by omega) (by omega)).mp e
      rw [e2.1 q, e1.1 (Or.inr (by omega))]
    · obtain ⟨k, k1, k2, k3, k4⟩ := mod_law hF hj q
      rw [g2] at k3
      have ek := (nI_eq (by omega) (by omega)).mp k3
      obtain ⟨m2, m3, m4⟩ := e2.2 q
      have e5 := mod_eq k1 k2 k4 m3
      rcases m4 with ⟨m5, m6⟩ | ⟨k5, m5, m6, m7, m8⟩
      · rw [m5] at e5
        have e6 := (nI_eq (by omega) (by omega)).mp e5
        rw [m6, e1.1 (Or.inr (by omega))]
      · rw [m7] at e5
        have e6 := (nI_eq (by omega) (by omega)).mp e5
        apply Int32.toInt_inj.mp
        rw [e1.2 z (by omega), m8, (hF.vr hj z).1, ek, e6]
theorem sel_law {i j q : Nat} (hF : FI n a g sb F) (hi : i < 4) (hj : j < 4) (hn : i ≠ j) (hq : q < 4) : ibt (selR (g 1) (g 2) (g 3) (g 4) q) (4 * i + j) = true ↔ ¬ ∀ t, t < n → holdR q (a (4 * t + i)) (a (4 * t + j)) := by
  obtain ⟨p1, p2, p3, p4, -⟩ := hF.pr hi hj hn
  have ex : ∀ {P : Nat → Prop}, (∃ t, t < n ∧ ¬ P t) ↔ ¬ ∀ t, t < n → P t := by
    intro P
    constructor
    · rintro ⟨t, ht, h⟩ h2; exact h (h2 t ht)
    · intro h
      apply Classical.byContradiction
      intro h2
      exact h (fun t ht => Classical.byContradiction fun h3 => h2 ⟨t, ht, h3⟩)
  rcases (show q = 0 ∨ q = 1 ∨ q = 2 ∨ q = 3 by omega) with e | e | e | e
  · subst e; exact p1.trans ex
  · subst e; exact p2.trans ex
  · subst e; exact p3.trans ex
  · subst e
    refine Iff.trans p4 (Iff.trans ?_ ex)
    constructor
    · rintro ⟨t, ht, h⟩; exact ⟨t, ht, fun h2 => h2 h⟩
    · rintro ⟨t, ht, h⟩; exact ⟨t, ht, Classical.byContradiction h⟩
theorem eq_relation {x y rel : Int32} (hF : FI n a g sb F) (h1 : pxP x y (r1 = nI 0) (fun i j => px4 rel (r1 = nI 0) (fun q => (r1 = nI 1 ∧ ibt (selR (g 1) (g 2) (g 3) (g 4) q) (4 * i + j) = false) ∨ (r1 = nI 0 ∧ ibt (selR (g 1) (g 2) (g 3) (g 4) q) (4 * i + j) = true)))) (h2 : pxP x y (r2 = nI 0) (fun i j => px4 rel (r2 = nI 0) (fun q => (r2 = nI 1 ∧ ∀ t, t < n → holdR q (a (4 * t + i)) (a (4 * t + j))) ∨ (r2 = nI 0 ∧ ¬ ∀ t, t < n → holdR q (a (4 * t + i)) (a (4 * t + j)))))) : r1 = r2 := by
  refine h1.two h2 (fun e1 e2 => by rw [e1, e2]) (fun i j hi hj hn e1 e2 => e1.two e2 (fun e1 e2 => by rw [e1, e2]) (fun q hq e1 e2 => ?_))
  have hs := sel_law hF hi hj hn hq
  rcases e1 with ⟨e1, f1⟩ | ⟨e1, f1⟩
  · rcases e2 with ⟨e2, f2⟩ | ⟨e2, f2⟩
    · rw [e1, e2]
    · rw [hs.mpr f2] at f1; cases f1
  · rcases e2 with ⟨e2, f2⟩ | ⟨e2, f2⟩
    · exact absurd f2 (hs.mp f1)
    · rw [e1, e2]
theorem off_ring {x y c : Int32} : y - x = c ↔ y = x + c := by
  constructor
  · intro h; rw [← h]; grind
  · intro h; rw [h]; grind
theorem eq_offset {x y : Int32} (hF : FI n a g sb F) (h1 : pxP x y (r1 = (-1000)) (fun i j => r1 = if g 0 = 0 then (-1000) else if ibt (g 5) (4 * i + j) = true then (-1000) else F 11 (4 * i + j))) (h2 : pxP x y (r2 = (-1000)) (fun i j => (n = 0 → r2 = (-1000)) ∧ (0 < n → ((∀ t, t < n → a (4 * t + j) = a (4 * t + i) + (a j - a i)) ∧ r2 = a j - a i) ∨ ((¬ ∀ t, t < n → a (4 * t + j) = a (4 * t + i) + (a j - a i)) ∧ r2 = (-1000))))) : r1 = r2 := by
  refine h1.two h2 (fun e1 e2 => by rw [e1, e2]) (fun i j hi hj hn e1 e2 => ?_)
  rw [e1]
  rcases Nat.eq_zero_or_pos n with z | z
  · rw [if_pos (hF.n0.mpr z), e2.1 z]
  · rw [if_neg (fun h => by have := hF.n0.mp h; omega)]
    obtain ⟨-, -, -, -, p5, p6⟩ := hF.pr hi hj hn
    rcases e2.2 z with ⟨f1, f2⟩ | ⟨f1, f2⟩
    · rw [if_neg, f2, p5 z]
      intro h
      obtain ⟨t, ht, hp⟩ := p6.mp h
      exact hp (off_ring.mpr (f1 t ht))
    · rw [if_pos, f2]
      apply p6.mpr
      apply Classical.byContradiction
      intro h
      exact f1 (fun t ht => off_ring.mp (Classical.byContradiction fun h3 => h ⟨t, ht, h3⟩))
theorem eq_equals (hF : FI n a g sb F) (h1 : r1 = eqall (fun i j => !(ibt (g 3) (4 * i + j))) 4) (h2 : r2 = eqall (fun i j => decide (∀ t, t < n → a (4 * t + i) = a (4 * t + j))) 4) : r1 = r2 := by
  rw [h1, h2]
  refine eqall_congr (fun x y hx hy => ?_) 4 (by omega)
  have hs := sel_law (q := 2) hF (show x < 4 by omega) hy (by omega) (by omega)
  show (!(ibt (g 3) (4 * x + y))) = _
  cases hb : ibt (g 3) (4 * x + y) with
  | true =>
    have h9 : ¬ ∀ t, t < n → a (4 * t + x) = a (4 * t + y) := hs.mp hb
    exact (decide_eq_false h9).symm
  | false =>
    refine (decide_eq_true (Classical.byContradiction fun h => ?_)).symm
    have := hs.mpr h
    rw [show selR (g 1) (g 2) (g 3) (g 4) 2 = g 3 from rfl, hb] at this
    cases this
theorem eq_sums {x y zz : Int32} (hF : FI n a g sb F) (h1 : px4 x (r1 = nI 0) (fun j => px4 y (r1 = nI 0) (fun j2 => px4 zz (r1 = nI 0) (fun j3 => (r1 = nI 1 ∧ lbt sb (16 * j + 4 * j2 + j3) = false) ∨ (r1 = nI 0 ∧ lbt sb (16 * j + 4 * j2 + j3) = true))))) (h2 : px4 x (r2 = nI 0) (fun j => px4 y (r2 = nI 0) (fun j2 => px4 zz (r2 = nI 0) (fun j3 => (r2 = nI 1 ∧ ∀ t, t < n → a (4 * t + j) + a (4 * t + j2) = a (4 * t + j3)) ∨ (r2 = nI 0 ∧ ¬ ∀ t, t < n → a (4 * t + j) + a (4 * t + j2) = a (4 * t + j3)))))) : r1 = r2 := by
  refine h1.two h2 (fun e1 e2 => by rw [e1, e2]) (fun j hj e1 e2 => e1.two e2 (fun e1 e2 => by rw [e1, e2]) (fun j2 hj2 e1 e2 => e1.two e2 (fun e1 e2 => by rw [e1, e2]) (fun j3 hj3 e1 e2 => ?_)))
  have hs := hF.2.2.2.2 (16 * j + 4 * j2 + j3) (by omega)
  rw [show (16 * j + 4 * j2 + j3) / 16 = j by omega, show (16 * j + 4 * j2 + j3) / 4 % 4 = j2 by omega, show (16 * j + 4 * j2 + j3) % 4 = j3 by omega] at hs
  rcases e1 with ⟨e1, f1⟩ | ⟨e1, f1⟩
  · rcases e2 with ⟨e2, f2⟩ | ⟨e2, f2⟩
    · rw [e1, e2]
    · exfalso
      apply f2
      intro t ht
      apply Classical.byContradiction
      intro h
      rw [hs.mpr ⟨t, ht, h⟩] at f1
      cases f1
  · rcases e2 with ⟨e2, f2⟩ | ⟨e2, f2⟩
    · obtain ⟨t, ht, h⟩ := hs.mp f1
      exact absurd (f2 t ht) h
    · rw [e1, e2]
end LAWS
end
section
/-! the line: both classes find the same numbers, or none -/
theorem nat_least {M N P g : Nat} (hM : 0 < M) (hg : g = Nat.gcd M N) (h : M ∣ P * N) : M / g ∣ P := by
  have hg0 : 0 < g := by rw [hg]; exact Nat.gcd_pos_of_pos_left _ hM
  have hc : Nat.Coprime (M / g) (N / g) := by
    have := Nat.coprime_div_gcd_div_gcd (m := M) (n := N) (by rw [← hg]; exact hg0)
    rw [← hg] at this
    exact this
  have e1 : M = g * (M / g) := (Nat.mul_div_cancel' (by rw [hg]; exact Nat.gcd_dvd_left M N)).symm
  have e2 : N = g * (N / g) := (Nat.mul_div_cancel' (by rw [hg]; exact Nat.gcd_dvd_right M N)).symm
  have h3 : g * (M / g) ∣ g * (P * (N / g)) := by
    have e3 : g * (P * (N / g)) = P * N := by
      rw [← Nat.mul_assoc, Nat.mul_comm g P, Nat.mul_assoc, ← e2]
    rw [← e1, e3]
    exact h
  exact hc.dvd_of_dvd_mul_right (Nat.dvd_of_mul_dvd_mul_left hg0 h3)
theorem ln_uni {a : Nat → Int32} {n i j o o2 : Nat} {p q r P Q R : Int32} (hi : i < 4) (hj : j < 4) (hok : okA a n) (hf : frst a i j n o) (hx : ¬ a (4 * o + i) = a i) (hy : ¬ a (4 * o + j) = a j) (hd : drwR (a (4 * o + i) - a i) (a (4 * o + j) - a j) (a (4 * o + i)) (a (4 * o + j)) p q r) (hl : lnR a i j n o2 P Q R) : P = p ∧ Q = q ∧ R = r ∧ ¬ Q = 0 := by
  obtain ⟨l1, l2, l3, l4, l5, l6, l7, l8⟩ := hl
  have ho : o2 = o := by
    rcases Nat.lt_trichotomy o2 o with z | z | z
    · exact absurd (hf.2 o2 z).1 l3
    · exact z
    · exact absurd (l2 o z) hx
  subst ho
  have hon := hf.1
  have kx : okw (a (4 * o2 + i)) := hok _ (by omega)
  have ki : okw (a i) := hok _ (by omega)
  have ky : okw (a (4 * o2 + j)) := hok _ (by omega)
  have kj : okw (a j) := hok _ (by omega)
  have er := sub_ok kx ki
  have es := sub_ok ky kj
  obtain ⟨ac, eac⟩ : ∃ ac : Int32, ac = a (4 * o2 + i) - a i := ⟨_, rfl⟩
  obtain ⟨up, eup⟩ : ∃ up : Int32, up = a (4 * o2 + j) - a j := ⟨_, rfl⟩
  rw [← eac, ← eup] at hd
  rw [← eac] at er
  rw [← eup] at es
  rw [← er, ← es] at l6
  rw [← er, ← es] at l7
  have hac : ¬ ac = 0 := fun e => hx (sub_0.mp (by rw [← eac]; exact e))
  have hup : ¬ up = 0 := fun e => hy (sub_0.mp (by rw [← eup]; exact e))
  have hacz : ac.toInt ≠ 0 := fun e => hac (Int32.toInt_inj.mp e)
  have hupz : up.toInt ≠ 0 := fun e => hup (Int32.toInt_inj.mp e)
  have hbac : -200 ≤ ac.toInt ∧ ac.toInt ≤ 200 := by
    obtain ⟨x1, x2⟩ := kx; obtain ⟨x3, x4⟩ := ki; rw [er]; omega
  have hline := drw_line hac hd
  obtain ⟨d1, d2, d3⟩ := hd
  have hg0 : 0 < Int.gcd ac.toInt up.toInt := Nat.gcd_pos_of_pos_left _ (Int.natAbs_pos.mpr hacz)
  -- as whole numbers p * up = q * ac
  have e2 : p.toInt * up.toInt = q.toInt * ac.toInt := by
    have hdv : Int.gcd ac.toInt up.toInt ∣ ac.toInt.natAbs := Int.gcd_dvd_natAbs_left _ _
    have e1 : p.toInt * ((Int.gcd ac.toInt up.toInt : Nat) : Int) = (ac.toInt.natAbs : Int) := by
      rw [d1, ← Int.natCast_mul, Nat.div_mul_cancel hdv]
    apply Int.eq_of_mul_eq_mul_right (show ((Int.gcd ac.toInt up.toInt : Nat) : Int) ≠ 0 by omega)
    rw [Int.mul_right_comm, e1, Int.mul_right_comm, d2]
    have e3 : (ac.toInt.natAbs : Int) = ac.toInt.sign * ac.toInt := by
      rcases Int.lt_or_gt_of_ne hacz with z | z
      · rw [Int.sign_eq_neg_one_of_neg z]; omega
      · rw [Int.sign_eq_one_of_pos z]; omega
    rw [e3, Int.mul_assoc, Int.mul_assoc, Int.mul_comm ac.toInt up.toInt]
  have hp1 : 1 ≤ p.toInt := by
    rw [d1]
    have : 0 < ac.toInt.natAbs / Int.gcd ac.toInt up.toInt := Nat.div_pos (Nat.le_of_dvd (Int.natAbs_pos.mpr hacz) (Int.gcd_dvd_natAbs_left _ _)) hg0
    omega
  have hPp : P.toInt = p.toInt := by
    have h1 : P.toInt ≤ p.toInt := by
      rcases Int.lt_or_le p.toInt P.toInt with z | z
      · exact absurd ⟨q.toInt, by rw [e2, Int.mul_comm]⟩ (l7 p.toInt hp1 z)
      · exact z
    have h2 : p.toInt ≤ P.toInt := by
      have h3 : ac.toInt ∣ P.toInt * up.toInt := ⟨Q.toInt, by rw [← l6, Int.mul_comm]⟩
      have h4 : ac.toInt.natAbs ∣ P.toInt.natAbs * up.toInt.natAbs := by
        rw [← Int.natAbs_mul]
        exact Int.natAbs_dvd_natAbs.mpr h3
      have h5 := nat_least (Int.natAbs_pos.mpr hacz) (g := Int.gcd ac.toInt up.toInt) rfl h4
      have h6 := Nat.le_of_dvd (by omega) h5
      rw [d1]
      omega
    omega
  have hQq : Q.toInt = q.toInt := by
    apply Int.eq_of_mul_eq_mul_right hacz
    rw [l6, hPp, e2]
  have eP : P = p := Int32.toInt_inj.mp hPp
  have eQ : Q = q := Int32.toInt_inj.mp hQq
  refine ⟨eP, eQ, ?_, fun e => ?_⟩
  · rw [l8, d3, eP, eQ]
    rw [eac, eup] at hline
    have := ln_ring2 hline
    rw [this]
    grind
  · rw [e, show (0 : Int32).toInt = 0 from rfl, Int.zero_mul] at l6
    rcases Int.mul_eq_zero.mp l6.symm with z | z
    · omega
    · exact hupz z
theorem mul_cancel {P y1 y2 : Int32} (h1 : 1 ≤ P.toInt) (h2 : P.toInt ≤ 200) (k1 : okw y1) (k2 : okw y2) (h : P * y1 = P * y2) : y1 = y2 := by
  have hP : P = nI P.toInt.toNat := Int32.toInt_inj.mp (by rw [nI_toInt (by omega)]; omega)
  obtain ⟨x1, x2⟩ := k1
  obtain ⟨x3, x4⟩ := k2
  have e1 := (mulk (k := P.toInt.toNat) (x := y1) (by omega) ⟨by omega, by omega⟩).1
  have e2 := (mulk (k := P.toInt.toNat) (x := y2) (by omega) ⟨by omega, by omega⟩).1
  rw [← hP] at e1 e2
  rw [h, e2] at e1
  exact Int32.toInt_inj.mp (Int.eq_of_mul_eq_mul_left (show ((P.toInt.toNat : Nat) : Int) ≠ 0 by omega) e1.symm)
theorem ln_law {a : Nat → Int32} {n i j : Nat} {ls P' Q' R' : Nat → Int32} (hi : i < 4) (hj : j < 4) (hok : okA a n) (h : lnS a n i j ls P' Q' R') :
    (ls (4 * i + j) = nI 2 ∧ 2 ≤ (dl a i n).length ∧ ∀ o P Q R, lnR a i j n o P Q R → P = P' (4 * i + j) ∧ Q = Q' (4 * i + j) ∧ R = R' (4 * i + j) ∧ (¬ Q = 0 ∧ ∀ t, t < n → P * a (4 * t + j) = Q * a (4 * t + i) + R)) ∨
    (¬ ls (4 * i + j) = nI 2 ∧ ((dl a i n).length < 2 ∨ ∀ o P Q R, lnR a i j n o P Q R → ¬ (¬ Q = 0 ∧ ∀ t, t < n → P * a (4 * t + j) = Q * a (4 * t + i) + R))) := by
  rcases h with ⟨h1, h2⟩ | ⟨h1, h2, h3, h4, h5⟩ | ⟨h1, o, h2, h3, h4, h5, h6⟩ | ⟨h1, o, h2, h3⟩
  · exact Or.inr ⟨by rw [h2]; decide, Or.inl (by rw [h1]; simp [dl])⟩
  · have := (dl_one (a := a) (j := i) (n := n) (fun t ht => (h5 t ht).1)).1
    exact Or.inr ⟨by rw [h2]; decide, Or.inl (by omega)⟩
  · refine Or.inl ⟨h1, dl_two' h2.1 h3, fun o2 P Q R hl => ?_⟩
    obtain ⟨e1, e2, e3, e4⟩ := ln_uni hi hj hok h2 h3 h4 h5 hl
    exact ⟨e1, e2, e3, e4, by rw [e1, e2, e3]; exact h6⟩
  · refine Or.inr ⟨by rw [h1]; decide, Or.inr (fun o2 P Q R hl hc => ?_)⟩
    rcases h3 with ⟨x1, x2⟩ | ⟨x1, x2⟩ | ⟨x1, x2, p, q, r, x3, x4⟩
    · have ho := h2.1
      have t1 := hc.2 o ho
      have t2 := hc.2 0 (by omega)
      rw [show 4 * 0 + j = j by omega, show 4 * 0 + i = i by omega] at t2
      rw [x1, ← t2] at t1
      exact x2 (mul_cancel hl.2.2.2.1 hl.2.2.2.2.1 (hok _ (by omega)) (hok _ (by omega)) t1)
    · obtain ⟨l1, l2, l3, l4, l5, l6, l7, l8⟩ := hl
      have ho : o2 = o := by
        rcases Nat.lt_trichotomy o2 o with z | z | z
        · exact absurd (h2.2 o2 z).1 l3
        · exact z
        · exact absurd (l2 o z) x1
      subst ho
      rw [x2, Int.sub_self, Int.mul_zero] at l6
      rcases Int.mul_eq_zero.mp l6 with z | z
      · exact hc.1 (Int32.toInt_inj.mp z)
      · exact x1 (Int32.toInt_inj.mp (by omega))
    · obtain ⟨e1, e2, e3, e4⟩ := ln_uni hi hj hok h2 x1 x2 x3 hl
      rw [e1, e2, e3] at hc
      exact x4 hc.2
theorem ln_eq {a : Nat → Int32} {n i j : Nat} {ls P' Q' R' : Nat → Int32} {r1 r2 v' : Int32} {v : Int32 → Int32 → Int32 → Int32} (hi : i < 4) (hj : j < 4) (hok : okA a n) (h : lnS a n i j ls P' Q' R') (hv : v' = v (P' (4 * i + j)) (Q' (4 * i + j)) (R' (4 * i + j))) (h1 : r1 = if ls (4 * i + j) = nI 2 then v' else nI 0) (h2 : ((dl a i n).length < 2 → r2 = nI 0) ∧ (2 ≤ (dl a i n).length → ∃ o P Q R, lnR a i j n o P Q R ∧ ((r2 = v P Q R ∧ ¬ Q = 0 ∧ ∀ t, t < n → P * a (4 * t + j) = Q * a (4 * t + i) + R) ∨ (r2 = nI 0 ∧ ¬ (¬ Q = 0 ∧ ∀ t, t < n → P * a (4 * t + j) = Q * a (4 * t + i) + R))))) : r1 = r2 := by
  rcases ln_law hi hj hok h with ⟨e1, e2, e3⟩ | ⟨e1, e2⟩
  · rw [h1, if_pos e1]
    obtain ⟨o, P, Q, R, f1, f2⟩ := h2.2 e2
    obtain ⟨g1, g2, g3, g4⟩ := e3 o P Q R f1
    rcases f2 with ⟨f2, -⟩ | ⟨-, f2⟩
    · rw [f2, hv, g1, g2, g3]
    · exact absurd g4 f2
  · rw [h1, if_neg e1]
    rcases Nat.lt_or_ge (dl a i n).length 2 with q | q
    · rw [h2.1 q]
    · rcases e2 with e2 | e2
      · omega
      · obtain ⟨o, P, Q, R, f1, f2⟩ := h2.2 q
        rcases f2 with ⟨-, f3⟩ | ⟨f2, -⟩
        · exact absurd f3 (e2 o P Q R f1)
        · rw [f2]
/-! the values in order -/
theorem rk_law {L : List Int32} {f s : Nat → Int32} (hf : fewR f L) (h3 : L.length ≤ 3) (hs : ∀ q q2, q < q2 → q2 < L.length → s q < s q2) (hm : ∀ v, v ∈ L ↔ ∃ q, q < L.length ∧ s q = v) : ∀ q, q < L.length → rkn f (s q) L.length = q := by
  have m1 : ∀ i, i < L.length → ∃ q, q < L.length ∧ s q = f i := fun i hi => (hm _).mp ((fewR_mem hf _).mpr ⟨i, hi, rfl⟩)
  have m2 : ∀ q, q < L.length → ∃ i, i < L.length ∧ f i = s q := fun q hq => (fewR_mem hf _).mp ((hm _).mpr ⟨q, hq, rfl⟩)
  obtain ⟨k, hk⟩ : ∃ k, k = L.length := ⟨_, rfl⟩
  rw [← hk] at m1 m2 hs h3 ⊢
  intro q hq
  rcases (show k = 1 ∨ k = 2 ∨ k = 3 by omega) with e | e | e
  · subst e
    obtain ⟨q0, hq0, e0⟩ := m1 0 (by omega)
    have a0 : q0 = 0 := by omega
    have a1 : q = 0 := by omega
    subst a0; subst a1
    have e9 : rkn f (s 0) 1 = if f 0 < s 0 then 0 + 1 else 0 := rfl
    rw [e9, e0, if_neg (fun h => by rw [Int32.lt_iff_toInt_lt] at h; exact Int.lt_irrefl _ h)]
  · subst e
    have s01 := hs 0 1 (by omega) (by omega)
    rw [Int32.lt_iff_toInt_lt] at s01
    have f0 : (f 0).toInt = (s 0).toInt ∨ (f 0).toInt = (s 1).toInt := by
      obtain ⟨z, hz, e⟩ := m1 0 (by omega)
      rcases (show z = 0 ∨ z = 1 by omega) with w | w <;> subst w <;> rw [e] <;> simp
    have f1 : (f 1).toInt = (s 0).toInt ∨ (f 1).toInt = (s 1).toInt := by
      obtain ⟨z, hz, e⟩ := m1 1 (by omega)
      rcases (show z = 0 ∨ z = 1 by omega) with w | w <;> subst w <;> rw [e] <;> simp
    have t0 : (f 0).toInt = (s 0).toInt ∨ (f 1).toInt = (s 0).toInt := by
      obtain ⟨z, hz, e⟩ := m2 0 (by omega)
      rcases (show z = 0 ∨ z = 1 by omega) with w | w <;> subst w <;> rw [e] <;> simp
    have t1 : (f 0).toInt = (s 1).toInt ∨ (f 1).toInt = (s 1).toInt := by
      obtain ⟨z, hz, e⟩ := m2 1 (by omega)
      rcases (show z = 0 ∨ z = 1 by omega) with w | w <;> subst w <;> rw [e] <;> simp
    have e9 : rkn f (s q) 2 = if f 1 < s q then (if f 0 < s q then 0 + 1 else 0) + 1 else (if f 0 < s q then 0 + 1 else 0) := rfl
    rw [e9]
    simp only [Int32.lt_iff_toInt_lt]
    rcases (show q = 0 ∨ q = 1 by omega) with w | w
    · subst w
      split <;> split <;> omega
    · subst w
      split <;> split <;> omega
  · subst e
    have s01 := hs 0 1 (by omega) (by omega)
    have s12 := hs 1 2 (by omega) (by omega)
    rw [Int32.lt_iff_toInt_lt] at s01 s12
    have ff : ∀ i, i < 3 → (f i).toInt = (s 0).toInt ∨ (f i).toInt = (s 1).toInt ∨ (f i).toInt = (s 2).toInt := by
      intro i hi
      obtain ⟨z, hz, e⟩ := m1 i hi
      rcases (show z = 0 ∨ z = 1 ∨ z = 2 by omega) with w | w | w <;> subst w <;> rw [e] <;> simp
    have tt : ∀ q, q < 3 → (f 0).toInt = (s q).toInt ∨ (f 1).toInt = (s q).toInt ∨ (f 2).toInt = (s q).toInt := by
      intro q hq
      obtain ⟨z, hz, e⟩ := m2 q hq
      rcases (show z = 0 ∨ z = 1 ∨ z = 2 by omega) with w | w | w <;> subst w <;> rw [e] <;> simp
    have f0 := ff 0 (by omega)
    have f1 := ff 1 (by omega)
    have f2 := ff 2 (by omega)
    have t0 := tt 0 (by omega)
    have t1 := tt 1 (by omega)
    have t2 := tt 2 (by omega)
    clear ff tt m1 m2 hs hm hf
    have e9 : rkn f (s q) 3 = if f 2 < s q then (if f 1 < s q then (if f 0 < s q then 0 + 1 else 0) + 1 else (if f 0 < s q then 0 + 1 else 0)) + 1 else (if f 1 < s q then (if f 0 < s q then 0 + 1 else 0) + 1 else (if f 0 < s q then 0 + 1 else 0)) := rfl
    rw [e9]
    simp only [Int32.lt_iff_toInt_lt]
    rcases (show q = 0 ∨ q = 1 ∨ q = 2 by omega) with w | w | w
    · subst w
      split <;> split <;> split <;> omega
    · subst w
      split <;> split <;> split <;> omega
    · subst w
      split <;> split <;> split <;> omega
theorem eq_valueAt {n : Nat} {a g : Nat → Int32} {sb : Int64} {F : Nat → Nat → Int32} {r1 r2 x kk : Int32} (hF : FI n a g sb F) (h1 : px4 x (r1 = (-1000)) (fun j => (∀ z, z < (dl a j n).length → (dl a j n).length ≤ 3 → kk = nI z → r1 = F 5 (j * 4 + z)) ∧ ((3 < (dl a j n).length ∨ ∀ z, z < (dl a j n).length → ¬ kk = nI z) → r1 = (-1000)))) (h2 : px4 x (r2 = (-1000)) (fun j => vatR (dl a j n) kk r2)) : r1 = r2 := by
  refine h1.two h2 (fun e1 e2 => by rw [e1, e2]) (fun j hj e1 e2 => ?_)
  obtain ⟨f, f1, f2, f3⟩ := e2
  by_cases hc : 3 < (dl a j n).length ∨ ∀ z, z < (dl a j n).length → ¬ kk = nI z
  · rw [e1.2 hc, f3 hc]
  · have h3 : (dl a j n).length ≤ 3 := Nat.le_of_not_lt (fun q => hc (Or.inl q))
    obtain ⟨z, hz, ez⟩ : ∃ z, z < (dl a j n).length ∧ kk = nI z := Classical.byContradiction fun q => hc (Or.inr (fun z hz e => q ⟨z, hz, e⟩))
    obtain ⟨d1, d2⟩ := (hF.dr hj).2 h3
    have rk := rk_law (s := fun q => F 5 (j * 4 + q)) f1 h3 d1 d2
    rw [e1.1 z hz h3 ez]
    rcases f2 z h3 hz ez with ⟨i, i1, i2, i3⟩ | ⟨i1, -⟩
    · obtain ⟨q, q1, q2⟩ := (d2 _).mp ((fewR_mem f1 _).mpr ⟨i, i1, rfl⟩)
      have := rk q q1
      rw [q2, i2] at this
      rw [i3, ← q2, this]
    · obtain ⟨i, k1, k2⟩ := (fewR_mem f1 _).mp ((d2 _).mpr ⟨z, hz, rfl⟩)
      have := rk z hz
      rw [← k2] at this
      exact absurd this (i1 i k1)
end
section
def mkN (a0 a1 a2 a3 a4 a5 a6 a7 a8 a9 a10 a11 : Nat) : Nat → Nat := fun k => match k with
  | 0 => a0
  | 1 => a1
  | 2 => a2
  | 3 => a3
  | 4 => a4
  | 5 => a5
  | 6 => a6
  | 7 => a7
  | 8 => a8
  | 9 => a9
  | 10 => a10
  | _ => a11
abbrev wF (h0 : Nat) (ad : Nat → Nat) (dA dB : ClassId) (g : Nat → Int32) (sb : Int64) (F : Nat → Nat → Int32) : va_W := [(h0, oF ad (g 0) (g 1) (g 2) (g 3) (g 4) (g 5) sb), (ad 0, .inl (dA, 4, .inl (F 0))), (ad 1, .inl (dA, 4, .inl (F 1))), (ad 2, .inl (dA, 4, .inl (F 2))), (ad 3, .inl (dA, 4, .inl (F 3))), (ad 4, .inl (dA, 4, .inl (F 4))), (ad 5, .inl (dA, 16, .inl (F 5))), (ad 6, .inl (dB, 4, .inl (F 6))), (ad 7, .inl (dB, 16, .inl (F 7))), (ad 8, .inl (dA, 16, .inl (F 8))), (ad 9, .inl (dA, 16, .inl (F 9))), (ad 10, .inl (dA, 16, .inl (F 10))), (ad 11, .inl (dA, 16, .inl (F 11)))]
theorem xk_int {D : va_G} {cl : List vw_C} {tys : List (ClassId × FieldType)} {U : State} {cA cB : ClassId} (hK : va_K D cl tys U) (i j : Nat) (hi : tys[i]? = some (cA, .int)) (hj : tys[j]? = some (cB, .int)) : cA = cB := by
  have h1 : U.vm.findClass ("[" ++ FieldType.int.toString) = some cA := (hK.2 i _ hi).2
  have h2 : U.vm.findClass ("[" ++ FieldType.int.toString) = some cB := (hK.2 j _ hj).2
  exact Option.some.inj (h1.symm.trans h2)
theorem xk_byte {D : va_G} {cl : List vw_C} {tys : List (ClassId × FieldType)} {U : State} {cA cB : ClassId} (hK : va_K D cl tys U) (i j : Nat) (hi : tys[i]? = some (cA, .byte)) (hj : tys[j]? = some (cB, .byte)) : cA = cB := by
  have h1 : U.vm.findClass ("[" ++ FieldType.byte.toString) = some cA := (hK.2 i _ hi).2
  have h2 : U.vm.findClass ("[" ++ FieldType.byte.toString) = some cB := (hK.2 j _ hj).2
  exact Option.some.inj (h1.symm.trans h2)
set_option maxHeartbeats 4000000 in
set_option maxRecDepth 100000 in
theorem mX0_init (l : Launch) (dC : Nat → ClassId) (dI : Nat → Nat → Nat) (sz h0 : Nat) : Met l yX0_init (ws_ yX0_init cX0_init 1 none) ({ frames := 1, cells := 12, slots := 120, locals := 12 } : Room) (va_Pc [.ref h0] (xPre (dC, dI) vwCl [] [(h0, .inr (0, [.int 0, .null, .null, .null, .null, .null, .null, .null, .int 0, .int 0, .int 0, .int 0, .null, .null, .null, .null, .null, .int 0, .long 0]))] sz)) (va_Qv (fun _ => True) (fun (u : (Nat → Nat) × ClassId × ClassId) t => va_P (dC, dI) vwCl (wF h0 u.1 u.2.1 u.2.2 (fun _ => nI 0) 0 (fun _ _ => nI 0)) t.heap ∧ va_K (dC, dI) vwCl (xT u.2.1 u.2.2) t ∧ va_D (va_A [(h0, .inr (0, [.int 0, .null, .null, .null, .null, .null, .null, .null, .int 0, .int 0, .int 0, .int 0, .null, .null, .null, .null, .null, .int 0, .long 0]))] sz) (wF h0 u.1 u.2.1 u.2.2 (fun _ => nI 0) 0 (fun _ _ => nI 0))) (va_A [(h0, .inr (0, [.int 0, .null, .null, .null, .null, .null, .null, .null, .int 0, .int 0, .int 0, .int 0, .null, .null, .null, .null, .null, .int 0, .long 0]))] sz)) 12 120 (va_A [(h0, .inr (0, [.int 0, .null, .null, .null, .null, .null, .null, .null, .int 0, .int 0, .int 0, .int 0, .null, .null, .null, .null, .null, .int 0, .long 0]))] sz) := by
  refine Met.ofW (cc := cX0_init) (maxL := 1) (ret := none) (by decide) rfl ?_
  intro p e s m args below meth c s₁ B hml hv
  obtain ⟨rfl, hsz, hP, hK, hD0⟩ := hv
  have hx := B.exec
  have hb := B.bytes
  have hr := B.returns
  have hts := atoms_spec (ws := ws_ yX0_init cX0_init 1 none) B.pre
  have hts : ∀ w ∈ lw_all, w.before _ s = true := fun w h => hts w (List.mem_cons_of_mem _ h)
  have hown : s.vm.findClass RX0 = some m.cls := findClass_of_methodNamed B.named
  have hlocks := B.notSynchronized
  have hin : meth.name = "<init>" := (name_of_methodNamed B.named B.method).1
  subst hsz
  have hD := hD0.self (sz := s.heap.size)
  generalize hAe : va_A [(h0, .inr (0, [.int 0, .null, .null, .null, .null, .null, .null, .null, .int 0, .int 0, .int 0, .int 0, .null, .null, .null, .null, .null, .int 0, .long 0]))] s.heap.size = A at hD ⊢
  have hA : ∀ q : Nat, s.heap.size ≤ q → A q := fun q h => by rw [← hAe]; exact Or.inr h
  have hS : va_S A s.heap s.heap [] := va_S.rf
  have hl := lv_entry ([.ref h0]) (n := 1) (Nat.le_of_ble_eq_true rfl)
  rw [lg_entry_eq]
  generalize (lg_sl ([.ref h0]) ++ List.replicate (1 - (lg_sl ([.ref h0])).length) Slot.unset).toArray = ls at hl ⊢
  have hl : lv_has ls 1 [(0, .ref h0)] := hl
  refine lv_aload_n hx hb dX0_init_0 rfl (lv_at hl 0 rfl) ?_
  refine W.objInit hx hb hown (hts _ q20) (hts _ q21) (hts _ q22) rfl (by rw [hml]; exact hl.1) rfl dX0_init_1 (Nat.le_of_ble_eq_true rfl) (Nat.le_of_ble_eq_true rfl) ?_
  refine W.eq (g2 := F0 m 4 ls []) rfl ?_
  refine lv_aload_n hx hb dX0_init_4 rfl (lv_at hl 0 rfl) ?_
  refine lv_iconst (v := nI 4) hx hb dX0_init_5 rfl ?_
  refine va_newa (a0 := (4, .inl (fun _ => nI 0))) (ty := .int) (atype := .int) hx hb (hts _ q81) rfl hK hP hD hS hA (fun _ => rfl) (by decide) rfl (by decide) (Nat.le_of_ble_eq_true rfl) (Nat.le_of_ble_eq_true rfl) dX0_init_6 (fun qa0 cA0 H hK hP hD hS => ?_)
  refine W.widen (k := 1) (n := 4) (Nat.le_of_ble_eq_true rfl) (Nat.le_of_ble_eq_true rfl) ?_
  have hP : va_P (dC, dI) vwCl [(h0, .inr (0, [.int 0, .null, .null, .null, .null, .null, .null, .null, .int 0, .int 0, .int 0, .int 0, .null, .null, .null, .null, .null, .int 0, .long 0])), (qa0, .inl (cA0, 4, .inl (fun _ => nI 0)))] H := hP
  have hD : va_D A [(h0, .inr (0, [.int 0, .null, .null, .null, .null, .null, .null, .null, .int 0, .int 0, .int 0, .int 0, .null, .null, .null, .null, .null, .int 0, .long 0])), (qa0, .inl (cA0, 4, .inl (fun _ => nI 0)))] := hD
  refine va_putF (D := (dC, dI)) (ci := 0) (v := .ref qa0) (ty := .array .int) (C := RX0) (T := TX0) (N := 19) hx hb hts in_X0 tyX0 tyX0_ok nmX0 hown hK hP hD hS 0 rfl rfl 1 (by decide) (hts _ q24) (fun _ h9 => h9) rfl hin rfl (by decide +kernel) rfl rfl (Nat.le_of_ble_eq_true rfl) dX0_init_8 (fun H locs hP hD hS => ?_)
  have hP : va_P (dC, dI) vwCl [(h0, .inr (0, [.int 0, .ref qa0, .null, .null, .null, .null, .null, .null, .int 0, .int 0, .int 0, .int 0, .null, .null, .null, .null, .null, .int 0, .long 0])), (qa0, .inl (cA0, 4, .inl (fun _ => nI 0)))] H := hP
  have hD : va_D A [(h0, .inr (0, [.int 0, .ref qa0, .null, .null, .null, .null, .null, .null, .int 0, .int 0, .int 0, .int 0, .null, .null, .null, .null, .null, .int 0, .long 0])), (qa0, .inl (cA0, 4, .inl (fun _ => nI 0)))] := hD
  refine lv_aload_n hx hb dX0_init_11 rfl (lv_at hl 0 rfl) ?_
  refine lv_iconst (v := nI 4) hx hb dX0_init_12 rfl ?_
  refine va_newa (a0 := (4, .inl (fun _ => nI 0))) (ty := .int) (atype := .int) hx hb (hts _ q81) rfl hK hP hD hS hA (fun _ => rfl) (by decide) rfl (by decide) (Nat.le_of_ble_eq_true rfl) (Nat.le_of_ble_eq_true rfl) dX0_init_13 (fun qa1 cA1 H hK hP hD hS => ?_)
  refine W.widen (k := 2) (n := 8) (Nat.le_of_ble_eq_true rfl) (Nat.le_of_ble_eq_true rfl) ?_
  obtain rfl : cA0 = cA1 := xk_int hK 0 1 rfl rfl
  have hK : va_K (dC, dI) vwCl [(cA0, .int)] s := hK.sub [0] rfl
  have hP : va_P (dC, dI) vwCl [(h0, .inr (0, [.int 0, .ref qa0, .null, .null, .null, .null, .null, .null, .int 0, .int 0, .int 0, .int 0, .null, .null, .null, .null, .null, .int 0, .long 0])), (qa0, .inl (cA0, 4, .inl (fun _ => nI 0))), (qa1, .inl (cA0, 4, .inl (fun _ => nI 0)))] H := hP
  have hD : va_D A [(h0, .inr (0, [.int 0, .ref qa0, .null, .null, .null, .null, .null, .null, .int 0, .int 0, .int 0, .int 0, .null, .null, .null, .null, .null, .int 0, .long 0])), (qa0, .inl (cA0, 4, .inl (fun _ => nI 0))), (qa1, .inl (cA0, 4, .inl (fun _ => nI 0)))] := hD
  refine va_putF (D := (dC, dI)) (ci := 0) (v := .ref qa1) (ty := .array .int) (C := RX0) (T := TX0) (N := 19) hx hb hts in_X0 tyX0 tyX0_ok nmX0 hown hK hP hD hS 0 rfl rfl 2 (by decide) (hts _ q25) (fun _ h9 => h9) rfl hin rfl (by decide +kernel) rfl rfl (Nat.le_of_ble_eq_true rfl) dX0_init_15 (fun H locs hP hD hS => ?_)
  have hP : va_P (dC, dI) vwCl [(h0, .inr (0, [.int 0, .ref qa0, .ref qa1, .null, .null, .null, .null, .null, .int 0, .int 0, .int 0, .int 0, .null, .null, .null, .null, .null, .int 0, .long 0])), (qa0, .inl (cA0, 4, .inl (fun _ => nI 0))), (qa1, .inl (cA0, 4, .inl (fun _ => nI 0)))] H := hP
  have hD : va_D A [(h0, .inr (0, [.int 0, .ref qa0, .ref qa1, .null, .null, .null, .null, .null, .int 0, .int 0, .int 0, .int 0, .null, .null, .null, .null, .null, .int 0, .long 0])), (qa0, .inl (cA0, 4, .inl (fun _ => nI 0))), (qa1, .inl (cA0, 4, .inl (fun _ => nI 0)))] := hD
  refine lv_aload_n hx hb dX0_init_18 rfl (lv_at hl 0 rfl) ?_
  refine lv_iconst (v := nI 4) hx hb dX0_init_19 rfl ?_
  refine va_newa (a0 := (4, .inl (fun _ => nI 0))) (ty := .int) (atype := .int) hx hb (hts _ q81) rfl hK hP hD hS hA (fun _ => rfl) (by decide) rfl (by decide) (Nat.le_of_ble_eq_true rfl) (Nat.le_of_ble_eq_true rfl) dX0_init_20 (fun qa2 cA2 H hK hP hD hS => ?_)
  refine W.widen (k := 3) (n := 12) (Nat.le_of_ble_eq_true rfl) (Nat.le_of_ble_eq_true rfl) ?_
  obtain rfl : cA0 = cA2 := xk_int hK 0 1 rfl rfl
  have hK : va_K (dC, dI) vwCl [(cA0, .int)] s := hK.sub [0] rfl
  have hP : va_P (dC, dI) vwCl [(h0, .inr (0, [.int 0, .ref qa0, .ref qa1, .null, .null, .null, .null, .null, .int 0, .int 0, .int 0, .int 0, .null, .null, .null, .null, .null, .int 0, .long 0])), (qa0, .inl (cA0, 4, .inl (fun _ => nI 0))), (qa1, .inl (cA0, 4, .inl (fun _ => nI 0))), (qa2, .inl (cA0, 4, .inl (fun _ => nI 0)))] H := hP
  have hD : va_D A [(h0, .inr (0, [.int 0, .ref qa0, .ref qa1, .null, .null, .null, .null, .null, .int 0, .int 0, .int 0, .int 0, .null, .null, .null, .null, .null, .int 0, .long 0])), (qa0, .inl (cA0, 4, .inl (fun _ => nI 0))), (qa1, .inl (cA0, 4, .inl (fun _ => nI 0))), (qa2, .inl (cA0, 4, .inl (fun _ => nI 0)))] := hD
  refine va_putF (D := (dC, dI)) (ci := 0) (v := .ref qa2) (ty := .array .int) (C := RX0) (T := TX0) (N := 19) hx hb hts in_X0 tyX0 tyX0_ok nmX0 hown hK hP hD hS 0 rfl rfl 3 (by decide) (hts _ q26) (fun _ h9 => h9) rfl hin rfl (by decide +kernel) rfl rfl (Nat.le_of_ble_eq_true rfl) dX0_init_22 (fun H locs hP hD hS => ?_)
  have hP : va_P (dC, dI) vwCl [(h0, .inr (0, [.int 0, .ref qa0, .ref qa1, .ref qa2, .null, .null, .null, .null, .int 0, .int 0, .int 0, .int 0, .null, .null, .null, .null, .null, .int 0, .long 0])), (qa0, .inl (cA0, 4, .inl (fun _ => nI 0))), (qa1, .inl (cA0, 4, .inl (fun _ => nI 0))), (qa2, .inl (cA0, 4, .inl (fun _ => nI 0)))] H := hP
  have hD : va_D A [(h0, .inr (0, [.int 0, .ref qa0, .ref qa1, .ref qa2, .null, .null, .null, .null, .int 0, .int 0, .int 0, .int 0, .null, .null, .null, .null, .null, .int 0, .long 0])), (qa0, .inl (cA0, 4, .inl (fun _ => nI 0))), (qa1, .inl (cA0, 4, .inl (fun _ => nI 0))), (qa2, .inl (cA0, 4, .inl (fun _ => nI 0)))] := hD
  refine lv_aload_n hx hb dX0_init_25 rfl (lv_at hl 0 rfl) ?_
  refine lv_iconst (v := nI 4) hx hb dX0_init_26 rfl ?_
  refine va_newa (a0 := (4, .inl (fun _ => nI 0))) (ty := .int) (atype := .int) hx hb (hts _ q81) rfl hK hP hD hS hA (fun _ => rfl) (by decide) rfl (by decide) (Nat.le_of_ble_eq_true rfl) (Nat.le_of_ble_eq_true rfl) dX0_init_27 (fun qa3 cA3 H hK hP hD hS => ?_)
  refine W.widen (k := 4) (n := 16) (Nat.le_of_ble_eq_true rfl) (Nat.le_of_ble_eq_true rfl) ?_
  obtain rfl : cA0 = cA3 := xk_int hK 0 1 rfl rfl
  have hK : va_K (dC, dI) vwCl [(cA0, .int)] s := hK.sub [0] rfl
  have hP : va_P (dC, dI) vwCl [(h0, .inr (0, [.int 0, .ref qa0, .ref qa1, .ref qa2, .null, .null, .null, .null, .int 0, .int 0, .int 0, .int 0, .null, .null, .null, .null, .null, .int 0, .long 0])), (qa0, .inl (cA0, 4, .inl (fun _ => nI 0))), (qa1, .inl (cA0, 4, .inl (fun _ => nI 0))), (qa2, .inl (cA0, 4, .inl (fun _ => nI 0))), (qa3, .inl (cA0, 4, .inl (fun _ => nI 0)))] H := hP
  have hD : va_D A [(h0, .inr (0, [.int 0, .ref qa0, .ref qa1, .ref qa2, .null, .null, .null, .null, .int 0, .int 0, .int 0, .int 0, .null, .null, .null, .null, .null, .int 0, .long 0])), (qa0, .inl (cA0, 4, .inl (fun _ => nI 0))), (qa1, .inl (cA0, 4, .inl (fun _ => nI 0))), (qa2, .inl (cA0, 4, .inl (fun _ => nI 0))), (qa3, .inl (cA0, 4, .inl (fun _ => nI 0)))] := hD
  refine va_putF (D := (dC, dI)) (ci := 0) (v := .ref qa3) (ty := .array .int) (C := RX0) (T := TX0) (N := 19) hx hb hts in_X0 tyX0 tyX0_ok nmX0 hown hK hP hD hS 0 rfl rfl 4 (by decide) (hts _ q27) (fun _ h9 => h9) rfl hin rfl (by decide +kernel) rfl rfl (Nat.le_of_ble_eq_true rfl) dX0_init_29 (fun H locs hP hD hS => ?_)
  have hP : va_P (dC, dI) vwCl [(h0, .inr (0, [.int 0, .ref qa0, .ref qa1, .ref qa2, .ref qa3, .null, .null, .null, .int 0, .int 0, .int 0, .int 0, .null, .null, .null, .null, .null, .int 0, .long 0])), (qa0, .inl (cA0, 4, .inl (fun _ => nI 0))), (qa1, .inl (cA0, 4, .inl (fun _ => nI 0))), (qa2, .inl (cA0, 4, .inl (fun _ => nI 0))), (qa3, .inl (cA0, 4, .inl (fun _ => nI 0)))] H := hP
  have hD : va_D A [(h0, .inr (0, [.int 0, .ref qa0, .ref qa1, .ref qa2, .ref qa3, .null, .null, .null, .int 0, .int 0, .int 0, .int 0, .null, .null, .null, .null, .null, .int 0, .long 0])), (qa0, .inl (cA0, 4, .inl (fun _ => nI 0))), (qa1, .inl (cA0, 4, .inl (fun _ => nI 0))), (qa2, .inl (cA0, 4, .inl (fun _ => nI 0))), (qa3, .inl (cA0, 4, .inl (fun _ => nI 0)))] := hD
  refine lv_aload_n hx hb dX0_init_32 rfl (lv_at hl 0 rfl) ?_
  refine lv_iconst (v := nI 4) hx hb dX0_init_33 rfl ?_
  refine va_newa (a0 := (4, .inl (fun _ => nI 0))) (ty := .int) (atype := .int) hx hb (hts _ q81) rfl hK hP hD hS hA (fun _ => rfl) (by decide) rfl (by decide) (Nat.le_of_ble_eq_true rfl) (Nat.le_of_ble_eq_true rfl) dX0_init_34 (fun qa4 cA4 H hK hP hD hS => ?_)
  refine W.widen (k := 5) (n := 20) (Nat.le_of_ble_eq_true rfl) (Nat.le_of_ble_eq_true rfl) ?_
  obtain rfl : cA0 = cA4 := xk_int hK 0 1 rfl rfl
  have hK : va_K (dC, dI) vwCl [(cA0, .int)] s := hK.sub [0] rfl
  have hP : va_P (dC, dI) vwCl [(h0, .inr (0, [.int 0, .ref qa0, .ref qa1, .ref qa2, .ref qa3, .null, .null, .null, .int 0, .int 0, .int 0, .int 0, .null, .null, .null, .null, .null, .int 0, .long 0])), (qa0, .inl (cA0, 4, .inl (fun _ => nI 0))), (qa1, .inl (cA0, 4, .inl (fun _ => nI 0))), (qa2, .inl (cA0, 4, .inl (fun _ => nI 0))), (qa3, .inl (cA0, 4, .inl (fun _ => nI 0))), (qa4, .inl (cA0, 4, .inl (fun _ => nI 0)))] H := hP
  have hD : va_D A [(h0, .inr (0, [.int 0, .ref qa0, .ref qa1, .ref qa2, .ref qa3, .null, .null, .null, .int 0, .int 0, .int 0, .int 0, .null, .null, .null, .null, .null, .int 0, .long 0])), (qa0, .inl (cA0, 4, .inl (fun _ => nI 0))), (qa1, .inl (cA0, 4, .inl (fun _ => nI 0))), (qa2, .inl (cA0, 4, .inl (fun _ => nI 0))), (qa3, .inl (cA0, 4, .inl (fun _ => nI 0))), (qa4, .inl (cA0, 4, .inl (fun _ => nI 0)))] := hD
  refine va_putF (D := (dC, dI)) (ci := 0) (v := .ref qa4) (ty := .array .int) (C := RX0) (T := TX0) (N := 19) hx hb hts in_X0 tyX0 tyX0_ok nmX0 hown hK hP hD hS 0 rfl rfl 5 (by decide) (hts _ q28) (fun _ h9 => h9) rfl hin rfl (by decide +kernel) rfl rfl (Nat.le_of_ble_eq_true rfl) dX0_init_36 (fun H locs hP hD hS => ?_)
  have hP : va_P (dC, dI) vwCl [(h0, .inr (0, [.int 0, .ref qa0, .ref qa1, .ref qa2, .ref qa3, .ref qa4, .null, .null, .int 0, .int 0, .int 0, .int 0, .null, .null, .null, .null, .null, .int 0, .long 0])), (qa0, .inl (cA0, 4, .inl (fun _ => nI 0))), (qa1, .inl (cA0, 4, .inl (fun _ => nI 0))), (qa2, .inl (cA0, 4, .inl (fun _ => nI 0))), (qa3, .inl (cA0, 4, .inl (fun _ => nI 0))), (qa4, .inl (cA0, 4, .inl (fun _ => nI 0)))] H := hP
  have hD : va_D A [(h0, .inr (0, [.int 0, .ref qa0, .ref qa1, .ref qa2, .ref qa3, .ref qa4, .null, .null, .int 0, .int 0, .int 0, .int 0, .null, .null, .null, .null, .null, .int 0, .long 0])), (qa0, .inl (cA0, 4, .inl (fun _ => nI 0))), (qa1, .inl (cA0, 4, .inl (fun _ => nI 0))), (qa2, .inl (cA0, 4, .inl (fun _ => nI 0))), (qa3, .inl (cA0, 4, .inl (fun _ => nI 0))), (qa4, .inl (cA0, 4, .inl (fun _ => nI 0)))] := hD
  refine lv_aload_n hx hb dX0_init_39 rfl (lv_at hl 0 rfl) ?_
  refine lv_bipush (v := nI 16) hx hb dX0_init_40 rfl ?_
  refine va_newa (a0 := (16, .inl (fun _ => nI 0))) (ty := .int) (atype := .int) hx hb (hts _ q81) rfl hK hP hD hS hA (fun _ => rfl) (by decide) rfl (by decide) (Nat.le_of_ble_eq_true rfl) (Nat.le_of_ble_eq_true rfl) dX0_init_42 (fun qa5 cA5 H hK hP hD hS => ?_)
  refine W.widen (k := 6) (n := 36) (Nat.le_of_ble_eq_true rfl) (Nat.le_of_ble_eq_true rfl) ?_
  obtain rfl : cA0 = cA5 := xk_int hK 0 1 rfl rfl
  have hK : va_K (dC, dI) vwCl [(cA0, .int)] s := hK.sub [0] rfl
  have hP : va_P (dC, dI) vwCl [(h0, .inr (0, [.int 0, .ref qa0, .ref qa1, .ref qa2, .ref qa3, .ref qa4, .null, .null, .int 0, .int 0, .int 0, .int 0, .null, .null, .null, .null, .null, .int 0, .long 0])), (qa0, .inl (cA0, 4, .inl (fun _ => nI 0))), (qa1, .inl (cA0, 4, .inl (fun _ => nI 0))), (qa2, .inl (cA0, 4, .inl (fun _ => nI 0))), (qa3, .inl (cA0, 4, .inl (fun _ => nI 0))), (qa4, .inl (cA0, 4, .inl (fun _ => nI 0))), (qa5, .inl (cA0, 16, .inl (fun _ => nI 0)))] H := hP
  have hD : va_D A [(h0, .inr (0, [.int 0, .ref qa0, .ref qa1, .ref qa2, .ref qa3, .ref qa4, .null, .null, .int 0, .int 0, .int 0, .int 0, .null, .null, .null, .null, .null, .int 0, .long 0])), (qa0, .inl (cA0, 4, .inl (fun _ => nI 0))), (qa1, .inl (cA0, 4, .inl (fun _ => nI 0))), (qa2, .inl (cA0, 4, .inl (fun _ => nI 0))), (qa3, .inl (cA0, 4, .inl (fun _ => nI 0))), (qa4, .inl (cA0, 4, .inl (fun _ => nI 0))), (qa5, .inl (cA0, 16, .inl (fun _ => nI 0)))] := hD
  refine va_putF (D := (dC, dI)) (ci := 0) (v := .ref qa5) (ty := .array .int) (C := RX0) (T := TX0) (N := 19) hx hb hts in_X0 tyX0 tyX0_ok nmX0 hown hK hP hD hS 0 rfl rfl 6 (by decide) (hts _ q29) (fun _ h9 => h9) rfl hin rfl (by decide +kernel) rfl rfl (Nat.le_of_ble_eq_true rfl) dX0_init_44 (fun H locs hP hD hS => ?_)
  have hP : va_P (dC, dI) vwCl [(h0, .inr (0, [.int 0, .ref qa0, .ref qa1, .ref qa2, .ref qa3, .ref qa4, .ref qa5, .null, .int 0, .int 0, .int 0, .int 0, .null, .null, .null, .null, .null, .int 0, .long 0])), (qa0, .inl (cA0, 4, .inl (fun _ => nI 0))), (qa1, .inl (cA0, 4, .inl (fun _ => nI 0))), (qa2, .inl (cA0, 4, .inl (fun _ => nI 0))), (qa3, .inl (cA0, 4, .inl (fun _ => nI 0))), (qa4, .inl (cA0, 4, .inl (fun _ => nI 0))), (qa5, .inl (cA0, 16, .inl (fun _ => nI 0)))] H := hP
  have hD : va_D A [(h0, .inr (0, [.int 0, .ref qa0, .ref qa1, .ref qa2, .ref qa3, .ref qa4, .ref qa5, .null, .int 0, .int 0, .int 0, .int 0, .null, .null, .null, .null, .null, .int 0, .long 0])), (qa0, .inl (cA0, 4, .inl (fun _ => nI 0))), (qa1, .inl (cA0, 4, .inl (fun _ => nI 0))), (qa2, .inl (cA0, 4, .inl (fun _ => nI 0))), (qa3, .inl (cA0, 4, .inl (fun _ => nI 0))), (qa4, .inl (cA0, 4, .inl (fun _ => nI 0))), (qa5, .inl (cA0, 16, .inl (fun _ => nI 0)))] := hD
  refine lv_aload_n hx hb dX0_init_47 rfl (lv_at hl 0 rfl) ?_
  refine lv_iconst (v := nI 4) hx hb dX0_init_48 rfl ?_
  refine va_newa (a0 := (4, .inl (fun _ => nI 0))) (ty := .byte) (atype := .byte) hx hb (hts _ q82) rfl hK hP hD hS hA (fun _ => rfl) (by decide) rfl (by decide) (Nat.le_of_ble_eq_true rfl) (Nat.le_of_ble_eq_true rfl) dX0_init_49 (fun qa6 cA6 H hK hP hD hS => ?_)
  refine W.widen (k := 7) (n := 40) (Nat.le_of_ble_eq_true rfl) (Nat.le_of_ble_eq_true rfl) ?_
  have hP : va_P (dC, dI) vwCl [(h0, .inr (0, [.int 0, .ref qa0, .ref qa1, .ref qa2, .ref qa3, .ref qa4, .ref qa5, .null, .int 0, .int 0, .int 0, .int 0, .null, .null, .null, .null, .null, .int 0, .long 0])), (qa0, .inl (cA0, 4, .inl (fun _ => nI 0))), (qa1, .inl (cA0, 4, .inl (fun _ => nI 0))), (qa2, .inl (cA0, 4, .inl (fun _ => nI 0))), (qa3, .inl (cA0, 4, .inl (fun _ => nI 0))), (qa4, .inl (cA0, 4, .inl (fun _ => nI 0))), (qa5, .inl (cA0, 16, .inl (fun _ => nI 0))), (qa6, .inl (cA6, 4, .inl (fun _ => nI 0)))] H := hP
  have hD : va_D A [(h0, .inr (0, [.int 0, .ref qa0, .ref qa1, .ref qa2, .ref qa3, .ref qa4, .ref qa5, .null, .int 0, .int 0, .int 0, .int 0, .null, .null, .null, .null, .null, .int 0, .long 0])), (qa0, .inl (cA0, 4, .inl (fun _ => nI 0))), (qa1, .inl (cA0, 4, .inl (fun _ => nI 0))), (qa2, .inl (cA0, 4, .inl (fun _ => nI 0))), (qa3, .inl (cA0, 4, .inl (fun _ => nI 0))), (qa4, .inl (cA0, 4, .inl (fun _ => nI 0))), (qa5, .inl (cA0, 16, .inl (fun _ => nI 0))), (qa6, .inl (cA6, 4, .inl (fun _ => nI 0)))] := hD
  refine va_putF (D := (dC, dI)) (ci := 0) (v := .ref qa6) (ty := .array .byte) (C := RX0) (T := TX0) (N := 19) hx hb hts in_X0 tyX0 tyX0_ok nmX0 hown hK hP hD hS 0 rfl rfl 7 (by decide) (hts _ q30) (fun _ h9 => h9) rfl hin rfl (by decide +kernel) rfl rfl (Nat.le_of_ble_eq_true rfl) dX0_init_51 (fun H locs hP hD hS => ?_)
  have hP : va_P (dC, dI) vwCl [(h0, .inr (0, [.int 0, .ref qa0, .ref qa1, .ref qa2, .ref qa3, .ref qa4, .ref qa5, .ref qa6, .int 0, .int 0, .int 0, .int 0, .null, .null, .null, .null, .null, .int 0, .long 0])), (qa0, .inl (cA0, 4, .inl (fun _ => nI 0))), (qa1, .inl (cA0, 4, .inl (fun _ => nI 0))), (qa2, .inl (cA0, 4, .inl (fun _ => nI 0))), (qa3, .inl (cA0, 4, .inl (fun _ => nI 0))), (qa4, .inl (cA0, 4, .inl (fun _ => nI 0))), (qa5, .inl (cA0, 16, .inl (fun _ => nI 0))), (qa6, .inl (cA6, 4, .inl (fun _ => nI 0)))] H := hP
  have hD : va_D A [(h0, .inr (0, [.int 0, .ref qa0, .ref qa1, .ref qa2, .ref qa3, .ref qa4, .ref qa5, .ref qa6, .int 0, .int 0, .int 0, .int 0, .null, .null, .null, .null, .null, .int 0, .long 0])), (qa0, .inl (cA0, 4, .inl (fun _ => nI 0))), (qa1, .inl (cA0, 4, .inl (fun _ => nI 0))), (qa2, .inl (cA0, 4, .inl (fun _ => nI 0))), (qa3, .inl (cA0, 4, .inl (fun _ => nI 0))), (qa4, .inl (cA0, 4, .inl (fun _ => nI 0))), (qa5, .inl (cA0, 16, .inl (fun _ => nI 0))), (qa6, .inl (cA6, 4, .inl (fun _ => nI 0)))] := hD
  refine lv_aload_n hx hb dX0_init_54 rfl (lv_at hl 0 rfl) ?_
  refine lv_bipush (v := nI 16) hx hb dX0_init_55 rfl ?_
  refine va_newa (a0 := (16, .inl (fun _ => nI 0))) (ty := .byte) (atype := .byte) hx hb (hts _ q82) rfl hK hP hD hS hA (fun _ => rfl) (by decide) rfl (by decide) (Nat.le_of_ble_eq_true rfl) (Nat.le_of_ble_eq_true rfl) dX0_init_57 (fun qa7 cA7 H hK hP hD hS => ?_)
  refine W.widen (k := 8) (n := 56) (Nat.le_of_ble_eq_true rfl) (Nat.le_of_ble_eq_true rfl) ?_
  obtain rfl : cA6 = cA7 := xk_byte hK 1 2 rfl rfl
  have hK : va_K (dC, dI) vwCl [(cA0, .int), (cA6, .byte)] s := hK.sub [0, 1] rfl
  have hP : va_P (dC, dI) vwCl [(h0, .inr (0, [.int 0, .ref qa0, .ref qa1, .ref qa2, .ref qa3, .ref qa4, .ref qa5, .ref qa6, .int 0, .int 0, .int 0, .int 0, .null, .null, .null, .null, .null, .int 0, .long 0])), (qa0, .inl (cA0, 4, .inl (fun _ => nI 0))), (qa1, .inl (cA0, 4, .inl (fun _ => nI 0))), (qa2, .inl (cA0, 4, .inl (fun _ => nI 0))), (qa3, .inl (cA0, 4, .inl (fun _ => nI 0))), (qa4, .inl (cA0, 4, .inl (fun _ => nI 0))), (qa5, .inl (cA0, 16, .inl (fun _ => nI 0))), (qa6, .inl (cA6, 4, .inl (fun _ => nI 0))), (qa7, .inl (cA6, 16, .inl (fun _ => nI 0)))] H := hP
  have hD : va_D A [(h0, .inr (0, [.int 0, .ref qa0, .ref qa1, .ref qa2, .ref qa3, .ref qa4, .ref qa5, .ref qa6, .int 0, .int 0, .int 0, .int 0, .null, .null, .null, .null, .null, .int 0, .long 0])), (qa0, .inl (cA0, 4, .inl (fun _ => nI 0))), (qa1, .inl (cA0, 4, .inl (fun _ => nI 0))), (qa2, .inl (cA0, 4, .inl (fun _ => nI 0))), (qa3, .inl (cA0, 4, .inl (fun _ => nI 0))), (qa4, .inl (cA0, 4, .inl (fun _ => nI 0))), (qa5, .inl (cA0, 16, .inl (fun _ => nI 0))), (qa6, .inl (cA6, 4, .inl (fun _ => nI 0))), (qa7, .inl (cA6, 16, .inl (fun _ => nI 0)))] := hD
  refine va_putF (D := (dC, dI)) (ci := 0) (v := .ref qa7) (ty := .array .byte) (C := RX0) (T := TX0) (N := 19) hx hb hts in_X0 tyX0 tyX0_ok nmX0 hown hK hP hD hS 0 rfl rfl 12 (by decide) (hts _ q35) (fun _ h9 => h9) rfl hin rfl (by decide +kernel) rfl rfl (Nat.le_of_ble_eq_true rfl) dX0_init_59 (fun H locs hP hD hS => ?_)
  have hP : va_P (dC, dI) vwCl [(h0, .inr (0, [.int 0, .ref qa0, .ref qa1, .ref qa2, .ref qa3, .ref qa4, .ref qa5, .ref qa6, .int 0, .int 0, .int 0, .int 0, .ref qa7, .null, .null, .null, .null, .int 0, .long 0])), (qa0, .inl (cA0, 4, .inl (fun _ => nI 0))), (qa1, .inl (cA0, 4, .inl (fun _ => nI 0))), (qa2, .inl (cA0, 4, .inl (fun _ => nI 0))), (qa3, .inl (cA0, 4, .inl (fun _ => nI 0))), (qa4, .inl (cA0, 4, .inl (fun _ => nI 0))), (qa5, .inl (cA0, 16, .inl (fun _ => nI 0))), (qa6, .inl (cA6, 4, .inl (fun _ => nI 0))), (qa7, .inl (cA6, 16, .inl (fun _ => nI 0)))] H := hP
  have hD : va_D A [(h0, .inr (0, [.int 0, .ref qa0, .ref qa1, .ref qa2, .ref qa3, .ref qa4, .ref qa5, .ref qa6, .int 0, .int 0, .int 0, .int 0, .ref qa7, .null, .null, .null, .null, .int 0, .long 0])), (qa0, .inl (cA0, 4, .inl (fun _ => nI 0))), (qa1, .inl (cA0, 4, .inl (fun _ => nI 0))), (qa2, .inl (cA0, 4, .inl (fun _ => nI 0))), (qa3, .inl (cA0, 4, .inl (fun _ => nI 0))), (qa4, .inl (cA0, 4, .inl (fun _ => nI 0))), (qa5, .inl (cA0, 16, .inl (fun _ => nI 0))), (qa6, .inl (cA6, 4, .inl (fun _ => nI 0))), (qa7, .inl (cA6, 16, .inl (fun _ => nI 0)))] := hD
  refine lv_aload_n hx hb dX0_init_62 rfl (lv_at hl 0 rfl) ?_
  refine lv_bipush (v := nI 16) hx hb dX0_init_63 rfl ?_
  refine va_newa (a0 := (16, .inl (fun _ => nI 0))) (ty := .int) (atype := .int) hx hb (hts _ q81) rfl hK hP hD hS hA (fun _ => rfl) (by decide) rfl (by decide) (Nat.le_of_ble_eq_true rfl) (Nat.le_of_ble_eq_true rfl) dX0_init_65 (fun qa8 cA8 H hK hP hD hS => ?_)
  refine W.widen (k := 9) (n := 72) (Nat.le_of_ble_eq_true rfl) (Nat.le_of_ble_eq_true rfl) ?_
  obtain rfl : cA0 = cA8 := xk_int hK 0 2 rfl rfl
  have hK : va_K (dC, dI) vwCl [(cA0, .int), (cA6, .byte)] s := hK.sub [0, 1] rfl
  have hP : va_P (dC, dI) vwCl [(h0, .inr (0, [.int 0, .ref qa0, .ref qa1, .ref qa2, .ref qa3, .ref qa4, .ref qa5, .ref qa6, .int 0, .int 0, .int 0, .int 0, .ref qa7, .null, .null, .null, .null, .int 0, .long 0])), (qa0, .inl (cA0, 4, .inl (fun _ => nI 0))), (qa1, .inl (cA0, 4, .inl (fun _ => nI 0))), (qa2, .inl (cA0, 4, .inl (fun _ => nI 0))), (qa3, .inl (cA0, 4, .inl (fun _ => nI 0))), (qa4, .inl (cA0, 4, .inl (fun _ => nI 0))), (qa5, .inl (cA0, 16, .inl (fun _ => nI 0))), (qa6, .inl (cA6, 4, .inl (fun _ => nI 0))), (qa7, .inl (cA6, 16, .inl (fun _ => nI 0))), (qa8, .inl (cA0, 16, .inl (fun _ => nI 0)))] H := hP
  have hD : va_D A [(h0, .inr (0, [.int 0, .ref qa0, .ref qa1, .ref qa2, .ref qa3, .ref qa4, .ref qa5, .ref qa6, .int 0, .int 0, .int 0, .int 0, .ref qa7, .null, .null, .null, .null, .int 0, .long 0])), (qa0, .inl (cA0, 4, .inl (fun _ => nI 0))), (qa1, .inl (cA0, 4, .inl (fun _ => nI 0))), (qa2, .inl (cA0, 4, .inl (fun _ => nI 0))), (qa3, .inl (cA0, 4, .inl (fun _ => nI 0))), (qa4, .inl (cA0, 4, .inl (fun _ => nI 0))), (qa5, .inl (cA0, 16, .inl (fun _ => nI 0))), (qa6, .inl (cA6, 4, .inl (fun _ => nI 0))), (qa7, .inl (cA6, 16, .inl (fun _ => nI 0))), (qa8, .inl (cA0, 16, .inl (fun _ => nI 0)))] := hD
  refine va_putF (D := (dC, dI)) (ci := 0) (v := .ref qa8) (ty := .array .int) (C := RX0) (T := TX0) (N := 19) hx hb hts in_X0 tyX0 tyX0_ok nmX0 hown hK hP hD hS 0 rfl rfl 13 (by decide) (hts _ q36) (fun _ h9 => h9) rfl hin rfl (by decide +kernel) rfl rfl (Nat.le_of_ble_eq_true rfl) dX0_init_67 (fun H locs hP hD hS => ?_)
  have hP : va_P (dC, dI) vwCl [(h0, .inr (0, [.int 0, .ref qa0, .ref qa1, .ref qa2, .ref qa3, .ref qa4, .ref qa5, .ref qa6, .int 0, .int 0, .int 0, .int 0, .ref qa7, .ref qa8, .null, .null, .null, .int 0, .long 0])), (qa0, .inl (cA0, 4, .inl (fun _ => nI 0))), (qa1, .inl (cA0, 4, .inl (fun _ => nI 0))), (qa2, .inl (cA0, 4, .inl (fun _ => nI 0))), (qa3, .inl (cA0, 4, .inl (fun _ => nI 0))), (qa4, .inl (cA0, 4, .inl (fun _ => nI 0))), (qa5, .inl (cA0, 16, .inl (fun _ => nI 0))), (qa6, .inl (cA6, 4, .inl (fun _ => nI 0))), (qa7, .inl (cA6, 16, .inl (fun _ => nI 0))), (qa8, .inl (cA0, 16, .inl (fun _ => nI 0)))] H := hP
  have hD : va_D A [(h0, .inr (0, [.int 0, .ref qa0, .ref qa1, .ref qa2, .ref qa3, .ref qa4, .ref qa5, .ref qa6, .int 0, .int 0, .int 0, .int 0, .ref qa7, .ref qa8, .null, .null, .null, .int 0, .long 0])), (qa0, .inl (cA0, 4, .inl (fun _ => nI 0))), (qa1, .inl (cA0, 4, .inl (fun _ => nI 0))), (qa2, .inl (cA0, 4, .inl (fun _ => nI 0))), (qa3, .inl (cA0, 4, .inl (fun _ => nI 0))), (qa4, .inl (cA0, 4, .inl (fun _ => nI 0))), (qa5, .inl (cA0, 16, .inl (fun _ => nI 0))), (qa6, .inl (cA6, 4, .inl (fun _ => nI 0))), (qa7, .inl (cA6, 16, .inl (fun _ => nI 0))), (qa8, .inl (cA0, 16, .inl (fun _ => nI 0)))] := hD
  refine lv_aload_n hx hb dX0_init_70 rfl (lv_at hl 0 rfl) ?_
  refine lv_bipush (v := nI 16) hx hb dX0_init_71 rfl ?_
  refine va_newa (a0 := (16, .inl (fun _ => nI 0))) (ty := .int) (atype := .int) hx hb (hts _ q81) rfl hK hP hD hS hA (fun _ => rfl) (by decide) rfl (by decide) (Nat.le_of_ble_eq_true rfl) (Nat.le_of_ble_eq_true rfl) dX0_init_73 (fun qa9 cA9 H hK hP hD hS => ?_)
  refine W.widen (k := 10) (n := 88) (Nat.le_of_ble_eq_true rfl) (Nat.le_of_ble_eq_true rfl) ?_
  obtain rfl : cA0 = cA9 := xk_int hK 0 2 rfl rfl
  have hK : va_K (dC, dI) vwCl [(cA0, .int), (cA6, .byte)] s := hK.sub [0, 1] rfl
  have hP : va_P (dC, dI) vwCl [(h0, .inr (0, [.int 0, .ref qa0, .ref qa1, .ref qa2, .ref qa3, .ref qa4, .ref qa5, .ref qa6, .int 0, .int 0, .int 0, .int 0, .ref qa7, .ref qa8, .null, .null, .null, .int 0, .long 0])), (qa0, .inl (cA0, 4, .inl (fun _ => nI 0))), (qa1, .inl (cA0, 4, .inl (fun _ => nI 0))), (qa2, .inl (cA0, 4, .inl (fun _ => nI 0))), (qa3, .inl (cA0, 4, .inl (fun _ => nI 0))), (qa4, .inl (cA0, 4, .inl (fun _ => nI 0))), (qa5, .inl (cA0, 16, .inl (fun _ => nI 0))), (qa6, .inl (cA6, 4, .inl (fun _ => nI 0))), (qa7, .inl (cA6, 16, .inl (fun _ => nI 0))), (qa8, .inl (cA0, 16, .inl (fun _ => nI 0))), (qa9, .inl (cA0, 16, .inl (fun _ => nI 0)))] H := hP
  have hD : va_D A [(h0, .inr (0, [.int 0, .ref qa0, .ref qa1, .ref qa2, .ref qa3, .ref qa4, .ref qa5, .ref qa6, .int 0, .int 0, .int 0, .int 0, .ref qa7, .ref qa8, .null, .null, .null, .int 0, .long 0])), (qa0, .inl (cA0, 4, .inl (fun _ => nI 0))), (qa1, .inl (cA0, 4, .inl (fun _ => nI 0))), (qa2, .inl (cA0, 4, .inl (fun _ => nI 0))), (qa3, .inl (cA0, 4, .inl (fun _ => nI 0))), (qa4, .inl (cA0, 4, .inl (fun _ => nI 0))), (qa5, .inl (cA0, 16, .inl (fun _ => nI 0))), (qa6, .inl (cA6, 4, .inl (fun _ => nI 0))), (qa7, .inl (cA6, 16, .inl (fun _ => nI 0))), (qa8, .inl (cA0, 16, .inl (fun _ => nI 0))), (qa9, .inl (cA0, 16, .inl (fun _ => nI 0)))] := hD
  refine va_putF (D := (dC, dI)) (ci := 0) (v := .ref qa9) (ty := .array .int) (C := RX0) (T := TX0) (N := 19) hx hb hts in_X0 tyX0 tyX0_ok nmX0 hown hK hP hD hS 0 rfl rfl 14 (by decide) (hts _ q37) (fun _ h9 => h9) rfl hin rfl (by decide +kernel) rfl rfl (Nat.le_of_ble_eq_true rfl) dX0_init_75 (fun H locs hP hD hS => ?_)
  have hP : va_P (dC, dI) vwCl [(h0, .inr (0, [.int 0, .ref qa0, .ref qa1, .ref qa2, .ref qa3, .ref qa4, .ref qa5, .ref qa6, .int 0, .int 0, .int 0, .int 0, .ref qa7, .ref qa8, .ref qa9, .null, .null, .int 0, .long 0])), (qa0, .inl (cA0, 4, .inl (fun _ => nI 0))), (qa1, .inl (cA0, 4, .inl (fun _ => nI 0))), (qa2, .inl (cA0, 4, .inl (fun _ => nI 0))), (qa3, .inl (cA0, 4, .inl (fun _ => nI 0))), (qa4, .inl (cA0, 4, .inl (fun _ => nI 0))), (qa5, .inl (cA0, 16, .inl (fun _ => nI 0))), (qa6, .inl (cA6, 4, .inl (fun _ => nI 0))), (qa7, .inl (cA6, 16, .inl (fun _ => nI 0))), (qa8, .inl (cA0, 16, .inl (fun _ => nI 0))), (qa9, .inl (cA0, 16, .inl (fun _ => nI 0)))] H := hP
  have hD : va_D A [(h0, .inr (0, [.int 0, .ref qa0, .ref qa1, .ref qa2, .ref qa3, .ref qa4, .ref qa5, .ref qa6, .int 0, .int 0, .int 0, .int 0, .ref qa7, .ref qa8, .ref qa9, .null, .null, .int 0, .long 0])), (qa0, .inl (cA0, 4, .inl (fun _ => nI 0))), (qa1, .inl (cA0, 4, .inl (fun _ => nI 0))), (qa2, .inl (cA0, 4, .inl (fun _ => nI 0))), (qa3, .inl (cA0, 4, .inl (fun _ => nI 0))), (qa4, .inl (cA0, 4, .inl (fun _ => nI 0))), (qa5, .inl (cA0, 16, .inl (fun _ => nI 0))), (qa6, .inl (cA6, 4, .inl (fun _ => nI 0))), (qa7, .inl (cA6, 16, .inl (fun _ => nI 0))), (qa8, .inl (cA0, 16, .inl (fun _ => nI 0))), (qa9, .inl (cA0, 16, .inl (fun _ => nI 0)))] := hD
  refine lv_aload_n hx hb dX0_init_78 rfl (lv_at hl 0 rfl) ?_
  refine lv_bipush (v := nI 16) hx hb dX0_init_79 rfl ?_
  refine va_newa (a0 := (16, .inl (fun _ => nI 0))) (ty := .int) (atype := .int) hx hb (hts _ q81) rfl hK hP hD hS hA (fun _ => rfl) (by decide) rfl (by decide) (Nat.le_of_ble_eq_true rfl) (Nat.le_of_ble_eq_true rfl) dX0_init_81 (fun qa10 cA10 H hK hP hD hS => ?_)
  refine W.widen (k := 11) (n := 104) (Nat.le_of_ble_eq_true rfl) (Nat.le_of_ble_eq_true rfl) ?_
  obtain rfl : cA0 = cA10 := xk_int hK 0 2 rfl rfl
  have hK : va_K (dC, dI) vwCl [(cA0, .int), (cA6, .byte)] s := hK.sub [0, 1] rfl
  have hP : va_P (dC, dI) vwCl [(h0, .inr (0, [.int 0, .ref qa0, .ref qa1, .ref qa2, .ref qa3, .ref qa4, .ref qa5, .ref qa6, .int 0, .int 0, .int 0, .int 0, .ref qa7, .ref qa8, .ref qa9, .null, .null, .int 0, .long 0])), (qa0, .inl (cA0, 4, .inl (fun _ => nI 0))), (qa1, .inl (cA0, 4, .inl (fun _ => nI 0))), (qa2, .inl (cA0, 4, .inl (fun _ => nI 0))), (qa3, .inl (cA0, 4, .inl (fun _ => nI 0))), (qa4, .inl (cA0, 4, .inl (fun _ => nI 0))), (qa5, .inl (cA0, 16, .inl (fun _ => nI 0))), (qa6, .inl (cA6, 4, .inl (fun _ => nI 0))), (qa7, .inl (cA6, 16, .inl (fun _ => nI 0))), (qa8, .inl (cA0, 16, .inl (fun _ => nI 0))), (qa9, .inl (cA0, 16, .inl (fun _ => nI 0))), (qa10, .inl (cA0, 16, .inl (fun _ => nI 0)))] H := hP
  have hD : va_D A [(h0, .inr (0, [.int 0, .ref qa0, .ref qa1, .ref qa2, .ref qa3, .ref qa4, .ref qa5, .ref qa6, .int 0, .int 0, .int 0, .int 0, .ref qa7, .ref qa8, .ref qa9, .null, .null, .int 0, .long 0])), (qa0, .inl (cA0, 4, .inl (fun _ => nI 0))), (qa1, .inl (cA0, 4, .inl (fun _ => nI 0))), (qa2, .inl (cA0, 4, .inl (fun _ => nI 0))), (qa3, .inl (cA0, 4, .inl (fun _ => nI 0))), (qa4, .inl (cA0, 4, .inl (fun _ => nI 0))), (qa5, .inl (cA0, 16, .inl (fun _ => nI 0))), (qa6, .inl (cA6, 4, .inl (fun _ => nI 0))), (qa7, .inl (cA6, 16, .inl (fun _ => nI 0))), (qa8, .inl (cA0, 16, .inl (fun _ => nI 0))), (qa9, .inl (cA0, 16, .inl (fun _ => nI 0))), (qa10, .inl (cA0, 16, .inl (fun _ => nI 0)))] := hD
  refine va_putF (D := (dC, dI)) (ci := 0) (v := .ref qa10) (ty := .array .int) (C := RX0) (T := TX0) (N := 19) hx hb hts in_X0 tyX0 tyX0_ok nmX0 hown hK hP hD hS 0 rfl rfl 15 (by decide) (hts _ q38) (fun _ h9 => h9) rfl hin rfl (by decide +kernel) rfl rfl (Nat.le_of_ble_eq_true rfl) dX0_init_83 (fun H locs hP hD hS => ?_)
  have hP : va_P (dC, dI) vwCl [(h0, .inr (0, [.int 0, .ref qa0, .ref qa1, .ref qa2, .ref qa3, .ref qa4, .ref qa5, .ref qa6, .int 0, .int 0, .int 0, .int 0, .ref qa7, .ref qa8, .ref qa9, .ref qa10, .null, .int 0, .long 0])), (qa0, .inl (cA0, 4, .inl (fun _ => nI 0))), (qa1, .inl (cA0, 4, .inl (fun _ => nI 0))), (qa2, .inl (cA0, 4, .inl (fun _ => nI 0))), (qa3, .inl (cA0, 4, .inl (fun _ => nI 0))), (qa4, .inl (cA0, 4, .inl (fun _ => nI 0))), (qa5, .inl (cA0, 16, .inl (fun _ => nI 0))), (qa6, .inl (cA6, 4, .inl (fun _ => nI 0))), (qa7, .inl (cA6, 16, .inl (fun _ => nI 0))), (qa8, .inl (cA0, 16, .inl (fun _ => nI 0))), (qa9, .inl (cA0, 16, .inl (fun _ => nI 0))), (qa10, .inl (cA0, 16, .inl (fun _ => nI 0)))] H := hP
  have hD : va_D A [(h0, .inr (0, [.int 0, .ref qa0, .ref qa1, .ref qa2, .ref qa3, .ref qa4, .ref qa5, .ref qa6, .int 0, .int 0, .int 0, .int 0, .ref qa7, .ref qa8, .ref qa9, .ref qa10, .null, .int 0, .long 0])), (qa0, .inl (cA0, 4, .inl (fun _ => nI 0))), (qa1, .inl (cA0, 4, .inl (fun _ => nI 0))), (qa2, .inl (cA0, 4, .inl (fun _ => nI 0))), (qa3, .inl (cA0, 4, .inl (fun _ => nI 0))), (qa4, .inl (cA0, 4, .inl (fun _ => nI 0))), (qa5, .inl (cA0, 16, .inl (fun _ => nI 0))), (qa6, .inl (cA6, 4, .inl (fun _ => nI 0))), (qa7, .inl (cA6, 16, .inl (fun _ => nI 0))), (qa8, .inl (cA0, 16, .inl (fun _ => nI 0))), (qa9, .inl (cA0, 16, .inl (fun _ => nI 0))), (qa10, .inl (cA0, 16, .inl (fun _ => nI 0)))] := hD
  refine lv_aload_n hx hb dX0_init_86 rfl (lv_at hl 0 rfl) ?_
  refine lv_bipush (v := nI 16) hx hb dX0_init_87 rfl ?_
  refine va_newa (a0 := (16, .inl (fun _ => nI 0))) (ty := .int) (atype := .int) hx hb (hts _ q81) rfl hK hP hD hS hA (fun _ => rfl) (by decide) rfl (by decide) (Nat.le_of_ble_eq_true rfl) (Nat.le_of_ble_eq_true rfl) dX0_init_89 (fun qa11 cA11 H hK hP hD hS => ?_)
  refine W.widen (k := 12) (n := 120) (Nat.le_of_ble_eq_true rfl) (Nat.le_of_ble_eq_true rfl) ?_
  obtain rfl : cA0 = cA11 := xk_int hK 0 2 rfl rfl
  have hK : va_K (dC, dI) vwCl [(cA0, .int), (cA6, .byte)] s := hK.sub [0, 1] rfl
  have hP : va_P (dC, dI) vwCl [(h0, .inr (0, [.int 0, .ref qa0, .ref qa1, .ref qa2, .ref qa3, .ref qa4, .ref qa5, .ref qa6, .int 0, .int 0, .int 0, .int 0, .ref qa7, .ref qa8, .ref qa9, .ref qa10, .null, .int 0, .long 0])), (qa0, .inl (cA0, 4, .inl (fun _ => nI 0))), (qa1, .inl (cA0, 4, .inl (fun _ => nI 0))), (qa2, .inl (cA0, 4, .inl (fun _ => nI 0))), (qa3, .inl (cA0, 4, .inl (fun _ => nI 0))), (qa4, .inl (cA0, 4, .inl (fun _ => nI 0))), (qa5, .inl (cA0, 16, .inl (fun _ => nI 0))), (qa6, .inl (cA6, 4, .inl (fun _ => nI 0))), (qa7, .inl (cA6, 16, .inl (fun _ => nI 0))), (qa8, .inl (cA0, 16, .inl (fun _ => nI 0))), (qa9, .inl (cA0, 16, .inl (fun _ => nI 0))), (qa10, .inl (cA0, 16, .inl (fun _ => nI 0))), (qa11, .inl (cA0, 16, .inl (fun _ => nI 0)))] H := hP
  have hD : va_D A [(h0, .inr (0, [.int 0, .ref qa0, .ref qa1, .ref qa2, .ref qa3, .ref qa4, .ref qa5, .ref qa6, .int 0, .int 0, .int 0, .int 0, .ref qa7, .ref qa8, .ref qa9, .ref qa10, .null, .int 0, .long 0])), (qa0, .inl (cA0, 4, .inl (fun _ => nI 0))), (qa1, .inl (cA0, 4, .inl (fun _ => nI 0))), (qa2, .inl (cA0, 4, .inl (fun _ => nI 0))), (qa3, .inl (cA0, 4, .inl (fun _ => nI 0))), (qa4, .inl (cA0, 4, .inl (fun _ => nI 0))), (qa5, .inl (cA0, 16, .inl (fun _ => nI 0))), (qa6, .inl (cA6, 4, .inl (fun _ => nI 0))), (qa7, .inl (cA6, 16, .inl (fun _ => nI 0))), (qa8, .inl (cA0, 16, .inl (fun _ => nI 0))), (qa9, .inl (cA0, 16, .inl (fun _ => nI 0))), (qa10, .inl (cA0, 16, .inl (fun _ => nI 0))), (qa11, .inl (cA0, 16, .inl (fun _ => nI 0)))] := hD
  refine va_putF (D := (dC, dI)) (ci := 0) (v := .ref qa11) (ty := .array .int) (C := RX0) (T := TX0) (N := 19) hx hb hts in_X0 tyX0 tyX0_ok nmX0 hown hK hP hD hS 0 rfl rfl 16 (by decide) (hts _ q39) (fun _ h9 => h9) rfl hin rfl (by decide +kernel) rfl rfl (Nat.le_of_ble_eq_true rfl) dX0_init_91 (fun H locs hP hD hS => ?_)
  have hP : va_P (dC, dI) vwCl [(h0, .inr (0, [.int 0, .ref qa0, .ref qa1, .ref qa2, .ref qa3, .ref qa4, .ref qa5, .ref qa6, .int 0, .int 0, .int 0, .int 0, .ref qa7, .ref qa8, .ref qa9, .ref qa10, .ref qa11, .int 0, .long 0])), (qa0, .inl (cA0, 4, .inl (fun _ => nI 0))), (qa1, .inl (cA0, 4, .inl (fun _ => nI 0))), (qa2, .inl (cA0, 4, .inl (fun _ => nI 0))), (qa3, .inl (cA0, 4, .inl (fun _ => nI 0))), (qa4, .inl (cA0, 4, .inl (fun _ => nI 0))), (qa5, .inl (cA0, 16, .inl (fun _ => nI 0))), (qa6, .inl (cA6, 4, .inl (fun _ => nI 0))), (qa7, .inl (cA6, 16, .inl (fun _ => nI 0))), (qa8, .inl (cA0, 16, .inl (fun _ => nI 0))), (qa9, .inl (cA0, 16, .inl (fun _ => nI 0))), (qa10, .inl (cA0, 16, .inl (fun _ => nI 0))), (qa11, .inl (cA0, 16, .inl (fun _ => nI 0)))] H := hP
  have hD : va_D A [(h0, .inr (0, [.int 0, .ref qa0, .ref qa1, .ref qa2, .ref qa3, .ref qa4, .ref qa5, .ref qa6, .int 0, .int 0, .int 0, .int 0, .ref qa7, .ref qa8, .ref qa9, .ref qa10, .ref qa11, .int 0, .long 0])), (qa0, .inl (cA0, 4, .inl (fun _ => nI 0))), (qa1, .inl (cA0, 4, .inl (fun _ => nI 0))), (qa2, .inl (cA0, 4, .inl (fun _ => nI 0))), (qa3, .inl (cA0, 4, .inl (fun _ => nI 0))), (qa4, .inl (cA0, 4, .inl (fun _ => nI 0))), (qa5, .inl (cA0, 16, .inl (fun _ => nI 0))), (qa6, .inl (cA6, 4, .inl (fun _ => nI 0))), (qa7, .inl (cA6, 16, .inl (fun _ => nI 0))), (qa8, .inl (cA0, 16, .inl (fun _ => nI 0))), (qa9, .inl (cA0, 16, .inl (fun _ => nI 0))), (qa10, .inl (cA0, 16, .inl (fun _ => nI 0))), (qa11, .inl (cA0, 16, .inl (fun _ => nI 0)))] := hD
  exact W.vret hx hb hr (fun t ht hW => ⟨⟨(mkN qa0 qa1 qa2 qa3 qa4 qa5 qa6 qa7 qa8 qa9 qa10 qa11, cA0, cA6), rfl, trivial, by rw [ht]; exact hP, va_K.moved hW.alike hK, hD⟩, hS.F ht⟩) hS.2.2 dX0_init_94
set_option maxHeartbeats 4000000 in
set_option maxRecDepth 100000 in
theorem mX1_init (l : Launch) (dC : Nat → ClassId) (dI : Nat → Nat → Nat) (dA dB : ClassId) (sz g0 : Nat) : Met l yX1_init (ws_ yX1_init cX1_init 1 none) ({ frames := 1, cells := 2, slots := 404, locals := 12 } : Room) (va_Pc [.ref g0] (xPre (dC, dI) vwCl (xT dA dB) [(g0, .inr (1, [.int 0, .null, .null, .int 0, .int 0, .int 0]))] sz)) (va_Qv (fun _ => True) (fun (u : Nat × Nat) t => va_P (dC, dI) vwCl [(g0, oM u.1 u.2 (nI 0) (nI 0) (nI 0) (nI 0)), (u.1, .inl (dA, 400, .inl (fun _ => nI 0))), (u.2, .inl (dA, 4, .inl (fun _ => nI 0)))] t.heap ∧ va_D (va_A [(g0, .inr (1, [.int 0, .null, .null, .int 0, .int 0, .int 0]))] sz) [(g0, oM u.1 u.2 (nI 0) (nI 0) (nI 0) (nI 0)), (u.1, .inl (dA, 400, .inl (fun _ => nI 0))), (u.2, .inl (dA, 4, .inl (fun _ => nI 0)))]) (va_A [(g0, .inr (1, [.int 0, .null, .null, .int 0, .int 0, .int 0]))] sz)) 2 404 (va_A [(g0, .inr (1, [.int 0, .null, .null, .int 0, .int 0, .int 0]))] sz) := by
  refine Met.ofW (cc := cX1_init) (maxL := 1) (ret := none) (by decide) rfl ?_
  intro p e s m args below meth c s₁ B hml hv
  obtain ⟨rfl, hsz, hP, hK, hD0⟩ := hv
  have hx := B.exec
  have hb := B.bytes
  have hr := B.returns
  have hts := atoms_spec (ws := ws_ yX1_init cX1_init 1 none) B.pre
  have hts : ∀ w ∈ lw_all, w.before _ s = true := fun w h => hts w (List.mem_cons_of_mem _ h)
  have hown : s.vm.findClass RX1 = some m.cls := findClass_of_methodNamed B.named
  have hlocks := B.notSynchronized
  have hin : meth.name = "<init>" := (name_of_methodNamed B.named B.method).1
  subst hsz
  have hD := hD0.self (sz := s.heap.size)
  generalize hAe : va_A [(g0, .inr (1, [.int 0, .null, .null, .int 0, .int 0, .int 0]))] s.heap.size = A at hD ⊢
  have hA : ∀ q : Nat, s.heap.size ≤ q → A q := fun q h => by rw [← hAe]; exact Or.inr h
  have hS : va_S A s.heap s.heap [] := va_S.rf
  have hl := lv_entry ([.ref g0]) (n := 1) (Nat.le_of_ble_eq_true rfl)
  rw [lg_entry_eq]
  generalize (lg_sl ([.ref g0]) ++ List.replicate (1 - (lg_sl ([.ref g0])).length) Slot.unset).toArray = ls at hl ⊢
  have hl : lv_has ls 1 [(0, .ref g0)] := hl
  refine lv_aload_n hx hb dX1_init_0 rfl (lv_at hl 0 rfl) ?_
  refine W.objInit hx hb hown (hts _ q193) (hts _ q21) (hts _ q22) rfl (by rw [hml]; exact hl.1) rfl dX1_init_1 (Nat.le_of_ble_eq_true rfl) (Nat.le_of_ble_eq_true rfl) ?_
  refine W.eq (g2 := F0 m 4 ls []) rfl ?_
  refine lv_aload_n hx hb dX1_init_4 rfl (lv_at hl 0 rfl) ?_
  refine lv_sipush (v := nI 400) hx hb dX1_init_5 rfl ?_
  refine va_newa (a0 := (400, .inl (fun _ => nI 0))) (ty := .int) (atype := .int) hx hb (hts _ q81) rfl hK hP hD hS hA (fun _ => rfl) (by decide) rfl (by decide) (Nat.le_of_ble_eq_true rfl) (Nat.le_of_ble_eq_true rfl) dX1_init_8 (fun qa0 cA0 H hK hP hD hS => ?_)
  refine W.widen (k := 1) (n := 400) (Nat.le_of_ble_eq_true rfl) (Nat.le_of_ble_eq_true rfl) ?_
  obtain rfl : dA = cA0 := xk_int hK 0 2 rfl rfl
  have hK : va_K (dC, dI) vwCl (xT dA dB) s := hK.sub [0, 1] rfl
  have hP : va_P (dC, dI) vwCl [(g0, .inr (1, [.int 0, .null, .null, .int 0, .int 0, .int 0])), (qa0, .inl (dA, 400, .inl (fun _ => nI 0)))] H := hP
  have hD : va_D A [(g0, .inr (1, [.int 0, .null, .null, .int 0, .int 0, .int 0])), (qa0, .inl (dA, 400, .inl (fun _ => nI 0)))] := hD
  refine x1_put hx hb hts hown hK hP hD hS 0 rfl 1 (by decide) (hts _ q195) rfl rfl (.array .int) (by decide +kernel) rfl rfl (Nat.le_of_ble_eq_true rfl) [(g0, .inr (1, [.int 0, .ref qa0, .null, .int 0, .int 0, .int 0])), (qa0, .inl (dA, 400, .inl (fun _ => nI 0)))] rfl dX1_init_10 (fun H locs hP hD hS => ?_)
  refine lv_aload_n hx hb dX1_init_13 rfl (lv_at hl 0 rfl) ?_
  refine lv_iconst (v := nI 4) hx hb dX1_init_14 rfl ?_
  refine va_newa (a0 := (4, .inl (fun _ => nI 0))) (ty := .int) (atype := .int) hx hb (hts _ q81) rfl hK hP hD hS hA (fun _ => rfl) (by decide) rfl (by decide) (Nat.le_of_ble_eq_true rfl) (Nat.le_of_ble_eq_true rfl) dX1_init_15 (fun qa1 cA1 H hK hP hD hS => ?_)
  refine W.widen (k := 2) (n := 404) (Nat.le_of_ble_eq_true rfl) (Nat.le_of_ble_eq_true rfl) ?_
  obtain rfl : dA = cA1 := xk_int hK 0 2 rfl rfl
  have hK : va_K (dC, dI) vwCl (xT dA dB) s := hK.sub [0, 1] rfl
  have hP : va_P (dC, dI) vwCl [(g0, .inr (1, [.int 0, .ref qa0, .null, .int 0, .int 0, .int 0])), (qa0, .inl (dA, 400, .inl (fun _ => nI 0))), (qa1, .inl (dA, 4, .inl (fun _ => nI 0)))] H := hP
  have hD : va_D A [(g0, .inr (1, [.int 0, .ref qa0, .null, .int 0, .int 0, .int 0])), (qa0, .inl (dA, 400, .inl (fun _ => nI 0))), (qa1, .inl (dA, 4, .inl (fun _ => nI 0)))] := hD
  refine x1_put hx hb hts hown hK hP hD hS 0 rfl 2 (by decide) (hts _ q196) rfl rfl (.array .int) (by decide +kernel) rfl rfl (Nat.le_of_ble_eq_true rfl) [(g0, .inr (1, [.int 0, .ref qa0, .ref qa1, .int 0, .int 0, .int 0])), (qa0, .inl (dA, 400, .inl (fun _ => nI 0))), (qa1, .inl (dA, 4, .inl (fun _ => nI 0)))] rfl dX1_init_17 (fun H locs hP hD hS => ?_)
  exact W.vret hx hb hr (fun t ht hW => ⟨⟨(qa0, qa1), rfl, trivial, by rw [ht]; exact hP, hD⟩, hS.F ht⟩) hS.2.2 dX1_init_20
end
section
/-! THE CLAIM OUT OF ONE WALK OF THE LAW'S BODY. Your part is whole_start (and what it stands on); all else here is the same for every law, but numbers. -/
def R_law : String := "InvariantFinderLaw"
def lw_P (b : Addr) (xs : List Int32) (args : Array Value) (s : State) : Prop := args = #[.ref b] ∧ s.IntsAt b xs ∧ xs.length ≤ 320 ∧ (Jvm.Cond.and given_1 narrow_1).before args s = true
def lw_Q (_ : Array Value) (s : State) (o : Outcome) (t : State) : Prop := o = .returned (some (.int 1)) ∧ Framed s o t [] 600000 7290000
def lw_Z (below : List Frame) (a : Array Value) (s : State) : State → Prop := fun t => ∃ o, t.status = .running ∧ Ended t below o ∧ lw_Q a s o t
/-- the law's own end, with 1 on the stack, nothing written that was there before, its room as the claim has it -/
theorem lw_ret {p : Program} {l : Launch} {e : Env} {s : State} {m : MethodId} {below : List Frame} {meth : Method} {c : Code} {b : Nat} (hx : p.tables.exec = Jvm.exec) (hb : c.code = code) (hr : meth.sig.returnType = ret) (hlocks : meth.locks = false) {pc : Nat} {H : Heap} {ls : Array Slot} (hdg : decode code pc = .ok (.ireturn, 1)) : W p l e room_1 s m #[Value.ref b] below meth c H [] 600000 7290000 (lw_Z below #[Value.ref b] s) (F0 m pc ls [.int 1]) := by
  intro T hT X
  obtain ⟨fs, hret, hrun, hended, hW, hframe⟩ := X.leave (v := some (.int 1)) (hlocks := hlocks) (fun h => by rw [hr] at h; cases h)
  have hmeth' : T.vm.method? m = some meth := X.method'
  refine ⟨T.setFrames fs, ?_, .returned (some (.int 1)), hrun, hended, rfl, ⟨_, rfl⟩, hW, hframe⟩
  jvm_step X.here [X.here.top, hx, hb, hdg, hmeth', hr, ret, narrow_b1]
  (try refine ⟨rfl, ?_⟩); (try refine ⟨rfl, ?_⟩)
  first | (intro acts; rw [hret _ acts rfl rfl rfl]) | rw [hret _ _ rfl rfl rfl]
  exact Steps.refl _
/-- what holds at the law's entry: the machine, the code, the tables' words (any of lw_tbl by 'hts w (by decide +kernel)'), the script of L ints xs at the cell b, what the Statement gives of the start (any of its parts by flat_of_before) -/
def lw_At (p : Program) (s : State) (m : MethodId) (meth : Method) (c : Code) (b L : Nat) (xs : Nat → Int32) : Prop :=
  p.tables.exec = Jvm.exec ∧ c.code = code ∧ meth.sig.returnType = ret ∧ c.maxLocals = 4 ∧ s.vm.findClass R_law = some m.cls ∧ (∀ w ∈ lw_tbl, w.before #[Value.ref b] s = true) ∧ va_X b L xs s s.heap ∧ b < s.heap.size ∧ meth.locks = false ∧ (Jvm.Cond.and given_1 narrow_1).before #[Value.ref b] s = true
end
section
theorem law_cmp {i L : Nat} (hi : i ≤ 400) (hL : L ≤ 320) : nI L - nI 5 < nI i ↔ L < i + 5 := by
  rw [Int32.lt_iff_toInt_lt, pk_sub_toInt (by omega) (by omega), nI_toInt (by omega)]
  omega
theorem smp_two {n : Nat} {x1 x2 x3 x4 r1 r2 : Int32} {X1 X2 Y1 Y2 : Prop} (h1 : smpR n x1 x2 x3 x4 r1 X1 Y1) (h2 : smpR n x1 x2 x3 x4 r2 X2 Y2) : (r1 = r2 ∧ X1 ∧ X2) ∨ (r1 = r2 ∧ Y1 ∧ Y2) := by
  rcases h1 with ⟨a1, a2, a3, a4, a5, a6, a7⟩ | ⟨a1, a2, a3, a4, a5, a6, a7⟩ | ⟨a1, a6, a7⟩
  · rcases h2 with ⟨b1, b2, b3, b4, b5, b6, b7⟩ | ⟨b1, b2, b3, b4, b5, b6, b7⟩ | ⟨b1, b6, b7⟩
    · exact Or.inl ⟨by rw [a6, b6], a7, b7⟩
    · omega
    · exact absurd ⟨a1, a2, a3, a4⟩ b1
  · rcases h2 with ⟨b1, b2, b3, b4, b5, b6, b7⟩ | ⟨b1, b2, b3, b4, b5, b6, b7⟩ | ⟨b1, b6, b7⟩
    · omega
    · exact Or.inr ⟨by rw [a6, b6], a7, b7⟩
    · exact absurd ⟨a1, a2, a3, a4⟩ b1
  · rcases h2 with ⟨b1, b2, b3, b4, b5, b6, b7⟩ | ⟨b1, b2, b3, b4, b5, b6, b7⟩ | ⟨b1, b6, b7⟩
    · exact absurd ⟨b1, b2, b3, b4⟩ a1
    · exact absurd ⟨b1, b2, b3, b4⟩ a1
    · exact Or.inr ⟨by rw [a6, b6], a7, b7⟩
section XLAW
variable {p : Program} {l : Launch} {e : Env} {R : Room} {s : State} {m : MethodId} {args : Array Value} {below : List Frame} {meth : Method} {c : Code} {H : Heap} {locs : List Loc} {cells slots : Nat} {Q : State → Prop} {cc : ByteArray} {pc : Nat} {ls : Array Slot} {rest : List Value} {A : Nat → Prop} {H0 : Heap}
theorem xa_sld (hexec : p.tables.exec = Jvm.exec) (hb : c.code = cc) {b L : Nat} {xs : Nat → Int32} (hX : va_X b L xs s H0) (hbl : b < H0.size) (hbA : ¬ A b) (hS : va_S A H0 H locs) {k : Nat} (hk : k < L) (hL : L < 2 ^ 31) (hdg : decode cc pc = .ok (.iaload, 1))
    (kk : W p l e R s m args below meth c H locs cells slots Q (F0 m (pc + 1) ls (.int (xs k) :: rest))) : W p l e R s m args below meth c H locs cells slots Q (F0 m pc ls (.int (nI k) :: .ref b :: rest)) := by
  refine va_sld hexec hb hX hbl hbA hS (vp_in_nI hk hL) hdg ?_
  rw [nI_clamp (Nat.lt_trans hk hL)]
  exact kk
end XLAW
set_option maxHeartbeats 4000000 in
set_option maxRecDepth 100000 in
theorem law_loop {p : Program} {e : Env} {s : State} {m : MethodId} {below : List Frame} {meth : Method} {c : Code} (l : Launch) {b L : Nat} {xs : Nat → Int32} (hL : L ≤ 320) (C0 : lw_At p s m meth c b L xs) (hts : ∀ w ∈ lw_all, w.before #[Value.ref b] s = true) {A : Nat → Prop} (hAe : A = fun q : Nat => s.heap.size ≤ q) (dC : Nat → ClassId) (dI : Nat → Nat → Nat) (dA dB : ClassId) (hK : va_K (dC, dI) vwCl (xT dA dB) s) (h0 : Nat) (ad : Nat → Nat) (g0 b1 b2 : Nat) : ∀ (f i : Nat) (n : Nat) (g : Nat → Int32) (sb : Int64) (F : Nat → Nat → Int32) (v w : Nat → Int32) (p0 q0 r0 : Int32), L + 1 ≤ i + f → i ≤ L → FI n v g sb F → ∀ (H : Heap) (locs : List Loc), va_P (dC, dI) vwCl [(h0, oF ad (g 0) (g 1) (g 2) (g 3) (g 4) (g 5) sb), (ad 0, .inl (dA, 4, .inl (F 0))), (ad 1, .inl (dA, 4, .inl (F 1))), (ad 2, .inl (dA, 4, .inl (F 2))), (ad 3, .inl (dA, 4, .inl (F 3))), (ad 4, .inl (dA, 4, .inl (F 4))), (ad 5, .inl (dA, 16, .inl (F 5))), (ad 6, .inl (dB, 4, .inl (F 6))), (ad 7, .inl (dB, 16, .inl (F 7))), (ad 8, .inl (dA, 16, .inl (F 8))), (ad 9, .inl (dA, 16, .inl (F 9))), (ad 10, .inl (dA, 16, .inl (F 10))), (ad 11, .inl (dA, 16, .inl (F 11))), (g0, oM b1 b2 (nI n) p0 q0 r0), (b1, .inl (dA, 400, .inl v)), (b2, .inl (dA, 4, .inl w))] H → va_D A [(h0, oF ad (g 0) (g 1) (g 2) (g 3) (g 4) (g 5) sb), (ad 0, .inl (dA, 4, .inl (F 0))), (ad 1, .inl (dA, 4, .inl (F 1))), (ad 2, .inl (dA, 4, .inl (F 2))), (ad 3, .inl (dA, 4, .inl (F 3))), (ad 4, .inl (dA, 4, .inl (F 4))), (ad 5, .inl (dA, 16, .inl (F 5))), (ad 6, .inl (dB, 4, .inl (F 6))), (ad 7, .inl (dB, 16, .inl (F 7))), (ad 8, .inl (dA, 16, .inl (F 8))), (ad 9, .inl (dA, 16, .inl (F 9))), (ad 10, .inl (dA, 16, .inl (F 10))), (ad 11, .inl (dA, 16, .inl (F 11))), (g0, oM b1 b2 (nI n) p0 q0 r0), (b1, .inl (dA, 400, .inl v)), (b2, .inl (dA, 4, .inl w))] → va_S A s.heap H locs → ∀ ls : Array Slot, lv_has ls 4 [(3, .int (nI i)), (1, .ref h0), (2, .ref g0), (0, .ref b)] → W p l e room_1 s m #[Value.ref b] below meth c H locs 16 549 (lw_Z below #[Value.ref b] s) (F0 m 18 ls []) := by
  obtain ⟨hx, hb, hr, hml, hown, -, hX, hbl, hlocks, -⟩ := C0
  have hA : ∀ q : Nat, s.heap.size ≤ q → A q := fun q h => by rw [hAe]; exact h
  have hbA : ¬ A b := by rw [hAe]; exact Nat.not_le.mpr hbl
  intro f
  induction f with
  | zero =>
    intro i n g sb F v w p0 q0 r0 h1 h2
    exact absurd h1 (by omega)
  | succ f ih =>
    intro i n g sb F v w p0 q0 r0 h1 h2 hFI H locs hP hD hS ls hl
    refine lv_iload_n hx hb dL_law_18 rfl (lv_at hl 0 rfl) ?_
    refine lv_aload_n hx hb dL_law_19 rfl (lv_at hl 3 rfl) ?_
    refine va_slen hx hb hX hbl hbA hS dL_law_20 ?_
    refine xw_i (y := nI L) rfl ?_
    refine lv_iconst (v := nI 5) hx hb dL_law_21 rfl ?_
    refine lv_isub hx hb dL_law_22 ?_
    refine lv_icmp_gt (tgt := 584) hx hb dL_law_23 (by decide) (fun c_23 => ?_) (fun c_23 => ?_)
    · refine lv_iconst (v := 1) hx hb dL_law_584 rfl ?_
      refine va_forget (fun q hq => by have h9 := hS.2.2 q hq; rw [hAe] at h9; exact h9) ?_
      refine W.widen (k := 600000) (n := 7290000) (Nat.le_of_ble_eq_true rfl) (Nat.le_of_ble_eq_true rfl) ?_
      exact lw_ret hx hb hr hlocks dL_law_585
    · have hi5 : i + 5 ≤ L := Nat.le_of_not_lt (fun h => c_23 ((law_cmp (by omega) hL).mpr h))
      have J578 : ∀ (n : Nat) (g : Nat → Int32) (sb : Int64) (F : Nat → Nat → Int32) (v w : Nat → Int32) (p0 q0 r0 : Int32), FI n v g sb F → ∀ (H : Heap) (locs : List Loc), va_P (dC, dI) vwCl [(h0, oF ad (g 0) (g 1) (g 2) (g 3) (g 4) (g 5) sb), (ad 0, .inl (dA, 4, .inl (F 0))), (ad 1, .inl (dA, 4, .inl (F 1))), (ad 2, .inl (dA, 4, .inl (F 2))), (ad 3, .inl (dA, 4, .inl (F 3))), (ad 4, .inl (dA, 4, .inl (F 4))), (ad 5, .inl (dA, 16, .inl (F 5))), (ad 6, .inl (dB, 4, .inl (F 6))), (ad 7, .inl (dB, 16, .inl (F 7))), (ad 8, .inl (dA, 16, .inl (F 8))), (ad 9, .inl (dA, 16, .inl (F 9))), (ad 10, .inl (dA, 16, .inl (F 10))), (ad 11, .inl (dA, 16, .inl (F 11))), (g0, oM b1 b2 (nI n) p0 q0 r0), (b1, .inl (dA, 400, .inl v)), (b2, .inl (dA, 4, .inl w))] H → va_D A [(h0, oF ad (g 0) (g 1) (g 2) (g 3) (g 4) (g 5) sb), (ad 0, .inl (dA, 4, .inl (F 0))), (ad 1, .inl (dA, 4, .inl (F 1))), (ad 2, .inl (dA, 4, .inl (F 2))), (ad 3, .inl (dA, 4, .inl (F 3))), (ad 4, .inl (dA, 4, .inl (F 4))), (ad 5, .inl (dA, 16, .inl (F 5))), (ad 6, .inl (dB, 4, .inl (F 6))), (ad 7, .inl (dB, 16, .inl (F 7))), (ad 8, .inl (dA, 16, .inl (F 8))), (ad 9, .inl (dA, 16, .inl (F 9))), (ad 10, .inl (dA, 16, .inl (F 10))), (ad 11, .inl (dA, 16, .inl (F 11))), (g0, oM b1 b2 (nI n) p0 q0 r0), (b1, .inl (dA, 400, .inl v)), (b2, .inl (dA, 4, .inl w))] → va_S A s.heap H locs → ∀ ls : Array Slot, lv_has ls 4 [(3, .int (nI i)), (1, .ref h0), (2, .ref g0), (0, .ref b)] → W p l e room_1 s m #[Value.ref b] below meth c H locs 16 549 (lw_Z below #[Value.ref b] s) (F0 m 578 ls []) := by
        intro n g sb F v w p0 q0 r0 hFI H locs hP hD hS ls hl
        refine lv_iinc (v := nI (i + 5)) (lv' := [(3, .int (nI (i + 5))), (1, .ref h0), (2, .ref g0), (0, .ref b)]) hx hb dL_law_578 hl (k := 0) rfl (nI_add _ 5) (by decide) rfl (fun ls hl => ?_)
        refine lv_goto (tgt := 18) hx hb dL_law_581 (by decide) ?_
        exact ih (i + 5) n g sb F v w p0 q0 r0 (by omega) (by omega) hFI H locs hP hD hS ls (lv_sub hl [0, 1, 2, 3] rfl)
      refine lv_aload_n hx hb dL_law_26 rfl (lv_at hl 3 rfl) ?_
      refine lv_iload_n hx hb dL_law_27 rfl (lv_at hl 0 rfl) ?_
      refine xa_sld hx hb hX hbl hbA hS (k := i) (by omega) (by omega) dL_law_28 ?_
      refine lv_bipush (v := nI 15) hx hb dL_law_29 rfl ?_
      refine lv_iand hx hb dL_law_31 ?_
      obtain ⟨sw, hsw, esw⟩ := pk_andE (xs i) (m := nI 15) 4 (by decide)
      refine xw_i (y := nI sw) esw ?_
      have hsw : sw < 16 := hsw
      rcases (show sw = 0 ∨ sw = 1 ∨ sw = 2 ∨ sw = 3 ∨ sw = 4 ∨ sw = 5 ∨ sw = 6 ∨ sw = 7 ∨ sw = 8 ∨ sw = 9 ∨ sw = 10 ∨ sw = 11 ∨ sw = 12 ∨ sw = 13 ∨ sw = 14 ∨ sw = 15 by omega) with rfl | rfl | rfl | rfl | rfl | rfl | rfl | rfl | rfl | rfl | rfl | rfl | rfl | rfl | rfl | rfl
      · refine lv_tableIn (off := 80) (tgt := 112) hx hb dL_law_32 (by decide) (by decide) rfl (by decide) ?_
        refine lv_aload_n hx hb dL_law_112 rfl (lv_at hl 1 rfl) ?_
        refine lv_aload_n hx hb dL_law_113 rfl (lv_at hl 3 rfl) ?_
        refine lv_iload_n hx hb dL_law_114 rfl (lv_at hl 0 rfl) ?_
        refine lv_iconst (v := nI 1) hx hb dL_law_115 rfl ?_
        refine xn_add hx hb dL_law_116 ?_
        refine xa_sld hx hb hX hbl hbA hS (k := i + 1) (by omega) (by omega) dL_law_117 ?_
        refine lv_aload_n hx hb dL_law_118 rfl (lv_at hl 3 rfl) ?_
        refine lv_iload_n hx hb dL_law_119 rfl (lv_at hl 0 rfl) ?_
        refine lv_iconst (v := nI 2) hx hb dL_law_120 rfl ?_
        refine xn_add hx hb dL_law_121 ?_
        refine xa_sld hx hb hX hbl hbA hS (k := i + 2) (by omega) (by omega) dL_law_122 ?_
        refine lv_aload_n hx hb dL_law_123 rfl (lv_at hl 3 rfl) ?_
        refine lv_iload_n hx hb dL_law_124 rfl (lv_at hl 0 rfl) ?_
        refine lv_iconst (v := nI 3) hx hb dL_law_125 rfl ?_
        refine xn_add hx hb dL_law_126 ?_
        refine xa_sld hx hb hX hbl hbA hS (k := i + 3) (by omega) (by omega) dL_law_127 ?_
        refine lv_aload_n hx hb dL_law_128 rfl (lv_at hl 3 rfl) ?_
        refine lv_iload_n hx hb dL_law_129 rfl (lv_at hl 0 rfl) ?_
        refine lv_iconst (v := nI 4) hx hb dL_law_130 rfl ?_
        refine xn_add hx hb dL_law_131 ?_
        refine xa_sld hx hb hX hbl hbA hS (k := i + 4) (by omega) (by omega) dL_law_132 ?_
        refine xc_Wi (ci := 0) (q0 := 0) (wc := [(h0, oF ad (g 0) (g 1) (g 2) (g 3) (g 4) (g 5) sb), (ad 0, .inl (dA, 4, .inl (F 0))), (ad 1, .inl (dA, 4, .inl (F 1))), (ad 2, .inl (dA, 4, .inl (F 2))), (ad 3, .inl (dA, 4, .inl (F 3))), (ad 4, .inl (dA, 4, .inl (F 4))), (ad 5, .inl (dA, 16, .inl (F 5))), (ad 6, .inl (dB, 4, .inl (F 6))), (ad 7, .inl (dB, 16, .inl (F 7))), (ad 8, .inl (dA, 16, .inl (F 8))), (ad 9, .inl (dA, 16, .inl (F 9))), (ad 10, .inl (dA, 16, .inl (F 10))), (ad 11, .inl (dA, 16, .inl (F 11)))]) (wr := [(g0, oM b1 b2 (nI n) p0 q0 r0), (b1, .inl (dA, 400, .inl v)), (b2, .inl (dA, 4, .inl w))]) [.int (xs (i + 1)), .int (xs (i + 2)), .int (xs (i + 3)), .int (xs (i + 4))] ⟨hx, hb, hml, hown, hts⟩ hK hP hD hS hA rfl rfl rfl [0, 1, 2, 3, 4, 5, 6, 7, 8, 9, 10, 11, 12] [13, 14, 15] [3, 4, 5, 6, 7, 8, 9, 10, 11, 12, 13, 14, 15, 0, 1, 2] rfl rfl rfl rfl rfl (by decide) (fun u : FSt => [(h0, oF ad (u.1 0) (u.1 1) (u.1 2) (u.1 3) (u.1 4) (u.1 5) u.2.1), (ad 0, .inl (dA, 4, .inl (u.2.2 0))), (ad 1, .inl (dA, 4, .inl (u.2.2 1))), (ad 2, .inl (dA, 4, .inl (u.2.2 2))), (ad 3, .inl (dA, 4, .inl (u.2.2 3))), (ad 4, .inl (dA, 4, .inl (u.2.2 4))), (ad 5, .inl (dA, 16, .inl (u.2.2 5))), (ad 6, .inl (dB, 4, .inl (u.2.2 6))), (ad 7, .inl (dB, 16, .inl (u.2.2 7))), (ad 8, .inl (dA, 16, .inl (u.2.2 8))), (ad 9, .inl (dA, 16, .inl (u.2.2 9))), (ad 10, .inl (dA, 16, .inl (u.2.2 10))), (ad 11, .inl (dA, 16, .inl (u.2.2 11))), (g0, oM b1 b2 (nI n) p0 q0 r0), (b1, .inl (dA, 400, .inl v)), (b2, .inl (dA, 4, .inl w))]) (fun _ => rfl) (fun _ => rfl) rfl (mX0_sample l dC dI dA dB H.size h0 ad g sb F n v (xs (i + 1)) (xs (i + 2)) (xs (i + 3)) (xs (i + 4)) hFI) (cwV 4 hts (lw_V q83 q84 q85 q13 q86) rfl rfl rfl (by decide +kernel) ⟨Nat.le_of_ble_eq_true rfl, Nat.le_of_ble_eq_true rfl⟩) rfl hl.1 rfl (Nat.le_of_ble_eq_true rfl) dL_law_133 ⟨Nat.le_of_ble_eq_true rfl, Nat.le_of_ble_eq_true rfl⟩ (fun r_133 u_133 H locs h_133 hP hD hS => ?_)
        refine lv_aload_n hx hb dL_law_136 rfl (lv_at hl 2 rfl) ?_
        refine lv_aload_n hx hb dL_law_137 rfl (lv_at hl 3 rfl) ?_
        refine lv_iload_n hx hb dL_law_138 rfl (lv_at hl 0 rfl) ?_
        refine lv_iconst (v := nI 1) hx hb dL_law_139 rfl ?_
        refine xn_add hx hb dL_law_140 ?_
        refine xa_sld hx hb hX hbl hbA hS (k := i + 1) (by omega) (by omega) dL_law_141 ?_
        refine lv_aload_n hx hb dL_law_142 rfl (lv_at hl 3 rfl) ?_
        refine lv_iload_n hx hb dL_law_143 rfl (lv_at hl 0 rfl) ?_
        refine lv_iconst (v := nI 2) hx hb dL_law_144 rfl ?_
        refine xn_add hx hb dL_law_145 ?_
        refine xa_sld hx hb hX hbl hbA hS (k := i + 2) (by omega) (by omega) dL_law_146 ?_
        refine lv_aload_n hx hb dL_law_147 rfl (lv_at hl 3 rfl) ?_
        refine lv_iload_n hx hb dL_law_148 rfl (lv_at hl 0 rfl) ?_
        refine lv_iconst (v := nI 3) hx hb dL_law_149 rfl ?_
        refine xn_add hx hb dL_law_150 ?_
        refine xa_sld hx hb hX hbl hbA hS (k := i + 3) (by omega) (by omega) dL_law_151 ?_
        refine lv_aload_n hx hb dL_law_152 rfl (lv_at hl 3 rfl) ?_
        refine lv_iload_n hx hb dL_law_153 rfl (lv_at hl 0 rfl) ?_
        refine lv_iconst (v := nI 4) hx hb dL_law_154 rfl ?_
        refine xn_add hx hb dL_law_155 ?_
        refine xa_sld hx hb hX hbl hbA hS (k := i + 4) (by omega) (by omega) dL_law_156 ?_
        refine xc_Wi (ci := 1) (q0 := 13) (wc := [(g0, oM b1 b2 (nI n) p0 q0 r0), (b1, .inl (dA, 400, .inl v))]) (wr := [(h0, oF ad (u_133.1 0) (u_133.1 1) (u_133.1 2) (u_133.1 3) (u_133.1 4) (u_133.1 5) u_133.2.1), (ad 0, .inl (dA, 4, .inl (u_133.2.2 0))), (ad 1, .inl (dA, 4, .inl (u_133.2.2 1))), (ad 2, .inl (dA, 4, .inl (u_133.2.2 2))), (ad 3, .inl (dA, 4, .inl (u_133.2.2 3))), (ad 4, .inl (dA, 4, .inl (u_133.2.2 4))), (ad 5, .inl (dA, 16, .inl (u_133.2.2 5))), (ad 6, .inl (dB, 4, .inl (u_133.2.2 6))), (ad 7, .inl (dB, 16, .inl (u_133.2.2 7))), (ad 8, .inl (dA, 16, .inl (u_133.2.2 8))), (ad 9, .inl (dA, 16, .inl (u_133.2.2 9))), (ad 10, .inl (dA, 16, .inl (u_133.2.2 10))), (ad 11, .inl (dA, 16, .inl (u_133.2.2 11))), (b2, .inl (dA, 4, .inl w))]) [.int (xs (i + 1)), .int (xs (i + 2)), .int (xs (i + 3)), .int (xs (i + 4))] ⟨hx, hb, hml, hown, hts⟩ hK hP hD hS hA rfl rfl rfl [13, 14] [0, 1, 2, 3, 4, 5, 6, 7, 8, 9, 10, 11, 12, 15] [0, 1, 2, 3, 4, 5, 6, 7, 8, 9, 10, 11, 12, 14, 15, 13] rfl rfl rfl rfl rfl (by decide) (fun u : Int32 × (Nat → Int32) => [(h0, oF ad (u_133.1 0) (u_133.1 1) (u_133.1 2) (u_133.1 3) (u_133.1 4) (u_133.1 5) u_133.2.1), (ad 0, .inl (dA, 4, .inl (u_133.2.2 0))), (ad 1, .inl (dA, 4, .inl (u_133.2.2 1))), (ad 2, .inl (dA, 4, .inl (u_133.2.2 2))), (ad 3, .inl (dA, 4, .inl (u_133.2.2 3))), (ad 4, .inl (dA, 4, .inl (u_133.2.2 4))), (ad 5, .inl (dA, 16, .inl (u_133.2.2 5))), (ad 6, .inl (dB, 4, .inl (u_133.2.2 6))), (ad 7, .inl (dB, 16, .inl (u_133.2.2 7))), (ad 8, .inl (dA, 16, .inl (u_133.2.2 8))), (ad 9, .inl (dA, 16, .inl (u_133.2.2 9))), (ad 10, .inl (dA, 16, .inl (u_133.2.2 10))), (ad 11, .inl (dA, 16, .inl (u_133.2.2 11))), (g0, oM b1 b2 u.1 p0 q0 r0), (b1, .inl (dA, 400, .inl u.2)), (b2, .inl (dA, 4, .inl w))]) (fun _ => rfl) (fun _ => rfl) rfl (mX1_sample l dC dI dA dB H.size g0 b1 b2 p0 q0 r0 n v (xs (i + 1)) (xs (i + 2)) (xs (i + 3)) (xs (i + 4)) hFI.2.1) (cwV 4 hts (lw_V q213 q214 q215 q14 q216) rfl rfl rfl (by decide +kernel) ⟨Nat.le_of_ble_eq_true rfl, Nat.le_of_ble_eq_true rfl⟩) rfl hl.1 rfl (Nat.le_of_ble_eq_true rfl) dL_law_157 ⟨Nat.le_of_ble_eq_true rfl, Nat.le_of_ble_eq_true rfl⟩ (fun r_157 u_157 H locs h_157 hP hD hS => ?_)
        rcases smp_two h_133 h_157 with ⟨hreq, hFI, rfl⟩ | ⟨hreq, hFI, rfl⟩
        · have hP : va_P (dC, dI) vwCl [(h0, oF ad (u_133.1 0) (u_133.1 1) (u_133.1 2) (u_133.1 3) (u_133.1 4) (u_133.1 5) u_133.2.1), (ad 0, .inl (dA, 4, .inl (u_133.2.2 0))), (ad 1, .inl (dA, 4, .inl (u_133.2.2 1))), (ad 2, .inl (dA, 4, .inl (u_133.2.2 2))), (ad 3, .inl (dA, 4, .inl (u_133.2.2 3))), (ad 4, .inl (dA, 4, .inl (u_133.2.2 4))), (ad 5, .inl (dA, 16, .inl (u_133.2.2 5))), (ad 6, .inl (dB, 4, .inl (u_133.2.2 6))), (ad 7, .inl (dB, 16, .inl (u_133.2.2 7))), (ad 8, .inl (dA, 16, .inl (u_133.2.2 8))), (ad 9, .inl (dA, 16, .inl (u_133.2.2 9))), (ad 10, .inl (dA, 16, .inl (u_133.2.2 10))), (ad 11, .inl (dA, 16, .inl (u_133.2.2 11))), (g0, oM b1 b2 (nI (n + 1)) p0 q0 r0), (b1, .inl (dA, 400, .inl (put4 v n (xs (i + 1)) (xs (i + 2)) (xs (i + 3)) (xs (i + 4))))), (b2, .inl (dA, 4, .inl w))] H := hP
          have hD : va_D A [(h0, oF ad (u_133.1 0) (u_133.1 1) (u_133.1 2) (u_133.1 3) (u_133.1 4) (u_133.1 5) u_133.2.1), (ad 0, .inl (dA, 4, .inl (u_133.2.2 0))), (ad 1, .inl (dA, 4, .inl (u_133.2.2 1))), (ad 2, .inl (dA, 4, .inl (u_133.2.2 2))), (ad 3, .inl (dA, 4, .inl (u_133.2.2 3))), (ad 4, .inl (dA, 4, .inl (u_133.2.2 4))), (ad 5, .inl (dA, 16, .inl (u_133.2.2 5))), (ad 6, .inl (dB, 4, .inl (u_133.2.2 6))), (ad 7, .inl (dB, 16, .inl (u_133.2.2 7))), (ad 8, .inl (dA, 16, .inl (u_133.2.2 8))), (ad 9, .inl (dA, 16, .inl (u_133.2.2 9))), (ad 10, .inl (dA, 16, .inl (u_133.2.2 10))), (ad 11, .inl (dA, 16, .inl (u_133.2.2 11))), (g0, oM b1 b2 (nI (n + 1)) p0 q0 r0), (b1, .inl (dA, 400, .inl (put4 v n (xs (i + 1)) (xs (i + 2)) (xs (i + 3)) (xs (i + 4))))), (b2, .inl (dA, 4, .inl w))] := hD
          refine lv_icmp_eq (tgt := 578) hx hb dL_law_160 (by decide) (fun c_160 => ?_) (fun c_160 => absurd hreq c_160)
          exact J578 (n + 1) u_133.1 u_133.2.1 u_133.2.2 (put4 v n (xs (i + 1)) (xs (i + 2)) (xs (i + 3)) (xs (i + 4))) w p0 q0 r0 hFI H locs hP hD hS ls (lv_sub hl [0, 1, 2, 3] rfl)
        · have hP : va_P (dC, dI) vwCl [(h0, oF ad (u_133.1 0) (u_133.1 1) (u_133.1 2) (u_133.1 3) (u_133.1 4) (u_133.1 5) u_133.2.1), (ad 0, .inl (dA, 4, .inl (u_133.2.2 0))), (ad 1, .inl (dA, 4, .inl (u_133.2.2 1))), (ad 2, .inl (dA, 4, .inl (u_133.2.2 2))), (ad 3, .inl (dA, 4, .inl (u_133.2.2 3))), (ad 4, .inl (dA, 4, .inl (u_133.2.2 4))), (ad 5, .inl (dA, 16, .inl (u_133.2.2 5))), (ad 6, .inl (dB, 4, .inl (u_133.2.2 6))), (ad 7, .inl (dB, 16, .inl (u_133.2.2 7))), (ad 8, .inl (dA, 16, .inl (u_133.2.2 8))), (ad 9, .inl (dA, 16, .inl (u_133.2.2 9))), (ad 10, .inl (dA, 16, .inl (u_133.2.2 10))), (ad 11, .inl (dA, 16, .inl (u_133.2.2 11))), (g0, oM b1 b2 (nI n) p0 q0 r0), (b1, .inl (dA, 400, .inl v)), (b2, .inl (dA, 4, .inl w))] H := hP
          have hD : va_D A [(h0, oF ad (u_133.1 0) (u_133.1 1) (u_133.1 2) (u_133.1 3) (u_133.1 4) (u_133.1 5) u_133.2.1), (ad 0, .inl (dA, 4, .inl (u_133.2.2 0))), (ad 1, .inl (dA, 4, .inl (u_133.2.2 1))), (ad 2, .inl (dA, 4, .inl (u_133.2.2 2))), (ad 3, .inl (dA, 4, .inl (u_133.2.2 3))), (ad 4, .inl (dA, 4, .inl (u_133.2.2 4))), (ad 5, .inl (dA, 16, .inl (u_133.2.2 5))), (ad 6, .inl (dB, 4, .inl (u_133.2.2 6))), (ad 7, .inl (dB, 16, .inl (u_133.2.2 7))), (ad 8, .inl (dA, 16, .inl (u_133.2.2 8))), (ad 9, .inl (dA, 16, .inl (u_133.2.2 9))), (ad 10, .inl (dA, 16, .inl (u_133.2.2 10))), (ad 11, .inl (dA, 16, .inl (u_133.2.2 11))), (g0, oM b1 b2 (nI n) p0 q0 r0), (b1, .inl (dA, 400, .inl v)), (b2, .inl (dA, 4, .inl w))] := hD
          refine lv_icmp_eq (tgt := 578) hx hb dL_law_160 (by decide) (fun c_160 => ?_) (fun c_160 => absurd hreq c_160)
          exact J578 n u_133.1 u_133.2.1 u_133.2.2 v w p0 q0 r0 hFI H locs hP hD hS ls (lv_sub hl [0, 1, 2, 3] rfl)
      · refine lv_tableIn (off := 133) (tgt := 165) hx hb dL_law_32 (by decide) (by decide) rfl (by decide) ?_
        refine lv_aload_n hx hb dL_law_165 rfl (lv_at hl 1 rfl) ?_
        refine xc_W (ci := 0) (q0 := 0) (wc := [(h0, oF ad (g 0) (g 1) (g 2) (g 3) (g 4) (g 5) sb), (ad 6, .inl (dB, 4, .inl (F 6))), (ad 7, .inl (dB, 16, .inl (F 7)))]) (wr := [(ad 0, .inl (dA, 4, .inl (F 0))), (ad 1, .inl (dA, 4, .inl (F 1))), (ad 2, .inl (dA, 4, .inl (F 2))), (ad 3, .inl (dA, 4, .inl (F 3))), (ad 4, .inl (dA, 4, .inl (F 4))), (ad 5, .inl (dA, 16, .inl (F 5))), (ad 8, .inl (dA, 16, .inl (F 8))), (ad 9, .inl (dA, 16, .inl (F 9))), (ad 10, .inl (dA, 16, .inl (F 10))), (ad 11, .inl (dA, 16, .inl (F 11))), (g0, oM b1 b2 (nI n) p0 q0 r0), (b1, .inl (dA, 400, .inl v)), (b2, .inl (dA, 4, .inl w))]) [] ⟨hx, hb, hml, hown, hts⟩ hK hP hD hS hA rfl rfl rfl [0, 7, 8] [1, 2, 3, 4, 5, 6, 9, 10, 11, 12, 13, 14, 15] [13, 0, 1, 2, 3, 4, 5, 14, 15, 6, 7, 8, 9, 10, 11, 12] rfl rfl rfl rfl rfl (by decide) (fun u : (Nat → Int32) × (Nat → Int32) => [(h0, oF ad (nI 0) (nI 0) (nI 0) (nI 0) (nI 0) (nI 0) 0), (ad 0, .inl (dA, 4, .inl (F 0))), (ad 1, .inl (dA, 4, .inl (F 1))), (ad 2, .inl (dA, 4, .inl (F 2))), (ad 3, .inl (dA, 4, .inl (F 3))), (ad 4, .inl (dA, 4, .inl (F 4))), (ad 5, .inl (dA, 16, .inl (F 5))), (ad 6, .inl (dB, 4, .inl u.1)), (ad 7, .inl (dB, 16, .inl u.2)), (ad 8, .inl (dA, 16, .inl (F 8))), (ad 9, .inl (dA, 16, .inl (F 9))), (ad 10, .inl (dA, 16, .inl (F 10))), (ad 11, .inl (dA, 16, .inl (F 11))), (g0, oM b1 b2 (nI n) p0 q0 r0), (b1, .inl (dA, 400, .inl v)), (b2, .inl (dA, 4, .inl w))]) (fun _ => rfl) (fun _ => rfl) rfl (mX0_clear l dC dI dA dB H.size h0 ad (g 1) (g 2) (g 3) (g 4) (g 5) sb (g 0) (F 6) (F 7)) (cwV 0 hts (lw_V q117 q118 q119 q13 q120) rfl rfl rfl (by decide +kernel) ⟨Nat.le_of_ble_eq_true rfl, Nat.le_of_ble_eq_true rfl⟩) rfl hl.1 rfl (Nat.le_of_ble_eq_true rfl) dL_law_166 ⟨Nat.le_of_ble_eq_true rfl, Nat.le_of_ble_eq_true rfl⟩ (fun u_166 H locs h_166 hP hD hS => ?_)
        refine lv_aload_n hx hb dL_law_169 rfl (lv_at hl 2 rfl) ?_
        refine xc_W (ci := 1) (q0 := 13) (wc := [(g0, oM b1 b2 (nI n) p0 q0 r0)]) (wr := [(h0, oF ad (nI 0) (nI 0) (nI 0) (nI 0) (nI 0) (nI 0) 0), (ad 0, .inl (dA, 4, .inl (F 0))), (ad 1, .inl (dA, 4, .inl (F 1))), (ad 2, .inl (dA, 4, .inl (F 2))), (ad 3, .inl (dA, 4, .inl (F 3))), (ad 4, .inl (dA, 4, .inl (F 4))), (ad 5, .inl (dA, 16, .inl (F 5))), (ad 6, .inl (dB, 4, .inl u_166.1)), (ad 7, .inl (dB, 16, .inl u_166.2)), (ad 8, .inl (dA, 16, .inl (F 8))), (ad 9, .inl (dA, 16, .inl (F 9))), (ad 10, .inl (dA, 16, .inl (F 10))), (ad 11, .inl (dA, 16, .inl (F 11))), (b1, .inl (dA, 400, .inl v)), (b2, .inl (dA, 4, .inl w))]) [] ⟨hx, hb, hml, hown, hts⟩ hK hP hD hS hA rfl rfl rfl [13] [0, 1, 2, 3, 4, 5, 6, 7, 8, 9, 10, 11, 12, 14, 15] [0, 1, 2, 3, 4, 5, 6, 7, 8, 9, 10, 11, 12, 15, 13, 14] rfl rfl rfl rfl rfl (by decide) (fun u : Unit => [(h0, oF ad (nI 0) (nI 0) (nI 0) (nI 0) (nI 0) (nI 0) 0), (ad 0, .inl (dA, 4, .inl (F 0))), (ad 1, .inl (dA, 4, .inl (F 1))), (ad 2, .inl (dA, 4, .inl (F 2))), (ad 3, .inl (dA, 4, .inl (F 3))), (ad 4, .inl (dA, 4, .inl (F 4))), (ad 5, .inl (dA, 16, .inl (F 5))), (ad 6, .inl (dB, 4, .inl u_166.1)), (ad 7, .inl (dB, 16, .inl u_166.2)), (ad 8, .inl (dA, 16, .inl (F 8))), (ad 9, .inl (dA, 16, .inl (F 9))), (ad 10, .inl (dA, 16, .inl (F 10))), (ad 11, .inl (dA, 16, .inl (F 11))), (g0, oM b1 b2 (nI 0) p0 q0 r0), (b1, .inl (dA, 400, .inl v)), (b2, .inl (dA, 4, .inl w))]) (fun _ => rfl) (fun _ => rfl) rfl (mX1_clear l dC dI dA dB H.size g0 b1 b2 p0 q0 r0 (nI n)) (cwV 0 hts (lw_V q221 q222 q223 q14 q224) rfl rfl rfl (by decide +kernel) ⟨Nat.le_of_ble_eq_true rfl, Nat.le_of_ble_eq_true rfl⟩) rfl hl.1 rfl (Nat.le_of_ble_eq_true rfl) dL_law_170 ⟨Nat.le_of_ble_eq_true rfl, Nat.le_of_ble_eq_true rfl⟩ (fun _ H locs _ hP hD hS => ?_)
        refine lv_goto (tgt := 578) hx hb dL_law_173 (by decide) ?_
        exact J578 0 (fun _ => nI 0) 0 (mkA (F 0) (F 1) (F 2) (F 3) (F 4) (F 5) u_166.1 u_166.2 (F 8) (F 9) (F 10) (F 11)) v w p0 q0 r0 (FI.zero rfl (fun _ _ => rfl) h_166.1 h_166.2) H locs hP hD hS ls (lv_sub hl [0, 1, 2, 3] rfl)
      · refine lv_tableIn (off := 144) (tgt := 176) hx hb dL_law_32 (by decide) (by decide) rfl (by decide) ?_
        refine lv_aload_n hx hb dL_law_176 rfl (lv_at hl 1 rfl) ?_
        refine xc_V (ci := 0) (q0 := 0) [] ⟨hx, hb, hml, hown, hts⟩ hK hP rfl rfl rfl [0] rfl (mX0_samples l dC dI dA dB h0 ad (g 1) (g 2) (g 3) (g 4) (g 5) sb (g 0)) (cwV 0 hts (lw_V q121 q122 q123 q13 q124) rfl rfl rfl (by decide +kernel) ⟨Nat.le_of_ble_eq_true rfl, Nat.le_of_ble_eq_true rfl⟩) rfl hl.1 rfl (Nat.le_of_ble_eq_true rfl) dL_law_177 ⟨Nat.le_of_ble_eq_true rfl, Nat.le_of_ble_eq_true rfl⟩ (fun r_177 h_177 => ?_)
        refine lv_aload_n hx hb dL_law_180 rfl (lv_at hl 2 rfl) ?_
        refine xc_V (ci := 1) (q0 := 13) [] ⟨hx, hb, hml, hown, hts⟩ hK hP rfl rfl rfl [13] rfl (mX1_samples l dC dI dA dB g0 b1 b2 p0 q0 r0 n) (cwV 0 hts (lw_V q225 q226 q227 q14 q228) rfl rfl rfl (by decide +kernel) ⟨Nat.le_of_ble_eq_true rfl, Nat.le_of_ble_eq_true rfl⟩) rfl hl.1 rfl (Nat.le_of_ble_eq_true rfl) dL_law_181 ⟨Nat.le_of_ble_eq_true rfl, Nat.le_of_ble_eq_true rfl⟩ (fun r_181 h_181 => ?_)
        have hreq : r_177 = r_181 := (h_177.trans (hFI.1.trans h_181.symm))
        refine lv_icmp_eq (tgt := 578) hx hb dL_law_184 (by decide) (fun c_184 => ?_) (fun c_184 => absurd hreq c_184)
        exact J578 n g sb F v w p0 q0 r0 hFI H locs hP hD hS ls (lv_sub hl [0, 1, 2, 3] rfl)
      · refine lv_tableIn (off := 157) (tgt := 189) hx hb dL_law_32 (by decide) (by decide) rfl (by decide) ?_
        refine lv_aload_n hx hb dL_law_189 rfl (lv_at hl 1 rfl) ?_
        refine lv_aload_n hx hb dL_law_190 rfl (lv_at hl 3 rfl) ?_
        refine lv_iload_n hx hb dL_law_191 rfl (lv_at hl 0 rfl) ?_
        refine lv_iconst (v := nI 1) hx hb dL_law_192 rfl ?_
        refine xn_add hx hb dL_law_193 ?_
        refine xa_sld hx hb hX hbl hbA hS (k := i + 1) (by omega) (by omega) dL_law_194 ?_
        refine xc_V (ci := 0) (q0 := 0) [.int (xs (i + 1))] ⟨hx, hb, hml, hown, hts⟩ hK hP rfl rfl rfl [0, 3, 4] rfl (mX0_constant l dC dI dA dB h0 ad (g 1) (g 2) (g 3) (g 4) (g 5) sb (g 0) (F 2) (F 3) (xs (i + 1))) (cwV 1 hts (lw_V q125 q126 q127 q13 q128) rfl rfl rfl (by decide +kernel) ⟨Nat.le_of_ble_eq_true rfl, Nat.le_of_ble_eq_true rfl⟩) rfl hl.1 rfl (Nat.le_of_ble_eq_true rfl) dL_law_195 ⟨Nat.le_of_ble_eq_true rfl, Nat.le_of_ble_eq_true rfl⟩ (fun r_195 h_195 => ?_)
        refine lv_aload_n hx hb dL_law_198 rfl (lv_at hl 2 rfl) ?_
        refine lv_aload_n hx hb dL_law_199 rfl (lv_at hl 3 rfl) ?_
        refine lv_iload_n hx hb dL_law_200 rfl (lv_at hl 0 rfl) ?_
        refine lv_iconst (v := nI 1) hx hb dL_law_201 rfl ?_
        refine xn_add hx hb dL_law_202 ?_
        refine xa_sld hx hb hX hbl hbA hS (k := i + 1) (by omega) (by omega) dL_law_203 ?_
        refine xc_Wi (ci := 1) (q0 := 13) (wc := [(g0, oM b1 b2 (nI n) p0 q0 r0), (b1, .inl (dA, 400, .inl v)), (b2, .inl (dA, 4, .inl w))]) (wr := [(h0, oF ad (g 0) (g 1) (g 2) (g 3) (g 4) (g 5) sb), (ad 0, .inl (dA, 4, .inl (F 0))), (ad 1, .inl (dA, 4, .inl (F 1))), (ad 2, .inl (dA, 4, .inl (F 2))), (ad 3, .inl (dA, 4, .inl (F 3))), (ad 4, .inl (dA, 4, .inl (F 4))), (ad 5, .inl (dA, 16, .inl (F 5))), (ad 6, .inl (dB, 4, .inl (F 6))), (ad 7, .inl (dB, 16, .inl (F 7))), (ad 8, .inl (dA, 16, .inl (F 8))), (ad 9, .inl (dA, 16, .inl (F 9))), (ad 10, .inl (dA, 16, .inl (F 10))), (ad 11, .inl (dA, 16, .inl (F 11)))]) [.int (xs (i + 1))] ⟨hx, hb, hml, hown, hts⟩ hK hP hD hS hA rfl rfl rfl [13, 14, 15] [0, 1, 2, 3, 4, 5, 6, 7, 8, 9, 10, 11, 12] [0, 1, 2, 3, 4, 5, 6, 7, 8, 9, 10, 11, 12, 13, 14, 15] rfl rfl rfl rfl rfl (by decide) (fun u : Nat → Int32 => [(h0, oF ad (g 0) (g 1) (g 2) (g 3) (g 4) (g 5) sb), (ad 0, .inl (dA, 4, .inl (F 0))), (ad 1, .inl (dA, 4, .inl (F 1))), (ad 2, .inl (dA, 4, .inl (F 2))), (ad 3, .inl (dA, 4, .inl (F 3))), (ad 4, .inl (dA, 4, .inl (F 4))), (ad 5, .inl (dA, 16, .inl (F 5))), (ad 6, .inl (dB, 4, .inl (F 6))), (ad 7, .inl (dB, 16, .inl (F 7))), (ad 8, .inl (dA, 16, .inl (F 8))), (ad 9, .inl (dA, 16, .inl (F 9))), (ad 10, .inl (dA, 16, .inl (F 10))), (ad 11, .inl (dA, 16, .inl (F 11))), (g0, oM b1 b2 (nI n) p0 q0 r0), (b1, .inl (dA, 400, .inl v)), (b2, .inl (dA, 4, .inl u))]) (fun _ => rfl) (fun _ => rfl) rfl (mX1_constant l dC dI dA dB H.size g0 b1 b2 p0 q0 r0 n v w (xs (i + 1)) hFI.2.1) (cwV 1 hts (lw_V q229 q230 q231 q14 q232) rfl rfl rfl (by decide +kernel) ⟨Nat.le_of_ble_eq_true rfl, Nat.le_of_ble_eq_true rfl⟩) rfl hl.1 rfl (Nat.le_of_ble_eq_true rfl) dL_law_204 ⟨Nat.le_of_ble_eq_true rfl, Nat.le_of_ble_eq_true rfl⟩ (fun r_204 u_204 H locs h_204 hP hD hS => ?_)
        have hreq : r_195 = r_204 := (eq_constant hFI h_195 h_204)
        refine lv_icmp_eq (tgt := 578) hx hb dL_law_207 (by decide) (fun c_207 => ?_) (fun c_207 => absurd hreq c_207)
        exact J578 n g sb F v u_204 p0 q0 r0 hFI H locs hP hD hS ls (lv_sub hl [0, 1, 2, 3] rfl)
      · refine lv_tableIn (off := 180) (tgt := 212) hx hb dL_law_32 (by decide) (by decide) rfl (by decide) ?_
        refine lv_aload_n hx hb dL_law_212 rfl (lv_at hl 1 rfl) ?_
        refine lv_aload_n hx hb dL_law_213 rfl (lv_at hl 3 rfl) ?_
        refine lv_iload_n hx hb dL_law_214 rfl (lv_at hl 0 rfl) ?_
        refine lv_iconst (v := nI 1) hx hb dL_law_215 rfl ?_
        refine xn_add hx hb dL_law_216 ?_
        refine xa_sld hx hb hX hbl hbA hS (k := i + 1) (by omega) (by omega) dL_law_217 ?_
        refine lv_aload_n hx hb dL_law_218 rfl (lv_at hl 3 rfl) ?_
        refine lv_iload_n hx hb dL_law_219 rfl (lv_at hl 0 rfl) ?_
        refine lv_iconst (v := nI 2) hx hb dL_law_220 rfl ?_
        refine xn_add hx hb dL_law_221 ?_
        refine xa_sld hx hb hX hbl hbA hS (k := i + 2) (by omega) (by omega) dL_law_222 ?_
        refine xc_V (ci := 0) (q0 := 0) [.int (xs (i + 1)), .int (xs (i + 2))] ⟨hx, hb, hml, hown, hts⟩ hK hP rfl rfl rfl [0, 3, 4] rfl (mX0_bound l dC dI dA dB h0 ad (g 1) (g 2) (g 3) (g 4) (g 5) sb (g 0) (F 2) (F 3) (xs (i + 1)) (xs (i + 2))) (cwV 2 hts (lw_V q132 q133 q134 q13 q135) rfl rfl rfl (by decide +kernel) ⟨Nat.le_of_ble_eq_true rfl, Nat.le_of_ble_eq_true rfl⟩) rfl hl.1 rfl (Nat.le_of_ble_eq_true rfl) dL_law_223 ⟨Nat.le_of_ble_eq_true rfl, Nat.le_of_ble_eq_true rfl⟩ (fun r_223 h_223 => ?_)
        refine lv_aload_n hx hb dL_law_226 rfl (lv_at hl 2 rfl) ?_
        refine lv_aload_n hx hb dL_law_227 rfl (lv_at hl 3 rfl) ?_
        refine lv_iload_n hx hb dL_law_228 rfl (lv_at hl 0 rfl) ?_
        refine lv_iconst (v := nI 1) hx hb dL_law_229 rfl ?_
        refine xn_add hx hb dL_law_230 ?_
        refine xa_sld hx hb hX hbl hbA hS (k := i + 1) (by omega) (by omega) dL_law_231 ?_
        refine lv_aload_n hx hb dL_law_232 rfl (lv_at hl 3 rfl) ?_
        refine lv_iload_n hx hb dL_law_233 rfl (lv_at hl 0 rfl) ?_
        refine lv_iconst (v := nI 2) hx hb dL_law_234 rfl ?_
        refine xn_add hx hb dL_law_235 ?_
        refine xa_sld hx hb hX hbl hbA hS (k := i + 2) (by omega) (by omega) dL_law_236 ?_
        refine xc_V (ci := 1) (q0 := 13) [.int (xs (i + 1)), .int (xs (i + 2))] ⟨hx, hb, hml, hown, hts⟩ hK hP rfl rfl rfl [13, 14] rfl (mX1_bound l dC dI dA dB g0 b1 b2 p0 q0 r0 n v (xs (i + 1)) (xs (i + 2)) hFI.2.1) (cwV 2 hts (lw_V q241 q242 q243 q14 q244) rfl rfl rfl (by decide +kernel) ⟨Nat.le_of_ble_eq_true rfl, Nat.le_of_ble_eq_true rfl⟩) rfl hl.1 rfl (Nat.le_of_ble_eq_true rfl) dL_law_237 ⟨Nat.le_of_ble_eq_true rfl, Nat.le_of_ble_eq_true rfl⟩ (fun r_237 h_237 => ?_)
        have hreq : r_223 = r_237 := (eq_bound hFI h_223 h_237)
        refine lv_icmp_eq (tgt := 578) hx hb dL_law_240 (by decide) (fun c_240 => ?_) (fun c_240 => absurd hreq c_240)
        exact J578 n g sb F v w p0 q0 r0 hFI H locs hP hD hS ls (lv_sub hl [0, 1, 2, 3] rfl)
      · refine lv_tableIn (off := 213) (tgt := 245) hx hb dL_law_32 (by decide) (by decide) rfl (by decide) ?_
        refine lv_aload_n hx hb dL_law_245 rfl (lv_at hl 1 rfl) ?_
        refine lv_aload_n hx hb dL_law_246 rfl (lv_at hl 3 rfl) ?_
        refine lv_iload_n hx hb dL_law_247 rfl (lv_at hl 0 rfl) ?_
        refine lv_iconst (v := nI 1) hx hb dL_law_248 rfl ?_
        refine xn_add hx hb dL_law_249 ?_
        refine xa_sld hx hb hX hbl hbA hS (k := i + 1) (by omega) (by omega) dL_law_250 ?_
        refine xc_V (ci := 0) (q0 := 0) [.int (xs (i + 1))] ⟨hx, hb, hml, hown, hts⟩ hK hP rfl rfl rfl [0, 7] rfl (mX0_different l dC dI dA dB h0 ad (g 1) (g 2) (g 3) (g 4) (g 5) sb (g 0) (F 6) (xs (i + 1))) (cwV 1 hts (lw_V q136 q137 q138 q13 q139) rfl rfl rfl (by decide +kernel) ⟨Nat.le_of_ble_eq_true rfl, Nat.le_of_ble_eq_true rfl⟩) rfl hl.1 rfl (Nat.le_of_ble_eq_true rfl) dL_law_251 ⟨Nat.le_of_ble_eq_true rfl, Nat.le_of_ble_eq_true rfl⟩ (fun r_251 h_251 => ?_)
        refine lv_aload_n hx hb dL_law_254 rfl (lv_at hl 2 rfl) ?_
        refine lv_aload_n hx hb dL_law_255 rfl (lv_at hl 3 rfl) ?_
        refine lv_iload_n hx hb dL_law_256 rfl (lv_at hl 0 rfl) ?_
        refine lv_iconst (v := nI 1) hx hb dL_law_257 rfl ?_
        refine xn_add hx hb dL_law_258 ?_
        refine xa_sld hx hb hX hbl hbA hS (k := i + 1) (by omega) (by omega) dL_law_259 ?_
        refine xc_Wi (ci := 1) (q0 := 13) (wc := [(g0, oM b1 b2 (nI n) p0 q0 r0), (b1, .inl (dA, 400, .inl v)), (b2, .inl (dA, 4, .inl w))]) (wr := [(h0, oF ad (g 0) (g 1) (g 2) (g 3) (g 4) (g 5) sb), (ad 0, .inl (dA, 4, .inl (F 0))), (ad 1, .inl (dA, 4, .inl (F 1))), (ad 2, .inl (dA, 4, .inl (F 2))), (ad 3, .inl (dA, 4, .inl (F 3))), (ad 4, .inl (dA, 4, .inl (F 4))), (ad 5, .inl (dA, 16, .inl (F 5))), (ad 6, .inl (dB, 4, .inl (F 6))), (ad 7, .inl (dB, 16, .inl (F 7))), (ad 8, .inl (dA, 16, .inl (F 8))), (ad 9, .inl (dA, 16, .inl (F 9))), (ad 10, .inl (dA, 16, .inl (F 10))), (ad 11, .inl (dA, 16, .inl (F 11)))]) [.int (xs (i + 1))] ⟨hx, hb, hml, hown, hts⟩ hK hP hD hS hA rfl rfl rfl [13, 14, 15] [0, 1, 2, 3, 4, 5, 6, 7, 8, 9, 10, 11, 12] [0, 1, 2, 3, 4, 5, 6, 7, 8, 9, 10, 11, 12, 13, 14, 15] rfl rfl rfl rfl rfl (by decide) (fun u : Nat → Int32 => [(h0, oF ad (g 0) (g 1) (g 2) (g 3) (g 4) (g 5) sb), (ad 0, .inl (dA, 4, .inl (F 0))), (ad 1, .inl (dA, 4, .inl (F 1))), (ad 2, .inl (dA, 4, .inl (F 2))), (ad 3, .inl (dA, 4, .inl (F 3))), (ad 4, .inl (dA, 4, .inl (F 4))), (ad 5, .inl (dA, 16, .inl (F 5))), (ad 6, .inl (dB, 4, .inl (F 6))), (ad 7, .inl (dB, 16, .inl (F 7))), (ad 8, .inl (dA, 16, .inl (F 8))), (ad 9, .inl (dA, 16, .inl (F 9))), (ad 10, .inl (dA, 16, .inl (F 10))), (ad 11, .inl (dA, 16, .inl (F 11))), (g0, oM b1 b2 (nI n) p0 q0 r0), (b1, .inl (dA, 400, .inl v)), (b2, .inl (dA, 4, .inl u))]) (fun _ => rfl) (fun _ => rfl) rfl (mX1_different l dC dI dA dB H.size g0 b1 b2 p0 q0 r0 n v w (xs (i + 1)) hFI.2.1) (cwV 1 hts (lw_V q245 q238 q239 q14 q240) rfl rfl rfl (by decide +kernel) ⟨Nat.le_of_ble_eq_true rfl, Nat.le_of_ble_eq_true rfl⟩) rfl hl.1 rfl (Nat.le_of_ble_eq_true rfl) dL_law_260 ⟨Nat.le_of_ble_eq_true rfl, Nat.le_of_ble_eq_true rfl⟩ (fun r_260 u_260 H locs h_260 hP hD hS => ?_)
        have hreq : r_251 = r_260 := (eq_different hFI h_251 h_260)
        refine lv_icmp_eq (tgt := 578) hx hb dL_law_263 (by decide) (fun c_263 => ?_) (fun c_263 => absurd hreq c_263)
        exact J578 n g sb F v u_260 p0 q0 r0 hFI H locs hP hD hS ls (lv_sub hl [0, 1, 2, 3] rfl)
      · refine lv_tableIn (off := 236) (tgt := 268) hx hb dL_law_32 (by decide) (by decide) rfl (by decide) ?_
        refine lv_aload_n hx hb dL_law_268 rfl (lv_at hl 1 rfl) ?_
        refine lv_aload_n hx hb dL_law_269 rfl (lv_at hl 3 rfl) ?_
        refine lv_iload_n hx hb dL_law_270 rfl (lv_at hl 0 rfl) ?_
        refine lv_iconst (v := nI 1) hx hb dL_law_271 rfl ?_
        refine xn_add hx hb dL_law_272 ?_
        refine xa_sld hx hb hX hbl hbA hS (k := i + 1) (by omega) (by omega) dL_law_273 ?_
        refine lv_aload_n hx hb dL_law_274 rfl (lv_at hl 3 rfl) ?_
        refine lv_iload_n hx hb dL_law_275 rfl (lv_at hl 0 rfl) ?_
        refine lv_iconst (v := nI 2) hx hb dL_law_276 rfl ?_
        refine xn_add hx hb dL_law_277 ?_
        refine xa_sld hx hb hX hbl hbA hS (k := i + 2) (by omega) (by omega) dL_law_278 ?_
        refine xc_V (ci := 0) (q0 := 0) [.int (xs (i + 1)), .int (xs (i + 2))] ⟨hx, hb, hml, hown, hts⟩ hK hP rfl rfl rfl [0, 6, 7] rfl (mX0_valueAt l dC dI dA dB h0 ad (g 1) (g 2) (g 3) (g 4) (g 5) sb (g 0) (F 5) (F 6) (fun j => (dl v j n).length) (xs (i + 1)) (xs (i + 2)) (fun j hj => ⟨dl_len v j n, (hFI.dr hj).1⟩)) (cwV 2 hts (lw_V q140 q141 q142 q13 q143) rfl rfl rfl (by decide +kernel) ⟨Nat.le_of_ble_eq_true rfl, Nat.le_of_ble_eq_true rfl⟩) rfl hl.1 rfl (Nat.le_of_ble_eq_true rfl) dL_law_279 ⟨Nat.le_of_ble_eq_true rfl, Nat.le_of_ble_eq_true rfl⟩ (fun r_279 h_279 => ?_)
        refine lv_aload_n hx hb dL_law_282 rfl (lv_at hl 2 rfl) ?_
        refine lv_aload_n hx hb dL_law_283 rfl (lv_at hl 3 rfl) ?_
        refine lv_iload_n hx hb dL_law_284 rfl (lv_at hl 0 rfl) ?_
        refine lv_iconst (v := nI 1) hx hb dL_law_285 rfl ?_
        refine xn_add hx hb dL_law_286 ?_
        refine xa_sld hx hb hX hbl hbA hS (k := i + 1) (by omega) (by omega) dL_law_287 ?_
        refine lv_aload_n hx hb dL_law_288 rfl (lv_at hl 3 rfl) ?_
        refine lv_iload_n hx hb dL_law_289 rfl (lv_at hl 0 rfl) ?_
        refine lv_iconst (v := nI 2) hx hb dL_law_290 rfl ?_
        refine xn_add hx hb dL_law_291 ?_
        refine xa_sld hx hb hX hbl hbA hS (k := i + 2) (by omega) (by omega) dL_law_292 ?_
        refine xc_Wi (ci := 1) (q0 := 13) (wc := [(g0, oM b1 b2 (nI n) p0 q0 r0), (b1, .inl (dA, 400, .inl v)), (b2, .inl (dA, 4, .inl w))]) (wr := [(h0, oF ad (g 0) (g 1) (g 2) (g 3) (g 4) (g 5) sb), (ad 0, .inl (dA, 4, .inl (F 0))), (ad 1, .inl (dA, 4, .inl (F 1))), (ad 2, .inl (dA, 4, .inl (F 2))), (ad 3, .inl (dA, 4, .inl (F 3))), (ad 4, .inl (dA, 4, .inl (F 4))), (ad 5, .inl (dA, 16, .inl (F 5))), (ad 6, .inl (dB, 4, .inl (F 6))), (ad 7, .inl (dB, 16, .inl (F 7))), (ad 8, .inl (dA, 16, .inl (F 8))), (ad 9, .inl (dA, 16, .inl (F 9))), (ad 10, .inl (dA, 16, .inl (F 10))), (ad 11, .inl (dA, 16, .inl (F 11)))]) [.int (xs (i + 1)), .int (xs (i + 2))] ⟨hx, hb, hml, hown, hts⟩ hK hP hD hS hA rfl rfl rfl [13, 14, 15] [0, 1, 2, 3, 4, 5, 6, 7, 8, 9, 10, 11, 12] [0, 1, 2, 3, 4, 5, 6, 7, 8, 9, 10, 11, 12, 13, 14, 15] rfl rfl rfl rfl rfl (by decide) (fun u : Nat → Int32 => [(h0, oF ad (g 0) (g 1) (g 2) (g 3) (g 4) (g 5) sb), (ad 0, .inl (dA, 4, .inl (F 0))), (ad 1, .inl (dA, 4, .inl (F 1))), (ad 2, .inl (dA, 4, .inl (F 2))), (ad 3, .inl (dA, 4, .inl (F 3))), (ad 4, .inl (dA, 4, .inl (F 4))), (ad 5, .inl (dA, 16, .inl (F 5))), (ad 6, .inl (dB, 4, .inl (F 6))), (ad 7, .inl (dB, 16, .inl (F 7))), (ad 8, .inl (dA, 16, .inl (F 8))), (ad 9, .inl (dA, 16, .inl (F 9))), (ad 10, .inl (dA, 16, .inl (F 10))), (ad 11, .inl (dA, 16, .inl (F 11))), (g0, oM b1 b2 (nI n) p0 q0 r0), (b1, .inl (dA, 400, .inl v)), (b2, .inl (dA, 4, .inl u))]) (fun _ => rfl) (fun _ => rfl) rfl (mX1_valueAt l dC dI dA dB H.size g0 b1 b2 p0 q0 r0 n v w (xs (i + 1)) (xs (i + 2)) hFI.2.1) (cwV 2 hts (lw_V q246 q247 q248 q14 q249) rfl rfl rfl (by decide +kernel) ⟨Nat.le_of_ble_eq_true rfl, Nat.le_of_ble_eq_true rfl⟩) rfl hl.1 rfl (Nat.le_of_ble_eq_true rfl) dL_law_293 ⟨Nat.le_of_ble_eq_true rfl, Nat.le_of_ble_eq_true rfl⟩ (fun r_293 u_293 H locs h_293 hP hD hS => ?_)
        have hreq : r_279 = r_293 := (eq_valueAt hFI h_279 h_293)
        refine lv_icmp_eq (tgt := 578) hx hb dL_law_296 (by decide) (fun c_296 => ?_) (fun c_296 => absurd hreq c_296)
        exact J578 n g sb F v u_293 p0 q0 r0 hFI H locs hP hD hS ls (lv_sub hl [0, 1, 2, 3] rfl)
      · refine lv_tableIn (off := 269) (tgt := 301) hx hb dL_law_32 (by decide) (by decide) rfl (by decide) ?_
        refine lv_aload_n hx hb dL_law_301 rfl (lv_at hl 1 rfl) ?_
        refine lv_aload_n hx hb dL_law_302 rfl (lv_at hl 3 rfl) ?_
        refine lv_iload_n hx hb dL_law_303 rfl (lv_at hl 0 rfl) ?_
        refine lv_iconst (v := nI 1) hx hb dL_law_304 rfl ?_
        refine xn_add hx hb dL_law_305 ?_
        refine xa_sld hx hb hX hbl hbA hS (k := i + 1) (by omega) (by omega) dL_law_306 ?_
        refine xc_V (ci := 0) (q0 := 0) [.int (xs (i + 1))] ⟨hx, hb, hml, hown, hts⟩ hK hP rfl rfl rfl [0, 5] rfl (mX0_modulus l dC dI dA dB h0 ad (g 1) (g 2) (g 3) (g 4) (g 5) sb (g 0) (F 4) (xs (i + 1))) (cwV 1 hts (lw_V q144 q145 q146 q13 q147) rfl rfl rfl (by decide +kernel) ⟨Nat.le_of_ble_eq_true rfl, Nat.le_of_ble_eq_true rfl⟩) rfl hl.1 rfl (Nat.le_of_ble_eq_true rfl) dL_law_307 ⟨Nat.le_of_ble_eq_true rfl, Nat.le_of_ble_eq_true rfl⟩ (fun r_307 h_307 => ?_)
        refine lv_aload_n hx hb dL_law_310 rfl (lv_at hl 2 rfl) ?_
        refine lv_aload_n hx hb dL_law_311 rfl (lv_at hl 3 rfl) ?_
        refine lv_iload_n hx hb dL_law_312 rfl (lv_at hl 0 rfl) ?_
        refine lv_iconst (v := nI 1) hx hb dL_law_313 rfl ?_
        refine xn_add hx hb dL_law_314 ?_
        refine xa_sld hx hb hX hbl hbA hS (k := i + 1) (by omega) (by omega) dL_law_315 ?_
        refine xc_Wi (ci := 1) (q0 := 13) (wc := [(g0, oM b1 b2 (nI n) p0 q0 r0), (b1, .inl (dA, 400, .inl v)), (b2, .inl (dA, 4, .inl w))]) (wr := [(h0, oF ad (g 0) (g 1) (g 2) (g 3) (g 4) (g 5) sb), (ad 0, .inl (dA, 4, .inl (F 0))), (ad 1, .inl (dA, 4, .inl (F 1))), (ad 2, .inl (dA, 4, .inl (F 2))), (ad 3, .inl (dA, 4, .inl (F 3))), (ad 4, .inl (dA, 4, .inl (F 4))), (ad 5, .inl (dA, 16, .inl (F 5))), (ad 6, .inl (dB, 4, .inl (F 6))), (ad 7, .inl (dB, 16, .inl (F 7))), (ad 8, .inl (dA, 16, .inl (F 8))), (ad 9, .inl (dA, 16, .inl (F 9))), (ad 10, .inl (dA, 16, .inl (F 10))), (ad 11, .inl (dA, 16, .inl (F 11)))]) [.int (xs (i + 1))] ⟨hx, hb, hml, hown, hts⟩ hK hP hD hS hA rfl rfl rfl [13, 14, 15] [0, 1, 2, 3, 4, 5, 6, 7, 8, 9, 10, 11, 12] [0, 1, 2, 3, 4, 5, 6, 7, 8, 9, 10, 11, 12, 13, 14, 15] rfl rfl rfl rfl rfl (by decide) (fun u : Nat → Int32 => [(h0, oF ad (g 0) (g 1) (g 2) (g 3) (g 4) (g 5) sb), (ad 0, .inl (dA, 4, .inl (F 0))), (ad 1, .inl (dA, 4, .inl (F 1))), (ad 2, .inl (dA, 4, .inl (F 2))), (ad 3, .inl (dA, 4, .inl (F 3))), (ad 4, .inl (dA, 4, .inl (F 4))), (ad 5, .inl (dA, 16, .inl (F 5))), (ad 6, .inl (dB, 4, .inl (F 6))), (ad 7, .inl (dB, 16, .inl (F 7))), (ad 8, .inl (dA, 16, .inl (F 8))), (ad 9, .inl (dA, 16, .inl (F 9))), (ad 10, .inl (dA, 16, .inl (F 10))), (ad 11, .inl (dA, 16, .inl (F 11))), (g0, oM b1 b2 (nI n) p0 q0 r0), (b1, .inl (dA, 400, .inl v)), (b2, .inl (dA, 4, .inl u))]) (fun _ => rfl) (fun _ => rfl) rfl (mX1_modulus l dC dI dA dB H.size g0 b1 b2 p0 q0 r0 n v w (xs (i + 1)) hFI.2.1 hFI.2.2.1) (cwV 1 hts (lw_V q250 q251 q252 q14 q253) rfl rfl rfl (by decide +kernel) ⟨Nat.le_of_ble_eq_true rfl, Nat.le_of_ble_eq_true rfl⟩) rfl hl.1 rfl (Nat.le_of_ble_eq_true rfl) dL_law_316 ⟨Nat.le_of_ble_eq_true rfl, Nat.le_of_ble_eq_true rfl⟩ (fun r_316 u_316 H locs h_316 hP hD hS => ?_)
        have hreq : r_307 = r_316 := (eq_modulus hFI h_307 h_316)
        refine lv_icmp_eq (tgt := 578) hx hb dL_law_319 (by decide) (fun c_319 => ?_) (fun c_319 => absurd hreq c_319)
        exact J578 n g sb F v u_316 p0 q0 r0 hFI H locs hP hD hS ls (lv_sub hl [0, 1, 2, 3] rfl)
      · refine lv_tableIn (off := 292) (tgt := 324) hx hb dL_law_32 (by decide) (by decide) rfl (by decide) ?_
        refine lv_aload_n hx hb dL_law_324 rfl (lv_at hl 1 rfl) ?_
        refine lv_aload_n hx hb dL_law_325 rfl (lv_at hl 3 rfl) ?_
        refine lv_iload_n hx hb dL_law_326 rfl (lv_at hl 0 rfl) ?_
        refine lv_iconst (v := nI 1) hx hb dL_law_327 rfl ?_
        refine xn_add hx hb dL_law_328 ?_
        refine xa_sld hx hb hX hbl hbA hS (k := i + 1) (by omega) (by omega) dL_law_329 ?_
        obtain ⟨gk, hgk⟩ := hFI.gk
        have hPr : va_P (dC, dI) vwCl [(h0, oF ad (nI n) (g 1) (g 2) (g 3) (g 4) (g 5) sb), (ad 1, .inl (dA, 4, .inl (F 1))), (ad 4, .inl (dA, 4, .inl (F 4)))] H := by rw [← hFI.1]; exact hP.sub [0, 2, 5] rfl
        refine xc_V (ci := 0) (q0 := 0) [.int (xs (i + 1))] ⟨hx, hb, hml, hown, hts⟩ hK hPr rfl rfl rfl [0, 1, 2] rfl (mX0_remainder l dC dI dA dB h0 ad (g 1) (g 2) (g 3) (g 4) (g 5) sb n (F 1) (F 4) gk (xs (i + 1)) hFI.2.1 hgk) (cwV 1 hts (lw_V q148 q149 q150 q13 q151) rfl rfl rfl (by decide +kernel) ⟨Nat.le_of_ble_eq_true rfl, Nat.le_of_ble_eq_true rfl⟩) rfl hl.1 rfl (Nat.le_of_ble_eq_true rfl) dL_law_330 ⟨Nat.le_of_ble_eq_true rfl, Nat.le_of_ble_eq_true rfl⟩ (fun r_330 h_330 => ?_)
        refine lv_aload_n hx hb dL_law_333 rfl (lv_at hl 2 rfl) ?_
        refine lv_aload_n hx hb dL_law_334 rfl (lv_at hl 3 rfl) ?_
        refine lv_iload_n hx hb dL_law_335 rfl (lv_at hl 0 rfl) ?_
        refine lv_iconst (v := nI 1) hx hb dL_law_336 rfl ?_
        refine xn_add hx hb dL_law_337 ?_
        refine xa_sld hx hb hX hbl hbA hS (k := i + 1) (by omega) (by omega) dL_law_338 ?_
        refine xc_Wi (ci := 1) (q0 := 13) (wc := [(g0, oM b1 b2 (nI n) p0 q0 r0), (b1, .inl (dA, 400, .inl v)), (b2, .inl (dA, 4, .inl w))]) (wr := [(h0, oF ad (g 0) (g 1) (g 2) (g 3) (g 4) (g 5) sb), (ad 0, .inl (dA, 4, .inl (F 0))), (ad 1, .inl (dA, 4, .inl (F 1))), (ad 2, .inl (dA, 4, .inl (F 2))), (ad 3, .inl (dA, 4, .inl (F 3))), (ad 4, .inl (dA, 4, .inl (F 4))), (ad 5, .inl (dA, 16, .inl (F 5))), (ad 6, .inl (dB, 4, .inl (F 6))), (ad 7, .inl (dB, 16, .inl (F 7))), (ad 8, .inl (dA, 16, .inl (F 8))), (ad 9, .inl (dA, 16, .inl (F 9))), (ad 10, .inl (dA, 16, .inl (F 10))), (ad 11, .inl (dA, 16, .inl (F 11)))]) [.int (xs (i + 1))] ⟨hx, hb, hml, hown, hts⟩ hK hP hD hS hA rfl rfl rfl [13, 14, 15] [0, 1, 2, 3, 4, 5, 6, 7, 8, 9, 10, 11, 12] [0, 1, 2, 3, 4, 5, 6, 7, 8, 9, 10, 11, 12, 13, 14, 15] rfl rfl rfl rfl rfl (by decide) (fun u : Nat → Int32 => [(h0, oF ad (g 0) (g 1) (g 2) (g 3) (g 4) (g 5) sb), (ad 0, .inl (dA, 4, .inl (F 0))), (ad 1, .inl (dA, 4, .inl (F 1))), (ad 2, .inl (dA, 4, .inl (F 2))), (ad 3, .inl (dA, 4, .inl (F 3))), (ad 4, .inl (dA, 4, .inl (F 4))), (ad 5, .inl (dA, 16, .inl (F 5))), (ad 6, .inl (dB, 4, .inl (F 6))), (ad 7, .inl (dB, 16, .inl (F 7))), (ad 8, .inl (dA, 16, .inl (F 8))), (ad 9, .inl (dA, 16, .inl (F 9))), (ad 10, .inl (dA, 16, .inl (F 10))), (ad 11, .inl (dA, 16, .inl (F 11))), (g0, oM b1 b2 (nI n) p0 q0 r0), (b1, .inl (dA, 400, .inl v)), (b2, .inl (dA, 4, .inl u))]) (fun _ => rfl) (fun _ => rfl) rfl (mX1_remainder l dC dI dA dB H.size g0 b1 b2 p0 q0 r0 n v w (xs (i + 1)) hFI.2.1 hFI.2.2.1) (cwV 1 hts (lw_V q258 q259 q260 q14 q261) rfl rfl rfl (by decide +kernel) ⟨Nat.le_of_ble_eq_true rfl, Nat.le_of_ble_eq_true rfl⟩) rfl hl.1 rfl (Nat.le_of_ble_eq_true rfl) dL_law_339 ⟨Nat.le_of_ble_eq_true rfl, Nat.le_of_ble_eq_true rfl⟩ (fun r_339 u_339 H locs h_339 hP hD hS => ?_)
        have hreq : r_330 = r_339 := (eq_remainder hFI hgk h_330 h_339)
        refine lv_icmp_eq (tgt := 578) hx hb dL_law_342 (by decide) (fun c_342 => ?_) (fun c_342 => absurd hreq c_342)
        exact J578 n g sb F v u_339 p0 q0 r0 hFI H locs hP hD hS ls (lv_sub hl [0, 1, 2, 3] rfl)
      · refine lv_tableIn (off := 315) (tgt := 347) hx hb dL_law_32 (by decide) (by decide) rfl (by decide) ?_
        refine lv_aload_n hx hb dL_law_347 rfl (lv_at hl 1 rfl) ?_
        refine lv_aload_n hx hb dL_law_348 rfl (lv_at hl 3 rfl) ?_
        refine lv_iload_n hx hb dL_law_349 rfl (lv_at hl 0 rfl) ?_
        refine lv_iconst (v := nI 1) hx hb dL_law_350 rfl ?_
        refine xn_add hx hb dL_law_351 ?_
        refine xa_sld hx hb hX hbl hbA hS (k := i + 1) (by omega) (by omega) dL_law_352 ?_
        refine lv_aload_n hx hb dL_law_353 rfl (lv_at hl 3 rfl) ?_
        refine lv_iload_n hx hb dL_law_354 rfl (lv_at hl 0 rfl) ?_
        refine lv_iconst (v := nI 2) hx hb dL_law_355 rfl ?_
        refine xn_add hx hb dL_law_356 ?_
        refine xa_sld hx hb hX hbl hbA hS (k := i + 2) (by omega) (by omega) dL_law_357 ?_
        refine lv_aload_n hx hb dL_law_358 rfl (lv_at hl 3 rfl) ?_
        refine lv_iload_n hx hb dL_law_359 rfl (lv_at hl 0 rfl) ?_
        refine lv_iconst (v := nI 3) hx hb dL_law_360 rfl ?_
        refine xn_add hx hb dL_law_361 ?_
        refine xa_sld hx hb hX hbl hbA hS (k := i + 3) (by omega) (by omega) dL_law_362 ?_
        refine xc_V (ci := 0) (q0 := 0) [.int (xs (i + 1)), .int (xs (i + 2)), .int (xs (i + 3))] ⟨hx, hb, hml, hown, hts⟩ hK hP rfl rfl rfl [0] rfl (mX0_relation l dC dI dA dB h0 ad (g 1) (g 2) (g 3) (g 4) (g 5) sb (g 0) (xs (i + 1)) (xs (i + 2)) (xs (i + 3))) (cwV 3 hts (lw_V q153 q154 q155 q13 q156) rfl rfl rfl (by decide +kernel) ⟨Nat.le_of_ble_eq_true rfl, Nat.le_of_ble_eq_true rfl⟩) rfl hl.1 rfl (Nat.le_of_ble_eq_true rfl) dL_law_363 ⟨Nat.le_of_ble_eq_true rfl, Nat.le_of_ble_eq_true rfl⟩ (fun r_363 h_363 => ?_)
        refine lv_aload_n hx hb dL_law_366 rfl (lv_at hl 2 rfl) ?_
        refine lv_aload_n hx hb dL_law_367 rfl (lv_at hl 3 rfl) ?_
        refine lv_iload_n hx hb dL_law_368 rfl (lv_at hl 0 rfl) ?_
        refine lv_iconst (v := nI 1) hx hb dL_law_369 rfl ?_
        refine xn_add hx hb dL_law_370 ?_
        refine xa_sld hx hb hX hbl hbA hS (k := i + 1) (by omega) (by omega) dL_law_371 ?_
        refine lv_aload_n hx hb dL_law_372 rfl (lv_at hl 3 rfl) ?_
        refine lv_iload_n hx hb dL_law_373 rfl (lv_at hl 0 rfl) ?_
        refine lv_iconst (v := nI 2) hx hb dL_law_374 rfl ?_
        refine xn_add hx hb dL_law_375 ?_
        refine xa_sld hx hb hX hbl hbA hS (k := i + 2) (by omega) (by omega) dL_law_376 ?_
        refine lv_aload_n hx hb dL_law_377 rfl (lv_at hl 3 rfl) ?_
        refine lv_iload_n hx hb dL_law_378 rfl (lv_at hl 0 rfl) ?_
        refine lv_iconst (v := nI 3) hx hb dL_law_379 rfl ?_
        refine xn_add hx hb dL_law_380 ?_
        refine xa_sld hx hb hX hbl hbA hS (k := i + 3) (by omega) (by omega) dL_law_381 ?_
        refine xc_V (ci := 1) (q0 := 13) [.int (xs (i + 1)), .int (xs (i + 2)), .int (xs (i + 3))] ⟨hx, hb, hml, hown, hts⟩ hK hP rfl rfl rfl [13, 14] rfl (mX1_relation l dC dI dA dB g0 b1 b2 p0 q0 r0 n v (xs (i + 1)) (xs (i + 2)) (xs (i + 3)) hFI.2.1) (cwV 3 hts (lw_V q263 q264 q265 q14 q266) rfl rfl rfl (by decide +kernel) ⟨Nat.le_of_ble_eq_true rfl, Nat.le_of_ble_eq_true rfl⟩) rfl hl.1 rfl (Nat.le_of_ble_eq_true rfl) dL_law_382 ⟨Nat.le_of_ble_eq_true rfl, Nat.le_of_ble_eq_true rfl⟩ (fun r_382 h_382 => ?_)
        have hreq : r_363 = r_382 := (eq_relation hFI h_363 h_382)
        refine lv_icmp_eq (tgt := 578) hx hb dL_law_385 (by decide) (fun c_385 => ?_) (fun c_385 => absurd hreq c_385)
        exact J578 n g sb F v w p0 q0 r0 hFI H locs hP hD hS ls (lv_sub hl [0, 1, 2, 3] rfl)
      · refine lv_tableIn (off := 358) (tgt := 390) hx hb dL_law_32 (by decide) (by decide) rfl (by decide) ?_
        refine lv_aload_n hx hb dL_law_390 rfl (lv_at hl 1 rfl) ?_
        refine lv_aload_n hx hb dL_law_391 rfl (lv_at hl 3 rfl) ?_
        refine lv_iload_n hx hb dL_law_392 rfl (lv_at hl 0 rfl) ?_
        refine lv_iconst (v := nI 1) hx hb dL_law_393 rfl ?_
        refine xn_add hx hb dL_law_394 ?_
        refine xa_sld hx hb hX hbl hbA hS (k := i + 1) (by omega) (by omega) dL_law_395 ?_
        refine lv_aload_n hx hb dL_law_396 rfl (lv_at hl 3 rfl) ?_
        refine lv_iload_n hx hb dL_law_397 rfl (lv_at hl 0 rfl) ?_
        refine lv_iconst (v := nI 2) hx hb dL_law_398 rfl ?_
        refine xn_add hx hb dL_law_399 ?_
        refine xa_sld hx hb hX hbl hbA hS (k := i + 2) (by omega) (by omega) dL_law_400 ?_
        refine xc_V (ci := 0) (q0 := 0) [.int (xs (i + 1)), .int (xs (i + 2))] ⟨hx, hb, hml, hown, hts⟩ hK hP rfl rfl rfl [0, 12] rfl (mX0_offset l dC dI dA dB h0 ad (g 1) (g 2) (g 3) (g 4) (g 5) sb (g 0) (F 11) (xs (i + 1)) (xs (i + 2))) (cwV 2 hts (lw_V q160 q161 q162 q13 q163) rfl rfl rfl (by decide +kernel) ⟨Nat.le_of_ble_eq_true rfl, Nat.le_of_ble_eq_true rfl⟩) rfl hl.1 rfl (Nat.le_of_ble_eq_true rfl) dL_law_401 ⟨Nat.le_of_ble_eq_true rfl, Nat.le_of_ble_eq_true rfl⟩ (fun r_401 h_401 => ?_)
        refine lv_aload_n hx hb dL_law_404 rfl (lv_at hl 2 rfl) ?_
        refine lv_aload_n hx hb dL_law_405 rfl (lv_at hl 3 rfl) ?_
        refine lv_iload_n hx hb dL_law_406 rfl (lv_at hl 0 rfl) ?_
        refine lv_iconst (v := nI 1) hx hb dL_law_407 rfl ?_
        refine xn_add hx hb dL_law_408 ?_
        refine xa_sld hx hb hX hbl hbA hS (k := i + 1) (by omega) (by omega) dL_law_409 ?_
        refine lv_aload_n hx hb dL_law_410 rfl (lv_at hl 3 rfl) ?_
        refine lv_iload_n hx hb dL_law_411 rfl (lv_at hl 0 rfl) ?_
        refine lv_iconst (v := nI 2) hx hb dL_law_412 rfl ?_
        refine xn_add hx hb dL_law_413 ?_
        refine xa_sld hx hb hX hbl hbA hS (k := i + 2) (by omega) (by omega) dL_law_414 ?_
        refine xc_V (ci := 1) (q0 := 13) [.int (xs (i + 1)), .int (xs (i + 2))] ⟨hx, hb, hml, hown, hts⟩ hK hP rfl rfl rfl [13, 14] rfl (mX1_offset l dC dI dA dB g0 b1 b2 p0 q0 r0 n v (xs (i + 1)) (xs (i + 2)) hFI.2.1) (cwV 2 hts (lw_V q271 q272 q273 q14 q274) rfl rfl rfl (by decide +kernel) ⟨Nat.le_of_ble_eq_true rfl, Nat.le_of_ble_eq_true rfl⟩) rfl hl.1 rfl (Nat.le_of_ble_eq_true rfl) dL_law_415 ⟨Nat.le_of_ble_eq_true rfl, Nat.le_of_ble_eq_true rfl⟩ (fun r_415 h_415 => ?_)
        have hreq : r_401 = r_415 := (eq_offset hFI h_401 h_415)
        refine lv_icmp_eq (tgt := 578) hx hb dL_law_418 (by decide) (fun c_418 => ?_) (fun c_418 => absurd hreq c_418)
        exact J578 n g sb F v w p0 q0 r0 hFI H locs hP hD hS ls (lv_sub hl [0, 1, 2, 3] rfl)
      · refine lv_tableIn (off := 391) (tgt := 423) hx hb dL_law_32 (by decide) (by decide) rfl (by decide) ?_
        refine lv_aload_n hx hb dL_law_423 rfl (lv_at hl 1 rfl) ?_
        refine lv_aload_n hx hb dL_law_424 rfl (lv_at hl 3 rfl) ?_
        refine lv_iload_n hx hb dL_law_425 rfl (lv_at hl 0 rfl) ?_
        refine lv_iconst (v := nI 1) hx hb dL_law_426 rfl ?_
        refine xn_add hx hb dL_law_427 ?_
        refine xa_sld hx hb hX hbl hbA hS (k := i + 1) (by omega) (by omega) dL_law_428 ?_
        refine lv_aload_n hx hb dL_law_429 rfl (lv_at hl 3 rfl) ?_
        refine lv_iload_n hx hb dL_law_430 rfl (lv_at hl 0 rfl) ?_
        refine lv_iconst (v := nI 2) hx hb dL_law_431 rfl ?_
        refine xn_add hx hb dL_law_432 ?_
        refine xa_sld hx hb hX hbl hbA hS (k := i + 2) (by omega) (by omega) dL_law_433 ?_
        refine xc_V (ci := 0) (q0 := 0) [.int (xs (i + 1)), .int (xs (i + 2))] ⟨hx, hb, hml, hown, hts⟩ hK hP rfl rfl rfl [0, 8, 9] rfl (mX0_line l dC dI dA dB h0 ad (g 1) (g 2) (g 3) (g 4) (g 5) sb (g 0) (F 7) (F 8) (xs (i + 1)) (xs (i + 2))) (cwV 2 hts (lw_V q164 q165 q166 q13 q167) rfl rfl rfl (by decide +kernel) ⟨Nat.le_of_ble_eq_true rfl, Nat.le_of_ble_eq_true rfl⟩) rfl hl.1 rfl (Nat.le_of_ble_eq_true rfl) dL_law_434 ⟨Nat.le_of_ble_eq_true rfl, Nat.le_of_ble_eq_true rfl⟩ (fun r_434 h_434 => ?_)
        refine lv_aload_n hx hb dL_law_437 rfl (lv_at hl 2 rfl) ?_
        refine lv_aload_n hx hb dL_law_438 rfl (lv_at hl 3 rfl) ?_
        refine lv_iload_n hx hb dL_law_439 rfl (lv_at hl 0 rfl) ?_
        refine lv_iconst (v := nI 1) hx hb dL_law_440 rfl ?_
        refine xn_add hx hb dL_law_441 ?_
        refine xa_sld hx hb hX hbl hbA hS (k := i + 1) (by omega) (by omega) dL_law_442 ?_
        refine lv_aload_n hx hb dL_law_443 rfl (lv_at hl 3 rfl) ?_
        refine lv_iload_n hx hb dL_law_444 rfl (lv_at hl 0 rfl) ?_
        refine lv_iconst (v := nI 2) hx hb dL_law_445 rfl ?_
        refine xn_add hx hb dL_law_446 ?_
        refine xa_sld hx hb hX hbl hbA hS (k := i + 2) (by omega) (by omega) dL_law_447 ?_
        refine xc_Wi (ci := 1) (q0 := 13) (wc := [(g0, oM b1 b2 (nI n) p0 q0 r0), (b1, .inl (dA, 400, .inl v)), (b2, .inl (dA, 4, .inl w))]) (wr := [(h0, oF ad (g 0) (g 1) (g 2) (g 3) (g 4) (g 5) sb), (ad 0, .inl (dA, 4, .inl (F 0))), (ad 1, .inl (dA, 4, .inl (F 1))), (ad 2, .inl (dA, 4, .inl (F 2))), (ad 3, .inl (dA, 4, .inl (F 3))), (ad 4, .inl (dA, 4, .inl (F 4))), (ad 5, .inl (dA, 16, .inl (F 5))), (ad 6, .inl (dB, 4, .inl (F 6))), (ad 7, .inl (dB, 16, .inl (F 7))), (ad 8, .inl (dA, 16, .inl (F 8))), (ad 9, .inl (dA, 16, .inl (F 9))), (ad 10, .inl (dA, 16, .inl (F 10))), (ad 11, .inl (dA, 16, .inl (F 11)))]) [.int (xs (i + 1)), .int (xs (i + 2))] ⟨hx, hb, hml, hown, hts⟩ hK hP hD hS hA rfl rfl rfl [13, 14, 15] [0, 1, 2, 3, 4, 5, 6, 7, 8, 9, 10, 11, 12] [0, 1, 2, 3, 4, 5, 6, 7, 8, 9, 10, 11, 12, 13, 14, 15] rfl rfl rfl rfl rfl (by decide) (fun u : Int32 × Int32 × Int32 × (Nat → Int32) => [(h0, oF ad (g 0) (g 1) (g 2) (g 3) (g 4) (g 5) sb), (ad 0, .inl (dA, 4, .inl (F 0))), (ad 1, .inl (dA, 4, .inl (F 1))), (ad 2, .inl (dA, 4, .inl (F 2))), (ad 3, .inl (dA, 4, .inl (F 3))), (ad 4, .inl (dA, 4, .inl (F 4))), (ad 5, .inl (dA, 16, .inl (F 5))), (ad 6, .inl (dB, 4, .inl (F 6))), (ad 7, .inl (dB, 16, .inl (F 7))), (ad 8, .inl (dA, 16, .inl (F 8))), (ad 9, .inl (dA, 16, .inl (F 9))), (ad 10, .inl (dA, 16, .inl (F 10))), (ad 11, .inl (dA, 16, .inl (F 11))), (g0, oM b1 b2 (nI n) u.1 u.2.1 u.2.2.1), (b1, .inl (dA, 400, .inl v)), (b2, .inl (dA, 4, .inl u.2.2.2))]) (fun _ => rfl) (fun _ => rfl) rfl (mX1_line l dC dI dA dB H.size g0 b1 b2 p0 q0 r0 n v w (xs (i + 1)) (xs (i + 2)) hFI.2.1 hFI.2.2.1) (cwV 2 hts (lw_V q275 q276 q277 q14 q278) rfl rfl rfl (by decide +kernel) ⟨Nat.le_of_ble_eq_true rfl, Nat.le_of_ble_eq_true rfl⟩) rfl hl.1 rfl (Nat.le_of_ble_eq_true rfl) dL_law_448 ⟨Nat.le_of_ble_eq_true rfl, Nat.le_of_ble_eq_true rfl⟩ (fun r_448 u_448 H locs h_448 hP hD hS => ?_)
        have hreq : r_434 = r_448 := (h_434.two h_448 (fun e1 e2 => by rw [e1, e2]) (fun i j hi hj hij e1 e2 => ln_eq (v := fun P _ _ => P) hi hj hFI.2.2.1 (hFI.ln hi hj hij) rfl e1 e2))
        refine lv_icmp_eq (tgt := 578) hx hb dL_law_451 (by decide) (fun c_451 => ?_) (fun c_451 => absurd hreq c_451)
        exact J578 n g sb F v u_448.2.2.2 u_448.1 u_448.2.1 u_448.2.2.1 hFI H locs hP hD hS ls (lv_sub hl [0, 1, 2, 3] rfl)
      · refine lv_tableIn (off := 424) (tgt := 456) hx hb dL_law_32 (by decide) (by decide) rfl (by decide) ?_
        refine lv_aload_n hx hb dL_law_456 rfl (lv_at hl 1 rfl) ?_
        refine lv_aload_n hx hb dL_law_457 rfl (lv_at hl 3 rfl) ?_
        refine lv_iload_n hx hb dL_law_458 rfl (lv_at hl 0 rfl) ?_
        refine lv_iconst (v := nI 1) hx hb dL_law_459 rfl ?_
        refine xn_add hx hb dL_law_460 ?_
        refine xa_sld hx hb hX hbl hbA hS (k := i + 1) (by omega) (by omega) dL_law_461 ?_
        refine lv_aload_n hx hb dL_law_462 rfl (lv_at hl 3 rfl) ?_
        refine lv_iload_n hx hb dL_law_463 rfl (lv_at hl 0 rfl) ?_
        refine lv_iconst (v := nI 2) hx hb dL_law_464 rfl ?_
        refine xn_add hx hb dL_law_465 ?_
        refine xa_sld hx hb hX hbl hbA hS (k := i + 2) (by omega) (by omega) dL_law_466 ?_
        refine xc_V (ci := 0) (q0 := 0) [.int (xs (i + 1)), .int (xs (i + 2))] ⟨hx, hb, hml, hown, hts⟩ hK hP rfl rfl rfl [0, 8, 10] rfl (mX0_slope l dC dI dA dB h0 ad (g 1) (g 2) (g 3) (g 4) (g 5) sb (g 0) (F 7) (F 9) (xs (i + 1)) (xs (i + 2))) (cwV 2 hts (lw_V q172 q173 q174 q13 q175) rfl rfl rfl (by decide +kernel) ⟨Nat.le_of_ble_eq_true rfl, Nat.le_of_ble_eq_true rfl⟩) rfl hl.1 rfl (Nat.le_of_ble_eq_true rfl) dL_law_467 ⟨Nat.le_of_ble_eq_true rfl, Nat.le_of_ble_eq_true rfl⟩ (fun r_467 h_467 => ?_)
        refine lv_aload_n hx hb dL_law_470 rfl (lv_at hl 2 rfl) ?_
        refine lv_aload_n hx hb dL_law_471 rfl (lv_at hl 3 rfl) ?_
        refine lv_iload_n hx hb dL_law_472 rfl (lv_at hl 0 rfl) ?_
        refine lv_iconst (v := nI 1) hx hb dL_law_473 rfl ?_
        refine xn_add hx hb dL_law_474 ?_
        refine xa_sld hx hb hX hbl hbA hS (k := i + 1) (by omega) (by omega) dL_law_475 ?_
        refine lv_aload_n hx hb dL_law_476 rfl (lv_at hl 3 rfl) ?_
        refine lv_iload_n hx hb dL_law_477 rfl (lv_at hl 0 rfl) ?_
        refine lv_iconst (v := nI 2) hx hb dL_law_478 rfl ?_
        refine xn_add hx hb dL_law_479 ?_
        refine xa_sld hx hb hX hbl hbA hS (k := i + 2) (by omega) (by omega) dL_law_480 ?_
        refine xc_Wi (ci := 1) (q0 := 13) (wc := [(g0, oM b1 b2 (nI n) p0 q0 r0), (b1, .inl (dA, 400, .inl v)), (b2, .inl (dA, 4, .inl w))]) (wr := [(h0, oF ad (g 0) (g 1) (g 2) (g 3) (g 4) (g 5) sb), (ad 0, .inl (dA, 4, .inl (F 0))), (ad 1, .inl (dA, 4, .inl (F 1))), (ad 2, .inl (dA, 4, .inl (F 2))), (ad 3, .inl (dA, 4, .inl (F 3))), (ad 4, .inl (dA, 4, .inl (F 4))), (ad 5, .inl (dA, 16, .inl (F 5))), (ad 6, .inl (dB, 4, .inl (F 6))), (ad 7, .inl (dB, 16, .inl (F 7))), (ad 8, .inl (dA, 16, .inl (F 8))), (ad 9, .inl (dA, 16, .inl (F 9))), (ad 10, .inl (dA, 16, .inl (F 10))), (ad 11, .inl (dA, 16, .inl (F 11)))]) [.int (xs (i + 1)), .int (xs (i + 2))] ⟨hx, hb, hml, hown, hts⟩ hK hP hD hS hA rfl rfl rfl [13, 14, 15] [0, 1, 2, 3, 4, 5, 6, 7, 8, 9, 10, 11, 12] [0, 1, 2, 3, 4, 5, 6, 7, 8, 9, 10, 11, 12, 13, 14, 15] rfl rfl rfl rfl rfl (by decide) (fun u : Int32 × Int32 × Int32 × (Nat → Int32) => [(h0, oF ad (g 0) (g 1) (g 2) (g 3) (g 4) (g 5) sb), (ad 0, .inl (dA, 4, .inl (F 0))), (ad 1, .inl (dA, 4, .inl (F 1))), (ad 2, .inl (dA, 4, .inl (F 2))), (ad 3, .inl (dA, 4, .inl (F 3))), (ad 4, .inl (dA, 4, .inl (F 4))), (ad 5, .inl (dA, 16, .inl (F 5))), (ad 6, .inl (dB, 4, .inl (F 6))), (ad 7, .inl (dB, 16, .inl (F 7))), (ad 8, .inl (dA, 16, .inl (F 8))), (ad 9, .inl (dA, 16, .inl (F 9))), (ad 10, .inl (dA, 16, .inl (F 10))), (ad 11, .inl (dA, 16, .inl (F 11))), (g0, oM b1 b2 (nI n) u.1 u.2.1 u.2.2.1), (b1, .inl (dA, 400, .inl v)), (b2, .inl (dA, 4, .inl u.2.2.2))]) (fun _ => rfl) (fun _ => rfl) rfl (mX1_slope l dC dI dA dB H.size g0 b1 b2 p0 q0 r0 n v w (xs (i + 1)) (xs (i + 2)) hFI.2.1 hFI.2.2.1) (cwV 2 hts (lw_V q283 q284 q285 q14 q286) rfl rfl rfl (by decide +kernel) ⟨Nat.le_of_ble_eq_true rfl, Nat.le_of_ble_eq_true rfl⟩) rfl hl.1 rfl (Nat.le_of_ble_eq_true rfl) dL_law_481 ⟨Nat.le_of_ble_eq_true rfl, Nat.le_of_ble_eq_true rfl⟩ (fun r_481 u_481 H locs h_481 hP hD hS => ?_)
        have hreq : r_467 = r_481 := (h_467.two h_481 (fun e1 e2 => by rw [e1, e2]) (fun i j hi hj hij e1 e2 => ln_eq (v := fun _ Q _ => Q) hi hj hFI.2.2.1 (hFI.ln hi hj hij) rfl e1 e2))
        refine lv_icmp_eq (tgt := 578) hx hb dL_law_484 (by decide) (fun c_484 => ?_) (fun c_484 => absurd hreq c_484)
        exact J578 n g sb F v u_481.2.2.2 u_481.1 u_481.2.1 u_481.2.2.1 hFI H locs hP hD hS ls (lv_sub hl [0, 1, 2, 3] rfl)
      · refine lv_tableIn (off := 457) (tgt := 489) hx hb dL_law_32 (by decide) (by decide) rfl (by decide) ?_
        refine lv_aload_n hx hb dL_law_489 rfl (lv_at hl 1 rfl) ?_
        refine lv_aload_n hx hb dL_law_490 rfl (lv_at hl 3 rfl) ?_
        refine lv_iload_n hx hb dL_law_491 rfl (lv_at hl 0 rfl) ?_
        refine lv_iconst (v := nI 1) hx hb dL_law_492 rfl ?_
        refine xn_add hx hb dL_law_493 ?_
        refine xa_sld hx hb hX hbl hbA hS (k := i + 1) (by omega) (by omega) dL_law_494 ?_
        refine lv_aload_n hx hb dL_law_495 rfl (lv_at hl 3 rfl) ?_
        refine lv_iload_n hx hb dL_law_496 rfl (lv_at hl 0 rfl) ?_
        refine lv_iconst (v := nI 2) hx hb dL_law_497 rfl ?_
        refine xn_add hx hb dL_law_498 ?_
        refine xa_sld hx hb hX hbl hbA hS (k := i + 2) (by omega) (by omega) dL_law_499 ?_
        refine xc_V (ci := 0) (q0 := 0) [.int (xs (i + 1)), .int (xs (i + 2))] ⟨hx, hb, hml, hown, hts⟩ hK hP rfl rfl rfl [0, 8, 11] rfl (mX0_rise l dC dI dA dB h0 ad (g 1) (g 2) (g 3) (g 4) (g 5) sb (g 0) (F 7) (F 10) (xs (i + 1)) (xs (i + 2))) (cwV 2 hts (lw_V q176 q177 q178 q13 q179) rfl rfl rfl (by decide +kernel) ⟨Nat.le_of_ble_eq_true rfl, Nat.le_of_ble_eq_true rfl⟩) rfl hl.1 rfl (Nat.le_of_ble_eq_true rfl) dL_law_500 ⟨Nat.le_of_ble_eq_true rfl, Nat.le_of_ble_eq_true rfl⟩ (fun r_500 h_500 => ?_)
        refine lv_aload_n hx hb dL_law_503 rfl (lv_at hl 2 rfl) ?_
        refine lv_aload_n hx hb dL_law_504 rfl (lv_at hl 3 rfl) ?_
        refine lv_iload_n hx hb dL_law_505 rfl (lv_at hl 0 rfl) ?_
        refine lv_iconst (v := nI 1) hx hb dL_law_506 rfl ?_
        refine xn_add hx hb dL_law_507 ?_
        refine xa_sld hx hb hX hbl hbA hS (k := i + 1) (by omega) (by omega) dL_law_508 ?_
        refine lv_aload_n hx hb dL_law_509 rfl (lv_at hl 3 rfl) ?_
        refine lv_iload_n hx hb dL_law_510 rfl (lv_at hl 0 rfl) ?_
        refine lv_iconst (v := nI 2) hx hb dL_law_511 rfl ?_
        refine xn_add hx hb dL_law_512 ?_
        refine xa_sld hx hb hX hbl hbA hS (k := i + 2) (by omega) (by omega) dL_law_513 ?_
        refine xc_Wi (ci := 1) (q0 := 13) (wc := [(g0, oM b1 b2 (nI n) p0 q0 r0), (b1, .inl (dA, 400, .inl v)), (b2, .inl (dA, 4, .inl w))]) (wr := [(h0, oF ad (g 0) (g 1) (g 2) (g 3) (g 4) (g 5) sb), (ad 0, .inl (dA, 4, .inl (F 0))), (ad 1, .inl (dA, 4, .inl (F 1))), (ad 2, .inl (dA, 4, .inl (F 2))), (ad 3, .inl (dA, 4, .inl (F 3))), (ad 4, .inl (dA, 4, .inl (F 4))), (ad 5, .inl (dA, 16, .inl (F 5))), (ad 6, .inl (dB, 4, .inl (F 6))), (ad 7, .inl (dB, 16, .inl (F 7))), (ad 8, .inl (dA, 16, .inl (F 8))), (ad 9, .inl (dA, 16, .inl (F 9))), (ad 10, .inl (dA, 16, .inl (F 10))), (ad 11, .inl (dA, 16, .inl (F 11)))]) [.int (xs (i + 1)), .int (xs (i + 2))] ⟨hx, hb, hml, hown, hts⟩ hK hP hD hS hA rfl rfl rfl [13, 14, 15] [0, 1, 2, 3, 4, 5, 6, 7, 8, 9, 10, 11, 12] [0, 1, 2, 3, 4, 5, 6, 7, 8, 9, 10, 11, 12, 13, 14, 15] rfl rfl rfl rfl rfl (by decide) (fun u : Int32 × Int32 × Int32 × (Nat → Int32) => [(h0, oF ad (g 0) (g 1) (g 2) (g 3) (g 4) (g 5) sb), (ad 0, .inl (dA, 4, .inl (F 0))), (ad 1, .inl (dA, 4, .inl (F 1))), (ad 2, .inl (dA, 4, .inl (F 2))), (ad 3, .inl (dA, 4, .inl (F 3))), (ad 4, .inl (dA, 4, .inl (F 4))), (ad 5, .inl (dA, 16, .inl (F 5))), (ad 6, .inl (dB, 4, .inl (F 6))), (ad 7, .inl (dB, 16, .inl (F 7))), (ad 8, .inl (dA, 16, .inl (F 8))), (ad 9, .inl (dA, 16, .inl (F 9))), (ad 10, .inl (dA, 16, .inl (F 10))), (ad 11, .inl (dA, 16, .inl (F 11))), (g0, oM b1 b2 (nI n) u.1 u.2.1 u.2.2.1), (b1, .inl (dA, 400, .inl v)), (b2, .inl (dA, 4, .inl u.2.2.2))]) (fun _ => rfl) (fun _ => rfl) rfl (mX1_rise l dC dI dA dB H.size g0 b1 b2 p0 q0 r0 n v w (xs (i + 1)) (xs (i + 2)) hFI.2.1 hFI.2.2.1) (cwV 2 hts (lw_V q287 q288 q289 q14 q290) rfl rfl rfl (by decide +kernel) ⟨Nat.le_of_ble_eq_true rfl, Nat.le_of_ble_eq_true rfl⟩) rfl hl.1 rfl (Nat.le_of_ble_eq_true rfl) dL_law_514 ⟨Nat.le_of_ble_eq_true rfl, Nat.le_of_ble_eq_true rfl⟩ (fun r_514 u_514 H locs h_514 hP hD hS => ?_)
        have hreq : r_500 = r_514 := (h_500.two h_514 (fun e1 e2 => by rw [e1, e2]) (fun i j hi hj hij e1 e2 => ln_eq (v := fun _ _ R => R) hi hj hFI.2.2.1 (hFI.ln hi hj hij) rfl e1 e2))
        refine lv_icmp_eq (tgt := 578) hx hb dL_law_517 (by decide) (fun c_517 => ?_) (fun c_517 => absurd hreq c_517)
        exact J578 n g sb F v u_514.2.2.2 u_514.1 u_514.2.1 u_514.2.2.1 hFI H locs hP hD hS ls (lv_sub hl [0, 1, 2, 3] rfl)
      · refine lv_tableIn (off := 490) (tgt := 522) hx hb dL_law_32 (by decide) (by decide) rfl (by decide) ?_
        refine lv_aload_n hx hb dL_law_522 rfl (lv_at hl 1 rfl) ?_
        refine xc_V (ci := 0) (q0 := 0) [] ⟨hx, hb, hml, hown, hts⟩ hK hP rfl rfl rfl [0] rfl (mX0_equals l dC dI dA dB h0 ad (g 1) (g 2) (g 3) (g 4) (g 5) sb (g 0)) (cwV 0 hts (lw_V q180 q181 q182 q13 q183) rfl rfl rfl (by decide +kernel) ⟨Nat.le_of_ble_eq_true rfl, Nat.le_of_ble_eq_true rfl⟩) rfl hl.1 rfl (Nat.le_of_ble_eq_true rfl) dL_law_523 ⟨Nat.le_of_ble_eq_true rfl, Nat.le_of_ble_eq_true rfl⟩ (fun r_523 h_523 => ?_)
        refine lv_aload_n hx hb dL_law_526 rfl (lv_at hl 2 rfl) ?_
        refine xc_V (ci := 1) (q0 := 13) [] ⟨hx, hb, hml, hown, hts⟩ hK hP rfl rfl rfl [13, 14] rfl (mX1_equals l dC dI dA dB g0 b1 b2 p0 q0 r0 n v hFI.2.1) (cwV 0 hts (lw_V q291 q292 q293 q14 q294) rfl rfl rfl (by decide +kernel) ⟨Nat.le_of_ble_eq_true rfl, Nat.le_of_ble_eq_true rfl⟩) rfl hl.1 rfl (Nat.le_of_ble_eq_true rfl) dL_law_527 ⟨Nat.le_of_ble_eq_true rfl, Nat.le_of_ble_eq_true rfl⟩ (fun r_527 h_527 => ?_)
        have hreq : r_523 = r_527 := (eq_equals hFI h_523 h_527)
        refine lv_icmp_eq (tgt := 578) hx hb dL_law_530 (by decide) (fun c_530 => ?_) (fun c_530 => absurd hreq c_530)
        exact J578 n g sb F v w p0 q0 r0 hFI H locs hP hD hS ls (lv_sub hl [0, 1, 2, 3] rfl)
      · refine lv_tableIn (off := 503) (tgt := 535) hx hb dL_law_32 (by decide) (by decide) rfl (by decide) ?_
        refine lv_aload_n hx hb dL_law_535 rfl (lv_at hl 1 rfl) ?_
        refine lv_aload_n hx hb dL_law_536 rfl (lv_at hl 3 rfl) ?_
        refine lv_iload_n hx hb dL_law_537 rfl (lv_at hl 0 rfl) ?_
        refine lv_iconst (v := nI 1) hx hb dL_law_538 rfl ?_
        refine xn_add hx hb dL_law_539 ?_
        refine xa_sld hx hb hX hbl hbA hS (k := i + 1) (by omega) (by omega) dL_law_540 ?_
        refine lv_aload_n hx hb dL_law_541 rfl (lv_at hl 3 rfl) ?_
        refine lv_iload_n hx hb dL_law_542 rfl (lv_at hl 0 rfl) ?_
        refine lv_iconst (v := nI 2) hx hb dL_law_543 rfl ?_
        refine xn_add hx hb dL_law_544 ?_
        refine xa_sld hx hb hX hbl hbA hS (k := i + 2) (by omega) (by omega) dL_law_545 ?_
        refine lv_aload_n hx hb dL_law_546 rfl (lv_at hl 3 rfl) ?_
        refine lv_iload_n hx hb dL_law_547 rfl (lv_at hl 0 rfl) ?_
        refine lv_iconst (v := nI 3) hx hb dL_law_548 rfl ?_
        refine xn_add hx hb dL_law_549 ?_
        refine xa_sld hx hb hX hbl hbA hS (k := i + 3) (by omega) (by omega) dL_law_550 ?_
        refine xc_V (ci := 0) (q0 := 0) [.int (xs (i + 1)), .int (xs (i + 2)), .int (xs (i + 3))] ⟨hx, hb, hml, hown, hts⟩ hK hP rfl rfl rfl [0] rfl (mX0_sums l dC dI dA dB h0 ad (g 1) (g 2) (g 3) (g 4) (g 5) sb (g 0) (xs (i + 1)) (xs (i + 2)) (xs (i + 3))) (cwV 3 hts (lw_V q184 q185 q186 q13 q187) rfl rfl rfl (by decide +kernel) ⟨Nat.le_of_ble_eq_true rfl, Nat.le_of_ble_eq_true rfl⟩) rfl hl.1 rfl (Nat.le_of_ble_eq_true rfl) dL_law_551 ⟨Nat.le_of_ble_eq_true rfl, Nat.le_of_ble_eq_true rfl⟩ (fun r_551 h_551 => ?_)
        refine lv_aload_n hx hb dL_law_554 rfl (lv_at hl 2 rfl) ?_
        refine lv_aload_n hx hb dL_law_555 rfl (lv_at hl 3 rfl) ?_
        refine lv_iload_n hx hb dL_law_556 rfl (lv_at hl 0 rfl) ?_
        refine lv_iconst (v := nI 1) hx hb dL_law_557 rfl ?_
        refine xn_add hx hb dL_law_558 ?_
        refine xa_sld hx hb hX hbl hbA hS (k := i + 1) (by omega) (by omega) dL_law_559 ?_
        refine lv_aload_n hx hb dL_law_560 rfl (lv_at hl 3 rfl) ?_
        refine lv_iload_n hx hb dL_law_561 rfl (lv_at hl 0 rfl) ?_
        refine lv_iconst (v := nI 2) hx hb dL_law_562 rfl ?_
        refine xn_add hx hb dL_law_563 ?_
        refine xa_sld hx hb hX hbl hbA hS (k := i + 2) (by omega) (by omega) dL_law_564 ?_
        refine lv_aload_n hx hb dL_law_565 rfl (lv_at hl 3 rfl) ?_
        refine lv_iload_n hx hb dL_law_566 rfl (lv_at hl 0 rfl) ?_
        refine lv_iconst (v := nI 3) hx hb dL_law_567 rfl ?_
        refine xn_add hx hb dL_law_568 ?_
        refine xa_sld hx hb hX hbl hbA hS (k := i + 3) (by omega) (by omega) dL_law_569 ?_
        refine xc_V (ci := 1) (q0 := 13) [.int (xs (i + 1)), .int (xs (i + 2)), .int (xs (i + 3))] ⟨hx, hb, hml, hown, hts⟩ hK hP rfl rfl rfl [13, 14] rfl (mX1_sums l dC dI dA dB g0 b1 b2 p0 q0 r0 n v (xs (i + 1)) (xs (i + 2)) (xs (i + 3)) hFI.2.1) (cwV 3 hts (lw_V q296 q297 q298 q14 q299) rfl rfl rfl (by decide +kernel) ⟨Nat.le_of_ble_eq_true rfl, Nat.le_of_ble_eq_true rfl⟩) rfl hl.1 rfl (Nat.le_of_ble_eq_true rfl) dL_law_570 ⟨Nat.le_of_ble_eq_true rfl, Nat.le_of_ble_eq_true rfl⟩ (fun r_570 h_570 => ?_)
        have hreq : r_551 = r_570 := (eq_sums hFI h_551 h_570)
        refine lv_icmp_eq (tgt := 578) hx hb dL_law_573 (by decide) (fun c_573 => ?_) (fun c_573 => absurd hreq c_573)
        exact J578 n g sb F v w p0 q0 r0 hFI H locs hP hD hS ls (lv_sub hl [0, 1, 2, 3] rfl)
end
section
set_option maxHeartbeats 4000000 in
set_option maxRecDepth 100000 in
/-- from the entry, for every script of at most 320 ints, the law comes to its end with true -/
theorem whole_start {p : Program} {e : Env} {s : State} {m : MethodId} {below : List Frame} {meth : Method} {c : Code} (l : Launch) {b L : Nat} {xs : Nat → Int32} (hL : L ≤ 320) (C0 : lw_At p s m meth c b L xs) : W p l e room_1 s m #[Value.ref b] below meth c s.heap [] 0 0 (lw_Z below #[Value.ref b] s) (entryFrame m ([Value.ref b] : List Value).toArray 4) := by
  obtain ⟨hx, hb, hr, hml, hown, hts0, hX, hbl, hlocks, hgv⟩ := id C0
  have hts : ∀ w ∈ lw_all, w.before #[Value.ref b] s = true := fun w h => hts0 w (lw_all_tbl h)
  obtain ⟨A, hAe⟩ : ∃ A : Nat → Prop, A = fun q : Nat => s.heap.size ≤ q := ⟨_, rfl⟩
  have hA : ∀ q : Nat, s.heap.size ≤ q → A q := fun q h => by rw [hAe]; exact h
  obtain ⟨c0, iS0, hKn0⟩ := u_known (C := RX0) (T := TX0) (N := 19) (n := 19) hts0 (fun w h => lw_all_tbl (in_X0 w h)) (hts _ q16)
  obtain ⟨c1, iS1, hKn1⟩ := u_known (C := RX1) (T := TX1) (N := 6) (n := 6) hts0 (fun w h => lw_all_tbl (in_X1 w h)) (hts _ q189)
  obtain ⟨dC, dI, hKc⟩ : ∃ (dC : Nat → ClassId) (dI : Nat → Nat → Nat), ∀ (k : Nat) (q : vw_C), vwCl[k]? = some q → u_Kn s q.1 q.2.1 q.2.2 (dC k) (dI k) := by
    refine ⟨fun k => if k = 0 then c0 else c1, fun k => if k = 0 then iS0 else iS1, ?_⟩
    intro k q hq
    match k, hq with
    | 0, hq => cases hq; exact hKn0
    | 1, hq => cases hq; exact hKn1
    | k + 2, hq => simp [vwCl] at hq
  have hS : va_S A s.heap s.heap [] := va_S.rf
  have hK : va_K (dC, dI) vwCl [] s := ⟨hKc, fun k q h => by simp at h⟩
  have hP : va_P (dC, dI) vwCl [] s.heap := fun k q h => by simp at h
  have hD : va_D A [] := ⟨fun i j p q h => by simp at h, fun k q h => by simp at h⟩
  have hl := lv_entry ([.ref b]) (n := 4) (Nat.le_of_ble_eq_true rfl)
  rw [lg_entry_eq]
  generalize (lg_sl ([.ref b]) ++ List.replicate (4 - (lg_sl ([.ref b])).length) Slot.unset).toArray = ls at hl ⊢
  have hl : lv_has ls 4 [(0, .ref b)] := hl
  refine va_new (ci := 0) (fs := [.int 0, .null, .null, .null, .null, .null, .null, .null, .int 0, .int 0, .int 0, .int 0, .null, .null, .null, .null, .null, .int 0, .long 0]) (C := RX0) (T := TX0) (N := 19) hx hb hts in_X0 tyX0 tyX0_ok hown (hts _ q15) (hts _ q16) (hts _ q13) hK hP hD hS hA rfl (fun j hj => by rcases (show j = 0 ∨ j = 1 ∨ j = 2 ∨ j = 3 ∨ j = 4 ∨ j = 5 ∨ j = 6 ∨ j = 7 ∨ j = 8 ∨ j = 9 ∨ j = 10 ∨ j = 11 ∨ j = 12 ∨ j = 13 ∨ j = 14 ∨ j = 15 ∨ j = 16 ∨ j = 17 ∨ j = 18 by omega) with rfl | rfl | rfl | rfl | rfl | rfl | rfl | rfl | rfl | rfl | rfl | rfl | rfl | rfl | rfl | rfl | rfl | rfl | rfl <;> rfl) (Nat.le_of_ble_eq_true rfl) (Nat.le_of_ble_eq_true rfl) dL_law_0 (fun q0v H hP hD hS => ?_)
  have hP : va_P (dC, dI) vwCl [(q0v, .inr (0, [.int 0, .null, .null, .null, .null, .null, .null, .null, .int 0, .int 0, .int 0, .int 0, .null, .null, .null, .null, .null, .int 0, .long 0]))] H := hP
  have hD : va_D A [(q0v, .inr (0, [.int 0, .null, .null, .null, .null, .null, .null, .null, .int 0, .int 0, .int 0, .int 0, .null, .null, .null, .null, .null, .int 0, .long 0]))] := hD
  refine W.widen (k := 1) (n := 19) (Nat.le_of_ble_eq_true rfl) (Nat.le_of_ble_eq_true rfl) ?_
  refine lv_dup hx hb dL_law_3 rfl ?_
  have hFc := va_free (wc := [(q0v, .inr (0, [.int 0, .null, .null, .null, .null, .null, .null, .null, .int 0, .int 0, .int 0, .int 0, .null, .null, .null, .null, .null, .int 0, .long 0]))]) hD hS hA [0] rfl
  refine va_callv (va_runI (As := []) (rest := [.ref q0v]) ⟨hx, hb, hml, hown, hts⟩ (mX0_init l dC dI H.size q0v) (cwI 0 hts (lw_meth q19) rfl rfl rfl (hts _ q13) (hts _ q17) (hts _ q18) rfl (by decide +kernel) ⟨Nat.le_of_ble_eq_true rfl, Nat.le_of_ble_eq_true rfl⟩) ⟨xPre.blind, fun U hU hW => ⟨rfl, by rw [hU], by rw [hU]; exact hP, va_K.moved hW.alike hK, hD.weaken (fun _ _ _ _ => trivial)⟩⟩ rfl rfl hl.1 rfl (lv_room (Nat.le_of_ble_eq_true rfl)) dL_law_4 ⟨Nat.le_of_ble_eq_true rfl, Nat.le_of_ble_eq_true rfl⟩) hS (fun q _ h => hFc q h) hFc (fun u t H1 locs ht hvm hw1 hB hz1 hk1 hS => ?_)
  obtain ⟨ad, dA, dB⟩ := u
  obtain ⟨hP1, hK1, hD1⟩ := hB
  rw [ht] at hP1
  have hK := va_K.moved hvm.symm hK1
  obtain ⟨hP, hD⟩ := va_join (wr := []) (w1 := (wF q0v ad dA dB (fun _ => nI 0) 0 (fun _ _ => nI 0))) hP hD [0] [] rfl rfl (by decide) (by decide) hk1 hFc hP1 hD1
  generalize H1 = H at hP hS ⊢
  have hP : va_P (dC, dI) vwCl (wF q0v ad dA dB (fun _ => nI 0) 0 (fun _ _ => nI 0)) H := hP
  have hD : va_D A (wF q0v ad dA dB (fun _ => nI 0) 0 (fun _ _ => nI 0)) := hD
  have hK : va_K (dC, dI) vwCl (xT dA dB) s := hK
  refine W.widen (k := 13) (n := 139) (Nat.le_of_ble_eq_true rfl) (Nat.le_of_ble_eq_true rfl) ?_
  refine lv_astore_n (lv' := [(1, .ref q0v), (0, .ref b)]) hx hb dL_law_7 rfl hl (by decide) rfl (fun ls hl => ?_)
  refine va_new (ci := 1) (fs := [.int 0, .null, .null, .int 0, .int 0, .int 0]) (C := RX1) (T := TX1) (N := 6) hx hb hts in_X1 tyX1 tyX1_ok hown (hts _ q188) (hts _ q189) (hts _ q14) hK hP hD hS hA rfl (fun j hj => by rcases (show j = 0 ∨ j = 1 ∨ j = 2 ∨ j = 3 ∨ j = 4 ∨ j = 5 by omega) with rfl | rfl | rfl | rfl | rfl | rfl <;> rfl) (Nat.le_of_ble_eq_true rfl) (Nat.le_of_ble_eq_true rfl) dL_law_8 (fun q1v H hP hD hS => ?_)
  have hP : va_P (dC, dI) vwCl ((wF q0v ad dA dB (fun _ => nI 0) 0 (fun _ _ => nI 0)) ++ [(q1v, .inr (1, [.int 0, .null, .null, .int 0, .int 0, .int 0]))]) H := hP
  have hD : va_D A ((wF q0v ad dA dB (fun _ => nI 0) 0 (fun _ _ => nI 0)) ++ [(q1v, .inr (1, [.int 0, .null, .null, .int 0, .int 0, .int 0]))]) := hD
  refine W.widen (k := 14) (n := 145) (Nat.le_of_ble_eq_true rfl) (Nat.le_of_ble_eq_true rfl) ?_
  refine lv_dup hx hb dL_law_11 rfl ?_
  have hPc := hP.sub (ws' := [(q1v, .inr (1, [.int 0, .null, .null, .int 0, .int 0, .int 0]))]) [13] rfl
  have hDc := hD.sub (ws' := [(q1v, .inr (1, [.int 0, .null, .null, .int 0, .int 0, .int 0]))]) [13] (by decide) rfl
  have hFc := va_free (wc := [(q1v, .inr (1, [.int 0, .null, .null, .int 0, .int 0, .int 0]))]) hD hS hA [13] rfl
  refine va_callv (va_runI (As := []) (rest := [.ref q1v]) ⟨hx, hb, hml, hown, hts⟩ (mX1_init l dC dI dA dB H.size q1v) (cwI 0 hts (lw_meth q192) rfl rfl rfl (hts _ q14) (hts _ q190) (hts _ q191) rfl (by decide +kernel) ⟨Nat.le_of_ble_eq_true rfl, Nat.le_of_ble_eq_true rfl⟩) ⟨xPre.blind, fun U hU hW => ⟨rfl, by rw [hU], by rw [hU]; exact hPc, va_K.moved hW.alike hK, hDc.weaken (fun _ _ _ _ => trivial)⟩⟩ rfl rfl hl.1 rfl (lv_room (Nat.le_of_ble_eq_true rfl)) dL_law_12 ⟨Nat.le_of_ble_eq_true rfl, Nat.le_of_ble_eq_true rfl⟩) hS (fun q _ h => hFc q h) hFc (fun u t H1 locs ht hvm hw1 hB hz1 hk1 hS => ?_)
  obtain ⟨b1, b2⟩ := u
  obtain ⟨hP1, hD1⟩ := hB
  rw [ht] at hP1
  obtain ⟨hP, hD⟩ := va_join (wr := (wF q0v ad dA dB (fun _ => nI 0) 0 (fun _ _ => nI 0))) (w1 := [(q1v, oM b1 b2 (nI 0) (nI 0) (nI 0) (nI 0)), (b1, .inl (dA, 400, .inl (fun _ => nI 0))), (b2, .inl (dA, 4, .inl (fun _ => nI 0)))]) hP hD [13] [0, 1, 2, 3, 4, 5, 6, 7, 8, 9, 10, 11, 12] rfl rfl (by decide) (by decide) hk1 hFc hP1 hD1
  generalize H1 = H at hP hS ⊢
  refine W.widen (k := 16) (n := 549) (Nat.le_of_ble_eq_true rfl) (Nat.le_of_ble_eq_true rfl) ?_
  refine lv_astore_n (lv' := [(2, .ref q1v), (1, .ref q0v), (0, .ref b)]) hx hb dL_law_15 rfl hl (by decide) rfl (fun ls hl => ?_)
  refine lv_iconst (v := nI 0) hx hb dL_law_16 rfl ?_
  refine lv_istore_n (lv' := [(3, .int (nI 0)), (2, .ref q1v), (1, .ref q0v), (0, .ref b)]) hx hb dL_law_17 rfl hl (by decide) rfl (fun ls hl => ?_)
  exact law_loop l hL C0 hts hAe dC dI dA dB hK q0v ad q1v b1 b2 (L + 1) 0 0 (fun _ => nI 0) 0 (fun _ _ => nI 0) (fun _ => nI 0) (fun _ => nI 0) (nI 0) (nI 0) (nI 0) (by omega) (by omega) (FI.zero rfl (fun _ _ => rfl) (fun _ _ => rfl) (fun _ _ => rfl)) H locs hP hD hS ls (lv_sub hl [0, 2, 1, 3] rfl)
end
section
set_option maxHeartbeats 4000000 in
theorem lw_walk (l : Launch) (b : Addr) (xs : List Int32) : MetFree l x (headSpec (Jvm.Cond.code x code maxLocals ret :: tables_1) room_1) (lw_P b xs) (fun _ _ _ _ _ => True) lw_Q := by
  refine MetFree.of_bodyS (code := code) (maxLocals := maxLocals) (ret := ret) (by decide) ?_ ?_
  · intro args s m h hn
    obtain ⟨meth, c, h1, h2, h3, h4, h5, h6, -, -⟩ := Cond.code_spec hn (atoms_spec (ws := Jvm.Cond.code x code maxLocals ret :: tables_1) h _ List.mem_cons_self)
    exact ⟨meth, c, h1, h2, h3, h4, h5, h6⟩
  · intro p e s m args below meth c s₁ B hml0 hP _
    obtain ⟨rfl, hx, hbd, hgv⟩ := hP
    obtain ⟨scr, harrAt, hlist, hof, hsmall⟩ := hx
    obtain ⟨hcb, hkn, -, -⟩ := State.arrayAt?_spec harrAt
    have hown : s.vm.findClass R_law = some m.cls := findClass_of_methodNamed B.named
    have hts0 : ∀ c ∈ (Jvm.Cond.code x code maxLocals ret :: tables_1), c.before #[Value.ref b] s = true := atoms_spec (ws := Jvm.Cond.code x code maxLocals ret :: tables_1) B.pre
    have hts : ∀ w ∈ lw_tbl, w.before #[Value.ref b] s = true := k2_hts_sels lw_privs (fun w hw => hts0 w (List.mem_cons_of_mem _ hw)) lw_privs_ok
    have hml : c.maxLocals = 4 := B.maxLocals_eq (hts0 _ List.mem_cons_self)
    have X₀ : Stand p l e room_1 s m #[Value.ref b] below meth c s₁ [] 0 0 := Stand.of_body B
    have hh0 : s₁.heap = s.heap := by rw [B.state]; rfl
    have hsz : scr.slots.size = xs.length := by rw [← Array.length_toList, hlist, List.length_map]
    have hval : ∀ j : Nat, j < xs.length → scr.slots[j]? = some (.int (xs.getD j 0)) := fun j hj => by
      rw [← Array.getElem?_toList, hlist]
      simp [hj]
    have hbl : b < s.heap.size := (Array.getElem?_eq_some_iff.mp hcb).1
    have hX : va_X b xs.length (fun j => xs.getD j 0) s s.heap := ⟨scr, hcb, hof, hkn, hsz, hval⟩
    have K : W p l e room_1 s m #[Value.ref b] below meth c s₁.heap [] 0 0 (lw_Z below #[Value.ref b] s) (entryFrame m ([Value.ref b] : List Value).toArray 4) := by
      rw [hh0]
      exact whole_start l hbd ⟨B.exec, B.bytes, B.returns, hml, hown, hts, hX, hbl, B.notSynchronized, hgv⟩
    obtain ⟨t, a1, o, b1, b2, b3⟩ := K s₁ rfl X₀
    exact ⟨t, o, a1, b1, b2, b3⟩
theorem lw_pre_spec {args : Array Value} {s : State} (h : (Jvm.Cond.and given_1 narrow_1).before args s = true) (hr : rest_1_c.before args s = true) : ∃ (b : Addr) (xs : List Int32), lw_P b xs args s := by
  have hs := flat_of_before _ h
  have hq := flat_of_before _ hr
  have hc : (Cond.count 1).before args s = true := hs _ (by decide +kernel)
  have harr : (Cond.arrayOf (.arg 0) .int).before args s = true := hs _ (by decide +kernel)
  have hle : (Cond.le (.length (.arg 0)) (.int 320)).before args s = true := hs _ (by decide +kernel)
  have hlen : (Cond.isInt (.length (.arg 0))).before args s = true := hq _ (by decide +kernel)
  have hall : (Cond.all (.arg 0) (.isInt (.elem (.arg 0) (.index 0)))).before args s = true := hq _ (by decide +kernel)
  obtain ⟨b, xs, hb, hx⟩ := State.ints_of_pre rfl harr hlen hall
  have hsm : xs.length < 2 ^ 31 := hx.choose_spec.2.2.2
  have hev : (Term.length (.arg 0)).eval args s none [] s = some (.int xs.length.toInt32) := hx.length_eval hb
  have hv := Cond.le_ints hev (show (Term.int 320).eval args s none [] s = some (.int 320) from rfl)
  have hd : xs.length.toInt32 ≤ 320 := by
    simpa [Cond.before, Cond.holds, hv] using hle
  have hN : xs.length ≤ 320 := (Int32.ofNat_le_ofNat hsm (by decide)).mp (show Int32.ofNat xs.length ≤ Int32.ofNat 320 from hd)
  exact ⟨b, xs, Cond.one_arg hc (show args[0]? = some (.ref b) from hb), hx, hN, h⟩
theorem lw_comes (l : Launch) : Comes l x (Jvm.Cond.code x code maxLocals ret :: tables_1) room_1 (fun tb e args s => Calls_1 tb e args s ∧ rest_1 tb e args s ∧ Pre_1 tb e args s)
    (fun _ _ args s o t => lw_Q args s o t) := by
  intro p e ha hc hk s m args below hf hfit hheap happ hpre
  obtain ⟨b, xs, hP⟩ := lw_pre_spec hpre.2.2 hpre.2.1
  obtain ⟨k, o, h1, h2, h3, hQ⟩ := lw_walk l b xs p e ha hc hk s m args below hf ((Spec.applies_iff_loose hf).mp happ).1 hP trivial
  exact ⟨k, o, h1, h2, h3, hQ⟩
theorem lw_frame {s t : State} {o : Outcome} {args : Array Value} (h : Framed s o t [] 600000 7290000) :
    Framed s o t (fieldLocs frame_1_writes args s ++ arrayLocs frame_1_arrays args s ++ staticLocs frame_1_statics s) 600000 7290000 := h
theorem lw_limb (L : Cond) (hL : ∀ (args : Array Value) (s t : State), L.after args s (.returned (some (.int 1))) t = true) :
    ArmFor flags0 classFile x code maxLocals ret World_1 tables_1 room_1 Calls_1 rest_1 Pre_1
      (fun tb e a s o t => postC L tb e a s o t ∧ Framed s o t (fieldLocs frame_1_writes a s ++ arrayLocs frame_1_arrays a s ++ staticLocs frame_1_statics s) 600000 7290000) := by
  intro l _ _ _ p e ha hc hk s m args below hf hfit hheap happ hpre
  obtain ⟨k, o, h1, h2, h3, rfl, hF⟩ := lw_comes l p e ha hc hk s m args below hf hfit hheap happ hpre
  exact ⟨k, _, h1, h2, h3, hL args s _, lw_frame hF⟩
theorem i_vc : Claimed_1_1 ∧ Claimed_1_2 := ⟨lw_limb limb_1_1 (fun args s t => by simp [limb_1_1, Cond.after, Cond.holds, Cond.value]), lw_limb limb_1_2 (fun args s t => Cond.after_iff.mpr (by
  first | (rw [show limb_1_2 = Cond.eq .result (.int 1) from rfl, Cond.eq_ints (x := 1) (y := 1) rfl rfl]; simp; done) | (simp [limb_1_2, Cond.value, Term.eval]; done)))⟩
end
