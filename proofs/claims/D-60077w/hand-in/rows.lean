section
-- ===== PART A: goes FIRST, ahead of the names: the tables' words, and 'selects' of the private methods out of them =====
/-- a private method of a class that the tables say can be made, by its rows of tables_1 -/
def lw_okq (q : MethodName × Nat) : Prop := (q.1.cls ≠ "java/lang/invoke/MethodHandle" ∧ q.1.cls ≠ "java/lang/invoke/VarHandle") ∧ Cond.instantiable q.1.cls q.2 ∈ tables_1 ∧ Cond.privateMethod q.1 ∈ tables_1 ∧ Cond.instanceMethod q.1 ∈ tables_1
set_option maxRecDepth 100000
theorem lw_t1 {w : Cond} (h : w ∈ tables_1_1) : w ∈ tables_1 := List.mem_append_left _ h
theorem lw_t2 {w : Cond} (h : w ∈ tables_1_2) : w ∈ tables_1 := List.mem_append_right _ h
theorem lw_p0 : lw_okq (⟨"KeyHeap", "freeBlock", "()I"⟩, 6) := ⟨⟨by decide +kernel, by decide +kernel⟩, lw_t1 (List.mem_of_getElem? (i := 4) rfl), lw_t1 (List.mem_of_getElem? (i := 40) rfl), lw_t1 (List.mem_of_getElem? (i := 41) rfl)⟩
theorem lw_p1 : lw_okq (⟨"KeyHeap", "pointerTo", "(I)I"⟩, 6) := ⟨⟨by decide +kernel, by decide +kernel⟩, lw_t1 (List.mem_of_getElem? (i := 4) rfl), lw_t1 (List.mem_of_getElem? (i := 44) rfl), lw_t1 (List.mem_of_getElem? (i := 45) rfl)⟩
theorem lw_p2 : lw_okq (⟨"KeyHeap", "check", "(I)I"⟩, 6) := ⟨⟨by decide +kernel, by decide +kernel⟩, lw_t1 (List.mem_of_getElem? (i := 4) rfl), lw_t1 (List.mem_of_getElem? (i := 52) rfl), lw_t1 (List.mem_of_getElem? (i := 53) rfl)⟩
theorem lw_p3 : lw_okq (⟨"KeyHeap", "stateOf", "(I)I"⟩, 6) := ⟨⟨by decide +kernel, by decide +kernel⟩, lw_t1 (List.mem_of_getElem? (i := 4) rfl), lw_t1 (List.mem_of_getElem? (i := 56) rfl), lw_t1 (List.mem_of_getElem? (i := 57) rfl)⟩
theorem lw_p4 : lw_okq (⟨"KeyHeap", "release", "(I)V"⟩, 6) := ⟨⟨by decide +kernel, by decide +kernel⟩, lw_t1 (List.mem_of_getElem? (i := 4) rfl), lw_t1 (List.mem_of_getElem? (i := 63) rfl), lw_t1 (List.mem_of_getElem? (i := 64) rfl)⟩
theorem lw_p5 : lw_okq (⟨"KeyHeap", "retire", "(I)V"⟩, 6) := ⟨⟨by decide +kernel, by decide +kernel⟩, lw_t1 (List.mem_of_getElem? (i := 4) rfl), lw_t1 (List.mem_of_getElem? (i := 67) rfl), lw_t1 (List.mem_of_getElem? (i := 68) rfl)⟩
theorem lw_p6 : lw_okq (⟨"KeyHeap", "mark", "()I"⟩, 6) := ⟨⟨by decide +kernel, by decide +kernel⟩, lw_t1 (List.mem_of_getElem? (i := 4) rfl), lw_t1 (List.mem_of_getElem? (i := 121) rfl), lw_t1 (List.mem_of_getElem? (i := 122) rfl)⟩
theorem lw_p7 : lw_okq (⟨"KeyHeap", "target", "(I)I"⟩, 6) := ⟨⟨by decide +kernel, by decide +kernel⟩, lw_t1 (List.mem_of_getElem? (i := 4) rfl), lw_t1 (List.mem_of_getElem? (i := 125) rfl), lw_t1 (List.mem_of_getElem? (i := 126) rfl)⟩
theorem lw_p8 : lw_okq (⟨"KeyHeapModel", "var", "(I)Z"⟩, 7) := ⟨⟨by decide +kernel, by decide +kernel⟩, lw_t1 (List.mem_of_getElem? (i := 137) rfl), lw_t1 (List.mem_of_getElem? (i := 170) rfl), lw_t1 (List.mem_of_getElem? (i := 171) rfl)⟩
theorem lw_p9 : lw_okq (⟨"KeyHeapModel", "through", "(I)I"⟩, 7) := ⟨⟨by decide +kernel, by decide +kernel⟩, lw_t1 (List.mem_of_getElem? (i := 137) rfl), lw_t1 (List.mem_of_getElem? (i := 182) rfl), lw_t1 (List.mem_of_getElem? (i := 183) rfl)⟩
theorem lw_p10 : lw_okq (⟨"KeyHeapModel", "kind", "(I)I"⟩, 7) := ⟨⟨by decide +kernel, by decide +kernel⟩, lw_t1 (List.mem_of_getElem? (i := 137) rfl), lw_t1 (List.mem_of_getElem? (i := 186) rfl), lw_t1 (List.mem_of_getElem? (i := 187) rfl)⟩
theorem lw_p11 : lw_okq (⟨"KeyHeapModel", "look", "()V"⟩, 7) := ⟨⟨by decide +kernel, by decide +kernel⟩, lw_t1 (List.mem_of_getElem? (i := 137) rfl), lw_t1 (List.mem_of_getElem? (i := 232) rfl), lw_t1 (List.mem_of_getElem? (i := 233) rfl)⟩
theorem lw_p12 : lw_okq (⟨"KeyHeapModel", "come", "(I)Z"⟩, 7) := ⟨⟨by decide +kernel, by decide +kernel⟩, lw_t1 (List.mem_of_getElem? (i := 137) rfl), lw_t1 (List.mem_of_getElem? (i := 236) rfl), lw_t1 (List.mem_of_getElem? (i := 237) rfl)⟩
def lw_privs_1 : List (MethodName × Nat) := [(⟨"KeyHeap", "freeBlock", "()I"⟩, 6), (⟨"KeyHeap", "pointerTo", "(I)I"⟩, 6), (⟨"KeyHeap", "check", "(I)I"⟩, 6), (⟨"KeyHeap", "stateOf", "(I)I"⟩, 6), (⟨"KeyHeap", "release", "(I)V"⟩, 6), (⟨"KeyHeap", "retire", "(I)V"⟩, 6), (⟨"KeyHeap", "mark", "()I"⟩, 6), (⟨"KeyHeap", "target", "(I)I"⟩, 6), (⟨"KeyHeapModel", "var", "(I)Z"⟩, 7), (⟨"KeyHeapModel", "through", "(I)I"⟩, 7), (⟨"KeyHeapModel", "kind", "(I)I"⟩, 7), (⟨"KeyHeapModel", "look", "()V"⟩, 7), (⟨"KeyHeapModel", "come", "(I)Z"⟩, 7)]
theorem lw_r1 : ∀ q ∈ lw_privs_1, lw_okq q := List.forall_mem_cons.mpr ⟨lw_p0, List.forall_mem_cons.mpr ⟨lw_p1, List.forall_mem_cons.mpr ⟨lw_p2, List.forall_mem_cons.mpr ⟨lw_p3, List.forall_mem_cons.mpr ⟨lw_p4, List.forall_mem_cons.mpr ⟨lw_p5, List.forall_mem_cons.mpr ⟨lw_p6, List.forall_mem_cons.mpr ⟨lw_p7, List.forall_mem_cons.mpr ⟨lw_p8, List.forall_mem_cons.mpr ⟨lw_p9, List.forall_mem_cons.mpr ⟨lw_p10, List.forall_mem_cons.mpr ⟨lw_p11, List.forall_mem_cons.mpr ⟨lw_p12, fun _ h => absurd h List.not_mem_nil⟩⟩⟩⟩⟩⟩⟩⟩⟩⟩⟩⟩⟩
def lw_privs : List (MethodName × Nat) := lw_privs_1
def lw_tbl : List Cond := k2_sels lw_privs ++ tables_1
theorem lw_privs_ok : ∀ q ∈ lw_privs, lw_okq q := lw_r1
-- ===== ONE list of words for every method: the tables' words that hold all through a run =====
def lw_all : List Cond := lw_tbl.filter goodWord
/-- a word of the tables by its place: claim/WORDS.tsv -/
theorem lw_w {w : Cond} (i : Nat) (h : lw_tbl[i]? = some w) (g : goodWord w = true) : w ∈ lw_all := List.mem_filter.mpr ⟨List.mem_of_getElem? h, g⟩
theorem lw_all_tbl {w : Cond} (h : w ∈ lw_all) : w ∈ lw_tbl := (List.mem_filter.mp h).1
theorem lw_self : GoodIn lw_all lw_all := fun w h => ⟨h, good_of_word (List.mem_filter.mp h).2⟩
/-- a class's field words, by their places -/
theorem lw_in (ws : List Cond) (ps : List Nat) (hp : ws = ps.filterMap (fun i => lw_tbl[i]?)) (hg : ws.all goodWord = true) : ∀ w ∈ ws, w ∈ lw_all := by
  intro w h
  have h1 := List.all_eq_true.mp hg w h
  rw [hp] at h
  obtain ⟨i, -, hi⟩ := List.mem_filterMap.mp h
  exact lw_w i hi h1
/-- the words of a contract for the method y with code b, L locals, answer r -/
abbrev ws_ (y : MethodName) (b : ByteArray) (L : Nat) (r : Option FieldType) : List Cond := Cond.code y b L r :: lw_all
theorem lw_meth {y : MethodName} {b : ByteArray} {L : Nat} {r : Option FieldType} (h : Cond.code y b L r ∈ lw_all) : GoodIn lw_all (ws_ y b L r) := by
  intro w hw
  rcases List.mem_cons.mp hw with e | e
  · rw [e]
    exact lw_self _ h
  · exact lw_self _ e
theorem lw_app {a c : List Cond} (ha : ∀ w ∈ a, w ∈ lw_all) (hc : GoodIn lw_all c) : GoodIn lw_all (a ++ c) := by
  intro w hw
  rcases List.mem_append.mp hw with e | e
  · exact lw_self w (ha w e)
  · exact hc w e
/-- what a call through an object asks: cwV n hts (lw_V ..) -/
theorem lw_V {own : String} {idx : Nat} {C : String} {y : MethodName} {b : ByteArray} {L : Nat} {r : Option FieldType} (h1 : Cond.methodLink own idx y ∈ lw_all) (h2 : Cond.instanceMethod y ∈ lw_all) (h3 : Cond.selects C y y ∈ lw_all) (h4 : Cond.initialized C ∈ lw_all) (h5 : Cond.code y b L r ∈ lw_all) : GoodIn lw_all (wsV own idx C y (ws_ y b L r)) := by
  refine lw_app ?_ (lw_meth h5)
  intro w hw
  simp only [List.mem_cons, List.not_mem_nil, or_false] at hw
  rcases hw with e | e | e | e
  · rw [e]; exact h1
  · rw [e]; exact h2
  · rw [e]; exact h3
  · rw [e]; exact h4
/-- what a static call asks: va_cwS n hts (lw_S ..) -/
theorem lw_S {own : String} {idx : Nat} {y : MethodName} {b : ByteArray} {L : Nat} {r : Option FieldType} (h1 : Cond.methodLink own idx y ∈ lw_all) (h2 : Cond.static y ∈ lw_all) (h3 : Cond.initialized y.cls ∈ lw_all) (h4 : Cond.code y b L r ∈ lw_all) : GoodIn lw_all (va_wsS own idx y (ws_ y b L r)) := by
  refine lw_app ?_ (lw_meth h4)
  intro w hw
  simp only [List.mem_cons, List.not_mem_nil, or_false] at hw
  rcases hw with e | e | e
  · rw [e]; exact h1
  · rw [e]; exact h2
  · rw [e]; exact h3
/-- the words of a contract for a method WITH HANDLERS (hh: its table) -/
abbrev wsW_ (y : MethodName) (b : ByteArray) (L : Nat) (r : Option FieldType) (hh : List (Nat × Nat × Nat × Nat)) : List Cond := Cond.codeWith y b L r hh :: lw_all
theorem lw_methW {y : MethodName} {b : ByteArray} {L : Nat} {r : Option FieldType} {hh : List (Nat × Nat × Nat × Nat)} (h : Cond.codeWith y b L r hh ∈ lw_all) : GoodIn lw_all (wsW_ y b L r hh) := by
  intro w hw
  rcases List.mem_cons.mp hw with e | e
  · rw [e]
    exact lw_self _ h
  · exact lw_self _ e
/-- any list of words by their places (lw_in), good -/
theorem lw_good {ws : List Cond} (h : ∀ w ∈ ws, w ∈ lw_all) : GoodIn lw_all ws := fun w hw => lw_self w (h w hw)
/-- what a call of a method with handlers asks: vx_cwVW n hts (lw_VW ..), vx_cwSW n hts (lw_SW ..) -/
theorem lw_VW {own : String} {idx : Nat} {C : String} {y : MethodName} {b : ByteArray} {L : Nat} {r : Option FieldType} {hh : List (Nat × Nat × Nat × Nat)} (h1 : Cond.methodLink own idx y ∈ lw_all) (h2 : Cond.instanceMethod y ∈ lw_all) (h3 : Cond.selects C y y ∈ lw_all) (h4 : Cond.initialized C ∈ lw_all) (h5 : Cond.codeWith y b L r hh ∈ lw_all) : GoodIn lw_all (wsV own idx C y (wsW_ y b L r hh)) := by
  refine lw_app ?_ (lw_methW h5)
  intro w hw
  simp only [List.mem_cons, List.not_mem_nil, or_false] at hw
  rcases hw with e | e | e | e
  · rw [e]; exact h1
  · rw [e]; exact h2
  · rw [e]; exact h3
  · rw [e]; exact h4
theorem lw_SW {own : String} {idx : Nat} {y : MethodName} {b : ByteArray} {L : Nat} {r : Option FieldType} {hh : List (Nat × Nat × Nat × Nat)} (h1 : Cond.methodLink own idx y ∈ lw_all) (h2 : Cond.static y ∈ lw_all) (h3 : Cond.initialized y.cls ∈ lw_all) (h4 : Cond.codeWith y b L r hh ∈ lw_all) : GoodIn lw_all (va_wsS own idx y (wsW_ y b L r hh)) := by
  refine lw_app ?_ (lw_methW h4)
  intro w hw
  simp only [List.mem_cons, List.not_mem_nil, or_false] at hw
  rcases hw with e | e | e
  · rw [e]; exact h1
  · rw [e]; exact h2
  · rw [e]; exact h3
/-- a word by its place in its run of the tables -/
theorem lw_at {r : List Cond} (hr : ∀ w ∈ r, w ∈ lw_tbl) {w : Cond} (i : Nat) (h : r[i]? = some w) : w ∈ lw_tbl := hr w (List.mem_of_getElem? h)
theorem lw_g {w : Cond} (h : w ∈ lw_tbl) (g : goodWord w = true) : w ∈ lw_all := List.mem_filter.mpr ⟨h, g⟩
theorem lw_ms : ∀ w ∈ k2_sels lw_privs, w ∈ lw_tbl := fun w h => show w ∈ k2_sels lw_privs ++ tables_1 from List.mem_append_left _ h
theorem lw_m1 : ∀ w ∈ tables_1_1, w ∈ lw_tbl := fun w h => show w ∈ k2_sels lw_privs ++ tables_1 from List.mem_append_right (k2_sels lw_privs) (show w ∈ tables_1 from List.mem_append_left _ h)
theorem lw_m2 : ∀ w ∈ tables_1_2, w ∈ lw_tbl := fun w h => show w ∈ k2_sels lw_privs ++ tables_1 from List.mem_append_right (k2_sels lw_privs) (show w ∈ tables_1 from List.mem_append_right _ h)
theorem qs0 : (Cond.selects "KeyHeap" ⟨"KeyHeap", "freeBlock", "()I"⟩ ⟨"KeyHeap", "freeBlock", "()I"⟩) ∈ lw_all := lw_g (lw_at lw_ms 0 rfl) rfl
theorem qs1 : (Cond.selects "KeyHeap" ⟨"KeyHeap", "pointerTo", "(I)I"⟩ ⟨"KeyHeap", "pointerTo", "(I)I"⟩) ∈ lw_all := lw_g (lw_at lw_ms 1 rfl) rfl
theorem qs2 : (Cond.selects "KeyHeap" ⟨"KeyHeap", "check", "(I)I"⟩ ⟨"KeyHeap", "check", "(I)I"⟩) ∈ lw_all := lw_g (lw_at lw_ms 2 rfl) rfl
theorem qs3 : (Cond.selects "KeyHeap" ⟨"KeyHeap", "stateOf", "(I)I"⟩ ⟨"KeyHeap", "stateOf", "(I)I"⟩) ∈ lw_all := lw_g (lw_at lw_ms 3 rfl) rfl
theorem qs4 : (Cond.selects "KeyHeap" ⟨"KeyHeap", "release", "(I)V"⟩ ⟨"KeyHeap", "release", "(I)V"⟩) ∈ lw_all := lw_g (lw_at lw_ms 4 rfl) rfl
theorem qs5 : (Cond.selects "KeyHeap" ⟨"KeyHeap", "retire", "(I)V"⟩ ⟨"KeyHeap", "retire", "(I)V"⟩) ∈ lw_all := lw_g (lw_at lw_ms 5 rfl) rfl
theorem qs6 : (Cond.selects "KeyHeap" ⟨"KeyHeap", "mark", "()I"⟩ ⟨"KeyHeap", "mark", "()I"⟩) ∈ lw_all := lw_g (lw_at lw_ms 6 rfl) rfl
theorem qs7 : (Cond.selects "KeyHeap" ⟨"KeyHeap", "target", "(I)I"⟩ ⟨"KeyHeap", "target", "(I)I"⟩) ∈ lw_all := lw_g (lw_at lw_ms 7 rfl) rfl
theorem qs8 : (Cond.selects "KeyHeapModel" ⟨"KeyHeapModel", "var", "(I)Z"⟩ ⟨"KeyHeapModel", "var", "(I)Z"⟩) ∈ lw_all := lw_g (lw_at lw_ms 8 rfl) rfl
theorem qs9 : (Cond.selects "KeyHeapModel" ⟨"KeyHeapModel", "through", "(I)I"⟩ ⟨"KeyHeapModel", "through", "(I)I"⟩) ∈ lw_all := lw_g (lw_at lw_ms 9 rfl) rfl
theorem qs10 : (Cond.selects "KeyHeapModel" ⟨"KeyHeapModel", "kind", "(I)I"⟩ ⟨"KeyHeapModel", "kind", "(I)I"⟩) ∈ lw_all := lw_g (lw_at lw_ms 10 rfl) rfl
theorem qs11 : (Cond.selects "KeyHeapModel" ⟨"KeyHeapModel", "look", "()V"⟩ ⟨"KeyHeapModel", "look", "()V"⟩) ∈ lw_all := lw_g (lw_at lw_ms 11 rfl) rfl
theorem qs12 : (Cond.selects "KeyHeapModel" ⟨"KeyHeapModel", "come", "(I)Z"⟩ ⟨"KeyHeapModel", "come", "(I)Z"⟩) ∈ lw_all := lw_g (lw_at lw_ms 12 rfl) rfl
end
section
/-! KeyHeap -/
set_option maxRecDepth 100000
def RX0 : String := "KeyHeap"
def TX0 : u_T := fun k => match k with
  | 0 => ("KeyHeap", "variables", "[B", true)
  | 1 => ("KeyHeap", "inUse", "I", false)
  | 2 => ("KeyHeap", "locks", "[B", true)
  | 3 => ("KeyHeap", "numbers", "[I", true)
  | 4 => ("KeyHeap", "links", "[B", true)
  | _ => ("KeyHeap", "turn", "I", false)
def tyX0 : Nat → FieldType := fun k => match k with
  | 0 => .array .byte
  | 1 => .int
  | 2 => .array .byte
  | 3 => .array .int
  | 4 => .array .byte
  | _ => .int
abbrev wsX00 : List Cond := u_ws RX0 TX0 6
theorem nmX0 : ∀ a, a < 6 → ∀ b, b < 6 → a ≠ b → (TX0 a).2.1 ≠ (TX0 b).2.1 := by decide +kernel
theorem tyX0_ok : ∀ k, k < 6 → parseFieldDescriptor (TX0 k).2.2.1 = some (tyX0 k) := by decide +kernel
abbrev cX0_init : ByteArray := prog_1_method_1_code
def yX0_init : MethodName := ⟨RX0, "<init>", "()V"⟩
abbrev cX0_make : ByteArray := prog_1_method_11_code
def yX0_make : MethodName := ⟨RX0, "make", "(II)I"⟩
abbrev cX0_isVariable : ByteArray := prog_1_method_2_code
def yX0_isVariable : MethodName := ⟨RX0, "isVariable", "(I)Z"⟩
abbrev cX0_freeBlock : ByteArray := prog_1_method_10_code
def yX0_freeBlock : MethodName := ⟨RX0, "freeBlock", "()I"⟩
abbrev cX0_pointerTo : ByteArray := prog_1_method_5_code
def yX0_pointerTo : MethodName := ⟨RX0, "pointerTo", "(I)I"⟩
abbrev cX0_dispose : ByteArray := prog_1_method_12_code
def yX0_dispose : MethodName := ⟨RX0, "dispose", "(I)I"⟩
abbrev cX0_check : ByteArray := prog_1_method_7_code
def yX0_check : MethodName := ⟨RX0, "check", "(I)I"⟩
abbrev cX0_stateOf : ByteArray := prog_1_method_6_code
def yX0_stateOf : MethodName := ⟨RX0, "stateOf", "(I)I"⟩
abbrev cX0_blockOf : ByteArray := prog_1_method_4_code
def yX0_blockOf : MethodName := ⟨RX0, "blockOf", "(I)I"⟩
abbrev cX0_release : ByteArray := prog_1_method_8_code
def yX0_release : MethodName := ⟨RX0, "release", "(I)V"⟩
abbrev cX0_retire : ByteArray := prog_1_method_9_code
def yX0_retire : MethodName := ⟨RX0, "retire", "(I)V"⟩
abbrev cX0_setNil : ByteArray := prog_1_method_13_code
def yX0_setNil : MethodName := ⟨RX0, "setNil", "(I)I"⟩
abbrev cX0_copy : ByteArray := prog_1_method_14_code
def yX0_copy : MethodName := ⟨RX0, "copy", "(II)I"⟩
abbrev cX0_setNumber : ByteArray := prog_1_method_15_code
def yX0_setNumber : MethodName := ⟨RX0, "setNumber", "(II)I"⟩
abbrev cX0_setLink : ByteArray := prog_1_method_16_code
def yX0_setLink : MethodName := ⟨RX0, "setLink", "(III)I"⟩
abbrev cX0_isLink : ByteArray := prog_1_method_3_code
def yX0_isLink : MethodName := ⟨RX0, "isLink", "(I)Z"⟩
abbrev cX0_follow : ByteArray := prog_1_method_17_code
def yX0_follow : MethodName := ⟨RX0, "follow", "(III)I"⟩
abbrev cX0_holds : ByteArray := prog_1_method_18_code
def yX0_holds : MethodName := ⟨RX0, "holds", "(I)I"⟩
abbrev cX0_number : ByteArray := prog_1_method_19_code
def yX0_number : MethodName := ⟨RX0, "number", "(I)I"⟩
abbrev cX0_linkHolds : ByteArray := prog_1_method_20_code
def yX0_linkHolds : MethodName := ⟨RX0, "linkHolds", "(II)I"⟩
abbrev cX0_same : ByteArray := prog_1_method_21_code
def yX0_same : MethodName := ⟨RX0, "same", "(II)Z"⟩
abbrev cX0_live : ByteArray := prog_1_method_22_code
def yX0_live : MethodName := ⟨RX0, "live", "()I"⟩
abbrev cX0_sizeOf : ByteArray := prog_1_method_23_code
def yX0_sizeOf : MethodName := ⟨RX0, "sizeOf", "(I)I"⟩
abbrev cX0_reached : ByteArray := prog_1_method_26_code
def yX0_reached : MethodName := ⟨RX0, "reached", "()I"⟩
abbrev cX0_mark : ByteArray := prog_1_method_24_code
def yX0_mark : MethodName := ⟨RX0, "mark", "()I"⟩
abbrev cX0_target : ByteArray := prog_1_method_25_code
def yX0_target : MethodName := ⟨RX0, "target", "(I)I"⟩
abbrev cX0_sweep : ByteArray := prog_1_method_27_code
def yX0_sweep : MethodName := ⟨RX0, "sweep", "()I"⟩
abbrev cX0_total : ByteArray := prog_1_method_28_code
def yX0_total : MethodName := ⟨RX0, "total", "()I"⟩
theorem dX0_init_0 : decode cX0_init 0 = .ok (.aload_n 0, 1) := by decide +kernel
theorem dX0_init_1 : decode cX0_init 1 = .ok (.invokespecial 1, 3) := by decide +kernel
theorem dX0_init_4 : decode cX0_init 4 = .ok (.aload_n 0, 1) := by decide +kernel
theorem dX0_init_5 : decode cX0_init 5 = .ok (.bipush 8, 2) := by decide +kernel
theorem dX0_init_7 : decode cX0_init 7 = .ok (.newarray .byte, 2) := by decide +kernel
theorem dX0_init_9 : decode cX0_init 9 = .ok (.putfield 7, 3) := by decide +kernel
theorem dX0_init_12 : decode cX0_init 12 = .ok (.aload_n 0, 1) := by decide +kernel
theorem dX0_init_13 : decode cX0_init 13 = .ok (.bipush 6, 2) := by decide +kernel
theorem dX0_init_15 : decode cX0_init 15 = .ok (.newarray .byte, 2) := by decide +kernel
theorem dX0_init_17 : decode cX0_init 17 = .ok (.putfield 13, 3) := by decide +kernel
theorem dX0_init_20 : decode cX0_init 20 = .ok (.aload_n 0, 1) := by decide +kernel
theorem dX0_init_21 : decode cX0_init 21 = .ok (.bipush 6, 2) := by decide +kernel
theorem dX0_init_23 : decode cX0_init 23 = .ok (.newarray .int, 2) := by decide +kernel
theorem dX0_init_25 : decode cX0_init 25 = .ok (.putfield 16, 3) := by decide +kernel
theorem dX0_init_28 : decode cX0_init 28 = .ok (.aload_n 0, 1) := by decide +kernel
theorem dX0_init_29 : decode cX0_init 29 = .ok (.bipush 12, 2) := by decide +kernel
theorem dX0_init_31 : decode cX0_init 31 = .ok (.newarray .byte, 2) := by decide +kernel
theorem dX0_init_33 : decode cX0_init 33 = .ok (.putfield 20, 3) := by decide +kernel
theorem dX0_init_36 : decode cX0_init 36 = .ok (.return_, 1) := by decide +kernel
theorem dX0_make_0 : decode cX0_make 0 = .ok (.iload_n 1, 1) := by decide +kernel
theorem dX0_make_1 : decode cX0_make 1 = .ok (.invokestatic 44, 3) := by decide +kernel
theorem dX0_make_4 : decode cX0_make 4 = .ok (.ifCond .ne 5, 3) := by decide +kernel
theorem dX0_make_7 : decode cX0_make 7 = .ok (.iconst (-1), 1) := by decide +kernel
theorem dX0_make_8 : decode cX0_make 8 = .ok (.ireturn, 1) := by decide +kernel
theorem dX0_make_9 : decode cX0_make 9 = .ok (.aload_n 0, 1) := by decide +kernel
theorem dX0_make_10 : decode cX0_make 10 = .ok (.invokevirtual 48, 3) := by decide +kernel
theorem dX0_make_13 : decode cX0_make 13 = .ok (.istore_n 3, 1) := by decide +kernel
theorem dX0_make_14 : decode cX0_make 14 = .ok (.iload_n 3, 1) := by decide +kernel
theorem dX0_make_15 : decode cX0_make 15 = .ok (.ifCond .ge 6, 3) := by decide +kernel
theorem dX0_make_18 : decode cX0_make 18 = .ok (.bipush (-2), 2) := by decide +kernel
theorem dX0_make_20 : decode cX0_make 20 = .ok (.ireturn, 1) := by decide +kernel
theorem dX0_make_21 : decode cX0_make 21 = .ok (.aload_n 0, 1) := by decide +kernel
theorem dX0_make_22 : decode cX0_make 22 = .ok (.iload_n 3, 1) := by decide +kernel
theorem dX0_make_23 : decode cX0_make 23 = .ok (.iconst 1, 1) := by decide +kernel
theorem dX0_make_24 : decode cX0_make 24 = .ok (.iadd, 1) := by decide +kernel
theorem dX0_make_25 : decode cX0_make 25 = .ok (.bipush 6, 2) := by decide +kernel
theorem dX0_make_27 : decode cX0_make 27 = .ok (.irem, 1) := by decide +kernel
theorem dX0_make_28 : decode cX0_make 28 = .ok (.putfield 41, 3) := by decide +kernel
theorem dX0_make_31 : decode cX0_make 31 = .ok (.aload_n 0, 1) := by decide +kernel
theorem dX0_make_32 : decode cX0_make 32 = .ok (.dup, 1) := by decide +kernel
theorem dX0_make_33 : decode cX0_make 33 = .ok (.getfield 27, 3) := by decide +kernel
theorem dX0_make_36 : decode cX0_make 36 = .ok (.iconst 1, 1) := by decide +kernel
theorem dX0_make_37 : decode cX0_make 37 = .ok (.iload_n 3, 1) := by decide +kernel
theorem dX0_make_38 : decode cX0_make 38 = .ok (.ishl, 1) := by decide +kernel
theorem dX0_make_39 : decode cX0_make 39 = .ok (.ior, 1) := by decide +kernel
theorem dX0_make_40 : decode cX0_make 40 = .ok (.putfield 27, 3) := by decide +kernel
theorem dX0_make_43 : decode cX0_make 43 = .ok (.aload_n 0, 1) := by decide +kernel
theorem dX0_make_44 : decode cX0_make 44 = .ok (.getfield 16, 3) := by decide +kernel
theorem dX0_make_47 : decode cX0_make 47 = .ok (.iload_n 3, 1) := by decide +kernel
theorem dX0_make_48 : decode cX0_make 48 = .ok (.iload_n 2, 1) := by decide +kernel
theorem dX0_make_49 : decode cX0_make 49 = .ok (.iastore, 1) := by decide +kernel
theorem dX0_make_50 : decode cX0_make 50 = .ok (.aload_n 0, 1) := by decide +kernel
theorem dX0_make_51 : decode cX0_make 51 = .ok (.getfield 20, 3) := by decide +kernel
theorem dX0_make_54 : decode cX0_make 54 = .ok (.iload_n 3, 1) := by decide +kernel
theorem dX0_make_55 : decode cX0_make 55 = .ok (.iconst 2, 1) := by decide +kernel
theorem dX0_make_56 : decode cX0_make 56 = .ok (.imul, 1) := by decide +kernel
theorem dX0_make_57 : decode cX0_make 57 = .ok (.iconst 0, 1) := by decide +kernel
theorem dX0_make_58 : decode cX0_make 58 = .ok (.bastore, 1) := by decide +kernel
theorem dX0_make_59 : decode cX0_make 59 = .ok (.aload_n 0, 1) := by decide +kernel
theorem dX0_make_60 : decode cX0_make 60 = .ok (.getfield 20, 3) := by decide +kernel
theorem dX0_make_63 : decode cX0_make 63 = .ok (.iload_n 3, 1) := by decide +kernel
theorem dX0_make_64 : decode cX0_make 64 = .ok (.iconst 2, 1) := by decide +kernel
theorem dX0_make_65 : decode cX0_make 65 = .ok (.imul, 1) := by decide +kernel
theorem dX0_make_66 : decode cX0_make 66 = .ok (.iconst 1, 1) := by decide +kernel
theorem dX0_make_67 : decode cX0_make 67 = .ok (.iadd, 1) := by decide +kernel
theorem dX0_make_68 : decode cX0_make 68 = .ok (.iconst 0, 1) := by decide +kernel
theorem dX0_make_69 : decode cX0_make 69 = .ok (.bastore, 1) := by decide +kernel
theorem dX0_make_70 : decode cX0_make 70 = .ok (.aload_n 0, 1) := by decide +kernel
theorem dX0_make_71 : decode cX0_make 71 = .ok (.getfield 7, 3) := by decide +kernel
theorem dX0_make_74 : decode cX0_make 74 = .ok (.iload_n 1, 1) := by decide +kernel
theorem dX0_make_75 : decode cX0_make 75 = .ok (.aload_n 0, 1) := by decide +kernel
theorem dX0_make_76 : decode cX0_make 76 = .ok (.iload_n 3, 1) := by decide +kernel
theorem dX0_make_77 : decode cX0_make 77 = .ok (.invokevirtual 31, 3) := by decide +kernel
theorem dX0_make_80 : decode cX0_make 80 = .ok (.i2b, 1) := by decide +kernel
theorem dX0_make_81 : decode cX0_make 81 = .ok (.bastore, 1) := by decide +kernel
theorem dX0_make_82 : decode cX0_make 82 = .ok (.iconst 0, 1) := by decide +kernel
theorem dX0_make_83 : decode cX0_make 83 = .ok (.ireturn, 1) := by decide +kernel
theorem dX0_isVariable_0 : decode cX0_isVariable 0 = .ok (.iload_n 0, 1) := by decide +kernel
theorem dX0_isVariable_1 : decode cX0_isVariable 1 = .ok (.ifCond .lt 13, 3) := by decide +kernel
theorem dX0_isVariable_4 : decode cX0_isVariable 4 = .ok (.iload_n 0, 1) := by decide +kernel
theorem dX0_isVariable_5 : decode cX0_isVariable 5 = .ok (.bipush 8, 2) := by decide +kernel
theorem dX0_isVariable_7 : decode cX0_isVariable 7 = .ok (.if_icmp .ge 7, 3) := by decide +kernel
theorem dX0_isVariable_10 : decode cX0_isVariable 10 = .ok (.iconst 1, 1) := by decide +kernel
theorem dX0_isVariable_11 : decode cX0_isVariable 11 = .ok (.goto 4, 3) := by decide +kernel
theorem dX0_isVariable_14 : decode cX0_isVariable 14 = .ok (.iconst 0, 1) := by decide +kernel
theorem dX0_isVariable_15 : decode cX0_isVariable 15 = .ok (.ireturn, 1) := by decide +kernel
theorem dX0_freeBlock_0 : decode cX0_freeBlock 0 = .ok (.iconst 0, 1) := by decide +kernel
theorem dX0_freeBlock_1 : decode cX0_freeBlock 1 = .ok (.istore_n 1, 1) := by decide +kernel
theorem dX0_freeBlock_2 : decode cX0_freeBlock 2 = .ok (.iload_n 1, 1) := by decide +kernel
theorem dX0_freeBlock_3 : decode cX0_freeBlock 3 = .ok (.bipush 6, 2) := by decide +kernel
theorem dX0_freeBlock_5 : decode cX0_freeBlock 5 = .ok (.if_icmp .ge 32, 3) := by decide +kernel
theorem dX0_freeBlock_8 : decode cX0_freeBlock 8 = .ok (.aload_n 0, 1) := by decide +kernel
theorem dX0_freeBlock_9 : decode cX0_freeBlock 9 = .ok (.getfield 41, 3) := by decide +kernel
theorem dX0_freeBlock_12 : decode cX0_freeBlock 12 = .ok (.iload_n 1, 1) := by decide +kernel
theorem dX0_freeBlock_13 : decode cX0_freeBlock 13 = .ok (.iadd, 1) := by decide +kernel
theorem dX0_freeBlock_14 : decode cX0_freeBlock 14 = .ok (.bipush 6, 2) := by decide +kernel
theorem dX0_freeBlock_16 : decode cX0_freeBlock 16 = .ok (.irem, 1) := by decide +kernel
theorem dX0_freeBlock_17 : decode cX0_freeBlock 17 = .ok (.istore_n 2, 1) := by decide +kernel
theorem dX0_freeBlock_18 : decode cX0_freeBlock 18 = .ok (.aload_n 0, 1) := by decide +kernel
theorem dX0_freeBlock_19 : decode cX0_freeBlock 19 = .ok (.getfield 27, 3) := by decide +kernel
theorem dX0_freeBlock_22 : decode cX0_freeBlock 22 = .ok (.iload_n 2, 1) := by decide +kernel
theorem dX0_freeBlock_23 : decode cX0_freeBlock 23 = .ok (.ishr, 1) := by decide +kernel
theorem dX0_freeBlock_24 : decode cX0_freeBlock 24 = .ok (.iconst 1, 1) := by decide +kernel
theorem dX0_freeBlock_25 : decode cX0_freeBlock 25 = .ok (.iand, 1) := by decide +kernel
theorem dX0_freeBlock_26 : decode cX0_freeBlock 26 = .ok (.ifCond .ne 5, 3) := by decide +kernel
theorem dX0_freeBlock_29 : decode cX0_freeBlock 29 = .ok (.iload_n 2, 1) := by decide +kernel
theorem dX0_freeBlock_30 : decode cX0_freeBlock 30 = .ok (.ireturn, 1) := by decide +kernel
theorem dX0_freeBlock_31 : decode cX0_freeBlock 31 = .ok (.iinc 1 1, 3) := by decide +kernel
theorem dX0_freeBlock_34 : decode cX0_freeBlock 34 = .ok (.goto (-32), 3) := by decide +kernel
theorem dX0_freeBlock_37 : decode cX0_freeBlock 37 = .ok (.iconst (-1), 1) := by decide +kernel
theorem dX0_freeBlock_38 : decode cX0_freeBlock 38 = .ok (.ireturn, 1) := by decide +kernel
theorem dX0_pointerTo_0 : decode cX0_pointerTo 0 = .ok (.iconst 1, 1) := by decide +kernel
theorem dX0_pointerTo_1 : decode cX0_pointerTo 1 = .ok (.iload_n 1, 1) := by decide +kernel
theorem dX0_pointerTo_2 : decode cX0_pointerTo 2 = .ok (.iadd, 1) := by decide +kernel
theorem dX0_pointerTo_3 : decode cX0_pointerTo 3 = .ok (.bipush 8, 2) := by decide +kernel
theorem dX0_pointerTo_5 : decode cX0_pointerTo 5 = .ok (.aload_n 0, 1) := by decide +kernel
theorem dX0_pointerTo_6 : decode cX0_pointerTo 6 = .ok (.getfield 13, 3) := by decide +kernel
theorem dX0_pointerTo_9 : decode cX0_pointerTo 9 = .ok (.iload_n 1, 1) := by decide +kernel
theorem dX0_pointerTo_10 : decode cX0_pointerTo 10 = .ok (.baload, 1) := by decide +kernel
theorem dX0_pointerTo_11 : decode cX0_pointerTo 11 = .ok (.imul, 1) := by decide +kernel
theorem dX0_pointerTo_12 : decode cX0_pointerTo 12 = .ok (.iadd, 1) := by decide +kernel
theorem dX0_pointerTo_13 : decode cX0_pointerTo 13 = .ok (.ireturn, 1) := by decide +kernel
theorem dX0_dispose_0 : decode cX0_dispose 0 = .ok (.iload_n 1, 1) := by decide +kernel
theorem dX0_dispose_1 : decode cX0_dispose 1 = .ok (.invokestatic 44, 3) := by decide +kernel
theorem dX0_dispose_4 : decode cX0_dispose 4 = .ok (.ifCond .ne 5, 3) := by decide +kernel
theorem dX0_dispose_7 : decode cX0_dispose 7 = .ok (.iconst (-1), 1) := by decide +kernel
theorem dX0_dispose_8 : decode cX0_dispose 8 = .ok (.ireturn, 1) := by decide +kernel
theorem dX0_dispose_9 : decode cX0_dispose 9 = .ok (.aload_n 0, 1) := by decide +kernel
theorem dX0_dispose_10 : decode cX0_dispose 10 = .ok (.iload_n 1, 1) := by decide +kernel
theorem dX0_dispose_11 : decode cX0_dispose 11 = .ok (.invokevirtual 52, 3) := by decide +kernel
theorem dX0_dispose_14 : decode cX0_dispose 14 = .ok (.istore_n 2, 1) := by decide +kernel
theorem dX0_dispose_15 : decode cX0_dispose 15 = .ok (.iload_n 2, 1) := by decide +kernel
theorem dX0_dispose_16 : decode cX0_dispose 16 = .ok (.ifCond .ne 18, 3) := by decide +kernel
theorem dX0_dispose_19 : decode cX0_dispose 19 = .ok (.aload_n 0, 1) := by decide +kernel
theorem dX0_dispose_20 : decode cX0_dispose 20 = .ok (.getfield 7, 3) := by decide +kernel
theorem dX0_dispose_23 : decode cX0_dispose 23 = .ok (.iload_n 1, 1) := by decide +kernel
theorem dX0_dispose_24 : decode cX0_dispose 24 = .ok (.baload, 1) := by decide +kernel
theorem dX0_dispose_25 : decode cX0_dispose 25 = .ok (.invokestatic 23, 3) := by decide +kernel
theorem dX0_dispose_28 : decode cX0_dispose 28 = .ok (.istore_n 3, 1) := by decide +kernel
theorem dX0_dispose_29 : decode cX0_dispose 29 = .ok (.aload_n 0, 1) := by decide +kernel
theorem dX0_dispose_30 : decode cX0_dispose 30 = .ok (.iload_n 3, 1) := by decide +kernel
theorem dX0_dispose_31 : decode cX0_dispose 31 = .ok (.invokevirtual 55, 3) := by decide +kernel
theorem dX0_dispose_34 : decode cX0_dispose 34 = .ok (.iload_n 2, 1) := by decide +kernel
theorem dX0_dispose_35 : decode cX0_dispose 35 = .ok (.ireturn, 1) := by decide +kernel
theorem dX0_check_0 : decode cX0_check 0 = .ok (.aload_n 0, 1) := by decide +kernel
theorem dX0_check_1 : decode cX0_check 1 = .ok (.aload_n 0, 1) := by decide +kernel
theorem dX0_check_2 : decode cX0_check 2 = .ok (.getfield 7, 3) := by decide +kernel
theorem dX0_check_5 : decode cX0_check 5 = .ok (.iload_n 1, 1) := by decide +kernel
theorem dX0_check_6 : decode cX0_check 6 = .ok (.baload, 1) := by decide +kernel
theorem dX0_check_7 : decode cX0_check 7 = .ok (.invokevirtual 34, 3) := by decide +kernel
theorem dX0_check_10 : decode cX0_check 10 = .ok (.istore_n 2, 1) := by decide +kernel
theorem dX0_check_11 : decode cX0_check 11 = .ok (.iload_n 2, 1) := by decide +kernel
theorem dX0_check_12 : decode cX0_check 12 = .ok (.ifCond .ne 6, 3) := by decide +kernel
theorem dX0_check_15 : decode cX0_check 15 = .ok (.bipush (-3), 2) := by decide +kernel
theorem dX0_check_17 : decode cX0_check 17 = .ok (.ireturn, 1) := by decide +kernel
theorem dX0_check_18 : decode cX0_check 18 = .ok (.iload_n 2, 1) := by decide +kernel
theorem dX0_check_19 : decode cX0_check 19 = .ok (.iconst 2, 1) := by decide +kernel
theorem dX0_check_20 : decode cX0_check 20 = .ok (.if_icmp .ne 8, 3) := by decide +kernel
theorem dX0_check_23 : decode cX0_check 23 = .ok (.bipush (-4), 2) := by decide +kernel
theorem dX0_check_25 : decode cX0_check 25 = .ok (.goto 4, 3) := by decide +kernel
theorem dX0_check_28 : decode cX0_check 28 = .ok (.iconst 0, 1) := by decide +kernel
theorem dX0_check_29 : decode cX0_check 29 = .ok (.ireturn, 1) := by decide +kernel
theorem dX0_stateOf_0 : decode cX0_stateOf 0 = .ok (.iload_n 1, 1) := by decide +kernel
theorem dX0_stateOf_1 : decode cX0_stateOf 1 = .ok (.ifCond .ne 5, 3) := by decide +kernel
theorem dX0_stateOf_4 : decode cX0_stateOf 4 = .ok (.iconst 0, 1) := by decide +kernel
theorem dX0_stateOf_5 : decode cX0_stateOf 5 = .ok (.ireturn, 1) := by decide +kernel
theorem dX0_stateOf_6 : decode cX0_stateOf 6 = .ok (.iload_n 1, 1) := by decide +kernel
theorem dX0_stateOf_7 : decode cX0_stateOf 7 = .ok (.iconst (-1), 1) := by decide +kernel
theorem dX0_stateOf_8 : decode cX0_stateOf 8 = .ok (.if_icmp .ne 5, 3) := by decide +kernel
theorem dX0_stateOf_11 : decode cX0_stateOf 11 = .ok (.iconst 2, 1) := by decide +kernel
theorem dX0_stateOf_12 : decode cX0_stateOf 12 = .ok (.ireturn, 1) := by decide +kernel
theorem dX0_stateOf_13 : decode cX0_stateOf 13 = .ok (.iload_n 1, 1) := by decide +kernel
theorem dX0_stateOf_14 : decode cX0_stateOf 14 = .ok (.invokestatic 23, 3) := by decide +kernel
theorem dX0_stateOf_17 : decode cX0_stateOf 17 = .ok (.istore_n 2, 1) := by decide +kernel
theorem dX0_stateOf_18 : decode cX0_stateOf 18 = .ok (.aload_n 0, 1) := by decide +kernel
theorem dX0_stateOf_19 : decode cX0_stateOf 19 = .ok (.getfield 27, 3) := by decide +kernel
theorem dX0_stateOf_22 : decode cX0_stateOf 22 = .ok (.iload_n 2, 1) := by decide +kernel
theorem dX0_stateOf_23 : decode cX0_stateOf 23 = .ok (.ishr, 1) := by decide +kernel
theorem dX0_stateOf_24 : decode cX0_stateOf 24 = .ok (.iconst 1, 1) := by decide +kernel
theorem dX0_stateOf_25 : decode cX0_stateOf 25 = .ok (.iand, 1) := by decide +kernel
theorem dX0_stateOf_26 : decode cX0_stateOf 26 = .ok (.ifCond .eq 16, 3) := by decide +kernel
theorem dX0_stateOf_29 : decode cX0_stateOf 29 = .ok (.iload_n 1, 1) := by decide +kernel
theorem dX0_stateOf_30 : decode cX0_stateOf 30 = .ok (.aload_n 0, 1) := by decide +kernel
theorem dX0_stateOf_31 : decode cX0_stateOf 31 = .ok (.iload_n 2, 1) := by decide +kernel
theorem dX0_stateOf_32 : decode cX0_stateOf 32 = .ok (.invokevirtual 31, 3) := by decide +kernel
theorem dX0_stateOf_35 : decode cX0_stateOf 35 = .ok (.if_icmp .ne 7, 3) := by decide +kernel
theorem dX0_stateOf_38 : decode cX0_stateOf 38 = .ok (.iconst 1, 1) := by decide +kernel
theorem dX0_stateOf_39 : decode cX0_stateOf 39 = .ok (.goto 4, 3) := by decide +kernel
theorem dX0_stateOf_42 : decode cX0_stateOf 42 = .ok (.iconst 0, 1) := by decide +kernel
theorem dX0_stateOf_43 : decode cX0_stateOf 43 = .ok (.istore_n 3, 1) := by decide +kernel
theorem dX0_stateOf_44 : decode cX0_stateOf 44 = .ok (.iload_n 3, 1) := by decide +kernel
theorem dX0_stateOf_45 : decode cX0_stateOf 45 = .ok (.ifCond .eq 7, 3) := by decide +kernel
theorem dX0_stateOf_48 : decode cX0_stateOf 48 = .ok (.iconst 1, 1) := by decide +kernel
theorem dX0_stateOf_49 : decode cX0_stateOf 49 = .ok (.goto 4, 3) := by decide +kernel
theorem dX0_stateOf_52 : decode cX0_stateOf 52 = .ok (.iconst 2, 1) := by decide +kernel
theorem dX0_stateOf_53 : decode cX0_stateOf 53 = .ok (.ireturn, 1) := by decide +kernel
theorem dX0_blockOf_0 : decode cX0_blockOf 0 = .ok (.iload_n 0, 1) := by decide +kernel
theorem dX0_blockOf_1 : decode cX0_blockOf 1 = .ok (.iconst 1, 1) := by decide +kernel
theorem dX0_blockOf_2 : decode cX0_blockOf 2 = .ok (.isub, 1) := by decide +kernel
theorem dX0_blockOf_3 : decode cX0_blockOf 3 = .ok (.bipush 7, 2) := by decide +kernel
theorem dX0_blockOf_5 : decode cX0_blockOf 5 = .ok (.iand, 1) := by decide +kernel
theorem dX0_blockOf_6 : decode cX0_blockOf 6 = .ok (.ireturn, 1) := by decide +kernel
theorem dX0_release_0 : decode cX0_release 0 = .ok (.aload_n 0, 1) := by decide +kernel
theorem dX0_release_1 : decode cX0_release 1 = .ok (.dup, 1) := by decide +kernel
theorem dX0_release_2 : decode cX0_release 2 = .ok (.getfield 27, 3) := by decide +kernel
theorem dX0_release_5 : decode cX0_release 5 = .ok (.iconst 1, 1) := by decide +kernel
theorem dX0_release_6 : decode cX0_release 6 = .ok (.iload_n 1, 1) := by decide +kernel
theorem dX0_release_7 : decode cX0_release 7 = .ok (.ishl, 1) := by decide +kernel
theorem dX0_release_8 : decode cX0_release 8 = .ok (.iconst (-1), 1) := by decide +kernel
theorem dX0_release_9 : decode cX0_release 9 = .ok (.ixor, 1) := by decide +kernel
theorem dX0_release_10 : decode cX0_release 10 = .ok (.iand, 1) := by decide +kernel
theorem dX0_release_11 : decode cX0_release 11 = .ok (.putfield 27, 3) := by decide +kernel
theorem dX0_release_14 : decode cX0_release 14 = .ok (.aload_n 0, 1) := by decide +kernel
theorem dX0_release_15 : decode cX0_release 15 = .ok (.getfield 13, 3) := by decide +kernel
theorem dX0_release_18 : decode cX0_release 18 = .ok (.iload_n 1, 1) := by decide +kernel
theorem dX0_release_19 : decode cX0_release 19 = .ok (.baload, 1) := by decide +kernel
theorem dX0_release_20 : decode cX0_release 20 = .ok (.iconst 3, 1) := by decide +kernel
theorem dX0_release_21 : decode cX0_release 21 = .ok (.if_icmp .ge 17, 3) := by decide +kernel
theorem dX0_release_24 : decode cX0_release 24 = .ok (.aload_n 0, 1) := by decide +kernel
theorem dX0_release_25 : decode cX0_release 25 = .ok (.getfield 13, 3) := by decide +kernel
theorem dX0_release_28 : decode cX0_release 28 = .ok (.iload_n 1, 1) := by decide +kernel
theorem dX0_release_29 : decode cX0_release 29 = .ok (.dup2, 1) := by decide +kernel
theorem dX0_release_30 : decode cX0_release 30 = .ok (.baload, 1) := by decide +kernel
theorem dX0_release_31 : decode cX0_release 31 = .ok (.iconst 1, 1) := by decide +kernel
theorem dX0_release_32 : decode cX0_release 32 = .ok (.iadd, 1) := by decide +kernel
theorem dX0_release_33 : decode cX0_release 33 = .ok (.i2b, 1) := by decide +kernel
theorem dX0_release_34 : decode cX0_release 34 = .ok (.bastore, 1) := by decide +kernel
theorem dX0_release_35 : decode cX0_release 35 = .ok (.goto 15, 3) := by decide +kernel
theorem dX0_release_38 : decode cX0_release 38 = .ok (.aload_n 0, 1) := by decide +kernel
theorem dX0_release_39 : decode cX0_release 39 = .ok (.iload_n 1, 1) := by decide +kernel
theorem dX0_release_40 : decode cX0_release 40 = .ok (.invokevirtual 37, 3) := by decide +kernel
theorem dX0_release_43 : decode cX0_release 43 = .ok (.aload_n 0, 1) := by decide +kernel
theorem dX0_release_44 : decode cX0_release 44 = .ok (.getfield 13, 3) := by decide +kernel
theorem dX0_release_47 : decode cX0_release 47 = .ok (.iload_n 1, 1) := by decide +kernel
theorem dX0_release_48 : decode cX0_release 48 = .ok (.iconst 0, 1) := by decide +kernel
theorem dX0_release_49 : decode cX0_release 49 = .ok (.bastore, 1) := by decide +kernel
theorem dX0_release_50 : decode cX0_release 50 = .ok (.return_, 1) := by decide +kernel
theorem dX0_retire_0 : decode cX0_retire 0 = .ok (.iconst 0, 1) := by decide +kernel
theorem dX0_retire_1 : decode cX0_retire 1 = .ok (.istore_n 2, 1) := by decide +kernel
theorem dX0_retire_2 : decode cX0_retire 2 = .ok (.iload_n 2, 1) := by decide +kernel
theorem dX0_retire_3 : decode cX0_retire 3 = .ok (.bipush 8, 2) := by decide +kernel
theorem dX0_retire_5 : decode cX0_retire 5 = .ok (.if_icmp .ge 38, 3) := by decide +kernel
theorem dX0_retire_8 : decode cX0_retire 8 = .ok (.aload_n 0, 1) := by decide +kernel
theorem dX0_retire_9 : decode cX0_retire 9 = .ok (.getfield 7, 3) := by decide +kernel
theorem dX0_retire_12 : decode cX0_retire 12 = .ok (.iload_n 2, 1) := by decide +kernel
theorem dX0_retire_13 : decode cX0_retire 13 = .ok (.baload, 1) := by decide +kernel
theorem dX0_retire_14 : decode cX0_retire 14 = .ok (.ifCond .le 23, 3) := by decide +kernel
theorem dX0_retire_17 : decode cX0_retire 17 = .ok (.aload_n 0, 1) := by decide +kernel
theorem dX0_retire_18 : decode cX0_retire 18 = .ok (.getfield 7, 3) := by decide +kernel
theorem dX0_retire_21 : decode cX0_retire 21 = .ok (.iload_n 2, 1) := by decide +kernel
theorem dX0_retire_22 : decode cX0_retire 22 = .ok (.baload, 1) := by decide +kernel
theorem dX0_retire_23 : decode cX0_retire 23 = .ok (.invokestatic 23, 3) := by decide +kernel
theorem dX0_retire_26 : decode cX0_retire 26 = .ok (.iload_n 1, 1) := by decide +kernel
theorem dX0_retire_27 : decode cX0_retire 27 = .ok (.if_icmp .ne 10, 3) := by decide +kernel
theorem dX0_retire_30 : decode cX0_retire 30 = .ok (.aload_n 0, 1) := by decide +kernel
theorem dX0_retire_31 : decode cX0_retire 31 = .ok (.getfield 7, 3) := by decide +kernel
theorem dX0_retire_34 : decode cX0_retire 34 = .ok (.iload_n 2, 1) := by decide +kernel
theorem dX0_retire_35 : decode cX0_retire 35 = .ok (.iconst (-1), 1) := by decide +kernel
theorem dX0_retire_36 : decode cX0_retire 36 = .ok (.bastore, 1) := by decide +kernel
theorem dX0_retire_37 : decode cX0_retire 37 = .ok (.iinc 2 1, 3) := by decide +kernel
theorem dX0_retire_40 : decode cX0_retire 40 = .ok (.goto (-38), 3) := by decide +kernel
theorem dX0_retire_43 : decode cX0_retire 43 = .ok (.iconst 0, 1) := by decide +kernel
theorem dX0_retire_44 : decode cX0_retire 44 = .ok (.istore_n 2, 1) := by decide +kernel
theorem dX0_retire_45 : decode cX0_retire 45 = .ok (.iload_n 2, 1) := by decide +kernel
theorem dX0_retire_46 : decode cX0_retire 46 = .ok (.bipush 12, 2) := by decide +kernel
theorem dX0_retire_48 : decode cX0_retire 48 = .ok (.if_icmp .ge 38, 3) := by decide +kernel
theorem dX0_retire_51 : decode cX0_retire 51 = .ok (.aload_n 0, 1) := by decide +kernel
theorem dX0_retire_52 : decode cX0_retire 52 = .ok (.getfield 20, 3) := by decide +kernel
theorem dX0_retire_55 : decode cX0_retire 55 = .ok (.iload_n 2, 1) := by decide +kernel
theorem dX0_retire_56 : decode cX0_retire 56 = .ok (.baload, 1) := by decide +kernel
theorem dX0_retire_57 : decode cX0_retire 57 = .ok (.ifCond .le 23, 3) := by decide +kernel
theorem dX0_retire_60 : decode cX0_retire 60 = .ok (.aload_n 0, 1) := by decide +kernel
theorem dX0_retire_61 : decode cX0_retire 61 = .ok (.getfield 20, 3) := by decide +kernel
theorem dX0_retire_64 : decode cX0_retire 64 = .ok (.iload_n 2, 1) := by decide +kernel
theorem dX0_retire_65 : decode cX0_retire 65 = .ok (.baload, 1) := by decide +kernel
theorem dX0_retire_66 : decode cX0_retire 66 = .ok (.invokestatic 23, 3) := by decide +kernel
theorem dX0_retire_69 : decode cX0_retire 69 = .ok (.iload_n 1, 1) := by decide +kernel
theorem dX0_retire_70 : decode cX0_retire 70 = .ok (.if_icmp .ne 10, 3) := by decide +kernel
theorem dX0_retire_73 : decode cX0_retire 73 = .ok (.aload_n 0, 1) := by decide +kernel
theorem dX0_retire_74 : decode cX0_retire 74 = .ok (.getfield 20, 3) := by decide +kernel
theorem dX0_retire_77 : decode cX0_retire 77 = .ok (.iload_n 2, 1) := by decide +kernel
theorem dX0_retire_78 : decode cX0_retire 78 = .ok (.iconst (-1), 1) := by decide +kernel
theorem dX0_retire_79 : decode cX0_retire 79 = .ok (.bastore, 1) := by decide +kernel
theorem dX0_retire_80 : decode cX0_retire 80 = .ok (.iinc 2 1, 3) := by decide +kernel
theorem dX0_retire_83 : decode cX0_retire 83 = .ok (.goto (-38), 3) := by decide +kernel
theorem dX0_retire_86 : decode cX0_retire 86 = .ok (.return_, 1) := by decide +kernel
theorem dX0_setNil_0 : decode cX0_setNil 0 = .ok (.iload_n 1, 1) := by decide +kernel
theorem dX0_setNil_1 : decode cX0_setNil 1 = .ok (.invokestatic 44, 3) := by decide +kernel
theorem dX0_setNil_4 : decode cX0_setNil 4 = .ok (.ifCond .ne 5, 3) := by decide +kernel
theorem dX0_setNil_7 : decode cX0_setNil 7 = .ok (.iconst (-1), 1) := by decide +kernel
theorem dX0_setNil_8 : decode cX0_setNil 8 = .ok (.ireturn, 1) := by decide +kernel
theorem dX0_setNil_9 : decode cX0_setNil 9 = .ok (.aload_n 0, 1) := by decide +kernel
theorem dX0_setNil_10 : decode cX0_setNil 10 = .ok (.getfield 7, 3) := by decide +kernel
theorem dX0_setNil_13 : decode cX0_setNil 13 = .ok (.iload_n 1, 1) := by decide +kernel
theorem dX0_setNil_14 : decode cX0_setNil 14 = .ok (.iconst 0, 1) := by decide +kernel
theorem dX0_setNil_15 : decode cX0_setNil 15 = .ok (.bastore, 1) := by decide +kernel
theorem dX0_setNil_16 : decode cX0_setNil 16 = .ok (.iconst 0, 1) := by decide +kernel
theorem dX0_setNil_17 : decode cX0_setNil 17 = .ok (.ireturn, 1) := by decide +kernel
theorem dX0_copy_0 : decode cX0_copy 0 = .ok (.iload_n 1, 1) := by decide +kernel
theorem dX0_copy_1 : decode cX0_copy 1 = .ok (.invokestatic 44, 3) := by decide +kernel
theorem dX0_copy_4 : decode cX0_copy 4 = .ok (.ifCond .eq 10, 3) := by decide +kernel
theorem dX0_copy_7 : decode cX0_copy 7 = .ok (.iload_n 2, 1) := by decide +kernel
theorem dX0_copy_8 : decode cX0_copy 8 = .ok (.invokestatic 44, 3) := by decide +kernel
theorem dX0_copy_11 : decode cX0_copy 11 = .ok (.ifCond .ne 5, 3) := by decide +kernel
theorem dX0_copy_14 : decode cX0_copy 14 = .ok (.iconst (-1), 1) := by decide +kernel
theorem dX0_copy_15 : decode cX0_copy 15 = .ok (.ireturn, 1) := by decide +kernel
theorem dX0_copy_16 : decode cX0_copy 16 = .ok (.aload_n 0, 1) := by decide +kernel
theorem dX0_copy_17 : decode cX0_copy 17 = .ok (.getfield 7, 3) := by decide +kernel
theorem dX0_copy_20 : decode cX0_copy 20 = .ok (.iload_n 1, 1) := by decide +kernel
theorem dX0_copy_21 : decode cX0_copy 21 = .ok (.aload_n 0, 1) := by decide +kernel
theorem dX0_copy_22 : decode cX0_copy 22 = .ok (.getfield 7, 3) := by decide +kernel
theorem dX0_copy_25 : decode cX0_copy 25 = .ok (.iload_n 2, 1) := by decide +kernel
theorem dX0_copy_26 : decode cX0_copy 26 = .ok (.baload, 1) := by decide +kernel
theorem dX0_copy_27 : decode cX0_copy 27 = .ok (.bastore, 1) := by decide +kernel
theorem dX0_copy_28 : decode cX0_copy 28 = .ok (.iconst 0, 1) := by decide +kernel
theorem dX0_copy_29 : decode cX0_copy 29 = .ok (.ireturn, 1) := by decide +kernel
theorem dX0_setNumber_0 : decode cX0_setNumber 0 = .ok (.iload_n 1, 1) := by decide +kernel
theorem dX0_setNumber_1 : decode cX0_setNumber 1 = .ok (.invokestatic 44, 3) := by decide +kernel
theorem dX0_setNumber_4 : decode cX0_setNumber 4 = .ok (.ifCond .ne 5, 3) := by decide +kernel
theorem dX0_setNumber_7 : decode cX0_setNumber 7 = .ok (.iconst (-1), 1) := by decide +kernel
theorem dX0_setNumber_8 : decode cX0_setNumber 8 = .ok (.ireturn, 1) := by decide +kernel
theorem dX0_setNumber_9 : decode cX0_setNumber 9 = .ok (.aload_n 0, 1) := by decide +kernel
theorem dX0_setNumber_10 : decode cX0_setNumber 10 = .ok (.iload_n 1, 1) := by decide +kernel
theorem dX0_setNumber_11 : decode cX0_setNumber 11 = .ok (.invokevirtual 52, 3) := by decide +kernel
theorem dX0_setNumber_14 : decode cX0_setNumber 14 = .ok (.istore_n 3, 1) := by decide +kernel
theorem dX0_setNumber_15 : decode cX0_setNumber 15 = .ok (.iload_n 3, 1) := by decide +kernel
theorem dX0_setNumber_16 : decode cX0_setNumber 16 = .ok (.ifCond .ne 22, 3) := by decide +kernel
theorem dX0_setNumber_19 : decode cX0_setNumber 19 = .ok (.aload_n 0, 1) := by decide +kernel
theorem dX0_setNumber_20 : decode cX0_setNumber 20 = .ok (.getfield 7, 3) := by decide +kernel
theorem dX0_setNumber_23 : decode cX0_setNumber 23 = .ok (.iload_n 1, 1) := by decide +kernel
theorem dX0_setNumber_24 : decode cX0_setNumber 24 = .ok (.baload, 1) := by decide +kernel
theorem dX0_setNumber_25 : decode cX0_setNumber 25 = .ok (.invokestatic 23, 3) := by decide +kernel
theorem dX0_setNumber_28 : decode cX0_setNumber 28 = .ok (.istore 4, 2) := by decide +kernel
theorem dX0_setNumber_30 : decode cX0_setNumber 30 = .ok (.aload_n 0, 1) := by decide +kernel
theorem dX0_setNumber_31 : decode cX0_setNumber 31 = .ok (.getfield 16, 3) := by decide +kernel
theorem dX0_setNumber_34 : decode cX0_setNumber 34 = .ok (.iload 4, 2) := by decide +kernel
theorem dX0_setNumber_36 : decode cX0_setNumber 36 = .ok (.iload_n 2, 1) := by decide +kernel
theorem dX0_setNumber_37 : decode cX0_setNumber 37 = .ok (.iastore, 1) := by decide +kernel
theorem dX0_setNumber_38 : decode cX0_setNumber 38 = .ok (.iload_n 3, 1) := by decide +kernel
theorem dX0_setNumber_39 : decode cX0_setNumber 39 = .ok (.ireturn, 1) := by decide +kernel
theorem dX0_setLink_0 : decode cX0_setLink 0 = .ok (.iload_n 1, 1) := by decide +kernel
theorem dX0_setLink_1 : decode cX0_setLink 1 = .ok (.invokestatic 44, 3) := by decide +kernel
theorem dX0_setLink_4 : decode cX0_setLink 4 = .ok (.ifCond .eq 17, 3) := by decide +kernel
theorem dX0_setLink_7 : decode cX0_setLink 7 = .ok (.iload_n 3, 1) := by decide +kernel
theorem dX0_setLink_8 : decode cX0_setLink 8 = .ok (.invokestatic 44, 3) := by decide +kernel
theorem dX0_setLink_11 : decode cX0_setLink 11 = .ok (.ifCond .eq 10, 3) := by decide +kernel
theorem dX0_setLink_14 : decode cX0_setLink 14 = .ok (.iload_n 2, 1) := by decide +kernel
theorem dX0_setLink_15 : decode cX0_setLink 15 = .ok (.invokestatic 58, 3) := by decide +kernel
theorem dX0_setLink_18 : decode cX0_setLink 18 = .ok (.ifCond .ne 5, 3) := by decide +kernel
theorem dX0_setLink_21 : decode cX0_setLink 21 = .ok (.iconst (-1), 1) := by decide +kernel
theorem dX0_setLink_22 : decode cX0_setLink 22 = .ok (.ireturn, 1) := by decide +kernel
theorem dX0_setLink_23 : decode cX0_setLink 23 = .ok (.aload_n 0, 1) := by decide +kernel
theorem dX0_setLink_24 : decode cX0_setLink 24 = .ok (.iload_n 1, 1) := by decide +kernel
theorem dX0_setLink_25 : decode cX0_setLink 25 = .ok (.invokevirtual 52, 3) := by decide +kernel
theorem dX0_setLink_28 : decode cX0_setLink 28 = .ok (.istore 4, 2) := by decide +kernel
theorem dX0_setLink_30 : decode cX0_setLink 30 = .ok (.iload 4, 2) := by decide +kernel
theorem dX0_setLink_32 : decode cX0_setLink 32 = .ok (.ifCond .ne 31, 3) := by decide +kernel
theorem dX0_setLink_35 : decode cX0_setLink 35 = .ok (.aload_n 0, 1) := by decide +kernel
theorem dX0_setLink_36 : decode cX0_setLink 36 = .ok (.getfield 7, 3) := by decide +kernel
theorem dX0_setLink_39 : decode cX0_setLink 39 = .ok (.iload_n 1, 1) := by decide +kernel
theorem dX0_setLink_40 : decode cX0_setLink 40 = .ok (.baload, 1) := by decide +kernel
theorem dX0_setLink_41 : decode cX0_setLink 41 = .ok (.invokestatic 23, 3) := by decide +kernel
theorem dX0_setLink_44 : decode cX0_setLink 44 = .ok (.istore 5, 2) := by decide +kernel
theorem dX0_setLink_46 : decode cX0_setLink 46 = .ok (.aload_n 0, 1) := by decide +kernel
theorem dX0_setLink_47 : decode cX0_setLink 47 = .ok (.getfield 20, 3) := by decide +kernel
theorem dX0_setLink_50 : decode cX0_setLink 50 = .ok (.iload 5, 2) := by decide +kernel
theorem dX0_setLink_52 : decode cX0_setLink 52 = .ok (.iconst 2, 1) := by decide +kernel
theorem dX0_setLink_53 : decode cX0_setLink 53 = .ok (.imul, 1) := by decide +kernel
theorem dX0_setLink_54 : decode cX0_setLink 54 = .ok (.iload_n 2, 1) := by decide +kernel
theorem dX0_setLink_55 : decode cX0_setLink 55 = .ok (.iadd, 1) := by decide +kernel
theorem dX0_setLink_56 : decode cX0_setLink 56 = .ok (.aload_n 0, 1) := by decide +kernel
theorem dX0_setLink_57 : decode cX0_setLink 57 = .ok (.getfield 7, 3) := by decide +kernel
theorem dX0_setLink_60 : decode cX0_setLink 60 = .ok (.iload_n 3, 1) := by decide +kernel
theorem dX0_setLink_61 : decode cX0_setLink 61 = .ok (.baload, 1) := by decide +kernel
theorem dX0_setLink_62 : decode cX0_setLink 62 = .ok (.bastore, 1) := by decide +kernel
theorem dX0_setLink_63 : decode cX0_setLink 63 = .ok (.iload 4, 2) := by decide +kernel
theorem dX0_setLink_65 : decode cX0_setLink 65 = .ok (.ireturn, 1) := by decide +kernel
theorem dX0_isLink_0 : decode cX0_isLink 0 = .ok (.iload_n 0, 1) := by decide +kernel
theorem dX0_isLink_1 : decode cX0_isLink 1 = .ok (.ifCond .eq 8, 3) := by decide +kernel
theorem dX0_isLink_4 : decode cX0_isLink 4 = .ok (.iload_n 0, 1) := by decide +kernel
theorem dX0_isLink_5 : decode cX0_isLink 5 = .ok (.iconst 1, 1) := by decide +kernel
theorem dX0_isLink_6 : decode cX0_isLink 6 = .ok (.if_icmp .ne 7, 3) := by decide +kernel
theorem dX0_isLink_9 : decode cX0_isLink 9 = .ok (.iconst 1, 1) := by decide +kernel
theorem dX0_isLink_10 : decode cX0_isLink 10 = .ok (.goto 4, 3) := by decide +kernel
theorem dX0_isLink_13 : decode cX0_isLink 13 = .ok (.iconst 0, 1) := by decide +kernel
theorem dX0_isLink_14 : decode cX0_isLink 14 = .ok (.ireturn, 1) := by decide +kernel
theorem dX0_follow_0 : decode cX0_follow 0 = .ok (.iload_n 1, 1) := by decide +kernel
theorem dX0_follow_1 : decode cX0_follow 1 = .ok (.invokestatic 44, 3) := by decide +kernel
theorem dX0_follow_4 : decode cX0_follow 4 = .ok (.ifCond .eq 17, 3) := by decide +kernel
theorem dX0_follow_7 : decode cX0_follow 7 = .ok (.iload_n 2, 1) := by decide +kernel
theorem dX0_follow_8 : decode cX0_follow 8 = .ok (.invokestatic 44, 3) := by decide +kernel
theorem dX0_follow_11 : decode cX0_follow 11 = .ok (.ifCond .eq 10, 3) := by decide +kernel
theorem dX0_follow_14 : decode cX0_follow 14 = .ok (.iload_n 3, 1) := by decide +kernel
theorem dX0_follow_15 : decode cX0_follow 15 = .ok (.invokestatic 58, 3) := by decide +kernel
theorem dX0_follow_18 : decode cX0_follow 18 = .ok (.ifCond .ne 5, 3) := by decide +kernel
theorem dX0_follow_21 : decode cX0_follow 21 = .ok (.iconst (-1), 1) := by decide +kernel
theorem dX0_follow_22 : decode cX0_follow 22 = .ok (.ireturn, 1) := by decide +kernel
theorem dX0_follow_23 : decode cX0_follow 23 = .ok (.aload_n 0, 1) := by decide +kernel
theorem dX0_follow_24 : decode cX0_follow 24 = .ok (.iload_n 2, 1) := by decide +kernel
theorem dX0_follow_25 : decode cX0_follow 25 = .ok (.invokevirtual 52, 3) := by decide +kernel
theorem dX0_follow_28 : decode cX0_follow 28 = .ok (.istore 4, 2) := by decide +kernel
theorem dX0_follow_30 : decode cX0_follow 30 = .ok (.iload 4, 2) := by decide +kernel
theorem dX0_follow_32 : decode cX0_follow 32 = .ok (.ifCond .ne 31, 3) := by decide +kernel
theorem dX0_follow_35 : decode cX0_follow 35 = .ok (.aload_n 0, 1) := by decide +kernel
theorem dX0_follow_36 : decode cX0_follow 36 = .ok (.getfield 7, 3) := by decide +kernel
theorem dX0_follow_39 : decode cX0_follow 39 = .ok (.iload_n 2, 1) := by decide +kernel
theorem dX0_follow_40 : decode cX0_follow 40 = .ok (.baload, 1) := by decide +kernel
theorem dX0_follow_41 : decode cX0_follow 41 = .ok (.invokestatic 23, 3) := by decide +kernel
theorem dX0_follow_44 : decode cX0_follow 44 = .ok (.istore 5, 2) := by decide +kernel
theorem dX0_follow_46 : decode cX0_follow 46 = .ok (.aload_n 0, 1) := by decide +kernel
theorem dX0_follow_47 : decode cX0_follow 47 = .ok (.getfield 7, 3) := by decide +kernel
theorem dX0_follow_50 : decode cX0_follow 50 = .ok (.iload_n 1, 1) := by decide +kernel
theorem dX0_follow_51 : decode cX0_follow 51 = .ok (.aload_n 0, 1) := by decide +kernel
theorem dX0_follow_52 : decode cX0_follow 52 = .ok (.getfield 20, 3) := by decide +kernel
theorem dX0_follow_55 : decode cX0_follow 55 = .ok (.iload 5, 2) := by decide +kernel
theorem dX0_follow_57 : decode cX0_follow 57 = .ok (.iconst 2, 1) := by decide +kernel
theorem dX0_follow_58 : decode cX0_follow 58 = .ok (.imul, 1) := by decide +kernel
theorem dX0_follow_59 : decode cX0_follow 59 = .ok (.iload_n 3, 1) := by decide +kernel
theorem dX0_follow_60 : decode cX0_follow 60 = .ok (.iadd, 1) := by decide +kernel
theorem dX0_follow_61 : decode cX0_follow 61 = .ok (.baload, 1) := by decide +kernel
theorem dX0_follow_62 : decode cX0_follow 62 = .ok (.bastore, 1) := by decide +kernel
theorem dX0_follow_63 : decode cX0_follow 63 = .ok (.iload 4, 2) := by decide +kernel
theorem dX0_follow_65 : decode cX0_follow 65 = .ok (.ireturn, 1) := by decide +kernel
theorem dX0_holds_0 : decode cX0_holds 0 = .ok (.iload_n 1, 1) := by decide +kernel
theorem dX0_holds_1 : decode cX0_holds 1 = .ok (.invokestatic 44, 3) := by decide +kernel
theorem dX0_holds_4 : decode cX0_holds 4 = .ok (.ifCond .eq 16, 3) := by decide +kernel
theorem dX0_holds_7 : decode cX0_holds 7 = .ok (.aload_n 0, 1) := by decide +kernel
theorem dX0_holds_8 : decode cX0_holds 8 = .ok (.aload_n 0, 1) := by decide +kernel
theorem dX0_holds_9 : decode cX0_holds 9 = .ok (.getfield 7, 3) := by decide +kernel
theorem dX0_holds_12 : decode cX0_holds 12 = .ok (.iload_n 1, 1) := by decide +kernel
theorem dX0_holds_13 : decode cX0_holds 13 = .ok (.baload, 1) := by decide +kernel
theorem dX0_holds_14 : decode cX0_holds 14 = .ok (.invokevirtual 34, 3) := by decide +kernel
theorem dX0_holds_17 : decode cX0_holds 17 = .ok (.goto 4, 3) := by decide +kernel
theorem dX0_holds_20 : decode cX0_holds 20 = .ok (.iconst (-1), 1) := by decide +kernel
theorem dX0_holds_21 : decode cX0_holds 21 = .ok (.ireturn, 1) := by decide +kernel
theorem dX0_number_0 : decode cX0_number 0 = .ok (.iload_n 1, 1) := by decide +kernel
theorem dX0_number_1 : decode cX0_number 1 = .ok (.invokestatic 44, 3) := by decide +kernel
theorem dX0_number_4 : decode cX0_number 4 = .ok (.ifCond .eq 17, 3) := by decide +kernel
theorem dX0_number_7 : decode cX0_number 7 = .ok (.aload_n 0, 1) := by decide +kernel
theorem dX0_number_8 : decode cX0_number 8 = .ok (.aload_n 0, 1) := by decide +kernel
theorem dX0_number_9 : decode cX0_number 9 = .ok (.getfield 7, 3) := by decide +kernel
theorem dX0_number_12 : decode cX0_number 12 = .ok (.iload_n 1, 1) := by decide +kernel
theorem dX0_number_13 : decode cX0_number 13 = .ok (.baload, 1) := by decide +kernel
theorem dX0_number_14 : decode cX0_number 14 = .ok (.invokevirtual 34, 3) := by decide +kernel
theorem dX0_number_17 : decode cX0_number 17 = .ok (.iconst 1, 1) := by decide +kernel
theorem dX0_number_18 : decode cX0_number 18 = .ok (.if_icmp .eq 5, 3) := by decide +kernel
theorem dX0_number_21 : decode cX0_number 21 = .ok (.iconst 0, 1) := by decide +kernel
theorem dX0_number_22 : decode cX0_number 22 = .ok (.ireturn, 1) := by decide +kernel
theorem dX0_number_23 : decode cX0_number 23 = .ok (.aload_n 0, 1) := by decide +kernel
theorem dX0_number_24 : decode cX0_number 24 = .ok (.getfield 7, 3) := by decide +kernel
theorem dX0_number_27 : decode cX0_number 27 = .ok (.iload_n 1, 1) := by decide +kernel
theorem dX0_number_28 : decode cX0_number 28 = .ok (.baload, 1) := by decide +kernel
theorem dX0_number_29 : decode cX0_number 29 = .ok (.invokestatic 23, 3) := by decide +kernel
theorem dX0_number_32 : decode cX0_number 32 = .ok (.istore_n 2, 1) := by decide +kernel
theorem dX0_number_33 : decode cX0_number 33 = .ok (.aload_n 0, 1) := by decide +kernel
theorem dX0_number_34 : decode cX0_number 34 = .ok (.getfield 16, 3) := by decide +kernel
theorem dX0_number_37 : decode cX0_number 37 = .ok (.iload_n 2, 1) := by decide +kernel
theorem dX0_number_38 : decode cX0_number 38 = .ok (.iaload, 1) := by decide +kernel
theorem dX0_number_39 : decode cX0_number 39 = .ok (.ireturn, 1) := by decide +kernel
theorem dX0_linkHolds_0 : decode cX0_linkHolds 0 = .ok (.iload_n 1, 1) := by decide +kernel
theorem dX0_linkHolds_1 : decode cX0_linkHolds 1 = .ok (.invokestatic 44, 3) := by decide +kernel
theorem dX0_linkHolds_4 : decode cX0_linkHolds 4 = .ok (.ifCond .eq 24, 3) := by decide +kernel
theorem dX0_linkHolds_7 : decode cX0_linkHolds 7 = .ok (.iload_n 2, 1) := by decide +kernel
theorem dX0_linkHolds_8 : decode cX0_linkHolds 8 = .ok (.invokestatic 58, 3) := by decide +kernel
theorem dX0_linkHolds_11 : decode cX0_linkHolds 11 = .ok (.ifCond .eq 17, 3) := by decide +kernel
theorem dX0_linkHolds_14 : decode cX0_linkHolds 14 = .ok (.aload_n 0, 1) := by decide +kernel
theorem dX0_linkHolds_15 : decode cX0_linkHolds 15 = .ok (.aload_n 0, 1) := by decide +kernel
theorem dX0_linkHolds_16 : decode cX0_linkHolds 16 = .ok (.getfield 7, 3) := by decide +kernel
theorem dX0_linkHolds_19 : decode cX0_linkHolds 19 = .ok (.iload_n 1, 1) := by decide +kernel
theorem dX0_linkHolds_20 : decode cX0_linkHolds 20 = .ok (.baload, 1) := by decide +kernel
theorem dX0_linkHolds_21 : decode cX0_linkHolds 21 = .ok (.invokevirtual 34, 3) := by decide +kernel
theorem dX0_linkHolds_24 : decode cX0_linkHolds 24 = .ok (.iconst 1, 1) := by decide +kernel
theorem dX0_linkHolds_25 : decode cX0_linkHolds 25 = .ok (.if_icmp .eq 5, 3) := by decide +kernel
theorem dX0_linkHolds_28 : decode cX0_linkHolds 28 = .ok (.iconst (-1), 1) := by decide +kernel
theorem dX0_linkHolds_29 : decode cX0_linkHolds 29 = .ok (.ireturn, 1) := by decide +kernel
theorem dX0_linkHolds_30 : decode cX0_linkHolds 30 = .ok (.aload_n 0, 1) := by decide +kernel
theorem dX0_linkHolds_31 : decode cX0_linkHolds 31 = .ok (.getfield 7, 3) := by decide +kernel
theorem dX0_linkHolds_34 : decode cX0_linkHolds 34 = .ok (.iload_n 1, 1) := by decide +kernel
theorem dX0_linkHolds_35 : decode cX0_linkHolds 35 = .ok (.baload, 1) := by decide +kernel
theorem dX0_linkHolds_36 : decode cX0_linkHolds 36 = .ok (.invokestatic 23, 3) := by decide +kernel
theorem dX0_linkHolds_39 : decode cX0_linkHolds 39 = .ok (.istore_n 3, 1) := by decide +kernel
theorem dX0_linkHolds_40 : decode cX0_linkHolds 40 = .ok (.aload_n 0, 1) := by decide +kernel
theorem dX0_linkHolds_41 : decode cX0_linkHolds 41 = .ok (.aload_n 0, 1) := by decide +kernel
theorem dX0_linkHolds_42 : decode cX0_linkHolds 42 = .ok (.getfield 20, 3) := by decide +kernel
theorem dX0_linkHolds_45 : decode cX0_linkHolds 45 = .ok (.iload_n 3, 1) := by decide +kernel
theorem dX0_linkHolds_46 : decode cX0_linkHolds 46 = .ok (.iconst 2, 1) := by decide +kernel
theorem dX0_linkHolds_47 : decode cX0_linkHolds 47 = .ok (.imul, 1) := by decide +kernel
theorem dX0_linkHolds_48 : decode cX0_linkHolds 48 = .ok (.iload_n 2, 1) := by decide +kernel
theorem dX0_linkHolds_49 : decode cX0_linkHolds 49 = .ok (.iadd, 1) := by decide +kernel
theorem dX0_linkHolds_50 : decode cX0_linkHolds 50 = .ok (.baload, 1) := by decide +kernel
theorem dX0_linkHolds_51 : decode cX0_linkHolds 51 = .ok (.invokevirtual 34, 3) := by decide +kernel
theorem dX0_linkHolds_54 : decode cX0_linkHolds 54 = .ok (.ireturn, 1) := by decide +kernel
theorem dX0_same_0 : decode cX0_same 0 = .ok (.iload_n 1, 1) := by decide +kernel
theorem dX0_same_1 : decode cX0_same 1 = .ok (.invokestatic 44, 3) := by decide +kernel
theorem dX0_same_4 : decode cX0_same 4 = .ok (.ifCond .eq 10, 3) := by decide +kernel
theorem dX0_same_7 : decode cX0_same 7 = .ok (.iload_n 2, 1) := by decide +kernel
theorem dX0_same_8 : decode cX0_same 8 = .ok (.invokestatic 44, 3) := by decide +kernel
theorem dX0_same_11 : decode cX0_same 11 = .ok (.ifCond .ne 5, 3) := by decide +kernel
theorem dX0_same_14 : decode cX0_same 14 = .ok (.iconst 0, 1) := by decide +kernel
theorem dX0_same_15 : decode cX0_same 15 = .ok (.ireturn, 1) := by decide +kernel
theorem dX0_same_16 : decode cX0_same 16 = .ok (.aload_n 0, 1) := by decide +kernel
theorem dX0_same_17 : decode cX0_same 17 = .ok (.aload_n 0, 1) := by decide +kernel
theorem dX0_same_18 : decode cX0_same 18 = .ok (.getfield 7, 3) := by decide +kernel
theorem dX0_same_21 : decode cX0_same 21 = .ok (.iload_n 1, 1) := by decide +kernel
theorem dX0_same_22 : decode cX0_same 22 = .ok (.baload, 1) := by decide +kernel
theorem dX0_same_23 : decode cX0_same 23 = .ok (.invokevirtual 34, 3) := by decide +kernel
theorem dX0_same_26 : decode cX0_same 26 = .ok (.iconst 2, 1) := by decide +kernel
theorem dX0_same_27 : decode cX0_same 27 = .ok (.if_icmp .eq 7, 3) := by decide +kernel
theorem dX0_same_30 : decode cX0_same 30 = .ok (.iconst 1, 1) := by decide +kernel
theorem dX0_same_31 : decode cX0_same 31 = .ok (.goto 4, 3) := by decide +kernel
theorem dX0_same_34 : decode cX0_same 34 = .ok (.iconst 0, 1) := by decide +kernel
theorem dX0_same_35 : decode cX0_same 35 = .ok (.istore_n 3, 1) := by decide +kernel
theorem dX0_same_36 : decode cX0_same 36 = .ok (.iload_n 3, 1) := by decide +kernel
theorem dX0_same_37 : decode cX0_same 37 = .ok (.ifCond .eq 22, 3) := by decide +kernel
theorem dX0_same_40 : decode cX0_same 40 = .ok (.aload_n 0, 1) := by decide +kernel
theorem dX0_same_41 : decode cX0_same 41 = .ok (.getfield 7, 3) := by decide +kernel
theorem dX0_same_44 : decode cX0_same 44 = .ok (.iload_n 1, 1) := by decide +kernel
theorem dX0_same_45 : decode cX0_same 45 = .ok (.baload, 1) := by decide +kernel
theorem dX0_same_46 : decode cX0_same 46 = .ok (.aload_n 0, 1) := by decide +kernel
theorem dX0_same_47 : decode cX0_same 47 = .ok (.getfield 7, 3) := by decide +kernel
theorem dX0_same_50 : decode cX0_same 50 = .ok (.iload_n 2, 1) := by decide +kernel
theorem dX0_same_51 : decode cX0_same 51 = .ok (.baload, 1) := by decide +kernel
theorem dX0_same_52 : decode cX0_same 52 = .ok (.if_icmp .ne 7, 3) := by decide +kernel
theorem dX0_same_55 : decode cX0_same 55 = .ok (.iconst 1, 1) := by decide +kernel
theorem dX0_same_56 : decode cX0_same 56 = .ok (.goto 4, 3) := by decide +kernel
theorem dX0_same_59 : decode cX0_same 59 = .ok (.iconst 0, 1) := by decide +kernel
theorem dX0_same_60 : decode cX0_same 60 = .ok (.ireturn, 1) := by decide +kernel
theorem dX0_live_0 : decode cX0_live 0 = .ok (.aload_n 0, 1) := by decide +kernel
theorem dX0_live_1 : decode cX0_live 1 = .ok (.getfield 27, 3) := by decide +kernel
theorem dX0_live_4 : decode cX0_live 4 = .ok (.invokestatic 61, 3) := by decide +kernel
theorem dX0_live_7 : decode cX0_live 7 = .ok (.ireturn, 1) := by decide +kernel
theorem dX0_sizeOf_0 : decode cX0_sizeOf 0 = .ok (.iconst 0, 1) := by decide +kernel
theorem dX0_sizeOf_1 : decode cX0_sizeOf 1 = .ok (.istore_n 1, 1) := by decide +kernel
theorem dX0_sizeOf_2 : decode cX0_sizeOf 2 = .ok (.iconst 0, 1) := by decide +kernel
theorem dX0_sizeOf_3 : decode cX0_sizeOf 3 = .ok (.istore_n 2, 1) := by decide +kernel
theorem dX0_sizeOf_4 : decode cX0_sizeOf 4 = .ok (.iload_n 2, 1) := by decide +kernel
theorem dX0_sizeOf_5 : decode cX0_sizeOf 5 = .ok (.bipush 6, 2) := by decide +kernel
theorem dX0_sizeOf_7 : decode cX0_sizeOf 7 = .ok (.if_icmp .ge 17, 3) := by decide +kernel
theorem dX0_sizeOf_10 : decode cX0_sizeOf 10 = .ok (.iload_n 1, 1) := by decide +kernel
theorem dX0_sizeOf_11 : decode cX0_sizeOf 11 = .ok (.iload_n 0, 1) := by decide +kernel
theorem dX0_sizeOf_12 : decode cX0_sizeOf 12 = .ok (.iload_n 2, 1) := by decide +kernel
theorem dX0_sizeOf_13 : decode cX0_sizeOf 13 = .ok (.ishr, 1) := by decide +kernel
theorem dX0_sizeOf_14 : decode cX0_sizeOf 14 = .ok (.iconst 1, 1) := by decide +kernel
theorem dX0_sizeOf_15 : decode cX0_sizeOf 15 = .ok (.iand, 1) := by decide +kernel
theorem dX0_sizeOf_16 : decode cX0_sizeOf 16 = .ok (.iadd, 1) := by decide +kernel
theorem dX0_sizeOf_17 : decode cX0_sizeOf 17 = .ok (.istore_n 1, 1) := by decide +kernel
theorem dX0_sizeOf_18 : decode cX0_sizeOf 18 = .ok (.iinc 2 1, 3) := by decide +kernel
theorem dX0_sizeOf_21 : decode cX0_sizeOf 21 = .ok (.goto (-17), 3) := by decide +kernel
theorem dX0_sizeOf_24 : decode cX0_sizeOf 24 = .ok (.iload_n 1, 1) := by decide +kernel
theorem dX0_sizeOf_25 : decode cX0_sizeOf 25 = .ok (.ireturn, 1) := by decide +kernel
theorem dX0_reached_0 : decode cX0_reached 0 = .ok (.aload_n 0, 1) := by decide +kernel
theorem dX0_reached_1 : decode cX0_reached 1 = .ok (.invokevirtual 67, 3) := by decide +kernel
theorem dX0_reached_4 : decode cX0_reached 4 = .ok (.istore_n 1, 1) := by decide +kernel
theorem dX0_reached_5 : decode cX0_reached 5 = .ok (.iload_n 1, 1) := by decide +kernel
theorem dX0_reached_6 : decode cX0_reached 6 = .ok (.invokestatic 61, 3) := by decide +kernel
theorem dX0_reached_9 : decode cX0_reached 9 = .ok (.ireturn, 1) := by decide +kernel
theorem dX0_mark_0 : decode cX0_mark 0 = .ok (.iconst 0, 1) := by decide +kernel
theorem dX0_mark_1 : decode cX0_mark 1 = .ok (.istore_n 1, 1) := by decide +kernel
theorem dX0_mark_2 : decode cX0_mark 2 = .ok (.iconst 0, 1) := by decide +kernel
theorem dX0_mark_3 : decode cX0_mark 3 = .ok (.istore_n 2, 1) := by decide +kernel
theorem dX0_mark_4 : decode cX0_mark 4 = .ok (.iload_n 2, 1) := by decide +kernel
theorem dX0_mark_5 : decode cX0_mark 5 = .ok (.bipush 8, 2) := by decide +kernel
theorem dX0_mark_7 : decode cX0_mark 7 = .ok (.if_icmp .ge 22, 3) := by decide +kernel
theorem dX0_mark_10 : decode cX0_mark 10 = .ok (.iload_n 1, 1) := by decide +kernel
theorem dX0_mark_11 : decode cX0_mark 11 = .ok (.aload_n 0, 1) := by decide +kernel
theorem dX0_mark_12 : decode cX0_mark 12 = .ok (.aload_n 0, 1) := by decide +kernel
theorem dX0_mark_13 : decode cX0_mark 13 = .ok (.getfield 7, 3) := by decide +kernel
theorem dX0_mark_16 : decode cX0_mark 16 = .ok (.iload_n 2, 1) := by decide +kernel
theorem dX0_mark_17 : decode cX0_mark 17 = .ok (.baload, 1) := by decide +kernel
theorem dX0_mark_18 : decode cX0_mark 18 = .ok (.invokevirtual 64, 3) := by decide +kernel
theorem dX0_mark_21 : decode cX0_mark 21 = .ok (.ior, 1) := by decide +kernel
theorem dX0_mark_22 : decode cX0_mark 22 = .ok (.istore_n 1, 1) := by decide +kernel
theorem dX0_mark_23 : decode cX0_mark 23 = .ok (.iinc 2 1, 3) := by decide +kernel
theorem dX0_mark_26 : decode cX0_mark 26 = .ok (.goto (-22), 3) := by decide +kernel
theorem dX0_mark_29 : decode cX0_mark 29 = .ok (.iconst 0, 1) := by decide +kernel
theorem dX0_mark_30 : decode cX0_mark 30 = .ok (.istore_n 2, 1) := by decide +kernel
theorem dX0_mark_31 : decode cX0_mark 31 = .ok (.iload_n 2, 1) := by decide +kernel
theorem dX0_mark_32 : decode cX0_mark 32 = .ok (.bipush 6, 2) := by decide +kernel
theorem dX0_mark_34 : decode cX0_mark 34 = .ok (.if_icmp .ge 46, 3) := by decide +kernel
theorem dX0_mark_37 : decode cX0_mark 37 = .ok (.iconst 0, 1) := by decide +kernel
theorem dX0_mark_38 : decode cX0_mark 38 = .ok (.istore_n 3, 1) := by decide +kernel
theorem dX0_mark_39 : decode cX0_mark 39 = .ok (.iload_n 3, 1) := by decide +kernel
theorem dX0_mark_40 : decode cX0_mark 40 = .ok (.bipush 12, 2) := by decide +kernel
theorem dX0_mark_42 : decode cX0_mark 42 = .ok (.if_icmp .ge 32, 3) := by decide +kernel
theorem dX0_mark_45 : decode cX0_mark 45 = .ok (.iload_n 1, 1) := by decide +kernel
theorem dX0_mark_46 : decode cX0_mark 46 = .ok (.iload_n 3, 1) := by decide +kernel
theorem dX0_mark_47 : decode cX0_mark 47 = .ok (.iconst 1, 1) := by decide +kernel
theorem dX0_mark_48 : decode cX0_mark 48 = .ok (.ishr, 1) := by decide +kernel
theorem dX0_mark_49 : decode cX0_mark 49 = .ok (.ishr, 1) := by decide +kernel
theorem dX0_mark_50 : decode cX0_mark 50 = .ok (.iconst 1, 1) := by decide +kernel
theorem dX0_mark_51 : decode cX0_mark 51 = .ok (.iand, 1) := by decide +kernel
theorem dX0_mark_52 : decode cX0_mark 52 = .ok (.ifCond .eq 16, 3) := by decide +kernel
theorem dX0_mark_55 : decode cX0_mark 55 = .ok (.iload_n 1, 1) := by decide +kernel
theorem dX0_mark_56 : decode cX0_mark 56 = .ok (.aload_n 0, 1) := by decide +kernel
theorem dX0_mark_57 : decode cX0_mark 57 = .ok (.aload_n 0, 1) := by decide +kernel
theorem dX0_mark_58 : decode cX0_mark 58 = .ok (.getfield 20, 3) := by decide +kernel
theorem dX0_mark_61 : decode cX0_mark 61 = .ok (.iload_n 3, 1) := by decide +kernel
theorem dX0_mark_62 : decode cX0_mark 62 = .ok (.baload, 1) := by decide +kernel
theorem dX0_mark_63 : decode cX0_mark 63 = .ok (.invokevirtual 64, 3) := by decide +kernel
theorem dX0_mark_66 : decode cX0_mark 66 = .ok (.ior, 1) := by decide +kernel
theorem dX0_mark_67 : decode cX0_mark 67 = .ok (.istore_n 1, 1) := by decide +kernel
theorem dX0_mark_68 : decode cX0_mark 68 = .ok (.iinc 3 1, 3) := by decide +kernel
theorem dX0_mark_71 : decode cX0_mark 71 = .ok (.goto (-32), 3) := by decide +kernel
theorem dX0_mark_74 : decode cX0_mark 74 = .ok (.iinc 2 1, 3) := by decide +kernel
theorem dX0_mark_77 : decode cX0_mark 77 = .ok (.goto (-46), 3) := by decide +kernel
theorem dX0_mark_80 : decode cX0_mark 80 = .ok (.iload_n 1, 1) := by decide +kernel
theorem dX0_mark_81 : decode cX0_mark 81 = .ok (.ireturn, 1) := by decide +kernel
theorem dX0_target_0 : decode cX0_target 0 = .ok (.aload_n 0, 1) := by decide +kernel
theorem dX0_target_1 : decode cX0_target 1 = .ok (.iload_n 1, 1) := by decide +kernel
theorem dX0_target_2 : decode cX0_target 2 = .ok (.invokevirtual 34, 3) := by decide +kernel
theorem dX0_target_5 : decode cX0_target 5 = .ok (.iconst 1, 1) := by decide +kernel
theorem dX0_target_6 : decode cX0_target 6 = .ok (.if_icmp .ne 12, 3) := by decide +kernel
theorem dX0_target_9 : decode cX0_target 9 = .ok (.iconst 1, 1) := by decide +kernel
theorem dX0_target_10 : decode cX0_target 10 = .ok (.iload_n 1, 1) := by decide +kernel
theorem dX0_target_11 : decode cX0_target 11 = .ok (.invokestatic 23, 3) := by decide +kernel
theorem dX0_target_14 : decode cX0_target 14 = .ok (.ishl, 1) := by decide +kernel
theorem dX0_target_15 : decode cX0_target 15 = .ok (.goto 4, 3) := by decide +kernel
theorem dX0_target_18 : decode cX0_target 18 = .ok (.iconst 0, 1) := by decide +kernel
theorem dX0_target_19 : decode cX0_target 19 = .ok (.ireturn, 1) := by decide +kernel
theorem dX0_sweep_0 : decode cX0_sweep 0 = .ok (.aload_n 0, 1) := by decide +kernel
theorem dX0_sweep_1 : decode cX0_sweep 1 = .ok (.getfield 27, 3) := by decide +kernel
theorem dX0_sweep_4 : decode cX0_sweep 4 = .ok (.aload_n 0, 1) := by decide +kernel
theorem dX0_sweep_5 : decode cX0_sweep 5 = .ok (.invokevirtual 67, 3) := by decide +kernel
theorem dX0_sweep_8 : decode cX0_sweep 8 = .ok (.iconst (-1), 1) := by decide +kernel
theorem dX0_sweep_9 : decode cX0_sweep 9 = .ok (.ixor, 1) := by decide +kernel
theorem dX0_sweep_10 : decode cX0_sweep 10 = .ok (.iand, 1) := by decide +kernel
theorem dX0_sweep_11 : decode cX0_sweep 11 = .ok (.istore_n 1, 1) := by decide +kernel
theorem dX0_sweep_12 : decode cX0_sweep 12 = .ok (.iconst 0, 1) := by decide +kernel
theorem dX0_sweep_13 : decode cX0_sweep 13 = .ok (.istore_n 2, 1) := by decide +kernel
theorem dX0_sweep_14 : decode cX0_sweep 14 = .ok (.iload_n 2, 1) := by decide +kernel
theorem dX0_sweep_15 : decode cX0_sweep 15 = .ok (.bipush 6, 2) := by decide +kernel
theorem dX0_sweep_17 : decode cX0_sweep 17 = .ok (.if_icmp .ge 22, 3) := by decide +kernel
theorem dX0_sweep_20 : decode cX0_sweep 20 = .ok (.iload_n 1, 1) := by decide +kernel
theorem dX0_sweep_21 : decode cX0_sweep 21 = .ok (.iload_n 2, 1) := by decide +kernel
theorem dX0_sweep_22 : decode cX0_sweep 22 = .ok (.ishr, 1) := by decide +kernel
theorem dX0_sweep_23 : decode cX0_sweep 23 = .ok (.iconst 1, 1) := by decide +kernel
theorem dX0_sweep_24 : decode cX0_sweep 24 = .ok (.iand, 1) := by decide +kernel
theorem dX0_sweep_25 : decode cX0_sweep 25 = .ok (.ifCond .eq 8, 3) := by decide +kernel
theorem dX0_sweep_28 : decode cX0_sweep 28 = .ok (.aload_n 0, 1) := by decide +kernel
theorem dX0_sweep_29 : decode cX0_sweep 29 = .ok (.iload_n 2, 1) := by decide +kernel
theorem dX0_sweep_30 : decode cX0_sweep 30 = .ok (.invokevirtual 55, 3) := by decide +kernel
theorem dX0_sweep_33 : decode cX0_sweep 33 = .ok (.iinc 2 1, 3) := by decide +kernel
theorem dX0_sweep_36 : decode cX0_sweep 36 = .ok (.goto (-22), 3) := by decide +kernel
theorem dX0_sweep_39 : decode cX0_sweep 39 = .ok (.iload_n 1, 1) := by decide +kernel
theorem dX0_sweep_40 : decode cX0_sweep 40 = .ok (.invokestatic 61, 3) := by decide +kernel
theorem dX0_sweep_43 : decode cX0_sweep 43 = .ok (.ireturn, 1) := by decide +kernel
theorem dX0_total_0 : decode cX0_total 0 = .ok (.iconst 0, 1) := by decide +kernel
theorem dX0_total_1 : decode cX0_total 1 = .ok (.istore_n 1, 1) := by decide +kernel
theorem dX0_total_2 : decode cX0_total 2 = .ok (.iconst 0, 1) := by decide +kernel
theorem dX0_total_3 : decode cX0_total 3 = .ok (.istore_n 2, 1) := by decide +kernel
theorem dX0_total_4 : decode cX0_total 4 = .ok (.iload_n 2, 1) := by decide +kernel
theorem dX0_total_5 : decode cX0_total 5 = .ok (.bipush 6, 2) := by decide +kernel
theorem dX0_total_7 : decode cX0_total 7 = .ok (.if_icmp .ge 29, 3) := by decide +kernel
theorem dX0_total_10 : decode cX0_total 10 = .ok (.aload_n 0, 1) := by decide +kernel
theorem dX0_total_11 : decode cX0_total 11 = .ok (.getfield 27, 3) := by decide +kernel
theorem dX0_total_14 : decode cX0_total 14 = .ok (.iload_n 2, 1) := by decide +kernel
theorem dX0_total_15 : decode cX0_total 15 = .ok (.ishr, 1) := by decide +kernel
theorem dX0_total_16 : decode cX0_total 16 = .ok (.iconst 1, 1) := by decide +kernel
theorem dX0_total_17 : decode cX0_total 17 = .ok (.iand, 1) := by decide +kernel
theorem dX0_total_18 : decode cX0_total 18 = .ok (.ifCond .eq 12, 3) := by decide +kernel
theorem dX0_total_21 : decode cX0_total 21 = .ok (.iload_n 1, 1) := by decide +kernel
theorem dX0_total_22 : decode cX0_total 22 = .ok (.aload_n 0, 1) := by decide +kernel
theorem dX0_total_23 : decode cX0_total 23 = .ok (.getfield 16, 3) := by decide +kernel
theorem dX0_total_26 : decode cX0_total 26 = .ok (.iload_n 2, 1) := by decide +kernel
theorem dX0_total_27 : decode cX0_total 27 = .ok (.iaload, 1) := by decide +kernel
theorem dX0_total_28 : decode cX0_total 28 = .ok (.iadd, 1) := by decide +kernel
theorem dX0_total_29 : decode cX0_total 29 = .ok (.istore_n 1, 1) := by decide +kernel
theorem dX0_total_30 : decode cX0_total 30 = .ok (.iinc 2 1, 3) := by decide +kernel
theorem dX0_total_33 : decode cX0_total 33 = .ok (.goto (-29), 3) := by decide +kernel
theorem dX0_total_36 : decode cX0_total 36 = .ok (.iload_n 1, 1) := by decide +kernel
theorem dX0_total_37 : decode cX0_total 37 = .ok (.ireturn, 1) := by decide +kernel
end
section
/-! KeyHeapModel -/
set_option maxRecDepth 100000
def RX1 : String := "KeyHeapModel"
def TX1 : u_T := fun k => match k with
  | 0 => ("KeyHeapModel", "vars", "[I", false)
  | 1 => ("KeyHeapModel", "made", "I", false)
  | 2 => ("KeyHeapModel", "alive", "[Z", false)
  | 3 => ("KeyHeapModel", "num", "[I", false)
  | 4 => ("KeyHeapModel", "left", "[I", false)
  | 5 => ("KeyHeapModel", "right", "[I", false)
  | _ => ("KeyHeapModel", "seen", "[Z", false)
def tyX1 : Nat → FieldType := fun k => match k with
  | 0 => .array .int
  | 1 => .int
  | 2 => .array .boolean
  | 3 => .array .int
  | 4 => .array .int
  | 5 => .array .int
  | _ => .array .boolean
abbrev wsX10 : List Cond := u_ws RX1 TX1 7
theorem nmX1 : ∀ a, a < 7 → ∀ b, b < 7 → a ≠ b → (TX1 a).2.1 ≠ (TX1 b).2.1 := by decide +kernel
theorem tyX1_ok : ∀ k, k < 7 → parseFieldDescriptor (TX1 k).2.2.1 = some (tyX1 k) := by decide +kernel
abbrev cX1_init : ByteArray := prog_3_method_1_code
def yX1_init : MethodName := ⟨RX1, "<init>", "()V"⟩
abbrev cX1_make : ByteArray := prog_3_method_5_code
def yX1_make : MethodName := ⟨RX1, "make", "(II)I"⟩
abbrev cX1_var : ByteArray := prog_3_method_2_code
def yX1_var : MethodName := ⟨RX1, "var", "(I)Z"⟩
abbrev cX1_live : ByteArray := prog_3_method_16_code
def yX1_live : MethodName := ⟨RX1, "live", "()I"⟩
abbrev cX1_dispose : ByteArray := prog_3_method_6_code
def yX1_dispose : MethodName := ⟨RX1, "dispose", "(I)I"⟩
abbrev cX1_through : ByteArray := prog_3_method_4_code
def yX1_through : MethodName := ⟨RX1, "through", "(I)I"⟩
abbrev cX1_kind : ByteArray := prog_3_method_3_code
def yX1_kind : MethodName := ⟨RX1, "kind", "(I)I"⟩
abbrev cX1_setNil : ByteArray := prog_3_method_7_code
def yX1_setNil : MethodName := ⟨RX1, "setNil", "(I)I"⟩
abbrev cX1_copy : ByteArray := prog_3_method_8_code
def yX1_copy : MethodName := ⟨RX1, "copy", "(II)I"⟩
abbrev cX1_setNumber : ByteArray := prog_3_method_9_code
def yX1_setNumber : MethodName := ⟨RX1, "setNumber", "(II)I"⟩
abbrev cX1_setLink : ByteArray := prog_3_method_10_code
def yX1_setLink : MethodName := ⟨RX1, "setLink", "(III)I"⟩
abbrev cX1_follow : ByteArray := prog_3_method_11_code
def yX1_follow : MethodName := ⟨RX1, "follow", "(III)I"⟩
abbrev cX1_holds : ByteArray := prog_3_method_12_code
def yX1_holds : MethodName := ⟨RX1, "holds", "(I)I"⟩
abbrev cX1_number : ByteArray := prog_3_method_13_code
def yX1_number : MethodName := ⟨RX1, "number", "(I)I"⟩
abbrev cX1_linkHolds : ByteArray := prog_3_method_14_code
def yX1_linkHolds : MethodName := ⟨RX1, "linkHolds", "(II)I"⟩
abbrev cX1_same : ByteArray := prog_3_method_15_code
def yX1_same : MethodName := ⟨RX1, "same", "(II)Z"⟩
abbrev cX1_reached : ByteArray := prog_3_method_19_code
def yX1_reached : MethodName := ⟨RX1, "reached", "()I"⟩
abbrev cX1_look : ByteArray := prog_3_method_18_code
def yX1_look : MethodName := ⟨RX1, "look", "()V"⟩
abbrev cX1_come : ByteArray := prog_3_method_17_code
def yX1_come : MethodName := ⟨RX1, "come", "(I)Z"⟩
abbrev cX1_sweep : ByteArray := prog_3_method_20_code
def yX1_sweep : MethodName := ⟨RX1, "sweep", "()I"⟩
abbrev cX1_total : ByteArray := prog_3_method_21_code
def yX1_total : MethodName := ⟨RX1, "total", "()I"⟩
theorem dX1_init_0 : decode cX1_init 0 = .ok (.aload_n 0, 1) := by decide +kernel
theorem dX1_init_1 : decode cX1_init 1 = .ok (.invokespecial 1, 3) := by decide +kernel
theorem dX1_init_4 : decode cX1_init 4 = .ok (.aload_n 0, 1) := by decide +kernel
theorem dX1_init_5 : decode cX1_init 5 = .ok (.bipush 8, 2) := by decide +kernel
theorem dX1_init_7 : decode cX1_init 7 = .ok (.newarray .int, 2) := by decide +kernel
theorem dX1_init_9 : decode cX1_init 9 = .ok (.putfield 7, 3) := by decide +kernel
theorem dX1_init_12 : decode cX1_init 12 = .ok (.aload_n 0, 1) := by decide +kernel
theorem dX1_init_13 : decode cX1_init 13 = .ok (.sipush 512, 3) := by decide +kernel
theorem dX1_init_16 : decode cX1_init 16 = .ok (.newarray .boolean, 2) := by decide +kernel
theorem dX1_init_18 : decode cX1_init 18 = .ok (.putfield 13, 3) := by decide +kernel
theorem dX1_init_21 : decode cX1_init 21 = .ok (.aload_n 0, 1) := by decide +kernel
theorem dX1_init_22 : decode cX1_init 22 = .ok (.sipush 512, 3) := by decide +kernel
theorem dX1_init_25 : decode cX1_init 25 = .ok (.newarray .int, 2) := by decide +kernel
theorem dX1_init_27 : decode cX1_init 27 = .ok (.putfield 17, 3) := by decide +kernel
theorem dX1_init_30 : decode cX1_init 30 = .ok (.aload_n 0, 1) := by decide +kernel
theorem dX1_init_31 : decode cX1_init 31 = .ok (.sipush 512, 3) := by decide +kernel
theorem dX1_init_34 : decode cX1_init 34 = .ok (.newarray .int, 2) := by decide +kernel
theorem dX1_init_36 : decode cX1_init 36 = .ok (.putfield 20, 3) := by decide +kernel
theorem dX1_init_39 : decode cX1_init 39 = .ok (.aload_n 0, 1) := by decide +kernel
theorem dX1_init_40 : decode cX1_init 40 = .ok (.sipush 512, 3) := by decide +kernel
theorem dX1_init_43 : decode cX1_init 43 = .ok (.newarray .int, 2) := by decide +kernel
theorem dX1_init_45 : decode cX1_init 45 = .ok (.putfield 23, 3) := by decide +kernel
theorem dX1_init_48 : decode cX1_init 48 = .ok (.aload_n 0, 1) := by decide +kernel
theorem dX1_init_49 : decode cX1_init 49 = .ok (.sipush 512, 3) := by decide +kernel
theorem dX1_init_52 : decode cX1_init 52 = .ok (.newarray .boolean, 2) := by decide +kernel
theorem dX1_init_54 : decode cX1_init 54 = .ok (.putfield 26, 3) := by decide +kernel
theorem dX1_init_57 : decode cX1_init 57 = .ok (.return_, 1) := by decide +kernel
theorem dX1_make_0 : decode cX1_make 0 = .ok (.aload_n 0, 1) := by decide +kernel
theorem dX1_make_1 : decode cX1_make 1 = .ok (.iload_n 1, 1) := by decide +kernel
theorem dX1_make_2 : decode cX1_make 2 = .ok (.invokevirtual 33, 3) := by decide +kernel
theorem dX1_make_5 : decode cX1_make 5 = .ok (.ifCond .ne 5, 3) := by decide +kernel
theorem dX1_make_8 : decode cX1_make 8 = .ok (.iconst (-1), 1) := by decide +kernel
theorem dX1_make_9 : decode cX1_make 9 = .ok (.ireturn, 1) := by decide +kernel
theorem dX1_make_10 : decode cX1_make 10 = .ok (.aload_n 0, 1) := by decide +kernel
theorem dX1_make_11 : decode cX1_make 11 = .ok (.invokevirtual 37, 3) := by decide +kernel
theorem dX1_make_14 : decode cX1_make 14 = .ok (.bipush 6, 2) := by decide +kernel
theorem dX1_make_16 : decode cX1_make 16 = .ok (.if_icmp .ge 13, 3) := by decide +kernel
theorem dX1_make_19 : decode cX1_make 19 = .ok (.aload_n 0, 1) := by decide +kernel
theorem dX1_make_20 : decode cX1_make 20 = .ok (.getfield 41, 3) := by decide +kernel
theorem dX1_make_23 : decode cX1_make 23 = .ok (.sipush 512, 3) := by decide +kernel
theorem dX1_make_26 : decode cX1_make 26 = .ok (.if_icmp .lt 6, 3) := by decide +kernel
theorem dX1_make_29 : decode cX1_make 29 = .ok (.bipush (-2), 2) := by decide +kernel
theorem dX1_make_31 : decode cX1_make 31 = .ok (.ireturn, 1) := by decide +kernel
theorem dX1_make_32 : decode cX1_make 32 = .ok (.aload_n 0, 1) := by decide +kernel
theorem dX1_make_33 : decode cX1_make 33 = .ok (.getfield 13, 3) := by decide +kernel
theorem dX1_make_36 : decode cX1_make 36 = .ok (.aload_n 0, 1) := by decide +kernel
theorem dX1_make_37 : decode cX1_make 37 = .ok (.getfield 41, 3) := by decide +kernel
theorem dX1_make_40 : decode cX1_make 40 = .ok (.iconst 1, 1) := by decide +kernel
theorem dX1_make_41 : decode cX1_make 41 = .ok (.bastore, 1) := by decide +kernel
theorem dX1_make_42 : decode cX1_make 42 = .ok (.aload_n 0, 1) := by decide +kernel
theorem dX1_make_43 : decode cX1_make 43 = .ok (.getfield 17, 3) := by decide +kernel
theorem dX1_make_46 : decode cX1_make 46 = .ok (.aload_n 0, 1) := by decide +kernel
theorem dX1_make_47 : decode cX1_make 47 = .ok (.getfield 41, 3) := by decide +kernel
theorem dX1_make_50 : decode cX1_make 50 = .ok (.iload_n 2, 1) := by decide +kernel
theorem dX1_make_51 : decode cX1_make 51 = .ok (.iastore, 1) := by decide +kernel
theorem dX1_make_52 : decode cX1_make 52 = .ok (.aload_n 0, 1) := by decide +kernel
theorem dX1_make_53 : decode cX1_make 53 = .ok (.getfield 20, 3) := by decide +kernel
theorem dX1_make_56 : decode cX1_make 56 = .ok (.aload_n 0, 1) := by decide +kernel
theorem dX1_make_57 : decode cX1_make 57 = .ok (.getfield 41, 3) := by decide +kernel
theorem dX1_make_60 : decode cX1_make 60 = .ok (.iconst 0, 1) := by decide +kernel
theorem dX1_make_61 : decode cX1_make 61 = .ok (.iastore, 1) := by decide +kernel
theorem dX1_make_62 : decode cX1_make 62 = .ok (.aload_n 0, 1) := by decide +kernel
theorem dX1_make_63 : decode cX1_make 63 = .ok (.getfield 23, 3) := by decide +kernel
theorem dX1_make_66 : decode cX1_make 66 = .ok (.aload_n 0, 1) := by decide +kernel
theorem dX1_make_67 : decode cX1_make 67 = .ok (.getfield 41, 3) := by decide +kernel
theorem dX1_make_70 : decode cX1_make 70 = .ok (.iconst 0, 1) := by decide +kernel
theorem dX1_make_71 : decode cX1_make 71 = .ok (.iastore, 1) := by decide +kernel
theorem dX1_make_72 : decode cX1_make 72 = .ok (.aload_n 0, 1) := by decide +kernel
theorem dX1_make_73 : decode cX1_make 73 = .ok (.dup, 1) := by decide +kernel
theorem dX1_make_74 : decode cX1_make 74 = .ok (.getfield 41, 3) := by decide +kernel
theorem dX1_make_77 : decode cX1_make 77 = .ok (.iconst 1, 1) := by decide +kernel
theorem dX1_make_78 : decode cX1_make 78 = .ok (.iadd, 1) := by decide +kernel
theorem dX1_make_79 : decode cX1_make 79 = .ok (.putfield 41, 3) := by decide +kernel
theorem dX1_make_82 : decode cX1_make 82 = .ok (.aload_n 0, 1) := by decide +kernel
theorem dX1_make_83 : decode cX1_make 83 = .ok (.getfield 7, 3) := by decide +kernel
theorem dX1_make_86 : decode cX1_make 86 = .ok (.iload_n 1, 1) := by decide +kernel
theorem dX1_make_87 : decode cX1_make 87 = .ok (.aload_n 0, 1) := by decide +kernel
theorem dX1_make_88 : decode cX1_make 88 = .ok (.getfield 41, 3) := by decide +kernel
theorem dX1_make_91 : decode cX1_make 91 = .ok (.iastore, 1) := by decide +kernel
theorem dX1_make_92 : decode cX1_make 92 = .ok (.iconst 0, 1) := by decide +kernel
theorem dX1_make_93 : decode cX1_make 93 = .ok (.ireturn, 1) := by decide +kernel
theorem dX1_var_0 : decode cX1_var 0 = .ok (.iload_n 1, 1) := by decide +kernel
theorem dX1_var_1 : decode cX1_var 1 = .ok (.ifCond .lt 13, 3) := by decide +kernel
theorem dX1_var_4 : decode cX1_var 4 = .ok (.iload_n 1, 1) := by decide +kernel
theorem dX1_var_5 : decode cX1_var 5 = .ok (.bipush 8, 2) := by decide +kernel
theorem dX1_var_7 : decode cX1_var 7 = .ok (.if_icmp .ge 7, 3) := by decide +kernel
theorem dX1_var_10 : decode cX1_var 10 = .ok (.iconst 1, 1) := by decide +kernel
theorem dX1_var_11 : decode cX1_var 11 = .ok (.goto 4, 3) := by decide +kernel
theorem dX1_var_14 : decode cX1_var 14 = .ok (.iconst 0, 1) := by decide +kernel
theorem dX1_var_15 : decode cX1_var 15 = .ok (.ireturn, 1) := by decide +kernel
theorem dX1_live_0 : decode cX1_live 0 = .ok (.iconst 0, 1) := by decide +kernel
theorem dX1_live_1 : decode cX1_live 1 = .ok (.istore_n 1, 1) := by decide +kernel
theorem dX1_live_2 : decode cX1_live 2 = .ok (.iconst 0, 1) := by decide +kernel
theorem dX1_live_3 : decode cX1_live 3 = .ok (.istore_n 2, 1) := by decide +kernel
theorem dX1_live_4 : decode cX1_live 4 = .ok (.iload_n 2, 1) := by decide +kernel
theorem dX1_live_5 : decode cX1_live 5 = .ok (.aload_n 0, 1) := by decide +kernel
theorem dX1_live_6 : decode cX1_live 6 = .ok (.getfield 41, 3) := by decide +kernel
theorem dX1_live_9 : decode cX1_live 9 = .ok (.if_icmp .ge 26, 3) := by decide +kernel
theorem dX1_live_12 : decode cX1_live 12 = .ok (.iload_n 1, 1) := by decide +kernel
theorem dX1_live_13 : decode cX1_live 13 = .ok (.aload_n 0, 1) := by decide +kernel
theorem dX1_live_14 : decode cX1_live 14 = .ok (.getfield 13, 3) := by decide +kernel
theorem dX1_live_17 : decode cX1_live 17 = .ok (.iload_n 2, 1) := by decide +kernel
theorem dX1_live_18 : decode cX1_live 18 = .ok (.baload, 1) := by decide +kernel
theorem dX1_live_19 : decode cX1_live 19 = .ok (.ifCond .eq 7, 3) := by decide +kernel
theorem dX1_live_22 : decode cX1_live 22 = .ok (.iconst 1, 1) := by decide +kernel
theorem dX1_live_23 : decode cX1_live 23 = .ok (.goto 4, 3) := by decide +kernel
theorem dX1_live_26 : decode cX1_live 26 = .ok (.iconst 0, 1) := by decide +kernel
theorem dX1_live_27 : decode cX1_live 27 = .ok (.iadd, 1) := by decide +kernel
theorem dX1_live_28 : decode cX1_live 28 = .ok (.istore_n 1, 1) := by decide +kernel
theorem dX1_live_29 : decode cX1_live 29 = .ok (.iinc 2 1, 3) := by decide +kernel
theorem dX1_live_32 : decode cX1_live 32 = .ok (.goto (-28), 3) := by decide +kernel
theorem dX1_live_35 : decode cX1_live 35 = .ok (.iload_n 1, 1) := by decide +kernel
theorem dX1_live_36 : decode cX1_live 36 = .ok (.ireturn, 1) := by decide +kernel
theorem dX1_dispose_0 : decode cX1_dispose 0 = .ok (.aload_n 0, 1) := by decide +kernel
theorem dX1_dispose_1 : decode cX1_dispose 1 = .ok (.iload_n 1, 1) := by decide +kernel
theorem dX1_dispose_2 : decode cX1_dispose 2 = .ok (.invokevirtual 33, 3) := by decide +kernel
theorem dX1_dispose_5 : decode cX1_dispose 5 = .ok (.ifCond .ne 5, 3) := by decide +kernel
theorem dX1_dispose_8 : decode cX1_dispose 8 = .ok (.iconst (-1), 1) := by decide +kernel
theorem dX1_dispose_9 : decode cX1_dispose 9 = .ok (.ireturn, 1) := by decide +kernel
theorem dX1_dispose_10 : decode cX1_dispose 10 = .ok (.aload_n 0, 1) := by decide +kernel
theorem dX1_dispose_11 : decode cX1_dispose 11 = .ok (.iload_n 1, 1) := by decide +kernel
theorem dX1_dispose_12 : decode cX1_dispose 12 = .ok (.invokevirtual 45, 3) := by decide +kernel
theorem dX1_dispose_15 : decode cX1_dispose 15 = .ok (.istore_n 2, 1) := by decide +kernel
theorem dX1_dispose_16 : decode cX1_dispose 16 = .ok (.iload_n 2, 1) := by decide +kernel
theorem dX1_dispose_17 : decode cX1_dispose 17 = .ok (.ifCond .ne 17, 3) := by decide +kernel
theorem dX1_dispose_20 : decode cX1_dispose 20 = .ok (.aload_n 0, 1) := by decide +kernel
theorem dX1_dispose_21 : decode cX1_dispose 21 = .ok (.getfield 13, 3) := by decide +kernel
theorem dX1_dispose_24 : decode cX1_dispose 24 = .ok (.aload_n 0, 1) := by decide +kernel
theorem dX1_dispose_25 : decode cX1_dispose 25 = .ok (.getfield 7, 3) := by decide +kernel
theorem dX1_dispose_28 : decode cX1_dispose 28 = .ok (.iload_n 1, 1) := by decide +kernel
theorem dX1_dispose_29 : decode cX1_dispose 29 = .ok (.iaload, 1) := by decide +kernel
theorem dX1_dispose_30 : decode cX1_dispose 30 = .ok (.iconst 1, 1) := by decide +kernel
theorem dX1_dispose_31 : decode cX1_dispose 31 = .ok (.isub, 1) := by decide +kernel
theorem dX1_dispose_32 : decode cX1_dispose 32 = .ok (.iconst 0, 1) := by decide +kernel
theorem dX1_dispose_33 : decode cX1_dispose 33 = .ok (.bastore, 1) := by decide +kernel
theorem dX1_dispose_34 : decode cX1_dispose 34 = .ok (.iload_n 2, 1) := by decide +kernel
theorem dX1_dispose_35 : decode cX1_dispose 35 = .ok (.ireturn, 1) := by decide +kernel
theorem dX1_through_0 : decode cX1_through 0 = .ok (.aload_n 0, 1) := by decide +kernel
theorem dX1_through_1 : decode cX1_through 1 = .ok (.aload_n 0, 1) := by decide +kernel
theorem dX1_through_2 : decode cX1_through 2 = .ok (.getfield 7, 3) := by decide +kernel
theorem dX1_through_5 : decode cX1_through 5 = .ok (.iload_n 1, 1) := by decide +kernel
theorem dX1_through_6 : decode cX1_through 6 = .ok (.iaload, 1) := by decide +kernel
theorem dX1_through_7 : decode cX1_through 7 = .ok (.invokevirtual 29, 3) := by decide +kernel
theorem dX1_through_10 : decode cX1_through 10 = .ok (.istore_n 2, 1) := by decide +kernel
theorem dX1_through_11 : decode cX1_through 11 = .ok (.iload_n 2, 1) := by decide +kernel
theorem dX1_through_12 : decode cX1_through 12 = .ok (.ifCond .ne 8, 3) := by decide +kernel
theorem dX1_through_15 : decode cX1_through 15 = .ok (.bipush (-3), 2) := by decide +kernel
theorem dX1_through_17 : decode cX1_through 17 = .ok (.goto 14, 3) := by decide +kernel
theorem dX1_through_20 : decode cX1_through 20 = .ok (.iload_n 2, 1) := by decide +kernel
theorem dX1_through_21 : decode cX1_through 21 = .ok (.iconst 2, 1) := by decide +kernel
theorem dX1_through_22 : decode cX1_through 22 = .ok (.if_icmp .ne 8, 3) := by decide +kernel
theorem dX1_through_25 : decode cX1_through 25 = .ok (.bipush (-4), 2) := by decide +kernel
theorem dX1_through_27 : decode cX1_through 27 = .ok (.goto 4, 3) := by decide +kernel
theorem dX1_through_30 : decode cX1_through 30 = .ok (.iconst 0, 1) := by decide +kernel
theorem dX1_through_31 : decode cX1_through 31 = .ok (.ireturn, 1) := by decide +kernel
theorem dX1_kind_0 : decode cX1_kind 0 = .ok (.iload_n 1, 1) := by decide +kernel
theorem dX1_kind_1 : decode cX1_kind 1 = .ok (.ifCond .le 10, 3) := by decide +kernel
theorem dX1_kind_4 : decode cX1_kind 4 = .ok (.iload_n 1, 1) := by decide +kernel
theorem dX1_kind_5 : decode cX1_kind 5 = .ok (.sipush 512, 3) := by decide +kernel
theorem dX1_kind_8 : decode cX1_kind 8 = .ok (.if_icmp .le 7, 3) := by decide +kernel
theorem dX1_kind_11 : decode cX1_kind 11 = .ok (.iconst 0, 1) := by decide +kernel
theorem dX1_kind_12 : decode cX1_kind 12 = .ok (.goto 19, 3) := by decide +kernel
theorem dX1_kind_15 : decode cX1_kind 15 = .ok (.aload_n 0, 1) := by decide +kernel
theorem dX1_kind_16 : decode cX1_kind 16 = .ok (.getfield 13, 3) := by decide +kernel
theorem dX1_kind_19 : decode cX1_kind 19 = .ok (.iload_n 1, 1) := by decide +kernel
theorem dX1_kind_20 : decode cX1_kind 20 = .ok (.iconst 1, 1) := by decide +kernel
theorem dX1_kind_21 : decode cX1_kind 21 = .ok (.isub, 1) := by decide +kernel
theorem dX1_kind_22 : decode cX1_kind 22 = .ok (.baload, 1) := by decide +kernel
theorem dX1_kind_23 : decode cX1_kind 23 = .ok (.ifCond .eq 7, 3) := by decide +kernel
theorem dX1_kind_26 : decode cX1_kind 26 = .ok (.iconst 1, 1) := by decide +kernel
theorem dX1_kind_27 : decode cX1_kind 27 = .ok (.goto 4, 3) := by decide +kernel
theorem dX1_kind_30 : decode cX1_kind 30 = .ok (.iconst 2, 1) := by decide +kernel
theorem dX1_kind_31 : decode cX1_kind 31 = .ok (.ireturn, 1) := by decide +kernel
theorem dX1_setNil_0 : decode cX1_setNil 0 = .ok (.aload_n 0, 1) := by decide +kernel
theorem dX1_setNil_1 : decode cX1_setNil 1 = .ok (.iload_n 1, 1) := by decide +kernel
theorem dX1_setNil_2 : decode cX1_setNil 2 = .ok (.invokevirtual 33, 3) := by decide +kernel
theorem dX1_setNil_5 : decode cX1_setNil 5 = .ok (.ifCond .ne 5, 3) := by decide +kernel
theorem dX1_setNil_8 : decode cX1_setNil 8 = .ok (.iconst (-1), 1) := by decide +kernel
theorem dX1_setNil_9 : decode cX1_setNil 9 = .ok (.ireturn, 1) := by decide +kernel
theorem dX1_setNil_10 : decode cX1_setNil 10 = .ok (.aload_n 0, 1) := by decide +kernel
theorem dX1_setNil_11 : decode cX1_setNil 11 = .ok (.getfield 7, 3) := by decide +kernel
theorem dX1_setNil_14 : decode cX1_setNil 14 = .ok (.iload_n 1, 1) := by decide +kernel
theorem dX1_setNil_15 : decode cX1_setNil 15 = .ok (.iconst 0, 1) := by decide +kernel
theorem dX1_setNil_16 : decode cX1_setNil 16 = .ok (.iastore, 1) := by decide +kernel
theorem dX1_setNil_17 : decode cX1_setNil 17 = .ok (.iconst 0, 1) := by decide +kernel
theorem dX1_setNil_18 : decode cX1_setNil 18 = .ok (.ireturn, 1) := by decide +kernel
theorem dX1_copy_0 : decode cX1_copy 0 = .ok (.aload_n 0, 1) := by decide +kernel
theorem dX1_copy_1 : decode cX1_copy 1 = .ok (.iload_n 1, 1) := by decide +kernel
theorem dX1_copy_2 : decode cX1_copy 2 = .ok (.invokevirtual 33, 3) := by decide +kernel
theorem dX1_copy_5 : decode cX1_copy 5 = .ok (.ifCond .eq 11, 3) := by decide +kernel
theorem dX1_copy_8 : decode cX1_copy 8 = .ok (.aload_n 0, 1) := by decide +kernel
theorem dX1_copy_9 : decode cX1_copy 9 = .ok (.iload_n 2, 1) := by decide +kernel
theorem dX1_copy_10 : decode cX1_copy 10 = .ok (.invokevirtual 33, 3) := by decide +kernel
theorem dX1_copy_13 : decode cX1_copy 13 = .ok (.ifCond .ne 5, 3) := by decide +kernel
theorem dX1_copy_16 : decode cX1_copy 16 = .ok (.iconst (-1), 1) := by decide +kernel
theorem dX1_copy_17 : decode cX1_copy 17 = .ok (.ireturn, 1) := by decide +kernel
theorem dX1_copy_18 : decode cX1_copy 18 = .ok (.aload_n 0, 1) := by decide +kernel
theorem dX1_copy_19 : decode cX1_copy 19 = .ok (.getfield 7, 3) := by decide +kernel
theorem dX1_copy_22 : decode cX1_copy 22 = .ok (.iload_n 1, 1) := by decide +kernel
theorem dX1_copy_23 : decode cX1_copy 23 = .ok (.aload_n 0, 1) := by decide +kernel
theorem dX1_copy_24 : decode cX1_copy 24 = .ok (.getfield 7, 3) := by decide +kernel
theorem dX1_copy_27 : decode cX1_copy 27 = .ok (.iload_n 2, 1) := by decide +kernel
theorem dX1_copy_28 : decode cX1_copy 28 = .ok (.iaload, 1) := by decide +kernel
theorem dX1_copy_29 : decode cX1_copy 29 = .ok (.iastore, 1) := by decide +kernel
theorem dX1_copy_30 : decode cX1_copy 30 = .ok (.iconst 0, 1) := by decide +kernel
theorem dX1_copy_31 : decode cX1_copy 31 = .ok (.ireturn, 1) := by decide +kernel
theorem dX1_setNumber_0 : decode cX1_setNumber 0 = .ok (.aload_n 0, 1) := by decide +kernel
theorem dX1_setNumber_1 : decode cX1_setNumber 1 = .ok (.iload_n 1, 1) := by decide +kernel
theorem dX1_setNumber_2 : decode cX1_setNumber 2 = .ok (.invokevirtual 33, 3) := by decide +kernel
theorem dX1_setNumber_5 : decode cX1_setNumber 5 = .ok (.ifCond .ne 5, 3) := by decide +kernel
theorem dX1_setNumber_8 : decode cX1_setNumber 8 = .ok (.iconst (-1), 1) := by decide +kernel
theorem dX1_setNumber_9 : decode cX1_setNumber 9 = .ok (.ireturn, 1) := by decide +kernel
theorem dX1_setNumber_10 : decode cX1_setNumber 10 = .ok (.aload_n 0, 1) := by decide +kernel
theorem dX1_setNumber_11 : decode cX1_setNumber 11 = .ok (.iload_n 1, 1) := by decide +kernel
theorem dX1_setNumber_12 : decode cX1_setNumber 12 = .ok (.invokevirtual 45, 3) := by decide +kernel
theorem dX1_setNumber_15 : decode cX1_setNumber 15 = .ok (.istore_n 3, 1) := by decide +kernel
theorem dX1_setNumber_16 : decode cX1_setNumber 16 = .ok (.iload_n 3, 1) := by decide +kernel
theorem dX1_setNumber_17 : decode cX1_setNumber 17 = .ok (.ifCond .ne 17, 3) := by decide +kernel
theorem dX1_setNumber_20 : decode cX1_setNumber 20 = .ok (.aload_n 0, 1) := by decide +kernel
theorem dX1_setNumber_21 : decode cX1_setNumber 21 = .ok (.getfield 17, 3) := by decide +kernel
theorem dX1_setNumber_24 : decode cX1_setNumber 24 = .ok (.aload_n 0, 1) := by decide +kernel
theorem dX1_setNumber_25 : decode cX1_setNumber 25 = .ok (.getfield 7, 3) := by decide +kernel
theorem dX1_setNumber_28 : decode cX1_setNumber 28 = .ok (.iload_n 1, 1) := by decide +kernel
theorem dX1_setNumber_29 : decode cX1_setNumber 29 = .ok (.iaload, 1) := by decide +kernel
theorem dX1_setNumber_30 : decode cX1_setNumber 30 = .ok (.iconst 1, 1) := by decide +kernel
theorem dX1_setNumber_31 : decode cX1_setNumber 31 = .ok (.isub, 1) := by decide +kernel
theorem dX1_setNumber_32 : decode cX1_setNumber 32 = .ok (.iload_n 2, 1) := by decide +kernel
theorem dX1_setNumber_33 : decode cX1_setNumber 33 = .ok (.iastore, 1) := by decide +kernel
theorem dX1_setNumber_34 : decode cX1_setNumber 34 = .ok (.iload_n 3, 1) := by decide +kernel
theorem dX1_setNumber_35 : decode cX1_setNumber 35 = .ok (.ireturn, 1) := by decide +kernel
theorem dX1_setLink_0 : decode cX1_setLink 0 = .ok (.aload_n 0, 1) := by decide +kernel
theorem dX1_setLink_1 : decode cX1_setLink 1 = .ok (.iload_n 1, 1) := by decide +kernel
theorem dX1_setLink_2 : decode cX1_setLink 2 = .ok (.invokevirtual 33, 3) := by decide +kernel
theorem dX1_setLink_5 : decode cX1_setLink 5 = .ok (.ifCond .eq 20, 3) := by decide +kernel
theorem dX1_setLink_8 : decode cX1_setLink 8 = .ok (.aload_n 0, 1) := by decide +kernel
theorem dX1_setLink_9 : decode cX1_setLink 9 = .ok (.iload_n 3, 1) := by decide +kernel
theorem dX1_setLink_10 : decode cX1_setLink 10 = .ok (.invokevirtual 33, 3) := by decide +kernel
theorem dX1_setLink_13 : decode cX1_setLink 13 = .ok (.ifCond .eq 12, 3) := by decide +kernel
theorem dX1_setLink_16 : decode cX1_setLink 16 = .ok (.iload_n 2, 1) := by decide +kernel
theorem dX1_setLink_17 : decode cX1_setLink 17 = .ok (.ifCond .eq 10, 3) := by decide +kernel
theorem dX1_setLink_20 : decode cX1_setLink 20 = .ok (.iload_n 2, 1) := by decide +kernel
theorem dX1_setLink_21 : decode cX1_setLink 21 = .ok (.iconst 1, 1) := by decide +kernel
theorem dX1_setLink_22 : decode cX1_setLink 22 = .ok (.if_icmp .eq 5, 3) := by decide +kernel
theorem dX1_setLink_25 : decode cX1_setLink 25 = .ok (.iconst (-1), 1) := by decide +kernel
theorem dX1_setLink_26 : decode cX1_setLink 26 = .ok (.ireturn, 1) := by decide +kernel
theorem dX1_setLink_27 : decode cX1_setLink 27 = .ok (.aload_n 0, 1) := by decide +kernel
theorem dX1_setLink_28 : decode cX1_setLink 28 = .ok (.iload_n 1, 1) := by decide +kernel
theorem dX1_setLink_29 : decode cX1_setLink 29 = .ok (.invokevirtual 45, 3) := by decide +kernel
theorem dX1_setLink_32 : decode cX1_setLink 32 = .ok (.istore 4, 2) := by decide +kernel
theorem dX1_setLink_34 : decode cX1_setLink 34 = .ok (.iload 4, 2) := by decide +kernel
theorem dX1_setLink_36 : decode cX1_setLink 36 = .ok (.ifCond .ne 29, 3) := by decide +kernel
theorem dX1_setLink_39 : decode cX1_setLink 39 = .ok (.iload_n 2, 1) := by decide +kernel
theorem dX1_setLink_40 : decode cX1_setLink 40 = .ok (.ifCond .ne 25, 3) := by decide +kernel
theorem dX1_setLink_43 : decode cX1_setLink 43 = .ok (.aload_n 0, 1) := by decide +kernel
theorem dX1_setLink_44 : decode cX1_setLink 44 = .ok (.getfield 20, 3) := by decide +kernel
theorem dX1_setLink_47 : decode cX1_setLink 47 = .ok (.aload_n 0, 1) := by decide +kernel
theorem dX1_setLink_48 : decode cX1_setLink 48 = .ok (.getfield 7, 3) := by decide +kernel
theorem dX1_setLink_51 : decode cX1_setLink 51 = .ok (.iload_n 1, 1) := by decide +kernel
theorem dX1_setLink_52 : decode cX1_setLink 52 = .ok (.iaload, 1) := by decide +kernel
theorem dX1_setLink_53 : decode cX1_setLink 53 = .ok (.iconst 1, 1) := by decide +kernel
theorem dX1_setLink_54 : decode cX1_setLink 54 = .ok (.isub, 1) := by decide +kernel
theorem dX1_setLink_55 : decode cX1_setLink 55 = .ok (.aload_n 0, 1) := by decide +kernel
theorem dX1_setLink_56 : decode cX1_setLink 56 = .ok (.getfield 7, 3) := by decide +kernel
theorem dX1_setLink_59 : decode cX1_setLink 59 = .ok (.iload_n 3, 1) := by decide +kernel
theorem dX1_setLink_60 : decode cX1_setLink 60 = .ok (.iaload, 1) := by decide +kernel
theorem dX1_setLink_61 : decode cX1_setLink 61 = .ok (.iastore, 1) := by decide +kernel
theorem dX1_setLink_62 : decode cX1_setLink 62 = .ok (.goto 27, 3) := by decide +kernel
theorem dX1_setLink_65 : decode cX1_setLink 65 = .ok (.iload 4, 2) := by decide +kernel
theorem dX1_setLink_67 : decode cX1_setLink 67 = .ok (.ifCond .ne 22, 3) := by decide +kernel
theorem dX1_setLink_70 : decode cX1_setLink 70 = .ok (.aload_n 0, 1) := by decide +kernel
theorem dX1_setLink_71 : decode cX1_setLink 71 = .ok (.getfield 23, 3) := by decide +kernel
theorem dX1_setLink_74 : decode cX1_setLink 74 = .ok (.aload_n 0, 1) := by decide +kernel
theorem dX1_setLink_75 : decode cX1_setLink 75 = .ok (.getfield 7, 3) := by decide +kernel
theorem dX1_setLink_78 : decode cX1_setLink 78 = .ok (.iload_n 1, 1) := by decide +kernel
theorem dX1_setLink_79 : decode cX1_setLink 79 = .ok (.iaload, 1) := by decide +kernel
theorem dX1_setLink_80 : decode cX1_setLink 80 = .ok (.iconst 1, 1) := by decide +kernel
theorem dX1_setLink_81 : decode cX1_setLink 81 = .ok (.isub, 1) := by decide +kernel
theorem dX1_setLink_82 : decode cX1_setLink 82 = .ok (.aload_n 0, 1) := by decide +kernel
theorem dX1_setLink_83 : decode cX1_setLink 83 = .ok (.getfield 7, 3) := by decide +kernel
theorem dX1_setLink_86 : decode cX1_setLink 86 = .ok (.iload_n 3, 1) := by decide +kernel
theorem dX1_setLink_87 : decode cX1_setLink 87 = .ok (.iaload, 1) := by decide +kernel
theorem dX1_setLink_88 : decode cX1_setLink 88 = .ok (.iastore, 1) := by decide +kernel
theorem dX1_setLink_89 : decode cX1_setLink 89 = .ok (.iload 4, 2) := by decide +kernel
theorem dX1_setLink_91 : decode cX1_setLink 91 = .ok (.ireturn, 1) := by decide +kernel
theorem dX1_follow_0 : decode cX1_follow 0 = .ok (.aload_n 0, 1) := by decide +kernel
theorem dX1_follow_1 : decode cX1_follow 1 = .ok (.iload_n 1, 1) := by decide +kernel
theorem dX1_follow_2 : decode cX1_follow 2 = .ok (.invokevirtual 33, 3) := by decide +kernel
theorem dX1_follow_5 : decode cX1_follow 5 = .ok (.ifCond .eq 20, 3) := by decide +kernel
theorem dX1_follow_8 : decode cX1_follow 8 = .ok (.aload_n 0, 1) := by decide +kernel
theorem dX1_follow_9 : decode cX1_follow 9 = .ok (.iload_n 2, 1) := by decide +kernel
theorem dX1_follow_10 : decode cX1_follow 10 = .ok (.invokevirtual 33, 3) := by decide +kernel
theorem dX1_follow_13 : decode cX1_follow 13 = .ok (.ifCond .eq 12, 3) := by decide +kernel
theorem dX1_follow_16 : decode cX1_follow 16 = .ok (.iload_n 3, 1) := by decide +kernel
theorem dX1_follow_17 : decode cX1_follow 17 = .ok (.ifCond .eq 10, 3) := by decide +kernel
theorem dX1_follow_20 : decode cX1_follow 20 = .ok (.iload_n 3, 1) := by decide +kernel
theorem dX1_follow_21 : decode cX1_follow 21 = .ok (.iconst 1, 1) := by decide +kernel
theorem dX1_follow_22 : decode cX1_follow 22 = .ok (.if_icmp .eq 5, 3) := by decide +kernel
theorem dX1_follow_25 : decode cX1_follow 25 = .ok (.iconst (-1), 1) := by decide +kernel
theorem dX1_follow_26 : decode cX1_follow 26 = .ok (.ireturn, 1) := by decide +kernel
theorem dX1_follow_27 : decode cX1_follow 27 = .ok (.aload_n 0, 1) := by decide +kernel
theorem dX1_follow_28 : decode cX1_follow 28 = .ok (.iload_n 2, 1) := by decide +kernel
theorem dX1_follow_29 : decode cX1_follow 29 = .ok (.invokevirtual 45, 3) := by decide +kernel
theorem dX1_follow_32 : decode cX1_follow 32 = .ok (.istore 4, 2) := by decide +kernel
theorem dX1_follow_34 : decode cX1_follow 34 = .ok (.iload 4, 2) := by decide +kernel
theorem dX1_follow_36 : decode cX1_follow 36 = .ok (.ifCond .ne 42, 3) := by decide +kernel
theorem dX1_follow_39 : decode cX1_follow 39 = .ok (.aload_n 0, 1) := by decide +kernel
theorem dX1_follow_40 : decode cX1_follow 40 = .ok (.getfield 7, 3) := by decide +kernel
theorem dX1_follow_43 : decode cX1_follow 43 = .ok (.iload_n 1, 1) := by decide +kernel
theorem dX1_follow_44 : decode cX1_follow 44 = .ok (.iload_n 3, 1) := by decide +kernel
theorem dX1_follow_45 : decode cX1_follow 45 = .ok (.ifCond .ne 19, 3) := by decide +kernel
theorem dX1_follow_48 : decode cX1_follow 48 = .ok (.aload_n 0, 1) := by decide +kernel
theorem dX1_follow_49 : decode cX1_follow 49 = .ok (.getfield 20, 3) := by decide +kernel
theorem dX1_follow_52 : decode cX1_follow 52 = .ok (.aload_n 0, 1) := by decide +kernel
theorem dX1_follow_53 : decode cX1_follow 53 = .ok (.getfield 7, 3) := by decide +kernel
theorem dX1_follow_56 : decode cX1_follow 56 = .ok (.iload_n 2, 1) := by decide +kernel
theorem dX1_follow_57 : decode cX1_follow 57 = .ok (.iaload, 1) := by decide +kernel
theorem dX1_follow_58 : decode cX1_follow 58 = .ok (.iconst 1, 1) := by decide +kernel
theorem dX1_follow_59 : decode cX1_follow 59 = .ok (.isub, 1) := by decide +kernel
theorem dX1_follow_60 : decode cX1_follow 60 = .ok (.iaload, 1) := by decide +kernel
theorem dX1_follow_61 : decode cX1_follow 61 = .ok (.goto 16, 3) := by decide +kernel
theorem dX1_follow_64 : decode cX1_follow 64 = .ok (.aload_n 0, 1) := by decide +kernel
theorem dX1_follow_65 : decode cX1_follow 65 = .ok (.getfield 23, 3) := by decide +kernel
theorem dX1_follow_68 : decode cX1_follow 68 = .ok (.aload_n 0, 1) := by decide +kernel
theorem dX1_follow_69 : decode cX1_follow 69 = .ok (.getfield 7, 3) := by decide +kernel
theorem dX1_follow_72 : decode cX1_follow 72 = .ok (.iload_n 2, 1) := by decide +kernel
theorem dX1_follow_73 : decode cX1_follow 73 = .ok (.iaload, 1) := by decide +kernel
theorem dX1_follow_74 : decode cX1_follow 74 = .ok (.iconst 1, 1) := by decide +kernel
theorem dX1_follow_75 : decode cX1_follow 75 = .ok (.isub, 1) := by decide +kernel
theorem dX1_follow_76 : decode cX1_follow 76 = .ok (.iaload, 1) := by decide +kernel
theorem dX1_follow_77 : decode cX1_follow 77 = .ok (.iastore, 1) := by decide +kernel
theorem dX1_follow_78 : decode cX1_follow 78 = .ok (.iload 4, 2) := by decide +kernel
theorem dX1_follow_80 : decode cX1_follow 80 = .ok (.ireturn, 1) := by decide +kernel
theorem dX1_holds_0 : decode cX1_holds 0 = .ok (.aload_n 0, 1) := by decide +kernel
theorem dX1_holds_1 : decode cX1_holds 1 = .ok (.iload_n 1, 1) := by decide +kernel
theorem dX1_holds_2 : decode cX1_holds 2 = .ok (.invokevirtual 33, 3) := by decide +kernel
theorem dX1_holds_5 : decode cX1_holds 5 = .ok (.ifCond .eq 16, 3) := by decide +kernel
theorem dX1_holds_8 : decode cX1_holds 8 = .ok (.aload_n 0, 1) := by decide +kernel
theorem dX1_holds_9 : decode cX1_holds 9 = .ok (.aload_n 0, 1) := by decide +kernel
theorem dX1_holds_10 : decode cX1_holds 10 = .ok (.getfield 7, 3) := by decide +kernel
theorem dX1_holds_13 : decode cX1_holds 13 = .ok (.iload_n 1, 1) := by decide +kernel
theorem dX1_holds_14 : decode cX1_holds 14 = .ok (.iaload, 1) := by decide +kernel
theorem dX1_holds_15 : decode cX1_holds 15 = .ok (.invokevirtual 29, 3) := by decide +kernel
theorem dX1_holds_18 : decode cX1_holds 18 = .ok (.goto 4, 3) := by decide +kernel
theorem dX1_holds_21 : decode cX1_holds 21 = .ok (.iconst (-1), 1) := by decide +kernel
theorem dX1_holds_22 : decode cX1_holds 22 = .ok (.ireturn, 1) := by decide +kernel
theorem dX1_number_0 : decode cX1_number 0 = .ok (.aload_n 0, 1) := by decide +kernel
theorem dX1_number_1 : decode cX1_number 1 = .ok (.iload_n 1, 1) := by decide +kernel
theorem dX1_number_2 : decode cX1_number 2 = .ok (.invokevirtual 48, 3) := by decide +kernel
theorem dX1_number_5 : decode cX1_number 5 = .ok (.iconst 1, 1) := by decide +kernel
theorem dX1_number_6 : decode cX1_number 6 = .ok (.if_icmp .ne 19, 3) := by decide +kernel
theorem dX1_number_9 : decode cX1_number 9 = .ok (.aload_n 0, 1) := by decide +kernel
theorem dX1_number_10 : decode cX1_number 10 = .ok (.getfield 17, 3) := by decide +kernel
theorem dX1_number_13 : decode cX1_number 13 = .ok (.aload_n 0, 1) := by decide +kernel
theorem dX1_number_14 : decode cX1_number 14 = .ok (.getfield 7, 3) := by decide +kernel
theorem dX1_number_17 : decode cX1_number 17 = .ok (.iload_n 1, 1) := by decide +kernel
theorem dX1_number_18 : decode cX1_number 18 = .ok (.iaload, 1) := by decide +kernel
theorem dX1_number_19 : decode cX1_number 19 = .ok (.iconst 1, 1) := by decide +kernel
theorem dX1_number_20 : decode cX1_number 20 = .ok (.isub, 1) := by decide +kernel
theorem dX1_number_21 : decode cX1_number 21 = .ok (.iaload, 1) := by decide +kernel
theorem dX1_number_22 : decode cX1_number 22 = .ok (.goto 4, 3) := by decide +kernel
theorem dX1_number_25 : decode cX1_number 25 = .ok (.iconst 0, 1) := by decide +kernel
theorem dX1_number_26 : decode cX1_number 26 = .ok (.ireturn, 1) := by decide +kernel
theorem dX1_linkHolds_0 : decode cX1_linkHolds 0 = .ok (.iload_n 2, 1) := by decide +kernel
theorem dX1_linkHolds_1 : decode cX1_linkHolds 1 = .ok (.ifCond .eq 8, 3) := by decide +kernel
theorem dX1_linkHolds_4 : decode cX1_linkHolds 4 = .ok (.iload_n 2, 1) := by decide +kernel
theorem dX1_linkHolds_5 : decode cX1_linkHolds 5 = .ok (.iconst 1, 1) := by decide +kernel
theorem dX1_linkHolds_6 : decode cX1_linkHolds 6 = .ok (.if_icmp .ne 12, 3) := by decide +kernel
theorem dX1_linkHolds_9 : decode cX1_linkHolds 9 = .ok (.aload_n 0, 1) := by decide +kernel
theorem dX1_linkHolds_10 : decode cX1_linkHolds 10 = .ok (.iload_n 1, 1) := by decide +kernel
theorem dX1_linkHolds_11 : decode cX1_linkHolds 11 = .ok (.invokevirtual 48, 3) := by decide +kernel
theorem dX1_linkHolds_14 : decode cX1_linkHolds 14 = .ok (.iconst 1, 1) := by decide +kernel
theorem dX1_linkHolds_15 : decode cX1_linkHolds 15 = .ok (.if_icmp .eq 5, 3) := by decide +kernel
theorem dX1_linkHolds_18 : decode cX1_linkHolds 18 = .ok (.iconst (-1), 1) := by decide +kernel
theorem dX1_linkHolds_19 : decode cX1_linkHolds 19 = .ok (.ireturn, 1) := by decide +kernel
theorem dX1_linkHolds_20 : decode cX1_linkHolds 20 = .ok (.iload_n 2, 1) := by decide +kernel
theorem dX1_linkHolds_21 : decode cX1_linkHolds 21 = .ok (.ifCond .ne 19, 3) := by decide +kernel
theorem dX1_linkHolds_24 : decode cX1_linkHolds 24 = .ok (.aload_n 0, 1) := by decide +kernel
theorem dX1_linkHolds_25 : decode cX1_linkHolds 25 = .ok (.getfield 20, 3) := by decide +kernel
theorem dX1_linkHolds_28 : decode cX1_linkHolds 28 = .ok (.aload_n 0, 1) := by decide +kernel
theorem dX1_linkHolds_29 : decode cX1_linkHolds 29 = .ok (.getfield 7, 3) := by decide +kernel
theorem dX1_linkHolds_32 : decode cX1_linkHolds 32 = .ok (.iload_n 1, 1) := by decide +kernel
theorem dX1_linkHolds_33 : decode cX1_linkHolds 33 = .ok (.iaload, 1) := by decide +kernel
theorem dX1_linkHolds_34 : decode cX1_linkHolds 34 = .ok (.iconst 1, 1) := by decide +kernel
theorem dX1_linkHolds_35 : decode cX1_linkHolds 35 = .ok (.isub, 1) := by decide +kernel
theorem dX1_linkHolds_36 : decode cX1_linkHolds 36 = .ok (.iaload, 1) := by decide +kernel
theorem dX1_linkHolds_37 : decode cX1_linkHolds 37 = .ok (.goto 16, 3) := by decide +kernel
theorem dX1_linkHolds_40 : decode cX1_linkHolds 40 = .ok (.aload_n 0, 1) := by decide +kernel
theorem dX1_linkHolds_41 : decode cX1_linkHolds 41 = .ok (.getfield 23, 3) := by decide +kernel
theorem dX1_linkHolds_44 : decode cX1_linkHolds 44 = .ok (.aload_n 0, 1) := by decide +kernel
theorem dX1_linkHolds_45 : decode cX1_linkHolds 45 = .ok (.getfield 7, 3) := by decide +kernel
theorem dX1_linkHolds_48 : decode cX1_linkHolds 48 = .ok (.iload_n 1, 1) := by decide +kernel
theorem dX1_linkHolds_49 : decode cX1_linkHolds 49 = .ok (.iaload, 1) := by decide +kernel
theorem dX1_linkHolds_50 : decode cX1_linkHolds 50 = .ok (.iconst 1, 1) := by decide +kernel
theorem dX1_linkHolds_51 : decode cX1_linkHolds 51 = .ok (.isub, 1) := by decide +kernel
theorem dX1_linkHolds_52 : decode cX1_linkHolds 52 = .ok (.iaload, 1) := by decide +kernel
theorem dX1_linkHolds_53 : decode cX1_linkHolds 53 = .ok (.istore_n 3, 1) := by decide +kernel
theorem dX1_linkHolds_54 : decode cX1_linkHolds 54 = .ok (.aload_n 0, 1) := by decide +kernel
theorem dX1_linkHolds_55 : decode cX1_linkHolds 55 = .ok (.iload_n 3, 1) := by decide +kernel
theorem dX1_linkHolds_56 : decode cX1_linkHolds 56 = .ok (.invokevirtual 29, 3) := by decide +kernel
theorem dX1_linkHolds_59 : decode cX1_linkHolds 59 = .ok (.ireturn, 1) := by decide +kernel
theorem dX1_same_0 : decode cX1_same 0 = .ok (.aload_n 0, 1) := by decide +kernel
theorem dX1_same_1 : decode cX1_same 1 = .ok (.iload_n 1, 1) := by decide +kernel
theorem dX1_same_2 : decode cX1_same 2 = .ok (.invokevirtual 33, 3) := by decide +kernel
theorem dX1_same_5 : decode cX1_same 5 = .ok (.ifCond .eq 44, 3) := by decide +kernel
theorem dX1_same_8 : decode cX1_same 8 = .ok (.aload_n 0, 1) := by decide +kernel
theorem dX1_same_9 : decode cX1_same 9 = .ok (.iload_n 2, 1) := by decide +kernel
theorem dX1_same_10 : decode cX1_same 10 = .ok (.invokevirtual 33, 3) := by decide +kernel
theorem dX1_same_13 : decode cX1_same 13 = .ok (.ifCond .eq 36, 3) := by decide +kernel
theorem dX1_same_16 : decode cX1_same 16 = .ok (.aload_n 0, 1) := by decide +kernel
theorem dX1_same_17 : decode cX1_same 17 = .ok (.getfield 7, 3) := by decide +kernel
theorem dX1_same_20 : decode cX1_same 20 = .ok (.iload_n 1, 1) := by decide +kernel
theorem dX1_same_21 : decode cX1_same 21 = .ok (.iaload, 1) := by decide +kernel
theorem dX1_same_22 : decode cX1_same 22 = .ok (.aload_n 0, 1) := by decide +kernel
theorem dX1_same_23 : decode cX1_same 23 = .ok (.getfield 7, 3) := by decide +kernel
theorem dX1_same_26 : decode cX1_same 26 = .ok (.iload_n 2, 1) := by decide +kernel
theorem dX1_same_27 : decode cX1_same 27 = .ok (.iaload, 1) := by decide +kernel
theorem dX1_same_28 : decode cX1_same 28 = .ok (.if_icmp .ne 21, 3) := by decide +kernel
theorem dX1_same_31 : decode cX1_same 31 = .ok (.aload_n 0, 1) := by decide +kernel
theorem dX1_same_32 : decode cX1_same 32 = .ok (.aload_n 0, 1) := by decide +kernel
theorem dX1_same_33 : decode cX1_same 33 = .ok (.getfield 7, 3) := by decide +kernel
theorem dX1_same_36 : decode cX1_same 36 = .ok (.iload_n 1, 1) := by decide +kernel
theorem dX1_same_37 : decode cX1_same 37 = .ok (.iaload, 1) := by decide +kernel
theorem dX1_same_38 : decode cX1_same 38 = .ok (.invokevirtual 29, 3) := by decide +kernel
theorem dX1_same_41 : decode cX1_same 41 = .ok (.iconst 2, 1) := by decide +kernel
theorem dX1_same_42 : decode cX1_same 42 = .ok (.if_icmp .eq 7, 3) := by decide +kernel
theorem dX1_same_45 : decode cX1_same 45 = .ok (.iconst 1, 1) := by decide +kernel
theorem dX1_same_46 : decode cX1_same 46 = .ok (.goto 4, 3) := by decide +kernel
theorem dX1_same_49 : decode cX1_same 49 = .ok (.iconst 0, 1) := by decide +kernel
theorem dX1_same_50 : decode cX1_same 50 = .ok (.ireturn, 1) := by decide +kernel
theorem dX1_reached_0 : decode cX1_reached 0 = .ok (.aload_n 0, 1) := by decide +kernel
theorem dX1_reached_1 : decode cX1_reached 1 = .ok (.invokevirtual 54, 3) := by decide +kernel
theorem dX1_reached_4 : decode cX1_reached 4 = .ok (.iconst 0, 1) := by decide +kernel
theorem dX1_reached_5 : decode cX1_reached 5 = .ok (.istore_n 1, 1) := by decide +kernel
theorem dX1_reached_6 : decode cX1_reached 6 = .ok (.iconst 0, 1) := by decide +kernel
theorem dX1_reached_7 : decode cX1_reached 7 = .ok (.istore_n 2, 1) := by decide +kernel
theorem dX1_reached_8 : decode cX1_reached 8 = .ok (.iload_n 2, 1) := by decide +kernel
theorem dX1_reached_9 : decode cX1_reached 9 = .ok (.aload_n 0, 1) := by decide +kernel
theorem dX1_reached_10 : decode cX1_reached 10 = .ok (.getfield 41, 3) := by decide +kernel
theorem dX1_reached_13 : decode cX1_reached 13 = .ok (.if_icmp .ge 26, 3) := by decide +kernel
theorem dX1_reached_16 : decode cX1_reached 16 = .ok (.iload_n 1, 1) := by decide +kernel
theorem dX1_reached_17 : decode cX1_reached 17 = .ok (.aload_n 0, 1) := by decide +kernel
theorem dX1_reached_18 : decode cX1_reached 18 = .ok (.getfield 26, 3) := by decide +kernel
theorem dX1_reached_21 : decode cX1_reached 21 = .ok (.iload_n 2, 1) := by decide +kernel
theorem dX1_reached_22 : decode cX1_reached 22 = .ok (.baload, 1) := by decide +kernel
theorem dX1_reached_23 : decode cX1_reached 23 = .ok (.ifCond .eq 7, 3) := by decide +kernel
theorem dX1_reached_26 : decode cX1_reached 26 = .ok (.iconst 1, 1) := by decide +kernel
theorem dX1_reached_27 : decode cX1_reached 27 = .ok (.goto 4, 3) := by decide +kernel
theorem dX1_reached_30 : decode cX1_reached 30 = .ok (.iconst 0, 1) := by decide +kernel
theorem dX1_reached_31 : decode cX1_reached 31 = .ok (.iadd, 1) := by decide +kernel
theorem dX1_reached_32 : decode cX1_reached 32 = .ok (.istore_n 1, 1) := by decide +kernel
theorem dX1_reached_33 : decode cX1_reached 33 = .ok (.iinc 2 1, 3) := by decide +kernel
theorem dX1_reached_36 : decode cX1_reached 36 = .ok (.goto (-28), 3) := by decide +kernel
theorem dX1_reached_39 : decode cX1_reached 39 = .ok (.iload_n 1, 1) := by decide +kernel
theorem dX1_reached_40 : decode cX1_reached 40 = .ok (.ireturn, 1) := by decide +kernel
theorem dX1_look_0 : decode cX1_look 0 = .ok (.iconst 0, 1) := by decide +kernel
theorem dX1_look_1 : decode cX1_look 1 = .ok (.istore_n 1, 1) := by decide +kernel
theorem dX1_look_2 : decode cX1_look 2 = .ok (.iload_n 1, 1) := by decide +kernel
theorem dX1_look_3 : decode cX1_look 3 = .ok (.sipush 512, 3) := by decide +kernel
theorem dX1_look_6 : decode cX1_look 6 = .ok (.if_icmp .ge 16, 3) := by decide +kernel
theorem dX1_look_9 : decode cX1_look 9 = .ok (.aload_n 0, 1) := by decide +kernel
theorem dX1_look_10 : decode cX1_look 10 = .ok (.getfield 26, 3) := by decide +kernel
theorem dX1_look_13 : decode cX1_look 13 = .ok (.iload_n 1, 1) := by decide +kernel
theorem dX1_look_14 : decode cX1_look 14 = .ok (.iconst 0, 1) := by decide +kernel
theorem dX1_look_15 : decode cX1_look 15 = .ok (.bastore, 1) := by decide +kernel
theorem dX1_look_16 : decode cX1_look 16 = .ok (.iinc 1 1, 3) := by decide +kernel
theorem dX1_look_19 : decode cX1_look 19 = .ok (.goto (-17), 3) := by decide +kernel
theorem dX1_look_22 : decode cX1_look 22 = .ok (.iconst 0, 1) := by decide +kernel
theorem dX1_look_23 : decode cX1_look 23 = .ok (.istore_n 1, 1) := by decide +kernel
theorem dX1_look_24 : decode cX1_look 24 = .ok (.iload_n 1, 1) := by decide +kernel
theorem dX1_look_25 : decode cX1_look 25 = .ok (.bipush 8, 2) := by decide +kernel
theorem dX1_look_27 : decode cX1_look 27 = .ok (.if_icmp .ge 20, 3) := by decide +kernel
theorem dX1_look_30 : decode cX1_look 30 = .ok (.aload_n 0, 1) := by decide +kernel
theorem dX1_look_31 : decode cX1_look 31 = .ok (.aload_n 0, 1) := by decide +kernel
theorem dX1_look_32 : decode cX1_look 32 = .ok (.getfield 7, 3) := by decide +kernel
theorem dX1_look_35 : decode cX1_look 35 = .ok (.iload_n 1, 1) := by decide +kernel
theorem dX1_look_36 : decode cX1_look 36 = .ok (.iaload, 1) := by decide +kernel
theorem dX1_look_37 : decode cX1_look 37 = .ok (.invokevirtual 51, 3) := by decide +kernel
theorem dX1_look_40 : decode cX1_look 40 = .ok (.pop, 1) := by decide +kernel
theorem dX1_look_41 : decode cX1_look 41 = .ok (.iinc 1 1, 3) := by decide +kernel
theorem dX1_look_44 : decode cX1_look 44 = .ok (.goto (-20), 3) := by decide +kernel
theorem dX1_look_47 : decode cX1_look 47 = .ok (.iconst 0, 1) := by decide +kernel
theorem dX1_look_48 : decode cX1_look 48 = .ok (.istore_n 1, 1) := by decide +kernel
theorem dX1_look_49 : decode cX1_look 49 = .ok (.iload_n 1, 1) := by decide +kernel
theorem dX1_look_50 : decode cX1_look 50 = .ok (.bipush 6, 2) := by decide +kernel
theorem dX1_look_52 : decode cX1_look 52 = .ok (.if_icmp .ge 56, 3) := by decide +kernel
theorem dX1_look_55 : decode cX1_look 55 = .ok (.iconst 0, 1) := by decide +kernel
theorem dX1_look_56 : decode cX1_look 56 = .ok (.istore_n 2, 1) := by decide +kernel
theorem dX1_look_57 : decode cX1_look 57 = .ok (.iload_n 2, 1) := by decide +kernel
theorem dX1_look_58 : decode cX1_look 58 = .ok (.aload_n 0, 1) := by decide +kernel
theorem dX1_look_59 : decode cX1_look 59 = .ok (.getfield 41, 3) := by decide +kernel
theorem dX1_look_62 : decode cX1_look 62 = .ok (.if_icmp .ge 40, 3) := by decide +kernel
theorem dX1_look_65 : decode cX1_look 65 = .ok (.aload_n 0, 1) := by decide +kernel
theorem dX1_look_66 : decode cX1_look 66 = .ok (.getfield 26, 3) := by decide +kernel
theorem dX1_look_69 : decode cX1_look 69 = .ok (.iload_n 2, 1) := by decide +kernel
theorem dX1_look_70 : decode cX1_look 70 = .ok (.baload, 1) := by decide +kernel
theorem dX1_look_71 : decode cX1_look 71 = .ok (.ifCond .eq 25, 3) := by decide +kernel
theorem dX1_look_74 : decode cX1_look 74 = .ok (.aload_n 0, 1) := by decide +kernel
theorem dX1_look_75 : decode cX1_look 75 = .ok (.aload_n 0, 1) := by decide +kernel
theorem dX1_look_76 : decode cX1_look 76 = .ok (.getfield 20, 3) := by decide +kernel
theorem dX1_look_79 : decode cX1_look 79 = .ok (.iload_n 2, 1) := by decide +kernel
theorem dX1_look_80 : decode cX1_look 80 = .ok (.iaload, 1) := by decide +kernel
theorem dX1_look_81 : decode cX1_look 81 = .ok (.invokevirtual 51, 3) := by decide +kernel
theorem dX1_look_84 : decode cX1_look 84 = .ok (.pop, 1) := by decide +kernel
theorem dX1_look_85 : decode cX1_look 85 = .ok (.aload_n 0, 1) := by decide +kernel
theorem dX1_look_86 : decode cX1_look 86 = .ok (.aload_n 0, 1) := by decide +kernel
theorem dX1_look_87 : decode cX1_look 87 = .ok (.getfield 23, 3) := by decide +kernel
theorem dX1_look_90 : decode cX1_look 90 = .ok (.iload_n 2, 1) := by decide +kernel
theorem dX1_look_91 : decode cX1_look 91 = .ok (.iaload, 1) := by decide +kernel
theorem dX1_look_92 : decode cX1_look 92 = .ok (.invokevirtual 51, 3) := by decide +kernel
theorem dX1_look_95 : decode cX1_look 95 = .ok (.pop, 1) := by decide +kernel
theorem dX1_look_96 : decode cX1_look 96 = .ok (.iinc 2 1, 3) := by decide +kernel
theorem dX1_look_99 : decode cX1_look 99 = .ok (.goto (-42), 3) := by decide +kernel
theorem dX1_look_102 : decode cX1_look 102 = .ok (.iinc 1 1, 3) := by decide +kernel
theorem dX1_look_105 : decode cX1_look 105 = .ok (.goto (-56), 3) := by decide +kernel
theorem dX1_look_108 : decode cX1_look 108 = .ok (.return_, 1) := by decide +kernel
theorem dX1_come_0 : decode cX1_come 0 = .ok (.aload_n 0, 1) := by decide +kernel
theorem dX1_come_1 : decode cX1_come 1 = .ok (.iload_n 1, 1) := by decide +kernel
theorem dX1_come_2 : decode cX1_come 2 = .ok (.invokevirtual 29, 3) := by decide +kernel
theorem dX1_come_5 : decode cX1_come 5 = .ok (.iconst 1, 1) := by decide +kernel
theorem dX1_come_6 : decode cX1_come 6 = .ok (.if_icmp .ne 14, 3) := by decide +kernel
theorem dX1_come_9 : decode cX1_come 9 = .ok (.aload_n 0, 1) := by decide +kernel
theorem dX1_come_10 : decode cX1_come 10 = .ok (.getfield 26, 3) := by decide +kernel
theorem dX1_come_13 : decode cX1_come 13 = .ok (.iload_n 1, 1) := by decide +kernel
theorem dX1_come_14 : decode cX1_come 14 = .ok (.iconst 1, 1) := by decide +kernel
theorem dX1_come_15 : decode cX1_come 15 = .ok (.isub, 1) := by decide +kernel
theorem dX1_come_16 : decode cX1_come 16 = .ok (.baload, 1) := by decide +kernel
theorem dX1_come_17 : decode cX1_come 17 = .ok (.ifCond .eq 5, 3) := by decide +kernel
theorem dX1_come_20 : decode cX1_come 20 = .ok (.iconst 0, 1) := by decide +kernel
theorem dX1_come_21 : decode cX1_come 21 = .ok (.ireturn, 1) := by decide +kernel
theorem dX1_come_22 : decode cX1_come 22 = .ok (.aload_n 0, 1) := by decide +kernel
theorem dX1_come_23 : decode cX1_come 23 = .ok (.getfield 26, 3) := by decide +kernel
theorem dX1_come_26 : decode cX1_come 26 = .ok (.iload_n 1, 1) := by decide +kernel
theorem dX1_come_27 : decode cX1_come 27 = .ok (.iconst 1, 1) := by decide +kernel
theorem dX1_come_28 : decode cX1_come 28 = .ok (.isub, 1) := by decide +kernel
theorem dX1_come_29 : decode cX1_come 29 = .ok (.iconst 1, 1) := by decide +kernel
theorem dX1_come_30 : decode cX1_come 30 = .ok (.bastore, 1) := by decide +kernel
theorem dX1_come_31 : decode cX1_come 31 = .ok (.iconst 1, 1) := by decide +kernel
theorem dX1_come_32 : decode cX1_come 32 = .ok (.ireturn, 1) := by decide +kernel
theorem dX1_sweep_0 : decode cX1_sweep 0 = .ok (.aload_n 0, 1) := by decide +kernel
theorem dX1_sweep_1 : decode cX1_sweep 1 = .ok (.invokevirtual 54, 3) := by decide +kernel
theorem dX1_sweep_4 : decode cX1_sweep 4 = .ok (.iconst 0, 1) := by decide +kernel
theorem dX1_sweep_5 : decode cX1_sweep 5 = .ok (.istore_n 1, 1) := by decide +kernel
theorem dX1_sweep_6 : decode cX1_sweep 6 = .ok (.iconst 0, 1) := by decide +kernel
theorem dX1_sweep_7 : decode cX1_sweep 7 = .ok (.istore_n 2, 1) := by decide +kernel
theorem dX1_sweep_8 : decode cX1_sweep 8 = .ok (.iload_n 2, 1) := by decide +kernel
theorem dX1_sweep_9 : decode cX1_sweep 9 = .ok (.aload_n 0, 1) := by decide +kernel
theorem dX1_sweep_10 : decode cX1_sweep 10 = .ok (.getfield 41, 3) := by decide +kernel
theorem dX1_sweep_13 : decode cX1_sweep 13 = .ok (.if_icmp .ge 37, 3) := by decide +kernel
theorem dX1_sweep_16 : decode cX1_sweep 16 = .ok (.aload_n 0, 1) := by decide +kernel
theorem dX1_sweep_17 : decode cX1_sweep 17 = .ok (.getfield 13, 3) := by decide +kernel
theorem dX1_sweep_20 : decode cX1_sweep 20 = .ok (.iload_n 2, 1) := by decide +kernel
theorem dX1_sweep_21 : decode cX1_sweep 21 = .ok (.baload, 1) := by decide +kernel
theorem dX1_sweep_22 : decode cX1_sweep 22 = .ok (.ifCond .eq 22, 3) := by decide +kernel
theorem dX1_sweep_25 : decode cX1_sweep 25 = .ok (.aload_n 0, 1) := by decide +kernel
theorem dX1_sweep_26 : decode cX1_sweep 26 = .ok (.getfield 26, 3) := by decide +kernel
theorem dX1_sweep_29 : decode cX1_sweep 29 = .ok (.iload_n 2, 1) := by decide +kernel
theorem dX1_sweep_30 : decode cX1_sweep 30 = .ok (.baload, 1) := by decide +kernel
theorem dX1_sweep_31 : decode cX1_sweep 31 = .ok (.ifCond .ne 13, 3) := by decide +kernel
theorem dX1_sweep_34 : decode cX1_sweep 34 = .ok (.aload_n 0, 1) := by decide +kernel
theorem dX1_sweep_35 : decode cX1_sweep 35 = .ok (.getfield 13, 3) := by decide +kernel
theorem dX1_sweep_38 : decode cX1_sweep 38 = .ok (.iload_n 2, 1) := by decide +kernel
theorem dX1_sweep_39 : decode cX1_sweep 39 = .ok (.iconst 0, 1) := by decide +kernel
theorem dX1_sweep_40 : decode cX1_sweep 40 = .ok (.bastore, 1) := by decide +kernel
theorem dX1_sweep_41 : decode cX1_sweep 41 = .ok (.iinc 1 1, 3) := by decide +kernel
theorem dX1_sweep_44 : decode cX1_sweep 44 = .ok (.iinc 2 1, 3) := by decide +kernel
theorem dX1_sweep_47 : decode cX1_sweep 47 = .ok (.goto (-39), 3) := by decide +kernel
theorem dX1_sweep_50 : decode cX1_sweep 50 = .ok (.iload_n 1, 1) := by decide +kernel
theorem dX1_sweep_51 : decode cX1_sweep 51 = .ok (.ireturn, 1) := by decide +kernel
theorem dX1_total_0 : decode cX1_total 0 = .ok (.iconst 0, 1) := by decide +kernel
theorem dX1_total_1 : decode cX1_total 1 = .ok (.istore_n 1, 1) := by decide +kernel
theorem dX1_total_2 : decode cX1_total 2 = .ok (.iconst 0, 1) := by decide +kernel
theorem dX1_total_3 : decode cX1_total 3 = .ok (.istore_n 2, 1) := by decide +kernel
theorem dX1_total_4 : decode cX1_total 4 = .ok (.iload_n 2, 1) := by decide +kernel
theorem dX1_total_5 : decode cX1_total 5 = .ok (.aload_n 0, 1) := by decide +kernel
theorem dX1_total_6 : decode cX1_total 6 = .ok (.getfield 41, 3) := by decide +kernel
theorem dX1_total_9 : decode cX1_total 9 = .ok (.if_icmp .ge 31, 3) := by decide +kernel
theorem dX1_total_12 : decode cX1_total 12 = .ok (.iload_n 1, 1) := by decide +kernel
theorem dX1_total_13 : decode cX1_total 13 = .ok (.aload_n 0, 1) := by decide +kernel
theorem dX1_total_14 : decode cX1_total 14 = .ok (.getfield 13, 3) := by decide +kernel
theorem dX1_total_17 : decode cX1_total 17 = .ok (.iload_n 2, 1) := by decide +kernel
theorem dX1_total_18 : decode cX1_total 18 = .ok (.baload, 1) := by decide +kernel
theorem dX1_total_19 : decode cX1_total 19 = .ok (.ifCond .eq 12, 3) := by decide +kernel
theorem dX1_total_22 : decode cX1_total 22 = .ok (.aload_n 0, 1) := by decide +kernel
theorem dX1_total_23 : decode cX1_total 23 = .ok (.getfield 17, 3) := by decide +kernel
theorem dX1_total_26 : decode cX1_total 26 = .ok (.iload_n 2, 1) := by decide +kernel
theorem dX1_total_27 : decode cX1_total 27 = .ok (.iaload, 1) := by decide +kernel
theorem dX1_total_28 : decode cX1_total 28 = .ok (.goto 4, 3) := by decide +kernel
theorem dX1_total_31 : decode cX1_total 31 = .ok (.iconst 0, 1) := by decide +kernel
theorem dX1_total_32 : decode cX1_total 32 = .ok (.iadd, 1) := by decide +kernel
theorem dX1_total_33 : decode cX1_total 33 = .ok (.istore_n 1, 1) := by decide +kernel
theorem dX1_total_34 : decode cX1_total 34 = .ok (.iinc 2 1, 3) := by decide +kernel
theorem dX1_total_37 : decode cX1_total 37 = .ok (.goto (-33), 3) := by decide +kernel
theorem dX1_total_40 : decode cX1_total 40 = .ok (.iload_n 1, 1) := by decide +kernel
theorem dX1_total_41 : decode cX1_total 41 = .ok (.ireturn, 1) := by decide +kernel
end
section
/-! the law's own entry -/
set_option maxRecDepth 100000
abbrev cL_law : ByteArray := code
theorem dL_law_0 : decode cL_law 0 = .ok (.new 7, 3) := by decide +kernel
theorem dL_law_3 : decode cL_law 3 = .ok (.dup, 1) := by decide +kernel
theorem dL_law_4 : decode cL_law 4 = .ok (.invokespecial 9, 3) := by decide +kernel
theorem dL_law_7 : decode cL_law 7 = .ok (.astore_n 1, 1) := by decide +kernel
theorem dL_law_8 : decode cL_law 8 = .ok (.new 10, 3) := by decide +kernel
theorem dL_law_11 : decode cL_law 11 = .ok (.dup, 1) := by decide +kernel
theorem dL_law_12 : decode cL_law 12 = .ok (.invokespecial 12, 3) := by decide +kernel
theorem dL_law_15 : decode cL_law 15 = .ok (.astore_n 2, 1) := by decide +kernel
theorem dL_law_16 : decode cL_law 16 = .ok (.iconst 0, 1) := by decide +kernel
theorem dL_law_17 : decode cL_law 17 = .ok (.istore_n 3, 1) := by decide +kernel
theorem dL_law_18 : decode cL_law 18 = .ok (.iload_n 3, 1) := by decide +kernel
theorem dL_law_19 : decode cL_law 19 = .ok (.aload_n 0, 1) := by decide +kernel
theorem dL_law_20 : decode cL_law 20 = .ok (.arraylength, 1) := by decide +kernel
theorem dL_law_21 : decode cL_law 21 = .ok (.iconst 4, 1) := by decide +kernel
theorem dL_law_22 : decode cL_law 22 = .ok (.isub, 1) := by decide +kernel
theorem dL_law_23 : decode cL_law 23 = .ok (.if_icmp .gt 486, 3) := by decide +kernel
theorem dL_law_26 : decode cL_law 26 = .ok (.aload_n 0, 1) := by decide +kernel
theorem dL_law_27 : decode cL_law 27 = .ok (.iload_n 3, 1) := by decide +kernel
theorem dL_law_28 : decode cL_law 28 = .ok (.iaload, 1) := by decide +kernel
theorem dL_law_29 : decode cL_law 29 = .ok (.bipush 15, 2) := by decide +kernel
theorem dL_law_31 : decode cL_law 31 = .ok (.iand, 1) := by decide +kernel
theorem dL_law_32 : decode cL_law 32 = .ok (.tableswitch 471 0 14 #[76, 109, 132, 155, 188, 221, 264, 307, 330, 353, 386, 419, 432, 445, 458], 76) := by decide +kernel
theorem dL_law_108 : decode cL_law 108 = .ok (.aload_n 1, 1) := by decide +kernel
theorem dL_law_109 : decode cL_law 109 = .ok (.aload_n 0, 1) := by decide +kernel
theorem dL_law_110 : decode cL_law 110 = .ok (.iload_n 3, 1) := by decide +kernel
theorem dL_law_111 : decode cL_law 111 = .ok (.iconst 1, 1) := by decide +kernel
theorem dL_law_112 : decode cL_law 112 = .ok (.iadd, 1) := by decide +kernel
theorem dL_law_113 : decode cL_law 113 = .ok (.iaload, 1) := by decide +kernel
theorem dL_law_114 : decode cL_law 114 = .ok (.aload_n 0, 1) := by decide +kernel
theorem dL_law_115 : decode cL_law 115 = .ok (.iload_n 3, 1) := by decide +kernel
theorem dL_law_116 : decode cL_law 116 = .ok (.iconst 2, 1) := by decide +kernel
theorem dL_law_117 : decode cL_law 117 = .ok (.iadd, 1) := by decide +kernel
theorem dL_law_118 : decode cL_law 118 = .ok (.iaload, 1) := by decide +kernel
theorem dL_law_119 : decode cL_law 119 = .ok (.invokevirtual 13, 3) := by decide +kernel
theorem dL_law_122 : decode cL_law 122 = .ok (.aload_n 2, 1) := by decide +kernel
theorem dL_law_123 : decode cL_law 123 = .ok (.aload_n 0, 1) := by decide +kernel
theorem dL_law_124 : decode cL_law 124 = .ok (.iload_n 3, 1) := by decide +kernel
theorem dL_law_125 : decode cL_law 125 = .ok (.iconst 1, 1) := by decide +kernel
theorem dL_law_126 : decode cL_law 126 = .ok (.iadd, 1) := by decide +kernel
theorem dL_law_127 : decode cL_law 127 = .ok (.iaload, 1) := by decide +kernel
theorem dL_law_128 : decode cL_law 128 = .ok (.aload_n 0, 1) := by decide +kernel
theorem dL_law_129 : decode cL_law 129 = .ok (.iload_n 3, 1) := by decide +kernel
theorem dL_law_130 : decode cL_law 130 = .ok (.iconst 2, 1) := by decide +kernel
theorem dL_law_131 : decode cL_law 131 = .ok (.iadd, 1) := by decide +kernel
theorem dL_law_132 : decode cL_law 132 = .ok (.iaload, 1) := by decide +kernel
theorem dL_law_133 : decode cL_law 133 = .ok (.invokevirtual 17, 3) := by decide +kernel
theorem dL_law_136 : decode cL_law 136 = .ok (.if_icmp .eq 367, 3) := by decide +kernel
theorem dL_law_139 : decode cL_law 139 = .ok (.iconst 0, 1) := by decide +kernel
theorem dL_law_140 : decode cL_law 140 = .ok (.ireturn, 1) := by decide +kernel
theorem dL_law_141 : decode cL_law 141 = .ok (.aload_n 1, 1) := by decide +kernel
theorem dL_law_142 : decode cL_law 142 = .ok (.aload_n 0, 1) := by decide +kernel
theorem dL_law_143 : decode cL_law 143 = .ok (.iload_n 3, 1) := by decide +kernel
theorem dL_law_144 : decode cL_law 144 = .ok (.iconst 1, 1) := by decide +kernel
theorem dL_law_145 : decode cL_law 145 = .ok (.iadd, 1) := by decide +kernel
theorem dL_law_146 : decode cL_law 146 = .ok (.iaload, 1) := by decide +kernel
theorem dL_law_147 : decode cL_law 147 = .ok (.invokevirtual 18, 3) := by decide +kernel
theorem dL_law_150 : decode cL_law 150 = .ok (.aload_n 2, 1) := by decide +kernel
theorem dL_law_151 : decode cL_law 151 = .ok (.aload_n 0, 1) := by decide +kernel
theorem dL_law_152 : decode cL_law 152 = .ok (.iload_n 3, 1) := by decide +kernel
theorem dL_law_153 : decode cL_law 153 = .ok (.iconst 1, 1) := by decide +kernel
theorem dL_law_154 : decode cL_law 154 = .ok (.iadd, 1) := by decide +kernel
theorem dL_law_155 : decode cL_law 155 = .ok (.iaload, 1) := by decide +kernel
theorem dL_law_156 : decode cL_law 156 = .ok (.invokevirtual 22, 3) := by decide +kernel
theorem dL_law_159 : decode cL_law 159 = .ok (.if_icmp .eq 344, 3) := by decide +kernel
theorem dL_law_162 : decode cL_law 162 = .ok (.iconst 0, 1) := by decide +kernel
theorem dL_law_163 : decode cL_law 163 = .ok (.ireturn, 1) := by decide +kernel
theorem dL_law_164 : decode cL_law 164 = .ok (.aload_n 1, 1) := by decide +kernel
theorem dL_law_165 : decode cL_law 165 = .ok (.aload_n 0, 1) := by decide +kernel
theorem dL_law_166 : decode cL_law 166 = .ok (.iload_n 3, 1) := by decide +kernel
theorem dL_law_167 : decode cL_law 167 = .ok (.iconst 1, 1) := by decide +kernel
theorem dL_law_168 : decode cL_law 168 = .ok (.iadd, 1) := by decide +kernel
theorem dL_law_169 : decode cL_law 169 = .ok (.iaload, 1) := by decide +kernel
theorem dL_law_170 : decode cL_law 170 = .ok (.invokevirtual 23, 3) := by decide +kernel
theorem dL_law_173 : decode cL_law 173 = .ok (.aload_n 2, 1) := by decide +kernel
theorem dL_law_174 : decode cL_law 174 = .ok (.aload_n 0, 1) := by decide +kernel
theorem dL_law_175 : decode cL_law 175 = .ok (.iload_n 3, 1) := by decide +kernel
theorem dL_law_176 : decode cL_law 176 = .ok (.iconst 1, 1) := by decide +kernel
theorem dL_law_177 : decode cL_law 177 = .ok (.iadd, 1) := by decide +kernel
theorem dL_law_178 : decode cL_law 178 = .ok (.iaload, 1) := by decide +kernel
theorem dL_law_179 : decode cL_law 179 = .ok (.invokevirtual 26, 3) := by decide +kernel
theorem dL_law_182 : decode cL_law 182 = .ok (.if_icmp .eq 321, 3) := by decide +kernel
theorem dL_law_185 : decode cL_law 185 = .ok (.iconst 0, 1) := by decide +kernel
theorem dL_law_186 : decode cL_law 186 = .ok (.ireturn, 1) := by decide +kernel
theorem dL_law_187 : decode cL_law 187 = .ok (.aload_n 1, 1) := by decide +kernel
theorem dL_law_188 : decode cL_law 188 = .ok (.aload_n 0, 1) := by decide +kernel
end
section
set_option maxRecDepth 100000
theorem dL_law_189 : decode cL_law 189 = .ok (.iload_n 3, 1) := by decide +kernel
theorem dL_law_190 : decode cL_law 190 = .ok (.iconst 1, 1) := by decide +kernel
theorem dL_law_191 : decode cL_law 191 = .ok (.iadd, 1) := by decide +kernel
theorem dL_law_192 : decode cL_law 192 = .ok (.iaload, 1) := by decide +kernel
theorem dL_law_193 : decode cL_law 193 = .ok (.aload_n 0, 1) := by decide +kernel
theorem dL_law_194 : decode cL_law 194 = .ok (.iload_n 3, 1) := by decide +kernel
theorem dL_law_195 : decode cL_law 195 = .ok (.iconst 2, 1) := by decide +kernel
theorem dL_law_196 : decode cL_law 196 = .ok (.iadd, 1) := by decide +kernel
theorem dL_law_197 : decode cL_law 197 = .ok (.iaload, 1) := by decide +kernel
theorem dL_law_198 : decode cL_law 198 = .ok (.invokevirtual 27, 3) := by decide +kernel
theorem dL_law_201 : decode cL_law 201 = .ok (.aload_n 2, 1) := by decide +kernel
theorem dL_law_202 : decode cL_law 202 = .ok (.aload_n 0, 1) := by decide +kernel
theorem dL_law_203 : decode cL_law 203 = .ok (.iload_n 3, 1) := by decide +kernel
theorem dL_law_204 : decode cL_law 204 = .ok (.iconst 1, 1) := by decide +kernel
theorem dL_law_205 : decode cL_law 205 = .ok (.iadd, 1) := by decide +kernel
theorem dL_law_206 : decode cL_law 206 = .ok (.iaload, 1) := by decide +kernel
theorem dL_law_207 : decode cL_law 207 = .ok (.aload_n 0, 1) := by decide +kernel
theorem dL_law_208 : decode cL_law 208 = .ok (.iload_n 3, 1) := by decide +kernel
theorem dL_law_209 : decode cL_law 209 = .ok (.iconst 2, 1) := by decide +kernel
theorem dL_law_210 : decode cL_law 210 = .ok (.iadd, 1) := by decide +kernel
theorem dL_law_211 : decode cL_law 211 = .ok (.iaload, 1) := by decide +kernel
theorem dL_law_212 : decode cL_law 212 = .ok (.invokevirtual 30, 3) := by decide +kernel
theorem dL_law_215 : decode cL_law 215 = .ok (.if_icmp .eq 288, 3) := by decide +kernel
theorem dL_law_218 : decode cL_law 218 = .ok (.iconst 0, 1) := by decide +kernel
theorem dL_law_219 : decode cL_law 219 = .ok (.ireturn, 1) := by decide +kernel
theorem dL_law_220 : decode cL_law 220 = .ok (.aload_n 1, 1) := by decide +kernel
theorem dL_law_221 : decode cL_law 221 = .ok (.aload_n 0, 1) := by decide +kernel
theorem dL_law_222 : decode cL_law 222 = .ok (.iload_n 3, 1) := by decide +kernel
theorem dL_law_223 : decode cL_law 223 = .ok (.iconst 1, 1) := by decide +kernel
theorem dL_law_224 : decode cL_law 224 = .ok (.iadd, 1) := by decide +kernel
theorem dL_law_225 : decode cL_law 225 = .ok (.iaload, 1) := by decide +kernel
theorem dL_law_226 : decode cL_law 226 = .ok (.aload_n 0, 1) := by decide +kernel
theorem dL_law_227 : decode cL_law 227 = .ok (.iload_n 3, 1) := by decide +kernel
theorem dL_law_228 : decode cL_law 228 = .ok (.iconst 2, 1) := by decide +kernel
theorem dL_law_229 : decode cL_law 229 = .ok (.iadd, 1) := by decide +kernel
theorem dL_law_230 : decode cL_law 230 = .ok (.iaload, 1) := by decide +kernel
theorem dL_law_231 : decode cL_law 231 = .ok (.invokevirtual 31, 3) := by decide +kernel
theorem dL_law_234 : decode cL_law 234 = .ok (.aload_n 2, 1) := by decide +kernel
theorem dL_law_235 : decode cL_law 235 = .ok (.aload_n 0, 1) := by decide +kernel
theorem dL_law_236 : decode cL_law 236 = .ok (.iload_n 3, 1) := by decide +kernel
theorem dL_law_237 : decode cL_law 237 = .ok (.iconst 1, 1) := by decide +kernel
theorem dL_law_238 : decode cL_law 238 = .ok (.iadd, 1) := by decide +kernel
theorem dL_law_239 : decode cL_law 239 = .ok (.iaload, 1) := by decide +kernel
theorem dL_law_240 : decode cL_law 240 = .ok (.aload_n 0, 1) := by decide +kernel
theorem dL_law_241 : decode cL_law 241 = .ok (.iload_n 3, 1) := by decide +kernel
theorem dL_law_242 : decode cL_law 242 = .ok (.iconst 2, 1) := by decide +kernel
theorem dL_law_243 : decode cL_law 243 = .ok (.iadd, 1) := by decide +kernel
theorem dL_law_244 : decode cL_law 244 = .ok (.iaload, 1) := by decide +kernel
theorem dL_law_245 : decode cL_law 245 = .ok (.invokevirtual 34, 3) := by decide +kernel
theorem dL_law_248 : decode cL_law 248 = .ok (.if_icmp .eq 255, 3) := by decide +kernel
theorem dL_law_251 : decode cL_law 251 = .ok (.iconst 0, 1) := by decide +kernel
theorem dL_law_252 : decode cL_law 252 = .ok (.ireturn, 1) := by decide +kernel
theorem dL_law_253 : decode cL_law 253 = .ok (.aload_n 1, 1) := by decide +kernel
theorem dL_law_254 : decode cL_law 254 = .ok (.aload_n 0, 1) := by decide +kernel
theorem dL_law_255 : decode cL_law 255 = .ok (.iload_n 3, 1) := by decide +kernel
theorem dL_law_256 : decode cL_law 256 = .ok (.iconst 1, 1) := by decide +kernel
theorem dL_law_257 : decode cL_law 257 = .ok (.iadd, 1) := by decide +kernel
theorem dL_law_258 : decode cL_law 258 = .ok (.iaload, 1) := by decide +kernel
theorem dL_law_259 : decode cL_law 259 = .ok (.aload_n 0, 1) := by decide +kernel
theorem dL_law_260 : decode cL_law 260 = .ok (.iload_n 3, 1) := by decide +kernel
theorem dL_law_261 : decode cL_law 261 = .ok (.iconst 2, 1) := by decide +kernel
theorem dL_law_262 : decode cL_law 262 = .ok (.iadd, 1) := by decide +kernel
theorem dL_law_263 : decode cL_law 263 = .ok (.iaload, 1) := by decide +kernel
theorem dL_law_264 : decode cL_law 264 = .ok (.aload_n 0, 1) := by decide +kernel
theorem dL_law_265 : decode cL_law 265 = .ok (.iload_n 3, 1) := by decide +kernel
theorem dL_law_266 : decode cL_law 266 = .ok (.iconst 3, 1) := by decide +kernel
theorem dL_law_267 : decode cL_law 267 = .ok (.iadd, 1) := by decide +kernel
theorem dL_law_268 : decode cL_law 268 = .ok (.iaload, 1) := by decide +kernel
theorem dL_law_269 : decode cL_law 269 = .ok (.invokevirtual 35, 3) := by decide +kernel
theorem dL_law_272 : decode cL_law 272 = .ok (.aload_n 2, 1) := by decide +kernel
theorem dL_law_273 : decode cL_law 273 = .ok (.aload_n 0, 1) := by decide +kernel
theorem dL_law_274 : decode cL_law 274 = .ok (.iload_n 3, 1) := by decide +kernel
theorem dL_law_275 : decode cL_law 275 = .ok (.iconst 1, 1) := by decide +kernel
theorem dL_law_276 : decode cL_law 276 = .ok (.iadd, 1) := by decide +kernel
theorem dL_law_277 : decode cL_law 277 = .ok (.iaload, 1) := by decide +kernel
theorem dL_law_278 : decode cL_law 278 = .ok (.aload_n 0, 1) := by decide +kernel
theorem dL_law_279 : decode cL_law 279 = .ok (.iload_n 3, 1) := by decide +kernel
theorem dL_law_280 : decode cL_law 280 = .ok (.iconst 2, 1) := by decide +kernel
theorem dL_law_281 : decode cL_law 281 = .ok (.iadd, 1) := by decide +kernel
theorem dL_law_282 : decode cL_law 282 = .ok (.iaload, 1) := by decide +kernel
theorem dL_law_283 : decode cL_law 283 = .ok (.aload_n 0, 1) := by decide +kernel
theorem dL_law_284 : decode cL_law 284 = .ok (.iload_n 3, 1) := by decide +kernel
theorem dL_law_285 : decode cL_law 285 = .ok (.iconst 3, 1) := by decide +kernel
theorem dL_law_286 : decode cL_law 286 = .ok (.iadd, 1) := by decide +kernel
theorem dL_law_287 : decode cL_law 287 = .ok (.iaload, 1) := by decide +kernel
end
section
set_option maxRecDepth 100000
theorem dL_law_288 : decode cL_law 288 = .ok (.invokevirtual 39, 3) := by decide +kernel
theorem dL_law_291 : decode cL_law 291 = .ok (.if_icmp .eq 212, 3) := by decide +kernel
theorem dL_law_294 : decode cL_law 294 = .ok (.iconst 0, 1) := by decide +kernel
theorem dL_law_295 : decode cL_law 295 = .ok (.ireturn, 1) := by decide +kernel
theorem dL_law_296 : decode cL_law 296 = .ok (.aload_n 1, 1) := by decide +kernel
theorem dL_law_297 : decode cL_law 297 = .ok (.aload_n 0, 1) := by decide +kernel
theorem dL_law_298 : decode cL_law 298 = .ok (.iload_n 3, 1) := by decide +kernel
theorem dL_law_299 : decode cL_law 299 = .ok (.iconst 1, 1) := by decide +kernel
theorem dL_law_300 : decode cL_law 300 = .ok (.iadd, 1) := by decide +kernel
theorem dL_law_301 : decode cL_law 301 = .ok (.iaload, 1) := by decide +kernel
theorem dL_law_302 : decode cL_law 302 = .ok (.aload_n 0, 1) := by decide +kernel
theorem dL_law_303 : decode cL_law 303 = .ok (.iload_n 3, 1) := by decide +kernel
theorem dL_law_304 : decode cL_law 304 = .ok (.iconst 2, 1) := by decide +kernel
theorem dL_law_305 : decode cL_law 305 = .ok (.iadd, 1) := by decide +kernel
theorem dL_law_306 : decode cL_law 306 = .ok (.iaload, 1) := by decide +kernel
theorem dL_law_307 : decode cL_law 307 = .ok (.aload_n 0, 1) := by decide +kernel
theorem dL_law_308 : decode cL_law 308 = .ok (.iload_n 3, 1) := by decide +kernel
theorem dL_law_309 : decode cL_law 309 = .ok (.iconst 3, 1) := by decide +kernel
theorem dL_law_310 : decode cL_law 310 = .ok (.iadd, 1) := by decide +kernel
theorem dL_law_311 : decode cL_law 311 = .ok (.iaload, 1) := by decide +kernel
theorem dL_law_312 : decode cL_law 312 = .ok (.invokevirtual 40, 3) := by decide +kernel
theorem dL_law_315 : decode cL_law 315 = .ok (.aload_n 2, 1) := by decide +kernel
theorem dL_law_316 : decode cL_law 316 = .ok (.aload_n 0, 1) := by decide +kernel
theorem dL_law_317 : decode cL_law 317 = .ok (.iload_n 3, 1) := by decide +kernel
theorem dL_law_318 : decode cL_law 318 = .ok (.iconst 1, 1) := by decide +kernel
theorem dL_law_319 : decode cL_law 319 = .ok (.iadd, 1) := by decide +kernel
theorem dL_law_320 : decode cL_law 320 = .ok (.iaload, 1) := by decide +kernel
theorem dL_law_321 : decode cL_law 321 = .ok (.aload_n 0, 1) := by decide +kernel
theorem dL_law_322 : decode cL_law 322 = .ok (.iload_n 3, 1) := by decide +kernel
theorem dL_law_323 : decode cL_law 323 = .ok (.iconst 2, 1) := by decide +kernel
theorem dL_law_324 : decode cL_law 324 = .ok (.iadd, 1) := by decide +kernel
theorem dL_law_325 : decode cL_law 325 = .ok (.iaload, 1) := by decide +kernel
theorem dL_law_326 : decode cL_law 326 = .ok (.aload_n 0, 1) := by decide +kernel
theorem dL_law_327 : decode cL_law 327 = .ok (.iload_n 3, 1) := by decide +kernel
theorem dL_law_328 : decode cL_law 328 = .ok (.iconst 3, 1) := by decide +kernel
theorem dL_law_329 : decode cL_law 329 = .ok (.iadd, 1) := by decide +kernel
theorem dL_law_330 : decode cL_law 330 = .ok (.iaload, 1) := by decide +kernel
theorem dL_law_331 : decode cL_law 331 = .ok (.invokevirtual 43, 3) := by decide +kernel
theorem dL_law_334 : decode cL_law 334 = .ok (.if_icmp .eq 169, 3) := by decide +kernel
theorem dL_law_337 : decode cL_law 337 = .ok (.iconst 0, 1) := by decide +kernel
theorem dL_law_338 : decode cL_law 338 = .ok (.ireturn, 1) := by decide +kernel
theorem dL_law_339 : decode cL_law 339 = .ok (.aload_n 1, 1) := by decide +kernel
theorem dL_law_340 : decode cL_law 340 = .ok (.aload_n 0, 1) := by decide +kernel
theorem dL_law_341 : decode cL_law 341 = .ok (.iload_n 3, 1) := by decide +kernel
theorem dL_law_342 : decode cL_law 342 = .ok (.iconst 1, 1) := by decide +kernel
theorem dL_law_343 : decode cL_law 343 = .ok (.iadd, 1) := by decide +kernel
theorem dL_law_344 : decode cL_law 344 = .ok (.iaload, 1) := by decide +kernel
theorem dL_law_345 : decode cL_law 345 = .ok (.invokevirtual 44, 3) := by decide +kernel
theorem dL_law_348 : decode cL_law 348 = .ok (.aload_n 2, 1) := by decide +kernel
theorem dL_law_349 : decode cL_law 349 = .ok (.aload_n 0, 1) := by decide +kernel
theorem dL_law_350 : decode cL_law 350 = .ok (.iload_n 3, 1) := by decide +kernel
theorem dL_law_351 : decode cL_law 351 = .ok (.iconst 1, 1) := by decide +kernel
theorem dL_law_352 : decode cL_law 352 = .ok (.iadd, 1) := by decide +kernel
theorem dL_law_353 : decode cL_law 353 = .ok (.iaload, 1) := by decide +kernel
theorem dL_law_354 : decode cL_law 354 = .ok (.invokevirtual 47, 3) := by decide +kernel
theorem dL_law_357 : decode cL_law 357 = .ok (.if_icmp .eq 146, 3) := by decide +kernel
theorem dL_law_360 : decode cL_law 360 = .ok (.iconst 0, 1) := by decide +kernel
theorem dL_law_361 : decode cL_law 361 = .ok (.ireturn, 1) := by decide +kernel
theorem dL_law_362 : decode cL_law 362 = .ok (.aload_n 1, 1) := by decide +kernel
theorem dL_law_363 : decode cL_law 363 = .ok (.aload_n 0, 1) := by decide +kernel
theorem dL_law_364 : decode cL_law 364 = .ok (.iload_n 3, 1) := by decide +kernel
theorem dL_law_365 : decode cL_law 365 = .ok (.iconst 1, 1) := by decide +kernel
theorem dL_law_366 : decode cL_law 366 = .ok (.iadd, 1) := by decide +kernel
theorem dL_law_367 : decode cL_law 367 = .ok (.iaload, 1) := by decide +kernel
theorem dL_law_368 : decode cL_law 368 = .ok (.invokevirtual 48, 3) := by decide +kernel
theorem dL_law_371 : decode cL_law 371 = .ok (.aload_n 2, 1) := by decide +kernel
theorem dL_law_372 : decode cL_law 372 = .ok (.aload_n 0, 1) := by decide +kernel
theorem dL_law_373 : decode cL_law 373 = .ok (.iload_n 3, 1) := by decide +kernel
theorem dL_law_374 : decode cL_law 374 = .ok (.iconst 1, 1) := by decide +kernel
theorem dL_law_375 : decode cL_law 375 = .ok (.iadd, 1) := by decide +kernel
theorem dL_law_376 : decode cL_law 376 = .ok (.iaload, 1) := by decide +kernel
theorem dL_law_377 : decode cL_law 377 = .ok (.invokevirtual 51, 3) := by decide +kernel
theorem dL_law_380 : decode cL_law 380 = .ok (.if_icmp .eq 123, 3) := by decide +kernel
theorem dL_law_383 : decode cL_law 383 = .ok (.iconst 0, 1) := by decide +kernel
theorem dL_law_384 : decode cL_law 384 = .ok (.ireturn, 1) := by decide +kernel
theorem dL_law_385 : decode cL_law 385 = .ok (.aload_n 1, 1) := by decide +kernel
theorem dL_law_386 : decode cL_law 386 = .ok (.aload_n 0, 1) := by decide +kernel
theorem dL_law_387 : decode cL_law 387 = .ok (.iload_n 3, 1) := by decide +kernel
theorem dL_law_388 : decode cL_law 388 = .ok (.iconst 1, 1) := by decide +kernel
theorem dL_law_389 : decode cL_law 389 = .ok (.iadd, 1) := by decide +kernel
theorem dL_law_390 : decode cL_law 390 = .ok (.iaload, 1) := by decide +kernel
theorem dL_law_391 : decode cL_law 391 = .ok (.aload_n 0, 1) := by decide +kernel
theorem dL_law_392 : decode cL_law 392 = .ok (.iload_n 3, 1) := by decide +kernel
theorem dL_law_393 : decode cL_law 393 = .ok (.iconst 2, 1) := by decide +kernel
theorem dL_law_394 : decode cL_law 394 = .ok (.iadd, 1) := by decide +kernel
end
section
set_option maxRecDepth 100000
theorem dL_law_395 : decode cL_law 395 = .ok (.iaload, 1) := by decide +kernel
theorem dL_law_396 : decode cL_law 396 = .ok (.invokevirtual 52, 3) := by decide +kernel
theorem dL_law_399 : decode cL_law 399 = .ok (.aload_n 2, 1) := by decide +kernel
theorem dL_law_400 : decode cL_law 400 = .ok (.aload_n 0, 1) := by decide +kernel
theorem dL_law_401 : decode cL_law 401 = .ok (.iload_n 3, 1) := by decide +kernel
theorem dL_law_402 : decode cL_law 402 = .ok (.iconst 1, 1) := by decide +kernel
theorem dL_law_403 : decode cL_law 403 = .ok (.iadd, 1) := by decide +kernel
theorem dL_law_404 : decode cL_law 404 = .ok (.iaload, 1) := by decide +kernel
theorem dL_law_405 : decode cL_law 405 = .ok (.aload_n 0, 1) := by decide +kernel
theorem dL_law_406 : decode cL_law 406 = .ok (.iload_n 3, 1) := by decide +kernel
theorem dL_law_407 : decode cL_law 407 = .ok (.iconst 2, 1) := by decide +kernel
theorem dL_law_408 : decode cL_law 408 = .ok (.iadd, 1) := by decide +kernel
theorem dL_law_409 : decode cL_law 409 = .ok (.iaload, 1) := by decide +kernel
theorem dL_law_410 : decode cL_law 410 = .ok (.invokevirtual 55, 3) := by decide +kernel
theorem dL_law_413 : decode cL_law 413 = .ok (.if_icmp .eq 90, 3) := by decide +kernel
theorem dL_law_416 : decode cL_law 416 = .ok (.iconst 0, 1) := by decide +kernel
theorem dL_law_417 : decode cL_law 417 = .ok (.ireturn, 1) := by decide +kernel
theorem dL_law_418 : decode cL_law 418 = .ok (.aload_n 1, 1) := by decide +kernel
theorem dL_law_419 : decode cL_law 419 = .ok (.aload_n 0, 1) := by decide +kernel
theorem dL_law_420 : decode cL_law 420 = .ok (.iload_n 3, 1) := by decide +kernel
theorem dL_law_421 : decode cL_law 421 = .ok (.iconst 1, 1) := by decide +kernel
theorem dL_law_422 : decode cL_law 422 = .ok (.iadd, 1) := by decide +kernel
theorem dL_law_423 : decode cL_law 423 = .ok (.iaload, 1) := by decide +kernel
theorem dL_law_424 : decode cL_law 424 = .ok (.aload_n 0, 1) := by decide +kernel
theorem dL_law_425 : decode cL_law 425 = .ok (.iload_n 3, 1) := by decide +kernel
theorem dL_law_426 : decode cL_law 426 = .ok (.iconst 2, 1) := by decide +kernel
theorem dL_law_427 : decode cL_law 427 = .ok (.iadd, 1) := by decide +kernel
theorem dL_law_428 : decode cL_law 428 = .ok (.iaload, 1) := by decide +kernel
theorem dL_law_429 : decode cL_law 429 = .ok (.invokevirtual 56, 3) := by decide +kernel
theorem dL_law_432 : decode cL_law 432 = .ok (.aload_n 2, 1) := by decide +kernel
theorem dL_law_433 : decode cL_law 433 = .ok (.aload_n 0, 1) := by decide +kernel
theorem dL_law_434 : decode cL_law 434 = .ok (.iload_n 3, 1) := by decide +kernel
theorem dL_law_435 : decode cL_law 435 = .ok (.iconst 1, 1) := by decide +kernel
theorem dL_law_436 : decode cL_law 436 = .ok (.iadd, 1) := by decide +kernel
theorem dL_law_437 : decode cL_law 437 = .ok (.iaload, 1) := by decide +kernel
theorem dL_law_438 : decode cL_law 438 = .ok (.aload_n 0, 1) := by decide +kernel
theorem dL_law_439 : decode cL_law 439 = .ok (.iload_n 3, 1) := by decide +kernel
theorem dL_law_440 : decode cL_law 440 = .ok (.iconst 2, 1) := by decide +kernel
theorem dL_law_441 : decode cL_law 441 = .ok (.iadd, 1) := by decide +kernel
theorem dL_law_442 : decode cL_law 442 = .ok (.iaload, 1) := by decide +kernel
theorem dL_law_443 : decode cL_law 443 = .ok (.invokevirtual 60, 3) := by decide +kernel
theorem dL_law_446 : decode cL_law 446 = .ok (.if_icmp .eq 57, 3) := by decide +kernel
theorem dL_law_449 : decode cL_law 449 = .ok (.iconst 0, 1) := by decide +kernel
theorem dL_law_450 : decode cL_law 450 = .ok (.ireturn, 1) := by decide +kernel
theorem dL_law_451 : decode cL_law 451 = .ok (.aload_n 1, 1) := by decide +kernel
theorem dL_law_452 : decode cL_law 452 = .ok (.invokevirtual 61, 3) := by decide +kernel
theorem dL_law_455 : decode cL_law 455 = .ok (.aload_n 2, 1) := by decide +kernel
theorem dL_law_456 : decode cL_law 456 = .ok (.invokevirtual 65, 3) := by decide +kernel
theorem dL_law_459 : decode cL_law 459 = .ok (.if_icmp .eq 44, 3) := by decide +kernel
theorem dL_law_462 : decode cL_law 462 = .ok (.iconst 0, 1) := by decide +kernel
theorem dL_law_463 : decode cL_law 463 = .ok (.ireturn, 1) := by decide +kernel
theorem dL_law_464 : decode cL_law 464 = .ok (.aload_n 1, 1) := by decide +kernel
theorem dL_law_465 : decode cL_law 465 = .ok (.invokevirtual 66, 3) := by decide +kernel
theorem dL_law_468 : decode cL_law 468 = .ok (.aload_n 2, 1) := by decide +kernel
theorem dL_law_469 : decode cL_law 469 = .ok (.invokevirtual 69, 3) := by decide +kernel
theorem dL_law_472 : decode cL_law 472 = .ok (.if_icmp .eq 31, 3) := by decide +kernel
theorem dL_law_475 : decode cL_law 475 = .ok (.iconst 0, 1) := by decide +kernel
theorem dL_law_476 : decode cL_law 476 = .ok (.ireturn, 1) := by decide +kernel
theorem dL_law_477 : decode cL_law 477 = .ok (.aload_n 1, 1) := by decide +kernel
theorem dL_law_478 : decode cL_law 478 = .ok (.invokevirtual 70, 3) := by decide +kernel
theorem dL_law_481 : decode cL_law 481 = .ok (.aload_n 2, 1) := by decide +kernel
theorem dL_law_482 : decode cL_law 482 = .ok (.invokevirtual 73, 3) := by decide +kernel
theorem dL_law_485 : decode cL_law 485 = .ok (.if_icmp .eq 18, 3) := by decide +kernel
theorem dL_law_488 : decode cL_law 488 = .ok (.iconst 0, 1) := by decide +kernel
theorem dL_law_489 : decode cL_law 489 = .ok (.ireturn, 1) := by decide +kernel
theorem dL_law_490 : decode cL_law 490 = .ok (.aload_n 1, 1) := by decide +kernel
theorem dL_law_491 : decode cL_law 491 = .ok (.invokevirtual 74, 3) := by decide +kernel
theorem dL_law_494 : decode cL_law 494 = .ok (.aload_n 2, 1) := by decide +kernel
theorem dL_law_495 : decode cL_law 495 = .ok (.invokevirtual 77, 3) := by decide +kernel
theorem dL_law_498 : decode cL_law 498 = .ok (.if_icmp .eq 5, 3) := by decide +kernel
theorem dL_law_501 : decode cL_law 501 = .ok (.iconst 0, 1) := by decide +kernel
theorem dL_law_502 : decode cL_law 502 = .ok (.ireturn, 1) := by decide +kernel
theorem dL_law_503 : decode cL_law 503 = .ok (.iinc 3 4, 3) := by decide +kernel
theorem dL_law_506 : decode cL_law 506 = .ok (.goto (-488), 3) := by decide +kernel
theorem dL_law_509 : decode cL_law 509 = .ok (.iconst 1, 1) := by decide +kernel
theorem dL_law_510 : decode cL_law 510 = .ok (.ireturn, 1) := by decide +kernel
end
section
/-! java/lang/Object -/
set_option maxRecDepth 100000
def RJ0 : String := "java/lang/Object"
abbrev cJ0_init : ByteArray := object_method_1_code
def yJ0_init : MethodName := ⟨RJ0, "<init>", "()V"⟩
theorem q22 : (Jvm.Cond.instanceMethod ({ cls := "java/lang/Object", name := "<init>", desc := "()V" } : Jvm.MethodName)) ∈ lw_all := lw_g (lw_at lw_m1 9 rfl) rfl
theorem q23 : (Jvm.Cond.code ({ cls := "java/lang/Object", name := "<init>", desc := "()V" } : Jvm.MethodName) object_method_1_code (1 : Nat) (Option.none : Option Jvm.ClassFile.FieldType)) ∈ lw_all := lw_g (lw_at lw_m1 10 rfl) rfl
theorem q14 : (Jvm.Cond.initialized "KeyHeap") ∈ lw_all := lw_g (lw_at lw_m1 1 rfl) rfl
theorem q17 : (Jvm.Cond.instantiable "KeyHeap" (6 : Nat)) ∈ lw_all := lw_g (lw_at lw_m1 4 rfl) rfl
theorem q19 : (Jvm.Cond.instanceMethod ({ cls := "KeyHeap", name := "<init>", desc := "()V" } : Jvm.MethodName)) ∈ lw_all := lw_g (lw_at lw_m1 6 rfl) rfl
theorem q20 : (Jvm.Cond.code ({ cls := "KeyHeap", name := "<init>", desc := "()V" } : Jvm.MethodName) prog_1_method_1_code (1 : Nat) (Option.none : Option Jvm.ClassFile.FieldType)) ∈ lw_all := lw_g (lw_at lw_m1 7 rfl) rfl
theorem q21 : (Jvm.Cond.methodLink "KeyHeap" (1 : Nat) ({ cls := "java/lang/Object", name := "<init>", desc := "()V" } : Jvm.MethodName)) ∈ lw_all := lw_g (lw_at lw_m1 8 rfl) rfl
theorem q24 : (Jvm.Cond.fieldLink "KeyHeap" (7 : Nat) "KeyHeap" "variables" "[B") ∈ lw_all := lw_g (lw_at lw_m1 11 rfl) rfl
theorem q25 : (Jvm.Cond.fieldLink "KeyHeap" (27 : Nat) "KeyHeap" "inUse" "I") ∈ lw_all := lw_g (lw_at lw_m1 12 rfl) rfl
theorem q26 : (Jvm.Cond.fieldLink "KeyHeap" (13 : Nat) "KeyHeap" "locks" "[B") ∈ lw_all := lw_g (lw_at lw_m1 13 rfl) rfl
theorem q27 : (Jvm.Cond.fieldLink "KeyHeap" (16 : Nat) "KeyHeap" "numbers" "[I") ∈ lw_all := lw_g (lw_at lw_m1 14 rfl) rfl
theorem q28 : (Jvm.Cond.fieldLink "KeyHeap" (20 : Nat) "KeyHeap" "links" "[B") ∈ lw_all := lw_g (lw_at lw_m1 15 rfl) rfl
theorem q29 : (Jvm.Cond.fieldLink "KeyHeap" (41 : Nat) "KeyHeap" "turn" "I") ∈ lw_all := lw_g (lw_at lw_m1 16 rfl) rfl
theorem q30 : (Jvm.Cond.laysFinal "KeyHeap" "KeyHeap" "variables" "[B") ∈ lw_all := lw_g (lw_at lw_m1 17 rfl) rfl
theorem q31 : (Jvm.Cond.soleField "KeyHeap" "variables") ∈ lw_all := lw_g (lw_at lw_m1 18 rfl) rfl
theorem q32 : (Jvm.Cond.lays "KeyHeap" "KeyHeap" "inUse" "I") ∈ lw_all := lw_g (lw_at lw_m1 19 rfl) rfl
theorem q33 : (Jvm.Cond.soleField "KeyHeap" "inUse") ∈ lw_all := lw_g (lw_at lw_m1 20 rfl) rfl
theorem q34 : (Jvm.Cond.laysFinal "KeyHeap" "KeyHeap" "locks" "[B") ∈ lw_all := lw_g (lw_at lw_m1 21 rfl) rfl
theorem q35 : (Jvm.Cond.soleField "KeyHeap" "locks") ∈ lw_all := lw_g (lw_at lw_m1 22 rfl) rfl
theorem q36 : (Jvm.Cond.laysFinal "KeyHeap" "KeyHeap" "numbers" "[I") ∈ lw_all := lw_g (lw_at lw_m1 23 rfl) rfl
theorem q37 : (Jvm.Cond.soleField "KeyHeap" "numbers") ∈ lw_all := lw_g (lw_at lw_m1 24 rfl) rfl
theorem q38 : (Jvm.Cond.laysFinal "KeyHeap" "KeyHeap" "links" "[B") ∈ lw_all := lw_g (lw_at lw_m1 25 rfl) rfl
theorem q39 : (Jvm.Cond.soleField "KeyHeap" "links") ∈ lw_all := lw_g (lw_at lw_m1 26 rfl) rfl
theorem q40 : (Jvm.Cond.lays "KeyHeap" "KeyHeap" "turn" "I") ∈ lw_all := lw_g (lw_at lw_m1 27 rfl) rfl
theorem q41 : (Jvm.Cond.soleField "KeyHeap" "turn") ∈ lw_all := lw_g (lw_at lw_m1 28 rfl) rfl
theorem q42 : (Jvm.Cond.superclass "KeyHeap" "java/lang/Object") ∈ lw_all := lw_g (lw_at lw_m1 29 rfl) rfl
theorem q46 : (Jvm.Cond.instanceMethod ({ cls := "KeyHeap", name := "make", desc := "(II)I" } : Jvm.MethodName)) ∈ lw_all := lw_g (lw_at lw_m1 33 rfl) rfl
theorem q47 : (Jvm.Cond.selects "KeyHeap" ({ cls := "KeyHeap", name := "make", desc := "(II)I" } : Jvm.MethodName) ({ cls := "KeyHeap", name := "make", desc := "(II)I" } : Jvm.MethodName)) ∈ lw_all := lw_g (lw_at lw_m1 34 rfl) rfl
theorem q48 : (Jvm.Cond.code ({ cls := "KeyHeap", name := "make", desc := "(II)I" } : Jvm.MethodName) prog_1_method_11_code (4 : Nat) (Option.some Jvm.ClassFile.FieldType.int)) ∈ lw_all := lw_g (lw_at lw_m1 35 rfl) rfl
theorem q49 : (Jvm.Cond.methodLink "KeyHeap" (44 : Nat) ({ cls := "KeyHeap", name := "isVariable", desc := "(I)Z" } : Jvm.MethodName)) ∈ lw_all := lw_g (lw_at lw_m1 36 rfl) rfl
theorem q50 : (Jvm.Cond.static ({ cls := "KeyHeap", name := "isVariable", desc := "(I)Z" } : Jvm.MethodName)) ∈ lw_all := lw_g (lw_at lw_m1 37 rfl) rfl
theorem q51 : (Jvm.Cond.code ({ cls := "KeyHeap", name := "isVariable", desc := "(I)Z" } : Jvm.MethodName) prog_1_method_2_code (1 : Nat) (Option.some Jvm.ClassFile.FieldType.boolean)) ∈ lw_all := lw_g (lw_at lw_m1 38 rfl) rfl
theorem q52 : (Jvm.Cond.methodLink "KeyHeap" (48 : Nat) ({ cls := "KeyHeap", name := "freeBlock", desc := "()I" } : Jvm.MethodName)) ∈ lw_all := lw_g (lw_at lw_m1 39 rfl) rfl
theorem q53 : (Jvm.Cond.privateMethod ({ cls := "KeyHeap", name := "freeBlock", desc := "()I" } : Jvm.MethodName)) ∈ lw_tbl := lw_at lw_m1 40 rfl
theorem q54 : (Jvm.Cond.instanceMethod ({ cls := "KeyHeap", name := "freeBlock", desc := "()I" } : Jvm.MethodName)) ∈ lw_all := lw_g (lw_at lw_m1 41 rfl) rfl
theorem q55 : (Jvm.Cond.code ({ cls := "KeyHeap", name := "freeBlock", desc := "()I" } : Jvm.MethodName) prog_1_method_10_code (3 : Nat) (Option.some Jvm.ClassFile.FieldType.int)) ∈ lw_all := lw_g (lw_at lw_m1 42 rfl) rfl
theorem q56 : (Jvm.Cond.methodLink "KeyHeap" (31 : Nat) ({ cls := "KeyHeap", name := "pointerTo", desc := "(I)I" } : Jvm.MethodName)) ∈ lw_all := lw_g (lw_at lw_m1 43 rfl) rfl
theorem q57 : (Jvm.Cond.privateMethod ({ cls := "KeyHeap", name := "pointerTo", desc := "(I)I" } : Jvm.MethodName)) ∈ lw_tbl := lw_at lw_m1 44 rfl
theorem q58 : (Jvm.Cond.instanceMethod ({ cls := "KeyHeap", name := "pointerTo", desc := "(I)I" } : Jvm.MethodName)) ∈ lw_all := lw_g (lw_at lw_m1 45 rfl) rfl
theorem q59 : (Jvm.Cond.code ({ cls := "KeyHeap", name := "pointerTo", desc := "(I)I" } : Jvm.MethodName) prog_1_method_5_code (2 : Nat) (Option.some Jvm.ClassFile.FieldType.int)) ∈ lw_all := lw_g (lw_at lw_m1 46 rfl) rfl
theorem q61 : (Jvm.Cond.instanceMethod ({ cls := "KeyHeap", name := "dispose", desc := "(I)I" } : Jvm.MethodName)) ∈ lw_all := lw_g (lw_at lw_m1 48 rfl) rfl
theorem q62 : (Jvm.Cond.selects "KeyHeap" ({ cls := "KeyHeap", name := "dispose", desc := "(I)I" } : Jvm.MethodName) ({ cls := "KeyHeap", name := "dispose", desc := "(I)I" } : Jvm.MethodName)) ∈ lw_all := lw_g (lw_at lw_m1 49 rfl) rfl
theorem q63 : (Jvm.Cond.code ({ cls := "KeyHeap", name := "dispose", desc := "(I)I" } : Jvm.MethodName) prog_1_method_12_code (4 : Nat) (Option.some Jvm.ClassFile.FieldType.int)) ∈ lw_all := lw_g (lw_at lw_m1 50 rfl) rfl
theorem q64 : (Jvm.Cond.methodLink "KeyHeap" (52 : Nat) ({ cls := "KeyHeap", name := "check", desc := "(I)I" } : Jvm.MethodName)) ∈ lw_all := lw_g (lw_at lw_m1 51 rfl) rfl
theorem q65 : (Jvm.Cond.privateMethod ({ cls := "KeyHeap", name := "check", desc := "(I)I" } : Jvm.MethodName)) ∈ lw_tbl := lw_at lw_m1 52 rfl
theorem q66 : (Jvm.Cond.instanceMethod ({ cls := "KeyHeap", name := "check", desc := "(I)I" } : Jvm.MethodName)) ∈ lw_all := lw_g (lw_at lw_m1 53 rfl) rfl
theorem q67 : (Jvm.Cond.code ({ cls := "KeyHeap", name := "check", desc := "(I)I" } : Jvm.MethodName) prog_1_method_7_code (3 : Nat) (Option.some Jvm.ClassFile.FieldType.int)) ∈ lw_all := lw_g (lw_at lw_m1 54 rfl) rfl
theorem q68 : (Jvm.Cond.methodLink "KeyHeap" (34 : Nat) ({ cls := "KeyHeap", name := "stateOf", desc := "(I)I" } : Jvm.MethodName)) ∈ lw_all := lw_g (lw_at lw_m1 55 rfl) rfl
theorem q69 : (Jvm.Cond.privateMethod ({ cls := "KeyHeap", name := "stateOf", desc := "(I)I" } : Jvm.MethodName)) ∈ lw_tbl := lw_at lw_m1 56 rfl
theorem q70 : (Jvm.Cond.instanceMethod ({ cls := "KeyHeap", name := "stateOf", desc := "(I)I" } : Jvm.MethodName)) ∈ lw_all := lw_g (lw_at lw_m1 57 rfl) rfl
theorem q71 : (Jvm.Cond.code ({ cls := "KeyHeap", name := "stateOf", desc := "(I)I" } : Jvm.MethodName) prog_1_method_6_code (4 : Nat) (Option.some Jvm.ClassFile.FieldType.int)) ∈ lw_all := lw_g (lw_at lw_m1 58 rfl) rfl
theorem q72 : (Jvm.Cond.methodLink "KeyHeap" (23 : Nat) ({ cls := "KeyHeap", name := "blockOf", desc := "(I)I" } : Jvm.MethodName)) ∈ lw_all := lw_g (lw_at lw_m1 59 rfl) rfl
theorem q73 : (Jvm.Cond.static ({ cls := "KeyHeap", name := "blockOf", desc := "(I)I" } : Jvm.MethodName)) ∈ lw_all := lw_g (lw_at lw_m1 60 rfl) rfl
theorem q74 : (Jvm.Cond.code ({ cls := "KeyHeap", name := "blockOf", desc := "(I)I" } : Jvm.MethodName) prog_1_method_4_code (1 : Nat) (Option.some Jvm.ClassFile.FieldType.int)) ∈ lw_all := lw_g (lw_at lw_m1 61 rfl) rfl
theorem q75 : (Jvm.Cond.methodLink "KeyHeap" (55 : Nat) ({ cls := "KeyHeap", name := "release", desc := "(I)V" } : Jvm.MethodName)) ∈ lw_all := lw_g (lw_at lw_m1 62 rfl) rfl
theorem q76 : (Jvm.Cond.privateMethod ({ cls := "KeyHeap", name := "release", desc := "(I)V" } : Jvm.MethodName)) ∈ lw_tbl := lw_at lw_m1 63 rfl
theorem q77 : (Jvm.Cond.instanceMethod ({ cls := "KeyHeap", name := "release", desc := "(I)V" } : Jvm.MethodName)) ∈ lw_all := lw_g (lw_at lw_m1 64 rfl) rfl
theorem q78 : (Jvm.Cond.code ({ cls := "KeyHeap", name := "release", desc := "(I)V" } : Jvm.MethodName) prog_1_method_8_code (2 : Nat) (Option.none : Option Jvm.ClassFile.FieldType)) ∈ lw_all := lw_g (lw_at lw_m1 65 rfl) rfl
theorem q79 : (Jvm.Cond.methodLink "KeyHeap" (37 : Nat) ({ cls := "KeyHeap", name := "retire", desc := "(I)V" } : Jvm.MethodName)) ∈ lw_all := lw_g (lw_at lw_m1 66 rfl) rfl
theorem q80 : (Jvm.Cond.privateMethod ({ cls := "KeyHeap", name := "retire", desc := "(I)V" } : Jvm.MethodName)) ∈ lw_tbl := lw_at lw_m1 67 rfl
theorem q81 : (Jvm.Cond.instanceMethod ({ cls := "KeyHeap", name := "retire", desc := "(I)V" } : Jvm.MethodName)) ∈ lw_all := lw_g (lw_at lw_m1 68 rfl) rfl
theorem q82 : (Jvm.Cond.code ({ cls := "KeyHeap", name := "retire", desc := "(I)V" } : Jvm.MethodName) prog_1_method_9_code (3 : Nat) (Option.none : Option Jvm.ClassFile.FieldType)) ∈ lw_all := lw_g (lw_at lw_m1 69 rfl) rfl
theorem q84 : (Jvm.Cond.instanceMethod ({ cls := "KeyHeap", name := "setNil", desc := "(I)I" } : Jvm.MethodName)) ∈ lw_all := lw_g (lw_at lw_m1 71 rfl) rfl
theorem q85 : (Jvm.Cond.selects "KeyHeap" ({ cls := "KeyHeap", name := "setNil", desc := "(I)I" } : Jvm.MethodName) ({ cls := "KeyHeap", name := "setNil", desc := "(I)I" } : Jvm.MethodName)) ∈ lw_all := lw_g (lw_at lw_m1 72 rfl) rfl
theorem q86 : (Jvm.Cond.code ({ cls := "KeyHeap", name := "setNil", desc := "(I)I" } : Jvm.MethodName) prog_1_method_13_code (2 : Nat) (Option.some Jvm.ClassFile.FieldType.int)) ∈ lw_all := lw_g (lw_at lw_m1 73 rfl) rfl
theorem q88 : (Jvm.Cond.instanceMethod ({ cls := "KeyHeap", name := "copy", desc := "(II)I" } : Jvm.MethodName)) ∈ lw_all := lw_g (lw_at lw_m1 75 rfl) rfl
theorem q89 : (Jvm.Cond.selects "KeyHeap" ({ cls := "KeyHeap", name := "copy", desc := "(II)I" } : Jvm.MethodName) ({ cls := "KeyHeap", name := "copy", desc := "(II)I" } : Jvm.MethodName)) ∈ lw_all := lw_g (lw_at lw_m1 76 rfl) rfl
theorem q90 : (Jvm.Cond.code ({ cls := "KeyHeap", name := "copy", desc := "(II)I" } : Jvm.MethodName) prog_1_method_14_code (3 : Nat) (Option.some Jvm.ClassFile.FieldType.int)) ∈ lw_all := lw_g (lw_at lw_m1 77 rfl) rfl
theorem q92 : (Jvm.Cond.instanceMethod ({ cls := "KeyHeap", name := "setNumber", desc := "(II)I" } : Jvm.MethodName)) ∈ lw_all := lw_g (lw_at lw_m1 79 rfl) rfl
theorem q93 : (Jvm.Cond.selects "KeyHeap" ({ cls := "KeyHeap", name := "setNumber", desc := "(II)I" } : Jvm.MethodName) ({ cls := "KeyHeap", name := "setNumber", desc := "(II)I" } : Jvm.MethodName)) ∈ lw_all := lw_g (lw_at lw_m1 80 rfl) rfl
theorem q94 : (Jvm.Cond.code ({ cls := "KeyHeap", name := "setNumber", desc := "(II)I" } : Jvm.MethodName) prog_1_method_15_code (5 : Nat) (Option.some Jvm.ClassFile.FieldType.int)) ∈ lw_all := lw_g (lw_at lw_m1 81 rfl) rfl
theorem q96 : (Jvm.Cond.instanceMethod ({ cls := "KeyHeap", name := "setLink", desc := "(III)I" } : Jvm.MethodName)) ∈ lw_all := lw_g (lw_at lw_m1 83 rfl) rfl
theorem q97 : (Jvm.Cond.selects "KeyHeap" ({ cls := "KeyHeap", name := "setLink", desc := "(III)I" } : Jvm.MethodName) ({ cls := "KeyHeap", name := "setLink", desc := "(III)I" } : Jvm.MethodName)) ∈ lw_all := lw_g (lw_at lw_m1 84 rfl) rfl
theorem q98 : (Jvm.Cond.code ({ cls := "KeyHeap", name := "setLink", desc := "(III)I" } : Jvm.MethodName) prog_1_method_16_code (6 : Nat) (Option.some Jvm.ClassFile.FieldType.int)) ∈ lw_all := lw_g (lw_at lw_m1 85 rfl) rfl
theorem q99 : (Jvm.Cond.methodLink "KeyHeap" (58 : Nat) ({ cls := "KeyHeap", name := "isLink", desc := "(I)Z" } : Jvm.MethodName)) ∈ lw_all := lw_g (lw_at lw_m1 86 rfl) rfl
theorem q100 : (Jvm.Cond.static ({ cls := "KeyHeap", name := "isLink", desc := "(I)Z" } : Jvm.MethodName)) ∈ lw_all := lw_g (lw_at lw_m1 87 rfl) rfl
theorem q101 : (Jvm.Cond.code ({ cls := "KeyHeap", name := "isLink", desc := "(I)Z" } : Jvm.MethodName) prog_1_method_3_code (1 : Nat) (Option.some Jvm.ClassFile.FieldType.boolean)) ∈ lw_all := lw_g (lw_at lw_m1 88 rfl) rfl
theorem q103 : (Jvm.Cond.instanceMethod ({ cls := "KeyHeap", name := "follow", desc := "(III)I" } : Jvm.MethodName)) ∈ lw_all := lw_g (lw_at lw_m1 90 rfl) rfl
theorem q104 : (Jvm.Cond.selects "KeyHeap" ({ cls := "KeyHeap", name := "follow", desc := "(III)I" } : Jvm.MethodName) ({ cls := "KeyHeap", name := "follow", desc := "(III)I" } : Jvm.MethodName)) ∈ lw_all := lw_g (lw_at lw_m1 91 rfl) rfl
theorem q105 : (Jvm.Cond.code ({ cls := "KeyHeap", name := "follow", desc := "(III)I" } : Jvm.MethodName) prog_1_method_17_code (6 : Nat) (Option.some Jvm.ClassFile.FieldType.int)) ∈ lw_all := lw_g (lw_at lw_m1 92 rfl) rfl
theorem q107 : (Jvm.Cond.instanceMethod ({ cls := "KeyHeap", name := "holds", desc := "(I)I" } : Jvm.MethodName)) ∈ lw_all := lw_g (lw_at lw_m1 94 rfl) rfl
theorem q108 : (Jvm.Cond.selects "KeyHeap" ({ cls := "KeyHeap", name := "holds", desc := "(I)I" } : Jvm.MethodName) ({ cls := "KeyHeap", name := "holds", desc := "(I)I" } : Jvm.MethodName)) ∈ lw_all := lw_g (lw_at lw_m1 95 rfl) rfl
theorem q109 : (Jvm.Cond.code ({ cls := "KeyHeap", name := "holds", desc := "(I)I" } : Jvm.MethodName) prog_1_method_18_code (2 : Nat) (Option.some Jvm.ClassFile.FieldType.int)) ∈ lw_all := lw_g (lw_at lw_m1 96 rfl) rfl
theorem q111 : (Jvm.Cond.instanceMethod ({ cls := "KeyHeap", name := "number", desc := "(I)I" } : Jvm.MethodName)) ∈ lw_all := lw_g (lw_at lw_m1 98 rfl) rfl
theorem q112 : (Jvm.Cond.selects "KeyHeap" ({ cls := "KeyHeap", name := "number", desc := "(I)I" } : Jvm.MethodName) ({ cls := "KeyHeap", name := "number", desc := "(I)I" } : Jvm.MethodName)) ∈ lw_all := lw_g (lw_at lw_m1 99 rfl) rfl
theorem q113 : (Jvm.Cond.code ({ cls := "KeyHeap", name := "number", desc := "(I)I" } : Jvm.MethodName) prog_1_method_19_code (3 : Nat) (Option.some Jvm.ClassFile.FieldType.int)) ∈ lw_all := lw_g (lw_at lw_m1 100 rfl) rfl
theorem q115 : (Jvm.Cond.instanceMethod ({ cls := "KeyHeap", name := "linkHolds", desc := "(II)I" } : Jvm.MethodName)) ∈ lw_all := lw_g (lw_at lw_m1 102 rfl) rfl
theorem q116 : (Jvm.Cond.selects "KeyHeap" ({ cls := "KeyHeap", name := "linkHolds", desc := "(II)I" } : Jvm.MethodName) ({ cls := "KeyHeap", name := "linkHolds", desc := "(II)I" } : Jvm.MethodName)) ∈ lw_all := lw_g (lw_at lw_m1 103 rfl) rfl
theorem q117 : (Jvm.Cond.code ({ cls := "KeyHeap", name := "linkHolds", desc := "(II)I" } : Jvm.MethodName) prog_1_method_20_code (4 : Nat) (Option.some Jvm.ClassFile.FieldType.int)) ∈ lw_all := lw_g (lw_at lw_m1 104 rfl) rfl
theorem q119 : (Jvm.Cond.instanceMethod ({ cls := "KeyHeap", name := "same", desc := "(II)Z" } : Jvm.MethodName)) ∈ lw_all := lw_g (lw_at lw_m1 106 rfl) rfl
theorem q120 : (Jvm.Cond.selects "KeyHeap" ({ cls := "KeyHeap", name := "same", desc := "(II)Z" } : Jvm.MethodName) ({ cls := "KeyHeap", name := "same", desc := "(II)Z" } : Jvm.MethodName)) ∈ lw_all := lw_g (lw_at lw_m1 107 rfl) rfl
theorem q121 : (Jvm.Cond.code ({ cls := "KeyHeap", name := "same", desc := "(II)Z" } : Jvm.MethodName) prog_1_method_21_code (4 : Nat) (Option.some Jvm.ClassFile.FieldType.boolean)) ∈ lw_all := lw_g (lw_at lw_m1 108 rfl) rfl
theorem q123 : (Jvm.Cond.instanceMethod ({ cls := "KeyHeap", name := "live", desc := "()I" } : Jvm.MethodName)) ∈ lw_all := lw_g (lw_at lw_m1 110 rfl) rfl
theorem q124 : (Jvm.Cond.selects "KeyHeap" ({ cls := "KeyHeap", name := "live", desc := "()I" } : Jvm.MethodName) ({ cls := "KeyHeap", name := "live", desc := "()I" } : Jvm.MethodName)) ∈ lw_all := lw_g (lw_at lw_m1 111 rfl) rfl
theorem q125 : (Jvm.Cond.code ({ cls := "KeyHeap", name := "live", desc := "()I" } : Jvm.MethodName) prog_1_method_22_code (1 : Nat) (Option.some Jvm.ClassFile.FieldType.int)) ∈ lw_all := lw_g (lw_at lw_m1 112 rfl) rfl
theorem q126 : (Jvm.Cond.methodLink "KeyHeap" (61 : Nat) ({ cls := "KeyHeap", name := "sizeOf", desc := "(I)I" } : Jvm.MethodName)) ∈ lw_all := lw_g (lw_at lw_m1 113 rfl) rfl
theorem q127 : (Jvm.Cond.static ({ cls := "KeyHeap", name := "sizeOf", desc := "(I)I" } : Jvm.MethodName)) ∈ lw_all := lw_g (lw_at lw_m1 114 rfl) rfl
theorem q128 : (Jvm.Cond.code ({ cls := "KeyHeap", name := "sizeOf", desc := "(I)I" } : Jvm.MethodName) prog_1_method_23_code (3 : Nat) (Option.some Jvm.ClassFile.FieldType.int)) ∈ lw_all := lw_g (lw_at lw_m1 115 rfl) rfl
theorem q130 : (Jvm.Cond.instanceMethod ({ cls := "KeyHeap", name := "reached", desc := "()I" } : Jvm.MethodName)) ∈ lw_all := lw_g (lw_at lw_m1 117 rfl) rfl
theorem q131 : (Jvm.Cond.selects "KeyHeap" ({ cls := "KeyHeap", name := "reached", desc := "()I" } : Jvm.MethodName) ({ cls := "KeyHeap", name := "reached", desc := "()I" } : Jvm.MethodName)) ∈ lw_all := lw_g (lw_at lw_m1 118 rfl) rfl
theorem q132 : (Jvm.Cond.code ({ cls := "KeyHeap", name := "reached", desc := "()I" } : Jvm.MethodName) prog_1_method_26_code (2 : Nat) (Option.some Jvm.ClassFile.FieldType.int)) ∈ lw_all := lw_g (lw_at lw_m1 119 rfl) rfl
theorem q133 : (Jvm.Cond.methodLink "KeyHeap" (67 : Nat) ({ cls := "KeyHeap", name := "mark", desc := "()I" } : Jvm.MethodName)) ∈ lw_all := lw_g (lw_at lw_m1 120 rfl) rfl
theorem q134 : (Jvm.Cond.privateMethod ({ cls := "KeyHeap", name := "mark", desc := "()I" } : Jvm.MethodName)) ∈ lw_tbl := lw_at lw_m1 121 rfl
theorem q135 : (Jvm.Cond.instanceMethod ({ cls := "KeyHeap", name := "mark", desc := "()I" } : Jvm.MethodName)) ∈ lw_all := lw_g (lw_at lw_m1 122 rfl) rfl
theorem q136 : (Jvm.Cond.code ({ cls := "KeyHeap", name := "mark", desc := "()I" } : Jvm.MethodName) prog_1_method_24_code (4 : Nat) (Option.some Jvm.ClassFile.FieldType.int)) ∈ lw_all := lw_g (lw_at lw_m1 123 rfl) rfl
theorem q137 : (Jvm.Cond.methodLink "KeyHeap" (64 : Nat) ({ cls := "KeyHeap", name := "target", desc := "(I)I" } : Jvm.MethodName)) ∈ lw_all := lw_g (lw_at lw_m1 124 rfl) rfl
theorem q138 : (Jvm.Cond.privateMethod ({ cls := "KeyHeap", name := "target", desc := "(I)I" } : Jvm.MethodName)) ∈ lw_tbl := lw_at lw_m1 125 rfl
theorem q139 : (Jvm.Cond.instanceMethod ({ cls := "KeyHeap", name := "target", desc := "(I)I" } : Jvm.MethodName)) ∈ lw_all := lw_g (lw_at lw_m1 126 rfl) rfl
theorem q140 : (Jvm.Cond.code ({ cls := "KeyHeap", name := "target", desc := "(I)I" } : Jvm.MethodName) prog_1_method_25_code (2 : Nat) (Option.some Jvm.ClassFile.FieldType.int)) ∈ lw_all := lw_g (lw_at lw_m1 127 rfl) rfl
theorem q142 : (Jvm.Cond.instanceMethod ({ cls := "KeyHeap", name := "sweep", desc := "()I" } : Jvm.MethodName)) ∈ lw_all := lw_g (lw_at lw_m1 129 rfl) rfl
theorem q143 : (Jvm.Cond.selects "KeyHeap" ({ cls := "KeyHeap", name := "sweep", desc := "()I" } : Jvm.MethodName) ({ cls := "KeyHeap", name := "sweep", desc := "()I" } : Jvm.MethodName)) ∈ lw_all := lw_g (lw_at lw_m1 130 rfl) rfl
theorem q144 : (Jvm.Cond.code ({ cls := "KeyHeap", name := "sweep", desc := "()I" } : Jvm.MethodName) prog_1_method_27_code (3 : Nat) (Option.some Jvm.ClassFile.FieldType.int)) ∈ lw_all := lw_g (lw_at lw_m1 131 rfl) rfl
theorem q146 : (Jvm.Cond.instanceMethod ({ cls := "KeyHeap", name := "total", desc := "()I" } : Jvm.MethodName)) ∈ lw_all := lw_g (lw_at lw_m1 133 rfl) rfl
theorem q147 : (Jvm.Cond.selects "KeyHeap" ({ cls := "KeyHeap", name := "total", desc := "()I" } : Jvm.MethodName) ({ cls := "KeyHeap", name := "total", desc := "()I" } : Jvm.MethodName)) ∈ lw_all := lw_g (lw_at lw_m1 134 rfl) rfl
theorem q148 : (Jvm.Cond.code ({ cls := "KeyHeap", name := "total", desc := "()I" } : Jvm.MethodName) prog_1_method_28_code (3 : Nat) (Option.some Jvm.ClassFile.FieldType.int)) ∈ lw_all := lw_g (lw_at lw_m1 135 rfl) rfl
theorem in_X0 : ∀ w ∈ wsX00, w ∈ lw_all := lw_in wsX00 [30, 32, 34, 36, 38, 40] (by decide +kernel) (by decide +kernel)
theorem q15 : (Jvm.Cond.initialized "KeyHeapModel") ∈ lw_all := lw_g (lw_at lw_m1 2 rfl) rfl
theorem q150 : (Jvm.Cond.instantiable "KeyHeapModel" (7 : Nat)) ∈ lw_all := lw_g (lw_at lw_m1 137 rfl) rfl
theorem q152 : (Jvm.Cond.instanceMethod ({ cls := "KeyHeapModel", name := "<init>", desc := "()V" } : Jvm.MethodName)) ∈ lw_all := lw_g (lw_at lw_m1 139 rfl) rfl
theorem q153 : (Jvm.Cond.code ({ cls := "KeyHeapModel", name := "<init>", desc := "()V" } : Jvm.MethodName) prog_3_method_1_code (1 : Nat) (Option.none : Option Jvm.ClassFile.FieldType)) ∈ lw_all := lw_g (lw_at lw_m1 140 rfl) rfl
theorem q154 : (Jvm.Cond.methodLink "KeyHeapModel" (1 : Nat) ({ cls := "java/lang/Object", name := "<init>", desc := "()V" } : Jvm.MethodName)) ∈ lw_all := lw_g (lw_at lw_m1 141 rfl) rfl
theorem q155 : (Jvm.Cond.fieldLink "KeyHeapModel" (7 : Nat) "KeyHeapModel" "vars" "[I") ∈ lw_all := lw_g (lw_at lw_m1 142 rfl) rfl
theorem q156 : (Jvm.Cond.fieldLink "KeyHeapModel" (41 : Nat) "KeyHeapModel" "made" "I") ∈ lw_all := lw_g (lw_at lw_m1 143 rfl) rfl
theorem q157 : (Jvm.Cond.fieldLink "KeyHeapModel" (13 : Nat) "KeyHeapModel" "alive" "[Z") ∈ lw_all := lw_g (lw_at lw_m1 144 rfl) rfl
theorem q158 : (Jvm.Cond.fieldLink "KeyHeapModel" (17 : Nat) "KeyHeapModel" "num" "[I") ∈ lw_all := lw_g (lw_at lw_m1 145 rfl) rfl
theorem q159 : (Jvm.Cond.fieldLink "KeyHeapModel" (20 : Nat) "KeyHeapModel" "left" "[I") ∈ lw_all := lw_g (lw_at lw_m1 146 rfl) rfl
theorem q160 : (Jvm.Cond.fieldLink "KeyHeapModel" (23 : Nat) "KeyHeapModel" "right" "[I") ∈ lw_all := lw_g (lw_at lw_m1 147 rfl) rfl
theorem q161 : (Jvm.Cond.fieldLink "KeyHeapModel" (26 : Nat) "KeyHeapModel" "seen" "[Z") ∈ lw_all := lw_g (lw_at lw_m1 148 rfl) rfl
theorem q162 : (Jvm.Cond.lays "KeyHeapModel" "KeyHeapModel" "vars" "[I") ∈ lw_all := lw_g (lw_at lw_m1 149 rfl) rfl
theorem q163 : (Jvm.Cond.soleField "KeyHeapModel" "vars") ∈ lw_all := lw_g (lw_at lw_m1 150 rfl) rfl
theorem q164 : (Jvm.Cond.lays "KeyHeapModel" "KeyHeapModel" "made" "I") ∈ lw_all := lw_g (lw_at lw_m1 151 rfl) rfl
theorem q165 : (Jvm.Cond.soleField "KeyHeapModel" "made") ∈ lw_all := lw_g (lw_at lw_m1 152 rfl) rfl
theorem q166 : (Jvm.Cond.lays "KeyHeapModel" "KeyHeapModel" "alive" "[Z") ∈ lw_all := lw_g (lw_at lw_m1 153 rfl) rfl
theorem q167 : (Jvm.Cond.soleField "KeyHeapModel" "alive") ∈ lw_all := lw_g (lw_at lw_m1 154 rfl) rfl
theorem q168 : (Jvm.Cond.lays "KeyHeapModel" "KeyHeapModel" "num" "[I") ∈ lw_all := lw_g (lw_at lw_m1 155 rfl) rfl
theorem q169 : (Jvm.Cond.soleField "KeyHeapModel" "num") ∈ lw_all := lw_g (lw_at lw_m1 156 rfl) rfl
theorem q170 : (Jvm.Cond.lays "KeyHeapModel" "KeyHeapModel" "left" "[I") ∈ lw_all := lw_g (lw_at lw_m1 157 rfl) rfl
theorem q171 : (Jvm.Cond.soleField "KeyHeapModel" "left") ∈ lw_all := lw_g (lw_at lw_m1 158 rfl) rfl
theorem q172 : (Jvm.Cond.lays "KeyHeapModel" "KeyHeapModel" "right" "[I") ∈ lw_all := lw_g (lw_at lw_m1 159 rfl) rfl
theorem q173 : (Jvm.Cond.soleField "KeyHeapModel" "right") ∈ lw_all := lw_g (lw_at lw_m1 160 rfl) rfl
theorem q174 : (Jvm.Cond.lays "KeyHeapModel" "KeyHeapModel" "seen" "[Z") ∈ lw_all := lw_g (lw_at lw_m1 161 rfl) rfl
theorem q175 : (Jvm.Cond.soleField "KeyHeapModel" "seen") ∈ lw_all := lw_g (lw_at lw_m1 162 rfl) rfl
theorem q176 : (Jvm.Cond.superclass "KeyHeapModel" "java/lang/Object") ∈ lw_all := lw_g (lw_at lw_m1 163 rfl) rfl
theorem q179 : (Jvm.Cond.instanceMethod ({ cls := "KeyHeapModel", name := "make", desc := "(II)I" } : Jvm.MethodName)) ∈ lw_all := lw_g (lw_at lw_m1 166 rfl) rfl
theorem q180 : (Jvm.Cond.selects "KeyHeapModel" ({ cls := "KeyHeapModel", name := "make", desc := "(II)I" } : Jvm.MethodName) ({ cls := "KeyHeapModel", name := "make", desc := "(II)I" } : Jvm.MethodName)) ∈ lw_all := lw_g (lw_at lw_m1 167 rfl) rfl
theorem q181 : (Jvm.Cond.code ({ cls := "KeyHeapModel", name := "make", desc := "(II)I" } : Jvm.MethodName) prog_3_method_5_code (3 : Nat) (Option.some Jvm.ClassFile.FieldType.int)) ∈ lw_all := lw_g (lw_at lw_m1 168 rfl) rfl
theorem q182 : (Jvm.Cond.methodLink "KeyHeapModel" (33 : Nat) ({ cls := "KeyHeapModel", name := "var", desc := "(I)Z" } : Jvm.MethodName)) ∈ lw_all := lw_g (lw_at lw_m1 169 rfl) rfl
theorem q183 : (Jvm.Cond.privateMethod ({ cls := "KeyHeapModel", name := "var", desc := "(I)Z" } : Jvm.MethodName)) ∈ lw_tbl := lw_at lw_m1 170 rfl
theorem q184 : (Jvm.Cond.instanceMethod ({ cls := "KeyHeapModel", name := "var", desc := "(I)Z" } : Jvm.MethodName)) ∈ lw_all := lw_g (lw_at lw_m1 171 rfl) rfl
theorem q185 : (Jvm.Cond.code ({ cls := "KeyHeapModel", name := "var", desc := "(I)Z" } : Jvm.MethodName) prog_3_method_2_code (2 : Nat) (Option.some Jvm.ClassFile.FieldType.boolean)) ∈ lw_all := lw_g (lw_at lw_m1 172 rfl) rfl
theorem q186 : (Jvm.Cond.methodLink "KeyHeapModel" (37 : Nat) ({ cls := "KeyHeapModel", name := "live", desc := "()I" } : Jvm.MethodName)) ∈ lw_all := lw_g (lw_at lw_m1 173 rfl) rfl
theorem q187 : (Jvm.Cond.instanceMethod ({ cls := "KeyHeapModel", name := "live", desc := "()I" } : Jvm.MethodName)) ∈ lw_all := lw_g (lw_at lw_m1 174 rfl) rfl
theorem q188 : (Jvm.Cond.selects "KeyHeapModel" ({ cls := "KeyHeapModel", name := "live", desc := "()I" } : Jvm.MethodName) ({ cls := "KeyHeapModel", name := "live", desc := "()I" } : Jvm.MethodName)) ∈ lw_all := lw_g (lw_at lw_m1 175 rfl) rfl
theorem q189 : (Jvm.Cond.code ({ cls := "KeyHeapModel", name := "live", desc := "()I" } : Jvm.MethodName) prog_3_method_16_code (3 : Nat) (Option.some Jvm.ClassFile.FieldType.int)) ∈ lw_all := lw_g (lw_at lw_m1 176 rfl) rfl
theorem q191 : (Jvm.Cond.instanceMethod ({ cls := "KeyHeapModel", name := "dispose", desc := "(I)I" } : Jvm.MethodName)) ∈ lw_all := lw_g (lw_at lw_m1 178 rfl) rfl
theorem q192 : (Jvm.Cond.selects "KeyHeapModel" ({ cls := "KeyHeapModel", name := "dispose", desc := "(I)I" } : Jvm.MethodName) ({ cls := "KeyHeapModel", name := "dispose", desc := "(I)I" } : Jvm.MethodName)) ∈ lw_all := lw_g (lw_at lw_m1 179 rfl) rfl
theorem q193 : (Jvm.Cond.code ({ cls := "KeyHeapModel", name := "dispose", desc := "(I)I" } : Jvm.MethodName) prog_3_method_6_code (3 : Nat) (Option.some Jvm.ClassFile.FieldType.int)) ∈ lw_all := lw_g (lw_at lw_m1 180 rfl) rfl
theorem q194 : (Jvm.Cond.methodLink "KeyHeapModel" (45 : Nat) ({ cls := "KeyHeapModel", name := "through", desc := "(I)I" } : Jvm.MethodName)) ∈ lw_all := lw_g (lw_at lw_m1 181 rfl) rfl
theorem q195 : (Jvm.Cond.privateMethod ({ cls := "KeyHeapModel", name := "through", desc := "(I)I" } : Jvm.MethodName)) ∈ lw_tbl := lw_at lw_m1 182 rfl
theorem q196 : (Jvm.Cond.instanceMethod ({ cls := "KeyHeapModel", name := "through", desc := "(I)I" } : Jvm.MethodName)) ∈ lw_all := lw_g (lw_at lw_m1 183 rfl) rfl
theorem q197 : (Jvm.Cond.code ({ cls := "KeyHeapModel", name := "through", desc := "(I)I" } : Jvm.MethodName) prog_3_method_4_code (3 : Nat) (Option.some Jvm.ClassFile.FieldType.int)) ∈ lw_all := lw_g (lw_at lw_m1 184 rfl) rfl
theorem q198 : (Jvm.Cond.methodLink "KeyHeapModel" (29 : Nat) ({ cls := "KeyHeapModel", name := "kind", desc := "(I)I" } : Jvm.MethodName)) ∈ lw_all := lw_g (lw_at lw_m1 185 rfl) rfl
theorem q199 : (Jvm.Cond.privateMethod ({ cls := "KeyHeapModel", name := "kind", desc := "(I)I" } : Jvm.MethodName)) ∈ lw_tbl := lw_at lw_m1 186 rfl
theorem q200 : (Jvm.Cond.instanceMethod ({ cls := "KeyHeapModel", name := "kind", desc := "(I)I" } : Jvm.MethodName)) ∈ lw_all := lw_g (lw_at lw_m1 187 rfl) rfl
theorem q201 : (Jvm.Cond.code ({ cls := "KeyHeapModel", name := "kind", desc := "(I)I" } : Jvm.MethodName) prog_3_method_3_code (2 : Nat) (Option.some Jvm.ClassFile.FieldType.int)) ∈ lw_all := lw_g (lw_at lw_m1 188 rfl) rfl
theorem q203 : (Jvm.Cond.instanceMethod ({ cls := "KeyHeapModel", name := "setNil", desc := "(I)I" } : Jvm.MethodName)) ∈ lw_all := lw_g (lw_at lw_m1 190 rfl) rfl
theorem q204 : (Jvm.Cond.selects "KeyHeapModel" ({ cls := "KeyHeapModel", name := "setNil", desc := "(I)I" } : Jvm.MethodName) ({ cls := "KeyHeapModel", name := "setNil", desc := "(I)I" } : Jvm.MethodName)) ∈ lw_all := lw_g (lw_at lw_m1 191 rfl) rfl
theorem q205 : (Jvm.Cond.code ({ cls := "KeyHeapModel", name := "setNil", desc := "(I)I" } : Jvm.MethodName) prog_3_method_7_code (2 : Nat) (Option.some Jvm.ClassFile.FieldType.int)) ∈ lw_all := lw_g (lw_at lw_m1 192 rfl) rfl
theorem q207 : (Jvm.Cond.instanceMethod ({ cls := "KeyHeapModel", name := "copy", desc := "(II)I" } : Jvm.MethodName)) ∈ lw_all := lw_g (lw_at lw_m1 194 rfl) rfl
theorem q208 : (Jvm.Cond.selects "KeyHeapModel" ({ cls := "KeyHeapModel", name := "copy", desc := "(II)I" } : Jvm.MethodName) ({ cls := "KeyHeapModel", name := "copy", desc := "(II)I" } : Jvm.MethodName)) ∈ lw_all := lw_g (lw_at lw_m1 195 rfl) rfl
theorem q209 : (Jvm.Cond.code ({ cls := "KeyHeapModel", name := "copy", desc := "(II)I" } : Jvm.MethodName) prog_3_method_8_code (3 : Nat) (Option.some Jvm.ClassFile.FieldType.int)) ∈ lw_all := lw_g (lw_at lw_m1 196 rfl) rfl
theorem q211 : (Jvm.Cond.instanceMethod ({ cls := "KeyHeapModel", name := "setNumber", desc := "(II)I" } : Jvm.MethodName)) ∈ lw_all := lw_g (lw_at lw_m1 198 rfl) rfl
theorem q212 : (Jvm.Cond.selects "KeyHeapModel" ({ cls := "KeyHeapModel", name := "setNumber", desc := "(II)I" } : Jvm.MethodName) ({ cls := "KeyHeapModel", name := "setNumber", desc := "(II)I" } : Jvm.MethodName)) ∈ lw_all := lw_g (lw_at lw_m1 199 rfl) rfl
theorem q213 : (Jvm.Cond.code ({ cls := "KeyHeapModel", name := "setNumber", desc := "(II)I" } : Jvm.MethodName) prog_3_method_9_code (4 : Nat) (Option.some Jvm.ClassFile.FieldType.int)) ∈ lw_all := lw_g (lw_at lw_m1 200 rfl) rfl
theorem q215 : (Jvm.Cond.instanceMethod ({ cls := "KeyHeapModel", name := "setLink", desc := "(III)I" } : Jvm.MethodName)) ∈ lw_all := lw_g (lw_at lw_m1 202 rfl) rfl
theorem q216 : (Jvm.Cond.selects "KeyHeapModel" ({ cls := "KeyHeapModel", name := "setLink", desc := "(III)I" } : Jvm.MethodName) ({ cls := "KeyHeapModel", name := "setLink", desc := "(III)I" } : Jvm.MethodName)) ∈ lw_all := lw_g (lw_at lw_m1 203 rfl) rfl
theorem q217 : (Jvm.Cond.code ({ cls := "KeyHeapModel", name := "setLink", desc := "(III)I" } : Jvm.MethodName) prog_3_method_10_code (5 : Nat) (Option.some Jvm.ClassFile.FieldType.int)) ∈ lw_all := lw_g (lw_at lw_m1 204 rfl) rfl
theorem q219 : (Jvm.Cond.instanceMethod ({ cls := "KeyHeapModel", name := "follow", desc := "(III)I" } : Jvm.MethodName)) ∈ lw_all := lw_g (lw_at lw_m1 206 rfl) rfl
theorem q220 : (Jvm.Cond.selects "KeyHeapModel" ({ cls := "KeyHeapModel", name := "follow", desc := "(III)I" } : Jvm.MethodName) ({ cls := "KeyHeapModel", name := "follow", desc := "(III)I" } : Jvm.MethodName)) ∈ lw_all := lw_g (lw_at lw_m1 207 rfl) rfl
theorem q221 : (Jvm.Cond.code ({ cls := "KeyHeapModel", name := "follow", desc := "(III)I" } : Jvm.MethodName) prog_3_method_11_code (5 : Nat) (Option.some Jvm.ClassFile.FieldType.int)) ∈ lw_all := lw_g (lw_at lw_m1 208 rfl) rfl
theorem q223 : (Jvm.Cond.instanceMethod ({ cls := "KeyHeapModel", name := "holds", desc := "(I)I" } : Jvm.MethodName)) ∈ lw_all := lw_g (lw_at lw_m1 210 rfl) rfl
theorem q224 : (Jvm.Cond.selects "KeyHeapModel" ({ cls := "KeyHeapModel", name := "holds", desc := "(I)I" } : Jvm.MethodName) ({ cls := "KeyHeapModel", name := "holds", desc := "(I)I" } : Jvm.MethodName)) ∈ lw_all := lw_g (lw_at lw_m1 211 rfl) rfl
theorem q225 : (Jvm.Cond.code ({ cls := "KeyHeapModel", name := "holds", desc := "(I)I" } : Jvm.MethodName) prog_3_method_12_code (2 : Nat) (Option.some Jvm.ClassFile.FieldType.int)) ∈ lw_all := lw_g (lw_at lw_m1 212 rfl) rfl
theorem q227 : (Jvm.Cond.instanceMethod ({ cls := "KeyHeapModel", name := "number", desc := "(I)I" } : Jvm.MethodName)) ∈ lw_all := lw_g (lw_at lw_m1 214 rfl) rfl
theorem q228 : (Jvm.Cond.selects "KeyHeapModel" ({ cls := "KeyHeapModel", name := "number", desc := "(I)I" } : Jvm.MethodName) ({ cls := "KeyHeapModel", name := "number", desc := "(I)I" } : Jvm.MethodName)) ∈ lw_all := lw_g (lw_at lw_m1 215 rfl) rfl
theorem q229 : (Jvm.Cond.code ({ cls := "KeyHeapModel", name := "number", desc := "(I)I" } : Jvm.MethodName) prog_3_method_13_code (2 : Nat) (Option.some Jvm.ClassFile.FieldType.int)) ∈ lw_all := lw_g (lw_at lw_m1 216 rfl) rfl
theorem q230 : (Jvm.Cond.methodLink "KeyHeapModel" (48 : Nat) ({ cls := "KeyHeapModel", name := "holds", desc := "(I)I" } : Jvm.MethodName)) ∈ lw_all := lw_g (lw_at lw_m1 217 rfl) rfl
theorem q232 : (Jvm.Cond.instanceMethod ({ cls := "KeyHeapModel", name := "linkHolds", desc := "(II)I" } : Jvm.MethodName)) ∈ lw_all := lw_g (lw_at lw_m1 219 rfl) rfl
theorem q233 : (Jvm.Cond.selects "KeyHeapModel" ({ cls := "KeyHeapModel", name := "linkHolds", desc := "(II)I" } : Jvm.MethodName) ({ cls := "KeyHeapModel", name := "linkHolds", desc := "(II)I" } : Jvm.MethodName)) ∈ lw_all := lw_g (lw_at lw_m1 220 rfl) rfl
theorem q234 : (Jvm.Cond.code ({ cls := "KeyHeapModel", name := "linkHolds", desc := "(II)I" } : Jvm.MethodName) prog_3_method_14_code (4 : Nat) (Option.some Jvm.ClassFile.FieldType.int)) ∈ lw_all := lw_g (lw_at lw_m1 221 rfl) rfl
theorem q236 : (Jvm.Cond.instanceMethod ({ cls := "KeyHeapModel", name := "same", desc := "(II)Z" } : Jvm.MethodName)) ∈ lw_all := lw_g (lw_at lw_m1 223 rfl) rfl
theorem q237 : (Jvm.Cond.selects "KeyHeapModel" ({ cls := "KeyHeapModel", name := "same", desc := "(II)Z" } : Jvm.MethodName) ({ cls := "KeyHeapModel", name := "same", desc := "(II)Z" } : Jvm.MethodName)) ∈ lw_all := lw_g (lw_at lw_m1 224 rfl) rfl
theorem q238 : (Jvm.Cond.code ({ cls := "KeyHeapModel", name := "same", desc := "(II)Z" } : Jvm.MethodName) prog_3_method_15_code (3 : Nat) (Option.some Jvm.ClassFile.FieldType.boolean)) ∈ lw_all := lw_g (lw_at lw_m1 225 rfl) rfl
theorem q241 : (Jvm.Cond.instanceMethod ({ cls := "KeyHeapModel", name := "reached", desc := "()I" } : Jvm.MethodName)) ∈ lw_all := lw_g (lw_at lw_m1 228 rfl) rfl
theorem q242 : (Jvm.Cond.selects "KeyHeapModel" ({ cls := "KeyHeapModel", name := "reached", desc := "()I" } : Jvm.MethodName) ({ cls := "KeyHeapModel", name := "reached", desc := "()I" } : Jvm.MethodName)) ∈ lw_all := lw_g (lw_at lw_m1 229 rfl) rfl
theorem q243 : (Jvm.Cond.code ({ cls := "KeyHeapModel", name := "reached", desc := "()I" } : Jvm.MethodName) prog_3_method_19_code (3 : Nat) (Option.some Jvm.ClassFile.FieldType.int)) ∈ lw_all := lw_g (lw_at lw_m1 230 rfl) rfl
theorem q244 : (Jvm.Cond.methodLink "KeyHeapModel" (54 : Nat) ({ cls := "KeyHeapModel", name := "look", desc := "()V" } : Jvm.MethodName)) ∈ lw_all := lw_g (lw_at lw_m1 231 rfl) rfl
theorem q245 : (Jvm.Cond.privateMethod ({ cls := "KeyHeapModel", name := "look", desc := "()V" } : Jvm.MethodName)) ∈ lw_tbl := lw_at lw_m1 232 rfl
theorem q246 : (Jvm.Cond.instanceMethod ({ cls := "KeyHeapModel", name := "look", desc := "()V" } : Jvm.MethodName)) ∈ lw_all := lw_g (lw_at lw_m1 233 rfl) rfl
theorem q247 : (Jvm.Cond.code ({ cls := "KeyHeapModel", name := "look", desc := "()V" } : Jvm.MethodName) prog_3_method_18_code (3 : Nat) (Option.none : Option Jvm.ClassFile.FieldType)) ∈ lw_all := lw_g (lw_at lw_m1 234 rfl) rfl
theorem q248 : (Jvm.Cond.methodLink "KeyHeapModel" (51 : Nat) ({ cls := "KeyHeapModel", name := "come", desc := "(I)Z" } : Jvm.MethodName)) ∈ lw_all := lw_g (lw_at lw_m1 235 rfl) rfl
theorem q249 : (Jvm.Cond.privateMethod ({ cls := "KeyHeapModel", name := "come", desc := "(I)Z" } : Jvm.MethodName)) ∈ lw_tbl := lw_at lw_m1 236 rfl
theorem q250 : (Jvm.Cond.instanceMethod ({ cls := "KeyHeapModel", name := "come", desc := "(I)Z" } : Jvm.MethodName)) ∈ lw_all := lw_g (lw_at lw_m1 237 rfl) rfl
theorem q251 : (Jvm.Cond.code ({ cls := "KeyHeapModel", name := "come", desc := "(I)Z" } : Jvm.MethodName) prog_3_method_17_code (2 : Nat) (Option.some Jvm.ClassFile.FieldType.boolean)) ∈ lw_all := lw_g (lw_at lw_m1 238 rfl) rfl
theorem q253 : (Jvm.Cond.instanceMethod ({ cls := "KeyHeapModel", name := "sweep", desc := "()I" } : Jvm.MethodName)) ∈ lw_all := lw_g (lw_at lw_m2 0 rfl) rfl
theorem q254 : (Jvm.Cond.selects "KeyHeapModel" ({ cls := "KeyHeapModel", name := "sweep", desc := "()I" } : Jvm.MethodName) ({ cls := "KeyHeapModel", name := "sweep", desc := "()I" } : Jvm.MethodName)) ∈ lw_all := lw_g (lw_at lw_m2 1 rfl) rfl
theorem q255 : (Jvm.Cond.code ({ cls := "KeyHeapModel", name := "sweep", desc := "()I" } : Jvm.MethodName) prog_3_method_20_code (3 : Nat) (Option.some Jvm.ClassFile.FieldType.int)) ∈ lw_all := lw_g (lw_at lw_m2 2 rfl) rfl
theorem q257 : (Jvm.Cond.instanceMethod ({ cls := "KeyHeapModel", name := "total", desc := "()I" } : Jvm.MethodName)) ∈ lw_all := lw_g (lw_at lw_m2 4 rfl) rfl
theorem q258 : (Jvm.Cond.selects "KeyHeapModel" ({ cls := "KeyHeapModel", name := "total", desc := "()I" } : Jvm.MethodName) ({ cls := "KeyHeapModel", name := "total", desc := "()I" } : Jvm.MethodName)) ∈ lw_all := lw_g (lw_at lw_m2 5 rfl) rfl
theorem q259 : (Jvm.Cond.code ({ cls := "KeyHeapModel", name := "total", desc := "()I" } : Jvm.MethodName) prog_3_method_21_code (3 : Nat) (Option.some Jvm.ClassFile.FieldType.int)) ∈ lw_all := lw_g (lw_at lw_m2 6 rfl) rfl
theorem in_X1 : ∀ w ∈ wsX10, w ∈ lw_all := lw_in wsX10 [162, 164, 166, 168, 170, 172, 174] (by decide +kernel) (by decide +kernel)
theorem q43 : (Jvm.Cond.arrayClass Jvm.ClassFile.FieldType.byte) ∈ lw_all := lw_g (lw_at lw_m1 30 rfl) rfl
set_option maxRecDepth 100000
theorem q44 : (Jvm.Cond.arrayClass Jvm.ClassFile.FieldType.int) ∈ lw_all := lw_g (lw_at lw_m1 31 rfl) rfl
theorem q177 : (Jvm.Cond.arrayClass Jvm.ClassFile.FieldType.boolean) ∈ lw_all := lw_g (lw_at lw_m1 164 rfl) rfl
theorem q13 : (Jvm.Cond.initialized "KeyHeapLaw") ∈ lw_all := lw_g (lw_at lw_m1 0 rfl) rfl
set_option maxRecDepth 100000
theorem q16 : (Jvm.Cond.classLink "KeyHeapLaw" (7 : Nat) "KeyHeap") ∈ lw_all := lw_g (lw_at lw_m1 3 rfl) rfl
theorem q18 : (Jvm.Cond.methodLink "KeyHeapLaw" (9 : Nat) ({ cls := "KeyHeap", name := "<init>", desc := "()V" } : Jvm.MethodName)) ∈ lw_all := lw_g (lw_at lw_m1 5 rfl) rfl
theorem q45 : (Jvm.Cond.methodLink "KeyHeapLaw" (13 : Nat) ({ cls := "KeyHeap", name := "make", desc := "(II)I" } : Jvm.MethodName)) ∈ lw_all := lw_g (lw_at lw_m1 32 rfl) rfl
theorem q60 : (Jvm.Cond.methodLink "KeyHeapLaw" (18 : Nat) ({ cls := "KeyHeap", name := "dispose", desc := "(I)I" } : Jvm.MethodName)) ∈ lw_all := lw_g (lw_at lw_m1 47 rfl) rfl
theorem q83 : (Jvm.Cond.methodLink "KeyHeapLaw" (23 : Nat) ({ cls := "KeyHeap", name := "setNil", desc := "(I)I" } : Jvm.MethodName)) ∈ lw_all := lw_g (lw_at lw_m1 70 rfl) rfl
theorem q87 : (Jvm.Cond.methodLink "KeyHeapLaw" (27 : Nat) ({ cls := "KeyHeap", name := "copy", desc := "(II)I" } : Jvm.MethodName)) ∈ lw_all := lw_g (lw_at lw_m1 74 rfl) rfl
theorem q91 : (Jvm.Cond.methodLink "KeyHeapLaw" (31 : Nat) ({ cls := "KeyHeap", name := "setNumber", desc := "(II)I" } : Jvm.MethodName)) ∈ lw_all := lw_g (lw_at lw_m1 78 rfl) rfl
theorem q95 : (Jvm.Cond.methodLink "KeyHeapLaw" (35 : Nat) ({ cls := "KeyHeap", name := "setLink", desc := "(III)I" } : Jvm.MethodName)) ∈ lw_all := lw_g (lw_at lw_m1 82 rfl) rfl
theorem q102 : (Jvm.Cond.methodLink "KeyHeapLaw" (40 : Nat) ({ cls := "KeyHeap", name := "follow", desc := "(III)I" } : Jvm.MethodName)) ∈ lw_all := lw_g (lw_at lw_m1 89 rfl) rfl
theorem q106 : (Jvm.Cond.methodLink "KeyHeapLaw" (44 : Nat) ({ cls := "KeyHeap", name := "holds", desc := "(I)I" } : Jvm.MethodName)) ∈ lw_all := lw_g (lw_at lw_m1 93 rfl) rfl
theorem q110 : (Jvm.Cond.methodLink "KeyHeapLaw" (48 : Nat) ({ cls := "KeyHeap", name := "number", desc := "(I)I" } : Jvm.MethodName)) ∈ lw_all := lw_g (lw_at lw_m1 97 rfl) rfl
theorem q114 : (Jvm.Cond.methodLink "KeyHeapLaw" (52 : Nat) ({ cls := "KeyHeap", name := "linkHolds", desc := "(II)I" } : Jvm.MethodName)) ∈ lw_all := lw_g (lw_at lw_m1 101 rfl) rfl
theorem q118 : (Jvm.Cond.methodLink "KeyHeapLaw" (56 : Nat) ({ cls := "KeyHeap", name := "same", desc := "(II)Z" } : Jvm.MethodName)) ∈ lw_all := lw_g (lw_at lw_m1 105 rfl) rfl
theorem q122 : (Jvm.Cond.methodLink "KeyHeapLaw" (61 : Nat) ({ cls := "KeyHeap", name := "live", desc := "()I" } : Jvm.MethodName)) ∈ lw_all := lw_g (lw_at lw_m1 109 rfl) rfl
theorem q129 : (Jvm.Cond.methodLink "KeyHeapLaw" (66 : Nat) ({ cls := "KeyHeap", name := "reached", desc := "()I" } : Jvm.MethodName)) ∈ lw_all := lw_g (lw_at lw_m1 116 rfl) rfl
theorem q141 : (Jvm.Cond.methodLink "KeyHeapLaw" (70 : Nat) ({ cls := "KeyHeap", name := "sweep", desc := "()I" } : Jvm.MethodName)) ∈ lw_all := lw_g (lw_at lw_m1 128 rfl) rfl
theorem q145 : (Jvm.Cond.methodLink "KeyHeapLaw" (74 : Nat) ({ cls := "KeyHeap", name := "total", desc := "()I" } : Jvm.MethodName)) ∈ lw_all := lw_g (lw_at lw_m1 132 rfl) rfl
theorem q149 : (Jvm.Cond.classLink "KeyHeapLaw" (10 : Nat) "KeyHeapModel") ∈ lw_all := lw_g (lw_at lw_m1 136 rfl) rfl
theorem q151 : (Jvm.Cond.methodLink "KeyHeapLaw" (12 : Nat) ({ cls := "KeyHeapModel", name := "<init>", desc := "()V" } : Jvm.MethodName)) ∈ lw_all := lw_g (lw_at lw_m1 138 rfl) rfl
theorem q178 : (Jvm.Cond.methodLink "KeyHeapLaw" (17 : Nat) ({ cls := "KeyHeapModel", name := "make", desc := "(II)I" } : Jvm.MethodName)) ∈ lw_all := lw_g (lw_at lw_m1 165 rfl) rfl
theorem q190 : (Jvm.Cond.methodLink "KeyHeapLaw" (22 : Nat) ({ cls := "KeyHeapModel", name := "dispose", desc := "(I)I" } : Jvm.MethodName)) ∈ lw_all := lw_g (lw_at lw_m1 177 rfl) rfl
theorem q202 : (Jvm.Cond.methodLink "KeyHeapLaw" (26 : Nat) ({ cls := "KeyHeapModel", name := "setNil", desc := "(I)I" } : Jvm.MethodName)) ∈ lw_all := lw_g (lw_at lw_m1 189 rfl) rfl
theorem q206 : (Jvm.Cond.methodLink "KeyHeapLaw" (30 : Nat) ({ cls := "KeyHeapModel", name := "copy", desc := "(II)I" } : Jvm.MethodName)) ∈ lw_all := lw_g (lw_at lw_m1 193 rfl) rfl
theorem q210 : (Jvm.Cond.methodLink "KeyHeapLaw" (34 : Nat) ({ cls := "KeyHeapModel", name := "setNumber", desc := "(II)I" } : Jvm.MethodName)) ∈ lw_all := lw_g (lw_at lw_m1 197 rfl) rfl
theorem q214 : (Jvm.Cond.methodLink "KeyHeapLaw" (39 : Nat) ({ cls := "KeyHeapModel", name := "setLink", desc := "(III)I" } : Jvm.MethodName)) ∈ lw_all := lw_g (lw_at lw_m1 201 rfl) rfl
theorem q218 : (Jvm.Cond.methodLink "KeyHeapLaw" (43 : Nat) ({ cls := "KeyHeapModel", name := "follow", desc := "(III)I" } : Jvm.MethodName)) ∈ lw_all := lw_g (lw_at lw_m1 205 rfl) rfl
theorem q222 : (Jvm.Cond.methodLink "KeyHeapLaw" (47 : Nat) ({ cls := "KeyHeapModel", name := "holds", desc := "(I)I" } : Jvm.MethodName)) ∈ lw_all := lw_g (lw_at lw_m1 209 rfl) rfl
theorem q226 : (Jvm.Cond.methodLink "KeyHeapLaw" (51 : Nat) ({ cls := "KeyHeapModel", name := "number", desc := "(I)I" } : Jvm.MethodName)) ∈ lw_all := lw_g (lw_at lw_m1 213 rfl) rfl
theorem q231 : (Jvm.Cond.methodLink "KeyHeapLaw" (55 : Nat) ({ cls := "KeyHeapModel", name := "linkHolds", desc := "(II)I" } : Jvm.MethodName)) ∈ lw_all := lw_g (lw_at lw_m1 218 rfl) rfl
theorem q235 : (Jvm.Cond.methodLink "KeyHeapLaw" (60 : Nat) ({ cls := "KeyHeapModel", name := "same", desc := "(II)Z" } : Jvm.MethodName)) ∈ lw_all := lw_g (lw_at lw_m1 222 rfl) rfl
theorem q239 : (Jvm.Cond.methodLink "KeyHeapLaw" (65 : Nat) ({ cls := "KeyHeapModel", name := "live", desc := "()I" } : Jvm.MethodName)) ∈ lw_all := lw_g (lw_at lw_m1 226 rfl) rfl
theorem q240 : (Jvm.Cond.methodLink "KeyHeapLaw" (69 : Nat) ({ cls := "KeyHeapModel", name := "reached", desc := "()I" } : Jvm.MethodName)) ∈ lw_all := lw_g (lw_at lw_m1 227 rfl) rfl
theorem q252 : (Jvm.Cond.methodLink "KeyHeapLaw" (73 : Nat) ({ cls := "KeyHeapModel", name := "sweep", desc := "()I" } : Jvm.MethodName)) ∈ lw_all := lw_g (lw_at lw_m1 239 rfl) rfl
theorem q256 : (Jvm.Cond.methodLink "KeyHeapLaw" (77 : Nat) ({ cls := "KeyHeapModel", name := "total", desc := "()I" } : Jvm.MethodName)) ∈ lw_all := lw_g (lw_at lw_m2 3 rfl) rfl
end
section
/-! the worlds of the two classes, rows for their fields and arrays, calls by contract: heap read only (RdC), or the world changed (WrC) -/
set_option maxRecDepth 100000
abbrev vwCl : List vw_C := [(RX0, TX0, 6), (RX1, TX1, 7)]
/-- KeyHeap: variables, inUse, locks, numbers, links, turn -/
abbrev XS : Type := (Nat → Int32) × Int32 × (Nat → Int32) × (Nat → Int32) × (Nat → Int32) × Int32
abbrev XA : Type := Nat × Nat × Nat × Nat × Nat
abbrev XC : Type := ClassId × ClassId × ClassId × ClassId
abbrev xv (S : XS) : Nat → Int32 := S.1
abbrev xu (S : XS) : Int32 := S.2.1
abbrev xl (S : XS) : Nat → Int32 := S.2.2.1
abbrev xn (S : XS) : Nat → Int32 := S.2.2.2.1
abbrev xk (S : XS) : Nat → Int32 := S.2.2.2.2.1
abbrev xt (S : XS) : Int32 := S.2.2.2.2.2
abbrev sv_ (S : XS) (f : Nat → Int32) : XS := (f, S.2)
abbrev su_ (S : XS) (u : Int32) : XS := (S.1, u, S.2.2)
abbrev sl_ (S : XS) (f : Nat → Int32) : XS := (S.1, S.2.1, f, S.2.2.2)
abbrev sn_ (S : XS) (f : Nat → Int32) : XS := (S.1, S.2.1, S.2.2.1, f, S.2.2.2.2)
abbrev sk_ (S : XS) (f : Nat → Int32) : XS := (S.1, S.2.1, S.2.2.1, S.2.2.2.1, f, S.2.2.2.2.2)
abbrev st_ (S : XS) (t : Int32) : XS := (S.1, S.2.1, S.2.2.1, S.2.2.2.1, S.2.2.2.2.1, t)
def wX (x : XA) (d : XC) (S : XS) : va_W := [(x.1, .inr (0, [.ref x.2.1, .int S.2.1, .ref x.2.2.1, .ref x.2.2.2.1, .ref x.2.2.2.2, .int S.2.2.2.2.2])), (x.2.1, .inl (d.1, 8, .inl S.1)), (x.2.2.1, .inl (d.2.1, 6, .inl S.2.2.1)), (x.2.2.2.1, .inl (d.2.2.1, 6, .inl S.2.2.2.1)), (x.2.2.2.2, .inl (d.2.2.2, 12, .inl S.2.2.2.2.1))]
def tX (d : XC) : List (ClassId × FieldType) := [(d.1, .byte), (d.2.1, .byte), (d.2.2.1, .int), (d.2.2.2, .byte)]
/-- KeyHeapModel: vars, made, alive, num, left, right, seen -/
abbrev MS : Type := (Nat → Int32) × Int32 × (Nat → Int32) × (Nat → Int32) × (Nat → Int32) × (Nat → Int32) × (Nat → Int32)
abbrev MA : Type := Nat × Nat × Nat × Nat × Nat × Nat × Nat
abbrev MC : Type := ClassId × ClassId × ClassId × ClassId × ClassId × ClassId
abbrev mv (M : MS) : Nat → Int32 := M.1
abbrev md (M : MS) : Int32 := M.2.1
abbrev ma (M : MS) : Nat → Int32 := M.2.2.1
abbrev mn (M : MS) : Nat → Int32 := M.2.2.2.1
abbrev ml (M : MS) : Nat → Int32 := M.2.2.2.2.1
abbrev mr (M : MS) : Nat → Int32 := M.2.2.2.2.2.1
abbrev ms_ (M : MS) : Nat → Int32 := M.2.2.2.2.2.2
abbrev tv_ (M : MS) (f : Nat → Int32) : MS := (f, M.2)
abbrev td_ (M : MS) (u : Int32) : MS := (M.1, u, M.2.2)
abbrev ta_ (M : MS) (f : Nat → Int32) : MS := (M.1, M.2.1, f, M.2.2.2)
abbrev tn_ (M : MS) (f : Nat → Int32) : MS := (M.1, M.2.1, M.2.2.1, f, M.2.2.2.2)
abbrev tl_ (M : MS) (f : Nat → Int32) : MS := (M.1, M.2.1, M.2.2.1, M.2.2.2.1, f, M.2.2.2.2.2)
abbrev tr_ (M : MS) (f : Nat → Int32) : MS := (M.1, M.2.1, M.2.2.1, M.2.2.2.1, M.2.2.2.2.1, f, M.2.2.2.2.2.2)
abbrev ts_ (M : MS) (f : Nat → Int32) : MS := (M.1, M.2.1, M.2.2.1, M.2.2.2.1, M.2.2.2.2.1, M.2.2.2.2.2.1, f)
def wM (y : MA) (f : MC) (M : MS) : va_W := [(y.1, .inr (1, [.ref y.2.1, .int M.2.1, .ref y.2.2.1, .ref y.2.2.2.1, .ref y.2.2.2.2.1, .ref y.2.2.2.2.2.1, .ref y.2.2.2.2.2.2])), (y.2.1, .inl (f.1, 8, .inl M.1)), (y.2.2.1, .inl (f.2.1, 512, .inl M.2.2.1)), (y.2.2.2.1, .inl (f.2.2.1, 512, .inl M.2.2.2.1)), (y.2.2.2.2.1, .inl (f.2.2.2.1, 512, .inl M.2.2.2.2.1)), (y.2.2.2.2.2.1, .inl (f.2.2.2.2.1, 512, .inl M.2.2.2.2.2.1)), (y.2.2.2.2.2.2, .inl (f.2.2.2.2.2, 512, .inl M.2.2.2.2.2.2))]
def tM (f : MC) : List (ClassId × FieldType) := [(f.1, .int), (f.2.1, .boolean), (f.2.2.1, .int), (f.2.2.2.1, .int), (f.2.2.2.2.1, .int), (f.2.2.2.2.2, .boolean)]
/-- byte's range -/
abbrev nb (z : Int32) : Int32 := z.toInt8.toInt32
/-- start of a method that reads: the world -/
def RdC (g : va_G) (tys : List (ClassId × FieldType)) (ws : va_W) (As : List Value) : Array Value → State → Prop := va_Pc As (fun U => va_P g vwCl ws U.heap ∧ va_K g vwCl tys U)
/-- start of a method that writes -/
def WrC (g : va_G) (tys : List (ClassId × FieldType)) (ws : va_W) (sz : Nat) (As : List Value) : Array Value → State → Prop := va_Pc As (fun U => U.heap.size = sz ∧ va_P g vwCl ws U.heap ∧ va_K g vwCl tys U ∧ va_D (fun _ => True) ws)
/-- the world behind it -/
def WB {σ : Type} (g : va_G) (tys : List (ClassId × FieldType)) (wf : σ → va_W) (A : Nat → Prop) (u : σ) (t : State) : Prop := va_P g vwCl (wf u) t.heap ∧ va_K g vwCl tys t ∧ va_D A (wf u)
theorem RdC.blind {g : va_G} {tys : List (ClassId × FieldType)} {ws : va_W} {As : List Value} : FrameBlind (RdC g tys ws As) := fun a U gg mk q => ⟨q.1, q.2.1, va_K.moved (u := U) (U := U.calling gg mk a) (Vm.Alike.refl U.vm) q.2.2⟩
theorem WrC.blind {g : va_G} {tys : List (ClassId × FieldType)} {ws : va_W} {sz : Nat} {As : List Value} : FrameBlind (WrC g tys ws sz As) := fun a U gg mk q => ⟨q.1, q.2.1, q.2.2.1, va_K.moved (u := U) (U := U.calling gg mk a) (Vm.Alike.refl U.vm) q.2.2.2.1, q.2.2.2.2⟩
section KR
variable {p : Program} {l : Launch} {e : Env} {R : Room} {s : State} {m : MethodId} {args : Array Value} {below : List Frame} {meth : Method} {c : Code} {H : Heap} {locs : List Loc} {cells slots : Nat} {Q : State → Prop}
variable {cc : ByteArray} {pc nL : Nat} {ls : Array Slot} {rest : List Value} {g : va_G} {x : XA} {d : XC} {S : XS} {y : MA} {f : MC} {M : MS} {A : Nat → Prop} {H0 : Heap}
theorem lv_asi {z w : Int32} (h : z = w) (k : W p l e R s m args below meth c H locs cells slots Q (F0 m pc ls (.int w :: rest))) : W p l e R s m args below meth c H locs cells slots Q (F0 m pc ls (.int z :: rest)) := h ▸ k
theorem lv_asi2 {a : Value} {z w : Int32} (h : z = w) (k : W p l e R s m args below meth c H locs cells slots Q (F0 m pc ls (a :: .int w :: rest))) : W p l e R s m args below meth c H locs cells slots Q (F0 m pc ls (a :: .int z :: rest)) := h ▸ k
-- KeyHeap's fields
theorem kg_v (F : CallFix p m c cc nL s args lw_all RX0) (hK : va_K g vwCl (tX d) s) (hP : va_P g vwCl (wX x d S) H) (hdg : decode cc pc = .ok (.getfield 7, 3)) (kk : W p l e R s m args below meth c H locs cells slots Q (F0 m (pc + 3) ls (.ref x.2.1 :: rest))) : W p l e R s m args below meth c H locs cells slots Q (F0 m pc ls (.ref x.1 :: rest)) :=
  va_get (D := g) (ci := 0) (v := .ref x.2.1) (C := RX0) (T := TX0) (N := 6) F.1 F.2.1 F.2.2.2.2 in_X0 F.2.2.2.1 hK hP 0 rfl rfl 0 (by decide) (F.2.2.2.2 _ q24) (fun _ h9 => h9) rfl hdg kk
theorem kg_u (F : CallFix p m c cc nL s args lw_all RX0) (hK : va_K g vwCl (tX d) s) (hP : va_P g vwCl (wX x d S) H) (hdg : decode cc pc = .ok (.getfield 27, 3)) (kk : W p l e R s m args below meth c H locs cells slots Q (F0 m (pc + 3) ls (.int (xu S) :: rest))) : W p l e R s m args below meth c H locs cells slots Q (F0 m pc ls (.ref x.1 :: rest)) :=
  va_get (D := g) (ci := 0) (v := .int (xu S)) (C := RX0) (T := TX0) (N := 6) F.1 F.2.1 F.2.2.2.2 in_X0 F.2.2.2.1 hK hP 0 rfl rfl 1 (by decide) (F.2.2.2.2 _ q25) (fun _ h9 => h9) rfl hdg kk
theorem kg_l (F : CallFix p m c cc nL s args lw_all RX0) (hK : va_K g vwCl (tX d) s) (hP : va_P g vwCl (wX x d S) H) (hdg : decode cc pc = .ok (.getfield 13, 3)) (kk : W p l e R s m args below meth c H locs cells slots Q (F0 m (pc + 3) ls (.ref x.2.2.1 :: rest))) : W p l e R s m args below meth c H locs cells slots Q (F0 m pc ls (.ref x.1 :: rest)) :=
  va_get (D := g) (ci := 0) (v := .ref x.2.2.1) (C := RX0) (T := TX0) (N := 6) F.1 F.2.1 F.2.2.2.2 in_X0 F.2.2.2.1 hK hP 0 rfl rfl 2 (by decide) (F.2.2.2.2 _ q26) (fun _ h9 => h9) rfl hdg kk
theorem kg_n (F : CallFix p m c cc nL s args lw_all RX0) (hK : va_K g vwCl (tX d) s) (hP : va_P g vwCl (wX x d S) H) (hdg : decode cc pc = .ok (.getfield 16, 3)) (kk : W p l e R s m args below meth c H locs cells slots Q (F0 m (pc + 3) ls (.ref x.2.2.2.1 :: rest))) : W p l e R s m args below meth c H locs cells slots Q (F0 m pc ls (.ref x.1 :: rest)) :=
  va_get (D := g) (ci := 0) (v := .ref x.2.2.2.1) (C := RX0) (T := TX0) (N := 6) F.1 F.2.1 F.2.2.2.2 in_X0 F.2.2.2.1 hK hP 0 rfl rfl 3 (by decide) (F.2.2.2.2 _ q27) (fun _ h9 => h9) rfl hdg kk
theorem kg_k (F : CallFix p m c cc nL s args lw_all RX0) (hK : va_K g vwCl (tX d) s) (hP : va_P g vwCl (wX x d S) H) (hdg : decode cc pc = .ok (.getfield 20, 3)) (kk : W p l e R s m args below meth c H locs cells slots Q (F0 m (pc + 3) ls (.ref x.2.2.2.2 :: rest))) : W p l e R s m args below meth c H locs cells slots Q (F0 m pc ls (.ref x.1 :: rest)) :=
  va_get (D := g) (ci := 0) (v := .ref x.2.2.2.2) (C := RX0) (T := TX0) (N := 6) F.1 F.2.1 F.2.2.2.2 in_X0 F.2.2.2.1 hK hP 0 rfl rfl 4 (by decide) (F.2.2.2.2 _ q28) (fun _ h9 => h9) rfl hdg kk
theorem kg_t (F : CallFix p m c cc nL s args lw_all RX0) (hK : va_K g vwCl (tX d) s) (hP : va_P g vwCl (wX x d S) H) (hdg : decode cc pc = .ok (.getfield 41, 3)) (kk : W p l e R s m args below meth c H locs cells slots Q (F0 m (pc + 3) ls (.int (xt S) :: rest))) : W p l e R s m args below meth c H locs cells slots Q (F0 m pc ls (.ref x.1 :: rest)) :=
  va_get (D := g) (ci := 0) (v := .int (xt S)) (C := RX0) (T := TX0) (N := 6) F.1 F.2.1 F.2.2.2.2 in_X0 F.2.2.2.1 hK hP 0 rfl rfl 5 (by decide) (F.2.2.2.2 _ q29) (fun _ h9 => h9) rfl hdg kk
theorem kp_u {z : Int32} (F : CallFix p m c cc nL s args lw_all RX0) (hK : va_K g vwCl (tX d) s) (hP : va_P g vwCl (wX x d S) H) (hD : va_D A (wX x d S)) (hS : va_S A H0 H locs) (hdg : decode cc pc = .ok (.putfield 27, 3)) (kk : ∀ (H1 : Heap) (locs1 : List Loc), va_P g vwCl (wX x d (su_ S z)) H1 → va_D A (wX x d (su_ S z)) → va_S A H0 H1 locs1 → W p l e R s m args below meth c H1 locs1 cells slots Q (F0 m (pc + 3) ls rest)) : W p l e R s m args below meth c H locs cells slots Q (F0 m pc ls (.int z :: .ref x.1 :: rest)) :=
  va_put (D := g) (ci := 0) (v := .int z) (ty := .int) (C := RX0) (T := TX0) (N := 6) F.1 F.2.1 F.2.2.2.2 in_X0 tyX0 tyX0_ok nmX0 F.2.2.2.1 hK hP hD hS 0 rfl rfl 1 (by decide) (F.2.2.2.2 _ q25) (fun _ h9 => h9) rfl (by decide +kernel) rfl rfl (Nat.le_of_ble_eq_true rfl) hdg kk
theorem kp_t {z : Int32} (F : CallFix p m c cc nL s args lw_all RX0) (hK : va_K g vwCl (tX d) s) (hP : va_P g vwCl (wX x d S) H) (hD : va_D A (wX x d S)) (hS : va_S A H0 H locs) (hdg : decode cc pc = .ok (.putfield 41, 3)) (kk : ∀ (H1 : Heap) (locs1 : List Loc), va_P g vwCl (wX x d (st_ S z)) H1 → va_D A (wX x d (st_ S z)) → va_S A H0 H1 locs1 → W p l e R s m args below meth c H1 locs1 cells slots Q (F0 m (pc + 3) ls rest)) : W p l e R s m args below meth c H locs cells slots Q (F0 m pc ls (.int z :: .ref x.1 :: rest)) :=
  va_put (D := g) (ci := 0) (v := .int z) (ty := .int) (C := RX0) (T := TX0) (N := 6) F.1 F.2.1 F.2.2.2.2 in_X0 tyX0 tyX0_ok nmX0 F.2.2.2.1 hK hP hD hS 0 rfl rfl 5 (by decide) (F.2.2.2.2 _ q29) (fun _ h9 => h9) rfl (by decide +kernel) rfl rfl (Nat.le_of_ble_eq_true rfl) hdg kk
-- KeyHeap's arrays, at a place nI j
theorem kr_v {j : Nat} (F : CallFix p m c cc nL s args lw_all RX0) (hK : va_K g vwCl (tX d) s) (hP : va_P g vwCl (wX x d S) H) (hj : j < 8) (hdg : decode cc pc = .ok (.baload, 1)) (kk : W p l e R s m args below meth c H locs cells slots Q (F0 m (pc + 1) ls (.int (xv S j) :: rest))) : W p l e R s m args below meth c H locs cells slots Q (F0 m pc ls (.int (nI j) :: .ref x.2.1 :: rest)) :=
  va_bald F.1 F.2.1 hK hP 1 0 rfl rfl (vp_in_nI hj (by decide)) hdg (by rw [nI_clamp (by omega)]; exact kk)
theorem kr_l {j : Nat} (F : CallFix p m c cc nL s args lw_all RX0) (hK : va_K g vwCl (tX d) s) (hP : va_P g vwCl (wX x d S) H) (hj : j < 6) (hdg : decode cc pc = .ok (.baload, 1)) (kk : W p l e R s m args below meth c H locs cells slots Q (F0 m (pc + 1) ls (.int (xl S j) :: rest))) : W p l e R s m args below meth c H locs cells slots Q (F0 m pc ls (.int (nI j) :: .ref x.2.2.1 :: rest)) :=
  va_bald F.1 F.2.1 hK hP 2 1 rfl rfl (vp_in_nI hj (by decide)) hdg (by rw [nI_clamp (by omega)]; exact kk)
theorem kr_n {j : Nat} (F : CallFix p m c cc nL s args lw_all RX0) (hK : va_K g vwCl (tX d) s) (hP : va_P g vwCl (wX x d S) H) (hj : j < 6) (hdg : decode cc pc = .ok (.iaload, 1)) (kk : W p l e R s m args below meth c H locs cells slots Q (F0 m (pc + 1) ls (.int (xn S j) :: rest))) : W p l e R s m args below meth c H locs cells slots Q (F0 m pc ls (.int (nI j) :: .ref x.2.2.2.1 :: rest)) :=
  va_iald F.1 F.2.1 hK hP 3 2 rfl rfl (vp_in_nI hj (by decide)) hdg (by rw [nI_clamp (by omega)]; exact kk)
theorem kr_k {j : Nat} (F : CallFix p m c cc nL s args lw_all RX0) (hK : va_K g vwCl (tX d) s) (hP : va_P g vwCl (wX x d S) H) (hj : j < 12) (hdg : decode cc pc = .ok (.baload, 1)) (kk : W p l e R s m args below meth c H locs cells slots Q (F0 m (pc + 1) ls (.int (xk S j) :: rest))) : W p l e R s m args below meth c H locs cells slots Q (F0 m pc ls (.int (nI j) :: .ref x.2.2.2.2 :: rest)) :=
  va_bald F.1 F.2.1 hK hP 4 3 rfl rfl (vp_in_nI hj (by decide)) hdg (by rw [nI_clamp (by omega)]; exact kk)
theorem kw_v {j : Nat} {z : Int32} (F : CallFix p m c cc nL s args lw_all RX0) (hK : va_K g vwCl (tX d) s) (hP : va_P g vwCl (wX x d S) H) (hD : va_D A (wX x d S)) (hS : va_S A H0 H locs) (hj : j < 8) (hdg : decode cc pc = .ok (.bastore, 1)) (kk : ∀ (H1 : Heap) (locs1 : List Loc), va_P g vwCl (wX x d (sv_ S (upd (xv S) j (nb z)))) H1 → va_D A (wX x d (sv_ S (upd (xv S) j (nb z)))) → va_S A H0 H1 locs1 → W p l e R s m args below meth c H1 locs1 cells slots Q (F0 m (pc + 1) ls rest)) : W p l e R s m args below meth c H locs cells slots Q (F0 m pc ls (.int z :: .int (nI j) :: .ref x.2.1 :: rest)) :=
  va_bast F.1 F.2.1 hK hP hD hS 1 0 rfl rfl (vp_in_nI hj (by decide)) hdg (by rw [nI_clamp (by omega), vp_nar_byte]; exact kk)
theorem kw_l {j : Nat} {z : Int32} (F : CallFix p m c cc nL s args lw_all RX0) (hK : va_K g vwCl (tX d) s) (hP : va_P g vwCl (wX x d S) H) (hD : va_D A (wX x d S)) (hS : va_S A H0 H locs) (hj : j < 6) (hdg : decode cc pc = .ok (.bastore, 1)) (kk : ∀ (H1 : Heap) (locs1 : List Loc), va_P g vwCl (wX x d (sl_ S (upd (xl S) j (nb z)))) H1 → va_D A (wX x d (sl_ S (upd (xl S) j (nb z)))) → va_S A H0 H1 locs1 → W p l e R s m args below meth c H1 locs1 cells slots Q (F0 m (pc + 1) ls rest)) : W p l e R s m args below meth c H locs cells slots Q (F0 m pc ls (.int z :: .int (nI j) :: .ref x.2.2.1 :: rest)) :=
  va_bast F.1 F.2.1 hK hP hD hS 2 1 rfl rfl (vp_in_nI hj (by decide)) hdg (by rw [nI_clamp (by omega), vp_nar_byte]; exact kk)
theorem kw_n {j : Nat} {z : Int32} (F : CallFix p m c cc nL s args lw_all RX0) (hK : va_K g vwCl (tX d) s) (hP : va_P g vwCl (wX x d S) H) (hD : va_D A (wX x d S)) (hS : va_S A H0 H locs) (hj : j < 6) (hdg : decode cc pc = .ok (.iastore, 1)) (kk : ∀ (H1 : Heap) (locs1 : List Loc), va_P g vwCl (wX x d (sn_ S (upd (xn S) j z))) H1 → va_D A (wX x d (sn_ S (upd (xn S) j z))) → va_S A H0 H1 locs1 → W p l e R s m args below meth c H1 locs1 cells slots Q (F0 m (pc + 1) ls rest)) : W p l e R s m args below meth c H locs cells slots Q (F0 m pc ls (.int z :: .int (nI j) :: .ref x.2.2.2.1 :: rest)) :=
  va_iast F.1 F.2.1 hK hP hD hS 3 2 rfl rfl (vp_in_nI hj (by decide)) hdg (by rw [nI_clamp (by omega)]; exact kk)
theorem kw_k {j : Nat} {z : Int32} (F : CallFix p m c cc nL s args lw_all RX0) (hK : va_K g vwCl (tX d) s) (hP : va_P g vwCl (wX x d S) H) (hD : va_D A (wX x d S)) (hS : va_S A H0 H locs) (hj : j < 12) (hdg : decode cc pc = .ok (.bastore, 1)) (kk : ∀ (H1 : Heap) (locs1 : List Loc), va_P g vwCl (wX x d (sk_ S (upd (xk S) j (nb z)))) H1 → va_D A (wX x d (sk_ S (upd (xk S) j (nb z)))) → va_S A H0 H1 locs1 → W p l e R s m args below meth c H1 locs1 cells slots Q (F0 m (pc + 1) ls rest)) : W p l e R s m args below meth c H locs cells slots Q (F0 m pc ls (.int z :: .int (nI j) :: .ref x.2.2.2.2 :: rest)) :=
  va_bast F.1 F.2.1 hK hP hD hS 4 3 rfl rfl (vp_in_nI hj (by decide)) hdg (by rw [nI_clamp (by omega), vp_nar_byte]; exact kk)
-- the model's fields
theorem mg_v (F : CallFix p m c cc nL s args lw_all RX1) (hK : va_K g vwCl (tM f) s) (hP : va_P g vwCl (wM y f M) H) (hdg : decode cc pc = .ok (.getfield 7, 3)) (kk : W p l e R s m args below meth c H locs cells slots Q (F0 m (pc + 3) ls (.ref y.2.1 :: rest))) : W p l e R s m args below meth c H locs cells slots Q (F0 m pc ls (.ref y.1 :: rest)) :=
  va_get (D := g) (ci := 1) (v := .ref y.2.1) (C := RX1) (T := TX1) (N := 7) F.1 F.2.1 F.2.2.2.2 in_X1 F.2.2.2.1 hK hP 0 rfl rfl 0 (by decide) (F.2.2.2.2 _ q155) (fun _ h9 => h9) rfl hdg kk
theorem mg_d (F : CallFix p m c cc nL s args lw_all RX1) (hK : va_K g vwCl (tM f) s) (hP : va_P g vwCl (wM y f M) H) (hdg : decode cc pc = .ok (.getfield 41, 3)) (kk : W p l e R s m args below meth c H locs cells slots Q (F0 m (pc + 3) ls (.int (md M) :: rest))) : W p l e R s m args below meth c H locs cells slots Q (F0 m pc ls (.ref y.1 :: rest)) :=
  va_get (D := g) (ci := 1) (v := .int (md M)) (C := RX1) (T := TX1) (N := 7) F.1 F.2.1 F.2.2.2.2 in_X1 F.2.2.2.1 hK hP 0 rfl rfl 1 (by decide) (F.2.2.2.2 _ q156) (fun _ h9 => h9) rfl hdg kk
theorem mg_a (F : CallFix p m c cc nL s args lw_all RX1) (hK : va_K g vwCl (tM f) s) (hP : va_P g vwCl (wM y f M) H) (hdg : decode cc pc = .ok (.getfield 13, 3)) (kk : W p l e R s m args below meth c H locs cells slots Q (F0 m (pc + 3) ls (.ref y.2.2.1 :: rest))) : W p l e R s m args below meth c H locs cells slots Q (F0 m pc ls (.ref y.1 :: rest)) :=
  va_get (D := g) (ci := 1) (v := .ref y.2.2.1) (C := RX1) (T := TX1) (N := 7) F.1 F.2.1 F.2.2.2.2 in_X1 F.2.2.2.1 hK hP 0 rfl rfl 2 (by decide) (F.2.2.2.2 _ q157) (fun _ h9 => h9) rfl hdg kk
theorem mg_n (F : CallFix p m c cc nL s args lw_all RX1) (hK : va_K g vwCl (tM f) s) (hP : va_P g vwCl (wM y f M) H) (hdg : decode cc pc = .ok (.getfield 17, 3)) (kk : W p l e R s m args below meth c H locs cells slots Q (F0 m (pc + 3) ls (.ref y.2.2.2.1 :: rest))) : W p l e R s m args below meth c H locs cells slots Q (F0 m pc ls (.ref y.1 :: rest)) :=
  va_get (D := g) (ci := 1) (v := .ref y.2.2.2.1) (C := RX1) (T := TX1) (N := 7) F.1 F.2.1 F.2.2.2.2 in_X1 F.2.2.2.1 hK hP 0 rfl rfl 3 (by decide) (F.2.2.2.2 _ q158) (fun _ h9 => h9) rfl hdg kk
theorem mg_l (F : CallFix p m c cc nL s args lw_all RX1) (hK : va_K g vwCl (tM f) s) (hP : va_P g vwCl (wM y f M) H) (hdg : decode cc pc = .ok (.getfield 20, 3)) (kk : W p l e R s m args below meth c H locs cells slots Q (F0 m (pc + 3) ls (.ref y.2.2.2.2.1 :: rest))) : W p l e R s m args below meth c H locs cells slots Q (F0 m pc ls (.ref y.1 :: rest)) :=
  va_get (D := g) (ci := 1) (v := .ref y.2.2.2.2.1) (C := RX1) (T := TX1) (N := 7) F.1 F.2.1 F.2.2.2.2 in_X1 F.2.2.2.1 hK hP 0 rfl rfl 4 (by decide) (F.2.2.2.2 _ q159) (fun _ h9 => h9) rfl hdg kk
theorem mg_r (F : CallFix p m c cc nL s args lw_all RX1) (hK : va_K g vwCl (tM f) s) (hP : va_P g vwCl (wM y f M) H) (hdg : decode cc pc = .ok (.getfield 23, 3)) (kk : W p l e R s m args below meth c H locs cells slots Q (F0 m (pc + 3) ls (.ref y.2.2.2.2.2.1 :: rest))) : W p l e R s m args below meth c H locs cells slots Q (F0 m pc ls (.ref y.1 :: rest)) :=
  va_get (D := g) (ci := 1) (v := .ref y.2.2.2.2.2.1) (C := RX1) (T := TX1) (N := 7) F.1 F.2.1 F.2.2.2.2 in_X1 F.2.2.2.1 hK hP 0 rfl rfl 5 (by decide) (F.2.2.2.2 _ q160) (fun _ h9 => h9) rfl hdg kk
theorem mg_s (F : CallFix p m c cc nL s args lw_all RX1) (hK : va_K g vwCl (tM f) s) (hP : va_P g vwCl (wM y f M) H) (hdg : decode cc pc = .ok (.getfield 26, 3)) (kk : W p l e R s m args below meth c H locs cells slots Q (F0 m (pc + 3) ls (.ref y.2.2.2.2.2.2 :: rest))) : W p l e R s m args below meth c H locs cells slots Q (F0 m pc ls (.ref y.1 :: rest)) :=
  va_get (D := g) (ci := 1) (v := .ref y.2.2.2.2.2.2) (C := RX1) (T := TX1) (N := 7) F.1 F.2.1 F.2.2.2.2 in_X1 F.2.2.2.1 hK hP 0 rfl rfl 6 (by decide) (F.2.2.2.2 _ q161) (fun _ h9 => h9) rfl hdg kk
theorem mp_d {z : Int32} (F : CallFix p m c cc nL s args lw_all RX1) (hK : va_K g vwCl (tM f) s) (hP : va_P g vwCl (wM y f M) H) (hD : va_D A (wM y f M)) (hS : va_S A H0 H locs) (hdg : decode cc pc = .ok (.putfield 41, 3)) (kk : ∀ (H1 : Heap) (locs1 : List Loc), va_P g vwCl (wM y f (td_ M z)) H1 → va_D A (wM y f (td_ M z)) → va_S A H0 H1 locs1 → W p l e R s m args below meth c H1 locs1 cells slots Q (F0 m (pc + 3) ls rest)) : W p l e R s m args below meth c H locs cells slots Q (F0 m pc ls (.int z :: .ref y.1 :: rest)) :=
  va_put (D := g) (ci := 1) (v := .int z) (ty := .int) (C := RX1) (T := TX1) (N := 7) F.1 F.2.1 F.2.2.2.2 in_X1 tyX1 tyX1_ok nmX1 F.2.2.2.1 hK hP hD hS 0 rfl rfl 1 (by decide) (F.2.2.2.2 _ q156) (fun _ h9 => h9) rfl (by decide +kernel) rfl rfl (Nat.le_of_ble_eq_true rfl) hdg kk
theorem mr_v {j : Nat} (F : CallFix p m c cc nL s args lw_all RX1) (hK : va_K g vwCl (tM f) s) (hP : va_P g vwCl (wM y f M) H) (hj : j < 8) (hdg : decode cc pc = .ok (.iaload, 1)) (kk : W p l e R s m args below meth c H locs cells slots Q (F0 m (pc + 1) ls (.int (mv M j) :: rest))) : W p l e R s m args below meth c H locs cells slots Q (F0 m pc ls (.int (nI j) :: .ref y.2.1 :: rest)) :=
  va_iald F.1 F.2.1 hK hP 1 0 rfl rfl (vp_in_nI hj (by decide)) hdg (by rw [nI_clamp (by omega)]; exact kk)
theorem mr_a {j : Nat} (F : CallFix p m c cc nL s args lw_all RX1) (hK : va_K g vwCl (tM f) s) (hP : va_P g vwCl (wM y f M) H) (hj : j < 512) (hdg : decode cc pc = .ok (.baload, 1)) (kk : W p l e R s m args below meth c H locs cells slots Q (F0 m (pc + 1) ls (.int (ma M j) :: rest))) : W p l e R s m args below meth c H locs cells slots Q (F0 m pc ls (.int (nI j) :: .ref y.2.2.1 :: rest)) :=
  va_zald F.1 F.2.1 hK hP 2 1 rfl rfl (vp_in_nI hj (by decide)) hdg (by rw [nI_clamp (by omega)]; exact kk)
theorem mr_n {j : Nat} (F : CallFix p m c cc nL s args lw_all RX1) (hK : va_K g vwCl (tM f) s) (hP : va_P g vwCl (wM y f M) H) (hj : j < 512) (hdg : decode cc pc = .ok (.iaload, 1)) (kk : W p l e R s m args below meth c H locs cells slots Q (F0 m (pc + 1) ls (.int (mn M j) :: rest))) : W p l e R s m args below meth c H locs cells slots Q (F0 m pc ls (.int (nI j) :: .ref y.2.2.2.1 :: rest)) :=
  va_iald F.1 F.2.1 hK hP 3 2 rfl rfl (vp_in_nI hj (by decide)) hdg (by rw [nI_clamp (by omega)]; exact kk)
theorem mr_l {j : Nat} (F : CallFix p m c cc nL s args lw_all RX1) (hK : va_K g vwCl (tM f) s) (hP : va_P g vwCl (wM y f M) H) (hj : j < 512) (hdg : decode cc pc = .ok (.iaload, 1)) (kk : W p l e R s m args below meth c H locs cells slots Q (F0 m (pc + 1) ls (.int (ml M j) :: rest))) : W p l e R s m args below meth c H locs cells slots Q (F0 m pc ls (.int (nI j) :: .ref y.2.2.2.2.1 :: rest)) :=
  va_iald F.1 F.2.1 hK hP 4 3 rfl rfl (vp_in_nI hj (by decide)) hdg (by rw [nI_clamp (by omega)]; exact kk)
theorem mr_r {j : Nat} (F : CallFix p m c cc nL s args lw_all RX1) (hK : va_K g vwCl (tM f) s) (hP : va_P g vwCl (wM y f M) H) (hj : j < 512) (hdg : decode cc pc = .ok (.iaload, 1)) (kk : W p l e R s m args below meth c H locs cells slots Q (F0 m (pc + 1) ls (.int (mr M j) :: rest))) : W p l e R s m args below meth c H locs cells slots Q (F0 m pc ls (.int (nI j) :: .ref y.2.2.2.2.2.1 :: rest)) :=
  va_iald F.1 F.2.1 hK hP 5 4 rfl rfl (vp_in_nI hj (by decide)) hdg (by rw [nI_clamp (by omega)]; exact kk)
theorem mr_s {j : Nat} (F : CallFix p m c cc nL s args lw_all RX1) (hK : va_K g vwCl (tM f) s) (hP : va_P g vwCl (wM y f M) H) (hj : j < 512) (hdg : decode cc pc = .ok (.baload, 1)) (kk : W p l e R s m args below meth c H locs cells slots Q (F0 m (pc + 1) ls (.int (ms_ M j) :: rest))) : W p l e R s m args below meth c H locs cells slots Q (F0 m pc ls (.int (nI j) :: .ref y.2.2.2.2.2.2 :: rest)) :=
  va_zald F.1 F.2.1 hK hP 6 5 rfl rfl (vp_in_nI hj (by decide)) hdg (by rw [nI_clamp (by omega)]; exact kk)
theorem mw_v {j : Nat} {z : Int32} (F : CallFix p m c cc nL s args lw_all RX1) (hK : va_K g vwCl (tM f) s) (hP : va_P g vwCl (wM y f M) H) (hD : va_D A (wM y f M)) (hS : va_S A H0 H locs) (hj : j < 8) (hdg : decode cc pc = .ok (.iastore, 1)) (kk : ∀ (H1 : Heap) (locs1 : List Loc), va_P g vwCl (wM y f (tv_ M (upd (mv M) j z))) H1 → va_D A (wM y f (tv_ M (upd (mv M) j z))) → va_S A H0 H1 locs1 → W p l e R s m args below meth c H1 locs1 cells slots Q (F0 m (pc + 1) ls rest)) : W p l e R s m args below meth c H locs cells slots Q (F0 m pc ls (.int z :: .int (nI j) :: .ref y.2.1 :: rest)) :=
  va_iast F.1 F.2.1 hK hP hD hS 1 0 rfl rfl (vp_in_nI hj (by decide)) hdg (by rw [nI_clamp (by omega)]; exact kk)
theorem mw_a {j : Nat} {z : Int32} (F : CallFix p m c cc nL s args lw_all RX1) (hK : va_K g vwCl (tM f) s) (hP : va_P g vwCl (wM y f M) H) (hD : va_D A (wM y f M)) (hS : va_S A H0 H locs) (hj : j < 512) (hdg : decode cc pc = .ok (.bastore, 1)) (kk : ∀ (H1 : Heap) (locs1 : List Loc), va_P g vwCl (wM y f (ta_ M (upd (ma M) j (vp_nar .boolean z)))) H1 → va_D A (wM y f (ta_ M (upd (ma M) j (vp_nar .boolean z)))) → va_S A H0 H1 locs1 → W p l e R s m args below meth c H1 locs1 cells slots Q (F0 m (pc + 1) ls rest)) : W p l e R s m args below meth c H locs cells slots Q (F0 m pc ls (.int z :: .int (nI j) :: .ref y.2.2.1 :: rest)) :=
  va_zast F.1 F.2.1 hK hP hD hS 2 1 rfl rfl (vp_in_nI hj (by decide)) hdg (by rw [nI_clamp (by omega)]; exact kk)
theorem mw_n {j : Nat} {z : Int32} (F : CallFix p m c cc nL s args lw_all RX1) (hK : va_K g vwCl (tM f) s) (hP : va_P g vwCl (wM y f M) H) (hD : va_D A (wM y f M)) (hS : va_S A H0 H locs) (hj : j < 512) (hdg : decode cc pc = .ok (.iastore, 1)) (kk : ∀ (H1 : Heap) (locs1 : List Loc), va_P g vwCl (wM y f (tn_ M (upd (mn M) j z))) H1 → va_D A (wM y f (tn_ M (upd (mn M) j z))) → va_S A H0 H1 locs1 → W p l e R s m args below meth c H1 locs1 cells slots Q (F0 m (pc + 1) ls rest)) : W p l e R s m args below meth c H locs cells slots Q (F0 m pc ls (.int z :: .int (nI j) :: .ref y.2.2.2.1 :: rest)) :=
  va_iast F.1 F.2.1 hK hP hD hS 3 2 rfl rfl (vp_in_nI hj (by decide)) hdg (by rw [nI_clamp (by omega)]; exact kk)
theorem mw_l {j : Nat} {z : Int32} (F : CallFix p m c cc nL s args lw_all RX1) (hK : va_K g vwCl (tM f) s) (hP : va_P g vwCl (wM y f M) H) (hD : va_D A (wM y f M)) (hS : va_S A H0 H locs) (hj : j < 512) (hdg : decode cc pc = .ok (.iastore, 1)) (kk : ∀ (H1 : Heap) (locs1 : List Loc), va_P g vwCl (wM y f (tl_ M (upd (ml M) j z))) H1 → va_D A (wM y f (tl_ M (upd (ml M) j z))) → va_S A H0 H1 locs1 → W p l e R s m args below meth c H1 locs1 cells slots Q (F0 m (pc + 1) ls rest)) : W p l e R s m args below meth c H locs cells slots Q (F0 m pc ls (.int z :: .int (nI j) :: .ref y.2.2.2.2.1 :: rest)) :=
  va_iast F.1 F.2.1 hK hP hD hS 4 3 rfl rfl (vp_in_nI hj (by decide)) hdg (by rw [nI_clamp (by omega)]; exact kk)
theorem mw_r {j : Nat} {z : Int32} (F : CallFix p m c cc nL s args lw_all RX1) (hK : va_K g vwCl (tM f) s) (hP : va_P g vwCl (wM y f M) H) (hD : va_D A (wM y f M)) (hS : va_S A H0 H locs) (hj : j < 512) (hdg : decode cc pc = .ok (.iastore, 1)) (kk : ∀ (H1 : Heap) (locs1 : List Loc), va_P g vwCl (wM y f (tr_ M (upd (mr M) j z))) H1 → va_D A (wM y f (tr_ M (upd (mr M) j z))) → va_S A H0 H1 locs1 → W p l e R s m args below meth c H1 locs1 cells slots Q (F0 m (pc + 1) ls rest)) : W p l e R s m args below meth c H locs cells slots Q (F0 m pc ls (.int z :: .int (nI j) :: .ref y.2.2.2.2.2.1 :: rest)) :=
  va_iast F.1 F.2.1 hK hP hD hS 5 4 rfl rfl (vp_in_nI hj (by decide)) hdg (by rw [nI_clamp (by omega)]; exact kk)
theorem mw_s {j : Nat} {z : Int32} (F : CallFix p m c cc nL s args lw_all RX1) (hK : va_K g vwCl (tM f) s) (hP : va_P g vwCl (wM y f M) H) (hD : va_D A (wM y f M)) (hS : va_S A H0 H locs) (hj : j < 512) (hdg : decode cc pc = .ok (.bastore, 1)) (kk : ∀ (H1 : Heap) (locs1 : List Loc), va_P g vwCl (wM y f (ts_ M (upd (ms_ M) j (vp_nar .boolean z)))) H1 → va_D A (wM y f (ts_ M (upd (ms_ M) j (vp_nar .boolean z)))) → va_S A H0 H1 locs1 → W p l e R s m args below meth c H1 locs1 cells slots Q (F0 m (pc + 1) ls rest)) : W p l e R s m args below meth c H locs cells slots Q (F0 m pc ls (.int z :: .int (nI j) :: .ref y.2.2.2.2.2.2 :: rest)) :=
  va_zast F.1 F.2.1 hK hP hD hS 6 5 rfl rfl (vp_in_nI hj (by decide)) hdg (by rw [nI_clamp (by omega)]; exact kk)
-- lists of cells put together
theorem wj_l {a b2 : va_W} {i : Nat} {q : Nat × va_E} (h : a[i]? = some q) : (a ++ b2)[i]? = some q := by
  rw [List.getElem?_append_left (List.getElem?_eq_some_iff.mp h).1]; exact h
theorem wj_r {a b2 : va_W} {i : Nat} {q : Nat × va_E} (h : b2[i]? = some q) : (a ++ b2)[a.length + i]? = some q := by
  rw [List.getElem?_append_right (Nat.le_add_right _ _), Nat.add_sub_cancel_left]; exact h
theorem wj_Pl {a b2 : va_W} (h : va_P g vwCl (a ++ b2) H) : va_P g vwCl a H := fun k q hq => h k q (wj_l hq)
theorem wj_Pr {a b2 : va_W} (h : va_P g vwCl (a ++ b2) H) : va_P g vwCl b2 H := fun k q hq => h _ q (wj_r hq)
theorem wj_Dl {a b2 : va_W} (h : va_D A (a ++ b2)) : va_D A a := ⟨fun i j p q hi hj e => h.1 i j p q (wj_l hi) (wj_l hj) e, fun k q hq => h.2 k q (wj_l hq)⟩
theorem wj_Dr {a b2 : va_W} (h : va_D A (a ++ b2)) : va_D A b2 := ⟨fun i j p q hi hj e => by have := h.1 _ _ p q (wj_r hi) (wj_r hj) e; omega, fun k q hq => h.2 _ q (wj_r hq)⟩
theorem wj_x {a b2 : va_W} (h : va_D A (a ++ b2)) {i j : Nat} {p q : Nat × va_E} (hi : a[i]? = some p) (hj : b2[j]? = some q) (e : p.1 = q.1) : False := by
  have h1 := h.1 _ _ p q (wj_l hi) (wj_r hj) e
  have h2 := (List.getElem?_eq_some_iff.mp hi).1
  omega
theorem wj_swapP {a b2 : va_W} (h : va_P g vwCl (a ++ b2) H) : va_P g vwCl (b2 ++ a) H := (wj_Pr h).app (wj_Pl h)
theorem wj_swapD {a b2 : va_W} (h : va_D A (a ++ b2)) : va_D A (b2 ++ a) := va_D.app (wj_Dr h) (wj_Dl h) (fun i j p q hi hj e => wj_x h hj hi e.symm)
theorem wj_free {a wr : va_W} (hD : va_D A (a ++ wr)) (hS : va_S A H0 H locs) (hA : ∀ q : Nat, H0.size ≤ q → A q) : ∀ q, va_A a H.size q → A q := by
  intro q h
  rcases h with ⟨k, e, h⟩ | h
  · exact hD.2 k (q, e) (wj_l h)
  · exact hA q (Nat.le_trans hS.1 h)
theorem wj_join {a wr w1 : va_W} {H1 : Heap} (hP : va_P g vwCl (a ++ wr) H) (hD : va_D A (a ++ wr)) (hF : ∀ q, va_A a H.size q → A q) (hk : ∀ q : Nat, q < H.size → ¬ va_A a H.size q → H1[q]? = H[q]?) (hP1 : va_P g vwCl w1 H1) (hD1 : va_D (va_A a H.size) w1) : va_P g vwCl (w1 ++ wr) H1 ∧ va_D A (w1 ++ wr) := by
  have apart : ∀ (k : Nat) (q : Nat × va_E), wr[k]? = some q → q.1 < H.size ∧ ¬ va_A a H.size q.1 := by
    intro k q hq
    have hl := (wj_Pr hP k q hq).lt
    refine ⟨hl, fun h => ?_⟩
    rcases h with ⟨k2, e, h⟩ | h
    · exact wj_x hD h hq rfl
    · omega
  refine ⟨va_P.app hP1 (fun k q hq => ?_), va_D.app (hD1.weaken (fun k q _ h => hF q.1 h)) (wj_Dr hD) (fun i j u v hu hv e => ?_)⟩
  · obtain ⟨g1, g2⟩ := apart k q hq
    exact (wj_Pr hP k q hq).kept (hk q.1 g1 g2)
  · exact (apart j v hv).2 (by rw [← e]; exact hD1.2 i u hu)
-- calls
variable {yy : MethodName} {bytes : ByteArray} {maxL n index : Nat} {ret : Option FieldType} {ws : List Cond} {rm : Room} {own : String} {b : Nat} {As st0 : List Value} {tys : List (ClassId × FieldType)} {w : va_W}
/-- a call of an object's method that reads: the heap stays -/
theorem rd_V {post : Int32 → Prop} {ci : Nat} {fs : List Value} {q : vw_C} (F : CallFix p m c cc nL s args lw_all own) (hM : Met l yy ws rm (RdC g tys w (.ref b :: As)) (vp_Si post) 0 0 (fun _ => False)) (cw : CallW R s args own q.1 index yy bytes maxL ret ws rm 0 0 n) (hK : va_K g vwCl tys s) (hP : va_P g vwCl w H) (hq : vwCl[ci]? = some q) (hr : w[0]? = some (b, .inr (ci, fs))) (hn : As.length = n) (hl : ls.size = nL) (hst : st0 = As.reverse ++ .ref b :: rest) (hW : (rest.map fun v => v.category).sum ≤ 8) (hdg : decode cc pc = .ok (.invokevirtual index, 3)) (hf : cells ≤ R.cells ∧ slots ≤ R.slots)
    (kk : ∀ r, post r → W p l e R s m args below meth c H locs cells slots Q (F0 m (pc + 3) ls (.int r :: rest))) : W p l e R s m args below meth c H locs cells slots Q (F0 m pc ls st0) := by
  intro T hT X
  obtain ⟨v, s0, t, T', L, h0, X', hL, e1, ⟨z, hv, hp, hh⟩, st⟩ := W.runV (l := l) (e := e) (below := below) (meth := meth) (locs := locs) (cells := cells) (slots := slots) (g := F0 m pc ls st0) F hM cw ⟨RdC.blind, va_recv hK hP hq hr, fun U hU hW => ⟨rfl, by rw [hU]; exact hP, va_K.moved hW.alike hK⟩⟩ rfl hn hl hst (lv_room hW) hdg hf T hT X
  cases hv
  obtain ⟨t2, a1, b1⟩ := kk z hp T' (by rw [e1, hh, h0]) (Stand.forget X' (fun q h => (hL q h).elim))
  exact ⟨t2, st t2 a1, b1⟩
/-- a static call that reads nothing -/
theorem rd_S {post : Int32 → Prop} (F : CallFix p m c cc nL s args lw_all own) (hM : Met l yy ws rm (fun v _ => v = As.toArray) (vp_Si post) 0 0 (fun _ => False)) (cw : CallB R s args own index yy bytes maxL ret ws rm 0 0 n ∧ (Cond.static yy).before args s = true) (hn : As.length = n) (hl : ls.size = nL) (hst : st0 = As.reverse ++ rest) (hW : (rest.map fun v => v.category).sum ≤ 8) (hdg : decode cc pc = .ok (.invokestatic index, 3)) (hf : cells ≤ R.cells ∧ slots ≤ R.slots)
    (kk : ∀ r, post r → W p l e R s m args below meth c H locs cells slots Q (F0 m (pc + 3) ls (.int r :: rest))) : W p l e R s m args below meth c H locs cells slots Q (F0 m pc ls st0) := by
  intro T hT X
  obtain ⟨v, s0, t, T', L, h0, X', hL, e1, ⟨z, hv, hp, hh⟩, st⟩ := W.runS (l := l) (e := e) (below := below) (meth := meth) (locs := locs) (cells := cells) (slots := slots) (g := F0 m pc ls st0) F hM cw preEq rfl hn hl hst (lv_room hW) hdg hf T hT X
  cases hv
  obtain ⟨t2, a1, b1⟩ := kk z hp T' (by rw [e1, hh, h0]) (Stand.forget X' (fun q h => (hL q h).elim))
  exact ⟨t2, st t2 a1, b1⟩
/-- a call of an object's method that writes its world; the rest of the caller's cells stays -/
theorem wr_V {σ : Type} {wf : σ → va_W} {S0 : σ} {wr : va_W} {post : Int32 → σ → Prop} {ci : Nat} {fs : List Value} {q : vw_C} (F : CallFix p m c cc nL s args lw_all own) (hM : ∀ sz : Nat, Met l yy ws rm (WrC g tys (wf S0) sz (.ref b :: As)) (va_Qi post (WB g tys wf (va_A (wf S0) sz)) (va_A (wf S0) sz)) 0 0 (va_A (wf S0) sz)) (cw : CallW R s args own q.1 index yy bytes maxL ret ws rm 0 0 n) (hK : va_K g vwCl tys s) (hP : va_P g vwCl (wf S0 ++ wr) H) (hD : va_D A (wf S0 ++ wr)) (hS : va_S A H0 H locs) (hA : ∀ q : Nat, H0.size ≤ q → A q) (hq : vwCl[ci]? = some q) (hr : (wf S0)[0]? = some (b, .inr (ci, fs))) (hn : As.length = n) (hl : ls.size = nL) (hst : st0 = As.reverse ++ .ref b :: rest) (hW : (rest.map fun v => v.category).sum ≤ 8) (hdg : decode cc pc = .ok (.invokevirtual index, 3)) (hf : cells ≤ R.cells ∧ slots ≤ R.slots)
    (kk : ∀ (r : Int32) (u : σ) (H1 : Heap) (locs1 : List Loc), post r u → va_P g vwCl (wf u ++ wr) H1 → va_D A (wf u ++ wr) → va_S A H0 H1 locs1 → W p l e R s m args below meth c H1 locs1 cells slots Q (F0 m (pc + 3) ls (.int r :: rest))) : W p l e R s m args below meth c H locs cells slots Q (F0 m pc ls st0) := by
  have hPc := wj_Pl hP
  have hDc := wj_Dl hD
  have hFc := wj_free hD hS hA
  refine va_calli (va_runV (g := F0 m pc ls st0) F (hM H.size) cw ⟨WrC.blind, va_recv hK hPc hq hr, fun U hU hW => ⟨rfl, by rw [hU], by rw [hU]; exact hPc, va_K.moved hW.alike hK, hDc.weaken (fun _ _ _ _ => trivial)⟩⟩ rfl hn hl hst (lv_room hW) hdg hf) hS (fun q _ h => hFc q h) hFc (fun r u t H1 locs1 ht hvm hw hB hz hk hS1 => ?_)
  obtain ⟨hP1, -, hD1⟩ := hB
  rw [ht] at hP1
  obtain ⟨hP2, hD2⟩ := wj_join hP hD hFc hk hP1 hD1
  exact kk r u H1 locs1 hw hP2 hD2 hS1
theorem wr_Vv {σ : Type} {wf : σ → va_W} {S0 : σ} {wr : va_W} {post : σ → Prop} {ci : Nat} {fs : List Value} {q : vw_C} (F : CallFix p m c cc nL s args lw_all own) (hM : ∀ sz : Nat, Met l yy ws rm (WrC g tys (wf S0) sz (.ref b :: As)) (va_Qv post (WB g tys wf (va_A (wf S0) sz)) (va_A (wf S0) sz)) 0 0 (va_A (wf S0) sz)) (cw : CallW R s args own q.1 index yy bytes maxL ret ws rm 0 0 n) (hK : va_K g vwCl tys s) (hP : va_P g vwCl (wf S0 ++ wr) H) (hD : va_D A (wf S0 ++ wr)) (hS : va_S A H0 H locs) (hA : ∀ q : Nat, H0.size ≤ q → A q) (hq : vwCl[ci]? = some q) (hr : (wf S0)[0]? = some (b, .inr (ci, fs))) (hn : As.length = n) (hl : ls.size = nL) (hst : st0 = As.reverse ++ .ref b :: rest) (hW : (rest.map fun v => v.category).sum ≤ 8) (hdg : decode cc pc = .ok (.invokevirtual index, 3)) (hf : cells ≤ R.cells ∧ slots ≤ R.slots)
    (kk : ∀ (u : σ) (H1 : Heap) (locs1 : List Loc), post u → va_P g vwCl (wf u ++ wr) H1 → va_D A (wf u ++ wr) → va_S A H0 H1 locs1 → W p l e R s m args below meth c H1 locs1 cells slots Q (F0 m (pc + 3) ls rest)) : W p l e R s m args below meth c H locs cells slots Q (F0 m pc ls st0) := by
  have hPc := wj_Pl hP
  have hDc := wj_Dl hD
  have hFc := wj_free hD hS hA
  refine va_callv (va_runV (g := F0 m pc ls st0) F (hM H.size) cw ⟨WrC.blind, va_recv hK hPc hq hr, fun U hU hW => ⟨rfl, by rw [hU], by rw [hU]; exact hPc, va_K.moved hW.alike hK, hDc.weaken (fun _ _ _ _ => trivial)⟩⟩ rfl hn hl hst (lv_room hW) hdg hf) hS (fun q _ h => hFc q h) hFc (fun u t H1 locs1 ht hvm hw hB hz hk hS1 => ?_)
  obtain ⟨hP1, -, hD1⟩ := hB
  rw [ht] at hP1
  obtain ⟨hP2, hD2⟩ := wj_join hP hD hFc hk hP1 hD1
  exact kk u H1 locs1 hw hP2 hD2 hS1
-- returns
theorem rd_ret {post : Int32 → Prop} {a : Array Value} {v : Int32} (hx : p.tables.exec = Jvm.exec) (hb : c.code = cc) (hr : meth.sig.returnType = some .int) (hlocks : meth.locks = false) (hq : post v) (hdg : decode cc pc = .ok (.ireturn, 1)) : W p l e R s m args below meth c s.heap [] 0 0 (MQ below (vp_Si post) args s 0 0 (fun _ => False)) (F0 m pc ls [.int v]) :=
  W.iret (v := v) hx hb hr (fun t ht hW => ⟨v, rfl, hq, ht⟩) (fun q h => by cases h) hdg
theorem rd_retz {post : Int32 → Prop} {a : Array Value} {v : Int32} (hx : p.tables.exec = Jvm.exec) (hb : c.code = cc) (hr : meth.sig.returnType = some .boolean) (hlocks : meth.locks = false) (hn : narrow .boolean (.int v) = .int v) (hq : post v) (hdg : decode cc pc = .ok (.ireturn, 1)) : W p l e R s m args below meth c s.heap [] 0 0 (MQ below (vp_Si post) args s 0 0 (fun _ => False)) (F0 m pc ls [.int v]) :=
  W.zret (v := v) hx hb hr hn (fun t ht hW => ⟨v, rfl, hq, ht⟩) (fun q h => by cases h) hdg
theorem wr_ret {σ : Type} {wf : σ → va_W} {post : Int32 → σ → Prop} {v : Int32} {u : σ} (hx : p.tables.exec = Jvm.exec) (hb : c.code = cc) (hr : meth.sig.returnType = some .int) (hlocks : meth.locks = false) (hK : va_K g vwCl tys s) (hP : va_P g vwCl (wf u) H) (hD : va_D A (wf u)) (hS : va_S A s.heap H locs) (hq : post v u) (hdg : decode cc pc = .ok (.ireturn, 1)) : W p l e R s m args below meth c H locs 0 0 (MQ below (va_Qi post (WB g tys wf A) A) args s 0 0 A) (F0 m pc ls [.int v]) :=
  W.iret (v := v) hx hb hr (fun t ht hW => ⟨⟨v, u, rfl, hq, by rw [ht]; exact hP, va_K.moved hW.alike hK, hD⟩, hS.F ht⟩) hS.2.2 hdg
theorem wr_retz {σ : Type} {wf : σ → va_W} {post : Int32 → σ → Prop} {v : Int32} {u : σ} (hx : p.tables.exec = Jvm.exec) (hb : c.code = cc) (hr : meth.sig.returnType = some .boolean) (hlocks : meth.locks = false) (hn : narrow .boolean (.int v) = .int v) (hK : va_K g vwCl tys s) (hP : va_P g vwCl (wf u) H) (hD : va_D A (wf u)) (hS : va_S A s.heap H locs) (hq : post v u) (hdg : decode cc pc = .ok (.ireturn, 1)) : W p l e R s m args below meth c H locs 0 0 (MQ below (va_Qi post (WB g tys wf A) A) args s 0 0 A) (F0 m pc ls [.int v]) :=
  W.zret (v := v) hx hb hr hn (fun t ht hW => ⟨⟨v, u, rfl, hq, by rw [ht]; exact hP, va_K.moved hW.alike hK, hD⟩, hS.F ht⟩) hS.2.2 hdg
theorem wr_retv {σ : Type} {wf : σ → va_W} {post : σ → Prop} {u : σ} (hx : p.tables.exec = Jvm.exec) (hb : c.code = cc) (hr : meth.sig.returnType = none) (hlocks : meth.locks = false) (hK : va_K g vwCl tys s) (hP : va_P g vwCl (wf u) H) (hD : va_D A (wf u)) (hS : va_S A s.heap H locs) (hq : post u) (hdg : decode cc pc = .ok (.return_, 1)) : W p l e R s m args below meth c H locs 0 0 (MQ below (va_Qv post (WB g tys wf A) A) args s 0 0 A) (F0 m pc ls []) :=
  W.vret hx hb hr (fun t ht hW => ⟨⟨u, rfl, hq, by rw [ht]; exact hP, va_K.moved hW.alike hK, hD⟩, hS.F ht⟩) hS.2.2 hdg
end KR
end
section
/-! numbers of the two classes: places, bits, answers; calls whose world is the whole world -/
set_option maxRecDepth 100000
def kb (a : Int32) : Nat := ((a - 1) &&& 7).toNatClampNeg
theorem kb_eq (a : Int32) : (a - 1) &&& 7 = nI (kb a) := by
  obtain ⟨j, hj, h⟩ := pk_andE (a - 1) (m := 7) 3 (by decide)
  unfold kb
  rw [h, nI_clamp (by omega)]
theorem kb_lt (a : Int32) : kb a < 8 := by
  obtain ⟨j, hj, h⟩ := pk_andE (a - 1) (m := 7) 3 (by decide)
  unfold kb
  rw [h, nI_clamp (by omega)]
  exact hj
/-- a bit, as the code takes it -/
def bi (u : Int32) (b : Nat) : Int32 := (u >>> (nI b &&& 31)) &&& 1
theorem bi_nat : ∀ w, w < 64 → ∀ b, b < 8 → bi (nI w) b = if w.testBit b then 1 else 0 := by decide +kernel
theorem bi_lt6 {u : Int32} {b : Nat} (hu : ∃ w, w < 64 ∧ u = nI w) (hb : b < 8) (h : ¬ bi u b = 0) : b < 6 := by
  obtain ⟨w, hw, rfl⟩ := hu
  exact (by decide +kernel : ∀ w, w < 64 → ∀ b, b < 8 → ¬ bi (nI w) b = 0 → b < 6) w hw b hb h
theorem or_nat : ∀ w, w < 64 → ∀ c, c < 6 → nI w ||| ((1 : Int32) <<< (nI c &&& 31)) = nI (w ||| 2 ^ c) ∧ w ||| 2 ^ c < 64 := by decide +kernel
theorem cl_nat : ∀ w, w < 64 → ∀ c, c < 6 → nI w &&& (((1 : Int32) <<< (nI c &&& 31)) ^^^ (-1)) = nI (w &&& (63 - 2 ^ c)) ∧ w &&& (63 - 2 ^ c) < 64 := by decide +kernel
theorem lost_nat : ∀ w, w < 64 → ∀ v, v < 64 → nI w &&& (nI v ^^^ (-1)) = nI (w &&& (63 - v)) ∧ w &&& (63 - v) < 64 := by decide +kernel
theorem or_bit : ∀ w, w < 64 → ∀ c, c < 6 → ∀ b, b < 6 → (w ||| 2 ^ c).testBit b = (w.testBit b || decide (b = c)) := by decide +kernel
theorem cl_bit : ∀ w, w < 64 → ∀ c, c < 6 → ∀ b, b < 6 → (w &&& (63 - 2 ^ c)).testBit b = (w.testBit b && !decide (b = c)) := by decide +kernel
theorem lost_bit : ∀ w, w < 64 → ∀ v, v < 64 → ∀ b, b < 6 → (w &&& (63 - v)).testBit b = (w.testBit b && !v.testBit b) := by decide +kernel
theorem bit_ext : ∀ w, w < 64 → ∀ v, v < 64 → (∀ b, b < 6 → w.testBit b = v.testBit b) → w = v := by decide +kernel
/-- NIL, LIVE or DEAD -/
def xst (S : XS) (a : Int32) : Int32 := if a = 0 then 0 else if a = -1 then 2 else if bi (xu S) (kb a) = 0 then 2 else if a = 1 + nI (kb a) + 8 * xl S (kb a) then 1 else 2
/-- the answer of a call that goes through a pointer of this state -/
def fl (z : Int32) : Int32 := if z = 0 then -3 else if z = 2 then -4 else 0
def IsV (v : Int32) : Prop := ∃ j, j < 8 ∧ v = nI j
def IsL (k : Int32) : Prop := ∃ j, j < 2 ∧ k = nI j
theorem isV_of {v : Int32} (h0 : ¬ v < 0) (h8 : ¬ 8 ≤ v) : IsV v := by
  rcases pk_ix v (n := 8) (by decide) with h | h | h
  · exact absurd h h0
  · exact absurd h h8
  · exact h
theorem isV_lt {v : Int32} (h : v < 0) : ¬ IsV v := by
  rintro ⟨j, hj, rfl⟩
  exact nI_pos (by omega) h
theorem isV_ge {v : Int32} (h : 8 ≤ v) : ¬ IsV v := by
  rintro ⟨j, hj, rfl⟩
  exact nI_ge hj (by decide) h
theorem isL_of {k : Int32} (h : k = 0 ∨ k = 1) : IsL k := by
  rcases h with rfl | rfl
  · exact ⟨0, by decide, rfl⟩
  · exact ⟨1, by decide, rfl⟩
theorem isL_not {k : Int32} (h0 : ¬ k = 0) (h1 : ¬ k = 1) : ¬ IsL k := by
  rintro ⟨j, hj, rfl⟩
  rcases (show j = 0 ∨ j = 1 by omega) with rfl | rfl
  · exact h0 rfl
  · exact h1 rfl
/-- KeyHeap's words are small -/
def XU (S : XS) : Prop := ∃ w, w < 64 ∧ xu S = nI w
def XT (S : XS) : Prop := ∃ t, t < 6 ∧ xt S = nI t
def XL (S : XS) : Prop := ∀ b, b < 6 → ∃ k, k < 4 ∧ xl S b = nI k
theorem xst_live {S : XS} {a : Int32} (h : xst S a = 1) : ¬ a = 0 ∧ ¬ a = -1 ∧ ¬ bi (xu S) (kb a) = 0 ∧ a = 1 + nI (kb a) + 8 * xl S (kb a) := by
  unfold xst at h
  split at h
  · exact absurd h (by decide)
  · split at h
    · exact absurd h (by decide)
    · split at h
      · exact absurd h (by decide)
      · split at h
        · rename_i h1 h2 h3 h4; exact ⟨h1, h2, h3, h4⟩
        · exact absurd h (by decide)
theorem xst_lt6 {S : XS} {a : Int32} (hu : XU S) (h : xst S a = 1) : kb a < 6 := bi_lt6 hu (kb_lt a) (xst_live h).2.2.1
theorem xst_cases (S : XS) (a : Int32) : xst S a = 0 ∨ xst S a = 1 ∨ xst S a = 2 := by
  unfold xst
  split
  · exact Or.inl rfl
  · split
    · exact Or.inr (Or.inr rfl)
    · split
      · exact Or.inr (Or.inr rfl)
      · split
        · exact Or.inr (Or.inl rfl)
        · exact Or.inr (Or.inr rfl)
theorem fl_0 {z : Int32} (hz : z = 0 ∨ z = 1 ∨ z = 2) : fl z = 0 ↔ z = 1 := by
  rcases hz with rfl | rfl | rfl <;> decide
/-- the model's kind -/
def mkd (M : MS) (q : Int32) : Int32 := if q ≤ 0 then 0 else if 512 < q then 0 else if ma M (q - 1).toNatClampNeg = 0 then 2 else 1
theorem mq_of {q : Int32} (h0 : ¬ q ≤ 0) (h5 : ¬ 512 < q) : ∃ j, j < 512 ∧ q = nI (j + 1) := by
  rcases pk_ix q (n := 513) (by decide) with h | h | ⟨j, hj, h⟩
  · exact absurd (Int32.le_of_lt h) h0
  · exact absurd (Int32.lt_of_lt_of_le (by decide : (512 : Int32) < nI 513) h) h5
  · subst h
    rcases Nat.eq_zero_or_pos j with e | e
    · subst e; exact absurd (by decide) h0
    · exact ⟨j - 1, by omega, by rw [show j - 1 + 1 = j by omega]⟩
theorem mkd_pos (M : MS) {j : Nat} (hj : j < 512) : mkd M (nI (j + 1)) = if ma M j = 0 then 2 else 1 := by
  unfold mkd
  rw [if_neg (nI_nle (by omega) (by omega)), if_neg (by exact nI_nlt (a := 512) (by omega) (by omega)), nI_pred, nI_clamp (by omega)]
theorem mkd_live {M : MS} {q : Int32} (h : mkd M q = 1) : ∃ j, j < 512 ∧ q = nI (j + 1) ∧ ¬ ma M j = 0 := by
  by_cases h0 : q ≤ 0
  · unfold mkd at h; rw [if_pos h0] at h; exact absurd h (by decide)
  · by_cases h5 : 512 < q
    · unfold mkd at h; rw [if_neg h0, if_pos h5] at h; exact absurd h (by decide)
    · obtain ⟨j, hj, rfl⟩ := mq_of h0 h5
      rw [mkd_pos M hj] at h
      exact ⟨j, hj, rfl, fun e => by rw [if_pos e] at h; exact absurd h (by decide)⟩
theorem mkd_cases (M : MS) (q : Int32) : mkd M q = 0 ∨ mkd M q = 1 ∨ mkd M q = 2 := by
  unfold mkd
  split
  · exact Or.inl rfl
  · split
    · exact Or.inl rfl
    · split
      · exact Or.inr (Or.inr rfl)
      · exact Or.inr (Or.inl rfl)
section KC
variable {p : Program} {l : Launch} {e : Env} {R : Room} {s : State} {m : MethodId} {args : Array Value} {below : List Frame} {meth : Method} {c : Code} {H : Heap} {locs : List Loc} {cells slots : Nat} {Q : State → Prop}
variable {cc : ByteArray} {pc nL : Nat} {ls : Array Slot} {rest : List Value} {g : va_G} {A : Nat → Prop} {H0 : Heap}
variable {yy : MethodName} {bytes : ByteArray} {maxL n index : Nat} {ret : Option FieldType} {ws : List Cond} {rm : Room} {own : String} {b : Nat} {As st0 : List Value} {tys : List (ClassId × FieldType)} {w : va_W}
theorem wr_V0 {σ : Type} {wf : σ → va_W} {S0 : σ} {post : Int32 → σ → Prop} {ci : Nat} {fs : List Value} {q : vw_C} (F : CallFix p m c cc nL s args lw_all own) (hM : ∀ sz : Nat, Met l yy ws rm (WrC g tys (wf S0) sz (.ref b :: As)) (va_Qi post (WB g tys wf (va_A (wf S0) sz)) (va_A (wf S0) sz)) 0 0 (va_A (wf S0) sz)) (cw : CallW R s args own q.1 index yy bytes maxL ret ws rm 0 0 n) (hK : va_K g vwCl tys s) (hP : va_P g vwCl (wf S0) H) (hD : va_D A (wf S0)) (hS : va_S A H0 H locs) (hA : ∀ q : Nat, H0.size ≤ q → A q) (hq : vwCl[ci]? = some q) (hr : (wf S0)[0]? = some (b, .inr (ci, fs))) (hn : As.length = n) (hl : ls.size = nL) (hst : st0 = As.reverse ++ .ref b :: rest) (hW : (rest.map fun v => v.category).sum ≤ 8) (hdg : decode cc pc = .ok (.invokevirtual index, 3)) (hf : cells ≤ R.cells ∧ slots ≤ R.slots)
    (kk : ∀ (r : Int32) (u : σ) (H1 : Heap) (locs1 : List Loc), post r u → va_P g vwCl (wf u) H1 → va_D A (wf u) → va_S A H0 H1 locs1 → W p l e R s m args below meth c H1 locs1 cells slots Q (F0 m (pc + 3) ls (.int r :: rest))) : W p l e R s m args below meth c H locs cells slots Q (F0 m pc ls st0) :=
  wr_V (wr := []) F hM cw hK (by rw [List.append_nil]; exact hP) (by rw [List.append_nil]; exact hD) hS hA hq hr hn hl hst hW hdg hf (fun r u H1 locs1 h1 h2 h3 h4 => kk r u H1 locs1 h1 (by rw [List.append_nil] at h2; exact h2) (by rw [List.append_nil] at h3; exact h3) h4)
theorem wr_Vv0 {σ : Type} {wf : σ → va_W} {S0 : σ} {post : σ → Prop} {ci : Nat} {fs : List Value} {q : vw_C} (F : CallFix p m c cc nL s args lw_all own) (hM : ∀ sz : Nat, Met l yy ws rm (WrC g tys (wf S0) sz (.ref b :: As)) (va_Qv post (WB g tys wf (va_A (wf S0) sz)) (va_A (wf S0) sz)) 0 0 (va_A (wf S0) sz)) (cw : CallW R s args own q.1 index yy bytes maxL ret ws rm 0 0 n) (hK : va_K g vwCl tys s) (hP : va_P g vwCl (wf S0) H) (hD : va_D A (wf S0)) (hS : va_S A H0 H locs) (hA : ∀ q : Nat, H0.size ≤ q → A q) (hq : vwCl[ci]? = some q) (hr : (wf S0)[0]? = some (b, .inr (ci, fs))) (hn : As.length = n) (hl : ls.size = nL) (hst : st0 = As.reverse ++ .ref b :: rest) (hW : (rest.map fun v => v.category).sum ≤ 8) (hdg : decode cc pc = .ok (.invokevirtual index, 3)) (hf : cells ≤ R.cells ∧ slots ≤ R.slots)
    (kk : ∀ (u : σ) (H1 : Heap) (locs1 : List Loc), post u → va_P g vwCl (wf u) H1 → va_D A (wf u) → va_S A H0 H1 locs1 → W p l e R s m args below meth c H1 locs1 cells slots Q (F0 m (pc + 3) ls rest)) : W p l e R s m args below meth c H locs cells slots Q (F0 m pc ls st0) :=
  wr_Vv (wr := []) F hM cw hK (by rw [List.append_nil]; exact hP) (by rw [List.append_nil]; exact hD) hS hA hq hr hn hl hst hW hdg hf (fun u H1 locs1 h1 h2 h3 h4 => kk u H1 locs1 h1 (by rw [List.append_nil] at h2; exact h2) (by rw [List.append_nil] at h3; exact h3) h4)
end KC
end
section
/-! KeyHeap: the leaves, and the methods that only read -/
set_option maxRecDepth 100000
set_option maxHeartbeats 4000000 in
/-- isVariable: is it a variable -/
theorem cX_isVariable (l : Launch) (v1 : Int32)  : Met l yX0_isVariable (ws_ yX0_isVariable cX0_isVariable 1 (some .boolean)) ({ frames := 0, cells := 0, slots := 0, locals := 0 }) (fun v _ => v = ([.int v1] : List Value).toArray) (vp_Si (fun r => (r = 1 ∧ IsV v1) ∨ (r = 0 ∧ ¬ IsV v1))) 0 0 (fun _ => False) := by
  refine Met.ofW (cc := cX0_isVariable) (maxL := 1) (ret := (some .boolean)) (by decide) rfl ?_
  intro p e s m args below meth c s₁ B hml hv
  subst hv
  have hx := B.exec
  have hb := B.bytes
  have hrt := B.returns
  have hlocks := B.notSynchronized
  have hts0 := atoms_spec (ws := ws_ yX0_isVariable cX0_isVariable 1 (some .boolean)) B.pre
  have hts : ∀ w ∈ lw_all, w.before ([.int v1] : List Value).toArray s = true := fun w h => hts0 w (List.mem_cons_of_mem _ h)
  have hown : s.vm.findClass RX0 = some m.cls := findClass_of_methodNamed B.named
  have hF : CallFix p m c cX0_isVariable 1 s ([.int v1] : List Value).toArray lw_all RX0 := ⟨hx, hb, hml, hown, hts⟩
  have hl := lv_entry ([.int v1]) (n := 1) (Nat.le_of_ble_eq_true rfl)
  rw [lg_entry_eq]
  generalize (lg_sl ([.int v1]) ++ List.replicate (1 - (lg_sl ([.int v1])).length) Slot.unset).toArray = ls at hl ⊢
  have hl : lv_has ls 1 [(0, .int v1)] := hl
  refine lv_iload_n hx hb dX0_isVariable_0 rfl (lv_at hl 0 rfl) ?_
  refine lv_if_lt (tgt := 14) hx hb dX0_isVariable_1 (by decide) (fun c1 => ?_) (fun c1 => ?_)
  · refine lv_iconst (v := 0) hx hb dX0_isVariable_14 (by decide) ?_
    exact rd_retz (a := #[]) hx hb hrt hlocks rfl (Or.inr ⟨rfl, isV_lt c1⟩) dX0_isVariable_15
  · refine lv_iload_n hx hb dX0_isVariable_4 rfl (lv_at hl 0 rfl) ?_
    refine lv_bipush (v := 8) hx hb dX0_isVariable_5 (by decide) ?_
    refine lv_icmp_ge (tgt := 14) hx hb dX0_isVariable_7 (by decide) (fun c2 => ?_) (fun c2 => ?_)
    · refine lv_iconst (v := 0) hx hb dX0_isVariable_14 (by decide) ?_
      exact rd_retz (a := #[]) hx hb hrt hlocks rfl (Or.inr ⟨rfl, isV_ge c2⟩) dX0_isVariable_15
    · refine lv_iconst (v := 1) hx hb dX0_isVariable_10 (by decide) ?_
      refine lv_goto (tgt := 15) hx hb dX0_isVariable_11 (by decide) ?_
      exact rd_retz (a := #[]) hx hb hrt hlocks rfl (Or.inl ⟨rfl, isV_of c1 c2⟩) dX0_isVariable_15
set_option maxHeartbeats 4000000 in
theorem cX_isLink (l : Launch) (k1 : Int32)  : Met l yX0_isLink (ws_ yX0_isLink cX0_isLink 1 (some .boolean)) ({ frames := 0, cells := 0, slots := 0, locals := 0 }) (fun v _ => v = ([.int k1] : List Value).toArray) (vp_Si (fun r => (r = 1 ∧ IsL k1) ∨ (r = 0 ∧ ¬ IsL k1))) 0 0 (fun _ => False) := by
  refine Met.ofW (cc := cX0_isLink) (maxL := 1) (ret := (some .boolean)) (by decide) rfl ?_
  intro p e s m args below meth c s₁ B hml hv
  subst hv
  have hx := B.exec
  have hb := B.bytes
  have hrt := B.returns
  have hlocks := B.notSynchronized
  have hts0 := atoms_spec (ws := ws_ yX0_isLink cX0_isLink 1 (some .boolean)) B.pre
  have hts : ∀ w ∈ lw_all, w.before ([.int k1] : List Value).toArray s = true := fun w h => hts0 w (List.mem_cons_of_mem _ h)
  have hown : s.vm.findClass RX0 = some m.cls := findClass_of_methodNamed B.named
  have hF : CallFix p m c cX0_isLink 1 s ([.int k1] : List Value).toArray lw_all RX0 := ⟨hx, hb, hml, hown, hts⟩
  have hl := lv_entry ([.int k1]) (n := 1) (Nat.le_of_ble_eq_true rfl)
  rw [lg_entry_eq]
  generalize (lg_sl ([.int k1]) ++ List.replicate (1 - (lg_sl ([.int k1])).length) Slot.unset).toArray = ls at hl ⊢
  have hl : lv_has ls 1 [(0, .int k1)] := hl
  refine lv_iload_n hx hb dX0_isLink_0 rfl (lv_at hl 0 rfl) ?_
  refine lv_if_eq (tgt := 9) hx hb dX0_isLink_1 (by decide) (fun c1 => ?_) (fun c1 => ?_)
  · refine lv_iconst (v := 1) hx hb dX0_isLink_9 (by decide) ?_
    refine lv_goto (tgt := 14) hx hb dX0_isLink_10 (by decide) ?_
    exact rd_retz (a := #[]) hx hb hrt hlocks rfl (Or.inl ⟨rfl, isL_of (Or.inl c1)⟩) dX0_isLink_14
  · refine lv_iload_n hx hb dX0_isLink_4 rfl (lv_at hl 0 rfl) ?_
    refine lv_iconst (v := 1) hx hb dX0_isLink_5 (by decide) ?_
    refine lv_icmp_ne (tgt := 13) hx hb dX0_isLink_6 (by decide) (fun c2 => ?_) (fun c2 => ?_)
    · refine lv_iconst (v := 0) hx hb dX0_isLink_13 (by decide) ?_
      exact rd_retz (a := #[]) hx hb hrt hlocks rfl (Or.inr ⟨rfl, isL_not c1 c2⟩) dX0_isLink_14
    · refine lv_iconst (v := 1) hx hb dX0_isLink_9 (by decide) ?_
      refine lv_goto (tgt := 14) hx hb dX0_isLink_10 (by decide) ?_
      exact rd_retz (a := #[]) hx hb hrt hlocks rfl (Or.inl ⟨rfl, isL_of (Or.inr c2)⟩) dX0_isLink_14
set_option maxHeartbeats 4000000 in
theorem cX_blockOf (l : Launch) (a1 : Int32)  : Met l yX0_blockOf (ws_ yX0_blockOf cX0_blockOf 1 (some .int)) ({ frames := 0, cells := 0, slots := 0, locals := 0 }) (fun v _ => v = ([.int a1] : List Value).toArray) (vp_Si (fun r => r = nI (kb a1))) 0 0 (fun _ => False) := by
  refine Met.ofW (cc := cX0_blockOf) (maxL := 1) (ret := (some .int)) (by decide) rfl ?_
  intro p e s m args below meth c s₁ B hml hv
  subst hv
  have hx := B.exec
  have hb := B.bytes
  have hrt := B.returns
  have hlocks := B.notSynchronized
  have hts0 := atoms_spec (ws := ws_ yX0_blockOf cX0_blockOf 1 (some .int)) B.pre
  have hts : ∀ w ∈ lw_all, w.before ([.int a1] : List Value).toArray s = true := fun w h => hts0 w (List.mem_cons_of_mem _ h)
  have hown : s.vm.findClass RX0 = some m.cls := findClass_of_methodNamed B.named
  have hF : CallFix p m c cX0_blockOf 1 s ([.int a1] : List Value).toArray lw_all RX0 := ⟨hx, hb, hml, hown, hts⟩
  have hl := lv_entry ([.int a1]) (n := 1) (Nat.le_of_ble_eq_true rfl)
  rw [lg_entry_eq]
  generalize (lg_sl ([.int a1]) ++ List.replicate (1 - (lg_sl ([.int a1])).length) Slot.unset).toArray = ls at hl ⊢
  have hl : lv_has ls 1 [(0, .int a1)] := hl
  refine lv_iload_n hx hb dX0_blockOf_0 rfl (lv_at hl 0 rfl) ?_
  refine lv_iconst (v := 1) hx hb dX0_blockOf_1 (by decide) ?_
  refine lv_isub hx hb dX0_blockOf_2 ?_
  refine lv_bipush (v := 7) hx hb dX0_blockOf_3 (by decide) ?_
  refine lv_iand hx hb dX0_blockOf_5 ?_
  exact rd_ret (a := #[]) hx hb hrt hlocks (kb_eq a1) dX0_blockOf_6
set_option maxHeartbeats 4000000 in
theorem cX_pointerTo (l : Launch) (g : va_G) (x : XA) (d : XC) (S : XS) (j : Nat) (hj : j < 6) : Met l yX0_pointerTo (ws_ yX0_pointerTo cX0_pointerTo 2 (some .int)) ({ frames := 0, cells := 0, slots := 0, locals := 0 }) (RdC g (tX d) (wX x d S) [.ref x.1, .int (nI j)]) (vp_Si (fun r => r = 1 + nI j + 8 * xl S j)) 0 0 (fun _ => False) := by
  refine Met.ofW (cc := cX0_pointerTo) (maxL := 2) (ret := (some .int)) (by decide) rfl ?_
  intro p e s m args below meth c s₁ B hml hv
  obtain ⟨rfl, hP, hK⟩ := hv
  have hx := B.exec
  have hb := B.bytes
  have hrt := B.returns
  have hlocks := B.notSynchronized
  have hts0 := atoms_spec (ws := ws_ yX0_pointerTo cX0_pointerTo 2 (some .int)) B.pre
  have hts : ∀ w ∈ lw_all, w.before ([.ref x.1, .int (nI j)] : List Value).toArray s = true := fun w h => hts0 w (List.mem_cons_of_mem _ h)
  have hown : s.vm.findClass RX0 = some m.cls := findClass_of_methodNamed B.named
  have hF : CallFix p m c cX0_pointerTo 2 s ([.ref x.1, .int (nI j)] : List Value).toArray lw_all RX0 := ⟨hx, hb, hml, hown, hts⟩
  have hl := lv_entry ([.ref x.1, .int (nI j)]) (n := 2) (Nat.le_of_ble_eq_true rfl)
  rw [lg_entry_eq]
  generalize (lg_sl ([.ref x.1, .int (nI j)]) ++ List.replicate (2 - (lg_sl ([.ref x.1, .int (nI j)])).length) Slot.unset).toArray = ls at hl ⊢
  have hl : lv_has ls 2 [(0, .ref x.1), (1, .int (nI j))] := hl
  refine lv_iconst (v := 1) hx hb dX0_pointerTo_0 (by decide) ?_
  refine lv_iload_n hx hb dX0_pointerTo_1 rfl (lv_at hl 1 rfl) ?_
  refine lv_iadd hx hb dX0_pointerTo_2 ?_
  refine lv_bipush (v := 8) hx hb dX0_pointerTo_3 (by decide) ?_
  refine lv_aload_n hx hb dX0_pointerTo_5 rfl (lv_at hl 0 rfl) ?_
  refine kg_l hF hK hP dX0_pointerTo_6 ?_
  refine lv_iload_n hx hb dX0_pointerTo_9 rfl (lv_at hl 1 rfl) ?_
  refine kr_l hF hK hP (by omega) dX0_pointerTo_10 ?_
  refine lv_imul hx hb dX0_pointerTo_11 ?_
  refine lv_iadd hx hb dX0_pointerTo_12 ?_
  exact rd_ret (a := #[]) hx hb hrt hlocks (rfl) dX0_pointerTo_13
set_option maxHeartbeats 4000000 in
theorem cX_stateOf (l : Launch) (g : va_G) (x : XA) (d : XC) (S : XS) (a1 : Int32) (hu : XU S) : Met l yX0_stateOf (ws_ yX0_stateOf cX0_stateOf 4 (some .int)) ({ frames := 1, cells := 0, slots := 0, locals := 21 }) (RdC g (tX d) (wX x d S) [.ref x.1, .int a1]) (vp_Si (fun r => r = xst S a1)) 0 0 (fun _ => False) := by
  refine Met.ofW (cc := cX0_stateOf) (maxL := 4) (ret := (some .int)) (by decide) rfl ?_
  intro p e s m args below meth c s₁ B hml hv
  obtain ⟨rfl, hP, hK⟩ := hv
  have hx := B.exec
  have hb := B.bytes
  have hrt := B.returns
  have hlocks := B.notSynchronized
  have hts0 := atoms_spec (ws := ws_ yX0_stateOf cX0_stateOf 4 (some .int)) B.pre
  have hts : ∀ w ∈ lw_all, w.before ([.ref x.1, .int a1] : List Value).toArray s = true := fun w h => hts0 w (List.mem_cons_of_mem _ h)
  have hown : s.vm.findClass RX0 = some m.cls := findClass_of_methodNamed B.named
  have hF : CallFix p m c cX0_stateOf 4 s ([.ref x.1, .int a1] : List Value).toArray lw_all RX0 := ⟨hx, hb, hml, hown, hts⟩
  have hl := lv_entry ([.ref x.1, .int a1]) (n := 4) (Nat.le_of_ble_eq_true rfl)
  rw [lg_entry_eq]
  generalize (lg_sl ([.ref x.1, .int a1]) ++ List.replicate (4 - (lg_sl ([.ref x.1, .int a1])).length) Slot.unset).toArray = ls at hl ⊢
  have hl : lv_has ls 4 [(0, .ref x.1), (1, .int a1)] := hl
  refine lv_iload_n hx hb dX0_stateOf_0 rfl (lv_at hl 1 rfl) ?_
  refine lv_if_ne (tgt := 6) hx hb dX0_stateOf_1 (by decide) (fun c1 => ?_) (fun c1 => ?_)
  · refine lv_iload_n hx hb dX0_stateOf_6 rfl (lv_at hl 1 rfl) ?_
    refine lv_iconst (v := -1) hx hb dX0_stateOf_7 (by decide) ?_
    refine lv_icmp_ne (tgt := 13) hx hb dX0_stateOf_8 (by decide) (fun c2 => ?_) (fun c2 => ?_)
    · refine lv_iload_n hx hb dX0_stateOf_13 rfl (lv_at hl 1 rfl) ?_
      refine rd_S (As := [.int a1]) (rest := []) hF (cX_blockOf l a1) (va_cwS 1 hts (lw_S q72 q73 q14 q74) rfl rfl rfl (by decide +kernel) ⟨Nat.le_of_ble_eq_true rfl, Nat.le_of_ble_eq_true rfl⟩) rfl hl.1 rfl (Nat.le_of_ble_eq_true rfl) dX0_stateOf_14 ⟨Nat.zero_le _, Nat.zero_le _⟩ (fun r (hr : r = nI (kb a1)) => ?_)
      subst hr
      refine lv_istore_n (lv' := [(2, .int (nI (kb a1))), (0, .ref x.1), (1, .int a1)]) hx hb dX0_stateOf_17 rfl hl (by decide) rfl (fun ls hl => ?_)
      refine lv_aload_n hx hb dX0_stateOf_18 rfl (lv_at hl 1 rfl) ?_
      refine kg_u hF hK hP dX0_stateOf_19 ?_
      refine lv_iload_n hx hb dX0_stateOf_22 rfl (lv_at hl 0 rfl) ?_
      refine lv_ishr hx hb dX0_stateOf_23 ?_
      refine lv_iconst (v := 1) hx hb dX0_stateOf_24 (by decide) ?_
      refine lv_iand hx hb dX0_stateOf_25 ?_
      refine lv_if_eq (tgt := 42) hx hb dX0_stateOf_26 (by decide) (fun c3 => ?_) (fun c3 => ?_)
      · refine lv_iconst (v := 0) hx hb dX0_stateOf_42 (by decide) ?_
        refine lv_istore_n (lv' := [(3, .int 0), (2, .int (nI (kb a1))), (0, .ref x.1), (1, .int a1)]) hx hb dX0_stateOf_43 rfl hl (by decide) rfl (fun ls hl => ?_)
        refine lv_iload_n hx hb dX0_stateOf_44 rfl (lv_at hl 0 rfl) ?_
        refine lv_if_eq (tgt := 52) hx hb dX0_stateOf_45 (by decide) (fun _ => ?_) (fun c0 => absurd (rfl) c0)
        refine lv_iconst (v := 2) hx hb dX0_stateOf_52 (by decide) ?_
        exact rd_ret (a := #[]) hx hb hrt hlocks (by show (2 : Int32) = xst S a1; unfold xst; rw [if_neg c1, if_neg c2, if_pos (show bi (xu S) (kb a1) = 0 from c3)]) dX0_stateOf_53
      · have c3 : ¬ bi (xu S) (kb a1) = 0 := c3
        refine lv_iload_n hx hb dX0_stateOf_29 rfl (lv_at hl 2 rfl) ?_
        refine lv_aload_n hx hb dX0_stateOf_30 rfl (lv_at hl 1 rfl) ?_
        refine lv_iload_n hx hb dX0_stateOf_31 rfl (lv_at hl 0 rfl) ?_
        refine rd_V (ci := 0) (As := [.int (nI (kb a1))]) (rest := [.int a1]) hF (cX_pointerTo l g x d S (kb a1) (bi_lt6 hu (kb_lt a1) c3)) (cwV 1 hts (lw_V q56 q58 qs1 q14 q59) rfl rfl rfl (by decide +kernel) ⟨Nat.le_of_ble_eq_true rfl, Nat.le_of_ble_eq_true rfl⟩) hK hP rfl rfl rfl hl.1 rfl (Nat.le_of_ble_eq_true rfl) dX0_stateOf_32 ⟨Nat.zero_le _, Nat.zero_le _⟩ (fun r (hr : r = 1 + nI (kb a1) + 8 * xl S (kb a1)) => ?_)
        subst hr
        refine lv_icmp_ne (tgt := 42) hx hb dX0_stateOf_35 (by decide) (fun c4 => ?_) (fun c4 => ?_)
        · refine lv_iconst (v := 0) hx hb dX0_stateOf_42 (by decide) ?_
          refine lv_istore_n (lv' := [(3, .int 0), (2, .int (nI (kb a1))), (0, .ref x.1), (1, .int a1)]) hx hb dX0_stateOf_43 rfl hl (by decide) rfl (fun ls hl => ?_)
          refine lv_iload_n hx hb dX0_stateOf_44 rfl (lv_at hl 0 rfl) ?_
          refine lv_if_eq (tgt := 52) hx hb dX0_stateOf_45 (by decide) (fun _ => ?_) (fun c0 => absurd (rfl) c0)
          refine lv_iconst (v := 2) hx hb dX0_stateOf_52 (by decide) ?_
          exact rd_ret (a := #[]) hx hb hrt hlocks (by show (2 : Int32) = xst S a1; unfold xst; rw [if_neg c1, if_neg c2, if_neg c3, if_neg c4]) dX0_stateOf_53
        · refine lv_iconst (v := 1) hx hb dX0_stateOf_38 (by decide) ?_
          refine lv_goto (tgt := 43) hx hb dX0_stateOf_39 (by decide) ?_
          refine lv_istore_n (lv' := [(3, .int 1), (2, .int (nI (kb a1))), (0, .ref x.1), (1, .int a1)]) hx hb dX0_stateOf_43 rfl hl (by decide) rfl (fun ls hl => ?_)
          refine lv_iload_n hx hb dX0_stateOf_44 rfl (lv_at hl 0 rfl) ?_
          refine lv_if_eq (tgt := 52) hx hb dX0_stateOf_45 (by decide) (fun c0 => absurd c0 (by decide)) (fun _ => ?_)
          refine lv_iconst (v := 1) hx hb dX0_stateOf_48 (by decide) ?_
          refine lv_goto (tgt := 53) hx hb dX0_stateOf_49 (by decide) ?_
          exact rd_ret (a := #[]) hx hb hrt hlocks (by show (1 : Int32) = xst S a1; unfold xst; rw [if_neg c1, if_neg c2, if_neg c3, if_pos c4]) dX0_stateOf_53
    · refine lv_iconst (v := 2) hx hb dX0_stateOf_11 (by decide) ?_
      exact rd_ret (a := #[]) hx hb hrt hlocks (by show (2 : Int32) = xst S a1; unfold xst; rw [if_neg c1, if_pos c2]) dX0_stateOf_12
  · refine lv_iconst (v := 0) hx hb dX0_stateOf_4 (by decide) ?_
    exact rd_ret (a := #[]) hx hb hrt hlocks (by show (0 : Int32) = xst S a1; unfold xst; rw [if_pos c1]) dX0_stateOf_5
set_option maxHeartbeats 4000000 in
theorem cX_check (l : Launch) (g : va_G) (x : XA) (d : XC) (S : XS) (j : Nat) (hj : j < 8) (hu : XU S) : Met l yX0_check (ws_ yX0_check cX0_check 3 (some .int)) ({ frames := 2, cells := 0, slots := 0, locals := 44 }) (RdC g (tX d) (wX x d S) [.ref x.1, .int (nI j)]) (vp_Si (fun r => r = fl (xst S (xv S j)))) 0 0 (fun _ => False) := by
  refine Met.ofW (cc := cX0_check) (maxL := 3) (ret := (some .int)) (by decide) rfl ?_
  intro p e s m args below meth c s₁ B hml hv
  obtain ⟨rfl, hP, hK⟩ := hv
  have hx := B.exec
  have hb := B.bytes
  have hrt := B.returns
  have hlocks := B.notSynchronized
  have hts0 := atoms_spec (ws := ws_ yX0_check cX0_check 3 (some .int)) B.pre
  have hts : ∀ w ∈ lw_all, w.before ([.ref x.1, .int (nI j)] : List Value).toArray s = true := fun w h => hts0 w (List.mem_cons_of_mem _ h)
  have hown : s.vm.findClass RX0 = some m.cls := findClass_of_methodNamed B.named
  have hF : CallFix p m c cX0_check 3 s ([.ref x.1, .int (nI j)] : List Value).toArray lw_all RX0 := ⟨hx, hb, hml, hown, hts⟩
  have hl := lv_entry ([.ref x.1, .int (nI j)]) (n := 3) (Nat.le_of_ble_eq_true rfl)
  rw [lg_entry_eq]
  generalize (lg_sl ([.ref x.1, .int (nI j)]) ++ List.replicate (3 - (lg_sl ([.ref x.1, .int (nI j)])).length) Slot.unset).toArray = ls at hl ⊢
  have hl : lv_has ls 3 [(0, .ref x.1), (1, .int (nI j))] := hl
  refine lv_aload_n hx hb dX0_check_0 rfl (lv_at hl 0 rfl) ?_
  refine lv_aload_n hx hb dX0_check_1 rfl (lv_at hl 0 rfl) ?_
  refine kg_v hF hK hP dX0_check_2 ?_
  refine lv_iload_n hx hb dX0_check_5 rfl (lv_at hl 1 rfl) ?_
  refine kr_v hF hK hP (by omega) dX0_check_6 ?_
  refine rd_V (ci := 0) (As := [.int (xv S j)]) (rest := []) hF (cX_stateOf l g x d S (xv S j) hu) (cwV 1 hts (lw_V q68 q70 qs3 q14 q71) rfl rfl rfl (by decide +kernel) ⟨Nat.le_of_ble_eq_true rfl, Nat.le_of_ble_eq_true rfl⟩) hK hP rfl rfl rfl hl.1 rfl (Nat.le_of_ble_eq_true rfl) dX0_check_7 ⟨Nat.zero_le _, Nat.zero_le _⟩ (fun r (hr : r = xst S (xv S j)) => ?_)
  subst hr
  refine lv_istore_n (lv' := [(2, .int (xst S (xv S j))), (0, .ref x.1), (1, .int (nI j))]) hx hb dX0_check_10 rfl hl (by decide) rfl (fun ls hl => ?_)
  refine lv_iload_n hx hb dX0_check_11 rfl (lv_at hl 0 rfl) ?_
  refine lv_if_ne (tgt := 18) hx hb dX0_check_12 (by decide) (fun c1 => ?_) (fun c1 => ?_)
  · refine lv_iload_n hx hb dX0_check_18 rfl (lv_at hl 0 rfl) ?_
    refine lv_iconst (v := 2) hx hb dX0_check_19 (by decide) ?_
    refine lv_icmp_ne (tgt := 28) hx hb dX0_check_20 (by decide) (fun c2 => ?_) (fun c2 => ?_)
    · refine lv_iconst (v := 0) hx hb dX0_check_28 (by decide) ?_
      exact rd_ret (a := #[]) hx hb hrt hlocks (by show (0 : Int32) = fl (xst S (xv S j)); unfold fl; rw [if_neg c1, if_neg c2]) dX0_check_29
    · refine lv_bipush (v := -4) hx hb dX0_check_23 (by decide) ?_
      refine lv_goto (tgt := 29) hx hb dX0_check_25 (by decide) ?_
      exact rd_ret (a := #[]) hx hb hrt hlocks (by show (-4 : Int32) = fl (xst S (xv S j)); unfold fl; rw [if_neg c1, if_pos c2]) dX0_check_29
  · refine lv_bipush (v := -3) hx hb dX0_check_15 (by decide) ?_
    exact rd_ret (a := #[]) hx hb hrt hlocks (by show (-3 : Int32) = fl (xst S (xv S j)); unfold fl; rw [if_pos c1]) dX0_check_17
set_option maxHeartbeats 4000000 in
theorem cX_target (l : Launch) (g : va_G) (x : XA) (d : XC) (S : XS) (a1 : Int32) (hu : XU S) : Met l yX0_target (ws_ yX0_target cX0_target 2 (some .int)) ({ frames := 2, cells := 0, slots := 0, locals := 44 }) (RdC g (tX d) (wX x d S) [.ref x.1, .int a1]) (vp_Si (fun r => (xst S a1 = 1 ∧ r = (1 : Int32) <<< (nI (kb a1) &&& 31)) ∨ (¬ xst S a1 = 1 ∧ r = 0))) 0 0 (fun _ => False) := by
  refine Met.ofW (cc := cX0_target) (maxL := 2) (ret := (some .int)) (by decide) rfl ?_
  intro p e s m args below meth c s₁ B hml hv
  obtain ⟨rfl, hP, hK⟩ := hv
  have hx := B.exec
  have hb := B.bytes
  have hrt := B.returns
  have hlocks := B.notSynchronized
  have hts0 := atoms_spec (ws := ws_ yX0_target cX0_target 2 (some .int)) B.pre
  have hts : ∀ w ∈ lw_all, w.before ([.ref x.1, .int a1] : List Value).toArray s = true := fun w h => hts0 w (List.mem_cons_of_mem _ h)
  have hown : s.vm.findClass RX0 = some m.cls := findClass_of_methodNamed B.named
  have hF : CallFix p m c cX0_target 2 s ([.ref x.1, .int a1] : List Value).toArray lw_all RX0 := ⟨hx, hb, hml, hown, hts⟩
  have hl := lv_entry ([.ref x.1, .int a1]) (n := 2) (Nat.le_of_ble_eq_true rfl)
  rw [lg_entry_eq]
  generalize (lg_sl ([.ref x.1, .int a1]) ++ List.replicate (2 - (lg_sl ([.ref x.1, .int a1])).length) Slot.unset).toArray = ls at hl ⊢
  have hl : lv_has ls 2 [(0, .ref x.1), (1, .int a1)] := hl
  refine lv_aload_n hx hb dX0_target_0 rfl (lv_at hl 0 rfl) ?_
  refine lv_iload_n hx hb dX0_target_1 rfl (lv_at hl 1 rfl) ?_
  refine rd_V (ci := 0) (As := [.int a1]) (rest := []) hF (cX_stateOf l g x d S a1 hu) (cwV 1 hts (lw_V q68 q70 qs3 q14 q71) rfl rfl rfl (by decide +kernel) ⟨Nat.le_of_ble_eq_true rfl, Nat.le_of_ble_eq_true rfl⟩) hK hP rfl rfl rfl hl.1 rfl (Nat.le_of_ble_eq_true rfl) dX0_target_2 ⟨Nat.zero_le _, Nat.zero_le _⟩ (fun r (hr : r = xst S a1) => ?_)
  subst hr
  refine lv_iconst (v := 1) hx hb dX0_target_5 (by decide) ?_
  refine lv_icmp_ne (tgt := 18) hx hb dX0_target_6 (by decide) (fun c1 => ?_) (fun c1 => ?_)
  · refine lv_iconst (v := 0) hx hb dX0_target_18 (by decide) ?_
    exact rd_ret (a := #[]) hx hb hrt hlocks (Or.inr ⟨c1, rfl⟩) dX0_target_19
  · refine lv_iconst (v := 1) hx hb dX0_target_9 (by decide) ?_
    refine lv_iload_n hx hb dX0_target_10 rfl (lv_at hl 1 rfl) ?_
    refine rd_S (As := [.int a1]) (rest := [.int 1]) hF (cX_blockOf l a1) (va_cwS 1 hts (lw_S q72 q73 q14 q74) rfl rfl rfl (by decide +kernel) ⟨Nat.le_of_ble_eq_true rfl, Nat.le_of_ble_eq_true rfl⟩) rfl hl.1 rfl (Nat.le_of_ble_eq_true rfl) dX0_target_11 ⟨Nat.zero_le _, Nat.zero_le _⟩ (fun r (hr : r = nI (kb a1)) => ?_)
    subst hr
    refine lv_ishl hx hb dX0_target_14 ?_
    refine lv_goto (tgt := 19) hx hb dX0_target_15 (by decide) ?_
    exact rd_ret (a := #[]) hx hb hrt hlocks (Or.inl ⟨c1, rfl⟩) dX0_target_19
set_option maxHeartbeats 4000000 in
theorem cX_holds (l : Launch) (g : va_G) (x : XA) (d : XC) (S : XS) (v1 : Int32) (hu : XU S) : Met l yX0_holds (ws_ yX0_holds cX0_holds 2 (some .int)) ({ frames := 2, cells := 0, slots := 0, locals := 44 }) (RdC g (tX d) (wX x d S) [.ref x.1, .int v1]) (vp_Si (fun r => (∃ j, j < 8 ∧ v1 = nI j ∧ r = xst S (xv S j)) ∨ (¬ IsV v1 ∧ r = -1))) 0 0 (fun _ => False) := by
  refine Met.ofW (cc := cX0_holds) (maxL := 2) (ret := (some .int)) (by decide) rfl ?_
  intro p e s m args below meth c s₁ B hml hv
  obtain ⟨rfl, hP, hK⟩ := hv
  have hx := B.exec
  have hb := B.bytes
  have hrt := B.returns
  have hlocks := B.notSynchronized
  have hts0 := atoms_spec (ws := ws_ yX0_holds cX0_holds 2 (some .int)) B.pre
  have hts : ∀ w ∈ lw_all, w.before ([.ref x.1, .int v1] : List Value).toArray s = true := fun w h => hts0 w (List.mem_cons_of_mem _ h)
  have hown : s.vm.findClass RX0 = some m.cls := findClass_of_methodNamed B.named
  have hF : CallFix p m c cX0_holds 2 s ([.ref x.1, .int v1] : List Value).toArray lw_all RX0 := ⟨hx, hb, hml, hown, hts⟩
  have hl := lv_entry ([.ref x.1, .int v1]) (n := 2) (Nat.le_of_ble_eq_true rfl)
  rw [lg_entry_eq]
  generalize (lg_sl ([.ref x.1, .int v1]) ++ List.replicate (2 - (lg_sl ([.ref x.1, .int v1])).length) Slot.unset).toArray = ls at hl ⊢
  have hl : lv_has ls 2 [(0, .ref x.1), (1, .int v1)] := hl
  refine lv_iload_n hx hb dX0_holds_0 rfl (lv_at hl 1 rfl) ?_
  refine rd_S (As := [.int v1]) (rest := []) hF (cX_isVariable l v1) (va_cwS 1 hts (lw_S q49 q50 q14 q51) rfl rfl rfl (by decide +kernel) ⟨Nat.le_of_ble_eq_true rfl, Nat.le_of_ble_eq_true rfl⟩) rfl hl.1 rfl (Nat.le_of_ble_eq_true rfl) dX0_holds_1 ⟨Nat.zero_le _, Nat.zero_le _⟩ (fun r hr => ?_)
  rcases hr with ⟨rfl, j, hj, rfl⟩ | ⟨rfl, hnv1⟩
  · refine lv_if_eq (tgt := 20) hx hb dX0_holds_4 (by decide) (fun c0 => absurd c0 (by decide)) (fun _ => ?_)
    refine lv_aload_n hx hb dX0_holds_7 rfl (lv_at hl 0 rfl) ?_
    refine lv_aload_n hx hb dX0_holds_8 rfl (lv_at hl 0 rfl) ?_
    refine kg_v hF hK hP dX0_holds_9 ?_
    refine lv_iload_n hx hb dX0_holds_12 rfl (lv_at hl 1 rfl) ?_
    refine kr_v hF hK hP (by omega) dX0_holds_13 ?_
    refine rd_V (ci := 0) (As := [.int (xv S j)]) (rest := []) hF (cX_stateOf l g x d S (xv S j) hu) (cwV 1 hts (lw_V q68 q70 qs3 q14 q71) rfl rfl rfl (by decide +kernel) ⟨Nat.le_of_ble_eq_true rfl, Nat.le_of_ble_eq_true rfl⟩) hK hP rfl rfl rfl hl.1 rfl (Nat.le_of_ble_eq_true rfl) dX0_holds_14 ⟨Nat.zero_le _, Nat.zero_le _⟩ (fun r (hr : r = xst S (xv S j)) => ?_)
    subst hr
    refine lv_goto (tgt := 21) hx hb dX0_holds_17 (by decide) ?_
    exact rd_ret (a := #[]) hx hb hrt hlocks (Or.inl ⟨j, hj, rfl, rfl⟩) dX0_holds_21
  · refine lv_if_eq (tgt := 20) hx hb dX0_holds_4 (by decide) (fun _ => ?_) (fun c0 => absurd (rfl) c0)
    refine lv_iconst (v := -1) hx hb dX0_holds_20 (by decide) ?_
    exact rd_ret (a := #[]) hx hb hrt hlocks (Or.inr ⟨hnv1, rfl⟩) dX0_holds_21
set_option maxHeartbeats 4000000 in
theorem cX_number (l : Launch) (g : va_G) (x : XA) (d : XC) (S : XS) (v1 : Int32) (hu : XU S) : Met l yX0_number (ws_ yX0_number cX0_number 3 (some .int)) ({ frames := 2, cells := 0, slots := 0, locals := 44 }) (RdC g (tX d) (wX x d S) [.ref x.1, .int v1]) (vp_Si (fun r => (∃ j, j < 8 ∧ v1 = nI j ∧ ((xst S (xv S j) = 1 ∧ r = xn S (kb (xv S j))) ∨ (¬ xst S (xv S j) = 1 ∧ r = 0))) ∨ (¬ IsV v1 ∧ r = 0))) 0 0 (fun _ => False) := by
  refine Met.ofW (cc := cX0_number) (maxL := 3) (ret := (some .int)) (by decide) rfl ?_
  intro p e s m args below meth c s₁ B hml hv
  obtain ⟨rfl, hP, hK⟩ := hv
  have hx := B.exec
  have hb := B.bytes
  have hrt := B.returns
  have hlocks := B.notSynchronized
  have hts0 := atoms_spec (ws := ws_ yX0_number cX0_number 3 (some .int)) B.pre
  have hts : ∀ w ∈ lw_all, w.before ([.ref x.1, .int v1] : List Value).toArray s = true := fun w h => hts0 w (List.mem_cons_of_mem _ h)
  have hown : s.vm.findClass RX0 = some m.cls := findClass_of_methodNamed B.named
  have hF : CallFix p m c cX0_number 3 s ([.ref x.1, .int v1] : List Value).toArray lw_all RX0 := ⟨hx, hb, hml, hown, hts⟩
  have hl := lv_entry ([.ref x.1, .int v1]) (n := 3) (Nat.le_of_ble_eq_true rfl)
  rw [lg_entry_eq]
  generalize (lg_sl ([.ref x.1, .int v1]) ++ List.replicate (3 - (lg_sl ([.ref x.1, .int v1])).length) Slot.unset).toArray = ls at hl ⊢
  have hl : lv_has ls 3 [(0, .ref x.1), (1, .int v1)] := hl
  refine lv_iload_n hx hb dX0_number_0 rfl (lv_at hl 1 rfl) ?_
  refine rd_S (As := [.int v1]) (rest := []) hF (cX_isVariable l v1) (va_cwS 1 hts (lw_S q49 q50 q14 q51) rfl rfl rfl (by decide +kernel) ⟨Nat.le_of_ble_eq_true rfl, Nat.le_of_ble_eq_true rfl⟩) rfl hl.1 rfl (Nat.le_of_ble_eq_true rfl) dX0_number_1 ⟨Nat.zero_le _, Nat.zero_le _⟩ (fun r hr => ?_)
  rcases hr with ⟨rfl, j, hj, rfl⟩ | ⟨rfl, hnv1⟩
  · refine lv_if_eq (tgt := 21) hx hb dX0_number_4 (by decide) (fun c0 => absurd c0 (by decide)) (fun _ => ?_)
    refine lv_aload_n hx hb dX0_number_7 rfl (lv_at hl 0 rfl) ?_
    refine lv_aload_n hx hb dX0_number_8 rfl (lv_at hl 0 rfl) ?_
    refine kg_v hF hK hP dX0_number_9 ?_
    refine lv_iload_n hx hb dX0_number_12 rfl (lv_at hl 1 rfl) ?_
    refine kr_v hF hK hP (by omega) dX0_number_13 ?_
    refine rd_V (ci := 0) (As := [.int (xv S j)]) (rest := []) hF (cX_stateOf l g x d S (xv S j) hu) (cwV 1 hts (lw_V q68 q70 qs3 q14 q71) rfl rfl rfl (by decide +kernel) ⟨Nat.le_of_ble_eq_true rfl, Nat.le_of_ble_eq_true rfl⟩) hK hP rfl rfl rfl hl.1 rfl (Nat.le_of_ble_eq_true rfl) dX0_number_14 ⟨Nat.zero_le _, Nat.zero_le _⟩ (fun r (hr : r = xst S (xv S j)) => ?_)
    subst hr
    refine lv_iconst (v := 1) hx hb dX0_number_17 (by decide) ?_
    refine lv_icmp_eq (tgt := 23) hx hb dX0_number_18 (by decide) (fun c1 => ?_) (fun c1 => ?_)
    · have hk := xst_lt6 hu c1
      refine lv_aload_n hx hb dX0_number_23 rfl (lv_at hl 0 rfl) ?_
      refine kg_v hF hK hP dX0_number_24 ?_
      refine lv_iload_n hx hb dX0_number_27 rfl (lv_at hl 1 rfl) ?_
      refine kr_v hF hK hP (by omega) dX0_number_28 ?_
      refine rd_S (As := [.int (xv S j)]) (rest := []) hF (cX_blockOf l (xv S j)) (va_cwS 1 hts (lw_S q72 q73 q14 q74) rfl rfl rfl (by decide +kernel) ⟨Nat.le_of_ble_eq_true rfl, Nat.le_of_ble_eq_true rfl⟩) rfl hl.1 rfl (Nat.le_of_ble_eq_true rfl) dX0_number_29 ⟨Nat.zero_le _, Nat.zero_le _⟩ (fun r (hr : r = nI (kb (xv S j))) => ?_)
      subst hr
      refine lv_istore_n (lv' := [(2, .int (nI (kb (xv S j)))), (0, .ref x.1), (1, .int (nI j))]) hx hb dX0_number_32 rfl hl (by decide) rfl (fun ls hl => ?_)
      refine lv_aload_n hx hb dX0_number_33 rfl (lv_at hl 1 rfl) ?_
      refine kg_n hF hK hP dX0_number_34 ?_
      refine lv_iload_n hx hb dX0_number_37 rfl (lv_at hl 0 rfl) ?_
      refine kr_n hF hK hP (by omega) dX0_number_38 ?_
      exact rd_ret (a := #[]) hx hb hrt hlocks (Or.inl ⟨j, hj, rfl, Or.inl ⟨c1, rfl⟩⟩) dX0_number_39
    · refine lv_iconst (v := 0) hx hb dX0_number_21 (by decide) ?_
      exact rd_ret (a := #[]) hx hb hrt hlocks (Or.inl ⟨j, hj, rfl, Or.inr ⟨c1, rfl⟩⟩) dX0_number_22
  · refine lv_if_eq (tgt := 21) hx hb dX0_number_4 (by decide) (fun _ => ?_) (fun c0 => absurd (rfl) c0)
    refine lv_iconst (v := 0) hx hb dX0_number_21 (by decide) ?_
    exact rd_ret (a := #[]) hx hb hrt hlocks (Or.inr ⟨hnv1, rfl⟩) dX0_number_22
set_option maxHeartbeats 4000000 in
theorem cX_linkHolds (l : Launch) (g : va_G) (x : XA) (d : XC) (S : XS) (v1 : Int32) (k1 : Int32) (hu : XU S) : Met l yX0_linkHolds (ws_ yX0_linkHolds cX0_linkHolds 4 (some .int)) ({ frames := 2, cells := 0, slots := 0, locals := 44 }) (RdC g (tX d) (wX x d S) [.ref x.1, .int v1, .int k1]) (vp_Si (fun r => (∃ j e, j < 8 ∧ e < 2 ∧ v1 = nI j ∧ k1 = nI e ∧ ((xst S (xv S j) = 1 ∧ r = xst S (xk S (kb (xv S j) * 2 + e))) ∨ (¬ xst S (xv S j) = 1 ∧ r = -1))) ∨ (¬ (IsV v1 ∧ IsL k1) ∧ r = -1))) 0 0 (fun _ => False) := by
  refine Met.ofW (cc := cX0_linkHolds) (maxL := 4) (ret := (some .int)) (by decide) rfl ?_
  intro p e s m args below meth c s₁ B hml hv
  obtain ⟨rfl, hP, hK⟩ := hv
  have hx := B.exec
  have hb := B.bytes
  have hrt := B.returns
  have hlocks := B.notSynchronized
  have hts0 := atoms_spec (ws := ws_ yX0_linkHolds cX0_linkHolds 4 (some .int)) B.pre
  have hts : ∀ w ∈ lw_all, w.before ([.ref x.1, .int v1, .int k1] : List Value).toArray s = true := fun w h => hts0 w (List.mem_cons_of_mem _ h)
  have hown : s.vm.findClass RX0 = some m.cls := findClass_of_methodNamed B.named
  have hF : CallFix p m c cX0_linkHolds 4 s ([.ref x.1, .int v1, .int k1] : List Value).toArray lw_all RX0 := ⟨hx, hb, hml, hown, hts⟩
  have hl := lv_entry ([.ref x.1, .int v1, .int k1]) (n := 4) (Nat.le_of_ble_eq_true rfl)
  rw [lg_entry_eq]
  generalize (lg_sl ([.ref x.1, .int v1, .int k1]) ++ List.replicate (4 - (lg_sl ([.ref x.1, .int v1, .int k1])).length) Slot.unset).toArray = ls at hl ⊢
  have hl : lv_has ls 4 [(0, .ref x.1), (1, .int v1), (2, .int k1)] := hl
  refine lv_iload_n hx hb dX0_linkHolds_0 rfl (lv_at hl 1 rfl) ?_
  refine rd_S (As := [.int v1]) (rest := []) hF (cX_isVariable l v1) (va_cwS 1 hts (lw_S q49 q50 q14 q51) rfl rfl rfl (by decide +kernel) ⟨Nat.le_of_ble_eq_true rfl, Nat.le_of_ble_eq_true rfl⟩) rfl hl.1 rfl (Nat.le_of_ble_eq_true rfl) dX0_linkHolds_1 ⟨Nat.zero_le _, Nat.zero_le _⟩ (fun r hr => ?_)
  rcases hr with ⟨rfl, j, hj, rfl⟩ | ⟨rfl, hnv1⟩
  · refine lv_if_eq (tgt := 28) hx hb dX0_linkHolds_4 (by decide) (fun c0 => absurd c0 (by decide)) (fun _ => ?_)
    refine lv_iload_n hx hb dX0_linkHolds_7 rfl (lv_at hl 2 rfl) ?_
    refine rd_S (As := [.int k1]) (rest := []) hF (cX_isLink l k1) (va_cwS 1 hts (lw_S q99 q100 q14 q101) rfl rfl rfl (by decide +kernel) ⟨Nat.le_of_ble_eq_true rfl, Nat.le_of_ble_eq_true rfl⟩) rfl hl.1 rfl (Nat.le_of_ble_eq_true rfl) dX0_linkHolds_8 ⟨Nat.zero_le _, Nat.zero_le _⟩ (fun r hr => ?_)
    rcases hr with ⟨rfl, e, he, rfl⟩ | ⟨rfl, hnk1⟩
    · refine lv_if_eq (tgt := 28) hx hb dX0_linkHolds_11 (by decide) (fun c0 => absurd c0 (by decide)) (fun _ => ?_)
      refine lv_aload_n hx hb dX0_linkHolds_14 rfl (lv_at hl 0 rfl) ?_
      refine lv_aload_n hx hb dX0_linkHolds_15 rfl (lv_at hl 0 rfl) ?_
      refine kg_v hF hK hP dX0_linkHolds_16 ?_
      refine lv_iload_n hx hb dX0_linkHolds_19 rfl (lv_at hl 1 rfl) ?_
      refine kr_v hF hK hP (by omega) dX0_linkHolds_20 ?_
      refine rd_V (ci := 0) (As := [.int (xv S j)]) (rest := []) hF (cX_stateOf l g x d S (xv S j) hu) (cwV 1 hts (lw_V q68 q70 qs3 q14 q71) rfl rfl rfl (by decide +kernel) ⟨Nat.le_of_ble_eq_true rfl, Nat.le_of_ble_eq_true rfl⟩) hK hP rfl rfl rfl hl.1 rfl (Nat.le_of_ble_eq_true rfl) dX0_linkHolds_21 ⟨Nat.zero_le _, Nat.zero_le _⟩ (fun r (hr : r = xst S (xv S j)) => ?_)
      subst hr
      refine lv_iconst (v := 1) hx hb dX0_linkHolds_24 (by decide) ?_
      refine lv_icmp_eq (tgt := 30) hx hb dX0_linkHolds_25 (by decide) (fun c1 => ?_) (fun c1 => ?_)
      · have hk := xst_lt6 hu c1
        refine lv_aload_n hx hb dX0_linkHolds_30 rfl (lv_at hl 0 rfl) ?_
        refine kg_v hF hK hP dX0_linkHolds_31 ?_
        refine lv_iload_n hx hb dX0_linkHolds_34 rfl (lv_at hl 1 rfl) ?_
        refine kr_v hF hK hP (by omega) dX0_linkHolds_35 ?_
        refine rd_S (As := [.int (xv S j)]) (rest := []) hF (cX_blockOf l (xv S j)) (va_cwS 1 hts (lw_S q72 q73 q14 q74) rfl rfl rfl (by decide +kernel) ⟨Nat.le_of_ble_eq_true rfl, Nat.le_of_ble_eq_true rfl⟩) rfl hl.1 rfl (Nat.le_of_ble_eq_true rfl) dX0_linkHolds_36 ⟨Nat.zero_le _, Nat.zero_le _⟩ (fun r (hr : r = nI (kb (xv S j))) => ?_)
        subst hr
        refine lv_istore_n (lv' := [(3, .int (nI (kb (xv S j)))), (0, .ref x.1), (1, .int (nI j)), (2, .int (nI e))]) hx hb dX0_linkHolds_39 rfl hl (by decide) rfl (fun ls hl => ?_)
        refine lv_aload_n hx hb dX0_linkHolds_40 rfl (lv_at hl 1 rfl) ?_
        refine lv_aload_n hx hb dX0_linkHolds_41 rfl (lv_at hl 1 rfl) ?_
        refine kg_k hF hK hP dX0_linkHolds_42 ?_
        refine lv_iload_n hx hb dX0_linkHolds_45 rfl (lv_at hl 0 rfl) ?_
        refine lv_iconst (v := 2) hx hb dX0_linkHolds_46 (by decide) ?_
        refine lv_imul hx hb dX0_linkHolds_47 ?_
        refine lv_iload_n hx hb dX0_linkHolds_48 rfl (lv_at hl 3 rfl) ?_
        refine lv_iadd hx hb dX0_linkHolds_49 ?_
        refine lv_asi (w := nI (kb (xv S j) * 2 + e)) (by rw [show (2 : Int32) = nI 2 from rfl, pk_mul, nI_add]) ?_
        refine kr_k hF hK hP (by omega) dX0_linkHolds_50 ?_
        refine rd_V (ci := 0) (As := [.int (xk S (kb (xv S j) * 2 + e))]) (rest := []) hF (cX_stateOf l g x d S (xk S (kb (xv S j) * 2 + e)) hu) (cwV 1 hts (lw_V q68 q70 qs3 q14 q71) rfl rfl rfl (by decide +kernel) ⟨Nat.le_of_ble_eq_true rfl, Nat.le_of_ble_eq_true rfl⟩) hK hP rfl rfl rfl hl.1 rfl (Nat.le_of_ble_eq_true rfl) dX0_linkHolds_51 ⟨Nat.zero_le _, Nat.zero_le _⟩ (fun r (hr : r = xst S (xk S (kb (xv S j) * 2 + e))) => ?_)
        subst hr
        exact rd_ret (a := #[]) hx hb hrt hlocks (Or.inl ⟨j, e, hj, he, rfl, rfl, Or.inl ⟨c1, rfl⟩⟩) dX0_linkHolds_54
      · refine lv_iconst (v := -1) hx hb dX0_linkHolds_28 (by decide) ?_
        exact rd_ret (a := #[]) hx hb hrt hlocks (Or.inl ⟨j, e, hj, he, rfl, rfl, Or.inr ⟨c1, rfl⟩⟩) dX0_linkHolds_29
    · refine lv_if_eq (tgt := 28) hx hb dX0_linkHolds_11 (by decide) (fun _ => ?_) (fun c0 => absurd (rfl) c0)
      refine lv_iconst (v := -1) hx hb dX0_linkHolds_28 (by decide) ?_
      exact rd_ret (a := #[]) hx hb hrt hlocks (Or.inr ⟨fun h => hnk1 h.2, rfl⟩) dX0_linkHolds_29
  · refine lv_if_eq (tgt := 28) hx hb dX0_linkHolds_4 (by decide) (fun _ => ?_) (fun c0 => absurd (rfl) c0)
    refine lv_iconst (v := -1) hx hb dX0_linkHolds_28 (by decide) ?_
    exact rd_ret (a := #[]) hx hb hrt hlocks (Or.inr ⟨fun h => hnv1 h.1, rfl⟩) dX0_linkHolds_29
set_option maxHeartbeats 4000000 in
theorem cX_same (l : Launch) (g : va_G) (x : XA) (d : XC) (S : XS) (v1 : Int32) (w1 : Int32) (hu : XU S) : Met l yX0_same (ws_ yX0_same cX0_same 4 (some .boolean)) ({ frames := 2, cells := 0, slots := 0, locals := 44 }) (RdC g (tX d) (wX x d S) [.ref x.1, .int v1, .int w1]) (vp_Si (fun r => (∃ j i, j < 8 ∧ i < 8 ∧ v1 = nI j ∧ w1 = nI i ∧ ((¬ xst S (xv S j) = 2 ∧ xv S j = xv S i ∧ r = 1) ∨ (¬ (¬ xst S (xv S j) = 2 ∧ xv S j = xv S i) ∧ r = 0))) ∨ (¬ (IsV v1 ∧ IsV w1) ∧ r = 0))) 0 0 (fun _ => False) := by
  refine Met.ofW (cc := cX0_same) (maxL := 4) (ret := (some .boolean)) (by decide) rfl ?_
  intro p e s m args below meth c s₁ B hml hv
  obtain ⟨rfl, hP, hK⟩ := hv
  have hx := B.exec
  have hb := B.bytes
  have hrt := B.returns
  have hlocks := B.notSynchronized
  have hts0 := atoms_spec (ws := ws_ yX0_same cX0_same 4 (some .boolean)) B.pre
  have hts : ∀ w ∈ lw_all, w.before ([.ref x.1, .int v1, .int w1] : List Value).toArray s = true := fun w h => hts0 w (List.mem_cons_of_mem _ h)
  have hown : s.vm.findClass RX0 = some m.cls := findClass_of_methodNamed B.named
  have hF : CallFix p m c cX0_same 4 s ([.ref x.1, .int v1, .int w1] : List Value).toArray lw_all RX0 := ⟨hx, hb, hml, hown, hts⟩
  have hl := lv_entry ([.ref x.1, .int v1, .int w1]) (n := 4) (Nat.le_of_ble_eq_true rfl)
  rw [lg_entry_eq]
  generalize (lg_sl ([.ref x.1, .int v1, .int w1]) ++ List.replicate (4 - (lg_sl ([.ref x.1, .int v1, .int w1])).length) Slot.unset).toArray = ls at hl ⊢
  have hl : lv_has ls 4 [(0, .ref x.1), (1, .int v1), (2, .int w1)] := hl
  refine lv_iload_n hx hb dX0_same_0 rfl (lv_at hl 1 rfl) ?_
  refine rd_S (As := [.int v1]) (rest := []) hF (cX_isVariable l v1) (va_cwS 1 hts (lw_S q49 q50 q14 q51) rfl rfl rfl (by decide +kernel) ⟨Nat.le_of_ble_eq_true rfl, Nat.le_of_ble_eq_true rfl⟩) rfl hl.1 rfl (Nat.le_of_ble_eq_true rfl) dX0_same_1 ⟨Nat.zero_le _, Nat.zero_le _⟩ (fun r hr => ?_)
  rcases hr with ⟨rfl, j, hj, rfl⟩ | ⟨rfl, hnv1⟩
  · refine lv_if_eq (tgt := 14) hx hb dX0_same_4 (by decide) (fun c0 => absurd c0 (by decide)) (fun _ => ?_)
    refine lv_iload_n hx hb dX0_same_7 rfl (lv_at hl 2 rfl) ?_
    refine rd_S (As := [.int w1]) (rest := []) hF (cX_isVariable l w1) (va_cwS 1 hts (lw_S q49 q50 q14 q51) rfl rfl rfl (by decide +kernel) ⟨Nat.le_of_ble_eq_true rfl, Nat.le_of_ble_eq_true rfl⟩) rfl hl.1 rfl (Nat.le_of_ble_eq_true rfl) dX0_same_8 ⟨Nat.zero_le _, Nat.zero_le _⟩ (fun r hr => ?_)
    rcases hr with ⟨rfl, i, hi, rfl⟩ | ⟨rfl, hnw1⟩
    · refine lv_if_ne (tgt := 16) hx hb dX0_same_11 (by decide) (fun _ => ?_) (fun c0 => absurd c0 (by decide))
      refine lv_aload_n hx hb dX0_same_16 rfl (lv_at hl 0 rfl) ?_
      refine lv_aload_n hx hb dX0_same_17 rfl (lv_at hl 0 rfl) ?_
      refine kg_v hF hK hP dX0_same_18 ?_
      refine lv_iload_n hx hb dX0_same_21 rfl (lv_at hl 1 rfl) ?_
      refine kr_v hF hK hP (by omega) dX0_same_22 ?_
      refine rd_V (ci := 0) (As := [.int (xv S j)]) (rest := []) hF (cX_stateOf l g x d S (xv S j) hu) (cwV 1 hts (lw_V q68 q70 qs3 q14 q71) rfl rfl rfl (by decide +kernel) ⟨Nat.le_of_ble_eq_true rfl, Nat.le_of_ble_eq_true rfl⟩) hK hP rfl rfl rfl hl.1 rfl (Nat.le_of_ble_eq_true rfl) dX0_same_23 ⟨Nat.zero_le _, Nat.zero_le _⟩ (fun r (hr : r = xst S (xv S j)) => ?_)
      subst hr
      refine lv_iconst (v := 2) hx hb dX0_same_26 (by decide) ?_
      refine lv_icmp_eq (tgt := 34) hx hb dX0_same_27 (by decide) (fun c1 => ?_) (fun c1 => ?_)
      · refine lv_iconst (v := 0) hx hb dX0_same_34 (by decide) ?_
        refine lv_istore_n (lv' := [(3, .int 0), (0, .ref x.1), (1, .int (nI j)), (2, .int (nI i))]) hx hb dX0_same_35 rfl hl (by decide) rfl (fun ls hl => ?_)
        refine lv_iload_n hx hb dX0_same_36 rfl (lv_at hl 0 rfl) ?_
        refine lv_if_eq (tgt := 59) hx hb dX0_same_37 (by decide) (fun _ => ?_) (fun c0 => absurd (rfl) c0)
        refine lv_iconst (v := 0) hx hb dX0_same_59 (by decide) ?_
        exact rd_retz (a := #[]) hx hb hrt hlocks rfl (Or.inl ⟨j, i, hj, hi, rfl, rfl, Or.inr ⟨fun h => h.1 c1, rfl⟩⟩) dX0_same_60
      · refine lv_iconst (v := 1) hx hb dX0_same_30 (by decide) ?_
        refine lv_goto (tgt := 35) hx hb dX0_same_31 (by decide) ?_
        refine lv_istore_n (lv' := [(3, .int 1), (0, .ref x.1), (1, .int (nI j)), (2, .int (nI i))]) hx hb dX0_same_35 rfl hl (by decide) rfl (fun ls hl => ?_)
        refine lv_iload_n hx hb dX0_same_36 rfl (lv_at hl 0 rfl) ?_
        refine lv_if_eq (tgt := 59) hx hb dX0_same_37 (by decide) (fun c0 => absurd c0 (by decide)) (fun _ => ?_)
        refine lv_aload_n hx hb dX0_same_40 rfl (lv_at hl 1 rfl) ?_
        refine kg_v hF hK hP dX0_same_41 ?_
        refine lv_iload_n hx hb dX0_same_44 rfl (lv_at hl 2 rfl) ?_
        refine kr_v hF hK hP (by omega) dX0_same_45 ?_
        refine lv_aload_n hx hb dX0_same_46 rfl (lv_at hl 1 rfl) ?_
        refine kg_v hF hK hP dX0_same_47 ?_
        refine lv_iload_n hx hb dX0_same_50 rfl (lv_at hl 3 rfl) ?_
        refine kr_v hF hK hP (by omega) dX0_same_51 ?_
        refine lv_icmp_ne (tgt := 59) hx hb dX0_same_52 (by decide) (fun c2 => ?_) (fun c2 => ?_)
        · refine lv_iconst (v := 0) hx hb dX0_same_59 (by decide) ?_
          exact rd_retz (a := #[]) hx hb hrt hlocks rfl (Or.inl ⟨j, i, hj, hi, rfl, rfl, Or.inr ⟨fun h => c2 h.2, rfl⟩⟩) dX0_same_60
        · refine lv_iconst (v := 1) hx hb dX0_same_55 (by decide) ?_
          refine lv_goto (tgt := 60) hx hb dX0_same_56 (by decide) ?_
          exact rd_retz (a := #[]) hx hb hrt hlocks rfl (Or.inl ⟨j, i, hj, hi, rfl, rfl, Or.inl ⟨c1, c2, rfl⟩⟩) dX0_same_60
    · refine lv_if_ne (tgt := 16) hx hb dX0_same_11 (by decide) (fun c0 => absurd (rfl) c0) (fun _ => ?_)
      refine lv_iconst (v := 0) hx hb dX0_same_14 (by decide) ?_
      exact rd_retz (a := #[]) hx hb hrt hlocks rfl (Or.inr ⟨fun h => hnw1 h.2, rfl⟩) dX0_same_15
  · refine lv_if_eq (tgt := 14) hx hb dX0_same_4 (by decide) (fun _ => ?_) (fun c0 => absurd (rfl) c0)
    refine lv_iconst (v := 0) hx hb dX0_same_14 (by decide) ?_
    exact rd_retz (a := #[]) hx hb hrt hlocks rfl (Or.inr ⟨fun h => hnv1 h.1, rfl⟩) dX0_same_15
end
section
/-! sums, counts, and what six passes reach -/
set_option maxRecDepth 100000
def sI (f : Nat → Int32) : Nat → Int32
  | 0 => 0
  | n + 1 => sI f n + f n
def cB (p : Nat → Bool) : Nat → Nat
  | 0 => 0
  | n + 1 => cB p n + (if p n = true then 1 else 0)
theorem cB_le {p q : Nat → Bool} : ∀ (n : Nat), (∀ j, j < n → p j = true → q j = true) → cB p n ≤ cB q n
  | 0, _ => Nat.le_refl _
  | n + 1, h => by
    have h1 := cB_le n (fun j hj => h j (by omega))
    unfold cB
    by_cases hp : p n = true
    · rw [if_pos hp, if_pos (h n (by omega) hp)]; omega
    · rw [if_neg hp]; split <;> omega
theorem cB_lt {p q : Nat → Bool} {k : Nat} (hk1 : q k = true) (hk2 : p k = false) : ∀ (n : Nat), k < n → (∀ j, j < n → p j = true → q j = true) → cB p n < cB q n
  | 0, h, _ => absurd h (Nat.not_lt_zero _)
  | n + 1, hk, h => by
    unfold cB
    by_cases e : k = n
    · subst e
      have h1 := cB_le (p := p) (q := q) k (fun j hj => h j (by omega))
      rw [if_pos hk1, if_neg (by rw [hk2]; decide)]; omega
    · have h1 := cB_lt hk1 hk2 n (by omega) (fun j hj => h j (by omega))
      by_cases hp : p n = true
      · rw [if_pos hp, if_pos (h n (by omega) hp)]; omega
      · rw [if_neg hp]; split <;> omega
theorem cB_0 {p : Nat → Bool} : ∀ (n : Nat), cB p n = 0 → ∀ j, j < n → p j = false
  | 0, _, j, hj => absurd hj (Nat.not_lt_zero j)
  | n + 1, h, j, hj => by
    unfold cB at h
    by_cases hp : p n = true
    · rw [if_pos hp] at h; omega
    · by_cases e : j = n
      · subst e; exact Bool.eq_false_iff.mpr hp
      · exact cB_0 n (by omega) j (by omega)
theorem cB_n {p : Nat → Bool} : ∀ (n : Nat), cB p n ≤ n
  | 0 => Nat.le_refl _
  | n + 1 => by
    have := cB_n (p := p) n
    unfold cB
    split <;> omega
/-- all that can be come to is there, or one more for each pass -/
def PrC (Rc : Nat → Prop) (N : Nat) (p : Nat → Bool) (n : Nat) : Prop := (∀ b, b < N → Rc b → p b = true) ∨ n + 1 ≤ cB p N
theorem PrC.start {Rc : Nat → Prop} {N : Nat} {p : Nat → Bool} (h : (∀ b, b < N → p b = false) → ∀ b, b < N → Rc b → p b = true) : PrC Rc N p 0 := by
  rcases Nat.eq_zero_or_pos (cB p N) with e | e
  · exact Or.inl (h (cB_0 N e))
  · exact Or.inr e
theorem PrC.next {Rc : Nat → Prop} {N n : Nat} {p0 p1 : Nat → Bool} (h : PrC Rc N p0 n) (hs : ∀ b, b < N → p0 b = true → p1 b = true) (hc : (∀ b, b < N → p1 b = p0 b) → ∀ b, b < N → Rc b → p0 b = true) : PrC Rc N p1 (n + 1) := by
  rcases h with h | h
  · exact Or.inl (fun b hb hr => hs b hb (h b hb hr))
  · by_cases he : ∀ b, b < N → p1 b = p0 b
    · exact Or.inl (fun b hb hr => hs b hb (hc he b hb hr))
    · obtain ⟨k, hk⟩ := Classical.not_forall.mp he
      obtain ⟨hk, hne⟩ := Classical.not_imp.mp hk
      have h1 : p0 k = false := by
        cases e0 : p0 k with
        | false => rfl
        | true => exact absurd ((hs k hk e0).trans e0.symm) hne
      have h2 : p1 k = true := by
        cases e1 : p1 k with
        | true => rfl
        | false => exact absurd (e1.trans h1.symm) hne
      have := cB_lt h2 h1 N hk hs
      exact Or.inr (by omega)
theorem PrC.done {Rc : Nat → Prop} {N n : Nat} {p : Nat → Bool} (h : PrC Rc N p n) (hb : cB p N ≤ n) : ∀ b, b < N → Rc b → p b = true := by
  rcases h with h | h
  · exact h
  · omega
/-- the blocks that can be come to -/
def Rx (S : XS) (b : Nat) : Prop := ∀ P : Nat → Prop, (∀ i, i < 8 → xst S (xv S i) = 1 → P (kb (xv S i))) → (∀ i, i < 12 → P (i / 2) → xst S (xk S i) = 1 → P (kb (xk S i))) → P b
theorem Rx_base {S : XS} {i : Nat} (hi : i < 8) (h : xst S (xv S i) = 1) : Rx S (kb (xv S i)) := fun _ h1 _ => h1 i hi h
theorem Rx_step {S : XS} {i : Nat} (hi : i < 12) (hr : Rx S (i / 2)) (h : xst S (xk S i) = 1) : Rx S (kb (xk S i)) := fun P h1 h2 => h2 i hi (hr P h1 h2) h
def MkI (S : XS) (w : Nat) : Prop := w < 64 ∧ ∀ b, b < 6 → w.testBit b = true → Rx S b
def MkB (S : XS) (w i : Nat) : Prop := ∀ j, j < i → xst S (xv S j) = 1 → w.testBit (kb (xv S j)) = true
def MkL (S : XS) (w w1 i : Nat) : Prop := (∀ b, b < 6 → w.testBit b = true → w1.testBit b = true) ∧ ((∀ b, b < 6 → w1.testBit b = w.testBit b) → ∀ j, j < i → w.testBit (j / 2) = true → xst S (xk S j) = 1 → w.testBit (kb (xk S j)) = true)
theorem mkI_0 {S : XS} : MkI S 0 := ⟨by decide, fun b _ h => by rw [Nat.zero_testBit] at h; cases h⟩
theorem mkB_0 {S : XS} {w : Nat} : MkB S w 0 := fun j h => absurd h (Nat.not_lt_zero j)
theorem mkI_add {S : XS} {w c : Nat} (h : MkI S w) (hc : c < 6) (hr : Rx S c) : MkI S (w ||| 2 ^ c) := by
  refine ⟨(or_nat w h.1 c hc).2, fun b hb hq => ?_⟩
  rw [or_bit w h.1 c hc b hb, Bool.or_eq_true] at hq
  rcases hq with q | q
  · exact h.2 b hb q
  · rw [of_decide_eq_true q]; exact hr
theorem mkB_add {S : XS} {w i : Nat} (hu : XU S) (hI : MkI S w) (h : MkB S w i) (hl : xst S (xv S i) = 1) : MkB S (w ||| 2 ^ kb (xv S i)) (i + 1) := by
  intro j hj hq
  rw [or_bit w hI.1 _ (xst_lt6 hu hl) _ (xst_lt6 hu hq), Bool.or_eq_true]
  by_cases e : j = i
  · subst e; exact Or.inr (decide_eq_true rfl)
  · exact Or.inl (h j (by omega) hq)
theorem mkB_skip {S : XS} {w i : Nat} (h : MkB S w i) (hl : ¬ xst S (xv S i) = 1) : MkB S w (i + 1) := by
  intro j hj hq
  by_cases e : j = i
  · subst e; exact absurd hq hl
  · exact h j (by omega) hq
theorem mkL_0 {S : XS} {w : Nat} : MkL S w w 0 := ⟨fun _ _ h => h, fun _ j h => absurd h (Nat.not_lt_zero j)⟩
theorem mkL_no {S : XS} {w w1 i : Nat} (h : MkL S w w1 i) (hi : i < 12) (hb : w1.testBit (i / 2) = false) : MkL S w w1 (i + 1) := by
  refine ⟨h.1, fun he j hj h1 h2 => ?_⟩
  by_cases e : j = i
  · subst e
    have := h.1 _ (by omega) h1
    rw [hb] at this
    cases this
  · exact h.2 he j (by omega) h1 h2
theorem mkL_dead {S : XS} {w w1 i : Nat} (h : MkL S w w1 i) (hl : ¬ xst S (xk S i) = 1) : MkL S w w1 (i + 1) := by
  refine ⟨h.1, fun he j hj h1 h2 => ?_⟩
  by_cases e : j = i
  · subst e; exact absurd h2 hl
  · exact h.2 he j (by omega) h1 h2
theorem mkL_add {S : XS} {w w1 i : Nat} (hu : XU S) (hw : w1 < 64) (h : MkL S w w1 i) (hl : xst S (xk S i) = 1) : MkL S w (w1 ||| 2 ^ kb (xk S i)) (i + 1) := by
  have hc := xst_lt6 hu hl
  refine ⟨fun b hb hq => ?_, fun he j hj h1 h2 => ?_⟩
  · rw [or_bit w1 hw _ hc b hb, Bool.or_eq_true]
    exact Or.inl (h.1 b hb hq)
  · have he1 : ∀ b, b < 6 → w1.testBit b = w.testBit b := by
      intro b hb
      cases e0 : w.testBit b with
      | true => exact h.1 b hb e0
      | false =>
        have h3 := he b hb
        rw [or_bit w1 hw _ hc b hb, e0, Bool.or_eq_false_iff] at h3
        exact h3.1
    by_cases e : j = i
    · subst e
      rw [← he _ hc, or_bit w1 hw _ hc _ hc, Bool.or_eq_true]
      exact Or.inr (decide_eq_true rfl)
    · exact h.2 he1 j (by omega) h1 h2
theorem mkR_of {S : XS} {w : Nat} (hu : XU S) (hB : MkB S w 8) (hc : ∀ j, j < 12 → w.testBit (j / 2) = true → xst S (xk S j) = 1 → w.testBit (kb (xk S j)) = true) : ∀ b, b < 6 → Rx S b → w.testBit b = true :=
  fun b _ hr => hr (fun b => w.testBit b = true) (fun i hi h => hB i hi h) (fun i hi h1 h2 => hc i hi h1 h2)
theorem mkP_0 {S : XS} {w : Nat} (hu : XU S) (hB : MkB S w 8) : PrC (Rx S) 6 w.testBit 0 :=
  PrC.start (fun h0 => mkR_of hu hB (fun j hj h1 => by rw [h0 (j / 2) (by omega)] at h1; cases h1))
theorem mkB_mono {S : XS} {w w1 i : Nat} (hu : XU S) (hB : MkB S w i) (h : ∀ b, b < 6 → w.testBit b = true → w1.testBit b = true) : MkB S w1 i :=
  fun j hj hq => h _ (xst_lt6 hu hq) (hB j hj hq)
theorem mkP_1 {S : XS} {w w1 r : Nat} (hu : XU S) (hB : MkB S w 8) (hL : MkL S w w1 12) (h : PrC (Rx S) 6 w.testBit r) : PrC (Rx S) 6 w1.testBit (r + 1) :=
  h.next hL.1 (fun he => mkR_of hu hB (hL.2 he))
theorem mkP_6 {S : XS} {w : Nat} (hI : MkI S w) (h : PrC (Rx S) 6 w.testBit 6) : ∀ b, b < 6 → (w.testBit b = true ↔ Rx S b) :=
  fun b hb => ⟨hI.2 b hb, h.done (cB_n 6) b hb⟩
theorem bi_true {w b : Nat} (hw : w < 64) (hb : b < 6) (h : ¬ bi (nI w) b = 0) : w.testBit b = true := by
  rw [bi_nat w hw b (by omega)] at h
  cases e : w.testBit b with
  | true => rfl
  | false => rw [e] at h; exact absurd rfl h
theorem bi_false {w b : Nat} (hw : w < 64) (hb : b < 6) (h : bi (nI w) b = 0) : w.testBit b = false := by
  rw [bi_nat w hw b (by omega)] at h
  cases e : w.testBit b with
  | false => rfl
  | true => rw [e] at h; exact absurd h (by decide)
theorem sh2 : ∀ i, i < 12 → nI i >>> ((1 : Int32) &&& 31) = nI (i / 2) := by decide +kernel
end
section
/-! KeyHeap: the methods with loops that only read -/
set_option maxRecDepth 100000
set_option maxHeartbeats 4000000 in
theorem cX_sizeOf (l : Launch) (a1 : Int32)  : Met l yX0_sizeOf (ws_ yX0_sizeOf cX0_sizeOf 3 (some .int)) ({ frames := 0, cells := 0, slots := 0, locals := 0 }) (fun v _ => v = ([.int a1] : List Value).toArray) (vp_Si (fun r => r = sI (bi a1) 6)) 0 0 (fun _ => False) := by
  refine Met.ofW (cc := cX0_sizeOf) (maxL := 3) (ret := (some .int)) (by decide) rfl ?_
  intro p e s m args below meth c s₁ B hml hv
  subst hv
  have hx := B.exec
  have hb := B.bytes
  have hrt := B.returns
  have hlocks := B.notSynchronized
  have hts0 := atoms_spec (ws := ws_ yX0_sizeOf cX0_sizeOf 3 (some .int)) B.pre
  have hts : ∀ w ∈ lw_all, w.before ([.int a1] : List Value).toArray s = true := fun w h => hts0 w (List.mem_cons_of_mem _ h)
  have hown : s.vm.findClass RX0 = some m.cls := findClass_of_methodNamed B.named
  have hF : CallFix p m c cX0_sizeOf 3 s ([.int a1] : List Value).toArray lw_all RX0 := ⟨hx, hb, hml, hown, hts⟩
  have hl := lv_entry ([.int a1]) (n := 3) (Nat.le_of_ble_eq_true rfl)
  rw [lg_entry_eq]
  generalize (lg_sl ([.int a1]) ++ List.replicate (3 - (lg_sl ([.int a1])).length) Slot.unset).toArray = ls at hl ⊢
  have hl : lv_has ls 3 [(0, .int a1)] := hl
  have loop : ∀ (n : Nat) (i : Nat) (t : Int32), i + n = 6 → t = sI (bi a1) i → ∀ (ls : Array Slot), lv_has ls 3 [(0, .int a1), (1, .int t), (2, .int (nI i))] → W p l e (headSpec (ws_ yX0_sizeOf cX0_sizeOf 3 (some .int)) ({ frames := 0, cells := 0, slots := 0, locals := 0 })).room s m ([.int a1] : List Value).toArray below meth c s.heap [] 0 0 (MQ below (vp_Si (fun r => r = sI (bi a1) 6)) ([.int a1] : List Value).toArray s 0 0 (fun _ => False)) (F0 m 4 ls []) := by
    intro n
    induction n with
    | zero =>
      intro i t hi ht ls hl
      obtain rfl : i = 6 := by omega
      refine lv_iload_n hx hb dX0_sizeOf_4 rfl (lv_at hl 2 rfl) ?_
      refine lv_bipush (v := 6) hx hb dX0_sizeOf_5 (by decide) ?_
      refine lv_icmp_ge (tgt := 24) hx hb dX0_sizeOf_7 (by decide) (fun _ => ?_) (fun c0 => absurd (by decide) c0)
      refine lv_iload_n hx hb dX0_sizeOf_24 rfl (lv_at hl 1 rfl) ?_
      exact rd_ret (a := #[]) hx hb hrt hlocks (ht) dX0_sizeOf_25
    | succ n ih =>
      intro i t hi ht ls hl
      refine lv_iload_n hx hb dX0_sizeOf_4 rfl (lv_at hl 2 rfl) ?_
      refine lv_bipush (v := 6) hx hb dX0_sizeOf_5 (by decide) ?_
      refine lv_icmp_ge (tgt := 24) hx hb dX0_sizeOf_7 (by decide) (fun c0 => absurd c0 (nI_ge (a := i) (b := 6) (by omega) (by decide))) (fun _ => ?_)
      refine lv_iload_n hx hb dX0_sizeOf_10 rfl (lv_at hl 1 rfl) ?_
      refine lv_iload_n hx hb dX0_sizeOf_11 rfl (lv_at hl 0 rfl) ?_
      refine lv_iload_n hx hb dX0_sizeOf_12 rfl (lv_at hl 2 rfl) ?_
      refine lv_ishr hx hb dX0_sizeOf_13 ?_
      refine lv_iconst (v := 1) hx hb dX0_sizeOf_14 (by decide) ?_
      refine lv_iand hx hb dX0_sizeOf_15 ?_
      refine lv_iadd hx hb dX0_sizeOf_16 ?_
      refine lv_istore_n (lv' := [(1, .int (t + ((a1 >>> ((nI i) &&& 31)) &&& 1))), (0, .int a1), (2, .int (nI i))]) hx hb dX0_sizeOf_17 rfl hl (by decide) rfl (fun ls hl => ?_)
      refine lv_iinc (v := nI (i + 1)) (lv' := [(2, .int (nI (i + 1))), (1, .int (t + ((a1 >>> ((nI i) &&& 31)) &&& 1))), (0, .int a1)]) hx hb dX0_sizeOf_18 hl (k := 2) rfl (by exact nI_1 i) (by decide) rfl (fun ls hl => ?_)
      refine lv_goto (tgt := 4) hx hb dX0_sizeOf_21 (by decide) ?_
      exact ih (i + 1) _ (by omega) (by rw [ht]; rfl) ls (lv_sub hl [2, 1, 0] rfl)
  refine lv_iconst (v := 0) hx hb dX0_sizeOf_0 (by decide) ?_
  refine lv_istore_n (lv' := [(1, .int 0), (0, .int a1)]) hx hb dX0_sizeOf_1 rfl hl (by decide) rfl (fun ls hl => ?_)
  refine lv_iconst (v := 0) hx hb dX0_sizeOf_2 (by decide) ?_
  refine lv_istore_n (lv' := [(2, .int 0), (1, .int 0), (0, .int a1)]) hx hb dX0_sizeOf_3 rfl hl (by decide) rfl (fun ls hl => ?_)
  exact loop 6 0 0 (by omega) rfl ls (lv_sub hl [2, 1, 0] rfl)
set_option maxHeartbeats 4000000 in
theorem cX_live (l : Launch) (g : va_G) (x : XA) (d : XC) (S : XS)   : Met l yX0_live (ws_ yX0_live cX0_live 1 (some .int)) ({ frames := 1, cells := 0, slots := 0, locals := 22 }) (RdC g (tX d) (wX x d S) [.ref x.1]) (vp_Si (fun r => r = sI (bi (xu S)) 6)) 0 0 (fun _ => False) := by
  refine Met.ofW (cc := cX0_live) (maxL := 1) (ret := (some .int)) (by decide) rfl ?_
  intro p e s m args below meth c s₁ B hml hv
  obtain ⟨rfl, hP, hK⟩ := hv
  have hx := B.exec
  have hb := B.bytes
  have hrt := B.returns
  have hlocks := B.notSynchronized
  have hts0 := atoms_spec (ws := ws_ yX0_live cX0_live 1 (some .int)) B.pre
  have hts : ∀ w ∈ lw_all, w.before ([.ref x.1] : List Value).toArray s = true := fun w h => hts0 w (List.mem_cons_of_mem _ h)
  have hown : s.vm.findClass RX0 = some m.cls := findClass_of_methodNamed B.named
  have hF : CallFix p m c cX0_live 1 s ([.ref x.1] : List Value).toArray lw_all RX0 := ⟨hx, hb, hml, hown, hts⟩
  have hl := lv_entry ([.ref x.1]) (n := 1) (Nat.le_of_ble_eq_true rfl)
  rw [lg_entry_eq]
  generalize (lg_sl ([.ref x.1]) ++ List.replicate (1 - (lg_sl ([.ref x.1])).length) Slot.unset).toArray = ls at hl ⊢
  have hl : lv_has ls 1 [(0, .ref x.1)] := hl
  refine lv_aload_n hx hb dX0_live_0 rfl (lv_at hl 0 rfl) ?_
  refine kg_u hF hK hP dX0_live_1 ?_
  refine rd_S (As := [.int (xu S)]) (rest := []) hF (cX_sizeOf l (xu S)) (va_cwS 1 hts (lw_S q126 q127 q14 q128) rfl rfl rfl (by decide +kernel) ⟨Nat.le_of_ble_eq_true rfl, Nat.le_of_ble_eq_true rfl⟩) rfl hl.1 rfl (Nat.le_of_ble_eq_true rfl) dX0_live_4 ⟨Nat.zero_le _, Nat.zero_le _⟩ (fun r (hr : r = sI (bi (xu S)) 6) => ?_)
  exact rd_ret (a := #[]) hx hb hrt hlocks (hr) dX0_live_7
set_option maxHeartbeats 4000000 in
theorem cX_freeBlock (l : Launch) (g : va_G) (x : XA) (d : XC) (S : XS)  (ht : XT S) : Met l yX0_freeBlock (ws_ yX0_freeBlock cX0_freeBlock 3 (some .int)) ({ frames := 0, cells := 0, slots := 0, locals := 0 }) (RdC g (tX d) (wX x d S) [.ref x.1]) (vp_Si (fun r => (∃ b, b < 6 ∧ bi (xu S) b = 0 ∧ r = nI b) ∨ ((∀ b, b < 6 → ¬ bi (xu S) b = 0) ∧ r = -1))) 0 0 (fun _ => False) := by
  refine Met.ofW (cc := cX0_freeBlock) (maxL := 3) (ret := (some .int)) (by decide) rfl ?_
  intro p e s m args below meth c s₁ B hml hv
  obtain ⟨rfl, hP, hK⟩ := hv
  have hx := B.exec
  have hb := B.bytes
  have hrt := B.returns
  have hlocks := B.notSynchronized
  have hts0 := atoms_spec (ws := ws_ yX0_freeBlock cX0_freeBlock 3 (some .int)) B.pre
  have hts : ∀ w ∈ lw_all, w.before ([.ref x.1] : List Value).toArray s = true := fun w h => hts0 w (List.mem_cons_of_mem _ h)
  have hown : s.vm.findClass RX0 = some m.cls := findClass_of_methodNamed B.named
  have hF : CallFix p m c cX0_freeBlock 3 s ([.ref x.1] : List Value).toArray lw_all RX0 := ⟨hx, hb, hml, hown, hts⟩
  have hl := lv_entry ([.ref x.1]) (n := 3) (Nat.le_of_ble_eq_true rfl)
  rw [lg_entry_eq]
  generalize (lg_sl ([.ref x.1]) ++ List.replicate (3 - (lg_sl ([.ref x.1])).length) Slot.unset).toArray = ls at hl ⊢
  have hl : lv_has ls 3 [(0, .ref x.1)] := hl
  obtain ⟨t, ht, hte⟩ := ht
  have loop : ∀ (n : Nat) (i : Nat), i + n = 6 → (∀ q, q < i → ¬ bi (xu S) ((t + q) % 6) = 0) → ∀ (ls : Array Slot), lv_has ls 3 [(0, .ref x.1), (1, .int (nI i))] → W p l e (headSpec (ws_ yX0_freeBlock cX0_freeBlock 3 (some .int)) ({ frames := 0, cells := 0, slots := 0, locals := 0 })).room s m ([.ref x.1] : List Value).toArray below meth c s.heap [] 0 0 (MQ below (vp_Si (fun r => (∃ b, b < 6 ∧ bi (xu S) b = 0 ∧ r = nI b) ∨ ((∀ b, b < 6 → ¬ bi (xu S) b = 0) ∧ r = -1))) ([.ref x.1] : List Value).toArray s 0 0 (fun _ => False)) (F0 m 2 ls []) := by
    intro n
    induction n with
    | zero =>
      intro i hi hb2 ls hl
      obtain rfl : i = 6 := by omega
      refine lv_iload_n hx hb dX0_freeBlock_2 rfl (lv_at hl 1 rfl) ?_
      refine lv_bipush (v := 6) hx hb dX0_freeBlock_3 (by decide) ?_
      refine lv_icmp_ge (tgt := 37) hx hb dX0_freeBlock_5 (by decide) (fun _ => ?_) (fun c0 => absurd (by decide) c0)
      refine lv_iconst (v := -1) hx hb dX0_freeBlock_37 (by decide) ?_
      exact rd_ret (a := #[]) hx hb hrt hlocks (Or.inr ⟨fun b hb => by have h := hb2 ((b + 6 - t) % 6) (by omega); rw [show (t + (b + 6 - t) % 6) % 6 = b by omega] at h; exact h, rfl⟩) dX0_freeBlock_38
    | succ n ih =>
      intro i hi hb2 ls hl
      refine lv_iload_n hx hb dX0_freeBlock_2 rfl (lv_at hl 1 rfl) ?_
      refine lv_bipush (v := 6) hx hb dX0_freeBlock_3 (by decide) ?_
      refine lv_icmp_ge (tgt := 37) hx hb dX0_freeBlock_5 (by decide) (fun c0 => absurd c0 (nI_ge (a := i) (b := 6) (by omega) (by decide))) (fun _ => ?_)
      refine lv_aload_n hx hb dX0_freeBlock_8 rfl (lv_at hl 0 rfl) ?_
      refine kg_t hF hK hP dX0_freeBlock_9 ?_
      refine lv_asi (w := nI t) (hte) ?_
      refine lv_iload_n hx hb dX0_freeBlock_12 rfl (lv_at hl 1 rfl) ?_
      refine lv_iadd hx hb dX0_freeBlock_13 ?_
      refine lv_bipush (v := 6) hx hb dX0_freeBlock_14 (by decide) ?_
      refine lv_irem hx hb dX0_freeBlock_16 (by decide) ?_
      refine lv_asi (w := nI ((t + i) % 6)) (by rw [nI_add]; exact pk_rem (d := 6) (by omega) (by decide) (by decide)) ?_
      refine lv_istore_n (lv' := [(2, .int (nI ((t + i) % 6))), (0, .ref x.1), (1, .int (nI i))]) hx hb dX0_freeBlock_17 rfl hl (by decide) rfl (fun ls hl => ?_)
      refine lv_aload_n hx hb dX0_freeBlock_18 rfl (lv_at hl 1 rfl) ?_
      refine kg_u hF hK hP dX0_freeBlock_19 ?_
      refine lv_iload_n hx hb dX0_freeBlock_22 rfl (lv_at hl 0 rfl) ?_
      refine lv_ishr hx hb dX0_freeBlock_23 ?_
      refine lv_iconst (v := 1) hx hb dX0_freeBlock_24 (by decide) ?_
      refine lv_iand hx hb dX0_freeBlock_25 ?_
      refine lv_if_ne (tgt := 31) hx hb dX0_freeBlock_26 (by decide) (fun c1 => ?_) (fun c1 => ?_)
      · have c1 : ¬ bi (xu S) ((t + i) % 6) = 0 := c1
        refine lv_iinc (v := nI (i + 1)) (lv' := [(1, .int (nI (i + 1))), (2, .int (nI ((t + i) % 6))), (0, .ref x.1)]) hx hb dX0_freeBlock_31 hl (k := 2) rfl (by exact nI_1 i) (by decide) rfl (fun ls hl => ?_)
        refine lv_goto (tgt := 2) hx hb dX0_freeBlock_34 (by decide) ?_
        exact ih (i + 1) (by omega) (fun q hq => by rcases Nat.lt_succ_iff_lt_or_eq.mp hq with h | h; exact hb2 q h; rw [h]; exact c1) ls (lv_sub hl [2, 0] rfl)
      · refine lv_iload_n hx hb dX0_freeBlock_29 rfl (lv_at hl 0 rfl) ?_
        exact rd_ret (a := #[]) hx hb hrt hlocks (Or.inl ⟨(t + i) % 6, by omega, c1, rfl⟩) dX0_freeBlock_30
  refine lv_iconst (v := 0) hx hb dX0_freeBlock_0 (by decide) ?_
  refine lv_istore_n (lv' := [(1, .int 0), (0, .ref x.1)]) hx hb dX0_freeBlock_1 rfl hl (by decide) rfl (fun ls hl => ?_)
  exact loop 6 0 (by omega) (fun q hq => absurd hq (Nat.not_lt_zero q)) ls (lv_sub hl [1, 0] rfl)
set_option maxHeartbeats 4000000 in
theorem cX_total (l : Launch) (g : va_G) (x : XA) (d : XC) (S : XS)   : Met l yX0_total (ws_ yX0_total cX0_total 3 (some .int)) ({ frames := 0, cells := 0, slots := 0, locals := 0 }) (RdC g (tX d) (wX x d S) [.ref x.1]) (vp_Si (fun r => r = sI (fun b => if bi (xu S) b = 0 then 0 else xn S b) 6)) 0 0 (fun _ => False) := by
  refine Met.ofW (cc := cX0_total) (maxL := 3) (ret := (some .int)) (by decide) rfl ?_
  intro p e s m args below meth c s₁ B hml hv
  obtain ⟨rfl, hP, hK⟩ := hv
  have hx := B.exec
  have hb := B.bytes
  have hrt := B.returns
  have hlocks := B.notSynchronized
  have hts0 := atoms_spec (ws := ws_ yX0_total cX0_total 3 (some .int)) B.pre
  have hts : ∀ w ∈ lw_all, w.before ([.ref x.1] : List Value).toArray s = true := fun w h => hts0 w (List.mem_cons_of_mem _ h)
  have hown : s.vm.findClass RX0 = some m.cls := findClass_of_methodNamed B.named
  have hF : CallFix p m c cX0_total 3 s ([.ref x.1] : List Value).toArray lw_all RX0 := ⟨hx, hb, hml, hown, hts⟩
  have hl := lv_entry ([.ref x.1]) (n := 3) (Nat.le_of_ble_eq_true rfl)
  rw [lg_entry_eq]
  generalize (lg_sl ([.ref x.1]) ++ List.replicate (3 - (lg_sl ([.ref x.1])).length) Slot.unset).toArray = ls at hl ⊢
  have hl : lv_has ls 3 [(0, .ref x.1)] := hl
  have loop : ∀ (n : Nat) (i : Nat) (t : Int32), i + n = 6 → t = sI (fun b => if bi (xu S) b = 0 then 0 else xn S b) i → ∀ (ls : Array Slot), lv_has ls 3 [(0, .ref x.1), (1, .int t), (2, .int (nI i))] → W p l e (headSpec (ws_ yX0_total cX0_total 3 (some .int)) ({ frames := 0, cells := 0, slots := 0, locals := 0 })).room s m ([.ref x.1] : List Value).toArray below meth c s.heap [] 0 0 (MQ below (vp_Si (fun r => r = sI (fun b => if bi (xu S) b = 0 then 0 else xn S b) 6)) ([.ref x.1] : List Value).toArray s 0 0 (fun _ => False)) (F0 m 4 ls []) := by
    intro n
    induction n with
    | zero =>
      intro i t hi ht ls hl
      obtain rfl : i = 6 := by omega
      refine lv_iload_n hx hb dX0_total_4 rfl (lv_at hl 2 rfl) ?_
      refine lv_bipush (v := 6) hx hb dX0_total_5 (by decide) ?_
      refine lv_icmp_ge (tgt := 36) hx hb dX0_total_7 (by decide) (fun _ => ?_) (fun c0 => absurd (by decide) c0)
      refine lv_iload_n hx hb dX0_total_36 rfl (lv_at hl 1 rfl) ?_
      exact rd_ret (a := #[]) hx hb hrt hlocks (ht) dX0_total_37
    | succ n ih =>
      intro i t hi ht ls hl
      refine lv_iload_n hx hb dX0_total_4 rfl (lv_at hl 2 rfl) ?_
      refine lv_bipush (v := 6) hx hb dX0_total_5 (by decide) ?_
      refine lv_icmp_ge (tgt := 36) hx hb dX0_total_7 (by decide) (fun c0 => absurd c0 (nI_ge (a := i) (b := 6) (by omega) (by decide))) (fun _ => ?_)
      refine lv_aload_n hx hb dX0_total_10 rfl (lv_at hl 0 rfl) ?_
      refine kg_u hF hK hP dX0_total_11 ?_
      refine lv_iload_n hx hb dX0_total_14 rfl (lv_at hl 2 rfl) ?_
      refine lv_ishr hx hb dX0_total_15 ?_
      refine lv_iconst (v := 1) hx hb dX0_total_16 (by decide) ?_
      refine lv_iand hx hb dX0_total_17 ?_
      refine lv_if_eq (tgt := 30) hx hb dX0_total_18 (by decide) (fun c1 => ?_) (fun c1 => ?_)
      · refine lv_iinc (v := nI (i + 1)) (lv' := [(2, .int (nI (i + 1))), (0, .ref x.1), (1, .int t)]) hx hb dX0_total_30 hl (k := 2) rfl (by exact nI_1 i) (by decide) rfl (fun ls hl => ?_)
        refine lv_goto (tgt := 4) hx hb dX0_total_33 (by decide) ?_
        exact ih (i + 1) _ (by omega) (by rw [ht]; show _ = sI (fun b => if bi (xu S) b = 0 then 0 else xn S b) i + (if bi (xu S) i = 0 then 0 else xn S i); rw [if_pos (show bi (xu S) i = 0 from c1), Int32.add_zero]) ls (lv_sub hl [1, 2, 0] rfl)
      · refine lv_iload_n hx hb dX0_total_21 rfl (lv_at hl 1 rfl) ?_
        refine lv_aload_n hx hb dX0_total_22 rfl (lv_at hl 0 rfl) ?_
        refine kg_n hF hK hP dX0_total_23 ?_
        refine lv_iload_n hx hb dX0_total_26 rfl (lv_at hl 2 rfl) ?_
        refine kr_n hF hK hP (by omega) dX0_total_27 ?_
        refine lv_iadd hx hb dX0_total_28 ?_
        refine lv_istore_n (lv' := [(1, .int (t + (xn S i))), (0, .ref x.1), (2, .int (nI i))]) hx hb dX0_total_29 rfl hl (by decide) rfl (fun ls hl => ?_)
        refine lv_iinc (v := nI (i + 1)) (lv' := [(2, .int (nI (i + 1))), (1, .int (t + (xn S i))), (0, .ref x.1)]) hx hb dX0_total_30 hl (k := 2) rfl (by exact nI_1 i) (by decide) rfl (fun ls hl => ?_)
        refine lv_goto (tgt := 4) hx hb dX0_total_33 (by decide) ?_
        exact ih (i + 1) _ (by omega) (by rw [ht]; show _ = sI (fun b => if bi (xu S) b = 0 then 0 else xn S b) i + (if bi (xu S) i = 0 then 0 else xn S i); rw [if_neg (show ¬ bi (xu S) i = 0 from c1)]) ls (lv_sub hl [2, 1, 0] rfl)
  refine lv_iconst (v := 0) hx hb dX0_total_0 (by decide) ?_
  refine lv_istore_n (lv' := [(1, .int 0), (0, .ref x.1)]) hx hb dX0_total_1 rfl hl (by decide) rfl (fun ls hl => ?_)
  refine lv_iconst (v := 0) hx hb dX0_total_2 (by decide) ?_
  refine lv_istore_n (lv' := [(2, .int 0), (1, .int 0), (0, .ref x.1)]) hx hb dX0_total_3 rfl hl (by decide) rfl (fun ls hl => ?_)
  exact loop 6 0 0 (by omega) rfl ls (lv_sub hl [2, 1, 0] rfl)
set_option maxHeartbeats 4000000 in
theorem cX_mark (l : Launch) (g : va_G) (x : XA) (d : XC) (S : XS)  (hu : XU S) : Met l yX0_mark (ws_ yX0_mark cX0_mark 4 (some .int)) ({ frames := 3, cells := 0, slots := 0, locals := 65 }) (RdC g (tX d) (wX x d S) [.ref x.1]) (vp_Si (fun r => ∃ w, w < 64 ∧ (∀ b, b < 6 → (w.testBit b = true ↔ Rx S b)) ∧ r = nI w)) 0 0 (fun _ => False) := by
  refine Met.ofW (cc := cX0_mark) (maxL := 4) (ret := (some .int)) (by decide) rfl ?_
  intro p e s m args below meth c s₁ B hml hv
  obtain ⟨rfl, hP, hK⟩ := hv
  have hx := B.exec
  have hb := B.bytes
  have hrt := B.returns
  have hlocks := B.notSynchronized
  have hts0 := atoms_spec (ws := ws_ yX0_mark cX0_mark 4 (some .int)) B.pre
  have hts : ∀ w ∈ lw_all, w.before ([.ref x.1] : List Value).toArray s = true := fun w h => hts0 w (List.mem_cons_of_mem _ h)
  have hown : s.vm.findClass RX0 = some m.cls := findClass_of_methodNamed B.named
  have hF : CallFix p m c cX0_mark 4 s ([.ref x.1] : List Value).toArray lw_all RX0 := ⟨hx, hb, hml, hown, hts⟩
  have hl := lv_entry ([.ref x.1]) (n := 4) (Nat.le_of_ble_eq_true rfl)
  rw [lg_entry_eq]
  generalize (lg_sl ([.ref x.1]) ++ List.replicate (4 - (lg_sl ([.ref x.1])).length) Slot.unset).toArray = ls at hl ⊢
  have hl : lv_has ls 4 [(0, .ref x.1)] := hl
  have loop2 : ∀ (n : Nat) (r w : Nat), r + n = 6 → MkI S w → MkB S w 8 → PrC (Rx S) 6 w.testBit r → ∀ (ls : Array Slot), lv_has ls 4 [(0, .ref x.1), (1, .int (nI w)), (2, .int (nI r))] → W p l e (headSpec (ws_ yX0_mark cX0_mark 4 (some .int)) ({ frames := 3, cells := 0, slots := 0, locals := 65 })).room s m ([.ref x.1] : List Value).toArray below meth c s.heap [] 0 0 (MQ below (vp_Si (fun r => ∃ w, w < 64 ∧ (∀ b, b < 6 → (w.testBit b = true ↔ Rx S b)) ∧ r = nI w)) ([.ref x.1] : List Value).toArray s 0 0 (fun _ => False)) (F0 m 31 ls []) := by
    intro n
    induction n with
    | zero =>
      intro r w hr hI hB hp ls hl
      obtain rfl : r = 6 := by omega
      refine lv_iload_n hx hb dX0_mark_31 rfl (lv_at hl 2 rfl) ?_
      refine lv_bipush (v := 6) hx hb dX0_mark_32 (by decide) ?_
      refine lv_icmp_ge (tgt := 80) hx hb dX0_mark_34 (by decide) (fun _ => ?_) (fun c0 => absurd (by decide) c0)
      refine lv_iload_n hx hb dX0_mark_80 rfl (lv_at hl 1 rfl) ?_
      exact rd_ret (a := #[]) hx hb hrt hlocks (⟨w, hI.1, mkP_6 hI hp, rfl⟩) dX0_mark_81
    | succ n ih =>
      intro r w hr hI hB hp ls hl
      refine lv_iload_n hx hb dX0_mark_31 rfl (lv_at hl 2 rfl) ?_
      refine lv_bipush (v := 6) hx hb dX0_mark_32 (by decide) ?_
      refine lv_icmp_ge (tgt := 80) hx hb dX0_mark_34 (by decide) (fun c0 => absurd c0 (nI_ge (a := r) (b := 6) (by omega) (by decide))) (fun _ => ?_)
      refine lv_iconst (v := 0) hx hb dX0_mark_37 (by decide) ?_
      refine lv_istore_n (lv' := [(3, .int 0), (0, .ref x.1), (1, .int (nI w)), (2, .int (nI r))]) hx hb dX0_mark_38 rfl hl (by decide) rfl (fun ls hl => ?_)
      have loop3 : ∀ (n2 : Nat) (i w1 : Nat), i + n2 = 12 → MkI S w1 → MkL S w w1 i → ∀ (ls : Array Slot), lv_has ls 4 [(0, .ref x.1), (1, .int (nI w1)), (2, .int (nI r)), (3, .int (nI i))] → W p l e (headSpec (ws_ yX0_mark cX0_mark 4 (some .int)) ({ frames := 3, cells := 0, slots := 0, locals := 65 })).room s m ([.ref x.1] : List Value).toArray below meth c s.heap [] 0 0 (MQ below (vp_Si (fun r => ∃ w, w < 64 ∧ (∀ b, b < 6 → (w.testBit b = true ↔ Rx S b)) ∧ r = nI w)) ([.ref x.1] : List Value).toArray s 0 0 (fun _ => False)) (F0 m 39 ls []) := by
        intro n2
        induction n2 with
        | zero =>
          intro i w1 hi hI1 hL ls hl
          obtain rfl : i = 12 := by omega
          refine lv_iload_n hx hb dX0_mark_39 rfl (lv_at hl 3 rfl) ?_
          refine lv_bipush (v := 12) hx hb dX0_mark_40 (by decide) ?_
          refine lv_icmp_ge (tgt := 74) hx hb dX0_mark_42 (by decide) (fun _ => ?_) (fun c0 => absurd (by decide) c0)
          refine lv_iinc (v := nI (r + 1)) (lv' := [(2, .int (nI (r + 1))), (0, .ref x.1), (1, .int (nI w1)), (3, .int (nI 12))]) hx hb dX0_mark_74 hl (k := 2) rfl (by exact nI_1 r) (by decide) rfl (fun ls hl => ?_)
          refine lv_goto (tgt := 31) hx hb dX0_mark_77 (by decide) ?_
          exact ih (r + 1) w1 (by omega) hI1 (mkB_mono hu hB hL.1) (mkP_1 hu hB hL hp) ls (lv_sub hl [1, 2, 0] rfl)
        | succ n2 ih2 =>
          intro i w1 hi hI1 hL ls hl
          refine lv_iload_n hx hb dX0_mark_39 rfl (lv_at hl 3 rfl) ?_
          refine lv_bipush (v := 12) hx hb dX0_mark_40 (by decide) ?_
          refine lv_icmp_ge (tgt := 74) hx hb dX0_mark_42 (by decide) (fun c0 => absurd c0 (nI_ge (a := i) (b := 12) (by omega) (by decide))) (fun _ => ?_)
          refine lv_iload_n hx hb dX0_mark_45 rfl (lv_at hl 1 rfl) ?_
          refine lv_iload_n hx hb dX0_mark_46 rfl (lv_at hl 3 rfl) ?_
          refine lv_iconst (v := 1) hx hb dX0_mark_47 (by decide) ?_
          refine lv_ishr hx hb dX0_mark_48 ?_
          refine lv_asi (w := nI (i / 2)) (sh2 i (by omega)) ?_
          refine lv_ishr hx hb dX0_mark_49 ?_
          refine lv_iconst (v := 1) hx hb dX0_mark_50 (by decide) ?_
          refine lv_iand hx hb dX0_mark_51 ?_
          refine lv_if_eq (tgt := 68) hx hb dX0_mark_52 (by decide) (fun c1 => ?_) (fun c1 => ?_)
          · refine lv_iinc (v := nI (i + 1)) (lv' := [(3, .int (nI (i + 1))), (0, .ref x.1), (1, .int (nI w1)), (2, .int (nI r))]) hx hb dX0_mark_68 hl (k := 3) rfl (by exact nI_1 i) (by decide) rfl (fun ls hl => ?_)
            refine lv_goto (tgt := 39) hx hb dX0_mark_71 (by decide) ?_
            exact ih2 (i + 1) w1 (by omega) hI1 (mkL_no hL (by omega) (bi_false hI1.1 (by omega) c1)) ls (lv_sub hl [1, 2, 3, 0] rfl)
          · refine lv_iload_n hx hb dX0_mark_55 rfl (lv_at hl 1 rfl) ?_
            refine lv_aload_n hx hb dX0_mark_56 rfl (lv_at hl 0 rfl) ?_
            refine lv_aload_n hx hb dX0_mark_57 rfl (lv_at hl 0 rfl) ?_
            refine kg_k hF hK hP dX0_mark_58 ?_
            refine lv_iload_n hx hb dX0_mark_61 rfl (lv_at hl 3 rfl) ?_
            refine kr_k hF hK hP (by omega) dX0_mark_62 ?_
            refine rd_V (ci := 0) (As := [.int (xk S i)]) (rest := [.int (nI w1)]) hF (cX_target l g x d S (xk S i) hu) (cwV 1 hts (lw_V q137 q139 qs7 q14 q140) rfl rfl rfl (by decide +kernel) ⟨Nat.le_of_ble_eq_true rfl, Nat.le_of_ble_eq_true rfl⟩) hK hP rfl rfl rfl hl.1 rfl (Nat.le_of_ble_eq_true rfl) dX0_mark_63 ⟨Nat.zero_le _, Nat.zero_le _⟩ (fun r hr => ?_)
            rcases hr with ⟨hq, rfl⟩ | ⟨hq, rfl⟩
            · refine lv_ior hx hb dX0_mark_66 ?_
              have hc := xst_lt6 hu hq
              refine lv_asi (w := nI (w1 ||| 2 ^ kb (xk S i))) ((or_nat w1 hI1.1 _ hc).1) ?_
              refine lv_istore_n (lv' := [(1, .int (nI (w1 ||| 2 ^ kb (xk S i)))), (0, .ref x.1), (2, .int (nI r)), (3, .int (nI i))]) hx hb dX0_mark_67 rfl hl (by decide) rfl (fun ls hl => ?_)
              refine lv_iinc (v := nI (i + 1)) (lv' := [(3, .int (nI (i + 1))), (1, .int (nI (w1 ||| 2 ^ kb (xk S i)))), (0, .ref x.1), (2, .int (nI r))]) hx hb dX0_mark_68 hl (k := 3) rfl (by exact nI_1 i) (by decide) rfl (fun ls hl => ?_)
              refine lv_goto (tgt := 39) hx hb dX0_mark_71 (by decide) ?_
              exact ih2 (i + 1) _ (by omega) (mkI_add hI1 hc (Rx_step (by omega) (hI1.2 _ (by omega) (bi_true hI1.1 (by omega) c1)) hq)) (mkL_add hu hI1.1 hL hq) ls (lv_sub hl [2, 1, 3, 0] rfl)
            · refine lv_ior hx hb dX0_mark_66 ?_
              refine lv_asi (w := nI w1) (Int32.or_zero) ?_
              refine lv_istore_n (lv' := [(1, .int (nI w1)), (0, .ref x.1), (2, .int (nI r)), (3, .int (nI i))]) hx hb dX0_mark_67 rfl hl (by decide) rfl (fun ls hl => ?_)
              refine lv_iinc (v := nI (i + 1)) (lv' := [(3, .int (nI (i + 1))), (1, .int (nI w1)), (0, .ref x.1), (2, .int (nI r))]) hx hb dX0_mark_68 hl (k := 3) rfl (by exact nI_1 i) (by decide) rfl (fun ls hl => ?_)
              refine lv_goto (tgt := 39) hx hb dX0_mark_71 (by decide) ?_
              exact ih2 (i + 1) w1 (by omega) hI1 (mkL_dead hL hq) ls (lv_sub hl [2, 1, 3, 0] rfl)
      exact loop3 12 0 w (by omega) hI mkL_0 ls (lv_sub hl [1, 2, 3, 0] rfl)
  have loop1 : ∀ (n : Nat) (i w : Nat), i + n = 8 → MkI S w → MkB S w i → ∀ (ls : Array Slot), lv_has ls 4 [(0, .ref x.1), (1, .int (nI w)), (2, .int (nI i))] → W p l e (headSpec (ws_ yX0_mark cX0_mark 4 (some .int)) ({ frames := 3, cells := 0, slots := 0, locals := 65 })).room s m ([.ref x.1] : List Value).toArray below meth c s.heap [] 0 0 (MQ below (vp_Si (fun r => ∃ w, w < 64 ∧ (∀ b, b < 6 → (w.testBit b = true ↔ Rx S b)) ∧ r = nI w)) ([.ref x.1] : List Value).toArray s 0 0 (fun _ => False)) (F0 m 4 ls []) := by
    intro n
    induction n with
    | zero =>
      intro i w hi hI hB ls hl
      obtain rfl : i = 8 := by omega
      refine lv_iload_n hx hb dX0_mark_4 rfl (lv_at hl 2 rfl) ?_
      refine lv_bipush (v := 8) hx hb dX0_mark_5 (by decide) ?_
      refine lv_icmp_ge (tgt := 29) hx hb dX0_mark_7 (by decide) (fun _ => ?_) (fun c0 => absurd (by decide) c0)
      refine lv_iconst (v := 0) hx hb dX0_mark_29 (by decide) ?_
      refine lv_istore_n (lv' := [(2, .int 0), (0, .ref x.1), (1, .int (nI w))]) hx hb dX0_mark_30 rfl hl (by decide) rfl (fun ls hl => ?_)
      exact loop2 6 0 w (by omega) hI hB (mkP_0 hu hB) ls (lv_sub hl [1, 2, 0] rfl)
    | succ n ih =>
      intro i w hi hI hB ls hl
      refine lv_iload_n hx hb dX0_mark_4 rfl (lv_at hl 2 rfl) ?_
      refine lv_bipush (v := 8) hx hb dX0_mark_5 (by decide) ?_
      refine lv_icmp_ge (tgt := 29) hx hb dX0_mark_7 (by decide) (fun c0 => absurd c0 (nI_ge (a := i) (b := 8) (by omega) (by decide))) (fun _ => ?_)
      refine lv_iload_n hx hb dX0_mark_10 rfl (lv_at hl 1 rfl) ?_
      refine lv_aload_n hx hb dX0_mark_11 rfl (lv_at hl 0 rfl) ?_
      refine lv_aload_n hx hb dX0_mark_12 rfl (lv_at hl 0 rfl) ?_
      refine kg_v hF hK hP dX0_mark_13 ?_
      refine lv_iload_n hx hb dX0_mark_16 rfl (lv_at hl 2 rfl) ?_
      refine kr_v hF hK hP (by omega) dX0_mark_17 ?_
      refine rd_V (ci := 0) (As := [.int (xv S i)]) (rest := [.int (nI w)]) hF (cX_target l g x d S (xv S i) hu) (cwV 1 hts (lw_V q137 q139 qs7 q14 q140) rfl rfl rfl (by decide +kernel) ⟨Nat.le_of_ble_eq_true rfl, Nat.le_of_ble_eq_true rfl⟩) hK hP rfl rfl rfl hl.1 rfl (Nat.le_of_ble_eq_true rfl) dX0_mark_18 ⟨Nat.zero_le _, Nat.zero_le _⟩ (fun r hr => ?_)
      rcases hr with ⟨hq, rfl⟩ | ⟨hq, rfl⟩
      · refine lv_ior hx hb dX0_mark_21 ?_
        have hc := xst_lt6 hu hq
        refine lv_asi (w := nI (w ||| 2 ^ kb (xv S i))) ((or_nat w hI.1 _ hc).1) ?_
        refine lv_istore_n (lv' := [(1, .int (nI (w ||| 2 ^ kb (xv S i)))), (0, .ref x.1), (2, .int (nI i))]) hx hb dX0_mark_22 rfl hl (by decide) rfl (fun ls hl => ?_)
        refine lv_iinc (v := nI (i + 1)) (lv' := [(2, .int (nI (i + 1))), (1, .int (nI (w ||| 2 ^ kb (xv S i)))), (0, .ref x.1)]) hx hb dX0_mark_23 hl (k := 2) rfl (by exact nI_1 i) (by decide) rfl (fun ls hl => ?_)
        refine lv_goto (tgt := 4) hx hb dX0_mark_26 (by decide) ?_
        exact ih (i + 1) _ (by omega) (mkI_add hI hc (Rx_base (by omega) hq)) (mkB_add hu hI hB hq) ls (lv_sub hl [2, 1, 0] rfl)
      · refine lv_ior hx hb dX0_mark_21 ?_
        refine lv_asi (w := nI w) (Int32.or_zero) ?_
        refine lv_istore_n (lv' := [(1, .int (nI w)), (0, .ref x.1), (2, .int (nI i))]) hx hb dX0_mark_22 rfl hl (by decide) rfl (fun ls hl => ?_)
        refine lv_iinc (v := nI (i + 1)) (lv' := [(2, .int (nI (i + 1))), (1, .int (nI w)), (0, .ref x.1)]) hx hb dX0_mark_23 hl (k := 2) rfl (by exact nI_1 i) (by decide) rfl (fun ls hl => ?_)
        refine lv_goto (tgt := 4) hx hb dX0_mark_26 (by decide) ?_
        exact ih (i + 1) w (by omega) hI (mkB_skip hB hq) ls (lv_sub hl [2, 1, 0] rfl)
  refine lv_iconst (v := 0) hx hb dX0_mark_0 (by decide) ?_
  refine lv_istore_n (lv' := [(1, .int 0), (0, .ref x.1)]) hx hb dX0_mark_1 rfl hl (by decide) rfl (fun ls hl => ?_)
  refine lv_iconst (v := 0) hx hb dX0_mark_2 (by decide) ?_
  refine lv_istore_n (lv' := [(2, .int 0), (1, .int 0), (0, .ref x.1)]) hx hb dX0_mark_3 rfl hl (by decide) rfl (fun ls hl => ?_)
  exact loop1 8 0 0 (by omega) mkI_0 mkB_0 ls (lv_sub hl [2, 1, 0] rfl)
set_option maxHeartbeats 4000000 in
theorem cX_reached (l : Launch) (g : va_G) (x : XA) (d : XC) (S : XS)  (hu : XU S) : Met l yX0_reached (ws_ yX0_reached cX0_reached 2 (some .int)) ({ frames := 4, cells := 0, slots := 0, locals := 88 }) (RdC g (tX d) (wX x d S) [.ref x.1]) (vp_Si (fun r => ∃ w, w < 64 ∧ (∀ b, b < 6 → (w.testBit b = true ↔ Rx S b)) ∧ r = sI (bi (nI w)) 6)) 0 0 (fun _ => False) := by
  refine Met.ofW (cc := cX0_reached) (maxL := 2) (ret := (some .int)) (by decide) rfl ?_
  intro p e s m args below meth c s₁ B hml hv
  obtain ⟨rfl, hP, hK⟩ := hv
  have hx := B.exec
  have hb := B.bytes
  have hrt := B.returns
  have hlocks := B.notSynchronized
  have hts0 := atoms_spec (ws := ws_ yX0_reached cX0_reached 2 (some .int)) B.pre
  have hts : ∀ w ∈ lw_all, w.before ([.ref x.1] : List Value).toArray s = true := fun w h => hts0 w (List.mem_cons_of_mem _ h)
  have hown : s.vm.findClass RX0 = some m.cls := findClass_of_methodNamed B.named
  have hF : CallFix p m c cX0_reached 2 s ([.ref x.1] : List Value).toArray lw_all RX0 := ⟨hx, hb, hml, hown, hts⟩
  have hl := lv_entry ([.ref x.1]) (n := 2) (Nat.le_of_ble_eq_true rfl)
  rw [lg_entry_eq]
  generalize (lg_sl ([.ref x.1]) ++ List.replicate (2 - (lg_sl ([.ref x.1])).length) Slot.unset).toArray = ls at hl ⊢
  have hl : lv_has ls 2 [(0, .ref x.1)] := hl
  refine lv_aload_n hx hb dX0_reached_0 rfl (lv_at hl 0 rfl) ?_
  refine rd_V (ci := 0) (As := []) (rest := []) hF (cX_mark l g x d S hu) (cwV 0 hts (lw_V q133 q135 qs6 q14 q136) rfl rfl rfl (by decide +kernel) ⟨Nat.le_of_ble_eq_true rfl, Nat.le_of_ble_eq_true rfl⟩) hK hP rfl rfl rfl hl.1 rfl (Nat.le_of_ble_eq_true rfl) dX0_reached_1 ⟨Nat.zero_le _, Nat.zero_le _⟩ (fun r hr => ?_)
  obtain ⟨w, hw, hR, rfl⟩ := hr
  refine lv_istore_n (lv' := [(1, .int (nI w)), (0, .ref x.1)]) hx hb dX0_reached_4 rfl hl (by decide) rfl (fun ls hl => ?_)
  refine lv_iload_n hx hb dX0_reached_5 rfl (lv_at hl 0 rfl) ?_
  refine rd_S (As := [.int (nI w)]) (rest := []) hF (cX_sizeOf l (nI w)) (va_cwS 1 hts (lw_S q126 q127 q14 q128) rfl rfl rfl (by decide +kernel) ⟨Nat.le_of_ble_eq_true rfl, Nat.le_of_ble_eq_true rfl⟩) rfl hl.1 rfl (Nat.le_of_ble_eq_true rfl) dX0_reached_6 ⟨Nat.zero_le _, Nat.zero_le _⟩ (fun r (hr : r = sI (bi (nI w)) 6) => ?_)
  exact rd_ret (a := #[]) hx hb hrt hlocks (⟨w, hw, hR, hr⟩) dX0_reached_9
end
section
/-! what KeyHeap's writing methods do to its words -/
set_option maxRecDepth 100000
/-- old pointers to block b are marked, in the first n places -/
def rt (f : Nat → Int32) (b n : Nat) : Nat → Int32 := fun j => if j < n ∧ 0 < f j ∧ kb (f j) = b then -1 else f j
theorem rt_at {f : Nat → Int32} {b i : Nat} : rt f b i i = f i := if_neg (fun h => Nat.lt_irrefl i h.1)
theorem rt_0 {f : Nat → Int32} {b : Nat} : rt f b 0 = f := funext fun j => if_neg (fun h => Nat.not_lt_zero j h.1)
theorem rt_miss {f : Nat → Int32} {b i : Nat} (h : ¬ (0 < f i ∧ kb (f i) = b)) : rt f b i = rt f b (i + 1) := by
  funext j
  unfold rt
  by_cases e : j = i
  · subst e; rw [if_neg (fun q => Nat.lt_irrefl j q.1), if_neg (fun q => h q.2)]
  · by_cases hj : j < i
    · by_cases hc : 0 < f j ∧ kb (f j) = b
      · rw [if_pos ⟨hj, hc⟩, if_pos ⟨by omega, hc⟩]
      · rw [if_neg (fun q => hc q.2), if_neg (fun q => hc q.2)]
    · rw [if_neg (fun q => hj q.1), if_neg (fun q => by omega)]
theorem rt_hit {f : Nat → Int32} {b i : Nat} (h1 : 0 < f i) (h2 : kb (f i) = b) : upd (rt f b i) i (nb (-1)) = rt f b (i + 1) := by
  funext j
  unfold upd
  by_cases e : j = i
  · subst e
    rw [if_pos rfl]
    unfold rt
    rw [if_pos ⟨by omega, h1, h2⟩]
    decide
  · rw [if_neg e]
    unfold rt
    by_cases hj : j < i
    · by_cases hc : 0 < f j ∧ kb (f j) = b
      · rw [if_pos ⟨hj, hc⟩, if_pos ⟨by omega, hc⟩]
      · rw [if_neg (fun q => hc q.2), if_neg (fun q => hc q.2)]
    · rw [if_neg (fun q => hj q.1), if_neg (fun q => by omega)]
/-- a block is taken out of use -/
def cu (u : Int32) (b : Nat) : Int32 := u &&& (((1 : Int32) <<< (nI b &&& 31)) ^^^ (-1))
def relA (S : XS) (b : Nat) : XS := (xv S, cu (xu S) b, upd (xl S) b (nb (nb (xl S b + 1))), xn S, xk S, xt S)
def relB (S : XS) (b : Nat) : XS := (rt (xv S) b 8, cu (xu S) b, upd (xl S) b (nb 0), xn S, rt (xk S) b 12, xt S)
def relF (S : XS) (b : Nat) : XS := if 3 ≤ xl S b then relB S b else relA S b
/-- a record is put into block b, variable j points to it -/
def mkF (S : XS) (j b : Nat) (n : Int32) : XS := (upd (xv S) j (nb (nb (1 + nI b + 8 * xl S b))), xu S ||| ((1 : Int32) <<< (nI b &&& 31)), xl S, upd (xn S) b n, upd (upd (xk S) (b * 2) (nb 0)) (b * 2 + 1) (nb 0), nI ((b + 1) % 6))
/-- all blocks of a set are taken out of use, the first n -/
def swF (lo : Int32) (S : XS) : Nat → XS
  | 0 => S
  | n + 1 => if bi lo n = 0 then swF lo S n else relF (swF lo S n) n
end
section
/-! KeyHeap: the methods that write -/
set_option maxRecDepth 100000
set_option maxHeartbeats 4000000 in
theorem cX_setNil (l : Launch) (g : va_G) (x : XA) (d : XC) (S : XS) (sz : Nat) (v1 : Int32)  : Met l yX0_setNil (ws_ yX0_setNil cX0_setNil 2 (some .int)) ({ frames := 1, cells := 0, slots := 0, locals := 20 }) (WrC g (tX d) (wX x d S) sz [.ref x.1, .int v1]) (va_Qi (fun r T => (∃ j, j < 8 ∧ v1 = nI j ∧ r = 0 ∧ T = sv_ S (upd (xv S) j (nb 0))) ∨ (¬ IsV v1 ∧ r = -1 ∧ T = S)) (WB g (tX d) (wX x d) (va_A (wX x d S) sz)) (va_A (wX x d S) sz)) 0 0 (va_A (wX x d S) sz) := by
  refine Met.ofW (cc := cX0_setNil) (maxL := 2) (ret := (some .int)) (by decide) rfl ?_
  intro p e s m args below meth c s₁ B hml hv
  obtain ⟨rfl, hsz, hP, hK, hD0⟩ := hv
  have hx := B.exec
  have hb := B.bytes
  have hrt := B.returns
  have hlocks := B.notSynchronized
  have hts0 := atoms_spec (ws := ws_ yX0_setNil cX0_setNil 2 (some .int)) B.pre
  have hts : ∀ w ∈ lw_all, w.before ([.ref x.1, .int v1] : List Value).toArray s = true := fun w h => hts0 w (List.mem_cons_of_mem _ h)
  have hown : s.vm.findClass RX0 = some m.cls := findClass_of_methodNamed B.named
  have hF : CallFix p m c cX0_setNil 2 s ([.ref x.1, .int v1] : List Value).toArray lw_all RX0 := ⟨hx, hb, hml, hown, hts⟩
  subst hsz
  have hD := hD0.self (sz := s.heap.size)
  generalize hAe : va_A (wX x d S) s.heap.size = A at hD ⊢
  have hA : ∀ q : Nat, s.heap.size ≤ q → A q := fun q h => by rw [← hAe]; exact Or.inr h
  have hS : va_S A s.heap s.heap [] := va_S.rf
  have hl := lv_entry ([.ref x.1, .int v1]) (n := 2) (Nat.le_of_ble_eq_true rfl)
  rw [lg_entry_eq]
  generalize (lg_sl ([.ref x.1, .int v1]) ++ List.replicate (2 - (lg_sl ([.ref x.1, .int v1])).length) Slot.unset).toArray = ls at hl ⊢
  have hl : lv_has ls 2 [(0, .ref x.1), (1, .int v1)] := hl
  try dsimp only at hP
  refine lv_iload_n hx hb dX0_setNil_0 rfl (lv_at hl 1 rfl) ?_
  refine rd_S (As := [.int v1]) (rest := []) hF (cX_isVariable l v1) (va_cwS 1 hts (lw_S q49 q50 q14 q51) rfl rfl rfl (by decide +kernel) ⟨Nat.le_of_ble_eq_true rfl, Nat.le_of_ble_eq_true rfl⟩) rfl hl.1 rfl (Nat.le_of_ble_eq_true rfl) dX0_setNil_1 ⟨Nat.zero_le _, Nat.zero_le _⟩ (fun r hr => ?_)
  rcases hr with ⟨rfl, j, hj, rfl⟩ | ⟨rfl, hnv1⟩
  · refine lv_if_ne (tgt := 9) hx hb dX0_setNil_4 (by decide) (fun _ => ?_) (fun c0 => absurd c0 (by decide))
    refine lv_aload_n hx hb dX0_setNil_9 rfl (lv_at hl 0 rfl) ?_
    refine kg_v hF hK hP dX0_setNil_10 ?_
    refine lv_iload_n hx hb dX0_setNil_13 rfl (lv_at hl 1 rfl) ?_
    refine lv_iconst (v := 0) hx hb dX0_setNil_14 (by decide) ?_
    refine kw_v hF hK hP hD hS (by omega) dX0_setNil_15 (fun H locs hP hD hS => ?_)
    refine lv_iconst (v := 0) hx hb dX0_setNil_16 (by decide) ?_
    exact wr_ret (wf := wX x d) (u := (sv_ S (upd (xv S) j (nb 0)))) hx hb hrt hlocks hK hP hD hS (Or.inl ⟨j, hj, rfl, rfl, rfl⟩) dX0_setNil_17
  · refine lv_if_ne (tgt := 9) hx hb dX0_setNil_4 (by decide) (fun c0 => absurd (rfl) c0) (fun _ => ?_)
    refine lv_iconst (v := -1) hx hb dX0_setNil_7 (by decide) ?_
    exact wr_ret (wf := wX x d) (u := S) hx hb hrt hlocks hK hP hD hS (Or.inr ⟨hnv1, rfl, rfl⟩) dX0_setNil_8
set_option maxHeartbeats 4000000 in
theorem cX_copy (l : Launch) (g : va_G) (x : XA) (d : XC) (S : XS) (sz : Nat) (v1 : Int32) (w1 : Int32)  : Met l yX0_copy (ws_ yX0_copy cX0_copy 3 (some .int)) ({ frames := 1, cells := 0, slots := 0, locals := 20 }) (WrC g (tX d) (wX x d S) sz [.ref x.1, .int v1, .int w1]) (va_Qi (fun r T => (∃ j i, j < 8 ∧ i < 8 ∧ v1 = nI j ∧ w1 = nI i ∧ r = 0 ∧ T = sv_ S (upd (xv S) j (nb (xv S i)))) ∨ (¬ (IsV v1 ∧ IsV w1) ∧ r = -1 ∧ T = S)) (WB g (tX d) (wX x d) (va_A (wX x d S) sz)) (va_A (wX x d S) sz)) 0 0 (va_A (wX x d S) sz) := by
  refine Met.ofW (cc := cX0_copy) (maxL := 3) (ret := (some .int)) (by decide) rfl ?_
  intro p e s m args below meth c s₁ B hml hv
  obtain ⟨rfl, hsz, hP, hK, hD0⟩ := hv
  have hx := B.exec
  have hb := B.bytes
  have hrt := B.returns
  have hlocks := B.notSynchronized
  have hts0 := atoms_spec (ws := ws_ yX0_copy cX0_copy 3 (some .int)) B.pre
  have hts : ∀ w ∈ lw_all, w.before ([.ref x.1, .int v1, .int w1] : List Value).toArray s = true := fun w h => hts0 w (List.mem_cons_of_mem _ h)
  have hown : s.vm.findClass RX0 = some m.cls := findClass_of_methodNamed B.named
  have hF : CallFix p m c cX0_copy 3 s ([.ref x.1, .int v1, .int w1] : List Value).toArray lw_all RX0 := ⟨hx, hb, hml, hown, hts⟩
  subst hsz
  have hD := hD0.self (sz := s.heap.size)
  generalize hAe : va_A (wX x d S) s.heap.size = A at hD ⊢
  have hA : ∀ q : Nat, s.heap.size ≤ q → A q := fun q h => by rw [← hAe]; exact Or.inr h
  have hS : va_S A s.heap s.heap [] := va_S.rf
  have hl := lv_entry ([.ref x.1, .int v1, .int w1]) (n := 3) (Nat.le_of_ble_eq_true rfl)
  rw [lg_entry_eq]
  generalize (lg_sl ([.ref x.1, .int v1, .int w1]) ++ List.replicate (3 - (lg_sl ([.ref x.1, .int v1, .int w1])).length) Slot.unset).toArray = ls at hl ⊢
  have hl : lv_has ls 3 [(0, .ref x.1), (1, .int v1), (2, .int w1)] := hl
  try dsimp only at hP
  refine lv_iload_n hx hb dX0_copy_0 rfl (lv_at hl 1 rfl) ?_
  refine rd_S (As := [.int v1]) (rest := []) hF (cX_isVariable l v1) (va_cwS 1 hts (lw_S q49 q50 q14 q51) rfl rfl rfl (by decide +kernel) ⟨Nat.le_of_ble_eq_true rfl, Nat.le_of_ble_eq_true rfl⟩) rfl hl.1 rfl (Nat.le_of_ble_eq_true rfl) dX0_copy_1 ⟨Nat.zero_le _, Nat.zero_le _⟩ (fun r hr => ?_)
  rcases hr with ⟨rfl, j, hj, rfl⟩ | ⟨rfl, hnv1⟩
  · refine lv_if_eq (tgt := 14) hx hb dX0_copy_4 (by decide) (fun c0 => absurd c0 (by decide)) (fun _ => ?_)
    refine lv_iload_n hx hb dX0_copy_7 rfl (lv_at hl 2 rfl) ?_
    refine rd_S (As := [.int w1]) (rest := []) hF (cX_isVariable l w1) (va_cwS 1 hts (lw_S q49 q50 q14 q51) rfl rfl rfl (by decide +kernel) ⟨Nat.le_of_ble_eq_true rfl, Nat.le_of_ble_eq_true rfl⟩) rfl hl.1 rfl (Nat.le_of_ble_eq_true rfl) dX0_copy_8 ⟨Nat.zero_le _, Nat.zero_le _⟩ (fun r hr => ?_)
    rcases hr with ⟨rfl, i, hi, rfl⟩ | ⟨rfl, hnw1⟩
    · refine lv_if_ne (tgt := 16) hx hb dX0_copy_11 (by decide) (fun _ => ?_) (fun c0 => absurd c0 (by decide))
      refine lv_aload_n hx hb dX0_copy_16 rfl (lv_at hl 0 rfl) ?_
      refine kg_v hF hK hP dX0_copy_17 ?_
      refine lv_iload_n hx hb dX0_copy_20 rfl (lv_at hl 1 rfl) ?_
      refine lv_aload_n hx hb dX0_copy_21 rfl (lv_at hl 0 rfl) ?_
      refine kg_v hF hK hP dX0_copy_22 ?_
      refine lv_iload_n hx hb dX0_copy_25 rfl (lv_at hl 2 rfl) ?_
      refine kr_v hF hK hP (by omega) dX0_copy_26 ?_
      refine kw_v hF hK hP hD hS (by omega) dX0_copy_27 (fun H locs hP hD hS => ?_)
      refine lv_iconst (v := 0) hx hb dX0_copy_28 (by decide) ?_
      exact wr_ret (wf := wX x d) (u := (sv_ S (upd (xv S) j (nb (xv S i))))) hx hb hrt hlocks hK hP hD hS (Or.inl ⟨j, i, hj, hi, rfl, rfl, rfl, rfl⟩) dX0_copy_29
    · refine lv_if_ne (tgt := 16) hx hb dX0_copy_11 (by decide) (fun c0 => absurd (rfl) c0) (fun _ => ?_)
      refine lv_iconst (v := -1) hx hb dX0_copy_14 (by decide) ?_
      exact wr_ret (wf := wX x d) (u := S) hx hb hrt hlocks hK hP hD hS (Or.inr ⟨fun h => hnw1 h.2, rfl, rfl⟩) dX0_copy_15
  · refine lv_if_eq (tgt := 14) hx hb dX0_copy_4 (by decide) (fun _ => ?_) (fun c0 => absurd (rfl) c0)
    refine lv_iconst (v := -1) hx hb dX0_copy_14 (by decide) ?_
    exact wr_ret (wf := wX x d) (u := S) hx hb hrt hlocks hK hP hD hS (Or.inr ⟨fun h => hnv1 h.1, rfl, rfl⟩) dX0_copy_15
set_option maxHeartbeats 4000000 in
theorem cX_setNumber (l : Launch) (g : va_G) (x : XA) (d : XC) (S : XS) (sz : Nat) (v1 : Int32) (n1 : Int32) (hu : XU S) : Met l yX0_setNumber (ws_ yX0_setNumber cX0_setNumber 5 (some .int)) ({ frames := 3, cells := 0, slots := 0, locals := 66 }) (WrC g (tX d) (wX x d S) sz [.ref x.1, .int v1, .int n1]) (va_Qi (fun r T => (∃ j, j < 8 ∧ v1 = nI j ∧ ((xst S (xv S j) = 1 ∧ r = 0 ∧ T = sn_ S (upd (xn S) (kb (xv S j)) n1)) ∨ (¬ xst S (xv S j) = 1 ∧ r = fl (xst S (xv S j)) ∧ T = S))) ∨ (¬ IsV v1 ∧ r = -1 ∧ T = S)) (WB g (tX d) (wX x d) (va_A (wX x d S) sz)) (va_A (wX x d S) sz)) 0 0 (va_A (wX x d S) sz) := by
  refine Met.ofW (cc := cX0_setNumber) (maxL := 5) (ret := (some .int)) (by decide) rfl ?_
  intro p e s m args below meth c s₁ B hml hv
  obtain ⟨rfl, hsz, hP, hK, hD0⟩ := hv
  have hx := B.exec
  have hb := B.bytes
  have hrt := B.returns
  have hlocks := B.notSynchronized
  have hts0 := atoms_spec (ws := ws_ yX0_setNumber cX0_setNumber 5 (some .int)) B.pre
  have hts : ∀ w ∈ lw_all, w.before ([.ref x.1, .int v1, .int n1] : List Value).toArray s = true := fun w h => hts0 w (List.mem_cons_of_mem _ h)
  have hown : s.vm.findClass RX0 = some m.cls := findClass_of_methodNamed B.named
  have hF : CallFix p m c cX0_setNumber 5 s ([.ref x.1, .int v1, .int n1] : List Value).toArray lw_all RX0 := ⟨hx, hb, hml, hown, hts⟩
  subst hsz
  have hD := hD0.self (sz := s.heap.size)
  generalize hAe : va_A (wX x d S) s.heap.size = A at hD ⊢
  have hA : ∀ q : Nat, s.heap.size ≤ q → A q := fun q h => by rw [← hAe]; exact Or.inr h
  have hS : va_S A s.heap s.heap [] := va_S.rf
  have hl := lv_entry ([.ref x.1, .int v1, .int n1]) (n := 5) (Nat.le_of_ble_eq_true rfl)
  rw [lg_entry_eq]
  generalize (lg_sl ([.ref x.1, .int v1, .int n1]) ++ List.replicate (5 - (lg_sl ([.ref x.1, .int v1, .int n1])).length) Slot.unset).toArray = ls at hl ⊢
  have hl : lv_has ls 5 [(0, .ref x.1), (1, .int v1), (2, .int n1)] := hl
  try dsimp only at hP
  refine lv_iload_n hx hb dX0_setNumber_0 rfl (lv_at hl 1 rfl) ?_
  refine rd_S (As := [.int v1]) (rest := []) hF (cX_isVariable l v1) (va_cwS 1 hts (lw_S q49 q50 q14 q51) rfl rfl rfl (by decide +kernel) ⟨Nat.le_of_ble_eq_true rfl, Nat.le_of_ble_eq_true rfl⟩) rfl hl.1 rfl (Nat.le_of_ble_eq_true rfl) dX0_setNumber_1 ⟨Nat.zero_le _, Nat.zero_le _⟩ (fun r hr => ?_)
  rcases hr with ⟨rfl, j, hj, rfl⟩ | ⟨rfl, hnv1⟩
  · refine lv_if_ne (tgt := 9) hx hb dX0_setNumber_4 (by decide) (fun _ => ?_) (fun c0 => absurd c0 (by decide))
    refine lv_aload_n hx hb dX0_setNumber_9 rfl (lv_at hl 0 rfl) ?_
    refine lv_iload_n hx hb dX0_setNumber_10 rfl (lv_at hl 1 rfl) ?_
    refine rd_V (ci := 0) (As := [.int (nI j)]) (rest := []) hF (cX_check l g x d S j hj hu) (cwV 1 hts (lw_V q64 q66 qs2 q14 q67) rfl rfl rfl (by decide +kernel) ⟨Nat.le_of_ble_eq_true rfl, Nat.le_of_ble_eq_true rfl⟩) hK hP rfl rfl rfl hl.1 rfl (Nat.le_of_ble_eq_true rfl) dX0_setNumber_11 ⟨Nat.zero_le _, Nat.zero_le _⟩ (fun r (hr : r = fl (xst S (xv S j))) => ?_)
    subst hr
    refine lv_istore_n (lv' := [(3, .int (fl (xst S (xv S j)))), (0, .ref x.1), (1, .int (nI j)), (2, .int n1)]) hx hb dX0_setNumber_14 rfl hl (by decide) rfl (fun ls hl => ?_)
    refine lv_iload_n hx hb dX0_setNumber_15 rfl (lv_at hl 0 rfl) ?_
    refine lv_if_ne (tgt := 38) hx hb dX0_setNumber_16 (by decide) (fun c1 => ?_) (fun c1 => ?_)
    · have c2 : ¬ xst S (xv S j) = 1 := fun h => c1 ((fl_0 (xst_cases S _)).mpr h)
      refine lv_iload_n hx hb dX0_setNumber_38 rfl (lv_at hl 0 rfl) ?_
      exact wr_ret (wf := wX x d) (u := S) hx hb hrt hlocks hK hP hD hS (Or.inl ⟨j, hj, rfl, Or.inr ⟨c2, rfl, rfl⟩⟩) dX0_setNumber_39
    · have c2 : xst S (xv S j) = 1 := (fl_0 (xst_cases S _)).mp c1
      have hk := xst_lt6 hu c2
      refine lv_aload_n hx hb dX0_setNumber_19 rfl (lv_at hl 1 rfl) ?_
      refine kg_v hF hK hP dX0_setNumber_20 ?_
      refine lv_iload_n hx hb dX0_setNumber_23 rfl (lv_at hl 2 rfl) ?_
      refine kr_v hF hK hP (by omega) dX0_setNumber_24 ?_
      refine rd_S (As := [.int (xv S j)]) (rest := []) hF (cX_blockOf l (xv S j)) (va_cwS 1 hts (lw_S q72 q73 q14 q74) rfl rfl rfl (by decide +kernel) ⟨Nat.le_of_ble_eq_true rfl, Nat.le_of_ble_eq_true rfl⟩) rfl hl.1 rfl (Nat.le_of_ble_eq_true rfl) dX0_setNumber_25 ⟨Nat.zero_le _, Nat.zero_le _⟩ (fun r (hr : r = nI (kb (xv S j))) => ?_)
      subst hr
      refine lv_istore (lv' := [(4, .int (nI (kb (xv S j)))), (3, .int (fl (xst S (xv S j)))), (0, .ref x.1), (1, .int (nI j)), (2, .int n1)]) hx hb dX0_setNumber_28 hl (by decide) rfl (fun ls hl => ?_)
      refine lv_aload_n hx hb dX0_setNumber_30 rfl (lv_at hl 2 rfl) ?_
      refine kg_n hF hK hP dX0_setNumber_31 ?_
      refine lv_iload hx hb dX0_setNumber_34 (lv_at hl 0 rfl) ?_
      refine lv_iload_n hx hb dX0_setNumber_36 rfl (lv_at hl 4 rfl) ?_
      refine kw_n hF hK hP hD hS (by omega) dX0_setNumber_37 (fun H locs hP hD hS => ?_)
      refine lv_iload_n hx hb dX0_setNumber_38 rfl (lv_at hl 1 rfl) ?_
      exact wr_ret (wf := wX x d) (u := (sn_ S (upd (xn S) (kb (xv S j)) n1))) hx hb hrt hlocks hK hP hD hS (Or.inl ⟨j, hj, rfl, Or.inl ⟨c2, c1, rfl⟩⟩) dX0_setNumber_39
  · refine lv_if_ne (tgt := 9) hx hb dX0_setNumber_4 (by decide) (fun c0 => absurd (rfl) c0) (fun _ => ?_)
    refine lv_iconst (v := -1) hx hb dX0_setNumber_7 (by decide) ?_
    exact wr_ret (wf := wX x d) (u := S) hx hb hrt hlocks hK hP hD hS (Or.inr ⟨hnv1, rfl, rfl⟩) dX0_setNumber_8
set_option maxHeartbeats 4000000 in
theorem cX_setLink (l : Launch) (g : va_G) (x : XA) (d : XC) (S : XS) (sz : Nat) (v1 : Int32) (k1 : Int32) (w1 : Int32) (hu : XU S) : Met l yX0_setLink (ws_ yX0_setLink cX0_setLink 6 (some .int)) ({ frames := 3, cells := 0, slots := 0, locals := 66 }) (WrC g (tX d) (wX x d S) sz [.ref x.1, .int v1, .int k1, .int w1]) (va_Qi (fun r T => (∃ j e i, j < 8 ∧ e < 2 ∧ i < 8 ∧ v1 = nI j ∧ k1 = nI e ∧ w1 = nI i ∧ ((xst S (xv S j) = 1 ∧ r = 0 ∧ T = sk_ S (upd (xk S) (kb (xv S j) * 2 + e) (nb (xv S i)))) ∨ (¬ xst S (xv S j) = 1 ∧ r = fl (xst S (xv S j)) ∧ T = S))) ∨ (¬ (IsV v1 ∧ IsL k1 ∧ IsV w1) ∧ r = -1 ∧ T = S)) (WB g (tX d) (wX x d) (va_A (wX x d S) sz)) (va_A (wX x d S) sz)) 0 0 (va_A (wX x d S) sz) := by
  refine Met.ofW (cc := cX0_setLink) (maxL := 6) (ret := (some .int)) (by decide) rfl ?_
  intro p e s m args below meth c s₁ B hml hv
  obtain ⟨rfl, hsz, hP, hK, hD0⟩ := hv
  have hx := B.exec
  have hb := B.bytes
  have hrt := B.returns
  have hlocks := B.notSynchronized
  have hts0 := atoms_spec (ws := ws_ yX0_setLink cX0_setLink 6 (some .int)) B.pre
  have hts : ∀ w ∈ lw_all, w.before ([.ref x.1, .int v1, .int k1, .int w1] : List Value).toArray s = true := fun w h => hts0 w (List.mem_cons_of_mem _ h)
  have hown : s.vm.findClass RX0 = some m.cls := findClass_of_methodNamed B.named
  have hF : CallFix p m c cX0_setLink 6 s ([.ref x.1, .int v1, .int k1, .int w1] : List Value).toArray lw_all RX0 := ⟨hx, hb, hml, hown, hts⟩
  subst hsz
  have hD := hD0.self (sz := s.heap.size)
  generalize hAe : va_A (wX x d S) s.heap.size = A at hD ⊢
  have hA : ∀ q : Nat, s.heap.size ≤ q → A q := fun q h => by rw [← hAe]; exact Or.inr h
  have hS : va_S A s.heap s.heap [] := va_S.rf
  have hl := lv_entry ([.ref x.1, .int v1, .int k1, .int w1]) (n := 6) (Nat.le_of_ble_eq_true rfl)
  rw [lg_entry_eq]
  generalize (lg_sl ([.ref x.1, .int v1, .int k1, .int w1]) ++ List.replicate (6 - (lg_sl ([.ref x.1, .int v1, .int k1, .int w1])).length) Slot.unset).toArray = ls at hl ⊢
  have hl : lv_has ls 6 [(0, .ref x.1), (1, .int v1), (2, .int k1), (3, .int w1)] := hl
  try dsimp only at hP
  refine lv_iload_n hx hb dX0_setLink_0 rfl (lv_at hl 1 rfl) ?_
  refine rd_S (As := [.int v1]) (rest := []) hF (cX_isVariable l v1) (va_cwS 1 hts (lw_S q49 q50 q14 q51) rfl rfl rfl (by decide +kernel) ⟨Nat.le_of_ble_eq_true rfl, Nat.le_of_ble_eq_true rfl⟩) rfl hl.1 rfl (Nat.le_of_ble_eq_true rfl) dX0_setLink_1 ⟨Nat.zero_le _, Nat.zero_le _⟩ (fun r hr => ?_)
  rcases hr with ⟨rfl, j, hj, rfl⟩ | ⟨rfl, hnv1⟩
  · refine lv_if_eq (tgt := 21) hx hb dX0_setLink_4 (by decide) (fun c0 => absurd c0 (by decide)) (fun _ => ?_)
    refine lv_iload_n hx hb dX0_setLink_7 rfl (lv_at hl 3 rfl) ?_
    refine rd_S (As := [.int w1]) (rest := []) hF (cX_isVariable l w1) (va_cwS 1 hts (lw_S q49 q50 q14 q51) rfl rfl rfl (by decide +kernel) ⟨Nat.le_of_ble_eq_true rfl, Nat.le_of_ble_eq_true rfl⟩) rfl hl.1 rfl (Nat.le_of_ble_eq_true rfl) dX0_setLink_8 ⟨Nat.zero_le _, Nat.zero_le _⟩ (fun r hr => ?_)
    rcases hr with ⟨rfl, i, hi, rfl⟩ | ⟨rfl, hnw1⟩
    · refine lv_if_eq (tgt := 21) hx hb dX0_setLink_11 (by decide) (fun c0 => absurd c0 (by decide)) (fun _ => ?_)
      refine lv_iload_n hx hb dX0_setLink_14 rfl (lv_at hl 2 rfl) ?_
      refine rd_S (As := [.int k1]) (rest := []) hF (cX_isLink l k1) (va_cwS 1 hts (lw_S q99 q100 q14 q101) rfl rfl rfl (by decide +kernel) ⟨Nat.le_of_ble_eq_true rfl, Nat.le_of_ble_eq_true rfl⟩) rfl hl.1 rfl (Nat.le_of_ble_eq_true rfl) dX0_setLink_15 ⟨Nat.zero_le _, Nat.zero_le _⟩ (fun r hr => ?_)
      rcases hr with ⟨rfl, e, he, rfl⟩ | ⟨rfl, hnk1⟩
      · refine lv_if_ne (tgt := 23) hx hb dX0_setLink_18 (by decide) (fun _ => ?_) (fun c0 => absurd c0 (by decide))
        refine lv_aload_n hx hb dX0_setLink_23 rfl (lv_at hl 0 rfl) ?_
        refine lv_iload_n hx hb dX0_setLink_24 rfl (lv_at hl 1 rfl) ?_
        refine rd_V (ci := 0) (As := [.int (nI j)]) (rest := []) hF (cX_check l g x d S j hj hu) (cwV 1 hts (lw_V q64 q66 qs2 q14 q67) rfl rfl rfl (by decide +kernel) ⟨Nat.le_of_ble_eq_true rfl, Nat.le_of_ble_eq_true rfl⟩) hK hP rfl rfl rfl hl.1 rfl (Nat.le_of_ble_eq_true rfl) dX0_setLink_25 ⟨Nat.zero_le _, Nat.zero_le _⟩ (fun r (hr : r = fl (xst S (xv S j))) => ?_)
        subst hr
        refine lv_istore (lv' := [(4, .int (fl (xst S (xv S j)))), (0, .ref x.1), (1, .int (nI j)), (2, .int (nI e)), (3, .int (nI i))]) hx hb dX0_setLink_28 hl (by decide) rfl (fun ls hl => ?_)
        refine lv_iload hx hb dX0_setLink_30 (lv_at hl 0 rfl) ?_
        refine lv_if_ne (tgt := 63) hx hb dX0_setLink_32 (by decide) (fun c1 => ?_) (fun c1 => ?_)
        · have c2 : ¬ xst S (xv S j) = 1 := fun h => c1 ((fl_0 (xst_cases S _)).mpr h)
          refine lv_iload hx hb dX0_setLink_63 (lv_at hl 0 rfl) ?_
          exact wr_ret (wf := wX x d) (u := S) hx hb hrt hlocks hK hP hD hS (Or.inl ⟨j, e, i, hj, he, hi, rfl, rfl, rfl, Or.inr ⟨c2, rfl, rfl⟩⟩) dX0_setLink_65
        · have c2 : xst S (xv S j) = 1 := (fl_0 (xst_cases S _)).mp c1
          have hk := xst_lt6 hu c2
          refine lv_aload_n hx hb dX0_setLink_35 rfl (lv_at hl 1 rfl) ?_
          refine kg_v hF hK hP dX0_setLink_36 ?_
          refine lv_iload_n hx hb dX0_setLink_39 rfl (lv_at hl 2 rfl) ?_
          refine kr_v hF hK hP (by omega) dX0_setLink_40 ?_
          refine rd_S (As := [.int (xv S j)]) (rest := []) hF (cX_blockOf l (xv S j)) (va_cwS 1 hts (lw_S q72 q73 q14 q74) rfl rfl rfl (by decide +kernel) ⟨Nat.le_of_ble_eq_true rfl, Nat.le_of_ble_eq_true rfl⟩) rfl hl.1 rfl (Nat.le_of_ble_eq_true rfl) dX0_setLink_41 ⟨Nat.zero_le _, Nat.zero_le _⟩ (fun r (hr : r = nI (kb (xv S j))) => ?_)
          subst hr
          refine lv_istore (lv' := [(5, .int (nI (kb (xv S j)))), (4, .int (fl (xst S (xv S j)))), (0, .ref x.1), (1, .int (nI j)), (2, .int (nI e)), (3, .int (nI i))]) hx hb dX0_setLink_44 hl (by decide) rfl (fun ls hl => ?_)
          refine lv_aload_n hx hb dX0_setLink_46 rfl (lv_at hl 2 rfl) ?_
          refine kg_k hF hK hP dX0_setLink_47 ?_
          refine lv_iload hx hb dX0_setLink_50 (lv_at hl 0 rfl) ?_
          refine lv_iconst (v := 2) hx hb dX0_setLink_52 (by decide) ?_
          refine lv_imul hx hb dX0_setLink_53 ?_
          refine lv_iload_n hx hb dX0_setLink_54 rfl (lv_at hl 4 rfl) ?_
          refine lv_iadd hx hb dX0_setLink_55 ?_
          refine lv_asi (w := nI (kb (xv S j) * 2 + e)) (by rw [show (2 : Int32) = nI 2 from rfl, pk_mul, nI_add]) ?_
          refine lv_aload_n hx hb dX0_setLink_56 rfl (lv_at hl 2 rfl) ?_
          refine kg_v hF hK hP dX0_setLink_57 ?_
          refine lv_iload_n hx hb dX0_setLink_60 rfl (lv_at hl 5 rfl) ?_
          refine kr_v hF hK hP (by omega) dX0_setLink_61 ?_
          refine kw_k hF hK hP hD hS (by omega) dX0_setLink_62 (fun H locs hP hD hS => ?_)
          refine lv_iload hx hb dX0_setLink_63 (lv_at hl 1 rfl) ?_
          exact wr_ret (wf := wX x d) (u := (sk_ S (upd (xk S) (kb (xv S j) * 2 + e) (nb (xv S i))))) hx hb hrt hlocks hK hP hD hS (Or.inl ⟨j, e, i, hj, he, hi, rfl, rfl, rfl, Or.inl ⟨c2, c1, rfl⟩⟩) dX0_setLink_65
      · refine lv_if_ne (tgt := 23) hx hb dX0_setLink_18 (by decide) (fun c0 => absurd (rfl) c0) (fun _ => ?_)
        refine lv_iconst (v := -1) hx hb dX0_setLink_21 (by decide) ?_
        exact wr_ret (wf := wX x d) (u := S) hx hb hrt hlocks hK hP hD hS (Or.inr ⟨fun h => hnk1 h.2.1, rfl, rfl⟩) dX0_setLink_22
    · refine lv_if_eq (tgt := 21) hx hb dX0_setLink_11 (by decide) (fun _ => ?_) (fun c0 => absurd (rfl) c0)
      refine lv_iconst (v := -1) hx hb dX0_setLink_21 (by decide) ?_
      exact wr_ret (wf := wX x d) (u := S) hx hb hrt hlocks hK hP hD hS (Or.inr ⟨fun h => hnw1 h.2.2, rfl, rfl⟩) dX0_setLink_22
  · refine lv_if_eq (tgt := 21) hx hb dX0_setLink_4 (by decide) (fun _ => ?_) (fun c0 => absurd (rfl) c0)
    refine lv_iconst (v := -1) hx hb dX0_setLink_21 (by decide) ?_
    exact wr_ret (wf := wX x d) (u := S) hx hb hrt hlocks hK hP hD hS (Or.inr ⟨fun h => hnv1 h.1, rfl, rfl⟩) dX0_setLink_22
set_option maxHeartbeats 4000000 in
theorem cX_follow (l : Launch) (g : va_G) (x : XA) (d : XC) (S : XS) (sz : Nat) (v1 : Int32) (w1 : Int32) (k1 : Int32) (hu : XU S) : Met l yX0_follow (ws_ yX0_follow cX0_follow 6 (some .int)) ({ frames := 3, cells := 0, slots := 0, locals := 66 }) (WrC g (tX d) (wX x d S) sz [.ref x.1, .int v1, .int w1, .int k1]) (va_Qi (fun r T => (∃ j i e, j < 8 ∧ i < 8 ∧ e < 2 ∧ v1 = nI j ∧ w1 = nI i ∧ k1 = nI e ∧ ((xst S (xv S i) = 1 ∧ r = 0 ∧ T = sv_ S (upd (xv S) j (nb (xk S (kb (xv S i) * 2 + e))))) ∨ (¬ xst S (xv S i) = 1 ∧ r = fl (xst S (xv S i)) ∧ T = S))) ∨ (¬ (IsV v1 ∧ IsV w1 ∧ IsL k1) ∧ r = -1 ∧ T = S)) (WB g (tX d) (wX x d) (va_A (wX x d S) sz)) (va_A (wX x d S) sz)) 0 0 (va_A (wX x d S) sz) := by
  refine Met.ofW (cc := cX0_follow) (maxL := 6) (ret := (some .int)) (by decide) rfl ?_
  intro p e s m args below meth c s₁ B hml hv
  obtain ⟨rfl, hsz, hP, hK, hD0⟩ := hv
  have hx := B.exec
  have hb := B.bytes
  have hrt := B.returns
  have hlocks := B.notSynchronized
  have hts0 := atoms_spec (ws := ws_ yX0_follow cX0_follow 6 (some .int)) B.pre
  have hts : ∀ w ∈ lw_all, w.before ([.ref x.1, .int v1, .int w1, .int k1] : List Value).toArray s = true := fun w h => hts0 w (List.mem_cons_of_mem _ h)
  have hown : s.vm.findClass RX0 = some m.cls := findClass_of_methodNamed B.named
  have hF : CallFix p m c cX0_follow 6 s ([.ref x.1, .int v1, .int w1, .int k1] : List Value).toArray lw_all RX0 := ⟨hx, hb, hml, hown, hts⟩
  subst hsz
  have hD := hD0.self (sz := s.heap.size)
  generalize hAe : va_A (wX x d S) s.heap.size = A at hD ⊢
  have hA : ∀ q : Nat, s.heap.size ≤ q → A q := fun q h => by rw [← hAe]; exact Or.inr h
  have hS : va_S A s.heap s.heap [] := va_S.rf
  have hl := lv_entry ([.ref x.1, .int v1, .int w1, .int k1]) (n := 6) (Nat.le_of_ble_eq_true rfl)
  rw [lg_entry_eq]
  generalize (lg_sl ([.ref x.1, .int v1, .int w1, .int k1]) ++ List.replicate (6 - (lg_sl ([.ref x.1, .int v1, .int w1, .int k1])).length) Slot.unset).toArray = ls at hl ⊢
  have hl : lv_has ls 6 [(0, .ref x.1), (1, .int v1), (2, .int w1), (3, .int k1)] := hl
  try dsimp only at hP
  refine lv_iload_n hx hb dX0_follow_0 rfl (lv_at hl 1 rfl) ?_
  refine rd_S (As := [.int v1]) (rest := []) hF (cX_isVariable l v1) (va_cwS 1 hts (lw_S q49 q50 q14 q51) rfl rfl rfl (by decide +kernel) ⟨Nat.le_of_ble_eq_true rfl, Nat.le_of_ble_eq_true rfl⟩) rfl hl.1 rfl (Nat.le_of_ble_eq_true rfl) dX0_follow_1 ⟨Nat.zero_le _, Nat.zero_le _⟩ (fun r hr => ?_)
  rcases hr with ⟨rfl, j, hj, rfl⟩ | ⟨rfl, hnv1⟩
  · refine lv_if_eq (tgt := 21) hx hb dX0_follow_4 (by decide) (fun c0 => absurd c0 (by decide)) (fun _ => ?_)
    refine lv_iload_n hx hb dX0_follow_7 rfl (lv_at hl 2 rfl) ?_
    refine rd_S (As := [.int w1]) (rest := []) hF (cX_isVariable l w1) (va_cwS 1 hts (lw_S q49 q50 q14 q51) rfl rfl rfl (by decide +kernel) ⟨Nat.le_of_ble_eq_true rfl, Nat.le_of_ble_eq_true rfl⟩) rfl hl.1 rfl (Nat.le_of_ble_eq_true rfl) dX0_follow_8 ⟨Nat.zero_le _, Nat.zero_le _⟩ (fun r hr => ?_)
    rcases hr with ⟨rfl, i, hi, rfl⟩ | ⟨rfl, hnw1⟩
    · refine lv_if_eq (tgt := 21) hx hb dX0_follow_11 (by decide) (fun c0 => absurd c0 (by decide)) (fun _ => ?_)
      refine lv_iload_n hx hb dX0_follow_14 rfl (lv_at hl 3 rfl) ?_
      refine rd_S (As := [.int k1]) (rest := []) hF (cX_isLink l k1) (va_cwS 1 hts (lw_S q99 q100 q14 q101) rfl rfl rfl (by decide +kernel) ⟨Nat.le_of_ble_eq_true rfl, Nat.le_of_ble_eq_true rfl⟩) rfl hl.1 rfl (Nat.le_of_ble_eq_true rfl) dX0_follow_15 ⟨Nat.zero_le _, Nat.zero_le _⟩ (fun r hr => ?_)
      rcases hr with ⟨rfl, e, he, rfl⟩ | ⟨rfl, hnk1⟩
      · refine lv_if_ne (tgt := 23) hx hb dX0_follow_18 (by decide) (fun _ => ?_) (fun c0 => absurd c0 (by decide))
        refine lv_aload_n hx hb dX0_follow_23 rfl (lv_at hl 0 rfl) ?_
        refine lv_iload_n hx hb dX0_follow_24 rfl (lv_at hl 2 rfl) ?_
        refine rd_V (ci := 0) (As := [.int (nI i)]) (rest := []) hF (cX_check l g x d S i hi hu) (cwV 1 hts (lw_V q64 q66 qs2 q14 q67) rfl rfl rfl (by decide +kernel) ⟨Nat.le_of_ble_eq_true rfl, Nat.le_of_ble_eq_true rfl⟩) hK hP rfl rfl rfl hl.1 rfl (Nat.le_of_ble_eq_true rfl) dX0_follow_25 ⟨Nat.zero_le _, Nat.zero_le _⟩ (fun r (hr : r = fl (xst S (xv S i))) => ?_)
        subst hr
        refine lv_istore (lv' := [(4, .int (fl (xst S (xv S i)))), (0, .ref x.1), (1, .int (nI j)), (2, .int (nI i)), (3, .int (nI e))]) hx hb dX0_follow_28 hl (by decide) rfl (fun ls hl => ?_)
        refine lv_iload hx hb dX0_follow_30 (lv_at hl 0 rfl) ?_
        refine lv_if_ne (tgt := 63) hx hb dX0_follow_32 (by decide) (fun c1 => ?_) (fun c1 => ?_)
        · have c2 : ¬ xst S (xv S i) = 1 := fun h => c1 ((fl_0 (xst_cases S _)).mpr h)
          refine lv_iload hx hb dX0_follow_63 (lv_at hl 0 rfl) ?_
          exact wr_ret (wf := wX x d) (u := S) hx hb hrt hlocks hK hP hD hS (Or.inl ⟨j, i, e, hj, hi, he, rfl, rfl, rfl, Or.inr ⟨c2, rfl, rfl⟩⟩) dX0_follow_65
        · have c2 : xst S (xv S i) = 1 := (fl_0 (xst_cases S _)).mp c1
          have hk := xst_lt6 hu c2
          refine lv_aload_n hx hb dX0_follow_35 rfl (lv_at hl 1 rfl) ?_
          refine kg_v hF hK hP dX0_follow_36 ?_
          refine lv_iload_n hx hb dX0_follow_39 rfl (lv_at hl 3 rfl) ?_
          refine kr_v hF hK hP (by omega) dX0_follow_40 ?_
          refine rd_S (As := [.int (xv S i)]) (rest := []) hF (cX_blockOf l (xv S i)) (va_cwS 1 hts (lw_S q72 q73 q14 q74) rfl rfl rfl (by decide +kernel) ⟨Nat.le_of_ble_eq_true rfl, Nat.le_of_ble_eq_true rfl⟩) rfl hl.1 rfl (Nat.le_of_ble_eq_true rfl) dX0_follow_41 ⟨Nat.zero_le _, Nat.zero_le _⟩ (fun r (hr : r = nI (kb (xv S i))) => ?_)
          subst hr
          refine lv_istore (lv' := [(5, .int (nI (kb (xv S i)))), (4, .int (fl (xst S (xv S i)))), (0, .ref x.1), (1, .int (nI j)), (2, .int (nI i)), (3, .int (nI e))]) hx hb dX0_follow_44 hl (by decide) rfl (fun ls hl => ?_)
          refine lv_aload_n hx hb dX0_follow_46 rfl (lv_at hl 2 rfl) ?_
          refine kg_v hF hK hP dX0_follow_47 ?_
          refine lv_iload_n hx hb dX0_follow_50 rfl (lv_at hl 3 rfl) ?_
          refine lv_aload_n hx hb dX0_follow_51 rfl (lv_at hl 2 rfl) ?_
          refine kg_k hF hK hP dX0_follow_52 ?_
          refine lv_iload hx hb dX0_follow_55 (lv_at hl 0 rfl) ?_
          refine lv_iconst (v := 2) hx hb dX0_follow_57 (by decide) ?_
          refine lv_imul hx hb dX0_follow_58 ?_
          refine lv_iload_n hx hb dX0_follow_59 rfl (lv_at hl 5 rfl) ?_
          refine lv_iadd hx hb dX0_follow_60 ?_
          refine lv_asi (w := nI (kb (xv S i) * 2 + e)) (by rw [show (2 : Int32) = nI 2 from rfl, pk_mul, nI_add]) ?_
          refine kr_k hF hK hP (by omega) dX0_follow_61 ?_
          refine kw_v hF hK hP hD hS (by omega) dX0_follow_62 (fun H locs hP hD hS => ?_)
          refine lv_iload hx hb dX0_follow_63 (lv_at hl 1 rfl) ?_
          exact wr_ret (wf := wX x d) (u := (sv_ S (upd (xv S) j (nb (xk S (kb (xv S i) * 2 + e)))))) hx hb hrt hlocks hK hP hD hS (Or.inl ⟨j, i, e, hj, hi, he, rfl, rfl, rfl, Or.inl ⟨c2, c1, rfl⟩⟩) dX0_follow_65
      · refine lv_if_ne (tgt := 23) hx hb dX0_follow_18 (by decide) (fun c0 => absurd (rfl) c0) (fun _ => ?_)
        refine lv_iconst (v := -1) hx hb dX0_follow_21 (by decide) ?_
        exact wr_ret (wf := wX x d) (u := S) hx hb hrt hlocks hK hP hD hS (Or.inr ⟨fun h => hnk1 h.2.2, rfl, rfl⟩) dX0_follow_22
    · refine lv_if_eq (tgt := 21) hx hb dX0_follow_11 (by decide) (fun _ => ?_) (fun c0 => absurd (rfl) c0)
      refine lv_iconst (v := -1) hx hb dX0_follow_21 (by decide) ?_
      exact wr_ret (wf := wX x d) (u := S) hx hb hrt hlocks hK hP hD hS (Or.inr ⟨fun h => hnw1 h.2.1, rfl, rfl⟩) dX0_follow_22
  · refine lv_if_eq (tgt := 21) hx hb dX0_follow_4 (by decide) (fun _ => ?_) (fun c0 => absurd (rfl) c0)
    refine lv_iconst (v := -1) hx hb dX0_follow_21 (by decide) ?_
    exact wr_ret (wf := wX x d) (u := S) hx hb hrt hlocks hK hP hD hS (Or.inr ⟨fun h => hnv1 h.1, rfl, rfl⟩) dX0_follow_22
set_option maxHeartbeats 4000000 in
theorem cX_make (l : Launch) (g : va_G) (x : XA) (d : XC) (S : XS) (sz : Nat) (v1 : Int32) (n1 : Int32) (ht : XT S) : Met l yX0_make (ws_ yX0_make cX0_make 4 (some .int)) ({ frames := 1, cells := 0, slots := 0, locals := 22 }) (WrC g (tX d) (wX x d S) sz [.ref x.1, .int v1, .int n1]) (va_Qi (fun r T => (∃ j, j < 8 ∧ v1 = nI j ∧ ((∃ b, b < 6 ∧ bi (xu S) b = 0 ∧ r = 0 ∧ T = mkF S j b n1) ∨ ((∀ b, b < 6 → ¬ bi (xu S) b = 0) ∧ r = -2 ∧ T = S))) ∨ (¬ IsV v1 ∧ r = -1 ∧ T = S)) (WB g (tX d) (wX x d) (va_A (wX x d S) sz)) (va_A (wX x d S) sz)) 0 0 (va_A (wX x d S) sz) := by
  refine Met.ofW (cc := cX0_make) (maxL := 4) (ret := (some .int)) (by decide) rfl ?_
  intro p e s m args below meth c s₁ B hml hv
  obtain ⟨rfl, hsz, hP, hK, hD0⟩ := hv
  have hx := B.exec
  have hb := B.bytes
  have hrt := B.returns
  have hlocks := B.notSynchronized
  have hts0 := atoms_spec (ws := ws_ yX0_make cX0_make 4 (some .int)) B.pre
  have hts : ∀ w ∈ lw_all, w.before ([.ref x.1, .int v1, .int n1] : List Value).toArray s = true := fun w h => hts0 w (List.mem_cons_of_mem _ h)
  have hown : s.vm.findClass RX0 = some m.cls := findClass_of_methodNamed B.named
  have hF : CallFix p m c cX0_make 4 s ([.ref x.1, .int v1, .int n1] : List Value).toArray lw_all RX0 := ⟨hx, hb, hml, hown, hts⟩
  subst hsz
  have hD := hD0.self (sz := s.heap.size)
  generalize hAe : va_A (wX x d S) s.heap.size = A at hD ⊢
  have hA : ∀ q : Nat, s.heap.size ≤ q → A q := fun q h => by rw [← hAe]; exact Or.inr h
  have hS : va_S A s.heap s.heap [] := va_S.rf
  have hl := lv_entry ([.ref x.1, .int v1, .int n1]) (n := 4) (Nat.le_of_ble_eq_true rfl)
  rw [lg_entry_eq]
  generalize (lg_sl ([.ref x.1, .int v1, .int n1]) ++ List.replicate (4 - (lg_sl ([.ref x.1, .int v1, .int n1])).length) Slot.unset).toArray = ls at hl ⊢
  have hl : lv_has ls 4 [(0, .ref x.1), (1, .int v1), (2, .int n1)] := hl
  try dsimp only at hP
  refine lv_iload_n hx hb dX0_make_0 rfl (lv_at hl 1 rfl) ?_
  refine rd_S (As := [.int v1]) (rest := []) hF (cX_isVariable l v1) (va_cwS 1 hts (lw_S q49 q50 q14 q51) rfl rfl rfl (by decide +kernel) ⟨Nat.le_of_ble_eq_true rfl, Nat.le_of_ble_eq_true rfl⟩) rfl hl.1 rfl (Nat.le_of_ble_eq_true rfl) dX0_make_1 ⟨Nat.zero_le _, Nat.zero_le _⟩ (fun r hr => ?_)
  rcases hr with ⟨rfl, j, hj, rfl⟩ | ⟨rfl, hnv1⟩
  · refine lv_if_ne (tgt := 9) hx hb dX0_make_4 (by decide) (fun _ => ?_) (fun c0 => absurd c0 (by decide))
    refine lv_aload_n hx hb dX0_make_9 rfl (lv_at hl 0 rfl) ?_
    refine rd_V (ci := 0) (As := []) (rest := []) hF (cX_freeBlock l g x d S ht) (cwV 0 hts (lw_V q52 q54 qs0 q14 q55) rfl rfl rfl (by decide +kernel) ⟨Nat.le_of_ble_eq_true rfl, Nat.le_of_ble_eq_true rfl⟩) hK hP rfl rfl rfl hl.1 rfl (Nat.le_of_ble_eq_true rfl) dX0_make_10 ⟨Nat.zero_le _, Nat.zero_le _⟩ (fun r hr => ?_)
    rcases hr with ⟨b, hb6, hbz, rfl⟩ | ⟨hall, rfl⟩
    · refine lv_istore_n (lv' := [(3, .int (nI b)), (0, .ref x.1), (1, .int (nI j)), (2, .int n1)]) hx hb dX0_make_13 rfl hl (by decide) rfl (fun ls hl => ?_)
      refine lv_iload_n hx hb dX0_make_14 rfl (lv_at hl 0 rfl) ?_
      refine lv_if_ge (tgt := 21) hx hb dX0_make_15 (by decide) (fun _ => ?_) (fun c0 => absurd (nI_pos' (by omega)) c0)
      refine lv_aload_n hx hb dX0_make_21 rfl (lv_at hl 1 rfl) ?_
      refine lv_iload_n hx hb dX0_make_22 rfl (lv_at hl 0 rfl) ?_
      refine lv_iconst (v := 1) hx hb dX0_make_23 (by decide) ?_
      refine lv_iadd hx hb dX0_make_24 ?_
      refine lv_bipush (v := 6) hx hb dX0_make_25 (by decide) ?_
      refine lv_irem hx hb dX0_make_27 (by decide) ?_
      refine lv_asi (w := nI ((b + 1) % 6)) (by rw [show (1 : Int32) = nI 1 from rfl, nI_add]; exact pk_rem (d := 6) (by omega) (by decide) (by decide)) ?_
      refine kp_t hF hK hP hD hS dX0_make_28 (fun H locs hP hD hS => ?_)
      refine lv_aload_n hx hb dX0_make_31 rfl (lv_at hl 1 rfl) ?_
      refine lv_dup hx hb dX0_make_32 rfl ?_
      refine kg_u hF hK hP dX0_make_33 ?_
      refine lv_iconst (v := 1) hx hb dX0_make_36 (by decide) ?_
      refine lv_iload_n hx hb dX0_make_37 rfl (lv_at hl 0 rfl) ?_
      refine lv_ishl hx hb dX0_make_38 ?_
      refine lv_ior hx hb dX0_make_39 ?_
      refine kp_u hF hK hP hD hS dX0_make_40 (fun H locs hP hD hS => ?_)
      refine lv_aload_n hx hb dX0_make_43 rfl (lv_at hl 1 rfl) ?_
      refine kg_n hF hK hP dX0_make_44 ?_
      refine lv_iload_n hx hb dX0_make_47 rfl (lv_at hl 0 rfl) ?_
      refine lv_iload_n hx hb dX0_make_48 rfl (lv_at hl 3 rfl) ?_
      refine kw_n hF hK hP hD hS (by omega) dX0_make_49 (fun H locs hP hD hS => ?_)
      refine lv_aload_n hx hb dX0_make_50 rfl (lv_at hl 1 rfl) ?_
      refine kg_k hF hK hP dX0_make_51 ?_
      refine lv_iload_n hx hb dX0_make_54 rfl (lv_at hl 0 rfl) ?_
      refine lv_iconst (v := 2) hx hb dX0_make_55 (by decide) ?_
      refine lv_imul hx hb dX0_make_56 ?_
      refine lv_asi (w := nI (b * 2)) (by exact pk_mul b 2) ?_
      refine lv_iconst (v := 0) hx hb dX0_make_57 (by decide) ?_
      refine kw_k hF hK hP hD hS (by omega) dX0_make_58 (fun H locs hP hD hS => ?_)
      refine lv_aload_n hx hb dX0_make_59 rfl (lv_at hl 1 rfl) ?_
      refine kg_k hF hK hP dX0_make_60 ?_
      refine lv_iload_n hx hb dX0_make_63 rfl (lv_at hl 0 rfl) ?_
      refine lv_iconst (v := 2) hx hb dX0_make_64 (by decide) ?_
      refine lv_imul hx hb dX0_make_65 ?_
      refine lv_iconst (v := 1) hx hb dX0_make_66 (by decide) ?_
      refine lv_iadd hx hb dX0_make_67 ?_
      refine lv_asi (w := nI (b * 2 + 1)) (by rw [show nI b * 2 = nI (b * 2) from pk_mul b 2]; exact nI_1 _) ?_
      refine lv_iconst (v := 0) hx hb dX0_make_68 (by decide) ?_
      refine kw_k hF hK hP hD hS (by omega) dX0_make_69 (fun H locs hP hD hS => ?_)
      refine lv_aload_n hx hb dX0_make_70 rfl (lv_at hl 1 rfl) ?_
      refine kg_v hF hK hP dX0_make_71 ?_
      refine lv_iload_n hx hb dX0_make_74 rfl (lv_at hl 2 rfl) ?_
      refine lv_aload_n hx hb dX0_make_75 rfl (lv_at hl 1 rfl) ?_
      refine lv_iload_n hx hb dX0_make_76 rfl (lv_at hl 0 rfl) ?_
      refine rd_V (ci := 0) (As := [.int (nI b)]) (rest := [.int (nI j), .ref x.2.1]) hF (cX_pointerTo l g x d (sk_ ((sk_ ((sn_ ((su_ ((st_ S (nI ((b + 1) % 6)))) ((xu ((st_ S (nI ((b + 1) % 6))))) ||| (1 <<< ((nI b) &&& 31))))) (upd (xn ((su_ ((st_ S (nI ((b + 1) % 6)))) ((xu ((st_ S (nI ((b + 1) % 6))))) ||| (1 <<< ((nI b) &&& 31)))))) b n1))) (upd (xk ((sn_ ((su_ ((st_ S (nI ((b + 1) % 6)))) ((xu ((st_ S (nI ((b + 1) % 6))))) ||| (1 <<< ((nI b) &&& 31))))) (upd (xn ((su_ ((st_ S (nI ((b + 1) % 6)))) ((xu ((st_ S (nI ((b + 1) % 6))))) ||| (1 <<< ((nI b) &&& 31)))))) b n1)))) (b * 2) (nb 0)))) (upd (xk ((sk_ ((sn_ ((su_ ((st_ S (nI ((b + 1) % 6)))) ((xu ((st_ S (nI ((b + 1) % 6))))) ||| (1 <<< ((nI b) &&& 31))))) (upd (xn ((su_ ((st_ S (nI ((b + 1) % 6)))) ((xu ((st_ S (nI ((b + 1) % 6))))) ||| (1 <<< ((nI b) &&& 31)))))) b n1))) (upd (xk ((sn_ ((su_ ((st_ S (nI ((b + 1) % 6)))) ((xu ((st_ S (nI ((b + 1) % 6))))) ||| (1 <<< ((nI b) &&& 31))))) (upd (xn ((su_ ((st_ S (nI ((b + 1) % 6)))) ((xu ((st_ S (nI ((b + 1) % 6))))) ||| (1 <<< ((nI b) &&& 31)))))) b n1)))) (b * 2) (nb 0))))) (b * 2 + 1) (nb 0))) b hb6) (cwV 1 hts (lw_V q56 q58 qs1 q14 q59) rfl rfl rfl (by decide +kernel) ⟨Nat.le_of_ble_eq_true rfl, Nat.le_of_ble_eq_true rfl⟩) hK hP rfl rfl rfl hl.1 rfl (Nat.le_of_ble_eq_true rfl) dX0_make_77 ⟨Nat.zero_le _, Nat.zero_le _⟩ (fun r (hr : r = 1 + nI b + 8 * xl S b) => ?_)
      subst hr
      refine lv_i2b (v := nb (1 + nI b + 8 * xl S b)) hx hb dX0_make_80 rfl ?_
      refine kw_v hF hK hP hD hS (by omega) dX0_make_81 (fun H locs hP hD hS => ?_)
      refine lv_iconst (v := 0) hx hb dX0_make_82 (by decide) ?_
      exact wr_ret (wf := wX x d) (u := (sv_ ((sk_ ((sk_ ((sn_ ((su_ ((st_ S (nI ((b + 1) % 6)))) ((xu ((st_ S (nI ((b + 1) % 6))))) ||| (1 <<< ((nI b) &&& 31))))) (upd (xn ((su_ ((st_ S (nI ((b + 1) % 6)))) ((xu ((st_ S (nI ((b + 1) % 6))))) ||| (1 <<< ((nI b) &&& 31)))))) b n1))) (upd (xk ((sn_ ((su_ ((st_ S (nI ((b + 1) % 6)))) ((xu ((st_ S (nI ((b + 1) % 6))))) ||| (1 <<< ((nI b) &&& 31))))) (upd (xn ((su_ ((st_ S (nI ((b + 1) % 6)))) ((xu ((st_ S (nI ((b + 1) % 6))))) ||| (1 <<< ((nI b) &&& 31)))))) b n1)))) (b * 2) (nb 0)))) (upd (xk ((sk_ ((sn_ ((su_ ((st_ S (nI ((b + 1) % 6)))) ((xu ((st_ S (nI ((b + 1) % 6))))) ||| (1 <<< ((nI b) &&& 31))))) (upd (xn ((su_ ((st_ S (nI ((b + 1) % 6)))) ((xu ((st_ S (nI ((b + 1) % 6))))) ||| (1 <<< ((nI b) &&& 31)))))) b n1))) (upd (xk ((sn_ ((su_ ((st_ S (nI ((b + 1) % 6)))) ((xu ((st_ S (nI ((b + 1) % 6))))) ||| (1 <<< ((nI b) &&& 31))))) (upd (xn ((su_ ((st_ S (nI ((b + 1) % 6)))) ((xu ((st_ S (nI ((b + 1) % 6))))) ||| (1 <<< ((nI b) &&& 31)))))) b n1)))) (b * 2) (nb 0))))) (b * 2 + 1) (nb 0)))) (upd (xv ((sk_ ((sk_ ((sn_ ((su_ ((st_ S (nI ((b + 1) % 6)))) ((xu ((st_ S (nI ((b + 1) % 6))))) ||| (1 <<< ((nI b) &&& 31))))) (upd (xn ((su_ ((st_ S (nI ((b + 1) % 6)))) ((xu ((st_ S (nI ((b + 1) % 6))))) ||| (1 <<< ((nI b) &&& 31)))))) b n1))) (upd (xk ((sn_ ((su_ ((st_ S (nI ((b + 1) % 6)))) ((xu ((st_ S (nI ((b + 1) % 6))))) ||| (1 <<< ((nI b) &&& 31))))) (upd (xn ((su_ ((st_ S (nI ((b + 1) % 6)))) ((xu ((st_ S (nI ((b + 1) % 6))))) ||| (1 <<< ((nI b) &&& 31)))))) b n1)))) (b * 2) (nb 0)))) (upd (xk ((sk_ ((sn_ ((su_ ((st_ S (nI ((b + 1) % 6)))) ((xu ((st_ S (nI ((b + 1) % 6))))) ||| (1 <<< ((nI b) &&& 31))))) (upd (xn ((su_ ((st_ S (nI ((b + 1) % 6)))) ((xu ((st_ S (nI ((b + 1) % 6))))) ||| (1 <<< ((nI b) &&& 31)))))) b n1))) (upd (xk ((sn_ ((su_ ((st_ S (nI ((b + 1) % 6)))) ((xu ((st_ S (nI ((b + 1) % 6))))) ||| (1 <<< ((nI b) &&& 31))))) (upd (xn ((su_ ((st_ S (nI ((b + 1) % 6)))) ((xu ((st_ S (nI ((b + 1) % 6))))) ||| (1 <<< ((nI b) &&& 31)))))) b n1)))) (b * 2) (nb 0))))) (b * 2 + 1) (nb 0))))) j (nb (nb (1 + nI b + 8 * xl S b)))))) hx hb hrt hlocks hK hP hD hS (Or.inl ⟨j, hj, rfl, Or.inl ⟨b, hb6, hbz, rfl, rfl⟩⟩) dX0_make_83
    · refine lv_istore_n (lv' := [(3, .int (-1)), (0, .ref x.1), (1, .int (nI j)), (2, .int n1)]) hx hb dX0_make_13 rfl hl (by decide) rfl (fun ls hl => ?_)
      refine lv_iload_n hx hb dX0_make_14 rfl (lv_at hl 0 rfl) ?_
      refine lv_if_ge (tgt := 21) hx hb dX0_make_15 (by decide) (fun c0 => absurd c0 (by decide)) (fun _ => ?_)
      refine lv_bipush (v := -2) hx hb dX0_make_18 (by decide) ?_
      exact wr_ret (wf := wX x d) (u := S) hx hb hrt hlocks hK hP hD hS (Or.inl ⟨j, hj, rfl, Or.inr ⟨hall, rfl, rfl⟩⟩) dX0_make_20
  · refine lv_if_ne (tgt := 9) hx hb dX0_make_4 (by decide) (fun c0 => absurd (rfl) c0) (fun _ => ?_)
    refine lv_iconst (v := -1) hx hb dX0_make_7 (by decide) ?_
    exact wr_ret (wf := wX x d) (u := S) hx hb hrt hlocks hK hP hD hS (Or.inr ⟨hnv1, rfl, rfl⟩) dX0_make_8
set_option maxHeartbeats 4000000 in
theorem cX_retire (l : Launch) (g : va_G) (x : XA) (d : XC) (S : XS) (sz : Nat) (b : Nat) (hb8 : b < 8) : Met l yX0_retire (ws_ yX0_retire cX0_retire 3 none) ({ frames := 1, cells := 0, slots := 0, locals := 20 }) (WrC g (tX d) (wX x d S) sz [.ref x.1, .int (nI b)]) (va_Qv (fun T => T = sk_ (sv_ S (rt (xv S) b 8)) (rt (xk S) b 12)) (WB g (tX d) (wX x d) (va_A (wX x d S) sz)) (va_A (wX x d S) sz)) 0 0 (va_A (wX x d S) sz) := by
  refine Met.ofW (cc := cX0_retire) (maxL := 3) (ret := none) (by decide) rfl ?_
  intro p e s m args below meth c s₁ B hml hv
  obtain ⟨rfl, hsz, hP, hK, hD0⟩ := hv
  have hx := B.exec
  have hb := B.bytes
  have hrt := B.returns
  have hlocks := B.notSynchronized
  have hts0 := atoms_spec (ws := ws_ yX0_retire cX0_retire 3 none) B.pre
  have hts : ∀ w ∈ lw_all, w.before ([.ref x.1, .int (nI b)] : List Value).toArray s = true := fun w h => hts0 w (List.mem_cons_of_mem _ h)
  have hown : s.vm.findClass RX0 = some m.cls := findClass_of_methodNamed B.named
  have hF : CallFix p m c cX0_retire 3 s ([.ref x.1, .int (nI b)] : List Value).toArray lw_all RX0 := ⟨hx, hb, hml, hown, hts⟩
  subst hsz
  have hD := hD0.self (sz := s.heap.size)
  generalize hAe : va_A (wX x d S) s.heap.size = A at hD ⊢
  have hA : ∀ q : Nat, s.heap.size ≤ q → A q := fun q h => by rw [← hAe]; exact Or.inr h
  have hS : va_S A s.heap s.heap [] := va_S.rf
  have hl := lv_entry ([.ref x.1, .int (nI b)]) (n := 3) (Nat.le_of_ble_eq_true rfl)
  rw [lg_entry_eq]
  generalize (lg_sl ([.ref x.1, .int (nI b)]) ++ List.replicate (3 - (lg_sl ([.ref x.1, .int (nI b)])).length) Slot.unset).toArray = ls at hl ⊢
  have hl : lv_has ls 3 [(0, .ref x.1), (1, .int (nI b))] := hl
  try dsimp only at hP
  have loopk : ∀ (n : Nat) (i : Nat), i + n = 12 → ∀ (H : Heap) (locs : List Loc), va_P g vwCl (wX x d (sk_ (sv_ S (rt (xv S) b 8)) (rt (xk S) b i))) H → va_D A (wX x d (sk_ (sv_ S (rt (xv S) b 8)) (rt (xk S) b i))) → va_S A s.heap H locs → ∀ (ls : Array Slot), lv_has ls 3 [(0, .ref x.1), (1, .int (nI b)), (2, .int (nI i))] → W p l e (headSpec (ws_ yX0_retire cX0_retire 3 none) ({ frames := 1, cells := 0, slots := 0, locals := 20 })).room s m ([.ref x.1, .int (nI b)] : List Value).toArray below meth c H locs 0 0 (MQ below (va_Qv (fun T => T = sk_ (sv_ S (rt (xv S) b 8)) (rt (xk S) b 12)) (WB g (tX d) (wX x d) A) A) ([.ref x.1, .int (nI b)] : List Value).toArray s 0 0 A) (F0 m 45 ls []) := by
    intro n
    induction n with
    | zero =>
      intro i hi H locs hP hD hS ls hl
      obtain rfl : i = 12 := by omega
      refine lv_iload_n hx hb dX0_retire_45 rfl (lv_at hl 2 rfl) ?_
      refine lv_bipush (v := 12) hx hb dX0_retire_46 (by decide) ?_
      refine lv_icmp_ge (tgt := 86) hx hb dX0_retire_48 (by decide) (fun _ => ?_) (fun c0 => absurd (by decide) c0)
      exact wr_retv (wf := wX x d) (u := (sk_ (sv_ S (rt (xv S) b 8)) (rt (xk S) b 12))) hx hb hrt hlocks hK hP hD hS (rfl) dX0_retire_86
    | succ n ih =>
      intro i hi H locs hP hD hS ls hl
      refine lv_iload_n hx hb dX0_retire_45 rfl (lv_at hl 2 rfl) ?_
      refine lv_bipush (v := 12) hx hb dX0_retire_46 (by decide) ?_
      refine lv_icmp_ge (tgt := 86) hx hb dX0_retire_48 (by decide) (fun c0 => absurd c0 (nI_ge (a := i) (b := 12) (by omega) (by decide))) (fun _ => ?_)
      refine lv_aload_n hx hb dX0_retire_51 rfl (lv_at hl 0 rfl) ?_
      refine kg_k hF hK hP dX0_retire_52 ?_
      refine lv_iload_n hx hb dX0_retire_55 rfl (lv_at hl 2 rfl) ?_
      refine kr_k hF hK hP (by omega) dX0_retire_56 ?_
      refine lv_asi (w := xk S i) (rt_at) ?_
      refine lv_if_le (tgt := 80) hx hb dX0_retire_57 (by decide) (fun c1 => ?_) (fun c1 => ?_)
      · have hP : va_P g vwCl (wX x d (sk_ (sv_ S (rt (xv S) b 8)) (rt (xk S) b (i + 1)))) H := by rw [← rt_miss (f := xk S) (b := b) (i := i) (fun q => absurd c1 (Int32.not_le.mpr q.1))]; exact hP
        have hD : va_D A (wX x d (sk_ (sv_ S (rt (xv S) b 8)) (rt (xk S) b (i + 1)))) := by rw [← rt_miss (f := xk S) (b := b) (i := i) (fun q => absurd c1 (Int32.not_le.mpr q.1))]; exact hD
        refine lv_iinc (v := nI (i + 1)) (lv' := [(2, .int (nI (i + 1))), (0, .ref x.1), (1, .int (nI b))]) hx hb dX0_retire_80 hl (k := 2) rfl (by exact nI_1 i) (by decide) rfl (fun ls hl => ?_)
        refine lv_goto (tgt := 45) hx hb dX0_retire_83 (by decide) ?_
        exact ih (i + 1) (by omega) H locs hP hD hS ls (lv_sub hl [1, 2, 0] rfl)
      · refine lv_aload_n hx hb dX0_retire_60 rfl (lv_at hl 0 rfl) ?_
        refine kg_k hF hK hP dX0_retire_61 ?_
        refine lv_iload_n hx hb dX0_retire_64 rfl (lv_at hl 2 rfl) ?_
        refine kr_k hF hK hP (by omega) dX0_retire_65 ?_
        refine lv_asi (w := xk S i) (rt_at) ?_
        refine rd_S (As := [.int (xk S i)]) (rest := []) hF (cX_blockOf l (xk S i)) (va_cwS 1 hts (lw_S q72 q73 q14 q74) rfl rfl rfl (by decide +kernel) ⟨Nat.le_of_ble_eq_true rfl, Nat.le_of_ble_eq_true rfl⟩) rfl hl.1 rfl (Nat.le_of_ble_eq_true rfl) dX0_retire_66 ⟨Nat.zero_le _, Nat.zero_le _⟩ (fun r (hr : r = nI (kb (xk S i))) => ?_)
        subst hr
        refine lv_iload_n hx hb dX0_retire_69 rfl (lv_at hl 1 rfl) ?_
        refine lv_icmp_ne (tgt := 80) hx hb dX0_retire_70 (by decide) (fun c2 => ?_) (fun c2 => ?_)
        · have hP : va_P g vwCl (wX x d (sk_ (sv_ S (rt (xv S) b 8)) (rt (xk S) b (i + 1)))) H := by rw [← rt_miss (f := xk S) (b := b) (i := i) (fun q => c2 (by rw [q.2]))]; exact hP
          have hD : va_D A (wX x d (sk_ (sv_ S (rt (xv S) b 8)) (rt (xk S) b (i + 1)))) := by rw [← rt_miss (f := xk S) (b := b) (i := i) (fun q => c2 (by rw [q.2]))]; exact hD
          refine lv_iinc (v := nI (i + 1)) (lv' := [(2, .int (nI (i + 1))), (0, .ref x.1), (1, .int (nI b))]) hx hb dX0_retire_80 hl (k := 2) rfl (by exact nI_1 i) (by decide) rfl (fun ls hl => ?_)
          refine lv_goto (tgt := 45) hx hb dX0_retire_83 (by decide) ?_
          exact ih (i + 1) (by omega) H locs hP hD hS ls (lv_sub hl [1, 2, 0] rfl)
        · have hkb : kb (xk S i) = b := (nI_eq (by have := kb_lt (xk S i); omega) (by omega)).mp c2
          refine lv_aload_n hx hb dX0_retire_73 rfl (lv_at hl 0 rfl) ?_
          refine kg_k hF hK hP dX0_retire_74 ?_
          refine lv_iload_n hx hb dX0_retire_77 rfl (lv_at hl 2 rfl) ?_
          refine lv_iconst (v := -1) hx hb dX0_retire_78 (by decide) ?_
          refine kw_k hF hK hP hD hS (by omega) dX0_retire_79 (fun H locs hP hD hS => ?_)
          have hP : va_P g vwCl (wX x d (sk_ (sv_ S (rt (xv S) b 8)) (rt (xk S) b (i + 1)))) H := by rw [← rt_hit (f := xk S) (b := b) (i := i) (Int32.not_le.mp c1) hkb]; exact hP
          have hD : va_D A (wX x d (sk_ (sv_ S (rt (xv S) b 8)) (rt (xk S) b (i + 1)))) := by rw [← rt_hit (f := xk S) (b := b) (i := i) (Int32.not_le.mp c1) hkb]; exact hD
          refine lv_iinc (v := nI (i + 1)) (lv' := [(2, .int (nI (i + 1))), (0, .ref x.1), (1, .int (nI b))]) hx hb dX0_retire_80 hl (k := 2) rfl (by exact nI_1 i) (by decide) rfl (fun ls hl => ?_)
          refine lv_goto (tgt := 45) hx hb dX0_retire_83 (by decide) ?_
          exact ih (i + 1) (by omega) H locs hP hD hS ls (lv_sub hl [1, 2, 0] rfl)
  have loopv : ∀ (n : Nat) (i : Nat), i + n = 8 → ∀ (H : Heap) (locs : List Loc), va_P g vwCl (wX x d (sv_ S (rt (xv S) b i))) H → va_D A (wX x d (sv_ S (rt (xv S) b i))) → va_S A s.heap H locs → ∀ (ls : Array Slot), lv_has ls 3 [(0, .ref x.1), (1, .int (nI b)), (2, .int (nI i))] → W p l e (headSpec (ws_ yX0_retire cX0_retire 3 none) ({ frames := 1, cells := 0, slots := 0, locals := 20 })).room s m ([.ref x.1, .int (nI b)] : List Value).toArray below meth c H locs 0 0 (MQ below (va_Qv (fun T => T = sk_ (sv_ S (rt (xv S) b 8)) (rt (xk S) b 12)) (WB g (tX d) (wX x d) A) A) ([.ref x.1, .int (nI b)] : List Value).toArray s 0 0 A) (F0 m 2 ls []) := by
    intro n
    induction n with
    | zero =>
      intro i hi H locs hP hD hS ls hl
      obtain rfl : i = 8 := by omega
      refine lv_iload_n hx hb dX0_retire_2 rfl (lv_at hl 2 rfl) ?_
      refine lv_bipush (v := 8) hx hb dX0_retire_3 (by decide) ?_
      refine lv_icmp_ge (tgt := 43) hx hb dX0_retire_5 (by decide) (fun _ => ?_) (fun c0 => absurd (by decide) c0)
      refine lv_iconst (v := 0) hx hb dX0_retire_43 (by decide) ?_
      refine lv_istore_n (lv' := [(2, .int 0), (0, .ref x.1), (1, .int (nI b))]) hx hb dX0_retire_44 rfl hl (by decide) rfl (fun ls hl => ?_)
      have hP : va_P g vwCl (wX x d (sk_ (sv_ S (rt (xv S) b 8)) (rt (xk S) b 0))) H := by rw [rt_0]; exact hP
      have hD : va_D A (wX x d (sk_ (sv_ S (rt (xv S) b 8)) (rt (xk S) b 0))) := by rw [rt_0]; exact hD
      exact loopk 12 0 (by omega) H locs hP hD hS ls (lv_sub hl [1, 2, 0] rfl)
    | succ n ih =>
      intro i hi H locs hP hD hS ls hl
      refine lv_iload_n hx hb dX0_retire_2 rfl (lv_at hl 2 rfl) ?_
      refine lv_bipush (v := 8) hx hb dX0_retire_3 (by decide) ?_
      refine lv_icmp_ge (tgt := 43) hx hb dX0_retire_5 (by decide) (fun c0 => absurd c0 (nI_ge (a := i) (b := 8) (by omega) (by decide))) (fun _ => ?_)
      refine lv_aload_n hx hb dX0_retire_8 rfl (lv_at hl 0 rfl) ?_
      refine kg_v hF hK hP dX0_retire_9 ?_
      refine lv_iload_n hx hb dX0_retire_12 rfl (lv_at hl 2 rfl) ?_
      refine kr_v hF hK hP (by omega) dX0_retire_13 ?_
      refine lv_asi (w := xv S i) (rt_at) ?_
      refine lv_if_le (tgt := 37) hx hb dX0_retire_14 (by decide) (fun c1 => ?_) (fun c1 => ?_)
      · have hP : va_P g vwCl (wX x d (sv_ S (rt (xv S) b (i + 1)))) H := by rw [← rt_miss (f := xv S) (b := b) (i := i) (fun q => absurd c1 (Int32.not_le.mpr q.1))]; exact hP
        have hD : va_D A (wX x d (sv_ S (rt (xv S) b (i + 1)))) := by rw [← rt_miss (f := xv S) (b := b) (i := i) (fun q => absurd c1 (Int32.not_le.mpr q.1))]; exact hD
        refine lv_iinc (v := nI (i + 1)) (lv' := [(2, .int (nI (i + 1))), (0, .ref x.1), (1, .int (nI b))]) hx hb dX0_retire_37 hl (k := 2) rfl (by exact nI_1 i) (by decide) rfl (fun ls hl => ?_)
        refine lv_goto (tgt := 2) hx hb dX0_retire_40 (by decide) ?_
        exact ih (i + 1) (by omega) H locs hP hD hS ls (lv_sub hl [1, 2, 0] rfl)
      · refine lv_aload_n hx hb dX0_retire_17 rfl (lv_at hl 0 rfl) ?_
        refine kg_v hF hK hP dX0_retire_18 ?_
        refine lv_iload_n hx hb dX0_retire_21 rfl (lv_at hl 2 rfl) ?_
        refine kr_v hF hK hP (by omega) dX0_retire_22 ?_
        refine lv_asi (w := xv S i) (rt_at) ?_
        refine rd_S (As := [.int (xv S i)]) (rest := []) hF (cX_blockOf l (xv S i)) (va_cwS 1 hts (lw_S q72 q73 q14 q74) rfl rfl rfl (by decide +kernel) ⟨Nat.le_of_ble_eq_true rfl, Nat.le_of_ble_eq_true rfl⟩) rfl hl.1 rfl (Nat.le_of_ble_eq_true rfl) dX0_retire_23 ⟨Nat.zero_le _, Nat.zero_le _⟩ (fun r (hr : r = nI (kb (xv S i))) => ?_)
        subst hr
        refine lv_iload_n hx hb dX0_retire_26 rfl (lv_at hl 1 rfl) ?_
        refine lv_icmp_ne (tgt := 37) hx hb dX0_retire_27 (by decide) (fun c2 => ?_) (fun c2 => ?_)
        · have hP : va_P g vwCl (wX x d (sv_ S (rt (xv S) b (i + 1)))) H := by rw [← rt_miss (f := xv S) (b := b) (i := i) (fun q => c2 (by rw [q.2]))]; exact hP
          have hD : va_D A (wX x d (sv_ S (rt (xv S) b (i + 1)))) := by rw [← rt_miss (f := xv S) (b := b) (i := i) (fun q => c2 (by rw [q.2]))]; exact hD
          refine lv_iinc (v := nI (i + 1)) (lv' := [(2, .int (nI (i + 1))), (0, .ref x.1), (1, .int (nI b))]) hx hb dX0_retire_37 hl (k := 2) rfl (by exact nI_1 i) (by decide) rfl (fun ls hl => ?_)
          refine lv_goto (tgt := 2) hx hb dX0_retire_40 (by decide) ?_
          exact ih (i + 1) (by omega) H locs hP hD hS ls (lv_sub hl [1, 2, 0] rfl)
        · have hkb : kb (xv S i) = b := (nI_eq (by have := kb_lt (xv S i); omega) (by omega)).mp c2
          refine lv_aload_n hx hb dX0_retire_30 rfl (lv_at hl 0 rfl) ?_
          refine kg_v hF hK hP dX0_retire_31 ?_
          refine lv_iload_n hx hb dX0_retire_34 rfl (lv_at hl 2 rfl) ?_
          refine lv_iconst (v := -1) hx hb dX0_retire_35 (by decide) ?_
          refine kw_v hF hK hP hD hS (by omega) dX0_retire_36 (fun H locs hP hD hS => ?_)
          have hP : va_P g vwCl (wX x d (sv_ S (rt (xv S) b (i + 1)))) H := by rw [← rt_hit (f := xv S) (b := b) (i := i) (Int32.not_le.mp c1) hkb]; exact hP
          have hD : va_D A (wX x d (sv_ S (rt (xv S) b (i + 1)))) := by rw [← rt_hit (f := xv S) (b := b) (i := i) (Int32.not_le.mp c1) hkb]; exact hD
          refine lv_iinc (v := nI (i + 1)) (lv' := [(2, .int (nI (i + 1))), (0, .ref x.1), (1, .int (nI b))]) hx hb dX0_retire_37 hl (k := 2) rfl (by exact nI_1 i) (by decide) rfl (fun ls hl => ?_)
          refine lv_goto (tgt := 2) hx hb dX0_retire_40 (by decide) ?_
          exact ih (i + 1) (by omega) H locs hP hD hS ls (lv_sub hl [1, 2, 0] rfl)
  refine lv_iconst (v := 0) hx hb dX0_retire_0 (by decide) ?_
  refine lv_istore_n (lv' := [(2, .int 0), (0, .ref x.1), (1, .int (nI b))]) hx hb dX0_retire_1 rfl hl (by decide) rfl (fun ls hl => ?_)
  have hP : va_P g vwCl (wX x d (sv_ S (rt (xv S) b 0))) s.heap := by rw [rt_0]; exact hP
  have hD : va_D A (wX x d (sv_ S (rt (xv S) b 0))) := by rw [rt_0]; exact hD
  exact loopv 8 0 (by omega) s.heap [] hP hD hS ls (lv_sub hl [1, 2, 0] rfl)
set_option maxHeartbeats 4000000 in
theorem cX_release (l : Launch) (g : va_G) (x : XA) (d : XC) (S : XS) (sz : Nat) (b : Nat) (hb6 : b < 6) : Met l yX0_release (ws_ yX0_release cX0_release 2 none) ({ frames := 2, cells := 0, slots := 0, locals := 42 }) (WrC g (tX d) (wX x d S) sz [.ref x.1, .int (nI b)]) (va_Qv (fun T => T = relF S b) (WB g (tX d) (wX x d) (va_A (wX x d S) sz)) (va_A (wX x d S) sz)) 0 0 (va_A (wX x d S) sz) := by
  refine Met.ofW (cc := cX0_release) (maxL := 2) (ret := none) (by decide) rfl ?_
  intro p e s m args below meth c s₁ B hml hv
  obtain ⟨rfl, hsz, hP, hK, hD0⟩ := hv
  have hx := B.exec
  have hb := B.bytes
  have hrt := B.returns
  have hlocks := B.notSynchronized
  have hts0 := atoms_spec (ws := ws_ yX0_release cX0_release 2 none) B.pre
  have hts : ∀ w ∈ lw_all, w.before ([.ref x.1, .int (nI b)] : List Value).toArray s = true := fun w h => hts0 w (List.mem_cons_of_mem _ h)
  have hown : s.vm.findClass RX0 = some m.cls := findClass_of_methodNamed B.named
  have hF : CallFix p m c cX0_release 2 s ([.ref x.1, .int (nI b)] : List Value).toArray lw_all RX0 := ⟨hx, hb, hml, hown, hts⟩
  subst hsz
  have hD := hD0.self (sz := s.heap.size)
  generalize hAe : va_A (wX x d S) s.heap.size = A at hD ⊢
  have hA : ∀ q : Nat, s.heap.size ≤ q → A q := fun q h => by rw [← hAe]; exact Or.inr h
  have hS : va_S A s.heap s.heap [] := va_S.rf
  have hl := lv_entry ([.ref x.1, .int (nI b)]) (n := 2) (Nat.le_of_ble_eq_true rfl)
  rw [lg_entry_eq]
  generalize (lg_sl ([.ref x.1, .int (nI b)]) ++ List.replicate (2 - (lg_sl ([.ref x.1, .int (nI b)])).length) Slot.unset).toArray = ls at hl ⊢
  have hl : lv_has ls 2 [(0, .ref x.1), (1, .int (nI b))] := hl
  try dsimp only at hP
  refine lv_aload_n hx hb dX0_release_0 rfl (lv_at hl 0 rfl) ?_
  refine lv_dup hx hb dX0_release_1 rfl ?_
  refine kg_u hF hK hP dX0_release_2 ?_
  refine lv_iconst (v := 1) hx hb dX0_release_5 (by decide) ?_
  refine lv_iload_n hx hb dX0_release_6 rfl (lv_at hl 1 rfl) ?_
  refine lv_ishl hx hb dX0_release_7 ?_
  refine lv_iconst (v := -1) hx hb dX0_release_8 (by decide) ?_
  refine lv_ixor hx hb dX0_release_9 ?_
  refine lv_iand hx hb dX0_release_10 ?_
  refine kp_u hF hK hP hD hS dX0_release_11 (fun H locs hP hD hS => ?_)
  refine lv_aload_n hx hb dX0_release_14 rfl (lv_at hl 0 rfl) ?_
  refine kg_l hF hK hP dX0_release_15 ?_
  refine lv_iload_n hx hb dX0_release_18 rfl (lv_at hl 1 rfl) ?_
  refine kr_l hF hK hP (by omega) dX0_release_19 ?_
  refine lv_iconst (v := 3) hx hb dX0_release_20 (by decide) ?_
  refine lv_icmp_ge (tgt := 38) hx hb dX0_release_21 (by decide) (fun c1 => ?_) (fun c1 => ?_)
  · refine lv_aload_n hx hb dX0_release_38 rfl (lv_at hl 0 rfl) ?_
    refine lv_iload_n hx hb dX0_release_39 rfl (lv_at hl 1 rfl) ?_
    refine wr_Vv0 (wf := wX x d) (S0 := (su_ S ((xu S) &&& ((1 <<< ((nI b) &&& 31)) ^^^ (-1))))) (ci := 0) (As := [.int (nI b)]) (rest := []) hF (fun sz => cX_retire l g x d (su_ S ((xu S) &&& ((1 <<< ((nI b) &&& 31)) ^^^ (-1)))) sz b (by omega)) (cwV 1 hts (lw_V q79 q81 qs5 q14 q82) rfl rfl rfl (by decide +kernel) ⟨Nat.le_of_ble_eq_true rfl, Nat.le_of_ble_eq_true rfl⟩) hK hP hD hS hA rfl rfl rfl hl.1 rfl (Nat.le_of_ble_eq_true rfl) dX0_release_40 ⟨Nat.zero_le _, Nat.zero_le _⟩ (fun T H locs (hT : T = sk_ (sv_ (su_ S (cu (xu S) b)) (rt (xv S) b 8)) (rt (xk S) b 12)) hP hD hS => ?_)
    subst hT
    refine lv_aload_n hx hb dX0_release_43 rfl (lv_at hl 0 rfl) ?_
    refine kg_l hF hK hP dX0_release_44 ?_
    refine lv_iload_n hx hb dX0_release_47 rfl (lv_at hl 1 rfl) ?_
    refine lv_iconst (v := 0) hx hb dX0_release_48 (by decide) ?_
    refine kw_l hF hK hP hD hS (by omega) dX0_release_49 (fun H locs hP hD hS => ?_)
    exact wr_retv (wf := wX x d) (u := (sl_ ((sk_ (sv_ (su_ S (cu (xu S) b)) (rt (xv S) b 8)) (rt (xk S) b 12))) (upd (xl ((sk_ (sv_ (su_ S (cu (xu S) b)) (rt (xv S) b 8)) (rt (xk S) b 12)))) b (nb 0)))) hx hb hrt hlocks hK hP hD hS (by show _ = relF S b; unfold relF; rw [if_pos c1]; rfl) dX0_release_50
  · refine lv_aload_n hx hb dX0_release_24 rfl (lv_at hl 0 rfl) ?_
    refine kg_l hF hK hP dX0_release_25 ?_
    refine lv_iload_n hx hb dX0_release_28 rfl (lv_at hl 1 rfl) ?_
    refine lv_dup2_11 hx hb dX0_release_29 rfl rfl ?_
    refine kr_l hF hK hP (by omega) dX0_release_30 ?_
    refine lv_iconst (v := 1) hx hb dX0_release_31 (by decide) ?_
    refine lv_iadd hx hb dX0_release_32 ?_
    refine lv_i2b (v := nb ((xl ((su_ S ((xu S) &&& ((1 <<< ((nI b) &&& 31)) ^^^ (-1))))) b) + 1)) hx hb dX0_release_33 rfl ?_
    refine kw_l hF hK hP hD hS (by omega) dX0_release_34 (fun H locs hP hD hS => ?_)
    refine lv_goto (tgt := 50) hx hb dX0_release_35 (by decide) ?_
    exact wr_retv (wf := wX x d) (u := (sl_ ((su_ S ((xu S) &&& ((1 <<< ((nI b) &&& 31)) ^^^ (-1))))) (upd (xl ((su_ S ((xu S) &&& ((1 <<< ((nI b) &&& 31)) ^^^ (-1)))))) b (nb (nb ((xl ((su_ S ((xu S) &&& ((1 <<< ((nI b) &&& 31)) ^^^ (-1))))) b) + 1)))))) hx hb hrt hlocks hK hP hD hS (by show _ = relF S b; unfold relF; rw [if_neg c1]; rfl) dX0_release_50
set_option maxHeartbeats 4000000 in
theorem cX_dispose (l : Launch) (g : va_G) (x : XA) (d : XC) (S : XS) (sz : Nat) (v1 : Int32) (hu : XU S) : Met l yX0_dispose (ws_ yX0_dispose cX0_dispose 4 (some .int)) ({ frames := 3, cells := 0, slots := 0, locals := 66 }) (WrC g (tX d) (wX x d S) sz [.ref x.1, .int v1]) (va_Qi (fun r T => (∃ j, j < 8 ∧ v1 = nI j ∧ ((xst S (xv S j) = 1 ∧ r = 0 ∧ T = relF S (kb (xv S j))) ∨ (¬ xst S (xv S j) = 1 ∧ r = fl (xst S (xv S j)) ∧ T = S))) ∨ (¬ IsV v1 ∧ r = -1 ∧ T = S)) (WB g (tX d) (wX x d) (va_A (wX x d S) sz)) (va_A (wX x d S) sz)) 0 0 (va_A (wX x d S) sz) := by
  refine Met.ofW (cc := cX0_dispose) (maxL := 4) (ret := (some .int)) (by decide) rfl ?_
  intro p e s m args below meth c s₁ B hml hv
  obtain ⟨rfl, hsz, hP, hK, hD0⟩ := hv
  have hx := B.exec
  have hb := B.bytes
  have hrt := B.returns
  have hlocks := B.notSynchronized
  have hts0 := atoms_spec (ws := ws_ yX0_dispose cX0_dispose 4 (some .int)) B.pre
  have hts : ∀ w ∈ lw_all, w.before ([.ref x.1, .int v1] : List Value).toArray s = true := fun w h => hts0 w (List.mem_cons_of_mem _ h)
  have hown : s.vm.findClass RX0 = some m.cls := findClass_of_methodNamed B.named
  have hF : CallFix p m c cX0_dispose 4 s ([.ref x.1, .int v1] : List Value).toArray lw_all RX0 := ⟨hx, hb, hml, hown, hts⟩
  subst hsz
  have hD := hD0.self (sz := s.heap.size)
  generalize hAe : va_A (wX x d S) s.heap.size = A at hD ⊢
  have hA : ∀ q : Nat, s.heap.size ≤ q → A q := fun q h => by rw [← hAe]; exact Or.inr h
  have hS : va_S A s.heap s.heap [] := va_S.rf
  have hl := lv_entry ([.ref x.1, .int v1]) (n := 4) (Nat.le_of_ble_eq_true rfl)
  rw [lg_entry_eq]
  generalize (lg_sl ([.ref x.1, .int v1]) ++ List.replicate (4 - (lg_sl ([.ref x.1, .int v1])).length) Slot.unset).toArray = ls at hl ⊢
  have hl : lv_has ls 4 [(0, .ref x.1), (1, .int v1)] := hl
  try dsimp only at hP
  refine lv_iload_n hx hb dX0_dispose_0 rfl (lv_at hl 1 rfl) ?_
  refine rd_S (As := [.int v1]) (rest := []) hF (cX_isVariable l v1) (va_cwS 1 hts (lw_S q49 q50 q14 q51) rfl rfl rfl (by decide +kernel) ⟨Nat.le_of_ble_eq_true rfl, Nat.le_of_ble_eq_true rfl⟩) rfl hl.1 rfl (Nat.le_of_ble_eq_true rfl) dX0_dispose_1 ⟨Nat.zero_le _, Nat.zero_le _⟩ (fun r hr => ?_)
  rcases hr with ⟨rfl, j, hj, rfl⟩ | ⟨rfl, hnv1⟩
  · refine lv_if_ne (tgt := 9) hx hb dX0_dispose_4 (by decide) (fun _ => ?_) (fun c0 => absurd c0 (by decide))
    refine lv_aload_n hx hb dX0_dispose_9 rfl (lv_at hl 0 rfl) ?_
    refine lv_iload_n hx hb dX0_dispose_10 rfl (lv_at hl 1 rfl) ?_
    refine rd_V (ci := 0) (As := [.int (nI j)]) (rest := []) hF (cX_check l g x d S j hj hu) (cwV 1 hts (lw_V q64 q66 qs2 q14 q67) rfl rfl rfl (by decide +kernel) ⟨Nat.le_of_ble_eq_true rfl, Nat.le_of_ble_eq_true rfl⟩) hK hP rfl rfl rfl hl.1 rfl (Nat.le_of_ble_eq_true rfl) dX0_dispose_11 ⟨Nat.zero_le _, Nat.zero_le _⟩ (fun r (hr : r = fl (xst S (xv S j))) => ?_)
    subst hr
    refine lv_istore_n (lv' := [(2, .int (fl (xst S (xv S j)))), (0, .ref x.1), (1, .int (nI j))]) hx hb dX0_dispose_14 rfl hl (by decide) rfl (fun ls hl => ?_)
    refine lv_iload_n hx hb dX0_dispose_15 rfl (lv_at hl 0 rfl) ?_
    refine lv_if_ne (tgt := 34) hx hb dX0_dispose_16 (by decide) (fun c1 => ?_) (fun c1 => ?_)
    · have c2 : ¬ xst S (xv S j) = 1 := fun h => c1 ((fl_0 (xst_cases S _)).mpr h)
      refine lv_iload_n hx hb dX0_dispose_34 rfl (lv_at hl 0 rfl) ?_
      exact wr_ret (wf := wX x d) (u := S) hx hb hrt hlocks hK hP hD hS (Or.inl ⟨j, hj, rfl, Or.inr ⟨c2, rfl, rfl⟩⟩) dX0_dispose_35
    · have c2 : xst S (xv S j) = 1 := (fl_0 (xst_cases S _)).mp c1
      have hk := xst_lt6 hu c2
      refine lv_aload_n hx hb dX0_dispose_19 rfl (lv_at hl 1 rfl) ?_
      refine kg_v hF hK hP dX0_dispose_20 ?_
      refine lv_iload_n hx hb dX0_dispose_23 rfl (lv_at hl 2 rfl) ?_
      refine kr_v hF hK hP (by omega) dX0_dispose_24 ?_
      refine rd_S (As := [.int (xv S j)]) (rest := []) hF (cX_blockOf l (xv S j)) (va_cwS 1 hts (lw_S q72 q73 q14 q74) rfl rfl rfl (by decide +kernel) ⟨Nat.le_of_ble_eq_true rfl, Nat.le_of_ble_eq_true rfl⟩) rfl hl.1 rfl (Nat.le_of_ble_eq_true rfl) dX0_dispose_25 ⟨Nat.zero_le _, Nat.zero_le _⟩ (fun r (hr : r = nI (kb (xv S j))) => ?_)
      subst hr
      refine lv_istore_n (lv' := [(3, .int (nI (kb (xv S j)))), (2, .int (fl (xst S (xv S j)))), (0, .ref x.1), (1, .int (nI j))]) hx hb dX0_dispose_28 rfl hl (by decide) rfl (fun ls hl => ?_)
      refine lv_aload_n hx hb dX0_dispose_29 rfl (lv_at hl 2 rfl) ?_
      refine lv_iload_n hx hb dX0_dispose_30 rfl (lv_at hl 0 rfl) ?_
      refine wr_Vv0 (wf := wX x d) (S0 := S) (ci := 0) (As := [.int (nI (kb (xv S j)))]) (rest := []) hF (fun sz => cX_release l g x d S sz (kb (xv S j)) hk) (cwV 1 hts (lw_V q75 q77 qs4 q14 q78) rfl rfl rfl (by decide +kernel) ⟨Nat.le_of_ble_eq_true rfl, Nat.le_of_ble_eq_true rfl⟩) hK hP hD hS hA rfl rfl rfl hl.1 rfl (Nat.le_of_ble_eq_true rfl) dX0_dispose_31 ⟨Nat.zero_le _, Nat.zero_le _⟩ (fun T H locs (hT : T = relF S (kb (xv S j))) hP hD hS => ?_)
      refine lv_iload_n hx hb dX0_dispose_34 rfl (lv_at hl 1 rfl) ?_
      exact wr_ret (wf := wX x d) (u := T) hx hb hrt hlocks hK hP hD hS (Or.inl ⟨j, hj, rfl, Or.inl ⟨c2, c1, hT⟩⟩) dX0_dispose_35
  · refine lv_if_ne (tgt := 9) hx hb dX0_dispose_4 (by decide) (fun c0 => absurd (rfl) c0) (fun _ => ?_)
    refine lv_iconst (v := -1) hx hb dX0_dispose_7 (by decide) ?_
    exact wr_ret (wf := wX x d) (u := S) hx hb hrt hlocks hK hP hD hS (Or.inr ⟨hnv1, rfl, rfl⟩) dX0_dispose_8
set_option maxHeartbeats 4000000 in
theorem cX_sweep (l : Launch) (g : va_G) (x : XA) (d : XC) (S : XS) (sz : Nat)  (hu : XU S) : Met l yX0_sweep (ws_ yX0_sweep cX0_sweep 3 (some .int)) ({ frames := 4, cells := 0, slots := 0, locals := 88 }) (WrC g (tX d) (wX x d S) sz [.ref x.1]) (va_Qi (fun r T => ∃ w, w < 64 ∧ (∀ b, b < 6 → (w.testBit b = true ↔ Rx S b)) ∧ r = sI (bi (xu S &&& (nI w ^^^ (-1)))) 6 ∧ T = swF (xu S &&& (nI w ^^^ (-1))) S 6) (WB g (tX d) (wX x d) (va_A (wX x d S) sz)) (va_A (wX x d S) sz)) 0 0 (va_A (wX x d S) sz) := by
  refine Met.ofW (cc := cX0_sweep) (maxL := 3) (ret := (some .int)) (by decide) rfl ?_
  intro p e s m args below meth c s₁ B hml hv
  obtain ⟨rfl, hsz, hP, hK, hD0⟩ := hv
  have hx := B.exec
  have hb := B.bytes
  have hrt := B.returns
  have hlocks := B.notSynchronized
  have hts0 := atoms_spec (ws := ws_ yX0_sweep cX0_sweep 3 (some .int)) B.pre
  have hts : ∀ w ∈ lw_all, w.before ([.ref x.1] : List Value).toArray s = true := fun w h => hts0 w (List.mem_cons_of_mem _ h)
  have hown : s.vm.findClass RX0 = some m.cls := findClass_of_methodNamed B.named
  have hF : CallFix p m c cX0_sweep 3 s ([.ref x.1] : List Value).toArray lw_all RX0 := ⟨hx, hb, hml, hown, hts⟩
  subst hsz
  have hD := hD0.self (sz := s.heap.size)
  generalize hAe : va_A (wX x d S) s.heap.size = A at hD ⊢
  have hA : ∀ q : Nat, s.heap.size ≤ q → A q := fun q h => by rw [← hAe]; exact Or.inr h
  have hS : va_S A s.heap s.heap [] := va_S.rf
  have hl := lv_entry ([.ref x.1]) (n := 3) (Nat.le_of_ble_eq_true rfl)
  rw [lg_entry_eq]
  generalize (lg_sl ([.ref x.1]) ++ List.replicate (3 - (lg_sl ([.ref x.1])).length) Slot.unset).toArray = ls at hl ⊢
  have hl : lv_has ls 3 [(0, .ref x.1)] := hl
  try dsimp only at hP
  refine lv_aload_n hx hb dX0_sweep_0 rfl (lv_at hl 0 rfl) ?_
  refine kg_u hF hK hP dX0_sweep_1 ?_
  refine lv_aload_n hx hb dX0_sweep_4 rfl (lv_at hl 0 rfl) ?_
  refine rd_V (ci := 0) (As := []) (rest := [.int (xu S)]) hF (cX_mark l g x d S hu) (cwV 0 hts (lw_V q133 q135 qs6 q14 q136) rfl rfl rfl (by decide +kernel) ⟨Nat.le_of_ble_eq_true rfl, Nat.le_of_ble_eq_true rfl⟩) hK hP rfl rfl rfl hl.1 rfl (Nat.le_of_ble_eq_true rfl) dX0_sweep_5 ⟨Nat.zero_le _, Nat.zero_le _⟩ (fun r hr => ?_)
  obtain ⟨w, hw, hR, rfl⟩ := hr
  refine lv_iconst (v := -1) hx hb dX0_sweep_8 (by decide) ?_
  refine lv_ixor hx hb dX0_sweep_9 ?_
  refine lv_iand hx hb dX0_sweep_10 ?_
  refine lv_istore_n (lv' := [(1, .int ((xu S) &&& ((nI w) ^^^ (-1)))), (0, .ref x.1)]) hx hb dX0_sweep_11 rfl hl (by decide) rfl (fun ls hl => ?_)
  generalize hlo : xu S &&& (nI w ^^^ (-1)) = lo at hl
  have loop : ∀ (n : Nat) (i : Nat), i + n = 6 → ∀ (H : Heap) (locs : List Loc), va_P g vwCl (wX x d (swF lo S i)) H → va_D A (wX x d (swF lo S i)) → va_S A s.heap H locs → ∀ (ls : Array Slot), lv_has ls 3 [(0, .ref x.1), (1, .int lo), (2, .int (nI i))] → W p l e (headSpec (ws_ yX0_sweep cX0_sweep 3 (some .int)) ({ frames := 4, cells := 0, slots := 0, locals := 88 })).room s m ([.ref x.1] : List Value).toArray below meth c H locs 0 0 (MQ below (va_Qi (fun r T => ∃ w, w < 64 ∧ (∀ b, b < 6 → (w.testBit b = true ↔ Rx S b)) ∧ r = sI (bi (xu S &&& (nI w ^^^ (-1)))) 6 ∧ T = swF (xu S &&& (nI w ^^^ (-1))) S 6) (WB g (tX d) (wX x d) A) A) ([.ref x.1] : List Value).toArray s 0 0 A) (F0 m 14 ls []) := by
    intro n
    induction n with
    | zero =>
      intro i hi H locs hP hD hS ls hl
      obtain rfl : i = 6 := by omega
      refine lv_iload_n hx hb dX0_sweep_14 rfl (lv_at hl 2 rfl) ?_
      refine lv_bipush (v := 6) hx hb dX0_sweep_15 (by decide) ?_
      refine lv_icmp_ge (tgt := 39) hx hb dX0_sweep_17 (by decide) (fun _ => ?_) (fun c0 => absurd (by decide) c0)
      refine lv_iload_n hx hb dX0_sweep_39 rfl (lv_at hl 1 rfl) ?_
      refine rd_S (As := [.int lo]) (rest := []) hF (cX_sizeOf l lo) (va_cwS 1 hts (lw_S q126 q127 q14 q128) rfl rfl rfl (by decide +kernel) ⟨Nat.le_of_ble_eq_true rfl, Nat.le_of_ble_eq_true rfl⟩) rfl hl.1 rfl (Nat.le_of_ble_eq_true rfl) dX0_sweep_40 ⟨Nat.zero_le _, Nat.zero_le _⟩ (fun r (hr : r = sI (bi lo) 6) => ?_)
      exact wr_ret (wf := wX x d) (u := (swF lo S 6)) hx hb hrt hlocks hK hP hD hS (⟨w, hw, hR, by rw [hlo]; exact hr, by rw [hlo]⟩) dX0_sweep_43
    | succ n ih =>
      intro i hi H locs hP hD hS ls hl
      refine lv_iload_n hx hb dX0_sweep_14 rfl (lv_at hl 2 rfl) ?_
      refine lv_bipush (v := 6) hx hb dX0_sweep_15 (by decide) ?_
      refine lv_icmp_ge (tgt := 39) hx hb dX0_sweep_17 (by decide) (fun c0 => absurd c0 (nI_ge (a := i) (b := 6) (by omega) (by decide))) (fun _ => ?_)
      refine lv_iload_n hx hb dX0_sweep_20 rfl (lv_at hl 1 rfl) ?_
      refine lv_iload_n hx hb dX0_sweep_21 rfl (lv_at hl 2 rfl) ?_
      refine lv_ishr hx hb dX0_sweep_22 ?_
      refine lv_iconst (v := 1) hx hb dX0_sweep_23 (by decide) ?_
      refine lv_iand hx hb dX0_sweep_24 ?_
      refine lv_if_eq (tgt := 33) hx hb dX0_sweep_25 (by decide) (fun c1 => ?_) (fun c1 => ?_)
      · have hn : swF lo S (i + 1) = swF lo S i := if_pos (show bi lo i = 0 from c1)
        refine lv_iinc (v := nI (i + 1)) (lv' := [(2, .int (nI (i + 1))), (0, .ref x.1), (1, .int lo)]) hx hb dX0_sweep_33 hl (k := 2) rfl (by exact nI_1 i) (by decide) rfl (fun ls hl => ?_)
        refine lv_goto (tgt := 14) hx hb dX0_sweep_36 (by decide) ?_
        exact ih (i + 1) (by omega) H locs (by rw [hn]; exact hP) (by rw [hn]; exact hD) hS ls (lv_sub hl [1, 2, 0] rfl)
      · have hn : swF lo S (i + 1) = relF (swF lo S i) i := if_neg (show ¬ bi lo i = 0 from c1)
        refine lv_aload_n hx hb dX0_sweep_28 rfl (lv_at hl 0 rfl) ?_
        refine lv_iload_n hx hb dX0_sweep_29 rfl (lv_at hl 2 rfl) ?_
        refine wr_Vv0 (wf := wX x d) (S0 := (swF lo S i)) (ci := 0) (As := [.int (nI i)]) (rest := []) hF (fun sz => cX_release l g x d (swF lo S i) sz i (by omega)) (cwV 1 hts (lw_V q75 q77 qs4 q14 q78) rfl rfl rfl (by decide +kernel) ⟨Nat.le_of_ble_eq_true rfl, Nat.le_of_ble_eq_true rfl⟩) hK hP hD hS hA rfl rfl rfl hl.1 rfl (Nat.le_of_ble_eq_true rfl) dX0_sweep_30 ⟨Nat.zero_le _, Nat.zero_le _⟩ (fun T H locs (hT : T = relF (swF lo S i) i) hP hD hS => ?_)
        subst hT
        refine lv_iinc (v := nI (i + 1)) (lv' := [(2, .int (nI (i + 1))), (0, .ref x.1), (1, .int lo)]) hx hb dX0_sweep_33 hl (k := 2) rfl (by exact nI_1 i) (by decide) rfl (fun ls hl => ?_)
        refine lv_goto (tgt := 14) hx hb dX0_sweep_36 (by decide) ?_
        exact ih (i + 1) (by omega) H locs (by rw [hn]; exact hP) (by rw [hn]; exact hD) hS ls (lv_sub hl [1, 2, 0] rfl)
  refine lv_iconst (v := 0) hx hb dX0_sweep_12 (by decide) ?_
  refine lv_istore_n (lv' := [(2, .int 0), (1, .int lo), (0, .ref x.1)]) hx hb dX0_sweep_13 rfl hl (by decide) rfl (fun ls hl => ?_)
  exact loop 6 0 (by omega) s.heap [] hP hD hS ls (lv_sub hl [2, 1, 0] rfl)
end
section
/-! the model: what its methods do, and what its six passes reach -/
set_option maxRecDepth 100000
theorem isL_n0 {k : Int32} (h : ¬ IsL k) : ¬ k = 0 := fun e => h (isL_of (Or.inl e))
theorem isL_n1 {k : Int32} (h : ¬ IsL k) : ¬ k = 1 := fun e => h (isL_of (Or.inr e))
/-- a record is made, variable j points to it -/
def mmF (M : MS) (k j : Nat) (n : Int32) : MS := (upd (mv M) j (nI (k + 1)), nI (k + 1), upd (ma M) k (vp_nar .boolean 1), upd (mn M) k n, upd (ml M) k 0, upd (mr M) k 0, ms_ M)
/-- pointer a leads to the living record q -/
def Pt_ (M : MS) (a : Int32) (q : Nat) : Prop := mkd M a = 1 ∧ a = nI (q + 1)
theorem Pt_alive {M : MS} {a : Int32} {q : Nat} (hq : q < 512) (h : Pt_ M a q) : ¬ ma M q = 0 := by
  obtain ⟨h1, rfl⟩ := h
  rw [mkd_pos M hq] at h1
  intro e
  rw [if_pos e] at h1
  exact absurd h1 (by decide)
/-- the records that can be come to -/
def Rm (M : MS) (k : Nat) (b : Nat) : Prop := ∀ P : Nat → Prop, (∀ i, i < 8 → ∀ q, q < 512 → Pt_ M (mv M i) q → P q) → (∀ r, r < k → P r → ∀ q, q < 512 → Pt_ M (ml M r) q → P q) → (∀ r, r < k → P r → ∀ q, q < 512 → Pt_ M (mr M r) q → P q) → P b
theorem Rm_base {M : MS} {k i q : Nat} (hi : i < 8) (hq : q < 512) (h : Pt_ M (mv M i) q) : Rm M k q := fun _ h1 _ _ => h1 i hi q hq h
theorem Rm_l {M : MS} {k r q : Nat} (hr : r < k) (hR : Rm M k r) (hq : q < 512) (h : Pt_ M (ml M r) q) : Rm M k q := fun P h1 h2 h3 => h2 r hr (hR P h1 h2 h3) q hq h
theorem Rm_r {M : MS} {k r q : Nat} (hr : r < k) (hR : Rm M k r) (hq : q < 512) (h : Pt_ M (mr M r) q) : Rm M k q := fun P h1 h2 h3 => h3 r hr (hR P h1 h2 h3) q hq h
theorem Rm_alive {M : MS} {k q : Nat} (h : Rm M k q) : ¬ ma M q = 0 := h (fun q => ¬ ma M q = 0) (fun _ _ _ hq h => Pt_alive hq h) (fun _ _ _ _ hq h => Pt_alive hq h) (fun _ _ _ _ hq h => Pt_alive hq h)
/-- what come(a) does to the marks -/
def CmR (M : MS) (s1 : Nat → Int32) (a : Int32) (s2 : Nat → Int32) : Prop := ∀ q, q < 512 → (¬ s2 q = 0 ↔ (¬ s1 q = 0 ∨ Pt_ M a q))
theorem CmR.no {M : MS} {s1 : Nat → Int32} {a : Int32} (h : ¬ mkd M a = 1) : CmR M s1 a s1 := fun q _ => ⟨Or.inl, fun z => z.elim id (fun z => absurd z.1 h)⟩
theorem nI_inj1 {a b : Nat} (ha : a < 512) (hb : b < 512) (h : nI (a + 1) = nI (b + 1)) : a = b := by
  have := (nI_eq (by omega) (by omega)).mp h
  omega
theorem CmR.old {M : MS} {s1 : Nat → Int32} {a : Int32} {j : Nat} (hj : j < 512) (ha : a = nI (j + 1)) (h : ¬ s1 j = 0) : CmR M s1 a s1 := fun q hq => ⟨Or.inl, fun z => z.elim id (fun z => by
  have := nI_inj1 hq hj (z.2.symm.trans ha)
  subst this
  exact h)⟩
theorem CmR.new {M : MS} {s1 : Nat → Int32} {a : Int32} {j : Nat} (hj : j < 512) (h1 : mkd M a = 1) (ha : a = nI (j + 1)) : CmR M s1 a (upd s1 j (vp_nar .boolean 1)) := by
  intro q hq
  unfold upd
  by_cases e : q = j
  · subst e
    rw [if_pos rfl]
    exact ⟨fun _ => Or.inr ⟨h1, ha⟩, fun _ => by decide⟩
  · rw [if_neg e]
    exact ⟨Or.inl, fun z => z.elim id (fun z => absurd (nI_inj1 hq hj (z.2.symm.trans ha)) e)⟩
def MmI (M : MS) (k : Nat) (sn : Nat → Int32) : Prop := ∀ q, q < 512 → ¬ sn q = 0 → Rm M k q
def MmB (M : MS) (sn : Nat → Int32) (i : Nat) : Prop := ∀ j, j < i → ∀ q, q < 512 → Pt_ M (mv M j) q → ¬ sn q = 0
def MmL (M : MS) (sn s1 : Nat → Int32) (i : Nat) : Prop := (∀ q, q < 512 → ¬ sn q = 0 → ¬ s1 q = 0) ∧ ((∀ q, q < 512 → ¬ s1 q = 0 → ¬ sn q = 0) → ∀ j, j < i → ¬ sn j = 0 → ∀ q, q < 512 → (Pt_ M (ml M j) q → ¬ sn q = 0) ∧ (Pt_ M (mr M j) q → ¬ sn q = 0))
def pm (sn : Nat → Int32) : Nat → Bool := fun q => decide (¬ sn q = 0)
theorem pm_t {sn : Nat → Int32} {q : Nat} : pm sn q = true ↔ ¬ sn q = 0 := by unfold pm; rw [decide_eq_true_iff]
theorem mmI_0 {M : MS} {k : Nat} {sn : Nat → Int32} (h : ∀ q, q < 512 → sn q = 0) : MmI M k sn := fun q hq hn => absurd (h q hq) hn
theorem mmB_0 {M : MS} {sn : Nat → Int32} : MmB M sn 0 := fun j h => absurd h (Nat.not_lt_zero j)
theorem mmI_come {M : MS} {k : Nat} {s1 s2 : Nat → Int32} {a : Int32} (h : MmI M k s1) (hc : CmR M s1 a s2) (hR : ∀ q, q < 512 → Pt_ M a q → Rm M k q) : MmI M k s2 := fun q hq hn => ((hc q hq).mp hn).elim (h q hq) (hR q hq)
theorem mmB_come {M : MS} {s1 s2 : Nat → Int32} {i : Nat} (h : MmB M s1 i) (hc : CmR M s1 (mv M i) s2) : MmB M s2 (i + 1) := by
  intro j hj q hq hp
  by_cases e : j = i
  · subst e; exact (hc q hq).mpr (Or.inr hp)
  · exact (hc q hq).mpr (Or.inl (h j (by omega) q hq hp))
theorem mmL_0 {M : MS} {sn : Nat → Int32} : MmL M sn sn 0 := ⟨fun _ _ h => h, fun _ j h => absurd h (Nat.not_lt_zero j)⟩
theorem mmL_skip {M : MS} {sn s1 : Nat → Int32} {i : Nat} (h : MmL M sn s1 i) (hi : i < 512) (h0 : s1 i = 0) : MmL M sn s1 (i + 1) := by
  refine ⟨h.1, fun he j hj hn q hq => ?_⟩
  by_cases e : j = i
  · subst e; exact absurd h0 (h.1 j hi hn)
  · exact h.2 he j (by omega) hn q hq
theorem mmL_come {M : MS} {sn s1 s2 s3 : Nat → Int32} {i : Nat} (h : MmL M sn s1 i) (c1 : CmR M s1 (ml M i) s2) (c2 : CmR M s2 (mr M i) s3) : MmL M sn s3 (i + 1) := by
  refine ⟨fun q hq hn => (c2 q hq).mpr (Or.inl ((c1 q hq).mpr (Or.inl (h.1 q hq hn)))), fun he j hj hn q hq => ?_⟩
  by_cases e : j = i
  · subst e
    exact ⟨fun hp => he q hq ((c2 q hq).mpr (Or.inl ((c1 q hq).mpr (Or.inr hp)))), fun hp => he q hq ((c2 q hq).mpr (Or.inr hp))⟩
  · exact h.2 (fun q hq hn => he q hq ((c2 q hq).mpr (Or.inl ((c1 q hq).mpr (Or.inl hn))))) j (by omega) hn q hq
theorem mmR_of {M : MS} {k : Nat} {sn : Nat → Int32} (hB : MmB M sn 8) (hc : ∀ j, j < k → ¬ sn j = 0 → ∀ q, q < 512 → (Pt_ M (ml M j) q → ¬ sn q = 0) ∧ (Pt_ M (mr M j) q → ¬ sn q = 0)) : ∀ b, b < 512 → Rm M k b → pm sn b = true :=
  fun b _ hr => pm_t.mpr (hr (fun b => ¬ sn b = 0) (fun i hi q hq h => hB i hi q hq h) (fun r hr h q hq hp => (hc r hr h q hq).1 hp) (fun r hr h q hq hp => (hc r hr h q hq).2 hp))
theorem mmP_0 {M : MS} {k : Nat} {sn : Nat → Int32} (hk : k ≤ 512) (hB : MmB M sn 8) : PrC (Rm M k) 512 (pm sn) 0 :=
  PrC.start (fun h0 => mmR_of hB (fun j hj h1 => by
    have h2 := h0 j (by omega)
    rw [pm_t.mpr h1] at h2
    cases h2))
theorem mmB_mono {M : MS} {sn s1 : Nat → Int32} {i : Nat} (hB : MmB M sn i) (h : ∀ q, q < 512 → ¬ sn q = 0 → ¬ s1 q = 0) : MmB M s1 i := fun j hj q hq hp => h q hq (hB j hj q hq hp)
theorem mmP_1 {M : MS} {k r : Nat} {sn s1 : Nat → Int32} (hB : MmB M sn 8) (hL : MmL M sn s1 k) (h : PrC (Rm M k) 512 (pm sn) r) : PrC (Rm M k) 512 (pm s1) (r + 1) :=
  h.next (fun b hb hp => pm_t.mpr (hL.1 b hb (pm_t.mp hp))) (fun he => mmR_of hB (hL.2 (fun q hq hn => pm_t.mp (by rw [← he q hq]; exact pm_t.mpr hn))))
theorem mmP_6 {M : MS} {k : Nat} {sn : Nat → Int32} (hc : cB (pm (ma M)) 512 ≤ 6) (hI : MmI M k sn) (h : PrC (Rm M k) 512 (pm sn) 6) : ∀ q, q < 512 → (¬ sn q = 0 ↔ Rm M k q) := by
  have hle : cB (pm sn) 512 ≤ 6 := Nat.le_trans (cB_le 512 (fun j hj hp => pm_t.mpr (Rm_alive (hI j hj (pm_t.mp hp))))) hc
  exact fun q hq => ⟨hI q hq, fun hr => pm_t.mp (h.done hle q hq hr)⟩
/-- marks set to 0 -/
theorem seen_0 {sn : Nat → Int32} {i : Nat} (h : ∀ q, q < i → sn q = 0) : ∀ q, q < i + 1 → upd sn i (vp_nar .boolean 0) q = 0 := by
  intro q hq
  unfold upd
  by_cases e : q = i
  · rw [if_pos e]; decide
  · rw [if_neg e]; exact h q (by omega)
/-- records that are not marked die, the first i -/
def swM (a sn : Nat → Int32) (i : Nat) : Nat → Int32 := fun j => if j < i ∧ sn j = 0 then 0 else a j
theorem swM_0 {a sn : Nat → Int32} : swM a sn 0 = a := funext fun j => if_neg (fun h => Nat.not_lt_zero j h.1)
theorem swM_at {a sn : Nat → Int32} {i : Nat} : swM a sn i i = a i := if_neg (fun h => Nat.lt_irrefl i h.1)
theorem swM_miss {a sn : Nat → Int32} {i : Nat} (h : a i = 0 ∨ ¬ sn i = 0) : swM a sn i = swM a sn (i + 1) := by
  funext j
  unfold swM
  by_cases e : j = i
  · subst e
    rw [if_neg (fun q => Nat.lt_irrefl j q.1)]
    by_cases h0 : sn j = 0
    · rw [if_pos ⟨by omega, h0⟩]; exact h.elim id (fun z => absurd h0 z)
    · rw [if_neg (fun q => h0 q.2)]
  · by_cases hj : j < i
    · by_cases hc : sn j = 0
      · rw [if_pos ⟨hj, hc⟩, if_pos ⟨by omega, hc⟩]
      · rw [if_neg (fun q => hc q.2), if_neg (fun q => hc q.2)]
    · rw [if_neg (fun q => hj q.1), if_neg (fun q => by omega)]
theorem swM_hit {a sn : Nat → Int32} {i : Nat} (h : sn i = 0) : upd (swM a sn i) i (vp_nar .boolean 0) = swM a sn (i + 1) := by
  funext j
  unfold upd
  by_cases e : j = i
  · subst e
    rw [if_pos rfl]
    unfold swM
    rw [if_pos ⟨by omega, h⟩]
    decide
  · rw [if_neg e]
    unfold swM
    by_cases hj : j < i
    · by_cases hc : sn j = 0
      · rw [if_pos ⟨hj, hc⟩, if_pos ⟨by omega, hc⟩]
      · rw [if_neg (fun q => hc q.2), if_neg (fun q => hc q.2)]
    · rw [if_neg (fun q => hj q.1), if_neg (fun q => by omega)]
end
section
/-! KeyHeapModel: the methods without loops of marks -/
set_option maxRecDepth 100000
set_option maxHeartbeats 4000000 in
/-- var: is it a variable -/
theorem cM_var (l : Launch) (g : va_G) (y : MA) (f : MC) (M : MS) (v1 : Int32)  : Met l yX1_var (ws_ yX1_var cX1_var 2 (some .boolean)) ({ frames := 0, cells := 0, slots := 0, locals := 0 }) (RdC g (tM f) (wM y f M) [.ref y.1, .int v1]) (vp_Si (fun r => (r = 1 ∧ IsV v1) ∨ (r = 0 ∧ ¬ IsV v1))) 0 0 (fun _ => False) := by
  refine Met.ofW (cc := cX1_var) (maxL := 2) (ret := (some .boolean)) (by decide) rfl ?_
  intro p e s m args below meth c s₁ B hml hv
  obtain ⟨rfl, hP, hK⟩ := hv
  have hx := B.exec
  have hb := B.bytes
  have hrt := B.returns
  have hlocks := B.notSynchronized
  have hts0 := atoms_spec (ws := ws_ yX1_var cX1_var 2 (some .boolean)) B.pre
  have hts : ∀ w ∈ lw_all, w.before ([.ref y.1, .int v1] : List Value).toArray s = true := fun w h => hts0 w (List.mem_cons_of_mem _ h)
  have hown : s.vm.findClass RX1 = some m.cls := findClass_of_methodNamed B.named
  have hF : CallFix p m c cX1_var 2 s ([.ref y.1, .int v1] : List Value).toArray lw_all RX1 := ⟨hx, hb, hml, hown, hts⟩
  have hl := lv_entry ([.ref y.1, .int v1]) (n := 2) (Nat.le_of_ble_eq_true rfl)
  rw [lg_entry_eq]
  generalize (lg_sl ([.ref y.1, .int v1]) ++ List.replicate (2 - (lg_sl ([.ref y.1, .int v1])).length) Slot.unset).toArray = ls at hl ⊢
  have hl : lv_has ls 2 [(0, .ref y.1), (1, .int v1)] := hl
  refine lv_iload_n hx hb dX1_var_0 rfl (lv_at hl 1 rfl) ?_
  refine lv_if_lt (tgt := 14) hx hb dX1_var_1 (by decide) (fun c1 => ?_) (fun c1 => ?_)
  · refine lv_iconst (v := 0) hx hb dX1_var_14 (by decide) ?_
    exact rd_retz (a := #[]) hx hb hrt hlocks rfl (Or.inr ⟨rfl, isV_lt c1⟩) dX1_var_15
  · refine lv_iload_n hx hb dX1_var_4 rfl (lv_at hl 1 rfl) ?_
    refine lv_bipush (v := 8) hx hb dX1_var_5 (by decide) ?_
    refine lv_icmp_ge (tgt := 14) hx hb dX1_var_7 (by decide) (fun c2 => ?_) (fun c2 => ?_)
    · refine lv_iconst (v := 0) hx hb dX1_var_14 (by decide) ?_
      exact rd_retz (a := #[]) hx hb hrt hlocks rfl (Or.inr ⟨rfl, isV_ge c2⟩) dX1_var_15
    · refine lv_iconst (v := 1) hx hb dX1_var_10 (by decide) ?_
      refine lv_goto (tgt := 15) hx hb dX1_var_11 (by decide) ?_
      exact rd_retz (a := #[]) hx hb hrt hlocks rfl (Or.inl ⟨rfl, isV_of c1 c2⟩) dX1_var_15
set_option maxHeartbeats 4000000 in
theorem cM_kind (l : Launch) (g : va_G) (y : MA) (f : MC) (M : MS) (a1 : Int32)  : Met l yX1_kind (ws_ yX1_kind cX1_kind 2 (some .int)) ({ frames := 0, cells := 0, slots := 0, locals := 0 }) (RdC g (tM f) (wM y f M) [.ref y.1, .int a1]) (vp_Si (fun r => r = mkd M a1)) 0 0 (fun _ => False) := by
  refine Met.ofW (cc := cX1_kind) (maxL := 2) (ret := (some .int)) (by decide) rfl ?_
  intro p e s m args below meth c s₁ B hml hv
  obtain ⟨rfl, hP, hK⟩ := hv
  have hx := B.exec
  have hb := B.bytes
  have hrt := B.returns
  have hlocks := B.notSynchronized
  have hts0 := atoms_spec (ws := ws_ yX1_kind cX1_kind 2 (some .int)) B.pre
  have hts : ∀ w ∈ lw_all, w.before ([.ref y.1, .int a1] : List Value).toArray s = true := fun w h => hts0 w (List.mem_cons_of_mem _ h)
  have hown : s.vm.findClass RX1 = some m.cls := findClass_of_methodNamed B.named
  have hF : CallFix p m c cX1_kind 2 s ([.ref y.1, .int a1] : List Value).toArray lw_all RX1 := ⟨hx, hb, hml, hown, hts⟩
  have hl := lv_entry ([.ref y.1, .int a1]) (n := 2) (Nat.le_of_ble_eq_true rfl)
  rw [lg_entry_eq]
  generalize (lg_sl ([.ref y.1, .int a1]) ++ List.replicate (2 - (lg_sl ([.ref y.1, .int a1])).length) Slot.unset).toArray = ls at hl ⊢
  have hl : lv_has ls 2 [(0, .ref y.1), (1, .int a1)] := hl
  refine lv_iload_n hx hb dX1_kind_0 rfl (lv_at hl 1 rfl) ?_
  refine lv_if_le (tgt := 11) hx hb dX1_kind_1 (by decide) (fun c1 => ?_) (fun c1 => ?_)
  · refine lv_iconst (v := 0) hx hb dX1_kind_11 (by decide) ?_
    refine lv_goto (tgt := 31) hx hb dX1_kind_12 (by decide) ?_
    exact rd_ret (a := #[]) hx hb hrt hlocks (by show (0 : Int32) = mkd M a1; unfold mkd; rw [if_pos c1]) dX1_kind_31
  · refine lv_iload_n hx hb dX1_kind_4 rfl (lv_at hl 1 rfl) ?_
    refine lv_sipush (v := 512) hx hb dX1_kind_5 (by decide) ?_
    refine lv_icmp_le (tgt := 15) hx hb dX1_kind_8 (by decide) (fun c2 => ?_) (fun c2 => ?_)
    · obtain ⟨j, hj, rfl⟩ := mq_of c1 (Int32.not_lt.mpr c2)
      refine lv_aload_n hx hb dX1_kind_15 rfl (lv_at hl 0 rfl) ?_
      refine mg_a hF hK hP dX1_kind_16 ?_
      refine lv_iload_n hx hb dX1_kind_19 rfl (lv_at hl 1 rfl) ?_
      refine lv_iconst (v := 1) hx hb dX1_kind_20 (by decide) ?_
      refine lv_isub hx hb dX1_kind_21 ?_
      refine lv_asi (w := nI j) (nI_pred j) ?_
      refine mr_a hF hK hP (by omega) dX1_kind_22 ?_
      refine lv_if_eq (tgt := 30) hx hb dX1_kind_23 (by decide) (fun c3 => ?_) (fun c3 => ?_)
      · refine lv_iconst (v := 2) hx hb dX1_kind_30 (by decide) ?_
        exact rd_ret (a := #[]) hx hb hrt hlocks (by show (2 : Int32) = mkd M (nI (j + 1)); rw [mkd_pos M hj, if_pos c3]) dX1_kind_31
      · refine lv_iconst (v := 1) hx hb dX1_kind_26 (by decide) ?_
        refine lv_goto (tgt := 31) hx hb dX1_kind_27 (by decide) ?_
        exact rd_ret (a := #[]) hx hb hrt hlocks (by show (1 : Int32) = mkd M (nI (j + 1)); rw [mkd_pos M hj, if_neg c3]) dX1_kind_31
    · refine lv_iconst (v := 0) hx hb dX1_kind_11 (by decide) ?_
      refine lv_goto (tgt := 31) hx hb dX1_kind_12 (by decide) ?_
      exact rd_ret (a := #[]) hx hb hrt hlocks (by show (0 : Int32) = mkd M a1; unfold mkd; rw [if_neg c1, if_pos (Int32.not_le.mp c2)]) dX1_kind_31
set_option maxHeartbeats 4000000 in
theorem cM_through (l : Launch) (g : va_G) (y : MA) (f : MC) (M : MS) (j : Nat) (hj : j < 8) : Met l yX1_through (ws_ yX1_through cX1_through 3 (some .int)) ({ frames := 1, cells := 0, slots := 0, locals := 21 }) (RdC g (tM f) (wM y f M) [.ref y.1, .int (nI j)]) (vp_Si (fun r => r = fl (mkd M (mv M j)))) 0 0 (fun _ => False) := by
  refine Met.ofW (cc := cX1_through) (maxL := 3) (ret := (some .int)) (by decide) rfl ?_
  intro p e s m args below meth c s₁ B hml hv
  obtain ⟨rfl, hP, hK⟩ := hv
  have hx := B.exec
  have hb := B.bytes
  have hrt := B.returns
  have hlocks := B.notSynchronized
  have hts0 := atoms_spec (ws := ws_ yX1_through cX1_through 3 (some .int)) B.pre
  have hts : ∀ w ∈ lw_all, w.before ([.ref y.1, .int (nI j)] : List Value).toArray s = true := fun w h => hts0 w (List.mem_cons_of_mem _ h)
  have hown : s.vm.findClass RX1 = some m.cls := findClass_of_methodNamed B.named
  have hF : CallFix p m c cX1_through 3 s ([.ref y.1, .int (nI j)] : List Value).toArray lw_all RX1 := ⟨hx, hb, hml, hown, hts⟩
  have hl := lv_entry ([.ref y.1, .int (nI j)]) (n := 3) (Nat.le_of_ble_eq_true rfl)
  rw [lg_entry_eq]
  generalize (lg_sl ([.ref y.1, .int (nI j)]) ++ List.replicate (3 - (lg_sl ([.ref y.1, .int (nI j)])).length) Slot.unset).toArray = ls at hl ⊢
  have hl : lv_has ls 3 [(0, .ref y.1), (1, .int (nI j))] := hl
  refine lv_aload_n hx hb dX1_through_0 rfl (lv_at hl 0 rfl) ?_
  refine lv_aload_n hx hb dX1_through_1 rfl (lv_at hl 0 rfl) ?_
  refine mg_v hF hK hP dX1_through_2 ?_
  refine lv_iload_n hx hb dX1_through_5 rfl (lv_at hl 1 rfl) ?_
  refine mr_v hF hK hP (by omega) dX1_through_6 ?_
  refine rd_V (ci := 1) (As := [.int (mv M j)]) (rest := []) hF (cM_kind l g y f M (mv M j)) (cwV 1 hts (lw_V q198 q200 qs10 q15 q201) rfl rfl rfl (by decide +kernel) ⟨Nat.le_of_ble_eq_true rfl, Nat.le_of_ble_eq_true rfl⟩) hK hP rfl rfl rfl hl.1 rfl (Nat.le_of_ble_eq_true rfl) dX1_through_7 ⟨Nat.zero_le _, Nat.zero_le _⟩ (fun r (hr : r = mkd M (mv M j)) => ?_)
  subst hr
  refine lv_istore_n (lv' := [(2, .int (mkd M (mv M j))), (0, .ref y.1), (1, .int (nI j))]) hx hb dX1_through_10 rfl hl (by decide) rfl (fun ls hl => ?_)
  refine lv_iload_n hx hb dX1_through_11 rfl (lv_at hl 0 rfl) ?_
  refine lv_if_ne (tgt := 20) hx hb dX1_through_12 (by decide) (fun c1 => ?_) (fun c1 => ?_)
  · refine lv_iload_n hx hb dX1_through_20 rfl (lv_at hl 0 rfl) ?_
    refine lv_iconst (v := 2) hx hb dX1_through_21 (by decide) ?_
    refine lv_icmp_ne (tgt := 30) hx hb dX1_through_22 (by decide) (fun c2 => ?_) (fun c2 => ?_)
    · refine lv_iconst (v := 0) hx hb dX1_through_30 (by decide) ?_
      exact rd_ret (a := #[]) hx hb hrt hlocks (by show (0 : Int32) = fl (mkd M (mv M j)); unfold fl; rw [if_neg c1, if_neg c2]) dX1_through_31
    · refine lv_bipush (v := -4) hx hb dX1_through_25 (by decide) ?_
      refine lv_goto (tgt := 31) hx hb dX1_through_27 (by decide) ?_
      exact rd_ret (a := #[]) hx hb hrt hlocks (by show (-4 : Int32) = fl (mkd M (mv M j)); unfold fl; rw [if_neg c1, if_pos c2]) dX1_through_31
  · refine lv_bipush (v := -3) hx hb dX1_through_15 (by decide) ?_
    refine lv_goto (tgt := 31) hx hb dX1_through_17 (by decide) ?_
    exact rd_ret (a := #[]) hx hb hrt hlocks (by show (-3 : Int32) = fl (mkd M (mv M j)); unfold fl; rw [if_pos c1]) dX1_through_31
set_option maxHeartbeats 4000000 in
theorem cM_live (l : Launch) (g : va_G) (y : MA) (f : MC) (M : MS)  (k : Nat) (hk : k ≤ 512) (hkd : md M = nI k) : Met l yX1_live (ws_ yX1_live cX1_live 3 (some .int)) ({ frames := 0, cells := 0, slots := 0, locals := 0 }) (RdC g (tM f) (wM y f M) [.ref y.1]) (vp_Si (fun r => r = sI (fun q => if ma M q = 0 then 0 else 1) k)) 0 0 (fun _ => False) := by
  refine Met.ofW (cc := cX1_live) (maxL := 3) (ret := (some .int)) (by decide) rfl ?_
  intro p e s m args below meth c s₁ B hml hv
  obtain ⟨rfl, hP, hK⟩ := hv
  have hx := B.exec
  have hb := B.bytes
  have hrt := B.returns
  have hlocks := B.notSynchronized
  have hts0 := atoms_spec (ws := ws_ yX1_live cX1_live 3 (some .int)) B.pre
  have hts : ∀ w ∈ lw_all, w.before ([.ref y.1] : List Value).toArray s = true := fun w h => hts0 w (List.mem_cons_of_mem _ h)
  have hown : s.vm.findClass RX1 = some m.cls := findClass_of_methodNamed B.named
  have hF : CallFix p m c cX1_live 3 s ([.ref y.1] : List Value).toArray lw_all RX1 := ⟨hx, hb, hml, hown, hts⟩
  have hl := lv_entry ([.ref y.1]) (n := 3) (Nat.le_of_ble_eq_true rfl)
  rw [lg_entry_eq]
  generalize (lg_sl ([.ref y.1]) ++ List.replicate (3 - (lg_sl ([.ref y.1])).length) Slot.unset).toArray = ls at hl ⊢
  have hl : lv_has ls 3 [(0, .ref y.1)] := hl
  have loop : ∀ (n : Nat) (i : Nat) (t : Int32), i + n = k → t = sI (fun q => if ma M q = 0 then 0 else 1) i → ∀ (ls : Array Slot), lv_has ls 3 [(0, .ref y.1), (1, .int t), (2, .int (nI i))] → W p l e (headSpec (ws_ yX1_live cX1_live 3 (some .int)) ({ frames := 0, cells := 0, slots := 0, locals := 0 })).room s m ([.ref y.1] : List Value).toArray below meth c s.heap [] 0 0 (MQ below (vp_Si (fun r => r = sI (fun q => if ma M q = 0 then 0 else 1) k)) ([.ref y.1] : List Value).toArray s 0 0 (fun _ => False)) (F0 m 4 ls []) := by
    intro n
    induction n with
    | zero =>
      intro i t hi ht ls hl
      obtain rfl : i = k := by omega
      refine lv_iload_n hx hb dX1_live_4 rfl (lv_at hl 2 rfl) ?_
      refine lv_aload_n hx hb dX1_live_5 rfl (lv_at hl 0 rfl) ?_
      refine mg_d hF hK hP dX1_live_6 ?_
      refine lv_asi (w := nI i) (hkd) ?_
      refine lv_icmp_ge (tgt := 35) hx hb dX1_live_9 (by decide) (fun _ => ?_) (fun c0 => absurd (Int32.le_refl _) c0)
      refine lv_iload_n hx hb dX1_live_35 rfl (lv_at hl 1 rfl) ?_
      exact rd_ret (a := #[]) hx hb hrt hlocks (ht) dX1_live_36
    | succ n ih =>
      intro i t hi ht ls hl
      refine lv_iload_n hx hb dX1_live_4 rfl (lv_at hl 2 rfl) ?_
      refine lv_aload_n hx hb dX1_live_5 rfl (lv_at hl 0 rfl) ?_
      refine mg_d hF hK hP dX1_live_6 ?_
      refine lv_asi (w := nI k) (hkd) ?_
      refine lv_icmp_ge (tgt := 35) hx hb dX1_live_9 (by decide) (fun c0 => absurd c0 (nI_ge (a := i) (b := k) (by omega) (by omega))) (fun _ => ?_)
      refine lv_iload_n hx hb dX1_live_12 rfl (lv_at hl 1 rfl) ?_
      refine lv_aload_n hx hb dX1_live_13 rfl (lv_at hl 0 rfl) ?_
      refine mg_a hF hK hP dX1_live_14 ?_
      refine lv_iload_n hx hb dX1_live_17 rfl (lv_at hl 2 rfl) ?_
      refine mr_a hF hK hP (by omega) dX1_live_18 ?_
      refine lv_if_eq (tgt := 26) hx hb dX1_live_19 (by decide) (fun c1 => ?_) (fun c1 => ?_)
      · refine lv_iconst (v := 0) hx hb dX1_live_26 (by decide) ?_
        refine lv_iadd hx hb dX1_live_27 ?_
        refine lv_istore_n (lv' := [(1, .int (t + 0)), (0, .ref y.1), (2, .int (nI i))]) hx hb dX1_live_28 rfl hl (by decide) rfl (fun ls hl => ?_)
        refine lv_iinc (v := nI (i + 1)) (lv' := [(2, .int (nI (i + 1))), (1, .int (t + 0)), (0, .ref y.1)]) hx hb dX1_live_29 hl (k := 2) rfl (by exact nI_1 i) (by decide) rfl (fun ls hl => ?_)
        refine lv_goto (tgt := 4) hx hb dX1_live_32 (by decide) ?_
        exact ih (i + 1) _ (by omega) (by rw [ht]; show _ = sI (fun q => if ma M q = 0 then 0 else 1) i + (if ma M i = 0 then 0 else 1); rw [if_pos (show ma M i = 0 from c1)]) ls (lv_sub hl [2, 1, 0] rfl)
      · refine lv_iconst (v := 1) hx hb dX1_live_22 (by decide) ?_
        refine lv_goto (tgt := 27) hx hb dX1_live_23 (by decide) ?_
        refine lv_iadd hx hb dX1_live_27 ?_
        refine lv_istore_n (lv' := [(1, .int (t + 1)), (0, .ref y.1), (2, .int (nI i))]) hx hb dX1_live_28 rfl hl (by decide) rfl (fun ls hl => ?_)
        refine lv_iinc (v := nI (i + 1)) (lv' := [(2, .int (nI (i + 1))), (1, .int (t + 1)), (0, .ref y.1)]) hx hb dX1_live_29 hl (k := 2) rfl (by exact nI_1 i) (by decide) rfl (fun ls hl => ?_)
        refine lv_goto (tgt := 4) hx hb dX1_live_32 (by decide) ?_
        exact ih (i + 1) _ (by omega) (by rw [ht]; show _ = sI (fun q => if ma M q = 0 then 0 else 1) i + (if ma M i = 0 then 0 else 1); rw [if_neg (show ¬ ma M i = 0 from c1)]) ls (lv_sub hl [2, 1, 0] rfl)
  refine lv_iconst (v := 0) hx hb dX1_live_0 (by decide) ?_
  refine lv_istore_n (lv' := [(1, .int 0), (0, .ref y.1)]) hx hb dX1_live_1 rfl hl (by decide) rfl (fun ls hl => ?_)
  refine lv_iconst (v := 0) hx hb dX1_live_2 (by decide) ?_
  refine lv_istore_n (lv' := [(2, .int 0), (1, .int 0), (0, .ref y.1)]) hx hb dX1_live_3 rfl hl (by decide) rfl (fun ls hl => ?_)
  exact loop k 0 0 (by omega) rfl ls (lv_sub hl [2, 1, 0] rfl)
set_option maxHeartbeats 4000000 in
theorem cM_total (l : Launch) (g : va_G) (y : MA) (f : MC) (M : MS)  (k : Nat) (hk : k ≤ 512) (hkd : md M = nI k) : Met l yX1_total (ws_ yX1_total cX1_total 3 (some .int)) ({ frames := 0, cells := 0, slots := 0, locals := 0 }) (RdC g (tM f) (wM y f M) [.ref y.1]) (vp_Si (fun r => r = sI (fun q => if ma M q = 0 then 0 else mn M q) k)) 0 0 (fun _ => False) := by
  refine Met.ofW (cc := cX1_total) (maxL := 3) (ret := (some .int)) (by decide) rfl ?_
  intro p e s m args below meth c s₁ B hml hv
  obtain ⟨rfl, hP, hK⟩ := hv
  have hx := B.exec
  have hb := B.bytes
  have hrt := B.returns
  have hlocks := B.notSynchronized
  have hts0 := atoms_spec (ws := ws_ yX1_total cX1_total 3 (some .int)) B.pre
  have hts : ∀ w ∈ lw_all, w.before ([.ref y.1] : List Value).toArray s = true := fun w h => hts0 w (List.mem_cons_of_mem _ h)
  have hown : s.vm.findClass RX1 = some m.cls := findClass_of_methodNamed B.named
  have hF : CallFix p m c cX1_total 3 s ([.ref y.1] : List Value).toArray lw_all RX1 := ⟨hx, hb, hml, hown, hts⟩
  have hl := lv_entry ([.ref y.1]) (n := 3) (Nat.le_of_ble_eq_true rfl)
  rw [lg_entry_eq]
  generalize (lg_sl ([.ref y.1]) ++ List.replicate (3 - (lg_sl ([.ref y.1])).length) Slot.unset).toArray = ls at hl ⊢
  have hl : lv_has ls 3 [(0, .ref y.1)] := hl
  have loop : ∀ (n : Nat) (i : Nat) (t : Int32), i + n = k → t = sI (fun q => if ma M q = 0 then 0 else mn M q) i → ∀ (ls : Array Slot), lv_has ls 3 [(0, .ref y.1), (1, .int t), (2, .int (nI i))] → W p l e (headSpec (ws_ yX1_total cX1_total 3 (some .int)) ({ frames := 0, cells := 0, slots := 0, locals := 0 })).room s m ([.ref y.1] : List Value).toArray below meth c s.heap [] 0 0 (MQ below (vp_Si (fun r => r = sI (fun q => if ma M q = 0 then 0 else mn M q) k)) ([.ref y.1] : List Value).toArray s 0 0 (fun _ => False)) (F0 m 4 ls []) := by
    intro n
    induction n with
    | zero =>
      intro i t hi ht ls hl
      obtain rfl : i = k := by omega
      refine lv_iload_n hx hb dX1_total_4 rfl (lv_at hl 2 rfl) ?_
      refine lv_aload_n hx hb dX1_total_5 rfl (lv_at hl 0 rfl) ?_
      refine mg_d hF hK hP dX1_total_6 ?_
      refine lv_asi (w := nI i) (hkd) ?_
      refine lv_icmp_ge (tgt := 40) hx hb dX1_total_9 (by decide) (fun _ => ?_) (fun c0 => absurd (Int32.le_refl _) c0)
      refine lv_iload_n hx hb dX1_total_40 rfl (lv_at hl 1 rfl) ?_
      exact rd_ret (a := #[]) hx hb hrt hlocks (ht) dX1_total_41
    | succ n ih =>
      intro i t hi ht ls hl
      refine lv_iload_n hx hb dX1_total_4 rfl (lv_at hl 2 rfl) ?_
      refine lv_aload_n hx hb dX1_total_5 rfl (lv_at hl 0 rfl) ?_
      refine mg_d hF hK hP dX1_total_6 ?_
      refine lv_asi (w := nI k) (hkd) ?_
      refine lv_icmp_ge (tgt := 40) hx hb dX1_total_9 (by decide) (fun c0 => absurd c0 (nI_ge (a := i) (b := k) (by omega) (by omega))) (fun _ => ?_)
      refine lv_iload_n hx hb dX1_total_12 rfl (lv_at hl 1 rfl) ?_
      refine lv_aload_n hx hb dX1_total_13 rfl (lv_at hl 0 rfl) ?_
      refine mg_a hF hK hP dX1_total_14 ?_
      refine lv_iload_n hx hb dX1_total_17 rfl (lv_at hl 2 rfl) ?_
      refine mr_a hF hK hP (by omega) dX1_total_18 ?_
      refine lv_if_eq (tgt := 31) hx hb dX1_total_19 (by decide) (fun c1 => ?_) (fun c1 => ?_)
      · refine lv_iconst (v := 0) hx hb dX1_total_31 (by decide) ?_
        refine lv_iadd hx hb dX1_total_32 ?_
        refine lv_istore_n (lv' := [(1, .int (t + 0)), (0, .ref y.1), (2, .int (nI i))]) hx hb dX1_total_33 rfl hl (by decide) rfl (fun ls hl => ?_)
        refine lv_iinc (v := nI (i + 1)) (lv' := [(2, .int (nI (i + 1))), (1, .int (t + 0)), (0, .ref y.1)]) hx hb dX1_total_34 hl (k := 2) rfl (by exact nI_1 i) (by decide) rfl (fun ls hl => ?_)
        refine lv_goto (tgt := 4) hx hb dX1_total_37 (by decide) ?_
        exact ih (i + 1) _ (by omega) (by rw [ht]; show _ = sI (fun q => if ma M q = 0 then 0 else mn M q) i + (if ma M i = 0 then 0 else mn M i); rw [if_pos (show ma M i = 0 from c1)]) ls (lv_sub hl [2, 1, 0] rfl)
      · refine lv_aload_n hx hb dX1_total_22 rfl (lv_at hl 0 rfl) ?_
        refine mg_n hF hK hP dX1_total_23 ?_
        refine lv_iload_n hx hb dX1_total_26 rfl (lv_at hl 2 rfl) ?_
        refine mr_n hF hK hP (by omega) dX1_total_27 ?_
        refine lv_goto (tgt := 32) hx hb dX1_total_28 (by decide) ?_
        refine lv_iadd hx hb dX1_total_32 ?_
        refine lv_istore_n (lv' := [(1, .int (t + (mn M i))), (0, .ref y.1), (2, .int (nI i))]) hx hb dX1_total_33 rfl hl (by decide) rfl (fun ls hl => ?_)
        refine lv_iinc (v := nI (i + 1)) (lv' := [(2, .int (nI (i + 1))), (1, .int (t + (mn M i))), (0, .ref y.1)]) hx hb dX1_total_34 hl (k := 2) rfl (by exact nI_1 i) (by decide) rfl (fun ls hl => ?_)
        refine lv_goto (tgt := 4) hx hb dX1_total_37 (by decide) ?_
        exact ih (i + 1) _ (by omega) (by rw [ht]; show _ = sI (fun q => if ma M q = 0 then 0 else mn M q) i + (if ma M i = 0 then 0 else mn M i); rw [if_neg (show ¬ ma M i = 0 from c1)]) ls (lv_sub hl [2, 1, 0] rfl)
  refine lv_iconst (v := 0) hx hb dX1_total_0 (by decide) ?_
  refine lv_istore_n (lv' := [(1, .int 0), (0, .ref y.1)]) hx hb dX1_total_1 rfl hl (by decide) rfl (fun ls hl => ?_)
  refine lv_iconst (v := 0) hx hb dX1_total_2 (by decide) ?_
  refine lv_istore_n (lv' := [(2, .int 0), (1, .int 0), (0, .ref y.1)]) hx hb dX1_total_3 rfl hl (by decide) rfl (fun ls hl => ?_)
  exact loop k 0 0 (by omega) rfl ls (lv_sub hl [2, 1, 0] rfl)
set_option maxHeartbeats 4000000 in
theorem cM_holds (l : Launch) (g : va_G) (y : MA) (f : MC) (M : MS) (v1 : Int32)  : Met l yX1_holds (ws_ yX1_holds cX1_holds 2 (some .int)) ({ frames := 1, cells := 0, slots := 0, locals := 21 }) (RdC g (tM f) (wM y f M) [.ref y.1, .int v1]) (vp_Si (fun r => (∃ j, j < 8 ∧ v1 = nI j ∧ r = mkd M (mv M j)) ∨ (¬ IsV v1 ∧ r = -1))) 0 0 (fun _ => False) := by
  refine Met.ofW (cc := cX1_holds) (maxL := 2) (ret := (some .int)) (by decide) rfl ?_
  intro p e s m args below meth c s₁ B hml hv
  obtain ⟨rfl, hP, hK⟩ := hv
  have hx := B.exec
  have hb := B.bytes
  have hrt := B.returns
  have hlocks := B.notSynchronized
  have hts0 := atoms_spec (ws := ws_ yX1_holds cX1_holds 2 (some .int)) B.pre
  have hts : ∀ w ∈ lw_all, w.before ([.ref y.1, .int v1] : List Value).toArray s = true := fun w h => hts0 w (List.mem_cons_of_mem _ h)
  have hown : s.vm.findClass RX1 = some m.cls := findClass_of_methodNamed B.named
  have hF : CallFix p m c cX1_holds 2 s ([.ref y.1, .int v1] : List Value).toArray lw_all RX1 := ⟨hx, hb, hml, hown, hts⟩
  have hl := lv_entry ([.ref y.1, .int v1]) (n := 2) (Nat.le_of_ble_eq_true rfl)
  rw [lg_entry_eq]
  generalize (lg_sl ([.ref y.1, .int v1]) ++ List.replicate (2 - (lg_sl ([.ref y.1, .int v1])).length) Slot.unset).toArray = ls at hl ⊢
  have hl : lv_has ls 2 [(0, .ref y.1), (1, .int v1)] := hl
  refine lv_aload_n hx hb dX1_holds_0 rfl (lv_at hl 0 rfl) ?_
  refine lv_iload_n hx hb dX1_holds_1 rfl (lv_at hl 1 rfl) ?_
  refine rd_V (ci := 1) (As := [.int v1]) (rest := []) hF (cM_var l g y f M v1) (cwV 1 hts (lw_V q182 q184 qs8 q15 q185) rfl rfl rfl (by decide +kernel) ⟨Nat.le_of_ble_eq_true rfl, Nat.le_of_ble_eq_true rfl⟩) hK hP rfl rfl rfl hl.1 rfl (Nat.le_of_ble_eq_true rfl) dX1_holds_2 ⟨Nat.zero_le _, Nat.zero_le _⟩ (fun r hr => ?_)
  rcases hr with ⟨rfl, j, hj, rfl⟩ | ⟨rfl, hnv1⟩
  · refine lv_if_eq (tgt := 21) hx hb dX1_holds_5 (by decide) (fun c0 => absurd c0 (by decide)) (fun _ => ?_)
    refine lv_aload_n hx hb dX1_holds_8 rfl (lv_at hl 0 rfl) ?_
    refine lv_aload_n hx hb dX1_holds_9 rfl (lv_at hl 0 rfl) ?_
    refine mg_v hF hK hP dX1_holds_10 ?_
    refine lv_iload_n hx hb dX1_holds_13 rfl (lv_at hl 1 rfl) ?_
    refine mr_v hF hK hP (by omega) dX1_holds_14 ?_
    refine rd_V (ci := 1) (As := [.int (mv M j)]) (rest := []) hF (cM_kind l g y f M (mv M j)) (cwV 1 hts (lw_V q198 q200 qs10 q15 q201) rfl rfl rfl (by decide +kernel) ⟨Nat.le_of_ble_eq_true rfl, Nat.le_of_ble_eq_true rfl⟩) hK hP rfl rfl rfl hl.1 rfl (Nat.le_of_ble_eq_true rfl) dX1_holds_15 ⟨Nat.zero_le _, Nat.zero_le _⟩ (fun r (hr : r = mkd M (mv M j)) => ?_)
    subst hr
    refine lv_goto (tgt := 22) hx hb dX1_holds_18 (by decide) ?_
    exact rd_ret (a := #[]) hx hb hrt hlocks (Or.inl ⟨j, hj, rfl, rfl⟩) dX1_holds_22
  · refine lv_if_eq (tgt := 21) hx hb dX1_holds_5 (by decide) (fun _ => ?_) (fun c0 => absurd (rfl) c0)
    refine lv_iconst (v := -1) hx hb dX1_holds_21 (by decide) ?_
    exact rd_ret (a := #[]) hx hb hrt hlocks (Or.inr ⟨hnv1, rfl⟩) dX1_holds_22
set_option maxHeartbeats 4000000 in
theorem cM_number (l : Launch) (g : va_G) (y : MA) (f : MC) (M : MS) (v1 : Int32)  : Met l yX1_number (ws_ yX1_number cX1_number 2 (some .int)) ({ frames := 2, cells := 0, slots := 0, locals := 42 }) (RdC g (tM f) (wM y f M) [.ref y.1, .int v1]) (vp_Si (fun r => (∃ j, j < 8 ∧ v1 = nI j ∧ ((∃ q, q < 512 ∧ Pt_ M (mv M j) q ∧ r = mn M q) ∨ (¬ mkd M (mv M j) = 1 ∧ r = 0))) ∨ (¬ IsV v1 ∧ r = 0))) 0 0 (fun _ => False) := by
  refine Met.ofW (cc := cX1_number) (maxL := 2) (ret := (some .int)) (by decide) rfl ?_
  intro p e s m args below meth c s₁ B hml hv
  obtain ⟨rfl, hP, hK⟩ := hv
  have hx := B.exec
  have hb := B.bytes
  have hrt := B.returns
  have hlocks := B.notSynchronized
  have hts0 := atoms_spec (ws := ws_ yX1_number cX1_number 2 (some .int)) B.pre
  have hts : ∀ w ∈ lw_all, w.before ([.ref y.1, .int v1] : List Value).toArray s = true := fun w h => hts0 w (List.mem_cons_of_mem _ h)
  have hown : s.vm.findClass RX1 = some m.cls := findClass_of_methodNamed B.named
  have hF : CallFix p m c cX1_number 2 s ([.ref y.1, .int v1] : List Value).toArray lw_all RX1 := ⟨hx, hb, hml, hown, hts⟩
  have hl := lv_entry ([.ref y.1, .int v1]) (n := 2) (Nat.le_of_ble_eq_true rfl)
  rw [lg_entry_eq]
  generalize (lg_sl ([.ref y.1, .int v1]) ++ List.replicate (2 - (lg_sl ([.ref y.1, .int v1])).length) Slot.unset).toArray = ls at hl ⊢
  have hl : lv_has ls 2 [(0, .ref y.1), (1, .int v1)] := hl
  refine lv_aload_n hx hb dX1_number_0 rfl (lv_at hl 0 rfl) ?_
  refine lv_iload_n hx hb dX1_number_1 rfl (lv_at hl 1 rfl) ?_
  refine rd_V (ci := 1) (As := [.int v1]) (rest := []) hF (cM_holds l g y f M v1) (cwV 1 hts (lw_V q230 q223 q224 q15 q225) rfl rfl rfl (by decide +kernel) ⟨Nat.le_of_ble_eq_true rfl, Nat.le_of_ble_eq_true rfl⟩) hK hP rfl rfl rfl hl.1 rfl (Nat.le_of_ble_eq_true rfl) dX1_number_2 ⟨Nat.zero_le _, Nat.zero_le _⟩ (fun r hr => ?_)
  rcases hr with ⟨j, hj, rfl, rfl⟩ | ⟨hnv1, rfl⟩
  · refine lv_iconst (v := 1) hx hb dX1_number_5 (by decide) ?_
    refine lv_icmp_ne (tgt := 25) hx hb dX1_number_6 (by decide) (fun c1 => ?_) (fun c1 => ?_)
    · refine lv_iconst (v := 0) hx hb dX1_number_25 (by decide) ?_
      exact rd_ret (a := #[]) hx hb hrt hlocks (Or.inl ⟨j, hj, rfl, Or.inr ⟨c1, rfl⟩⟩) dX1_number_26
    · obtain ⟨q, hq, hqe, hqa⟩ := mkd_live c1
      refine lv_aload_n hx hb dX1_number_9 rfl (lv_at hl 0 rfl) ?_
      refine mg_n hF hK hP dX1_number_10 ?_
      refine lv_aload_n hx hb dX1_number_13 rfl (lv_at hl 0 rfl) ?_
      refine mg_v hF hK hP dX1_number_14 ?_
      refine lv_iload_n hx hb dX1_number_17 rfl (lv_at hl 1 rfl) ?_
      refine mr_v hF hK hP (by omega) dX1_number_18 ?_
      refine lv_iconst (v := 1) hx hb dX1_number_19 (by decide) ?_
      refine lv_isub hx hb dX1_number_20 ?_
      refine lv_asi (w := nI q) (by rw [hqe]; exact nI_pred q) ?_
      refine mr_n hF hK hP (by omega) dX1_number_21 ?_
      refine lv_goto (tgt := 26) hx hb dX1_number_22 (by decide) ?_
      exact rd_ret (a := #[]) hx hb hrt hlocks (Or.inl ⟨j, hj, rfl, Or.inl ⟨q, hq, ⟨c1, hqe⟩, rfl⟩⟩) dX1_number_26
  · refine lv_iconst (v := 1) hx hb dX1_number_5 (by decide) ?_
    refine lv_icmp_ne (tgt := 25) hx hb dX1_number_6 (by decide) (fun _ => ?_) (fun c0 => absurd c0 (by decide))
    refine lv_iconst (v := 0) hx hb dX1_number_25 (by decide) ?_
    exact rd_ret (a := #[]) hx hb hrt hlocks (Or.inr ⟨hnv1, rfl⟩) dX1_number_26
set_option maxHeartbeats 4000000 in
theorem cM_linkHolds (l : Launch) (g : va_G) (y : MA) (f : MC) (M : MS) (v1 : Int32) (k1 : Int32)  : Met l yX1_linkHolds (ws_ yX1_linkHolds cX1_linkHolds 4 (some .int)) ({ frames := 2, cells := 0, slots := 0, locals := 42 }) (RdC g (tM f) (wM y f M) [.ref y.1, .int v1, .int k1]) (vp_Si (fun r => (∃ j e, j < 8 ∧ e < 2 ∧ v1 = nI j ∧ k1 = nI e ∧ ((∃ q, q < 512 ∧ Pt_ M (mv M j) q ∧ r = mkd M (if e = 0 then ml M q else mr M q)) ∨ (¬ mkd M (mv M j) = 1 ∧ r = -1))) ∨ (¬ (IsV v1 ∧ IsL k1) ∧ r = -1))) 0 0 (fun _ => False) := by
  refine Met.ofW (cc := cX1_linkHolds) (maxL := 4) (ret := (some .int)) (by decide) rfl ?_
  intro p e s m args below meth c s₁ B hml hv
  obtain ⟨rfl, hP, hK⟩ := hv
  have hx := B.exec
  have hb := B.bytes
  have hrt := B.returns
  have hlocks := B.notSynchronized
  have hts0 := atoms_spec (ws := ws_ yX1_linkHolds cX1_linkHolds 4 (some .int)) B.pre
  have hts : ∀ w ∈ lw_all, w.before ([.ref y.1, .int v1, .int k1] : List Value).toArray s = true := fun w h => hts0 w (List.mem_cons_of_mem _ h)
  have hown : s.vm.findClass RX1 = some m.cls := findClass_of_methodNamed B.named
  have hF : CallFix p m c cX1_linkHolds 4 s ([.ref y.1, .int v1, .int k1] : List Value).toArray lw_all RX1 := ⟨hx, hb, hml, hown, hts⟩
  have hl := lv_entry ([.ref y.1, .int v1, .int k1]) (n := 4) (Nat.le_of_ble_eq_true rfl)
  rw [lg_entry_eq]
  generalize (lg_sl ([.ref y.1, .int v1, .int k1]) ++ List.replicate (4 - (lg_sl ([.ref y.1, .int v1, .int k1])).length) Slot.unset).toArray = ls at hl ⊢
  have hl : lv_has ls 4 [(0, .ref y.1), (1, .int v1), (2, .int k1)] := hl
  by_cases hL : IsL k1
  · obtain ⟨e, he, rfl⟩ := hL
    rcases (show e = 0 ∨ e = 1 by omega) with rfl | rfl
    · refine lv_iload_n hx hb dX1_linkHolds_0 rfl (lv_at hl 2 rfl) ?_
      refine lv_if_eq (tgt := 9) hx hb dX1_linkHolds_1 (by decide) (fun _ => ?_) (fun c0 => absurd (rfl) c0)
      refine lv_aload_n hx hb dX1_linkHolds_9 rfl (lv_at hl 0 rfl) ?_
      refine lv_iload_n hx hb dX1_linkHolds_10 rfl (lv_at hl 1 rfl) ?_
      refine rd_V (ci := 1) (As := [.int v1]) (rest := []) hF (cM_holds l g y f M v1) (cwV 1 hts (lw_V q230 q223 q224 q15 q225) rfl rfl rfl (by decide +kernel) ⟨Nat.le_of_ble_eq_true rfl, Nat.le_of_ble_eq_true rfl⟩) hK hP rfl rfl rfl hl.1 rfl (Nat.le_of_ble_eq_true rfl) dX1_linkHolds_11 ⟨Nat.zero_le _, Nat.zero_le _⟩ (fun r hr => ?_)
      rcases hr with ⟨j, hj, rfl, rfl⟩ | ⟨hnv1, rfl⟩
      · refine lv_iconst (v := 1) hx hb dX1_linkHolds_14 (by decide) ?_
        refine lv_icmp_eq (tgt := 20) hx hb dX1_linkHolds_15 (by decide) (fun c1 => ?_) (fun c1 => ?_)
        · obtain ⟨q, hq, hqe, hqa⟩ := mkd_live c1
          refine lv_iload_n hx hb dX1_linkHolds_20 rfl (lv_at hl 2 rfl) ?_
          refine lv_if_ne (tgt := 40) hx hb dX1_linkHolds_21 (by decide) (fun c0 => absurd (rfl) c0) (fun _ => ?_)
          refine lv_aload_n hx hb dX1_linkHolds_24 rfl (lv_at hl 0 rfl) ?_
          refine mg_l hF hK hP dX1_linkHolds_25 ?_
          refine lv_aload_n hx hb dX1_linkHolds_28 rfl (lv_at hl 0 rfl) ?_
          refine mg_v hF hK hP dX1_linkHolds_29 ?_
          refine lv_iload_n hx hb dX1_linkHolds_32 rfl (lv_at hl 1 rfl) ?_
          refine mr_v hF hK hP (by omega) dX1_linkHolds_33 ?_
          refine lv_iconst (v := 1) hx hb dX1_linkHolds_34 (by decide) ?_
          refine lv_isub hx hb dX1_linkHolds_35 ?_
          refine lv_asi (w := nI q) (by rw [hqe]; exact nI_pred q) ?_
          refine mr_l hF hK hP (by omega) dX1_linkHolds_36 ?_
          refine lv_goto (tgt := 53) hx hb dX1_linkHolds_37 (by decide) ?_
          refine lv_istore_n (lv' := [(3, .int (ml M q)), (0, .ref y.1), (1, .int (nI j)), (2, .int (nI 0))]) hx hb dX1_linkHolds_53 rfl hl (by decide) rfl (fun ls hl => ?_)
          refine lv_aload_n hx hb dX1_linkHolds_54 rfl (lv_at hl 1 rfl) ?_
          refine lv_iload_n hx hb dX1_linkHolds_55 rfl (lv_at hl 0 rfl) ?_
          refine rd_V (ci := 1) (As := [.int (ml M q)]) (rest := []) hF (cM_kind l g y f M (ml M q)) (cwV 1 hts (lw_V q198 q200 qs10 q15 q201) rfl rfl rfl (by decide +kernel) ⟨Nat.le_of_ble_eq_true rfl, Nat.le_of_ble_eq_true rfl⟩) hK hP rfl rfl rfl hl.1 rfl (Nat.le_of_ble_eq_true rfl) dX1_linkHolds_56 ⟨Nat.zero_le _, Nat.zero_le _⟩ (fun r (hr : r = mkd M (ml M q)) => ?_)
          exact rd_ret (a := #[]) hx hb hrt hlocks (Or.inl ⟨j, 0, hj, by decide, rfl, rfl, Or.inl ⟨q, hq, ⟨c1, hqe⟩, hr⟩⟩) dX1_linkHolds_59
        · refine lv_iconst (v := -1) hx hb dX1_linkHolds_18 (by decide) ?_
          exact rd_ret (a := #[]) hx hb hrt hlocks (Or.inl ⟨j, 0, hj, by decide, rfl, rfl, Or.inr ⟨c1, rfl⟩⟩) dX1_linkHolds_19
      · refine lv_iconst (v := 1) hx hb dX1_linkHolds_14 (by decide) ?_
        refine lv_icmp_eq (tgt := 20) hx hb dX1_linkHolds_15 (by decide) (fun c0 => absurd c0 (by decide)) (fun _ => ?_)
        refine lv_iconst (v := -1) hx hb dX1_linkHolds_18 (by decide) ?_
        exact rd_ret (a := #[]) hx hb hrt hlocks (Or.inr ⟨fun h => hnv1 h.1, rfl⟩) dX1_linkHolds_19
    · refine lv_iload_n hx hb dX1_linkHolds_0 rfl (lv_at hl 2 rfl) ?_
      refine lv_if_eq (tgt := 9) hx hb dX1_linkHolds_1 (by decide) (fun c0 => absurd c0 (by decide)) (fun _ => ?_)
      refine lv_iload_n hx hb dX1_linkHolds_4 rfl (lv_at hl 2 rfl) ?_
      refine lv_iconst (v := 1) hx hb dX1_linkHolds_5 (by decide) ?_
      refine lv_icmp_ne (tgt := 18) hx hb dX1_linkHolds_6 (by decide) (fun c0 => absurd (rfl) c0) (fun _ => ?_)
      refine lv_aload_n hx hb dX1_linkHolds_9 rfl (lv_at hl 0 rfl) ?_
      refine lv_iload_n hx hb dX1_linkHolds_10 rfl (lv_at hl 1 rfl) ?_
      refine rd_V (ci := 1) (As := [.int v1]) (rest := []) hF (cM_holds l g y f M v1) (cwV 1 hts (lw_V q230 q223 q224 q15 q225) rfl rfl rfl (by decide +kernel) ⟨Nat.le_of_ble_eq_true rfl, Nat.le_of_ble_eq_true rfl⟩) hK hP rfl rfl rfl hl.1 rfl (Nat.le_of_ble_eq_true rfl) dX1_linkHolds_11 ⟨Nat.zero_le _, Nat.zero_le _⟩ (fun r hr => ?_)
      rcases hr with ⟨j, hj, rfl, rfl⟩ | ⟨hnv1, rfl⟩
      · refine lv_iconst (v := 1) hx hb dX1_linkHolds_14 (by decide) ?_
        refine lv_icmp_eq (tgt := 20) hx hb dX1_linkHolds_15 (by decide) (fun c1 => ?_) (fun c1 => ?_)
        · obtain ⟨q, hq, hqe, hqa⟩ := mkd_live c1
          refine lv_iload_n hx hb dX1_linkHolds_20 rfl (lv_at hl 2 rfl) ?_
          refine lv_if_ne (tgt := 40) hx hb dX1_linkHolds_21 (by decide) (fun _ => ?_) (fun c0 => absurd c0 (by decide))
          refine lv_aload_n hx hb dX1_linkHolds_40 rfl (lv_at hl 0 rfl) ?_
          refine mg_r hF hK hP dX1_linkHolds_41 ?_
          refine lv_aload_n hx hb dX1_linkHolds_44 rfl (lv_at hl 0 rfl) ?_
          refine mg_v hF hK hP dX1_linkHolds_45 ?_
          refine lv_iload_n hx hb dX1_linkHolds_48 rfl (lv_at hl 1 rfl) ?_
          refine mr_v hF hK hP (by omega) dX1_linkHolds_49 ?_
          refine lv_iconst (v := 1) hx hb dX1_linkHolds_50 (by decide) ?_
          refine lv_isub hx hb dX1_linkHolds_51 ?_
          refine lv_asi (w := nI q) (by rw [hqe]; exact nI_pred q) ?_
          refine mr_r hF hK hP (by omega) dX1_linkHolds_52 ?_
          refine lv_istore_n (lv' := [(3, .int (mr M q)), (0, .ref y.1), (1, .int (nI j)), (2, .int (nI 1))]) hx hb dX1_linkHolds_53 rfl hl (by decide) rfl (fun ls hl => ?_)
          refine lv_aload_n hx hb dX1_linkHolds_54 rfl (lv_at hl 1 rfl) ?_
          refine lv_iload_n hx hb dX1_linkHolds_55 rfl (lv_at hl 0 rfl) ?_
          refine rd_V (ci := 1) (As := [.int (mr M q)]) (rest := []) hF (cM_kind l g y f M (mr M q)) (cwV 1 hts (lw_V q198 q200 qs10 q15 q201) rfl rfl rfl (by decide +kernel) ⟨Nat.le_of_ble_eq_true rfl, Nat.le_of_ble_eq_true rfl⟩) hK hP rfl rfl rfl hl.1 rfl (Nat.le_of_ble_eq_true rfl) dX1_linkHolds_56 ⟨Nat.zero_le _, Nat.zero_le _⟩ (fun r (hr : r = mkd M (mr M q)) => ?_)
          exact rd_ret (a := #[]) hx hb hrt hlocks (Or.inl ⟨j, 1, hj, by decide, rfl, rfl, Or.inl ⟨q, hq, ⟨c1, hqe⟩, hr⟩⟩) dX1_linkHolds_59
        · refine lv_iconst (v := -1) hx hb dX1_linkHolds_18 (by decide) ?_
          exact rd_ret (a := #[]) hx hb hrt hlocks (Or.inl ⟨j, 1, hj, by decide, rfl, rfl, Or.inr ⟨c1, rfl⟩⟩) dX1_linkHolds_19
      · refine lv_iconst (v := 1) hx hb dX1_linkHolds_14 (by decide) ?_
        refine lv_icmp_eq (tgt := 20) hx hb dX1_linkHolds_15 (by decide) (fun c0 => absurd c0 (by decide)) (fun _ => ?_)
        refine lv_iconst (v := -1) hx hb dX1_linkHolds_18 (by decide) ?_
        exact rd_ret (a := #[]) hx hb hrt hlocks (Or.inr ⟨fun h => hnv1 h.1, rfl⟩) dX1_linkHolds_19
  · refine lv_iload_n hx hb dX1_linkHolds_0 rfl (lv_at hl 2 rfl) ?_
    refine lv_if_eq (tgt := 9) hx hb dX1_linkHolds_1 (by decide) (fun c0 => absurd c0 (isL_n0 hL)) (fun _ => ?_)
    refine lv_iload_n hx hb dX1_linkHolds_4 rfl (lv_at hl 2 rfl) ?_
    refine lv_iconst (v := 1) hx hb dX1_linkHolds_5 (by decide) ?_
    refine lv_icmp_ne (tgt := 18) hx hb dX1_linkHolds_6 (by decide) (fun _ => ?_) (fun c0 => absurd c0 (isL_n1 hL))
    refine lv_iconst (v := -1) hx hb dX1_linkHolds_18 (by decide) ?_
    exact rd_ret (a := #[]) hx hb hrt hlocks (Or.inr ⟨fun h => hL h.2, rfl⟩) dX1_linkHolds_19
set_option maxHeartbeats 4000000 in
theorem cM_same (l : Launch) (g : va_G) (y : MA) (f : MC) (M : MS) (v1 : Int32) (w1 : Int32)  : Met l yX1_same (ws_ yX1_same cX1_same 3 (some .boolean)) ({ frames := 1, cells := 0, slots := 0, locals := 21 }) (RdC g (tM f) (wM y f M) [.ref y.1, .int v1, .int w1]) (vp_Si (fun r => (∃ j i, j < 8 ∧ i < 8 ∧ v1 = nI j ∧ w1 = nI i ∧ ((mv M j = mv M i ∧ ¬ mkd M (mv M j) = 2 ∧ r = 1) ∨ (¬ (mv M j = mv M i ∧ ¬ mkd M (mv M j) = 2) ∧ r = 0))) ∨ (¬ (IsV v1 ∧ IsV w1) ∧ r = 0))) 0 0 (fun _ => False) := by
  refine Met.ofW (cc := cX1_same) (maxL := 3) (ret := (some .boolean)) (by decide) rfl ?_
  intro p e s m args below meth c s₁ B hml hv
  obtain ⟨rfl, hP, hK⟩ := hv
  have hx := B.exec
  have hb := B.bytes
  have hrt := B.returns
  have hlocks := B.notSynchronized
  have hts0 := atoms_spec (ws := ws_ yX1_same cX1_same 3 (some .boolean)) B.pre
  have hts : ∀ w ∈ lw_all, w.before ([.ref y.1, .int v1, .int w1] : List Value).toArray s = true := fun w h => hts0 w (List.mem_cons_of_mem _ h)
  have hown : s.vm.findClass RX1 = some m.cls := findClass_of_methodNamed B.named
  have hF : CallFix p m c cX1_same 3 s ([.ref y.1, .int v1, .int w1] : List Value).toArray lw_all RX1 := ⟨hx, hb, hml, hown, hts⟩
  have hl := lv_entry ([.ref y.1, .int v1, .int w1]) (n := 3) (Nat.le_of_ble_eq_true rfl)
  rw [lg_entry_eq]
  generalize (lg_sl ([.ref y.1, .int v1, .int w1]) ++ List.replicate (3 - (lg_sl ([.ref y.1, .int v1, .int w1])).length) Slot.unset).toArray = ls at hl ⊢
  have hl : lv_has ls 3 [(0, .ref y.1), (1, .int v1), (2, .int w1)] := hl
  refine lv_aload_n hx hb dX1_same_0 rfl (lv_at hl 0 rfl) ?_
  refine lv_iload_n hx hb dX1_same_1 rfl (lv_at hl 1 rfl) ?_
  refine rd_V (ci := 1) (As := [.int v1]) (rest := []) hF (cM_var l g y f M v1) (cwV 1 hts (lw_V q182 q184 qs8 q15 q185) rfl rfl rfl (by decide +kernel) ⟨Nat.le_of_ble_eq_true rfl, Nat.le_of_ble_eq_true rfl⟩) hK hP rfl rfl rfl hl.1 rfl (Nat.le_of_ble_eq_true rfl) dX1_same_2 ⟨Nat.zero_le _, Nat.zero_le _⟩ (fun r hr => ?_)
  rcases hr with ⟨rfl, j, hj, rfl⟩ | ⟨rfl, hnv1⟩
  · refine lv_if_eq (tgt := 49) hx hb dX1_same_5 (by decide) (fun c0 => absurd c0 (by decide)) (fun _ => ?_)
    refine lv_aload_n hx hb dX1_same_8 rfl (lv_at hl 0 rfl) ?_
    refine lv_iload_n hx hb dX1_same_9 rfl (lv_at hl 2 rfl) ?_
    refine rd_V (ci := 1) (As := [.int w1]) (rest := []) hF (cM_var l g y f M w1) (cwV 1 hts (lw_V q182 q184 qs8 q15 q185) rfl rfl rfl (by decide +kernel) ⟨Nat.le_of_ble_eq_true rfl, Nat.le_of_ble_eq_true rfl⟩) hK hP rfl rfl rfl hl.1 rfl (Nat.le_of_ble_eq_true rfl) dX1_same_10 ⟨Nat.zero_le _, Nat.zero_le _⟩ (fun r hr => ?_)
    rcases hr with ⟨rfl, i, hi, rfl⟩ | ⟨rfl, hnw1⟩
    · refine lv_if_eq (tgt := 49) hx hb dX1_same_13 (by decide) (fun c0 => absurd c0 (by decide)) (fun _ => ?_)
      refine lv_aload_n hx hb dX1_same_16 rfl (lv_at hl 0 rfl) ?_
      refine mg_v hF hK hP dX1_same_17 ?_
      refine lv_iload_n hx hb dX1_same_20 rfl (lv_at hl 1 rfl) ?_
      refine mr_v hF hK hP (by omega) dX1_same_21 ?_
      refine lv_aload_n hx hb dX1_same_22 rfl (lv_at hl 0 rfl) ?_
      refine mg_v hF hK hP dX1_same_23 ?_
      refine lv_iload_n hx hb dX1_same_26 rfl (lv_at hl 2 rfl) ?_
      refine mr_v hF hK hP (by omega) dX1_same_27 ?_
      refine lv_icmp_ne (tgt := 49) hx hb dX1_same_28 (by decide) (fun c1 => ?_) (fun c1 => ?_)
      · refine lv_iconst (v := 0) hx hb dX1_same_49 (by decide) ?_
        exact rd_retz (a := #[]) hx hb hrt hlocks rfl (Or.inl ⟨j, i, hj, hi, rfl, rfl, Or.inr ⟨fun h => c1 h.1, rfl⟩⟩) dX1_same_50
      · refine lv_aload_n hx hb dX1_same_31 rfl (lv_at hl 0 rfl) ?_
        refine lv_aload_n hx hb dX1_same_32 rfl (lv_at hl 0 rfl) ?_
        refine mg_v hF hK hP dX1_same_33 ?_
        refine lv_iload_n hx hb dX1_same_36 rfl (lv_at hl 1 rfl) ?_
        refine mr_v hF hK hP (by omega) dX1_same_37 ?_
        refine rd_V (ci := 1) (As := [.int (mv M j)]) (rest := []) hF (cM_kind l g y f M (mv M j)) (cwV 1 hts (lw_V q198 q200 qs10 q15 q201) rfl rfl rfl (by decide +kernel) ⟨Nat.le_of_ble_eq_true rfl, Nat.le_of_ble_eq_true rfl⟩) hK hP rfl rfl rfl hl.1 rfl (Nat.le_of_ble_eq_true rfl) dX1_same_38 ⟨Nat.zero_le _, Nat.zero_le _⟩ (fun r (hr : r = mkd M (mv M j)) => ?_)
        subst hr
        refine lv_iconst (v := 2) hx hb dX1_same_41 (by decide) ?_
        refine lv_icmp_eq (tgt := 49) hx hb dX1_same_42 (by decide) (fun c2 => ?_) (fun c2 => ?_)
        · refine lv_iconst (v := 0) hx hb dX1_same_49 (by decide) ?_
          exact rd_retz (a := #[]) hx hb hrt hlocks rfl (Or.inl ⟨j, i, hj, hi, rfl, rfl, Or.inr ⟨fun h => h.2 c2, rfl⟩⟩) dX1_same_50
        · refine lv_iconst (v := 1) hx hb dX1_same_45 (by decide) ?_
          refine lv_goto (tgt := 50) hx hb dX1_same_46 (by decide) ?_
          exact rd_retz (a := #[]) hx hb hrt hlocks rfl (Or.inl ⟨j, i, hj, hi, rfl, rfl, Or.inl ⟨c1, c2, rfl⟩⟩) dX1_same_50
    · refine lv_if_eq (tgt := 49) hx hb dX1_same_13 (by decide) (fun _ => ?_) (fun c0 => absurd (rfl) c0)
      refine lv_iconst (v := 0) hx hb dX1_same_49 (by decide) ?_
      exact rd_retz (a := #[]) hx hb hrt hlocks rfl (Or.inr ⟨fun h => hnw1 h.2, rfl⟩) dX1_same_50
  · refine lv_if_eq (tgt := 49) hx hb dX1_same_5 (by decide) (fun _ => ?_) (fun c0 => absurd (rfl) c0)
    refine lv_iconst (v := 0) hx hb dX1_same_49 (by decide) ?_
    exact rd_retz (a := #[]) hx hb hrt hlocks rfl (Or.inr ⟨fun h => hnv1 h.1, rfl⟩) dX1_same_50
set_option maxHeartbeats 4000000 in
theorem cM_setNil (l : Launch) (g : va_G) (y : MA) (f : MC) (M : MS) (sz : Nat) (v1 : Int32)  : Met l yX1_setNil (ws_ yX1_setNil cX1_setNil 2 (some .int)) ({ frames := 1, cells := 0, slots := 0, locals := 21 }) (WrC g (tM f) (wM y f M) sz [.ref y.1, .int v1]) (va_Qi (fun r T => (∃ j, j < 8 ∧ v1 = nI j ∧ r = 0 ∧ T = tv_ M (upd (mv M) j 0)) ∨ (¬ IsV v1 ∧ r = -1 ∧ T = M)) (WB g (tM f) (wM y f) (va_A (wM y f M) sz)) (va_A (wM y f M) sz)) 0 0 (va_A (wM y f M) sz) := by
  refine Met.ofW (cc := cX1_setNil) (maxL := 2) (ret := (some .int)) (by decide) rfl ?_
  intro p e s m args below meth c s₁ B hml hv
  obtain ⟨rfl, hsz, hP, hK, hD0⟩ := hv
  have hx := B.exec
  have hb := B.bytes
  have hrt := B.returns
  have hlocks := B.notSynchronized
  have hts0 := atoms_spec (ws := ws_ yX1_setNil cX1_setNil 2 (some .int)) B.pre
  have hts : ∀ w ∈ lw_all, w.before ([.ref y.1, .int v1] : List Value).toArray s = true := fun w h => hts0 w (List.mem_cons_of_mem _ h)
  have hown : s.vm.findClass RX1 = some m.cls := findClass_of_methodNamed B.named
  have hF : CallFix p m c cX1_setNil 2 s ([.ref y.1, .int v1] : List Value).toArray lw_all RX1 := ⟨hx, hb, hml, hown, hts⟩
  subst hsz
  have hD := hD0.self (sz := s.heap.size)
  generalize hAe : va_A (wM y f M) s.heap.size = A at hD ⊢
  have hA : ∀ q : Nat, s.heap.size ≤ q → A q := fun q h => by rw [← hAe]; exact Or.inr h
  have hS : va_S A s.heap s.heap [] := va_S.rf
  have hl := lv_entry ([.ref y.1, .int v1]) (n := 2) (Nat.le_of_ble_eq_true rfl)
  rw [lg_entry_eq]
  generalize (lg_sl ([.ref y.1, .int v1]) ++ List.replicate (2 - (lg_sl ([.ref y.1, .int v1])).length) Slot.unset).toArray = ls at hl ⊢
  have hl : lv_has ls 2 [(0, .ref y.1), (1, .int v1)] := hl
  try dsimp only at hP
  refine lv_aload_n hx hb dX1_setNil_0 rfl (lv_at hl 0 rfl) ?_
  refine lv_iload_n hx hb dX1_setNil_1 rfl (lv_at hl 1 rfl) ?_
  refine rd_V (ci := 1) (As := [.int v1]) (rest := []) hF (cM_var l g y f M v1) (cwV 1 hts (lw_V q182 q184 qs8 q15 q185) rfl rfl rfl (by decide +kernel) ⟨Nat.le_of_ble_eq_true rfl, Nat.le_of_ble_eq_true rfl⟩) hK hP rfl rfl rfl hl.1 rfl (Nat.le_of_ble_eq_true rfl) dX1_setNil_2 ⟨Nat.zero_le _, Nat.zero_le _⟩ (fun r hr => ?_)
  rcases hr with ⟨rfl, j, hj, rfl⟩ | ⟨rfl, hnv1⟩
  · refine lv_if_ne (tgt := 10) hx hb dX1_setNil_5 (by decide) (fun _ => ?_) (fun c0 => absurd c0 (by decide))
    refine lv_aload_n hx hb dX1_setNil_10 rfl (lv_at hl 0 rfl) ?_
    refine mg_v hF hK hP dX1_setNil_11 ?_
    refine lv_iload_n hx hb dX1_setNil_14 rfl (lv_at hl 1 rfl) ?_
    refine lv_iconst (v := 0) hx hb dX1_setNil_15 (by decide) ?_
    refine mw_v hF hK hP hD hS (by omega) dX1_setNil_16 (fun H locs hP hD hS => ?_)
    refine lv_iconst (v := 0) hx hb dX1_setNil_17 (by decide) ?_
    exact wr_ret (wf := wM y f) (u := (tv_ M (upd (mv M) j 0))) hx hb hrt hlocks hK hP hD hS (Or.inl ⟨j, hj, rfl, rfl, rfl⟩) dX1_setNil_18
  · refine lv_if_ne (tgt := 10) hx hb dX1_setNil_5 (by decide) (fun c0 => absurd (rfl) c0) (fun _ => ?_)
    refine lv_iconst (v := -1) hx hb dX1_setNil_8 (by decide) ?_
    exact wr_ret (wf := wM y f) (u := M) hx hb hrt hlocks hK hP hD hS (Or.inr ⟨hnv1, rfl, rfl⟩) dX1_setNil_9
set_option maxHeartbeats 4000000 in
theorem cM_copy (l : Launch) (g : va_G) (y : MA) (f : MC) (M : MS) (sz : Nat) (v1 : Int32) (w1 : Int32)  : Met l yX1_copy (ws_ yX1_copy cX1_copy 3 (some .int)) ({ frames := 1, cells := 0, slots := 0, locals := 21 }) (WrC g (tM f) (wM y f M) sz [.ref y.1, .int v1, .int w1]) (va_Qi (fun r T => (∃ j i, j < 8 ∧ i < 8 ∧ v1 = nI j ∧ w1 = nI i ∧ r = 0 ∧ T = tv_ M (upd (mv M) j (mv M i))) ∨ (¬ (IsV v1 ∧ IsV w1) ∧ r = -1 ∧ T = M)) (WB g (tM f) (wM y f) (va_A (wM y f M) sz)) (va_A (wM y f M) sz)) 0 0 (va_A (wM y f M) sz) := by
  refine Met.ofW (cc := cX1_copy) (maxL := 3) (ret := (some .int)) (by decide) rfl ?_
  intro p e s m args below meth c s₁ B hml hv
  obtain ⟨rfl, hsz, hP, hK, hD0⟩ := hv
  have hx := B.exec
  have hb := B.bytes
  have hrt := B.returns
  have hlocks := B.notSynchronized
  have hts0 := atoms_spec (ws := ws_ yX1_copy cX1_copy 3 (some .int)) B.pre
  have hts : ∀ w ∈ lw_all, w.before ([.ref y.1, .int v1, .int w1] : List Value).toArray s = true := fun w h => hts0 w (List.mem_cons_of_mem _ h)
  have hown : s.vm.findClass RX1 = some m.cls := findClass_of_methodNamed B.named
  have hF : CallFix p m c cX1_copy 3 s ([.ref y.1, .int v1, .int w1] : List Value).toArray lw_all RX1 := ⟨hx, hb, hml, hown, hts⟩
  subst hsz
  have hD := hD0.self (sz := s.heap.size)
  generalize hAe : va_A (wM y f M) s.heap.size = A at hD ⊢
  have hA : ∀ q : Nat, s.heap.size ≤ q → A q := fun q h => by rw [← hAe]; exact Or.inr h
  have hS : va_S A s.heap s.heap [] := va_S.rf
  have hl := lv_entry ([.ref y.1, .int v1, .int w1]) (n := 3) (Nat.le_of_ble_eq_true rfl)
  rw [lg_entry_eq]
  generalize (lg_sl ([.ref y.1, .int v1, .int w1]) ++ List.replicate (3 - (lg_sl ([.ref y.1, .int v1, .int w1])).length) Slot.unset).toArray = ls at hl ⊢
  have hl : lv_has ls 3 [(0, .ref y.1), (1, .int v1), (2, .int w1)] := hl
  try dsimp only at hP
  refine lv_aload_n hx hb dX1_copy_0 rfl (lv_at hl 0 rfl) ?_
  refine lv_iload_n hx hb dX1_copy_1 rfl (lv_at hl 1 rfl) ?_
  refine rd_V (ci := 1) (As := [.int v1]) (rest := []) hF (cM_var l g y f M v1) (cwV 1 hts (lw_V q182 q184 qs8 q15 q185) rfl rfl rfl (by decide +kernel) ⟨Nat.le_of_ble_eq_true rfl, Nat.le_of_ble_eq_true rfl⟩) hK hP rfl rfl rfl hl.1 rfl (Nat.le_of_ble_eq_true rfl) dX1_copy_2 ⟨Nat.zero_le _, Nat.zero_le _⟩ (fun r hr => ?_)
  rcases hr with ⟨rfl, j, hj, rfl⟩ | ⟨rfl, hnv1⟩
  · refine lv_if_eq (tgt := 16) hx hb dX1_copy_5 (by decide) (fun c0 => absurd c0 (by decide)) (fun _ => ?_)
    refine lv_aload_n hx hb dX1_copy_8 rfl (lv_at hl 0 rfl) ?_
    refine lv_iload_n hx hb dX1_copy_9 rfl (lv_at hl 2 rfl) ?_
    refine rd_V (ci := 1) (As := [.int w1]) (rest := []) hF (cM_var l g y f M w1) (cwV 1 hts (lw_V q182 q184 qs8 q15 q185) rfl rfl rfl (by decide +kernel) ⟨Nat.le_of_ble_eq_true rfl, Nat.le_of_ble_eq_true rfl⟩) hK hP rfl rfl rfl hl.1 rfl (Nat.le_of_ble_eq_true rfl) dX1_copy_10 ⟨Nat.zero_le _, Nat.zero_le _⟩ (fun r hr => ?_)
    rcases hr with ⟨rfl, i, hi, rfl⟩ | ⟨rfl, hnw1⟩
    · refine lv_if_ne (tgt := 18) hx hb dX1_copy_13 (by decide) (fun _ => ?_) (fun c0 => absurd c0 (by decide))
      refine lv_aload_n hx hb dX1_copy_18 rfl (lv_at hl 0 rfl) ?_
      refine mg_v hF hK hP dX1_copy_19 ?_
      refine lv_iload_n hx hb dX1_copy_22 rfl (lv_at hl 1 rfl) ?_
      refine lv_aload_n hx hb dX1_copy_23 rfl (lv_at hl 0 rfl) ?_
      refine mg_v hF hK hP dX1_copy_24 ?_
      refine lv_iload_n hx hb dX1_copy_27 rfl (lv_at hl 2 rfl) ?_
      refine mr_v hF hK hP (by omega) dX1_copy_28 ?_
      refine mw_v hF hK hP hD hS (by omega) dX1_copy_29 (fun H locs hP hD hS => ?_)
      refine lv_iconst (v := 0) hx hb dX1_copy_30 (by decide) ?_
      exact wr_ret (wf := wM y f) (u := (tv_ M (upd (mv M) j (mv M i)))) hx hb hrt hlocks hK hP hD hS (Or.inl ⟨j, i, hj, hi, rfl, rfl, rfl, rfl⟩) dX1_copy_31
    · refine lv_if_ne (tgt := 18) hx hb dX1_copy_13 (by decide) (fun c0 => absurd (rfl) c0) (fun _ => ?_)
      refine lv_iconst (v := -1) hx hb dX1_copy_16 (by decide) ?_
      exact wr_ret (wf := wM y f) (u := M) hx hb hrt hlocks hK hP hD hS (Or.inr ⟨fun h => hnw1 h.2, rfl, rfl⟩) dX1_copy_17
  · refine lv_if_eq (tgt := 16) hx hb dX1_copy_5 (by decide) (fun _ => ?_) (fun c0 => absurd (rfl) c0)
    refine lv_iconst (v := -1) hx hb dX1_copy_16 (by decide) ?_
    exact wr_ret (wf := wM y f) (u := M) hx hb hrt hlocks hK hP hD hS (Or.inr ⟨fun h => hnv1 h.1, rfl, rfl⟩) dX1_copy_17
set_option maxHeartbeats 4000000 in
theorem cM_setNumber (l : Launch) (g : va_G) (y : MA) (f : MC) (M : MS) (sz : Nat) (v1 : Int32) (n1 : Int32)  : Met l yX1_setNumber (ws_ yX1_setNumber cX1_setNumber 4 (some .int)) ({ frames := 2, cells := 0, slots := 0, locals := 43 }) (WrC g (tM f) (wM y f M) sz [.ref y.1, .int v1, .int n1]) (va_Qi (fun r T => (∃ j, j < 8 ∧ v1 = nI j ∧ ((∃ q, q < 512 ∧ Pt_ M (mv M j) q ∧ r = 0 ∧ T = tn_ M (upd (mn M) q n1)) ∨ (¬ mkd M (mv M j) = 1 ∧ r = fl (mkd M (mv M j)) ∧ T = M))) ∨ (¬ IsV v1 ∧ r = -1 ∧ T = M)) (WB g (tM f) (wM y f) (va_A (wM y f M) sz)) (va_A (wM y f M) sz)) 0 0 (va_A (wM y f M) sz) := by
  refine Met.ofW (cc := cX1_setNumber) (maxL := 4) (ret := (some .int)) (by decide) rfl ?_
  intro p e s m args below meth c s₁ B hml hv
  obtain ⟨rfl, hsz, hP, hK, hD0⟩ := hv
  have hx := B.exec
  have hb := B.bytes
  have hrt := B.returns
  have hlocks := B.notSynchronized
  have hts0 := atoms_spec (ws := ws_ yX1_setNumber cX1_setNumber 4 (some .int)) B.pre
  have hts : ∀ w ∈ lw_all, w.before ([.ref y.1, .int v1, .int n1] : List Value).toArray s = true := fun w h => hts0 w (List.mem_cons_of_mem _ h)
  have hown : s.vm.findClass RX1 = some m.cls := findClass_of_methodNamed B.named
  have hF : CallFix p m c cX1_setNumber 4 s ([.ref y.1, .int v1, .int n1] : List Value).toArray lw_all RX1 := ⟨hx, hb, hml, hown, hts⟩
  subst hsz
  have hD := hD0.self (sz := s.heap.size)
  generalize hAe : va_A (wM y f M) s.heap.size = A at hD ⊢
  have hA : ∀ q : Nat, s.heap.size ≤ q → A q := fun q h => by rw [← hAe]; exact Or.inr h
  have hS : va_S A s.heap s.heap [] := va_S.rf
  have hl := lv_entry ([.ref y.1, .int v1, .int n1]) (n := 4) (Nat.le_of_ble_eq_true rfl)
  rw [lg_entry_eq]
  generalize (lg_sl ([.ref y.1, .int v1, .int n1]) ++ List.replicate (4 - (lg_sl ([.ref y.1, .int v1, .int n1])).length) Slot.unset).toArray = ls at hl ⊢
  have hl : lv_has ls 4 [(0, .ref y.1), (1, .int v1), (2, .int n1)] := hl
  try dsimp only at hP
  refine lv_aload_n hx hb dX1_setNumber_0 rfl (lv_at hl 0 rfl) ?_
  refine lv_iload_n hx hb dX1_setNumber_1 rfl (lv_at hl 1 rfl) ?_
  refine rd_V (ci := 1) (As := [.int v1]) (rest := []) hF (cM_var l g y f M v1) (cwV 1 hts (lw_V q182 q184 qs8 q15 q185) rfl rfl rfl (by decide +kernel) ⟨Nat.le_of_ble_eq_true rfl, Nat.le_of_ble_eq_true rfl⟩) hK hP rfl rfl rfl hl.1 rfl (Nat.le_of_ble_eq_true rfl) dX1_setNumber_2 ⟨Nat.zero_le _, Nat.zero_le _⟩ (fun r hr => ?_)
  rcases hr with ⟨rfl, j, hj, rfl⟩ | ⟨rfl, hnv1⟩
  · refine lv_if_ne (tgt := 10) hx hb dX1_setNumber_5 (by decide) (fun _ => ?_) (fun c0 => absurd c0 (by decide))
    refine lv_aload_n hx hb dX1_setNumber_10 rfl (lv_at hl 0 rfl) ?_
    refine lv_iload_n hx hb dX1_setNumber_11 rfl (lv_at hl 1 rfl) ?_
    refine rd_V (ci := 1) (As := [.int (nI j)]) (rest := []) hF (cM_through l g y f M j hj) (cwV 1 hts (lw_V q194 q196 qs9 q15 q197) rfl rfl rfl (by decide +kernel) ⟨Nat.le_of_ble_eq_true rfl, Nat.le_of_ble_eq_true rfl⟩) hK hP rfl rfl rfl hl.1 rfl (Nat.le_of_ble_eq_true rfl) dX1_setNumber_12 ⟨Nat.zero_le _, Nat.zero_le _⟩ (fun r (hr : r = fl (mkd M (mv M j))) => ?_)
    subst hr
    refine lv_istore_n (lv' := [(3, .int (fl (mkd M (mv M j)))), (0, .ref y.1), (1, .int (nI j)), (2, .int n1)]) hx hb dX1_setNumber_15 rfl hl (by decide) rfl (fun ls hl => ?_)
    refine lv_iload_n hx hb dX1_setNumber_16 rfl (lv_at hl 0 rfl) ?_
    refine lv_if_ne (tgt := 34) hx hb dX1_setNumber_17 (by decide) (fun c1 => ?_) (fun c1 => ?_)
    · have c2 : ¬ mkd M (mv M j) = 1 := fun h => c1 ((fl_0 (mkd_cases M _)).mpr h)
      refine lv_iload_n hx hb dX1_setNumber_34 rfl (lv_at hl 0 rfl) ?_
      exact wr_ret (wf := wM y f) (u := M) hx hb hrt hlocks hK hP hD hS (Or.inl ⟨j, hj, rfl, Or.inr ⟨c2, rfl, rfl⟩⟩) dX1_setNumber_35
    · have c2 : mkd M (mv M j) = 1 := (fl_0 (mkd_cases M _)).mp c1
      obtain ⟨q, hq, hqe, hqa⟩ := mkd_live c2
      refine lv_aload_n hx hb dX1_setNumber_20 rfl (lv_at hl 1 rfl) ?_
      refine mg_n hF hK hP dX1_setNumber_21 ?_
      refine lv_aload_n hx hb dX1_setNumber_24 rfl (lv_at hl 1 rfl) ?_
      refine mg_v hF hK hP dX1_setNumber_25 ?_
      refine lv_iload_n hx hb dX1_setNumber_28 rfl (lv_at hl 2 rfl) ?_
      refine mr_v hF hK hP (by omega) dX1_setNumber_29 ?_
      refine lv_iconst (v := 1) hx hb dX1_setNumber_30 (by decide) ?_
      refine lv_isub hx hb dX1_setNumber_31 ?_
      refine lv_asi (w := nI q) (by rw [hqe]; exact nI_pred q) ?_
      refine lv_iload_n hx hb dX1_setNumber_32 rfl (lv_at hl 3 rfl) ?_
      refine mw_n hF hK hP hD hS (by omega) dX1_setNumber_33 (fun H locs hP hD hS => ?_)
      refine lv_iload_n hx hb dX1_setNumber_34 rfl (lv_at hl 0 rfl) ?_
      exact wr_ret (wf := wM y f) (u := (tn_ M (upd (mn M) q n1))) hx hb hrt hlocks hK hP hD hS (Or.inl ⟨j, hj, rfl, Or.inl ⟨q, hq, ⟨c2, hqe⟩, c1, rfl⟩⟩) dX1_setNumber_35
  · refine lv_if_ne (tgt := 10) hx hb dX1_setNumber_5 (by decide) (fun c0 => absurd (rfl) c0) (fun _ => ?_)
    refine lv_iconst (v := -1) hx hb dX1_setNumber_8 (by decide) ?_
    exact wr_ret (wf := wM y f) (u := M) hx hb hrt hlocks hK hP hD hS (Or.inr ⟨hnv1, rfl, rfl⟩) dX1_setNumber_9
set_option maxHeartbeats 4000000 in
theorem cM_dispose (l : Launch) (g : va_G) (y : MA) (f : MC) (M : MS) (sz : Nat) (v1 : Int32)  : Met l yX1_dispose (ws_ yX1_dispose cX1_dispose 3 (some .int)) ({ frames := 2, cells := 0, slots := 0, locals := 43 }) (WrC g (tM f) (wM y f M) sz [.ref y.1, .int v1]) (va_Qi (fun r T => (∃ j, j < 8 ∧ v1 = nI j ∧ ((∃ q, q < 512 ∧ Pt_ M (mv M j) q ∧ r = 0 ∧ T = ta_ M (upd (ma M) q (vp_nar .boolean 0))) ∨ (¬ mkd M (mv M j) = 1 ∧ r = fl (mkd M (mv M j)) ∧ T = M))) ∨ (¬ IsV v1 ∧ r = -1 ∧ T = M)) (WB g (tM f) (wM y f) (va_A (wM y f M) sz)) (va_A (wM y f M) sz)) 0 0 (va_A (wM y f M) sz) := by
  refine Met.ofW (cc := cX1_dispose) (maxL := 3) (ret := (some .int)) (by decide) rfl ?_
  intro p e s m args below meth c s₁ B hml hv
  obtain ⟨rfl, hsz, hP, hK, hD0⟩ := hv
  have hx := B.exec
  have hb := B.bytes
  have hrt := B.returns
  have hlocks := B.notSynchronized
  have hts0 := atoms_spec (ws := ws_ yX1_dispose cX1_dispose 3 (some .int)) B.pre
  have hts : ∀ w ∈ lw_all, w.before ([.ref y.1, .int v1] : List Value).toArray s = true := fun w h => hts0 w (List.mem_cons_of_mem _ h)
  have hown : s.vm.findClass RX1 = some m.cls := findClass_of_methodNamed B.named
  have hF : CallFix p m c cX1_dispose 3 s ([.ref y.1, .int v1] : List Value).toArray lw_all RX1 := ⟨hx, hb, hml, hown, hts⟩
  subst hsz
  have hD := hD0.self (sz := s.heap.size)
  generalize hAe : va_A (wM y f M) s.heap.size = A at hD ⊢
  have hA : ∀ q : Nat, s.heap.size ≤ q → A q := fun q h => by rw [← hAe]; exact Or.inr h
  have hS : va_S A s.heap s.heap [] := va_S.rf
  have hl := lv_entry ([.ref y.1, .int v1]) (n := 3) (Nat.le_of_ble_eq_true rfl)
  rw [lg_entry_eq]
  generalize (lg_sl ([.ref y.1, .int v1]) ++ List.replicate (3 - (lg_sl ([.ref y.1, .int v1])).length) Slot.unset).toArray = ls at hl ⊢
  have hl : lv_has ls 3 [(0, .ref y.1), (1, .int v1)] := hl
  try dsimp only at hP
  refine lv_aload_n hx hb dX1_dispose_0 rfl (lv_at hl 0 rfl) ?_
  refine lv_iload_n hx hb dX1_dispose_1 rfl (lv_at hl 1 rfl) ?_
  refine rd_V (ci := 1) (As := [.int v1]) (rest := []) hF (cM_var l g y f M v1) (cwV 1 hts (lw_V q182 q184 qs8 q15 q185) rfl rfl rfl (by decide +kernel) ⟨Nat.le_of_ble_eq_true rfl, Nat.le_of_ble_eq_true rfl⟩) hK hP rfl rfl rfl hl.1 rfl (Nat.le_of_ble_eq_true rfl) dX1_dispose_2 ⟨Nat.zero_le _, Nat.zero_le _⟩ (fun r hr => ?_)
  rcases hr with ⟨rfl, j, hj, rfl⟩ | ⟨rfl, hnv1⟩
  · refine lv_if_ne (tgt := 10) hx hb dX1_dispose_5 (by decide) (fun _ => ?_) (fun c0 => absurd c0 (by decide))
    refine lv_aload_n hx hb dX1_dispose_10 rfl (lv_at hl 0 rfl) ?_
    refine lv_iload_n hx hb dX1_dispose_11 rfl (lv_at hl 1 rfl) ?_
    refine rd_V (ci := 1) (As := [.int (nI j)]) (rest := []) hF (cM_through l g y f M j hj) (cwV 1 hts (lw_V q194 q196 qs9 q15 q197) rfl rfl rfl (by decide +kernel) ⟨Nat.le_of_ble_eq_true rfl, Nat.le_of_ble_eq_true rfl⟩) hK hP rfl rfl rfl hl.1 rfl (Nat.le_of_ble_eq_true rfl) dX1_dispose_12 ⟨Nat.zero_le _, Nat.zero_le _⟩ (fun r (hr : r = fl (mkd M (mv M j))) => ?_)
    subst hr
    refine lv_istore_n (lv' := [(2, .int (fl (mkd M (mv M j)))), (0, .ref y.1), (1, .int (nI j))]) hx hb dX1_dispose_15 rfl hl (by decide) rfl (fun ls hl => ?_)
    refine lv_iload_n hx hb dX1_dispose_16 rfl (lv_at hl 0 rfl) ?_
    refine lv_if_ne (tgt := 34) hx hb dX1_dispose_17 (by decide) (fun c1 => ?_) (fun c1 => ?_)
    · have c2 : ¬ mkd M (mv M j) = 1 := fun h => c1 ((fl_0 (mkd_cases M _)).mpr h)
      refine lv_iload_n hx hb dX1_dispose_34 rfl (lv_at hl 0 rfl) ?_
      exact wr_ret (wf := wM y f) (u := M) hx hb hrt hlocks hK hP hD hS (Or.inl ⟨j, hj, rfl, Or.inr ⟨c2, rfl, rfl⟩⟩) dX1_dispose_35
    · have c2 : mkd M (mv M j) = 1 := (fl_0 (mkd_cases M _)).mp c1
      obtain ⟨q, hq, hqe, hqa⟩ := mkd_live c2
      refine lv_aload_n hx hb dX1_dispose_20 rfl (lv_at hl 1 rfl) ?_
      refine mg_a hF hK hP dX1_dispose_21 ?_
      refine lv_aload_n hx hb dX1_dispose_24 rfl (lv_at hl 1 rfl) ?_
      refine mg_v hF hK hP dX1_dispose_25 ?_
      refine lv_iload_n hx hb dX1_dispose_28 rfl (lv_at hl 2 rfl) ?_
      refine mr_v hF hK hP (by omega) dX1_dispose_29 ?_
      refine lv_iconst (v := 1) hx hb dX1_dispose_30 (by decide) ?_
      refine lv_isub hx hb dX1_dispose_31 ?_
      refine lv_asi (w := nI q) (by rw [hqe]; exact nI_pred q) ?_
      refine lv_iconst (v := 0) hx hb dX1_dispose_32 (by decide) ?_
      refine mw_a hF hK hP hD hS (by omega) dX1_dispose_33 (fun H locs hP hD hS => ?_)
      refine lv_iload_n hx hb dX1_dispose_34 rfl (lv_at hl 0 rfl) ?_
      exact wr_ret (wf := wM y f) (u := (ta_ M (upd (ma M) q (vp_nar .boolean 0)))) hx hb hrt hlocks hK hP hD hS (Or.inl ⟨j, hj, rfl, Or.inl ⟨q, hq, ⟨c2, hqe⟩, c1, rfl⟩⟩) dX1_dispose_35
  · refine lv_if_ne (tgt := 10) hx hb dX1_dispose_5 (by decide) (fun c0 => absurd (rfl) c0) (fun _ => ?_)
    refine lv_iconst (v := -1) hx hb dX1_dispose_8 (by decide) ?_
    exact wr_ret (wf := wM y f) (u := M) hx hb hrt hlocks hK hP hD hS (Or.inr ⟨hnv1, rfl, rfl⟩) dX1_dispose_9
set_option maxHeartbeats 4000000 in
theorem cM_setLink (l : Launch) (g : va_G) (y : MA) (f : MC) (M : MS) (sz : Nat) (v1 : Int32) (k1 : Int32) (w1 : Int32)  : Met l yX1_setLink (ws_ yX1_setLink cX1_setLink 5 (some .int)) ({ frames := 2, cells := 0, slots := 0, locals := 43 }) (WrC g (tM f) (wM y f M) sz [.ref y.1, .int v1, .int k1, .int w1]) (va_Qi (fun r T => (∃ j e i, j < 8 ∧ e < 2 ∧ i < 8 ∧ v1 = nI j ∧ k1 = nI e ∧ w1 = nI i ∧ ((∃ q, q < 512 ∧ Pt_ M (mv M j) q ∧ r = 0 ∧ T = (if e = 0 then tl_ M (upd (ml M) q (mv M i)) else tr_ M (upd (mr M) q (mv M i)))) ∨ (¬ mkd M (mv M j) = 1 ∧ r = fl (mkd M (mv M j)) ∧ T = M))) ∨ (¬ (IsV v1 ∧ IsL k1 ∧ IsV w1) ∧ r = -1 ∧ T = M)) (WB g (tM f) (wM y f) (va_A (wM y f M) sz)) (va_A (wM y f M) sz)) 0 0 (va_A (wM y f M) sz) := by
  refine Met.ofW (cc := cX1_setLink) (maxL := 5) (ret := (some .int)) (by decide) rfl ?_
  intro p e s m args below meth c s₁ B hml hv
  obtain ⟨rfl, hsz, hP, hK, hD0⟩ := hv
  have hx := B.exec
  have hb := B.bytes
  have hrt := B.returns
  have hlocks := B.notSynchronized
  have hts0 := atoms_spec (ws := ws_ yX1_setLink cX1_setLink 5 (some .int)) B.pre
  have hts : ∀ w ∈ lw_all, w.before ([.ref y.1, .int v1, .int k1, .int w1] : List Value).toArray s = true := fun w h => hts0 w (List.mem_cons_of_mem _ h)
  have hown : s.vm.findClass RX1 = some m.cls := findClass_of_methodNamed B.named
  have hF : CallFix p m c cX1_setLink 5 s ([.ref y.1, .int v1, .int k1, .int w1] : List Value).toArray lw_all RX1 := ⟨hx, hb, hml, hown, hts⟩
  subst hsz
  have hD := hD0.self (sz := s.heap.size)
  generalize hAe : va_A (wM y f M) s.heap.size = A at hD ⊢
  have hA : ∀ q : Nat, s.heap.size ≤ q → A q := fun q h => by rw [← hAe]; exact Or.inr h
  have hS : va_S A s.heap s.heap [] := va_S.rf
  have hl := lv_entry ([.ref y.1, .int v1, .int k1, .int w1]) (n := 5) (Nat.le_of_ble_eq_true rfl)
  rw [lg_entry_eq]
  generalize (lg_sl ([.ref y.1, .int v1, .int k1, .int w1]) ++ List.replicate (5 - (lg_sl ([.ref y.1, .int v1, .int k1, .int w1])).length) Slot.unset).toArray = ls at hl ⊢
  have hl : lv_has ls 5 [(0, .ref y.1), (1, .int v1), (2, .int k1), (3, .int w1)] := hl
  try dsimp only at hP
  refine lv_aload_n hx hb dX1_setLink_0 rfl (lv_at hl 0 rfl) ?_
  refine lv_iload_n hx hb dX1_setLink_1 rfl (lv_at hl 1 rfl) ?_
  refine rd_V (ci := 1) (As := [.int v1]) (rest := []) hF (cM_var l g y f M v1) (cwV 1 hts (lw_V q182 q184 qs8 q15 q185) rfl rfl rfl (by decide +kernel) ⟨Nat.le_of_ble_eq_true rfl, Nat.le_of_ble_eq_true rfl⟩) hK hP rfl rfl rfl hl.1 rfl (Nat.le_of_ble_eq_true rfl) dX1_setLink_2 ⟨Nat.zero_le _, Nat.zero_le _⟩ (fun r hr => ?_)
  rcases hr with ⟨rfl, j, hj, rfl⟩ | ⟨rfl, hnv1⟩
  · refine lv_if_eq (tgt := 25) hx hb dX1_setLink_5 (by decide) (fun c0 => absurd c0 (by decide)) (fun _ => ?_)
    refine lv_aload_n hx hb dX1_setLink_8 rfl (lv_at hl 0 rfl) ?_
    refine lv_iload_n hx hb dX1_setLink_9 rfl (lv_at hl 3 rfl) ?_
    refine rd_V (ci := 1) (As := [.int w1]) (rest := []) hF (cM_var l g y f M w1) (cwV 1 hts (lw_V q182 q184 qs8 q15 q185) rfl rfl rfl (by decide +kernel) ⟨Nat.le_of_ble_eq_true rfl, Nat.le_of_ble_eq_true rfl⟩) hK hP rfl rfl rfl hl.1 rfl (Nat.le_of_ble_eq_true rfl) dX1_setLink_10 ⟨Nat.zero_le _, Nat.zero_le _⟩ (fun r hr => ?_)
    rcases hr with ⟨rfl, i, hi, rfl⟩ | ⟨rfl, hnw1⟩
    · refine lv_if_eq (tgt := 25) hx hb dX1_setLink_13 (by decide) (fun c0 => absurd c0 (by decide)) (fun _ => ?_)
      by_cases hL : IsL k1
      · obtain ⟨e, he, rfl⟩ := hL
        rcases (show e = 0 ∨ e = 1 by omega) with rfl | rfl
        · refine lv_iload_n hx hb dX1_setLink_16 rfl (lv_at hl 2 rfl) ?_
          refine lv_if_eq (tgt := 27) hx hb dX1_setLink_17 (by decide) (fun _ => ?_) (fun c0 => absurd (rfl) c0)
          refine lv_aload_n hx hb dX1_setLink_27 rfl (lv_at hl 0 rfl) ?_
          refine lv_iload_n hx hb dX1_setLink_28 rfl (lv_at hl 1 rfl) ?_
          refine rd_V (ci := 1) (As := [.int (nI j)]) (rest := []) hF (cM_through l g y f M j hj) (cwV 1 hts (lw_V q194 q196 qs9 q15 q197) rfl rfl rfl (by decide +kernel) ⟨Nat.le_of_ble_eq_true rfl, Nat.le_of_ble_eq_true rfl⟩) hK hP rfl rfl rfl hl.1 rfl (Nat.le_of_ble_eq_true rfl) dX1_setLink_29 ⟨Nat.zero_le _, Nat.zero_le _⟩ (fun r (hr : r = fl (mkd M (mv M j))) => ?_)
          subst hr
          refine lv_istore (lv' := [(4, .int (fl (mkd M (mv M j)))), (0, .ref y.1), (1, .int (nI j)), (2, .int (nI 0)), (3, .int (nI i))]) hx hb dX1_setLink_32 hl (by decide) rfl (fun ls hl => ?_)
          refine lv_iload hx hb dX1_setLink_34 (lv_at hl 0 rfl) ?_
          refine lv_if_ne (tgt := 65) hx hb dX1_setLink_36 (by decide) (fun c1 => ?_) (fun c1 => ?_)
          · have c2 : ¬ mkd M (mv M j) = 1 := fun h => c1 ((fl_0 (mkd_cases M _)).mpr h)
            refine lv_iload hx hb dX1_setLink_65 (lv_at hl 0 rfl) ?_
            refine lv_if_ne (tgt := 89) hx hb dX1_setLink_67 (by decide) (fun _ => ?_) (fun c0 => absurd c0 (c1))
            refine lv_iload hx hb dX1_setLink_89 (lv_at hl 0 rfl) ?_
            exact wr_ret (wf := wM y f) (u := M) hx hb hrt hlocks hK hP hD hS (Or.inl ⟨j, 0, i, hj, by decide, hi, rfl, rfl, rfl, Or.inr ⟨c2, rfl, rfl⟩⟩) dX1_setLink_91
          · have c2 : mkd M (mv M j) = 1 := (fl_0 (mkd_cases M _)).mp c1
            obtain ⟨q, hq, hqe, hqa⟩ := mkd_live c2
            refine lv_iload_n hx hb dX1_setLink_39 rfl (lv_at hl 3 rfl) ?_
            refine lv_if_ne (tgt := 65) hx hb dX1_setLink_40 (by decide) (fun c0 => absurd (rfl) c0) (fun _ => ?_)
            refine lv_aload_n hx hb dX1_setLink_43 rfl (lv_at hl 1 rfl) ?_
            refine mg_l hF hK hP dX1_setLink_44 ?_
            refine lv_aload_n hx hb dX1_setLink_47 rfl (lv_at hl 1 rfl) ?_
            refine mg_v hF hK hP dX1_setLink_48 ?_
            refine lv_iload_n hx hb dX1_setLink_51 rfl (lv_at hl 2 rfl) ?_
            refine mr_v hF hK hP (by omega) dX1_setLink_52 ?_
            refine lv_iconst (v := 1) hx hb dX1_setLink_53 (by decide) ?_
            refine lv_isub hx hb dX1_setLink_54 ?_
            refine lv_asi (w := nI q) (by rw [hqe]; exact nI_pred q) ?_
            refine lv_aload_n hx hb dX1_setLink_55 rfl (lv_at hl 1 rfl) ?_
            refine mg_v hF hK hP dX1_setLink_56 ?_
            refine lv_iload_n hx hb dX1_setLink_59 rfl (lv_at hl 4 rfl) ?_
            refine mr_v hF hK hP (by omega) dX1_setLink_60 ?_
            refine mw_l hF hK hP hD hS (by omega) dX1_setLink_61 (fun H locs hP hD hS => ?_)
            refine lv_goto (tgt := 89) hx hb dX1_setLink_62 (by decide) ?_
            refine lv_iload hx hb dX1_setLink_89 (lv_at hl 0 rfl) ?_
            exact wr_ret (wf := wM y f) (u := (tl_ M (upd (ml M) q (mv M i)))) hx hb hrt hlocks hK hP hD hS (Or.inl ⟨j, 0, i, hj, by decide, hi, rfl, rfl, rfl, Or.inl ⟨q, hq, ⟨c2, hqe⟩, c1, rfl⟩⟩) dX1_setLink_91
        · refine lv_iload_n hx hb dX1_setLink_16 rfl (lv_at hl 2 rfl) ?_
          refine lv_if_eq (tgt := 27) hx hb dX1_setLink_17 (by decide) (fun c0 => absurd c0 (by decide)) (fun _ => ?_)
          refine lv_iload_n hx hb dX1_setLink_20 rfl (lv_at hl 2 rfl) ?_
          refine lv_iconst (v := 1) hx hb dX1_setLink_21 (by decide) ?_
          refine lv_icmp_eq (tgt := 27) hx hb dX1_setLink_22 (by decide) (fun _ => ?_) (fun c0 => absurd (rfl) c0)
          refine lv_aload_n hx hb dX1_setLink_27 rfl (lv_at hl 0 rfl) ?_
          refine lv_iload_n hx hb dX1_setLink_28 rfl (lv_at hl 1 rfl) ?_
          refine rd_V (ci := 1) (As := [.int (nI j)]) (rest := []) hF (cM_through l g y f M j hj) (cwV 1 hts (lw_V q194 q196 qs9 q15 q197) rfl rfl rfl (by decide +kernel) ⟨Nat.le_of_ble_eq_true rfl, Nat.le_of_ble_eq_true rfl⟩) hK hP rfl rfl rfl hl.1 rfl (Nat.le_of_ble_eq_true rfl) dX1_setLink_29 ⟨Nat.zero_le _, Nat.zero_le _⟩ (fun r (hr : r = fl (mkd M (mv M j))) => ?_)
          subst hr
          refine lv_istore (lv' := [(4, .int (fl (mkd M (mv M j)))), (0, .ref y.1), (1, .int (nI j)), (2, .int (nI 1)), (3, .int (nI i))]) hx hb dX1_setLink_32 hl (by decide) rfl (fun ls hl => ?_)
          refine lv_iload hx hb dX1_setLink_34 (lv_at hl 0 rfl) ?_
          refine lv_if_ne (tgt := 65) hx hb dX1_setLink_36 (by decide) (fun c1 => ?_) (fun c1 => ?_)
          · have c2 : ¬ mkd M (mv M j) = 1 := fun h => c1 ((fl_0 (mkd_cases M _)).mpr h)
            refine lv_iload hx hb dX1_setLink_65 (lv_at hl 0 rfl) ?_
            refine lv_if_ne (tgt := 89) hx hb dX1_setLink_67 (by decide) (fun _ => ?_) (fun c0 => absurd c0 (c1))
            refine lv_iload hx hb dX1_setLink_89 (lv_at hl 0 rfl) ?_
            exact wr_ret (wf := wM y f) (u := M) hx hb hrt hlocks hK hP hD hS (Or.inl ⟨j, 1, i, hj, by decide, hi, rfl, rfl, rfl, Or.inr ⟨c2, rfl, rfl⟩⟩) dX1_setLink_91
          · have c2 : mkd M (mv M j) = 1 := (fl_0 (mkd_cases M _)).mp c1
            obtain ⟨q, hq, hqe, hqa⟩ := mkd_live c2
            refine lv_iload_n hx hb dX1_setLink_39 rfl (lv_at hl 3 rfl) ?_
            refine lv_if_ne (tgt := 65) hx hb dX1_setLink_40 (by decide) (fun _ => ?_) (fun c0 => absurd c0 (by decide))
            refine lv_iload hx hb dX1_setLink_65 (lv_at hl 0 rfl) ?_
            refine lv_if_ne (tgt := 89) hx hb dX1_setLink_67 (by decide) (fun c0 => absurd (c1) c0) (fun _ => ?_)
            refine lv_aload_n hx hb dX1_setLink_70 rfl (lv_at hl 1 rfl) ?_
            refine mg_r hF hK hP dX1_setLink_71 ?_
            refine lv_aload_n hx hb dX1_setLink_74 rfl (lv_at hl 1 rfl) ?_
            refine mg_v hF hK hP dX1_setLink_75 ?_
            refine lv_iload_n hx hb dX1_setLink_78 rfl (lv_at hl 2 rfl) ?_
            refine mr_v hF hK hP (by omega) dX1_setLink_79 ?_
            refine lv_iconst (v := 1) hx hb dX1_setLink_80 (by decide) ?_
            refine lv_isub hx hb dX1_setLink_81 ?_
            refine lv_asi (w := nI q) (by rw [hqe]; exact nI_pred q) ?_
            refine lv_aload_n hx hb dX1_setLink_82 rfl (lv_at hl 1 rfl) ?_
            refine mg_v hF hK hP dX1_setLink_83 ?_
            refine lv_iload_n hx hb dX1_setLink_86 rfl (lv_at hl 4 rfl) ?_
            refine mr_v hF hK hP (by omega) dX1_setLink_87 ?_
            refine mw_r hF hK hP hD hS (by omega) dX1_setLink_88 (fun H locs hP hD hS => ?_)
            refine lv_iload hx hb dX1_setLink_89 (lv_at hl 0 rfl) ?_
            exact wr_ret (wf := wM y f) (u := (tr_ M (upd (mr M) q (mv M i)))) hx hb hrt hlocks hK hP hD hS (Or.inl ⟨j, 1, i, hj, by decide, hi, rfl, rfl, rfl, Or.inl ⟨q, hq, ⟨c2, hqe⟩, c1, rfl⟩⟩) dX1_setLink_91
      · refine lv_iload_n hx hb dX1_setLink_16 rfl (lv_at hl 2 rfl) ?_
        refine lv_if_eq (tgt := 27) hx hb dX1_setLink_17 (by decide) (fun c0 => absurd c0 (isL_n0 hL)) (fun _ => ?_)
        refine lv_iload_n hx hb dX1_setLink_20 rfl (lv_at hl 2 rfl) ?_
        refine lv_iconst (v := 1) hx hb dX1_setLink_21 (by decide) ?_
        refine lv_icmp_eq (tgt := 27) hx hb dX1_setLink_22 (by decide) (fun c0 => absurd c0 (isL_n1 hL)) (fun _ => ?_)
        refine lv_iconst (v := -1) hx hb dX1_setLink_25 (by decide) ?_
        exact wr_ret (wf := wM y f) (u := M) hx hb hrt hlocks hK hP hD hS (Or.inr ⟨fun h => hL h.2.1, rfl, rfl⟩) dX1_setLink_26
    · refine lv_if_eq (tgt := 25) hx hb dX1_setLink_13 (by decide) (fun _ => ?_) (fun c0 => absurd (rfl) c0)
      refine lv_iconst (v := -1) hx hb dX1_setLink_25 (by decide) ?_
      exact wr_ret (wf := wM y f) (u := M) hx hb hrt hlocks hK hP hD hS (Or.inr ⟨fun h => hnw1 h.2.2, rfl, rfl⟩) dX1_setLink_26
  · refine lv_if_eq (tgt := 25) hx hb dX1_setLink_5 (by decide) (fun _ => ?_) (fun c0 => absurd (rfl) c0)
    refine lv_iconst (v := -1) hx hb dX1_setLink_25 (by decide) ?_
    exact wr_ret (wf := wM y f) (u := M) hx hb hrt hlocks hK hP hD hS (Or.inr ⟨fun h => hnv1 h.1, rfl, rfl⟩) dX1_setLink_26
set_option maxHeartbeats 4000000 in
theorem cM_follow (l : Launch) (g : va_G) (y : MA) (f : MC) (M : MS) (sz : Nat) (v1 : Int32) (w1 : Int32) (k1 : Int32)  : Met l yX1_follow (ws_ yX1_follow cX1_follow 5 (some .int)) ({ frames := 2, cells := 0, slots := 0, locals := 43 }) (WrC g (tM f) (wM y f M) sz [.ref y.1, .int v1, .int w1, .int k1]) (va_Qi (fun r T => (∃ j i e, j < 8 ∧ i < 8 ∧ e < 2 ∧ v1 = nI j ∧ w1 = nI i ∧ k1 = nI e ∧ ((∃ q, q < 512 ∧ Pt_ M (mv M i) q ∧ r = 0 ∧ T = tv_ M (upd (mv M) j (if e = 0 then ml M q else mr M q))) ∨ (¬ mkd M (mv M i) = 1 ∧ r = fl (mkd M (mv M i)) ∧ T = M))) ∨ (¬ (IsV v1 ∧ IsV w1 ∧ IsL k1) ∧ r = -1 ∧ T = M)) (WB g (tM f) (wM y f) (va_A (wM y f M) sz)) (va_A (wM y f M) sz)) 0 0 (va_A (wM y f M) sz) := by
  refine Met.ofW (cc := cX1_follow) (maxL := 5) (ret := (some .int)) (by decide) rfl ?_
  intro p e s m args below meth c s₁ B hml hv
  obtain ⟨rfl, hsz, hP, hK, hD0⟩ := hv
  have hx := B.exec
  have hb := B.bytes
  have hrt := B.returns
  have hlocks := B.notSynchronized
  have hts0 := atoms_spec (ws := ws_ yX1_follow cX1_follow 5 (some .int)) B.pre
  have hts : ∀ w ∈ lw_all, w.before ([.ref y.1, .int v1, .int w1, .int k1] : List Value).toArray s = true := fun w h => hts0 w (List.mem_cons_of_mem _ h)
  have hown : s.vm.findClass RX1 = some m.cls := findClass_of_methodNamed B.named
  have hF : CallFix p m c cX1_follow 5 s ([.ref y.1, .int v1, .int w1, .int k1] : List Value).toArray lw_all RX1 := ⟨hx, hb, hml, hown, hts⟩
  subst hsz
  have hD := hD0.self (sz := s.heap.size)
  generalize hAe : va_A (wM y f M) s.heap.size = A at hD ⊢
  have hA : ∀ q : Nat, s.heap.size ≤ q → A q := fun q h => by rw [← hAe]; exact Or.inr h
  have hS : va_S A s.heap s.heap [] := va_S.rf
  have hl := lv_entry ([.ref y.1, .int v1, .int w1, .int k1]) (n := 5) (Nat.le_of_ble_eq_true rfl)
  rw [lg_entry_eq]
  generalize (lg_sl ([.ref y.1, .int v1, .int w1, .int k1]) ++ List.replicate (5 - (lg_sl ([.ref y.1, .int v1, .int w1, .int k1])).length) Slot.unset).toArray = ls at hl ⊢
  have hl : lv_has ls 5 [(0, .ref y.1), (1, .int v1), (2, .int w1), (3, .int k1)] := hl
  try dsimp only at hP
  refine lv_aload_n hx hb dX1_follow_0 rfl (lv_at hl 0 rfl) ?_
  refine lv_iload_n hx hb dX1_follow_1 rfl (lv_at hl 1 rfl) ?_
  refine rd_V (ci := 1) (As := [.int v1]) (rest := []) hF (cM_var l g y f M v1) (cwV 1 hts (lw_V q182 q184 qs8 q15 q185) rfl rfl rfl (by decide +kernel) ⟨Nat.le_of_ble_eq_true rfl, Nat.le_of_ble_eq_true rfl⟩) hK hP rfl rfl rfl hl.1 rfl (Nat.le_of_ble_eq_true rfl) dX1_follow_2 ⟨Nat.zero_le _, Nat.zero_le _⟩ (fun r hr => ?_)
  rcases hr with ⟨rfl, j, hj, rfl⟩ | ⟨rfl, hnv1⟩
  · refine lv_if_eq (tgt := 25) hx hb dX1_follow_5 (by decide) (fun c0 => absurd c0 (by decide)) (fun _ => ?_)
    refine lv_aload_n hx hb dX1_follow_8 rfl (lv_at hl 0 rfl) ?_
    refine lv_iload_n hx hb dX1_follow_9 rfl (lv_at hl 2 rfl) ?_
    refine rd_V (ci := 1) (As := [.int w1]) (rest := []) hF (cM_var l g y f M w1) (cwV 1 hts (lw_V q182 q184 qs8 q15 q185) rfl rfl rfl (by decide +kernel) ⟨Nat.le_of_ble_eq_true rfl, Nat.le_of_ble_eq_true rfl⟩) hK hP rfl rfl rfl hl.1 rfl (Nat.le_of_ble_eq_true rfl) dX1_follow_10 ⟨Nat.zero_le _, Nat.zero_le _⟩ (fun r hr => ?_)
    rcases hr with ⟨rfl, i, hi, rfl⟩ | ⟨rfl, hnw1⟩
    · refine lv_if_eq (tgt := 25) hx hb dX1_follow_13 (by decide) (fun c0 => absurd c0 (by decide)) (fun _ => ?_)
      by_cases hL : IsL k1
      · obtain ⟨e, he, rfl⟩ := hL
        rcases (show e = 0 ∨ e = 1 by omega) with rfl | rfl
        · refine lv_iload_n hx hb dX1_follow_16 rfl (lv_at hl 3 rfl) ?_
          refine lv_if_eq (tgt := 27) hx hb dX1_follow_17 (by decide) (fun _ => ?_) (fun c0 => absurd (rfl) c0)
          refine lv_aload_n hx hb dX1_follow_27 rfl (lv_at hl 0 rfl) ?_
          refine lv_iload_n hx hb dX1_follow_28 rfl (lv_at hl 2 rfl) ?_
          refine rd_V (ci := 1) (As := [.int (nI i)]) (rest := []) hF (cM_through l g y f M i hi) (cwV 1 hts (lw_V q194 q196 qs9 q15 q197) rfl rfl rfl (by decide +kernel) ⟨Nat.le_of_ble_eq_true rfl, Nat.le_of_ble_eq_true rfl⟩) hK hP rfl rfl rfl hl.1 rfl (Nat.le_of_ble_eq_true rfl) dX1_follow_29 ⟨Nat.zero_le _, Nat.zero_le _⟩ (fun r (hr : r = fl (mkd M (mv M i))) => ?_)
          subst hr
          refine lv_istore (lv' := [(4, .int (fl (mkd M (mv M i)))), (0, .ref y.1), (1, .int (nI j)), (2, .int (nI i)), (3, .int (nI 0))]) hx hb dX1_follow_32 hl (by decide) rfl (fun ls hl => ?_)
          refine lv_iload hx hb dX1_follow_34 (lv_at hl 0 rfl) ?_
          refine lv_if_ne (tgt := 78) hx hb dX1_follow_36 (by decide) (fun c1 => ?_) (fun c1 => ?_)
          · have c2 : ¬ mkd M (mv M i) = 1 := fun h => c1 ((fl_0 (mkd_cases M _)).mpr h)
            refine lv_iload hx hb dX1_follow_78 (lv_at hl 0 rfl) ?_
            exact wr_ret (wf := wM y f) (u := M) hx hb hrt hlocks hK hP hD hS (Or.inl ⟨j, i, 0, hj, hi, by decide, rfl, rfl, rfl, Or.inr ⟨c2, rfl, rfl⟩⟩) dX1_follow_80
          · have c2 : mkd M (mv M i) = 1 := (fl_0 (mkd_cases M _)).mp c1
            obtain ⟨q, hq, hqe, hqa⟩ := mkd_live c2
            refine lv_aload_n hx hb dX1_follow_39 rfl (lv_at hl 1 rfl) ?_
            refine mg_v hF hK hP dX1_follow_40 ?_
            refine lv_iload_n hx hb dX1_follow_43 rfl (lv_at hl 2 rfl) ?_
            refine lv_iload_n hx hb dX1_follow_44 rfl (lv_at hl 4 rfl) ?_
            refine lv_if_ne (tgt := 64) hx hb dX1_follow_45 (by decide) (fun c0 => absurd (rfl) c0) (fun _ => ?_)
            refine lv_aload_n hx hb dX1_follow_48 rfl (lv_at hl 1 rfl) ?_
            refine mg_l hF hK hP dX1_follow_49 ?_
            refine lv_aload_n hx hb dX1_follow_52 rfl (lv_at hl 1 rfl) ?_
            refine mg_v hF hK hP dX1_follow_53 ?_
            refine lv_iload_n hx hb dX1_follow_56 rfl (lv_at hl 3 rfl) ?_
            refine mr_v hF hK hP (by omega) dX1_follow_57 ?_
            refine lv_iconst (v := 1) hx hb dX1_follow_58 (by decide) ?_
            refine lv_isub hx hb dX1_follow_59 ?_
            refine lv_asi (w := nI q) (by rw [hqe]; exact nI_pred q) ?_
            refine mr_l hF hK hP (by omega) dX1_follow_60 ?_
            refine lv_goto (tgt := 77) hx hb dX1_follow_61 (by decide) ?_
            refine mw_v hF hK hP hD hS (by omega) dX1_follow_77 (fun H locs hP hD hS => ?_)
            refine lv_iload hx hb dX1_follow_78 (lv_at hl 0 rfl) ?_
            exact wr_ret (wf := wM y f) (u := (tv_ M (upd (mv M) j (ml M q)))) hx hb hrt hlocks hK hP hD hS (Or.inl ⟨j, i, 0, hj, hi, by decide, rfl, rfl, rfl, Or.inl ⟨q, hq, ⟨c2, hqe⟩, c1, rfl⟩⟩) dX1_follow_80
        · refine lv_iload_n hx hb dX1_follow_16 rfl (lv_at hl 3 rfl) ?_
          refine lv_if_eq (tgt := 27) hx hb dX1_follow_17 (by decide) (fun c0 => absurd c0 (by decide)) (fun _ => ?_)
          refine lv_iload_n hx hb dX1_follow_20 rfl (lv_at hl 3 rfl) ?_
          refine lv_iconst (v := 1) hx hb dX1_follow_21 (by decide) ?_
          refine lv_icmp_eq (tgt := 27) hx hb dX1_follow_22 (by decide) (fun _ => ?_) (fun c0 => absurd (rfl) c0)
          refine lv_aload_n hx hb dX1_follow_27 rfl (lv_at hl 0 rfl) ?_
          refine lv_iload_n hx hb dX1_follow_28 rfl (lv_at hl 2 rfl) ?_
          refine rd_V (ci := 1) (As := [.int (nI i)]) (rest := []) hF (cM_through l g y f M i hi) (cwV 1 hts (lw_V q194 q196 qs9 q15 q197) rfl rfl rfl (by decide +kernel) ⟨Nat.le_of_ble_eq_true rfl, Nat.le_of_ble_eq_true rfl⟩) hK hP rfl rfl rfl hl.1 rfl (Nat.le_of_ble_eq_true rfl) dX1_follow_29 ⟨Nat.zero_le _, Nat.zero_le _⟩ (fun r (hr : r = fl (mkd M (mv M i))) => ?_)
          subst hr
          refine lv_istore (lv' := [(4, .int (fl (mkd M (mv M i)))), (0, .ref y.1), (1, .int (nI j)), (2, .int (nI i)), (3, .int (nI 1))]) hx hb dX1_follow_32 hl (by decide) rfl (fun ls hl => ?_)
          refine lv_iload hx hb dX1_follow_34 (lv_at hl 0 rfl) ?_
          refine lv_if_ne (tgt := 78) hx hb dX1_follow_36 (by decide) (fun c1 => ?_) (fun c1 => ?_)
          · have c2 : ¬ mkd M (mv M i) = 1 := fun h => c1 ((fl_0 (mkd_cases M _)).mpr h)
            refine lv_iload hx hb dX1_follow_78 (lv_at hl 0 rfl) ?_
            exact wr_ret (wf := wM y f) (u := M) hx hb hrt hlocks hK hP hD hS (Or.inl ⟨j, i, 1, hj, hi, by decide, rfl, rfl, rfl, Or.inr ⟨c2, rfl, rfl⟩⟩) dX1_follow_80
          · have c2 : mkd M (mv M i) = 1 := (fl_0 (mkd_cases M _)).mp c1
            obtain ⟨q, hq, hqe, hqa⟩ := mkd_live c2
            refine lv_aload_n hx hb dX1_follow_39 rfl (lv_at hl 1 rfl) ?_
            refine mg_v hF hK hP dX1_follow_40 ?_
            refine lv_iload_n hx hb dX1_follow_43 rfl (lv_at hl 2 rfl) ?_
            refine lv_iload_n hx hb dX1_follow_44 rfl (lv_at hl 4 rfl) ?_
            refine lv_if_ne (tgt := 64) hx hb dX1_follow_45 (by decide) (fun _ => ?_) (fun c0 => absurd c0 (by decide))
            refine lv_aload_n hx hb dX1_follow_64 rfl (lv_at hl 1 rfl) ?_
            refine mg_r hF hK hP dX1_follow_65 ?_
            refine lv_aload_n hx hb dX1_follow_68 rfl (lv_at hl 1 rfl) ?_
            refine mg_v hF hK hP dX1_follow_69 ?_
            refine lv_iload_n hx hb dX1_follow_72 rfl (lv_at hl 3 rfl) ?_
            refine mr_v hF hK hP (by omega) dX1_follow_73 ?_
            refine lv_iconst (v := 1) hx hb dX1_follow_74 (by decide) ?_
            refine lv_isub hx hb dX1_follow_75 ?_
            refine lv_asi (w := nI q) (by rw [hqe]; exact nI_pred q) ?_
            refine mr_r hF hK hP (by omega) dX1_follow_76 ?_
            refine mw_v hF hK hP hD hS (by omega) dX1_follow_77 (fun H locs hP hD hS => ?_)
            refine lv_iload hx hb dX1_follow_78 (lv_at hl 0 rfl) ?_
            exact wr_ret (wf := wM y f) (u := (tv_ M (upd (mv M) j (mr M q)))) hx hb hrt hlocks hK hP hD hS (Or.inl ⟨j, i, 1, hj, hi, by decide, rfl, rfl, rfl, Or.inl ⟨q, hq, ⟨c2, hqe⟩, c1, rfl⟩⟩) dX1_follow_80
      · refine lv_iload_n hx hb dX1_follow_16 rfl (lv_at hl 3 rfl) ?_
        refine lv_if_eq (tgt := 27) hx hb dX1_follow_17 (by decide) (fun c0 => absurd c0 (isL_n0 hL)) (fun _ => ?_)
        refine lv_iload_n hx hb dX1_follow_20 rfl (lv_at hl 3 rfl) ?_
        refine lv_iconst (v := 1) hx hb dX1_follow_21 (by decide) ?_
        refine lv_icmp_eq (tgt := 27) hx hb dX1_follow_22 (by decide) (fun c0 => absurd c0 (isL_n1 hL)) (fun _ => ?_)
        refine lv_iconst (v := -1) hx hb dX1_follow_25 (by decide) ?_
        exact wr_ret (wf := wM y f) (u := M) hx hb hrt hlocks hK hP hD hS (Or.inr ⟨fun h => hL h.2.2, rfl, rfl⟩) dX1_follow_26
    · refine lv_if_eq (tgt := 25) hx hb dX1_follow_13 (by decide) (fun _ => ?_) (fun c0 => absurd (rfl) c0)
      refine lv_iconst (v := -1) hx hb dX1_follow_25 (by decide) ?_
      exact wr_ret (wf := wM y f) (u := M) hx hb hrt hlocks hK hP hD hS (Or.inr ⟨fun h => hnw1 h.2.1, rfl, rfl⟩) dX1_follow_26
  · refine lv_if_eq (tgt := 25) hx hb dX1_follow_5 (by decide) (fun _ => ?_) (fun c0 => absurd (rfl) c0)
    refine lv_iconst (v := -1) hx hb dX1_follow_25 (by decide) ?_
    exact wr_ret (wf := wM y f) (u := M) hx hb hrt hlocks hK hP hD hS (Or.inr ⟨fun h => hnv1 h.1, rfl, rfl⟩) dX1_follow_26
set_option maxHeartbeats 4000000 in
theorem cM_make (l : Launch) (g : va_G) (y : MA) (f : MC) (M : MS) (sz : Nat) (v1 : Int32) (n1 : Int32) (k : Nat) (hk : k < 512) (hkd : md M = nI k) : Met l yX1_make (ws_ yX1_make cX1_make 3 (some .int)) ({ frames := 1, cells := 0, slots := 0, locals := 22 }) (WrC g (tM f) (wM y f M) sz [.ref y.1, .int v1, .int n1]) (va_Qi (fun r T => (∃ j, j < 8 ∧ v1 = nI j ∧ ((¬ 6 ≤ sI (fun q => if ma M q = 0 then 0 else 1) k ∧ r = 0 ∧ T = mmF M k j n1) ∨ (6 ≤ sI (fun q => if ma M q = 0 then 0 else 1) k ∧ r = -2 ∧ T = M))) ∨ (¬ IsV v1 ∧ r = -1 ∧ T = M)) (WB g (tM f) (wM y f) (va_A (wM y f M) sz)) (va_A (wM y f M) sz)) 0 0 (va_A (wM y f M) sz) := by
  refine Met.ofW (cc := cX1_make) (maxL := 3) (ret := (some .int)) (by decide) rfl ?_
  intro p e s m args below meth c s₁ B hml hv
  obtain ⟨rfl, hsz, hP, hK, hD0⟩ := hv
  have hx := B.exec
  have hb := B.bytes
  have hrt := B.returns
  have hlocks := B.notSynchronized
  have hts0 := atoms_spec (ws := ws_ yX1_make cX1_make 3 (some .int)) B.pre
  have hts : ∀ w ∈ lw_all, w.before ([.ref y.1, .int v1, .int n1] : List Value).toArray s = true := fun w h => hts0 w (List.mem_cons_of_mem _ h)
  have hown : s.vm.findClass RX1 = some m.cls := findClass_of_methodNamed B.named
  have hF : CallFix p m c cX1_make 3 s ([.ref y.1, .int v1, .int n1] : List Value).toArray lw_all RX1 := ⟨hx, hb, hml, hown, hts⟩
  subst hsz
  have hD := hD0.self (sz := s.heap.size)
  generalize hAe : va_A (wM y f M) s.heap.size = A at hD ⊢
  have hA : ∀ q : Nat, s.heap.size ≤ q → A q := fun q h => by rw [← hAe]; exact Or.inr h
  have hS : va_S A s.heap s.heap [] := va_S.rf
  have hl := lv_entry ([.ref y.1, .int v1, .int n1]) (n := 3) (Nat.le_of_ble_eq_true rfl)
  rw [lg_entry_eq]
  generalize (lg_sl ([.ref y.1, .int v1, .int n1]) ++ List.replicate (3 - (lg_sl ([.ref y.1, .int v1, .int n1])).length) Slot.unset).toArray = ls at hl ⊢
  have hl : lv_has ls 3 [(0, .ref y.1), (1, .int v1), (2, .int n1)] := hl
  try dsimp only at hP
  refine lv_aload_n hx hb dX1_make_0 rfl (lv_at hl 0 rfl) ?_
  refine lv_iload_n hx hb dX1_make_1 rfl (lv_at hl 1 rfl) ?_
  refine rd_V (ci := 1) (As := [.int v1]) (rest := []) hF (cM_var l g y f M v1) (cwV 1 hts (lw_V q182 q184 qs8 q15 q185) rfl rfl rfl (by decide +kernel) ⟨Nat.le_of_ble_eq_true rfl, Nat.le_of_ble_eq_true rfl⟩) hK hP rfl rfl rfl hl.1 rfl (Nat.le_of_ble_eq_true rfl) dX1_make_2 ⟨Nat.zero_le _, Nat.zero_le _⟩ (fun r hr => ?_)
  rcases hr with ⟨rfl, j, hj, rfl⟩ | ⟨rfl, hnv1⟩
  · refine lv_if_ne (tgt := 10) hx hb dX1_make_5 (by decide) (fun _ => ?_) (fun c0 => absurd c0 (by decide))
    refine lv_aload_n hx hb dX1_make_10 rfl (lv_at hl 0 rfl) ?_
    refine rd_V (ci := 1) (As := []) (rest := []) hF (cM_live l g y f M k (by omega) hkd) (cwV 0 hts (lw_V q186 q187 q188 q15 q189) rfl rfl rfl (by decide +kernel) ⟨Nat.le_of_ble_eq_true rfl, Nat.le_of_ble_eq_true rfl⟩) hK hP rfl rfl rfl hl.1 rfl (Nat.le_of_ble_eq_true rfl) dX1_make_11 ⟨Nat.zero_le _, Nat.zero_le _⟩ (fun r (hr : r = sI (fun q => if ma M q = 0 then 0 else 1) k) => ?_)
    subst hr
    refine lv_bipush (v := 6) hx hb dX1_make_14 (by decide) ?_
    refine lv_icmp_ge (tgt := 29) hx hb dX1_make_16 (by decide) (fun c1 => ?_) (fun c1 => ?_)
    · refine lv_bipush (v := -2) hx hb dX1_make_29 (by decide) ?_
      exact wr_ret (wf := wM y f) (u := M) hx hb hrt hlocks hK hP hD hS (Or.inl ⟨j, hj, rfl, Or.inr ⟨c1, rfl, rfl⟩⟩) dX1_make_31
    · refine lv_aload_n hx hb dX1_make_19 rfl (lv_at hl 0 rfl) ?_
      refine mg_d hF hK hP dX1_make_20 ?_
      refine lv_asi (w := nI k) (hkd) ?_
      refine lv_sipush (v := 512) hx hb dX1_make_23 (by decide) ?_
      refine lv_icmp_lt (tgt := 32) hx hb dX1_make_26 (by decide) (fun _ => ?_) (fun c0 => absurd (by exact nI_lt (b := 512) hk (by decide)) c0)
      refine lv_aload_n hx hb dX1_make_32 rfl (lv_at hl 0 rfl) ?_
      refine mg_a hF hK hP dX1_make_33 ?_
      refine lv_aload_n hx hb dX1_make_36 rfl (lv_at hl 0 rfl) ?_
      refine mg_d hF hK hP dX1_make_37 ?_
      refine lv_asi (w := nI k) (hkd) ?_
      refine lv_iconst (v := 1) hx hb dX1_make_40 (by decide) ?_
      refine mw_a hF hK hP hD hS (by omega) dX1_make_41 (fun H locs hP hD hS => ?_)
      refine lv_aload_n hx hb dX1_make_42 rfl (lv_at hl 0 rfl) ?_
      refine mg_n hF hK hP dX1_make_43 ?_
      refine lv_aload_n hx hb dX1_make_46 rfl (lv_at hl 0 rfl) ?_
      refine mg_d hF hK hP dX1_make_47 ?_
      refine lv_asi (w := nI k) (hkd) ?_
      refine lv_iload_n hx hb dX1_make_50 rfl (lv_at hl 2 rfl) ?_
      refine mw_n hF hK hP hD hS (by omega) dX1_make_51 (fun H locs hP hD hS => ?_)
      refine lv_aload_n hx hb dX1_make_52 rfl (lv_at hl 0 rfl) ?_
      refine mg_l hF hK hP dX1_make_53 ?_
      refine lv_aload_n hx hb dX1_make_56 rfl (lv_at hl 0 rfl) ?_
      refine mg_d hF hK hP dX1_make_57 ?_
      refine lv_asi (w := nI k) (hkd) ?_
      refine lv_iconst (v := 0) hx hb dX1_make_60 (by decide) ?_
      refine mw_l hF hK hP hD hS (by omega) dX1_make_61 (fun H locs hP hD hS => ?_)
      refine lv_aload_n hx hb dX1_make_62 rfl (lv_at hl 0 rfl) ?_
      refine mg_r hF hK hP dX1_make_63 ?_
      refine lv_aload_n hx hb dX1_make_66 rfl (lv_at hl 0 rfl) ?_
      refine mg_d hF hK hP dX1_make_67 ?_
      refine lv_asi (w := nI k) (hkd) ?_
      refine lv_iconst (v := 0) hx hb dX1_make_70 (by decide) ?_
      refine mw_r hF hK hP hD hS (by omega) dX1_make_71 (fun H locs hP hD hS => ?_)
      refine lv_aload_n hx hb dX1_make_72 rfl (lv_at hl 0 rfl) ?_
      refine lv_dup hx hb dX1_make_73 rfl ?_
      refine mg_d hF hK hP dX1_make_74 ?_
      refine lv_asi (w := nI k) (hkd) ?_
      refine lv_iconst (v := 1) hx hb dX1_make_77 (by decide) ?_
      refine lv_iadd hx hb dX1_make_78 ?_
      refine lv_asi (w := nI (k + 1)) (nI_1 k) ?_
      refine mp_d hF hK hP hD hS dX1_make_79 (fun H locs hP hD hS => ?_)
      refine lv_aload_n hx hb dX1_make_82 rfl (lv_at hl 0 rfl) ?_
      refine mg_v hF hK hP dX1_make_83 ?_
      refine lv_iload_n hx hb dX1_make_86 rfl (lv_at hl 1 rfl) ?_
      refine lv_aload_n hx hb dX1_make_87 rfl (lv_at hl 0 rfl) ?_
      refine mg_d hF hK hP dX1_make_88 ?_
      refine mw_v hF hK hP hD hS (by omega) dX1_make_91 (fun H locs hP hD hS => ?_)
      refine lv_iconst (v := 0) hx hb dX1_make_92 (by decide) ?_
      exact wr_ret (wf := wM y f) (u := (tv_ ((td_ ((tr_ ((tl_ ((tn_ ((ta_ M (upd (ma M) k (vp_nar .boolean 1)))) (upd (mn ((ta_ M (upd (ma M) k (vp_nar .boolean 1))))) k n1))) (upd (ml ((tn_ ((ta_ M (upd (ma M) k (vp_nar .boolean 1)))) (upd (mn ((ta_ M (upd (ma M) k (vp_nar .boolean 1))))) k n1)))) k 0))) (upd (mr ((tl_ ((tn_ ((ta_ M (upd (ma M) k (vp_nar .boolean 1)))) (upd (mn ((ta_ M (upd (ma M) k (vp_nar .boolean 1))))) k n1))) (upd (ml ((tn_ ((ta_ M (upd (ma M) k (vp_nar .boolean 1)))) (upd (mn ((ta_ M (upd (ma M) k (vp_nar .boolean 1))))) k n1)))) k 0)))) k 0))) (nI (k + 1)))) (upd (mv ((td_ ((tr_ ((tl_ ((tn_ ((ta_ M (upd (ma M) k (vp_nar .boolean 1)))) (upd (mn ((ta_ M (upd (ma M) k (vp_nar .boolean 1))))) k n1))) (upd (ml ((tn_ ((ta_ M (upd (ma M) k (vp_nar .boolean 1)))) (upd (mn ((ta_ M (upd (ma M) k (vp_nar .boolean 1))))) k n1)))) k 0))) (upd (mr ((tl_ ((tn_ ((ta_ M (upd (ma M) k (vp_nar .boolean 1)))) (upd (mn ((ta_ M (upd (ma M) k (vp_nar .boolean 1))))) k n1))) (upd (ml ((tn_ ((ta_ M (upd (ma M) k (vp_nar .boolean 1)))) (upd (mn ((ta_ M (upd (ma M) k (vp_nar .boolean 1))))) k n1)))) k 0)))) k 0))) (nI (k + 1))))) j (md ((td_ ((tr_ ((tl_ ((tn_ ((ta_ M (upd (ma M) k (vp_nar .boolean 1)))) (upd (mn ((ta_ M (upd (ma M) k (vp_nar .boolean 1))))) k n1))) (upd (ml ((tn_ ((ta_ M (upd (ma M) k (vp_nar .boolean 1)))) (upd (mn ((ta_ M (upd (ma M) k (vp_nar .boolean 1))))) k n1)))) k 0))) (upd (mr ((tl_ ((tn_ ((ta_ M (upd (ma M) k (vp_nar .boolean 1)))) (upd (mn ((ta_ M (upd (ma M) k (vp_nar .boolean 1))))) k n1))) (upd (ml ((tn_ ((ta_ M (upd (ma M) k (vp_nar .boolean 1)))) (upd (mn ((ta_ M (upd (ma M) k (vp_nar .boolean 1))))) k n1)))) k 0)))) k 0))) (nI (k + 1)))))))) hx hb hrt hlocks hK hP hD hS (Or.inl ⟨j, hj, rfl, Or.inl ⟨c1, rfl, rfl⟩⟩) dX1_make_93
  · refine lv_if_ne (tgt := 10) hx hb dX1_make_5 (by decide) (fun c0 => absurd (rfl) c0) (fun _ => ?_)
    refine lv_iconst (v := -1) hx hb dX1_make_8 (by decide) ?_
    exact wr_ret (wf := wM y f) (u := M) hx hb hrt hlocks hK hP hD hS (Or.inr ⟨hnv1, rfl, rfl⟩) dX1_make_9
end
section
/-! KeyHeapModel: marks -/
set_option maxRecDepth 100000
set_option maxHeartbeats 4000000 in
theorem cM_come (l : Launch) (g : va_G) (y : MA) (f : MC) (M : MS) (sz : Nat) (a1 : Int32)  : Met l yX1_come (ws_ yX1_come cX1_come 2 (some .boolean)) ({ frames := 1, cells := 0, slots := 0, locals := 21 }) (WrC g (tM f) (wM y f M) sz [.ref y.1, .int a1]) (va_Qi (fun _ T => ∃ s2, CmR M (ms_ M) a1 s2 ∧ T = ts_ M s2) (WB g (tM f) (wM y f) (va_A (wM y f M) sz)) (va_A (wM y f M) sz)) 0 0 (va_A (wM y f M) sz) := by
  refine Met.ofW (cc := cX1_come) (maxL := 2) (ret := (some .boolean)) (by decide) rfl ?_
  intro p e s m args below meth c s₁ B hml hv
  obtain ⟨rfl, hsz, hP, hK, hD0⟩ := hv
  have hx := B.exec
  have hb := B.bytes
  have hrt := B.returns
  have hlocks := B.notSynchronized
  have hts0 := atoms_spec (ws := ws_ yX1_come cX1_come 2 (some .boolean)) B.pre
  have hts : ∀ w ∈ lw_all, w.before ([.ref y.1, .int a1] : List Value).toArray s = true := fun w h => hts0 w (List.mem_cons_of_mem _ h)
  have hown : s.vm.findClass RX1 = some m.cls := findClass_of_methodNamed B.named
  have hF : CallFix p m c cX1_come 2 s ([.ref y.1, .int a1] : List Value).toArray lw_all RX1 := ⟨hx, hb, hml, hown, hts⟩
  subst hsz
  have hD := hD0.self (sz := s.heap.size)
  generalize hAe : va_A (wM y f M) s.heap.size = A at hD ⊢
  have hA : ∀ q : Nat, s.heap.size ≤ q → A q := fun q h => by rw [← hAe]; exact Or.inr h
  have hS : va_S A s.heap s.heap [] := va_S.rf
  have hl := lv_entry ([.ref y.1, .int a1]) (n := 2) (Nat.le_of_ble_eq_true rfl)
  rw [lg_entry_eq]
  generalize (lg_sl ([.ref y.1, .int a1]) ++ List.replicate (2 - (lg_sl ([.ref y.1, .int a1])).length) Slot.unset).toArray = ls at hl ⊢
  have hl : lv_has ls 2 [(0, .ref y.1), (1, .int a1)] := hl
  try dsimp only at hP
  refine lv_aload_n hx hb dX1_come_0 rfl (lv_at hl 0 rfl) ?_
  refine lv_iload_n hx hb dX1_come_1 rfl (lv_at hl 1 rfl) ?_
  refine rd_V (ci := 1) (As := [.int a1]) (rest := []) hF (cM_kind l g y f M a1) (cwV 1 hts (lw_V q198 q200 qs10 q15 q201) rfl rfl rfl (by decide +kernel) ⟨Nat.le_of_ble_eq_true rfl, Nat.le_of_ble_eq_true rfl⟩) hK hP rfl rfl rfl hl.1 rfl (Nat.le_of_ble_eq_true rfl) dX1_come_2 ⟨Nat.zero_le _, Nat.zero_le _⟩ (fun r (hr : r = mkd M a1) => ?_)
  subst hr
  refine lv_iconst (v := 1) hx hb dX1_come_5 (by decide) ?_
  refine lv_icmp_ne (tgt := 20) hx hb dX1_come_6 (by decide) (fun c1 => ?_) (fun c1 => ?_)
  · refine lv_iconst (v := 0) hx hb dX1_come_20 (by decide) ?_
    exact wr_retz (wf := wM y f) (u := M) hx hb hrt hlocks rfl hK hP hD hS (⟨ms_ M, CmR.no c1, rfl⟩) dX1_come_21
  · obtain ⟨q, hq, hqe, hqa⟩ := mkd_live c1
    refine lv_aload_n hx hb dX1_come_9 rfl (lv_at hl 0 rfl) ?_
    refine mg_s hF hK hP dX1_come_10 ?_
    refine lv_iload_n hx hb dX1_come_13 rfl (lv_at hl 1 rfl) ?_
    refine lv_iconst (v := 1) hx hb dX1_come_14 (by decide) ?_
    refine lv_isub hx hb dX1_come_15 ?_
    refine lv_asi (w := nI q) (by rw [hqe]; exact nI_pred q) ?_
    refine mr_s hF hK hP (by omega) dX1_come_16 ?_
    refine lv_if_eq (tgt := 22) hx hb dX1_come_17 (by decide) (fun c2 => ?_) (fun c2 => ?_)
    · refine lv_aload_n hx hb dX1_come_22 rfl (lv_at hl 0 rfl) ?_
      refine mg_s hF hK hP dX1_come_23 ?_
      refine lv_iload_n hx hb dX1_come_26 rfl (lv_at hl 1 rfl) ?_
      refine lv_iconst (v := 1) hx hb dX1_come_27 (by decide) ?_
      refine lv_isub hx hb dX1_come_28 ?_
      refine lv_asi (w := nI q) (by rw [hqe]; exact nI_pred q) ?_
      refine lv_iconst (v := 1) hx hb dX1_come_29 (by decide) ?_
      refine mw_s hF hK hP hD hS (by omega) dX1_come_30 (fun H locs hP hD hS => ?_)
      refine lv_iconst (v := 1) hx hb dX1_come_31 (by decide) ?_
      exact wr_retz (wf := wM y f) (u := (ts_ M (upd (ms_ M) q (vp_nar .boolean 1)))) hx hb hrt hlocks rfl hK hP hD hS (⟨upd (ms_ M) q (vp_nar .boolean 1), CmR.new hq c1 hqe, rfl⟩) dX1_come_32
    · refine lv_iconst (v := 0) hx hb dX1_come_20 (by decide) ?_
      exact wr_retz (wf := wM y f) (u := M) hx hb hrt hlocks rfl hK hP hD hS (⟨ms_ M, CmR.old hq hqe c2, rfl⟩) dX1_come_21
set_option maxHeartbeats 4000000 in
theorem cM_look (l : Launch) (g : va_G) (y : MA) (f : MC) (M : MS) (sz : Nat)  (k : Nat) (hk : k ≤ 512) (hkd : md M = nI k) (hc : cB (pm (ma M)) 512 ≤ 6) : Met l yX1_look (ws_ yX1_look cX1_look 3 none) ({ frames := 2, cells := 0, slots := 0, locals := 42 }) (WrC g (tM f) (wM y f M) sz [.ref y.1]) (va_Qv (fun T => ∃ sn, (∀ q, q < 512 → (¬ sn q = 0 ↔ Rm M k q)) ∧ T = ts_ M sn) (WB g (tM f) (wM y f) (va_A (wM y f M) sz)) (va_A (wM y f M) sz)) 0 0 (va_A (wM y f M) sz) := by
  refine Met.ofW (cc := cX1_look) (maxL := 3) (ret := none) (by decide) rfl ?_
  intro p e s m args below meth c s₁ B hml hv
  obtain ⟨rfl, hsz, hP, hK, hD0⟩ := hv
  have hx := B.exec
  have hb := B.bytes
  have hrt := B.returns
  have hlocks := B.notSynchronized
  have hts0 := atoms_spec (ws := ws_ yX1_look cX1_look 3 none) B.pre
  have hts : ∀ w ∈ lw_all, w.before ([.ref y.1] : List Value).toArray s = true := fun w h => hts0 w (List.mem_cons_of_mem _ h)
  have hown : s.vm.findClass RX1 = some m.cls := findClass_of_methodNamed B.named
  have hF : CallFix p m c cX1_look 3 s ([.ref y.1] : List Value).toArray lw_all RX1 := ⟨hx, hb, hml, hown, hts⟩
  subst hsz
  have hD := hD0.self (sz := s.heap.size)
  generalize hAe : va_A (wM y f M) s.heap.size = A at hD ⊢
  have hA : ∀ q : Nat, s.heap.size ≤ q → A q := fun q h => by rw [← hAe]; exact Or.inr h
  have hS : va_S A s.heap s.heap [] := va_S.rf
  have hl := lv_entry ([.ref y.1]) (n := 3) (Nat.le_of_ble_eq_true rfl)
  rw [lg_entry_eq]
  generalize (lg_sl ([.ref y.1]) ++ List.replicate (3 - (lg_sl ([.ref y.1])).length) Slot.unset).toArray = ls at hl ⊢
  have hl : lv_has ls 3 [(0, .ref y.1)] := hl
  try dsimp only at hP
  have loop2 : ∀ (n : Nat) (r : Nat) (sn : Nat → Int32), r + n = 6 → MmI M k sn → MmB M sn 8 → PrC (Rm M k) 512 (pm sn) r → ∀ (H : Heap) (locs : List Loc), va_P g vwCl (wM y f (ts_ M sn)) H → va_D A (wM y f (ts_ M sn)) → va_S A s.heap H locs → ∀ (ls : Array Slot), lv_has ls 3 [(0, .ref y.1), (1, .int (nI r))] → W p l e (headSpec (ws_ yX1_look cX1_look 3 none) ({ frames := 2, cells := 0, slots := 0, locals := 42 })).room s m ([.ref y.1] : List Value).toArray below meth c H locs 0 0 (MQ below (va_Qv (fun T => ∃ sn, (∀ q, q < 512 → (¬ sn q = 0 ↔ Rm M k q)) ∧ T = ts_ M sn) (WB g (tM f) (wM y f) A) A) ([.ref y.1] : List Value).toArray s 0 0 A) (F0 m 49 ls []) := by
    intro n
    induction n with
    | zero =>
      intro r sn hr hI hB hp H locs hP hD hS ls hl
      obtain rfl : r = 6 := by omega
      refine lv_iload_n hx hb dX1_look_49 rfl (lv_at hl 1 rfl) ?_
      refine lv_bipush (v := 6) hx hb dX1_look_50 (by decide) ?_
      refine lv_icmp_ge (tgt := 108) hx hb dX1_look_52 (by decide) (fun _ => ?_) (fun c0 => absurd (by decide) c0)
      exact wr_retv (wf := wM y f) (u := (ts_ M sn)) hx hb hrt hlocks hK hP hD hS (⟨sn, mmP_6 hc hI hp, rfl⟩) dX1_look_108
    | succ n ih =>
      intro r sn hr hI hB hp H locs hP hD hS ls hl
      refine lv_iload_n hx hb dX1_look_49 rfl (lv_at hl 1 rfl) ?_
      refine lv_bipush (v := 6) hx hb dX1_look_50 (by decide) ?_
      refine lv_icmp_ge (tgt := 108) hx hb dX1_look_52 (by decide) (fun c0 => absurd c0 (nI_ge (a := r) (b := 6) (by omega) (by decide))) (fun _ => ?_)
      refine lv_iconst (v := 0) hx hb dX1_look_55 (by decide) ?_
      refine lv_istore_n (lv' := [(2, .int 0), (0, .ref y.1), (1, .int (nI r))]) hx hb dX1_look_56 rfl hl (by decide) rfl (fun ls hl => ?_)
      have loop3 : ∀ (n2 : Nat) (i : Nat) (s1 : Nat → Int32), i + n2 = k → MmI M k s1 → MmL M sn s1 i → ∀ (H : Heap) (locs : List Loc), va_P g vwCl (wM y f (ts_ M s1)) H → va_D A (wM y f (ts_ M s1)) → va_S A s.heap H locs → ∀ (ls : Array Slot), lv_has ls 3 [(0, .ref y.1), (1, .int (nI r)), (2, .int (nI i))] → W p l e (headSpec (ws_ yX1_look cX1_look 3 none) ({ frames := 2, cells := 0, slots := 0, locals := 42 })).room s m ([.ref y.1] : List Value).toArray below meth c H locs 0 0 (MQ below (va_Qv (fun T => ∃ sn, (∀ q, q < 512 → (¬ sn q = 0 ↔ Rm M k q)) ∧ T = ts_ M sn) (WB g (tM f) (wM y f) A) A) ([.ref y.1] : List Value).toArray s 0 0 A) (F0 m 57 ls []) := by
        intro n2
        induction n2 with
        | zero =>
          intro i s1 hi hI1 hL H locs hP hD hS ls hl
          obtain rfl : i = k := by omega
          refine lv_iload_n hx hb dX1_look_57 rfl (lv_at hl 2 rfl) ?_
          refine lv_aload_n hx hb dX1_look_58 rfl (lv_at hl 0 rfl) ?_
          refine mg_d hF hK hP dX1_look_59 ?_
          refine lv_asi (w := nI i) (hkd) ?_
          refine lv_icmp_ge (tgt := 102) hx hb dX1_look_62 (by decide) (fun _ => ?_) (fun c0 => absurd (Int32.le_refl _) c0)
          refine lv_iinc (v := nI (r + 1)) (lv' := [(1, .int (nI (r + 1))), (0, .ref y.1), (2, .int (nI i))]) hx hb dX1_look_102 hl (k := 1) rfl (by exact nI_1 r) (by decide) rfl (fun ls hl => ?_)
          refine lv_goto (tgt := 49) hx hb dX1_look_105 (by decide) ?_
          exact ih (r + 1) s1 (by omega) hI1 (mmB_mono hB hL.1) (mmP_1 hB hL hp) H locs hP hD hS ls (lv_sub hl [1, 0] rfl)
        | succ n2 ih2 =>
          intro i s1 hi hI1 hL H locs hP hD hS ls hl
          refine lv_iload_n hx hb dX1_look_57 rfl (lv_at hl 2 rfl) ?_
          refine lv_aload_n hx hb dX1_look_58 rfl (lv_at hl 0 rfl) ?_
          refine mg_d hF hK hP dX1_look_59 ?_
          refine lv_asi (w := nI k) (hkd) ?_
          refine lv_icmp_ge (tgt := 102) hx hb dX1_look_62 (by decide) (fun c0 => absurd c0 (nI_ge (a := i) (b := k) (by omega) (by omega))) (fun _ => ?_)
          refine lv_aload_n hx hb dX1_look_65 rfl (lv_at hl 0 rfl) ?_
          refine mg_s hF hK hP dX1_look_66 ?_
          refine lv_iload_n hx hb dX1_look_69 rfl (lv_at hl 2 rfl) ?_
          refine mr_s hF hK hP (by omega) dX1_look_70 ?_
          refine lv_if_eq (tgt := 96) hx hb dX1_look_71 (by decide) (fun c1 => ?_) (fun c1 => ?_)
          · refine lv_iinc (v := nI (i + 1)) (lv' := [(2, .int (nI (i + 1))), (0, .ref y.1), (1, .int (nI r))]) hx hb dX1_look_96 hl (k := 2) rfl (by exact nI_1 i) (by decide) rfl (fun ls hl => ?_)
            refine lv_goto (tgt := 57) hx hb dX1_look_99 (by decide) ?_
            exact ih2 (i + 1) s1 (by omega) hI1 (mmL_skip hL (by omega) c1) H locs hP hD hS ls (lv_sub hl [1, 2, 0] rfl)
          · have hRi := hI1 i (by omega) c1
            refine lv_aload_n hx hb dX1_look_74 rfl (lv_at hl 0 rfl) ?_
            refine lv_aload_n hx hb dX1_look_75 rfl (lv_at hl 0 rfl) ?_
            refine mg_l hF hK hP dX1_look_76 ?_
            refine lv_iload_n hx hb dX1_look_79 rfl (lv_at hl 2 rfl) ?_
            refine mr_l hF hK hP (by omega) dX1_look_80 ?_
            refine wr_V0 (wf := wM y f) (S0 := (ts_ M s1)) (ci := 1) (As := [.int (ml ((ts_ M s1)) i)]) (rest := []) hF (fun sz => cM_come l g y f (ts_ M s1) sz (ml M i)) (cwV 1 hts (lw_V q248 q250 qs12 q15 q251) rfl rfl rfl (by decide +kernel) ⟨Nat.le_of_ble_eq_true rfl, Nat.le_of_ble_eq_true rfl⟩) hK hP hD hS hA rfl rfl rfl hl.1 rfl (Nat.le_of_ble_eq_true rfl) dX1_look_81 ⟨Nat.zero_le _, Nat.zero_le _⟩ (fun r0 T H locs hT hP hD hS => ?_)
            obtain ⟨s2, hc2, rfl⟩ := hT
            have hc2 : CmR M s1 (ml M i) s2 := hc2
            have hP : va_P g vwCl (wM y f (ts_ M s2)) H := hP
            have hD : va_D A (wM y f (ts_ M s2)) := hD
            refine lv_pop hx hb dX1_look_84 rfl ?_
            have hI2 := mmI_come hI1 hc2 (fun q hq h => Rm_l (by omega) hRi hq h)
            refine lv_aload_n hx hb dX1_look_85 rfl (lv_at hl 0 rfl) ?_
            refine lv_aload_n hx hb dX1_look_86 rfl (lv_at hl 0 rfl) ?_
            refine mg_r hF hK hP dX1_look_87 ?_
            refine lv_iload_n hx hb dX1_look_90 rfl (lv_at hl 2 rfl) ?_
            refine mr_r hF hK hP (by omega) dX1_look_91 ?_
            refine wr_V0 (wf := wM y f) (S0 := (ts_ M s2)) (ci := 1) (As := [.int (mr ((ts_ M s2)) i)]) (rest := []) hF (fun sz => cM_come l g y f (ts_ M s2) sz (mr M i)) (cwV 1 hts (lw_V q248 q250 qs12 q15 q251) rfl rfl rfl (by decide +kernel) ⟨Nat.le_of_ble_eq_true rfl, Nat.le_of_ble_eq_true rfl⟩) hK hP hD hS hA rfl rfl rfl hl.1 rfl (Nat.le_of_ble_eq_true rfl) dX1_look_92 ⟨Nat.zero_le _, Nat.zero_le _⟩ (fun r0 T H locs hT hP hD hS => ?_)
            obtain ⟨s3, hc3, rfl⟩ := hT
            have hc3 : CmR M s2 (mr M i) s3 := hc3
            have hP : va_P g vwCl (wM y f (ts_ M s3)) H := hP
            have hD : va_D A (wM y f (ts_ M s3)) := hD
            refine lv_pop hx hb dX1_look_95 rfl ?_
            have hI3 := mmI_come hI2 hc3 (fun q hq h => Rm_r (by omega) hRi hq h)
            refine lv_iinc (v := nI (i + 1)) (lv' := [(2, .int (nI (i + 1))), (0, .ref y.1), (1, .int (nI r))]) hx hb dX1_look_96 hl (k := 2) rfl (by exact nI_1 i) (by decide) rfl (fun ls hl => ?_)
            refine lv_goto (tgt := 57) hx hb dX1_look_99 (by decide) ?_
            exact ih2 (i + 1) s3 (by omega) hI3 (mmL_come hL hc2 hc3) H locs hP hD hS ls (lv_sub hl [1, 2, 0] rfl)
      exact loop3 k 0 sn (by omega) hI mmL_0 H locs hP hD hS ls (lv_sub hl [1, 2, 0] rfl)
  have loop1 : ∀ (n : Nat) (i : Nat) (sn : Nat → Int32), i + n = 8 → MmI M k sn → MmB M sn i → ∀ (H : Heap) (locs : List Loc), va_P g vwCl (wM y f (ts_ M sn)) H → va_D A (wM y f (ts_ M sn)) → va_S A s.heap H locs → ∀ (ls : Array Slot), lv_has ls 3 [(0, .ref y.1), (1, .int (nI i))] → W p l e (headSpec (ws_ yX1_look cX1_look 3 none) ({ frames := 2, cells := 0, slots := 0, locals := 42 })).room s m ([.ref y.1] : List Value).toArray below meth c H locs 0 0 (MQ below (va_Qv (fun T => ∃ sn, (∀ q, q < 512 → (¬ sn q = 0 ↔ Rm M k q)) ∧ T = ts_ M sn) (WB g (tM f) (wM y f) A) A) ([.ref y.1] : List Value).toArray s 0 0 A) (F0 m 24 ls []) := by
    intro n
    induction n with
    | zero =>
      intro i sn hi hI hB H locs hP hD hS ls hl
      obtain rfl : i = 8 := by omega
      refine lv_iload_n hx hb dX1_look_24 rfl (lv_at hl 1 rfl) ?_
      refine lv_bipush (v := 8) hx hb dX1_look_25 (by decide) ?_
      refine lv_icmp_ge (tgt := 47) hx hb dX1_look_27 (by decide) (fun _ => ?_) (fun c0 => absurd (by decide) c0)
      refine lv_iconst (v := 0) hx hb dX1_look_47 (by decide) ?_
      refine lv_istore_n (lv' := [(1, .int 0), (0, .ref y.1)]) hx hb dX1_look_48 rfl hl (by decide) rfl (fun ls hl => ?_)
      exact loop2 6 0 sn (by omega) hI hB (mmP_0 hk hB) H locs hP hD hS ls (lv_sub hl [1, 0] rfl)
    | succ n ih =>
      intro i sn hi hI hB H locs hP hD hS ls hl
      refine lv_iload_n hx hb dX1_look_24 rfl (lv_at hl 1 rfl) ?_
      refine lv_bipush (v := 8) hx hb dX1_look_25 (by decide) ?_
      refine lv_icmp_ge (tgt := 47) hx hb dX1_look_27 (by decide) (fun c0 => absurd c0 (nI_ge (a := i) (b := 8) (by omega) (by decide))) (fun _ => ?_)
      refine lv_aload_n hx hb dX1_look_30 rfl (lv_at hl 0 rfl) ?_
      refine lv_aload_n hx hb dX1_look_31 rfl (lv_at hl 0 rfl) ?_
      refine mg_v hF hK hP dX1_look_32 ?_
      refine lv_iload_n hx hb dX1_look_35 rfl (lv_at hl 1 rfl) ?_
      refine mr_v hF hK hP (by omega) dX1_look_36 ?_
      refine wr_V0 (wf := wM y f) (S0 := (ts_ M sn)) (ci := 1) (As := [.int (mv ((ts_ M sn)) i)]) (rest := []) hF (fun sz => cM_come l g y f (ts_ M sn) sz (mv M i)) (cwV 1 hts (lw_V q248 q250 qs12 q15 q251) rfl rfl rfl (by decide +kernel) ⟨Nat.le_of_ble_eq_true rfl, Nat.le_of_ble_eq_true rfl⟩) hK hP hD hS hA rfl rfl rfl hl.1 rfl (Nat.le_of_ble_eq_true rfl) dX1_look_37 ⟨Nat.zero_le _, Nat.zero_le _⟩ (fun r0 T H locs hT hP hD hS => ?_)
      obtain ⟨s2, hc2, rfl⟩ := hT
      have hc2 : CmR M sn (mv M i) s2 := hc2
      have hP : va_P g vwCl (wM y f (ts_ M s2)) H := hP
      have hD : va_D A (wM y f (ts_ M s2)) := hD
      refine lv_pop hx hb dX1_look_40 rfl ?_
      refine lv_iinc (v := nI (i + 1)) (lv' := [(1, .int (nI (i + 1))), (0, .ref y.1)]) hx hb dX1_look_41 hl (k := 1) rfl (by exact nI_1 i) (by decide) rfl (fun ls hl => ?_)
      refine lv_goto (tgt := 24) hx hb dX1_look_44 (by decide) ?_
      exact ih (i + 1) s2 (by omega) (mmI_come hI hc2 (fun q hq h => Rm_base (by omega) hq h)) (mmB_come hB hc2) H locs hP hD hS ls (lv_sub hl [1, 0] rfl)
  have loop0 : ∀ (n : Nat) (i : Nat) (sn : Nat → Int32), i + n = 512 → (∀ q, q < i → sn q = 0) → ∀ (H : Heap) (locs : List Loc), va_P g vwCl (wM y f (ts_ M sn)) H → va_D A (wM y f (ts_ M sn)) → va_S A s.heap H locs → ∀ (ls : Array Slot), lv_has ls 3 [(0, .ref y.1), (1, .int (nI i))] → W p l e (headSpec (ws_ yX1_look cX1_look 3 none) ({ frames := 2, cells := 0, slots := 0, locals := 42 })).room s m ([.ref y.1] : List Value).toArray below meth c H locs 0 0 (MQ below (va_Qv (fun T => ∃ sn, (∀ q, q < 512 → (¬ sn q = 0 ↔ Rm M k q)) ∧ T = ts_ M sn) (WB g (tM f) (wM y f) A) A) ([.ref y.1] : List Value).toArray s 0 0 A) (F0 m 2 ls []) := by
    intro n
    induction n with
    | zero =>
      intro i sn hi h0 H locs hP hD hS ls hl
      obtain rfl : i = 512 := by omega
      refine lv_iload_n hx hb dX1_look_2 rfl (lv_at hl 1 rfl) ?_
      refine lv_sipush (v := 512) hx hb dX1_look_3 (by decide) ?_
      refine lv_icmp_ge (tgt := 22) hx hb dX1_look_6 (by decide) (fun _ => ?_) (fun c0 => absurd (by decide) c0)
      refine lv_iconst (v := 0) hx hb dX1_look_22 (by decide) ?_
      refine lv_istore_n (lv' := [(1, .int 0), (0, .ref y.1)]) hx hb dX1_look_23 rfl hl (by decide) rfl (fun ls hl => ?_)
      exact loop1 8 0 sn (by omega) (mmI_0 h0) mmB_0 H locs hP hD hS ls (lv_sub hl [1, 0] rfl)
    | succ n ih =>
      intro i sn hi h0 H locs hP hD hS ls hl
      refine lv_iload_n hx hb dX1_look_2 rfl (lv_at hl 1 rfl) ?_
      refine lv_sipush (v := 512) hx hb dX1_look_3 (by decide) ?_
      refine lv_icmp_ge (tgt := 22) hx hb dX1_look_6 (by decide) (fun c0 => absurd c0 (nI_ge (a := i) (b := 512) (by omega) (by decide))) (fun _ => ?_)
      refine lv_aload_n hx hb dX1_look_9 rfl (lv_at hl 0 rfl) ?_
      refine mg_s hF hK hP dX1_look_10 ?_
      refine lv_iload_n hx hb dX1_look_13 rfl (lv_at hl 1 rfl) ?_
      refine lv_iconst (v := 0) hx hb dX1_look_14 (by decide) ?_
      refine mw_s hF hK hP hD hS (by omega) dX1_look_15 (fun H locs hP hD hS => ?_)
      refine lv_iinc (v := nI (i + 1)) (lv' := [(1, .int (nI (i + 1))), (0, .ref y.1)]) hx hb dX1_look_16 hl (k := 1) rfl (by exact nI_1 i) (by decide) rfl (fun ls hl => ?_)
      refine lv_goto (tgt := 2) hx hb dX1_look_19 (by decide) ?_
      exact ih (i + 1) _ (by omega) (seen_0 h0) H locs hP hD hS ls (lv_sub hl [1, 0] rfl)
  refine lv_iconst (v := 0) hx hb dX1_look_0 (by decide) ?_
  refine lv_istore_n (lv' := [(1, .int 0), (0, .ref y.1)]) hx hb dX1_look_1 rfl hl (by decide) rfl (fun ls hl => ?_)
  exact loop0 512 0 (ms_ M) (by omega) (fun q h => absurd h (Nat.not_lt_zero q)) s.heap [] hP hD hS ls (lv_sub hl [1, 0] rfl)
set_option maxHeartbeats 4000000 in
theorem cM_reached (l : Launch) (g : va_G) (y : MA) (f : MC) (M : MS) (sz : Nat)  (k : Nat) (hk : k ≤ 512) (hkd : md M = nI k) (hc : cB (pm (ma M)) 512 ≤ 6) : Met l yX1_reached (ws_ yX1_reached cX1_reached 3 (some .int)) ({ frames := 3, cells := 0, slots := 0, locals := 64 }) (WrC g (tM f) (wM y f M) sz [.ref y.1]) (va_Qi (fun r T => ∃ sn, (∀ q, q < 512 → (¬ sn q = 0 ↔ Rm M k q)) ∧ r = sI (fun q => if sn q = 0 then 0 else 1) k ∧ T = ts_ M sn) (WB g (tM f) (wM y f) (va_A (wM y f M) sz)) (va_A (wM y f M) sz)) 0 0 (va_A (wM y f M) sz) := by
  refine Met.ofW (cc := cX1_reached) (maxL := 3) (ret := (some .int)) (by decide) rfl ?_
  intro p e s m args below meth c s₁ B hml hv
  obtain ⟨rfl, hsz, hP, hK, hD0⟩ := hv
  have hx := B.exec
  have hb := B.bytes
  have hrt := B.returns
  have hlocks := B.notSynchronized
  have hts0 := atoms_spec (ws := ws_ yX1_reached cX1_reached 3 (some .int)) B.pre
  have hts : ∀ w ∈ lw_all, w.before ([.ref y.1] : List Value).toArray s = true := fun w h => hts0 w (List.mem_cons_of_mem _ h)
  have hown : s.vm.findClass RX1 = some m.cls := findClass_of_methodNamed B.named
  have hF : CallFix p m c cX1_reached 3 s ([.ref y.1] : List Value).toArray lw_all RX1 := ⟨hx, hb, hml, hown, hts⟩
  subst hsz
  have hD := hD0.self (sz := s.heap.size)
  generalize hAe : va_A (wM y f M) s.heap.size = A at hD ⊢
  have hA : ∀ q : Nat, s.heap.size ≤ q → A q := fun q h => by rw [← hAe]; exact Or.inr h
  have hS : va_S A s.heap s.heap [] := va_S.rf
  have hl := lv_entry ([.ref y.1]) (n := 3) (Nat.le_of_ble_eq_true rfl)
  rw [lg_entry_eq]
  generalize (lg_sl ([.ref y.1]) ++ List.replicate (3 - (lg_sl ([.ref y.1])).length) Slot.unset).toArray = ls at hl ⊢
  have hl : lv_has ls 3 [(0, .ref y.1)] := hl
  try dsimp only at hP
  refine lv_aload_n hx hb dX1_reached_0 rfl (lv_at hl 0 rfl) ?_
  refine wr_Vv0 (wf := wM y f) (S0 := M) (ci := 1) (As := []) (rest := []) hF (fun sz => cM_look l g y f M sz k hk hkd hc) (cwV 0 hts (lw_V q244 q246 qs11 q15 q247) rfl rfl rfl (by decide +kernel) ⟨Nat.le_of_ble_eq_true rfl, Nat.le_of_ble_eq_true rfl⟩) hK hP hD hS hA rfl rfl rfl hl.1 rfl (Nat.le_of_ble_eq_true rfl) dX1_reached_1 ⟨Nat.zero_le _, Nat.zero_le _⟩ (fun T H locs hT hP hD hS => ?_)
  obtain ⟨sn, hsn, rfl⟩ := hT
  have loop : ∀ (n i : Nat) (t : Int32), i + n = k → t = sI (fun q => if sn q = 0 then 0 else 1) i → ∀ (ls : Array Slot), lv_has ls 3 [(0, .ref y.1), (1, .int t), (2, .int (nI i))] → W p l e (headSpec (ws_ yX1_reached cX1_reached 3 (some .int)) ({ frames := 3, cells := 0, slots := 0, locals := 64 })).room s m ([.ref y.1] : List Value).toArray below meth c H locs 0 0 (MQ below (va_Qi (fun r T => ∃ sn, (∀ q, q < 512 → (¬ sn q = 0 ↔ Rm M k q)) ∧ r = sI (fun q => if sn q = 0 then 0 else 1) k ∧ T = ts_ M sn) (WB g (tM f) (wM y f) A) A) ([.ref y.1] : List Value).toArray s 0 0 A) (F0 m 8 ls []) := by
    intro n
    induction n with
    | zero =>
      intro i t hi ht ls hl
      obtain rfl : i = k := by omega
      refine lv_iload_n hx hb dX1_reached_8 rfl (lv_at hl 2 rfl) ?_
      refine lv_aload_n hx hb dX1_reached_9 rfl (lv_at hl 0 rfl) ?_
      refine mg_d hF hK hP dX1_reached_10 ?_
      refine lv_asi (w := nI i) (hkd) ?_
      refine lv_icmp_ge (tgt := 39) hx hb dX1_reached_13 (by decide) (fun _ => ?_) (fun c0 => absurd (Int32.le_refl _) c0)
      refine lv_iload_n hx hb dX1_reached_39 rfl (lv_at hl 1 rfl) ?_
      exact wr_ret (wf := wM y f) (u := (ts_ M sn)) hx hb hrt hlocks hK hP hD hS (⟨sn, hsn, ht, rfl⟩) dX1_reached_40
    | succ n ih =>
      intro i t hi ht ls hl
      refine lv_iload_n hx hb dX1_reached_8 rfl (lv_at hl 2 rfl) ?_
      refine lv_aload_n hx hb dX1_reached_9 rfl (lv_at hl 0 rfl) ?_
      refine mg_d hF hK hP dX1_reached_10 ?_
      refine lv_asi (w := nI k) (hkd) ?_
      refine lv_icmp_ge (tgt := 39) hx hb dX1_reached_13 (by decide) (fun c0 => absurd c0 (nI_ge (a := i) (b := k) (by omega) (by omega))) (fun _ => ?_)
      refine lv_iload_n hx hb dX1_reached_16 rfl (lv_at hl 1 rfl) ?_
      refine lv_aload_n hx hb dX1_reached_17 rfl (lv_at hl 0 rfl) ?_
      refine mg_s hF hK hP dX1_reached_18 ?_
      refine lv_iload_n hx hb dX1_reached_21 rfl (lv_at hl 2 rfl) ?_
      refine mr_s hF hK hP (by omega) dX1_reached_22 ?_
      refine lv_if_eq (tgt := 30) hx hb dX1_reached_23 (by decide) (fun c1 => ?_) (fun c1 => ?_)
      · refine lv_iconst (v := 0) hx hb dX1_reached_30 (by decide) ?_
        refine lv_iadd hx hb dX1_reached_31 ?_
        refine lv_istore_n (lv' := [(1, .int (t + 0)), (0, .ref y.1), (2, .int (nI i))]) hx hb dX1_reached_32 rfl hl (by decide) rfl (fun ls hl => ?_)
        refine lv_iinc (v := nI (i + 1)) (lv' := [(2, .int (nI (i + 1))), (1, .int (t + 0)), (0, .ref y.1)]) hx hb dX1_reached_33 hl (k := 2) rfl (by exact nI_1 i) (by decide) rfl (fun ls hl => ?_)
        refine lv_goto (tgt := 8) hx hb dX1_reached_36 (by decide) ?_
        exact ih (i + 1) _ (by omega) (by rw [ht]; show _ = sI (fun q => if sn q = 0 then 0 else 1) i + (if sn i = 0 then 0 else 1); rw [if_pos (show sn i = 0 from c1)]) ls (lv_sub hl [2, 1, 0] rfl)
      · refine lv_iconst (v := 1) hx hb dX1_reached_26 (by decide) ?_
        refine lv_goto (tgt := 31) hx hb dX1_reached_27 (by decide) ?_
        refine lv_iadd hx hb dX1_reached_31 ?_
        refine lv_istore_n (lv' := [(1, .int (t + 1)), (0, .ref y.1), (2, .int (nI i))]) hx hb dX1_reached_32 rfl hl (by decide) rfl (fun ls hl => ?_)
        refine lv_iinc (v := nI (i + 1)) (lv' := [(2, .int (nI (i + 1))), (1, .int (t + 1)), (0, .ref y.1)]) hx hb dX1_reached_33 hl (k := 2) rfl (by exact nI_1 i) (by decide) rfl (fun ls hl => ?_)
        refine lv_goto (tgt := 8) hx hb dX1_reached_36 (by decide) ?_
        exact ih (i + 1) _ (by omega) (by rw [ht]; show _ = sI (fun q => if sn q = 0 then 0 else 1) i + (if sn i = 0 then 0 else 1); rw [if_neg (show ¬ sn i = 0 from c1)]) ls (lv_sub hl [2, 1, 0] rfl)
  refine lv_iconst (v := 0) hx hb dX1_reached_4 (by decide) ?_
  refine lv_istore_n (lv' := [(1, .int 0), (0, .ref y.1)]) hx hb dX1_reached_5 rfl hl (by decide) rfl (fun ls hl => ?_)
  refine lv_iconst (v := 0) hx hb dX1_reached_6 (by decide) ?_
  refine lv_istore_n (lv' := [(2, .int 0), (1, .int 0), (0, .ref y.1)]) hx hb dX1_reached_7 rfl hl (by decide) rfl (fun ls hl => ?_)
  exact loop k 0 0 (by omega) rfl ls (lv_sub hl [2, 1, 0] rfl)
set_option maxHeartbeats 4000000 in
theorem cM_sweep (l : Launch) (g : va_G) (y : MA) (f : MC) (M : MS) (sz : Nat)  (k : Nat) (hk : k ≤ 512) (hkd : md M = nI k) (hc : cB (pm (ma M)) 512 ≤ 6) : Met l yX1_sweep (ws_ yX1_sweep cX1_sweep 3 (some .int)) ({ frames := 3, cells := 0, slots := 0, locals := 64 }) (WrC g (tM f) (wM y f M) sz [.ref y.1]) (va_Qi (fun r T => ∃ sn, (∀ q, q < 512 → (¬ sn q = 0 ↔ Rm M k q)) ∧ r = sI (fun q => if ma M q = 0 then 0 else if sn q = 0 then 1 else 0) k ∧ T = ta_ (ts_ M sn) (swM (ma M) sn k)) (WB g (tM f) (wM y f) (va_A (wM y f M) sz)) (va_A (wM y f M) sz)) 0 0 (va_A (wM y f M) sz) := by
  refine Met.ofW (cc := cX1_sweep) (maxL := 3) (ret := (some .int)) (by decide) rfl ?_
  intro p e s m args below meth c s₁ B hml hv
  obtain ⟨rfl, hsz, hP, hK, hD0⟩ := hv
  have hx := B.exec
  have hb := B.bytes
  have hrt := B.returns
  have hlocks := B.notSynchronized
  have hts0 := atoms_spec (ws := ws_ yX1_sweep cX1_sweep 3 (some .int)) B.pre
  have hts : ∀ w ∈ lw_all, w.before ([.ref y.1] : List Value).toArray s = true := fun w h => hts0 w (List.mem_cons_of_mem _ h)
  have hown : s.vm.findClass RX1 = some m.cls := findClass_of_methodNamed B.named
  have hF : CallFix p m c cX1_sweep 3 s ([.ref y.1] : List Value).toArray lw_all RX1 := ⟨hx, hb, hml, hown, hts⟩
  subst hsz
  have hD := hD0.self (sz := s.heap.size)
  generalize hAe : va_A (wM y f M) s.heap.size = A at hD ⊢
  have hA : ∀ q : Nat, s.heap.size ≤ q → A q := fun q h => by rw [← hAe]; exact Or.inr h
  have hS : va_S A s.heap s.heap [] := va_S.rf
  have hl := lv_entry ([.ref y.1]) (n := 3) (Nat.le_of_ble_eq_true rfl)
  rw [lg_entry_eq]
  generalize (lg_sl ([.ref y.1]) ++ List.replicate (3 - (lg_sl ([.ref y.1])).length) Slot.unset).toArray = ls at hl ⊢
  have hl : lv_has ls 3 [(0, .ref y.1)] := hl
  try dsimp only at hP
  refine lv_aload_n hx hb dX1_sweep_0 rfl (lv_at hl 0 rfl) ?_
  refine wr_Vv0 (wf := wM y f) (S0 := M) (ci := 1) (As := []) (rest := []) hF (fun sz => cM_look l g y f M sz k hk hkd hc) (cwV 0 hts (lw_V q244 q246 qs11 q15 q247) rfl rfl rfl (by decide +kernel) ⟨Nat.le_of_ble_eq_true rfl, Nat.le_of_ble_eq_true rfl⟩) hK hP hD hS hA rfl rfl rfl hl.1 rfl (Nat.le_of_ble_eq_true rfl) dX1_sweep_1 ⟨Nat.zero_le _, Nat.zero_le _⟩ (fun T H locs hT hP hD hS => ?_)
  obtain ⟨sn, hsn, rfl⟩ := hT
  have hP : va_P g vwCl (wM y f (ta_ (ts_ M sn) (swM (ma M) sn 0))) H := by rw [swM_0]; exact hP
  have hD : va_D A (wM y f (ta_ (ts_ M sn) (swM (ma M) sn 0))) := by rw [swM_0]; exact hD
  have loop : ∀ (n : Nat) (i : Nat) (t : Int32), i + n = k → t = sI (fun q => if ma M q = 0 then 0 else if sn q = 0 then 1 else 0) i → ∀ (H : Heap) (locs : List Loc), va_P g vwCl (wM y f (ta_ (ts_ M sn) (swM (ma M) sn i))) H → va_D A (wM y f (ta_ (ts_ M sn) (swM (ma M) sn i))) → va_S A s.heap H locs → ∀ (ls : Array Slot), lv_has ls 3 [(0, .ref y.1), (1, .int t), (2, .int (nI i))] → W p l e (headSpec (ws_ yX1_sweep cX1_sweep 3 (some .int)) ({ frames := 3, cells := 0, slots := 0, locals := 64 })).room s m ([.ref y.1] : List Value).toArray below meth c H locs 0 0 (MQ below (va_Qi (fun r T => ∃ sn, (∀ q, q < 512 → (¬ sn q = 0 ↔ Rm M k q)) ∧ r = sI (fun q => if ma M q = 0 then 0 else if sn q = 0 then 1 else 0) k ∧ T = ta_ (ts_ M sn) (swM (ma M) sn k)) (WB g (tM f) (wM y f) A) A) ([.ref y.1] : List Value).toArray s 0 0 A) (F0 m 8 ls []) := by
    intro n
    induction n with
    | zero =>
      intro i t hi ht H locs hP hD hS ls hl
      obtain rfl : i = k := by omega
      refine lv_iload_n hx hb dX1_sweep_8 rfl (lv_at hl 2 rfl) ?_
      refine lv_aload_n hx hb dX1_sweep_9 rfl (lv_at hl 0 rfl) ?_
      refine mg_d hF hK hP dX1_sweep_10 ?_
      refine lv_asi (w := nI i) (hkd) ?_
      refine lv_icmp_ge (tgt := 50) hx hb dX1_sweep_13 (by decide) (fun _ => ?_) (fun c0 => absurd (Int32.le_refl _) c0)
      refine lv_iload_n hx hb dX1_sweep_50 rfl (lv_at hl 1 rfl) ?_
      exact wr_ret (wf := wM y f) (u := (ta_ (ts_ M sn) (swM (ma M) sn i))) hx hb hrt hlocks hK hP hD hS (⟨sn, hsn, ht, rfl⟩) dX1_sweep_51
    | succ n ih =>
      intro i t hi ht H locs hP hD hS ls hl
      refine lv_iload_n hx hb dX1_sweep_8 rfl (lv_at hl 2 rfl) ?_
      refine lv_aload_n hx hb dX1_sweep_9 rfl (lv_at hl 0 rfl) ?_
      refine mg_d hF hK hP dX1_sweep_10 ?_
      refine lv_asi (w := nI k) (hkd) ?_
      refine lv_icmp_ge (tgt := 50) hx hb dX1_sweep_13 (by decide) (fun c0 => absurd c0 (nI_ge (a := i) (b := k) (by omega) (by omega))) (fun _ => ?_)
      refine lv_aload_n hx hb dX1_sweep_16 rfl (lv_at hl 0 rfl) ?_
      refine mg_a hF hK hP dX1_sweep_17 ?_
      refine lv_iload_n hx hb dX1_sweep_20 rfl (lv_at hl 2 rfl) ?_
      refine mr_a hF hK hP (by omega) dX1_sweep_21 ?_
      refine lv_asi (w := ma M i) (swM_at) ?_
      refine lv_if_eq (tgt := 44) hx hb dX1_sweep_22 (by decide) (fun c1 => ?_) (fun c1 => ?_)
      · have hP : va_P g vwCl (wM y f (ta_ (ts_ M sn) (swM (ma M) sn (i + 1)))) H := by rw [← swM_miss (Or.inl c1)]; exact hP
        have hD : va_D A (wM y f (ta_ (ts_ M sn) (swM (ma M) sn (i + 1)))) := by rw [← swM_miss (Or.inl c1)]; exact hD
        refine lv_iinc (v := nI (i + 1)) (lv' := [(2, .int (nI (i + 1))), (0, .ref y.1), (1, .int t)]) hx hb dX1_sweep_44 hl (k := 2) rfl (by exact nI_1 i) (by decide) rfl (fun ls hl => ?_)
        refine lv_goto (tgt := 8) hx hb dX1_sweep_47 (by decide) ?_
        exact ih (i + 1) t (by omega) (by rw [ht]; show _ = sI (fun q => if ma M q = 0 then 0 else if sn q = 0 then 1 else 0) i + (if ma M i = 0 then 0 else if sn i = 0 then 1 else 0); rw [if_pos c1, Int32.add_zero]) H locs hP hD hS ls (lv_sub hl [1, 2, 0] rfl)
      · refine lv_aload_n hx hb dX1_sweep_25 rfl (lv_at hl 0 rfl) ?_
        refine mg_s hF hK hP dX1_sweep_26 ?_
        refine lv_iload_n hx hb dX1_sweep_29 rfl (lv_at hl 2 rfl) ?_
        refine mr_s hF hK hP (by omega) dX1_sweep_30 ?_
        refine lv_if_ne (tgt := 44) hx hb dX1_sweep_31 (by decide) (fun c2 => ?_) (fun c2 => ?_)
        · have hP : va_P g vwCl (wM y f (ta_ (ts_ M sn) (swM (ma M) sn (i + 1)))) H := by rw [← swM_miss (Or.inr c2)]; exact hP
          have hD : va_D A (wM y f (ta_ (ts_ M sn) (swM (ma M) sn (i + 1)))) := by rw [← swM_miss (Or.inr c2)]; exact hD
          refine lv_iinc (v := nI (i + 1)) (lv' := [(2, .int (nI (i + 1))), (0, .ref y.1), (1, .int t)]) hx hb dX1_sweep_44 hl (k := 2) rfl (by exact nI_1 i) (by decide) rfl (fun ls hl => ?_)
          refine lv_goto (tgt := 8) hx hb dX1_sweep_47 (by decide) ?_
          exact ih (i + 1) t (by omega) (by rw [ht]; show _ = sI (fun q => if ma M q = 0 then 0 else if sn q = 0 then 1 else 0) i + (if ma M i = 0 then 0 else if sn i = 0 then 1 else 0); rw [if_neg c1, if_neg (show ¬ sn i = 0 from c2), Int32.add_zero]) H locs hP hD hS ls (lv_sub hl [1, 2, 0] rfl)
        · refine lv_aload_n hx hb dX1_sweep_34 rfl (lv_at hl 0 rfl) ?_
          refine mg_a hF hK hP dX1_sweep_35 ?_
          refine lv_iload_n hx hb dX1_sweep_38 rfl (lv_at hl 2 rfl) ?_
          refine lv_iconst (v := 0) hx hb dX1_sweep_39 (by decide) ?_
          refine mw_a hF hK hP hD hS (by omega) dX1_sweep_40 (fun H locs hP hD hS => ?_)
          have hP : va_P g vwCl (wM y f (ta_ (ts_ M sn) (swM (ma M) sn (i + 1)))) H := by rw [← swM_hit (show sn i = 0 from c2)]; exact hP
          have hD : va_D A (wM y f (ta_ (ts_ M sn) (swM (ma M) sn (i + 1)))) := by rw [← swM_hit (show sn i = 0 from c2)]; exact hD
          refine lv_iinc (v := t + 1) (lv' := [(1, .int (t + 1)), (0, .ref y.1), (2, .int (nI i))]) hx hb dX1_sweep_41 hl (k := 1) rfl (by rfl) (by decide) rfl (fun ls hl => ?_)
          refine lv_iinc (v := nI (i + 1)) (lv' := [(2, .int (nI (i + 1))), (1, .int (t + 1)), (0, .ref y.1)]) hx hb dX1_sweep_44 hl (k := 2) rfl (by exact nI_1 i) (by decide) rfl (fun ls hl => ?_)
          refine lv_goto (tgt := 8) hx hb dX1_sweep_47 (by decide) ?_
          exact ih (i + 1) (t + 1) (by omega) (by rw [ht]; show _ = sI (fun q => if ma M q = 0 then 0 else if sn q = 0 then 1 else 0) i + (if ma M i = 0 then 0 else if sn i = 0 then 1 else 0); rw [if_neg c1, if_pos (show sn i = 0 from c2)]) H locs hP hD hS ls (lv_sub hl [2, 1, 0] rfl)
  refine lv_iconst (v := 0) hx hb dX1_sweep_4 (by decide) ?_
  refine lv_istore_n (lv' := [(1, .int 0), (0, .ref y.1)]) hx hb dX1_sweep_5 rfl hl (by decide) rfl (fun ls hl => ?_)
  refine lv_iconst (v := 0) hx hb dX1_sweep_6 (by decide) ?_
  refine lv_istore_n (lv' := [(2, .int 0), (1, .int 0), (0, .ref y.1)]) hx hb dX1_sweep_7 rfl hl (by decide) rfl (fun ls hl => ?_)
  exact loop k 0 0 (by omega) rfl H locs hP hD hS ls (lv_sub hl [2, 1, 0] rfl)
end
section
/-! the two constructors -/
set_option maxRecDepth 100000
def X0s : XS := (fun _ => 0, 0, fun _ => 0, fun _ => 0, fun _ => 0, 0)
def M0s : MS := (fun _ => 0, 0, fun _ => 0, fun _ => 0, fun _ => 0, fun _ => 0, fun _ => 0)
abbrev fX0 : List Value := [.null, .int 0, .null, .null, .null, .int 0]
abbrev fM0 : List Value := [.null, .int 0, .null, .null, .null, .null, .null]
/-- the world behind a constructor: the classes of its new arrays come with it -/
def WI {σ : Type} (g : va_G) (tf : σ → List (ClassId × FieldType)) (wf : σ → va_W) (A : Nat → Prop) (u : σ) (t : State) : Prop := va_P g vwCl (wf u) t.heap ∧ va_K g vwCl (tf u) t ∧ va_D A (wf u)
set_option maxHeartbeats 4000000 in
theorem cX_init (l : Launch) (g : va_G) (h0 sz : Nat) : Met l yX0_init (ws_ yX0_init cX0_init 1 none) ({ frames := 1, cells := 4, slots := 32, locals := 20 }) (WrC g [] ([(h0, .inr (0, fX0))]) sz [.ref h0]) (va_Qv (fun u : XA × XC => u.1.1 = h0) (WI g (fun u : XA × XC => tX u.2) (fun u : XA × XC => wX u.1 u.2 X0s) (va_A ([(h0, .inr (0, fX0))]) sz)) (va_A ([(h0, .inr (0, fX0))]) sz)) 4 32 (va_A ([(h0, .inr (0, fX0))]) sz) := by
  refine Met.ofW (cc := cX0_init) (maxL := 1) (ret := none) (by decide) rfl ?_
  intro p e s m args below meth c s₁ B hml hv
  obtain ⟨rfl, hsz, hP, hK, hD0⟩ := hv
  have hx := B.exec
  have hb := B.bytes
  have hrt := B.returns
  have hlocks := B.notSynchronized
  have hts0 := atoms_spec (ws := ws_ yX0_init cX0_init 1 none) B.pre
  have hts : ∀ w ∈ lw_all, w.before _ s = true := fun w h => hts0 w (List.mem_cons_of_mem _ h)
  have hown : s.vm.findClass RX0 = some m.cls := findClass_of_methodNamed B.named
  have hin : meth.name = "<init>" := (name_of_methodNamed B.named B.method).1
  subst hsz
  have hD := hD0.self (sz := s.heap.size)
  generalize hAe : va_A ([(h0, .inr (0, fX0))]) s.heap.size = A at hD ⊢
  have hA : ∀ q : Nat, s.heap.size ≤ q → A q := fun q h => by rw [← hAe]; exact Or.inr h
  have hS : va_S A s.heap s.heap [] := va_S.rf
  have hl := lv_entry ([.ref h0]) (n := 1) (Nat.le_of_ble_eq_true rfl)
  rw [lg_entry_eq]
  generalize (lg_sl ([.ref h0]) ++ List.replicate (1 - (lg_sl ([.ref h0])).length) Slot.unset).toArray = ls at hl ⊢
  have hl : lv_has ls 1 [(0, .ref h0)] := hl
  refine lv_aload_n hx hb dX0_init_0 rfl (lv_at hl 0 rfl) ?_
  refine W.objInit hx hb hown (hts _ q21) (hts _ q22) (hts _ q23) rfl (by rw [hml]; exact hl.1) rfl dX0_init_1 (Nat.le_of_ble_eq_true rfl) (Nat.le_of_ble_eq_true rfl) ?_
  refine W.eq (g2 := F0 m 4 ls []) rfl ?_
  refine lv_aload_n hx hb dX0_init_4 rfl (lv_at hl 0 rfl) ?_
  refine lv_bipush (v := 8) hx hb dX0_init_5 (by decide) ?_
  refine va_newa (atype := .byte) (a0 := (8, .inl (fun _ => 0))) hx hb (hts _ q43) rfl hK hP hD hS hA (fun cA => rfl) (by decide) rfl (by decide) (Nat.le_of_ble_eq_true rfl) (Nat.le_of_ble_eq_true rfl) dX0_init_7 (fun a1 e1 H hK hP hD hS => ?_)
  have hP : va_P g vwCl [(h0, .inr (0, [.null, .int 0, .null, .null, .null, .int 0])), (a1, .inl (e1, 8, .inl (fun _ => 0)))] H := hP
  have hD : va_D A [(h0, .inr (0, [.null, .int 0, .null, .null, .null, .int 0])), (a1, .inl (e1, 8, .inl (fun _ => 0)))] := hD
  have hK : va_K g vwCl [(e1, .byte)] s := hK
  refine va_putF (D := g) (ci := 0) (v := .ref a1) (ty := .array .byte) (C := RX0) (T := TX0) (N := 6) hx hb hts in_X0 tyX0 tyX0_ok nmX0 hown hK hP hD hS 0 rfl rfl 0 (by decide) (hts _ q24) (fun _ h9 => h9) rfl hin rfl (by decide +kernel) rfl rfl (Nat.le_of_ble_eq_true rfl) dX0_init_9 (fun H locs hP hD hS => ?_)
  have hP : va_P g vwCl [(h0, .inr (0, [.ref a1, .int 0, .null, .null, .null, .int 0])), (a1, .inl (e1, 8, .inl (fun _ => 0)))] H := hP
  have hD : va_D A [(h0, .inr (0, [.ref a1, .int 0, .null, .null, .null, .int 0])), (a1, .inl (e1, 8, .inl (fun _ => 0)))] := hD
  refine lv_aload_n hx hb dX0_init_12 rfl (lv_at hl 0 rfl) ?_
  refine lv_bipush (v := 6) hx hb dX0_init_13 (by decide) ?_
  refine va_newa (atype := .byte) (a0 := (6, .inl (fun _ => 0))) hx hb (hts _ q43) rfl hK hP hD hS hA (fun cA => rfl) (by decide) rfl (by decide) (Nat.le_of_ble_eq_true rfl) (Nat.le_of_ble_eq_true rfl) dX0_init_15 (fun a2 e2 H hK hP hD hS => ?_)
  have hP : va_P g vwCl [(h0, .inr (0, [.ref a1, .int 0, .null, .null, .null, .int 0])), (a1, .inl (e1, 8, .inl (fun _ => 0))), (a2, .inl (e2, 6, .inl (fun _ => 0)))] H := hP
  have hD : va_D A [(h0, .inr (0, [.ref a1, .int 0, .null, .null, .null, .int 0])), (a1, .inl (e1, 8, .inl (fun _ => 0))), (a2, .inl (e2, 6, .inl (fun _ => 0)))] := hD
  have hK : va_K g vwCl [(e1, .byte), (e2, .byte)] s := hK
  refine va_putF (D := g) (ci := 0) (v := .ref a2) (ty := .array .byte) (C := RX0) (T := TX0) (N := 6) hx hb hts in_X0 tyX0 tyX0_ok nmX0 hown hK hP hD hS 0 rfl rfl 2 (by decide) (hts _ q26) (fun _ h9 => h9) rfl hin rfl (by decide +kernel) rfl rfl (Nat.le_of_ble_eq_true rfl) dX0_init_17 (fun H locs hP hD hS => ?_)
  have hP : va_P g vwCl [(h0, .inr (0, [.ref a1, .int 0, .ref a2, .null, .null, .int 0])), (a1, .inl (e1, 8, .inl (fun _ => 0))), (a2, .inl (e2, 6, .inl (fun _ => 0)))] H := hP
  have hD : va_D A [(h0, .inr (0, [.ref a1, .int 0, .ref a2, .null, .null, .int 0])), (a1, .inl (e1, 8, .inl (fun _ => 0))), (a2, .inl (e2, 6, .inl (fun _ => 0)))] := hD
  refine lv_aload_n hx hb dX0_init_20 rfl (lv_at hl 0 rfl) ?_
  refine lv_bipush (v := 6) hx hb dX0_init_21 (by decide) ?_
  refine va_newa (atype := .int) (a0 := (6, .inl (fun _ => 0))) hx hb (hts _ q44) rfl hK hP hD hS hA (fun cA => rfl) (by decide) rfl (by decide) (Nat.le_of_ble_eq_true rfl) (Nat.le_of_ble_eq_true rfl) dX0_init_23 (fun a3 e3 H hK hP hD hS => ?_)
  have hP : va_P g vwCl [(h0, .inr (0, [.ref a1, .int 0, .ref a2, .null, .null, .int 0])), (a1, .inl (e1, 8, .inl (fun _ => 0))), (a2, .inl (e2, 6, .inl (fun _ => 0))), (a3, .inl (e3, 6, .inl (fun _ => 0)))] H := hP
  have hD : va_D A [(h0, .inr (0, [.ref a1, .int 0, .ref a2, .null, .null, .int 0])), (a1, .inl (e1, 8, .inl (fun _ => 0))), (a2, .inl (e2, 6, .inl (fun _ => 0))), (a3, .inl (e3, 6, .inl (fun _ => 0)))] := hD
  have hK : va_K g vwCl [(e1, .byte), (e2, .byte), (e3, .int)] s := hK
  refine va_putF (D := g) (ci := 0) (v := .ref a3) (ty := .array .int) (C := RX0) (T := TX0) (N := 6) hx hb hts in_X0 tyX0 tyX0_ok nmX0 hown hK hP hD hS 0 rfl rfl 3 (by decide) (hts _ q27) (fun _ h9 => h9) rfl hin rfl (by decide +kernel) rfl rfl (Nat.le_of_ble_eq_true rfl) dX0_init_25 (fun H locs hP hD hS => ?_)
  have hP : va_P g vwCl [(h0, .inr (0, [.ref a1, .int 0, .ref a2, .ref a3, .null, .int 0])), (a1, .inl (e1, 8, .inl (fun _ => 0))), (a2, .inl (e2, 6, .inl (fun _ => 0))), (a3, .inl (e3, 6, .inl (fun _ => 0)))] H := hP
  have hD : va_D A [(h0, .inr (0, [.ref a1, .int 0, .ref a2, .ref a3, .null, .int 0])), (a1, .inl (e1, 8, .inl (fun _ => 0))), (a2, .inl (e2, 6, .inl (fun _ => 0))), (a3, .inl (e3, 6, .inl (fun _ => 0)))] := hD
  refine lv_aload_n hx hb dX0_init_28 rfl (lv_at hl 0 rfl) ?_
  refine lv_bipush (v := 12) hx hb dX0_init_29 (by decide) ?_
  refine va_newa (atype := .byte) (a0 := (12, .inl (fun _ => 0))) hx hb (hts _ q43) rfl hK hP hD hS hA (fun cA => rfl) (by decide) rfl (by decide) (Nat.le_of_ble_eq_true rfl) (Nat.le_of_ble_eq_true rfl) dX0_init_31 (fun a4 e4 H hK hP hD hS => ?_)
  have hP : va_P g vwCl [(h0, .inr (0, [.ref a1, .int 0, .ref a2, .ref a3, .null, .int 0])), (a1, .inl (e1, 8, .inl (fun _ => 0))), (a2, .inl (e2, 6, .inl (fun _ => 0))), (a3, .inl (e3, 6, .inl (fun _ => 0))), (a4, .inl (e4, 12, .inl (fun _ => 0)))] H := hP
  have hD : va_D A [(h0, .inr (0, [.ref a1, .int 0, .ref a2, .ref a3, .null, .int 0])), (a1, .inl (e1, 8, .inl (fun _ => 0))), (a2, .inl (e2, 6, .inl (fun _ => 0))), (a3, .inl (e3, 6, .inl (fun _ => 0))), (a4, .inl (e4, 12, .inl (fun _ => 0)))] := hD
  have hK : va_K g vwCl [(e1, .byte), (e2, .byte), (e3, .int), (e4, .byte)] s := hK
  refine va_putF (D := g) (ci := 0) (v := .ref a4) (ty := .array .byte) (C := RX0) (T := TX0) (N := 6) hx hb hts in_X0 tyX0 tyX0_ok nmX0 hown hK hP hD hS 0 rfl rfl 4 (by decide) (hts _ q28) (fun _ h9 => h9) rfl hin rfl (by decide +kernel) rfl rfl (Nat.le_of_ble_eq_true rfl) dX0_init_33 (fun H locs hP hD hS => ?_)
  have hP : va_P g vwCl [(h0, .inr (0, [.ref a1, .int 0, .ref a2, .ref a3, .ref a4, .int 0])), (a1, .inl (e1, 8, .inl (fun _ => 0))), (a2, .inl (e2, 6, .inl (fun _ => 0))), (a3, .inl (e3, 6, .inl (fun _ => 0))), (a4, .inl (e4, 12, .inl (fun _ => 0)))] H := hP
  have hD : va_D A [(h0, .inr (0, [.ref a1, .int 0, .ref a2, .ref a3, .ref a4, .int 0])), (a1, .inl (e1, 8, .inl (fun _ => 0))), (a2, .inl (e2, 6, .inl (fun _ => 0))), (a3, .inl (e3, 6, .inl (fun _ => 0))), (a4, .inl (e4, 12, .inl (fun _ => 0)))] := hD
  refine W.widen (k := 4) (n := 32) (Nat.le_of_ble_eq_true rfl) (Nat.le_of_ble_eq_true rfl) ?_
  exact W.vret hx hb hrt (fun t ht hW => ⟨⟨((h0, a1, a2, a3, a4), (e1, e2, e3, e4)), rfl, rfl, by rw [ht]; exact hP, va_K.moved hW.alike hK, hD⟩, hS.F ht⟩) hS.2.2 dX0_init_36
set_option maxHeartbeats 4000000 in
theorem cM_init (l : Launch) (g : va_G) (h0 sz : Nat) : Met l yX1_init (ws_ yX1_init cX1_init 1 none) ({ frames := 1, cells := 6, slots := 2568, locals := 20 }) (WrC g [] ([(h0, .inr (1, fM0))]) sz [.ref h0]) (va_Qv (fun u : MA × MC => u.1.1 = h0) (WI g (fun u : MA × MC => tM u.2) (fun u : MA × MC => wM u.1 u.2 M0s) (va_A ([(h0, .inr (1, fM0))]) sz)) (va_A ([(h0, .inr (1, fM0))]) sz)) 6 2568 (va_A ([(h0, .inr (1, fM0))]) sz) := by
  refine Met.ofW (cc := cX1_init) (maxL := 1) (ret := none) (by decide) rfl ?_
  intro p e s m args below meth c s₁ B hml hv
  obtain ⟨rfl, hsz, hP, hK, hD0⟩ := hv
  have hx := B.exec
  have hb := B.bytes
  have hrt := B.returns
  have hlocks := B.notSynchronized
  have hts0 := atoms_spec (ws := ws_ yX1_init cX1_init 1 none) B.pre
  have hts : ∀ w ∈ lw_all, w.before _ s = true := fun w h => hts0 w (List.mem_cons_of_mem _ h)
  have hown : s.vm.findClass RX1 = some m.cls := findClass_of_methodNamed B.named
  have hin : meth.name = "<init>" := (name_of_methodNamed B.named B.method).1
  subst hsz
  have hD := hD0.self (sz := s.heap.size)
  generalize hAe : va_A ([(h0, .inr (1, fM0))]) s.heap.size = A at hD ⊢
  have hA : ∀ q : Nat, s.heap.size ≤ q → A q := fun q h => by rw [← hAe]; exact Or.inr h
  have hS : va_S A s.heap s.heap [] := va_S.rf
  have hl := lv_entry ([.ref h0]) (n := 1) (Nat.le_of_ble_eq_true rfl)
  rw [lg_entry_eq]
  generalize (lg_sl ([.ref h0]) ++ List.replicate (1 - (lg_sl ([.ref h0])).length) Slot.unset).toArray = ls at hl ⊢
  have hl : lv_has ls 1 [(0, .ref h0)] := hl
  refine lv_aload_n hx hb dX1_init_0 rfl (lv_at hl 0 rfl) ?_
  refine W.objInit hx hb hown (hts _ q154) (hts _ q22) (hts _ q23) rfl (by rw [hml]; exact hl.1) rfl dX1_init_1 (Nat.le_of_ble_eq_true rfl) (Nat.le_of_ble_eq_true rfl) ?_
  refine W.eq (g2 := F0 m 4 ls []) rfl ?_
  refine lv_aload_n hx hb dX1_init_4 rfl (lv_at hl 0 rfl) ?_
  refine lv_bipush (v := 8) hx hb dX1_init_5 (by decide) ?_
  refine va_newa (atype := .int) (a0 := (8, .inl (fun _ => 0))) hx hb (hts _ q44) rfl hK hP hD hS hA (fun cA => rfl) (by decide) rfl (by decide) (Nat.le_of_ble_eq_true rfl) (Nat.le_of_ble_eq_true rfl) dX1_init_7 (fun a1 e1 H hK hP hD hS => ?_)
  have hP : va_P g vwCl [(h0, .inr (1, [.null, .int 0, .null, .null, .null, .null, .null])), (a1, .inl (e1, 8, .inl (fun _ => 0)))] H := hP
  have hD : va_D A [(h0, .inr (1, [.null, .int 0, .null, .null, .null, .null, .null])), (a1, .inl (e1, 8, .inl (fun _ => 0)))] := hD
  have hK : va_K g vwCl [(e1, .int)] s := hK
  refine va_put (D := g) (ci := 1) (v := .ref a1) (ty := .array .int) (C := RX1) (T := TX1) (N := 7) hx hb hts in_X1 tyX1 tyX1_ok nmX1 hown hK hP hD hS 0 rfl rfl 0 (by decide) (hts _ q155) (fun _ h9 => h9) rfl (by decide +kernel) rfl rfl (Nat.le_of_ble_eq_true rfl) dX1_init_9 (fun H locs hP hD hS => ?_)
  have hP : va_P g vwCl [(h0, .inr (1, [.ref a1, .int 0, .null, .null, .null, .null, .null])), (a1, .inl (e1, 8, .inl (fun _ => 0)))] H := hP
  have hD : va_D A [(h0, .inr (1, [.ref a1, .int 0, .null, .null, .null, .null, .null])), (a1, .inl (e1, 8, .inl (fun _ => 0)))] := hD
  refine lv_aload_n hx hb dX1_init_12 rfl (lv_at hl 0 rfl) ?_
  refine lv_sipush (v := 512) hx hb dX1_init_13 (by decide) ?_
  refine va_newa (atype := .boolean) (a0 := (512, .inl (fun _ => 0))) hx hb (hts _ q177) rfl hK hP hD hS hA (fun cA => rfl) (by decide) rfl (by decide) (Nat.le_of_ble_eq_true rfl) (Nat.le_of_ble_eq_true rfl) dX1_init_16 (fun a2 e2 H hK hP hD hS => ?_)
  have hP : va_P g vwCl [(h0, .inr (1, [.ref a1, .int 0, .null, .null, .null, .null, .null])), (a1, .inl (e1, 8, .inl (fun _ => 0))), (a2, .inl (e2, 512, .inl (fun _ => 0)))] H := hP
  have hD : va_D A [(h0, .inr (1, [.ref a1, .int 0, .null, .null, .null, .null, .null])), (a1, .inl (e1, 8, .inl (fun _ => 0))), (a2, .inl (e2, 512, .inl (fun _ => 0)))] := hD
  have hK : va_K g vwCl [(e1, .int), (e2, .boolean)] s := hK
  refine va_put (D := g) (ci := 1) (v := .ref a2) (ty := .array .boolean) (C := RX1) (T := TX1) (N := 7) hx hb hts in_X1 tyX1 tyX1_ok nmX1 hown hK hP hD hS 0 rfl rfl 2 (by decide) (hts _ q157) (fun _ h9 => h9) rfl (by decide +kernel) rfl rfl (Nat.le_of_ble_eq_true rfl) dX1_init_18 (fun H locs hP hD hS => ?_)
  have hP : va_P g vwCl [(h0, .inr (1, [.ref a1, .int 0, .ref a2, .null, .null, .null, .null])), (a1, .inl (e1, 8, .inl (fun _ => 0))), (a2, .inl (e2, 512, .inl (fun _ => 0)))] H := hP
  have hD : va_D A [(h0, .inr (1, [.ref a1, .int 0, .ref a2, .null, .null, .null, .null])), (a1, .inl (e1, 8, .inl (fun _ => 0))), (a2, .inl (e2, 512, .inl (fun _ => 0)))] := hD
  refine lv_aload_n hx hb dX1_init_21 rfl (lv_at hl 0 rfl) ?_
  refine lv_sipush (v := 512) hx hb dX1_init_22 (by decide) ?_
  refine va_newa (atype := .int) (a0 := (512, .inl (fun _ => 0))) hx hb (hts _ q44) rfl hK hP hD hS hA (fun cA => rfl) (by decide) rfl (by decide) (Nat.le_of_ble_eq_true rfl) (Nat.le_of_ble_eq_true rfl) dX1_init_25 (fun a3 e3 H hK hP hD hS => ?_)
  have hP : va_P g vwCl [(h0, .inr (1, [.ref a1, .int 0, .ref a2, .null, .null, .null, .null])), (a1, .inl (e1, 8, .inl (fun _ => 0))), (a2, .inl (e2, 512, .inl (fun _ => 0))), (a3, .inl (e3, 512, .inl (fun _ => 0)))] H := hP
  have hD : va_D A [(h0, .inr (1, [.ref a1, .int 0, .ref a2, .null, .null, .null, .null])), (a1, .inl (e1, 8, .inl (fun _ => 0))), (a2, .inl (e2, 512, .inl (fun _ => 0))), (a3, .inl (e3, 512, .inl (fun _ => 0)))] := hD
  have hK : va_K g vwCl [(e1, .int), (e2, .boolean), (e3, .int)] s := hK
  refine va_put (D := g) (ci := 1) (v := .ref a3) (ty := .array .int) (C := RX1) (T := TX1) (N := 7) hx hb hts in_X1 tyX1 tyX1_ok nmX1 hown hK hP hD hS 0 rfl rfl 3 (by decide) (hts _ q158) (fun _ h9 => h9) rfl (by decide +kernel) rfl rfl (Nat.le_of_ble_eq_true rfl) dX1_init_27 (fun H locs hP hD hS => ?_)
  have hP : va_P g vwCl [(h0, .inr (1, [.ref a1, .int 0, .ref a2, .ref a3, .null, .null, .null])), (a1, .inl (e1, 8, .inl (fun _ => 0))), (a2, .inl (e2, 512, .inl (fun _ => 0))), (a3, .inl (e3, 512, .inl (fun _ => 0)))] H := hP
  have hD : va_D A [(h0, .inr (1, [.ref a1, .int 0, .ref a2, .ref a3, .null, .null, .null])), (a1, .inl (e1, 8, .inl (fun _ => 0))), (a2, .inl (e2, 512, .inl (fun _ => 0))), (a3, .inl (e3, 512, .inl (fun _ => 0)))] := hD
  refine lv_aload_n hx hb dX1_init_30 rfl (lv_at hl 0 rfl) ?_
  refine lv_sipush (v := 512) hx hb dX1_init_31 (by decide) ?_
  refine va_newa (atype := .int) (a0 := (512, .inl (fun _ => 0))) hx hb (hts _ q44) rfl hK hP hD hS hA (fun cA => rfl) (by decide) rfl (by decide) (Nat.le_of_ble_eq_true rfl) (Nat.le_of_ble_eq_true rfl) dX1_init_34 (fun a4 e4 H hK hP hD hS => ?_)
  have hP : va_P g vwCl [(h0, .inr (1, [.ref a1, .int 0, .ref a2, .ref a3, .null, .null, .null])), (a1, .inl (e1, 8, .inl (fun _ => 0))), (a2, .inl (e2, 512, .inl (fun _ => 0))), (a3, .inl (e3, 512, .inl (fun _ => 0))), (a4, .inl (e4, 512, .inl (fun _ => 0)))] H := hP
  have hD : va_D A [(h0, .inr (1, [.ref a1, .int 0, .ref a2, .ref a3, .null, .null, .null])), (a1, .inl (e1, 8, .inl (fun _ => 0))), (a2, .inl (e2, 512, .inl (fun _ => 0))), (a3, .inl (e3, 512, .inl (fun _ => 0))), (a4, .inl (e4, 512, .inl (fun _ => 0)))] := hD
  have hK : va_K g vwCl [(e1, .int), (e2, .boolean), (e3, .int), (e4, .int)] s := hK
  refine va_put (D := g) (ci := 1) (v := .ref a4) (ty := .array .int) (C := RX1) (T := TX1) (N := 7) hx hb hts in_X1 tyX1 tyX1_ok nmX1 hown hK hP hD hS 0 rfl rfl 4 (by decide) (hts _ q159) (fun _ h9 => h9) rfl (by decide +kernel) rfl rfl (Nat.le_of_ble_eq_true rfl) dX1_init_36 (fun H locs hP hD hS => ?_)
  have hP : va_P g vwCl [(h0, .inr (1, [.ref a1, .int 0, .ref a2, .ref a3, .ref a4, .null, .null])), (a1, .inl (e1, 8, .inl (fun _ => 0))), (a2, .inl (e2, 512, .inl (fun _ => 0))), (a3, .inl (e3, 512, .inl (fun _ => 0))), (a4, .inl (e4, 512, .inl (fun _ => 0)))] H := hP
  have hD : va_D A [(h0, .inr (1, [.ref a1, .int 0, .ref a2, .ref a3, .ref a4, .null, .null])), (a1, .inl (e1, 8, .inl (fun _ => 0))), (a2, .inl (e2, 512, .inl (fun _ => 0))), (a3, .inl (e3, 512, .inl (fun _ => 0))), (a4, .inl (e4, 512, .inl (fun _ => 0)))] := hD
  refine lv_aload_n hx hb dX1_init_39 rfl (lv_at hl 0 rfl) ?_
  refine lv_sipush (v := 512) hx hb dX1_init_40 (by decide) ?_
  refine va_newa (atype := .int) (a0 := (512, .inl (fun _ => 0))) hx hb (hts _ q44) rfl hK hP hD hS hA (fun cA => rfl) (by decide) rfl (by decide) (Nat.le_of_ble_eq_true rfl) (Nat.le_of_ble_eq_true rfl) dX1_init_43 (fun a5 e5 H hK hP hD hS => ?_)
  have hP : va_P g vwCl [(h0, .inr (1, [.ref a1, .int 0, .ref a2, .ref a3, .ref a4, .null, .null])), (a1, .inl (e1, 8, .inl (fun _ => 0))), (a2, .inl (e2, 512, .inl (fun _ => 0))), (a3, .inl (e3, 512, .inl (fun _ => 0))), (a4, .inl (e4, 512, .inl (fun _ => 0))), (a5, .inl (e5, 512, .inl (fun _ => 0)))] H := hP
  have hD : va_D A [(h0, .inr (1, [.ref a1, .int 0, .ref a2, .ref a3, .ref a4, .null, .null])), (a1, .inl (e1, 8, .inl (fun _ => 0))), (a2, .inl (e2, 512, .inl (fun _ => 0))), (a3, .inl (e3, 512, .inl (fun _ => 0))), (a4, .inl (e4, 512, .inl (fun _ => 0))), (a5, .inl (e5, 512, .inl (fun _ => 0)))] := hD
  have hK : va_K g vwCl [(e1, .int), (e2, .boolean), (e3, .int), (e4, .int), (e5, .int)] s := hK
  refine va_put (D := g) (ci := 1) (v := .ref a5) (ty := .array .int) (C := RX1) (T := TX1) (N := 7) hx hb hts in_X1 tyX1 tyX1_ok nmX1 hown hK hP hD hS 0 rfl rfl 5 (by decide) (hts _ q160) (fun _ h9 => h9) rfl (by decide +kernel) rfl rfl (Nat.le_of_ble_eq_true rfl) dX1_init_45 (fun H locs hP hD hS => ?_)
  have hP : va_P g vwCl [(h0, .inr (1, [.ref a1, .int 0, .ref a2, .ref a3, .ref a4, .ref a5, .null])), (a1, .inl (e1, 8, .inl (fun _ => 0))), (a2, .inl (e2, 512, .inl (fun _ => 0))), (a3, .inl (e3, 512, .inl (fun _ => 0))), (a4, .inl (e4, 512, .inl (fun _ => 0))), (a5, .inl (e5, 512, .inl (fun _ => 0)))] H := hP
  have hD : va_D A [(h0, .inr (1, [.ref a1, .int 0, .ref a2, .ref a3, .ref a4, .ref a5, .null])), (a1, .inl (e1, 8, .inl (fun _ => 0))), (a2, .inl (e2, 512, .inl (fun _ => 0))), (a3, .inl (e3, 512, .inl (fun _ => 0))), (a4, .inl (e4, 512, .inl (fun _ => 0))), (a5, .inl (e5, 512, .inl (fun _ => 0)))] := hD
  refine lv_aload_n hx hb dX1_init_48 rfl (lv_at hl 0 rfl) ?_
  refine lv_sipush (v := 512) hx hb dX1_init_49 (by decide) ?_
  refine va_newa (atype := .boolean) (a0 := (512, .inl (fun _ => 0))) hx hb (hts _ q177) rfl hK hP hD hS hA (fun cA => rfl) (by decide) rfl (by decide) (Nat.le_of_ble_eq_true rfl) (Nat.le_of_ble_eq_true rfl) dX1_init_52 (fun a6 e6 H hK hP hD hS => ?_)
  have hP : va_P g vwCl [(h0, .inr (1, [.ref a1, .int 0, .ref a2, .ref a3, .ref a4, .ref a5, .null])), (a1, .inl (e1, 8, .inl (fun _ => 0))), (a2, .inl (e2, 512, .inl (fun _ => 0))), (a3, .inl (e3, 512, .inl (fun _ => 0))), (a4, .inl (e4, 512, .inl (fun _ => 0))), (a5, .inl (e5, 512, .inl (fun _ => 0))), (a6, .inl (e6, 512, .inl (fun _ => 0)))] H := hP
  have hD : va_D A [(h0, .inr (1, [.ref a1, .int 0, .ref a2, .ref a3, .ref a4, .ref a5, .null])), (a1, .inl (e1, 8, .inl (fun _ => 0))), (a2, .inl (e2, 512, .inl (fun _ => 0))), (a3, .inl (e3, 512, .inl (fun _ => 0))), (a4, .inl (e4, 512, .inl (fun _ => 0))), (a5, .inl (e5, 512, .inl (fun _ => 0))), (a6, .inl (e6, 512, .inl (fun _ => 0)))] := hD
  have hK : va_K g vwCl [(e1, .int), (e2, .boolean), (e3, .int), (e4, .int), (e5, .int), (e6, .boolean)] s := hK
  refine va_put (D := g) (ci := 1) (v := .ref a6) (ty := .array .boolean) (C := RX1) (T := TX1) (N := 7) hx hb hts in_X1 tyX1 tyX1_ok nmX1 hown hK hP hD hS 0 rfl rfl 6 (by decide) (hts _ q161) (fun _ h9 => h9) rfl (by decide +kernel) rfl rfl (Nat.le_of_ble_eq_true rfl) dX1_init_54 (fun H locs hP hD hS => ?_)
  have hP : va_P g vwCl [(h0, .inr (1, [.ref a1, .int 0, .ref a2, .ref a3, .ref a4, .ref a5, .ref a6])), (a1, .inl (e1, 8, .inl (fun _ => 0))), (a2, .inl (e2, 512, .inl (fun _ => 0))), (a3, .inl (e3, 512, .inl (fun _ => 0))), (a4, .inl (e4, 512, .inl (fun _ => 0))), (a5, .inl (e5, 512, .inl (fun _ => 0))), (a6, .inl (e6, 512, .inl (fun _ => 0)))] H := hP
  have hD : va_D A [(h0, .inr (1, [.ref a1, .int 0, .ref a2, .ref a3, .ref a4, .ref a5, .ref a6])), (a1, .inl (e1, 8, .inl (fun _ => 0))), (a2, .inl (e2, 512, .inl (fun _ => 0))), (a3, .inl (e3, 512, .inl (fun _ => 0))), (a4, .inl (e4, 512, .inl (fun _ => 0))), (a5, .inl (e5, 512, .inl (fun _ => 0))), (a6, .inl (e6, 512, .inl (fun _ => 0)))] := hD
  refine W.widen (k := 6) (n := 2568) (Nat.le_of_ble_eq_true rfl) (Nat.le_of_ble_eq_true rfl) ?_
  exact W.vret hx hb hrt (fun t ht hW => ⟨⟨((h0, a1, a2, a3, a4, a5, a6), (e1, e2, e3, e4, e5, e6)), rfl, rfl, by rw [ht]; exact hP, va_K.moved hW.alike hK, hD⟩, hS.F ht⟩) hS.2.2 dX1_init_57
end
section
/-! how the two states lie to each other: blocks in use and living records, pointers -/
set_option maxRecDepth 100000
/-- pointer a of KeyHeap beside pointer q of the model: nothing; a living record; a dead one -/
def PR (w : Nat) (L rc : Nat → Nat) (k : Nat) (al : Nat → Int32) (a q : Int32) : Prop :=
  (a = 0 ∧ q = 0) ∨
  (∃ b, b < 6 ∧ w.testBit b = true ∧ a = nI (1 + b + 8 * L b) ∧ q = nI (rc b + 1)) ∨
  (∃ r, r < k ∧ q = nI (r + 1) ∧ al r = 0 ∧ (a = -1 ∨ ∃ b j, b < 6 ∧ j < L b ∧ a = nI (1 + b + 8 * j)))
def RlB (S : XS) (M : MS) (w : Nat) (L rc : Nat → Nat) (k : Nat) (b : Nat) : Prop :=
  rc b < k ∧ ¬ ma M (rc b) = 0 ∧ xn S b = mn M (rc b) ∧ PR w L rc k (ma M) (xk S (b * 2)) (ml M (rc b)) ∧ PR w L rc k (ma M) (xk S (b * 2 + 1)) (mr M (rc b))
def Rl (S : XS) (M : MS) (w : Nat) (L rc : Nat → Nat) (k : Nat) : Prop :=
  (w < 64 ∧ xu S = nI w) ∧ XT S ∧ (∀ b, b < 6 → L b < 4 ∧ xl S b = nI (L b)) ∧ md M = nI k ∧ (∀ r, k ≤ r → ma M r = 0) ∧
  (∀ b, b < 6 → w.testBit b = true → RlB S M w L rc k b) ∧
  (∀ b c, b < 6 → c < 6 → w.testBit b = true → w.testBit c = true → rc b = rc c → b = c) ∧
  (∀ r, ¬ ma M r = 0 → ∃ b, b < 6 ∧ w.testBit b = true ∧ rc b = r) ∧
  (∀ v, v < 8 → PR w L rc k (ma M) (xv S v) (mv M v))
theorem rp_kb : ∀ b, b < 6 → ∀ j, j < 4 → kb (nI (1 + b + 8 * j)) = b := by decide +kernel
theorem rp_ne0 : ∀ b, b < 6 → ∀ j, j < 4 → ¬ nI (1 + b + 8 * j) = 0 ∧ ¬ nI (1 + b + 8 * j) = -1 ∧ 0 < nI (1 + b + 8 * j) ∧ nb (nI (1 + b + 8 * j)) = nI (1 + b + 8 * j) := by decide +kernel
theorem rp_eq : ∀ b, b < 6 → ∀ j, j < 4 → ∀ i, i < 4 → (nI (1 + b + 8 * j) = 1 + nI b + 8 * nI i ↔ j = i) := by decide +kernel
theorem xst_0 (S : XS) : xst S 0 = 0 := by unfold xst; rw [if_pos rfl]
theorem xst_m1 (S : XS) : xst S (-1) = 2 := by unfold xst; rw [if_neg (by decide), if_pos rfl]
theorem mkd_0 (M : MS) : mkd M 0 = 0 := by unfold mkd; rw [if_pos (by decide)]
section RL
variable {S : XS} {M : MS} {w k : Nat} {L rc : Nat → Nat}
theorem Rl.xu (R : Rl S M w L rc k) : XU S := ⟨w, R.1.1, R.1.2⟩
/-- what a pair of pointers can be -/
theorem pr_cases (R : Rl S M w L rc k) (hk : k < 512) {a q : Int32} (h : PR w L rc k (ma M) a q) :
    (a = 0 ∧ q = 0 ∧ xst S a = 0 ∧ mkd M q = 0) ∨
    (∃ b, b < 6 ∧ w.testBit b = true ∧ a = nI (1 + b + 8 * L b) ∧ q = nI (rc b + 1) ∧ kb a = b ∧ xst S a = 1 ∧ mkd M q = 1) ∨
    (∃ r, r < k ∧ q = nI (r + 1) ∧ ma M r = 0 ∧ xst S a = 2 ∧ mkd M q = 2) := by
  obtain ⟨⟨hw, hu⟩, hT, hL, hmd, hov, hB, hinj, hsur, hV⟩ := R
  rcases h with ⟨rfl, rfl⟩ | ⟨b, hb, hbit, rfl, rfl⟩ | ⟨r, hr, rfl, hdead, hp⟩
  · exact Or.inl ⟨rfl, rfl, xst_0 S, mkd_0 M⟩
  · refine Or.inr (Or.inl ⟨b, hb, hbit, rfl, rfl, rp_kb b hb _ (hL b hb).1, ?_, ?_⟩)
    · have h1 := rp_ne0 b hb _ (hL b hb).1
      unfold xst
      rw [if_neg h1.1, if_neg h1.2.1, rp_kb b hb _ (hL b hb).1, hu, if_neg (by rw [bi_nat w hw b (by omega), hbit]; decide), (hL b hb).2, if_pos ((rp_eq b hb _ (hL b hb).1 _ (hL b hb).1).mpr rfl)]
    · rw [mkd_pos M (by have := (hB b hb hbit).1; omega), if_neg (hB b hb hbit).2.1]
  · refine Or.inr (Or.inr ⟨r, hr, rfl, hdead, ?_, by rw [mkd_pos M (by omega), if_pos hdead]⟩)
    rcases hp with rfl | ⟨b, j, hb, hj, rfl⟩
    · exact xst_m1 S
    · have hj4 : j < 4 := Nat.lt_trans hj (hL b hb).1
      have h1 := rp_ne0 b hb _ hj4
      unfold xst
      rw [if_neg h1.1, if_neg h1.2.1, rp_kb b hb _ hj4, (hL b hb).2, if_neg (fun e => absurd ((rp_eq b hb _ hj4 _ (hL b hb).1).mp e) (Nat.ne_of_lt hj))]
      split <;> rfl
theorem pr_st (R : Rl S M w L rc k) (hk : k < 512) {a q : Int32} (h : PR w L rc k (ma M) a q) : xst S a = mkd M q := by
  rcases pr_cases R hk h with ⟨_, _, h1, h2⟩ | ⟨b, _, _, _, _, _, h1, h2⟩ | ⟨r, _, _, _, h1, h2⟩
  · rw [h1, h2]
  · rw [h1, h2]
  · rw [h1, h2]
/-- a living pair -/
theorem pr_live (R : Rl S M w L rc k) (hk : k < 512) {a q : Int32} (h : PR w L rc k (ma M) a q) (h1 : xst S a = 1) : kb a < 6 ∧ w.testBit (kb a) = true ∧ a = nI (1 + kb a + 8 * L (kb a)) ∧ q = nI (rc (kb a) + 1) := by
  rcases pr_cases R hk h with ⟨_, _, h2, _⟩ | ⟨b, hb, hbit, ha, hq, hkb, _, _⟩ | ⟨r, _, _, _, h2, _⟩
  · rw [h2] at h1; exact absurd h1 (by decide)
  · subst hkb; exact ⟨hb, hbit, ha, hq⟩
  · rw [h2] at h1; exact absurd h1 (by decide)
theorem pr_q (R : Rl S M w L rc k) (hk : k < 512) {a q : Int32} {r : Nat} (hr : r < 512) (h : PR w L rc k (ma M) a q) (h1 : Pt_ M q r) : xst S a = 1 ∧ kb a < 6 ∧ w.testBit (kb a) = true ∧ rc (kb a) = r := by
  have hs : xst S a = 1 := (pr_st R hk h).trans h1.1
  obtain ⟨h2, h3, h4, h5⟩ := pr_live R hk h hs
  exact ⟨hs, h2, h3, nI_inj1 (by have := (R.2.2.2.2.2.1 _ h2 h3).1; omega) hr (h5.symm.trans h1.2)⟩
theorem pr_nb (R : Rl S M w L rc k) {a q : Int32} (h : PR w L rc k (ma M) a q) : nb a = a := by
  rcases h with ⟨rfl, rfl⟩ | ⟨b, hb, hbit, rfl, rfl⟩ | ⟨r, hr, rfl, hdead, hp⟩
  · decide
  · exact (rp_ne0 b hb _ (R.2.2.1 b hb).1).2.2.2
  · rcases hp with rfl | ⟨b, j, hb, hj, rfl⟩
    · decide
    · exact (rp_ne0 b hb _ (Nat.lt_trans hj (R.2.2.1 b hb).1)).2.2.2
/-- the same record or nothing, if not dead -/
theorem pr_same (R : Rl S M w L rc k) (hk : k < 512) {a q a' q' : Int32} (h : PR w L rc k (ma M) a q) (h' : PR w L rc k (ma M) a' q') (hd : ¬ xst S a = 2) : a = a' ↔ q = q' := by
  rcases pr_cases R hk h with ⟨rfl, rfl, h1, h2⟩ | ⟨b, hb, hbit, ha, hq, hkb, h1, h2⟩ | ⟨r, _, _, _, h1, h2⟩
  · rcases pr_cases R hk h' with ⟨rfl, rfl, g1, g2⟩ | ⟨c, hc, hcbit, ha', hq', hkb', g1, g2⟩ | ⟨r', hr', hq', _, g1, g2⟩
    · exact ⟨fun _ => rfl, fun _ => rfl⟩
    · refine ⟨fun e => ?_, fun e => ?_⟩
      · rw [← e, h1] at g1; exact absurd g1 (by decide)
      · rw [← e, h2] at g2; exact absurd g2 (by decide)
    · refine ⟨fun e => ?_, fun e => ?_⟩
      · rw [← e, h1] at g1; exact absurd g1 (by decide)
      · rw [← e, h2] at g2; exact absurd g2 (by decide)
  · have hrb := (R.2.2.2.2.2.1 b hb hbit).1
    rcases pr_cases R hk h' with ⟨rfl, rfl, g1, g2⟩ | ⟨c, hc, hcbit, ha', hq', hkb', g1, g2⟩ | ⟨r', hr', hq', _, g1, g2⟩
    · refine ⟨fun e => ?_, fun e => ?_⟩
      · rw [e, g1] at h1; exact absurd h1 (by decide)
      · rw [e, g2] at h2; exact absurd h2 (by decide)
    · have hrc := (R.2.2.2.2.2.1 c hc hcbit).1
      refine ⟨fun e => ?_, fun e => ?_⟩
      · have : b = c := by rw [← hkb, ← hkb', e]
        rw [hq, hq', this]
      · have : rc b = rc c := nI_inj1 (by omega) (by omega) (by rw [← hq, ← hq', e])
        have := R.2.2.2.2.2.2.1 b c hb hc hbit hcbit this
        rw [ha, ha', this]
    · refine ⟨fun e => ?_, fun e => ?_⟩
      · rw [e, g1] at h1; exact absurd h1 (by decide)
      · rw [e, g2] at h2; exact absurd h2 (by decide)
  · exact absurd h1 hd
-- a variable, a number, a link is set
theorem rl_var (R : Rl S M w L rc k) {a q : Int32} (h : PR w L rc k (ma M) a q) (j : Nat) : Rl (sv_ S (upd (xv S) j a)) (tv_ M (upd (mv M) j q)) w L rc k := by
  obtain ⟨h1, h2, h3, h4, h5, h6, h7, h8, h9⟩ := R
  refine ⟨h1, h2, h3, h4, h5, h6, h7, h8, fun v hv => ?_⟩
  show PR w L rc k (ma M) (upd (xv S) j a v) (upd (mv M) j q v)
  unfold upd
  by_cases e : v = j
  · rw [if_pos e, if_pos e]; exact h
  · rw [if_neg e, if_neg e]; exact h9 v hv
theorem rl_num (R : Rl S M w L rc k) {b : Nat} (hb : b < 6) (hbit : w.testBit b = true) (n : Int32) : Rl (sn_ S (upd (xn S) b n)) (tn_ M (upd (mn M) (rc b) n)) w L rc k := by
  obtain ⟨h1, h2, h3, h4, h5, h6, h7, h8, h9⟩ := R
  refine ⟨h1, h2, h3, h4, h5, fun c hc hcb => ?_, h7, h8, h9⟩
  obtain ⟨g1, g2, g3, g4⟩ := h6 c hc hcb
  refine ⟨g1, g2, ?_, g4⟩
  show upd (xn S) b n c = upd (mn M) (rc b) n (rc c)
  unfold upd
  by_cases e : c = b
  · rw [if_pos e, if_pos (by rw [e])]
  · rw [if_neg e, if_neg (fun z => e (h7 c b hc hb hcb hbit z))]; exact g3
theorem rl_lnk (R : Rl S M w L rc k) {b e : Nat} (hb : b < 6) (he : e < 2) (hbit : w.testBit b = true) {a q : Int32} (h : PR w L rc k (ma M) a q) : Rl (sk_ S (upd (xk S) (b * 2 + e) a)) (if e = 0 then tl_ M (upd (ml M) (rc b) q) else tr_ M (upd (mr M) (rc b) q)) w L rc k := by
  obtain ⟨h1, h2, h3, h4, h5, h6, h7, h8, h9⟩ := R
  rcases (show e = 0 ∨ e = 1 by omega) with rfl | rfl
  · rw [if_pos rfl]
    refine ⟨h1, h2, h3, h4, h5, fun c hc hcb => ?_, h7, h8, h9⟩
    obtain ⟨g1, g2, g3, g4, g5⟩ := h6 c hc hcb
    refine ⟨g1, g2, g3, ?_, ?_⟩
    · show PR w L rc k (ma M) (upd (xk S) (b * 2 + 0) a (c * 2)) (upd (ml M) (rc b) q (rc c))
      unfold upd
      by_cases z : c = b
      · rw [if_pos (by omega), if_pos (by rw [z])]; exact h
      · rw [if_neg (by omega), if_neg (fun y => z (h7 c b hc hb hcb hbit y))]; exact g4
    · show PR w L rc k (ma M) (upd (xk S) (b * 2 + 0) a (c * 2 + 1)) (mr M (rc c))
      unfold upd
      rw [if_neg (by omega)]; exact g5
  · rw [if_neg (by decide)]
    refine ⟨h1, h2, h3, h4, h5, fun c hc hcb => ?_, h7, h8, h9⟩
    obtain ⟨g1, g2, g3, g4, g5⟩ := h6 c hc hcb
    refine ⟨g1, g2, g3, ?_, ?_⟩
    · show PR w L rc k (ma M) (upd (xk S) (b * 2 + 1) a (c * 2)) (ml M (rc c))
      unfold upd
      rw [if_neg (by omega)]; exact g4
    · show PR w L rc k (ma M) (upd (xk S) (b * 2 + 1) a (c * 2 + 1)) (upd (mr M) (rc b) q (rc c))
      unfold upd
      by_cases z : c = b
      · rw [if_pos (by omega), if_pos (by rw [z])]; exact h
      · rw [if_neg (by omega), if_neg (fun y => z (h7 c b hc hb hcb hbit y))]; exact g5
/-- the link e of a block in use, beside its record's -/
theorem rl_lk (R : Rl S M w L rc k) {b e : Nat} (hb : b < 6) (he : e < 2) (hbit : w.testBit b = true) : PR w L rc k (ma M) (xk S (b * 2 + e)) (if e = 0 then ml M (rc b) else mr M (rc b)) := by
  obtain ⟨g1, g2, g3, g4, g5⟩ := R.2.2.2.2.2.1 b hb hbit
  rcases (show e = 0 ∨ e = 1 by omega) with rfl | rfl
  · rw [if_pos rfl]; exact g4
  · rw [if_neg (by decide)]; exact g5
-- a record is made
theorem pr_make {al : Nat → Int32} {a q : Int32} {b : Nat} (hw : w < 64) (hb : b < 6) (hbit : w.testBit b = false) (h : PR w L rc k al a q) (z : Int32) : PR (w ||| 2 ^ b) L (fun c => if c = b then k else rc c) (k + 1) (upd al k z) a q := by
  rcases h with h | ⟨c, hc, hcb, h1, h2⟩ | ⟨r, hr, h1, h2, h3⟩
  · exact Or.inl h
  · have hne : ¬ c = b := fun e => by rw [e, hbit] at hcb; cases hcb
    refine Or.inr (Or.inl ⟨c, hc, ?_, h1, ?_⟩)
    · rw [or_bit w hw b hb c hc, hcb]; rfl
    · show q = nI ((if c = b then k else rc c) + 1)
      rw [if_neg hne]; exact h2
  · refine Or.inr (Or.inr ⟨r, by omega, h1, ?_, h3⟩)
    unfold upd
    rw [if_neg (by omega)]; exact h2
theorem rl_make (R : Rl S M w L rc k) {b j : Nat} (hb : b < 6) (hj : j < 8) (hbit : w.testBit b = false) (n : Int32) : Rl (mkF S j b n) (mmF M k j n) (w ||| 2 ^ b) L (fun c => if c = b then k else rc c) (k + 1) := by
  obtain ⟨⟨hw, hu⟩, hT, hL, hmd, hov, hB, hinj, hsur, hV⟩ := R
  have hz : vp_nar .boolean 1 = 1 := by decide
  have hnw : (w ||| 2 ^ b).testBit b = true := by rw [or_bit w hw b hb b hb, hbit]; simp
  have hrc : ∀ c, ¬ c = b → (fun c => if c = b then k else rc c) c = rc c := fun c h => if_neg h
  have hrb : (fun c => if c = b then k else rc c) b = k := if_pos rfl
  have hold : ∀ c, c < 6 → ¬ c = b → (w ||| 2 ^ b).testBit c = true → w.testBit c = true := by
    intro c hc hne h
    rw [or_bit w hw b hb c hc, Bool.or_eq_true] at h
    exact h.elim id (fun z => absurd (of_decide_eq_true z) hne)
  have hp0 : PR (w ||| 2 ^ b) L (fun c => if c = b then k else rc c) (k + 1) (upd (ma M) k (vp_nar .boolean 1)) (nb 0) 0 := Or.inl ⟨by decide, rfl⟩
  refine ⟨⟨(or_nat w hw b hb).2, ?_⟩, ⟨(b + 1) % 6, by omega, rfl⟩, hL, rfl, fun r hr => ?_, fun c hc hcb => ?_, fun c c' hc hc' hcb hcb' he => ?_, fun r hr => ?_, fun v hv => ?_⟩
  · show xu S ||| ((1 : Int32) <<< (nI b &&& 31)) = _
    rw [hu]; exact (or_nat w hw b hb).1
  · show upd (ma M) k (vp_nar .boolean 1) r = 0
    unfold upd
    rw [if_neg (by omega)]; exact hov r (by omega)
  · by_cases e : c = b
    · subst e
      refine ⟨by rw [hrb]; omega, ?_, ?_, ?_, ?_⟩
      · show ¬ upd (ma M) k (vp_nar .boolean 1) ((fun c' => if c' = c then k else rc c') c) = 0
        rw [hrb]; unfold upd; rw [if_pos rfl]; decide
      · show upd (xn S) c n c = upd (mn M) k n ((fun c' => if c' = c then k else rc c') c)
        rw [hrb]; unfold upd; rw [if_pos rfl, if_pos rfl]
      · show PR _ _ _ _ (upd (ma M) k (vp_nar .boolean 1)) (upd (upd (xk S) (c * 2) (nb 0)) (c * 2 + 1) (nb 0) (c * 2)) (upd (ml M) k 0 ((fun c' => if c' = c then k else rc c') c))
        rw [hrb]; unfold upd; rw [if_neg (by omega), if_pos rfl, if_pos rfl]; exact hp0
      · show PR _ _ _ _ (upd (ma M) k (vp_nar .boolean 1)) (upd (upd (xk S) (c * 2) (nb 0)) (c * 2 + 1) (nb 0) (c * 2 + 1)) (upd (mr M) k 0 ((fun c' => if c' = c then k else rc c') c))
        rw [hrb]; unfold upd; rw [if_pos rfl, if_pos rfl]; exact hp0
    · have ho := hold c hc e hcb
      obtain ⟨g1, g2, g3, g4, g5⟩ := hB c hc ho
      have hne : ¬ rc c = k := by omega
      refine ⟨by rw [hrc c e]; omega, ?_, ?_, ?_, ?_⟩
      · show ¬ upd (ma M) k (vp_nar .boolean 1) ((fun c' => if c' = b then k else rc c') c) = 0
        rw [hrc c e]; unfold upd; rw [if_neg hne]; exact g2
      · show upd (xn S) b n c = upd (mn M) k n ((fun c' => if c' = b then k else rc c') c)
        rw [hrc c e]; unfold upd; rw [if_neg e, if_neg hne]; exact g3
      · show PR _ _ _ _ (upd (ma M) k (vp_nar .boolean 1)) (upd (upd (xk S) (b * 2) (nb 0)) (b * 2 + 1) (nb 0) (c * 2)) (upd (ml M) k 0 ((fun c' => if c' = b then k else rc c') c))
        rw [hrc c e]
        have e1 : upd (upd (xk S) (b * 2) (nb 0)) (b * 2 + 1) (nb 0) (c * 2) = xk S (c * 2) := by unfold upd; rw [if_neg (by omega), if_neg (by omega)]
        have e2 : upd (ml M) k 0 (rc c) = ml M (rc c) := by unfold upd; rw [if_neg hne]
        rw [e1, e2]
        exact pr_make hw hb hbit g4 _
      · show PR _ _ _ _ (upd (ma M) k (vp_nar .boolean 1)) (upd (upd (xk S) (b * 2) (nb 0)) (b * 2 + 1) (nb 0) (c * 2 + 1)) (upd (mr M) k 0 ((fun c' => if c' = b then k else rc c') c))
        rw [hrc c e]
        have e1 : upd (upd (xk S) (b * 2) (nb 0)) (b * 2 + 1) (nb 0) (c * 2 + 1) = xk S (c * 2 + 1) := by unfold upd; rw [if_neg (by omega), if_neg (by omega)]
        have e2 : upd (mr M) k 0 (rc c) = mr M (rc c) := by unfold upd; rw [if_neg hne]
        rw [e1, e2]
        exact pr_make hw hb hbit g5 _
  · by_cases e : c = b
    · by_cases e' : c' = b
      · rw [e, e']
      · rw [hrc c' e', e, hrb] at he
        have := (hB c' hc' (hold c' hc' e' hcb')).1
        omega
    · by_cases e' : c' = b
      · rw [hrc c e, e', hrb] at he
        have := (hB c hc (hold c hc e hcb)).1
        omega
      · rw [hrc c e, hrc c' e'] at he
        exact hinj c c' hc hc' (hold c hc e hcb) (hold c' hc' e' hcb') he
  · by_cases e : r = k
    · subst e; exact ⟨b, hb, hnw, hrb⟩
    · have hr2 : ¬ ma M r = 0 := by
        have hr' : ¬ upd (ma M) k (vp_nar .boolean 1) r = 0 := hr
        unfold upd at hr'
        rw [if_neg e] at hr'
        exact hr'
      obtain ⟨c, hc, hcb, hcr⟩ := hsur r hr2
      have hne : ¬ c = b := fun z => by rw [z, hbit] at hcb; cases hcb
      exact ⟨c, hc, by rw [or_bit w hw b hb c hc, hcb]; rfl, by rw [hrc c hne]; exact hcr⟩
  · show PR _ _ _ _ (upd (ma M) k (vp_nar .boolean 1)) (upd (xv S) j (nb (nb (1 + nI b + 8 * xl S b))) v) (upd (mv M) j (nI (k + 1)) v)
    by_cases e : v = j
    · subst e
      have e1 : upd (xv S) v (nb (nb (1 + nI b + 8 * xl S b))) v = nI (1 + b + 8 * L b) := by
        unfold upd
        rw [if_pos rfl, (hL b hb).2, ← (rp_eq b hb _ (hL b hb).1 _ (hL b hb).1).mpr rfl, (rp_ne0 b hb _ (hL b hb).1).2.2.2, (rp_ne0 b hb _ (hL b hb).1).2.2.2]
      have e2 : upd (mv M) v (nI (k + 1)) v = nI (k + 1) := by unfold upd; rw [if_pos rfl]
      rw [e1, e2]
      exact Or.inr (Or.inl ⟨b, hb, hnw, rfl, by show _ = nI ((if b = b then k else rc b) + 1); rw [if_pos rfl]⟩)
    · have e1 : upd (xv S) j (nb (nb (1 + nI b + 8 * xl S b))) v = xv S v := by unfold upd; rw [if_neg e]
      have e2 : upd (mv M) j (nI (k + 1)) v = mv M v := by unfold upd; rw [if_neg e]
      rw [e1, e2]
      exact pr_make hw hb hbit (hV v hv) _
end RL
end
section
/-! a block is released; a sweep; sums over blocks and over records; what can be come to -/
set_option maxRecDepth 100000
section RL2
variable {S : XS} {M : MS} {w k : Nat} {L rc : Nat → Nat}
theorem upd_z {f : Nat → Int32} {c r : Nat} (h : f r = 0) : upd f c 0 r = 0 := by
  unfold upd
  split
  · rfl
  · exact h
theorem upd_s {f : Nat → Int32} {c : Nat} {z : Int32} : upd f c z c = z := by unfold upd; rw [if_pos rfl]
theorem upd_n {f : Nat → Int32} {c r : Nat} {z : Int32} (h : ¬ r = c) : upd f c z r = f r := by unfold upd; rw [if_neg h]
theorem cl_keep {b c : Nat} (hw : w < 64) (hb : b < 6) (hc : c < 6) (hne : ¬ c = b) (h : w.testBit c = true) : (w &&& (63 - 2 ^ b)).testBit c = true := by
  rw [cl_bit w hw b hb c hc, h, decide_eq_false hne]; rfl
theorem cl_was {b c : Nat} (hw : w < 64) (hb : b < 6) (hc : c < 6) (h : (w &&& (63 - 2 ^ b)).testBit c = true) : w.testBit c = true ∧ ¬ c = b := by
  rw [cl_bit w hw b hb c hc, Bool.and_eq_true] at h
  refine ⟨h.1, fun e => ?_⟩
  rw [decide_eq_true e] at h
  exact absurd h.2 (by decide)
theorem pr_relA {al : Nat → Int32} {a q : Int32} {b : Nat} (hw : w < 64) (hb : b < 6) (hrb : rc b < k) (h : PR w L rc k al a q) : PR (w &&& (63 - 2 ^ b)) (fun c => if c = b then L b + 1 else L c) rc k (upd al (rc b) 0) a q := by
  rcases h with h | ⟨c, hc, hcb, h1, h2⟩ | ⟨r, hr, h1, h2, h3⟩
  · exact Or.inl h
  · by_cases e : c = b
    · subst e
      exact Or.inr (Or.inr ⟨rc c, hrb, h2, upd_s, Or.inr ⟨c, L c, hc, by show L c < if c = c then L c + 1 else L c; rw [if_pos rfl]; omega, h1⟩⟩)
    · exact Or.inr (Or.inl ⟨c, hc, cl_keep hw hb hc e hcb, by show a = nI (1 + c + 8 * (if c = b then L b + 1 else L c)); rw [if_neg e]; exact h1, h2⟩)
  · refine Or.inr (Or.inr ⟨r, hr, h1, upd_z h2, ?_⟩)
    rcases h3 with h3 | ⟨c, j, hc, hj, ha⟩
    · exact Or.inl h3
    · refine Or.inr ⟨c, j, hc, ?_, ha⟩
      show j < if c = b then L b + 1 else L c
      by_cases e : c = b
      · subst e; rw [if_pos rfl]; omega
      · rw [if_neg e]; exact hj
theorem pr_relB {al : Nat → Int32} {a q : Int32} {b : Nat} (hw : w < 64) (hb : b < 6) (hL : ∀ c, c < 6 → L c < 4) (hrb : rc b < k) (h : PR w L rc k al a q) : PR (w &&& (63 - 2 ^ b)) (fun c => if c = b then 0 else L c) rc k (upd al (rc b) 0) (if 0 < a ∧ kb a = b then -1 else a) q := by
  rcases h with ⟨h1, h2⟩ | ⟨c, hc, hcb, h1, h2⟩ | ⟨r, hr, h1, h2, h3⟩
  · subst h1
    rw [if_neg (fun z => absurd z.1 (by decide))]
    exact Or.inl ⟨rfl, h2⟩
  · have hkb : kb a = c := by rw [h1]; exact rp_kb c hc _ (hL c hc)
    have hpos : 0 < a := by rw [h1]; exact (rp_ne0 c hc _ (hL c hc)).2.2.1
    by_cases e : c = b
    · subst e
      rw [if_pos ⟨hpos, hkb⟩]
      exact Or.inr (Or.inr ⟨rc c, hrb, h2, upd_s, Or.inl rfl⟩)
    · rw [if_neg (fun z => e (hkb.symm.trans z.2))]
      exact Or.inr (Or.inl ⟨c, hc, cl_keep hw hb hc e hcb, by show a = nI (1 + c + 8 * (if c = b then 0 else L c)); rw [if_neg e]; exact h1, h2⟩)
  · refine Or.inr (Or.inr ⟨r, hr, h1, upd_z h2, ?_⟩)
    rcases h3 with h3 | ⟨c, j, hc, hj, ha⟩
    · subst h3
      rw [if_neg (fun z => absurd z.1 (by decide))]
      exact Or.inl rfl
    · have hj4 : j < 4 := Nat.lt_trans hj (hL c hc)
      have hkb : kb a = c := by rw [ha]; exact rp_kb c hc _ hj4
      have hpos : 0 < a := by rw [ha]; exact (rp_ne0 c hc _ hj4).2.2.1
      by_cases e : c = b
      · subst e
        rw [if_pos ⟨hpos, hkb⟩]
        exact Or.inl rfl
      · rw [if_neg (fun z => e (hkb.symm.trans z.2))]
        exact Or.inr ⟨c, j, hc, by show j < if c = b then 0 else L c; rw [if_neg e]; exact hj, ha⟩
theorem rt_in {f : Nat → Int32} {b n j : Nat} (h : j < n) : rt f b n j = if 0 < f j ∧ kb (f j) = b then -1 else f j := by
  unfold rt
  by_cases hc : 0 < f j ∧ kb (f j) = b
  · rw [if_pos ⟨h, hc⟩, if_pos hc]
  · rw [if_neg (fun z => hc z.2), if_neg hc]
theorem lk3 : ∀ j, j < 4 → (3 ≤ nI j ↔ j = 3) := by decide +kernel
theorem lk_inc : ∀ j, j < 3 → nb (nb (nI j + 1)) = nI (j + 1) := by decide +kernel
theorem rl_rel (R : Rl S M w L rc k) {b : Nat} (hb : b < 6) (hbit : w.testBit b = true) : ∃ L', Rl (relF S b) (ta_ M (upd (ma M) (rc b) 0)) (w &&& (63 - 2 ^ b)) L' rc k := by
  obtain ⟨⟨hw, hu⟩, hT, hL, hmd, hov, hB, hinj, hsur, hV⟩ := R
  have hrb := (hB b hb hbit).1
  have hcu : cu (xu S) b = nI (w &&& (63 - 2 ^ b)) := by unfold cu; rw [hu]; exact (cl_nat w hw b hb).1
  have hov' : ∀ r, k ≤ r → upd (ma M) (rc b) 0 r = 0 := fun r hr => upd_z (hov r hr)
  have hinj' : ∀ c d, c < 6 → d < 6 → (w &&& (63 - 2 ^ b)).testBit c = true → (w &&& (63 - 2 ^ b)).testBit d = true → rc c = rc d → c = d := fun c d hc hd h1 h2 he => hinj c d hc hd (cl_was hw hb hc h1).1 (cl_was hw hb hd h2).1 he
  have hsur' : ∀ r, ¬ upd (ma M) (rc b) 0 r = 0 → ∃ c, c < 6 ∧ (w &&& (63 - 2 ^ b)).testBit c = true ∧ rc c = r := by
    intro r hr
    have hne : ¬ r = rc b := fun e => hr (by rw [e]; exact upd_s)
    rw [upd_n hne] at hr
    obtain ⟨c, hc, hcb, hcr⟩ := hsur r hr
    exact ⟨c, hc, cl_keep hw hb hc (fun e => hne (by rw [← hcr, e])) hcb, hcr⟩
  have hal : ∀ c, c < 6 → w.testBit c = true → ¬ c = b → ¬ upd (ma M) (rc b) 0 (rc c) = 0 := by
    intro c hc hcb hne
    rw [upd_n (fun e => hne (hinj c b hc hb hcb hbit e))]
    exact (hB c hc hcb).2.1
  by_cases h3 : L b = 3
  · refine ⟨fun c => if c = b then 0 else L c, ?_⟩
    have hF : relF S b = relB S b := by unfold relF; rw [if_pos (by rw [(hL b hb).2]; exact (lk3 _ (hL b hb).1).mpr h3)]
    rw [hF]
    have hL4 : ∀ c, c < 6 → L c < 4 := fun c hc => (hL c hc).1
    refine ⟨⟨(cl_nat w hw b hb).2, hcu⟩, hT, fun c hc => ?_, hmd, hov', fun c hc hcb => ?_, hinj', hsur', fun v hv => ?_⟩
    · show (if c = b then 0 else L c) < 4 ∧ upd (xl S) b (nb 0) c = nI (if c = b then 0 else L c)
      by_cases e : c = b
      · subst e; rw [if_pos rfl, upd_s]; exact ⟨by decide, by decide⟩
      · rw [if_neg e, upd_n e]; exact hL c hc
    · obtain ⟨ho, hne⟩ := cl_was hw hb hc hcb
      obtain ⟨g1, g2, g3, g4, g5⟩ := hB c hc ho
      refine ⟨g1, hal c hc ho hne, g3, ?_, ?_⟩
      · show PR _ _ rc k (upd (ma M) (rc b) 0) (rt (xk S) b 12 (c * 2)) (ml M (rc c))
        rw [rt_in (by omega)]; exact pr_relB hw hb hL4 hrb g4
      · show PR _ _ rc k (upd (ma M) (rc b) 0) (rt (xk S) b 12 (c * 2 + 1)) (mr M (rc c))
        rw [rt_in (by omega)]; exact pr_relB hw hb hL4 hrb g5
    · show PR _ _ rc k (upd (ma M) (rc b) 0) (rt (xv S) b 8 v) (mv M v)
      rw [rt_in hv]; exact pr_relB hw hb hL4 hrb (hV v hv)
  · refine ⟨fun c => if c = b then L b + 1 else L c, ?_⟩
    have hlt : L b < 3 := by have := (hL b hb).1; omega
    have hF : relF S b = relA S b := by unfold relF; rw [if_neg (by rw [(hL b hb).2]; exact fun z => h3 ((lk3 _ (hL b hb).1).mp z))]
    rw [hF]
    refine ⟨⟨(cl_nat w hw b hb).2, hcu⟩, hT, fun c hc => ?_, hmd, hov', fun c hc hcb => ?_, hinj', hsur', fun v hv => pr_relA hw hb hrb (hV v hv)⟩
    · show (if c = b then L b + 1 else L c) < 4 ∧ upd (xl S) b (nb (nb (xl S b + 1))) c = nI (if c = b then L b + 1 else L c)
      by_cases e : c = b
      · subst e; rw [if_pos rfl, upd_s, (hL c hc).2]; exact ⟨by omega, lk_inc _ hlt⟩
      · rw [if_neg e, upd_n e]; exact hL c hc
    · obtain ⟨ho, hne⟩ := cl_was hw hb hc hcb
      obtain ⟨g1, g2, g3, g4, g5⟩ := hB c hc ho
      exact ⟨g1, hal c hc ho hne, g3, pr_relA hw hb hrb g4, pr_relA hw hb hrb g5⟩
/-- a sweep of the blocks of v, block by block -/
theorem rl_sweep (R : Rl S M w L rc k) {v : Nat} (hv : v < 64) (hvw : ∀ b, b < 6 → v.testBit b = true → w.testBit b = true) : ∀ n, n ≤ 6 → ∃ w' L' al, Rl (swF (nI v) S n) (ta_ M al) w' L' rc k ∧ (∀ b, n ≤ b → b < 6 → w'.testBit b = w.testBit b) ∧ (∀ r, al r = 0 ↔ ma M r = 0 ∨ ∃ b, b < n ∧ v.testBit b = true ∧ rc b = r) ∧ ∀ r, al r = 0 ∨ al r = ma M r
  | 0, _ => ⟨w, L, ma M, R, fun _ _ _ => rfl, fun r => ⟨Or.inl, fun h => h.elim id (fun ⟨b, hb, _⟩ => absurd hb (Nat.not_lt_zero b))⟩, fun r => Or.inr rfl⟩
  | n + 1, hn => by
    obtain ⟨w', L', al, R', h1, h2, h3⟩ := rl_sweep R hv hvw n (by omega)
    by_cases hb : bi (nI v) n = 0
    · have hbf := bi_false hv (show n < 6 by omega) hb
      have e : swF (nI v) S (n + 1) = swF (nI v) S n := if_pos hb
      refine ⟨w', L', al, by rw [e]; exact R', fun b hb1 hb2 => h1 b (by omega) hb2, fun r => ?_, h3⟩
      rw [h2 r]
      refine ⟨fun h => h.elim Or.inl (fun ⟨b, hb1, hb2⟩ => Or.inr ⟨b, by omega, hb2⟩), fun h => h.elim Or.inl (fun ⟨b, hb1, hb2, hb3⟩ => Or.inr ⟨b, ?_, hb2, hb3⟩)⟩
      rcases Nat.lt_succ_iff_lt_or_eq.mp hb1 with q | q
      · exact q
      · rw [q, hbf] at hb2; cases hb2
    · have hbt := bi_true hv (show n < 6 by omega) hb
      have e : swF (nI v) S (n + 1) = relF (swF (nI v) S n) n := if_neg hb
      have hwn : w'.testBit n = true := by rw [h1 n (Nat.le_refl _) (by omega)]; exact hvw n (by omega) hbt
      obtain ⟨L2, R2⟩ := rl_rel R' (show n < 6 by omega) hwn
      refine ⟨w' &&& (63 - 2 ^ n), L2, upd al (rc n) 0, by rw [e]; exact R2, fun b hb1 hb2 => ?_, fun r => ?_, fun r => ?_⟩
      · rw [cl_bit w' R'.1.1 n (by omega) b hb2, decide_eq_false (show ¬ b = n by omega), h1 b (by omega) hb2]
        simp
      · by_cases er : r = rc n
        · subst er
          exact ⟨fun _ => Or.inr ⟨n, by omega, hbt, rfl⟩, fun _ => upd_s⟩
        · rw [upd_n er, h2 r]
          refine ⟨fun h => h.elim Or.inl (fun ⟨b, hb1, hb2⟩ => Or.inr ⟨b, by omega, hb2⟩), fun h => h.elim Or.inl (fun ⟨b, hb1, hb2, hb3⟩ => Or.inr ⟨b, ?_, hb2, hb3⟩)⟩
          rcases Nat.lt_succ_iff_lt_or_eq.mp hb1 with q | q
          · exact q
          · exact absurd (by rw [← hb3, q]) er
      · by_cases er : r = rc n
        · subst er; exact Or.inl upd_s
        · rw [upd_n er]; exact h3 r
-- sums
theorem sI_congr {f g : Nat → Int32} : ∀ (n : Nat), (∀ i, i < n → f i = g i) → sI f n = sI g n
  | 0, _ => rfl
  | n + 1, h => by unfold sI; rw [sI_congr n (fun i hi => h i (by omega)), h n (by omega)]
theorem sI_z {f : Nat → Int32} : ∀ (n : Nat), (∀ i, i < n → f i = 0) → sI f n = 0
  | 0, _ => rfl
  | n + 1, h => by unfold sI; rw [sI_z n (fun i hi => h i (by omega)), h n (by omega)]; rfl
theorem sI_add (f g : Nat → Int32) : ∀ (n : Nat), sI (fun i => f i + g i) n = sI f n + sI g n
  | 0 => rfl
  | n + 1 => by
    unfold sI
    rw [sI_add f g n]
    generalize sI f n = a
    generalize sI g n = b
    generalize f n = c
    generalize g n = d
    rw [Int32.add_assoc, Int32.add_assoc, ← Int32.add_assoc b c d, Int32.add_comm b c, Int32.add_assoc c b d]
theorem sI_one {f : Nat → Int32} {c : Nat} : ∀ (n : Nat), c < n → (∀ i, i < n → ¬ i = c → f i = 0) → sI f n = f c
  | 0, h, _ => absurd h (Nat.not_lt_zero c)
  | n + 1, h, hz => by
    unfold sI
    by_cases e : c = n
    · subst e; rw [sI_z c (fun i hi => hz i (by omega) (by omega))]; exact Int32.zero_add _
    · rw [sI_one n (by omega) (fun i hi => hz i (by omega)), hz n (by omega) (fun z => e z.symm)]; exact Int32.add_zero _
theorem sI_swap (F : Nat → Nat → Int32) (n : Nat) : ∀ (m : Nat), sI (fun i => sI (F i) n) m = sI (fun j => sI (fun i => F i j) m) n
  | 0 => (sI_z n (fun _ _ => rfl)).symm
  | m + 1 => by
    have h : sI (fun j => sI (fun i => F i j) (m + 1)) n = sI (fun j => sI (fun i => F i j) m + F m j) n := rfl
    rw [h, sI_add (fun j => sI (fun i => F i j) m) (F m) n, ← sI_swap F n m]
    rfl
theorem sum_eq (R : Rl S M w L rc k) (g : Nat → Int32) : sI (fun b => if w.testBit b = true then g (rc b) else 0) 6 = sI (fun r => if ma M r = 0 then 0 else g r) k := by
  obtain ⟨⟨hw, hu⟩, hT, hL, hmd, hov, hB, hinj, hsur, hV⟩ := R
  have h1 : sI (fun b => if w.testBit b = true then g (rc b) else 0) 6 = sI (fun b => sI (fun r => if w.testBit b = true ∧ rc b = r then g r else 0) k) 6 := by
    refine sI_congr 6 (fun b hb => ?_)
    show (if w.testBit b = true then g (rc b) else 0) = _
    by_cases hbit : w.testBit b = true
    · rw [if_pos hbit, sI_one (c := rc b) k (hB b hb hbit).1 (fun i _ hne => if_neg (fun z => hne z.2.symm)), if_pos ⟨hbit, rfl⟩]
    · rw [if_neg hbit, sI_z k (fun i _ => if_neg (fun z => hbit z.1))]
  rw [h1, sI_swap (fun b r => if w.testBit b = true ∧ rc b = r then g r else 0) k 6]
  refine sI_congr k (fun r hr => ?_)
  show sI (fun b => if w.testBit b = true ∧ rc b = r then g r else 0) 6 = if ma M r = 0 then 0 else g r
  by_cases ha : ma M r = 0
  · rw [if_pos ha, sI_z 6 (fun b hb => if_neg (fun z => (hB b hb z.1).2.1 (by rw [z.2]; exact ha)))]
  · obtain ⟨c, hc, hcb, hcr⟩ := hsur r ha
    rw [if_neg ha, sI_one (c := c) 6 hc (fun b hb hne => if_neg (fun z => hne (hinj b c hb hc z.1 hcb (z.2.trans hcr.symm)))), if_pos ⟨hcb, hcr⟩]
-- few records live
theorem cB_rm {p : Nat → Bool} {c : Nat} : ∀ (n : Nat), cB p n ≤ cB (fun r => p r && !decide (r = c)) n + (if c < n then 1 else 0)
  | 0 => Nat.zero_le _
  | n + 1 => by
    have h := cB_rm (p := p) (c := c) n
    unfold cB
    by_cases e : n = c
    · subst e
      rw [if_neg (Nat.lt_irrefl n)] at h
      rw [if_pos (show n < n + 1 by omega), decide_eq_true (show n = n from rfl)]
      have h0 : ¬ (p n && !true) = true := by simp
      rw [if_neg h0]
      split <;> omega
    · rw [decide_eq_false e]
      by_cases hp : p n = true
      · rw [hp]
        by_cases hc : c < n
        · rw [if_pos hc] at h; rw [if_pos (show c < n + 1 by omega)]; simp; omega
        · rw [if_neg hc] at h; rw [if_neg (show ¬ c < n + 1 by omega)]; simp; omega
      · rw [if_neg hp, Bool.eq_false_iff.mpr hp]
        by_cases hc : c < n
        · rw [if_pos hc] at h; rw [if_pos (show c < n + 1 by omega)]; simp; omega
        · rw [if_neg hc] at h; rw [if_neg (show ¬ c < n + 1 by omega)]; simp; omega
theorem cB_im {f : Nat → Nat} {n : Nat} : ∀ (m : Nat) (p : Nat → Bool), (∀ r, r < n → p r = true → ∃ b, b < m ∧ f b = r) → cB p n ≤ m
  | 0, p, h => by
    have : cB p n ≤ cB (fun _ => false) n := cB_le n (fun j hj hp => by obtain ⟨b, hb, _⟩ := h j hj hp; exact absurd hb (Nat.not_lt_zero b))
    have h0 : ∀ n, cB (fun _ => false) n = 0 := by
      intro n
      induction n with
      | zero => rfl
      | succ n ih => unfold cB; rw [ih]; rfl
    rw [h0] at this
    exact this
  | m + 1, p, h => by
    have h1 := cB_rm (p := p) (c := f m) n
    have h2 := cB_im m (fun r => p r && !decide (r = f m)) (fun r hr hp => by
      rw [Bool.and_eq_true] at hp
      obtain ⟨b, hb, hbr⟩ := h r hr hp.1
      refine ⟨b, ?_, hbr⟩
      rcases Nat.lt_succ_iff_lt_or_eq.mp hb with q | q
      · exact q
      · rw [decide_eq_true (show r = f m by rw [← hbr, q])] at hp
        exact absurd hp.2 (by decide))
    split at h1 <;> omega
theorem rl_few (R : Rl S M w L rc k) : cB (pm (ma M)) 512 ≤ 6 :=
  cB_im (f := rc) 6 _ (fun r _ hp => by
    obtain ⟨b, hb, _, hbr⟩ := R.2.2.2.2.2.2.2.1 r (pm_t.mp hp)
    exact ⟨b, hb, hbr⟩)
-- what can be come to is the same
theorem rx_rm (R : Rl S M w L rc k) (hk : k < 512) {b : Nat} (h : Rx S b) : b < 6 ∧ w.testBit b = true ∧ Rm M k (rc b) := by
  refine h (fun b => b < 6 ∧ w.testBit b = true ∧ Rm M k (rc b)) (fun i hi hl => ?_) (fun i hi hp hl => ?_)
  · have hv := R.2.2.2.2.2.2.2.2 i hi
    obtain ⟨h1, h2, h3, h4⟩ := pr_live R hk hv hl
    exact ⟨h1, h2, Rm_base hi (by have := (R.2.2.2.2.2.1 _ h1 h2).1; omega) ⟨(pr_st R hk hv).symm.trans hl, h4⟩⟩
  · obtain ⟨p1, p2, p3⟩ := hp
    have hlt := (R.2.2.2.2.2.1 _ p1 p2).1
    have hlk := rl_lk R p1 (show i % 2 < 2 by omega) p2
    rw [show i / 2 * 2 + i % 2 = i by omega] at hlk
    obtain ⟨h1, h2, h3, h4⟩ := pr_live R hk hlk hl
    have h512 : rc (kb (xk S i)) < 512 := by have := (R.2.2.2.2.2.1 _ h1 h2).1; omega
    have hst := (pr_st R hk hlk).symm.trans hl
    refine ⟨h1, h2, ?_⟩
    by_cases e : i % 2 = 0
    · rw [if_pos e] at hst h4
      exact Rm_l hlt p3 h512 ⟨hst, h4⟩
    · rw [if_neg e] at hst h4
      exact Rm_r hlt p3 h512 ⟨hst, h4⟩
theorem rm_rx (R : Rl S M w L rc k) (hk : k < 512) {r : Nat} (h : Rm M k r) : ∃ b, b < 6 ∧ w.testBit b = true ∧ rc b = r ∧ Rx S b := by
  refine h (fun r => ∃ b, b < 6 ∧ w.testBit b = true ∧ rc b = r ∧ Rx S b) (fun i hi q hq hp => ?_) (fun r hr hP q hq hp => ?_) (fun r hr hP q hq hp => ?_)
  · obtain ⟨h1, h2, h3, h4⟩ := pr_q R hk hq (R.2.2.2.2.2.2.2.2 i hi) hp
    exact ⟨kb (xv S i), h2, h3, h4, Rx_base hi h1⟩
  · obtain ⟨b, hb, hbit, rfl, hx⟩ := hP
    have hlk := rl_lk R hb (show 0 < 2 by omega) hbit
    rw [if_pos rfl] at hlk
    obtain ⟨h1, h2, h3, h4⟩ := pr_q R hk hq hlk hp
    exact ⟨kb (xk S (b * 2 + 0)), h2, h3, h4, Rx_step (by omega) (by rw [show (b * 2 + 0) / 2 = b by omega]; exact hx) h1⟩
  · obtain ⟨b, hb, hbit, rfl, hx⟩ := hP
    have hlk := rl_lk R hb (show 1 < 2 by omega) hbit
    rw [if_neg (by decide)] at hlk
    obtain ⟨h1, h2, h3, h4⟩ := pr_q R hk hq hlk hp
    exact ⟨kb (xk S (b * 2 + 1)), h2, h3, h4, Rx_step (by omega) (by rw [show (b * 2 + 1) / 2 = b by omega]; exact hx) h1⟩
theorem rx_iff (R : Rl S M w L rc k) (hk : k < 512) {b : Nat} (hb : b < 6) (hbit : w.testBit b = true) : Rx S b ↔ Rm M k (rc b) := by
  refine ⟨fun h => (rx_rm R hk h).2.2, fun h => ?_⟩
  obtain ⟨c, hc, hcb, hcr, hx⟩ := rm_rx R hk h
  rw [R.2.2.2.2.2.2.1 b c hb hc hbit hcb hcr.symm]
  exact hx
end RL2
end
section
/-! each call: the same answer, and the two states lie to each other again -/
set_option maxRecDepth 100000
def RL (S : XS) (M : MS) (N : Nat) : Prop := ∃ w L rc k, k ≤ N ∧ Rl S M w L rc k
section OPS
variable {S S' : XS} {M M' : MS} {N : Nat} {r r' v1 w1 k1 n1 : Int32}
theorem RL.xu (R : RL S M N) : XU S := by obtain ⟨w, L, rc, k, _, R⟩ := R; exact R.xu
theorem RL.xt (R : RL S M N) : XT S := by obtain ⟨w, L, rc, k, _, R⟩ := R; exact R.2.1
theorem RL.made (R : RL S M N) : ∃ k, k ≤ N ∧ md M = nI k ∧ cB (pm (ma M)) 512 ≤ 6 := by obtain ⟨w, L, rc, k, hk, R⟩ := R; exact ⟨k, hk, R.2.2.2.1, rl_few R⟩
theorem RL.up (R : RL S M N) : RL S M (N + 1) := by obtain ⟨w, L, rc, k, hk, R⟩ := R; exact ⟨w, L, rc, k, by omega, R⟩
theorem v_eq {i j : Nat} (hi : i < 8) (hj : j < 8) (h : nI i = nI j) : i = j := (nI_eq (by omega) (by omega)).mp h
theorem v_is {j : Nat} (hj : j < 8) : IsV (nI j) := ⟨j, hj, rfl⟩
theorem l_is {j : Nat} (hj : j < 2) : IsL (nI j) := ⟨j, hj, rfl⟩
theorem op_setNil (R : RL S M N) (hX : (∃ j, j < 8 ∧ v1 = nI j ∧ r = 0 ∧ S' = sv_ S (upd (xv S) j (nb 0))) ∨ (¬ IsV v1 ∧ r = -1 ∧ S' = S)) (hM : (∃ j, j < 8 ∧ v1 = nI j ∧ r' = 0 ∧ M' = tv_ M (upd (mv M) j 0)) ∨ (¬ IsV v1 ∧ r' = -1 ∧ M' = M)) : r = r' ∧ RL S' M' (N + 1) := by
  rcases hX with ⟨j, hj, rfl, rfl, rfl⟩ | ⟨hn, rfl, rfl⟩
  · rcases hM with ⟨i, hi, hij, rfl, rfl⟩ | ⟨hn, _⟩
    · obtain rfl := v_eq hj hi hij
      obtain ⟨w, L, rc, k, hk, R⟩ := R
      exact ⟨rfl, w, L, rc, k, by omega, rl_var R (a := nb 0) (Or.inl ⟨by decide, rfl⟩) j⟩
    · exact absurd (v_is hj) hn
  · rcases hM with ⟨i, hi, rfl, _⟩ | ⟨_, rfl, rfl⟩
    · exact absurd (v_is hi) hn
    · exact ⟨rfl, R.up⟩
theorem op_copy (R : RL S M N) (hX : (∃ j i, j < 8 ∧ i < 8 ∧ v1 = nI j ∧ w1 = nI i ∧ r = 0 ∧ S' = sv_ S (upd (xv S) j (nb (xv S i)))) ∨ (¬ (IsV v1 ∧ IsV w1) ∧ r = -1 ∧ S' = S)) (hM : (∃ j i, j < 8 ∧ i < 8 ∧ v1 = nI j ∧ w1 = nI i ∧ r' = 0 ∧ M' = tv_ M (upd (mv M) j (mv M i))) ∨ (¬ (IsV v1 ∧ IsV w1) ∧ r' = -1 ∧ M' = M)) : r = r' ∧ RL S' M' (N + 1) := by
  rcases hX with ⟨j, i, hj, hi, rfl, rfl, rfl, rfl⟩ | ⟨hn, rfl, rfl⟩
  · rcases hM with ⟨j2, i2, hj2, hi2, e1, e2, rfl, rfl⟩ | ⟨hn, _⟩
    · obtain rfl := v_eq hj hj2 e1
      obtain rfl := v_eq hi hi2 e2
      obtain ⟨w, L, rc, k, hk, R⟩ := R
      have hp := R.2.2.2.2.2.2.2.2 i hi
      exact ⟨rfl, w, L, rc, k, by omega, rl_var R (a := nb (xv S i)) (by rw [pr_nb R hp]; exact hp) j⟩
    · exact absurd ⟨v_is hj, v_is hi⟩ hn
  · rcases hM with ⟨j2, i2, hj2, hi2, rfl, rfl, _⟩ | ⟨_, rfl, rfl⟩
    · exact absurd ⟨v_is hj2, v_is hi2⟩ hn
    · exact ⟨rfl, R.up⟩
/-- a variable that points to a living record on both sides -/
theorem op_live {w k : Nat} {L rc : Nat → Nat} (R : Rl S M w L rc k) (hk : k < 512) {j q : Nat} (hj : j < 8) (hq : q < 512) (hp : Pt_ M (mv M j) q) : xst S (xv S j) = 1 ∧ kb (xv S j) < 6 ∧ w.testBit (kb (xv S j)) = true ∧ rc (kb (xv S j)) = q := pr_q R hk hq (R.2.2.2.2.2.2.2.2 j hj) hp
theorem op_setNumber (hN : N < 512) (R : RL S M N) (hX : (∃ j, j < 8 ∧ v1 = nI j ∧ ((xst S (xv S j) = 1 ∧ r = 0 ∧ S' = sn_ S (upd (xn S) (kb (xv S j)) n1)) ∨ (¬ xst S (xv S j) = 1 ∧ r = fl (xst S (xv S j)) ∧ S' = S))) ∨ (¬ IsV v1 ∧ r = -1 ∧ S' = S)) (hM : (∃ j, j < 8 ∧ v1 = nI j ∧ ((∃ q, q < 512 ∧ Pt_ M (mv M j) q ∧ r' = 0 ∧ M' = tn_ M (upd (mn M) q n1)) ∨ (¬ mkd M (mv M j) = 1 ∧ r' = fl (mkd M (mv M j)) ∧ M' = M))) ∨ (¬ IsV v1 ∧ r' = -1 ∧ M' = M)) : r = r' ∧ RL S' M' (N + 1) := by
  rcases hX with ⟨j, hj, rfl, hX⟩ | ⟨hn, rfl, rfl⟩
  · rcases hM with ⟨i, hi, hij, hM⟩ | ⟨hn, _⟩
    · obtain rfl := v_eq hj hi hij
      have R0 := R
      obtain ⟨w, L, rc, k, hk, R⟩ := R
      have hst := pr_st R (by omega) (R.2.2.2.2.2.2.2.2 j hj)
      rcases hX with ⟨hl, rfl, rfl⟩ | ⟨hl, rfl, rfl⟩
      · rcases hM with ⟨q, hq, hp, rfl, rfl⟩ | ⟨hd, _⟩
        · obtain ⟨_, h1, h2, rfl⟩ := op_live R (by omega) hj hq hp
          exact ⟨rfl, w, L, rc, k, by omega, rl_num R h1 h2 n1⟩
        · exact absurd (hst.symm.trans hl) hd
      · rcases hM with ⟨q, hq, hp, rfl, rfl⟩ | ⟨hd, rfl, rfl⟩
        · exact absurd (hst.trans hp.1) hl
        · exact ⟨by rw [hst], R0.up⟩
    · exact absurd (v_is hj) hn
  · rcases hM with ⟨i, hi, rfl, _⟩ | ⟨_, rfl, rfl⟩
    · exact absurd (v_is hi) hn
    · exact ⟨rfl, R.up⟩
theorem op_dispose (hN : N < 512) (R : RL S M N) (hX : (∃ j, j < 8 ∧ v1 = nI j ∧ ((xst S (xv S j) = 1 ∧ r = 0 ∧ S' = relF S (kb (xv S j))) ∨ (¬ xst S (xv S j) = 1 ∧ r = fl (xst S (xv S j)) ∧ S' = S))) ∨ (¬ IsV v1 ∧ r = -1 ∧ S' = S)) (hM : (∃ j, j < 8 ∧ v1 = nI j ∧ ((∃ q, q < 512 ∧ Pt_ M (mv M j) q ∧ r' = 0 ∧ M' = ta_ M (upd (ma M) q (vp_nar .boolean 0))) ∨ (¬ mkd M (mv M j) = 1 ∧ r' = fl (mkd M (mv M j)) ∧ M' = M))) ∨ (¬ IsV v1 ∧ r' = -1 ∧ M' = M)) : r = r' ∧ RL S' M' (N + 1) := by
  rcases hX with ⟨j, hj, rfl, hX⟩ | ⟨hn, rfl, rfl⟩
  · rcases hM with ⟨i, hi, hij, hM⟩ | ⟨hn, _⟩
    · obtain rfl := v_eq hj hi hij
      have R0 := R
      obtain ⟨w, L, rc, k, hk, R⟩ := R
      have hst := pr_st R (by omega) (R.2.2.2.2.2.2.2.2 j hj)
      rcases hX with ⟨hl, rfl, rfl⟩ | ⟨hl, rfl, rfl⟩
      · rcases hM with ⟨q, hq, hp, rfl, rfl⟩ | ⟨hd, _⟩
        · obtain ⟨_, h1, h2, rfl⟩ := op_live R (by omega) hj hq hp
          obtain ⟨L', R'⟩ := rl_rel R h1 h2
          exact ⟨rfl, _, L', rc, k, by omega, by rw [show vp_nar .boolean 0 = 0 by decide]; exact R'⟩
        · exact absurd (hst.symm.trans hl) hd
      · rcases hM with ⟨q, hq, hp, rfl, rfl⟩ | ⟨hd, rfl, rfl⟩
        · exact absurd (hst.trans hp.1) hl
        · exact ⟨by rw [hst], R0.up⟩
    · exact absurd (v_is hj) hn
  · rcases hM with ⟨i, hi, rfl, _⟩ | ⟨_, rfl, rfl⟩
    · exact absurd (v_is hi) hn
    · exact ⟨rfl, R.up⟩
theorem op_setLink (hN : N < 512) (R : RL S M N) (hX : (∃ j e i, j < 8 ∧ e < 2 ∧ i < 8 ∧ v1 = nI j ∧ k1 = nI e ∧ w1 = nI i ∧ ((xst S (xv S j) = 1 ∧ r = 0 ∧ S' = sk_ S (upd (xk S) (kb (xv S j) * 2 + e) (nb (xv S i)))) ∨ (¬ xst S (xv S j) = 1 ∧ r = fl (xst S (xv S j)) ∧ S' = S))) ∨ (¬ (IsV v1 ∧ IsL k1 ∧ IsV w1) ∧ r = -1 ∧ S' = S)) (hM : (∃ j e i, j < 8 ∧ e < 2 ∧ i < 8 ∧ v1 = nI j ∧ k1 = nI e ∧ w1 = nI i ∧ ((∃ q, q < 512 ∧ Pt_ M (mv M j) q ∧ r' = 0 ∧ M' = (if e = 0 then tl_ M (upd (ml M) q (mv M i)) else tr_ M (upd (mr M) q (mv M i)))) ∨ (¬ mkd M (mv M j) = 1 ∧ r' = fl (mkd M (mv M j)) ∧ M' = M))) ∨ (¬ (IsV v1 ∧ IsL k1 ∧ IsV w1) ∧ r' = -1 ∧ M' = M)) : r = r' ∧ RL S' M' (N + 1) := by
  rcases hX with ⟨j, e, i, hj, he, hi, rfl, rfl, rfl, hX⟩ | ⟨hn, rfl, rfl⟩
  · rcases hM with ⟨j2, e2, i2, hj2, he2, hi2, q1, q2, q3, hM⟩ | ⟨hn, _⟩
    · obtain rfl := v_eq hj hj2 q1
      obtain rfl := v_eq (by omega) (by omega) q2
      obtain rfl := v_eq hi hi2 q3
      have R0 := R
      obtain ⟨w, L, rc, k, hk, R⟩ := R
      have hst := pr_st R (by omega) (R.2.2.2.2.2.2.2.2 j hj)
      rcases hX with ⟨hl, rfl, rfl⟩ | ⟨hl, rfl, rfl⟩
      · rcases hM with ⟨q, hq, hp, rfl, rfl⟩ | ⟨hd, _⟩
        · obtain ⟨_, h1, h2, rfl⟩ := op_live R (by omega) hj hq hp
          have hpi := R.2.2.2.2.2.2.2.2 i hi
          exact ⟨rfl, w, L, rc, k, by omega, rl_lnk R h1 he h2 (by rw [pr_nb R hpi]; exact hpi)⟩
        · exact absurd (hst.symm.trans hl) hd
      · rcases hM with ⟨q, hq, hp, rfl, rfl⟩ | ⟨hd, rfl, rfl⟩
        · exact absurd (hst.trans hp.1) hl
        · exact ⟨by rw [hst], R0.up⟩
    · exact absurd ⟨v_is hj, l_is he, v_is hi⟩ hn
  · rcases hM with ⟨j2, e2, i2, hj2, he2, hi2, rfl, rfl, rfl, _⟩ | ⟨_, rfl, rfl⟩
    · exact absurd ⟨v_is hj2, l_is he2, v_is hi2⟩ hn
    · exact ⟨rfl, R.up⟩
theorem op_follow (hN : N < 512) (R : RL S M N) (hX : (∃ j i e, j < 8 ∧ i < 8 ∧ e < 2 ∧ v1 = nI j ∧ w1 = nI i ∧ k1 = nI e ∧ ((xst S (xv S i) = 1 ∧ r = 0 ∧ S' = sv_ S (upd (xv S) j (nb (xk S (kb (xv S i) * 2 + e))))) ∨ (¬ xst S (xv S i) = 1 ∧ r = fl (xst S (xv S i)) ∧ S' = S))) ∨ (¬ (IsV v1 ∧ IsV w1 ∧ IsL k1) ∧ r = -1 ∧ S' = S)) (hM : (∃ j i e, j < 8 ∧ i < 8 ∧ e < 2 ∧ v1 = nI j ∧ w1 = nI i ∧ k1 = nI e ∧ ((∃ q, q < 512 ∧ Pt_ M (mv M i) q ∧ r' = 0 ∧ M' = tv_ M (upd (mv M) j (if e = 0 then ml M q else mr M q))) ∨ (¬ mkd M (mv M i) = 1 ∧ r' = fl (mkd M (mv M i)) ∧ M' = M))) ∨ (¬ (IsV v1 ∧ IsV w1 ∧ IsL k1) ∧ r' = -1 ∧ M' = M)) : r = r' ∧ RL S' M' (N + 1) := by
  rcases hX with ⟨j, i, e, hj, hi, he, rfl, rfl, rfl, hX⟩ | ⟨hn, rfl, rfl⟩
  · rcases hM with ⟨j2, i2, e2, hj2, hi2, he2, q1, q2, q3, hM⟩ | ⟨hn, _⟩
    · obtain rfl := v_eq hj hj2 q1
      obtain rfl := v_eq hi hi2 q2
      obtain rfl := v_eq (by omega) (by omega) q3
      have R0 := R
      obtain ⟨w, L, rc, k, hk, R⟩ := R
      have hst := pr_st R (by omega) (R.2.2.2.2.2.2.2.2 i hi)
      rcases hX with ⟨hl, rfl, rfl⟩ | ⟨hl, rfl, rfl⟩
      · rcases hM with ⟨q, hq, hp, rfl, rfl⟩ | ⟨hd, _⟩
        · obtain ⟨_, h1, h2, rfl⟩ := op_live R (by omega) hi hq hp
          have hlk := rl_lk R h1 he h2
          exact ⟨rfl, w, L, rc, k, by omega, rl_var R (by rw [pr_nb R hlk]; exact hlk) j⟩
        · exact absurd (hst.symm.trans hl) hd
      · rcases hM with ⟨q, hq, hp, rfl, rfl⟩ | ⟨hd, rfl, rfl⟩
        · exact absurd (hst.trans hp.1) hl
        · exact ⟨by rw [hst], R0.up⟩
    · exact absurd ⟨v_is hj, v_is hi, l_is he⟩ hn
  · rcases hM with ⟨j2, i2, e2, hj2, hi2, he2, rfl, rfl, rfl, _⟩ | ⟨_, rfl, rfl⟩
    · exact absurd ⟨v_is hj2, v_is hi2, l_is he2⟩ hn
    · exact ⟨rfl, R.up⟩
theorem op_holds (hN : N < 512) (R : RL S M N) (hX : (∃ j, j < 8 ∧ v1 = nI j ∧ r = xst S (xv S j)) ∨ (¬ IsV v1 ∧ r = -1)) (hM : (∃ j, j < 8 ∧ v1 = nI j ∧ r' = mkd M (mv M j)) ∨ (¬ IsV v1 ∧ r' = -1)) : r = r' := by
  rcases hX with ⟨j, hj, rfl, rfl⟩ | ⟨hn, rfl⟩
  · rcases hM with ⟨i, hi, hij, rfl⟩ | ⟨hn, _⟩
    · obtain rfl := v_eq hj hi hij
      obtain ⟨w, L, rc, k, hk, R⟩ := R
      exact pr_st R (by omega) (R.2.2.2.2.2.2.2.2 j hj)
    · exact absurd (v_is hj) hn
  · rcases hM with ⟨i, hi, rfl, _⟩ | ⟨_, rfl⟩
    · exact absurd (v_is hi) hn
    · rfl
theorem op_number (hN : N < 512) (R : RL S M N) (hX : (∃ j, j < 8 ∧ v1 = nI j ∧ ((xst S (xv S j) = 1 ∧ r = xn S (kb (xv S j))) ∨ (¬ xst S (xv S j) = 1 ∧ r = 0))) ∨ (¬ IsV v1 ∧ r = 0)) (hM : (∃ j, j < 8 ∧ v1 = nI j ∧ ((∃ q, q < 512 ∧ Pt_ M (mv M j) q ∧ r' = mn M q) ∨ (¬ mkd M (mv M j) = 1 ∧ r' = 0))) ∨ (¬ IsV v1 ∧ r' = 0)) : r = r' := by
  rcases hX with ⟨j, hj, rfl, hX⟩ | ⟨hn, rfl⟩
  · rcases hM with ⟨i, hi, hij, hM⟩ | ⟨hn, _⟩
    · obtain rfl := v_eq hj hi hij
      obtain ⟨w, L, rc, k, hk, R⟩ := R
      have hst := pr_st R (by omega) (R.2.2.2.2.2.2.2.2 j hj)
      rcases hX with ⟨hl, rfl⟩ | ⟨hl, rfl⟩
      · rcases hM with ⟨q, hq, hp, rfl⟩ | ⟨hd, _⟩
        · obtain ⟨_, h1, h2, rfl⟩ := op_live R (by omega) hj hq hp
          exact (R.2.2.2.2.2.1 _ h1 h2).2.2.1
        · exact absurd (hst.symm.trans hl) hd
      · rcases hM with ⟨q, hq, hp, rfl⟩ | ⟨hd, rfl⟩
        · exact absurd (hst.trans hp.1) hl
        · rfl
    · exact absurd (v_is hj) hn
  · rcases hM with ⟨i, hi, rfl, _⟩ | ⟨_, rfl⟩
    · exact absurd (v_is hi) hn
    · rfl
theorem op_linkHolds (hN : N < 512) (R : RL S M N) (hX : (∃ j e, j < 8 ∧ e < 2 ∧ v1 = nI j ∧ k1 = nI e ∧ ((xst S (xv S j) = 1 ∧ r = xst S (xk S (kb (xv S j) * 2 + e))) ∨ (¬ xst S (xv S j) = 1 ∧ r = -1))) ∨ (¬ (IsV v1 ∧ IsL k1) ∧ r = -1)) (hM : (∃ j e, j < 8 ∧ e < 2 ∧ v1 = nI j ∧ k1 = nI e ∧ ((∃ q, q < 512 ∧ Pt_ M (mv M j) q ∧ r' = mkd M (if e = 0 then ml M q else mr M q)) ∨ (¬ mkd M (mv M j) = 1 ∧ r' = -1))) ∨ (¬ (IsV v1 ∧ IsL k1) ∧ r' = -1)) : r = r' := by
  rcases hX with ⟨j, e, hj, he, rfl, rfl, hX⟩ | ⟨hn, rfl⟩
  · rcases hM with ⟨j2, e2, hj2, he2, q1, q2, hM⟩ | ⟨hn, _⟩
    · obtain rfl := v_eq hj hj2 q1
      obtain rfl := v_eq (by omega) (by omega) q2
      obtain ⟨w, L, rc, k, hk, R⟩ := R
      have hst := pr_st R (by omega) (R.2.2.2.2.2.2.2.2 j hj)
      rcases hX with ⟨hl, rfl⟩ | ⟨hl, rfl⟩
      · rcases hM with ⟨q, hq, hp, rfl⟩ | ⟨hd, _⟩
        · obtain ⟨_, h1, h2, rfl⟩ := op_live R (by omega) hj hq hp
          exact pr_st R (by omega) (rl_lk R h1 he h2)
        · exact absurd (hst.symm.trans hl) hd
      · rcases hM with ⟨q, hq, hp, rfl⟩ | ⟨hd, rfl⟩
        · exact absurd (hst.trans hp.1) hl
        · rfl
    · exact absurd ⟨v_is hj, l_is he⟩ hn
  · rcases hM with ⟨j2, e2, hj2, he2, rfl, rfl, _⟩ | ⟨_, rfl⟩
    · exact absurd ⟨v_is hj2, l_is he2⟩ hn
    · rfl
theorem op_same (hN : N < 512) (R : RL S M N) (hX : (∃ j i, j < 8 ∧ i < 8 ∧ v1 = nI j ∧ w1 = nI i ∧ ((¬ xst S (xv S j) = 2 ∧ xv S j = xv S i ∧ r = 1) ∨ (¬ (¬ xst S (xv S j) = 2 ∧ xv S j = xv S i) ∧ r = 0))) ∨ (¬ (IsV v1 ∧ IsV w1) ∧ r = 0)) (hM : (∃ j i, j < 8 ∧ i < 8 ∧ v1 = nI j ∧ w1 = nI i ∧ ((mv M j = mv M i ∧ ¬ mkd M (mv M j) = 2 ∧ r' = 1) ∨ (¬ (mv M j = mv M i ∧ ¬ mkd M (mv M j) = 2) ∧ r' = 0))) ∨ (¬ (IsV v1 ∧ IsV w1) ∧ r' = 0)) : r = r' := by
  rcases hX with ⟨j, i, hj, hi, rfl, rfl, hX⟩ | ⟨hn, rfl⟩
  · rcases hM with ⟨j2, i2, hj2, hi2, q1, q2, hM⟩ | ⟨hn, _⟩
    · obtain rfl := v_eq hj hj2 q1
      obtain rfl := v_eq hi hi2 q2
      obtain ⟨w, L, rc, k, hk, R⟩ := R
      have hpj := R.2.2.2.2.2.2.2.2 j hj
      have hpi := R.2.2.2.2.2.2.2.2 i hi
      have hst := pr_st R (by omega) hpj
      rcases hX with ⟨h1, h2, rfl⟩ | ⟨h1, rfl⟩
      · rcases hM with ⟨_, _, rfl⟩ | ⟨g1, _⟩
        · rfl
        · exact absurd ⟨(pr_same R (by omega) hpj hpi h1).mp h2, by rw [← hst]; exact h1⟩ g1
      · rcases hM with ⟨g1, g2, _⟩ | ⟨_, rfl⟩
        · have g3 : ¬ xst S (xv S j) = 2 := by rw [hst]; exact g2
          exact absurd ⟨g3, (pr_same R (by omega) hpj hpi g3).mpr g1⟩ h1
        · rfl
    · exact absurd ⟨v_is hj, v_is hi⟩ hn
  · rcases hM with ⟨j2, i2, hj2, hi2, rfl, rfl, _⟩ | ⟨_, rfl⟩
    · exact absurd ⟨v_is hj2, v_is hi2⟩ hn
    · rfl
/-- how many live, on both sides -/
theorem live_eq {w k : Nat} {L rc : Nat → Nat} (R : Rl S M w L rc k) : sI (bi (xu S)) 6 = sI (fun q => if ma M q = 0 then 0 else 1) k := by
  rw [← sum_eq R (fun _ => 1), R.1.2]
  exact sI_congr 6 (fun b hb => bi_nat w R.1.1 b (by omega))
theorem op_live0 {k0 : Nat} (R : RL S M N) (hN : N < 512) (hk : k0 < 512) (hkd : md M = nI k0) (hX : r = sI (bi (xu S)) 6) (hM : r' = sI (fun q => if ma M q = 0 then 0 else 1) k0) : r = r' := by
  obtain ⟨w, L, rc, k, hkN, R⟩ := R
  have e : k0 = k := (nI_eq (by omega) (by omega)).mp (hkd.symm.trans R.2.2.2.1)
  subst e
  rw [hX, hM]; exact live_eq R
theorem op_total {k0 : Nat} (R : RL S M N) (hN : N < 512) (hk : k0 < 512) (hkd : md M = nI k0) (hX : r = sI (fun b => if bi (xu S) b = 0 then 0 else xn S b) 6) (hM : r' = sI (fun q => if ma M q = 0 then 0 else mn M q) k0) : r = r' := by
  obtain ⟨w, L, rc, k, hkN, R⟩ := R
  have e : k0 = k := (nI_eq (by omega) (by omega)).mp (hkd.symm.trans R.2.2.2.1)
  subst e
  rw [hX, hM, ← sum_eq R (mn M), R.1.2]
  refine sI_congr 6 (fun b hb => ?_)
  show (if bi (nI w) b = 0 then 0 else xn S b) = if w.testBit b = true then mn M (rc b) else 0
  by_cases hbit : w.testBit b = true
  · rw [if_pos hbit, if_neg (by rw [bi_nat w R.1.1 b (by omega), hbit]; decide)]
    exact (R.2.2.2.2.2.1 b hb hbit).2.2.1
  · rw [if_neg hbit, if_pos (by rw [bi_nat w R.1.1 b (by omega), if_neg hbit])]
theorem six : ∀ w, w < 64 → (6 ≤ sI (bi (nI w)) 6 ↔ ∀ b, b < 6 → ¬ bi (nI w) b = 0) := by decide +kernel
theorem op_make {k0 : Nat} (hN : N < 512) (R : RL S M N) (hk : k0 < 512) (hkd : md M = nI k0) (hX : (∃ j, j < 8 ∧ v1 = nI j ∧ ((∃ b, b < 6 ∧ bi (xu S) b = 0 ∧ r = 0 ∧ S' = mkF S j b n1) ∨ ((∀ b, b < 6 → ¬ bi (xu S) b = 0) ∧ r = -2 ∧ S' = S))) ∨ (¬ IsV v1 ∧ r = -1 ∧ S' = S)) (hM : (∃ j, j < 8 ∧ v1 = nI j ∧ ((¬ 6 ≤ sI (fun q => if ma M q = 0 then 0 else 1) k0 ∧ r' = 0 ∧ M' = mmF M k0 j n1) ∨ (6 ≤ sI (fun q => if ma M q = 0 then 0 else 1) k0 ∧ r' = -2 ∧ M' = M))) ∨ (¬ IsV v1 ∧ r' = -1 ∧ M' = M)) : r = r' ∧ RL S' M' (N + 1) := by
  rcases hX with ⟨j, hj, rfl, hX⟩ | ⟨hn, rfl, rfl⟩
  · rcases hM with ⟨i, hi, hij, hM⟩ | ⟨hn, _⟩
    · obtain rfl := v_eq hj hi hij
      have R0 := R
      obtain ⟨w, L, rc, k, hkN, R⟩ := R
      have e : k0 = k := (nI_eq (by omega) (by omega)).mp (hkd.symm.trans R.2.2.2.1)
      subst e
      have h6 := six w R.1.1
      rw [← R.1.2, live_eq R] at h6
      rcases hX with ⟨b, hb, hb0, rfl, rfl⟩ | ⟨hall, rfl, rfl⟩
      · rcases hM with ⟨_, rfl, rfl⟩ | ⟨hf, _⟩
        · rw [R.1.2] at hb0
          exact ⟨rfl, _, L, _, k0 + 1, by omega, rl_make R hb hj (bi_false R.1.1 hb hb0) n1⟩
        · exact absurd hb0 (h6.mp hf b hb)
      · rcases hM with ⟨hf, _⟩ | ⟨_, rfl, rfl⟩
        · exact absurd (h6.mpr hall) hf
        · exact ⟨rfl, R0.up⟩
    · exact absurd (v_is hj) hn
  · rcases hM with ⟨i, hi, rfl, _⟩ | ⟨_, rfl, rfl⟩
    · exact absurd (v_is hi) hn
    · exact ⟨rfl, R.up⟩
theorem op_reached {k0 : Nat} (hN : N < 512) (R : RL S M N) (hk : k0 < 512) (hkd : md M = nI k0) (hX : ∃ w, w < 64 ∧ (∀ b, b < 6 → (w.testBit b = true ↔ Rx S b)) ∧ r = sI (bi (nI w)) 6) (hM : ∃ sn, (∀ q, q < 512 → (¬ sn q = 0 ↔ Rm M k0 q)) ∧ r' = sI (fun q => if sn q = 0 then 0 else 1) k0 ∧ M' = ts_ M sn) : r = r' ∧ RL S M' (N + 1) := by
  obtain ⟨w, L, rc, k, hkN, R⟩ := R
  have e : k0 = k := (nI_eq (by omega) (by omega)).mp (hkd.symm.trans R.2.2.2.1)
  subst e
  obtain ⟨v, hv, hvR, rfl⟩ := hX
  obtain ⟨sn, hsn, rfl, rfl⟩ := hM
  refine ⟨?_, w, L, rc, k0, by omega, R⟩
  have h1 : sI (fun q => if sn q = 0 then 0 else 1) k0 = sI (fun r => if ma M r = 0 then 0 else (if sn r = 0 then 0 else 1)) k0 := by
    refine sI_congr k0 (fun q hq => ?_)
    show (if sn q = 0 then (0 : Int32) else 1) = if ma M q = 0 then 0 else (if sn q = 0 then 0 else 1)
    by_cases ha : ma M q = 0
    · rw [if_pos ha]
      by_cases hs : sn q = 0
      · rw [if_pos hs]
      · exact absurd ha (Rm_alive ((hsn q (by omega)).mp hs))
    · rw [if_neg ha]
  rw [h1, ← sum_eq R (fun q => if sn q = 0 then 0 else 1)]
  refine sI_congr 6 (fun b hb => ?_)
  show bi (nI v) b = if w.testBit b = true then (if sn (rc b) = 0 then 0 else 1) else 0
  rw [bi_nat v hv b (by omega)]
  by_cases hbit : w.testBit b = true
  · have h512 : rc b < 512 := by have := (R.2.2.2.2.2.1 b hb hbit).1; omega
    rw [if_pos hbit]
    by_cases hx : Rx S b
    · rw [if_pos ((hvR b hb).mpr hx), if_neg ((hsn _ h512).mpr ((rx_iff R hk hb hbit).mp hx))]
    · rw [if_neg (fun z => hx ((hvR b hb).mp z)), if_pos (Classical.not_not.mp (fun z => hx ((rx_iff R hk hb hbit).mpr ((hsn _ h512).mp z))))]
  · rw [if_neg hbit, if_neg (fun z => hbit (rx_rm R hk ((hvR b hb).mp z)).2.1)]
theorem op_sweep {k0 : Nat} (hN : N < 512) (R : RL S M N) (hk : k0 < 512) (hkd : md M = nI k0) (hX : ∃ w, w < 64 ∧ (∀ b, b < 6 → (w.testBit b = true ↔ Rx S b)) ∧ r = sI (bi (xu S &&& (nI w ^^^ (-1)))) 6 ∧ S' = swF (xu S &&& (nI w ^^^ (-1))) S 6) (hM : ∃ sn, (∀ q, q < 512 → (¬ sn q = 0 ↔ Rm M k0 q)) ∧ r' = sI (fun q => if ma M q = 0 then 0 else if sn q = 0 then 1 else 0) k0 ∧ M' = ta_ (ts_ M sn) (swM (ma M) sn k0)) : r = r' ∧ RL S' M' (N + 1) := by
  obtain ⟨w, L, rc, k, hkN, R⟩ := R
  have e : k0 = k := (nI_eq (by omega) (by omega)).mp (hkd.symm.trans R.2.2.2.1)
  subst e
  obtain ⟨v, hv, hvR, rfl, rfl⟩ := hX
  obtain ⟨sn, hsn, rfl, rfl⟩ := hM
  have hlo : xu S &&& (nI v ^^^ (-1)) = nI (w &&& (63 - v)) := by rw [R.1.2]; exact (lost_nat w R.1.1 v hv).1
  have hlo64 : w &&& (63 - v) < 64 := (lost_nat w R.1.1 v hv).2
  have hbitL : ∀ b, b < 6 → (w &&& (63 - v)).testBit b = (w.testBit b && !v.testBit b) := fun b hb => lost_bit w R.1.1 v hv b hb
  have hlost : ∀ b, b < 6 → ((w &&& (63 - v)).testBit b = true ↔ w.testBit b = true ∧ sn (rc b) = 0) := by
    intro b hb
    rw [hbitL b hb, Bool.and_eq_true]
    refine ⟨fun h => ⟨h.1, ?_⟩, fun h => ⟨h.1, ?_⟩⟩
    · have h512 : rc b < 512 := by have := (R.2.2.2.2.2.1 b hb h.1).1; omega
      refine Classical.not_not.mp (fun z => ?_)
      have := (hvR b hb).mpr ((rx_iff R hk hb h.1).mpr ((hsn _ h512).mp z))
      rw [this] at h
      exact absurd h.2 (by decide)
    · have h512 : rc b < 512 := by have := (R.2.2.2.2.2.1 b hb h.1).1; omega
      cases hvb : v.testBit b with
      | false => rfl
      | true => exact absurd h.2 ((hsn _ h512).mpr ((rx_iff R hk hb h.1).mp ((hvR b hb).mp hvb)))
  rw [hlo]
  constructor
  · rw [← sum_eq R (fun q => if sn q = 0 then 1 else 0)]
    refine sI_congr 6 (fun b hb => ?_)
    show bi (nI (w &&& (63 - v))) b = if w.testBit b = true then (if sn (rc b) = 0 then 1 else 0) else 0
    rw [bi_nat _ hlo64 b (by omega)]
    by_cases hbit : w.testBit b = true
    · rw [if_pos hbit]
      by_cases hs : sn (rc b) = 0
      · rw [if_pos ((hlost b hb).mpr ⟨hbit, hs⟩), if_pos hs]
      · rw [if_neg (fun z => hs ((hlost b hb).mp z).2), if_neg hs]
    · rw [if_neg hbit, if_neg (fun z => hbit ((hlost b hb).mp z).1)]
  · obtain ⟨w', L', al, R', -, h2, h3⟩ := rl_sweep R hlo64 (fun b hb h => ((hlost b hb).mp h).1) 6 (Nat.le_refl 6)
    have hal : al = swM (ma M) sn k0 := by
      funext q
      unfold swM
      by_cases hc : q < k0 ∧ sn q = 0
      · rw [if_pos hc]
        refine (h2 q).mpr ?_
        by_cases ha : ma M q = 0
        · exact Or.inl ha
        · obtain ⟨b, hb, hbit, hbr⟩ := R.2.2.2.2.2.2.2.1 q ha
          exact Or.inr ⟨b, hb, (hlost b hb).mpr ⟨hbit, by rw [hbr]; exact hc.2⟩, hbr⟩
      · rw [if_neg hc]
        rcases h3 q with h | h
        · rcases (h2 q).mp h with ha | ⟨b, hb, hbl, hbr⟩
          · rw [h, ha]
          · obtain ⟨h4, h5⟩ := (hlost b hb).mp hbl
            rw [hbr] at h5
            have := (R.2.2.2.2.2.1 b hb h4).1
            rw [hbr] at this
            exact absurd ⟨this, h5⟩ hc
        · exact h
    rw [hal] at R'
    exact ⟨w', L', rc, k0, by omega, R'⟩
theorem RL_start : RL X0s M0s 0 := by
  refine ⟨0, fun _ => 0, fun _ => 0, 0, Nat.le_refl 0, ⟨by decide, rfl⟩, ⟨0, by decide, rfl⟩, fun b _ => ⟨(by decide : (0 : Nat) < 4), rfl⟩, rfl, fun r _ => rfl, fun b _ h => ?_, fun b c _ _ h => ?_, fun r h => absurd rfl h, fun v _ => Or.inl ⟨rfl, rfl⟩⟩
  · rw [Nat.zero_testBit] at h; cases h
  · rw [Nat.zero_testBit] at h; cases h
end OPS
end
section
set_option maxRecDepth 100000
/-! THE CLAIM OUT OF ONE WALK OF THE LAW'S BODY. Your part is whole_start (and what it stands on); all else here is the same for every law, but numbers. -/
def R_law : String := "KeyHeapLaw"
def lw_P (b : Addr) (xs : List Int32) (args : Array Value) (s : State) : Prop := args = #[.ref b] ∧ s.IntsAt b xs ∧ xs.length ≤ 256 ∧ (Jvm.Cond.and given_1 narrow_1).before args s = true
def lw_Q (_ : Array Value) (s : State) (o : Outcome) (t : State) : Prop := o = .returned (some (.int 1)) ∧ Framed s o t [] 600000 7290000
def lw_Z (below : List Frame) (a : Array Value) (s : State) : State → Prop := fun t => ∃ o, t.status = .running ∧ Ended t below o ∧ lw_Q a s o t
/-- the law's own end, with 1 on the stack, nothing written that was there before, its room as the claim has it -/
theorem lw_ret {p : Program} {l : Launch} {e : Env} {s : State} {m : MethodId} {below : List Frame} {meth : Method} {c : Code} {b : Nat} (hx : p.tables.exec = Jvm.exec) (hb : c.code = code) (hr : meth.sig.returnType = ret) (hlocks : meth.locks = false) {pc : Nat} {H : Heap} {ls : Array Slot} (hdg : decode code pc = .ok (.ireturn, 1)) : W p l e room_1 s m #[Value.ref b] below meth c H [] 600000 7290000 (lw_Z below #[Value.ref b] s) (F0 m pc ls [.int 1]) := by
  intro T hT X
  obtain ⟨fs, hret, hrun, hended, hW, hframe⟩ := X.leave (v := some (.int 1)) (hlocks := hlocks) (fun h => by rw [hr] at h; cases h)
  have hmeth' : T.vm.method? m = some meth := X.method'
  refine ⟨T.setFrames fs, ?_, .returned (some (.int 1)), hrun, hended, rfl, ⟨_, rfl⟩, hW, hframe⟩
  jvm_step X.here [X.here.top, hx, hb, hdg, hmeth', hr, ret, narrow_b1]
  (try refine ⟨rfl, ?_⟩); (try refine ⟨rfl, ?_⟩)
  first | (intro acts; rw [hret _ acts rfl rfl rfl]) | rw [hret _ _ rfl rfl rfl]
  exact Steps.refl _
/-- what holds at the law's entry: the machine, the code, the tables' words (any of lw_tbl by 'hts w (by decide +kernel)'), the script of L ints xs at the cell b, what the Statement gives of the start (any of its parts by flat_of_before) -/
def lw_At (p : Program) (s : State) (m : MethodId) (meth : Method) (c : Code) (b L : Nat) (xs : Nat → Int32) : Prop :=
  p.tables.exec = Jvm.exec ∧ c.code = code ∧ meth.sig.returnType = ret ∧ c.maxLocals = 4 ∧ s.vm.findClass R_law = some m.cls ∧ (∀ w ∈ lw_tbl, w.before #[Value.ref b] s = true) ∧ va_X b L xs s s.heap ∧ b < s.heap.size ∧ meth.locks = false ∧ (Jvm.Cond.and given_1 narrow_1).before #[Value.ref b] s = true
/-! the law's loop: one call on each side, the same answer -/
set_option maxRecDepth 100000
theorem li_end : ∀ L, L < 257 → Int32.ofNat L - 4 < nI (4 * (L / 4)) := by decide +kernel
theorem li_go {L N : Nat} (hL : L ≤ 256) (h : N < L / 4) : ¬ Int32.ofNat L - 4 < nI (4 * N) := by
  have h4 : Int32.ofNat L - 4 = nI (L - 4) := by
    have h1 : nI (L - 4 + 4) - nI 4 = nI (L - 4 + 4 - 4) := pk_sub (by omega)
    rw [show L - 4 + 4 = L by omega] at h1
    exact h1
  rw [h4]
  exact nI_nlt (by omega) (by omega)
section LW
variable {p : Program} {l : Launch} {e : Env} {R : Room} {s : State} {m : MethodId} {args : Array Value} {below : List Frame} {meth : Method} {c : Code} {H : Heap} {locs : List Loc} {cells slots : Nat} {Q : State → Prop}
variable {cc : ByteArray} {pc : Nat} {ls : Array Slot} {rest : List Value} {A : Nat → Prop} {H0 : Heap}
theorem sl_ld {b L j : Nat} {xs : Nat → Int32} (hx : p.tables.exec = Jvm.exec) (hb : c.code = cc) (hX : va_X b L xs s H0) (hbl : b < H0.size) (hbA : ¬ A b) (hS : va_S A H0 H locs) (hL : L < 2 ^ 31) (hj : j < L) (hdg : decode cc pc = .ok (.iaload, 1)) (kk : W p l e R s m args below meth c H locs cells slots Q (F0 m (pc + 1) ls (.int (xs j) :: rest))) : W p l e R s m args below meth c H locs cells slots Q (F0 m pc ls (.int (nI j) :: .ref b :: rest)) :=
  va_sld hx hb hX hbl hbA hS (vp_in_nI hj hL) hdg (by rw [nI_clamp (by omega)]; exact kk)
end LW
set_option maxHeartbeats 8000000 in
/-- N calls are behind, n ahead -/
theorem law_loop {p : Program} {e : Env} {s : State} {m : MethodId} {below : List Frame} {meth : Method} {c : Code} {l : Launch} {b L : Nat} {xs : Nat → Int32} (hL : L ≤ 256) (C0 : lw_At p s m meth c b L xs) (g : va_G) (x : XA) (d : XC) (y : MA) (f : MC) (hK : va_K g vwCl (tX d) s) (hKM : va_K g vwCl (tM f) s) : ∀ (n N : Nat) (S : XS) (M : MS), N + n = L / 4 → RL S M N → ∀ (H : Heap) (locs : List Loc), va_P g vwCl (wX x d S ++ wM y f M) H → va_D (fun q : Nat => s.heap.size ≤ q) (wX x d S ++ wM y f M) → va_S (fun q : Nat => s.heap.size ≤ q) s.heap H locs → ∀ (ls : Array Slot), lv_has ls 4 [(0, .ref b), (1, .ref x.1), (2, .ref y.1), (3, .int (nI (4 * N)))] → W p l e room_1 s m #[Value.ref b] below meth c H locs 12 2613 (lw_Z below #[Value.ref b] s) (F0 m 18 ls []) := by
  obtain ⟨hx, hb, hr, hml, hown, hts0, hX, hbl, hlocks, hgv⟩ := id C0
  have hts : ∀ w ∈ lw_all, w.before #[Value.ref b] s = true := fun w h => hts0 w (lw_all_tbl h)
  have hA : ∀ q : Nat, s.heap.size ≤ q → (fun q : Nat => s.heap.size ≤ q) q := fun _ h => h
  have hbA : ¬ (fun q : Nat => s.heap.size ≤ q) b := Nat.not_le.mpr hbl
  have hF : CallFix p m c cL_law 4 s #[Value.ref b] lw_all R_law := ⟨hx, hb, hml, hown, hts⟩
  intro n
  induction n with
  | zero =>
    intro N S M hN R H locs hP hD hS ls hl
    refine lv_iload_n hx hb dL_law_18 rfl (lv_at hl 3 rfl) ?_
    refine lv_aload_n hx hb dL_law_19 rfl (lv_at hl 0 rfl) ?_
    refine va_slen hx hb hX hbl hbA hS dL_law_20 ?_
    refine lv_iconst (v := 4) hx hb dL_law_21 (by decide) ?_
    refine lv_isub hx hb dL_law_22 ?_
    refine lv_icmp_gt (tgt := 509) hx hb dL_law_23 (by decide) (fun _ => ?_) (fun c0 => absurd (by rw [show N = L / 4 by omega]; exact li_end L (by omega)) c0)
    refine lv_iconst (v := 1) hx hb dL_law_509 (by decide) ?_
    refine va_forget hS.2.2 ?_
    refine W.widen (k := 600000) (n := 7290000) (by decide) (by decide) ?_
    exact lw_ret hx hb hr hlocks dL_law_510
  | succ n ih =>
    intro N S M hN R H locs hP hD hS ls hl
    have hNL : 4 * N + 4 ≤ L := by omega
    have hN5 : N < 512 := by omega
    obtain ⟨k, hkN, hkd, hfew⟩ := R.made
    have next : ∀ (S : XS) (M : MS), RL S M (N + 1) → ∀ (H : Heap) (locs : List Loc), va_P g vwCl (wX x d S ++ wM y f M) H → va_D (fun q : Nat => s.heap.size ≤ q) (wX x d S ++ wM y f M) → va_S (fun q : Nat => s.heap.size ≤ q) s.heap H locs → ∀ (ls : Array Slot), lv_has ls 4 [(0, .ref b), (1, .ref x.1), (2, .ref y.1), (3, .int (nI (4 * N)))] → W p l e room_1 s m #[Value.ref b] below meth c H locs 12 2613 (lw_Z below #[Value.ref b] s) (F0 m 503 ls []) := by
      intro S M R H locs hP hD hS ls hl
      refine lv_iinc (v := nI (4 * (N + 1))) (lv' := [(3, .int (nI (4 * (N + 1)))), (0, .ref b), (1, .ref x.1), (2, .ref y.1)]) hx hb dL_law_503 hl (k := 3) rfl (by exact nI_add (4 * N) 4) (by decide) rfl (fun ls hl => ?_)
      refine lv_goto (tgt := 18) hx hb dL_law_506 (by decide) ?_
      exact ih (N + 1) S M (by omega) R H locs hP hD hS ls (lv_sub hl [1, 2, 3, 0] rfl)
    refine lv_iload_n hx hb dL_law_18 rfl (lv_at hl 3 rfl) ?_
    refine lv_aload_n hx hb dL_law_19 rfl (lv_at hl 0 rfl) ?_
    refine va_slen hx hb hX hbl hbA hS dL_law_20 ?_
    refine lv_iconst (v := 4) hx hb dL_law_21 (by decide) ?_
    refine lv_isub hx hb dL_law_22 ?_
    refine lv_icmp_gt (tgt := 509) hx hb dL_law_23 (by decide) (fun c0 => absurd c0 (li_go hL (by omega))) (fun _ => ?_)
    refine lv_aload_n hx hb dL_law_26 rfl (lv_at hl 0 rfl) ?_
    refine lv_iload_n hx hb dL_law_27 rfl (lv_at hl 3 rfl) ?_
    refine sl_ld hx hb hX hbl hbA hS (by omega) (show 4 * N < L by omega) dL_law_28 ?_
    refine lv_bipush (v := 15) hx hb dL_law_29 (by decide) ?_
    refine lv_iand hx hb dL_law_31 ?_
    obtain ⟨j, hj, hje⟩ := pk_andE (xs (4 * N)) (m := 15) 4 (by decide)
    refine lv_asi (w := nI j) (hje) ?_
    rcases (show j = 0 ∨ j = 1 ∨ j = 2 ∨ j = 3 ∨ j = 4 ∨ j = 5 ∨ j = 6 ∨ j = 7 ∨ j = 8 ∨ j = 9 ∨ j = 10 ∨ j = 11 ∨ j = 12 ∨ j = 13 ∨ j = 14 ∨ j = 15 by omega) with rfl | rfl | rfl | rfl | rfl | rfl | rfl | rfl | rfl | rfl | rfl | rfl | rfl | rfl | rfl | rfl
    · refine lv_tableIn (off := 76) (tgt := 108) hx hb dL_law_32 (by decide) (by decide) (by decide) (by decide) ?_
      refine lv_aload_n hx hb dL_law_108 rfl (lv_at hl 1 rfl) ?_
      refine lv_aload_n hx hb dL_law_109 rfl (lv_at hl 0 rfl) ?_
      refine lv_iload_n hx hb dL_law_110 rfl (lv_at hl 3 rfl) ?_
      refine lv_iconst (v := 1) hx hb dL_law_111 (by decide) ?_
      refine lv_iadd hx hb dL_law_112 ?_
      refine lv_asi (w := nI (4 * N + 1)) (by exact nI_add (4 * N) 1) ?_
      refine sl_ld hx hb hX hbl hbA hS (by omega) (show 4 * N + 1 < L by omega) dL_law_113 ?_
      refine lv_aload_n hx hb dL_law_114 rfl (lv_at hl 0 rfl) ?_
      refine lv_iload_n hx hb dL_law_115 rfl (lv_at hl 3 rfl) ?_
      refine lv_iconst (v := 2) hx hb dL_law_116 (by decide) ?_
      refine lv_iadd hx hb dL_law_117 ?_
      refine lv_asi (w := nI (4 * N + 2)) (by exact nI_add (4 * N) 2) ?_
      refine sl_ld hx hb hX hbl hbA hS (by omega) (show 4 * N + 2 < L by omega) dL_law_118 ?_
      refine wr_V (wf := wX x d) (S0 := S) (wr := wM y f M) (ci := 0) (As := [.int (xs (4 * N + 1)), .int (xs (4 * N + 2))]) (rest := []) hF (fun sz => cX_make l g x d S sz (xs (4 * N + 1)) (xs (4 * N + 2)) R.xt) (cwV 2 hts (lw_V q45 q46 q47 q14 q48) rfl rfl rfl (by decide +kernel) ⟨Nat.le_of_ble_eq_true rfl, Nat.le_of_ble_eq_true rfl⟩) hK hP hD hS hA rfl rfl rfl hl.1 rfl (Nat.le_of_ble_eq_true rfl) dL_law_119 ⟨Nat.le_of_ble_eq_true rfl, Nat.le_of_ble_eq_true rfl⟩ (fun r1 S1 H locs hr1 hP hD hS => ?_)
      refine lv_aload_n hx hb dL_law_122 rfl (lv_at hl 2 rfl) ?_
      refine lv_aload_n hx hb dL_law_123 rfl (lv_at hl 0 rfl) ?_
      refine lv_iload_n hx hb dL_law_124 rfl (lv_at hl 3 rfl) ?_
      refine lv_iconst (v := 1) hx hb dL_law_125 (by decide) ?_
      refine lv_iadd hx hb dL_law_126 ?_
      refine lv_asi (w := nI (4 * N + 1)) (by exact nI_add (4 * N) 1) ?_
      refine sl_ld hx hb hX hbl hbA hS (by omega) (show 4 * N + 1 < L by omega) dL_law_127 ?_
      refine lv_aload_n hx hb dL_law_128 rfl (lv_at hl 0 rfl) ?_
      refine lv_iload_n hx hb dL_law_129 rfl (lv_at hl 3 rfl) ?_
      refine lv_iconst (v := 2) hx hb dL_law_130 (by decide) ?_
      refine lv_iadd hx hb dL_law_131 ?_
      refine lv_asi (w := nI (4 * N + 2)) (by exact nI_add (4 * N) 2) ?_
      refine sl_ld hx hb hX hbl hbA hS (by omega) (show 4 * N + 2 < L by omega) dL_law_132 ?_
      refine wr_V (wf := wM y f) (S0 := M) (wr := wX x d S1) (ci := 1) (As := [.int (xs (4 * N + 1)), .int (xs (4 * N + 2))]) (rest := [.int r1]) hF (fun sz => cM_make l g y f M sz (xs (4 * N + 1)) (xs (4 * N + 2)) k (by omega) hkd) (cwV 2 hts (lw_V q178 q179 q180 q15 q181) rfl rfl rfl (by decide +kernel) ⟨Nat.le_of_ble_eq_true rfl, Nat.le_of_ble_eq_true rfl⟩) hKM (wj_swapP hP) (wj_swapD hD) hS hA rfl rfl rfl hl.1 rfl (Nat.le_of_ble_eq_true rfl) dL_law_133 ⟨Nat.le_of_ble_eq_true rfl, Nat.le_of_ble_eq_true rfl⟩ (fun r2 M1 H locs hr2 hP hD hS => ?_)
      have hP := wj_swapP hP
      have hD := wj_swapD hD
      obtain ⟨he, R1⟩ := op_make hN5 R (show k < 512 by omega) hkd hr1 hr2
      refine lv_icmp_eq (tgt := 503) hx hb dL_law_136 (by decide) (fun _ => ?_) (fun c0 => absurd (he) c0)
      exact next S1 M1 R1 H locs hP hD hS ls hl
    · refine lv_tableIn (off := 109) (tgt := 141) hx hb dL_law_32 (by decide) (by decide) (by decide) (by decide) ?_
      refine lv_aload_n hx hb dL_law_141 rfl (lv_at hl 1 rfl) ?_
      refine lv_aload_n hx hb dL_law_142 rfl (lv_at hl 0 rfl) ?_
      refine lv_iload_n hx hb dL_law_143 rfl (lv_at hl 3 rfl) ?_
      refine lv_iconst (v := 1) hx hb dL_law_144 (by decide) ?_
      refine lv_iadd hx hb dL_law_145 ?_
      refine lv_asi (w := nI (4 * N + 1)) (by exact nI_add (4 * N) 1) ?_
      refine sl_ld hx hb hX hbl hbA hS (by omega) (show 4 * N + 1 < L by omega) dL_law_146 ?_
      refine wr_V (wf := wX x d) (S0 := S) (wr := wM y f M) (ci := 0) (As := [.int (xs (4 * N + 1))]) (rest := []) hF (fun sz => cX_dispose l g x d S sz (xs (4 * N + 1)) R.xu) (cwV 1 hts (lw_V q60 q61 q62 q14 q63) rfl rfl rfl (by decide +kernel) ⟨Nat.le_of_ble_eq_true rfl, Nat.le_of_ble_eq_true rfl⟩) hK hP hD hS hA rfl rfl rfl hl.1 rfl (Nat.le_of_ble_eq_true rfl) dL_law_147 ⟨Nat.le_of_ble_eq_true rfl, Nat.le_of_ble_eq_true rfl⟩ (fun r1 S1 H locs hr1 hP hD hS => ?_)
      refine lv_aload_n hx hb dL_law_150 rfl (lv_at hl 2 rfl) ?_
      refine lv_aload_n hx hb dL_law_151 rfl (lv_at hl 0 rfl) ?_
      refine lv_iload_n hx hb dL_law_152 rfl (lv_at hl 3 rfl) ?_
      refine lv_iconst (v := 1) hx hb dL_law_153 (by decide) ?_
      refine lv_iadd hx hb dL_law_154 ?_
      refine lv_asi (w := nI (4 * N + 1)) (by exact nI_add (4 * N) 1) ?_
      refine sl_ld hx hb hX hbl hbA hS (by omega) (show 4 * N + 1 < L by omega) dL_law_155 ?_
      refine wr_V (wf := wM y f) (S0 := M) (wr := wX x d S1) (ci := 1) (As := [.int (xs (4 * N + 1))]) (rest := [.int r1]) hF (fun sz => cM_dispose l g y f M sz (xs (4 * N + 1)) ) (cwV 1 hts (lw_V q190 q191 q192 q15 q193) rfl rfl rfl (by decide +kernel) ⟨Nat.le_of_ble_eq_true rfl, Nat.le_of_ble_eq_true rfl⟩) hKM (wj_swapP hP) (wj_swapD hD) hS hA rfl rfl rfl hl.1 rfl (Nat.le_of_ble_eq_true rfl) dL_law_156 ⟨Nat.le_of_ble_eq_true rfl, Nat.le_of_ble_eq_true rfl⟩ (fun r2 M1 H locs hr2 hP hD hS => ?_)
      have hP := wj_swapP hP
      have hD := wj_swapD hD
      obtain ⟨he, R1⟩ := op_dispose hN5 R hr1 hr2
      refine lv_icmp_eq (tgt := 503) hx hb dL_law_159 (by decide) (fun _ => ?_) (fun c0 => absurd (he) c0)
      exact next S1 M1 R1 H locs hP hD hS ls hl
    · refine lv_tableIn (off := 132) (tgt := 164) hx hb dL_law_32 (by decide) (by decide) (by decide) (by decide) ?_
      refine lv_aload_n hx hb dL_law_164 rfl (lv_at hl 1 rfl) ?_
      refine lv_aload_n hx hb dL_law_165 rfl (lv_at hl 0 rfl) ?_
      refine lv_iload_n hx hb dL_law_166 rfl (lv_at hl 3 rfl) ?_
      refine lv_iconst (v := 1) hx hb dL_law_167 (by decide) ?_
      refine lv_iadd hx hb dL_law_168 ?_
      refine lv_asi (w := nI (4 * N + 1)) (by exact nI_add (4 * N) 1) ?_
      refine sl_ld hx hb hX hbl hbA hS (by omega) (show 4 * N + 1 < L by omega) dL_law_169 ?_
      refine wr_V (wf := wX x d) (S0 := S) (wr := wM y f M) (ci := 0) (As := [.int (xs (4 * N + 1))]) (rest := []) hF (fun sz => cX_setNil l g x d S sz (xs (4 * N + 1)) ) (cwV 1 hts (lw_V q83 q84 q85 q14 q86) rfl rfl rfl (by decide +kernel) ⟨Nat.le_of_ble_eq_true rfl, Nat.le_of_ble_eq_true rfl⟩) hK hP hD hS hA rfl rfl rfl hl.1 rfl (Nat.le_of_ble_eq_true rfl) dL_law_170 ⟨Nat.le_of_ble_eq_true rfl, Nat.le_of_ble_eq_true rfl⟩ (fun r1 S1 H locs hr1 hP hD hS => ?_)
      refine lv_aload_n hx hb dL_law_173 rfl (lv_at hl 2 rfl) ?_
      refine lv_aload_n hx hb dL_law_174 rfl (lv_at hl 0 rfl) ?_
      refine lv_iload_n hx hb dL_law_175 rfl (lv_at hl 3 rfl) ?_
      refine lv_iconst (v := 1) hx hb dL_law_176 (by decide) ?_
      refine lv_iadd hx hb dL_law_177 ?_
      refine lv_asi (w := nI (4 * N + 1)) (by exact nI_add (4 * N) 1) ?_
      refine sl_ld hx hb hX hbl hbA hS (by omega) (show 4 * N + 1 < L by omega) dL_law_178 ?_
      refine wr_V (wf := wM y f) (S0 := M) (wr := wX x d S1) (ci := 1) (As := [.int (xs (4 * N + 1))]) (rest := [.int r1]) hF (fun sz => cM_setNil l g y f M sz (xs (4 * N + 1)) ) (cwV 1 hts (lw_V q202 q203 q204 q15 q205) rfl rfl rfl (by decide +kernel) ⟨Nat.le_of_ble_eq_true rfl, Nat.le_of_ble_eq_true rfl⟩) hKM (wj_swapP hP) (wj_swapD hD) hS hA rfl rfl rfl hl.1 rfl (Nat.le_of_ble_eq_true rfl) dL_law_179 ⟨Nat.le_of_ble_eq_true rfl, Nat.le_of_ble_eq_true rfl⟩ (fun r2 M1 H locs hr2 hP hD hS => ?_)
      have hP := wj_swapP hP
      have hD := wj_swapD hD
      obtain ⟨he, R1⟩ := op_setNil R hr1 hr2
      refine lv_icmp_eq (tgt := 503) hx hb dL_law_182 (by decide) (fun _ => ?_) (fun c0 => absurd (he) c0)
      exact next S1 M1 R1 H locs hP hD hS ls hl
    · refine lv_tableIn (off := 155) (tgt := 187) hx hb dL_law_32 (by decide) (by decide) (by decide) (by decide) ?_
      refine lv_aload_n hx hb dL_law_187 rfl (lv_at hl 1 rfl) ?_
      refine lv_aload_n hx hb dL_law_188 rfl (lv_at hl 0 rfl) ?_
      refine lv_iload_n hx hb dL_law_189 rfl (lv_at hl 3 rfl) ?_
      refine lv_iconst (v := 1) hx hb dL_law_190 (by decide) ?_
      refine lv_iadd hx hb dL_law_191 ?_
      refine lv_asi (w := nI (4 * N + 1)) (by exact nI_add (4 * N) 1) ?_
      refine sl_ld hx hb hX hbl hbA hS (by omega) (show 4 * N + 1 < L by omega) dL_law_192 ?_
      refine lv_aload_n hx hb dL_law_193 rfl (lv_at hl 0 rfl) ?_
      refine lv_iload_n hx hb dL_law_194 rfl (lv_at hl 3 rfl) ?_
      refine lv_iconst (v := 2) hx hb dL_law_195 (by decide) ?_
      refine lv_iadd hx hb dL_law_196 ?_
      refine lv_asi (w := nI (4 * N + 2)) (by exact nI_add (4 * N) 2) ?_
      refine sl_ld hx hb hX hbl hbA hS (by omega) (show 4 * N + 2 < L by omega) dL_law_197 ?_
      refine wr_V (wf := wX x d) (S0 := S) (wr := wM y f M) (ci := 0) (As := [.int (xs (4 * N + 1)), .int (xs (4 * N + 2))]) (rest := []) hF (fun sz => cX_copy l g x d S sz (xs (4 * N + 1)) (xs (4 * N + 2)) ) (cwV 2 hts (lw_V q87 q88 q89 q14 q90) rfl rfl rfl (by decide +kernel) ⟨Nat.le_of_ble_eq_true rfl, Nat.le_of_ble_eq_true rfl⟩) hK hP hD hS hA rfl rfl rfl hl.1 rfl (Nat.le_of_ble_eq_true rfl) dL_law_198 ⟨Nat.le_of_ble_eq_true rfl, Nat.le_of_ble_eq_true rfl⟩ (fun r1 S1 H locs hr1 hP hD hS => ?_)
      refine lv_aload_n hx hb dL_law_201 rfl (lv_at hl 2 rfl) ?_
      refine lv_aload_n hx hb dL_law_202 rfl (lv_at hl 0 rfl) ?_
      refine lv_iload_n hx hb dL_law_203 rfl (lv_at hl 3 rfl) ?_
      refine lv_iconst (v := 1) hx hb dL_law_204 (by decide) ?_
      refine lv_iadd hx hb dL_law_205 ?_
      refine lv_asi (w := nI (4 * N + 1)) (by exact nI_add (4 * N) 1) ?_
      refine sl_ld hx hb hX hbl hbA hS (by omega) (show 4 * N + 1 < L by omega) dL_law_206 ?_
      refine lv_aload_n hx hb dL_law_207 rfl (lv_at hl 0 rfl) ?_
      refine lv_iload_n hx hb dL_law_208 rfl (lv_at hl 3 rfl) ?_
      refine lv_iconst (v := 2) hx hb dL_law_209 (by decide) ?_
      refine lv_iadd hx hb dL_law_210 ?_
      refine lv_asi (w := nI (4 * N + 2)) (by exact nI_add (4 * N) 2) ?_
      refine sl_ld hx hb hX hbl hbA hS (by omega) (show 4 * N + 2 < L by omega) dL_law_211 ?_
      refine wr_V (wf := wM y f) (S0 := M) (wr := wX x d S1) (ci := 1) (As := [.int (xs (4 * N + 1)), .int (xs (4 * N + 2))]) (rest := [.int r1]) hF (fun sz => cM_copy l g y f M sz (xs (4 * N + 1)) (xs (4 * N + 2)) ) (cwV 2 hts (lw_V q206 q207 q208 q15 q209) rfl rfl rfl (by decide +kernel) ⟨Nat.le_of_ble_eq_true rfl, Nat.le_of_ble_eq_true rfl⟩) hKM (wj_swapP hP) (wj_swapD hD) hS hA rfl rfl rfl hl.1 rfl (Nat.le_of_ble_eq_true rfl) dL_law_212 ⟨Nat.le_of_ble_eq_true rfl, Nat.le_of_ble_eq_true rfl⟩ (fun r2 M1 H locs hr2 hP hD hS => ?_)
      have hP := wj_swapP hP
      have hD := wj_swapD hD
      obtain ⟨he, R1⟩ := op_copy R hr1 hr2
      refine lv_icmp_eq (tgt := 503) hx hb dL_law_215 (by decide) (fun _ => ?_) (fun c0 => absurd (he) c0)
      exact next S1 M1 R1 H locs hP hD hS ls hl
    · refine lv_tableIn (off := 188) (tgt := 220) hx hb dL_law_32 (by decide) (by decide) (by decide) (by decide) ?_
      refine lv_aload_n hx hb dL_law_220 rfl (lv_at hl 1 rfl) ?_
      refine lv_aload_n hx hb dL_law_221 rfl (lv_at hl 0 rfl) ?_
      refine lv_iload_n hx hb dL_law_222 rfl (lv_at hl 3 rfl) ?_
      refine lv_iconst (v := 1) hx hb dL_law_223 (by decide) ?_
      refine lv_iadd hx hb dL_law_224 ?_
      refine lv_asi (w := nI (4 * N + 1)) (by exact nI_add (4 * N) 1) ?_
      refine sl_ld hx hb hX hbl hbA hS (by omega) (show 4 * N + 1 < L by omega) dL_law_225 ?_
      refine lv_aload_n hx hb dL_law_226 rfl (lv_at hl 0 rfl) ?_
      refine lv_iload_n hx hb dL_law_227 rfl (lv_at hl 3 rfl) ?_
      refine lv_iconst (v := 2) hx hb dL_law_228 (by decide) ?_
      refine lv_iadd hx hb dL_law_229 ?_
      refine lv_asi (w := nI (4 * N + 2)) (by exact nI_add (4 * N) 2) ?_
      refine sl_ld hx hb hX hbl hbA hS (by omega) (show 4 * N + 2 < L by omega) dL_law_230 ?_
      refine wr_V (wf := wX x d) (S0 := S) (wr := wM y f M) (ci := 0) (As := [.int (xs (4 * N + 1)), .int (xs (4 * N + 2))]) (rest := []) hF (fun sz => cX_setNumber l g x d S sz (xs (4 * N + 1)) (xs (4 * N + 2)) R.xu) (cwV 2 hts (lw_V q91 q92 q93 q14 q94) rfl rfl rfl (by decide +kernel) ⟨Nat.le_of_ble_eq_true rfl, Nat.le_of_ble_eq_true rfl⟩) hK hP hD hS hA rfl rfl rfl hl.1 rfl (Nat.le_of_ble_eq_true rfl) dL_law_231 ⟨Nat.le_of_ble_eq_true rfl, Nat.le_of_ble_eq_true rfl⟩ (fun r1 S1 H locs hr1 hP hD hS => ?_)
      refine lv_aload_n hx hb dL_law_234 rfl (lv_at hl 2 rfl) ?_
      refine lv_aload_n hx hb dL_law_235 rfl (lv_at hl 0 rfl) ?_
      refine lv_iload_n hx hb dL_law_236 rfl (lv_at hl 3 rfl) ?_
      refine lv_iconst (v := 1) hx hb dL_law_237 (by decide) ?_
      refine lv_iadd hx hb dL_law_238 ?_
      refine lv_asi (w := nI (4 * N + 1)) (by exact nI_add (4 * N) 1) ?_
      refine sl_ld hx hb hX hbl hbA hS (by omega) (show 4 * N + 1 < L by omega) dL_law_239 ?_
      refine lv_aload_n hx hb dL_law_240 rfl (lv_at hl 0 rfl) ?_
      refine lv_iload_n hx hb dL_law_241 rfl (lv_at hl 3 rfl) ?_
      refine lv_iconst (v := 2) hx hb dL_law_242 (by decide) ?_
      refine lv_iadd hx hb dL_law_243 ?_
      refine lv_asi (w := nI (4 * N + 2)) (by exact nI_add (4 * N) 2) ?_
      refine sl_ld hx hb hX hbl hbA hS (by omega) (show 4 * N + 2 < L by omega) dL_law_244 ?_
      refine wr_V (wf := wM y f) (S0 := M) (wr := wX x d S1) (ci := 1) (As := [.int (xs (4 * N + 1)), .int (xs (4 * N + 2))]) (rest := [.int r1]) hF (fun sz => cM_setNumber l g y f M sz (xs (4 * N + 1)) (xs (4 * N + 2)) ) (cwV 2 hts (lw_V q210 q211 q212 q15 q213) rfl rfl rfl (by decide +kernel) ⟨Nat.le_of_ble_eq_true rfl, Nat.le_of_ble_eq_true rfl⟩) hKM (wj_swapP hP) (wj_swapD hD) hS hA rfl rfl rfl hl.1 rfl (Nat.le_of_ble_eq_true rfl) dL_law_245 ⟨Nat.le_of_ble_eq_true rfl, Nat.le_of_ble_eq_true rfl⟩ (fun r2 M1 H locs hr2 hP hD hS => ?_)
      have hP := wj_swapP hP
      have hD := wj_swapD hD
      obtain ⟨he, R1⟩ := op_setNumber hN5 R hr1 hr2
      refine lv_icmp_eq (tgt := 503) hx hb dL_law_248 (by decide) (fun _ => ?_) (fun c0 => absurd (he) c0)
      exact next S1 M1 R1 H locs hP hD hS ls hl
    · refine lv_tableIn (off := 221) (tgt := 253) hx hb dL_law_32 (by decide) (by decide) (by decide) (by decide) ?_
      refine lv_aload_n hx hb dL_law_253 rfl (lv_at hl 1 rfl) ?_
      refine lv_aload_n hx hb dL_law_254 rfl (lv_at hl 0 rfl) ?_
      refine lv_iload_n hx hb dL_law_255 rfl (lv_at hl 3 rfl) ?_
      refine lv_iconst (v := 1) hx hb dL_law_256 (by decide) ?_
      refine lv_iadd hx hb dL_law_257 ?_
      refine lv_asi (w := nI (4 * N + 1)) (by exact nI_add (4 * N) 1) ?_
      refine sl_ld hx hb hX hbl hbA hS (by omega) (show 4 * N + 1 < L by omega) dL_law_258 ?_
      refine lv_aload_n hx hb dL_law_259 rfl (lv_at hl 0 rfl) ?_
      refine lv_iload_n hx hb dL_law_260 rfl (lv_at hl 3 rfl) ?_
      refine lv_iconst (v := 2) hx hb dL_law_261 (by decide) ?_
      refine lv_iadd hx hb dL_law_262 ?_
      refine lv_asi (w := nI (4 * N + 2)) (by exact nI_add (4 * N) 2) ?_
      refine sl_ld hx hb hX hbl hbA hS (by omega) (show 4 * N + 2 < L by omega) dL_law_263 ?_
      refine lv_aload_n hx hb dL_law_264 rfl (lv_at hl 0 rfl) ?_
      refine lv_iload_n hx hb dL_law_265 rfl (lv_at hl 3 rfl) ?_
      refine lv_iconst (v := 3) hx hb dL_law_266 (by decide) ?_
      refine lv_iadd hx hb dL_law_267 ?_
      refine lv_asi (w := nI (4 * N + 3)) (by exact nI_add (4 * N) 3) ?_
      refine sl_ld hx hb hX hbl hbA hS (by omega) (show 4 * N + 3 < L by omega) dL_law_268 ?_
      refine wr_V (wf := wX x d) (S0 := S) (wr := wM y f M) (ci := 0) (As := [.int (xs (4 * N + 1)), .int (xs (4 * N + 2)), .int (xs (4 * N + 3))]) (rest := []) hF (fun sz => cX_setLink l g x d S sz (xs (4 * N + 1)) (xs (4 * N + 2)) (xs (4 * N + 3)) R.xu) (cwV 3 hts (lw_V q95 q96 q97 q14 q98) rfl rfl rfl (by decide +kernel) ⟨Nat.le_of_ble_eq_true rfl, Nat.le_of_ble_eq_true rfl⟩) hK hP hD hS hA rfl rfl rfl hl.1 rfl (Nat.le_of_ble_eq_true rfl) dL_law_269 ⟨Nat.le_of_ble_eq_true rfl, Nat.le_of_ble_eq_true rfl⟩ (fun r1 S1 H locs hr1 hP hD hS => ?_)
      refine lv_aload_n hx hb dL_law_272 rfl (lv_at hl 2 rfl) ?_
      refine lv_aload_n hx hb dL_law_273 rfl (lv_at hl 0 rfl) ?_
      refine lv_iload_n hx hb dL_law_274 rfl (lv_at hl 3 rfl) ?_
      refine lv_iconst (v := 1) hx hb dL_law_275 (by decide) ?_
      refine lv_iadd hx hb dL_law_276 ?_
      refine lv_asi (w := nI (4 * N + 1)) (by exact nI_add (4 * N) 1) ?_
      refine sl_ld hx hb hX hbl hbA hS (by omega) (show 4 * N + 1 < L by omega) dL_law_277 ?_
      refine lv_aload_n hx hb dL_law_278 rfl (lv_at hl 0 rfl) ?_
      refine lv_iload_n hx hb dL_law_279 rfl (lv_at hl 3 rfl) ?_
      refine lv_iconst (v := 2) hx hb dL_law_280 (by decide) ?_
      refine lv_iadd hx hb dL_law_281 ?_
      refine lv_asi (w := nI (4 * N + 2)) (by exact nI_add (4 * N) 2) ?_
      refine sl_ld hx hb hX hbl hbA hS (by omega) (show 4 * N + 2 < L by omega) dL_law_282 ?_
      refine lv_aload_n hx hb dL_law_283 rfl (lv_at hl 0 rfl) ?_
      refine lv_iload_n hx hb dL_law_284 rfl (lv_at hl 3 rfl) ?_
      refine lv_iconst (v := 3) hx hb dL_law_285 (by decide) ?_
      refine lv_iadd hx hb dL_law_286 ?_
      refine lv_asi (w := nI (4 * N + 3)) (by exact nI_add (4 * N) 3) ?_
      refine sl_ld hx hb hX hbl hbA hS (by omega) (show 4 * N + 3 < L by omega) dL_law_287 ?_
      refine wr_V (wf := wM y f) (S0 := M) (wr := wX x d S1) (ci := 1) (As := [.int (xs (4 * N + 1)), .int (xs (4 * N + 2)), .int (xs (4 * N + 3))]) (rest := [.int r1]) hF (fun sz => cM_setLink l g y f M sz (xs (4 * N + 1)) (xs (4 * N + 2)) (xs (4 * N + 3)) ) (cwV 3 hts (lw_V q214 q215 q216 q15 q217) rfl rfl rfl (by decide +kernel) ⟨Nat.le_of_ble_eq_true rfl, Nat.le_of_ble_eq_true rfl⟩) hKM (wj_swapP hP) (wj_swapD hD) hS hA rfl rfl rfl hl.1 rfl (Nat.le_of_ble_eq_true rfl) dL_law_288 ⟨Nat.le_of_ble_eq_true rfl, Nat.le_of_ble_eq_true rfl⟩ (fun r2 M1 H locs hr2 hP hD hS => ?_)
      have hP := wj_swapP hP
      have hD := wj_swapD hD
      obtain ⟨he, R1⟩ := op_setLink hN5 R hr1 hr2
      refine lv_icmp_eq (tgt := 503) hx hb dL_law_291 (by decide) (fun _ => ?_) (fun c0 => absurd (he) c0)
      exact next S1 M1 R1 H locs hP hD hS ls hl
    · refine lv_tableIn (off := 264) (tgt := 296) hx hb dL_law_32 (by decide) (by decide) (by decide) (by decide) ?_
      refine lv_aload_n hx hb dL_law_296 rfl (lv_at hl 1 rfl) ?_
      refine lv_aload_n hx hb dL_law_297 rfl (lv_at hl 0 rfl) ?_
      refine lv_iload_n hx hb dL_law_298 rfl (lv_at hl 3 rfl) ?_
      refine lv_iconst (v := 1) hx hb dL_law_299 (by decide) ?_
      refine lv_iadd hx hb dL_law_300 ?_
      refine lv_asi (w := nI (4 * N + 1)) (by exact nI_add (4 * N) 1) ?_
      refine sl_ld hx hb hX hbl hbA hS (by omega) (show 4 * N + 1 < L by omega) dL_law_301 ?_
      refine lv_aload_n hx hb dL_law_302 rfl (lv_at hl 0 rfl) ?_
      refine lv_iload_n hx hb dL_law_303 rfl (lv_at hl 3 rfl) ?_
      refine lv_iconst (v := 2) hx hb dL_law_304 (by decide) ?_
      refine lv_iadd hx hb dL_law_305 ?_
      refine lv_asi (w := nI (4 * N + 2)) (by exact nI_add (4 * N) 2) ?_
      refine sl_ld hx hb hX hbl hbA hS (by omega) (show 4 * N + 2 < L by omega) dL_law_306 ?_
      refine lv_aload_n hx hb dL_law_307 rfl (lv_at hl 0 rfl) ?_
      refine lv_iload_n hx hb dL_law_308 rfl (lv_at hl 3 rfl) ?_
      refine lv_iconst (v := 3) hx hb dL_law_309 (by decide) ?_
      refine lv_iadd hx hb dL_law_310 ?_
      refine lv_asi (w := nI (4 * N + 3)) (by exact nI_add (4 * N) 3) ?_
      refine sl_ld hx hb hX hbl hbA hS (by omega) (show 4 * N + 3 < L by omega) dL_law_311 ?_
      refine wr_V (wf := wX x d) (S0 := S) (wr := wM y f M) (ci := 0) (As := [.int (xs (4 * N + 1)), .int (xs (4 * N + 2)), .int (xs (4 * N + 3))]) (rest := []) hF (fun sz => cX_follow l g x d S sz (xs (4 * N + 1)) (xs (4 * N + 2)) (xs (4 * N + 3)) R.xu) (cwV 3 hts (lw_V q102 q103 q104 q14 q105) rfl rfl rfl (by decide +kernel) ⟨Nat.le_of_ble_eq_true rfl, Nat.le_of_ble_eq_true rfl⟩) hK hP hD hS hA rfl rfl rfl hl.1 rfl (Nat.le_of_ble_eq_true rfl) dL_law_312 ⟨Nat.le_of_ble_eq_true rfl, Nat.le_of_ble_eq_true rfl⟩ (fun r1 S1 H locs hr1 hP hD hS => ?_)
      refine lv_aload_n hx hb dL_law_315 rfl (lv_at hl 2 rfl) ?_
      refine lv_aload_n hx hb dL_law_316 rfl (lv_at hl 0 rfl) ?_
      refine lv_iload_n hx hb dL_law_317 rfl (lv_at hl 3 rfl) ?_
      refine lv_iconst (v := 1) hx hb dL_law_318 (by decide) ?_
      refine lv_iadd hx hb dL_law_319 ?_
      refine lv_asi (w := nI (4 * N + 1)) (by exact nI_add (4 * N) 1) ?_
      refine sl_ld hx hb hX hbl hbA hS (by omega) (show 4 * N + 1 < L by omega) dL_law_320 ?_
      refine lv_aload_n hx hb dL_law_321 rfl (lv_at hl 0 rfl) ?_
      refine lv_iload_n hx hb dL_law_322 rfl (lv_at hl 3 rfl) ?_
      refine lv_iconst (v := 2) hx hb dL_law_323 (by decide) ?_
      refine lv_iadd hx hb dL_law_324 ?_
      refine lv_asi (w := nI (4 * N + 2)) (by exact nI_add (4 * N) 2) ?_
      refine sl_ld hx hb hX hbl hbA hS (by omega) (show 4 * N + 2 < L by omega) dL_law_325 ?_
      refine lv_aload_n hx hb dL_law_326 rfl (lv_at hl 0 rfl) ?_
      refine lv_iload_n hx hb dL_law_327 rfl (lv_at hl 3 rfl) ?_
      refine lv_iconst (v := 3) hx hb dL_law_328 (by decide) ?_
      refine lv_iadd hx hb dL_law_329 ?_
      refine lv_asi (w := nI (4 * N + 3)) (by exact nI_add (4 * N) 3) ?_
      refine sl_ld hx hb hX hbl hbA hS (by omega) (show 4 * N + 3 < L by omega) dL_law_330 ?_
      refine wr_V (wf := wM y f) (S0 := M) (wr := wX x d S1) (ci := 1) (As := [.int (xs (4 * N + 1)), .int (xs (4 * N + 2)), .int (xs (4 * N + 3))]) (rest := [.int r1]) hF (fun sz => cM_follow l g y f M sz (xs (4 * N + 1)) (xs (4 * N + 2)) (xs (4 * N + 3)) ) (cwV 3 hts (lw_V q218 q219 q220 q15 q221) rfl rfl rfl (by decide +kernel) ⟨Nat.le_of_ble_eq_true rfl, Nat.le_of_ble_eq_true rfl⟩) hKM (wj_swapP hP) (wj_swapD hD) hS hA rfl rfl rfl hl.1 rfl (Nat.le_of_ble_eq_true rfl) dL_law_331 ⟨Nat.le_of_ble_eq_true rfl, Nat.le_of_ble_eq_true rfl⟩ (fun r2 M1 H locs hr2 hP hD hS => ?_)
      have hP := wj_swapP hP
      have hD := wj_swapD hD
      obtain ⟨he, R1⟩ := op_follow hN5 R hr1 hr2
      refine lv_icmp_eq (tgt := 503) hx hb dL_law_334 (by decide) (fun _ => ?_) (fun c0 => absurd (he) c0)
      exact next S1 M1 R1 H locs hP hD hS ls hl
    · refine lv_tableIn (off := 307) (tgt := 339) hx hb dL_law_32 (by decide) (by decide) (by decide) (by decide) ?_
      refine lv_aload_n hx hb dL_law_339 rfl (lv_at hl 1 rfl) ?_
      refine lv_aload_n hx hb dL_law_340 rfl (lv_at hl 0 rfl) ?_
      refine lv_iload_n hx hb dL_law_341 rfl (lv_at hl 3 rfl) ?_
      refine lv_iconst (v := 1) hx hb dL_law_342 (by decide) ?_
      refine lv_iadd hx hb dL_law_343 ?_
      refine lv_asi (w := nI (4 * N + 1)) (by exact nI_add (4 * N) 1) ?_
      refine sl_ld hx hb hX hbl hbA hS (by omega) (show 4 * N + 1 < L by omega) dL_law_344 ?_
      refine rd_V (ci := 0) (As := [.int (xs (4 * N + 1))]) (rest := []) hF (cX_holds l g x d S (xs (4 * N + 1)) R.xu) (cwV 1 hts (lw_V q106 q107 q108 q14 q109) rfl rfl rfl (by decide +kernel) ⟨Nat.le_of_ble_eq_true rfl, Nat.le_of_ble_eq_true rfl⟩) hK (wj_Pl hP) rfl rfl rfl hl.1 rfl (Nat.le_of_ble_eq_true rfl) dL_law_345 ⟨Nat.le_of_ble_eq_true rfl, Nat.le_of_ble_eq_true rfl⟩ (fun r1 hr1 => ?_)
      refine lv_aload_n hx hb dL_law_348 rfl (lv_at hl 2 rfl) ?_
      refine lv_aload_n hx hb dL_law_349 rfl (lv_at hl 0 rfl) ?_
      refine lv_iload_n hx hb dL_law_350 rfl (lv_at hl 3 rfl) ?_
      refine lv_iconst (v := 1) hx hb dL_law_351 (by decide) ?_
      refine lv_iadd hx hb dL_law_352 ?_
      refine lv_asi (w := nI (4 * N + 1)) (by exact nI_add (4 * N) 1) ?_
      refine sl_ld hx hb hX hbl hbA hS (by omega) (show 4 * N + 1 < L by omega) dL_law_353 ?_
      refine rd_V (ci := 1) (As := [.int (xs (4 * N + 1))]) (rest := [.int r1]) hF (cM_holds l g y f M (xs (4 * N + 1)) ) (cwV 1 hts (lw_V q222 q223 q224 q15 q225) rfl rfl rfl (by decide +kernel) ⟨Nat.le_of_ble_eq_true rfl, Nat.le_of_ble_eq_true rfl⟩) hKM (wj_Pr hP) rfl rfl rfl hl.1 rfl (Nat.le_of_ble_eq_true rfl) dL_law_354 ⟨Nat.le_of_ble_eq_true rfl, Nat.le_of_ble_eq_true rfl⟩ (fun r2 hr2 => ?_)
      have he := op_holds hN5 R hr1 hr2
      refine lv_icmp_eq (tgt := 503) hx hb dL_law_357 (by decide) (fun _ => ?_) (fun c0 => absurd (he) c0)
      exact next S M R.up H locs hP hD hS ls hl
    · refine lv_tableIn (off := 330) (tgt := 362) hx hb dL_law_32 (by decide) (by decide) (by decide) (by decide) ?_
      refine lv_aload_n hx hb dL_law_362 rfl (lv_at hl 1 rfl) ?_
      refine lv_aload_n hx hb dL_law_363 rfl (lv_at hl 0 rfl) ?_
      refine lv_iload_n hx hb dL_law_364 rfl (lv_at hl 3 rfl) ?_
      refine lv_iconst (v := 1) hx hb dL_law_365 (by decide) ?_
      refine lv_iadd hx hb dL_law_366 ?_
      refine lv_asi (w := nI (4 * N + 1)) (by exact nI_add (4 * N) 1) ?_
      refine sl_ld hx hb hX hbl hbA hS (by omega) (show 4 * N + 1 < L by omega) dL_law_367 ?_
      refine rd_V (ci := 0) (As := [.int (xs (4 * N + 1))]) (rest := []) hF (cX_number l g x d S (xs (4 * N + 1)) R.xu) (cwV 1 hts (lw_V q110 q111 q112 q14 q113) rfl rfl rfl (by decide +kernel) ⟨Nat.le_of_ble_eq_true rfl, Nat.le_of_ble_eq_true rfl⟩) hK (wj_Pl hP) rfl rfl rfl hl.1 rfl (Nat.le_of_ble_eq_true rfl) dL_law_368 ⟨Nat.le_of_ble_eq_true rfl, Nat.le_of_ble_eq_true rfl⟩ (fun r1 hr1 => ?_)
      refine lv_aload_n hx hb dL_law_371 rfl (lv_at hl 2 rfl) ?_
      refine lv_aload_n hx hb dL_law_372 rfl (lv_at hl 0 rfl) ?_
      refine lv_iload_n hx hb dL_law_373 rfl (lv_at hl 3 rfl) ?_
      refine lv_iconst (v := 1) hx hb dL_law_374 (by decide) ?_
      refine lv_iadd hx hb dL_law_375 ?_
      refine lv_asi (w := nI (4 * N + 1)) (by exact nI_add (4 * N) 1) ?_
      refine sl_ld hx hb hX hbl hbA hS (by omega) (show 4 * N + 1 < L by omega) dL_law_376 ?_
      refine rd_V (ci := 1) (As := [.int (xs (4 * N + 1))]) (rest := [.int r1]) hF (cM_number l g y f M (xs (4 * N + 1)) ) (cwV 1 hts (lw_V q226 q227 q228 q15 q229) rfl rfl rfl (by decide +kernel) ⟨Nat.le_of_ble_eq_true rfl, Nat.le_of_ble_eq_true rfl⟩) hKM (wj_Pr hP) rfl rfl rfl hl.1 rfl (Nat.le_of_ble_eq_true rfl) dL_law_377 ⟨Nat.le_of_ble_eq_true rfl, Nat.le_of_ble_eq_true rfl⟩ (fun r2 hr2 => ?_)
      have he := op_number hN5 R hr1 hr2
      refine lv_icmp_eq (tgt := 503) hx hb dL_law_380 (by decide) (fun _ => ?_) (fun c0 => absurd (he) c0)
      exact next S M R.up H locs hP hD hS ls hl
    · refine lv_tableIn (off := 353) (tgt := 385) hx hb dL_law_32 (by decide) (by decide) (by decide) (by decide) ?_
      refine lv_aload_n hx hb dL_law_385 rfl (lv_at hl 1 rfl) ?_
      refine lv_aload_n hx hb dL_law_386 rfl (lv_at hl 0 rfl) ?_
      refine lv_iload_n hx hb dL_law_387 rfl (lv_at hl 3 rfl) ?_
      refine lv_iconst (v := 1) hx hb dL_law_388 (by decide) ?_
      refine lv_iadd hx hb dL_law_389 ?_
      refine lv_asi (w := nI (4 * N + 1)) (by exact nI_add (4 * N) 1) ?_
      refine sl_ld hx hb hX hbl hbA hS (by omega) (show 4 * N + 1 < L by omega) dL_law_390 ?_
      refine lv_aload_n hx hb dL_law_391 rfl (lv_at hl 0 rfl) ?_
      refine lv_iload_n hx hb dL_law_392 rfl (lv_at hl 3 rfl) ?_
      refine lv_iconst (v := 2) hx hb dL_law_393 (by decide) ?_
      refine lv_iadd hx hb dL_law_394 ?_
      refine lv_asi (w := nI (4 * N + 2)) (by exact nI_add (4 * N) 2) ?_
      refine sl_ld hx hb hX hbl hbA hS (by omega) (show 4 * N + 2 < L by omega) dL_law_395 ?_
      refine rd_V (ci := 0) (As := [.int (xs (4 * N + 1)), .int (xs (4 * N + 2))]) (rest := []) hF (cX_linkHolds l g x d S (xs (4 * N + 1)) (xs (4 * N + 2)) R.xu) (cwV 2 hts (lw_V q114 q115 q116 q14 q117) rfl rfl rfl (by decide +kernel) ⟨Nat.le_of_ble_eq_true rfl, Nat.le_of_ble_eq_true rfl⟩) hK (wj_Pl hP) rfl rfl rfl hl.1 rfl (Nat.le_of_ble_eq_true rfl) dL_law_396 ⟨Nat.le_of_ble_eq_true rfl, Nat.le_of_ble_eq_true rfl⟩ (fun r1 hr1 => ?_)
      refine lv_aload_n hx hb dL_law_399 rfl (lv_at hl 2 rfl) ?_
      refine lv_aload_n hx hb dL_law_400 rfl (lv_at hl 0 rfl) ?_
      refine lv_iload_n hx hb dL_law_401 rfl (lv_at hl 3 rfl) ?_
      refine lv_iconst (v := 1) hx hb dL_law_402 (by decide) ?_
      refine lv_iadd hx hb dL_law_403 ?_
      refine lv_asi (w := nI (4 * N + 1)) (by exact nI_add (4 * N) 1) ?_
      refine sl_ld hx hb hX hbl hbA hS (by omega) (show 4 * N + 1 < L by omega) dL_law_404 ?_
      refine lv_aload_n hx hb dL_law_405 rfl (lv_at hl 0 rfl) ?_
      refine lv_iload_n hx hb dL_law_406 rfl (lv_at hl 3 rfl) ?_
      refine lv_iconst (v := 2) hx hb dL_law_407 (by decide) ?_
      refine lv_iadd hx hb dL_law_408 ?_
      refine lv_asi (w := nI (4 * N + 2)) (by exact nI_add (4 * N) 2) ?_
      refine sl_ld hx hb hX hbl hbA hS (by omega) (show 4 * N + 2 < L by omega) dL_law_409 ?_
      refine rd_V (ci := 1) (As := [.int (xs (4 * N + 1)), .int (xs (4 * N + 2))]) (rest := [.int r1]) hF (cM_linkHolds l g y f M (xs (4 * N + 1)) (xs (4 * N + 2)) ) (cwV 2 hts (lw_V q231 q232 q233 q15 q234) rfl rfl rfl (by decide +kernel) ⟨Nat.le_of_ble_eq_true rfl, Nat.le_of_ble_eq_true rfl⟩) hKM (wj_Pr hP) rfl rfl rfl hl.1 rfl (Nat.le_of_ble_eq_true rfl) dL_law_410 ⟨Nat.le_of_ble_eq_true rfl, Nat.le_of_ble_eq_true rfl⟩ (fun r2 hr2 => ?_)
      have he := op_linkHolds hN5 R hr1 hr2
      refine lv_icmp_eq (tgt := 503) hx hb dL_law_413 (by decide) (fun _ => ?_) (fun c0 => absurd (he) c0)
      exact next S M R.up H locs hP hD hS ls hl
    · refine lv_tableIn (off := 386) (tgt := 418) hx hb dL_law_32 (by decide) (by decide) (by decide) (by decide) ?_
      refine lv_aload_n hx hb dL_law_418 rfl (lv_at hl 1 rfl) ?_
      refine lv_aload_n hx hb dL_law_419 rfl (lv_at hl 0 rfl) ?_
      refine lv_iload_n hx hb dL_law_420 rfl (lv_at hl 3 rfl) ?_
      refine lv_iconst (v := 1) hx hb dL_law_421 (by decide) ?_
      refine lv_iadd hx hb dL_law_422 ?_
      refine lv_asi (w := nI (4 * N + 1)) (by exact nI_add (4 * N) 1) ?_
      refine sl_ld hx hb hX hbl hbA hS (by omega) (show 4 * N + 1 < L by omega) dL_law_423 ?_
      refine lv_aload_n hx hb dL_law_424 rfl (lv_at hl 0 rfl) ?_
      refine lv_iload_n hx hb dL_law_425 rfl (lv_at hl 3 rfl) ?_
      refine lv_iconst (v := 2) hx hb dL_law_426 (by decide) ?_
      refine lv_iadd hx hb dL_law_427 ?_
      refine lv_asi (w := nI (4 * N + 2)) (by exact nI_add (4 * N) 2) ?_
      refine sl_ld hx hb hX hbl hbA hS (by omega) (show 4 * N + 2 < L by omega) dL_law_428 ?_
      refine rd_V (ci := 0) (As := [.int (xs (4 * N + 1)), .int (xs (4 * N + 2))]) (rest := []) hF (cX_same l g x d S (xs (4 * N + 1)) (xs (4 * N + 2)) R.xu) (cwV 2 hts (lw_V q118 q119 q120 q14 q121) rfl rfl rfl (by decide +kernel) ⟨Nat.le_of_ble_eq_true rfl, Nat.le_of_ble_eq_true rfl⟩) hK (wj_Pl hP) rfl rfl rfl hl.1 rfl (Nat.le_of_ble_eq_true rfl) dL_law_429 ⟨Nat.le_of_ble_eq_true rfl, Nat.le_of_ble_eq_true rfl⟩ (fun r1 hr1 => ?_)
      refine lv_aload_n hx hb dL_law_432 rfl (lv_at hl 2 rfl) ?_
      refine lv_aload_n hx hb dL_law_433 rfl (lv_at hl 0 rfl) ?_
      refine lv_iload_n hx hb dL_law_434 rfl (lv_at hl 3 rfl) ?_
      refine lv_iconst (v := 1) hx hb dL_law_435 (by decide) ?_
      refine lv_iadd hx hb dL_law_436 ?_
      refine lv_asi (w := nI (4 * N + 1)) (by exact nI_add (4 * N) 1) ?_
      refine sl_ld hx hb hX hbl hbA hS (by omega) (show 4 * N + 1 < L by omega) dL_law_437 ?_
      refine lv_aload_n hx hb dL_law_438 rfl (lv_at hl 0 rfl) ?_
      refine lv_iload_n hx hb dL_law_439 rfl (lv_at hl 3 rfl) ?_
      refine lv_iconst (v := 2) hx hb dL_law_440 (by decide) ?_
      refine lv_iadd hx hb dL_law_441 ?_
      refine lv_asi (w := nI (4 * N + 2)) (by exact nI_add (4 * N) 2) ?_
      refine sl_ld hx hb hX hbl hbA hS (by omega) (show 4 * N + 2 < L by omega) dL_law_442 ?_
      refine rd_V (ci := 1) (As := [.int (xs (4 * N + 1)), .int (xs (4 * N + 2))]) (rest := [.int r1]) hF (cM_same l g y f M (xs (4 * N + 1)) (xs (4 * N + 2)) ) (cwV 2 hts (lw_V q235 q236 q237 q15 q238) rfl rfl rfl (by decide +kernel) ⟨Nat.le_of_ble_eq_true rfl, Nat.le_of_ble_eq_true rfl⟩) hKM (wj_Pr hP) rfl rfl rfl hl.1 rfl (Nat.le_of_ble_eq_true rfl) dL_law_443 ⟨Nat.le_of_ble_eq_true rfl, Nat.le_of_ble_eq_true rfl⟩ (fun r2 hr2 => ?_)
      have he := op_same hN5 R hr1 hr2
      refine lv_icmp_eq (tgt := 503) hx hb dL_law_446 (by decide) (fun _ => ?_) (fun c0 => absurd (he) c0)
      exact next S M R.up H locs hP hD hS ls hl
    · refine lv_tableIn (off := 419) (tgt := 451) hx hb dL_law_32 (by decide) (by decide) (by decide) (by decide) ?_
      refine lv_aload_n hx hb dL_law_451 rfl (lv_at hl 1 rfl) ?_
      refine rd_V (ci := 0) (As := []) (rest := []) hF (cX_live l g x d S  ) (cwV 0 hts (lw_V q122 q123 q124 q14 q125) rfl rfl rfl (by decide +kernel) ⟨Nat.le_of_ble_eq_true rfl, Nat.le_of_ble_eq_true rfl⟩) hK (wj_Pl hP) rfl rfl rfl hl.1 rfl (Nat.le_of_ble_eq_true rfl) dL_law_452 ⟨Nat.le_of_ble_eq_true rfl, Nat.le_of_ble_eq_true rfl⟩ (fun r1 hr1 => ?_)
      refine lv_aload_n hx hb dL_law_455 rfl (lv_at hl 2 rfl) ?_
      refine rd_V (ci := 1) (As := []) (rest := [.int r1]) hF (cM_live l g y f M  k (by omega) hkd) (cwV 0 hts (lw_V q239 q187 q188 q15 q189) rfl rfl rfl (by decide +kernel) ⟨Nat.le_of_ble_eq_true rfl, Nat.le_of_ble_eq_true rfl⟩) hKM (wj_Pr hP) rfl rfl rfl hl.1 rfl (Nat.le_of_ble_eq_true rfl) dL_law_456 ⟨Nat.le_of_ble_eq_true rfl, Nat.le_of_ble_eq_true rfl⟩ (fun r2 hr2 => ?_)
      have he := op_live0 R hN5 (show k < 512 by omega) hkd hr1 hr2
      refine lv_icmp_eq (tgt := 503) hx hb dL_law_459 (by decide) (fun _ => ?_) (fun c0 => absurd (he) c0)
      exact next S M R.up H locs hP hD hS ls hl
    · refine lv_tableIn (off := 432) (tgt := 464) hx hb dL_law_32 (by decide) (by decide) (by decide) (by decide) ?_
      refine lv_aload_n hx hb dL_law_464 rfl (lv_at hl 1 rfl) ?_
      refine rd_V (ci := 0) (As := []) (rest := []) hF (cX_reached l g x d S  R.xu) (cwV 0 hts (lw_V q129 q130 q131 q14 q132) rfl rfl rfl (by decide +kernel) ⟨Nat.le_of_ble_eq_true rfl, Nat.le_of_ble_eq_true rfl⟩) hK (wj_Pl hP) rfl rfl rfl hl.1 rfl (Nat.le_of_ble_eq_true rfl) dL_law_465 ⟨Nat.le_of_ble_eq_true rfl, Nat.le_of_ble_eq_true rfl⟩ (fun r1 hr1 => ?_)
      refine lv_aload_n hx hb dL_law_468 rfl (lv_at hl 2 rfl) ?_
      refine wr_V (wf := wM y f) (S0 := M) (wr := wX x d S) (ci := 1) (As := []) (rest := [.int r1]) hF (fun sz => cM_reached l g y f M sz  k (by omega) hkd hfew) (cwV 0 hts (lw_V q240 q241 q242 q15 q243) rfl rfl rfl (by decide +kernel) ⟨Nat.le_of_ble_eq_true rfl, Nat.le_of_ble_eq_true rfl⟩) hKM (wj_swapP hP) (wj_swapD hD) hS hA rfl rfl rfl hl.1 rfl (Nat.le_of_ble_eq_true rfl) dL_law_469 ⟨Nat.le_of_ble_eq_true rfl, Nat.le_of_ble_eq_true rfl⟩ (fun r2 M1 H locs hr2 hP hD hS => ?_)
      have hP := wj_swapP hP
      have hD := wj_swapD hD
      obtain ⟨he, R1⟩ := op_reached hN5 R (show k < 512 by omega) hkd hr1 hr2
      refine lv_icmp_eq (tgt := 503) hx hb dL_law_472 (by decide) (fun _ => ?_) (fun c0 => absurd (he) c0)
      exact next S M1 R1 H locs hP hD hS ls hl
    · refine lv_tableIn (off := 445) (tgt := 477) hx hb dL_law_32 (by decide) (by decide) (by decide) (by decide) ?_
      refine lv_aload_n hx hb dL_law_477 rfl (lv_at hl 1 rfl) ?_
      refine wr_V (wf := wX x d) (S0 := S) (wr := wM y f M) (ci := 0) (As := []) (rest := []) hF (fun sz => cX_sweep l g x d S sz  R.xu) (cwV 0 hts (lw_V q141 q142 q143 q14 q144) rfl rfl rfl (by decide +kernel) ⟨Nat.le_of_ble_eq_true rfl, Nat.le_of_ble_eq_true rfl⟩) hK hP hD hS hA rfl rfl rfl hl.1 rfl (Nat.le_of_ble_eq_true rfl) dL_law_478 ⟨Nat.le_of_ble_eq_true rfl, Nat.le_of_ble_eq_true rfl⟩ (fun r1 S1 H locs hr1 hP hD hS => ?_)
      refine lv_aload_n hx hb dL_law_481 rfl (lv_at hl 2 rfl) ?_
      refine wr_V (wf := wM y f) (S0 := M) (wr := wX x d S1) (ci := 1) (As := []) (rest := [.int r1]) hF (fun sz => cM_sweep l g y f M sz  k (by omega) hkd hfew) (cwV 0 hts (lw_V q252 q253 q254 q15 q255) rfl rfl rfl (by decide +kernel) ⟨Nat.le_of_ble_eq_true rfl, Nat.le_of_ble_eq_true rfl⟩) hKM (wj_swapP hP) (wj_swapD hD) hS hA rfl rfl rfl hl.1 rfl (Nat.le_of_ble_eq_true rfl) dL_law_482 ⟨Nat.le_of_ble_eq_true rfl, Nat.le_of_ble_eq_true rfl⟩ (fun r2 M1 H locs hr2 hP hD hS => ?_)
      have hP := wj_swapP hP
      have hD := wj_swapD hD
      obtain ⟨he, R1⟩ := op_sweep hN5 R (show k < 512 by omega) hkd hr1 hr2
      refine lv_icmp_eq (tgt := 503) hx hb dL_law_485 (by decide) (fun _ => ?_) (fun c0 => absurd (he) c0)
      exact next S1 M1 R1 H locs hP hD hS ls hl
    · refine lv_tableIn (off := 458) (tgt := 490) hx hb dL_law_32 (by decide) (by decide) (by decide) (by decide) ?_
      refine lv_aload_n hx hb dL_law_490 rfl (lv_at hl 1 rfl) ?_
      refine rd_V (ci := 0) (As := []) (rest := []) hF (cX_total l g x d S  ) (cwV 0 hts (lw_V q145 q146 q147 q14 q148) rfl rfl rfl (by decide +kernel) ⟨Nat.le_of_ble_eq_true rfl, Nat.le_of_ble_eq_true rfl⟩) hK (wj_Pl hP) rfl rfl rfl hl.1 rfl (Nat.le_of_ble_eq_true rfl) dL_law_491 ⟨Nat.le_of_ble_eq_true rfl, Nat.le_of_ble_eq_true rfl⟩ (fun r1 hr1 => ?_)
      refine lv_aload_n hx hb dL_law_494 rfl (lv_at hl 2 rfl) ?_
      refine rd_V (ci := 1) (As := []) (rest := [.int r1]) hF (cM_total l g y f M  k (by omega) hkd) (cwV 0 hts (lw_V q256 q257 q258 q15 q259) rfl rfl rfl (by decide +kernel) ⟨Nat.le_of_ble_eq_true rfl, Nat.le_of_ble_eq_true rfl⟩) hKM (wj_Pr hP) rfl rfl rfl hl.1 rfl (Nat.le_of_ble_eq_true rfl) dL_law_495 ⟨Nat.le_of_ble_eq_true rfl, Nat.le_of_ble_eq_true rfl⟩ (fun r2 hr2 => ?_)
      have he := op_total R hN5 (show k < 512 by omega) hkd hr1 hr2
      refine lv_icmp_eq (tgt := 503) hx hb dL_law_498 (by decide) (fun _ => ?_) (fun c0 => absurd (he) c0)
      exact next S M R.up H locs hP hD hS ls hl
    · refine lv_tableOut (tgt := 503) hx hb dL_law_32 (Or.inr (by decide)) (by decide) ?_
      exact next S M R.up H locs hP hD hS ls hl
end
section
/-! the law from its entry: two objects are made, then the loop -/
set_option maxRecDepth 100000
section WI
variable {p : Program} {l : Launch} {e : Env} {R : Room} {s : State} {m : MethodId} {args : Array Value} {below : List Frame} {meth : Method} {c : Code} {H : Heap} {locs : List Loc} {cells slots : Nat} {Q : State → Prop}
variable {cc : ByteArray} {pc nL : Nat} {ls : Array Slot} {rest : List Value} {g : va_G} {A : Nat → Prop} {H0 : Heap}
variable {yy : MethodName} {bytes : ByteArray} {maxL index : Nat} {ws : List Cond} {rm : Room} {own : String} {b : Nat} {st0 : List Value}
theorem wr_I {σ : Type} {wf : σ → va_W} {tf : σ → List (ClassId × FieldType)} {w0 wr : va_W} {post : σ → Prop} {mc ms : Nat} (F : CallFix p m c cc nL s args lw_all own) (hM : ∀ sz : Nat, Met l yy ws rm (WrC g [] w0 sz [.ref b]) (va_Qv post (WI g tf wf (va_A w0 sz)) (va_A w0 sz)) mc ms (va_A w0 sz)) (cw : CallB R s args own index yy bytes maxL none ws rm mc ms 0 ∧ yy.name = "<init>" ∧ (Cond.instanceMethod yy).before args s = true) (hK : va_K g vwCl [] s) (hP : va_P g vwCl (w0 ++ wr) H) (hD : va_D A (w0 ++ wr)) (hS : va_S A H0 H locs) (hA : ∀ q : Nat, H0.size ≤ q → A q) (hl : ls.size = nL) (hst : st0 = .ref b :: rest) (hW : (rest.map fun v => v.category).sum ≤ 8) (hdg : decode cc pc = .ok (.invokespecial index, 3)) (hf : cells + mc ≤ R.cells ∧ slots + ms ≤ R.slots)
    (kk : ∀ (u : σ) (H1 : Heap) (locs1 : List Loc), post u → va_K g vwCl (tf u) s → va_P g vwCl (wf u ++ wr) H1 → va_D A (wf u ++ wr) → va_S A H0 H1 locs1 → W p l e R s m args below meth c H1 locs1 (cells + mc) (slots + ms) Q (F0 m (pc + 3) ls rest)) : W p l e R s m args below meth c H locs cells slots Q (F0 m pc ls st0) := by
  have hPc := wj_Pl hP
  have hDc := wj_Dl hD
  have hFc := wj_free hD hS hA
  refine va_callv (va_runI (As := []) (g := F0 m pc ls st0) F (hM H.size) cw ⟨WrC.blind, fun U hU hW => ⟨rfl, by rw [hU], by rw [hU]; exact hPc, va_K.moved hW.alike hK, hDc.weaken (fun _ _ _ _ => trivial)⟩⟩ rfl rfl hl hst (lv_room hW) hdg hf) hS (fun q _ h => hFc q h) hFc (fun u t H1 locs1 ht hvm hw hB hz hk hS1 => ?_)
  obtain ⟨hP1, hK1, hD1⟩ := hB
  rw [ht] at hP1
  obtain ⟨hP2, hD2⟩ := wj_join hP hD hFc hk hP1 hD1
  exact kk u H1 locs1 hw (va_K.moved hvm.symm hK1) hP2 hD2 hS1
end WI
-- ===== YOUR PART BEGINS =====
set_option maxHeartbeats 4000000 in
/-- from the entry, for every script of at most 256 ints, the law comes to its end with true -/
theorem whole_start {p : Program} {e : Env} {s : State} {m : MethodId} {below : List Frame} {meth : Method} {c : Code} (l : Launch) {b L : Nat} {xs : Nat → Int32} (hL : L ≤ 256) (C0 : lw_At p s m meth c b L xs) : W p l e room_1 s m #[Value.ref b] below meth c s.heap [] 0 0 (lw_Z below #[Value.ref b] s) (entryFrame m ([Value.ref b] : List Value).toArray 4) := by
  obtain ⟨hx, hb, hr, hml, hown, hts0, hX, hbl, hlocks, hgv⟩ := id C0
  have hts : ∀ w ∈ lw_all, w.before #[Value.ref b] s = true := fun w h => hts0 w (lw_all_tbl h)
  have hA : ∀ q : Nat, s.heap.size ≤ q → (fun q : Nat => s.heap.size ≤ q) q := fun _ h => h
  have hF : CallFix p m c cL_law 4 s #[Value.ref b] lw_all R_law := ⟨hx, hb, hml, hown, hts⟩
  obtain ⟨c0, iS0, hKn0⟩ := u_known (C := RX0) (T := TX0) (N := 6) (n := 6) hts in_X0 (hts _ q17)
  obtain ⟨c1, iS1, hKn1⟩ := u_known (C := RX1) (T := TX1) (N := 7) (n := 7) hts in_X1 (hts _ q150)
  obtain ⟨g, hKc⟩ : ∃ g : va_G, ∀ (k : Nat) (q : vw_C), vwCl[k]? = some q → u_Kn s q.1 q.2.1 q.2.2 (g.1 k) (g.2 k) := by
    refine ⟨(fun k => if k = 0 then c0 else c1, fun k => if k = 0 then iS0 else iS1), ?_⟩
    intro k q hq
    match k, hq with
    | 0, hq => cases hq; exact hKn0
    | 1, hq => cases hq; exact hKn1
    | k + 2, hq => simp [vwCl] at hq
  have hS : va_S (fun q : Nat => s.heap.size ≤ q) s.heap s.heap [] := va_S.rf
  have hK : va_K g vwCl [] s := ⟨hKc, fun k q h => by simp at h⟩
  have hP : va_P g vwCl [] s.heap := fun k q h => by simp at h
  have hD : va_D (fun q : Nat => s.heap.size ≤ q) [] := ⟨fun i j p q h => by simp at h, fun k q h => by simp at h⟩
  have hl := lv_entry ([.ref b]) (n := 4) (Nat.le_of_ble_eq_true rfl)
  rw [lg_entry_eq]
  generalize (lg_sl ([.ref b]) ++ List.replicate (4 - (lg_sl ([.ref b])).length) Slot.unset).toArray = ls at hl ⊢
  have hl : lv_has ls 4 [(0, .ref b)] := hl
  refine va_new (ci := 0) (fs := fX0) (C := RX0) (T := TX0) (N := 6) hx hb hts in_X0 tyX0 tyX0_ok hown (hts _ q16) (hts _ q17) (hts _ q14) hK hP hD hS hA rfl (fun j hj => by rcases (show j = 0 ∨ j = 1 ∨ j = 2 ∨ j = 3 ∨ j = 4 ∨ j = 5 by omega) with rfl | rfl | rfl | rfl | rfl | rfl <;> rfl) (by decide) (by decide) dL_law_0 (fun h0 H hP hD hS => ?_)
  have hP : va_P g vwCl ([(h0, .inr (0, fX0))] ++ []) H := hP
  have hD : va_D (fun q : Nat => s.heap.size ≤ q) ([(h0, .inr (0, fX0))] ++ []) := hD
  refine lv_dup hx hb dL_law_3 rfl ?_
  refine wr_I (rest := [.ref h0]) hF (fun sz => cX_init l g h0 sz) (cwI 0 hts (lw_meth q20) rfl rfl rfl (hts _ q14) (hts _ q18) (hts _ q19) rfl (by decide +kernel) ⟨by decide, by decide⟩) hK hP hD hS hA hl.1 rfl (Nat.le_of_ble_eq_true rfl) dL_law_4 ⟨by decide, by decide⟩ (fun u H1 locs hu hKX hP1 hD1 hS => ?_)
  obtain ⟨x, d⟩ := u
  obtain rfl : x.1 = h0 := hu
  have hP : va_P g vwCl (wX x d X0s) H1 := hP1
  have hD : va_D (fun q : Nat => s.heap.size ≤ q) (wX x d X0s) := hD1
  refine lv_astore_n (lv' := [(1, .ref x.1), (0, .ref b)]) hx hb dL_law_7 rfl hl (by decide) rfl (fun ls hl => ?_)
  refine va_new (ci := 1) (fs := fM0) (C := RX1) (T := TX1) (N := 7) hx hb hts in_X1 tyX1 tyX1_ok hown (hts _ q149) (hts _ q150) (hts _ q15) hK hP hD hS hA rfl (fun j hj => by rcases (show j = 0 ∨ j = 1 ∨ j = 2 ∨ j = 3 ∨ j = 4 ∨ j = 5 ∨ j = 6 by omega) with rfl | rfl | rfl | rfl | rfl | rfl | rfl <;> rfl) (by decide) (by decide) dL_law_8 (fun h1 H hP hD hS => ?_)
  refine lv_dup hx hb dL_law_11 rfl ?_
  refine wr_I (rest := [.ref h1]) hF (fun sz => cM_init l g h1 sz) (cwI 0 hts (lw_meth q153) rfl rfl rfl (hts _ q15) (hts _ q151) (hts _ q152) rfl (by decide +kernel) ⟨by decide, by decide⟩) hK (wj_swapP hP) (wj_swapD hD) hS hA hl.1 rfl (Nat.le_of_ble_eq_true rfl) dL_law_12 ⟨by decide, by decide⟩ (fun u H2 locs hu hKM hP2 hD2 hS2 => ?_)
  obtain ⟨y, f⟩ := u
  obtain rfl : y.1 = h1 := hu
  have hP := wj_swapP hP2
  have hD := wj_swapD hD2
  refine lv_astore_n (lv' := [(2, .ref y.1), (1, .ref x.1), (0, .ref b)]) hx hb dL_law_15 rfl hl (by decide) rfl (fun ls hl => ?_)
  refine lv_iconst (v := 0) hx hb dL_law_16 (by decide) ?_
  refine lv_istore_n (lv' := [(3, .int 0), (2, .ref y.1), (1, .ref x.1), (0, .ref b)]) hx hb dL_law_17 rfl hl (by decide) rfl (fun ls hl => ?_)
  refine W.widen (k := 12) (n := 2613) (Nat.le_of_ble_eq_true rfl) (Nat.le_of_ble_eq_true rfl) ?_
  exact law_loop hL C0 g x d y f hKX hKM (L / 4) 0 X0s M0s (by omega) RL_start H2 locs hP hD hS2 ls (lv_sub hl [3, 2, 1, 0] rfl)
-- ===== YOUR PART ENDS =====
set_option maxHeartbeats 4000000 in
theorem lw_walk (l : Launch) (b : Addr) (xs : List Int32) : MetFree l x (headSpec (Jvm.Cond.code x code maxLocals ret :: tables_1) room_1) (lw_P b xs) (fun _ _ _ _ _ => True) lw_Q := by
  refine MetFree.of_bodyS (code := code) (maxLocals := maxLocals) (ret := ret) (by decide) ?_ ?_
  · intro args s m h hn
    obtain ⟨meth, c, h1, h2, h3, h4, h5, h6, -, -⟩ := Cond.code_spec hn (atoms_spec (ws := Jvm.Cond.code x code maxLocals ret :: tables_1) h _ List.mem_cons_self)
    exact ⟨meth, c, h1, h2, h3, h4, h5, h6⟩
  · intro p e s m args below meth c s₁ B hml0 hP _
    obtain ⟨rfl, hx, hbd, hgv⟩ := hP
    obtain ⟨scr, harrAt, hlist, hof, hsmall⟩ := hx
    obtain ⟨hcb, hkn, -, -⟩ := State.arrayAt?_spec harrAt
    have hown : s.vm.findClass R_law = some m.cls := findClass_of_methodNamed B.named
    have hts0 : ∀ c ∈ (Jvm.Cond.code x code maxLocals ret :: tables_1), c.before #[Value.ref b] s = true := atoms_spec (ws := Jvm.Cond.code x code maxLocals ret :: tables_1) B.pre
    have hts : ∀ w ∈ lw_tbl, w.before #[Value.ref b] s = true := k2_hts_sels lw_privs (fun w hw => hts0 w (List.mem_cons_of_mem _ hw)) lw_privs_ok
    have hml : c.maxLocals = 4 := B.maxLocals_eq (hts0 _ List.mem_cons_self)
    have X₀ : Stand p l e room_1 s m #[Value.ref b] below meth c s₁ [] 0 0 := Stand.of_body B
    have hh0 : s₁.heap = s.heap := by rw [B.state]; rfl
    have hsz : scr.slots.size = xs.length := by rw [← Array.length_toList, hlist, List.length_map]
    have hval : ∀ j : Nat, j < xs.length → scr.slots[j]? = some (.int (xs.getD j 0)) := fun j hj => by
      rw [← Array.getElem?_toList, hlist]
      simp [hj]
    have hbl : b < s.heap.size := (Array.getElem?_eq_some_iff.mp hcb).1
    have hX : va_X b xs.length (fun j => xs.getD j 0) s s.heap := ⟨scr, hcb, hof, hkn, hsz, hval⟩
    have K : W p l e room_1 s m #[Value.ref b] below meth c s₁.heap [] 0 0 (lw_Z below #[Value.ref b] s) (entryFrame m ([Value.ref b] : List Value).toArray 4) := by
      rw [hh0]
      exact whole_start l hbd ⟨B.exec, B.bytes, B.returns, hml, hown, hts, hX, hbl, B.notSynchronized, hgv⟩
    obtain ⟨t, a1, o, b1, b2, b3⟩ := K s₁ rfl X₀
    exact ⟨t, o, a1, b1, b2, b3⟩
theorem lw_pre_spec {args : Array Value} {s : State} (h : (Jvm.Cond.and given_1 narrow_1).before args s = true) (hr : rest_1_c.before args s = true) : ∃ (b : Addr) (xs : List Int32), lw_P b xs args s := by
  have hs := flat_of_before _ h
  have hq := flat_of_before _ hr
  have hc : (Cond.count 1).before args s = true := hs _ (by decide +kernel)
  have harr : (Cond.arrayOf (.arg 0) .int).before args s = true := hs _ (by decide +kernel)
  have hle : (Cond.le (.length (.arg 0)) (.int 256)).before args s = true := hs _ (by decide +kernel)
  have hlen : (Cond.isInt (.length (.arg 0))).before args s = true := hq _ (by decide +kernel)
  have hall : (Cond.all (.arg 0) (.isInt (.elem (.arg 0) (.index 0)))).before args s = true := hq _ (by decide +kernel)
  obtain ⟨b, xs, hb, hx⟩ := State.ints_of_pre rfl harr hlen hall
  have hsm : xs.length < 2 ^ 31 := hx.choose_spec.2.2.2
  have hev : (Term.length (.arg 0)).eval args s none [] s = some (.int xs.length.toInt32) := hx.length_eval hb
  have hv := Cond.le_ints hev (show (Term.int 256).eval args s none [] s = some (.int 256) from rfl)
  have hd : xs.length.toInt32 ≤ 256 := by
    simpa [Cond.before, Cond.holds, hv] using hle
  have hN : xs.length ≤ 256 := (Int32.ofNat_le_ofNat hsm (by decide)).mp (show Int32.ofNat xs.length ≤ Int32.ofNat 256 from hd)
  exact ⟨b, xs, Cond.one_arg hc (show args[0]? = some (.ref b) from hb), hx, hN, h⟩
theorem lw_comes (l : Launch) : Comes l x (Jvm.Cond.code x code maxLocals ret :: tables_1) room_1 (fun tb e args s => Calls_1 tb e args s ∧ rest_1 tb e args s ∧ Pre_1 tb e args s)
    (fun _ _ args s o t => lw_Q args s o t) := by
  intro p e ha hc hk s m args below hf hfit hheap happ hpre
  obtain ⟨b, xs, hP⟩ := lw_pre_spec hpre.2.2 hpre.2.1
  obtain ⟨k, o, h1, h2, h3, hQ⟩ := lw_walk l b xs p e ha hc hk s m args below hf ((Spec.applies_iff_loose hf).mp happ).1 hP trivial
  exact ⟨k, o, h1, h2, h3, hQ⟩
theorem lw_frame {s t : State} {o : Outcome} {args : Array Value} (h : Framed s o t [] 600000 7290000) :
    Framed s o t (fieldLocs frame_1_writes args s ++ arrayLocs frame_1_arrays args s ++ staticLocs frame_1_statics s) 600000 7290000 := h
theorem lw_limb (L : Cond) (hL : ∀ (args : Array Value) (s t : State), L.after args s (.returned (some (.int 1))) t = true) :
    ArmFor flags0 classFile x code maxLocals ret World_1 tables_1 room_1 Calls_1 rest_1 Pre_1
      (fun tb e a s o t => postC L tb e a s o t ∧ Framed s o t (fieldLocs frame_1_writes a s ++ arrayLocs frame_1_arrays a s ++ staticLocs frame_1_statics s) 600000 7290000) := by
  intro l _ _ _ p e ha hc hk s m args below hf hfit hheap happ hpre
  obtain ⟨k, o, h1, h2, h3, rfl, hF⟩ := lw_comes l p e ha hc hk s m args below hf hfit hheap happ hpre
  exact ⟨k, _, h1, h2, h3, hL args s _, lw_frame hF⟩
theorem i_vc : Claimed_1_1 ∧ Claimed_1_2 := ⟨lw_limb limb_1_1 (fun args s t => by simp [limb_1_1, Cond.after, Cond.holds, Cond.value]), lw_limb limb_1_2 (fun args s t => Cond.after_iff.mpr (by
  first | (rw [show limb_1_2 = Cond.eq .result (.int 1) from rfl, Cond.eq_ints (x := 1) (y := 1) rfl rfl]; simp; done) | (simp [limb_1_2, Cond.value, Term.eval]; done)))⟩
end
