section
-- ===== PART A: goes FIRST, ahead of the names: the tables' words, and 'selects' of the private methods out of them =====
/-- a private method of a class that the tables say can be made, by its rows of tables_1 -/
def lw_okq (q : MethodName × Nat) : Prop := (q.1.cls ≠ "java/lang/invoke/MethodHandle" ∧ q.1.cls ≠ "java/lang/invoke/VarHandle") ∧ Cond.instantiable q.1.cls q.2 ∈ tables_1 ∧ Cond.privateMethod q.1 ∈ tables_1 ∧ Cond.instanceMethod q.1 ∈ tables_1
set_option maxRecDepth 100000
theorem lw_t1 {w : Cond} (h : w ∈ tables_1_1) : w ∈ tables_1 := List.mem_append_left _ h
theorem lw_t2 {w : Cond} (h : w ∈ tables_1_2) : w ∈ tables_1 := List.mem_append_right _ h
theorem lw_p0 : lw_okq (⟨"DremelStore", "closeGroup", "()V"⟩, 21) := ⟨⟨by decide +kernel, by decide +kernel⟩, lw_t1 (List.mem_of_getElem? (i := 4) rfl), lw_t1 (List.mem_of_getElem? (i := 86) rfl), lw_t1 (List.mem_of_getElem? (i := 87) rfl)⟩
theorem lw_p1 : lw_okq (⟨"DremelStore", "addValueEntry", "(II)V"⟩, 21) := ⟨⟨by decide +kernel, by decide +kernel⟩, lw_t1 (List.mem_of_getElem? (i := 4) rfl), lw_t1 (List.mem_of_getElem? (i := 90) rfl), lw_t1 (List.mem_of_getElem? (i := 91) rfl)⟩
theorem lw_p2 : lw_okq (⟨"DremelStore", "addTagEntry", "(II)V"⟩, 21) := ⟨⟨by decide +kernel, by decide +kernel⟩, lw_t1 (List.mem_of_getElem? (i := 4) rfl), lw_t1 (List.mem_of_getElem? (i := 94) rfl), lw_t1 (List.mem_of_getElem? (i := 95) rfl)⟩
theorem lw_p3 : lw_okq (⟨"DremelStore", "isEnded", "(I)Z"⟩, 21) := ⟨⟨by decide +kernel, by decide +kernel⟩, lw_t1 (List.mem_of_getElem? (i := 4) rfl), lw_t1 (List.mem_of_getElem? (i := 110) rfl), lw_t1 (List.mem_of_getElem? (i := 111) rfl)⟩
theorem lw_p4 : lw_okq (⟨"DremelStore", "findTag", "(II)V"⟩, 21) := ⟨⟨by decide +kernel, by decide +kernel⟩, lw_t1 (List.mem_of_getElem? (i := 4) rfl), lw_t1 (List.mem_of_getElem? (i := 114) rfl), lw_t1 (List.mem_of_getElem? (i := 115) rfl)⟩
theorem lw_p5 : lw_okq (⟨"DremelStore", "isGroup", "(II)Z"⟩, 21) := ⟨⟨by decide +kernel, by decide +kernel⟩, lw_t1 (List.mem_of_getElem? (i := 4) rfl), lw_t1 (List.mem_of_getElem? (i := 122) rfl), lw_t1 (List.mem_of_getElem? (i := 123) rfl)⟩
theorem lw_p6 : lw_okq (⟨"DremelStore", "findValue", "(II)V"⟩, 21) := ⟨⟨by decide +kernel, by decide +kernel⟩, lw_t1 (List.mem_of_getElem? (i := 4) rfl), lw_t1 (List.mem_of_getElem? (i := 127) rfl), lw_t1 (List.mem_of_getElem? (i := 128) rfl)⟩
theorem lw_p7 : lw_okq (⟨"DremelStore", "notesBefore", "(I)I"⟩, 21) := ⟨⟨by decide +kernel, by decide +kernel⟩, lw_t1 (List.mem_of_getElem? (i := 4) rfl), lw_t1 (List.mem_of_getElem? (i := 144) rfl), lw_t1 (List.mem_of_getElem? (i := 145) rfl)⟩
theorem lw_p8 : lw_okq (⟨"DremelStoreModel", "missing", "(I)Z"⟩, 11) := ⟨⟨by decide +kernel, by decide +kernel⟩, lw_t1 (List.mem_of_getElem? (i := 156) rfl), lw_t1 (List.mem_of_getElem? (i := 216) rfl), lw_t1 (List.mem_of_getElem? (i := 217) rfl)⟩
theorem lw_p9 : lw_okq (⟨"DremelStoreModel", "ended", "()I"⟩, 11) := ⟨⟨by decide +kernel, by decide +kernel⟩, lw_t1 (List.mem_of_getElem? (i := 156) rfl), lw_t1 (List.mem_of_getElem? (i := 220) rfl), lw_t1 (List.mem_of_getElem? (i := 221) rfl)⟩
theorem lw_p10 : lw_okq (⟨"DremelStoreModel", "noGroup", "(II)Z"⟩, 11) := ⟨⟨by decide +kernel, by decide +kernel⟩, lw_t1 (List.mem_of_getElem? (i := 156) rfl), lw_t1 (List.mem_of_getElem? (i := 228) rfl), lw_t1 (List.mem_of_getElem? (i := 229) rfl)⟩
theorem lw_p11 : lw_okq (⟨"DremelStoreModel", "holds", "(III)Z"⟩, 11) := ⟨⟨by decide +kernel, by decide +kernel⟩, lw_t1 (List.mem_of_getElem? (i := 156) rfl), lw_t2 (List.mem_of_getElem? (i := 12) rfl), lw_t2 (List.mem_of_getElem? (i := 13) rfl)⟩
def lw_privs_1 : List (MethodName × Nat) := [(⟨"DremelStore", "closeGroup", "()V"⟩, 21), (⟨"DremelStore", "addValueEntry", "(II)V"⟩, 21), (⟨"DremelStore", "addTagEntry", "(II)V"⟩, 21), (⟨"DremelStore", "isEnded", "(I)Z"⟩, 21), (⟨"DremelStore", "findTag", "(II)V"⟩, 21), (⟨"DremelStore", "isGroup", "(II)Z"⟩, 21), (⟨"DremelStore", "findValue", "(II)V"⟩, 21), (⟨"DremelStore", "notesBefore", "(I)I"⟩, 21), (⟨"DremelStoreModel", "missing", "(I)Z"⟩, 11), (⟨"DremelStoreModel", "ended", "()I"⟩, 11), (⟨"DremelStoreModel", "noGroup", "(II)Z"⟩, 11), (⟨"DremelStoreModel", "holds", "(III)Z"⟩, 11)]
theorem lw_r1 : ∀ q ∈ lw_privs_1, lw_okq q := List.forall_mem_cons.mpr ⟨lw_p0, List.forall_mem_cons.mpr ⟨lw_p1, List.forall_mem_cons.mpr ⟨lw_p2, List.forall_mem_cons.mpr ⟨lw_p3, List.forall_mem_cons.mpr ⟨lw_p4, List.forall_mem_cons.mpr ⟨lw_p5, List.forall_mem_cons.mpr ⟨lw_p6, List.forall_mem_cons.mpr ⟨lw_p7, List.forall_mem_cons.mpr ⟨lw_p8, List.forall_mem_cons.mpr ⟨lw_p9, List.forall_mem_cons.mpr ⟨lw_p10, List.forall_mem_cons.mpr ⟨lw_p11, fun _ h => absurd h List.not_mem_nil⟩⟩⟩⟩⟩⟩⟩⟩⟩⟩⟩⟩
def lw_privs : List (MethodName × Nat) := lw_privs_1
def lw_tbl : List Cond := k2_sels lw_privs ++ tables_1
theorem lw_privs_ok : ∀ q ∈ lw_privs, lw_okq q := lw_r1
-- ===== ONE list of words for every method: the tables' words that hold all through a run =====
def lw_all : List Cond := lw_tbl.filter goodWord
/-- a word of the tables by its place: claim/WORDS.tsv -/
theorem lw_w {w : Cond} (i : Nat) (h : lw_tbl[i]? = some w) (g : goodWord w = true) : w ∈ lw_all := List.mem_filter.mpr ⟨List.mem_of_getElem? h, g⟩
theorem lw_all_tbl {w : Cond} (h : w ∈ lw_all) : w ∈ lw_tbl := (List.mem_filter.mp h).1
theorem lw_self : GoodIn lw_all lw_all := fun w h => ⟨h, good_of_word (List.mem_filter.mp h).2⟩
/-- a class's field words, by their places -/
theorem lw_in (ws : List Cond) (ps : List Nat) (hp : ws = ps.filterMap (fun i => lw_tbl[i]?)) (hg : ws.all goodWord = true) : ∀ w ∈ ws, w ∈ lw_all := by
  intro w h
  have h1 := List.all_eq_true.mp hg w h
  rw [hp] at h
  obtain ⟨i, -, hi⟩ := List.mem_filterMap.mp h
  exact lw_w i hi h1
/-- the words of a contract for the method y with code b, L locals, answer r -/
abbrev ws_ (y : MethodName) (b : ByteArray) (L : Nat) (r : Option FieldType) : List Cond := Cond.code y b L r :: lw_all
theorem lw_meth {y : MethodName} {b : ByteArray} {L : Nat} {r : Option FieldType} (h : Cond.code y b L r ∈ lw_all) : GoodIn lw_all (ws_ y b L r) := by
  intro w hw
  rcases List.mem_cons.mp hw with e | e
  · rw [e]
    exact lw_self _ h
  · exact lw_self _ e
theorem lw_app {a c : List Cond} (ha : ∀ w ∈ a, w ∈ lw_all) (hc : GoodIn lw_all c) : GoodIn lw_all (a ++ c) := by
  intro w hw
  rcases List.mem_append.mp hw with e | e
  · exact lw_self w (ha w e)
  · exact hc w e
/-- what a call through an object asks: cwV n hts (lw_V ..) -/
theorem lw_V {own : String} {idx : Nat} {C : String} {y : MethodName} {b : ByteArray} {L : Nat} {r : Option FieldType} (h1 : Cond.methodLink own idx y ∈ lw_all) (h2 : Cond.instanceMethod y ∈ lw_all) (h3 : Cond.selects C y y ∈ lw_all) (h4 : Cond.initialized C ∈ lw_all) (h5 : Cond.code y b L r ∈ lw_all) : GoodIn lw_all (wsV own idx C y (ws_ y b L r)) := by
  refine lw_app ?_ (lw_meth h5)
  intro w hw
  simp only [List.mem_cons, List.not_mem_nil, or_false] at hw
  rcases hw with e | e | e | e
  · rw [e]; exact h1
  · rw [e]; exact h2
  · rw [e]; exact h3
  · rw [e]; exact h4
/-- what a static call asks: va_cwS n hts (lw_S ..) -/
theorem lw_S {own : String} {idx : Nat} {y : MethodName} {b : ByteArray} {L : Nat} {r : Option FieldType} (h1 : Cond.methodLink own idx y ∈ lw_all) (h2 : Cond.static y ∈ lw_all) (h3 : Cond.initialized y.cls ∈ lw_all) (h4 : Cond.code y b L r ∈ lw_all) : GoodIn lw_all (va_wsS own idx y (ws_ y b L r)) := by
  refine lw_app ?_ (lw_meth h4)
  intro w hw
  simp only [List.mem_cons, List.not_mem_nil, or_false] at hw
  rcases hw with e | e | e
  · rw [e]; exact h1
  · rw [e]; exact h2
  · rw [e]; exact h3
/-- the words of a contract for a method WITH HANDLERS (hh: its table) -/
abbrev wsW_ (y : MethodName) (b : ByteArray) (L : Nat) (r : Option FieldType) (hh : List (Nat × Nat × Nat × Nat)) : List Cond := Cond.codeWith y b L r hh :: lw_all
theorem lw_methW {y : MethodName} {b : ByteArray} {L : Nat} {r : Option FieldType} {hh : List (Nat × Nat × Nat × Nat)} (h : Cond.codeWith y b L r hh ∈ lw_all) : GoodIn lw_all (wsW_ y b L r hh) := by
  intro w hw
  rcases List.mem_cons.mp hw with e | e
  · rw [e]
    exact lw_self _ h
  · exact lw_self _ e
/-- any list of words by their places (lw_in), good -/
theorem lw_good {ws : List Cond} (h : ∀ w ∈ ws, w ∈ lw_all) : GoodIn lw_all ws := fun w hw => lw_self w (h w hw)
/-- what a call of a method with handlers asks: vx_cwVW n hts (lw_VW ..), vx_cwSW n hts (lw_SW ..) -/
theorem lw_VW {own : String} {idx : Nat} {C : String} {y : MethodName} {b : ByteArray} {L : Nat} {r : Option FieldType} {hh : List (Nat × Nat × Nat × Nat)} (h1 : Cond.methodLink own idx y ∈ lw_all) (h2 : Cond.instanceMethod y ∈ lw_all) (h3 : Cond.selects C y y ∈ lw_all) (h4 : Cond.initialized C ∈ lw_all) (h5 : Cond.codeWith y b L r hh ∈ lw_all) : GoodIn lw_all (wsV own idx C y (wsW_ y b L r hh)) := by
  refine lw_app ?_ (lw_methW h5)
  intro w hw
  simp only [List.mem_cons, List.not_mem_nil, or_false] at hw
  rcases hw with e | e | e | e
  · rw [e]; exact h1
  · rw [e]; exact h2
  · rw [e]; exact h3
  · rw [e]; exact h4
theorem lw_SW {own : String} {idx : Nat} {y : MethodName} {b : ByteArray} {L : Nat} {r : Option FieldType} {hh : List (Nat × Nat × Nat × Nat)} (h1 : Cond.methodLink own idx y ∈ lw_all) (h2 : Cond.static y ∈ lw_all) (h3 : Cond.initialized y.cls ∈ lw_all) (h4 : Cond.codeWith y b L r hh ∈ lw_all) : GoodIn lw_all (va_wsS own idx y (wsW_ y b L r hh)) := by
  refine lw_app ?_ (lw_methW h4)
  intro w hw
  simp only [List.mem_cons, List.not_mem_nil, or_false] at hw
  rcases hw with e | e | e
  · rw [e]; exact h1
  · rw [e]; exact h2
  · rw [e]; exact h3
/-- a word by its place in its run of the tables -/
theorem lw_at {r : List Cond} (hr : ∀ w ∈ r, w ∈ lw_tbl) {w : Cond} (i : Nat) (h : r[i]? = some w) : w ∈ lw_tbl := hr w (List.mem_of_getElem? h)
theorem lw_g {w : Cond} (h : w ∈ lw_tbl) (g : goodWord w = true) : w ∈ lw_all := List.mem_filter.mpr ⟨h, g⟩
theorem lw_ms : ∀ w ∈ k2_sels lw_privs, w ∈ lw_tbl := fun w h => show w ∈ k2_sels lw_privs ++ tables_1 from List.mem_append_left _ h
theorem lw_m1 : ∀ w ∈ tables_1_1, w ∈ lw_tbl := fun w h => show w ∈ k2_sels lw_privs ++ tables_1 from List.mem_append_right (k2_sels lw_privs) (show w ∈ tables_1 from List.mem_append_left _ h)
theorem lw_m2 : ∀ w ∈ tables_1_2, w ∈ lw_tbl := fun w h => show w ∈ k2_sels lw_privs ++ tables_1 from List.mem_append_right (k2_sels lw_privs) (show w ∈ tables_1 from List.mem_append_right _ h)
theorem qs0 : (Cond.selects "DremelStore" ⟨"DremelStore", "closeGroup", "()V"⟩ ⟨"DremelStore", "closeGroup", "()V"⟩) ∈ lw_all := lw_g (lw_at lw_ms 0 rfl) rfl
theorem qs1 : (Cond.selects "DremelStore" ⟨"DremelStore", "addValueEntry", "(II)V"⟩ ⟨"DremelStore", "addValueEntry", "(II)V"⟩) ∈ lw_all := lw_g (lw_at lw_ms 1 rfl) rfl
theorem qs2 : (Cond.selects "DremelStore" ⟨"DremelStore", "addTagEntry", "(II)V"⟩ ⟨"DremelStore", "addTagEntry", "(II)V"⟩) ∈ lw_all := lw_g (lw_at lw_ms 2 rfl) rfl
theorem qs3 : (Cond.selects "DremelStore" ⟨"DremelStore", "isEnded", "(I)Z"⟩ ⟨"DremelStore", "isEnded", "(I)Z"⟩) ∈ lw_all := lw_g (lw_at lw_ms 3 rfl) rfl
theorem qs4 : (Cond.selects "DremelStore" ⟨"DremelStore", "findTag", "(II)V"⟩ ⟨"DremelStore", "findTag", "(II)V"⟩) ∈ lw_all := lw_g (lw_at lw_ms 4 rfl) rfl
theorem qs5 : (Cond.selects "DremelStore" ⟨"DremelStore", "isGroup", "(II)Z"⟩ ⟨"DremelStore", "isGroup", "(II)Z"⟩) ∈ lw_all := lw_g (lw_at lw_ms 5 rfl) rfl
theorem qs6 : (Cond.selects "DremelStore" ⟨"DremelStore", "findValue", "(II)V"⟩ ⟨"DremelStore", "findValue", "(II)V"⟩) ∈ lw_all := lw_g (lw_at lw_ms 6 rfl) rfl
theorem qs7 : (Cond.selects "DremelStore" ⟨"DremelStore", "notesBefore", "(I)I"⟩ ⟨"DremelStore", "notesBefore", "(I)I"⟩) ∈ lw_all := lw_g (lw_at lw_ms 7 rfl) rfl
theorem qs8 : (Cond.selects "DremelStoreModel" ⟨"DremelStoreModel", "missing", "(I)Z"⟩ ⟨"DremelStoreModel", "missing", "(I)Z"⟩) ∈ lw_all := lw_g (lw_at lw_ms 8 rfl) rfl
theorem qs9 : (Cond.selects "DremelStoreModel" ⟨"DremelStoreModel", "ended", "()I"⟩ ⟨"DremelStoreModel", "ended", "()I"⟩) ∈ lw_all := lw_g (lw_at lw_ms 9 rfl) rfl
theorem qs10 : (Cond.selects "DremelStoreModel" ⟨"DremelStoreModel", "noGroup", "(II)Z"⟩ ⟨"DremelStoreModel", "noGroup", "(II)Z"⟩) ∈ lw_all := lw_g (lw_at lw_ms 10 rfl) rfl
theorem qs11 : (Cond.selects "DremelStoreModel" ⟨"DremelStoreModel", "holds", "(III)Z"⟩ ⟨"DremelStoreModel", "holds", "(III)Z"⟩) ∈ lw_all := lw_g (lw_at lw_ms 11 rfl) rfl
end
section
set_option maxRecDepth 100000
def RX0 : String := "DremelStore"
def TX0 : u_T := fun k => match k with
  | 0 => ("DremelStore", "isOpen", "Z", false)
  | 1 => ("DremelStore", "begun", "I", false)
  | 2 => ("DremelStore", "ended", "I", false)
  | 3 => ("DremelStore", "noteThere", "[Z", true)
  | 4 => ("DremelStore", "notes", "[I", true)
  | 5 => ("DremelStore", "noteCount", "I", false)
  | 6 => ("DremelStore", "tagEntries", "I", false)
  | 7 => ("DremelStore", "tagAgain", "[I", true)
  | 8 => ("DremelStore", "tagDepth", "[I", true)
  | 9 => ("DremelStore", "tags", "[I", true)
  | 10 => ("DremelStore", "tagCount", "I", false)
  | 11 => ("DremelStore", "valueEntries", "I", false)
  | 12 => ("DremelStore", "valueAgain", "[I", true)
  | 13 => ("DremelStore", "valueDepth", "[I", true)
  | 14 => ("DremelStore", "values", "[I", true)
  | 15 => ("DremelStore", "valueCount", "I", false)
  | 16 => ("DremelStore", "openGroups", "I", false)
  | 17 => ("DremelStore", "openValues", "I", false)
  | 18 => ("DremelStore", "groupCount", "I", false)
  | 19 => ("DremelStore", "found", "I", false)
  | _ => ("DremelStore", "passed", "I", false)
def tyX0 : Nat → FieldType := fun k => match k with
  | 0 => .boolean
  | 1 => .int
  | 2 => .int
  | 3 => .array .boolean
  | 4 => .array .int
  | 5 => .int
  | 6 => .int
  | 7 => .array .int
  | 8 => .array .int
  | 9 => .array .int
  | 10 => .int
  | 11 => .int
  | 12 => .array .int
  | 13 => .array .int
  | 14 => .array .int
  | 15 => .int
  | 16 => .int
  | 17 => .int
  | 18 => .int
  | 19 => .int
  | _ => .int
abbrev wsX00 : List Cond := u_ws RX0 TX0 21
set_option maxRecDepth 100000 in
theorem nmX0 : ∀ a, a < 21 → ∀ b, b < 21 → a ≠ b → (TX0 a).2.1 ≠ (TX0 b).2.1 := by decide +kernel
set_option maxRecDepth 100000 in
theorem tyX0_ok : ∀ k, k < 21 → parseFieldDescriptor (TX0 k).2.2.1 = some (tyX0 k) := by decide +kernel
abbrev cX0_init : ByteArray := prog_1_method_1_code
def yX0_init : MethodName := ⟨RX0, "<init>", "()V"⟩
abbrev cX0_begin : ByteArray := prog_1_method_2_code
def yX0_begin : MethodName := ⟨RX0, "begin", "(ZI)I"⟩
abbrev cX0_group : ByteArray := prog_1_method_3_code
def yX0_group : MethodName := ⟨RX0, "group", "(ZI)I"⟩
abbrev cX0_closeGroup : ByteArray := prog_1_method_6_code
def yX0_closeGroup : MethodName := ⟨RX0, "closeGroup", "()V"⟩
abbrev cX0_addValueEntry : ByteArray := prog_1_method_8_code
def yX0_addValueEntry : MethodName := ⟨RX0, "addValueEntry", "(II)V"⟩
abbrev cX0_addTagEntry : ByteArray := prog_1_method_7_code
def yX0_addTagEntry : MethodName := ⟨RX0, "addTagEntry", "(II)V"⟩
abbrev cX0_value : ByteArray := prog_1_method_4_code
def yX0_value : MethodName := ⟨RX0, "value", "(I)I"⟩
abbrev cX0_end : ByteArray := prog_1_method_5_code
def yX0_end : MethodName := ⟨RX0, "end", "()I"⟩
abbrev cX0_groups : ByteArray := prog_1_method_9_code
def yX0_groups : MethodName := ⟨RX0, "groups", "(I)I"⟩
abbrev cX0_isEnded : ByteArray := prog_1_method_16_code
def yX0_isEnded : MethodName := ⟨RX0, "isEnded", "(I)Z"⟩
abbrev cX0_findTag : ByteArray := prog_1_method_19_code
def yX0_findTag : MethodName := ⟨RX0, "findTag", "(II)V"⟩
abbrev cX0_values : ByteArray := prog_1_method_10_code
def yX0_values : MethodName := ⟨RX0, "values", "(II)I"⟩
abbrev cX0_isGroup : ByteArray := prog_1_method_17_code
def yX0_isGroup : MethodName := ⟨RX0, "isGroup", "(II)Z"⟩
abbrev cX0_findValue : ByteArray := prog_1_method_20_code
def yX0_findValue : MethodName := ⟨RX0, "findValue", "(II)V"⟩
abbrev cX0_valueAt : ByteArray := prog_1_method_11_code
def yX0_valueAt : MethodName := ⟨RX0, "valueAt", "(III)I"⟩
abbrev cX0_hasNote : ByteArray := prog_1_method_12_code
def yX0_hasNote : MethodName := ⟨RX0, "hasNote", "(I)I"⟩
abbrev cX0_label : ByteArray := prog_1_method_13_code
def yX0_label : MethodName := ⟨RX0, "label", "(II)I"⟩
abbrev cX0_notesBefore : ByteArray := prog_1_method_18_code
def yX0_notesBefore : MethodName := ⟨RX0, "notesBefore", "(I)I"⟩
abbrev cX0_sumByTag : ByteArray := prog_1_method_14_code
def yX0_sumByTag : MethodName := ⟨RX0, "sumByTag", "(I)I"⟩
abbrev cX0_recordsWith : ByteArray := prog_1_method_15_code
def yX0_recordsWith : MethodName := ⟨RX0, "recordsWith", "(II)I"⟩
theorem q13 : (Jvm.Cond.initialized "DremelStore") ∈ lw_all := lw_g (lw_at lw_m1 1 rfl) rfl
theorem q16 : (Jvm.Cond.instantiable "DremelStore" (21 : Nat)) ∈ lw_all := lw_g (lw_at lw_m1 4 rfl) rfl
theorem q18 : (Jvm.Cond.instanceMethod ({ cls := "DremelStore", name := "<init>", desc := "()V" } : Jvm.MethodName)) ∈ lw_all := lw_g (lw_at lw_m1 6 rfl) rfl
theorem q19 : (Jvm.Cond.code ({ cls := "DremelStore", name := "<init>", desc := "()V" } : Jvm.MethodName) prog_1_method_1_code (1 : Nat) (Option.none : Option Jvm.ClassFile.FieldType)) ∈ lw_all := lw_g (lw_at lw_m1 7 rfl) rfl
theorem q20 : (Jvm.Cond.methodLink "DremelStore" (1 : Nat) ({ cls := "java/lang/Object", name := "<init>", desc := "()V" } : Jvm.MethodName)) ∈ lw_all := lw_g (lw_at lw_m1 8 rfl) rfl
theorem q23 : (Jvm.Cond.fieldLink "DremelStore" (35 : Nat) "DremelStore" "isOpen" "Z") ∈ lw_all := lw_g (lw_at lw_m1 11 rfl) rfl
theorem q24 : (Jvm.Cond.fieldLink "DremelStore" (39 : Nat) "DremelStore" "begun" "I") ∈ lw_all := lw_g (lw_at lw_m1 12 rfl) rfl
theorem q25 : (Jvm.Cond.fieldLink "DremelStore" (71 : Nat) "DremelStore" "ended" "I") ∈ lw_all := lw_g (lw_at lw_m1 13 rfl) rfl
theorem q26 : (Jvm.Cond.fieldLink "DremelStore" (7 : Nat) "DremelStore" "noteThere" "[Z") ∈ lw_all := lw_g (lw_at lw_m1 14 rfl) rfl
theorem q27 : (Jvm.Cond.fieldLink "DremelStore" (13 : Nat) "DremelStore" "notes" "[I") ∈ lw_all := lw_g (lw_at lw_m1 15 rfl) rfl
theorem q28 : (Jvm.Cond.fieldLink "DremelStore" (46 : Nat) "DremelStore" "noteCount" "I") ∈ lw_all := lw_g (lw_at lw_m1 16 rfl) rfl
theorem q29 : (Jvm.Cond.fieldLink "DremelStore" (74 : Nat) "DremelStore" "tagEntries" "I") ∈ lw_all := lw_g (lw_at lw_m1 17 rfl) rfl
theorem q30 : (Jvm.Cond.fieldLink "DremelStore" (17 : Nat) "DremelStore" "tagAgain" "[I") ∈ lw_all := lw_g (lw_at lw_m1 18 rfl) rfl
theorem q31 : (Jvm.Cond.fieldLink "DremelStore" (20 : Nat) "DremelStore" "tagDepth" "[I") ∈ lw_all := lw_g (lw_at lw_m1 19 rfl) rfl
theorem q32 : (Jvm.Cond.fieldLink "DremelStore" (23 : Nat) "DremelStore" "tags" "[I") ∈ lw_all := lw_g (lw_at lw_m1 20 rfl) rfl
theorem q33 : (Jvm.Cond.fieldLink "DremelStore" (59 : Nat) "DremelStore" "tagCount" "I") ∈ lw_all := lw_g (lw_at lw_m1 21 rfl) rfl
theorem q34 : (Jvm.Cond.fieldLink "DremelStore" (77 : Nat) "DremelStore" "valueEntries" "I") ∈ lw_all := lw_g (lw_at lw_m1 22 rfl) rfl
theorem q35 : (Jvm.Cond.fieldLink "DremelStore" (26 : Nat) "DremelStore" "valueAgain" "[I") ∈ lw_all := lw_g (lw_at lw_m1 23 rfl) rfl
theorem q36 : (Jvm.Cond.fieldLink "DremelStore" (29 : Nat) "DremelStore" "valueDepth" "[I") ∈ lw_all := lw_g (lw_at lw_m1 24 rfl) rfl
theorem q37 : (Jvm.Cond.fieldLink "DremelStore" (32 : Nat) "DremelStore" "values" "[I") ∈ lw_all := lw_g (lw_at lw_m1 25 rfl) rfl
theorem q38 : (Jvm.Cond.fieldLink "DremelStore" (65 : Nat) "DremelStore" "valueCount" "I") ∈ lw_all := lw_g (lw_at lw_m1 26 rfl) rfl
theorem q39 : (Jvm.Cond.fieldLink "DremelStore" (43 : Nat) "DremelStore" "openGroups" "I") ∈ lw_all := lw_g (lw_at lw_m1 27 rfl) rfl
theorem q40 : (Jvm.Cond.fieldLink "DremelStore" (62 : Nat) "DremelStore" "openValues" "I") ∈ lw_all := lw_g (lw_at lw_m1 28 rfl) rfl
theorem q41 : (Jvm.Cond.fieldLink "DremelStore" (49 : Nat) "DremelStore" "groupCount" "I") ∈ lw_all := lw_g (lw_at lw_m1 29 rfl) rfl
theorem q42 : (Jvm.Cond.fieldLink "DremelStore" (87 : Nat) "DremelStore" "found" "I") ∈ lw_all := lw_g (lw_at lw_m1 30 rfl) rfl
theorem q43 : (Jvm.Cond.fieldLink "DremelStore" (100 : Nat) "DremelStore" "passed" "I") ∈ lw_all := lw_g (lw_at lw_m1 31 rfl) rfl
theorem q44 : (Jvm.Cond.lays "DremelStore" "DremelStore" "isOpen" "Z") ∈ lw_all := lw_g (lw_at lw_m1 32 rfl) rfl
theorem q45 : (Jvm.Cond.soleField "DremelStore" "isOpen") ∈ lw_all := lw_g (lw_at lw_m1 33 rfl) rfl
theorem q46 : (Jvm.Cond.lays "DremelStore" "DremelStore" "begun" "I") ∈ lw_all := lw_g (lw_at lw_m1 34 rfl) rfl
theorem q47 : (Jvm.Cond.soleField "DremelStore" "begun") ∈ lw_all := lw_g (lw_at lw_m1 35 rfl) rfl
theorem q48 : (Jvm.Cond.lays "DremelStore" "DremelStore" "ended" "I") ∈ lw_all := lw_g (lw_at lw_m1 36 rfl) rfl
theorem q49 : (Jvm.Cond.soleField "DremelStore" "ended") ∈ lw_all := lw_g (lw_at lw_m1 37 rfl) rfl
theorem q50 : (Jvm.Cond.laysFinal "DremelStore" "DremelStore" "noteThere" "[Z") ∈ lw_all := lw_g (lw_at lw_m1 38 rfl) rfl
theorem q51 : (Jvm.Cond.soleField "DremelStore" "noteThere") ∈ lw_all := lw_g (lw_at lw_m1 39 rfl) rfl
theorem q52 : (Jvm.Cond.laysFinal "DremelStore" "DremelStore" "notes" "[I") ∈ lw_all := lw_g (lw_at lw_m1 40 rfl) rfl
theorem q53 : (Jvm.Cond.soleField "DremelStore" "notes") ∈ lw_all := lw_g (lw_at lw_m1 41 rfl) rfl
theorem q54 : (Jvm.Cond.lays "DremelStore" "DremelStore" "noteCount" "I") ∈ lw_all := lw_g (lw_at lw_m1 42 rfl) rfl
theorem q55 : (Jvm.Cond.soleField "DremelStore" "noteCount") ∈ lw_all := lw_g (lw_at lw_m1 43 rfl) rfl
theorem q56 : (Jvm.Cond.lays "DremelStore" "DremelStore" "tagEntries" "I") ∈ lw_all := lw_g (lw_at lw_m1 44 rfl) rfl
theorem q57 : (Jvm.Cond.soleField "DremelStore" "tagEntries") ∈ lw_all := lw_g (lw_at lw_m1 45 rfl) rfl
theorem q58 : (Jvm.Cond.laysFinal "DremelStore" "DremelStore" "tagAgain" "[I") ∈ lw_all := lw_g (lw_at lw_m1 46 rfl) rfl
theorem q59 : (Jvm.Cond.soleField "DremelStore" "tagAgain") ∈ lw_all := lw_g (lw_at lw_m1 47 rfl) rfl
theorem q60 : (Jvm.Cond.laysFinal "DremelStore" "DremelStore" "tagDepth" "[I") ∈ lw_all := lw_g (lw_at lw_m1 48 rfl) rfl
theorem q61 : (Jvm.Cond.soleField "DremelStore" "tagDepth") ∈ lw_all := lw_g (lw_at lw_m1 49 rfl) rfl
theorem q62 : (Jvm.Cond.laysFinal "DremelStore" "DremelStore" "tags" "[I") ∈ lw_all := lw_g (lw_at lw_m1 50 rfl) rfl
theorem q63 : (Jvm.Cond.soleField "DremelStore" "tags") ∈ lw_all := lw_g (lw_at lw_m1 51 rfl) rfl
theorem q64 : (Jvm.Cond.lays "DremelStore" "DremelStore" "tagCount" "I") ∈ lw_all := lw_g (lw_at lw_m1 52 rfl) rfl
theorem q65 : (Jvm.Cond.soleField "DremelStore" "tagCount") ∈ lw_all := lw_g (lw_at lw_m1 53 rfl) rfl
theorem q66 : (Jvm.Cond.lays "DremelStore" "DremelStore" "valueEntries" "I") ∈ lw_all := lw_g (lw_at lw_m1 54 rfl) rfl
theorem q67 : (Jvm.Cond.soleField "DremelStore" "valueEntries") ∈ lw_all := lw_g (lw_at lw_m1 55 rfl) rfl
theorem q68 : (Jvm.Cond.laysFinal "DremelStore" "DremelStore" "valueAgain" "[I") ∈ lw_all := lw_g (lw_at lw_m1 56 rfl) rfl
theorem q69 : (Jvm.Cond.soleField "DremelStore" "valueAgain") ∈ lw_all := lw_g (lw_at lw_m1 57 rfl) rfl
theorem q70 : (Jvm.Cond.laysFinal "DremelStore" "DremelStore" "valueDepth" "[I") ∈ lw_all := lw_g (lw_at lw_m1 58 rfl) rfl
theorem q71 : (Jvm.Cond.soleField "DremelStore" "valueDepth") ∈ lw_all := lw_g (lw_at lw_m1 59 rfl) rfl
theorem q72 : (Jvm.Cond.laysFinal "DremelStore" "DremelStore" "values" "[I") ∈ lw_all := lw_g (lw_at lw_m1 60 rfl) rfl
theorem q73 : (Jvm.Cond.soleField "DremelStore" "values") ∈ lw_all := lw_g (lw_at lw_m1 61 rfl) rfl
theorem q74 : (Jvm.Cond.lays "DremelStore" "DremelStore" "valueCount" "I") ∈ lw_all := lw_g (lw_at lw_m1 62 rfl) rfl
theorem q75 : (Jvm.Cond.soleField "DremelStore" "valueCount") ∈ lw_all := lw_g (lw_at lw_m1 63 rfl) rfl
theorem q76 : (Jvm.Cond.lays "DremelStore" "DremelStore" "openGroups" "I") ∈ lw_all := lw_g (lw_at lw_m1 64 rfl) rfl
theorem q77 : (Jvm.Cond.soleField "DremelStore" "openGroups") ∈ lw_all := lw_g (lw_at lw_m1 65 rfl) rfl
theorem q78 : (Jvm.Cond.lays "DremelStore" "DremelStore" "openValues" "I") ∈ lw_all := lw_g (lw_at lw_m1 66 rfl) rfl
theorem q79 : (Jvm.Cond.soleField "DremelStore" "openValues") ∈ lw_all := lw_g (lw_at lw_m1 67 rfl) rfl
theorem q80 : (Jvm.Cond.lays "DremelStore" "DremelStore" "groupCount" "I") ∈ lw_all := lw_g (lw_at lw_m1 68 rfl) rfl
theorem q81 : (Jvm.Cond.soleField "DremelStore" "groupCount") ∈ lw_all := lw_g (lw_at lw_m1 69 rfl) rfl
theorem q82 : (Jvm.Cond.lays "DremelStore" "DremelStore" "found" "I") ∈ lw_all := lw_g (lw_at lw_m1 70 rfl) rfl
theorem q83 : (Jvm.Cond.soleField "DremelStore" "found") ∈ lw_all := lw_g (lw_at lw_m1 71 rfl) rfl
theorem q84 : (Jvm.Cond.lays "DremelStore" "DremelStore" "passed" "I") ∈ lw_all := lw_g (lw_at lw_m1 72 rfl) rfl
theorem q85 : (Jvm.Cond.soleField "DremelStore" "passed") ∈ lw_all := lw_g (lw_at lw_m1 73 rfl) rfl
theorem q86 : (Jvm.Cond.superclass "DremelStore" "java/lang/Object") ∈ lw_all := lw_g (lw_at lw_m1 74 rfl) rfl
theorem q90 : (Jvm.Cond.instanceMethod ({ cls := "DremelStore", name := "begin", desc := "(ZI)I" } : Jvm.MethodName)) ∈ lw_all := lw_g (lw_at lw_m1 78 rfl) rfl
theorem q91 : (Jvm.Cond.selects "DremelStore" ({ cls := "DremelStore", name := "begin", desc := "(ZI)I" } : Jvm.MethodName) ({ cls := "DremelStore", name := "begin", desc := "(ZI)I" } : Jvm.MethodName)) ∈ lw_all := lw_g (lw_at lw_m1 79 rfl) rfl
theorem q92 : (Jvm.Cond.code ({ cls := "DremelStore", name := "begin", desc := "(ZI)I" } : Jvm.MethodName) prog_1_method_2_code (3 : Nat) (Option.some Jvm.ClassFile.FieldType.int)) ∈ lw_all := lw_g (lw_at lw_m1 80 rfl) rfl
theorem q94 : (Jvm.Cond.instanceMethod ({ cls := "DremelStore", name := "group", desc := "(ZI)I" } : Jvm.MethodName)) ∈ lw_all := lw_g (lw_at lw_m1 82 rfl) rfl
theorem q95 : (Jvm.Cond.selects "DremelStore" ({ cls := "DremelStore", name := "group", desc := "(ZI)I" } : Jvm.MethodName) ({ cls := "DremelStore", name := "group", desc := "(ZI)I" } : Jvm.MethodName)) ∈ lw_all := lw_g (lw_at lw_m1 83 rfl) rfl
theorem q96 : (Jvm.Cond.code ({ cls := "DremelStore", name := "group", desc := "(ZI)I" } : Jvm.MethodName) prog_1_method_3_code (3 : Nat) (Option.some Jvm.ClassFile.FieldType.int)) ∈ lw_all := lw_g (lw_at lw_m1 84 rfl) rfl
theorem q97 : (Jvm.Cond.methodLink "DremelStore" (52 : Nat) ({ cls := "DremelStore", name := "closeGroup", desc := "()V" } : Jvm.MethodName)) ∈ lw_all := lw_g (lw_at lw_m1 85 rfl) rfl
theorem q98 : (Jvm.Cond.privateMethod ({ cls := "DremelStore", name := "closeGroup", desc := "()V" } : Jvm.MethodName)) ∈ lw_tbl := lw_at lw_m1 86 rfl
theorem q99 : (Jvm.Cond.instanceMethod ({ cls := "DremelStore", name := "closeGroup", desc := "()V" } : Jvm.MethodName)) ∈ lw_all := lw_g (lw_at lw_m1 87 rfl) rfl
theorem q100 : (Jvm.Cond.code ({ cls := "DremelStore", name := "closeGroup", desc := "()V" } : Jvm.MethodName) prog_1_method_6_code (1 : Nat) (Option.none : Option Jvm.ClassFile.FieldType)) ∈ lw_all := lw_g (lw_at lw_m1 88 rfl) rfl
theorem q101 : (Jvm.Cond.methodLink "DremelStore" (68 : Nat) ({ cls := "DremelStore", name := "addValueEntry", desc := "(II)V" } : Jvm.MethodName)) ∈ lw_all := lw_g (lw_at lw_m1 89 rfl) rfl
theorem q102 : (Jvm.Cond.privateMethod ({ cls := "DremelStore", name := "addValueEntry", desc := "(II)V" } : Jvm.MethodName)) ∈ lw_tbl := lw_at lw_m1 90 rfl
theorem q103 : (Jvm.Cond.instanceMethod ({ cls := "DremelStore", name := "addValueEntry", desc := "(II)V" } : Jvm.MethodName)) ∈ lw_all := lw_g (lw_at lw_m1 91 rfl) rfl
theorem q104 : (Jvm.Cond.code ({ cls := "DremelStore", name := "addValueEntry", desc := "(II)V" } : Jvm.MethodName) prog_1_method_8_code (3 : Nat) (Option.none : Option Jvm.ClassFile.FieldType)) ∈ lw_all := lw_g (lw_at lw_m1 92 rfl) rfl
theorem q105 : (Jvm.Cond.methodLink "DremelStore" (55 : Nat) ({ cls := "DremelStore", name := "addTagEntry", desc := "(II)V" } : Jvm.MethodName)) ∈ lw_all := lw_g (lw_at lw_m1 93 rfl) rfl
theorem q106 : (Jvm.Cond.privateMethod ({ cls := "DremelStore", name := "addTagEntry", desc := "(II)V" } : Jvm.MethodName)) ∈ lw_tbl := lw_at lw_m1 94 rfl
theorem q107 : (Jvm.Cond.instanceMethod ({ cls := "DremelStore", name := "addTagEntry", desc := "(II)V" } : Jvm.MethodName)) ∈ lw_all := lw_g (lw_at lw_m1 95 rfl) rfl
theorem q108 : (Jvm.Cond.code ({ cls := "DremelStore", name := "addTagEntry", desc := "(II)V" } : Jvm.MethodName) prog_1_method_7_code (3 : Nat) (Option.none : Option Jvm.ClassFile.FieldType)) ∈ lw_all := lw_g (lw_at lw_m1 96 rfl) rfl
theorem q110 : (Jvm.Cond.instanceMethod ({ cls := "DremelStore", name := "value", desc := "(I)I" } : Jvm.MethodName)) ∈ lw_all := lw_g (lw_at lw_m1 98 rfl) rfl
theorem q111 : (Jvm.Cond.selects "DremelStore" ({ cls := "DremelStore", name := "value", desc := "(I)I" } : Jvm.MethodName) ({ cls := "DremelStore", name := "value", desc := "(I)I" } : Jvm.MethodName)) ∈ lw_all := lw_g (lw_at lw_m1 99 rfl) rfl
theorem q112 : (Jvm.Cond.code ({ cls := "DremelStore", name := "value", desc := "(I)I" } : Jvm.MethodName) prog_1_method_4_code (2 : Nat) (Option.some Jvm.ClassFile.FieldType.int)) ∈ lw_all := lw_g (lw_at lw_m1 100 rfl) rfl
theorem q114 : (Jvm.Cond.instanceMethod ({ cls := "DremelStore", name := "end", desc := "()I" } : Jvm.MethodName)) ∈ lw_all := lw_g (lw_at lw_m1 102 rfl) rfl
theorem q115 : (Jvm.Cond.selects "DremelStore" ({ cls := "DremelStore", name := "end", desc := "()I" } : Jvm.MethodName) ({ cls := "DremelStore", name := "end", desc := "()I" } : Jvm.MethodName)) ∈ lw_all := lw_g (lw_at lw_m1 103 rfl) rfl
theorem q116 : (Jvm.Cond.code ({ cls := "DremelStore", name := "end", desc := "()I" } : Jvm.MethodName) prog_1_method_5_code (1 : Nat) (Option.some Jvm.ClassFile.FieldType.int)) ∈ lw_all := lw_g (lw_at lw_m1 104 rfl) rfl
theorem q118 : (Jvm.Cond.instanceMethod ({ cls := "DremelStore", name := "groups", desc := "(I)I" } : Jvm.MethodName)) ∈ lw_all := lw_g (lw_at lw_m1 106 rfl) rfl
theorem q119 : (Jvm.Cond.selects "DremelStore" ({ cls := "DremelStore", name := "groups", desc := "(I)I" } : Jvm.MethodName) ({ cls := "DremelStore", name := "groups", desc := "(I)I" } : Jvm.MethodName)) ∈ lw_all := lw_g (lw_at lw_m1 107 rfl) rfl
theorem q120 : (Jvm.Cond.code ({ cls := "DremelStore", name := "groups", desc := "(I)I" } : Jvm.MethodName) prog_1_method_9_code (4 : Nat) (Option.some Jvm.ClassFile.FieldType.int)) ∈ lw_all := lw_g (lw_at lw_m1 108 rfl) rfl
theorem q121 : (Jvm.Cond.methodLink "DremelStore" (80 : Nat) ({ cls := "DremelStore", name := "isEnded", desc := "(I)Z" } : Jvm.MethodName)) ∈ lw_all := lw_g (lw_at lw_m1 109 rfl) rfl
theorem q122 : (Jvm.Cond.privateMethod ({ cls := "DremelStore", name := "isEnded", desc := "(I)Z" } : Jvm.MethodName)) ∈ lw_tbl := lw_at lw_m1 110 rfl
theorem q123 : (Jvm.Cond.instanceMethod ({ cls := "DremelStore", name := "isEnded", desc := "(I)Z" } : Jvm.MethodName)) ∈ lw_all := lw_g (lw_at lw_m1 111 rfl) rfl
theorem q124 : (Jvm.Cond.code ({ cls := "DremelStore", name := "isEnded", desc := "(I)Z" } : Jvm.MethodName) prog_1_method_16_code (2 : Nat) (Option.some Jvm.ClassFile.FieldType.boolean)) ∈ lw_all := lw_g (lw_at lw_m1 112 rfl) rfl
theorem q125 : (Jvm.Cond.methodLink "DremelStore" (84 : Nat) ({ cls := "DremelStore", name := "findTag", desc := "(II)V" } : Jvm.MethodName)) ∈ lw_all := lw_g (lw_at lw_m1 113 rfl) rfl
theorem q126 : (Jvm.Cond.privateMethod ({ cls := "DremelStore", name := "findTag", desc := "(II)V" } : Jvm.MethodName)) ∈ lw_tbl := lw_at lw_m1 114 rfl
theorem q127 : (Jvm.Cond.instanceMethod ({ cls := "DremelStore", name := "findTag", desc := "(II)V" } : Jvm.MethodName)) ∈ lw_all := lw_g (lw_at lw_m1 115 rfl) rfl
theorem q128 : (Jvm.Cond.code ({ cls := "DremelStore", name := "findTag", desc := "(II)V" } : Jvm.MethodName) prog_1_method_19_code (6 : Nat) (Option.none : Option Jvm.ClassFile.FieldType)) ∈ lw_all := lw_g (lw_at lw_m1 116 rfl) rfl
theorem q130 : (Jvm.Cond.instanceMethod ({ cls := "DremelStore", name := "values", desc := "(II)I" } : Jvm.MethodName)) ∈ lw_all := lw_g (lw_at lw_m1 118 rfl) rfl
theorem q131 : (Jvm.Cond.selects "DremelStore" ({ cls := "DremelStore", name := "values", desc := "(II)I" } : Jvm.MethodName) ({ cls := "DremelStore", name := "values", desc := "(II)I" } : Jvm.MethodName)) ∈ lw_all := lw_g (lw_at lw_m1 119 rfl) rfl
theorem q132 : (Jvm.Cond.code ({ cls := "DremelStore", name := "values", desc := "(II)I" } : Jvm.MethodName) prog_1_method_10_code (5 : Nat) (Option.some Jvm.ClassFile.FieldType.int)) ∈ lw_all := lw_g (lw_at lw_m1 120 rfl) rfl
theorem q133 : (Jvm.Cond.methodLink "DremelStore" (90 : Nat) ({ cls := "DremelStore", name := "isGroup", desc := "(II)Z" } : Jvm.MethodName)) ∈ lw_all := lw_g (lw_at lw_m1 121 rfl) rfl
theorem q134 : (Jvm.Cond.privateMethod ({ cls := "DremelStore", name := "isGroup", desc := "(II)Z" } : Jvm.MethodName)) ∈ lw_tbl := lw_at lw_m1 122 rfl
theorem q135 : (Jvm.Cond.instanceMethod ({ cls := "DremelStore", name := "isGroup", desc := "(II)Z" } : Jvm.MethodName)) ∈ lw_all := lw_g (lw_at lw_m1 123 rfl) rfl
theorem q136 : (Jvm.Cond.code ({ cls := "DremelStore", name := "isGroup", desc := "(II)Z" } : Jvm.MethodName) prog_1_method_17_code (3 : Nat) (Option.some Jvm.ClassFile.FieldType.boolean)) ∈ lw_all := lw_g (lw_at lw_m1 124 rfl) rfl
theorem q137 : (Jvm.Cond.methodLink "DremelStore" (107 : Nat) ({ cls := "DremelStore", name := "groups", desc := "(I)I" } : Jvm.MethodName)) ∈ lw_all := lw_g (lw_at lw_m1 125 rfl) rfl
theorem q138 : (Jvm.Cond.methodLink "DremelStore" (94 : Nat) ({ cls := "DremelStore", name := "findValue", desc := "(II)V" } : Jvm.MethodName)) ∈ lw_all := lw_g (lw_at lw_m1 126 rfl) rfl
theorem q139 : (Jvm.Cond.privateMethod ({ cls := "DremelStore", name := "findValue", desc := "(II)V" } : Jvm.MethodName)) ∈ lw_tbl := lw_at lw_m1 127 rfl
theorem q140 : (Jvm.Cond.instanceMethod ({ cls := "DremelStore", name := "findValue", desc := "(II)V" } : Jvm.MethodName)) ∈ lw_all := lw_g (lw_at lw_m1 128 rfl) rfl
theorem q141 : (Jvm.Cond.code ({ cls := "DremelStore", name := "findValue", desc := "(II)V" } : Jvm.MethodName) prog_1_method_20_code (6 : Nat) (Option.none : Option Jvm.ClassFile.FieldType)) ∈ lw_all := lw_g (lw_at lw_m1 129 rfl) rfl
theorem q143 : (Jvm.Cond.instanceMethod ({ cls := "DremelStore", name := "valueAt", desc := "(III)I" } : Jvm.MethodName)) ∈ lw_all := lw_g (lw_at lw_m1 131 rfl) rfl
theorem q144 : (Jvm.Cond.selects "DremelStore" ({ cls := "DremelStore", name := "valueAt", desc := "(III)I" } : Jvm.MethodName) ({ cls := "DremelStore", name := "valueAt", desc := "(III)I" } : Jvm.MethodName)) ∈ lw_all := lw_g (lw_at lw_m1 132 rfl) rfl
theorem q145 : (Jvm.Cond.code ({ cls := "DremelStore", name := "valueAt", desc := "(III)I" } : Jvm.MethodName) prog_1_method_11_code (4 : Nat) (Option.some Jvm.ClassFile.FieldType.int)) ∈ lw_all := lw_g (lw_at lw_m1 133 rfl) rfl
theorem q146 : (Jvm.Cond.methodLink "DremelStore" (97 : Nat) ({ cls := "DremelStore", name := "values", desc := "(II)I" } : Jvm.MethodName)) ∈ lw_all := lw_g (lw_at lw_m1 134 rfl) rfl
theorem q148 : (Jvm.Cond.instanceMethod ({ cls := "DremelStore", name := "hasNote", desc := "(I)I" } : Jvm.MethodName)) ∈ lw_all := lw_g (lw_at lw_m1 136 rfl) rfl
theorem q149 : (Jvm.Cond.selects "DremelStore" ({ cls := "DremelStore", name := "hasNote", desc := "(I)I" } : Jvm.MethodName) ({ cls := "DremelStore", name := "hasNote", desc := "(I)I" } : Jvm.MethodName)) ∈ lw_all := lw_g (lw_at lw_m1 137 rfl) rfl
theorem q150 : (Jvm.Cond.code ({ cls := "DremelStore", name := "hasNote", desc := "(I)I" } : Jvm.MethodName) prog_1_method_12_code (2 : Nat) (Option.some Jvm.ClassFile.FieldType.int)) ∈ lw_all := lw_g (lw_at lw_m1 138 rfl) rfl
theorem q152 : (Jvm.Cond.instanceMethod ({ cls := "DremelStore", name := "label", desc := "(II)I" } : Jvm.MethodName)) ∈ lw_all := lw_g (lw_at lw_m1 140 rfl) rfl
theorem q153 : (Jvm.Cond.selects "DremelStore" ({ cls := "DremelStore", name := "label", desc := "(II)I" } : Jvm.MethodName) ({ cls := "DremelStore", name := "label", desc := "(II)I" } : Jvm.MethodName)) ∈ lw_all := lw_g (lw_at lw_m1 141 rfl) rfl
theorem q154 : (Jvm.Cond.code ({ cls := "DremelStore", name := "label", desc := "(II)I" } : Jvm.MethodName) prog_1_method_13_code (3 : Nat) (Option.some Jvm.ClassFile.FieldType.int)) ∈ lw_all := lw_g (lw_at lw_m1 142 rfl) rfl
theorem q155 : (Jvm.Cond.methodLink "DremelStore" (103 : Nat) ({ cls := "DremelStore", name := "notesBefore", desc := "(I)I" } : Jvm.MethodName)) ∈ lw_all := lw_g (lw_at lw_m1 143 rfl) rfl
theorem q156 : (Jvm.Cond.privateMethod ({ cls := "DremelStore", name := "notesBefore", desc := "(I)I" } : Jvm.MethodName)) ∈ lw_tbl := lw_at lw_m1 144 rfl
theorem q157 : (Jvm.Cond.instanceMethod ({ cls := "DremelStore", name := "notesBefore", desc := "(I)I" } : Jvm.MethodName)) ∈ lw_all := lw_g (lw_at lw_m1 145 rfl) rfl
theorem q158 : (Jvm.Cond.code ({ cls := "DremelStore", name := "notesBefore", desc := "(I)I" } : Jvm.MethodName) prog_1_method_18_code (4 : Nat) (Option.some Jvm.ClassFile.FieldType.int)) ∈ lw_all := lw_g (lw_at lw_m1 146 rfl) rfl
theorem q160 : (Jvm.Cond.instanceMethod ({ cls := "DremelStore", name := "sumByTag", desc := "(I)I" } : Jvm.MethodName)) ∈ lw_all := lw_g (lw_at lw_m1 148 rfl) rfl
theorem q161 : (Jvm.Cond.selects "DremelStore" ({ cls := "DremelStore", name := "sumByTag", desc := "(I)I" } : Jvm.MethodName) ({ cls := "DremelStore", name := "sumByTag", desc := "(I)I" } : Jvm.MethodName)) ∈ lw_all := lw_g (lw_at lw_m1 149 rfl) rfl
theorem q162 : (Jvm.Cond.code ({ cls := "DremelStore", name := "sumByTag", desc := "(I)I" } : Jvm.MethodName) prog_1_method_14_code (10 : Nat) (Option.some Jvm.ClassFile.FieldType.int)) ∈ lw_all := lw_g (lw_at lw_m1 150 rfl) rfl
theorem q164 : (Jvm.Cond.instanceMethod ({ cls := "DremelStore", name := "recordsWith", desc := "(II)I" } : Jvm.MethodName)) ∈ lw_all := lw_g (lw_at lw_m1 152 rfl) rfl
theorem q165 : (Jvm.Cond.selects "DremelStore" ({ cls := "DremelStore", name := "recordsWith", desc := "(II)I" } : Jvm.MethodName) ({ cls := "DremelStore", name := "recordsWith", desc := "(II)I" } : Jvm.MethodName)) ∈ lw_all := lw_g (lw_at lw_m1 153 rfl) rfl
theorem q166 : (Jvm.Cond.code ({ cls := "DremelStore", name := "recordsWith", desc := "(II)I" } : Jvm.MethodName) prog_1_method_15_code (9 : Nat) (Option.some Jvm.ClassFile.FieldType.int)) ∈ lw_all := lw_g (lw_at lw_m1 154 rfl) rfl
theorem in_X0 : ∀ w ∈ wsX00, w ∈ lw_all := lw_in wsX00 [44, 46, 48, 50, 52, 54, 56, 58, 60, 62, 64, 66, 68, 70, 72, 74, 76, 78, 80, 82, 84] (by decide +kernel) (by decide +kernel)
def RX1 : String := "DremelStoreModel"
def TX1 : u_T := fun k => match k with
  | 0 => ("DremelStoreModel", "records", "I", false)
  | 1 => ("DremelStoreModel", "open", "Z", false)
  | 2 => ("DremelStoreModel", "allGroups", "I", false)
  | 3 => ("DremelStoreModel", "allValues", "I", false)
  | 4 => ("DremelStoreModel", "noted", "[Z", true)
  | 5 => ("DremelStoreModel", "notes", "[I", true)
  | 6 => ("DremelStoreModel", "groupsOf", "[I", true)
  | 7 => ("DremelStoreModel", "tagged", "[Z", true)
  | 8 => ("DremelStoreModel", "tags", "[I", true)
  | 9 => ("DremelStoreModel", "valuesOf", "[I", true)
  | _ => ("DremelStoreModel", "values", "[I", true)
def tyX1 : Nat → FieldType := fun k => match k with
  | 0 => .int
  | 1 => .boolean
  | 2 => .int
  | 3 => .int
  | 4 => .array .boolean
  | 5 => .array .int
  | 6 => .array .int
  | 7 => .array .boolean
  | 8 => .array .int
  | 9 => .array .int
  | _ => .array .int
abbrev wsX10 : List Cond := u_ws RX1 TX1 11
theorem nmX1 : ∀ a, a < 11 → ∀ b, b < 11 → a ≠ b → (TX1 a).2.1 ≠ (TX1 b).2.1 := by decide +kernel
theorem tyX1_ok : ∀ k, k < 11 → parseFieldDescriptor (TX1 k).2.2.1 = some (tyX1 k) := by decide +kernel
abbrev cX1_init : ByteArray := prog_3_method_1_code
def yX1_init : MethodName := ⟨RX1, "<init>", "()V"⟩
abbrev cX1_begin : ByteArray := prog_3_method_2_code
def yX1_begin : MethodName := ⟨RX1, "begin", "(ZI)I"⟩
abbrev cX1_group : ByteArray := prog_3_method_3_code
def yX1_group : MethodName := ⟨RX1, "group", "(ZI)I"⟩
abbrev cX1_value : ByteArray := prog_3_method_4_code
def yX1_value : MethodName := ⟨RX1, "value", "(I)I"⟩
abbrev cX1_end : ByteArray := prog_3_method_6_code
def yX1_end : MethodName := ⟨RX1, "end", "()I"⟩
abbrev cX1_groups : ByteArray := prog_3_method_9_code
def yX1_groups : MethodName := ⟨RX1, "groups", "(I)I"⟩
abbrev cX1_missing : ByteArray := prog_3_method_7_code
def yX1_missing : MethodName := ⟨RX1, "missing", "(I)Z"⟩
abbrev cX1_ended : ByteArray := prog_3_method_5_code
def yX1_ended : MethodName := ⟨RX1, "ended", "()I"⟩
abbrev cX1_values : ByteArray := prog_3_method_10_code
def yX1_values : MethodName := ⟨RX1, "values", "(II)I"⟩
abbrev cX1_noGroup : ByteArray := prog_3_method_8_code
def yX1_noGroup : MethodName := ⟨RX1, "noGroup", "(II)Z"⟩
abbrev cX1_valueAt : ByteArray := prog_3_method_11_code
def yX1_valueAt : MethodName := ⟨RX1, "valueAt", "(III)I"⟩
abbrev cX1_hasNote : ByteArray := prog_3_method_12_code
def yX1_hasNote : MethodName := ⟨RX1, "hasNote", "(I)I"⟩
abbrev cX1_label : ByteArray := prog_3_method_13_code
def yX1_label : MethodName := ⟨RX1, "label", "(II)I"⟩
abbrev cX1_sumByTag : ByteArray := prog_3_method_14_code
def yX1_sumByTag : MethodName := ⟨RX1, "sumByTag", "(I)I"⟩
abbrev cX1_recordsWith : ByteArray := prog_3_method_16_code
def yX1_recordsWith : MethodName := ⟨RX1, "recordsWith", "(II)I"⟩
abbrev cX1_holds : ByteArray := prog_3_method_15_code
def yX1_holds : MethodName := ⟨RX1, "holds", "(III)Z"⟩
theorem q14 : (Jvm.Cond.initialized "DremelStoreModel") ∈ lw_all := lw_g (lw_at lw_m1 2 rfl) rfl
theorem q168 : (Jvm.Cond.instantiable "DremelStoreModel" (11 : Nat)) ∈ lw_all := lw_g (lw_at lw_m1 156 rfl) rfl
theorem q170 : (Jvm.Cond.instanceMethod ({ cls := "DremelStoreModel", name := "<init>", desc := "()V" } : Jvm.MethodName)) ∈ lw_all := lw_g (lw_at lw_m1 158 rfl) rfl
theorem q171 : (Jvm.Cond.code ({ cls := "DremelStoreModel", name := "<init>", desc := "()V" } : Jvm.MethodName) prog_3_method_1_code (1 : Nat) (Option.none : Option Jvm.ClassFile.FieldType)) ∈ lw_all := lw_g (lw_at lw_m1 159 rfl) rfl
theorem q172 : (Jvm.Cond.methodLink "DremelStoreModel" (1 : Nat) ({ cls := "java/lang/Object", name := "<init>", desc := "()V" } : Jvm.MethodName)) ∈ lw_all := lw_g (lw_at lw_m1 160 rfl) rfl
theorem q173 : (Jvm.Cond.fieldLink "DremelStoreModel" (36 : Nat) "DremelStoreModel" "records" "I") ∈ lw_all := lw_g (lw_at lw_m1 161 rfl) rfl
theorem q174 : (Jvm.Cond.fieldLink "DremelStoreModel" (32 : Nat) "DremelStoreModel" "open" "Z") ∈ lw_all := lw_g (lw_at lw_m1 162 rfl) rfl
theorem q175 : (Jvm.Cond.fieldLink "DremelStoreModel" (40 : Nat) "DremelStoreModel" "allGroups" "I") ∈ lw_all := lw_g (lw_at lw_m1 163 rfl) rfl
theorem q176 : (Jvm.Cond.fieldLink "DremelStoreModel" (43 : Nat) "DremelStoreModel" "allValues" "I") ∈ lw_all := lw_g (lw_at lw_m1 164 rfl) rfl
theorem q177 : (Jvm.Cond.fieldLink "DremelStoreModel" (7 : Nat) "DremelStoreModel" "noted" "[Z") ∈ lw_all := lw_g (lw_at lw_m1 165 rfl) rfl
theorem q178 : (Jvm.Cond.fieldLink "DremelStoreModel" (13 : Nat) "DremelStoreModel" "notes" "[I") ∈ lw_all := lw_g (lw_at lw_m1 166 rfl) rfl
theorem q179 : (Jvm.Cond.fieldLink "DremelStoreModel" (17 : Nat) "DremelStoreModel" "groupsOf" "[I") ∈ lw_all := lw_g (lw_at lw_m1 167 rfl) rfl
theorem q180 : (Jvm.Cond.fieldLink "DremelStoreModel" (20 : Nat) "DremelStoreModel" "tagged" "[Z") ∈ lw_all := lw_g (lw_at lw_m1 168 rfl) rfl
theorem q181 : (Jvm.Cond.fieldLink "DremelStoreModel" (23 : Nat) "DremelStoreModel" "tags" "[I") ∈ lw_all := lw_g (lw_at lw_m1 169 rfl) rfl
theorem q182 : (Jvm.Cond.fieldLink "DremelStoreModel" (26 : Nat) "DremelStoreModel" "valuesOf" "[I") ∈ lw_all := lw_g (lw_at lw_m1 170 rfl) rfl
theorem q183 : (Jvm.Cond.fieldLink "DremelStoreModel" (29 : Nat) "DremelStoreModel" "values" "[I") ∈ lw_all := lw_g (lw_at lw_m1 171 rfl) rfl
theorem q184 : (Jvm.Cond.lays "DremelStoreModel" "DremelStoreModel" "records" "I") ∈ lw_all := lw_g (lw_at lw_m1 172 rfl) rfl
theorem q185 : (Jvm.Cond.soleField "DremelStoreModel" "records") ∈ lw_all := lw_g (lw_at lw_m1 173 rfl) rfl
theorem q186 : (Jvm.Cond.lays "DremelStoreModel" "DremelStoreModel" "open" "Z") ∈ lw_all := lw_g (lw_at lw_m1 174 rfl) rfl
theorem q187 : (Jvm.Cond.soleField "DremelStoreModel" "open") ∈ lw_all := lw_g (lw_at lw_m1 175 rfl) rfl
theorem q188 : (Jvm.Cond.lays "DremelStoreModel" "DremelStoreModel" "allGroups" "I") ∈ lw_all := lw_g (lw_at lw_m1 176 rfl) rfl
theorem q189 : (Jvm.Cond.soleField "DremelStoreModel" "allGroups") ∈ lw_all := lw_g (lw_at lw_m1 177 rfl) rfl
theorem q190 : (Jvm.Cond.lays "DremelStoreModel" "DremelStoreModel" "allValues" "I") ∈ lw_all := lw_g (lw_at lw_m1 178 rfl) rfl
theorem q191 : (Jvm.Cond.soleField "DremelStoreModel" "allValues") ∈ lw_all := lw_g (lw_at lw_m1 179 rfl) rfl
theorem q192 : (Jvm.Cond.laysFinal "DremelStoreModel" "DremelStoreModel" "noted" "[Z") ∈ lw_all := lw_g (lw_at lw_m1 180 rfl) rfl
theorem q193 : (Jvm.Cond.soleField "DremelStoreModel" "noted") ∈ lw_all := lw_g (lw_at lw_m1 181 rfl) rfl
theorem q194 : (Jvm.Cond.laysFinal "DremelStoreModel" "DremelStoreModel" "notes" "[I") ∈ lw_all := lw_g (lw_at lw_m1 182 rfl) rfl
theorem q195 : (Jvm.Cond.soleField "DremelStoreModel" "notes") ∈ lw_all := lw_g (lw_at lw_m1 183 rfl) rfl
theorem q196 : (Jvm.Cond.laysFinal "DremelStoreModel" "DremelStoreModel" "groupsOf" "[I") ∈ lw_all := lw_g (lw_at lw_m1 184 rfl) rfl
theorem q197 : (Jvm.Cond.soleField "DremelStoreModel" "groupsOf") ∈ lw_all := lw_g (lw_at lw_m1 185 rfl) rfl
theorem q198 : (Jvm.Cond.laysFinal "DremelStoreModel" "DremelStoreModel" "tagged" "[Z") ∈ lw_all := lw_g (lw_at lw_m1 186 rfl) rfl
theorem q199 : (Jvm.Cond.soleField "DremelStoreModel" "tagged") ∈ lw_all := lw_g (lw_at lw_m1 187 rfl) rfl
theorem q200 : (Jvm.Cond.laysFinal "DremelStoreModel" "DremelStoreModel" "tags" "[I") ∈ lw_all := lw_g (lw_at lw_m1 188 rfl) rfl
theorem q201 : (Jvm.Cond.soleField "DremelStoreModel" "tags") ∈ lw_all := lw_g (lw_at lw_m1 189 rfl) rfl
theorem q202 : (Jvm.Cond.laysFinal "DremelStoreModel" "DremelStoreModel" "valuesOf" "[I") ∈ lw_all := lw_g (lw_at lw_m1 190 rfl) rfl
theorem q203 : (Jvm.Cond.soleField "DremelStoreModel" "valuesOf") ∈ lw_all := lw_g (lw_at lw_m1 191 rfl) rfl
theorem q204 : (Jvm.Cond.laysFinal "DremelStoreModel" "DremelStoreModel" "values" "[I") ∈ lw_all := lw_g (lw_at lw_m1 192 rfl) rfl
theorem q205 : (Jvm.Cond.soleField "DremelStoreModel" "values") ∈ lw_all := lw_g (lw_at lw_m1 193 rfl) rfl
theorem q206 : (Jvm.Cond.superclass "DremelStoreModel" "java/lang/Object") ∈ lw_all := lw_g (lw_at lw_m1 194 rfl) rfl
theorem q208 : (Jvm.Cond.instanceMethod ({ cls := "DremelStoreModel", name := "begin", desc := "(ZI)I" } : Jvm.MethodName)) ∈ lw_all := lw_g (lw_at lw_m1 196 rfl) rfl
theorem q209 : (Jvm.Cond.selects "DremelStoreModel" ({ cls := "DremelStoreModel", name := "begin", desc := "(ZI)I" } : Jvm.MethodName) ({ cls := "DremelStoreModel", name := "begin", desc := "(ZI)I" } : Jvm.MethodName)) ∈ lw_all := lw_g (lw_at lw_m1 197 rfl) rfl
theorem q210 : (Jvm.Cond.code ({ cls := "DremelStoreModel", name := "begin", desc := "(ZI)I" } : Jvm.MethodName) prog_3_method_2_code (3 : Nat) (Option.some Jvm.ClassFile.FieldType.int)) ∈ lw_all := lw_g (lw_at lw_m1 198 rfl) rfl
theorem q212 : (Jvm.Cond.instanceMethod ({ cls := "DremelStoreModel", name := "group", desc := "(ZI)I" } : Jvm.MethodName)) ∈ lw_all := lw_g (lw_at lw_m1 200 rfl) rfl
theorem q213 : (Jvm.Cond.selects "DremelStoreModel" ({ cls := "DremelStoreModel", name := "group", desc := "(ZI)I" } : Jvm.MethodName) ({ cls := "DremelStoreModel", name := "group", desc := "(ZI)I" } : Jvm.MethodName)) ∈ lw_all := lw_g (lw_at lw_m1 201 rfl) rfl
theorem q214 : (Jvm.Cond.code ({ cls := "DremelStoreModel", name := "group", desc := "(ZI)I" } : Jvm.MethodName) prog_3_method_3_code (5 : Nat) (Option.some Jvm.ClassFile.FieldType.int)) ∈ lw_all := lw_g (lw_at lw_m1 202 rfl) rfl
theorem q216 : (Jvm.Cond.instanceMethod ({ cls := "DremelStoreModel", name := "value", desc := "(I)I" } : Jvm.MethodName)) ∈ lw_all := lw_g (lw_at lw_m1 204 rfl) rfl
theorem q217 : (Jvm.Cond.selects "DremelStoreModel" ({ cls := "DremelStoreModel", name := "value", desc := "(I)I" } : Jvm.MethodName) ({ cls := "DremelStoreModel", name := "value", desc := "(I)I" } : Jvm.MethodName)) ∈ lw_all := lw_g (lw_at lw_m1 205 rfl) rfl
theorem q218 : (Jvm.Cond.code ({ cls := "DremelStoreModel", name := "value", desc := "(I)I" } : Jvm.MethodName) prog_3_method_4_code (3 : Nat) (Option.some Jvm.ClassFile.FieldType.int)) ∈ lw_all := lw_g (lw_at lw_m1 206 rfl) rfl
theorem q220 : (Jvm.Cond.instanceMethod ({ cls := "DremelStoreModel", name := "end", desc := "()I" } : Jvm.MethodName)) ∈ lw_all := lw_g (lw_at lw_m1 208 rfl) rfl
theorem q221 : (Jvm.Cond.selects "DremelStoreModel" ({ cls := "DremelStoreModel", name := "end", desc := "()I" } : Jvm.MethodName) ({ cls := "DremelStoreModel", name := "end", desc := "()I" } : Jvm.MethodName)) ∈ lw_all := lw_g (lw_at lw_m1 209 rfl) rfl
theorem q222 : (Jvm.Cond.code ({ cls := "DremelStoreModel", name := "end", desc := "()I" } : Jvm.MethodName) prog_3_method_6_code (1 : Nat) (Option.some Jvm.ClassFile.FieldType.int)) ∈ lw_all := lw_g (lw_at lw_m1 210 rfl) rfl
theorem q224 : (Jvm.Cond.instanceMethod ({ cls := "DremelStoreModel", name := "groups", desc := "(I)I" } : Jvm.MethodName)) ∈ lw_all := lw_g (lw_at lw_m1 212 rfl) rfl
theorem q225 : (Jvm.Cond.selects "DremelStoreModel" ({ cls := "DremelStoreModel", name := "groups", desc := "(I)I" } : Jvm.MethodName) ({ cls := "DremelStoreModel", name := "groups", desc := "(I)I" } : Jvm.MethodName)) ∈ lw_all := lw_g (lw_at lw_m1 213 rfl) rfl
theorem q226 : (Jvm.Cond.code ({ cls := "DremelStoreModel", name := "groups", desc := "(I)I" } : Jvm.MethodName) prog_3_method_9_code (2 : Nat) (Option.some Jvm.ClassFile.FieldType.int)) ∈ lw_all := lw_g (lw_at lw_m1 214 rfl) rfl
theorem q227 : (Jvm.Cond.methodLink "DremelStoreModel" (50 : Nat) ({ cls := "DremelStoreModel", name := "missing", desc := "(I)Z" } : Jvm.MethodName)) ∈ lw_all := lw_g (lw_at lw_m1 215 rfl) rfl
theorem q228 : (Jvm.Cond.privateMethod ({ cls := "DremelStoreModel", name := "missing", desc := "(I)Z" } : Jvm.MethodName)) ∈ lw_tbl := lw_at lw_m1 216 rfl
theorem q229 : (Jvm.Cond.instanceMethod ({ cls := "DremelStoreModel", name := "missing", desc := "(I)Z" } : Jvm.MethodName)) ∈ lw_all := lw_g (lw_at lw_m1 217 rfl) rfl
theorem q230 : (Jvm.Cond.code ({ cls := "DremelStoreModel", name := "missing", desc := "(I)Z" } : Jvm.MethodName) prog_3_method_7_code (2 : Nat) (Option.some Jvm.ClassFile.FieldType.boolean)) ∈ lw_all := lw_g (lw_at lw_m1 218 rfl) rfl
theorem q231 : (Jvm.Cond.methodLink "DremelStoreModel" (46 : Nat) ({ cls := "DremelStoreModel", name := "ended", desc := "()I" } : Jvm.MethodName)) ∈ lw_all := lw_g (lw_at lw_m1 219 rfl) rfl
theorem q232 : (Jvm.Cond.privateMethod ({ cls := "DremelStoreModel", name := "ended", desc := "()I" } : Jvm.MethodName)) ∈ lw_tbl := lw_at lw_m1 220 rfl
theorem q233 : (Jvm.Cond.instanceMethod ({ cls := "DremelStoreModel", name := "ended", desc := "()I" } : Jvm.MethodName)) ∈ lw_all := lw_g (lw_at lw_m1 221 rfl) rfl
theorem q234 : (Jvm.Cond.code ({ cls := "DremelStoreModel", name := "ended", desc := "()I" } : Jvm.MethodName) prog_3_method_5_code (1 : Nat) (Option.some Jvm.ClassFile.FieldType.int)) ∈ lw_all := lw_g (lw_at lw_m1 222 rfl) rfl
theorem q236 : (Jvm.Cond.instanceMethod ({ cls := "DremelStoreModel", name := "values", desc := "(II)I" } : Jvm.MethodName)) ∈ lw_all := lw_g (lw_at lw_m1 224 rfl) rfl
theorem q237 : (Jvm.Cond.selects "DremelStoreModel" ({ cls := "DremelStoreModel", name := "values", desc := "(II)I" } : Jvm.MethodName) ({ cls := "DremelStoreModel", name := "values", desc := "(II)I" } : Jvm.MethodName)) ∈ lw_all := lw_g (lw_at lw_m1 225 rfl) rfl
theorem q238 : (Jvm.Cond.code ({ cls := "DremelStoreModel", name := "values", desc := "(II)I" } : Jvm.MethodName) prog_3_method_10_code (3 : Nat) (Option.some Jvm.ClassFile.FieldType.int)) ∈ lw_all := lw_g (lw_at lw_m1 226 rfl) rfl
theorem q239 : (Jvm.Cond.methodLink "DremelStoreModel" (54 : Nat) ({ cls := "DremelStoreModel", name := "noGroup", desc := "(II)Z" } : Jvm.MethodName)) ∈ lw_all := lw_g (lw_at lw_m1 227 rfl) rfl
theorem q240 : (Jvm.Cond.privateMethod ({ cls := "DremelStoreModel", name := "noGroup", desc := "(II)Z" } : Jvm.MethodName)) ∈ lw_tbl := lw_at lw_m1 228 rfl
theorem q241 : (Jvm.Cond.instanceMethod ({ cls := "DremelStoreModel", name := "noGroup", desc := "(II)Z" } : Jvm.MethodName)) ∈ lw_all := lw_g (lw_at lw_m1 229 rfl) rfl
theorem q242 : (Jvm.Cond.code ({ cls := "DremelStoreModel", name := "noGroup", desc := "(II)Z" } : Jvm.MethodName) prog_3_method_8_code (3 : Nat) (Option.some Jvm.ClassFile.FieldType.boolean)) ∈ lw_all := lw_g (lw_at lw_m1 230 rfl) rfl
theorem q244 : (Jvm.Cond.instanceMethod ({ cls := "DremelStoreModel", name := "valueAt", desc := "(III)I" } : Jvm.MethodName)) ∈ lw_all := lw_g (lw_at lw_m1 232 rfl) rfl
theorem q245 : (Jvm.Cond.selects "DremelStoreModel" ({ cls := "DremelStoreModel", name := "valueAt", desc := "(III)I" } : Jvm.MethodName) ({ cls := "DremelStoreModel", name := "valueAt", desc := "(III)I" } : Jvm.MethodName)) ∈ lw_all := lw_g (lw_at lw_m1 233 rfl) rfl
theorem q246 : (Jvm.Cond.code ({ cls := "DremelStoreModel", name := "valueAt", desc := "(III)I" } : Jvm.MethodName) prog_3_method_11_code (4 : Nat) (Option.some Jvm.ClassFile.FieldType.int)) ∈ lw_all := lw_g (lw_at lw_m1 234 rfl) rfl
theorem q248 : (Jvm.Cond.instanceMethod ({ cls := "DremelStoreModel", name := "hasNote", desc := "(I)I" } : Jvm.MethodName)) ∈ lw_all := lw_g (lw_at lw_m1 236 rfl) rfl
theorem q249 : (Jvm.Cond.selects "DremelStoreModel" ({ cls := "DremelStoreModel", name := "hasNote", desc := "(I)I" } : Jvm.MethodName) ({ cls := "DremelStoreModel", name := "hasNote", desc := "(I)I" } : Jvm.MethodName)) ∈ lw_all := lw_g (lw_at lw_m1 237 rfl) rfl
theorem q250 : (Jvm.Cond.code ({ cls := "DremelStoreModel", name := "hasNote", desc := "(I)I" } : Jvm.MethodName) prog_3_method_12_code (2 : Nat) (Option.some Jvm.ClassFile.FieldType.int)) ∈ lw_all := lw_g (lw_at lw_m1 238 rfl) rfl
theorem q252 : (Jvm.Cond.instanceMethod ({ cls := "DremelStoreModel", name := "label", desc := "(II)I" } : Jvm.MethodName)) ∈ lw_all := lw_g (lw_at lw_m2 0 rfl) rfl
theorem q253 : (Jvm.Cond.selects "DremelStoreModel" ({ cls := "DremelStoreModel", name := "label", desc := "(II)I" } : Jvm.MethodName) ({ cls := "DremelStoreModel", name := "label", desc := "(II)I" } : Jvm.MethodName)) ∈ lw_all := lw_g (lw_at lw_m2 1 rfl) rfl
theorem q254 : (Jvm.Cond.code ({ cls := "DremelStoreModel", name := "label", desc := "(II)I" } : Jvm.MethodName) prog_3_method_13_code (3 : Nat) (Option.some Jvm.ClassFile.FieldType.int)) ∈ lw_all := lw_g (lw_at lw_m2 2 rfl) rfl
theorem q256 : (Jvm.Cond.instanceMethod ({ cls := "DremelStoreModel", name := "sumByTag", desc := "(I)I" } : Jvm.MethodName)) ∈ lw_all := lw_g (lw_at lw_m2 4 rfl) rfl
theorem q257 : (Jvm.Cond.selects "DremelStoreModel" ({ cls := "DremelStoreModel", name := "sumByTag", desc := "(I)I" } : Jvm.MethodName) ({ cls := "DremelStoreModel", name := "sumByTag", desc := "(I)I" } : Jvm.MethodName)) ∈ lw_all := lw_g (lw_at lw_m2 5 rfl) rfl
theorem q258 : (Jvm.Cond.code ({ cls := "DremelStoreModel", name := "sumByTag", desc := "(I)I" } : Jvm.MethodName) prog_3_method_14_code (6 : Nat) (Option.some Jvm.ClassFile.FieldType.int)) ∈ lw_all := lw_g (lw_at lw_m2 6 rfl) rfl
theorem q260 : (Jvm.Cond.instanceMethod ({ cls := "DremelStoreModel", name := "recordsWith", desc := "(II)I" } : Jvm.MethodName)) ∈ lw_all := lw_g (lw_at lw_m2 8 rfl) rfl
theorem q261 : (Jvm.Cond.selects "DremelStoreModel" ({ cls := "DremelStoreModel", name := "recordsWith", desc := "(II)I" } : Jvm.MethodName) ({ cls := "DremelStoreModel", name := "recordsWith", desc := "(II)I" } : Jvm.MethodName)) ∈ lw_all := lw_g (lw_at lw_m2 9 rfl) rfl
theorem q262 : (Jvm.Cond.code ({ cls := "DremelStoreModel", name := "recordsWith", desc := "(II)I" } : Jvm.MethodName) prog_3_method_16_code (5 : Nat) (Option.some Jvm.ClassFile.FieldType.int)) ∈ lw_all := lw_g (lw_at lw_m2 10 rfl) rfl
theorem q263 : (Jvm.Cond.methodLink "DremelStoreModel" (58 : Nat) ({ cls := "DremelStoreModel", name := "holds", desc := "(III)Z" } : Jvm.MethodName)) ∈ lw_all := lw_g (lw_at lw_m2 11 rfl) rfl
theorem q264 : (Jvm.Cond.privateMethod ({ cls := "DremelStoreModel", name := "holds", desc := "(III)Z" } : Jvm.MethodName)) ∈ lw_tbl := lw_at lw_m2 12 rfl
theorem q265 : (Jvm.Cond.instanceMethod ({ cls := "DremelStoreModel", name := "holds", desc := "(III)Z" } : Jvm.MethodName)) ∈ lw_all := lw_g (lw_at lw_m2 13 rfl) rfl
theorem q266 : (Jvm.Cond.code ({ cls := "DremelStoreModel", name := "holds", desc := "(III)Z" } : Jvm.MethodName) prog_3_method_15_code (7 : Nat) (Option.some Jvm.ClassFile.FieldType.boolean)) ∈ lw_all := lw_g (lw_at lw_m2 14 rfl) rfl
theorem in_X1 : ∀ w ∈ wsX10, w ∈ lw_all := lw_in wsX10 [184, 186, 188, 190, 192, 194, 196, 198, 200, 202, 204] (by decide +kernel) (by decide +kernel)
def RJ0 : String := "java/lang/Object"
abbrev cJ0_init : ByteArray := object_method_1_code
def yJ0_init : MethodName := ⟨RJ0, "<init>", "()V"⟩
theorem dJ0_init_0 : decode cJ0_init 0 = .ok (.return_, 1) := by decide +kernel
theorem q21 : (Jvm.Cond.instanceMethod ({ cls := "java/lang/Object", name := "<init>", desc := "()V" } : Jvm.MethodName)) ∈ lw_all := lw_g (lw_at lw_m1 9 rfl) rfl
theorem q22 : (Jvm.Cond.code ({ cls := "java/lang/Object", name := "<init>", desc := "()V" } : Jvm.MethodName) object_method_1_code (1 : Nat) (Option.none : Option Jvm.ClassFile.FieldType)) ∈ lw_all := lw_g (lw_at lw_m1 10 rfl) rfl
theorem q87 : (Jvm.Cond.arrayClass Jvm.ClassFile.FieldType.boolean) ∈ lw_all := lw_g (lw_at lw_m1 75 rfl) rfl
theorem q88 : (Jvm.Cond.arrayClass Jvm.ClassFile.FieldType.int) ∈ lw_all := lw_g (lw_at lw_m1 76 rfl) rfl
theorem q12 : (Jvm.Cond.initialized "DremelStoreLaw") ∈ lw_all := lw_g (lw_at lw_m1 0 rfl) rfl
theorem q15 : (Jvm.Cond.classLink "DremelStoreLaw" (7 : Nat) "DremelStore") ∈ lw_all := lw_g (lw_at lw_m1 3 rfl) rfl
theorem q17 : (Jvm.Cond.methodLink "DremelStoreLaw" (9 : Nat) ({ cls := "DremelStore", name := "<init>", desc := "()V" } : Jvm.MethodName)) ∈ lw_all := lw_g (lw_at lw_m1 5 rfl) rfl
theorem q89 : (Jvm.Cond.methodLink "DremelStoreLaw" (13 : Nat) ({ cls := "DremelStore", name := "begin", desc := "(ZI)I" } : Jvm.MethodName)) ∈ lw_all := lw_g (lw_at lw_m1 77 rfl) rfl
theorem q93 : (Jvm.Cond.methodLink "DremelStoreLaw" (18 : Nat) ({ cls := "DremelStore", name := "group", desc := "(ZI)I" } : Jvm.MethodName)) ∈ lw_all := lw_g (lw_at lw_m1 81 rfl) rfl
theorem q109 : (Jvm.Cond.methodLink "DremelStoreLaw" (22 : Nat) ({ cls := "DremelStore", name := "value", desc := "(I)I" } : Jvm.MethodName)) ∈ lw_all := lw_g (lw_at lw_m1 97 rfl) rfl
theorem q113 : (Jvm.Cond.methodLink "DremelStoreLaw" (27 : Nat) ({ cls := "DremelStore", name := "end", desc := "()I" } : Jvm.MethodName)) ∈ lw_all := lw_g (lw_at lw_m1 101 rfl) rfl
theorem q117 : (Jvm.Cond.methodLink "DremelStoreLaw" (32 : Nat) ({ cls := "DremelStore", name := "groups", desc := "(I)I" } : Jvm.MethodName)) ∈ lw_all := lw_g (lw_at lw_m1 105 rfl) rfl
theorem q129 : (Jvm.Cond.methodLink "DremelStoreLaw" (36 : Nat) ({ cls := "DremelStore", name := "values", desc := "(II)I" } : Jvm.MethodName)) ∈ lw_all := lw_g (lw_at lw_m1 117 rfl) rfl
theorem q142 : (Jvm.Cond.methodLink "DremelStoreLaw" (41 : Nat) ({ cls := "DremelStore", name := "valueAt", desc := "(III)I" } : Jvm.MethodName)) ∈ lw_all := lw_g (lw_at lw_m1 130 rfl) rfl
theorem q147 : (Jvm.Cond.methodLink "DremelStoreLaw" (46 : Nat) ({ cls := "DremelStore", name := "hasNote", desc := "(I)I" } : Jvm.MethodName)) ∈ lw_all := lw_g (lw_at lw_m1 135 rfl) rfl
theorem q151 : (Jvm.Cond.methodLink "DremelStoreLaw" (50 : Nat) ({ cls := "DremelStore", name := "label", desc := "(II)I" } : Jvm.MethodName)) ∈ lw_all := lw_g (lw_at lw_m1 139 rfl) rfl
theorem q159 : (Jvm.Cond.methodLink "DremelStoreLaw" (54 : Nat) ({ cls := "DremelStore", name := "sumByTag", desc := "(I)I" } : Jvm.MethodName)) ∈ lw_all := lw_g (lw_at lw_m1 147 rfl) rfl
theorem q163 : (Jvm.Cond.methodLink "DremelStoreLaw" (58 : Nat) ({ cls := "DremelStore", name := "recordsWith", desc := "(II)I" } : Jvm.MethodName)) ∈ lw_all := lw_g (lw_at lw_m1 151 rfl) rfl
theorem q167 : (Jvm.Cond.classLink "DremelStoreLaw" (10 : Nat) "DremelStoreModel") ∈ lw_all := lw_g (lw_at lw_m1 155 rfl) rfl
theorem q169 : (Jvm.Cond.methodLink "DremelStoreLaw" (12 : Nat) ({ cls := "DremelStoreModel", name := "<init>", desc := "()V" } : Jvm.MethodName)) ∈ lw_all := lw_g (lw_at lw_m1 157 rfl) rfl
theorem q207 : (Jvm.Cond.methodLink "DremelStoreLaw" (17 : Nat) ({ cls := "DremelStoreModel", name := "begin", desc := "(ZI)I" } : Jvm.MethodName)) ∈ lw_all := lw_g (lw_at lw_m1 195 rfl) rfl
theorem q211 : (Jvm.Cond.methodLink "DremelStoreLaw" (21 : Nat) ({ cls := "DremelStoreModel", name := "group", desc := "(ZI)I" } : Jvm.MethodName)) ∈ lw_all := lw_g (lw_at lw_m1 199 rfl) rfl
theorem q215 : (Jvm.Cond.methodLink "DremelStoreLaw" (26 : Nat) ({ cls := "DremelStoreModel", name := "value", desc := "(I)I" } : Jvm.MethodName)) ∈ lw_all := lw_g (lw_at lw_m1 203 rfl) rfl
theorem q219 : (Jvm.Cond.methodLink "DremelStoreLaw" (31 : Nat) ({ cls := "DremelStoreModel", name := "end", desc := "()I" } : Jvm.MethodName)) ∈ lw_all := lw_g (lw_at lw_m1 207 rfl) rfl
theorem q223 : (Jvm.Cond.methodLink "DremelStoreLaw" (35 : Nat) ({ cls := "DremelStoreModel", name := "groups", desc := "(I)I" } : Jvm.MethodName)) ∈ lw_all := lw_g (lw_at lw_m1 211 rfl) rfl
theorem q235 : (Jvm.Cond.methodLink "DremelStoreLaw" (40 : Nat) ({ cls := "DremelStoreModel", name := "values", desc := "(II)I" } : Jvm.MethodName)) ∈ lw_all := lw_g (lw_at lw_m1 223 rfl) rfl
theorem q243 : (Jvm.Cond.methodLink "DremelStoreLaw" (45 : Nat) ({ cls := "DremelStoreModel", name := "valueAt", desc := "(III)I" } : Jvm.MethodName)) ∈ lw_all := lw_g (lw_at lw_m1 231 rfl) rfl
theorem q247 : (Jvm.Cond.methodLink "DremelStoreLaw" (49 : Nat) ({ cls := "DremelStoreModel", name := "hasNote", desc := "(I)I" } : Jvm.MethodName)) ∈ lw_all := lw_g (lw_at lw_m1 235 rfl) rfl
theorem q251 : (Jvm.Cond.methodLink "DremelStoreLaw" (53 : Nat) ({ cls := "DremelStoreModel", name := "label", desc := "(II)I" } : Jvm.MethodName)) ∈ lw_all := lw_g (lw_at lw_m1 239 rfl) rfl
theorem q255 : (Jvm.Cond.methodLink "DremelStoreLaw" (57 : Nat) ({ cls := "DremelStoreModel", name := "sumByTag", desc := "(I)I" } : Jvm.MethodName)) ∈ lw_all := lw_g (lw_at lw_m2 3 rfl) rfl
theorem q259 : (Jvm.Cond.methodLink "DremelStoreLaw" (61 : Nat) ({ cls := "DremelStoreModel", name := "recordsWith", desc := "(II)I" } : Jvm.MethodName)) ∈ lw_all := lw_g (lw_at lw_m2 7 rfl) rfl
abbrev cL_law : ByteArray := code
end
section
set_option maxRecDepth 100000
theorem dX0_init_0 : decode cX0_init 0 = .ok (.aload_n 0, 1) := by decide +kernel
theorem dX0_init_1 : decode cX0_init 1 = .ok (.invokespecial 1, 3) := by decide +kernel
theorem dX0_init_4 : decode cX0_init 4 = .ok (.aload_n 0, 1) := by decide +kernel
theorem dX0_init_5 : decode cX0_init 5 = .ok (.bipush 12, 2) := by decide +kernel
theorem dX0_init_7 : decode cX0_init 7 = .ok (.newarray .boolean, 2) := by decide +kernel
theorem dX0_init_9 : decode cX0_init 9 = .ok (.putfield 7, 3) := by decide +kernel
theorem dX0_init_12 : decode cX0_init 12 = .ok (.aload_n 0, 1) := by decide +kernel
theorem dX0_init_13 : decode cX0_init 13 = .ok (.bipush 12, 2) := by decide +kernel
theorem dX0_init_15 : decode cX0_init 15 = .ok (.newarray .int, 2) := by decide +kernel
theorem dX0_init_17 : decode cX0_init 17 = .ok (.putfield 13, 3) := by decide +kernel
theorem dX0_init_20 : decode cX0_init 20 = .ok (.aload_n 0, 1) := by decide +kernel
theorem dX0_init_21 : decode cX0_init 21 = .ok (.bipush 52, 2) := by decide +kernel
theorem dX0_init_23 : decode cX0_init 23 = .ok (.newarray .int, 2) := by decide +kernel
theorem dX0_init_25 : decode cX0_init 25 = .ok (.putfield 17, 3) := by decide +kernel
theorem dX0_init_28 : decode cX0_init 28 = .ok (.aload_n 0, 1) := by decide +kernel
theorem dX0_init_29 : decode cX0_init 29 = .ok (.bipush 52, 2) := by decide +kernel
theorem dX0_init_31 : decode cX0_init 31 = .ok (.newarray .int, 2) := by decide +kernel
theorem dX0_init_33 : decode cX0_init 33 = .ok (.putfield 20, 3) := by decide +kernel
theorem dX0_init_36 : decode cX0_init 36 = .ok (.aload_n 0, 1) := by decide +kernel
theorem dX0_init_37 : decode cX0_init 37 = .ok (.bipush 40, 2) := by decide +kernel
theorem dX0_init_39 : decode cX0_init 39 = .ok (.newarray .int, 2) := by decide +kernel
theorem dX0_init_41 : decode cX0_init 41 = .ok (.putfield 23, 3) := by decide +kernel
theorem dX0_init_44 : decode cX0_init 44 = .ok (.aload_n 0, 1) := by decide +kernel
theorem dX0_init_45 : decode cX0_init 45 = .ok (.bipush 112, 2) := by decide +kernel
theorem dX0_init_47 : decode cX0_init 47 = .ok (.newarray .int, 2) := by decide +kernel
theorem dX0_init_49 : decode cX0_init 49 = .ok (.putfield 26, 3) := by decide +kernel
theorem dX0_init_52 : decode cX0_init 52 = .ok (.aload_n 0, 1) := by decide +kernel
theorem dX0_init_53 : decode cX0_init 53 = .ok (.bipush 112, 2) := by decide +kernel
theorem dX0_init_55 : decode cX0_init 55 = .ok (.newarray .int, 2) := by decide +kernel
theorem dX0_init_57 : decode cX0_init 57 = .ok (.putfield 29, 3) := by decide +kernel
theorem dX0_init_60 : decode cX0_init 60 = .ok (.aload_n 0, 1) := by decide +kernel
theorem dX0_init_61 : decode cX0_init 61 = .ok (.bipush 60, 2) := by decide +kernel
theorem dX0_init_63 : decode cX0_init 63 = .ok (.newarray .int, 2) := by decide +kernel
theorem dX0_init_65 : decode cX0_init 65 = .ok (.putfield 32, 3) := by decide +kernel
theorem dX0_init_68 : decode cX0_init 68 = .ok (.return_, 1) := by decide +kernel
theorem dX0_begin_0 : decode cX0_begin 0 = .ok (.aload_n 0, 1) := by decide +kernel
theorem dX0_begin_1 : decode cX0_begin 1 = .ok (.getfield 35, 3) := by decide +kernel
theorem dX0_begin_4 : decode cX0_begin 4 = .ok (.ifCond .ne 12, 3) := by decide +kernel
theorem dX0_begin_7 : decode cX0_begin 7 = .ok (.aload_n 0, 1) := by decide +kernel
theorem dX0_begin_8 : decode cX0_begin 8 = .ok (.getfield 39, 3) := by decide +kernel
theorem dX0_begin_11 : decode cX0_begin 11 = .ok (.bipush 12, 2) := by decide +kernel
theorem dX0_begin_13 : decode cX0_begin 13 = .ok (.if_icmp .lt 5, 3) := by decide +kernel
theorem dX0_begin_16 : decode cX0_begin 16 = .ok (.iconst (-1), 1) := by decide +kernel
theorem dX0_begin_17 : decode cX0_begin 17 = .ok (.ireturn, 1) := by decide +kernel
theorem dX0_begin_18 : decode cX0_begin 18 = .ok (.aload_n 0, 1) := by decide +kernel
theorem dX0_begin_19 : decode cX0_begin 19 = .ok (.iconst 1, 1) := by decide +kernel
theorem dX0_begin_20 : decode cX0_begin 20 = .ok (.putfield 35, 3) := by decide +kernel
theorem dX0_begin_23 : decode cX0_begin 23 = .ok (.aload_n 0, 1) := by decide +kernel
theorem dX0_begin_24 : decode cX0_begin 24 = .ok (.iconst 0, 1) := by decide +kernel
theorem dX0_begin_25 : decode cX0_begin 25 = .ok (.putfield 43, 3) := by decide +kernel
theorem dX0_begin_28 : decode cX0_begin 28 = .ok (.aload_n 0, 1) := by decide +kernel
theorem dX0_begin_29 : decode cX0_begin 29 = .ok (.getfield 7, 3) := by decide +kernel
theorem dX0_begin_32 : decode cX0_begin 32 = .ok (.aload_n 0, 1) := by decide +kernel
theorem dX0_begin_33 : decode cX0_begin 33 = .ok (.getfield 39, 3) := by decide +kernel
theorem dX0_begin_36 : decode cX0_begin 36 = .ok (.iload_n 1, 1) := by decide +kernel
theorem dX0_begin_37 : decode cX0_begin 37 = .ok (.bastore, 1) := by decide +kernel
theorem dX0_begin_38 : decode cX0_begin 38 = .ok (.iload_n 1, 1) := by decide +kernel
theorem dX0_begin_39 : decode cX0_begin 39 = .ok (.ifCond .eq 23, 3) := by decide +kernel
theorem dX0_begin_42 : decode cX0_begin 42 = .ok (.aload_n 0, 1) := by decide +kernel
theorem dX0_begin_43 : decode cX0_begin 43 = .ok (.getfield 13, 3) := by decide +kernel
theorem dX0_begin_46 : decode cX0_begin 46 = .ok (.aload_n 0, 1) := by decide +kernel
theorem dX0_begin_47 : decode cX0_begin 47 = .ok (.getfield 46, 3) := by decide +kernel
theorem dX0_begin_50 : decode cX0_begin 50 = .ok (.iload_n 2, 1) := by decide +kernel
theorem dX0_begin_51 : decode cX0_begin 51 = .ok (.iastore, 1) := by decide +kernel
theorem dX0_begin_52 : decode cX0_begin 52 = .ok (.aload_n 0, 1) := by decide +kernel
theorem dX0_begin_53 : decode cX0_begin 53 = .ok (.dup, 1) := by decide +kernel
theorem dX0_begin_54 : decode cX0_begin 54 = .ok (.getfield 46, 3) := by decide +kernel
theorem dX0_begin_57 : decode cX0_begin 57 = .ok (.iconst 1, 1) := by decide +kernel
theorem dX0_begin_58 : decode cX0_begin 58 = .ok (.iadd, 1) := by decide +kernel
theorem dX0_begin_59 : decode cX0_begin 59 = .ok (.putfield 46, 3) := by decide +kernel
theorem dX0_begin_62 : decode cX0_begin 62 = .ok (.aload_n 0, 1) := by decide +kernel
theorem dX0_begin_63 : decode cX0_begin 63 = .ok (.dup, 1) := by decide +kernel
theorem dX0_begin_64 : decode cX0_begin 64 = .ok (.getfield 39, 3) := by decide +kernel
theorem dX0_begin_67 : decode cX0_begin 67 = .ok (.iconst 1, 1) := by decide +kernel
theorem dX0_begin_68 : decode cX0_begin 68 = .ok (.iadd, 1) := by decide +kernel
theorem dX0_begin_69 : decode cX0_begin 69 = .ok (.putfield 39, 3) := by decide +kernel
theorem dX0_begin_72 : decode cX0_begin 72 = .ok (.aload_n 0, 1) := by decide +kernel
theorem dX0_begin_73 : decode cX0_begin 73 = .ok (.getfield 39, 3) := by decide +kernel
theorem dX0_begin_76 : decode cX0_begin 76 = .ok (.iconst 1, 1) := by decide +kernel
theorem dX0_begin_77 : decode cX0_begin 77 = .ok (.isub, 1) := by decide +kernel
theorem dX0_begin_78 : decode cX0_begin 78 = .ok (.ireturn, 1) := by decide +kernel
theorem dX0_group_0 : decode cX0_group 0 = .ok (.aload_n 0, 1) := by decide +kernel
theorem dX0_group_1 : decode cX0_group 1 = .ok (.getfield 35, 3) := by decide +kernel
theorem dX0_group_4 : decode cX0_group 4 = .ok (.ifCond .eq 20, 3) := by decide +kernel
theorem dX0_group_7 : decode cX0_group 7 = .ok (.aload_n 0, 1) := by decide +kernel
theorem dX0_group_8 : decode cX0_group 8 = .ok (.getfield 43, 3) := by decide +kernel
theorem dX0_group_11 : decode cX0_group 11 = .ok (.iconst 4, 1) := by decide +kernel
theorem dX0_group_12 : decode cX0_group 12 = .ok (.if_icmp .ge 12, 3) := by decide +kernel
theorem dX0_group_15 : decode cX0_group 15 = .ok (.aload_n 0, 1) := by decide +kernel
theorem dX0_group_16 : decode cX0_group 16 = .ok (.getfield 49, 3) := by decide +kernel
theorem dX0_group_19 : decode cX0_group 19 = .ok (.bipush 40, 2) := by decide +kernel
theorem dX0_group_21 : decode cX0_group 21 = .ok (.if_icmp .lt 5, 3) := by decide +kernel
theorem dX0_group_24 : decode cX0_group 24 = .ok (.iconst (-1), 1) := by decide +kernel
theorem dX0_group_25 : decode cX0_group 25 = .ok (.ireturn, 1) := by decide +kernel
theorem dX0_group_26 : decode cX0_group 26 = .ok (.aload_n 0, 1) := by decide +kernel
theorem dX0_group_27 : decode cX0_group 27 = .ok (.invokevirtual 52, 3) := by decide +kernel
theorem dX0_group_30 : decode cX0_group 30 = .ok (.aload_n 0, 1) := by decide +kernel
theorem dX0_group_31 : decode cX0_group 31 = .ok (.aload_n 0, 1) := by decide +kernel
theorem dX0_group_32 : decode cX0_group 32 = .ok (.getfield 43, 3) := by decide +kernel
theorem dX0_group_35 : decode cX0_group 35 = .ok (.ifCond .ne 7, 3) := by decide +kernel
theorem dX0_group_38 : decode cX0_group 38 = .ok (.iconst 0, 1) := by decide +kernel
theorem dX0_group_39 : decode cX0_group 39 = .ok (.goto 4, 3) := by decide +kernel
theorem dX0_group_42 : decode cX0_group 42 = .ok (.iconst 1, 1) := by decide +kernel
theorem dX0_group_43 : decode cX0_group 43 = .ok (.iload_n 1, 1) := by decide +kernel
theorem dX0_group_44 : decode cX0_group 44 = .ok (.ifCond .eq 7, 3) := by decide +kernel
theorem dX0_group_47 : decode cX0_group 47 = .ok (.iconst 2, 1) := by decide +kernel
theorem dX0_group_48 : decode cX0_group 48 = .ok (.goto 4, 3) := by decide +kernel
theorem dX0_group_51 : decode cX0_group 51 = .ok (.iconst 1, 1) := by decide +kernel
theorem dX0_group_52 : decode cX0_group 52 = .ok (.invokevirtual 55, 3) := by decide +kernel
theorem dX0_group_55 : decode cX0_group 55 = .ok (.iload_n 1, 1) := by decide +kernel
theorem dX0_group_56 : decode cX0_group 56 = .ok (.ifCond .eq 23, 3) := by decide +kernel
theorem dX0_group_59 : decode cX0_group 59 = .ok (.aload_n 0, 1) := by decide +kernel
theorem dX0_group_60 : decode cX0_group 60 = .ok (.getfield 23, 3) := by decide +kernel
theorem dX0_group_63 : decode cX0_group 63 = .ok (.aload_n 0, 1) := by decide +kernel
theorem dX0_group_64 : decode cX0_group 64 = .ok (.getfield 59, 3) := by decide +kernel
theorem dX0_group_67 : decode cX0_group 67 = .ok (.iload_n 2, 1) := by decide +kernel
theorem dX0_group_68 : decode cX0_group 68 = .ok (.iastore, 1) := by decide +kernel
theorem dX0_group_69 : decode cX0_group 69 = .ok (.aload_n 0, 1) := by decide +kernel
theorem dX0_group_70 : decode cX0_group 70 = .ok (.dup, 1) := by decide +kernel
theorem dX0_group_71 : decode cX0_group 71 = .ok (.getfield 59, 3) := by decide +kernel
theorem dX0_group_74 : decode cX0_group 74 = .ok (.iconst 1, 1) := by decide +kernel
theorem dX0_group_75 : decode cX0_group 75 = .ok (.iadd, 1) := by decide +kernel
theorem dX0_group_76 : decode cX0_group 76 = .ok (.putfield 59, 3) := by decide +kernel
theorem dX0_group_79 : decode cX0_group 79 = .ok (.aload_n 0, 1) := by decide +kernel
theorem dX0_group_80 : decode cX0_group 80 = .ok (.dup, 1) := by decide +kernel
theorem dX0_group_81 : decode cX0_group 81 = .ok (.getfield 43, 3) := by decide +kernel
theorem dX0_group_84 : decode cX0_group 84 = .ok (.iconst 1, 1) := by decide +kernel
theorem dX0_group_85 : decode cX0_group 85 = .ok (.iadd, 1) := by decide +kernel
theorem dX0_group_86 : decode cX0_group 86 = .ok (.putfield 43, 3) := by decide +kernel
theorem dX0_group_89 : decode cX0_group 89 = .ok (.aload_n 0, 1) := by decide +kernel
theorem dX0_group_90 : decode cX0_group 90 = .ok (.dup, 1) := by decide +kernel
theorem dX0_group_91 : decode cX0_group 91 = .ok (.getfield 49, 3) := by decide +kernel
theorem dX0_group_94 : decode cX0_group 94 = .ok (.iconst 1, 1) := by decide +kernel
theorem dX0_group_95 : decode cX0_group 95 = .ok (.iadd, 1) := by decide +kernel
theorem dX0_group_96 : decode cX0_group 96 = .ok (.putfield 49, 3) := by decide +kernel
theorem dX0_group_99 : decode cX0_group 99 = .ok (.aload_n 0, 1) := by decide +kernel
theorem dX0_group_100 : decode cX0_group 100 = .ok (.iconst 0, 1) := by decide +kernel
theorem dX0_group_101 : decode cX0_group 101 = .ok (.putfield 62, 3) := by decide +kernel
theorem dX0_group_104 : decode cX0_group 104 = .ok (.aload_n 0, 1) := by decide +kernel
theorem dX0_group_105 : decode cX0_group 105 = .ok (.getfield 43, 3) := by decide +kernel
theorem dX0_group_108 : decode cX0_group 108 = .ok (.ireturn, 1) := by decide +kernel
theorem dX0_closeGroup_0 : decode cX0_closeGroup 0 = .ok (.aload_n 0, 1) := by decide +kernel
theorem dX0_closeGroup_1 : decode cX0_closeGroup 1 = .ok (.getfield 43, 3) := by decide +kernel
theorem dX0_closeGroup_4 : decode cX0_closeGroup 4 = .ok (.ifCond .le 28, 3) := by decide +kernel
theorem dX0_closeGroup_7 : decode cX0_closeGroup 7 = .ok (.aload_n 0, 1) := by decide +kernel
theorem dX0_closeGroup_8 : decode cX0_closeGroup 8 = .ok (.getfield 62, 3) := by decide +kernel
theorem dX0_closeGroup_11 : decode cX0_closeGroup 11 = .ok (.ifCond .ne 21, 3) := by decide +kernel
theorem dX0_closeGroup_14 : decode cX0_closeGroup 14 = .ok (.aload_n 0, 1) := by decide +kernel
theorem dX0_closeGroup_15 : decode cX0_closeGroup 15 = .ok (.aload_n 0, 1) := by decide +kernel
theorem dX0_closeGroup_16 : decode cX0_closeGroup 16 = .ok (.getfield 43, 3) := by decide +kernel
theorem dX0_closeGroup_19 : decode cX0_closeGroup 19 = .ok (.iconst 1, 1) := by decide +kernel
theorem dX0_closeGroup_20 : decode cX0_closeGroup 20 = .ok (.if_icmp .le 7, 3) := by decide +kernel
theorem dX0_closeGroup_23 : decode cX0_closeGroup 23 = .ok (.iconst 1, 1) := by decide +kernel
theorem dX0_closeGroup_24 : decode cX0_closeGroup 24 = .ok (.goto 4, 3) := by decide +kernel
theorem dX0_closeGroup_27 : decode cX0_closeGroup 27 = .ok (.iconst 0, 1) := by decide +kernel
theorem dX0_closeGroup_28 : decode cX0_closeGroup 28 = .ok (.iconst 1, 1) := by decide +kernel
theorem dX0_closeGroup_29 : decode cX0_closeGroup 29 = .ok (.invokevirtual 68, 3) := by decide +kernel
theorem dX0_closeGroup_32 : decode cX0_closeGroup 32 = .ok (.return_, 1) := by decide +kernel
theorem dX0_addValueEntry_0 : decode cX0_addValueEntry 0 = .ok (.aload_n 0, 1) := by decide +kernel
theorem dX0_addValueEntry_1 : decode cX0_addValueEntry 1 = .ok (.getfield 26, 3) := by decide +kernel
theorem dX0_addValueEntry_4 : decode cX0_addValueEntry 4 = .ok (.aload_n 0, 1) := by decide +kernel
theorem dX0_addValueEntry_5 : decode cX0_addValueEntry 5 = .ok (.getfield 77, 3) := by decide +kernel
theorem dX0_addValueEntry_8 : decode cX0_addValueEntry 8 = .ok (.iload_n 1, 1) := by decide +kernel
theorem dX0_addValueEntry_9 : decode cX0_addValueEntry 9 = .ok (.iastore, 1) := by decide +kernel
theorem dX0_addValueEntry_10 : decode cX0_addValueEntry 10 = .ok (.aload_n 0, 1) := by decide +kernel
theorem dX0_addValueEntry_11 : decode cX0_addValueEntry 11 = .ok (.getfield 29, 3) := by decide +kernel
theorem dX0_addValueEntry_14 : decode cX0_addValueEntry 14 = .ok (.aload_n 0, 1) := by decide +kernel
theorem dX0_addValueEntry_15 : decode cX0_addValueEntry 15 = .ok (.getfield 77, 3) := by decide +kernel
theorem dX0_addValueEntry_18 : decode cX0_addValueEntry 18 = .ok (.iload_n 2, 1) := by decide +kernel
theorem dX0_addValueEntry_19 : decode cX0_addValueEntry 19 = .ok (.iastore, 1) := by decide +kernel
theorem dX0_addValueEntry_20 : decode cX0_addValueEntry 20 = .ok (.aload_n 0, 1) := by decide +kernel
theorem dX0_addValueEntry_21 : decode cX0_addValueEntry 21 = .ok (.dup, 1) := by decide +kernel
theorem dX0_addValueEntry_22 : decode cX0_addValueEntry 22 = .ok (.getfield 77, 3) := by decide +kernel
theorem dX0_addValueEntry_25 : decode cX0_addValueEntry 25 = .ok (.iconst 1, 1) := by decide +kernel
theorem dX0_addValueEntry_26 : decode cX0_addValueEntry 26 = .ok (.iadd, 1) := by decide +kernel
theorem dX0_addValueEntry_27 : decode cX0_addValueEntry 27 = .ok (.putfield 77, 3) := by decide +kernel
theorem dX0_addValueEntry_30 : decode cX0_addValueEntry 30 = .ok (.return_, 1) := by decide +kernel
theorem dX0_addTagEntry_0 : decode cX0_addTagEntry 0 = .ok (.aload_n 0, 1) := by decide +kernel
theorem dX0_addTagEntry_1 : decode cX0_addTagEntry 1 = .ok (.getfield 17, 3) := by decide +kernel
theorem dX0_addTagEntry_4 : decode cX0_addTagEntry 4 = .ok (.aload_n 0, 1) := by decide +kernel
theorem dX0_addTagEntry_5 : decode cX0_addTagEntry 5 = .ok (.getfield 74, 3) := by decide +kernel
theorem dX0_addTagEntry_8 : decode cX0_addTagEntry 8 = .ok (.iload_n 1, 1) := by decide +kernel
theorem dX0_addTagEntry_9 : decode cX0_addTagEntry 9 = .ok (.iastore, 1) := by decide +kernel
theorem dX0_addTagEntry_10 : decode cX0_addTagEntry 10 = .ok (.aload_n 0, 1) := by decide +kernel
theorem dX0_addTagEntry_11 : decode cX0_addTagEntry 11 = .ok (.getfield 20, 3) := by decide +kernel
theorem dX0_addTagEntry_14 : decode cX0_addTagEntry 14 = .ok (.aload_n 0, 1) := by decide +kernel
theorem dX0_addTagEntry_15 : decode cX0_addTagEntry 15 = .ok (.getfield 74, 3) := by decide +kernel
theorem dX0_addTagEntry_18 : decode cX0_addTagEntry 18 = .ok (.iload_n 2, 1) := by decide +kernel
theorem dX0_addTagEntry_19 : decode cX0_addTagEntry 19 = .ok (.iastore, 1) := by decide +kernel
theorem dX0_addTagEntry_20 : decode cX0_addTagEntry 20 = .ok (.aload_n 0, 1) := by decide +kernel
theorem dX0_addTagEntry_21 : decode cX0_addTagEntry 21 = .ok (.dup, 1) := by decide +kernel
theorem dX0_addTagEntry_22 : decode cX0_addTagEntry 22 = .ok (.getfield 74, 3) := by decide +kernel
theorem dX0_addTagEntry_25 : decode cX0_addTagEntry 25 = .ok (.iconst 1, 1) := by decide +kernel
theorem dX0_addTagEntry_26 : decode cX0_addTagEntry 26 = .ok (.iadd, 1) := by decide +kernel
theorem dX0_addTagEntry_27 : decode cX0_addTagEntry 27 = .ok (.putfield 74, 3) := by decide +kernel
theorem dX0_addTagEntry_30 : decode cX0_addTagEntry 30 = .ok (.return_, 1) := by decide +kernel
theorem dX0_value_0 : decode cX0_value 0 = .ok (.aload_n 0, 1) := by decide +kernel
theorem dX0_value_1 : decode cX0_value 1 = .ok (.getfield 35, 3) := by decide +kernel
theorem dX0_value_4 : decode cX0_value 4 = .ok (.ifCond .eq 27, 3) := by decide +kernel
theorem dX0_value_7 : decode cX0_value 7 = .ok (.aload_n 0, 1) := by decide +kernel
theorem dX0_value_8 : decode cX0_value 8 = .ok (.getfield 43, 3) := by decide +kernel
theorem dX0_value_11 : decode cX0_value 11 = .ok (.ifCond .eq 20, 3) := by decide +kernel
theorem dX0_value_14 : decode cX0_value 14 = .ok (.aload_n 0, 1) := by decide +kernel
theorem dX0_value_15 : decode cX0_value 15 = .ok (.getfield 62, 3) := by decide +kernel
theorem dX0_value_18 : decode cX0_value 18 = .ok (.iconst 4, 1) := by decide +kernel
theorem dX0_value_19 : decode cX0_value 19 = .ok (.if_icmp .ge 12, 3) := by decide +kernel
theorem dX0_value_22 : decode cX0_value 22 = .ok (.aload_n 0, 1) := by decide +kernel
theorem dX0_value_23 : decode cX0_value 23 = .ok (.getfield 65, 3) := by decide +kernel
theorem dX0_value_26 : decode cX0_value 26 = .ok (.bipush 60, 2) := by decide +kernel
theorem dX0_value_28 : decode cX0_value 28 = .ok (.if_icmp .lt 5, 3) := by decide +kernel
theorem dX0_value_31 : decode cX0_value 31 = .ok (.iconst (-1), 1) := by decide +kernel
theorem dX0_value_32 : decode cX0_value 32 = .ok (.ireturn, 1) := by decide +kernel
theorem dX0_value_33 : decode cX0_value 33 = .ok (.aload_n 0, 1) := by decide +kernel
theorem dX0_value_34 : decode cX0_value 34 = .ok (.aload_n 0, 1) := by decide +kernel
theorem dX0_value_35 : decode cX0_value 35 = .ok (.getfield 62, 3) := by decide +kernel
theorem dX0_value_38 : decode cX0_value 38 = .ok (.ifCond .le 7, 3) := by decide +kernel
theorem dX0_value_41 : decode cX0_value 41 = .ok (.iconst 2, 1) := by decide +kernel
theorem dX0_value_42 : decode cX0_value 42 = .ok (.goto 16, 3) := by decide +kernel
theorem dX0_value_45 : decode cX0_value 45 = .ok (.aload_n 0, 1) := by decide +kernel
theorem dX0_value_46 : decode cX0_value 46 = .ok (.getfield 43, 3) := by decide +kernel
theorem dX0_value_49 : decode cX0_value 49 = .ok (.iconst 1, 1) := by decide +kernel
theorem dX0_value_50 : decode cX0_value 50 = .ok (.if_icmp .le 7, 3) := by decide +kernel
theorem dX0_value_53 : decode cX0_value 53 = .ok (.iconst 1, 1) := by decide +kernel
theorem dX0_value_54 : decode cX0_value 54 = .ok (.goto 4, 3) := by decide +kernel
theorem dX0_value_57 : decode cX0_value 57 = .ok (.iconst 0, 1) := by decide +kernel
theorem dX0_value_58 : decode cX0_value 58 = .ok (.iconst 2, 1) := by decide +kernel
theorem dX0_value_59 : decode cX0_value 59 = .ok (.invokevirtual 68, 3) := by decide +kernel
theorem dX0_value_62 : decode cX0_value 62 = .ok (.aload_n 0, 1) := by decide +kernel
theorem dX0_value_63 : decode cX0_value 63 = .ok (.getfield 32, 3) := by decide +kernel
theorem dX0_value_66 : decode cX0_value 66 = .ok (.aload_n 0, 1) := by decide +kernel
theorem dX0_value_67 : decode cX0_value 67 = .ok (.getfield 65, 3) := by decide +kernel
theorem dX0_value_70 : decode cX0_value 70 = .ok (.iload_n 1, 1) := by decide +kernel
theorem dX0_value_71 : decode cX0_value 71 = .ok (.iastore, 1) := by decide +kernel
theorem dX0_value_72 : decode cX0_value 72 = .ok (.aload_n 0, 1) := by decide +kernel
theorem dX0_value_73 : decode cX0_value 73 = .ok (.dup, 1) := by decide +kernel
theorem dX0_value_74 : decode cX0_value 74 = .ok (.getfield 65, 3) := by decide +kernel
theorem dX0_value_77 : decode cX0_value 77 = .ok (.iconst 1, 1) := by decide +kernel
theorem dX0_value_78 : decode cX0_value 78 = .ok (.iadd, 1) := by decide +kernel
theorem dX0_value_79 : decode cX0_value 79 = .ok (.putfield 65, 3) := by decide +kernel
theorem dX0_value_82 : decode cX0_value 82 = .ok (.aload_n 0, 1) := by decide +kernel
theorem dX0_value_83 : decode cX0_value 83 = .ok (.dup, 1) := by decide +kernel
theorem dX0_value_84 : decode cX0_value 84 = .ok (.getfield 62, 3) := by decide +kernel
theorem dX0_value_87 : decode cX0_value 87 = .ok (.iconst 1, 1) := by decide +kernel
theorem dX0_value_88 : decode cX0_value 88 = .ok (.iadd, 1) := by decide +kernel
theorem dX0_value_89 : decode cX0_value 89 = .ok (.putfield 62, 3) := by decide +kernel
theorem dX0_value_92 : decode cX0_value 92 = .ok (.aload_n 0, 1) := by decide +kernel
theorem dX0_value_93 : decode cX0_value 93 = .ok (.getfield 62, 3) := by decide +kernel
theorem dX0_value_96 : decode cX0_value 96 = .ok (.ireturn, 1) := by decide +kernel
theorem dX0_end_0 : decode cX0_end 0 = .ok (.aload_n 0, 1) := by decide +kernel
theorem dX0_end_1 : decode cX0_end 1 = .ok (.getfield 35, 3) := by decide +kernel
theorem dX0_end_4 : decode cX0_end 4 = .ok (.ifCond .ne 5, 3) := by decide +kernel
theorem dX0_end_7 : decode cX0_end 7 = .ok (.iconst (-1), 1) := by decide +kernel
theorem dX0_end_8 : decode cX0_end 8 = .ok (.ireturn, 1) := by decide +kernel
theorem dX0_end_9 : decode cX0_end 9 = .ok (.aload_n 0, 1) := by decide +kernel
theorem dX0_end_10 : decode cX0_end 10 = .ok (.invokevirtual 52, 3) := by decide +kernel
theorem dX0_end_13 : decode cX0_end 13 = .ok (.aload_n 0, 1) := by decide +kernel
theorem dX0_end_14 : decode cX0_end 14 = .ok (.getfield 43, 3) := by decide +kernel
theorem dX0_end_17 : decode cX0_end 17 = .ok (.ifCond .ne 15, 3) := by decide +kernel
theorem dX0_end_20 : decode cX0_end 20 = .ok (.aload_n 0, 1) := by decide +kernel
theorem dX0_end_21 : decode cX0_end 21 = .ok (.iconst 0, 1) := by decide +kernel
theorem dX0_end_22 : decode cX0_end 22 = .ok (.iconst 0, 1) := by decide +kernel
theorem dX0_end_23 : decode cX0_end 23 = .ok (.invokevirtual 55, 3) := by decide +kernel
theorem dX0_end_26 : decode cX0_end 26 = .ok (.aload_n 0, 1) := by decide +kernel
theorem dX0_end_27 : decode cX0_end 27 = .ok (.iconst 0, 1) := by decide +kernel
theorem dX0_end_28 : decode cX0_end 28 = .ok (.iconst 0, 1) := by decide +kernel
theorem dX0_end_29 : decode cX0_end 29 = .ok (.invokevirtual 68, 3) := by decide +kernel
theorem dX0_end_32 : decode cX0_end 32 = .ok (.aload_n 0, 1) := by decide +kernel
theorem dX0_end_33 : decode cX0_end 33 = .ok (.iconst 0, 1) := by decide +kernel
theorem dX0_end_34 : decode cX0_end 34 = .ok (.putfield 35, 3) := by decide +kernel
theorem dX0_end_37 : decode cX0_end 37 = .ok (.aload_n 0, 1) := by decide +kernel
theorem dX0_end_38 : decode cX0_end 38 = .ok (.dup, 1) := by decide +kernel
theorem dX0_end_39 : decode cX0_end 39 = .ok (.getfield 71, 3) := by decide +kernel
theorem dX0_end_42 : decode cX0_end 42 = .ok (.iconst 1, 1) := by decide +kernel
theorem dX0_end_43 : decode cX0_end 43 = .ok (.iadd, 1) := by decide +kernel
theorem dX0_end_44 : decode cX0_end 44 = .ok (.putfield 71, 3) := by decide +kernel
theorem dX0_end_47 : decode cX0_end 47 = .ok (.aload_n 0, 1) := by decide +kernel
theorem dX0_end_48 : decode cX0_end 48 = .ok (.getfield 71, 3) := by decide +kernel
theorem dX0_end_51 : decode cX0_end 51 = .ok (.ireturn, 1) := by decide +kernel
theorem dX0_groups_0 : decode cX0_groups 0 = .ok (.aload_n 0, 1) := by decide +kernel
theorem dX0_groups_1 : decode cX0_groups 1 = .ok (.iload_n 1, 1) := by decide +kernel
theorem dX0_groups_2 : decode cX0_groups 2 = .ok (.invokevirtual 80, 3) := by decide +kernel
theorem dX0_groups_5 : decode cX0_groups 5 = .ok (.ifCond .ne 5, 3) := by decide +kernel
theorem dX0_groups_8 : decode cX0_groups 8 = .ok (.iconst (-1), 1) := by decide +kernel
theorem dX0_groups_9 : decode cX0_groups 9 = .ok (.ireturn, 1) := by decide +kernel
theorem dX0_groups_10 : decode cX0_groups 10 = .ok (.aload_n 0, 1) := by decide +kernel
theorem dX0_groups_11 : decode cX0_groups 11 = .ok (.iload_n 1, 1) := by decide +kernel
theorem dX0_groups_12 : decode cX0_groups 12 = .ok (.iconst 0, 1) := by decide +kernel
theorem dX0_groups_13 : decode cX0_groups 13 = .ok (.invokevirtual 84, 3) := by decide +kernel
theorem dX0_groups_16 : decode cX0_groups 16 = .ok (.aload_n 0, 1) := by decide +kernel
theorem dX0_groups_17 : decode cX0_groups 17 = .ok (.getfield 20, 3) := by decide +kernel
theorem dX0_groups_20 : decode cX0_groups 20 = .ok (.aload_n 0, 1) := by decide +kernel
theorem dX0_groups_21 : decode cX0_groups 21 = .ok (.getfield 87, 3) := by decide +kernel
theorem dX0_groups_24 : decode cX0_groups 24 = .ok (.iaload, 1) := by decide +kernel
theorem dX0_groups_25 : decode cX0_groups 25 = .ok (.ifCond .ne 5, 3) := by decide +kernel
theorem dX0_groups_28 : decode cX0_groups 28 = .ok (.iconst 0, 1) := by decide +kernel
theorem dX0_groups_29 : decode cX0_groups 29 = .ok (.ireturn, 1) := by decide +kernel
theorem dX0_groups_30 : decode cX0_groups 30 = .ok (.iconst 1, 1) := by decide +kernel
theorem dX0_groups_31 : decode cX0_groups 31 = .ok (.istore_n 2, 1) := by decide +kernel
theorem dX0_groups_32 : decode cX0_groups 32 = .ok (.aload_n 0, 1) := by decide +kernel
theorem dX0_groups_33 : decode cX0_groups 33 = .ok (.getfield 87, 3) := by decide +kernel
theorem dX0_groups_36 : decode cX0_groups 36 = .ok (.iconst 1, 1) := by decide +kernel
theorem dX0_groups_37 : decode cX0_groups 37 = .ok (.iadd, 1) := by decide +kernel
theorem dX0_groups_38 : decode cX0_groups 38 = .ok (.istore_n 3, 1) := by decide +kernel
theorem dX0_groups_39 : decode cX0_groups 39 = .ok (.iload_n 3, 1) := by decide +kernel
theorem dX0_groups_40 : decode cX0_groups 40 = .ok (.aload_n 0, 1) := by decide +kernel
theorem dX0_groups_41 : decode cX0_groups 41 = .ok (.getfield 74, 3) := by decide +kernel
theorem dX0_groups_44 : decode cX0_groups 44 = .ok (.if_icmp .ge 21, 3) := by decide +kernel
theorem dX0_groups_47 : decode cX0_groups 47 = .ok (.aload_n 0, 1) := by decide +kernel
theorem dX0_groups_48 : decode cX0_groups 48 = .ok (.getfield 17, 3) := by decide +kernel
theorem dX0_groups_51 : decode cX0_groups 51 = .ok (.iload_n 3, 1) := by decide +kernel
theorem dX0_groups_52 : decode cX0_groups 52 = .ok (.iaload, 1) := by decide +kernel
theorem dX0_groups_53 : decode cX0_groups 53 = .ok (.ifCond .le 12, 3) := by decide +kernel
theorem dX0_groups_56 : decode cX0_groups 56 = .ok (.iinc 2 1, 3) := by decide +kernel
theorem dX0_groups_59 : decode cX0_groups 59 = .ok (.iinc 3 1, 3) := by decide +kernel
theorem dX0_groups_62 : decode cX0_groups 62 = .ok (.goto (-23), 3) := by decide +kernel
theorem dX0_groups_65 : decode cX0_groups 65 = .ok (.iload_n 2, 1) := by decide +kernel
theorem dX0_groups_66 : decode cX0_groups 66 = .ok (.ireturn, 1) := by decide +kernel
theorem dX0_isEnded_0 : decode cX0_isEnded 0 = .ok (.iload_n 1, 1) := by decide +kernel
theorem dX0_isEnded_1 : decode cX0_isEnded 1 = .ok (.ifCond .lt 15, 3) := by decide +kernel
theorem dX0_isEnded_4 : decode cX0_isEnded 4 = .ok (.iload_n 1, 1) := by decide +kernel
theorem dX0_isEnded_5 : decode cX0_isEnded 5 = .ok (.aload_n 0, 1) := by decide +kernel
theorem dX0_isEnded_6 : decode cX0_isEnded 6 = .ok (.getfield 71, 3) := by decide +kernel
theorem dX0_isEnded_9 : decode cX0_isEnded 9 = .ok (.if_icmp .ge 7, 3) := by decide +kernel
theorem dX0_isEnded_12 : decode cX0_isEnded 12 = .ok (.iconst 1, 1) := by decide +kernel
theorem dX0_isEnded_13 : decode cX0_isEnded 13 = .ok (.goto 4, 3) := by decide +kernel
theorem dX0_isEnded_16 : decode cX0_isEnded 16 = .ok (.iconst 0, 1) := by decide +kernel
theorem dX0_isEnded_17 : decode cX0_isEnded 17 = .ok (.ireturn, 1) := by decide +kernel
theorem dX0_findTag_0 : decode cX0_findTag 0 = .ok (.iconst (-1), 1) := by decide +kernel
theorem dX0_findTag_1 : decode cX0_findTag 1 = .ok (.istore_n 3, 1) := by decide +kernel
theorem dX0_findTag_2 : decode cX0_findTag 2 = .ok (.iconst 0, 1) := by decide +kernel
theorem dX0_findTag_3 : decode cX0_findTag 3 = .ok (.istore 4, 2) := by decide +kernel
theorem dX0_findTag_5 : decode cX0_findTag 5 = .ok (.aload_n 0, 1) := by decide +kernel
theorem dX0_findTag_6 : decode cX0_findTag 6 = .ok (.iconst 0, 1) := by decide +kernel
theorem dX0_findTag_7 : decode cX0_findTag 7 = .ok (.putfield 100, 3) := by decide +kernel
theorem dX0_findTag_10 : decode cX0_findTag 10 = .ok (.aload_n 0, 1) := by decide +kernel
theorem dX0_findTag_11 : decode cX0_findTag 11 = .ok (.iconst 0, 1) := by decide +kernel
theorem dX0_findTag_12 : decode cX0_findTag 12 = .ok (.putfield 87, 3) := by decide +kernel
theorem dX0_findTag_15 : decode cX0_findTag 15 = .ok (.iconst 0, 1) := by decide +kernel
theorem dX0_findTag_16 : decode cX0_findTag 16 = .ok (.istore 5, 2) := by decide +kernel
theorem dX0_findTag_18 : decode cX0_findTag 18 = .ok (.iload 5, 2) := by decide +kernel
theorem dX0_findTag_20 : decode cX0_findTag 20 = .ok (.aload_n 0, 1) := by decide +kernel
theorem dX0_findTag_21 : decode cX0_findTag 21 = .ok (.getfield 74, 3) := by decide +kernel
theorem dX0_findTag_24 : decode cX0_findTag 24 = .ok (.if_icmp .ge 90, 3) := by decide +kernel
theorem dX0_findTag_27 : decode cX0_findTag 27 = .ok (.iload_n 3, 1) := by decide +kernel
theorem dX0_findTag_28 : decode cX0_findTag 28 = .ok (.aload_n 0, 1) := by decide +kernel
theorem dX0_findTag_29 : decode cX0_findTag 29 = .ok (.getfield 17, 3) := by decide +kernel
theorem dX0_findTag_32 : decode cX0_findTag 32 = .ok (.iload 5, 2) := by decide +kernel
theorem dX0_findTag_34 : decode cX0_findTag 34 = .ok (.iaload, 1) := by decide +kernel
theorem dX0_findTag_35 : decode cX0_findTag 35 = .ok (.ifCond .ne 7, 3) := by decide +kernel
theorem dX0_findTag_38 : decode cX0_findTag 38 = .ok (.iconst 1, 1) := by decide +kernel
theorem dX0_findTag_39 : decode cX0_findTag 39 = .ok (.goto 4, 3) := by decide +kernel
theorem dX0_findTag_42 : decode cX0_findTag 42 = .ok (.iconst 0, 1) := by decide +kernel
theorem dX0_findTag_43 : decode cX0_findTag 43 = .ok (.iadd, 1) := by decide +kernel
theorem dX0_findTag_44 : decode cX0_findTag 44 = .ok (.istore_n 3, 1) := by decide +kernel
theorem dX0_findTag_45 : decode cX0_findTag 45 = .ok (.aload_n 0, 1) := by decide +kernel
theorem dX0_findTag_46 : decode cX0_findTag 46 = .ok (.getfield 17, 3) := by decide +kernel
theorem dX0_findTag_49 : decode cX0_findTag 49 = .ok (.iload 5, 2) := by decide +kernel
theorem dX0_findTag_51 : decode cX0_findTag 51 = .ok (.iaload, 1) := by decide +kernel
theorem dX0_findTag_52 : decode cX0_findTag 52 = .ok (.ifCond .ne 7, 3) := by decide +kernel
theorem dX0_findTag_55 : decode cX0_findTag 55 = .ok (.iconst 0, 1) := by decide +kernel
theorem dX0_findTag_56 : decode cX0_findTag 56 = .ok (.goto 7, 3) := by decide +kernel
theorem dX0_findTag_59 : decode cX0_findTag 59 = .ok (.iload 4, 2) := by decide +kernel
theorem dX0_findTag_61 : decode cX0_findTag 61 = .ok (.iconst 1, 1) := by decide +kernel
theorem dX0_findTag_62 : decode cX0_findTag 62 = .ok (.iadd, 1) := by decide +kernel
theorem dX0_findTag_63 : decode cX0_findTag 63 = .ok (.istore 4, 2) := by decide +kernel
theorem dX0_findTag_65 : decode cX0_findTag 65 = .ok (.iload_n 3, 1) := by decide +kernel
theorem dX0_findTag_66 : decode cX0_findTag 66 = .ok (.iload_n 1, 1) := by decide +kernel
theorem dX0_findTag_67 : decode cX0_findTag 67 = .ok (.if_icmp .ne 16, 3) := by decide +kernel
theorem dX0_findTag_70 : decode cX0_findTag 70 = .ok (.iload 4, 2) := by decide +kernel
theorem dX0_findTag_72 : decode cX0_findTag 72 = .ok (.iload_n 2, 1) := by decide +kernel
theorem dX0_findTag_73 : decode cX0_findTag 73 = .ok (.if_icmp .ne 10, 3) := by decide +kernel
theorem dX0_findTag_76 : decode cX0_findTag 76 = .ok (.aload_n 0, 1) := by decide +kernel
theorem dX0_findTag_77 : decode cX0_findTag 77 = .ok (.iload 5, 2) := by decide +kernel
theorem dX0_findTag_79 : decode cX0_findTag 79 = .ok (.putfield 87, 3) := by decide +kernel
theorem dX0_findTag_82 : decode cX0_findTag 82 = .ok (.return_, 1) := by decide +kernel
theorem dX0_findTag_83 : decode cX0_findTag 83 = .ok (.aload_n 0, 1) := by decide +kernel
theorem dX0_findTag_84 : decode cX0_findTag 84 = .ok (.dup, 1) := by decide +kernel
theorem dX0_findTag_85 : decode cX0_findTag 85 = .ok (.getfield 100, 3) := by decide +kernel
theorem dX0_findTag_88 : decode cX0_findTag 88 = .ok (.aload_n 0, 1) := by decide +kernel
theorem dX0_findTag_89 : decode cX0_findTag 89 = .ok (.getfield 20, 3) := by decide +kernel
theorem dX0_findTag_92 : decode cX0_findTag 92 = .ok (.iload 5, 2) := by decide +kernel
theorem dX0_findTag_94 : decode cX0_findTag 94 = .ok (.iaload, 1) := by decide +kernel
theorem dX0_findTag_95 : decode cX0_findTag 95 = .ok (.iconst 2, 1) := by decide +kernel
theorem dX0_findTag_96 : decode cX0_findTag 96 = .ok (.if_icmp .ne 7, 3) := by decide +kernel
theorem dX0_findTag_99 : decode cX0_findTag 99 = .ok (.iconst 1, 1) := by decide +kernel
theorem dX0_findTag_100 : decode cX0_findTag 100 = .ok (.goto 4, 3) := by decide +kernel
theorem dX0_findTag_103 : decode cX0_findTag 103 = .ok (.iconst 0, 1) := by decide +kernel
theorem dX0_findTag_104 : decode cX0_findTag 104 = .ok (.iadd, 1) := by decide +kernel
theorem dX0_findTag_105 : decode cX0_findTag 105 = .ok (.putfield 100, 3) := by decide +kernel
theorem dX0_findTag_108 : decode cX0_findTag 108 = .ok (.iinc 5 1, 3) := by decide +kernel
theorem dX0_findTag_111 : decode cX0_findTag 111 = .ok (.goto (-93), 3) := by decide +kernel
theorem dX0_findTag_114 : decode cX0_findTag 114 = .ok (.return_, 1) := by decide +kernel
end
section
set_option maxRecDepth 100000
theorem dX0_values_0 : decode cX0_values 0 = .ok (.aload_n 0, 1) := by decide +kernel
theorem dX0_values_1 : decode cX0_values 1 = .ok (.iload_n 1, 1) := by decide +kernel
theorem dX0_values_2 : decode cX0_values 2 = .ok (.iload_n 2, 1) := by decide +kernel
theorem dX0_values_3 : decode cX0_values 3 = .ok (.invokevirtual 90, 3) := by decide +kernel
theorem dX0_values_6 : decode cX0_values 6 = .ok (.ifCond .ne 5, 3) := by decide +kernel
theorem dX0_values_9 : decode cX0_values 9 = .ok (.iconst (-1), 1) := by decide +kernel
theorem dX0_values_10 : decode cX0_values 10 = .ok (.ireturn, 1) := by decide +kernel
theorem dX0_values_11 : decode cX0_values 11 = .ok (.aload_n 0, 1) := by decide +kernel
theorem dX0_values_12 : decode cX0_values 12 = .ok (.iload_n 1, 1) := by decide +kernel
theorem dX0_values_13 : decode cX0_values 13 = .ok (.iload_n 2, 1) := by decide +kernel
theorem dX0_values_14 : decode cX0_values 14 = .ok (.invokevirtual 94, 3) := by decide +kernel
theorem dX0_values_17 : decode cX0_values 17 = .ok (.aload_n 0, 1) := by decide +kernel
theorem dX0_values_18 : decode cX0_values 18 = .ok (.getfield 29, 3) := by decide +kernel
theorem dX0_values_21 : decode cX0_values 21 = .ok (.aload_n 0, 1) := by decide +kernel
theorem dX0_values_22 : decode cX0_values 22 = .ok (.getfield 87, 3) := by decide +kernel
theorem dX0_values_25 : decode cX0_values 25 = .ok (.iaload, 1) := by decide +kernel
theorem dX0_values_26 : decode cX0_values 26 = .ok (.iconst 2, 1) := by decide +kernel
theorem dX0_values_27 : decode cX0_values 27 = .ok (.if_icmp .ge 5, 3) := by decide +kernel
theorem dX0_values_30 : decode cX0_values 30 = .ok (.iconst 0, 1) := by decide +kernel
theorem dX0_values_31 : decode cX0_values 31 = .ok (.ireturn, 1) := by decide +kernel
theorem dX0_values_32 : decode cX0_values 32 = .ok (.iconst 1, 1) := by decide +kernel
theorem dX0_values_33 : decode cX0_values 33 = .ok (.istore_n 3, 1) := by decide +kernel
theorem dX0_values_34 : decode cX0_values 34 = .ok (.aload_n 0, 1) := by decide +kernel
theorem dX0_values_35 : decode cX0_values 35 = .ok (.getfield 87, 3) := by decide +kernel
theorem dX0_values_38 : decode cX0_values 38 = .ok (.iconst 1, 1) := by decide +kernel
theorem dX0_values_39 : decode cX0_values 39 = .ok (.iadd, 1) := by decide +kernel
theorem dX0_values_40 : decode cX0_values 40 = .ok (.istore 4, 2) := by decide +kernel
theorem dX0_values_42 : decode cX0_values 42 = .ok (.iload 4, 2) := by decide +kernel
theorem dX0_values_44 : decode cX0_values 44 = .ok (.aload_n 0, 1) := by decide +kernel
theorem dX0_values_45 : decode cX0_values 45 = .ok (.getfield 77, 3) := by decide +kernel
theorem dX0_values_48 : decode cX0_values 48 = .ok (.if_icmp .ge 23, 3) := by decide +kernel
theorem dX0_values_51 : decode cX0_values 51 = .ok (.aload_n 0, 1) := by decide +kernel
theorem dX0_values_52 : decode cX0_values 52 = .ok (.getfield 26, 3) := by decide +kernel
theorem dX0_values_55 : decode cX0_values 55 = .ok (.iload 4, 2) := by decide +kernel
theorem dX0_values_57 : decode cX0_values 57 = .ok (.iaload, 1) := by decide +kernel
theorem dX0_values_58 : decode cX0_values 58 = .ok (.iconst 2, 1) := by decide +kernel
theorem dX0_values_59 : decode cX0_values 59 = .ok (.if_icmp .ne 12, 3) := by decide +kernel
theorem dX0_values_62 : decode cX0_values 62 = .ok (.iinc 3 1, 3) := by decide +kernel
theorem dX0_values_65 : decode cX0_values 65 = .ok (.iinc 4 1, 3) := by decide +kernel
theorem dX0_values_68 : decode cX0_values 68 = .ok (.goto (-26), 3) := by decide +kernel
theorem dX0_values_71 : decode cX0_values 71 = .ok (.iload_n 3, 1) := by decide +kernel
theorem dX0_values_72 : decode cX0_values 72 = .ok (.ireturn, 1) := by decide +kernel
theorem dX0_isGroup_0 : decode cX0_isGroup 0 = .ok (.aload_n 0, 1) := by decide +kernel
theorem dX0_isGroup_1 : decode cX0_isGroup 1 = .ok (.iload_n 1, 1) := by decide +kernel
theorem dX0_isGroup_2 : decode cX0_isGroup 2 = .ok (.invokevirtual 80, 3) := by decide +kernel
theorem dX0_isGroup_5 : decode cX0_isGroup 5 = .ok (.ifCond .eq 20, 3) := by decide +kernel
theorem dX0_isGroup_8 : decode cX0_isGroup 8 = .ok (.iload_n 2, 1) := by decide +kernel
theorem dX0_isGroup_9 : decode cX0_isGroup 9 = .ok (.ifCond .lt 16, 3) := by decide +kernel
theorem dX0_isGroup_12 : decode cX0_isGroup 12 = .ok (.iload_n 2, 1) := by decide +kernel
theorem dX0_isGroup_13 : decode cX0_isGroup 13 = .ok (.aload_n 0, 1) := by decide +kernel
theorem dX0_isGroup_14 : decode cX0_isGroup 14 = .ok (.iload_n 1, 1) := by decide +kernel
theorem dX0_isGroup_15 : decode cX0_isGroup 15 = .ok (.invokevirtual 107, 3) := by decide +kernel
theorem dX0_isGroup_18 : decode cX0_isGroup 18 = .ok (.if_icmp .ge 7, 3) := by decide +kernel
theorem dX0_isGroup_21 : decode cX0_isGroup 21 = .ok (.iconst 1, 1) := by decide +kernel
theorem dX0_isGroup_22 : decode cX0_isGroup 22 = .ok (.goto 4, 3) := by decide +kernel
theorem dX0_isGroup_25 : decode cX0_isGroup 25 = .ok (.iconst 0, 1) := by decide +kernel
theorem dX0_isGroup_26 : decode cX0_isGroup 26 = .ok (.ireturn, 1) := by decide +kernel
theorem dX0_findValue_0 : decode cX0_findValue 0 = .ok (.iconst (-1), 1) := by decide +kernel
theorem dX0_findValue_1 : decode cX0_findValue 1 = .ok (.istore_n 3, 1) := by decide +kernel
theorem dX0_findValue_2 : decode cX0_findValue 2 = .ok (.iconst 0, 1) := by decide +kernel
theorem dX0_findValue_3 : decode cX0_findValue 3 = .ok (.istore 4, 2) := by decide +kernel
theorem dX0_findValue_5 : decode cX0_findValue 5 = .ok (.aload_n 0, 1) := by decide +kernel
theorem dX0_findValue_6 : decode cX0_findValue 6 = .ok (.iconst 0, 1) := by decide +kernel
theorem dX0_findValue_7 : decode cX0_findValue 7 = .ok (.putfield 100, 3) := by decide +kernel
theorem dX0_findValue_10 : decode cX0_findValue 10 = .ok (.aload_n 0, 1) := by decide +kernel
theorem dX0_findValue_11 : decode cX0_findValue 11 = .ok (.iconst 0, 1) := by decide +kernel
theorem dX0_findValue_12 : decode cX0_findValue 12 = .ok (.putfield 87, 3) := by decide +kernel
theorem dX0_findValue_15 : decode cX0_findValue 15 = .ok (.iconst 0, 1) := by decide +kernel
theorem dX0_findValue_16 : decode cX0_findValue 16 = .ok (.istore 5, 2) := by decide +kernel
theorem dX0_findValue_18 : decode cX0_findValue 18 = .ok (.iload 5, 2) := by decide +kernel
theorem dX0_findValue_20 : decode cX0_findValue 20 = .ok (.aload_n 0, 1) := by decide +kernel
theorem dX0_findValue_21 : decode cX0_findValue 21 = .ok (.getfield 77, 3) := by decide +kernel
theorem dX0_findValue_24 : decode cX0_findValue 24 = .ok (.if_icmp .ge 106, 3) := by decide +kernel
theorem dX0_findValue_27 : decode cX0_findValue 27 = .ok (.iload_n 3, 1) := by decide +kernel
theorem dX0_findValue_28 : decode cX0_findValue 28 = .ok (.aload_n 0, 1) := by decide +kernel
theorem dX0_findValue_29 : decode cX0_findValue 29 = .ok (.getfield 26, 3) := by decide +kernel
theorem dX0_findValue_32 : decode cX0_findValue 32 = .ok (.iload 5, 2) := by decide +kernel
theorem dX0_findValue_34 : decode cX0_findValue 34 = .ok (.iaload, 1) := by decide +kernel
theorem dX0_findValue_35 : decode cX0_findValue 35 = .ok (.ifCond .ne 7, 3) := by decide +kernel
theorem dX0_findValue_38 : decode cX0_findValue 38 = .ok (.iconst 1, 1) := by decide +kernel
theorem dX0_findValue_39 : decode cX0_findValue 39 = .ok (.goto 4, 3) := by decide +kernel
theorem dX0_findValue_42 : decode cX0_findValue 42 = .ok (.iconst 0, 1) := by decide +kernel
theorem dX0_findValue_43 : decode cX0_findValue 43 = .ok (.iadd, 1) := by decide +kernel
theorem dX0_findValue_44 : decode cX0_findValue 44 = .ok (.istore_n 3, 1) := by decide +kernel
theorem dX0_findValue_45 : decode cX0_findValue 45 = .ok (.aload_n 0, 1) := by decide +kernel
theorem dX0_findValue_46 : decode cX0_findValue 46 = .ok (.getfield 26, 3) := by decide +kernel
theorem dX0_findValue_49 : decode cX0_findValue 49 = .ok (.iload 5, 2) := by decide +kernel
theorem dX0_findValue_51 : decode cX0_findValue 51 = .ok (.iaload, 1) := by decide +kernel
theorem dX0_findValue_52 : decode cX0_findValue 52 = .ok (.ifCond .ne 7, 3) := by decide +kernel
theorem dX0_findValue_55 : decode cX0_findValue 55 = .ok (.iconst 0, 1) := by decide +kernel
theorem dX0_findValue_56 : decode cX0_findValue 56 = .ok (.goto 23, 3) := by decide +kernel
theorem dX0_findValue_59 : decode cX0_findValue 59 = .ok (.aload_n 0, 1) := by decide +kernel
theorem dX0_findValue_60 : decode cX0_findValue 60 = .ok (.getfield 26, 3) := by decide +kernel
theorem dX0_findValue_63 : decode cX0_findValue 63 = .ok (.iload 5, 2) := by decide +kernel
theorem dX0_findValue_65 : decode cX0_findValue 65 = .ok (.iaload, 1) := by decide +kernel
theorem dX0_findValue_66 : decode cX0_findValue 66 = .ok (.iconst 1, 1) := by decide +kernel
theorem dX0_findValue_67 : decode cX0_findValue 67 = .ok (.if_icmp .ne 10, 3) := by decide +kernel
theorem dX0_findValue_70 : decode cX0_findValue 70 = .ok (.iload 4, 2) := by decide +kernel
theorem dX0_findValue_72 : decode cX0_findValue 72 = .ok (.iconst 1, 1) := by decide +kernel
theorem dX0_findValue_73 : decode cX0_findValue 73 = .ok (.iadd, 1) := by decide +kernel
theorem dX0_findValue_74 : decode cX0_findValue 74 = .ok (.goto 5, 3) := by decide +kernel
theorem dX0_findValue_77 : decode cX0_findValue 77 = .ok (.iload 4, 2) := by decide +kernel
theorem dX0_findValue_79 : decode cX0_findValue 79 = .ok (.istore 4, 2) := by decide +kernel
theorem dX0_findValue_81 : decode cX0_findValue 81 = .ok (.iload_n 3, 1) := by decide +kernel
theorem dX0_findValue_82 : decode cX0_findValue 82 = .ok (.iload_n 1, 1) := by decide +kernel
theorem dX0_findValue_83 : decode cX0_findValue 83 = .ok (.if_icmp .ne 16, 3) := by decide +kernel
theorem dX0_findValue_86 : decode cX0_findValue 86 = .ok (.iload 4, 2) := by decide +kernel
theorem dX0_findValue_88 : decode cX0_findValue 88 = .ok (.iload_n 2, 1) := by decide +kernel
theorem dX0_findValue_89 : decode cX0_findValue 89 = .ok (.if_icmp .ne 10, 3) := by decide +kernel
theorem dX0_findValue_92 : decode cX0_findValue 92 = .ok (.aload_n 0, 1) := by decide +kernel
theorem dX0_findValue_93 : decode cX0_findValue 93 = .ok (.iload 5, 2) := by decide +kernel
theorem dX0_findValue_95 : decode cX0_findValue 95 = .ok (.putfield 87, 3) := by decide +kernel
theorem dX0_findValue_98 : decode cX0_findValue 98 = .ok (.return_, 1) := by decide +kernel
theorem dX0_findValue_99 : decode cX0_findValue 99 = .ok (.aload_n 0, 1) := by decide +kernel
theorem dX0_findValue_100 : decode cX0_findValue 100 = .ok (.dup, 1) := by decide +kernel
theorem dX0_findValue_101 : decode cX0_findValue 101 = .ok (.getfield 100, 3) := by decide +kernel
theorem dX0_findValue_104 : decode cX0_findValue 104 = .ok (.aload_n 0, 1) := by decide +kernel
theorem dX0_findValue_105 : decode cX0_findValue 105 = .ok (.getfield 29, 3) := by decide +kernel
theorem dX0_findValue_108 : decode cX0_findValue 108 = .ok (.iload 5, 2) := by decide +kernel
theorem dX0_findValue_110 : decode cX0_findValue 110 = .ok (.iaload, 1) := by decide +kernel
theorem dX0_findValue_111 : decode cX0_findValue 111 = .ok (.iconst 2, 1) := by decide +kernel
theorem dX0_findValue_112 : decode cX0_findValue 112 = .ok (.if_icmp .ne 7, 3) := by decide +kernel
theorem dX0_findValue_115 : decode cX0_findValue 115 = .ok (.iconst 1, 1) := by decide +kernel
theorem dX0_findValue_116 : decode cX0_findValue 116 = .ok (.goto 4, 3) := by decide +kernel
theorem dX0_findValue_119 : decode cX0_findValue 119 = .ok (.iconst 0, 1) := by decide +kernel
theorem dX0_findValue_120 : decode cX0_findValue 120 = .ok (.iadd, 1) := by decide +kernel
theorem dX0_findValue_121 : decode cX0_findValue 121 = .ok (.putfield 100, 3) := by decide +kernel
theorem dX0_findValue_124 : decode cX0_findValue 124 = .ok (.iinc 5 1, 3) := by decide +kernel
theorem dX0_findValue_127 : decode cX0_findValue 127 = .ok (.goto (-109), 3) := by decide +kernel
theorem dX0_findValue_130 : decode cX0_findValue 130 = .ok (.return_, 1) := by decide +kernel
theorem dX0_valueAt_0 : decode cX0_valueAt 0 = .ok (.aload_n 0, 1) := by decide +kernel
theorem dX0_valueAt_1 : decode cX0_valueAt 1 = .ok (.iload_n 1, 1) := by decide +kernel
theorem dX0_valueAt_2 : decode cX0_valueAt 2 = .ok (.iload_n 2, 1) := by decide +kernel
theorem dX0_valueAt_3 : decode cX0_valueAt 3 = .ok (.invokevirtual 90, 3) := by decide +kernel
theorem dX0_valueAt_6 : decode cX0_valueAt 6 = .ok (.ifCond .eq 17, 3) := by decide +kernel
theorem dX0_valueAt_9 : decode cX0_valueAt 9 = .ok (.iload_n 3, 1) := by decide +kernel
theorem dX0_valueAt_10 : decode cX0_valueAt 10 = .ok (.ifCond .lt 13, 3) := by decide +kernel
theorem dX0_valueAt_13 : decode cX0_valueAt 13 = .ok (.iload_n 3, 1) := by decide +kernel
theorem dX0_valueAt_14 : decode cX0_valueAt 14 = .ok (.aload_n 0, 1) := by decide +kernel
theorem dX0_valueAt_15 : decode cX0_valueAt 15 = .ok (.iload_n 1, 1) := by decide +kernel
theorem dX0_valueAt_16 : decode cX0_valueAt 16 = .ok (.iload_n 2, 1) := by decide +kernel
theorem dX0_valueAt_17 : decode cX0_valueAt 17 = .ok (.invokevirtual 97, 3) := by decide +kernel
theorem dX0_valueAt_20 : decode cX0_valueAt 20 = .ok (.if_icmp .lt 5, 3) := by decide +kernel
theorem dX0_valueAt_23 : decode cX0_valueAt 23 = .ok (.iconst 0, 1) := by decide +kernel
theorem dX0_valueAt_24 : decode cX0_valueAt 24 = .ok (.ireturn, 1) := by decide +kernel
theorem dX0_valueAt_25 : decode cX0_valueAt 25 = .ok (.aload_n 0, 1) := by decide +kernel
theorem dX0_valueAt_26 : decode cX0_valueAt 26 = .ok (.iload_n 1, 1) := by decide +kernel
theorem dX0_valueAt_27 : decode cX0_valueAt 27 = .ok (.iload_n 2, 1) := by decide +kernel
theorem dX0_valueAt_28 : decode cX0_valueAt 28 = .ok (.invokevirtual 94, 3) := by decide +kernel
theorem dX0_valueAt_31 : decode cX0_valueAt 31 = .ok (.aload_n 0, 1) := by decide +kernel
theorem dX0_valueAt_32 : decode cX0_valueAt 32 = .ok (.getfield 32, 3) := by decide +kernel
theorem dX0_valueAt_35 : decode cX0_valueAt 35 = .ok (.aload_n 0, 1) := by decide +kernel
theorem dX0_valueAt_36 : decode cX0_valueAt 36 = .ok (.getfield 100, 3) := by decide +kernel
theorem dX0_valueAt_39 : decode cX0_valueAt 39 = .ok (.iload_n 3, 1) := by decide +kernel
theorem dX0_valueAt_40 : decode cX0_valueAt 40 = .ok (.iadd, 1) := by decide +kernel
theorem dX0_valueAt_41 : decode cX0_valueAt 41 = .ok (.iaload, 1) := by decide +kernel
theorem dX0_valueAt_42 : decode cX0_valueAt 42 = .ok (.ireturn, 1) := by decide +kernel
theorem dX0_hasNote_0 : decode cX0_hasNote 0 = .ok (.aload_n 0, 1) := by decide +kernel
theorem dX0_hasNote_1 : decode cX0_hasNote 1 = .ok (.iload_n 1, 1) := by decide +kernel
theorem dX0_hasNote_2 : decode cX0_hasNote 2 = .ok (.invokevirtual 80, 3) := by decide +kernel
theorem dX0_hasNote_5 : decode cX0_hasNote 5 = .ok (.ifCond .ne 5, 3) := by decide +kernel
theorem dX0_hasNote_8 : decode cX0_hasNote 8 = .ok (.iconst (-1), 1) := by decide +kernel
theorem dX0_hasNote_9 : decode cX0_hasNote 9 = .ok (.ireturn, 1) := by decide +kernel
theorem dX0_hasNote_10 : decode cX0_hasNote 10 = .ok (.aload_n 0, 1) := by decide +kernel
theorem dX0_hasNote_11 : decode cX0_hasNote 11 = .ok (.getfield 7, 3) := by decide +kernel
theorem dX0_hasNote_14 : decode cX0_hasNote 14 = .ok (.iload_n 1, 1) := by decide +kernel
theorem dX0_hasNote_15 : decode cX0_hasNote 15 = .ok (.baload, 1) := by decide +kernel
theorem dX0_hasNote_16 : decode cX0_hasNote 16 = .ok (.ifCond .eq 7, 3) := by decide +kernel
theorem dX0_hasNote_19 : decode cX0_hasNote 19 = .ok (.iconst 1, 1) := by decide +kernel
theorem dX0_hasNote_20 : decode cX0_hasNote 20 = .ok (.goto 4, 3) := by decide +kernel
theorem dX0_hasNote_23 : decode cX0_hasNote 23 = .ok (.iconst 0, 1) := by decide +kernel
theorem dX0_hasNote_24 : decode cX0_hasNote 24 = .ok (.ireturn, 1) := by decide +kernel
theorem dX0_label_0 : decode cX0_label 0 = .ok (.aload_n 0, 1) := by decide +kernel
theorem dX0_label_1 : decode cX0_label 1 = .ok (.iload_n 1, 1) := by decide +kernel
theorem dX0_label_2 : decode cX0_label 2 = .ok (.invokevirtual 80, 3) := by decide +kernel
theorem dX0_label_5 : decode cX0_label 5 = .ok (.ifCond .ne 5, 3) := by decide +kernel
theorem dX0_label_8 : decode cX0_label 8 = .ok (.iconst 0, 1) := by decide +kernel
theorem dX0_label_9 : decode cX0_label 9 = .ok (.ireturn, 1) := by decide +kernel
theorem dX0_label_10 : decode cX0_label 10 = .ok (.iload_n 2, 1) := by decide +kernel
theorem dX0_label_11 : decode cX0_label 11 = .ok (.iconst (-1), 1) := by decide +kernel
theorem dX0_label_12 : decode cX0_label 12 = .ok (.if_icmp .ne 27, 3) := by decide +kernel
theorem dX0_label_15 : decode cX0_label 15 = .ok (.aload_n 0, 1) := by decide +kernel
theorem dX0_label_16 : decode cX0_label 16 = .ok (.getfield 7, 3) := by decide +kernel
theorem dX0_label_19 : decode cX0_label 19 = .ok (.iload_n 1, 1) := by decide +kernel
theorem dX0_label_20 : decode cX0_label 20 = .ok (.baload, 1) := by decide +kernel
theorem dX0_label_21 : decode cX0_label 21 = .ok (.ifCond .eq 16, 3) := by decide +kernel
theorem dX0_label_24 : decode cX0_label 24 = .ok (.aload_n 0, 1) := by decide +kernel
theorem dX0_label_25 : decode cX0_label 25 = .ok (.getfield 13, 3) := by decide +kernel
theorem dX0_label_28 : decode cX0_label 28 = .ok (.aload_n 0, 1) := by decide +kernel
theorem dX0_label_29 : decode cX0_label 29 = .ok (.iload_n 1, 1) := by decide +kernel
theorem dX0_label_30 : decode cX0_label 30 = .ok (.invokevirtual 103, 3) := by decide +kernel
theorem dX0_label_33 : decode cX0_label 33 = .ok (.iaload, 1) := by decide +kernel
theorem dX0_label_34 : decode cX0_label 34 = .ok (.goto 4, 3) := by decide +kernel
theorem dX0_label_37 : decode cX0_label 37 = .ok (.iconst 0, 1) := by decide +kernel
theorem dX0_label_38 : decode cX0_label 38 = .ok (.ireturn, 1) := by decide +kernel
theorem dX0_label_39 : decode cX0_label 39 = .ok (.aload_n 0, 1) := by decide +kernel
theorem dX0_label_40 : decode cX0_label 40 = .ok (.iload_n 1, 1) := by decide +kernel
theorem dX0_label_41 : decode cX0_label 41 = .ok (.iload_n 2, 1) := by decide +kernel
theorem dX0_label_42 : decode cX0_label 42 = .ok (.invokevirtual 90, 3) := by decide +kernel
theorem dX0_label_45 : decode cX0_label 45 = .ok (.ifCond .ne 5, 3) := by decide +kernel
theorem dX0_label_48 : decode cX0_label 48 = .ok (.iconst 0, 1) := by decide +kernel
theorem dX0_label_49 : decode cX0_label 49 = .ok (.ireturn, 1) := by decide +kernel
theorem dX0_label_50 : decode cX0_label 50 = .ok (.aload_n 0, 1) := by decide +kernel
theorem dX0_label_51 : decode cX0_label 51 = .ok (.iload_n 1, 1) := by decide +kernel
theorem dX0_label_52 : decode cX0_label 52 = .ok (.iload_n 2, 1) := by decide +kernel
theorem dX0_label_53 : decode cX0_label 53 = .ok (.invokevirtual 84, 3) := by decide +kernel
theorem dX0_label_56 : decode cX0_label 56 = .ok (.aload_n 0, 1) := by decide +kernel
theorem dX0_label_57 : decode cX0_label 57 = .ok (.getfield 20, 3) := by decide +kernel
theorem dX0_label_60 : decode cX0_label 60 = .ok (.aload_n 0, 1) := by decide +kernel
theorem dX0_label_61 : decode cX0_label 61 = .ok (.getfield 87, 3) := by decide +kernel
theorem dX0_label_64 : decode cX0_label 64 = .ok (.iaload, 1) := by decide +kernel
theorem dX0_label_65 : decode cX0_label 65 = .ok (.iconst 2, 1) := by decide +kernel
theorem dX0_label_66 : decode cX0_label 66 = .ok (.if_icmp .ne 15, 3) := by decide +kernel
theorem dX0_label_69 : decode cX0_label 69 = .ok (.aload_n 0, 1) := by decide +kernel
theorem dX0_label_70 : decode cX0_label 70 = .ok (.getfield 23, 3) := by decide +kernel
theorem dX0_label_73 : decode cX0_label 73 = .ok (.aload_n 0, 1) := by decide +kernel
theorem dX0_label_74 : decode cX0_label 74 = .ok (.getfield 100, 3) := by decide +kernel
theorem dX0_label_77 : decode cX0_label 77 = .ok (.iaload, 1) := by decide +kernel
theorem dX0_label_78 : decode cX0_label 78 = .ok (.goto 4, 3) := by decide +kernel
theorem dX0_label_81 : decode cX0_label 81 = .ok (.iconst 0, 1) := by decide +kernel
theorem dX0_label_82 : decode cX0_label 82 = .ok (.ireturn, 1) := by decide +kernel
theorem dX0_notesBefore_0 : decode cX0_notesBefore 0 = .ok (.iconst 0, 1) := by decide +kernel
theorem dX0_notesBefore_1 : decode cX0_notesBefore 1 = .ok (.istore_n 2, 1) := by decide +kernel
theorem dX0_notesBefore_2 : decode cX0_notesBefore 2 = .ok (.iconst 0, 1) := by decide +kernel
theorem dX0_notesBefore_3 : decode cX0_notesBefore 3 = .ok (.istore_n 3, 1) := by decide +kernel
theorem dX0_notesBefore_4 : decode cX0_notesBefore 4 = .ok (.iload_n 3, 1) := by decide +kernel
theorem dX0_notesBefore_5 : decode cX0_notesBefore 5 = .ok (.iload_n 1, 1) := by decide +kernel
theorem dX0_notesBefore_6 : decode cX0_notesBefore 6 = .ok (.if_icmp .ge 26, 3) := by decide +kernel
theorem dX0_notesBefore_9 : decode cX0_notesBefore 9 = .ok (.iload_n 2, 1) := by decide +kernel
theorem dX0_notesBefore_10 : decode cX0_notesBefore 10 = .ok (.aload_n 0, 1) := by decide +kernel
theorem dX0_notesBefore_11 : decode cX0_notesBefore 11 = .ok (.getfield 7, 3) := by decide +kernel
theorem dX0_notesBefore_14 : decode cX0_notesBefore 14 = .ok (.iload_n 3, 1) := by decide +kernel
theorem dX0_notesBefore_15 : decode cX0_notesBefore 15 = .ok (.baload, 1) := by decide +kernel
theorem dX0_notesBefore_16 : decode cX0_notesBefore 16 = .ok (.ifCond .eq 7, 3) := by decide +kernel
theorem dX0_notesBefore_19 : decode cX0_notesBefore 19 = .ok (.iconst 1, 1) := by decide +kernel
theorem dX0_notesBefore_20 : decode cX0_notesBefore 20 = .ok (.goto 4, 3) := by decide +kernel
theorem dX0_notesBefore_23 : decode cX0_notesBefore 23 = .ok (.iconst 0, 1) := by decide +kernel
theorem dX0_notesBefore_24 : decode cX0_notesBefore 24 = .ok (.iadd, 1) := by decide +kernel
theorem dX0_notesBefore_25 : decode cX0_notesBefore 25 = .ok (.istore_n 2, 1) := by decide +kernel
theorem dX0_notesBefore_26 : decode cX0_notesBefore 26 = .ok (.iinc 3 1, 3) := by decide +kernel
theorem dX0_notesBefore_29 : decode cX0_notesBefore 29 = .ok (.goto (-25), 3) := by decide +kernel
theorem dX0_notesBefore_32 : decode cX0_notesBefore 32 = .ok (.iload_n 2, 1) := by decide +kernel
theorem dX0_notesBefore_33 : decode cX0_notesBefore 33 = .ok (.ireturn, 1) := by decide +kernel
theorem dX0_sumByTag_0 : decode cX0_sumByTag 0 = .ok (.iconst 0, 1) := by decide +kernel
theorem dX0_sumByTag_1 : decode cX0_sumByTag 1 = .ok (.istore_n 2, 1) := by decide +kernel
theorem dX0_sumByTag_2 : decode cX0_sumByTag 2 = .ok (.iconst (-1), 1) := by decide +kernel
theorem dX0_sumByTag_3 : decode cX0_sumByTag 3 = .ok (.istore_n 3, 1) := by decide +kernel
theorem dX0_sumByTag_4 : decode cX0_sumByTag 4 = .ok (.iconst 0, 1) := by decide +kernel
theorem dX0_sumByTag_5 : decode cX0_sumByTag 5 = .ok (.istore 4, 2) := by decide +kernel
theorem dX0_sumByTag_7 : decode cX0_sumByTag 7 = .ok (.iconst 0, 1) := by decide +kernel
theorem dX0_sumByTag_8 : decode cX0_sumByTag 8 = .ok (.istore 5, 2) := by decide +kernel
theorem dX0_sumByTag_10 : decode cX0_sumByTag 10 = .ok (.iconst (-1), 1) := by decide +kernel
theorem dX0_sumByTag_11 : decode cX0_sumByTag 11 = .ok (.istore 6, 2) := by decide +kernel
theorem dX0_sumByTag_13 : decode cX0_sumByTag 13 = .ok (.iconst 0, 1) := by decide +kernel
theorem dX0_sumByTag_14 : decode cX0_sumByTag 14 = .ok (.istore 7, 2) := by decide +kernel
theorem dX0_sumByTag_16 : decode cX0_sumByTag 16 = .ok (.iconst 0, 1) := by decide +kernel
theorem dX0_sumByTag_17 : decode cX0_sumByTag 17 = .ok (.istore 8, 2) := by decide +kernel
theorem dX0_sumByTag_19 : decode cX0_sumByTag 19 = .ok (.iload 8, 2) := by decide +kernel
theorem dX0_sumByTag_21 : decode cX0_sumByTag 21 = .ok (.aload_n 0, 1) := by decide +kernel
theorem dX0_sumByTag_22 : decode cX0_sumByTag 22 = .ok (.getfield 77, 3) := by decide +kernel
theorem dX0_sumByTag_25 : decode cX0_sumByTag 25 = .ok (.if_icmp .ge 140, 3) := by decide +kernel
theorem dX0_sumByTag_28 : decode cX0_sumByTag 28 = .ok (.aload_n 0, 1) := by decide +kernel
theorem dX0_sumByTag_29 : decode cX0_sumByTag 29 = .ok (.getfield 26, 3) := by decide +kernel
theorem dX0_sumByTag_32 : decode cX0_sumByTag 32 = .ok (.iload 8, 2) := by decide +kernel
theorem dX0_sumByTag_34 : decode cX0_sumByTag 34 = .ok (.iaload, 1) := by decide +kernel
theorem dX0_sumByTag_35 : decode cX0_sumByTag 35 = .ok (.iconst 2, 1) := by decide +kernel
theorem dX0_sumByTag_36 : decode cX0_sumByTag 36 = .ok (.if_icmp .ge 90, 3) := by decide +kernel
theorem dX0_sumByTag_39 : decode cX0_sumByTag 39 = .ok (.iinc 3 1, 3) := by decide +kernel
theorem dX0_sumByTag_42 : decode cX0_sumByTag 42 = .ok (.iload 6, 2) := by decide +kernel
theorem dX0_sumByTag_44 : decode cX0_sumByTag 44 = .ok (.aload_n 0, 1) := by decide +kernel
theorem dX0_sumByTag_45 : decode cX0_sumByTag 45 = .ok (.getfield 26, 3) := by decide +kernel
theorem dX0_sumByTag_48 : decode cX0_sumByTag 48 = .ok (.iload 8, 2) := by decide +kernel
theorem dX0_sumByTag_50 : decode cX0_sumByTag 50 = .ok (.iaload, 1) := by decide +kernel
theorem dX0_sumByTag_51 : decode cX0_sumByTag 51 = .ok (.ifCond .ne 7, 3) := by decide +kernel
theorem dX0_sumByTag_54 : decode cX0_sumByTag 54 = .ok (.iconst 1, 1) := by decide +kernel
theorem dX0_sumByTag_55 : decode cX0_sumByTag 55 = .ok (.goto 4, 3) := by decide +kernel
theorem dX0_sumByTag_58 : decode cX0_sumByTag 58 = .ok (.iconst 0, 1) := by decide +kernel
theorem dX0_sumByTag_59 : decode cX0_sumByTag 59 = .ok (.iadd, 1) := by decide +kernel
theorem dX0_sumByTag_60 : decode cX0_sumByTag 60 = .ok (.istore 6, 2) := by decide +kernel
theorem dX0_sumByTag_62 : decode cX0_sumByTag 62 = .ok (.aload_n 0, 1) := by decide +kernel
theorem dX0_sumByTag_63 : decode cX0_sumByTag 63 = .ok (.getfield 20, 3) := by decide +kernel
theorem dX0_sumByTag_66 : decode cX0_sumByTag 66 = .ok (.iload_n 3, 1) := by decide +kernel
theorem dX0_sumByTag_67 : decode cX0_sumByTag 67 = .ok (.iaload, 1) := by decide +kernel
theorem dX0_sumByTag_68 : decode cX0_sumByTag 68 = .ok (.iconst 2, 1) := by decide +kernel
theorem dX0_sumByTag_69 : decode cX0_sumByTag 69 = .ok (.if_icmp .ne 7, 3) := by decide +kernel
theorem dX0_sumByTag_72 : decode cX0_sumByTag 72 = .ok (.iconst 1, 1) := by decide +kernel
theorem dX0_sumByTag_73 : decode cX0_sumByTag 73 = .ok (.goto 4, 3) := by decide +kernel
theorem dX0_sumByTag_76 : decode cX0_sumByTag 76 = .ok (.iconst 0, 1) := by decide +kernel
theorem dX0_sumByTag_77 : decode cX0_sumByTag 77 = .ok (.istore 9, 2) := by decide +kernel
theorem dX0_sumByTag_79 : decode cX0_sumByTag 79 = .ok (.iload 9, 2) := by decide +kernel
theorem dX0_sumByTag_81 : decode cX0_sumByTag 81 = .ok (.ifCond .eq 27, 3) := by decide +kernel
theorem dX0_sumByTag_84 : decode cX0_sumByTag 84 = .ok (.aload_n 0, 1) := by decide +kernel
theorem dX0_sumByTag_85 : decode cX0_sumByTag 85 = .ok (.getfield 23, 3) := by decide +kernel
theorem dX0_sumByTag_88 : decode cX0_sumByTag 88 = .ok (.iload 4, 2) := by decide +kernel
theorem dX0_sumByTag_90 : decode cX0_sumByTag 90 = .ok (.iaload, 1) := by decide +kernel
theorem dX0_sumByTag_91 : decode cX0_sumByTag 91 = .ok (.iload_n 1, 1) := by decide +kernel
theorem dX0_sumByTag_92 : decode cX0_sumByTag 92 = .ok (.if_icmp .ne 16, 3) := by decide +kernel
theorem dX0_sumByTag_95 : decode cX0_sumByTag 95 = .ok (.iload 6, 2) := by decide +kernel
theorem dX0_sumByTag_97 : decode cX0_sumByTag 97 = .ok (.aload_n 0, 1) := by decide +kernel
theorem dX0_sumByTag_98 : decode cX0_sumByTag 98 = .ok (.getfield 71, 3) := by decide +kernel
theorem dX0_sumByTag_101 : decode cX0_sumByTag 101 = .ok (.if_icmp .ge 7, 3) := by decide +kernel
theorem dX0_sumByTag_104 : decode cX0_sumByTag 104 = .ok (.iconst 1, 1) := by decide +kernel
theorem dX0_sumByTag_105 : decode cX0_sumByTag 105 = .ok (.goto 4, 3) := by decide +kernel
theorem dX0_sumByTag_108 : decode cX0_sumByTag 108 = .ok (.iconst 0, 1) := by decide +kernel
theorem dX0_sumByTag_109 : decode cX0_sumByTag 109 = .ok (.istore 7, 2) := by decide +kernel
theorem dX0_sumByTag_111 : decode cX0_sumByTag 111 = .ok (.iload 4, 2) := by decide +kernel
theorem dX0_sumByTag_113 : decode cX0_sumByTag 113 = .ok (.iload 9, 2) := by decide +kernel
theorem dX0_sumByTag_115 : decode cX0_sumByTag 115 = .ok (.ifCond .eq 7, 3) := by decide +kernel
theorem dX0_sumByTag_118 : decode cX0_sumByTag 118 = .ok (.iconst 1, 1) := by decide +kernel
theorem dX0_sumByTag_119 : decode cX0_sumByTag 119 = .ok (.goto 4, 3) := by decide +kernel
theorem dX0_sumByTag_122 : decode cX0_sumByTag 122 = .ok (.iconst 0, 1) := by decide +kernel
theorem dX0_sumByTag_123 : decode cX0_sumByTag 123 = .ok (.iadd, 1) := by decide +kernel
theorem dX0_sumByTag_124 : decode cX0_sumByTag 124 = .ok (.istore 4, 2) := by decide +kernel
theorem dX0_sumByTag_126 : decode cX0_sumByTag 126 = .ok (.aload_n 0, 1) := by decide +kernel
theorem dX0_sumByTag_127 : decode cX0_sumByTag 127 = .ok (.getfield 29, 3) := by decide +kernel
theorem dX0_sumByTag_130 : decode cX0_sumByTag 130 = .ok (.iload 8, 2) := by decide +kernel
theorem dX0_sumByTag_132 : decode cX0_sumByTag 132 = .ok (.iaload, 1) := by decide +kernel
theorem dX0_sumByTag_133 : decode cX0_sumByTag 133 = .ok (.iconst 2, 1) := by decide +kernel
theorem dX0_sumByTag_134 : decode cX0_sumByTag 134 = .ok (.if_icmp .ne 25, 3) := by decide +kernel
theorem dX0_sumByTag_137 : decode cX0_sumByTag 137 = .ok (.iload_n 2, 1) := by decide +kernel
theorem dX0_sumByTag_138 : decode cX0_sumByTag 138 = .ok (.iload 7, 2) := by decide +kernel
theorem dX0_sumByTag_140 : decode cX0_sumByTag 140 = .ok (.ifCond .eq 13, 3) := by decide +kernel
theorem dX0_sumByTag_143 : decode cX0_sumByTag 143 = .ok (.aload_n 0, 1) := by decide +kernel
theorem dX0_sumByTag_144 : decode cX0_sumByTag 144 = .ok (.getfield 32, 3) := by decide +kernel
theorem dX0_sumByTag_147 : decode cX0_sumByTag 147 = .ok (.iload 5, 2) := by decide +kernel
theorem dX0_sumByTag_149 : decode cX0_sumByTag 149 = .ok (.iaload, 1) := by decide +kernel
theorem dX0_sumByTag_150 : decode cX0_sumByTag 150 = .ok (.goto 4, 3) := by decide +kernel
theorem dX0_sumByTag_153 : decode cX0_sumByTag 153 = .ok (.iconst 0, 1) := by decide +kernel
theorem dX0_sumByTag_154 : decode cX0_sumByTag 154 = .ok (.iadd, 1) := by decide +kernel
theorem dX0_sumByTag_155 : decode cX0_sumByTag 155 = .ok (.istore_n 2, 1) := by decide +kernel
theorem dX0_sumByTag_156 : decode cX0_sumByTag 156 = .ok (.iinc 5 1, 3) := by decide +kernel
theorem dX0_sumByTag_159 : decode cX0_sumByTag 159 = .ok (.iinc 8 1, 3) := by decide +kernel
theorem dX0_sumByTag_162 : decode cX0_sumByTag 162 = .ok (.goto (-143), 3) := by decide +kernel
theorem dX0_sumByTag_165 : decode cX0_sumByTag 165 = .ok (.iload_n 2, 1) := by decide +kernel
theorem dX0_sumByTag_166 : decode cX0_sumByTag 166 = .ok (.ireturn, 1) := by decide +kernel
theorem dX0_recordsWith_0 : decode cX0_recordsWith 0 = .ok (.iconst 0, 1) := by decide +kernel
theorem dX0_recordsWith_1 : decode cX0_recordsWith 1 = .ok (.istore_n 3, 1) := by decide +kernel
theorem dX0_recordsWith_2 : decode cX0_recordsWith 2 = .ok (.iconst (-1), 1) := by decide +kernel
theorem dX0_recordsWith_3 : decode cX0_recordsWith 3 = .ok (.istore 4, 2) := by decide +kernel
theorem dX0_recordsWith_5 : decode cX0_recordsWith 5 = .ok (.iconst 0, 1) := by decide +kernel
theorem dX0_recordsWith_6 : decode cX0_recordsWith 6 = .ok (.istore 5, 2) := by decide +kernel
theorem dX0_recordsWith_8 : decode cX0_recordsWith 8 = .ok (.iconst (-1), 1) := by decide +kernel
theorem dX0_recordsWith_9 : decode cX0_recordsWith 9 = .ok (.istore 6, 2) := by decide +kernel
theorem dX0_recordsWith_11 : decode cX0_recordsWith 11 = .ok (.iconst 0, 1) := by decide +kernel
theorem dX0_recordsWith_12 : decode cX0_recordsWith 12 = .ok (.istore 7, 2) := by decide +kernel
theorem dX0_recordsWith_14 : decode cX0_recordsWith 14 = .ok (.iload 7, 2) := by decide +kernel
theorem dX0_recordsWith_16 : decode cX0_recordsWith 16 = .ok (.aload_n 0, 1) := by decide +kernel
theorem dX0_recordsWith_17 : decode cX0_recordsWith 17 = .ok (.getfield 77, 3) := by decide +kernel
theorem dX0_recordsWith_20 : decode cX0_recordsWith 20 = .ok (.if_icmp .ge 87, 3) := by decide +kernel
theorem dX0_recordsWith_23 : decode cX0_recordsWith 23 = .ok (.iload 4, 2) := by decide +kernel
theorem dX0_recordsWith_25 : decode cX0_recordsWith 25 = .ok (.aload_n 0, 1) := by decide +kernel
theorem dX0_recordsWith_26 : decode cX0_recordsWith 26 = .ok (.getfield 26, 3) := by decide +kernel
theorem dX0_recordsWith_29 : decode cX0_recordsWith 29 = .ok (.iload 7, 2) := by decide +kernel
theorem dX0_recordsWith_31 : decode cX0_recordsWith 31 = .ok (.iaload, 1) := by decide +kernel
theorem dX0_recordsWith_32 : decode cX0_recordsWith 32 = .ok (.ifCond .ne 7, 3) := by decide +kernel
theorem dX0_recordsWith_35 : decode cX0_recordsWith 35 = .ok (.iconst 1, 1) := by decide +kernel
theorem dX0_recordsWith_36 : decode cX0_recordsWith 36 = .ok (.goto 4, 3) := by decide +kernel
theorem dX0_recordsWith_39 : decode cX0_recordsWith 39 = .ok (.iconst 0, 1) := by decide +kernel
theorem dX0_recordsWith_40 : decode cX0_recordsWith 40 = .ok (.iadd, 1) := by decide +kernel
theorem dX0_recordsWith_41 : decode cX0_recordsWith 41 = .ok (.istore 4, 2) := by decide +kernel
theorem dX0_recordsWith_43 : decode cX0_recordsWith 43 = .ok (.aload_n 0, 1) := by decide +kernel
theorem dX0_recordsWith_44 : decode cX0_recordsWith 44 = .ok (.getfield 29, 3) := by decide +kernel
theorem dX0_recordsWith_47 : decode cX0_recordsWith 47 = .ok (.iload 7, 2) := by decide +kernel
theorem dX0_recordsWith_49 : decode cX0_recordsWith 49 = .ok (.iaload, 1) := by decide +kernel
theorem dX0_recordsWith_50 : decode cX0_recordsWith 50 = .ok (.iconst 2, 1) := by decide +kernel
theorem dX0_recordsWith_51 : decode cX0_recordsWith 51 = .ok (.if_icmp .ne 50, 3) := by decide +kernel
theorem dX0_recordsWith_54 : decode cX0_recordsWith 54 = .ok (.aload_n 0, 1) := by decide +kernel
theorem dX0_recordsWith_55 : decode cX0_recordsWith 55 = .ok (.getfield 32, 3) := by decide +kernel
theorem dX0_recordsWith_58 : decode cX0_recordsWith 58 = .ok (.iload 5, 2) := by decide +kernel
theorem dX0_recordsWith_60 : decode cX0_recordsWith 60 = .ok (.iaload, 1) := by decide +kernel
theorem dX0_recordsWith_61 : decode cX0_recordsWith 61 = .ok (.istore 8, 2) := by decide +kernel
theorem dX0_recordsWith_63 : decode cX0_recordsWith 63 = .ok (.iinc 5 1, 3) := by decide +kernel
theorem dX0_recordsWith_66 : decode cX0_recordsWith 66 = .ok (.iload_n 1, 1) := by decide +kernel
theorem dX0_recordsWith_67 : decode cX0_recordsWith 67 = .ok (.iload 8, 2) := by decide +kernel
theorem dX0_recordsWith_69 : decode cX0_recordsWith 69 = .ok (.if_icmp .gt 32, 3) := by decide +kernel
theorem dX0_recordsWith_72 : decode cX0_recordsWith 72 = .ok (.iload 8, 2) := by decide +kernel
theorem dX0_recordsWith_74 : decode cX0_recordsWith 74 = .ok (.iload_n 2, 1) := by decide +kernel
theorem dX0_recordsWith_75 : decode cX0_recordsWith 75 = .ok (.if_icmp .gt 26, 3) := by decide +kernel
theorem dX0_recordsWith_78 : decode cX0_recordsWith 78 = .ok (.iload 4, 2) := by decide +kernel
theorem dX0_recordsWith_80 : decode cX0_recordsWith 80 = .ok (.iload 6, 2) := by decide +kernel
theorem dX0_recordsWith_82 : decode cX0_recordsWith 82 = .ok (.if_icmp .eq 19, 3) := by decide +kernel
theorem dX0_recordsWith_85 : decode cX0_recordsWith 85 = .ok (.iload 4, 2) := by decide +kernel
theorem dX0_recordsWith_87 : decode cX0_recordsWith 87 = .ok (.aload_n 0, 1) := by decide +kernel
theorem dX0_recordsWith_88 : decode cX0_recordsWith 88 = .ok (.getfield 71, 3) := by decide +kernel
theorem dX0_recordsWith_91 : decode cX0_recordsWith 91 = .ok (.if_icmp .ge 10, 3) := by decide +kernel
theorem dX0_recordsWith_94 : decode cX0_recordsWith 94 = .ok (.iinc 3 1, 3) := by decide +kernel
theorem dX0_recordsWith_97 : decode cX0_recordsWith 97 = .ok (.iload 4, 2) := by decide +kernel
theorem dX0_recordsWith_99 : decode cX0_recordsWith 99 = .ok (.istore 6, 2) := by decide +kernel
theorem dX0_recordsWith_101 : decode cX0_recordsWith 101 = .ok (.iinc 7 1, 3) := by decide +kernel
theorem dX0_recordsWith_104 : decode cX0_recordsWith 104 = .ok (.goto (-90), 3) := by decide +kernel
theorem dX0_recordsWith_107 : decode cX0_recordsWith 107 = .ok (.iload_n 3, 1) := by decide +kernel
theorem dX0_recordsWith_108 : decode cX0_recordsWith 108 = .ok (.ireturn, 1) := by decide +kernel
end
section
set_option maxRecDepth 100000
theorem dX1_init_0 : decode cX1_init 0 = .ok (.aload_n 0, 1) := by decide +kernel
theorem dX1_init_1 : decode cX1_init 1 = .ok (.invokespecial 1, 3) := by decide +kernel
theorem dX1_init_4 : decode cX1_init 4 = .ok (.aload_n 0, 1) := by decide +kernel
theorem dX1_init_5 : decode cX1_init 5 = .ok (.bipush 12, 2) := by decide +kernel
theorem dX1_init_7 : decode cX1_init 7 = .ok (.newarray .boolean, 2) := by decide +kernel
theorem dX1_init_9 : decode cX1_init 9 = .ok (.putfield 7, 3) := by decide +kernel
theorem dX1_init_12 : decode cX1_init 12 = .ok (.aload_n 0, 1) := by decide +kernel
theorem dX1_init_13 : decode cX1_init 13 = .ok (.bipush 12, 2) := by decide +kernel
theorem dX1_init_15 : decode cX1_init 15 = .ok (.newarray .int, 2) := by decide +kernel
theorem dX1_init_17 : decode cX1_init 17 = .ok (.putfield 13, 3) := by decide +kernel
theorem dX1_init_20 : decode cX1_init 20 = .ok (.aload_n 0, 1) := by decide +kernel
theorem dX1_init_21 : decode cX1_init 21 = .ok (.bipush 12, 2) := by decide +kernel
theorem dX1_init_23 : decode cX1_init 23 = .ok (.newarray .int, 2) := by decide +kernel
theorem dX1_init_25 : decode cX1_init 25 = .ok (.putfield 17, 3) := by decide +kernel
theorem dX1_init_28 : decode cX1_init 28 = .ok (.aload_n 0, 1) := by decide +kernel
theorem dX1_init_29 : decode cX1_init 29 = .ok (.bipush 48, 2) := by decide +kernel
theorem dX1_init_31 : decode cX1_init 31 = .ok (.newarray .boolean, 2) := by decide +kernel
theorem dX1_init_33 : decode cX1_init 33 = .ok (.putfield 20, 3) := by decide +kernel
theorem dX1_init_36 : decode cX1_init 36 = .ok (.aload_n 0, 1) := by decide +kernel
theorem dX1_init_37 : decode cX1_init 37 = .ok (.bipush 48, 2) := by decide +kernel
theorem dX1_init_39 : decode cX1_init 39 = .ok (.newarray .int, 2) := by decide +kernel
theorem dX1_init_41 : decode cX1_init 41 = .ok (.putfield 23, 3) := by decide +kernel
theorem dX1_init_44 : decode cX1_init 44 = .ok (.aload_n 0, 1) := by decide +kernel
theorem dX1_init_45 : decode cX1_init 45 = .ok (.bipush 48, 2) := by decide +kernel
theorem dX1_init_47 : decode cX1_init 47 = .ok (.newarray .int, 2) := by decide +kernel
theorem dX1_init_49 : decode cX1_init 49 = .ok (.putfield 26, 3) := by decide +kernel
theorem dX1_init_52 : decode cX1_init 52 = .ok (.aload_n 0, 1) := by decide +kernel
theorem dX1_init_53 : decode cX1_init 53 = .ok (.sipush 192, 3) := by decide +kernel
theorem dX1_init_56 : decode cX1_init 56 = .ok (.newarray .int, 2) := by decide +kernel
theorem dX1_init_58 : decode cX1_init 58 = .ok (.putfield 29, 3) := by decide +kernel
theorem dX1_init_61 : decode cX1_init 61 = .ok (.return_, 1) := by decide +kernel
theorem dX1_begin_0 : decode cX1_begin 0 = .ok (.aload_n 0, 1) := by decide +kernel
theorem dX1_begin_1 : decode cX1_begin 1 = .ok (.getfield 32, 3) := by decide +kernel
theorem dX1_begin_4 : decode cX1_begin 4 = .ok (.ifCond .ne 12, 3) := by decide +kernel
theorem dX1_begin_7 : decode cX1_begin 7 = .ok (.aload_n 0, 1) := by decide +kernel
theorem dX1_begin_8 : decode cX1_begin 8 = .ok (.getfield 36, 3) := by decide +kernel
theorem dX1_begin_11 : decode cX1_begin 11 = .ok (.bipush 12, 2) := by decide +kernel
theorem dX1_begin_13 : decode cX1_begin 13 = .ok (.if_icmp .ne 5, 3) := by decide +kernel
theorem dX1_begin_16 : decode cX1_begin 16 = .ok (.iconst (-1), 1) := by decide +kernel
theorem dX1_begin_17 : decode cX1_begin 17 = .ok (.ireturn, 1) := by decide +kernel
theorem dX1_begin_18 : decode cX1_begin 18 = .ok (.aload_n 0, 1) := by decide +kernel
theorem dX1_begin_19 : decode cX1_begin 19 = .ok (.getfield 7, 3) := by decide +kernel
theorem dX1_begin_22 : decode cX1_begin 22 = .ok (.aload_n 0, 1) := by decide +kernel
theorem dX1_begin_23 : decode cX1_begin 23 = .ok (.getfield 36, 3) := by decide +kernel
theorem dX1_begin_26 : decode cX1_begin 26 = .ok (.iload_n 1, 1) := by decide +kernel
theorem dX1_begin_27 : decode cX1_begin 27 = .ok (.bastore, 1) := by decide +kernel
theorem dX1_begin_28 : decode cX1_begin 28 = .ok (.aload_n 0, 1) := by decide +kernel
theorem dX1_begin_29 : decode cX1_begin 29 = .ok (.getfield 13, 3) := by decide +kernel
theorem dX1_begin_32 : decode cX1_begin 32 = .ok (.aload_n 0, 1) := by decide +kernel
theorem dX1_begin_33 : decode cX1_begin 33 = .ok (.getfield 36, 3) := by decide +kernel
theorem dX1_begin_36 : decode cX1_begin 36 = .ok (.iload_n 1, 1) := by decide +kernel
theorem dX1_begin_37 : decode cX1_begin 37 = .ok (.ifCond .eq 7, 3) := by decide +kernel
theorem dX1_begin_40 : decode cX1_begin 40 = .ok (.iload_n 2, 1) := by decide +kernel
theorem dX1_begin_41 : decode cX1_begin 41 = .ok (.goto 4, 3) := by decide +kernel
theorem dX1_begin_44 : decode cX1_begin 44 = .ok (.iconst 0, 1) := by decide +kernel
theorem dX1_begin_45 : decode cX1_begin 45 = .ok (.iastore, 1) := by decide +kernel
theorem dX1_begin_46 : decode cX1_begin 46 = .ok (.aload_n 0, 1) := by decide +kernel
theorem dX1_begin_47 : decode cX1_begin 47 = .ok (.iconst 1, 1) := by decide +kernel
theorem dX1_begin_48 : decode cX1_begin 48 = .ok (.putfield 32, 3) := by decide +kernel
theorem dX1_begin_51 : decode cX1_begin 51 = .ok (.aload_n 0, 1) := by decide +kernel
theorem dX1_begin_52 : decode cX1_begin 52 = .ok (.dup, 1) := by decide +kernel
theorem dX1_begin_53 : decode cX1_begin 53 = .ok (.getfield 36, 3) := by decide +kernel
theorem dX1_begin_56 : decode cX1_begin 56 = .ok (.iconst 1, 1) := by decide +kernel
theorem dX1_begin_57 : decode cX1_begin 57 = .ok (.iadd, 1) := by decide +kernel
theorem dX1_begin_58 : decode cX1_begin 58 = .ok (.putfield 36, 3) := by decide +kernel
theorem dX1_begin_61 : decode cX1_begin 61 = .ok (.aload_n 0, 1) := by decide +kernel
theorem dX1_begin_62 : decode cX1_begin 62 = .ok (.getfield 36, 3) := by decide +kernel
theorem dX1_begin_65 : decode cX1_begin 65 = .ok (.iconst 1, 1) := by decide +kernel
theorem dX1_begin_66 : decode cX1_begin 66 = .ok (.isub, 1) := by decide +kernel
theorem dX1_begin_67 : decode cX1_begin 67 = .ok (.ireturn, 1) := by decide +kernel
theorem dX1_group_0 : decode cX1_group 0 = .ok (.aload_n 0, 1) := by decide +kernel
theorem dX1_group_1 : decode cX1_group 1 = .ok (.getfield 32, 3) := by decide +kernel
theorem dX1_group_4 : decode cX1_group 4 = .ok (.ifCond .eq 27, 3) := by decide +kernel
theorem dX1_group_7 : decode cX1_group 7 = .ok (.aload_n 0, 1) := by decide +kernel
theorem dX1_group_8 : decode cX1_group 8 = .ok (.getfield 17, 3) := by decide +kernel
theorem dX1_group_11 : decode cX1_group 11 = .ok (.aload_n 0, 1) := by decide +kernel
theorem dX1_group_12 : decode cX1_group 12 = .ok (.getfield 36, 3) := by decide +kernel
theorem dX1_group_15 : decode cX1_group 15 = .ok (.iconst 1, 1) := by decide +kernel
theorem dX1_group_16 : decode cX1_group 16 = .ok (.isub, 1) := by decide +kernel
theorem dX1_group_17 : decode cX1_group 17 = .ok (.iaload, 1) := by decide +kernel
theorem dX1_group_18 : decode cX1_group 18 = .ok (.iconst 4, 1) := by decide +kernel
theorem dX1_group_19 : decode cX1_group 19 = .ok (.if_icmp .eq 12, 3) := by decide +kernel
theorem dX1_group_22 : decode cX1_group 22 = .ok (.aload_n 0, 1) := by decide +kernel
theorem dX1_group_23 : decode cX1_group 23 = .ok (.getfield 40, 3) := by decide +kernel
theorem dX1_group_26 : decode cX1_group 26 = .ok (.bipush 40, 2) := by decide +kernel
theorem dX1_group_28 : decode cX1_group 28 = .ok (.if_icmp .ne 5, 3) := by decide +kernel
theorem dX1_group_31 : decode cX1_group 31 = .ok (.iconst (-1), 1) := by decide +kernel
theorem dX1_group_32 : decode cX1_group 32 = .ok (.ireturn, 1) := by decide +kernel
theorem dX1_group_33 : decode cX1_group 33 = .ok (.aload_n 0, 1) := by decide +kernel
theorem dX1_group_34 : decode cX1_group 34 = .ok (.getfield 36, 3) := by decide +kernel
theorem dX1_group_37 : decode cX1_group 37 = .ok (.iconst 1, 1) := by decide +kernel
theorem dX1_group_38 : decode cX1_group 38 = .ok (.isub, 1) := by decide +kernel
theorem dX1_group_39 : decode cX1_group 39 = .ok (.istore_n 3, 1) := by decide +kernel
theorem dX1_group_40 : decode cX1_group 40 = .ok (.iconst 4, 1) := by decide +kernel
theorem dX1_group_41 : decode cX1_group 41 = .ok (.iload_n 3, 1) := by decide +kernel
theorem dX1_group_42 : decode cX1_group 42 = .ok (.imul, 1) := by decide +kernel
theorem dX1_group_43 : decode cX1_group 43 = .ok (.aload_n 0, 1) := by decide +kernel
theorem dX1_group_44 : decode cX1_group 44 = .ok (.getfield 17, 3) := by decide +kernel
theorem dX1_group_47 : decode cX1_group 47 = .ok (.iload_n 3, 1) := by decide +kernel
theorem dX1_group_48 : decode cX1_group 48 = .ok (.iaload, 1) := by decide +kernel
theorem dX1_group_49 : decode cX1_group 49 = .ok (.iadd, 1) := by decide +kernel
theorem dX1_group_50 : decode cX1_group 50 = .ok (.istore 4, 2) := by decide +kernel
theorem dX1_group_52 : decode cX1_group 52 = .ok (.aload_n 0, 1) := by decide +kernel
theorem dX1_group_53 : decode cX1_group 53 = .ok (.getfield 20, 3) := by decide +kernel
theorem dX1_group_56 : decode cX1_group 56 = .ok (.iload 4, 2) := by decide +kernel
theorem dX1_group_58 : decode cX1_group 58 = .ok (.iload_n 1, 1) := by decide +kernel
theorem dX1_group_59 : decode cX1_group 59 = .ok (.bastore, 1) := by decide +kernel
theorem dX1_group_60 : decode cX1_group 60 = .ok (.aload_n 0, 1) := by decide +kernel
theorem dX1_group_61 : decode cX1_group 61 = .ok (.getfield 23, 3) := by decide +kernel
theorem dX1_group_64 : decode cX1_group 64 = .ok (.iload 4, 2) := by decide +kernel
theorem dX1_group_66 : decode cX1_group 66 = .ok (.iload_n 1, 1) := by decide +kernel
theorem dX1_group_67 : decode cX1_group 67 = .ok (.ifCond .eq 7, 3) := by decide +kernel
theorem dX1_group_70 : decode cX1_group 70 = .ok (.iload_n 2, 1) := by decide +kernel
theorem dX1_group_71 : decode cX1_group 71 = .ok (.goto 4, 3) := by decide +kernel
theorem dX1_group_74 : decode cX1_group 74 = .ok (.iconst 0, 1) := by decide +kernel
theorem dX1_group_75 : decode cX1_group 75 = .ok (.iastore, 1) := by decide +kernel
theorem dX1_group_76 : decode cX1_group 76 = .ok (.aload_n 0, 1) := by decide +kernel
theorem dX1_group_77 : decode cX1_group 77 = .ok (.getfield 17, 3) := by decide +kernel
theorem dX1_group_80 : decode cX1_group 80 = .ok (.iload_n 3, 1) := by decide +kernel
theorem dX1_group_81 : decode cX1_group 81 = .ok (.dup2, 1) := by decide +kernel
theorem dX1_group_82 : decode cX1_group 82 = .ok (.iaload, 1) := by decide +kernel
theorem dX1_group_83 : decode cX1_group 83 = .ok (.iconst 1, 1) := by decide +kernel
theorem dX1_group_84 : decode cX1_group 84 = .ok (.iadd, 1) := by decide +kernel
theorem dX1_group_85 : decode cX1_group 85 = .ok (.iastore, 1) := by decide +kernel
theorem dX1_group_86 : decode cX1_group 86 = .ok (.aload_n 0, 1) := by decide +kernel
theorem dX1_group_87 : decode cX1_group 87 = .ok (.dup, 1) := by decide +kernel
theorem dX1_group_88 : decode cX1_group 88 = .ok (.getfield 40, 3) := by decide +kernel
theorem dX1_group_91 : decode cX1_group 91 = .ok (.iconst 1, 1) := by decide +kernel
theorem dX1_group_92 : decode cX1_group 92 = .ok (.iadd, 1) := by decide +kernel
theorem dX1_group_93 : decode cX1_group 93 = .ok (.putfield 40, 3) := by decide +kernel
theorem dX1_group_96 : decode cX1_group 96 = .ok (.aload_n 0, 1) := by decide +kernel
theorem dX1_group_97 : decode cX1_group 97 = .ok (.getfield 17, 3) := by decide +kernel
theorem dX1_group_100 : decode cX1_group 100 = .ok (.iload_n 3, 1) := by decide +kernel
theorem dX1_group_101 : decode cX1_group 101 = .ok (.iaload, 1) := by decide +kernel
theorem dX1_group_102 : decode cX1_group 102 = .ok (.ireturn, 1) := by decide +kernel
theorem dX1_value_0 : decode cX1_value 0 = .ok (.aload_n 0, 1) := by decide +kernel
theorem dX1_value_1 : decode cX1_value 1 = .ok (.getfield 32, 3) := by decide +kernel
theorem dX1_value_4 : decode cX1_value 4 = .ok (.ifCond .eq 26, 3) := by decide +kernel
theorem dX1_value_7 : decode cX1_value 7 = .ok (.aload_n 0, 1) := by decide +kernel
theorem dX1_value_8 : decode cX1_value 8 = .ok (.getfield 17, 3) := by decide +kernel
theorem dX1_value_11 : decode cX1_value 11 = .ok (.aload_n 0, 1) := by decide +kernel
theorem dX1_value_12 : decode cX1_value 12 = .ok (.getfield 36, 3) := by decide +kernel
theorem dX1_value_15 : decode cX1_value 15 = .ok (.iconst 1, 1) := by decide +kernel
theorem dX1_value_16 : decode cX1_value 16 = .ok (.isub, 1) := by decide +kernel
theorem dX1_value_17 : decode cX1_value 17 = .ok (.iaload, 1) := by decide +kernel
theorem dX1_value_18 : decode cX1_value 18 = .ok (.ifCond .eq 12, 3) := by decide +kernel
theorem dX1_value_21 : decode cX1_value 21 = .ok (.aload_n 0, 1) := by decide +kernel
theorem dX1_value_22 : decode cX1_value 22 = .ok (.getfield 43, 3) := by decide +kernel
theorem dX1_value_25 : decode cX1_value 25 = .ok (.bipush 60, 2) := by decide +kernel
theorem dX1_value_27 : decode cX1_value 27 = .ok (.if_icmp .ne 5, 3) := by decide +kernel
theorem dX1_value_30 : decode cX1_value 30 = .ok (.iconst (-1), 1) := by decide +kernel
theorem dX1_value_31 : decode cX1_value 31 = .ok (.ireturn, 1) := by decide +kernel
theorem dX1_value_32 : decode cX1_value 32 = .ok (.iconst 4, 1) := by decide +kernel
theorem dX1_value_33 : decode cX1_value 33 = .ok (.aload_n 0, 1) := by decide +kernel
theorem dX1_value_34 : decode cX1_value 34 = .ok (.getfield 36, 3) := by decide +kernel
theorem dX1_value_37 : decode cX1_value 37 = .ok (.iconst 1, 1) := by decide +kernel
theorem dX1_value_38 : decode cX1_value 38 = .ok (.isub, 1) := by decide +kernel
theorem dX1_value_39 : decode cX1_value 39 = .ok (.imul, 1) := by decide +kernel
theorem dX1_value_40 : decode cX1_value 40 = .ok (.aload_n 0, 1) := by decide +kernel
theorem dX1_value_41 : decode cX1_value 41 = .ok (.getfield 17, 3) := by decide +kernel
theorem dX1_value_44 : decode cX1_value 44 = .ok (.aload_n 0, 1) := by decide +kernel
theorem dX1_value_45 : decode cX1_value 45 = .ok (.getfield 36, 3) := by decide +kernel
theorem dX1_value_48 : decode cX1_value 48 = .ok (.iconst 1, 1) := by decide +kernel
theorem dX1_value_49 : decode cX1_value 49 = .ok (.isub, 1) := by decide +kernel
theorem dX1_value_50 : decode cX1_value 50 = .ok (.iaload, 1) := by decide +kernel
theorem dX1_value_51 : decode cX1_value 51 = .ok (.iadd, 1) := by decide +kernel
theorem dX1_value_52 : decode cX1_value 52 = .ok (.iconst 1, 1) := by decide +kernel
theorem dX1_value_53 : decode cX1_value 53 = .ok (.isub, 1) := by decide +kernel
theorem dX1_value_54 : decode cX1_value 54 = .ok (.istore_n 2, 1) := by decide +kernel
theorem dX1_value_55 : decode cX1_value 55 = .ok (.aload_n 0, 1) := by decide +kernel
theorem dX1_value_56 : decode cX1_value 56 = .ok (.getfield 26, 3) := by decide +kernel
theorem dX1_value_59 : decode cX1_value 59 = .ok (.iload_n 2, 1) := by decide +kernel
theorem dX1_value_60 : decode cX1_value 60 = .ok (.iaload, 1) := by decide +kernel
theorem dX1_value_61 : decode cX1_value 61 = .ok (.iconst 4, 1) := by decide +kernel
theorem dX1_value_62 : decode cX1_value 62 = .ok (.if_icmp .ne 5, 3) := by decide +kernel
theorem dX1_value_65 : decode cX1_value 65 = .ok (.iconst (-1), 1) := by decide +kernel
theorem dX1_value_66 : decode cX1_value 66 = .ok (.ireturn, 1) := by decide +kernel
theorem dX1_value_67 : decode cX1_value 67 = .ok (.aload_n 0, 1) := by decide +kernel
theorem dX1_value_68 : decode cX1_value 68 = .ok (.getfield 29, 3) := by decide +kernel
theorem dX1_value_71 : decode cX1_value 71 = .ok (.iconst 4, 1) := by decide +kernel
theorem dX1_value_72 : decode cX1_value 72 = .ok (.iload_n 2, 1) := by decide +kernel
theorem dX1_value_73 : decode cX1_value 73 = .ok (.imul, 1) := by decide +kernel
theorem dX1_value_74 : decode cX1_value 74 = .ok (.aload_n 0, 1) := by decide +kernel
theorem dX1_value_75 : decode cX1_value 75 = .ok (.getfield 26, 3) := by decide +kernel
theorem dX1_value_78 : decode cX1_value 78 = .ok (.iload_n 2, 1) := by decide +kernel
theorem dX1_value_79 : decode cX1_value 79 = .ok (.iaload, 1) := by decide +kernel
theorem dX1_value_80 : decode cX1_value 80 = .ok (.iadd, 1) := by decide +kernel
theorem dX1_value_81 : decode cX1_value 81 = .ok (.iload_n 1, 1) := by decide +kernel
theorem dX1_value_82 : decode cX1_value 82 = .ok (.iastore, 1) := by decide +kernel
theorem dX1_value_83 : decode cX1_value 83 = .ok (.aload_n 0, 1) := by decide +kernel
theorem dX1_value_84 : decode cX1_value 84 = .ok (.getfield 26, 3) := by decide +kernel
theorem dX1_value_87 : decode cX1_value 87 = .ok (.iload_n 2, 1) := by decide +kernel
theorem dX1_value_88 : decode cX1_value 88 = .ok (.dup2, 1) := by decide +kernel
theorem dX1_value_89 : decode cX1_value 89 = .ok (.iaload, 1) := by decide +kernel
theorem dX1_value_90 : decode cX1_value 90 = .ok (.iconst 1, 1) := by decide +kernel
theorem dX1_value_91 : decode cX1_value 91 = .ok (.iadd, 1) := by decide +kernel
theorem dX1_value_92 : decode cX1_value 92 = .ok (.iastore, 1) := by decide +kernel
theorem dX1_value_93 : decode cX1_value 93 = .ok (.aload_n 0, 1) := by decide +kernel
theorem dX1_value_94 : decode cX1_value 94 = .ok (.dup, 1) := by decide +kernel
theorem dX1_value_95 : decode cX1_value 95 = .ok (.getfield 43, 3) := by decide +kernel
theorem dX1_value_98 : decode cX1_value 98 = .ok (.iconst 1, 1) := by decide +kernel
theorem dX1_value_99 : decode cX1_value 99 = .ok (.iadd, 1) := by decide +kernel
theorem dX1_value_100 : decode cX1_value 100 = .ok (.putfield 43, 3) := by decide +kernel
theorem dX1_value_103 : decode cX1_value 103 = .ok (.aload_n 0, 1) := by decide +kernel
theorem dX1_value_104 : decode cX1_value 104 = .ok (.getfield 26, 3) := by decide +kernel
theorem dX1_value_107 : decode cX1_value 107 = .ok (.iload_n 2, 1) := by decide +kernel
theorem dX1_value_108 : decode cX1_value 108 = .ok (.iaload, 1) := by decide +kernel
theorem dX1_value_109 : decode cX1_value 109 = .ok (.ireturn, 1) := by decide +kernel
theorem dX1_end_0 : decode cX1_end 0 = .ok (.aload_n 0, 1) := by decide +kernel
theorem dX1_end_1 : decode cX1_end 1 = .ok (.getfield 32, 3) := by decide +kernel
theorem dX1_end_4 : decode cX1_end 4 = .ok (.ifCond .ne 5, 3) := by decide +kernel
theorem dX1_end_7 : decode cX1_end 7 = .ok (.iconst (-1), 1) := by decide +kernel
theorem dX1_end_8 : decode cX1_end 8 = .ok (.ireturn, 1) := by decide +kernel
theorem dX1_end_9 : decode cX1_end 9 = .ok (.aload_n 0, 1) := by decide +kernel
theorem dX1_end_10 : decode cX1_end 10 = .ok (.iconst 0, 1) := by decide +kernel
theorem dX1_end_11 : decode cX1_end 11 = .ok (.putfield 32, 3) := by decide +kernel
theorem dX1_end_14 : decode cX1_end 14 = .ok (.aload_n 0, 1) := by decide +kernel
theorem dX1_end_15 : decode cX1_end 15 = .ok (.getfield 36, 3) := by decide +kernel
theorem dX1_end_18 : decode cX1_end 18 = .ok (.ireturn, 1) := by decide +kernel
theorem dX1_groups_0 : decode cX1_groups 0 = .ok (.aload_n 0, 1) := by decide +kernel
theorem dX1_groups_1 : decode cX1_groups 1 = .ok (.iload_n 1, 1) := by decide +kernel
theorem dX1_groups_2 : decode cX1_groups 2 = .ok (.invokevirtual 50, 3) := by decide +kernel
theorem dX1_groups_5 : decode cX1_groups 5 = .ok (.ifCond .eq 7, 3) := by decide +kernel
theorem dX1_groups_8 : decode cX1_groups 8 = .ok (.iconst (-1), 1) := by decide +kernel
theorem dX1_groups_9 : decode cX1_groups 9 = .ok (.goto 9, 3) := by decide +kernel
theorem dX1_groups_12 : decode cX1_groups 12 = .ok (.aload_n 0, 1) := by decide +kernel
theorem dX1_groups_13 : decode cX1_groups 13 = .ok (.getfield 17, 3) := by decide +kernel
theorem dX1_groups_16 : decode cX1_groups 16 = .ok (.iload_n 1, 1) := by decide +kernel
theorem dX1_groups_17 : decode cX1_groups 17 = .ok (.iaload, 1) := by decide +kernel
theorem dX1_groups_18 : decode cX1_groups 18 = .ok (.ireturn, 1) := by decide +kernel
theorem dX1_missing_0 : decode cX1_missing 0 = .ok (.iload_n 1, 1) := by decide +kernel
theorem dX1_missing_1 : decode cX1_missing 1 = .ok (.ifCond .lt 11, 3) := by decide +kernel
theorem dX1_missing_4 : decode cX1_missing 4 = .ok (.iload_n 1, 1) := by decide +kernel
theorem dX1_missing_5 : decode cX1_missing 5 = .ok (.aload_n 0, 1) := by decide +kernel
theorem dX1_missing_6 : decode cX1_missing 6 = .ok (.invokevirtual 46, 3) := by decide +kernel
theorem dX1_missing_9 : decode cX1_missing 9 = .ok (.if_icmp .lt 7, 3) := by decide +kernel
theorem dX1_missing_12 : decode cX1_missing 12 = .ok (.iconst 1, 1) := by decide +kernel
theorem dX1_missing_13 : decode cX1_missing 13 = .ok (.goto 4, 3) := by decide +kernel
theorem dX1_missing_16 : decode cX1_missing 16 = .ok (.iconst 0, 1) := by decide +kernel
theorem dX1_missing_17 : decode cX1_missing 17 = .ok (.ireturn, 1) := by decide +kernel
theorem dX1_ended_0 : decode cX1_ended 0 = .ok (.aload_n 0, 1) := by decide +kernel
theorem dX1_ended_1 : decode cX1_ended 1 = .ok (.getfield 32, 3) := by decide +kernel
theorem dX1_ended_4 : decode cX1_ended 4 = .ok (.ifCond .eq 12, 3) := by decide +kernel
theorem dX1_ended_7 : decode cX1_ended 7 = .ok (.aload_n 0, 1) := by decide +kernel
theorem dX1_ended_8 : decode cX1_ended 8 = .ok (.getfield 36, 3) := by decide +kernel
theorem dX1_ended_11 : decode cX1_ended 11 = .ok (.iconst 1, 1) := by decide +kernel
theorem dX1_ended_12 : decode cX1_ended 12 = .ok (.isub, 1) := by decide +kernel
theorem dX1_ended_13 : decode cX1_ended 13 = .ok (.goto 7, 3) := by decide +kernel
theorem dX1_ended_16 : decode cX1_ended 16 = .ok (.aload_n 0, 1) := by decide +kernel
theorem dX1_ended_17 : decode cX1_ended 17 = .ok (.getfield 36, 3) := by decide +kernel
theorem dX1_ended_20 : decode cX1_ended 20 = .ok (.ireturn, 1) := by decide +kernel
theorem dX1_values_0 : decode cX1_values 0 = .ok (.aload_n 0, 1) := by decide +kernel
theorem dX1_values_1 : decode cX1_values 1 = .ok (.iload_n 1, 1) := by decide +kernel
theorem dX1_values_2 : decode cX1_values 2 = .ok (.iload_n 2, 1) := by decide +kernel
theorem dX1_values_3 : decode cX1_values 3 = .ok (.invokevirtual 54, 3) := by decide +kernel
theorem dX1_values_6 : decode cX1_values 6 = .ok (.ifCond .eq 7, 3) := by decide +kernel
theorem dX1_values_9 : decode cX1_values 9 = .ok (.iconst (-1), 1) := by decide +kernel
theorem dX1_values_10 : decode cX1_values 10 = .ok (.goto 13, 3) := by decide +kernel
theorem dX1_values_13 : decode cX1_values 13 = .ok (.aload_n 0, 1) := by decide +kernel
theorem dX1_values_14 : decode cX1_values 14 = .ok (.getfield 26, 3) := by decide +kernel
theorem dX1_values_17 : decode cX1_values 17 = .ok (.iconst 4, 1) := by decide +kernel
theorem dX1_values_18 : decode cX1_values 18 = .ok (.iload_n 1, 1) := by decide +kernel
theorem dX1_values_19 : decode cX1_values 19 = .ok (.imul, 1) := by decide +kernel
theorem dX1_values_20 : decode cX1_values 20 = .ok (.iload_n 2, 1) := by decide +kernel
theorem dX1_values_21 : decode cX1_values 21 = .ok (.iadd, 1) := by decide +kernel
theorem dX1_values_22 : decode cX1_values 22 = .ok (.iaload, 1) := by decide +kernel
theorem dX1_values_23 : decode cX1_values 23 = .ok (.ireturn, 1) := by decide +kernel
theorem dX1_noGroup_0 : decode cX1_noGroup 0 = .ok (.aload_n 0, 1) := by decide +kernel
theorem dX1_noGroup_1 : decode cX1_noGroup 1 = .ok (.iload_n 1, 1) := by decide +kernel
theorem dX1_noGroup_2 : decode cX1_noGroup 2 = .ok (.invokevirtual 50, 3) := by decide +kernel
theorem dX1_noGroup_5 : decode cX1_noGroup 5 = .ok (.ifCond .ne 17, 3) := by decide +kernel
theorem dX1_noGroup_8 : decode cX1_noGroup 8 = .ok (.iload_n 2, 1) := by decide +kernel
theorem dX1_noGroup_9 : decode cX1_noGroup 9 = .ok (.ifCond .lt 13, 3) := by decide +kernel
theorem dX1_noGroup_12 : decode cX1_noGroup 12 = .ok (.iload_n 2, 1) := by decide +kernel
theorem dX1_noGroup_13 : decode cX1_noGroup 13 = .ok (.aload_n 0, 1) := by decide +kernel
theorem dX1_noGroup_14 : decode cX1_noGroup 14 = .ok (.getfield 17, 3) := by decide +kernel
theorem dX1_noGroup_17 : decode cX1_noGroup 17 = .ok (.iload_n 1, 1) := by decide +kernel
theorem dX1_noGroup_18 : decode cX1_noGroup 18 = .ok (.iaload, 1) := by decide +kernel
theorem dX1_noGroup_19 : decode cX1_noGroup 19 = .ok (.if_icmp .lt 7, 3) := by decide +kernel
theorem dX1_noGroup_22 : decode cX1_noGroup 22 = .ok (.iconst 1, 1) := by decide +kernel
theorem dX1_noGroup_23 : decode cX1_noGroup 23 = .ok (.goto 4, 3) := by decide +kernel
theorem dX1_noGroup_26 : decode cX1_noGroup 26 = .ok (.iconst 0, 1) := by decide +kernel
theorem dX1_noGroup_27 : decode cX1_noGroup 27 = .ok (.ireturn, 1) := by decide +kernel
theorem dX1_valueAt_0 : decode cX1_valueAt 0 = .ok (.aload_n 0, 1) := by decide +kernel
theorem dX1_valueAt_1 : decode cX1_valueAt 1 = .ok (.iload_n 1, 1) := by decide +kernel
theorem dX1_valueAt_2 : decode cX1_valueAt 2 = .ok (.iload_n 2, 1) := by decide +kernel
theorem dX1_valueAt_3 : decode cX1_valueAt 3 = .ok (.invokevirtual 54, 3) := by decide +kernel
theorem dX1_valueAt_6 : decode cX1_valueAt 6 = .ok (.ifCond .ne 21, 3) := by decide +kernel
theorem dX1_valueAt_9 : decode cX1_valueAt 9 = .ok (.iload_n 3, 1) := by decide +kernel
theorem dX1_valueAt_10 : decode cX1_valueAt 10 = .ok (.ifCond .lt 17, 3) := by decide +kernel
theorem dX1_valueAt_13 : decode cX1_valueAt 13 = .ok (.iload_n 3, 1) := by decide +kernel
theorem dX1_valueAt_14 : decode cX1_valueAt 14 = .ok (.aload_n 0, 1) := by decide +kernel
theorem dX1_valueAt_15 : decode cX1_valueAt 15 = .ok (.getfield 26, 3) := by decide +kernel
theorem dX1_valueAt_18 : decode cX1_valueAt 18 = .ok (.iconst 4, 1) := by decide +kernel
theorem dX1_valueAt_19 : decode cX1_valueAt 19 = .ok (.iload_n 1, 1) := by decide +kernel
theorem dX1_valueAt_20 : decode cX1_valueAt 20 = .ok (.imul, 1) := by decide +kernel
theorem dX1_valueAt_21 : decode cX1_valueAt 21 = .ok (.iload_n 2, 1) := by decide +kernel
theorem dX1_valueAt_22 : decode cX1_valueAt 22 = .ok (.iadd, 1) := by decide +kernel
theorem dX1_valueAt_23 : decode cX1_valueAt 23 = .ok (.iaload, 1) := by decide +kernel
theorem dX1_valueAt_24 : decode cX1_valueAt 24 = .ok (.if_icmp .lt 5, 3) := by decide +kernel
theorem dX1_valueAt_27 : decode cX1_valueAt 27 = .ok (.iconst 0, 1) := by decide +kernel
theorem dX1_valueAt_28 : decode cX1_valueAt 28 = .ok (.ireturn, 1) := by decide +kernel
theorem dX1_valueAt_29 : decode cX1_valueAt 29 = .ok (.aload_n 0, 1) := by decide +kernel
theorem dX1_valueAt_30 : decode cX1_valueAt 30 = .ok (.getfield 29, 3) := by decide +kernel
theorem dX1_valueAt_33 : decode cX1_valueAt 33 = .ok (.bipush 16, 2) := by decide +kernel
theorem dX1_valueAt_35 : decode cX1_valueAt 35 = .ok (.iload_n 1, 1) := by decide +kernel
theorem dX1_valueAt_36 : decode cX1_valueAt 36 = .ok (.imul, 1) := by decide +kernel
theorem dX1_valueAt_37 : decode cX1_valueAt 37 = .ok (.iconst 4, 1) := by decide +kernel
theorem dX1_valueAt_38 : decode cX1_valueAt 38 = .ok (.iload_n 2, 1) := by decide +kernel
theorem dX1_valueAt_39 : decode cX1_valueAt 39 = .ok (.imul, 1) := by decide +kernel
theorem dX1_valueAt_40 : decode cX1_valueAt 40 = .ok (.iadd, 1) := by decide +kernel
theorem dX1_valueAt_41 : decode cX1_valueAt 41 = .ok (.iload_n 3, 1) := by decide +kernel
theorem dX1_valueAt_42 : decode cX1_valueAt 42 = .ok (.iadd, 1) := by decide +kernel
theorem dX1_valueAt_43 : decode cX1_valueAt 43 = .ok (.iaload, 1) := by decide +kernel
theorem dX1_valueAt_44 : decode cX1_valueAt 44 = .ok (.ireturn, 1) := by decide +kernel
theorem dX1_hasNote_0 : decode cX1_hasNote 0 = .ok (.aload_n 0, 1) := by decide +kernel
theorem dX1_hasNote_1 : decode cX1_hasNote 1 = .ok (.iload_n 1, 1) := by decide +kernel
theorem dX1_hasNote_2 : decode cX1_hasNote 2 = .ok (.invokevirtual 50, 3) := by decide +kernel
theorem dX1_hasNote_5 : decode cX1_hasNote 5 = .ok (.ifCond .eq 5, 3) := by decide +kernel
theorem dX1_hasNote_8 : decode cX1_hasNote 8 = .ok (.iconst (-1), 1) := by decide +kernel
theorem dX1_hasNote_9 : decode cX1_hasNote 9 = .ok (.ireturn, 1) := by decide +kernel
theorem dX1_hasNote_10 : decode cX1_hasNote 10 = .ok (.aload_n 0, 1) := by decide +kernel
theorem dX1_hasNote_11 : decode cX1_hasNote 11 = .ok (.getfield 7, 3) := by decide +kernel
theorem dX1_hasNote_14 : decode cX1_hasNote 14 = .ok (.iload_n 1, 1) := by decide +kernel
theorem dX1_hasNote_15 : decode cX1_hasNote 15 = .ok (.baload, 1) := by decide +kernel
theorem dX1_hasNote_16 : decode cX1_hasNote 16 = .ok (.ifCond .eq 7, 3) := by decide +kernel
theorem dX1_hasNote_19 : decode cX1_hasNote 19 = .ok (.iconst 1, 1) := by decide +kernel
theorem dX1_hasNote_20 : decode cX1_hasNote 20 = .ok (.goto 4, 3) := by decide +kernel
theorem dX1_hasNote_23 : decode cX1_hasNote 23 = .ok (.iconst 0, 1) := by decide +kernel
theorem dX1_hasNote_24 : decode cX1_hasNote 24 = .ok (.ireturn, 1) := by decide +kernel
theorem dX1_label_0 : decode cX1_label 0 = .ok (.aload_n 0, 1) := by decide +kernel
theorem dX1_label_1 : decode cX1_label 1 = .ok (.iload_n 1, 1) := by decide +kernel
theorem dX1_label_2 : decode cX1_label 2 = .ok (.invokevirtual 50, 3) := by decide +kernel
theorem dX1_label_5 : decode cX1_label 5 = .ok (.ifCond .eq 5, 3) := by decide +kernel
theorem dX1_label_8 : decode cX1_label 8 = .ok (.iconst 0, 1) := by decide +kernel
theorem dX1_label_9 : decode cX1_label 9 = .ok (.ireturn, 1) := by decide +kernel
theorem dX1_label_10 : decode cX1_label 10 = .ok (.iload_n 2, 1) := by decide +kernel
theorem dX1_label_11 : decode cX1_label 11 = .ok (.iconst (-1), 1) := by decide +kernel
theorem dX1_label_12 : decode cX1_label 12 = .ok (.if_icmp .ne 10, 3) := by decide +kernel
theorem dX1_label_15 : decode cX1_label 15 = .ok (.aload_n 0, 1) := by decide +kernel
theorem dX1_label_16 : decode cX1_label 16 = .ok (.getfield 13, 3) := by decide +kernel
theorem dX1_label_19 : decode cX1_label 19 = .ok (.iload_n 1, 1) := by decide +kernel
theorem dX1_label_20 : decode cX1_label 20 = .ok (.iaload, 1) := by decide +kernel
theorem dX1_label_21 : decode cX1_label 21 = .ok (.ireturn, 1) := by decide +kernel
theorem dX1_label_22 : decode cX1_label 22 = .ok (.aload_n 0, 1) := by decide +kernel
theorem dX1_label_23 : decode cX1_label 23 = .ok (.iload_n 1, 1) := by decide +kernel
theorem dX1_label_24 : decode cX1_label 24 = .ok (.iload_n 2, 1) := by decide +kernel
theorem dX1_label_25 : decode cX1_label 25 = .ok (.invokevirtual 54, 3) := by decide +kernel
theorem dX1_label_28 : decode cX1_label 28 = .ok (.ifCond .eq 7, 3) := by decide +kernel
theorem dX1_label_31 : decode cX1_label 31 = .ok (.iconst 0, 1) := by decide +kernel
theorem dX1_label_32 : decode cX1_label 32 = .ok (.goto 13, 3) := by decide +kernel
theorem dX1_label_35 : decode cX1_label 35 = .ok (.aload_n 0, 1) := by decide +kernel
theorem dX1_label_36 : decode cX1_label 36 = .ok (.getfield 23, 3) := by decide +kernel
theorem dX1_label_39 : decode cX1_label 39 = .ok (.iconst 4, 1) := by decide +kernel
theorem dX1_label_40 : decode cX1_label 40 = .ok (.iload_n 1, 1) := by decide +kernel
theorem dX1_label_41 : decode cX1_label 41 = .ok (.imul, 1) := by decide +kernel
theorem dX1_label_42 : decode cX1_label 42 = .ok (.iload_n 2, 1) := by decide +kernel
theorem dX1_label_43 : decode cX1_label 43 = .ok (.iadd, 1) := by decide +kernel
theorem dX1_label_44 : decode cX1_label 44 = .ok (.iaload, 1) := by decide +kernel
theorem dX1_label_45 : decode cX1_label 45 = .ok (.ireturn, 1) := by decide +kernel
theorem dX1_sumByTag_0 : decode cX1_sumByTag 0 = .ok (.iconst 0, 1) := by decide +kernel
theorem dX1_sumByTag_1 : decode cX1_sumByTag 1 = .ok (.istore_n 2, 1) := by decide +kernel
theorem dX1_sumByTag_2 : decode cX1_sumByTag 2 = .ok (.iconst 0, 1) := by decide +kernel
theorem dX1_sumByTag_3 : decode cX1_sumByTag 3 = .ok (.istore_n 3, 1) := by decide +kernel
theorem dX1_sumByTag_4 : decode cX1_sumByTag 4 = .ok (.iload_n 3, 1) := by decide +kernel
theorem dX1_sumByTag_5 : decode cX1_sumByTag 5 = .ok (.iconst 4, 1) := by decide +kernel
theorem dX1_sumByTag_6 : decode cX1_sumByTag 6 = .ok (.aload_n 0, 1) := by decide +kernel
theorem dX1_sumByTag_7 : decode cX1_sumByTag 7 = .ok (.invokevirtual 46, 3) := by decide +kernel
theorem dX1_sumByTag_10 : decode cX1_sumByTag 10 = .ok (.imul, 1) := by decide +kernel
theorem dX1_sumByTag_11 : decode cX1_sumByTag 11 = .ok (.if_icmp .ge 94, 3) := by decide +kernel
theorem dX1_sumByTag_14 : decode cX1_sumByTag 14 = .ok (.iload_n 3, 1) := by decide +kernel
theorem dX1_sumByTag_15 : decode cX1_sumByTag 15 = .ok (.iconst 4, 1) := by decide +kernel
theorem dX1_sumByTag_16 : decode cX1_sumByTag 16 = .ok (.irem, 1) := by decide +kernel
theorem dX1_sumByTag_17 : decode cX1_sumByTag 17 = .ok (.aload_n 0, 1) := by decide +kernel
theorem dX1_sumByTag_18 : decode cX1_sumByTag 18 = .ok (.getfield 17, 3) := by decide +kernel
theorem dX1_sumByTag_21 : decode cX1_sumByTag 21 = .ok (.iload_n 3, 1) := by decide +kernel
theorem dX1_sumByTag_22 : decode cX1_sumByTag 22 = .ok (.iconst 4, 1) := by decide +kernel
theorem dX1_sumByTag_23 : decode cX1_sumByTag 23 = .ok (.idiv, 1) := by decide +kernel
theorem dX1_sumByTag_24 : decode cX1_sumByTag 24 = .ok (.iaload, 1) := by decide +kernel
theorem dX1_sumByTag_25 : decode cX1_sumByTag 25 = .ok (.if_icmp .ge 7, 3) := by decide +kernel
theorem dX1_sumByTag_28 : decode cX1_sumByTag 28 = .ok (.iconst 1, 1) := by decide +kernel
theorem dX1_sumByTag_29 : decode cX1_sumByTag 29 = .ok (.goto 4, 3) := by decide +kernel
theorem dX1_sumByTag_32 : decode cX1_sumByTag 32 = .ok (.iconst 0, 1) := by decide +kernel
theorem dX1_sumByTag_33 : decode cX1_sumByTag 33 = .ok (.istore 4, 2) := by decide +kernel
theorem dX1_sumByTag_35 : decode cX1_sumByTag 35 = .ok (.iconst 0, 1) := by decide +kernel
theorem dX1_sumByTag_36 : decode cX1_sumByTag 36 = .ok (.istore 5, 2) := by decide +kernel
theorem dX1_sumByTag_38 : decode cX1_sumByTag 38 = .ok (.iload 5, 2) := by decide +kernel
theorem dX1_sumByTag_40 : decode cX1_sumByTag 40 = .ok (.iconst 4, 1) := by decide +kernel
theorem dX1_sumByTag_41 : decode cX1_sumByTag 41 = .ok (.if_icmp .ge 58, 3) := by decide +kernel
theorem dX1_sumByTag_44 : decode cX1_sumByTag 44 = .ok (.iload 4, 2) := by decide +kernel
theorem dX1_sumByTag_46 : decode cX1_sumByTag 46 = .ok (.ifCond .eq 47, 3) := by decide +kernel
theorem dX1_sumByTag_49 : decode cX1_sumByTag 49 = .ok (.aload_n 0, 1) := by decide +kernel
theorem dX1_sumByTag_50 : decode cX1_sumByTag 50 = .ok (.getfield 20, 3) := by decide +kernel
theorem dX1_sumByTag_53 : decode cX1_sumByTag 53 = .ok (.iload_n 3, 1) := by decide +kernel
theorem dX1_sumByTag_54 : decode cX1_sumByTag 54 = .ok (.baload, 1) := by decide +kernel
theorem dX1_sumByTag_55 : decode cX1_sumByTag 55 = .ok (.ifCond .eq 38, 3) := by decide +kernel
theorem dX1_sumByTag_58 : decode cX1_sumByTag 58 = .ok (.aload_n 0, 1) := by decide +kernel
theorem dX1_sumByTag_59 : decode cX1_sumByTag 59 = .ok (.getfield 23, 3) := by decide +kernel
theorem dX1_sumByTag_62 : decode cX1_sumByTag 62 = .ok (.iload_n 3, 1) := by decide +kernel
theorem dX1_sumByTag_63 : decode cX1_sumByTag 63 = .ok (.iaload, 1) := by decide +kernel
theorem dX1_sumByTag_64 : decode cX1_sumByTag 64 = .ok (.iload_n 1, 1) := by decide +kernel
theorem dX1_sumByTag_65 : decode cX1_sumByTag 65 = .ok (.if_icmp .ne 28, 3) := by decide +kernel
theorem dX1_sumByTag_68 : decode cX1_sumByTag 68 = .ok (.iload 5, 2) := by decide +kernel
theorem dX1_sumByTag_70 : decode cX1_sumByTag 70 = .ok (.aload_n 0, 1) := by decide +kernel
theorem dX1_sumByTag_71 : decode cX1_sumByTag 71 = .ok (.getfield 26, 3) := by decide +kernel
theorem dX1_sumByTag_74 : decode cX1_sumByTag 74 = .ok (.iload_n 3, 1) := by decide +kernel
theorem dX1_sumByTag_75 : decode cX1_sumByTag 75 = .ok (.iaload, 1) := by decide +kernel
theorem dX1_sumByTag_76 : decode cX1_sumByTag 76 = .ok (.if_icmp .ge 17, 3) := by decide +kernel
theorem dX1_sumByTag_79 : decode cX1_sumByTag 79 = .ok (.iload_n 2, 1) := by decide +kernel
theorem dX1_sumByTag_80 : decode cX1_sumByTag 80 = .ok (.aload_n 0, 1) := by decide +kernel
theorem dX1_sumByTag_81 : decode cX1_sumByTag 81 = .ok (.getfield 29, 3) := by decide +kernel
theorem dX1_sumByTag_84 : decode cX1_sumByTag 84 = .ok (.iconst 4, 1) := by decide +kernel
theorem dX1_sumByTag_85 : decode cX1_sumByTag 85 = .ok (.iload_n 3, 1) := by decide +kernel
theorem dX1_sumByTag_86 : decode cX1_sumByTag 86 = .ok (.imul, 1) := by decide +kernel
theorem dX1_sumByTag_87 : decode cX1_sumByTag 87 = .ok (.iload 5, 2) := by decide +kernel
theorem dX1_sumByTag_89 : decode cX1_sumByTag 89 = .ok (.iadd, 1) := by decide +kernel
theorem dX1_sumByTag_90 : decode cX1_sumByTag 90 = .ok (.iaload, 1) := by decide +kernel
theorem dX1_sumByTag_91 : decode cX1_sumByTag 91 = .ok (.iadd, 1) := by decide +kernel
theorem dX1_sumByTag_92 : decode cX1_sumByTag 92 = .ok (.istore_n 2, 1) := by decide +kernel
theorem dX1_sumByTag_93 : decode cX1_sumByTag 93 = .ok (.iinc 5 1, 3) := by decide +kernel
theorem dX1_sumByTag_96 : decode cX1_sumByTag 96 = .ok (.goto (-58), 3) := by decide +kernel
theorem dX1_sumByTag_99 : decode cX1_sumByTag 99 = .ok (.iinc 3 1, 3) := by decide +kernel
theorem dX1_sumByTag_102 : decode cX1_sumByTag 102 = .ok (.goto (-98), 3) := by decide +kernel
theorem dX1_sumByTag_105 : decode cX1_sumByTag 105 = .ok (.iload_n 2, 1) := by decide +kernel
theorem dX1_sumByTag_106 : decode cX1_sumByTag 106 = .ok (.ireturn, 1) := by decide +kernel
theorem dX1_recordsWith_0 : decode cX1_recordsWith 0 = .ok (.iconst 0, 1) := by decide +kernel
theorem dX1_recordsWith_1 : decode cX1_recordsWith 1 = .ok (.istore_n 3, 1) := by decide +kernel
theorem dX1_recordsWith_2 : decode cX1_recordsWith 2 = .ok (.iconst 0, 1) := by decide +kernel
theorem dX1_recordsWith_3 : decode cX1_recordsWith 3 = .ok (.istore 4, 2) := by decide +kernel
theorem dX1_recordsWith_5 : decode cX1_recordsWith 5 = .ok (.iload 4, 2) := by decide +kernel
theorem dX1_recordsWith_7 : decode cX1_recordsWith 7 = .ok (.aload_n 0, 1) := by decide +kernel
theorem dX1_recordsWith_8 : decode cX1_recordsWith 8 = .ok (.invokevirtual 46, 3) := by decide +kernel
theorem dX1_recordsWith_11 : decode cX1_recordsWith 11 = .ok (.if_icmp .ge 23, 3) := by decide +kernel
theorem dX1_recordsWith_14 : decode cX1_recordsWith 14 = .ok (.aload_n 0, 1) := by decide +kernel
theorem dX1_recordsWith_15 : decode cX1_recordsWith 15 = .ok (.iload 4, 2) := by decide +kernel
theorem dX1_recordsWith_17 : decode cX1_recordsWith 17 = .ok (.iload_n 1, 1) := by decide +kernel
theorem dX1_recordsWith_18 : decode cX1_recordsWith 18 = .ok (.iload_n 2, 1) := by decide +kernel
theorem dX1_recordsWith_19 : decode cX1_recordsWith 19 = .ok (.invokevirtual 58, 3) := by decide +kernel
theorem dX1_recordsWith_22 : decode cX1_recordsWith 22 = .ok (.ifCond .eq 6, 3) := by decide +kernel
theorem dX1_recordsWith_25 : decode cX1_recordsWith 25 = .ok (.iinc 3 1, 3) := by decide +kernel
theorem dX1_recordsWith_28 : decode cX1_recordsWith 28 = .ok (.iinc 4 1, 3) := by decide +kernel
theorem dX1_recordsWith_31 : decode cX1_recordsWith 31 = .ok (.goto (-26), 3) := by decide +kernel
theorem dX1_recordsWith_34 : decode cX1_recordsWith 34 = .ok (.iload_n 3, 1) := by decide +kernel
theorem dX1_recordsWith_35 : decode cX1_recordsWith 35 = .ok (.ireturn, 1) := by decide +kernel
theorem dX1_holds_0 : decode cX1_holds 0 = .ok (.iconst 0, 1) := by decide +kernel
theorem dX1_holds_1 : decode cX1_holds 1 = .ok (.istore 4, 2) := by decide +kernel
theorem dX1_holds_3 : decode cX1_holds 3 = .ok (.iload 4, 2) := by decide +kernel
theorem dX1_holds_5 : decode cX1_holds 5 = .ok (.bipush 16, 2) := by decide +kernel
theorem dX1_holds_7 : decode cX1_holds 7 = .ok (.if_icmp .ge 82, 3) := by decide +kernel
theorem dX1_holds_10 : decode cX1_holds 10 = .ok (.iload 4, 2) := by decide +kernel
theorem dX1_holds_12 : decode cX1_holds 12 = .ok (.iconst 4, 1) := by decide +kernel
theorem dX1_holds_13 : decode cX1_holds 13 = .ok (.idiv, 1) := by decide +kernel
theorem dX1_holds_14 : decode cX1_holds 14 = .ok (.aload_n 0, 1) := by decide +kernel
theorem dX1_holds_15 : decode cX1_holds 15 = .ok (.getfield 17, 3) := by decide +kernel
theorem dX1_holds_18 : decode cX1_holds 18 = .ok (.iload_n 1, 1) := by decide +kernel
theorem dX1_holds_19 : decode cX1_holds 19 = .ok (.iaload, 1) := by decide +kernel
theorem dX1_holds_20 : decode cX1_holds 20 = .ok (.if_icmp .ge 27, 3) := by decide +kernel
theorem dX1_holds_23 : decode cX1_holds 23 = .ok (.iload 4, 2) := by decide +kernel
theorem dX1_holds_25 : decode cX1_holds 25 = .ok (.iconst 4, 1) := by decide +kernel
theorem dX1_holds_26 : decode cX1_holds 26 = .ok (.irem, 1) := by decide +kernel
theorem dX1_holds_27 : decode cX1_holds 27 = .ok (.aload_n 0, 1) := by decide +kernel
theorem dX1_holds_28 : decode cX1_holds 28 = .ok (.getfield 26, 3) := by decide +kernel
theorem dX1_holds_31 : decode cX1_holds 31 = .ok (.iconst 4, 1) := by decide +kernel
theorem dX1_holds_32 : decode cX1_holds 32 = .ok (.iload_n 1, 1) := by decide +kernel
theorem dX1_holds_33 : decode cX1_holds 33 = .ok (.imul, 1) := by decide +kernel
theorem dX1_holds_34 : decode cX1_holds 34 = .ok (.iload 4, 2) := by decide +kernel
theorem dX1_holds_36 : decode cX1_holds 36 = .ok (.iconst 4, 1) := by decide +kernel
theorem dX1_holds_37 : decode cX1_holds 37 = .ok (.idiv, 1) := by decide +kernel
theorem dX1_holds_38 : decode cX1_holds 38 = .ok (.iadd, 1) := by decide +kernel
theorem dX1_holds_39 : decode cX1_holds 39 = .ok (.iaload, 1) := by decide +kernel
theorem dX1_holds_40 : decode cX1_holds 40 = .ok (.if_icmp .ge 7, 3) := by decide +kernel
theorem dX1_holds_43 : decode cX1_holds 43 = .ok (.iconst 1, 1) := by decide +kernel
theorem dX1_holds_44 : decode cX1_holds 44 = .ok (.goto 4, 3) := by decide +kernel
theorem dX1_holds_47 : decode cX1_holds 47 = .ok (.iconst 0, 1) := by decide +kernel
theorem dX1_holds_48 : decode cX1_holds 48 = .ok (.istore 5, 2) := by decide +kernel
theorem dX1_holds_50 : decode cX1_holds 50 = .ok (.aload_n 0, 1) := by decide +kernel
theorem dX1_holds_51 : decode cX1_holds 51 = .ok (.getfield 29, 3) := by decide +kernel
theorem dX1_holds_54 : decode cX1_holds 54 = .ok (.bipush 16, 2) := by decide +kernel
theorem dX1_holds_56 : decode cX1_holds 56 = .ok (.iload_n 1, 1) := by decide +kernel
theorem dX1_holds_57 : decode cX1_holds 57 = .ok (.imul, 1) := by decide +kernel
theorem dX1_holds_58 : decode cX1_holds 58 = .ok (.iload 4, 2) := by decide +kernel
theorem dX1_holds_60 : decode cX1_holds 60 = .ok (.iadd, 1) := by decide +kernel
theorem dX1_holds_61 : decode cX1_holds 61 = .ok (.iaload, 1) := by decide +kernel
theorem dX1_holds_62 : decode cX1_holds 62 = .ok (.istore 6, 2) := by decide +kernel
theorem dX1_holds_64 : decode cX1_holds 64 = .ok (.iload 5, 2) := by decide +kernel
theorem dX1_holds_66 : decode cX1_holds 66 = .ok (.ifCond .eq 17, 3) := by decide +kernel
theorem dX1_holds_69 : decode cX1_holds 69 = .ok (.iload_n 2, 1) := by decide +kernel
theorem dX1_holds_70 : decode cX1_holds 70 = .ok (.iload 6, 2) := by decide +kernel
theorem dX1_holds_72 : decode cX1_holds 72 = .ok (.if_icmp .gt 11, 3) := by decide +kernel
theorem dX1_holds_75 : decode cX1_holds 75 = .ok (.iload 6, 2) := by decide +kernel
theorem dX1_holds_77 : decode cX1_holds 77 = .ok (.iload_n 3, 1) := by decide +kernel
theorem dX1_holds_78 : decode cX1_holds 78 = .ok (.if_icmp .gt 5, 3) := by decide +kernel
theorem dX1_holds_81 : decode cX1_holds 81 = .ok (.iconst 1, 1) := by decide +kernel
theorem dX1_holds_82 : decode cX1_holds 82 = .ok (.ireturn, 1) := by decide +kernel
theorem dX1_holds_83 : decode cX1_holds 83 = .ok (.iinc 4 1, 3) := by decide +kernel
theorem dX1_holds_86 : decode cX1_holds 86 = .ok (.goto (-83), 3) := by decide +kernel
theorem dX1_holds_89 : decode cX1_holds 89 = .ok (.iconst 0, 1) := by decide +kernel
theorem dX1_holds_90 : decode cX1_holds 90 = .ok (.ireturn, 1) := by decide +kernel
end
section
set_option maxRecDepth 100000
theorem dL_law_0 : decode cL_law 0 = .ok (.new 7, 3) := by decide +kernel
theorem dL_law_3 : decode cL_law 3 = .ok (.dup, 1) := by decide +kernel
theorem dL_law_4 : decode cL_law 4 = .ok (.invokespecial 9, 3) := by decide +kernel
theorem dL_law_7 : decode cL_law 7 = .ok (.astore_n 1, 1) := by decide +kernel
theorem dL_law_8 : decode cL_law 8 = .ok (.new 10, 3) := by decide +kernel
theorem dL_law_11 : decode cL_law 11 = .ok (.dup, 1) := by decide +kernel
theorem dL_law_12 : decode cL_law 12 = .ok (.invokespecial 12, 3) := by decide +kernel
theorem dL_law_15 : decode cL_law 15 = .ok (.astore_n 2, 1) := by decide +kernel
theorem dL_law_16 : decode cL_law 16 = .ok (.iconst 0, 1) := by decide +kernel
theorem dL_law_17 : decode cL_law 17 = .ok (.istore_n 3, 1) := by decide +kernel
theorem dL_law_18 : decode cL_law 18 = .ok (.iload_n 3, 1) := by decide +kernel
theorem dL_law_19 : decode cL_law 19 = .ok (.aload_n 0, 1) := by decide +kernel
theorem dL_law_20 : decode cL_law 20 = .ok (.arraylength, 1) := by decide +kernel
theorem dL_law_21 : decode cL_law 21 = .ok (.iconst 4, 1) := by decide +kernel
theorem dL_law_22 : decode cL_law 22 = .ok (.isub, 1) := by decide +kernel
theorem dL_law_23 : decode cL_law 23 = .ok (.if_icmp .gt 420, 3) := by decide +kernel
theorem dL_law_26 : decode cL_law 26 = .ok (.aload_n 0, 1) := by decide +kernel
theorem dL_law_27 : decode cL_law 27 = .ok (.iload_n 3, 1) := by decide +kernel
theorem dL_law_28 : decode cL_law 28 = .ok (.iaload, 1) := by decide +kernel
theorem dL_law_29 : decode cL_law 29 = .ok (.bipush 15, 2) := by decide +kernel
theorem dL_law_31 : decode cL_law 31 = .ok (.iand, 1) := by decide +kernel
theorem dL_law_32 : decode cL_law 32 = .ok (.tableswitch 405 0 10 #[60, 109, 158, 181, 194, 217, 250, 293, 316, 349, 372], 60) := by decide +kernel
theorem dL_law_92 : decode cL_law 92 = .ok (.aload_n 1, 1) := by decide +kernel
theorem dL_law_93 : decode cL_law 93 = .ok (.aload_n 0, 1) := by decide +kernel
theorem dL_law_94 : decode cL_law 94 = .ok (.iload_n 3, 1) := by decide +kernel
theorem dL_law_95 : decode cL_law 95 = .ok (.iconst 1, 1) := by decide +kernel
theorem dL_law_96 : decode cL_law 96 = .ok (.iadd, 1) := by decide +kernel
theorem dL_law_97 : decode cL_law 97 = .ok (.iaload, 1) := by decide +kernel
theorem dL_law_98 : decode cL_law 98 = .ok (.ifCond .eq 7, 3) := by decide +kernel
theorem dL_law_101 : decode cL_law 101 = .ok (.iconst 1, 1) := by decide +kernel
theorem dL_law_102 : decode cL_law 102 = .ok (.goto 4, 3) := by decide +kernel
theorem dL_law_105 : decode cL_law 105 = .ok (.iconst 0, 1) := by decide +kernel
theorem dL_law_106 : decode cL_law 106 = .ok (.aload_n 0, 1) := by decide +kernel
theorem dL_law_107 : decode cL_law 107 = .ok (.iload_n 3, 1) := by decide +kernel
theorem dL_law_108 : decode cL_law 108 = .ok (.iconst 2, 1) := by decide +kernel
theorem dL_law_109 : decode cL_law 109 = .ok (.iadd, 1) := by decide +kernel
theorem dL_law_110 : decode cL_law 110 = .ok (.iaload, 1) := by decide +kernel
theorem dL_law_111 : decode cL_law 111 = .ok (.invokevirtual 13, 3) := by decide +kernel
theorem dL_law_114 : decode cL_law 114 = .ok (.aload_n 2, 1) := by decide +kernel
theorem dL_law_115 : decode cL_law 115 = .ok (.aload_n 0, 1) := by decide +kernel
theorem dL_law_116 : decode cL_law 116 = .ok (.iload_n 3, 1) := by decide +kernel
theorem dL_law_117 : decode cL_law 117 = .ok (.iconst 1, 1) := by decide +kernel
theorem dL_law_118 : decode cL_law 118 = .ok (.iadd, 1) := by decide +kernel
theorem dL_law_119 : decode cL_law 119 = .ok (.iaload, 1) := by decide +kernel
theorem dL_law_120 : decode cL_law 120 = .ok (.ifCond .eq 7, 3) := by decide +kernel
theorem dL_law_123 : decode cL_law 123 = .ok (.iconst 1, 1) := by decide +kernel
theorem dL_law_124 : decode cL_law 124 = .ok (.goto 4, 3) := by decide +kernel
theorem dL_law_127 : decode cL_law 127 = .ok (.iconst 0, 1) := by decide +kernel
theorem dL_law_128 : decode cL_law 128 = .ok (.aload_n 0, 1) := by decide +kernel
theorem dL_law_129 : decode cL_law 129 = .ok (.iload_n 3, 1) := by decide +kernel
theorem dL_law_130 : decode cL_law 130 = .ok (.iconst 2, 1) := by decide +kernel
theorem dL_law_131 : decode cL_law 131 = .ok (.iadd, 1) := by decide +kernel
theorem dL_law_132 : decode cL_law 132 = .ok (.iaload, 1) := by decide +kernel
theorem dL_law_133 : decode cL_law 133 = .ok (.invokevirtual 17, 3) := by decide +kernel
theorem dL_law_136 : decode cL_law 136 = .ok (.if_icmp .eq 301, 3) := by decide +kernel
theorem dL_law_139 : decode cL_law 139 = .ok (.iconst 0, 1) := by decide +kernel
theorem dL_law_140 : decode cL_law 140 = .ok (.ireturn, 1) := by decide +kernel
theorem dL_law_141 : decode cL_law 141 = .ok (.aload_n 1, 1) := by decide +kernel
theorem dL_law_142 : decode cL_law 142 = .ok (.aload_n 0, 1) := by decide +kernel
theorem dL_law_143 : decode cL_law 143 = .ok (.iload_n 3, 1) := by decide +kernel
theorem dL_law_144 : decode cL_law 144 = .ok (.iconst 1, 1) := by decide +kernel
theorem dL_law_145 : decode cL_law 145 = .ok (.iadd, 1) := by decide +kernel
theorem dL_law_146 : decode cL_law 146 = .ok (.iaload, 1) := by decide +kernel
theorem dL_law_147 : decode cL_law 147 = .ok (.ifCond .eq 7, 3) := by decide +kernel
theorem dL_law_150 : decode cL_law 150 = .ok (.iconst 1, 1) := by decide +kernel
theorem dL_law_151 : decode cL_law 151 = .ok (.goto 4, 3) := by decide +kernel
theorem dL_law_154 : decode cL_law 154 = .ok (.iconst 0, 1) := by decide +kernel
theorem dL_law_155 : decode cL_law 155 = .ok (.aload_n 0, 1) := by decide +kernel
theorem dL_law_156 : decode cL_law 156 = .ok (.iload_n 3, 1) := by decide +kernel
theorem dL_law_157 : decode cL_law 157 = .ok (.iconst 2, 1) := by decide +kernel
theorem dL_law_158 : decode cL_law 158 = .ok (.iadd, 1) := by decide +kernel
theorem dL_law_159 : decode cL_law 159 = .ok (.iaload, 1) := by decide +kernel
theorem dL_law_160 : decode cL_law 160 = .ok (.invokevirtual 18, 3) := by decide +kernel
theorem dL_law_163 : decode cL_law 163 = .ok (.aload_n 2, 1) := by decide +kernel
theorem dL_law_164 : decode cL_law 164 = .ok (.aload_n 0, 1) := by decide +kernel
theorem dL_law_165 : decode cL_law 165 = .ok (.iload_n 3, 1) := by decide +kernel
theorem dL_law_166 : decode cL_law 166 = .ok (.iconst 1, 1) := by decide +kernel
theorem dL_law_167 : decode cL_law 167 = .ok (.iadd, 1) := by decide +kernel
theorem dL_law_168 : decode cL_law 168 = .ok (.iaload, 1) := by decide +kernel
theorem dL_law_169 : decode cL_law 169 = .ok (.ifCond .eq 7, 3) := by decide +kernel
theorem dL_law_172 : decode cL_law 172 = .ok (.iconst 1, 1) := by decide +kernel
theorem dL_law_173 : decode cL_law 173 = .ok (.goto 4, 3) := by decide +kernel
theorem dL_law_176 : decode cL_law 176 = .ok (.iconst 0, 1) := by decide +kernel
theorem dL_law_177 : decode cL_law 177 = .ok (.aload_n 0, 1) := by decide +kernel
theorem dL_law_178 : decode cL_law 178 = .ok (.iload_n 3, 1) := by decide +kernel
theorem dL_law_179 : decode cL_law 179 = .ok (.iconst 2, 1) := by decide +kernel
theorem dL_law_180 : decode cL_law 180 = .ok (.iadd, 1) := by decide +kernel
theorem dL_law_181 : decode cL_law 181 = .ok (.iaload, 1) := by decide +kernel
theorem dL_law_182 : decode cL_law 182 = .ok (.invokevirtual 21, 3) := by decide +kernel
theorem dL_law_185 : decode cL_law 185 = .ok (.if_icmp .eq 252, 3) := by decide +kernel
theorem dL_law_188 : decode cL_law 188 = .ok (.iconst 0, 1) := by decide +kernel
theorem dL_law_189 : decode cL_law 189 = .ok (.ireturn, 1) := by decide +kernel
theorem dL_law_190 : decode cL_law 190 = .ok (.aload_n 1, 1) := by decide +kernel
theorem dL_law_191 : decode cL_law 191 = .ok (.aload_n 0, 1) := by decide +kernel
theorem dL_law_192 : decode cL_law 192 = .ok (.iload_n 3, 1) := by decide +kernel
theorem dL_law_193 : decode cL_law 193 = .ok (.iconst 1, 1) := by decide +kernel
theorem dL_law_194 : decode cL_law 194 = .ok (.iadd, 1) := by decide +kernel
theorem dL_law_195 : decode cL_law 195 = .ok (.iaload, 1) := by decide +kernel
theorem dL_law_196 : decode cL_law 196 = .ok (.invokevirtual 22, 3) := by decide +kernel
theorem dL_law_199 : decode cL_law 199 = .ok (.aload_n 2, 1) := by decide +kernel
theorem dL_law_200 : decode cL_law 200 = .ok (.aload_n 0, 1) := by decide +kernel
theorem dL_law_201 : decode cL_law 201 = .ok (.iload_n 3, 1) := by decide +kernel
theorem dL_law_202 : decode cL_law 202 = .ok (.iconst 1, 1) := by decide +kernel
theorem dL_law_203 : decode cL_law 203 = .ok (.iadd, 1) := by decide +kernel
theorem dL_law_204 : decode cL_law 204 = .ok (.iaload, 1) := by decide +kernel
theorem dL_law_205 : decode cL_law 205 = .ok (.invokevirtual 26, 3) := by decide +kernel
theorem dL_law_208 : decode cL_law 208 = .ok (.if_icmp .eq 229, 3) := by decide +kernel
theorem dL_law_211 : decode cL_law 211 = .ok (.iconst 0, 1) := by decide +kernel
theorem dL_law_212 : decode cL_law 212 = .ok (.ireturn, 1) := by decide +kernel
theorem dL_law_213 : decode cL_law 213 = .ok (.aload_n 1, 1) := by decide +kernel
theorem dL_law_214 : decode cL_law 214 = .ok (.invokevirtual 27, 3) := by decide +kernel
theorem dL_law_217 : decode cL_law 217 = .ok (.aload_n 2, 1) := by decide +kernel
theorem dL_law_218 : decode cL_law 218 = .ok (.invokevirtual 31, 3) := by decide +kernel
theorem dL_law_221 : decode cL_law 221 = .ok (.if_icmp .eq 216, 3) := by decide +kernel
theorem dL_law_224 : decode cL_law 224 = .ok (.iconst 0, 1) := by decide +kernel
theorem dL_law_225 : decode cL_law 225 = .ok (.ireturn, 1) := by decide +kernel
theorem dL_law_226 : decode cL_law 226 = .ok (.aload_n 1, 1) := by decide +kernel
theorem dL_law_227 : decode cL_law 227 = .ok (.aload_n 0, 1) := by decide +kernel
theorem dL_law_228 : decode cL_law 228 = .ok (.iload_n 3, 1) := by decide +kernel
theorem dL_law_229 : decode cL_law 229 = .ok (.iconst 1, 1) := by decide +kernel
theorem dL_law_230 : decode cL_law 230 = .ok (.iadd, 1) := by decide +kernel
theorem dL_law_231 : decode cL_law 231 = .ok (.iaload, 1) := by decide +kernel
theorem dL_law_232 : decode cL_law 232 = .ok (.invokevirtual 32, 3) := by decide +kernel
theorem dL_law_235 : decode cL_law 235 = .ok (.aload_n 2, 1) := by decide +kernel
theorem dL_law_236 : decode cL_law 236 = .ok (.aload_n 0, 1) := by decide +kernel
theorem dL_law_237 : decode cL_law 237 = .ok (.iload_n 3, 1) := by decide +kernel
theorem dL_law_238 : decode cL_law 238 = .ok (.iconst 1, 1) := by decide +kernel
theorem dL_law_239 : decode cL_law 239 = .ok (.iadd, 1) := by decide +kernel
theorem dL_law_240 : decode cL_law 240 = .ok (.iaload, 1) := by decide +kernel
theorem dL_law_241 : decode cL_law 241 = .ok (.invokevirtual 35, 3) := by decide +kernel
theorem dL_law_244 : decode cL_law 244 = .ok (.if_icmp .eq 193, 3) := by decide +kernel
theorem dL_law_247 : decode cL_law 247 = .ok (.iconst 0, 1) := by decide +kernel
theorem dL_law_248 : decode cL_law 248 = .ok (.ireturn, 1) := by decide +kernel
theorem dL_law_249 : decode cL_law 249 = .ok (.aload_n 1, 1) := by decide +kernel
theorem dL_law_250 : decode cL_law 250 = .ok (.aload_n 0, 1) := by decide +kernel
theorem dL_law_251 : decode cL_law 251 = .ok (.iload_n 3, 1) := by decide +kernel
theorem dL_law_252 : decode cL_law 252 = .ok (.iconst 1, 1) := by decide +kernel
theorem dL_law_253 : decode cL_law 253 = .ok (.iadd, 1) := by decide +kernel
theorem dL_law_254 : decode cL_law 254 = .ok (.iaload, 1) := by decide +kernel
theorem dL_law_255 : decode cL_law 255 = .ok (.aload_n 0, 1) := by decide +kernel
theorem dL_law_256 : decode cL_law 256 = .ok (.iload_n 3, 1) := by decide +kernel
theorem dL_law_257 : decode cL_law 257 = .ok (.iconst 2, 1) := by decide +kernel
theorem dL_law_258 : decode cL_law 258 = .ok (.iadd, 1) := by decide +kernel
theorem dL_law_259 : decode cL_law 259 = .ok (.iaload, 1) := by decide +kernel
theorem dL_law_260 : decode cL_law 260 = .ok (.invokevirtual 36, 3) := by decide +kernel
theorem dL_law_263 : decode cL_law 263 = .ok (.aload_n 2, 1) := by decide +kernel
theorem dL_law_264 : decode cL_law 264 = .ok (.aload_n 0, 1) := by decide +kernel
theorem dL_law_265 : decode cL_law 265 = .ok (.iload_n 3, 1) := by decide +kernel
theorem dL_law_266 : decode cL_law 266 = .ok (.iconst 1, 1) := by decide +kernel
theorem dL_law_267 : decode cL_law 267 = .ok (.iadd, 1) := by decide +kernel
theorem dL_law_268 : decode cL_law 268 = .ok (.iaload, 1) := by decide +kernel
theorem dL_law_269 : decode cL_law 269 = .ok (.aload_n 0, 1) := by decide +kernel
theorem dL_law_270 : decode cL_law 270 = .ok (.iload_n 3, 1) := by decide +kernel
theorem dL_law_271 : decode cL_law 271 = .ok (.iconst 2, 1) := by decide +kernel
theorem dL_law_272 : decode cL_law 272 = .ok (.iadd, 1) := by decide +kernel
theorem dL_law_273 : decode cL_law 273 = .ok (.iaload, 1) := by decide +kernel
theorem dL_law_274 : decode cL_law 274 = .ok (.invokevirtual 40, 3) := by decide +kernel
theorem dL_law_277 : decode cL_law 277 = .ok (.if_icmp .eq 160, 3) := by decide +kernel
theorem dL_law_280 : decode cL_law 280 = .ok (.iconst 0, 1) := by decide +kernel
theorem dL_law_281 : decode cL_law 281 = .ok (.ireturn, 1) := by decide +kernel
theorem dL_law_282 : decode cL_law 282 = .ok (.aload_n 1, 1) := by decide +kernel
theorem dL_law_283 : decode cL_law 283 = .ok (.aload_n 0, 1) := by decide +kernel
theorem dL_law_284 : decode cL_law 284 = .ok (.iload_n 3, 1) := by decide +kernel
theorem dL_law_285 : decode cL_law 285 = .ok (.iconst 1, 1) := by decide +kernel
theorem dL_law_286 : decode cL_law 286 = .ok (.iadd, 1) := by decide +kernel
theorem dL_law_287 : decode cL_law 287 = .ok (.iaload, 1) := by decide +kernel
theorem dL_law_288 : decode cL_law 288 = .ok (.aload_n 0, 1) := by decide +kernel
theorem dL_law_289 : decode cL_law 289 = .ok (.iload_n 3, 1) := by decide +kernel
theorem dL_law_290 : decode cL_law 290 = .ok (.iconst 2, 1) := by decide +kernel
theorem dL_law_291 : decode cL_law 291 = .ok (.iadd, 1) := by decide +kernel
theorem dL_law_292 : decode cL_law 292 = .ok (.iaload, 1) := by decide +kernel
theorem dL_law_293 : decode cL_law 293 = .ok (.aload_n 0, 1) := by decide +kernel
theorem dL_law_294 : decode cL_law 294 = .ok (.iload_n 3, 1) := by decide +kernel
theorem dL_law_295 : decode cL_law 295 = .ok (.iconst 3, 1) := by decide +kernel
theorem dL_law_296 : decode cL_law 296 = .ok (.iadd, 1) := by decide +kernel
theorem dL_law_297 : decode cL_law 297 = .ok (.iaload, 1) := by decide +kernel
theorem dL_law_298 : decode cL_law 298 = .ok (.invokevirtual 41, 3) := by decide +kernel
theorem dL_law_301 : decode cL_law 301 = .ok (.aload_n 2, 1) := by decide +kernel
theorem dL_law_302 : decode cL_law 302 = .ok (.aload_n 0, 1) := by decide +kernel
theorem dL_law_303 : decode cL_law 303 = .ok (.iload_n 3, 1) := by decide +kernel
theorem dL_law_304 : decode cL_law 304 = .ok (.iconst 1, 1) := by decide +kernel
theorem dL_law_305 : decode cL_law 305 = .ok (.iadd, 1) := by decide +kernel
theorem dL_law_306 : decode cL_law 306 = .ok (.iaload, 1) := by decide +kernel
theorem dL_law_307 : decode cL_law 307 = .ok (.aload_n 0, 1) := by decide +kernel
theorem dL_law_308 : decode cL_law 308 = .ok (.iload_n 3, 1) := by decide +kernel
theorem dL_law_309 : decode cL_law 309 = .ok (.iconst 2, 1) := by decide +kernel
theorem dL_law_310 : decode cL_law 310 = .ok (.iadd, 1) := by decide +kernel
theorem dL_law_311 : decode cL_law 311 = .ok (.iaload, 1) := by decide +kernel
theorem dL_law_312 : decode cL_law 312 = .ok (.aload_n 0, 1) := by decide +kernel
theorem dL_law_313 : decode cL_law 313 = .ok (.iload_n 3, 1) := by decide +kernel
theorem dL_law_314 : decode cL_law 314 = .ok (.iconst 3, 1) := by decide +kernel
theorem dL_law_315 : decode cL_law 315 = .ok (.iadd, 1) := by decide +kernel
theorem dL_law_316 : decode cL_law 316 = .ok (.iaload, 1) := by decide +kernel
theorem dL_law_317 : decode cL_law 317 = .ok (.invokevirtual 45, 3) := by decide +kernel
theorem dL_law_320 : decode cL_law 320 = .ok (.if_icmp .eq 117, 3) := by decide +kernel
theorem dL_law_323 : decode cL_law 323 = .ok (.iconst 0, 1) := by decide +kernel
theorem dL_law_324 : decode cL_law 324 = .ok (.ireturn, 1) := by decide +kernel
theorem dL_law_325 : decode cL_law 325 = .ok (.aload_n 1, 1) := by decide +kernel
theorem dL_law_326 : decode cL_law 326 = .ok (.aload_n 0, 1) := by decide +kernel
theorem dL_law_327 : decode cL_law 327 = .ok (.iload_n 3, 1) := by decide +kernel
theorem dL_law_328 : decode cL_law 328 = .ok (.iconst 1, 1) := by decide +kernel
theorem dL_law_329 : decode cL_law 329 = .ok (.iadd, 1) := by decide +kernel
theorem dL_law_330 : decode cL_law 330 = .ok (.iaload, 1) := by decide +kernel
theorem dL_law_331 : decode cL_law 331 = .ok (.invokevirtual 46, 3) := by decide +kernel
theorem dL_law_334 : decode cL_law 334 = .ok (.aload_n 2, 1) := by decide +kernel
theorem dL_law_335 : decode cL_law 335 = .ok (.aload_n 0, 1) := by decide +kernel
theorem dL_law_336 : decode cL_law 336 = .ok (.iload_n 3, 1) := by decide +kernel
theorem dL_law_337 : decode cL_law 337 = .ok (.iconst 1, 1) := by decide +kernel
theorem dL_law_338 : decode cL_law 338 = .ok (.iadd, 1) := by decide +kernel
theorem dL_law_339 : decode cL_law 339 = .ok (.iaload, 1) := by decide +kernel
theorem dL_law_340 : decode cL_law 340 = .ok (.invokevirtual 49, 3) := by decide +kernel
theorem dL_law_343 : decode cL_law 343 = .ok (.if_icmp .eq 94, 3) := by decide +kernel
theorem dL_law_346 : decode cL_law 346 = .ok (.iconst 0, 1) := by decide +kernel
theorem dL_law_347 : decode cL_law 347 = .ok (.ireturn, 1) := by decide +kernel
theorem dL_law_348 : decode cL_law 348 = .ok (.aload_n 1, 1) := by decide +kernel
theorem dL_law_349 : decode cL_law 349 = .ok (.aload_n 0, 1) := by decide +kernel
theorem dL_law_350 : decode cL_law 350 = .ok (.iload_n 3, 1) := by decide +kernel
theorem dL_law_351 : decode cL_law 351 = .ok (.iconst 1, 1) := by decide +kernel
theorem dL_law_352 : decode cL_law 352 = .ok (.iadd, 1) := by decide +kernel
theorem dL_law_353 : decode cL_law 353 = .ok (.iaload, 1) := by decide +kernel
theorem dL_law_354 : decode cL_law 354 = .ok (.aload_n 0, 1) := by decide +kernel
theorem dL_law_355 : decode cL_law 355 = .ok (.iload_n 3, 1) := by decide +kernel
theorem dL_law_356 : decode cL_law 356 = .ok (.iconst 2, 1) := by decide +kernel
theorem dL_law_357 : decode cL_law 357 = .ok (.iadd, 1) := by decide +kernel
theorem dL_law_358 : decode cL_law 358 = .ok (.iaload, 1) := by decide +kernel
theorem dL_law_359 : decode cL_law 359 = .ok (.invokevirtual 50, 3) := by decide +kernel
theorem dL_law_362 : decode cL_law 362 = .ok (.aload_n 2, 1) := by decide +kernel
theorem dL_law_363 : decode cL_law 363 = .ok (.aload_n 0, 1) := by decide +kernel
theorem dL_law_364 : decode cL_law 364 = .ok (.iload_n 3, 1) := by decide +kernel
theorem dL_law_365 : decode cL_law 365 = .ok (.iconst 1, 1) := by decide +kernel
theorem dL_law_366 : decode cL_law 366 = .ok (.iadd, 1) := by decide +kernel
theorem dL_law_367 : decode cL_law 367 = .ok (.iaload, 1) := by decide +kernel
theorem dL_law_368 : decode cL_law 368 = .ok (.aload_n 0, 1) := by decide +kernel
theorem dL_law_369 : decode cL_law 369 = .ok (.iload_n 3, 1) := by decide +kernel
theorem dL_law_370 : decode cL_law 370 = .ok (.iconst 2, 1) := by decide +kernel
theorem dL_law_371 : decode cL_law 371 = .ok (.iadd, 1) := by decide +kernel
theorem dL_law_372 : decode cL_law 372 = .ok (.iaload, 1) := by decide +kernel
theorem dL_law_373 : decode cL_law 373 = .ok (.invokevirtual 53, 3) := by decide +kernel
theorem dL_law_376 : decode cL_law 376 = .ok (.if_icmp .eq 61, 3) := by decide +kernel
theorem dL_law_379 : decode cL_law 379 = .ok (.iconst 0, 1) := by decide +kernel
theorem dL_law_380 : decode cL_law 380 = .ok (.ireturn, 1) := by decide +kernel
theorem dL_law_381 : decode cL_law 381 = .ok (.aload_n 1, 1) := by decide +kernel
theorem dL_law_382 : decode cL_law 382 = .ok (.aload_n 0, 1) := by decide +kernel
theorem dL_law_383 : decode cL_law 383 = .ok (.iload_n 3, 1) := by decide +kernel
theorem dL_law_384 : decode cL_law 384 = .ok (.iconst 1, 1) := by decide +kernel
theorem dL_law_385 : decode cL_law 385 = .ok (.iadd, 1) := by decide +kernel
theorem dL_law_386 : decode cL_law 386 = .ok (.iaload, 1) := by decide +kernel
theorem dL_law_387 : decode cL_law 387 = .ok (.invokevirtual 54, 3) := by decide +kernel
theorem dL_law_390 : decode cL_law 390 = .ok (.aload_n 2, 1) := by decide +kernel
theorem dL_law_391 : decode cL_law 391 = .ok (.aload_n 0, 1) := by decide +kernel
theorem dL_law_392 : decode cL_law 392 = .ok (.iload_n 3, 1) := by decide +kernel
theorem dL_law_393 : decode cL_law 393 = .ok (.iconst 1, 1) := by decide +kernel
theorem dL_law_394 : decode cL_law 394 = .ok (.iadd, 1) := by decide +kernel
theorem dL_law_395 : decode cL_law 395 = .ok (.iaload, 1) := by decide +kernel
theorem dL_law_396 : decode cL_law 396 = .ok (.invokevirtual 57, 3) := by decide +kernel
theorem dL_law_399 : decode cL_law 399 = .ok (.if_icmp .eq 38, 3) := by decide +kernel
theorem dL_law_402 : decode cL_law 402 = .ok (.iconst 0, 1) := by decide +kernel
theorem dL_law_403 : decode cL_law 403 = .ok (.ireturn, 1) := by decide +kernel
theorem dL_law_404 : decode cL_law 404 = .ok (.aload_n 1, 1) := by decide +kernel
theorem dL_law_405 : decode cL_law 405 = .ok (.aload_n 0, 1) := by decide +kernel
theorem dL_law_406 : decode cL_law 406 = .ok (.iload_n 3, 1) := by decide +kernel
theorem dL_law_407 : decode cL_law 407 = .ok (.iconst 1, 1) := by decide +kernel
theorem dL_law_408 : decode cL_law 408 = .ok (.iadd, 1) := by decide +kernel
theorem dL_law_409 : decode cL_law 409 = .ok (.iaload, 1) := by decide +kernel
theorem dL_law_410 : decode cL_law 410 = .ok (.aload_n 0, 1) := by decide +kernel
theorem dL_law_411 : decode cL_law 411 = .ok (.iload_n 3, 1) := by decide +kernel
theorem dL_law_412 : decode cL_law 412 = .ok (.iconst 2, 1) := by decide +kernel
theorem dL_law_413 : decode cL_law 413 = .ok (.iadd, 1) := by decide +kernel
theorem dL_law_414 : decode cL_law 414 = .ok (.iaload, 1) := by decide +kernel
theorem dL_law_415 : decode cL_law 415 = .ok (.invokevirtual 58, 3) := by decide +kernel
theorem dL_law_418 : decode cL_law 418 = .ok (.aload_n 2, 1) := by decide +kernel
theorem dL_law_419 : decode cL_law 419 = .ok (.aload_n 0, 1) := by decide +kernel
theorem dL_law_420 : decode cL_law 420 = .ok (.iload_n 3, 1) := by decide +kernel
theorem dL_law_421 : decode cL_law 421 = .ok (.iconst 1, 1) := by decide +kernel
theorem dL_law_422 : decode cL_law 422 = .ok (.iadd, 1) := by decide +kernel
theorem dL_law_423 : decode cL_law 423 = .ok (.iaload, 1) := by decide +kernel
theorem dL_law_424 : decode cL_law 424 = .ok (.aload_n 0, 1) := by decide +kernel
theorem dL_law_425 : decode cL_law 425 = .ok (.iload_n 3, 1) := by decide +kernel
theorem dL_law_426 : decode cL_law 426 = .ok (.iconst 2, 1) := by decide +kernel
theorem dL_law_427 : decode cL_law 427 = .ok (.iadd, 1) := by decide +kernel
theorem dL_law_428 : decode cL_law 428 = .ok (.iaload, 1) := by decide +kernel
theorem dL_law_429 : decode cL_law 429 = .ok (.invokevirtual 61, 3) := by decide +kernel
theorem dL_law_432 : decode cL_law 432 = .ok (.if_icmp .eq 5, 3) := by decide +kernel
theorem dL_law_435 : decode cL_law 435 = .ok (.iconst 0, 1) := by decide +kernel
theorem dL_law_436 : decode cL_law 436 = .ok (.ireturn, 1) := by decide +kernel
theorem dL_law_437 : decode cL_law 437 = .ok (.iinc 3 4, 3) := by decide +kernel
theorem dL_law_440 : decode cL_law 440 = .ok (.goto (-422), 3) := by decide +kernel
theorem dL_law_443 : decode cL_law 443 = .ok (.iconst 1, 1) := by decide +kernel
theorem dL_law_444 : decode cL_law 444 = .ok (.ireturn, 1) := by decide +kernel
end
section
set_option maxRecDepth 100000
/-! the classes, the worlds of the two objects, and rows over the kit's rows -/
abbrev vwCl : List vw_C := [(RX0, TX0, 21), (RX1, TX1, 11)]
abbrev SX : Type := (Nat → Nat) × (Nat → Nat → Int32)
/-- the fields of a DremelStore: n k the number in slot k, q j the address of cell j -/
def fX0 (q : Nat → Nat) (n : Nat → Nat) : List Value := [.int (nI (n 0)), .int (nI (n 1)), .int (nI (n 2)), .ref (q 1), .ref (q 2), .int (nI (n 5)), .int (nI (n 6)), .ref (q 3), .ref (q 4), .ref (q 5), .int (nI (n 10)), .int (nI (n 11)), .ref (q 6), .ref (q 7), .ref (q 8), .int (nI (n 15)), .int (nI (n 16)), .int (nI (n 17)), .int (nI (n 18)), .int (nI (n 19)), .int (nI (n 20))]
/-- a DremelStore: the object and its eight arrays -/
def WX0 (cB cI : ClassId) (q : Nat → Nat) (n : Nat → Nat) (a : Nat → Nat → Int32) : va_W := [(q 0, .inr (0, fX0 q n)), (q 1, .inl (cB, 12, .inl (a 1))), (q 2, .inl (cI, 12, .inl (a 2))), (q 3, .inl (cI, 52, .inl (a 3))), (q 4, .inl (cI, 52, .inl (a 4))), (q 5, .inl (cI, 40, .inl (a 5))), (q 6, .inl (cI, 112, .inl (a 6))), (q 7, .inl (cI, 112, .inl (a 7))), (q 8, .inl (cI, 60, .inl (a 8)))]
def fX1 (q : Nat → Nat) (n : Nat → Nat) : List Value := [.int (nI (n 0)), .int (nI (n 1)), .int (nI (n 2)), .int (nI (n 3)), .ref (q 1), .ref (q 2), .ref (q 3), .ref (q 4), .ref (q 5), .ref (q 6), .ref (q 7)]
/-- a DremelStoreModel: the object and its seven arrays -/
def WX1 (cB cI : ClassId) (q : Nat → Nat) (n : Nat → Nat) (a : Nat → Nat → Int32) : va_W := [(q 0, .inr (1, fX1 q n)), (q 1, .inl (cB, 12, .inl (a 1))), (q 2, .inl (cI, 12, .inl (a 2))), (q 3, .inl (cI, 12, .inl (a 3))), (q 4, .inl (cB, 48, .inl (a 4))), (q 5, .inl (cI, 48, .inl (a 5))), (q 6, .inl (cI, 48, .inl (a 6))), (q 7, .inl (cI, 192, .inl (a 7)))]
theorem TX0_1 (k : Nat) : (TX0 k).1 = RX0 := by
  unfold TX0
  split <;> rfl
theorem TX1_1 (k : Nat) : (TX1 k).1 = RX1 := by
  unfold TX1
  split <;> rfl
/-- a number that begins at minus one -/
def mI (k : Nat) : Int32 := nI k - 1
theorem mI_0 : mI 0 = -1 := by decide
theorem mI_1 (k : Nat) : mI k + 1 = mI (k + 1) := by
  unfold mI
  rw [← nI_1]
  grind
theorem mI_add (k j : Nat) : mI k + nI j = mI (k + j) := by
  unfold mI
  rw [← nI_add]
  grind
theorem mI_s (k : Nat) : mI (k + 1) = nI k := by
  unfold mI
  rw [← nI_1]
  grind
theorem mI_toInt {k : Nat} (h : k < 2 ^ 30) : (mI k).toInt = (k : Int) - 1 := by
  unfold mI
  exact pk_sub_toInt (a := k) (b := 1) h (by decide)
theorem mI_eqn {k j : Nat} (hk : k < 2 ^ 30) (hj : j < 2 ^ 30) : mI k = nI j ↔ k = j + 1 := by
  rw [← Int32.toInt_inj, mI_toInt hk, nI_toInt (by omega)]
  omega
theorem mI_eqm {k j : Nat} (hk : k < 2 ^ 30) (hj : j < 2 ^ 30) : mI k = mI j ↔ k = j := by
  rw [← Int32.toInt_inj, mI_toInt hk, mI_toInt hj]
  omega
theorem mI_len {k j : Nat} (hk : k < 2 ^ 30) (hj : j < 2 ^ 30) : nI j ≤ mI k ↔ j + 1 ≤ k := by
  rw [Int32.le_iff_toInt_le, mI_toInt hk, nI_toInt (by omega)]
  omega
section XS
variable {p : Program} {l : Launch} {e : Env} {R : Room} {s : State} {m : MethodId} {args : Array Value} {below : List Frame} {meth : Method} {c : Code} {H : Heap} {locs : List Loc} {cells slots : Nat} {Q : State → Prop}
variable {cc : ByteArray} {pc : Nat} {ls : Array Slot} {rest : List Value} {D : va_G} {cl : List vw_C} {A : Nat → Prop} {ad : Nat} {tys : List (ClassId × FieldType)} {ws : va_W} {H0 : Heap}
variable {dC : Nat → ClassId} {dI : Nat → Nat → Nat} {cB cI : ClassId} {q : Nat → Nat} {n : Nat → Nat} {a : Nat → Nat → Int32}
theorem gX0 (hx : p.tables.exec = Jvm.exec) (hb : c.code = cc) (hts : ∀ w ∈ lw_all, w.before args s = true) (hown : s.vm.findClass RX0 = some m.cls) (hK : va_K (dC, dI) vwCl tys s) (hP : va_P (dC, dI) vwCl (WX0 cB cI q n a) H) (k : Nat) (hk : k < 21) {index : Nat} (hl : (Cond.fieldLink RX0 index RX0 (TX0 k).2.1 (TX0 k).2.2.1) ∈ lw_all) {v : Value} (hv : (fX0 q n)[k]? = some v) (hdg : decode cc pc = .ok (.getfield index, 3)) (kk : W p l e R s m args below meth c H locs cells slots Q (F0 m (pc + 3) ls (v :: rest))) : W p l e R s m args below meth c H locs cells slots Q (F0 m pc ls (.ref (q 0) :: rest)) :=
  va_get (D := (dC, dI)) (ci := 0) (C := RX0) (T := TX0) (N := 21) hx hb hts in_X0 hown hK hP 0 rfl rfl k hk (hts _ hl) (fun x h => by rw [TX0_1 k] at h; exact h) hv hdg kk
theorem pX0 (hx : p.tables.exec = Jvm.exec) (hb : c.code = cc) (hts : ∀ w ∈ lw_all, w.before args s = true) (hown : s.vm.findClass RX0 = some m.cls) (hK : va_K (dC, dI) vwCl tys s) (hP : va_P (dC, dI) vwCl (WX0 cB cI q n a) H) (hD : va_D A (WX0 cB cI q n a)) (hS : va_S A H0 H locs) (k : Nat) (hk : k < 21) {index : Nat} (hl : (Cond.fieldLink RX0 index RX0 (TX0 k).2.1 (TX0 k).2.2.1) ∈ lw_all) (hfin : (TX0 k).2.2.2 = false) {ty : FieldType} {x : Nat} {n' : Nat → Nat} (hd : parseFieldDescriptor (TX0 k).2.2.1 = some ty) (hn : narrow ty (.int (nI x)) = .int (nI x)) (hfit : fits ty (.int (nI x)) = true) (hset : (fX0 q n).set k (.int (nI x)) = fX0 q n') (hdg : decode cc pc = .ok (.putfield index, 3)) (kk : ∀ (H1 : Heap) (locs1 : List Loc), va_P (dC, dI) vwCl (WX0 cB cI q n' a) H1 → va_D A (WX0 cB cI q n' a) → va_S A H0 H1 locs1 → W p l e R s m args below meth c H1 locs1 cells slots Q (F0 m (pc + 3) ls rest)) : W p l e R s m args below meth c H locs cells slots Q (F0 m pc ls (.int (nI x) :: .ref (q 0) :: rest)) := by
  refine va_put (D := (dC, dI)) (ci := 0) (ty := ty) (C := RX0) (T := TX0) (N := 21) hx hb hts in_X0 tyX0 tyX0_ok nmX0 hown hK hP hD hS 0 rfl rfl k hk (hts _ hl) (fun x h => by rw [TX0_1 k] at h; exact h) hfin hd hn hfit hk hdg (fun H1 locs1 hP hD hS => ?_)
  have e : (WX0 cB cI q n a).set 0 (q 0, .inr (0, (fX0 q n).set k (.int (nI x)))) = WX0 cB cI q n' a := by rw [hset]; rfl
  rw [e] at hP hD
  exact kk H1 locs1 hP hD hS
theorem gX1 (hx : p.tables.exec = Jvm.exec) (hb : c.code = cc) (hts : ∀ w ∈ lw_all, w.before args s = true) (hown : s.vm.findClass RX1 = some m.cls) (hK : va_K (dC, dI) vwCl tys s) (hP : va_P (dC, dI) vwCl (WX1 cB cI q n a) H) (k : Nat) (hk : k < 11) {index : Nat} (hl : (Cond.fieldLink RX1 index RX1 (TX1 k).2.1 (TX1 k).2.2.1) ∈ lw_all) {v : Value} (hv : (fX1 q n)[k]? = some v) (hdg : decode cc pc = .ok (.getfield index, 3)) (kk : W p l e R s m args below meth c H locs cells slots Q (F0 m (pc + 3) ls (v :: rest))) : W p l e R s m args below meth c H locs cells slots Q (F0 m pc ls (.ref (q 0) :: rest)) :=
  va_get (D := (dC, dI)) (ci := 1) (C := RX1) (T := TX1) (N := 11) hx hb hts in_X1 hown hK hP 0 rfl rfl k hk (hts _ hl) (fun x h => by rw [TX1_1 k] at h; exact h) hv hdg kk
theorem pX1 (hx : p.tables.exec = Jvm.exec) (hb : c.code = cc) (hts : ∀ w ∈ lw_all, w.before args s = true) (hown : s.vm.findClass RX1 = some m.cls) (hK : va_K (dC, dI) vwCl tys s) (hP : va_P (dC, dI) vwCl (WX1 cB cI q n a) H) (hD : va_D A (WX1 cB cI q n a)) (hS : va_S A H0 H locs) (k : Nat) (hk : k < 11) {index : Nat} (hl : (Cond.fieldLink RX1 index RX1 (TX1 k).2.1 (TX1 k).2.2.1) ∈ lw_all) (hfin : (TX1 k).2.2.2 = false) {ty : FieldType} {x : Nat} {n' : Nat → Nat} (hd : parseFieldDescriptor (TX1 k).2.2.1 = some ty) (hn : narrow ty (.int (nI x)) = .int (nI x)) (hfit : fits ty (.int (nI x)) = true) (hset : (fX1 q n).set k (.int (nI x)) = fX1 q n') (hdg : decode cc pc = .ok (.putfield index, 3)) (kk : ∀ (H1 : Heap) (locs1 : List Loc), va_P (dC, dI) vwCl (WX1 cB cI q n' a) H1 → va_D A (WX1 cB cI q n' a) → va_S A H0 H1 locs1 → W p l e R s m args below meth c H1 locs1 cells slots Q (F0 m (pc + 3) ls rest)) : W p l e R s m args below meth c H locs cells slots Q (F0 m pc ls (.int (nI x) :: .ref (q 0) :: rest)) := by
  refine va_put (D := (dC, dI)) (ci := 1) (ty := ty) (C := RX1) (T := TX1) (N := 11) hx hb hts in_X1 tyX1 tyX1_ok nmX1 hown hK hP hD hS 0 rfl rfl k hk (hts _ hl) (fun x h => by rw [TX1_1 k] at h; exact h) hfin hd hn hfit hk hdg (fun H1 locs1 hP hD hS => ?_)
  have e : (WX1 cB cI q n a).set 0 (q 0, .inr (1, (fX1 q n).set k (.int (nI x)))) = WX1 cB cI q n' a := by rw [hset]; rfl
  rw [e] at hP hD
  exact kk H1 locs1 hP hD hS
theorem xa_ild (hx : p.tables.exec = Jvm.exec) (hb : c.code = cc) (hK : va_K D cl tys s) (hP : va_P D cl ws H) (q0 t0 : Nat) {cA : ClassId} {N : Nat} {f : Nat → Int32} (ha : ws[q0]? = some (ad, .inl (cA, N, .inl f))) (ht : tys[t0]? = some (cA, .int)) (j : Nat) (hlt : j < N) (hN : N < 2 ^ 31) {v : Int32} (hv : f j = v) (hdg : decode cc pc = .ok (.iaload, 1)) (kk : W p l e R s m args below meth c H locs cells slots Q (F0 m (pc + 1) ls (.int v :: rest))) : W p l e R s m args below meth c H locs cells slots Q (F0 m pc ls (.int (nI j) :: .ref ad :: rest)) := by
  refine va_iald hx hb hK hP q0 t0 ha ht (vp_in_nI hlt hN) hdg ?_
  rw [nI_clamp (Nat.lt_trans hlt hN), hv]
  exact kk
theorem xa_zld (hx : p.tables.exec = Jvm.exec) (hb : c.code = cc) (hK : va_K D cl tys s) (hP : va_P D cl ws H) (q0 t0 : Nat) {cA : ClassId} {N : Nat} {f : Nat → Int32} (ha : ws[q0]? = some (ad, .inl (cA, N, .inl f))) (ht : tys[t0]? = some (cA, .boolean)) (j : Nat) (hlt : j < N) (hN : N < 2 ^ 31) {v : Int32} (hv : f j = v) (hdg : decode cc pc = .ok (.baload, 1)) (kk : W p l e R s m args below meth c H locs cells slots Q (F0 m (pc + 1) ls (.int v :: rest))) : W p l e R s m args below meth c H locs cells slots Q (F0 m pc ls (.int (nI j) :: .ref ad :: rest)) := by
  refine va_zald hx hb hK hP q0 t0 ha ht (vp_in_nI hlt hN) hdg ?_
  rw [nI_clamp (Nat.lt_trans hlt hN), hv]
  exact kk
theorem xa_ist (hx : p.tables.exec = Jvm.exec) (hb : c.code = cc) (hK : va_K D cl tys s) (hP : va_P D cl ws H) (hD : va_D A ws) (hS : va_S A H0 H locs) (q0 t0 : Nat) {cA : ClassId} {N : Nat} {f : Nat → Int32} (ha : ws[q0]? = some (ad, .inl (cA, N, .inl f))) (ht : tys[t0]? = some (cA, .int)) (j : Nat) {x : Int32} (hlt : j < N) (hN : N < 2 ^ 31) {ws' : va_W} (hset : ws.set q0 (ad, .inl (cA, N, .inl (upd f j x))) = ws') (hdg : decode cc pc = .ok (.iastore, 1)) (kk : ∀ (H1 : Heap) (locs1 : List Loc), va_P D cl ws' H1 → va_D A ws' → va_S A H0 H1 locs1 → W p l e R s m args below meth c H1 locs1 cells slots Q (F0 m (pc + 1) ls rest)) : W p l e R s m args below meth c H locs cells slots Q (F0 m pc ls (.int x :: .int (nI j) :: .ref ad :: rest)) := by
  refine va_iast hx hb hK hP hD hS q0 t0 ha ht (vp_in_nI hlt hN) hdg (fun H1 locs1 hP hD hS => ?_)
  rw [nI_clamp (Nat.lt_trans hlt hN), hset] at hP hD
  exact kk H1 locs1 hP hD hS
theorem xa_zst (hx : p.tables.exec = Jvm.exec) (hb : c.code = cc) (hK : va_K D cl tys s) (hP : va_P D cl ws H) (hD : va_D A ws) (hS : va_S A H0 H locs) (q0 t0 : Nat) {cA : ClassId} {N : Nat} {f : Nat → Int32} (ha : ws[q0]? = some (ad, .inl (cA, N, .inl f))) (ht : tys[t0]? = some (cA, .boolean)) (j : Nat) {x : Int32} (hlt : j < N) (hN : N < 2 ^ 31) (hz : vp_nar .boolean x = x) {ws' : va_W} (hset : ws.set q0 (ad, .inl (cA, N, .inl (upd f j x))) = ws') (hdg : decode cc pc = .ok (.bastore, 1)) (kk : ∀ (H1 : Heap) (locs1 : List Loc), va_P D cl ws' H1 → va_D A ws' → va_S A H0 H1 locs1 → W p l e R s m args below meth c H1 locs1 cells slots Q (F0 m (pc + 1) ls rest)) : W p l e R s m args below meth c H locs cells slots Q (F0 m pc ls (.int x :: .int (nI j) :: .ref ad :: rest)) := by
  refine va_zast hx hb hK hP hD hS q0 t0 ha ht (vp_in_nI hlt hN) hdg (fun H1 locs1 hP hD hS => ?_)
  rw [nI_clamp (Nat.lt_trans hlt hN), hz, hset] at hP hD
  exact kk H1 locs1 hP hD hS
theorem xn_iadd (hx : p.tables.exec = Jvm.exec) (hb : c.code = cc) {j k : Nat} (hdg : decode cc pc = .ok (.iadd, 1)) (kk : W p l e R s m args below meth c H locs cells slots Q (F0 m (pc + 1) ls (.int (nI (j + k)) :: rest))) : W p l e R s m args below meth c H locs cells slots Q (F0 m pc ls (.int (nI k) :: .int (nI j) :: rest)) := by
  refine lv_iadd hx hb hdg ?_
  rw [nI_add]
  exact kk
theorem xm_iadd (hx : p.tables.exec = Jvm.exec) (hb : c.code = cc) {j k : Nat} (hdg : decode cc pc = .ok (.iadd, 1)) (kk : W p l e R s m args below meth c H locs cells slots Q (F0 m (pc + 1) ls (.int (mI (j + k)) :: rest))) : W p l e R s m args below meth c H locs cells slots Q (F0 m pc ls (.int (nI k) :: .int (mI j) :: rest)) := by
  refine lv_iadd hx hb hdg ?_
  rw [mI_add]
  exact kk
theorem xn_isub (hx : p.tables.exec = Jvm.exec) (hb : c.code = cc) {j k : Nat} (h : k ≤ j) (hdg : decode cc pc = .ok (.isub, 1)) (kk : W p l e R s m args below meth c H locs cells slots Q (F0 m (pc + 1) ls (.int (nI (j - k)) :: rest))) : W p l e R s m args below meth c H locs cells slots Q (F0 m pc ls (.int (nI k) :: .int (nI j) :: rest)) := by
  refine lv_isub hx hb hdg ?_
  rw [pk_sub h]
  exact kk
theorem xn_imul (hx : p.tables.exec = Jvm.exec) (hb : c.code = cc) {j k : Nat} (hdg : decode cc pc = .ok (.imul, 1)) (kk : W p l e R s m args below meth c H locs cells slots Q (F0 m (pc + 1) ls (.int (nI (j * k)) :: rest))) : W p l e R s m args below meth c H locs cells slots Q (F0 m pc ls (.int (nI k) :: .int (nI j) :: rest)) := by
  refine lv_imul hx hb hdg ?_
  rw [pk_mul]
  exact kk
theorem xn_idiv (hx : p.tables.exec = Jvm.exec) (hb : c.code = cc) {j k : Nat} (hj : j < 2 ^ 31) (h0 : 0 < k) (hk : k < 2 ^ 31) (hdg : decode cc pc = .ok (.idiv, 1)) (kk : W p l e R s m args below meth c H locs cells slots Q (F0 m (pc + 1) ls (.int (nI (j / k)) :: rest))) : W p l e R s m args below meth c H locs cells slots Q (F0 m pc ls (.int (nI k) :: .int (nI j) :: rest)) := by
  refine lv_idiv hx hb hdg (nI_ne0 h0 hk) ?_
  rw [pk_div hj h0 hk]
  exact kk
theorem xn_irem (hx : p.tables.exec = Jvm.exec) (hb : c.code = cc) {j k : Nat} (hj : j < 2 ^ 31) (h0 : 0 < k) (hk : k < 2 ^ 31) (hdg : decode cc pc = .ok (.irem, 1)) (kk : W p l e R s m args below meth c H locs cells slots Q (F0 m (pc + 1) ls (.int (nI (j % k)) :: rest))) : W p l e R s m args below meth c H locs cells slots Q (F0 m pc ls (.int (nI k) :: .int (nI j) :: rest)) := by
  refine lv_irem hx hb hdg (nI_ne0 h0 hk) ?_
  rw [pk_rem hj h0 hk]
  exact kk
theorem xn_icmp_eq (hx : p.tables.exec = Jvm.exec) (hb : c.code = cc) {j k : Nat} {off : Int} {tgt : Nat} (hdg : decode cc pc = .ok (.if_icmp .eq off, 3)) (ht : (pc : Int) + off = (tgt : Int)) (hj : j < 2 ^ 31) (hk : k < 2 ^ 31) (kt : j = k → W p l e R s m args below meth c H locs cells slots Q (F0 m tgt ls rest)) (kf : ¬ j = k → W p l e R s m args below meth c H locs cells slots Q (F0 m (pc + 3) ls rest)) : W p l e R s m args below meth c H locs cells slots Q (F0 m pc ls (.int (nI k) :: .int (nI j) :: rest)) :=
  lv_icmp_eq hx hb hdg ht (fun h => kt ((nI_eq hj hk).mp h)) (fun h => kf (fun z => h ((nI_eq hj hk).mpr z)))
theorem xn_icmp_ne (hx : p.tables.exec = Jvm.exec) (hb : c.code = cc) {j k : Nat} {off : Int} {tgt : Nat} (hdg : decode cc pc = .ok (.if_icmp .ne off, 3)) (ht : (pc : Int) + off = (tgt : Int)) (hj : j < 2 ^ 31) (hk : k < 2 ^ 31) (kt : ¬ j = k → W p l e R s m args below meth c H locs cells slots Q (F0 m tgt ls rest)) (kf : j = k → W p l e R s m args below meth c H locs cells slots Q (F0 m (pc + 3) ls rest)) : W p l e R s m args below meth c H locs cells slots Q (F0 m pc ls (.int (nI k) :: .int (nI j) :: rest)) :=
  lv_icmp_ne hx hb hdg ht (fun h => kt (fun z => h ((nI_eq hj hk).mpr z))) (fun h => kf ((nI_eq hj hk).mp h))
theorem xn_icmp_lt (hx : p.tables.exec = Jvm.exec) (hb : c.code = cc) {j k : Nat} {off : Int} {tgt : Nat} (hdg : decode cc pc = .ok (.if_icmp .lt off, 3)) (ht : (pc : Int) + off = (tgt : Int)) (hj : j < 2 ^ 31) (hk : k < 2 ^ 31) (kt : j < k → W p l e R s m args below meth c H locs cells slots Q (F0 m tgt ls rest)) (kf : k ≤ j → W p l e R s m args below meth c H locs cells slots Q (F0 m (pc + 3) ls rest)) : W p l e R s m args below meth c H locs cells slots Q (F0 m pc ls (.int (nI k) :: .int (nI j) :: rest)) :=
  lv_icmp_lt hx hb hdg ht (fun h => kt ((nI_ltI hj hk).mp h)) (fun h => kf (Nat.not_lt.mp (fun z => h ((nI_ltI hj hk).mpr z))))
theorem xn_icmp_ge (hx : p.tables.exec = Jvm.exec) (hb : c.code = cc) {j k : Nat} {off : Int} {tgt : Nat} (hdg : decode cc pc = .ok (.if_icmp .ge off, 3)) (ht : (pc : Int) + off = (tgt : Int)) (hj : j < 2 ^ 31) (hk : k < 2 ^ 31) (kt : k ≤ j → W p l e R s m args below meth c H locs cells slots Q (F0 m tgt ls rest)) (kf : j < k → W p l e R s m args below meth c H locs cells slots Q (F0 m (pc + 3) ls rest)) : W p l e R s m args below meth c H locs cells slots Q (F0 m pc ls (.int (nI k) :: .int (nI j) :: rest)) :=
  lv_icmp_ge hx hb hdg ht (fun h => kt ((nI_leI hk hj).mp h)) (fun h => kf (Nat.not_le.mp (fun z => h ((nI_leI hk hj).mpr z))))
theorem xn_icmp_gt (hx : p.tables.exec = Jvm.exec) (hb : c.code = cc) {j k : Nat} {off : Int} {tgt : Nat} (hdg : decode cc pc = .ok (.if_icmp .gt off, 3)) (ht : (pc : Int) + off = (tgt : Int)) (hj : j < 2 ^ 31) (hk : k < 2 ^ 31) (kt : k < j → W p l e R s m args below meth c H locs cells slots Q (F0 m tgt ls rest)) (kf : j ≤ k → W p l e R s m args below meth c H locs cells slots Q (F0 m (pc + 3) ls rest)) : W p l e R s m args below meth c H locs cells slots Q (F0 m pc ls (.int (nI k) :: .int (nI j) :: rest)) :=
  lv_icmp_gt hx hb hdg ht (fun h => kt ((nI_ltI hk hj).mp h)) (fun h => kf (Nat.not_lt.mp (fun z => h ((nI_ltI hk hj).mpr z))))
theorem xn_icmp_le (hx : p.tables.exec = Jvm.exec) (hb : c.code = cc) {j k : Nat} {off : Int} {tgt : Nat} (hdg : decode cc pc = .ok (.if_icmp .le off, 3)) (ht : (pc : Int) + off = (tgt : Int)) (hj : j < 2 ^ 31) (hk : k < 2 ^ 31) (kt : j ≤ k → W p l e R s m args below meth c H locs cells slots Q (F0 m tgt ls rest)) (kf : k < j → W p l e R s m args below meth c H locs cells slots Q (F0 m (pc + 3) ls rest)) : W p l e R s m args below meth c H locs cells slots Q (F0 m pc ls (.int (nI k) :: .int (nI j) :: rest)) :=
  lv_icmp_le hx hb hdg ht (fun h => kt ((nI_leI hj hk).mp h)) (fun h => kf (Nat.not_le.mp (fun z => h ((nI_leI hj hk).mpr z))))
theorem xn_if_eq (hx : p.tables.exec = Jvm.exec) (hb : c.code = cc) {j : Nat} {off : Int} {tgt : Nat} (hdg : decode cc pc = .ok (.ifCond .eq off, 3)) (ht : (pc : Int) + off = (tgt : Int)) (hj : j < 2 ^ 31) (kt : j = 0 → W p l e R s m args below meth c H locs cells slots Q (F0 m tgt ls rest)) (kf : ¬ j = 0 → W p l e R s m args below meth c H locs cells slots Q (F0 m (pc + 3) ls rest)) : W p l e R s m args below meth c H locs cells slots Q (F0 m pc ls (.int (nI j) :: rest)) := by
  have h0 : 0 < 2 ^ 31 := by decide
  exact lv_if_eq hx hb hdg ht (fun h => kt ((nI_eq hj h0).mp h)) (fun h => kf (fun z => h ((nI_eq hj h0).mpr z)))
theorem xn_if_ne (hx : p.tables.exec = Jvm.exec) (hb : c.code = cc) {j : Nat} {off : Int} {tgt : Nat} (hdg : decode cc pc = .ok (.ifCond .ne off, 3)) (ht : (pc : Int) + off = (tgt : Int)) (hj : j < 2 ^ 31) (kt : ¬ j = 0 → W p l e R s m args below meth c H locs cells slots Q (F0 m tgt ls rest)) (kf : j = 0 → W p l e R s m args below meth c H locs cells slots Q (F0 m (pc + 3) ls rest)) : W p l e R s m args below meth c H locs cells slots Q (F0 m pc ls (.int (nI j) :: rest)) := by
  have h0 : 0 < 2 ^ 31 := by decide
  exact lv_if_ne hx hb hdg ht (fun h => kt (fun z => h ((nI_eq hj h0).mpr z))) (fun h => kf ((nI_eq hj h0).mp h))
theorem xn_if_le (hx : p.tables.exec = Jvm.exec) (hb : c.code = cc) {j : Nat} {off : Int} {tgt : Nat} (hdg : decode cc pc = .ok (.ifCond .le off, 3)) (ht : (pc : Int) + off = (tgt : Int)) (hj : j < 2 ^ 31) (kt : j = 0 → W p l e R s m args below meth c H locs cells slots Q (F0 m tgt ls rest)) (kf : 0 < j → W p l e R s m args below meth c H locs cells slots Q (F0 m (pc + 3) ls rest)) : W p l e R s m args below meth c H locs cells slots Q (F0 m pc ls (.int (nI j) :: rest)) := by
  have h0 : 0 < 2 ^ 31 := by decide
  exact lv_if_le hx hb hdg ht (fun h => kt (Nat.le_zero.mp ((nI_leI hj h0).mp h))) (fun h => kf (Nat.pos_of_ne_zero (fun z => h ((nI_leI hj h0).mpr (Nat.le_of_eq z)))))
theorem xn_if_gt (hx : p.tables.exec = Jvm.exec) (hb : c.code = cc) {j : Nat} {off : Int} {tgt : Nat} (hdg : decode cc pc = .ok (.ifCond .gt off, 3)) (ht : (pc : Int) + off = (tgt : Int)) (hj : j < 2 ^ 31) (kt : 0 < j → W p l e R s m args below meth c H locs cells slots Q (F0 m tgt ls rest)) (kf : j = 0 → W p l e R s m args below meth c H locs cells slots Q (F0 m (pc + 3) ls rest)) : W p l e R s m args below meth c H locs cells slots Q (F0 m pc ls (.int (nI j) :: rest)) := by
  have h0 : 0 < 2 ^ 31 := by decide
  exact lv_if_gt hx hb hdg ht (fun h => kt ((nI_ltI h0 hj).mp h)) (fun h => kf (Nat.eq_zero_of_not_pos (fun z => h ((nI_ltI h0 hj).mpr z))))
theorem xm_icmp_ne (hx : p.tables.exec = Jvm.exec) (hb : c.code = cc) {j k : Nat} {off : Int} {tgt : Nat} (hdg : decode cc pc = .ok (.if_icmp .ne off, 3)) (ht : (pc : Int) + off = (tgt : Int)) (hj : j < 2 ^ 30) (hk : k < 2 ^ 30) (kt : ¬ j = k + 1 → W p l e R s m args below meth c H locs cells slots Q (F0 m tgt ls rest)) (kf : j = k + 1 → W p l e R s m args below meth c H locs cells slots Q (F0 m (pc + 3) ls rest)) : W p l e R s m args below meth c H locs cells slots Q (F0 m pc ls (.int (nI k) :: .int (mI j) :: rest)) :=
  lv_icmp_ne hx hb hdg ht (fun h => kt (fun z => h ((mI_eqn hj hk).mpr z))) (fun h => kf ((mI_eqn hj hk).mp h))
theorem xm_icmp_ge (hx : p.tables.exec = Jvm.exec) (hb : c.code = cc) {j k : Nat} {off : Int} {tgt : Nat} (hdg : decode cc pc = .ok (.if_icmp .ge off, 3)) (ht : (pc : Int) + off = (tgt : Int)) (hj : j < 2 ^ 30) (hk : k < 2 ^ 30) (kt : k + 1 ≤ j → W p l e R s m args below meth c H locs cells slots Q (F0 m tgt ls rest)) (kf : j ≤ k → W p l e R s m args below meth c H locs cells slots Q (F0 m (pc + 3) ls rest)) : W p l e R s m args below meth c H locs cells slots Q (F0 m pc ls (.int (nI k) :: .int (mI j) :: rest)) :=
  lv_icmp_ge hx hb hdg ht (fun h => kt ((mI_len hj hk).mp h)) (fun h => kf (Nat.le_of_lt_succ (Nat.not_le.mp (fun z => h ((mI_len hj hk).mpr z)))))
theorem xmm_icmp_eq (hx : p.tables.exec = Jvm.exec) (hb : c.code = cc) {j k : Nat} {off : Int} {tgt : Nat} (hdg : decode cc pc = .ok (.if_icmp .eq off, 3)) (ht : (pc : Int) + off = (tgt : Int)) (hj : j < 2 ^ 30) (hk : k < 2 ^ 30) (kt : j = k → W p l e R s m args below meth c H locs cells slots Q (F0 m tgt ls rest)) (kf : ¬ j = k → W p l e R s m args below meth c H locs cells slots Q (F0 m (pc + 3) ls rest)) : W p l e R s m args below meth c H locs cells slots Q (F0 m pc ls (.int (mI k) :: .int (mI j) :: rest)) :=
  lv_icmp_eq hx hb hdg ht (fun h => kt ((mI_eqm hj hk).mp h)) (fun h => kf (fun z => h ((mI_eqm hj hk).mpr z)))
end XS
/-- a callee's cells come back beside the rest -/
theorem xj {D : va_G} {cl : List vw_C} {wc wr w1 : va_W} {A0 : Nat → Prop} {H H1 : Heap} (hP : va_P D cl (wc ++ wr) H) (hD : va_D A0 (wc ++ wr)) (hk : ∀ q : Nat, q < H.size → ¬ va_A wc H.size q → H1[q]? = H[q]?) (hF : ∀ q, va_A wc H.size q → A0 q) (hP1 : va_P D cl w1 H1) (hD1 : va_D (va_A wc H.size) w1) : va_P D cl (w1 ++ wr) H1 ∧ va_D A0 (w1 ++ wr) := by
  have up : ∀ (k : Nat) (x : Nat × va_E), wr[k]? = some x → (wc ++ wr)[wc.length + k]? = some x := by
    intro k x hx
    rw [List.getElem?_append_right (Nat.le_add_right _ _), Nat.add_sub_cancel_left]
    exact hx
  have ap : ∀ (k : Nat) (x : Nat × va_E), wr[k]? = some x → x.1 < H.size ∧ ¬ va_A wc H.size x.1 := by
    intro k x hx
    have h1 := up k x hx
    have hlt := (hP _ x h1).lt
    refine ⟨hlt, fun h => ?_⟩
    rcases h with ⟨i, e, h⟩ | h
    · have hl := (List.getElem?_eq_some_iff.mp h).1
      have h2 : (wc ++ wr)[i]? = some (x.1, e) := by rw [List.getElem?_append_left hl]; exact h
      have := hD.1 _ _ x (x.1, e) h1 h2 rfl
      omega
    · omega
  refine ⟨va_P.app hP1 (fun k x hx => (hP _ x (up k x hx)).kept (hk x.1 (ap k x hx).1 (ap k x hx).2)), va_D.app (hD1.weaken (fun k x _ h => hF x.1 h)) ⟨fun i j x y hi hj hxy => ?_, fun k x hx => hD.2 _ x (up k x hx)⟩ (fun i j x y hx hy hxy => ?_)⟩
  · have := hD.1 _ _ x y (up i x hi) (up j y hj) hxy
    omega
  · exact (ap j y hy).2 (by rw [← hxy]; exact hD1.2 i x hx)
theorem xP_l {D : va_G} {cl : List vw_C} {w1 w2 : va_W} {H : Heap} (hP : va_P D cl (w1 ++ w2) H) : va_P D cl w1 H := fun k x hx => hP k x (by rw [List.getElem?_append_left (List.getElem?_eq_some_iff.mp hx).1]; exact hx)
theorem xD_l {A : Nat → Prop} {w1 w2 : va_W} (hD : va_D A (w1 ++ w2)) : va_D A w1 := by
  have up : ∀ (k : Nat) (x : Nat × va_E), w1[k]? = some x → (w1 ++ w2)[k]? = some x := fun k x hx => by rw [List.getElem?_append_left (List.getElem?_eq_some_iff.mp hx).1]; exact hx
  exact ⟨fun i j x y hi hj hxy => hD.1 i j x y (up i x hi) (up j y hj) hxy, fun k x hx => hD.2 k x (up k x hx)⟩
/-- the two worlds, the other way round -/
theorem xsw {D : va_G} {cl : List vw_C} {A : Nat → Prop} {w1 w2 : va_W} {H : Heap} (hP : va_P D cl (w1 ++ w2) H) (hD : va_D A (w1 ++ w2)) : va_P D cl (w2 ++ w1) H ∧ va_D A (w2 ++ w1) := by
  have up : ∀ (k : Nat) (x : Nat × va_E), w2[k]? = some x → (w1 ++ w2)[w1.length + k]? = some x := by
    intro k x hx
    rw [List.getElem?_append_right (Nat.le_add_right _ _), Nat.add_sub_cancel_left]
    exact hx
  have ul : ∀ (k : Nat) (x : Nat × va_E), w1[k]? = some x → (w1 ++ w2)[k]? = some x := fun k x hx => by rw [List.getElem?_append_left (List.getElem?_eq_some_iff.mp hx).1]; exact hx
  refine ⟨va_P.app (fun k x hx => hP _ x (up k x hx)) (xP_l hP), va_D.app ⟨fun i j x y hi hj hxy => ?_, fun k x hx => hD.2 _ x (up k x hx)⟩ (xD_l hD) (fun i j x y hx hy hxy => ?_)⟩
  · have := hD.1 _ _ x y (up i x hi) (up j y hj) hxy
    omega
  · have h1 := hD.1 _ _ x y (up i x hx) (ul j y hy) hxy
    have := (List.getElem?_eq_some_iff.mp hy).1
    omega
section XC
variable {p : Program} {l : Launch} {e : Env} {R : Room} {s : State} {m : MethodId} {args : Array Value} {below : List Frame} {meth : Method} {c : Code} {H : Heap} {locs : List Loc} {cells slots : Nat} {Q : State → Prop}
variable {cc bytes : ByteArray} {pc : Nat} {ls : Array Slot} {rest st0 As : List Value} {A : Nat → Prop} {H0 : Heap} {nL nn maxL index mc ms : Nat} {y : MethodName} {ws : List Cond} {rm : Room} {ret : Option FieldType} {own : String}
variable {dC : Nat → ClassId} {dI : Nat → Nat → Nat} {cB cI : ClassId} {q : Nat → Nat} {n : Nat → Nat} {a : Nat → Nat → Int32} {wr : va_W} {tys : List (ClassId × FieldType)} {av : Array Value}
theorem xcalli {D : va_G} {cl : List vw_C} {wc : va_W} {S : Type} {w1 : S → va_W} {post : Int32 → S → Prop} (hr : va_Run p l e R s m args below meth c H locs cells slots mc ms (F0 m pc ls st0) rest (va_Qi post (fun u t => va_P D cl (w1 u) t.heap ∧ va_K D cl tys t ∧ va_D (va_A wc H.size) (w1 u)) (va_A wc H.size) av) (va_A wc H.size)) (hP : va_P D cl (wc ++ wr) H) (hD : va_D A (wc ++ wr)) (hS : va_S A H0 H locs) (hA : ∀ q, H0.size ≤ q → A q) (kk : ∀ (r : Int32) (u : S) (H1 : Heap) (locs1 : List Loc), post r u → va_P D cl (w1 u ++ wr) H1 → va_D A (w1 u ++ wr) → va_S A H0 H1 locs1 → W p l e R s m args below meth c H1 locs1 (cells + mc) (slots + ms) Q (F0 m (pc + 3) ls (.int r :: rest))) : W p l e R s m args below meth c H locs cells slots Q (F0 m pc ls st0) := by
  have hF : ∀ x, va_A wc H.size x → A x := by
    intro x h
    rcases h with ⟨k, e, h⟩ | h
    · exact (xD_l hD).2 k (x, e) h
    · exact hA x (Nat.le_trans hS.1 h)
  refine va_calli hr hS (fun x _ h => hF x h) hF (fun r u t H1 locs ht hvm hp hB hz hk hS => ?_)
  obtain ⟨hP1, hK1, hD1⟩ := hB
  rw [ht] at hP1
  obtain ⟨hP2, hD2⟩ := xj hP hD hk hF hP1 hD1
  exact kk r u H1 locs hp hP2 hD2 hS
theorem xcallv {D : va_G} {cl : List vw_C} {wc : va_W} {S : Type} {w1 : S → va_W} {post : S → Prop} (hr : va_Run p l e R s m args below meth c H locs cells slots mc ms (F0 m pc ls st0) rest (va_Qv post (fun u t => va_P D cl (w1 u) t.heap ∧ va_K D cl tys t ∧ va_D (va_A wc H.size) (w1 u)) (va_A wc H.size) av) (va_A wc H.size)) (hP : va_P D cl (wc ++ wr) H) (hD : va_D A (wc ++ wr)) (hS : va_S A H0 H locs) (hA : ∀ q, H0.size ≤ q → A q) (kk : ∀ (u : S) (H1 : Heap) (locs1 : List Loc), post u → va_P D cl (w1 u ++ wr) H1 → va_D A (w1 u ++ wr) → va_S A H0 H1 locs1 → W p l e R s m args below meth c H1 locs1 (cells + mc) (slots + ms) Q (F0 m (pc + 3) ls rest)) : W p l e R s m args below meth c H locs cells slots Q (F0 m pc ls st0) := by
  have hF : ∀ x, va_A wc H.size x → A x := by
    intro x h
    rcases h with ⟨k, e, h⟩ | h
    · exact (xD_l hD).2 k (x, e) h
    · exact hA x (Nat.le_trans hS.1 h)
  refine va_callv hr hS (fun x _ h => hF x h) hF (fun u t H1 locs ht hvm hp hB hz hk hS => ?_)
  obtain ⟨hP1, hK1, hD1⟩ := hB
  rw [ht] at hP1
  obtain ⟨hP2, hD2⟩ := xj hP hD hk hF hP1 hD1
  exact kk u H1 locs hp hP2 hD2 hS
abbrev PX0 (dC : Nat → ClassId) (dI : Nat → Nat → Nat) (cB cI : ClassId) (q : Nat → Nat) (n : Nat → Nat) (a : Nat → Nat → Int32) (sz : Nat) : State → Prop := fun U => U.heap.size = sz ∧ va_P (dC, dI) vwCl (WX0 cB cI q n a) U.heap ∧ va_K (dC, dI) vwCl [(cB, .boolean), (cI, .int)] U ∧ va_D (fun _ => True) (WX0 cB cI q n a)
abbrev BX0 (dC : Nat → ClassId) (dI : Nat → Nat → Nat) (cB cI : ClassId) (q : Nat → Nat) (A : Nat → Prop) (u : SX) (t : State) : Prop := va_P (dC, dI) vwCl (WX0 cB cI q u.1 u.2) t.heap ∧ va_K (dC, dI) vwCl [(cB, .boolean), (cI, .int)] t ∧ va_D A (WX0 cB cI q u.1 u.2)
theorem preX0 (hK : va_K (dC, dI) vwCl [(cB, .boolean), (cI, .int)] s) (hP : va_P (dC, dI) vwCl (WX0 cB cI q n a) H) (hD : va_D A (WX0 cB cI q n a)) : PreV s H RX0 (q 0) (va_Pc (.ref (q 0) :: As) (PX0 dC dI cB cI q n a H.size)) As :=
  ⟨fun a U g mk q => by obtain ⟨q0, q1, qP, qK, qD⟩ := q; exact ⟨q0, q1, qP, va_K.moved (u := U) (U := U.calling g mk a) (Vm.Alike.refl U.vm) qK, qD⟩, va_recv hK hP (ci := 0) (q0 := 0) rfl rfl, fun U hU hW => ⟨rfl, by rw [hU], by rw [hU]; exact hP, va_K.moved hW.alike hK, hD.weaken (fun _ _ _ _ => trivial)⟩⟩
theorem kX0i {post : Int32 → SX → Prop} (S : CallFix p m c cc nL s args lw_all own) (hM : Met l y ws rm (va_Pc (.ref (q 0) :: As) (PX0 dC dI cB cI q n a H.size)) (va_Qi post (BX0 dC dI cB cI q (va_A (WX0 cB cI q n a) H.size)) (va_A (WX0 cB cI q n a) H.size)) mc ms (va_A (WX0 cB cI q n a) H.size)) (cw : CallW R s args own RX0 index y bytes maxL ret ws rm mc ms nn) (hK : va_K (dC, dI) vwCl [(cB, .boolean), (cI, .int)] s) (hP : va_P (dC, dI) vwCl (WX0 cB cI q n a ++ wr) H) (hD : va_D A (WX0 cB cI q n a ++ wr)) (hS : va_S A H0 H locs) (hA : ∀ q, H0.size ≤ q → A q) (hn : As.length = nn) (hsize : ls.size = nL) (hst : st0 = As.reverse ++ .ref (q 0) :: rest) (hW : (rest.map fun v => v.category).sum ≤ 8) (hdg : decode cc pc = .ok (.invokevirtual index, 3)) (hf : cells + mc ≤ R.cells ∧ slots + ms ≤ R.slots) (kk : ∀ (r : Int32) (u : SX) (H1 : Heap) (locs1 : List Loc), post r u → va_P (dC, dI) vwCl (WX0 cB cI q u.1 u.2 ++ wr) H1 → va_D A (WX0 cB cI q u.1 u.2 ++ wr) → va_S A H0 H1 locs1 → W p l e R s m args below meth c H1 locs1 (cells + mc) (slots + ms) Q (F0 m (pc + 3) ls (.int r :: rest))) : W p l e R s m args below meth c H locs cells slots Q (F0 m pc ls st0) := by
  exact xcalli (w1 := fun u : SX => WX0 cB cI q u.1 u.2) (tys := [(cB, .boolean), (cI, .int)]) (va_runV (As := As) (rest := rest) S hM cw (preX0 hK (xP_l hP) (xD_l hD)) rfl hn hsize hst (lv_room hW) hdg hf) hP hD hS hA kk
theorem sX0i {post : Int32 → SX → Prop} (S : CallFix p m c cc nL s args lw_all own) (hM : Met l y ws rm (va_Pc (.ref (q 0) :: As) (PX0 dC dI cB cI q n a H.size)) (va_Qi post (BX0 dC dI cB cI q (va_A (WX0 cB cI q n a) H.size)) (va_A (WX0 cB cI q n a) H.size)) mc ms (va_A (WX0 cB cI q n a) H.size)) (cw : CallW R s args own RX0 index y bytes maxL ret ws rm mc ms nn) (hK : va_K (dC, dI) vwCl [(cB, .boolean), (cI, .int)] s) (hP : va_P (dC, dI) vwCl (WX0 cB cI q n a) H) (hD : va_D A (WX0 cB cI q n a)) (hS : va_S A H0 H locs) (hA : ∀ q, H0.size ≤ q → A q) (hn : As.length = nn) (hsize : ls.size = nL) (hst : st0 = As.reverse ++ .ref (q 0) :: rest) (hW : (rest.map fun v => v.category).sum ≤ 8) (hdg : decode cc pc = .ok (.invokevirtual index, 3)) (hf : cells + mc ≤ R.cells ∧ slots + ms ≤ R.slots) (kk : ∀ (r : Int32) (u : SX) (H1 : Heap) (locs1 : List Loc), post r u → va_P (dC, dI) vwCl (WX0 cB cI q u.1 u.2) H1 → va_D A (WX0 cB cI q u.1 u.2) → va_S A H0 H1 locs1 → W p l e R s m args below meth c H1 locs1 (cells + mc) (slots + ms) Q (F0 m (pc + 3) ls (.int r :: rest))) : W p l e R s m args below meth c H locs cells slots Q (F0 m pc ls st0) := by
  refine kX0i (wr := []) S hM cw hK (by rw [List.append_nil]; exact hP) (by rw [List.append_nil]; exact hD) hS hA hn hsize hst hW hdg hf (fun r u H1 locs1 hp hP hD hS => kk r u H1 locs1 hp ?_ ?_ hS)
  · rw [List.append_nil] at hP; exact hP
  · rw [List.append_nil] at hD; exact hD
theorem kX0v {post : SX → Prop} (S : CallFix p m c cc nL s args lw_all own) (hM : Met l y ws rm (va_Pc (.ref (q 0) :: As) (PX0 dC dI cB cI q n a H.size)) (va_Qv post (BX0 dC dI cB cI q (va_A (WX0 cB cI q n a) H.size)) (va_A (WX0 cB cI q n a) H.size)) mc ms (va_A (WX0 cB cI q n a) H.size)) (cw : CallW R s args own RX0 index y bytes maxL ret ws rm mc ms nn) (hK : va_K (dC, dI) vwCl [(cB, .boolean), (cI, .int)] s) (hP : va_P (dC, dI) vwCl (WX0 cB cI q n a ++ wr) H) (hD : va_D A (WX0 cB cI q n a ++ wr)) (hS : va_S A H0 H locs) (hA : ∀ q, H0.size ≤ q → A q) (hn : As.length = nn) (hsize : ls.size = nL) (hst : st0 = As.reverse ++ .ref (q 0) :: rest) (hW : (rest.map fun v => v.category).sum ≤ 8) (hdg : decode cc pc = .ok (.invokevirtual index, 3)) (hf : cells + mc ≤ R.cells ∧ slots + ms ≤ R.slots) (kk : ∀ (u : SX) (H1 : Heap) (locs1 : List Loc), post u → va_P (dC, dI) vwCl (WX0 cB cI q u.1 u.2 ++ wr) H1 → va_D A (WX0 cB cI q u.1 u.2 ++ wr) → va_S A H0 H1 locs1 → W p l e R s m args below meth c H1 locs1 (cells + mc) (slots + ms) Q (F0 m (pc + 3) ls rest)) : W p l e R s m args below meth c H locs cells slots Q (F0 m pc ls st0) := by
  exact xcallv (w1 := fun u : SX => WX0 cB cI q u.1 u.2) (tys := [(cB, .boolean), (cI, .int)]) (va_runV (As := As) (rest := rest) S hM cw (preX0 hK (xP_l hP) (xD_l hD)) rfl hn hsize hst (lv_room hW) hdg hf) hP hD hS hA kk
theorem sX0v {post : SX → Prop} (S : CallFix p m c cc nL s args lw_all own) (hM : Met l y ws rm (va_Pc (.ref (q 0) :: As) (PX0 dC dI cB cI q n a H.size)) (va_Qv post (BX0 dC dI cB cI q (va_A (WX0 cB cI q n a) H.size)) (va_A (WX0 cB cI q n a) H.size)) mc ms (va_A (WX0 cB cI q n a) H.size)) (cw : CallW R s args own RX0 index y bytes maxL ret ws rm mc ms nn) (hK : va_K (dC, dI) vwCl [(cB, .boolean), (cI, .int)] s) (hP : va_P (dC, dI) vwCl (WX0 cB cI q n a) H) (hD : va_D A (WX0 cB cI q n a)) (hS : va_S A H0 H locs) (hA : ∀ q, H0.size ≤ q → A q) (hn : As.length = nn) (hsize : ls.size = nL) (hst : st0 = As.reverse ++ .ref (q 0) :: rest) (hW : (rest.map fun v => v.category).sum ≤ 8) (hdg : decode cc pc = .ok (.invokevirtual index, 3)) (hf : cells + mc ≤ R.cells ∧ slots + ms ≤ R.slots) (kk : ∀ (u : SX) (H1 : Heap) (locs1 : List Loc), post u → va_P (dC, dI) vwCl (WX0 cB cI q u.1 u.2) H1 → va_D A (WX0 cB cI q u.1 u.2) → va_S A H0 H1 locs1 → W p l e R s m args below meth c H1 locs1 (cells + mc) (slots + ms) Q (F0 m (pc + 3) ls rest)) : W p l e R s m args below meth c H locs cells slots Q (F0 m pc ls st0) := by
  refine kX0v (wr := []) S hM cw hK (by rw [List.append_nil]; exact hP) (by rw [List.append_nil]; exact hD) hS hA hn hsize hst hW hdg hf (fun u H1 locs1 hp hP hD hS => kk u H1 locs1 hp ?_ ?_ hS)
  · rw [List.append_nil] at hP; exact hP
  · rw [List.append_nil] at hD; exact hD
abbrev PX1 (dC : Nat → ClassId) (dI : Nat → Nat → Nat) (cB cI : ClassId) (q : Nat → Nat) (n : Nat → Nat) (a : Nat → Nat → Int32) (sz : Nat) : State → Prop := fun U => U.heap.size = sz ∧ va_P (dC, dI) vwCl (WX1 cB cI q n a) U.heap ∧ va_K (dC, dI) vwCl [(cB, .boolean), (cI, .int)] U ∧ va_D (fun _ => True) (WX1 cB cI q n a)
abbrev BX1 (dC : Nat → ClassId) (dI : Nat → Nat → Nat) (cB cI : ClassId) (q : Nat → Nat) (A : Nat → Prop) (u : SX) (t : State) : Prop := va_P (dC, dI) vwCl (WX1 cB cI q u.1 u.2) t.heap ∧ va_K (dC, dI) vwCl [(cB, .boolean), (cI, .int)] t ∧ va_D A (WX1 cB cI q u.1 u.2)
theorem preX1 (hK : va_K (dC, dI) vwCl [(cB, .boolean), (cI, .int)] s) (hP : va_P (dC, dI) vwCl (WX1 cB cI q n a) H) (hD : va_D A (WX1 cB cI q n a)) : PreV s H RX1 (q 0) (va_Pc (.ref (q 0) :: As) (PX1 dC dI cB cI q n a H.size)) As :=
  ⟨fun a U g mk q => by obtain ⟨q0, q1, qP, qK, qD⟩ := q; exact ⟨q0, q1, qP, va_K.moved (u := U) (U := U.calling g mk a) (Vm.Alike.refl U.vm) qK, qD⟩, va_recv hK hP (ci := 1) (q0 := 0) rfl rfl, fun U hU hW => ⟨rfl, by rw [hU], by rw [hU]; exact hP, va_K.moved hW.alike hK, hD.weaken (fun _ _ _ _ => trivial)⟩⟩
theorem kX1i {post : Int32 → SX → Prop} (S : CallFix p m c cc nL s args lw_all own) (hM : Met l y ws rm (va_Pc (.ref (q 0) :: As) (PX1 dC dI cB cI q n a H.size)) (va_Qi post (BX1 dC dI cB cI q (va_A (WX1 cB cI q n a) H.size)) (va_A (WX1 cB cI q n a) H.size)) mc ms (va_A (WX1 cB cI q n a) H.size)) (cw : CallW R s args own RX1 index y bytes maxL ret ws rm mc ms nn) (hK : va_K (dC, dI) vwCl [(cB, .boolean), (cI, .int)] s) (hP : va_P (dC, dI) vwCl (WX1 cB cI q n a ++ wr) H) (hD : va_D A (WX1 cB cI q n a ++ wr)) (hS : va_S A H0 H locs) (hA : ∀ q, H0.size ≤ q → A q) (hn : As.length = nn) (hsize : ls.size = nL) (hst : st0 = As.reverse ++ .ref (q 0) :: rest) (hW : (rest.map fun v => v.category).sum ≤ 8) (hdg : decode cc pc = .ok (.invokevirtual index, 3)) (hf : cells + mc ≤ R.cells ∧ slots + ms ≤ R.slots) (kk : ∀ (r : Int32) (u : SX) (H1 : Heap) (locs1 : List Loc), post r u → va_P (dC, dI) vwCl (WX1 cB cI q u.1 u.2 ++ wr) H1 → va_D A (WX1 cB cI q u.1 u.2 ++ wr) → va_S A H0 H1 locs1 → W p l e R s m args below meth c H1 locs1 (cells + mc) (slots + ms) Q (F0 m (pc + 3) ls (.int r :: rest))) : W p l e R s m args below meth c H locs cells slots Q (F0 m pc ls st0) := by
  exact xcalli (w1 := fun u : SX => WX1 cB cI q u.1 u.2) (tys := [(cB, .boolean), (cI, .int)]) (va_runV (As := As) (rest := rest) S hM cw (preX1 hK (xP_l hP) (xD_l hD)) rfl hn hsize hst (lv_room hW) hdg hf) hP hD hS hA kk
theorem sX1i {post : Int32 → SX → Prop} (S : CallFix p m c cc nL s args lw_all own) (hM : Met l y ws rm (va_Pc (.ref (q 0) :: As) (PX1 dC dI cB cI q n a H.size)) (va_Qi post (BX1 dC dI cB cI q (va_A (WX1 cB cI q n a) H.size)) (va_A (WX1 cB cI q n a) H.size)) mc ms (va_A (WX1 cB cI q n a) H.size)) (cw : CallW R s args own RX1 index y bytes maxL ret ws rm mc ms nn) (hK : va_K (dC, dI) vwCl [(cB, .boolean), (cI, .int)] s) (hP : va_P (dC, dI) vwCl (WX1 cB cI q n a) H) (hD : va_D A (WX1 cB cI q n a)) (hS : va_S A H0 H locs) (hA : ∀ q, H0.size ≤ q → A q) (hn : As.length = nn) (hsize : ls.size = nL) (hst : st0 = As.reverse ++ .ref (q 0) :: rest) (hW : (rest.map fun v => v.category).sum ≤ 8) (hdg : decode cc pc = .ok (.invokevirtual index, 3)) (hf : cells + mc ≤ R.cells ∧ slots + ms ≤ R.slots) (kk : ∀ (r : Int32) (u : SX) (H1 : Heap) (locs1 : List Loc), post r u → va_P (dC, dI) vwCl (WX1 cB cI q u.1 u.2) H1 → va_D A (WX1 cB cI q u.1 u.2) → va_S A H0 H1 locs1 → W p l e R s m args below meth c H1 locs1 (cells + mc) (slots + ms) Q (F0 m (pc + 3) ls (.int r :: rest))) : W p l e R s m args below meth c H locs cells slots Q (F0 m pc ls st0) := by
  refine kX1i (wr := []) S hM cw hK (by rw [List.append_nil]; exact hP) (by rw [List.append_nil]; exact hD) hS hA hn hsize hst hW hdg hf (fun r u H1 locs1 hp hP hD hS => kk r u H1 locs1 hp ?_ ?_ hS)
  · rw [List.append_nil] at hP; exact hP
  · rw [List.append_nil] at hD; exact hD
theorem kX1v {post : SX → Prop} (S : CallFix p m c cc nL s args lw_all own) (hM : Met l y ws rm (va_Pc (.ref (q 0) :: As) (PX1 dC dI cB cI q n a H.size)) (va_Qv post (BX1 dC dI cB cI q (va_A (WX1 cB cI q n a) H.size)) (va_A (WX1 cB cI q n a) H.size)) mc ms (va_A (WX1 cB cI q n a) H.size)) (cw : CallW R s args own RX1 index y bytes maxL ret ws rm mc ms nn) (hK : va_K (dC, dI) vwCl [(cB, .boolean), (cI, .int)] s) (hP : va_P (dC, dI) vwCl (WX1 cB cI q n a ++ wr) H) (hD : va_D A (WX1 cB cI q n a ++ wr)) (hS : va_S A H0 H locs) (hA : ∀ q, H0.size ≤ q → A q) (hn : As.length = nn) (hsize : ls.size = nL) (hst : st0 = As.reverse ++ .ref (q 0) :: rest) (hW : (rest.map fun v => v.category).sum ≤ 8) (hdg : decode cc pc = .ok (.invokevirtual index, 3)) (hf : cells + mc ≤ R.cells ∧ slots + ms ≤ R.slots) (kk : ∀ (u : SX) (H1 : Heap) (locs1 : List Loc), post u → va_P (dC, dI) vwCl (WX1 cB cI q u.1 u.2 ++ wr) H1 → va_D A (WX1 cB cI q u.1 u.2 ++ wr) → va_S A H0 H1 locs1 → W p l e R s m args below meth c H1 locs1 (cells + mc) (slots + ms) Q (F0 m (pc + 3) ls rest)) : W p l e R s m args below meth c H locs cells slots Q (F0 m pc ls st0) := by
  exact xcallv (w1 := fun u : SX => WX1 cB cI q u.1 u.2) (tys := [(cB, .boolean), (cI, .int)]) (va_runV (As := As) (rest := rest) S hM cw (preX1 hK (xP_l hP) (xD_l hD)) rfl hn hsize hst (lv_room hW) hdg hf) hP hD hS hA kk
theorem sX1v {post : SX → Prop} (S : CallFix p m c cc nL s args lw_all own) (hM : Met l y ws rm (va_Pc (.ref (q 0) :: As) (PX1 dC dI cB cI q n a H.size)) (va_Qv post (BX1 dC dI cB cI q (va_A (WX1 cB cI q n a) H.size)) (va_A (WX1 cB cI q n a) H.size)) mc ms (va_A (WX1 cB cI q n a) H.size)) (cw : CallW R s args own RX1 index y bytes maxL ret ws rm mc ms nn) (hK : va_K (dC, dI) vwCl [(cB, .boolean), (cI, .int)] s) (hP : va_P (dC, dI) vwCl (WX1 cB cI q n a) H) (hD : va_D A (WX1 cB cI q n a)) (hS : va_S A H0 H locs) (hA : ∀ q, H0.size ≤ q → A q) (hn : As.length = nn) (hsize : ls.size = nL) (hst : st0 = As.reverse ++ .ref (q 0) :: rest) (hW : (rest.map fun v => v.category).sum ≤ 8) (hdg : decode cc pc = .ok (.invokevirtual index, 3)) (hf : cells + mc ≤ R.cells ∧ slots + ms ≤ R.slots) (kk : ∀ (u : SX) (H1 : Heap) (locs1 : List Loc), post u → va_P (dC, dI) vwCl (WX1 cB cI q u.1 u.2) H1 → va_D A (WX1 cB cI q u.1 u.2) → va_S A H0 H1 locs1 → W p l e R s m args below meth c H1 locs1 (cells + mc) (slots + ms) Q (F0 m (pc + 3) ls rest)) : W p l e R s m args below meth c H locs cells slots Q (F0 m pc ls st0) := by
  refine kX1v (wr := []) S hM cw hK (by rw [List.append_nil]; exact hP) (by rw [List.append_nil]; exact hD) hS hA hn hsize hst hW hdg hf (fun u H1 locs1 hp hP hD hS => kk u H1 locs1 hp ?_ ?_ hS)
  · rw [List.append_nil] at hP; exact hP
  · rw [List.append_nil] at hD; exact hD
end XC
end
section
set_option maxRecDepth 100000
/-! the store's state in numbers, and what its columns are -/
/-- sum of the first k -/
def dr_bs (f : Nat → Nat) : Nat → Nat
  | 0 => 0
  | k + 1 => dr_bs f k + f k
def dr_o1 (x : Nat) : Nat := if x = 0 then 1 else x
/-- how many of the first k are 0 -/
def dr_zc (t : Nat → Int32) : Nat → Nat
  | 0 => 0
  | k + 1 => dr_zc t k + (if t k = 0 then 1 else 0)
theorem dr_zc_ub (t : Nat → Int32) : ∀ k, dr_zc t k ≤ k
  | 0 => Nat.le_refl _
  | k + 1 => by
    have := dr_zc_ub t k
    simp only [dr_zc]
    split <;> omega
def dr_gc (t : Nat → Int32) : Nat → Nat
  | 0 => 0
  | k + 1 => if t k = 0 then 0 else dr_gc t k + 1
def dr_gw (t : Nat → Int32) : Nat → Nat
  | 0 => 0
  | k + 1 => if t k = 0 then 0 else if t k = 1 then dr_gw t k + 1 else dr_gw t k
def dr_c2 (t : Nat → Int32) : Nat → Nat
  | 0 => 0
  | k + 1 => dr_c2 t k + (if t k = 2 then 1 else 0)
def dr_cb (t : Nat → Int32) : Nat → Nat
  | 0 => 0
  | k + 1 => dr_cb t k + (if t k = 0 then 0 else 1)
def dr_en (t : Nat → Int32) : Nat → Nat
  | 0 => 0
  | k + 1 => dr_en t k + (if t k < 2 then 1 else 0)
/-- the value is no number below N -/
abbrev outR (p : Int32) (N : Nat) : Prop := p < 0 ∨ nI N ≤ p
theorem outR_cases (p : Int32) {N : Nat} (hN : N < 2 ^ 31) : outR p N ∨ ∃ j : Nat, j < N ∧ p = nI j := by
  rcases pk_ix p hN with h | h | h
  · exact Or.inl (Or.inl h)
  · exact Or.inl (Or.inr h)
  · exact Or.inr h
theorem outR_in {j N : Nat} (h : j < N) (hN : N < 2 ^ 31) : ¬ outR (nI j) N := by
  rintro (g | g)
  · exact nI_pos (by omega) g
  · exact nI_ge h hN g
theorem xz_hs {hs : Nat} (h : hs ≤ 1) : vp_nar .boolean (nI hs) = nI hs := by
  rcases (show hs = 0 ∨ hs = 1 by omega) with rfl | rfl <;> decide
def dr_sT (gO : Nat → Nat) : Nat → Nat := dr_bs (fun r => dr_o1 (gO r))
def dr_sV (vn : Nat → Nat) : Nat → Nat := dr_bs (fun e => dr_o1 (vn e))
/-- where a walk ended -/
def fd (n : Nat → Nat) (x y : Nat) : Nat → Nat := va_up (va_up n 20 x) 19 y
theorem fd_self (n : Nat → Nat) : fd n (n 20) (n 19) = n := by
  funext j
  simp only [fd, va_up]
  split
  · next h => rw [h]
  · split
    · next h => rw [h]
    · rfl
theorem fd_fd (n : Nat → Nat) (x y x' y' : Nat) : fd (fd n x y) x' y' = fd n x' y' := by
  funext j
  simp only [fd, va_up]
  split
  · rfl
  · split
    · rfl
    · rfl
def adT (n : Nat → Nat) (a : Nat → Nat → Int32) (x y : Nat) : SX := (va_up n 6 (n 6 + 1), va_up (va_up a 3 (upd (a 3) (n 6) (nI x))) 4 (upd (a 4) (n 6) (nI y)))
def adV (n : Nat → Nat) (a : Nat → Nat → Int32) (x y : Nat) : SX := (va_up n 11 (n 11 + 1), va_up (va_up a 6 (upd (a 6) (n 11) (nI x))) 7 (upd (a 7) (n 11) (nI y)))
def clG (n : Nat → Nat) (a : Nat → Nat → Int32) : SX := if 0 < n 16 ∧ n 17 = 0 then adV n a (if 1 < n 16 then 1 else 0) 1 else (n, a)
theorem clG_n {n n1 : Nat → Nat} {a a1 : Nat → Nat → Int32} (h : (n1, a1) = clG n a) (k : Nat) (hk : k ≠ 11) : n1 k = n k := by
  have h1 : n1 = (clG n a).1 := by rw [← h]
  rw [h1]
  unfold clG
  split
  · simp [adV, va_up, hk]
  · rfl
theorem clG_0 {n n1 : Nat → Nat} {a a1 : Nat → Nat → Int32} (h : (n1, a1) = clG n a) (h0 : n 16 = 0) : n1 = n ∧ a1 = a := by
  unfold clG at h
  rw [if_neg (by omega)] at h
  exact ⟨congrArg Prod.fst h, congrArg Prod.snd h⟩
def bgX (n : Nat → Nat) (a : Nat → Nat → Int32) (hs : Nat) (x : Int32) : SX := (va_up (va_up (va_up (va_up n 0 1) 16 0) 5 (n 5 + hs)) 1 (n 1 + 1), if hs = 0 then va_up a 1 (upd (a 1) (n 1) (nI hs)) else va_up (va_up a 1 (upd (a 1) (n 1) (nI hs))) 2 (upd (a 2) (n 5) x))
abbrev gpC (n : Nat → Nat) : Prop := n 0 = 1 ∧ n 16 < 4 ∧ n 18 < 40
def gpE (n : Nat → Nat) (a : Nat → Nat → Int32) (hs : Nat) (x : Int32) : SX := (va_up (va_up (va_up (va_up n 10 (n 10 + hs)) 16 (n 16 + 1)) 18 (n 18 + 1)) 17 0, if hs = 0 then a else va_up a 5 (upd (a 5) (n 10) x))
def gpX (n : Nat → Nat) (a : Nat → Nat → Int32) (hs : Nat) (x : Int32) : SX := gpE (adT (clG n a).1 (clG n a).2 (if n 16 = 0 then 0 else 1) (if hs = 0 then 1 else 2)).1 (adT (clG n a).1 (clG n a).2 (if n 16 = 0 then 0 else 1) (if hs = 0 then 1 else 2)).2 hs x
abbrev vlC (n : Nat → Nat) : Prop := n 0 = 1 ∧ ¬ n 16 = 0 ∧ n 17 < 4 ∧ n 15 < 60
def vlT (n : Nat → Nat) : Nat := if 0 < n 17 then 2 else if 1 < n 16 then 1 else 0
def vlX (n : Nat → Nat) (a : Nat → Nat → Int32) (x : Int32) : SX := (va_up (va_up (va_up n 11 (n 11 + 1)) 15 (n 15 + 1)) 17 (n 17 + 1), va_up (va_up (va_up a 6 (upd (a 6) (n 11) (nI (vlT n)))) 7 (upd (a 7) (n 11) (nI 2))) 8 (upd (a 8) (n 15) x))
def enE (n : Nat → Nat) (a : Nat → Nat → Int32) : SX := (va_up (va_up n 0 0) 2 (n 2 + 1), a)
def enX (n : Nat → Nat) (a : Nat → Nat → Int32) : SX := if n 16 = 0 then enE (va_up (va_up n 6 (n 6 + 1)) 11 (n 11 + 1)) (va_up (va_up (va_up (va_up a 3 (upd (a 3) (n 6) (nI 0))) 4 (upd (a 4) (n 6) (nI 0))) 6 (upd (a 6) (n 11) (nI 0))) 7 (upd (a 7) (n 11) (nI 0))) else enE (clG n a).1 (clG n a).2
/-- how many tag entries have their values' entries -/
def tC (n : Nat → Nat) : Nat := if n 0 = 1 ∧ 0 < n 16 ∧ n 17 = 0 then n 6 - 1 else n 6
/-- THE STORE'S INVARIANT. gO r: the groups of record r; vn e: the values of tag entry e -/
def XI1 (n : Nat → Nat) (a : Nat → Nat → Int32) : Prop := n 0 ≤ 1 ∧ n 1 = n 2 + n 0 ∧ n 1 ≤ 12 ∧ n 5 = dr_cb (a 1) (n 1) ∧ ∀ r, r < n 1 → a 1 r = 0 ∨ a 1 r = 1
def XI2 (gO : Nat → Nat) (n : Nat → Nat) : Prop := (∀ r, n 1 ≤ r → gO r = 0) ∧ (∀ r, gO r ≤ 4) ∧ n 18 = dr_bs gO (n 1) ∧ n 18 ≤ 40 ∧ n 6 = dr_sT gO (n 2) + gO (n 2) ∧ (n 0 = 1 → n 16 = gO (n 2)) ∧ n 16 ≤ 4 ∧ n 17 ≤ 4
def XI3 (gO vn : Nat → Nat) (n : Nat → Nat) (a : Nat → Nat → Int32) : Prop := (∀ r g, r ≤ n 2 → g < gO r → a 3 (dr_sT gO r + g) = nI (if g = 0 then 0 else 1) ∧ (a 4 (dr_sT gO r + g) = 1 ∨ a 4 (dr_sT gO r + g) = 2)) ∧ (∀ r, r < n 2 → gO r = 0 → a 3 (dr_sT gO r) = 0 ∧ a 4 (dr_sT gO r) = 0 ∧ vn (dr_sT gO r) = 0) ∧ n 10 = dr_c2 (a 4) (n 6) ∧ n 10 ≤ n 18
def XI4 (vn : Nat → Nat) (n : Nat → Nat) : Prop := (∀ e, n 6 ≤ e → vn e = 0) ∧ (∀ e, vn e ≤ 4) ∧ n 15 = dr_bs vn (n 6) ∧ n 15 ≤ 60 ∧ n 11 = dr_sV vn (tC n) ∧ (n 0 = 1 → 0 < n 16 → n 17 = vn (n 6 - 1))
def XI5 (vn : Nat → Nat) (n : Nat → Nat) (a : Nat → Nat → Int32) : Prop := ∀ e, e < tC n → a 6 (dr_sV vn e) = a 3 e ∧ (∀ k, 0 < k → k < vn e → a 6 (dr_sV vn e + k) = 2) ∧ (∀ k, k < vn e → a 7 (dr_sV vn e + k) = 2) ∧ (vn e = 0 → a 7 (dr_sV vn e) < 2)
def XI (gO vn : Nat → Nat) (n : Nat → Nat) (a : Nat → Nat → Int32) : Prop := XI1 n a ∧ XI2 gO n ∧ XI3 gO vn n a ∧ XI4 vn n ∧ XI5 vn n a
theorem XI_fd {gO vn n : Nat → Nat} {a : Nat → Nat → Int32} {x y : Nat} (h : XI gO vn n a) : XI gO vn (fd n x y) a := h
theorem ite01 {P : Prop} [Decidable P] : (if P then (0 : Int32) else 1) = 0 ↔ P := by
  constructor
  · intro h
    by_cases hp : P
    · exact hp
    · rw [if_neg hp] at h; exact absurd h (by decide)
  · intro h; exact if_pos h
theorem ite10 {P : Prop} [Decidable P] : (if P then (1 : Int32) else 0) = 0 ↔ ¬ P := by
  constructor
  · intro h hp
    rw [if_pos hp] at h; exact absurd h (by decide)
  · intro h; exact if_neg h
/-! the answers, as both classes give them -/
def ansG (gO : Nat → Nat) (N : Nat) (p : Int32) : Int32 := if outR p N then -1 else nI (gO p.toNatClampNeg)
abbrev outG (gO : Nat → Nat) (N : Nat) (p z : Int32) : Prop := outR p N ∨ outR z (gO p.toNatClampNeg)
def ansV (gO : Nat → Nat) (vf : Nat → Nat → Nat) (N : Nat) (p z : Int32) : Int32 := if outG gO N p z then -1 else nI (vf p.toNatClampNeg z.toNatClampNeg)
def ansA (gO : Nat → Nat) (vf : Nat → Nat → Nat) (xf : Nat → Nat → Nat → Int32) (N : Nat) (p z k : Int32) : Int32 := if outG gO N p z ∨ outR k (vf p.toNatClampNeg z.toNatClampNeg) then 0 else xf p.toNatClampNeg z.toNatClampNeg k.toNatClampNeg
def ansH (nt : Nat → Int32) (N : Nat) (p : Int32) : Int32 := if outR p N then -1 else nI (if nt p.toNatClampNeg = 0 then 0 else 1)
def ansL (gO : Nat → Nat) (lf : Nat → Int32) (tf : Nat → Nat → Int32) (N : Nat) (p z : Int32) : Int32 := if outR p N then 0 else if z = -1 then lf p.toNatClampNeg else if outR z (gO p.toNatClampNeg) then 0 else tf p.toNatClampNeg z.toNatClampNeg
theorem outR_ex {p : Int32} {N : Nat} (h : ¬ outR p N) (hN : N ≤ 1000) : ∃ j : Nat, j < N ∧ p = nI j := by
  rcases outR_cases p (show N < 2 ^ 31 by omega) with g | g
  · exact absurd g h
  · exact g
theorem cl_nI {j : Nat} (h : j < 1000) : (nI j).toNatClampNeg = j := nI_clamp (by omega)
theorem outG_ex {gO : Nat → Nat} {N : Nat} {p z : Int32} (h : ¬ outG gO N p z) (hN : N ≤ 12) (hg : ∀ r, gO r ≤ 4) : ∃ R G : Nat, R < N ∧ G < gO R ∧ p = nI R ∧ z = nI G := by
  obtain ⟨R, hR, rfl⟩ := outR_ex (fun q => h (Or.inl q)) (show N ≤ 1000 by omega)
  have h2 : ¬ outR z (gO R) := fun q => h (Or.inr (by rw [cl_nI (by omega)]; exact q))
  have := hg R
  obtain ⟨G, hG, rfl⟩ := outR_ex h2 (by omega)
  exact ⟨R, G, hR, hG, rfl, rfl⟩
/-! the two long walks of the store, entry by entry -/
def sbW (n : Nat → Nat) (a : Nat → Nat → Int32) (tag : Int32) : Nat → Nat
  | 0 => 0
  | i + 1 => if a 6 i < 2 then (if a 4 (dr_en (a 6) i) = 2 ∧ a 5 (dr_c2 (a 4) (dr_en (a 6) i)) = tag ∧ dr_zc (a 6) (i + 1) ≤ n 2 then 1 else 0) else sbW n a tag i
def sbS (n : Nat → Nat) (a : Nat → Nat → Int32) (tag : Int32) : Nat → Int32
  | 0 => 0
  | i + 1 => if a 7 i = 2 then sbS n a tag i + (if sbW n a tag (i + 1) = 0 then 0 else a 8 (dr_c2 (a 7) i)) else sbS n a tag i
theorem sbW_le (n : Nat → Nat) (a : Nat → Nat → Int32) (tag : Int32) : ∀ i, sbW n a tag i ≤ 1
  | 0 => Nat.zero_le _
  | i + 1 => by
    have := sbW_le n a tag i
    rw [sbW]
    split
    · split <;> omega
    · exact this
abbrev rwC (n : Nat → Nat) (a : Nat → Nat → Int32) (lo hi : Int32) (i ls : Nat) : Prop := a 7 i = 2 ∧ ¬ a 8 (dr_c2 (a 7) i) < lo ∧ ¬ hi < a 8 (dr_c2 (a 7) i) ∧ ¬ dr_zc (a 6) (i + 1) = ls ∧ dr_zc (a 6) (i + 1) ≤ n 2
def rwP (n : Nat → Nat) (a : Nat → Nat → Int32) (lo hi : Int32) : Nat → Nat × Nat
  | 0 => (0, 0)
  | i + 1 => if rwC n a lo hi i (rwP n a lo hi i).2 then ((rwP n a lo hi i).1 + 1, dr_zc (a 6) (i + 1)) else rwP n a lo hi i
theorem rwP_le (n : Nat → Nat) (a : Nat → Nat → Int32) (lo hi : Int32) : ∀ i, (rwP n a lo hi i).1 ≤ i ∧ (rwP n a lo hi i).2 ≤ i
  | 0 => ⟨Nat.le_refl _, Nat.le_refl _⟩
  | i + 1 => by
    have := rwP_le n a lo hi i
    rw [rwP]
    split
    · refine ⟨by dsimp only; omega, ?_⟩
      dsimp only
      exact dr_zc_ub (a 6) (i + 1)
    · omega
end
section
set_option maxRecDepth 100000
/-! what the invariant says of the columns, for the walks -/
theorem dr_bs_congr {f g : Nat → Nat} : ∀ {k : Nat}, (∀ i, i < k → f i = g i) → dr_bs f k = dr_bs g k
  | 0, _ => rfl
  | k + 1, h => by
    simp only [dr_bs]
    rw [dr_bs_congr (fun i hi => h i (by omega)), h k (by omega)]
theorem dr_bs_le {f : Nat → Nat} {i k : Nat} (h : i ≤ k) : dr_bs f i ≤ dr_bs f k := by
  induction k with
  | zero => rw [Nat.le_zero.mp h]; exact Nat.le_refl _
  | succ k ih =>
    rcases Nat.lt_or_ge i (k + 1) with g | g
    · exact Nat.le_trans (ih (by omega)) (Nat.le_add_right _ _)
    · rw [show i = k + 1 by omega]; exact Nat.le_refl _
theorem dr_bs_dec {f : Nat → Nat} : ∀ (N i : Nat), i < dr_bs f N → ∃ r g, r < N ∧ g < f r ∧ i = dr_bs f r + g
  | 0, i, h => absurd h (Nat.not_lt_zero _)
  | N + 1, i, h => by
    by_cases hi : i < dr_bs f N
    · obtain ⟨r, g, h1, h2, h3⟩ := dr_bs_dec N i hi
      exact ⟨r, g, by omega, h2, h3⟩
    · simp only [dr_bs] at h
      exact ⟨N, i - dr_bs f N, by omega, by omega, by omega⟩
theorem dr_o1_pos (x : Nat) : 0 < dr_o1 x := by
  unfold dr_o1
  split <;> omega
theorem dr_o1_ge (x : Nat) : x ≤ dr_o1 x := by
  unfold dr_o1
  split <;> omega
theorem dr_o1_le (x : Nat) : dr_o1 x ≤ x + 1 := by
  unfold dr_o1
  split <;> omega
theorem dr_o1_eq {x : Nat} (h : 0 < x) : dr_o1 x = x := by
  unfold dr_o1
  rw [if_neg (by omega)]
theorem dr_o1_0 : dr_o1 0 = 1 := rfl
theorem dr_sT_s (gO : Nat → Nat) (r : Nat) : dr_sT gO (r + 1) = dr_sT gO r + dr_o1 (gO r) := rfl
theorem dr_sV_s (vn : Nat → Nat) (e : Nat) : dr_sV vn (e + 1) = dr_sV vn e + dr_o1 (vn e) := rfl
theorem dr_bs_ub (f : Nat → Nat) : ∀ k, dr_bs (fun r => dr_o1 (f r)) k ≤ dr_bs f k + k
  | 0 => Nat.le_refl _
  | k + 1 => by
    have := dr_bs_ub f k
    have := dr_o1_le (f k)
    simp only [dr_bs]
    omega
theorem dr_zc_le (t : Nat → Int32) : ∀ k, dr_zc t k ≤ k
  | 0 => Nat.le_refl _
  | k + 1 => by
    have := dr_zc_le t k
    simp only [dr_zc]
    split <;> omega
theorem dr_gc_le (t : Nat → Int32) : ∀ k, dr_gc t k ≤ k
  | 0 => Nat.le_refl _
  | k + 1 => by
    have := dr_gc_le t k
    simp only [dr_gc]
    split <;> omega
theorem dr_gw_le (t : Nat → Int32) : ∀ k, dr_gw t k ≤ k
  | 0 => Nat.le_refl _
  | k + 1 => by
    have := dr_gw_le t k
    simp only [dr_gw]
    split
    · omega
    · split <;> omega
theorem dr_c2_le (t : Nat → Int32) : ∀ k, dr_c2 t k ≤ k
  | 0 => Nat.le_refl _
  | k + 1 => by
    have := dr_c2_le t k
    simp only [dr_c2]
    split <;> omega
theorem dr_cb_le (t : Nat → Int32) : ∀ k, dr_cb t k ≤ k
  | 0 => Nat.le_refl _
  | k + 1 => by
    have := dr_cb_le t k
    simp only [dr_cb]
    split <;> omega
theorem dr_en_le (t : Nat → Int32) : ∀ k, dr_en t k ≤ k
  | 0 => Nat.le_refl _
  | k + 1 => by
    have := dr_en_le t k
    simp only [dr_en]
    split <;> omega
theorem dr_c2_mono {t : Nat → Int32} {i k : Nat} (h : i ≤ k) : dr_c2 t i ≤ dr_c2 t k := by
  induction k with
  | zero => rw [Nat.le_zero.mp h]; exact Nat.le_refl _
  | succ k ih =>
    rcases Nat.lt_or_ge i (k + 1) with g | g
    · exact Nat.le_trans (ih (by omega)) (Nat.le_add_right _ _)
    · rw [show i = k + 1 by omega]; exact Nat.le_refl _
theorem dr_cb_mono {t : Nat → Int32} {i k : Nat} (h : i ≤ k) : dr_cb t i ≤ dr_cb t k := by
  induction k with
  | zero => rw [Nat.le_zero.mp h]; exact Nat.le_refl _
  | succ k ih =>
    rcases Nat.lt_or_ge i (k + 1) with g | g
    · exact Nat.le_trans (ih (by omega)) (Nat.le_add_right _ _)
    · rw [show i = k + 1 by omega]; exact Nat.le_refl _
section XIP
variable {gO vn n : Nat → Nat} {a : Nat → Nat → Int32}
theorem xi_18 (h : XI gO vn n a) : n 18 = dr_bs gO (n 2) + gO (n 2) := by
  obtain ⟨⟨h0, h1, -⟩, ⟨g0, g1, g2, -⟩, -⟩ := h
  rcases (show n 0 = 0 ∨ n 0 = 1 by omega) with e | e
  · rw [g2, g0 (n 2) (by omega), show n 1 = n 2 by omega]; rfl
  · rw [g2, show n 1 = n 2 + 1 by omega]; rfl
theorem xi_b6 (h : XI gO vn n a) : n 6 ≤ n 18 + n 2 := by
  have h18 := xi_18 h
  obtain ⟨-, ⟨-, -, -, -, g6, -⟩, -⟩ := h
  have := dr_bs_ub gO (n 2)
  unfold dr_sT at g6
  omega
theorem xi_2 (h : XI gO vn n a) : n 2 ≤ 12 := by
  obtain ⟨⟨h0, h1, h2, -⟩, -⟩ := h
  omega
theorem xi_6 (h : XI gO vn n a) : n 6 ≤ 52 := by
  have := xi_b6 h
  have := xi_2 h
  obtain ⟨-, ⟨-, -, -, g4, -⟩, -⟩ := h
  omega
theorem tC_le (n : Nat → Nat) : tC n ≤ n 6 := by
  unfold tC
  split <;> omega
theorem xi_b11 (h : XI gO vn n a) : n 11 ≤ n 15 + tC n := by
  obtain ⟨-, -, -, ⟨-, -, v2, -, v4, -⟩, -⟩ := h
  have h1 := dr_bs_ub vn (tC n)
  have h2 := dr_bs_le (f := vn) (tC_le n)
  unfold dr_sV at v4
  omega
theorem xi_11 (h : XI gO vn n a) : n 11 ≤ 112 := by
  have h1 := xi_b11 h
  have h2 := xi_6 h
  have h3 := tC_le n
  obtain ⟨-, -, -, ⟨-, -, -, v3, -⟩, -⟩ := h
  omega
/-- entry g of record r is there -/
def dr_ok (gO n : Nat → Nat) (r g : Nat) : Prop := (r < n 2 ∧ g < dr_o1 (gO r)) ∨ (r = n 2 ∧ g < gO r)
theorem dr_ok_le {r g : Nat} (hv : dr_ok gO n r g) : r ≤ n 2 := by
  rcases hv with h | h <;> omega
theorem xi_ta (h : XI gO vn n a) {r g : Nat} (hv : dr_ok gO n r g) : a 3 (dr_sT gO r + g) = nI (if g = 0 then 0 else 1) := by
  obtain ⟨-, -, ⟨t1, t2, -⟩, -⟩ := h
  rcases hv with ⟨h1, h2⟩ | ⟨h1, h2⟩
  · by_cases hz : gO r = 0
    · rw [hz, dr_o1_0] at h2
      have : g = 0 := by omega
      subst this
      exact (t2 r h1 hz).1
    · rw [dr_o1_eq (by omega)] at h2
      exact (t1 r g (by omega) h2).1
  · exact (t1 r g (by omega) h2).1
theorem xi_in (h : XI gO vn n a) {r : Nat} (hz : dr_zc (a 3) (dr_sT gO r) = r) : ∀ g, dr_ok gO n r g → dr_zc (a 3) (dr_sT gO r + g + 1) = r + 1 ∧ dr_gc (a 3) (dr_sT gO r + g + 1) = g := by
  intro g
  induction g with
  | zero =>
    intro hv
    have ht := xi_ta h hv
    have ht : a 3 (dr_sT gO r + 0) = 0 := ht
    rw [Nat.add_zero] at ht ⊢
    rw [dr_zc, dr_gc, if_pos ht, if_pos ht, hz]
    exact ⟨rfl, rfl⟩
  | succ g ih =>
    intro hv
    have ht := xi_ta h hv
    rw [if_neg (by omega)] at ht
    have hne : ¬ a 3 (dr_sT gO r + (g + 1)) = 0 := by rw [ht]; decide
    obtain ⟨i1, i2⟩ := ih (by rcases hv with ⟨h1, h2⟩ | ⟨h1, h2⟩; exact Or.inl ⟨h1, by omega⟩; exact Or.inr ⟨h1, by omega⟩)
    rw [Nat.add_assoc] at i1 i2
    rw [dr_zc, dr_gc, if_neg hne, if_neg hne, i1, i2]
    exact ⟨rfl, rfl⟩
theorem xi_zT (h : XI gO vn n a) : ∀ r, r ≤ n 2 → dr_zc (a 3) (dr_sT gO r) = r := by
  intro r
  induction r with
  | zero => intro _; rfl
  | succ r ih =>
    intro hr
    have hp := dr_o1_pos (gO r)
    have := (xi_in h (ih (by omega)) (dr_o1 (gO r) - 1) (Or.inl ⟨by omega, by omega⟩)).1
    rw [dr_sT_s, ← this]
    congr 1
    omega
theorem xi_pos (h : XI gO vn n a) {r g : Nat} (hv : dr_ok gO n r g) : dr_zc (a 3) (dr_sT gO r + g + 1) = r + 1 ∧ dr_gc (a 3) (dr_sT gO r + g + 1) = g := xi_in h (xi_zT h r (dr_ok_le hv)) g hv
theorem xi_dec (h : XI gO vn n a) {i : Nat} (hi : i < n 6) : ∃ r g, dr_ok gO n r g ∧ i = dr_sT gO r + g := by
  obtain ⟨-, ⟨-, -, -, -, g6, -⟩, -⟩ := h
  by_cases hlt : i < dr_sT gO (n 2)
  · obtain ⟨r, g, h1, h2, h3⟩ := dr_bs_dec (n 2) i hlt
    exact ⟨r, g, Or.inl ⟨h1, h2⟩, h3⟩
  · exact ⟨n 2, i - dr_sT gO (n 2), Or.inr ⟨rfl, by omega⟩, by omega⟩
theorem xi_lt (h : XI gO vn n a) {r g : Nat} (hv : dr_ok gO n r g) : dr_sT gO r + g < n 6 := by
  obtain ⟨-, ⟨-, -, -, -, g6, -⟩, -⟩ := h
  rcases hv with ⟨h1, h2⟩ | ⟨h1, h2⟩
  · have : dr_sT gO (r + 1) ≤ dr_sT gO (n 2) := dr_bs_le h1
    rw [dr_sT_s] at this
    omega
  · subst h1
    omega
theorem xi_uniq (h : XI gO vn n a) {r g i : Nat} (hv : dr_ok gO n r g) (hi : i < n 6) (h1 : dr_zc (a 3) (i + 1) = r + 1) (h2 : dr_gc (a 3) (i + 1) = g) : i = dr_sT gO r + g := by
  obtain ⟨r', g', hv', rfl⟩ := xi_dec h hi
  obtain ⟨p1, p2⟩ := xi_pos h hv'
  have : r' = r := by omega
  have : g' = g := by omega
  subst r' g'
  rfl
/-- the walk over the tags finds entry g of record r -/
theorem xi_tag (h : XI gO vn n a) {r g : Nat} (hv : dr_ok gO n r g) : dr_sT gO r + g < n 6 ∧ dr_zc (a 3) (dr_sT gO r + g + 1) = r + 1 ∧ dr_gc (a 3) (dr_sT gO r + g + 1) = g ∧ ∀ i, i < dr_sT gO r + g → ¬ (dr_zc (a 3) (i + 1) = r + 1 ∧ dr_gc (a 3) (i + 1) = g) := by
  have hlt := xi_lt h hv
  refine ⟨hlt, (xi_pos h hv).1, (xi_pos h hv).2, fun i hi hc => ?_⟩
  have := xi_uniq h hv (by omega) hc.1 hc.2
  omega
theorem xi_t01 (h : XI gO vn n a) {e : Nat} (he : e < n 6) : a 3 e = 0 ∨ a 3 e = 1 := by
  obtain ⟨r, g, hv, rfl⟩ := xi_dec h he
  rw [xi_ta h hv]
  split
  · exact Or.inl rfl
  · exact Or.inr rfl
theorem xi_vin (h : XI gO vn n a) {e : Nat} (he : e < tC n) (hs : dr_zc (a 6) (dr_sV vn e) = dr_zc (a 3) e ∧ dr_gw (a 6) (dr_sV vn e) = dr_gc (a 3) e ∧ dr_c2 (a 7) (dr_sV vn e) = dr_bs vn e ∧ dr_en (a 6) (dr_sV vn e) = e) : ∀ k, k < dr_o1 (vn e) → dr_zc (a 6) (dr_sV vn e + k + 1) = dr_zc (a 3) (e + 1) ∧ dr_gw (a 6) (dr_sV vn e + k + 1) = dr_gc (a 3) (e + 1) ∧ dr_c2 (a 7) (dr_sV vn e + k + 1) = dr_bs vn e + (if vn e = 0 then 0 else k + 1) ∧ dr_en (a 6) (dr_sV vn e + k + 1) = e + 1 := by
  have h01 := xi_t01 h (Nat.lt_of_lt_of_le he (tC_le n))
  obtain ⟨b1, b2, b3, b4⟩ := h.2.2.2.2 e he
  obtain ⟨s1, s2, s3, s4⟩ := hs
  intro k
  induction k with
  | zero =>
    intro hk
    rw [Nat.add_zero]
    have c7 : (if a 7 (dr_sV vn e) = 2 then 1 else 0) = (if vn e = 0 then 0 else 0 + 1) := by
      by_cases hz : vn e = 0
      · have h2 := b4 hz
        rw [if_pos hz, if_neg]
        intro hc
        rw [hc] at h2
        exact absurd h2 (by decide)
      · have := b3 0 (by omega)
        rw [Nat.add_zero] at this
        rw [if_neg hz, if_pos this]
    refine ⟨?_, ?_, ?_, ?_⟩
    · rw [dr_zc, dr_zc, b1, s1]
    · rw [dr_gw, dr_gc, b1, s2]
      rcases h01 with z | z
      · rw [if_pos z, if_pos z]
      · rw [z]; rfl
    · rw [dr_c2, s3, c7]
    · rw [dr_en, s4, b1, if_pos]
      rcases h01 with z | z <;> rw [z] <;> decide
  | succ k ih =>
    intro hk
    have hpos : 0 < vn e := by
      rcases Nat.eq_zero_or_pos (vn e) with z | z
      · rw [z, dr_o1_0] at hk; omega
      · exact z
    have hk2 : k + 1 < vn e := by rw [dr_o1_eq hpos] at hk; exact hk
    obtain ⟨i1, i2, i3, i4⟩ := ih (by omega)
    rw [Nat.add_assoc] at i1 i2 i3 i4
    have q6 := b2 (k + 1) (by omega) hk2
    have q7 := b3 (k + 1) hk2
    refine ⟨?_, ?_, ?_, ?_⟩
    · rw [dr_zc, i1, q6]; rfl
    · rw [dr_gw, i2, q6]; rfl
    · rw [dr_c2, i3, if_pos q7, if_neg (show ¬ vn e = 0 by omega), if_neg (show ¬ vn e = 0 by omega)]; rfl
    · rw [dr_en, i4, q6]; rfl
theorem xi_vS (h : XI gO vn n a) : ∀ e, e ≤ tC n → dr_zc (a 6) (dr_sV vn e) = dr_zc (a 3) e ∧ dr_gw (a 6) (dr_sV vn e) = dr_gc (a 3) e ∧ dr_c2 (a 7) (dr_sV vn e) = dr_bs vn e ∧ dr_en (a 6) (dr_sV vn e) = e := by
  intro e
  induction e with
  | zero => intro _; exact ⟨rfl, rfl, rfl, rfl⟩
  | succ e ih =>
    intro he
    have hp := dr_o1_pos (vn e)
    obtain ⟨i1, i2, i3, i4⟩ := xi_vin h (by omega) (ih (by omega)) (dr_o1 (vn e) - 1) (by omega)
    have hx : dr_sV vn e + (dr_o1 (vn e) - 1) + 1 = dr_sV vn (e + 1) := by rw [dr_sV_s]; omega
    rw [hx] at i1 i2 i3 i4
    refine ⟨i1, i2, ?_, i4⟩
    rw [i3, dr_bs]
    congr 1
    by_cases hz : vn e = 0
    · rw [if_pos hz, hz]
    · rw [if_neg hz, dr_o1_eq (by omega)]; omega
theorem xi_vpos (h : XI gO vn n a) {e k : Nat} (he : e < tC n) (hk : k < dr_o1 (vn e)) : dr_zc (a 6) (dr_sV vn e + k + 1) = dr_zc (a 3) (e + 1) ∧ dr_gw (a 6) (dr_sV vn e + k + 1) = dr_gc (a 3) (e + 1) ∧ dr_c2 (a 7) (dr_sV vn e + k + 1) = dr_bs vn e + (if vn e = 0 then 0 else k + 1) ∧ dr_en (a 6) (dr_sV vn e + k + 1) = e + 1 := xi_vin h he (xi_vS h e (by omega)) k hk
theorem xi_vdec (h : XI gO vn n a) {i : Nat} (hi : i < n 11) : ∃ e k, e < tC n ∧ k < dr_o1 (vn e) ∧ i = dr_sV vn e + k := by
  rw [h.2.2.2.1.2.2.2.2.1] at hi
  exact dr_bs_dec (tC n) i hi
/-- an ended record's entries have their values' entries -/
theorem xi_end_tC (h : XI gO vn n a) {r g : Nat} (hr : r < n 2) (hg : g < dr_o1 (gO r)) : dr_sT gO r + g + 1 ≤ tC n := by
  obtain ⟨-, ⟨-, -, -, -, g6, g16, -⟩, -⟩ := h
  have : dr_sT gO (r + 1) ≤ dr_sT gO (n 2) := dr_bs_le hr
  rw [dr_sT_s] at this
  unfold tC
  split
  · next hc =>
    have := g16 hc.1
    omega
  · omega
theorem xi_vlt (h : XI gO vn n a) {e k : Nat} (he : e < tC n) (hk : k < dr_o1 (vn e)) : dr_sV vn e + k < n 11 := by
  rw [h.2.2.2.1.2.2.2.2.1]
  have : dr_sV vn (e + 1) ≤ dr_sV vn (tC n) := dr_bs_le he
  rw [dr_sV_s] at this
  omega
/-- the walk over the values finds the first entry of group g of record r -/
theorem xi_val (h : XI gO vn n a) {r g : Nat} (hr : r < n 2) (hg : g < gO r) : dr_sV vn (dr_sT gO r + g) < n 11 ∧ dr_zc (a 6) (dr_sV vn (dr_sT gO r + g) + 1) = r + 1 ∧ dr_gw (a 6) (dr_sV vn (dr_sT gO r + g) + 1) = g ∧ ∀ i, i < dr_sV vn (dr_sT gO r + g) → ¬ (dr_zc (a 6) (i + 1) = r + 1 ∧ dr_gw (a 6) (i + 1) = g) := by
  have hge := dr_o1_ge (gO r)
  have hv : dr_ok gO n r g := Or.inl ⟨hr, by omega⟩
  have he := xi_end_tC h hr (show g < dr_o1 (gO r) by omega)
  have hp := dr_o1_pos (vn (dr_sT gO r + g))
  obtain ⟨p1, p2, -, -⟩ := xi_vpos h he hp
  rw [Nat.add_zero, (xi_pos h hv).1] at p1
  rw [Nat.add_zero, (xi_pos h hv).2] at p2
  refine ⟨xi_vlt h he hp, p1, p2, fun i hi hc => ?_⟩
  have hin : i < n 11 := by have := xi_vlt h he hp; omega
  obtain ⟨e', k', h1, h2, rfl⟩ := xi_vdec h hin
  obtain ⟨q1, q2, -, -⟩ := xi_vpos h h1 h2
  rw [q1, q2] at hc
  have := xi_uniq h hv (Nat.lt_of_lt_of_le h1 (tC_le n)) hc.1 hc.2
  subst this
  omega
theorem xi_td (h : XI gO vn n a) {r : Nat} (hr : r < n 2) : a 4 (dr_sT gO r) = 0 ↔ gO r = 0 := by
  obtain ⟨-, -, ⟨t1, t2, -⟩, -⟩ := h
  constructor
  · intro hz
    rcases Nat.eq_zero_or_pos (gO r) with z | z
    · exact z
    · rcases (t1 r 0 (by omega) z).2 with q | q <;> rw [Nat.add_zero, hz] at q <;> exact absurd q (by decide)
  · intro hz
    exact (t2 r hr hz).2.1
theorem xi_more (h : XI gO vn n a) {r j : Nat} (hr : r < n 2) (h0 : 0 < j) (hj : j < gO r) : ¬ a 3 (dr_sT gO r + j) ≤ 0 := by
  have hge := dr_o1_ge (gO r)
  rw [xi_ta h (Or.inl ⟨hr, by omega⟩), if_neg (by omega)]
  decide
theorem xi_gend (h : XI gO vn n a) {r : Nat} (hr : r < n 2) (hg : 0 < gO r) : dr_sT gO r + gO r ≤ n 6 ∧ (dr_sT gO r + gO r < n 6 → a 3 (dr_sT gO r + gO r) ≤ 0) := by
  have hs : dr_sT gO r + gO r = dr_sT gO (r + 1) := by rw [dr_sT_s, dr_o1_eq hg]
  have hle : dr_sT gO (r + 1) ≤ dr_sT gO (n 2) := dr_bs_le hr
  have g6 := h.2.1.2.2.2.2.1
  refine ⟨by omega, fun hlt => ?_⟩
  have hv : dr_ok gO n (r + 1) 0 := by
    rcases Nat.lt_or_ge (r + 1) (n 2) with q | q
    · exact Or.inl ⟨q, dr_o1_pos _⟩
    · have : r + 1 = n 2 := by omega
      rw [hs, this] at hlt
      exact Or.inr ⟨this, by rw [this]; omega⟩
  have := xi_ta h hv
  rw [Nat.add_zero, ← hs] at this
  rw [this]
  decide
theorem xi_vd (h : XI gO vn n a) {e : Nat} (he : e < tC n) : (2 ≤ a 7 (dr_sV vn e) → 0 < vn e) ∧ (¬ 2 ≤ a 7 (dr_sV vn e) → vn e = 0) := by
  obtain ⟨b1, b2, b3, b4⟩ := h.2.2.2.2 e he
  constructor
  · intro h2
    rcases Nat.eq_zero_or_pos (vn e) with z | z
    · exact absurd (b4 z) (by rw [Int32.not_lt]; exact h2)
    · exact z
  · intro h2
    rcases Nat.eq_zero_or_pos (vn e) with z | z
    · exact z
    · have := b3 0 z
      rw [Nat.add_zero] at this
      rw [this] at h2
      exact absurd (by decide) h2
theorem xi_vmore (h : XI gO vn n a) {e j : Nat} (he : e < tC n) (h0 : 0 < j) (hj : j < vn e) : a 6 (dr_sV vn e + j) = 2 := (h.2.2.2.2 e he).2.1 j h0 hj
theorem xi_vend (h : XI gO vn n a) {e : Nat} (he : e < tC n) (hv : 0 < vn e) : dr_sV vn e + vn e ≤ n 11 ∧ (dr_sV vn e + vn e < n 11 → ¬ a 6 (dr_sV vn e + vn e) = 2) := by
  have hs : dr_sV vn e + vn e = dr_sV vn (e + 1) := by rw [dr_sV_s, dr_o1_eq hv]
  have hle : dr_sV vn (e + 1) ≤ dr_sV vn (tC n) := dr_bs_le he
  have g11 := h.2.2.2.1.2.2.2.2.1
  refine ⟨by omega, fun hlt => ?_⟩
  have hlt2 : e + 1 < tC n := by
    rcases Nat.lt_or_ge (e + 1) (tC n) with q | q
    · exact q
    · rw [show e + 1 = tC n by omega] at hs
      omega
  rw [hs, (h.2.2.2.2 (e + 1) hlt2).1]
  rcases xi_t01 h (Nat.lt_of_lt_of_le hlt2 (tC_le n)) with z | z <;> rw [z] <;> decide
theorem xi_t40 (h : XI gO vn n a) {e : Nat} (he : e < n 6) (h2 : a 4 e = 2) : dr_c2 (a 4) e < 40 := by
  have h1 := dr_c2_mono (t := a 4) (show e + 1 ≤ n 6 by omega)
  rw [dr_c2, if_pos h2] at h1
  obtain ⟨-, ⟨-, -, -, g4, -⟩, ⟨-, -, t3, t4⟩, -⟩ := h
  omega
theorem xi_v60 (h : XI gO vn n a) {i : Nat} (hi : i < n 11) (h2 : a 7 i = 2) : dr_c2 (a 7) i < 60 := by
  have h1 := dr_c2_mono (t := a 7) (show i + 1 ≤ n 11 by omega)
  rw [dr_c2, if_pos h2] at h1
  have h3 := (xi_vS h (tC n) (Nat.le_refl _)).2.2.1
  rw [← h.2.2.2.1.2.2.2.2.1] at h3
  have h4 := dr_bs_le (f := vn) (tC_le n)
  obtain ⟨-, -, -, ⟨-, -, v2, v3, -⟩, -⟩ := h
  omega
theorem xi_e52 (h : XI gO vn n a) {i : Nat} (hi : i < n 11) (h2 : a 6 i < 2) : dr_en (a 6) i < n 6 := by
  obtain ⟨e, k, h1, hk, rfl⟩ := xi_vdec h hi
  rcases Nat.eq_zero_or_pos k with z | z
  · subst z
    rw [Nat.add_zero, (xi_vS h e (by omega)).2.2.2]
    exact Nat.lt_of_lt_of_le h1 (tC_le n)
  · have hpos : 0 < vn e := by
      rcases Nat.eq_zero_or_pos (vn e) with q | q
      · rw [q, dr_o1_0] at hk; omega
      · exact q
    rw [dr_o1_eq hpos] at hk
    rw [xi_vmore h h1 z hk] at h2
    exact absurd h2 (by decide)
theorem xi_nb (h : XI gO vn n a) {r : Nat} (hr : r < n 2) : dr_cb (a 1) r < 12 := by
  have := dr_cb_le (a 1) r
  have := xi_2 h
  omega
theorem xi_p60 (h : XI gO vn n a) {r g k : Nat} (hr : r < n 2) (hg : g < gO r) (hk : k < vn (dr_sT gO r + g)) : dr_bs vn (dr_sT gO r + g) + k < 60 := by
  have hge := dr_o1_ge (gO r)
  have he := xi_lt h (show dr_ok gO n r g from Or.inl ⟨hr, by omega⟩)
  have h4 := dr_bs_le (f := vn) (show dr_sT gO r + g + 1 ≤ n 6 by omega)
  rw [dr_bs] at h4
  obtain ⟨-, -, -, ⟨-, -, v2, v3, -⟩, -⟩ := h
  omega
end XIP
end
section
set_option maxRecDepth 100000
abbrev wsX0_addTagEntry : List Cond := ws_ yX0_addTagEntry cX0_addTagEntry 3 none
set_option maxHeartbeats 4000000 in
set_option maxRecDepth 100000 in
theorem metX0_addTagEntry (l : Launch) (dC : Nat → ClassId) (dI : Nat → Nat → Nat) (cB cI : ClassId) (q : Nat → Nat) (sz : Nat) (n : Nat → Nat) (a : Nat → Nat → Int32) (x y : Nat) (hb0 : n 6 < 52) : Met l yX0_addTagEntry wsX0_addTagEntry ({ frames := 0, cells := 0, slots := 0, locals := 0 }) (va_Pc [.ref (q 0), .int (nI x), .int (nI y)] (PX0 dC dI cB cI q n a sz)) (va_Qv (fun (u : SX) => u = adT n a x y) (BX0 dC dI cB cI q (va_A (WX0 cB cI q n a) sz)) (va_A (WX0 cB cI q n a) sz)) 0 0 (va_A (WX0 cB cI q n a) sz) := by
  refine Met.ofW (cc := cX0_addTagEntry) (maxL := 3) (ret := none) (by decide) rfl ?_
  intro p e s m args below meth c s₁ B hml hv
  obtain ⟨rfl, hsz, hP, hK, hD0⟩ := hv
  have hx := B.exec
  have hb := B.bytes
  have hr := B.returns
  have hts := atoms_spec (ws := wsX0_addTagEntry) B.pre
  have hts : ∀ w ∈ lw_all, w.before _ s = true := fun w h => hts w (List.mem_cons_of_mem _ h)
  have hown : s.vm.findClass RX0 = some m.cls := findClass_of_methodNamed B.named
  have hlocks := B.notSynchronized
  subst hsz
  have hD := hD0.self (sz := s.heap.size)
  generalize hAe : va_A (WX0 cB cI q n a) s.heap.size = A at hD ⊢
  have hA : ∀ q : Nat, s.heap.size ≤ q → A q := fun q h => by rw [← hAe]; exact Or.inr h
  have hl := lv_entry ([.ref (q 0), .int (nI x), .int (nI y)]) (n := 3) (Nat.le_of_ble_eq_true rfl)
  rw [lg_entry_eq]
  generalize (lg_sl ([.ref (q 0), .int (nI x), .int (nI y)]) ++ List.replicate (3 - (lg_sl ([.ref (q 0), .int (nI x), .int (nI y)])).length) Slot.unset).toArray = ls at hl ⊢
  have hl : lv_has ls 3 [(0, .ref (q 0)), (1, .int (nI x)), (2, .int (nI y))] := hl
  suffices hh : ∀ (H : Heap) (locs : List Loc), va_P (dC, dI) vwCl (WX0 cB cI q n a) H → va_S A s.heap H locs → W p l e (headSpec wsX0_addTagEntry ({ frames := 0, cells := 0, slots := 0, locals := 0 })).room s m ([.ref (q 0), .int (nI x), .int (nI y)] : List Value).toArray below meth c H locs 0 0 (MQ below (va_Qv (fun (u : SX) => u = adT n a x y) (BX0 dC dI cB cI q A) A) ([.ref (q 0), .int (nI x), .int (nI y)] : List Value).toArray s 0 0 A) (F0 m 0 ls []) from hh _ _ hP va_S.rf
  clear hP
  intro H locs hP hS
  refine lv_aload_n hx hb dX0_addTagEntry_0 rfl (lv_at hl 0 rfl) ?_
  refine gX0 (v := .ref (q 3)) hx hb hts hown hK hP 7 (by decide) q30 rfl dX0_addTagEntry_1 ?_
  refine lv_aload_n hx hb dX0_addTagEntry_4 rfl (lv_at hl 0 rfl) ?_
  refine gX0 (v := .int (nI (n 6))) hx hb hts hown hK hP 6 (by decide) q29 rfl dX0_addTagEntry_5 ?_
  refine lv_iload_n hx hb dX0_addTagEntry_8 rfl (lv_at hl 1 rfl) ?_
  refine xa_ist (ws' := (WX0 cB cI q n (va_up a 3 (upd (a 3) (n 6) (nI x))))) hx hb hK hP hD hS 3 1 rfl rfl (n 6) (by omega) (by decide) rfl dX0_addTagEntry_9 (fun H locs hP hD hS => ?_)
  refine lv_aload_n hx hb dX0_addTagEntry_10 rfl (lv_at hl 0 rfl) ?_
  refine gX0 (v := .ref (q 4)) hx hb hts hown hK hP 8 (by decide) q31 rfl dX0_addTagEntry_11 ?_
  refine lv_aload_n hx hb dX0_addTagEntry_14 rfl (lv_at hl 0 rfl) ?_
  refine gX0 (v := .int (nI (n 6))) hx hb hts hown hK hP 6 (by decide) q29 rfl dX0_addTagEntry_15 ?_
  refine lv_iload_n hx hb dX0_addTagEntry_18 rfl (lv_at hl 2 rfl) ?_
  refine xa_ist (ws' := (WX0 cB cI q n (va_up (va_up a 3 (upd (a 3) (n 6) (nI x))) 4 (upd (a 4) (n 6) (nI y))))) hx hb hK hP hD hS 4 1 rfl rfl (n 6) (by omega) (by decide) rfl dX0_addTagEntry_19 (fun H locs hP hD hS => ?_)
  refine lv_aload_n hx hb dX0_addTagEntry_20 rfl (lv_at hl 0 rfl) ?_
  refine lv_dup hx hb dX0_addTagEntry_21 rfl ?_
  refine gX0 (v := .int (nI (n 6))) hx hb hts hown hK hP 6 (by decide) q29 rfl dX0_addTagEntry_22 ?_
  refine lv_iconst (v := (nI 1)) hx hb dX0_addTagEntry_25 (by decide) ?_
  refine xn_iadd hx hb dX0_addTagEntry_26 ?_
  refine pX0 (n' := va_up n 6 (n 6 + 1)) (ty := .int) hx hb hts hown hK hP hD hS 6 (by decide) q29 rfl (by decide +kernel) rfl rfl rfl dX0_addTagEntry_27 (fun H locs hP hD hS => ?_)
  exact W.vret hx hb hr (fun t ht hW => ⟨⟨(va_up n 6 (n 6 + 1), va_up (va_up a 3 (upd (a 3) (n 6) (nI x))) 4 (upd (a 4) (n 6) (nI y))), rfl, rfl, by rw [ht]; exact hP, va_K.moved hW.alike hK, hD⟩, hS.F ht⟩) hS.2.2 dX0_addTagEntry_30
abbrev wsX0_addValueEntry : List Cond := ws_ yX0_addValueEntry cX0_addValueEntry 3 none
set_option maxHeartbeats 4000000 in
set_option maxRecDepth 100000 in
theorem metX0_addValueEntry (l : Launch) (dC : Nat → ClassId) (dI : Nat → Nat → Nat) (cB cI : ClassId) (q : Nat → Nat) (sz : Nat) (n : Nat → Nat) (a : Nat → Nat → Int32) (x y : Nat) (hb0 : n 11 < 112) : Met l yX0_addValueEntry wsX0_addValueEntry ({ frames := 0, cells := 0, slots := 0, locals := 0 }) (va_Pc [.ref (q 0), .int (nI x), .int (nI y)] (PX0 dC dI cB cI q n a sz)) (va_Qv (fun (u : SX) => u = adV n a x y) (BX0 dC dI cB cI q (va_A (WX0 cB cI q n a) sz)) (va_A (WX0 cB cI q n a) sz)) 0 0 (va_A (WX0 cB cI q n a) sz) := by
  refine Met.ofW (cc := cX0_addValueEntry) (maxL := 3) (ret := none) (by decide) rfl ?_
  intro p e s m args below meth c s₁ B hml hv
  obtain ⟨rfl, hsz, hP, hK, hD0⟩ := hv
  have hx := B.exec
  have hb := B.bytes
  have hr := B.returns
  have hts := atoms_spec (ws := wsX0_addValueEntry) B.pre
  have hts : ∀ w ∈ lw_all, w.before _ s = true := fun w h => hts w (List.mem_cons_of_mem _ h)
  have hown : s.vm.findClass RX0 = some m.cls := findClass_of_methodNamed B.named
  have hlocks := B.notSynchronized
  subst hsz
  have hD := hD0.self (sz := s.heap.size)
  generalize hAe : va_A (WX0 cB cI q n a) s.heap.size = A at hD ⊢
  have hA : ∀ q : Nat, s.heap.size ≤ q → A q := fun q h => by rw [← hAe]; exact Or.inr h
  have hl := lv_entry ([.ref (q 0), .int (nI x), .int (nI y)]) (n := 3) (Nat.le_of_ble_eq_true rfl)
  rw [lg_entry_eq]
  generalize (lg_sl ([.ref (q 0), .int (nI x), .int (nI y)]) ++ List.replicate (3 - (lg_sl ([.ref (q 0), .int (nI x), .int (nI y)])).length) Slot.unset).toArray = ls at hl ⊢
  have hl : lv_has ls 3 [(0, .ref (q 0)), (1, .int (nI x)), (2, .int (nI y))] := hl
  suffices hh : ∀ (H : Heap) (locs : List Loc), va_P (dC, dI) vwCl (WX0 cB cI q n a) H → va_S A s.heap H locs → W p l e (headSpec wsX0_addValueEntry ({ frames := 0, cells := 0, slots := 0, locals := 0 })).room s m ([.ref (q 0), .int (nI x), .int (nI y)] : List Value).toArray below meth c H locs 0 0 (MQ below (va_Qv (fun (u : SX) => u = adV n a x y) (BX0 dC dI cB cI q A) A) ([.ref (q 0), .int (nI x), .int (nI y)] : List Value).toArray s 0 0 A) (F0 m 0 ls []) from hh _ _ hP va_S.rf
  clear hP
  intro H locs hP hS
  refine lv_aload_n hx hb dX0_addValueEntry_0 rfl (lv_at hl 0 rfl) ?_
  refine gX0 (v := .ref (q 6)) hx hb hts hown hK hP 12 (by decide) q35 rfl dX0_addValueEntry_1 ?_
  refine lv_aload_n hx hb dX0_addValueEntry_4 rfl (lv_at hl 0 rfl) ?_
  refine gX0 (v := .int (nI (n 11))) hx hb hts hown hK hP 11 (by decide) q34 rfl dX0_addValueEntry_5 ?_
  refine lv_iload_n hx hb dX0_addValueEntry_8 rfl (lv_at hl 1 rfl) ?_
  refine xa_ist (ws' := (WX0 cB cI q n (va_up a 6 (upd (a 6) (n 11) (nI x))))) hx hb hK hP hD hS 6 1 rfl rfl (n 11) (by omega) (by decide) rfl dX0_addValueEntry_9 (fun H locs hP hD hS => ?_)
  refine lv_aload_n hx hb dX0_addValueEntry_10 rfl (lv_at hl 0 rfl) ?_
  refine gX0 (v := .ref (q 7)) hx hb hts hown hK hP 13 (by decide) q36 rfl dX0_addValueEntry_11 ?_
  refine lv_aload_n hx hb dX0_addValueEntry_14 rfl (lv_at hl 0 rfl) ?_
  refine gX0 (v := .int (nI (n 11))) hx hb hts hown hK hP 11 (by decide) q34 rfl dX0_addValueEntry_15 ?_
  refine lv_iload_n hx hb dX0_addValueEntry_18 rfl (lv_at hl 2 rfl) ?_
  refine xa_ist (ws' := (WX0 cB cI q n (va_up (va_up a 6 (upd (a 6) (n 11) (nI x))) 7 (upd (a 7) (n 11) (nI y))))) hx hb hK hP hD hS 7 1 rfl rfl (n 11) (by omega) (by decide) rfl dX0_addValueEntry_19 (fun H locs hP hD hS => ?_)
  refine lv_aload_n hx hb dX0_addValueEntry_20 rfl (lv_at hl 0 rfl) ?_
  refine lv_dup hx hb dX0_addValueEntry_21 rfl ?_
  refine gX0 (v := .int (nI (n 11))) hx hb hts hown hK hP 11 (by decide) q34 rfl dX0_addValueEntry_22 ?_
  refine lv_iconst (v := (nI 1)) hx hb dX0_addValueEntry_25 (by decide) ?_
  refine xn_iadd hx hb dX0_addValueEntry_26 ?_
  refine pX0 (n' := va_up n 11 (n 11 + 1)) (ty := .int) hx hb hts hown hK hP hD hS 11 (by decide) q34 rfl (by decide +kernel) rfl rfl rfl dX0_addValueEntry_27 (fun H locs hP hD hS => ?_)
  exact W.vret hx hb hr (fun t ht hW => ⟨⟨(va_up n 11 (n 11 + 1), va_up (va_up a 6 (upd (a 6) (n 11) (nI x))) 7 (upd (a 7) (n 11) (nI y))), rfl, rfl, by rw [ht]; exact hP, va_K.moved hW.alike hK, hD⟩, hS.F ht⟩) hS.2.2 dX0_addValueEntry_30
abbrev wsX0_closeGroup : List Cond := ws_ yX0_closeGroup cX0_closeGroup 1 none
set_option maxHeartbeats 4000000 in
set_option maxRecDepth 100000 in
theorem metX0_closeGroup (l : Launch) (dC : Nat → ClassId) (dI : Nat → Nat → Nat) (cB cI : ClassId) (q : Nat → Nat) (sz : Nat) (n : Nat → Nat) (a : Nat → Nat → Int32)  (h16 : n 16 ≤ 4) (h17 : n 17 ≤ 4) (h11 : 0 < n 16 → n 17 = 0 → n 11 < 112) : Met l yX0_closeGroup wsX0_closeGroup ({ frames := 1, cells := 0, slots := 0, locals := 22 }) (va_Pc [.ref (q 0)] (PX0 dC dI cB cI q n a sz)) (va_Qv (fun (u : SX) => u = clG n a) (BX0 dC dI cB cI q (va_A (WX0 cB cI q n a) sz)) (va_A (WX0 cB cI q n a) sz)) 0 0 (va_A (WX0 cB cI q n a) sz) := by
  refine Met.ofW (cc := cX0_closeGroup) (maxL := 1) (ret := none) (by decide) rfl ?_
  intro p e s m args below meth c s₁ B hml hv
  obtain ⟨rfl, hsz, hP, hK, hD0⟩ := hv
  have hx := B.exec
  have hb := B.bytes
  have hr := B.returns
  have hts := atoms_spec (ws := wsX0_closeGroup) B.pre
  have hts : ∀ w ∈ lw_all, w.before _ s = true := fun w h => hts w (List.mem_cons_of_mem _ h)
  have hown : s.vm.findClass RX0 = some m.cls := findClass_of_methodNamed B.named
  have hlocks := B.notSynchronized
  subst hsz
  have hD := hD0.self (sz := s.heap.size)
  generalize hAe : va_A (WX0 cB cI q n a) s.heap.size = A at hD ⊢
  have hA : ∀ q : Nat, s.heap.size ≤ q → A q := fun q h => by rw [← hAe]; exact Or.inr h
  have hl := lv_entry ([.ref (q 0)]) (n := 1) (Nat.le_of_ble_eq_true rfl)
  rw [lg_entry_eq]
  generalize (lg_sl ([.ref (q 0)]) ++ List.replicate (1 - (lg_sl ([.ref (q 0)])).length) Slot.unset).toArray = ls at hl ⊢
  have hl : lv_has ls 1 [(0, .ref (q 0))] := hl
  suffices hh : ∀ (H : Heap) (locs : List Loc), va_P (dC, dI) vwCl (WX0 cB cI q n a) H → va_S A s.heap H locs → W p l e (headSpec wsX0_closeGroup ({ frames := 1, cells := 0, slots := 0, locals := 22 })).room s m ([.ref (q 0)] : List Value).toArray below meth c H locs 0 0 (MQ below (va_Qv (fun (u : SX) => u = clG n a) (BX0 dC dI cB cI q A) A) ([.ref (q 0)] : List Value).toArray s 0 0 A) (F0 m 0 ls []) from hh _ _ hP va_S.rf
  clear hP
  intro H locs hP hS
  refine lv_aload_n hx hb dX0_closeGroup_0 rfl (lv_at hl 0 rfl) ?_
  refine gX0 (v := .int (nI (n 16))) hx hb hts hown hK hP 16 (by decide) q39 rfl dX0_closeGroup_1 ?_
  refine xn_if_le (tgt := 32) hx hb dX0_closeGroup_4 (by decide) (by omega) (fun c_4 => ?_) (fun c_4 => ?_)
  · exact W.vret hx hb hr (fun t ht hW => ⟨⟨(n, a), rfl, (by rw [clG, if_neg (by omega)]), by rw [ht]; exact hP, va_K.moved hW.alike hK, hD⟩, hS.F ht⟩) hS.2.2 dX0_closeGroup_32
  · refine lv_aload_n hx hb dX0_closeGroup_7 rfl (lv_at hl 0 rfl) ?_
    refine gX0 (v := .int (nI (n 17))) hx hb hts hown hK hP 17 (by decide) q40 rfl dX0_closeGroup_8 ?_
    refine xn_if_ne (tgt := 32) hx hb dX0_closeGroup_11 (by decide) (by omega) (fun c_11 => ?_) (fun c_11 => ?_)
    · exact W.vret hx hb hr (fun t ht hW => ⟨⟨(n, a), rfl, (by rw [clG, if_neg (by omega)]), by rw [ht]; exact hP, va_K.moved hW.alike hK, hD⟩, hS.F ht⟩) hS.2.2 dX0_closeGroup_32
    · refine lv_aload_n hx hb dX0_closeGroup_14 rfl (lv_at hl 0 rfl) ?_
      refine lv_aload_n hx hb dX0_closeGroup_15 rfl (lv_at hl 0 rfl) ?_
      refine gX0 (v := .int (nI (n 16))) hx hb hts hown hK hP 16 (by decide) q39 rfl dX0_closeGroup_16 ?_
      refine lv_iconst (v := (nI 1)) hx hb dX0_closeGroup_19 (by decide) ?_
      have K28 : ∀ v_28 : Nat, v_28 = (if 1 < n 16 then 1 else 0) → W p l e (headSpec wsX0_closeGroup ({ frames := 1, cells := 0, slots := 0, locals := 22 })).room s m ([.ref (q 0)] : List Value).toArray below meth c H locs 0 0 (MQ below (va_Qv (fun (u : SX) => u = clG n a) (BX0 dC dI cB cI q A) A) ([.ref (q 0)] : List Value).toArray s 0 0 A) (F0 m 28 ls [.int (nI v_28), .ref (q 0)]) := by
        intro v_28 hv_28
        refine lv_iconst (v := (nI 1)) hx hb dX0_closeGroup_28 (by decide) ?_
        refine sX0v (As := [.int (nI v_28), .int (nI 1)]) (rest := []) ⟨hx, hb, hml, hown, hts⟩ (metX0_addValueEntry l dC dI cB cI q H.size n a v_28 1 (h11 c_4 c_11)) (cwV 2 hts (lw_V q101 q103 qs1 q13 q104) rfl rfl rfl (by decide +kernel) ⟨Nat.le_of_ble_eq_true rfl, Nat.le_of_ble_eq_true rfl⟩) hK hP hD hS hA rfl hl.1 rfl (Nat.le_of_ble_eq_true rfl) dX0_closeGroup_29 ⟨Nat.zero_le _, Nat.zero_le _⟩ (fun u H locs hpost hP hD hS => ?_)
        obtain ⟨n1, a1⟩ := u
        exact W.vret hx hb hr (fun t ht hW => ⟨⟨(n1, a1), rfl, (by rw [clG, if_pos ⟨c_4, c_11⟩, ← hv_28]; exact hpost), by rw [ht]; exact hP, va_K.moved hW.alike hK, hD⟩, hS.F ht⟩) hS.2.2 dX0_closeGroup_32
      refine xn_icmp_le (tgt := 27) hx hb dX0_closeGroup_20 (by decide) (by omega) (by omega) (fun c_20 => ?_) (fun c_20 => ?_)
      · refine lv_iconst (v := (nI 0)) hx hb dX0_closeGroup_27 (by decide) ?_
        exact K28 0 (by first | exact (if_pos c_20).symm | exact (if_neg c_20).symm | exact (if_pos (by omega)).symm | exact (if_neg (by omega)).symm)
      · refine lv_iconst (v := (nI 1)) hx hb dX0_closeGroup_23 (by decide) ?_
        refine lv_goto (tgt := 28) hx hb dX0_closeGroup_24 (by decide) ?_
        exact K28 1 (by first | exact (if_pos c_20).symm | exact (if_neg c_20).symm | exact (if_pos (by omega)).symm | exact (if_neg (by omega)).symm)
abbrev wsX0_begin : List Cond := ws_ yX0_begin cX0_begin 3 (some .int)
set_option maxHeartbeats 4000000 in
set_option maxRecDepth 100000 in
theorem metX0_begin (l : Launch) (dC : Nat → ClassId) (dI : Nat → Nat → Nat) (cB cI : ClassId) (q : Nat → Nat) (sz : Nat) (n : Nat → Nat) (a : Nat → Nat → Int32) (hs : Nat) (p1 : Int32) (hhs : hs ≤ 1) (h0 : n 0 ≤ 1) (h1 : n 1 ≤ 12) (h5 : n 5 ≤ n 1) : Met l yX0_begin wsX0_begin ({ frames := 0, cells := 0, slots := 0, locals := 0 }) (va_Pc [.ref (q 0), .int (nI hs), .int p1] (PX0 dC dI cB cI q n a sz)) (va_Qi (fun (r : Int32) (u : SX) => (n 0 = 0 ∧ n 1 < 12 ∧ r = nI (n 1) ∧ u = bgX n a hs p1) ∨ (¬ (n 0 = 0 ∧ n 1 < 12) ∧ r = -1 ∧ u = (n, a))) (BX0 dC dI cB cI q (va_A (WX0 cB cI q n a) sz)) (va_A (WX0 cB cI q n a) sz)) 0 0 (va_A (WX0 cB cI q n a) sz) := by
  refine Met.ofW (cc := cX0_begin) (maxL := 3) (ret := (some .int)) (by decide) rfl ?_
  intro p e s m args below meth c s₁ B hml hv
  obtain ⟨rfl, hsz, hP, hK, hD0⟩ := hv
  have hx := B.exec
  have hb := B.bytes
  have hr := B.returns
  have hts := atoms_spec (ws := wsX0_begin) B.pre
  have hts : ∀ w ∈ lw_all, w.before _ s = true := fun w h => hts w (List.mem_cons_of_mem _ h)
  have hown : s.vm.findClass RX0 = some m.cls := findClass_of_methodNamed B.named
  have hlocks := B.notSynchronized
  subst hsz
  have hD := hD0.self (sz := s.heap.size)
  generalize hAe : va_A (WX0 cB cI q n a) s.heap.size = A at hD ⊢
  have hA : ∀ q : Nat, s.heap.size ≤ q → A q := fun q h => by rw [← hAe]; exact Or.inr h
  have hl := lv_entry ([.ref (q 0), .int (nI hs), .int p1]) (n := 3) (Nat.le_of_ble_eq_true rfl)
  rw [lg_entry_eq]
  generalize (lg_sl ([.ref (q 0), .int (nI hs), .int p1]) ++ List.replicate (3 - (lg_sl ([.ref (q 0), .int (nI hs), .int p1])).length) Slot.unset).toArray = ls at hl ⊢
  have hl : lv_has ls 3 [(0, .ref (q 0)), (1, .int (nI hs)), (2, .int p1)] := hl
  suffices hh : ∀ (H : Heap) (locs : List Loc), va_P (dC, dI) vwCl (WX0 cB cI q n a) H → va_S A s.heap H locs → W p l e (headSpec wsX0_begin ({ frames := 0, cells := 0, slots := 0, locals := 0 })).room s m ([.ref (q 0), .int (nI hs), .int p1] : List Value).toArray below meth c H locs 0 0 (MQ below (va_Qi (fun (r : Int32) (u : SX) => (n 0 = 0 ∧ n 1 < 12 ∧ r = nI (n 1) ∧ u = bgX n a hs p1) ∨ (¬ (n 0 = 0 ∧ n 1 < 12) ∧ r = -1 ∧ u = (n, a))) (BX0 dC dI cB cI q A) A) ([.ref (q 0), .int (nI hs), .int p1] : List Value).toArray s 0 0 A) (F0 m 0 ls []) from hh _ _ hP va_S.rf
  clear hP
  intro H locs hP hS
  refine lv_aload_n hx hb dX0_begin_0 rfl (lv_at hl 0 rfl) ?_
  refine gX0 (v := .int (nI (n 0))) hx hb hts hown hK hP 0 (by decide) q23 rfl dX0_begin_1 ?_
  refine xn_if_ne (tgt := 16) hx hb dX0_begin_4 (by decide) (by omega) (fun c_4 => ?_) (fun c_4 => ?_)
  · refine lv_iconst (v := (-1)) hx hb dX0_begin_16 (by decide) ?_
    exact W.iret (v := (-1)) hx hb hr (fun t ht hW => ⟨⟨(-1), (n, a), rfl, Or.inr ⟨fun h => by obtain ⟨z1, z2⟩ := h; omega, rfl, rfl⟩, by rw [ht]; exact hP, va_K.moved hW.alike hK, hD⟩, hS.F ht⟩) hS.2.2 dX0_begin_17
  · refine lv_aload_n hx hb dX0_begin_7 rfl (lv_at hl 0 rfl) ?_
    refine gX0 (v := .int (nI (n 1))) hx hb hts hown hK hP 1 (by decide) q24 rfl dX0_begin_8 ?_
    refine lv_bipush (v := (nI 12)) hx hb dX0_begin_11 (by decide) ?_
    refine xn_icmp_lt (tgt := 18) hx hb dX0_begin_13 (by decide) (by omega) (by omega) (fun c_13 => ?_) (fun c_13 => ?_)
    · refine lv_aload_n hx hb dX0_begin_18 rfl (lv_at hl 0 rfl) ?_
      refine lv_iconst (v := (nI 1)) hx hb dX0_begin_19 (by decide) ?_
      refine pX0 (n' := va_up n 0 1) (ty := .boolean) hx hb hts hown hK hP hD hS 0 (by decide) q23 rfl (by decide +kernel) (by decide +kernel) rfl rfl dX0_begin_20 (fun H locs hP hD hS => ?_)
      refine lv_aload_n hx hb dX0_begin_23 rfl (lv_at hl 0 rfl) ?_
      refine lv_iconst (v := (nI 0)) hx hb dX0_begin_24 (by decide) ?_
      refine pX0 (n' := va_up (va_up n 0 1) 16 0) (ty := .int) hx hb hts hown hK hP hD hS 16 (by decide) q39 rfl (by decide +kernel) rfl rfl rfl dX0_begin_25 (fun H locs hP hD hS => ?_)
      refine lv_aload_n hx hb dX0_begin_28 rfl (lv_at hl 0 rfl) ?_
      refine gX0 (v := .ref (q 1)) hx hb hts hown hK hP 3 (by decide) q26 rfl dX0_begin_29 ?_
      refine lv_aload_n hx hb dX0_begin_32 rfl (lv_at hl 0 rfl) ?_
      refine gX0 (v := .int (nI (n 1))) hx hb hts hown hK hP 1 (by decide) q24 rfl dX0_begin_33 ?_
      refine lv_iload_n hx hb dX0_begin_36 rfl (lv_at hl 1 rfl) ?_
      refine xa_zst (ws' := (WX0 cB cI q (va_up (va_up n 0 1) 16 0) (va_up a 1 (upd (a 1) (n 1) (nI hs))))) hx hb hK hP hD hS 1 0 rfl rfl (n 1) (by omega) (by decide) (xz_hs hhs) rfl dX0_begin_37 (fun H locs hP hD hS => ?_)
      refine lv_iload_n hx hb dX0_begin_38 rfl (lv_at hl 1 rfl) ?_
      refine xn_if_eq (tgt := 62) hx hb dX0_begin_39 (by decide) (by omega) (fun c_39 => ?_) (fun c_39 => ?_)
      · refine lv_aload_n hx hb dX0_begin_62 rfl (lv_at hl 0 rfl) ?_
        refine lv_dup hx hb dX0_begin_63 rfl ?_
        refine gX0 (v := .int (nI (n 1))) hx hb hts hown hK hP 1 (by decide) q24 rfl dX0_begin_64 ?_
        refine lv_iconst (v := (nI 1)) hx hb dX0_begin_67 (by decide) ?_
        refine xn_iadd hx hb dX0_begin_68 ?_
        refine pX0 (n' := va_up (va_up (va_up n 0 1) 16 0) 1 (n 1 + 1)) (ty := .int) hx hb hts hown hK hP hD hS 1 (by decide) q24 rfl (by decide +kernel) rfl rfl rfl dX0_begin_69 (fun H locs hP hD hS => ?_)
        refine lv_aload_n hx hb dX0_begin_72 rfl (lv_at hl 0 rfl) ?_
        refine gX0 (v := .int (nI (n 1 + 1))) hx hb hts hown hK hP 1 (by decide) q24 rfl dX0_begin_73 ?_
        refine lv_iconst (v := (nI 1)) hx hb dX0_begin_76 (by decide) ?_
        refine xn_isub hx hb (by omega) dX0_begin_77 ?_
        subst c_39
        exact W.iret (v := (nI ((n 1 + 1) - 1))) hx hb hr (fun t ht hW => ⟨⟨(nI ((n 1 + 1) - 1)), bgX n a 0 p1, rfl, Or.inl ⟨c_4, c_13, by rw [Nat.add_sub_cancel], rfl⟩, by rw [ht]; exact hP, va_K.moved hW.alike hK, hD⟩, hS.F ht⟩) hS.2.2 dX0_begin_78
      · refine lv_aload_n hx hb dX0_begin_42 rfl (lv_at hl 0 rfl) ?_
        refine gX0 (v := .ref (q 2)) hx hb hts hown hK hP 4 (by decide) q27 rfl dX0_begin_43 ?_
        refine lv_aload_n hx hb dX0_begin_46 rfl (lv_at hl 0 rfl) ?_
        refine gX0 (v := .int (nI (n 5))) hx hb hts hown hK hP 5 (by decide) q28 rfl dX0_begin_47 ?_
        refine lv_iload_n hx hb dX0_begin_50 rfl (lv_at hl 2 rfl) ?_
        refine xa_ist (ws' := (WX0 cB cI q (va_up (va_up n 0 1) 16 0) (va_up (va_up a 1 (upd (a 1) (n 1) (nI hs))) 2 (upd (a 2) (n 5) p1)))) hx hb hK hP hD hS 2 1 rfl rfl (n 5) (by omega) (by decide) rfl dX0_begin_51 (fun H locs hP hD hS => ?_)
        refine lv_aload_n hx hb dX0_begin_52 rfl (lv_at hl 0 rfl) ?_
        refine lv_dup hx hb dX0_begin_53 rfl ?_
        refine gX0 (v := .int (nI (n 5))) hx hb hts hown hK hP 5 (by decide) q28 rfl dX0_begin_54 ?_
        refine lv_iconst (v := (nI 1)) hx hb dX0_begin_57 (by decide) ?_
        refine xn_iadd hx hb dX0_begin_58 ?_
        refine pX0 (n' := va_up (va_up (va_up n 0 1) 16 0) 5 (n 5 + 1)) (ty := .int) hx hb hts hown hK hP hD hS 5 (by decide) q28 rfl (by decide +kernel) rfl rfl rfl dX0_begin_59 (fun H locs hP hD hS => ?_)
        refine lv_aload_n hx hb dX0_begin_62 rfl (lv_at hl 0 rfl) ?_
        refine lv_dup hx hb dX0_begin_63 rfl ?_
        refine gX0 (v := .int (nI (n 1))) hx hb hts hown hK hP 1 (by decide) q24 rfl dX0_begin_64 ?_
        refine lv_iconst (v := (nI 1)) hx hb dX0_begin_67 (by decide) ?_
        refine xn_iadd hx hb dX0_begin_68 ?_
        refine pX0 (n' := va_up (va_up (va_up (va_up n 0 1) 16 0) 5 (n 5 + 1)) 1 (n 1 + 1)) (ty := .int) hx hb hts hown hK hP hD hS 1 (by decide) q24 rfl (by decide +kernel) rfl rfl rfl dX0_begin_69 (fun H locs hP hD hS => ?_)
        refine lv_aload_n hx hb dX0_begin_72 rfl (lv_at hl 0 rfl) ?_
        refine gX0 (v := .int (nI (n 1 + 1))) hx hb hts hown hK hP 1 (by decide) q24 rfl dX0_begin_73 ?_
        refine lv_iconst (v := (nI 1)) hx hb dX0_begin_76 (by decide) ?_
        refine xn_isub hx hb (by omega) dX0_begin_77 ?_
        obtain rfl : hs = 1 := by omega
        exact W.iret (v := (nI ((n 1 + 1) - 1))) hx hb hr (fun t ht hW => ⟨⟨(nI ((n 1 + 1) - 1)), bgX n a 1 p1, rfl, Or.inl ⟨c_4, c_13, by rw [Nat.add_sub_cancel], rfl⟩, by rw [ht]; exact hP, va_K.moved hW.alike hK, hD⟩, hS.F ht⟩) hS.2.2 dX0_begin_78
    · refine lv_iconst (v := (-1)) hx hb dX0_begin_16 (by decide) ?_
      exact W.iret (v := (-1)) hx hb hr (fun t ht hW => ⟨⟨(-1), (n, a), rfl, Or.inr ⟨fun h => by obtain ⟨z1, z2⟩ := h; omega, rfl, rfl⟩, by rw [ht]; exact hP, va_K.moved hW.alike hK, hD⟩, hS.F ht⟩) hS.2.2 dX0_begin_17
end
section
set_option maxRecDepth 100000
abbrev wsX0_value : List Cond := ws_ yX0_value cX0_value 2 (some .int)
set_option maxHeartbeats 4000000 in
set_option maxRecDepth 100000 in
theorem metX0_value (l : Launch) (dC : Nat → ClassId) (dI : Nat → Nat → Nat) (cB cI : ClassId) (q : Nat → Nat) (sz : Nat) (n : Nat → Nat) (a : Nat → Nat → Int32) (x : Int32) (h0 : n 0 ≤ 1) (h16 : n 16 ≤ 4) (h17 : n 17 ≤ 4) (h15 : n 15 ≤ 60) (h11 : n 15 < 60 → n 11 < 112) : Met l yX0_value wsX0_value ({ frames := 1, cells := 0, slots := 0, locals := 22 }) (va_Pc [.ref (q 0), .int x] (PX0 dC dI cB cI q n a sz)) (va_Qi (fun (r : Int32) (u : SX) => (vlC n ∧ r = nI (n 17 + 1) ∧ u = vlX n a x) ∨ (¬ vlC n ∧ r = -1 ∧ u = (n, a))) (BX0 dC dI cB cI q (va_A (WX0 cB cI q n a) sz)) (va_A (WX0 cB cI q n a) sz)) 0 0 (va_A (WX0 cB cI q n a) sz) := by
  refine Met.ofW (cc := cX0_value) (maxL := 2) (ret := (some .int)) (by decide) rfl ?_
  intro p e s m args below meth c s₁ B hml hv
  obtain ⟨rfl, hsz, hP, hK, hD0⟩ := hv
  have hx := B.exec
  have hb := B.bytes
  have hr := B.returns
  have hts := atoms_spec (ws := wsX0_value) B.pre
  have hts : ∀ w ∈ lw_all, w.before _ s = true := fun w h => hts w (List.mem_cons_of_mem _ h)
  have hown : s.vm.findClass RX0 = some m.cls := findClass_of_methodNamed B.named
  have hlocks := B.notSynchronized
  subst hsz
  have hD := hD0.self (sz := s.heap.size)
  generalize hAe : va_A (WX0 cB cI q n a) s.heap.size = A at hD ⊢
  have hA : ∀ q : Nat, s.heap.size ≤ q → A q := fun q h => by rw [← hAe]; exact Or.inr h
  have hl := lv_entry ([.ref (q 0), .int x]) (n := 2) (Nat.le_of_ble_eq_true rfl)
  rw [lg_entry_eq]
  generalize (lg_sl ([.ref (q 0), .int x]) ++ List.replicate (2 - (lg_sl ([.ref (q 0), .int x])).length) Slot.unset).toArray = ls at hl ⊢
  have hl : lv_has ls 2 [(0, .ref (q 0)), (1, .int x)] := hl
  suffices hh : ∀ (H : Heap) (locs : List Loc), va_P (dC, dI) vwCl (WX0 cB cI q n a) H → va_S A s.heap H locs → W p l e (headSpec wsX0_value ({ frames := 1, cells := 0, slots := 0, locals := 22 })).room s m ([.ref (q 0), .int x] : List Value).toArray below meth c H locs 0 0 (MQ below (va_Qi (fun (r : Int32) (u : SX) => (vlC n ∧ r = nI (n 17 + 1) ∧ u = vlX n a x) ∨ (¬ vlC n ∧ r = -1 ∧ u = (n, a))) (BX0 dC dI cB cI q A) A) ([.ref (q 0), .int x] : List Value).toArray s 0 0 A) (F0 m 0 ls []) from hh _ _ hP va_S.rf
  clear hP
  intro H locs hP hS
  refine lv_aload_n hx hb dX0_value_0 rfl (lv_at hl 0 rfl) ?_
  refine gX0 (v := .int (nI (n 0))) hx hb hts hown hK hP 0 (by decide) q23 rfl dX0_value_1 ?_
  refine xn_if_eq (tgt := 31) hx hb dX0_value_4 (by decide) (by omega) (fun c_4 => ?_) (fun c_4 => ?_)
  · refine lv_iconst (v := (-1)) hx hb dX0_value_31 (by decide) ?_
    exact W.iret (v := (-1)) hx hb hr (fun t ht hW => ⟨⟨(-1), (n, a), rfl, Or.inr ⟨fun h => by obtain ⟨z1, z2, z3, z4⟩ := h; omega, rfl, rfl⟩, by rw [ht]; exact hP, va_K.moved hW.alike hK, hD⟩, hS.F ht⟩) hS.2.2 dX0_value_32
  · refine lv_aload_n hx hb dX0_value_7 rfl (lv_at hl 0 rfl) ?_
    refine gX0 (v := .int (nI (n 16))) hx hb hts hown hK hP 16 (by decide) q39 rfl dX0_value_8 ?_
    refine xn_if_eq (tgt := 31) hx hb dX0_value_11 (by decide) (by omega) (fun c_11 => ?_) (fun c_11 => ?_)
    · refine lv_iconst (v := (-1)) hx hb dX0_value_31 (by decide) ?_
      exact W.iret (v := (-1)) hx hb hr (fun t ht hW => ⟨⟨(-1), (n, a), rfl, Or.inr ⟨fun h => by obtain ⟨z1, z2, z3, z4⟩ := h; omega, rfl, rfl⟩, by rw [ht]; exact hP, va_K.moved hW.alike hK, hD⟩, hS.F ht⟩) hS.2.2 dX0_value_32
    · refine lv_aload_n hx hb dX0_value_14 rfl (lv_at hl 0 rfl) ?_
      refine gX0 (v := .int (nI (n 17))) hx hb hts hown hK hP 17 (by decide) q40 rfl dX0_value_15 ?_
      refine lv_iconst (v := (nI 4)) hx hb dX0_value_18 (by decide) ?_
      refine xn_icmp_ge (tgt := 31) hx hb dX0_value_19 (by decide) (by omega) (by omega) (fun c_19 => ?_) (fun c_19 => ?_)
      · refine lv_iconst (v := (-1)) hx hb dX0_value_31 (by decide) ?_
        exact W.iret (v := (-1)) hx hb hr (fun t ht hW => ⟨⟨(-1), (n, a), rfl, Or.inr ⟨fun h => by obtain ⟨z1, z2, z3, z4⟩ := h; omega, rfl, rfl⟩, by rw [ht]; exact hP, va_K.moved hW.alike hK, hD⟩, hS.F ht⟩) hS.2.2 dX0_value_32
      · refine lv_aload_n hx hb dX0_value_22 rfl (lv_at hl 0 rfl) ?_
        refine gX0 (v := .int (nI (n 15))) hx hb hts hown hK hP 15 (by decide) q38 rfl dX0_value_23 ?_
        refine lv_bipush (v := (nI 60)) hx hb dX0_value_26 (by decide) ?_
        refine xn_icmp_lt (tgt := 33) hx hb dX0_value_28 (by decide) (by omega) (by omega) (fun c_28 => ?_) (fun c_28 => ?_)
        · refine lv_aload_n hx hb dX0_value_33 rfl (lv_at hl 0 rfl) ?_
          refine lv_aload_n hx hb dX0_value_34 rfl (lv_at hl 0 rfl) ?_
          refine gX0 (v := .int (nI (n 17))) hx hb hts hown hK hP 17 (by decide) q40 rfl dX0_value_35 ?_
          have K58 : ∀ v_58 : Nat, v_58 = (if 0 < n 17 then 2 else (if 1 < n 16 then 1 else 0)) → W p l e (headSpec wsX0_value ({ frames := 1, cells := 0, slots := 0, locals := 22 })).room s m ([.ref (q 0), .int x] : List Value).toArray below meth c H locs 0 0 (MQ below (va_Qi (fun (r : Int32) (u : SX) => (vlC n ∧ r = nI (n 17 + 1) ∧ u = vlX n a x) ∨ (¬ vlC n ∧ r = -1 ∧ u = (n, a))) (BX0 dC dI cB cI q A) A) ([.ref (q 0), .int x] : List Value).toArray s 0 0 A) (F0 m 58 ls [.int (nI v_58), .ref (q 0)]) := by
            intro v_58 hv_58
            obtain rfl : v_58 = vlT n := hv_58
            refine lv_iconst (v := (nI 2)) hx hb dX0_value_58 (by decide) ?_
            refine sX0v (As := [.int (nI (vlT n)), .int (nI 2)]) (rest := []) ⟨hx, hb, hml, hown, hts⟩ (metX0_addValueEntry l dC dI cB cI q H.size n a (vlT n) 2 (h11 c_28)) (cwV 2 hts (lw_V q101 q103 qs1 q13 q104) rfl rfl rfl (by decide +kernel) ⟨Nat.le_of_ble_eq_true rfl, Nat.le_of_ble_eq_true rfl⟩) hK hP hD hS hA rfl hl.1 rfl (Nat.le_of_ble_eq_true rfl) dX0_value_59 ⟨Nat.zero_le _, Nat.zero_le _⟩ (fun u H locs hpost hP hD hS => ?_)
            subst hpost
            have hP : va_P (dC, dI) vwCl (WX0 cB cI q (va_up n 11 (n 11 + 1)) (va_up (va_up a 6 (upd (a 6) (n 11) (nI (vlT n)))) 7 (upd (a 7) (n 11) (nI 2)))) H := hP
            have hD : va_D A (WX0 cB cI q (va_up n 11 (n 11 + 1)) (va_up (va_up a 6 (upd (a 6) (n 11) (nI (vlT n)))) 7 (upd (a 7) (n 11) (nI 2)))) := hD
            refine lv_aload_n hx hb dX0_value_62 rfl (lv_at hl 0 rfl) ?_
            refine gX0 (v := .ref (q 8)) hx hb hts hown hK hP 14 (by decide) q37 rfl dX0_value_63 ?_
            refine lv_aload_n hx hb dX0_value_66 rfl (lv_at hl 0 rfl) ?_
            refine gX0 (v := .int (nI (n 15))) hx hb hts hown hK hP 15 (by decide) q38 rfl dX0_value_67 ?_
            refine lv_iload_n hx hb dX0_value_70 rfl (lv_at hl 1 rfl) ?_
            refine xa_ist (ws' := (WX0 cB cI q (va_up n 11 (n 11 + 1)) (va_up (va_up (va_up a 6 (upd (a 6) (n 11) (nI (vlT n)))) 7 (upd (a 7) (n 11) (nI 2))) 8 (upd (a 8) (n 15) x)))) hx hb hK hP hD hS 8 1 rfl rfl (n 15) (by omega) (by decide) rfl dX0_value_71 (fun H locs hP hD hS => ?_)
            refine lv_aload_n hx hb dX0_value_72 rfl (lv_at hl 0 rfl) ?_
            refine lv_dup hx hb dX0_value_73 rfl ?_
            refine gX0 (v := .int (nI (n 15))) hx hb hts hown hK hP 15 (by decide) q38 rfl dX0_value_74 ?_
            refine lv_iconst (v := (nI 1)) hx hb dX0_value_77 (by decide) ?_
            refine xn_iadd hx hb dX0_value_78 ?_
            refine pX0 (n' := va_up (va_up n 11 (n 11 + 1)) 15 (n 15 + 1)) (ty := .int) hx hb hts hown hK hP hD hS 15 (by decide) q38 rfl (by decide +kernel) rfl rfl rfl dX0_value_79 (fun H locs hP hD hS => ?_)
            refine lv_aload_n hx hb dX0_value_82 rfl (lv_at hl 0 rfl) ?_
            refine lv_dup hx hb dX0_value_83 rfl ?_
            refine gX0 (v := .int (nI (n 17))) hx hb hts hown hK hP 17 (by decide) q40 rfl dX0_value_84 ?_
            refine lv_iconst (v := (nI 1)) hx hb dX0_value_87 (by decide) ?_
            refine xn_iadd hx hb dX0_value_88 ?_
            refine pX0 (n' := va_up (va_up (va_up n 11 (n 11 + 1)) 15 (n 15 + 1)) 17 (n 17 + 1)) (ty := .int) hx hb hts hown hK hP hD hS 17 (by decide) q40 rfl (by decide +kernel) rfl rfl rfl dX0_value_89 (fun H locs hP hD hS => ?_)
            refine lv_aload_n hx hb dX0_value_92 rfl (lv_at hl 0 rfl) ?_
            refine gX0 (v := .int (nI (n 17 + 1))) hx hb hts hown hK hP 17 (by decide) q40 rfl dX0_value_93 ?_
            exact W.iret (v := (nI (n 17 + 1))) hx hb hr (fun t ht hW => ⟨⟨(nI (n 17 + 1)), vlX n a x, rfl, Or.inl ⟨⟨by omega, c_11, c_19, c_28⟩, rfl, rfl⟩, by rw [ht]; exact hP, va_K.moved hW.alike hK, hD⟩, hS.F ht⟩) hS.2.2 dX0_value_96
          refine xn_if_le (tgt := 45) hx hb dX0_value_38 (by decide) (by omega) (fun c_38 => ?_) (fun c_38 => ?_)
          · refine lv_aload_n hx hb dX0_value_45 rfl (lv_at hl 0 rfl) ?_
            refine gX0 (v := .int (nI (n 16))) hx hb hts hown hK hP 16 (by decide) q39 rfl dX0_value_46 ?_
            refine lv_iconst (v := (nI 1)) hx hb dX0_value_49 (by decide) ?_
            refine xn_icmp_le (tgt := 57) hx hb dX0_value_50 (by decide) (by omega) (by omega) (fun c_50 => ?_) (fun c_50 => ?_)
            · refine lv_iconst (v := (nI 0)) hx hb dX0_value_57 (by decide) ?_
              exact K58 0 (by rw [if_neg (by omega), if_neg (by omega)])
            · refine lv_iconst (v := (nI 1)) hx hb dX0_value_53 (by decide) ?_
              refine lv_goto (tgt := 58) hx hb dX0_value_54 (by decide) ?_
              exact K58 1 (by rw [if_neg (by omega), if_pos (by omega)])
          · refine lv_iconst (v := (nI 2)) hx hb dX0_value_41 (by decide) ?_
            refine lv_goto (tgt := 58) hx hb dX0_value_42 (by decide) ?_
            exact K58 2 (if_pos c_38).symm
        · refine lv_iconst (v := (-1)) hx hb dX0_value_31 (by decide) ?_
          exact W.iret (v := (-1)) hx hb hr (fun t ht hW => ⟨⟨(-1), (n, a), rfl, Or.inr ⟨fun h => by obtain ⟨z1, z2, z3, z4⟩ := h; omega, rfl, rfl⟩, by rw [ht]; exact hP, va_K.moved hW.alike hK, hD⟩, hS.F ht⟩) hS.2.2 dX0_value_32
abbrev wsX0_group : List Cond := ws_ yX0_group cX0_group 3 (some .int)
set_option maxHeartbeats 4000000 in
set_option maxRecDepth 100000 in
theorem metX0_group (l : Launch) (dC : Nat → ClassId) (dI : Nat → Nat → Nat) (cB cI : ClassId) (q : Nat → Nat) (sz : Nat) (n : Nat → Nat) (a : Nat → Nat → Int32) (hs : Nat) (p1 : Int32) (hhs : hs ≤ 1) (h0 : n 0 ≤ 1) (h16 : n 16 ≤ 4) (h17 : n 17 ≤ 4) (h18 : n 18 ≤ 40) (hbd : gpC n → n 6 < 52 ∧ n 10 < 40 ∧ (0 < n 16 → n 17 = 0 → n 11 < 112)) : Met l yX0_group wsX0_group ({ frames := 2, cells := 0, slots := 0, locals := 42 }) (va_Pc [.ref (q 0), .int (nI hs), .int p1] (PX0 dC dI cB cI q n a sz)) (va_Qi (fun (r : Int32) (u : SX) => (gpC n ∧ r = nI (n 16 + 1) ∧ u = gpX n a hs p1) ∨ (¬ gpC n ∧ r = -1 ∧ u = (n, a))) (BX0 dC dI cB cI q (va_A (WX0 cB cI q n a) sz)) (va_A (WX0 cB cI q n a) sz)) 0 0 (va_A (WX0 cB cI q n a) sz) := by
  refine Met.ofW (cc := cX0_group) (maxL := 3) (ret := (some .int)) (by decide) rfl ?_
  intro p e s m args below meth c s₁ B hml hv
  obtain ⟨rfl, hsz, hP, hK, hD0⟩ := hv
  have hx := B.exec
  have hb := B.bytes
  have hr := B.returns
  have hts := atoms_spec (ws := wsX0_group) B.pre
  have hts : ∀ w ∈ lw_all, w.before _ s = true := fun w h => hts w (List.mem_cons_of_mem _ h)
  have hown : s.vm.findClass RX0 = some m.cls := findClass_of_methodNamed B.named
  have hlocks := B.notSynchronized
  subst hsz
  have hD := hD0.self (sz := s.heap.size)
  generalize hAe : va_A (WX0 cB cI q n a) s.heap.size = A at hD ⊢
  have hA : ∀ q : Nat, s.heap.size ≤ q → A q := fun q h => by rw [← hAe]; exact Or.inr h
  have hl := lv_entry ([.ref (q 0), .int (nI hs), .int p1]) (n := 3) (Nat.le_of_ble_eq_true rfl)
  rw [lg_entry_eq]
  generalize (lg_sl ([.ref (q 0), .int (nI hs), .int p1]) ++ List.replicate (3 - (lg_sl ([.ref (q 0), .int (nI hs), .int p1])).length) Slot.unset).toArray = ls at hl ⊢
  have hl : lv_has ls 3 [(0, .ref (q 0)), (1, .int (nI hs)), (2, .int p1)] := hl
  suffices hh : ∀ (H : Heap) (locs : List Loc), va_P (dC, dI) vwCl (WX0 cB cI q n a) H → va_S A s.heap H locs → W p l e (headSpec wsX0_group ({ frames := 2, cells := 0, slots := 0, locals := 42 })).room s m ([.ref (q 0), .int (nI hs), .int p1] : List Value).toArray below meth c H locs 0 0 (MQ below (va_Qi (fun (r : Int32) (u : SX) => (gpC n ∧ r = nI (n 16 + 1) ∧ u = gpX n a hs p1) ∨ (¬ gpC n ∧ r = -1 ∧ u = (n, a))) (BX0 dC dI cB cI q A) A) ([.ref (q 0), .int (nI hs), .int p1] : List Value).toArray s 0 0 A) (F0 m 0 ls []) from hh _ _ hP va_S.rf
  clear hP
  intro H locs hP hS
  refine lv_aload_n hx hb dX0_group_0 rfl (lv_at hl 0 rfl) ?_
  refine gX0 (v := .int (nI (n 0))) hx hb hts hown hK hP 0 (by decide) q23 rfl dX0_group_1 ?_
  refine xn_if_eq (tgt := 24) hx hb dX0_group_4 (by decide) (by omega) (fun c_4 => ?_) (fun c_4 => ?_)
  · refine lv_iconst (v := (-1)) hx hb dX0_group_24 (by decide) ?_
    exact W.iret (v := (-1)) hx hb hr (fun t ht hW => ⟨⟨(-1), (n, a), rfl, Or.inr ⟨fun h => by obtain ⟨z1, z2, z3⟩ := h; omega, rfl, rfl⟩, by rw [ht]; exact hP, va_K.moved hW.alike hK, hD⟩, hS.F ht⟩) hS.2.2 dX0_group_25
  · refine lv_aload_n hx hb dX0_group_7 rfl (lv_at hl 0 rfl) ?_
    refine gX0 (v := .int (nI (n 16))) hx hb hts hown hK hP 16 (by decide) q39 rfl dX0_group_8 ?_
    refine lv_iconst (v := (nI 4)) hx hb dX0_group_11 (by decide) ?_
    refine xn_icmp_ge (tgt := 24) hx hb dX0_group_12 (by decide) (by omega) (by omega) (fun c_12 => ?_) (fun c_12 => ?_)
    · refine lv_iconst (v := (-1)) hx hb dX0_group_24 (by decide) ?_
      exact W.iret (v := (-1)) hx hb hr (fun t ht hW => ⟨⟨(-1), (n, a), rfl, Or.inr ⟨fun h => by obtain ⟨z1, z2, z3⟩ := h; omega, rfl, rfl⟩, by rw [ht]; exact hP, va_K.moved hW.alike hK, hD⟩, hS.F ht⟩) hS.2.2 dX0_group_25
    · refine lv_aload_n hx hb dX0_group_15 rfl (lv_at hl 0 rfl) ?_
      refine gX0 (v := .int (nI (n 18))) hx hb hts hown hK hP 18 (by decide) q41 rfl dX0_group_16 ?_
      refine lv_bipush (v := (nI 40)) hx hb dX0_group_19 (by decide) ?_
      refine xn_icmp_lt (tgt := 26) hx hb dX0_group_21 (by decide) (by omega) (by omega) (fun c_21 => ?_) (fun c_21 => ?_)
      · have hC : gpC n := ⟨by omega, by omega, by omega⟩
        obtain ⟨b6, b10, b11⟩ := hbd hC
        refine lv_aload_n hx hb dX0_group_26 rfl (lv_at hl 0 rfl) ?_
        refine sX0v (As := []) (rest := []) ⟨hx, hb, hml, hown, hts⟩ (metX0_closeGroup l dC dI cB cI q H.size n a h16 h17 b11) (cwV 0 hts (lw_V q97 q99 qs0 q13 q100) rfl rfl rfl (by decide +kernel) ⟨Nat.le_of_ble_eq_true rfl, Nat.le_of_ble_eq_true rfl⟩) hK hP hD hS hA rfl hl.1 rfl (Nat.le_of_ble_eq_true rfl) dX0_group_27 ⟨Nat.zero_le _, Nat.zero_le _⟩ (fun u H locs hpost hP hD hS => ?_)
        obtain ⟨n1, a1⟩ := u
        have k6 : n1 6 = n 6 := clG_n hpost 6 (by decide)
        have k10 : n1 10 = n 10 := clG_n hpost 10 (by decide)
        have k16 : n1 16 = n 16 := clG_n hpost 16 (by decide)
        have k18 : n1 18 = n 18 := clG_n hpost 18 (by decide)
        have hcl := hpost
        have hP : va_P (dC, dI) vwCl (WX0 cB cI q n1 a1) H := hP
        have hD : va_D A (WX0 cB cI q n1 a1) := hD
        refine lv_aload_n hx hb dX0_group_30 rfl (lv_at hl 0 rfl) ?_
        refine lv_aload_n hx hb dX0_group_31 rfl (lv_at hl 0 rfl) ?_
        refine gX0 (v := .int (nI (n1 16))) hx hb hts hown hK hP 16 (by decide) q39 rfl dX0_group_32 ?_
        have K43 : ∀ v_43 : Nat, v_43 = (if n1 16 = 0 then 0 else 1) → W p l e (headSpec wsX0_group ({ frames := 2, cells := 0, slots := 0, locals := 42 })).room s m ([.ref (q 0), .int (nI hs), .int p1] : List Value).toArray below meth c H locs 0 0 (MQ below (va_Qi (fun (r : Int32) (u : SX) => (gpC n ∧ r = nI (n 16 + 1) ∧ u = gpX n a hs p1) ∨ (¬ gpC n ∧ r = -1 ∧ u = (n, a))) (BX0 dC dI cB cI q A) A) ([.ref (q 0), .int (nI hs), .int p1] : List Value).toArray s 0 0 A) (F0 m 43 ls [.int (nI v_43), .ref (q 0)]) := by
          intro v_43 hv_43
          refine lv_iload_n hx hb dX0_group_43 rfl (lv_at hl 1 rfl) ?_
          have K52 : ∀ v_52 : Nat, v_52 = (if hs = 0 then 1 else 2) → W p l e (headSpec wsX0_group ({ frames := 2, cells := 0, slots := 0, locals := 42 })).room s m ([.ref (q 0), .int (nI hs), .int p1] : List Value).toArray below meth c H locs 0 0 (MQ below (va_Qi (fun (r : Int32) (u : SX) => (gpC n ∧ r = nI (n 16 + 1) ∧ u = gpX n a hs p1) ∨ (¬ gpC n ∧ r = -1 ∧ u = (n, a))) (BX0 dC dI cB cI q A) A) ([.ref (q 0), .int (nI hs), .int p1] : List Value).toArray s 0 0 A) (F0 m 52 ls [.int (nI v_52), .int (nI v_43), .ref (q 0)]) := by
            intro v_52 hv_52
            refine sX0v (As := [.int (nI v_43), .int (nI v_52)]) (rest := []) ⟨hx, hb, hml, hown, hts⟩ (metX0_addTagEntry l dC dI cB cI q H.size n1 a1 v_43 v_52 (by omega)) (cwV 2 hts (lw_V q105 q107 qs2 q13 q108) rfl rfl rfl (by decide +kernel) ⟨Nat.le_of_ble_eq_true rfl, Nat.le_of_ble_eq_true rfl⟩) hK hP hD hS hA rfl hl.1 rfl (Nat.le_of_ble_eq_true rfl) dX0_group_52 ⟨Nat.zero_le _, Nat.zero_le _⟩ (fun u H locs hpost hP hD hS => ?_)
            subst hpost
            have hP : va_P (dC, dI) vwCl (WX0 cB cI q (va_up n1 6 (n1 6 + 1)) (va_up (va_up a1 3 (upd (a1 3) (n1 6) (nI v_43))) 4 (upd (a1 4) (n1 6) (nI v_52)))) H := hP
            have hD : va_D A (WX0 cB cI q (va_up n1 6 (n1 6 + 1)) (va_up (va_up a1 3 (upd (a1 3) (n1 6) (nI v_43))) 4 (upd (a1 4) (n1 6) (nI v_52)))) := hD
            refine lv_iload_n hx hb dX0_group_55 rfl (lv_at hl 1 rfl) ?_
            refine xn_if_eq (tgt := 79) hx hb dX0_group_56 (by decide) (by omega) (fun c_56 => ?_) (fun c_56 => ?_)
            · refine lv_aload_n hx hb dX0_group_79 rfl (lv_at hl 0 rfl) ?_
              refine lv_dup hx hb dX0_group_80 rfl ?_
              refine gX0 (v := .int (nI (n1 16))) hx hb hts hown hK hP 16 (by decide) q39 rfl dX0_group_81 ?_
              refine lv_iconst (v := (nI 1)) hx hb dX0_group_84 (by decide) ?_
              refine xn_iadd hx hb dX0_group_85 ?_
              refine pX0 (n' := va_up (va_up n1 6 (n1 6 + 1)) 16 (n1 16 + 1)) (ty := .int) hx hb hts hown hK hP hD hS 16 (by decide) q39 rfl (by decide +kernel) rfl rfl rfl dX0_group_86 (fun H locs hP hD hS => ?_)
              refine lv_aload_n hx hb dX0_group_89 rfl (lv_at hl 0 rfl) ?_
              refine lv_dup hx hb dX0_group_90 rfl ?_
              refine gX0 (v := .int (nI (n1 18))) hx hb hts hown hK hP 18 (by decide) q41 rfl dX0_group_91 ?_
              refine lv_iconst (v := (nI 1)) hx hb dX0_group_94 (by decide) ?_
              refine xn_iadd hx hb dX0_group_95 ?_
              refine pX0 (n' := va_up (va_up (va_up n1 6 (n1 6 + 1)) 16 (n1 16 + 1)) 18 (n1 18 + 1)) (ty := .int) hx hb hts hown hK hP hD hS 18 (by decide) q41 rfl (by decide +kernel) rfl rfl rfl dX0_group_96 (fun H locs hP hD hS => ?_)
              refine lv_aload_n hx hb dX0_group_99 rfl (lv_at hl 0 rfl) ?_
              refine lv_iconst (v := (nI 0)) hx hb dX0_group_100 (by decide) ?_
              refine pX0 (n' := va_up (va_up (va_up (va_up n1 6 (n1 6 + 1)) 16 (n1 16 + 1)) 18 (n1 18 + 1)) 17 0) (ty := .int) hx hb hts hown hK hP hD hS 17 (by decide) q40 rfl (by decide +kernel) rfl rfl rfl dX0_group_101 (fun H locs hP hD hS => ?_)
              refine lv_aload_n hx hb dX0_group_104 rfl (lv_at hl 0 rfl) ?_
              refine gX0 (v := .int (nI (n1 16 + 1))) hx hb hts hown hK hP 16 (by decide) q39 rfl dX0_group_105 ?_
              subst c_56
              exact W.iret (v := (nI (n1 16 + 1))) hx hb hr (fun t ht hW => ⟨⟨(nI (n1 16 + 1)), gpE (adT n1 a1 v_43 v_52).1 (adT n1 a1 v_43 v_52).2 0 p1, rfl, (by refine Or.inl ⟨hC, by rw [← k16], ?_⟩; unfold gpX; rw [← hcl, ← k16, ← hv_43, ← hv_52]), by rw [ht]; exact hP, va_K.moved hW.alike hK, hD⟩, hS.F ht⟩) hS.2.2 dX0_group_108
            · refine lv_aload_n hx hb dX0_group_59 rfl (lv_at hl 0 rfl) ?_
              refine gX0 (v := .ref (q 5)) hx hb hts hown hK hP 9 (by decide) q32 rfl dX0_group_60 ?_
              refine lv_aload_n hx hb dX0_group_63 rfl (lv_at hl 0 rfl) ?_
              refine gX0 (v := .int (nI (n1 10))) hx hb hts hown hK hP 10 (by decide) q33 rfl dX0_group_64 ?_
              refine lv_iload_n hx hb dX0_group_67 rfl (lv_at hl 2 rfl) ?_
              refine xa_ist (ws' := (WX0 cB cI q (va_up n1 6 (n1 6 + 1)) (va_up (va_up (va_up a1 3 (upd (a1 3) (n1 6) (nI v_43))) 4 (upd (a1 4) (n1 6) (nI v_52))) 5 (upd (a1 5) (n1 10) p1)))) hx hb hK hP hD hS 5 1 rfl rfl (n1 10) (by omega) (by decide) rfl dX0_group_68 (fun H locs hP hD hS => ?_)
              refine lv_aload_n hx hb dX0_group_69 rfl (lv_at hl 0 rfl) ?_
              refine lv_dup hx hb dX0_group_70 rfl ?_
              refine gX0 (v := .int (nI (n1 10))) hx hb hts hown hK hP 10 (by decide) q33 rfl dX0_group_71 ?_
              refine lv_iconst (v := (nI 1)) hx hb dX0_group_74 (by decide) ?_
              refine xn_iadd hx hb dX0_group_75 ?_
              refine pX0 (n' := va_up (va_up n1 6 (n1 6 + 1)) 10 (n1 10 + 1)) (ty := .int) hx hb hts hown hK hP hD hS 10 (by decide) q33 rfl (by decide +kernel) rfl rfl rfl dX0_group_76 (fun H locs hP hD hS => ?_)
              refine lv_aload_n hx hb dX0_group_79 rfl (lv_at hl 0 rfl) ?_
              refine lv_dup hx hb dX0_group_80 rfl ?_
              refine gX0 (v := .int (nI (n1 16))) hx hb hts hown hK hP 16 (by decide) q39 rfl dX0_group_81 ?_
              refine lv_iconst (v := (nI 1)) hx hb dX0_group_84 (by decide) ?_
              refine xn_iadd hx hb dX0_group_85 ?_
              refine pX0 (n' := va_up (va_up (va_up n1 6 (n1 6 + 1)) 10 (n1 10 + 1)) 16 (n1 16 + 1)) (ty := .int) hx hb hts hown hK hP hD hS 16 (by decide) q39 rfl (by decide +kernel) rfl rfl rfl dX0_group_86 (fun H locs hP hD hS => ?_)
              refine lv_aload_n hx hb dX0_group_89 rfl (lv_at hl 0 rfl) ?_
              refine lv_dup hx hb dX0_group_90 rfl ?_
              refine gX0 (v := .int (nI (n1 18))) hx hb hts hown hK hP 18 (by decide) q41 rfl dX0_group_91 ?_
              refine lv_iconst (v := (nI 1)) hx hb dX0_group_94 (by decide) ?_
              refine xn_iadd hx hb dX0_group_95 ?_
              refine pX0 (n' := va_up (va_up (va_up (va_up n1 6 (n1 6 + 1)) 10 (n1 10 + 1)) 16 (n1 16 + 1)) 18 (n1 18 + 1)) (ty := .int) hx hb hts hown hK hP hD hS 18 (by decide) q41 rfl (by decide +kernel) rfl rfl rfl dX0_group_96 (fun H locs hP hD hS => ?_)
              refine lv_aload_n hx hb dX0_group_99 rfl (lv_at hl 0 rfl) ?_
              refine lv_iconst (v := (nI 0)) hx hb dX0_group_100 (by decide) ?_
              refine pX0 (n' := va_up (va_up (va_up (va_up (va_up n1 6 (n1 6 + 1)) 10 (n1 10 + 1)) 16 (n1 16 + 1)) 18 (n1 18 + 1)) 17 0) (ty := .int) hx hb hts hown hK hP hD hS 17 (by decide) q40 rfl (by decide +kernel) rfl rfl rfl dX0_group_101 (fun H locs hP hD hS => ?_)
              refine lv_aload_n hx hb dX0_group_104 rfl (lv_at hl 0 rfl) ?_
              refine gX0 (v := .int (nI (n1 16 + 1))) hx hb hts hown hK hP 16 (by decide) q39 rfl dX0_group_105 ?_
              obtain rfl : hs = 1 := by omega
              exact W.iret (v := (nI (n1 16 + 1))) hx hb hr (fun t ht hW => ⟨⟨(nI (n1 16 + 1)), gpE (adT n1 a1 v_43 v_52).1 (adT n1 a1 v_43 v_52).2 1 p1, rfl, (by refine Or.inl ⟨hC, by rw [← k16], ?_⟩; unfold gpX; rw [← hcl, ← k16, ← hv_43, ← hv_52]), by rw [ht]; exact hP, va_K.moved hW.alike hK, hD⟩, hS.F ht⟩) hS.2.2 dX0_group_108
          refine xn_if_eq (tgt := 51) hx hb dX0_group_44 (by decide) (by omega) (fun c_44 => ?_) (fun c_44 => ?_)
          · refine lv_iconst (v := (nI 1)) hx hb dX0_group_51 (by decide) ?_
            exact K52 1 (by first | exact (if_pos c_44).symm | exact (if_neg c_44).symm | exact (if_pos (by omega)).symm | exact (if_neg (by omega)).symm)
          · refine lv_iconst (v := (nI 2)) hx hb dX0_group_47 (by decide) ?_
            refine lv_goto (tgt := 52) hx hb dX0_group_48 (by decide) ?_
            exact K52 2 (by first | exact (if_pos c_44).symm | exact (if_neg c_44).symm | exact (if_pos (by omega)).symm | exact (if_neg (by omega)).symm)
        refine xn_if_ne (tgt := 42) hx hb dX0_group_35 (by decide) (by omega) (fun c_35 => ?_) (fun c_35 => ?_)
        · refine lv_iconst (v := (nI 1)) hx hb dX0_group_42 (by decide) ?_
          exact K43 1 (by first | exact (if_pos c_35).symm | exact (if_neg c_35).symm | exact (if_pos (by omega)).symm | exact (if_neg (by omega)).symm)
        · refine lv_iconst (v := (nI 0)) hx hb dX0_group_38 (by decide) ?_
          refine lv_goto (tgt := 43) hx hb dX0_group_39 (by decide) ?_
          exact K43 0 (by first | exact (if_pos c_35).symm | exact (if_neg c_35).symm | exact (if_pos (by omega)).symm | exact (if_neg (by omega)).symm)
      · refine lv_iconst (v := (-1)) hx hb dX0_group_24 (by decide) ?_
        exact W.iret (v := (-1)) hx hb hr (fun t ht hW => ⟨⟨(-1), (n, a), rfl, Or.inr ⟨fun h => by obtain ⟨z1, z2, z3⟩ := h; omega, rfl, rfl⟩, by rw [ht]; exact hP, va_K.moved hW.alike hK, hD⟩, hS.F ht⟩) hS.2.2 dX0_group_25
abbrev wsX0_end : List Cond := ws_ yX0_end cX0_end 1 (some .int)
set_option maxHeartbeats 4000000 in
set_option maxRecDepth 100000 in
theorem metX0_end (l : Launch) (dC : Nat → ClassId) (dI : Nat → Nat → Nat) (cB cI : ClassId) (q : Nat → Nat) (sz : Nat) (n : Nat → Nat) (a : Nat → Nat → Int32)  (h0 : n 0 ≤ 1) (h16 : n 16 ≤ 4) (h17 : n 17 ≤ 4) (b6 : n 0 = 1 → n 16 = 0 → n 6 < 52 ∧ n 11 < 112) (b11 : n 0 = 1 → 0 < n 16 → n 17 = 0 → n 11 < 112) : Met l yX0_end wsX0_end ({ frames := 2, cells := 0, slots := 0, locals := 42 }) (va_Pc [.ref (q 0)] (PX0 dC dI cB cI q n a sz)) (va_Qi (fun (r : Int32) (u : SX) => (n 0 = 1 ∧ r = nI (n 2 + 1) ∧ u = enX n a) ∨ (¬ n 0 = 1 ∧ r = -1 ∧ u = (n, a))) (BX0 dC dI cB cI q (va_A (WX0 cB cI q n a) sz)) (va_A (WX0 cB cI q n a) sz)) 0 0 (va_A (WX0 cB cI q n a) sz) := by
  refine Met.ofW (cc := cX0_end) (maxL := 1) (ret := (some .int)) (by decide) rfl ?_
  intro p e s m args below meth c s₁ B hml hv
  obtain ⟨rfl, hsz, hP, hK, hD0⟩ := hv
  have hx := B.exec
  have hb := B.bytes
  have hr := B.returns
  have hts := atoms_spec (ws := wsX0_end) B.pre
  have hts : ∀ w ∈ lw_all, w.before _ s = true := fun w h => hts w (List.mem_cons_of_mem _ h)
  have hown : s.vm.findClass RX0 = some m.cls := findClass_of_methodNamed B.named
  have hlocks := B.notSynchronized
  subst hsz
  have hD := hD0.self (sz := s.heap.size)
  generalize hAe : va_A (WX0 cB cI q n a) s.heap.size = A at hD ⊢
  have hA : ∀ q : Nat, s.heap.size ≤ q → A q := fun q h => by rw [← hAe]; exact Or.inr h
  have hl := lv_entry ([.ref (q 0)]) (n := 1) (Nat.le_of_ble_eq_true rfl)
  rw [lg_entry_eq]
  generalize (lg_sl ([.ref (q 0)]) ++ List.replicate (1 - (lg_sl ([.ref (q 0)])).length) Slot.unset).toArray = ls at hl ⊢
  have hl : lv_has ls 1 [(0, .ref (q 0))] := hl
  suffices hh : ∀ (H : Heap) (locs : List Loc), va_P (dC, dI) vwCl (WX0 cB cI q n a) H → va_S A s.heap H locs → W p l e (headSpec wsX0_end ({ frames := 2, cells := 0, slots := 0, locals := 42 })).room s m ([.ref (q 0)] : List Value).toArray below meth c H locs 0 0 (MQ below (va_Qi (fun (r : Int32) (u : SX) => (n 0 = 1 ∧ r = nI (n 2 + 1) ∧ u = enX n a) ∨ (¬ n 0 = 1 ∧ r = -1 ∧ u = (n, a))) (BX0 dC dI cB cI q A) A) ([.ref (q 0)] : List Value).toArray s 0 0 A) (F0 m 0 ls []) from hh _ _ hP va_S.rf
  clear hP
  intro H locs hP hS
  refine lv_aload_n hx hb dX0_end_0 rfl (lv_at hl 0 rfl) ?_
  refine gX0 (v := .int (nI (n 0))) hx hb hts hown hK hP 0 (by decide) q23 rfl dX0_end_1 ?_
  refine xn_if_ne (tgt := 9) hx hb dX0_end_4 (by decide) (by omega) (fun c_4 => ?_) (fun c_4 => ?_)
  · have e0 : n 0 = 1 := by omega
    refine lv_aload_n hx hb dX0_end_9 rfl (lv_at hl 0 rfl) ?_
    refine sX0v (As := []) (rest := []) ⟨hx, hb, hml, hown, hts⟩ (metX0_closeGroup l dC dI cB cI q H.size n a h16 h17 (b11 e0)) (cwV 0 hts (lw_V q97 q99 qs0 q13 q100) rfl rfl rfl (by decide +kernel) ⟨Nat.le_of_ble_eq_true rfl, Nat.le_of_ble_eq_true rfl⟩) hK hP hD hS hA rfl hl.1 rfl (Nat.le_of_ble_eq_true rfl) dX0_end_10 ⟨Nat.zero_le _, Nat.zero_le _⟩ (fun u H locs hpost hP hD hS => ?_)
    obtain ⟨n1, a1⟩ := u
    have k2 : n1 2 = n 2 := clG_n hpost 2 (by decide)
    have k16 : n1 16 = n 16 := clG_n hpost 16 (by decide)
    have hcl := hpost
    have hP : va_P (dC, dI) vwCl (WX0 cB cI q n1 a1) H := hP
    have hD : va_D A (WX0 cB cI q n1 a1) := hD
    refine lv_aload_n hx hb dX0_end_13 rfl (lv_at hl 0 rfl) ?_
    refine gX0 (v := .int (nI (n1 16))) hx hb hts hown hK hP 16 (by decide) q39 rfl dX0_end_14 ?_
    refine xn_if_ne (tgt := 32) hx hb dX0_end_17 (by decide) (by omega) (fun c_17 => ?_) (fun c_17 => ?_)
    · refine lv_aload_n hx hb dX0_end_32 rfl (lv_at hl 0 rfl) ?_
      refine lv_iconst (v := (nI 0)) hx hb dX0_end_33 (by decide) ?_
      refine pX0 (n' := va_up n1 0 0) (ty := .boolean) hx hb hts hown hK hP hD hS 0 (by decide) q23 rfl (by decide +kernel) (by decide +kernel) rfl rfl dX0_end_34 (fun H locs hP hD hS => ?_)
      refine lv_aload_n hx hb dX0_end_37 rfl (lv_at hl 0 rfl) ?_
      refine lv_dup hx hb dX0_end_38 rfl ?_
      refine gX0 (v := .int (nI (n1 2))) hx hb hts hown hK hP 2 (by decide) q25 rfl dX0_end_39 ?_
      refine lv_iconst (v := (nI 1)) hx hb dX0_end_42 (by decide) ?_
      refine xn_iadd hx hb dX0_end_43 ?_
      refine pX0 (n' := va_up (va_up n1 0 0) 2 (n1 2 + 1)) (ty := .int) hx hb hts hown hK hP hD hS 2 (by decide) q25 rfl (by decide +kernel) rfl rfl rfl dX0_end_44 (fun H locs hP hD hS => ?_)
      refine lv_aload_n hx hb dX0_end_47 rfl (lv_at hl 0 rfl) ?_
      refine gX0 (v := .int (nI (n1 2 + 1))) hx hb hts hown hK hP 2 (by decide) q25 rfl dX0_end_48 ?_
      exact W.iret (v := (nI (n1 2 + 1))) hx hb hr (fun t ht hW => ⟨⟨(nI (n1 2 + 1)), enE n1 a1, rfl, (by refine Or.inl ⟨e0, by rw [← k2], ?_⟩; unfold enX; rw [if_neg (by omega), ← hcl]), by rw [ht]; exact hP, va_K.moved hW.alike hK, hD⟩, hS.F ht⟩) hS.2.2 dX0_end_51
    · obtain ⟨en1, ea1⟩ := clG_0 hcl (by omega)
      obtain ⟨c6, c11⟩ := b6 e0 (by omega)
      rw [← en1] at c6 c11
      refine lv_aload_n hx hb dX0_end_20 rfl (lv_at hl 0 rfl) ?_
      refine lv_iconst (v := (nI 0)) hx hb dX0_end_21 (by decide) ?_
      refine lv_iconst (v := (nI 0)) hx hb dX0_end_22 (by decide) ?_
      refine sX0v (As := [.int (nI 0), .int (nI 0)]) (rest := []) ⟨hx, hb, hml, hown, hts⟩ (metX0_addTagEntry l dC dI cB cI q H.size n1 a1 0 0 c6) (cwV 2 hts (lw_V q105 q107 qs2 q13 q108) rfl rfl rfl (by decide +kernel) ⟨Nat.le_of_ble_eq_true rfl, Nat.le_of_ble_eq_true rfl⟩) hK hP hD hS hA rfl hl.1 rfl (Nat.le_of_ble_eq_true rfl) dX0_end_23 ⟨Nat.zero_le _, Nat.zero_le _⟩ (fun u H locs hpost hP hD hS => ?_)
      subst hpost
      have hP : va_P (dC, dI) vwCl (WX0 cB cI q (va_up n1 6 (n1 6 + 1)) (va_up (va_up a1 3 (upd (a1 3) (n1 6) (nI 0))) 4 (upd (a1 4) (n1 6) (nI 0)))) H := hP
      have hD : va_D A (WX0 cB cI q (va_up n1 6 (n1 6 + 1)) (va_up (va_up a1 3 (upd (a1 3) (n1 6) (nI 0))) 4 (upd (a1 4) (n1 6) (nI 0)))) := hD
      refine lv_aload_n hx hb dX0_end_26 rfl (lv_at hl 0 rfl) ?_
      refine lv_iconst (v := (nI 0)) hx hb dX0_end_27 (by decide) ?_
      refine lv_iconst (v := (nI 0)) hx hb dX0_end_28 (by decide) ?_
      refine sX0v (As := [.int (nI 0), .int (nI 0)]) (rest := []) ⟨hx, hb, hml, hown, hts⟩ (metX0_addValueEntry l dC dI cB cI q H.size (va_up n1 6 (n1 6 + 1)) (va_up (va_up a1 3 (upd (a1 3) (n1 6) (nI 0))) 4 (upd (a1 4) (n1 6) (nI 0))) 0 0 c11) (cwV 2 hts (lw_V q101 q103 qs1 q13 q104) rfl rfl rfl (by decide +kernel) ⟨Nat.le_of_ble_eq_true rfl, Nat.le_of_ble_eq_true rfl⟩) hK hP hD hS hA rfl hl.1 rfl (Nat.le_of_ble_eq_true rfl) dX0_end_29 ⟨Nat.zero_le _, Nat.zero_le _⟩ (fun u H locs hpost hP hD hS => ?_)
      subst hpost
      have hP : va_P (dC, dI) vwCl (WX0 cB cI q (va_up (va_up n1 6 (n1 6 + 1)) 11 (n1 11 + 1)) (va_up (va_up (va_up (va_up a1 3 (upd (a1 3) (n1 6) (nI 0))) 4 (upd (a1 4) (n1 6) (nI 0))) 6 (upd (a1 6) (n1 11) (nI 0))) 7 (upd (a1 7) (n1 11) (nI 0)))) H := hP
      have hD : va_D A (WX0 cB cI q (va_up (va_up n1 6 (n1 6 + 1)) 11 (n1 11 + 1)) (va_up (va_up (va_up (va_up a1 3 (upd (a1 3) (n1 6) (nI 0))) 4 (upd (a1 4) (n1 6) (nI 0))) 6 (upd (a1 6) (n1 11) (nI 0))) 7 (upd (a1 7) (n1 11) (nI 0)))) := hD
      refine lv_aload_n hx hb dX0_end_32 rfl (lv_at hl 0 rfl) ?_
      refine lv_iconst (v := (nI 0)) hx hb dX0_end_33 (by decide) ?_
      refine pX0 (n' := va_up (va_up (va_up n1 6 (n1 6 + 1)) 11 (n1 11 + 1)) 0 0) (ty := .boolean) hx hb hts hown hK hP hD hS 0 (by decide) q23 rfl (by decide +kernel) (by decide +kernel) rfl rfl dX0_end_34 (fun H locs hP hD hS => ?_)
      refine lv_aload_n hx hb dX0_end_37 rfl (lv_at hl 0 rfl) ?_
      refine lv_dup hx hb dX0_end_38 rfl ?_
      refine gX0 (v := .int (nI (n1 2))) hx hb hts hown hK hP 2 (by decide) q25 rfl dX0_end_39 ?_
      refine lv_iconst (v := (nI 1)) hx hb dX0_end_42 (by decide) ?_
      refine xn_iadd hx hb dX0_end_43 ?_
      refine pX0 (n' := va_up (va_up (va_up (va_up n1 6 (n1 6 + 1)) 11 (n1 11 + 1)) 0 0) 2 (n1 2 + 1)) (ty := .int) hx hb hts hown hK hP hD hS 2 (by decide) q25 rfl (by decide +kernel) rfl rfl rfl dX0_end_44 (fun H locs hP hD hS => ?_)
      refine lv_aload_n hx hb dX0_end_47 rfl (lv_at hl 0 rfl) ?_
      refine gX0 (v := .int (nI (n1 2 + 1))) hx hb hts hown hK hP 2 (by decide) q25 rfl dX0_end_48 ?_
      exact W.iret (v := (nI (n1 2 + 1))) hx hb hr (fun t ht hW => ⟨⟨(nI (n1 2 + 1)), enE (va_up (va_up n1 6 (n1 6 + 1)) 11 (n1 11 + 1)) (va_up (va_up (va_up (va_up a1 3 (upd (a1 3) (n1 6) (nI 0))) 4 (upd (a1 4) (n1 6) (nI 0))) 6 (upd (a1 6) (n1 11) (nI 0))) 7 (upd (a1 7) (n1 11) (nI 0))), rfl, (by refine Or.inl ⟨e0, by rw [← k2], ?_⟩; unfold enX; rw [if_pos (by omega), ← en1, ← ea1]), by rw [ht]; exact hP, va_K.moved hW.alike hK, hD⟩, hS.F ht⟩) hS.2.2 dX0_end_51
  · refine lv_iconst (v := (-1)) hx hb dX0_end_7 (by decide) ?_
    exact W.iret (v := (-1)) hx hb hr (fun t ht hW => ⟨⟨(-1), (n, a), rfl, Or.inr ⟨by omega, rfl, rfl⟩, by rw [ht]; exact hP, va_K.moved hW.alike hK, hD⟩, hS.F ht⟩) hS.2.2 dX0_end_8
end
section
set_option maxRecDepth 100000
abbrev wsX0_isEnded : List Cond := ws_ yX0_isEnded cX0_isEnded 2 (some .boolean)
set_option maxHeartbeats 4000000 in
set_option maxRecDepth 100000 in
theorem metX0_isEnded (l : Launch) (dC : Nat → ClassId) (dI : Nat → Nat → Nat) (cB cI : ClassId) (q : Nat → Nat) (sz : Nat) (n : Nat → Nat) (a : Nat → Nat → Int32) (p0 : Int32) (h2 : n 2 ≤ 12) : Met l yX0_isEnded wsX0_isEnded ({ frames := 0, cells := 0, slots := 0, locals := 0 }) (va_Pc [.ref (q 0), .int p0] (PX0 dC dI cB cI q n a sz)) (va_Qi (fun (r : Int32) (u : SX) => r = (if outR p0 (n 2) then 0 else 1) ∧ u = (n, a)) (BX0 dC dI cB cI q (va_A (WX0 cB cI q n a) sz)) (va_A (WX0 cB cI q n a) sz)) 0 0 (va_A (WX0 cB cI q n a) sz) := by
  refine Met.ofW (cc := cX0_isEnded) (maxL := 2) (ret := (some .boolean)) (by decide) rfl ?_
  intro p e s m args below meth c s₁ B hml hv
  obtain ⟨rfl, hsz, hP, hK, hD0⟩ := hv
  have hx := B.exec
  have hb := B.bytes
  have hr := B.returns
  have hts := atoms_spec (ws := wsX0_isEnded) B.pre
  have hts : ∀ w ∈ lw_all, w.before _ s = true := fun w h => hts w (List.mem_cons_of_mem _ h)
  have hown : s.vm.findClass RX0 = some m.cls := findClass_of_methodNamed B.named
  have hlocks := B.notSynchronized
  subst hsz
  have hD := hD0.self (sz := s.heap.size)
  generalize hAe : va_A (WX0 cB cI q n a) s.heap.size = A at hD ⊢
  have hA : ∀ q : Nat, s.heap.size ≤ q → A q := fun q h => by rw [← hAe]; exact Or.inr h
  have hl := lv_entry ([.ref (q 0), .int p0]) (n := 2) (Nat.le_of_ble_eq_true rfl)
  rw [lg_entry_eq]
  generalize (lg_sl ([.ref (q 0), .int p0]) ++ List.replicate (2 - (lg_sl ([.ref (q 0), .int p0])).length) Slot.unset).toArray = ls at hl ⊢
  have hl : lv_has ls 2 [(0, .ref (q 0)), (1, .int p0)] := hl
  suffices hh : ∀ (H : Heap) (locs : List Loc), va_P (dC, dI) vwCl (WX0 cB cI q n a) H → va_S A s.heap H locs → W p l e (headSpec wsX0_isEnded ({ frames := 0, cells := 0, slots := 0, locals := 0 })).room s m ([.ref (q 0), .int p0] : List Value).toArray below meth c H locs 0 0 (MQ below (va_Qi (fun (r : Int32) (u : SX) => r = (if outR p0 (n 2) then 0 else 1) ∧ u = (n, a)) (BX0 dC dI cB cI q A) A) ([.ref (q 0), .int p0] : List Value).toArray s 0 0 A) (F0 m 0 ls []) from hh _ _ hP va_S.rf
  clear hP
  intro H locs hP hS
  refine lv_iload_n hx hb dX0_isEnded_0 rfl (lv_at hl 1 rfl) ?_
  refine lv_if_lt (tgt := 16) hx hb dX0_isEnded_1 (by decide) (fun c_1 => ?_) (fun c_1 => ?_)
  · refine lv_iconst (v := (nI 0)) hx hb dX0_isEnded_16 (by decide) ?_
    exact W.zret (v := (nI 0)) hx hb hr rfl (fun t ht hW => ⟨⟨(nI 0), (n, a), rfl, ⟨by rw [if_pos (Or.inl c_1)]; rfl, rfl⟩, by rw [ht]; exact hP, va_K.moved hW.alike hK, hD⟩, hS.F ht⟩) hS.2.2 dX0_isEnded_17
  · refine lv_iload_n hx hb dX0_isEnded_4 rfl (lv_at hl 1 rfl) ?_
    refine lv_aload_n hx hb dX0_isEnded_5 rfl (lv_at hl 0 rfl) ?_
    refine gX0 (v := .int (nI (n 2))) hx hb hts hown hK hP 2 (by decide) q25 rfl dX0_isEnded_6 ?_
    refine lv_icmp_ge (tgt := 16) hx hb dX0_isEnded_9 (by decide) (fun c_9 => ?_) (fun c_9 => ?_)
    · refine lv_iconst (v := (nI 0)) hx hb dX0_isEnded_16 (by decide) ?_
      exact W.zret (v := (nI 0)) hx hb hr rfl (fun t ht hW => ⟨⟨(nI 0), (n, a), rfl, ⟨by rw [if_pos (Or.inr c_9)]; rfl, rfl⟩, by rw [ht]; exact hP, va_K.moved hW.alike hK, hD⟩, hS.F ht⟩) hS.2.2 dX0_isEnded_17
    · refine lv_iconst (v := (nI 1)) hx hb dX0_isEnded_12 (by decide) ?_
      refine lv_goto (tgt := 17) hx hb dX0_isEnded_13 (by decide) ?_
      exact W.zret (v := (nI 1)) hx hb hr rfl (fun t ht hW => ⟨⟨(nI 1), (n, a), rfl, ⟨by rw [if_neg (fun h => h.elim c_1 c_9)]; rfl, rfl⟩, by rw [ht]; exact hP, va_K.moved hW.alike hK, hD⟩, hS.F ht⟩) hS.2.2 dX0_isEnded_17
abbrev wsX0_notesBefore : List Cond := ws_ yX0_notesBefore cX0_notesBefore 4 (some .int)
set_option maxHeartbeats 4000000 in
set_option maxRecDepth 100000 in
theorem metX0_notesBefore (l : Launch) (dC : Nat → ClassId) (dI : Nat → Nat → Nat) (cB cI : ClassId) (q : Nat → Nat) (sz : Nat) (n : Nat → Nat) (a : Nat → Nat → Int32) (R : Nat) (hR : R ≤ 12) : Met l yX0_notesBefore wsX0_notesBefore ({ frames := 0, cells := 0, slots := 0, locals := 0 }) (va_Pc [.ref (q 0), .int (nI R)] (PX0 dC dI cB cI q n a sz)) (va_Qi (fun (r : Int32) (u : SX) => r = nI (dr_cb (a 1) R) ∧ u = (n, a)) (BX0 dC dI cB cI q (va_A (WX0 cB cI q n a) sz)) (va_A (WX0 cB cI q n a) sz)) 0 0 (va_A (WX0 cB cI q n a) sz) := by
  refine Met.ofW (cc := cX0_notesBefore) (maxL := 4) (ret := (some .int)) (by decide) rfl ?_
  intro p e s m args below meth c s₁ B hml hv
  obtain ⟨rfl, hsz, hP, hK, hD0⟩ := hv
  have hx := B.exec
  have hb := B.bytes
  have hr := B.returns
  have hts := atoms_spec (ws := wsX0_notesBefore) B.pre
  have hts : ∀ w ∈ lw_all, w.before _ s = true := fun w h => hts w (List.mem_cons_of_mem _ h)
  have hown : s.vm.findClass RX0 = some m.cls := findClass_of_methodNamed B.named
  have hlocks := B.notSynchronized
  subst hsz
  have hD := hD0.self (sz := s.heap.size)
  generalize hAe : va_A (WX0 cB cI q n a) s.heap.size = A at hD ⊢
  have hA : ∀ q : Nat, s.heap.size ≤ q → A q := fun q h => by rw [← hAe]; exact Or.inr h
  have hl := lv_entry ([.ref (q 0), .int (nI R)]) (n := 4) (Nat.le_of_ble_eq_true rfl)
  rw [lg_entry_eq]
  generalize (lg_sl ([.ref (q 0), .int (nI R)]) ++ List.replicate (4 - (lg_sl ([.ref (q 0), .int (nI R)])).length) Slot.unset).toArray = ls at hl ⊢
  have hl : lv_has ls 4 [(0, .ref (q 0)), (1, .int (nI R))] := hl
  suffices hh : ∀ (H : Heap) (locs : List Loc), va_P (dC, dI) vwCl (WX0 cB cI q n a) H → va_S A s.heap H locs → W p l e (headSpec wsX0_notesBefore ({ frames := 0, cells := 0, slots := 0, locals := 0 })).room s m ([.ref (q 0), .int (nI R)] : List Value).toArray below meth c H locs 0 0 (MQ below (va_Qi (fun (r : Int32) (u : SX) => r = nI (dr_cb (a 1) R) ∧ u = (n, a)) (BX0 dC dI cB cI q A) A) ([.ref (q 0), .int (nI R)] : List Value).toArray s 0 0 A) (F0 m 0 ls []) from hh _ _ hP va_S.rf
  clear hP
  intro H locs hP hS
  refine lv_iconst (v := (nI 0)) hx hb dX0_notesBefore_0 (by decide) ?_
  refine lv_istore_n (lv' := [(2, .int (nI 0)), (0, .ref (q 0)), (1, .int (nI R))]) hx hb dX0_notesBefore_1 rfl hl (by decide) rfl (fun ls hl => ?_)
  refine lv_iconst (v := (nI 0)) hx hb dX0_notesBefore_2 (by decide) ?_
  refine lv_istore_n (lv' := [(3, .int (nI 0)), (2, .int (nI 0)), (0, .ref (q 0)), (1, .int (nI R))]) hx hb dX0_notesBefore_3 rfl hl (by decide) rfl (fun ls hl => ?_)
  have loop : ∀ (k : Nat) (i : Nat), R + 1 ≤ i + k → i ≤ R → ∀ (H : Heap) (locs : List Loc), va_P (dC, dI) vwCl (WX0 cB cI q n a) H → va_D A (WX0 cB cI q n a) → va_S A s.heap H locs → ∀ (ls : Array Slot), lv_has ls 4 [(0, .ref (q 0)), (1, .int (nI R)), (2, .int (nI (dr_cb (a 1) i))), (3, .int (nI i))] → W p l e (headSpec wsX0_notesBefore ({ frames := 0, cells := 0, slots := 0, locals := 0 })).room s m ([.ref (q 0), .int (nI R)] : List Value).toArray below meth c H locs 0 0 (MQ below (va_Qi (fun (r : Int32) (u : SX) => r = nI (dr_cb (a 1) R) ∧ u = (n, a)) (BX0 dC dI cB cI q A) A) ([.ref (q 0), .int (nI R)] : List Value).toArray s 0 0 A) (F0 m 4 ls []) := by
    intro k
    induction k with
    | zero => intro i h1 h2; exact absurd h1 (by omega)
    | succ k ih =>
      intro i hm hi H locs hP hD hS ls hl
      have hcb := dr_cb_le (a 1) i
      refine lv_iload_n hx hb dX0_notesBefore_4 rfl (lv_at hl 3 rfl) ?_
      refine lv_iload_n hx hb dX0_notesBefore_5 rfl (lv_at hl 1 rfl) ?_
      refine xn_icmp_ge (tgt := 32) hx hb dX0_notesBefore_6 (by decide) (by omega) (by omega) (fun c_6 => ?_) (fun c_6 => ?_)
      · obtain rfl : i = R := by omega
        refine lv_iload_n hx hb dX0_notesBefore_32 rfl (lv_at hl 2 rfl) ?_
        exact W.iret (v := (nI (dr_cb (a 1) i))) hx hb hr (fun t ht hW => ⟨⟨(nI (dr_cb (a 1) i)), (n, a), rfl, ⟨rfl, rfl⟩, by rw [ht]; exact hP, va_K.moved hW.alike hK, hD⟩, hS.F ht⟩) hS.2.2 dX0_notesBefore_33
      · refine lv_iload_n hx hb dX0_notesBefore_9 rfl (lv_at hl 2 rfl) ?_
        refine lv_aload_n hx hb dX0_notesBefore_10 rfl (lv_at hl 0 rfl) ?_
        refine gX0 (v := .ref (q 1)) hx hb hts hown hK hP 3 (by decide) q26 rfl dX0_notesBefore_11 ?_
        refine lv_iload_n hx hb dX0_notesBefore_14 rfl (lv_at hl 3 rfl) ?_
        refine xa_zld (v := (a 1 i)) hx hb hK hP 1 0 rfl rfl i (by omega) (by decide) rfl dX0_notesBefore_15 ?_
        have K24 : ∀ v_24 : Nat, v_24 = (if a 1 i = 0 then 0 else 1) → W p l e (headSpec wsX0_notesBefore ({ frames := 0, cells := 0, slots := 0, locals := 0 })).room s m ([.ref (q 0), .int (nI R)] : List Value).toArray below meth c H locs 0 0 (MQ below (va_Qi (fun (r : Int32) (u : SX) => r = nI (dr_cb (a 1) R) ∧ u = (n, a)) (BX0 dC dI cB cI q A) A) ([.ref (q 0), .int (nI R)] : List Value).toArray s 0 0 A) (F0 m 24 ls [.int (nI v_24), .int (nI (dr_cb (a 1) i))]) := by
          intro v_24 hv_24
          obtain rfl : v_24 = (if a 1 i = 0 then 0 else 1) := hv_24
          refine xn_iadd hx hb dX0_notesBefore_24 ?_
          refine lv_istore_n (lv' := [(2, .int (nI (dr_cb (a 1) i + (if a 1 i = 0 then 0 else 1)))), (0, .ref (q 0)), (1, .int (nI R)), (3, .int (nI i))]) hx hb dX0_notesBefore_25 rfl hl (by decide) rfl (fun ls hl => ?_)
          have hl : lv_has ls 4 [(2, .int (nI (dr_cb (a 1) (i + 1)))), (0, .ref (q 0)), (1, .int (nI R)), (3, .int (nI i))] := hl
          refine lv_iinc (v := (nI (i + 1))) (lv' := [(3, .int (nI (i + 1))), (2, .int (nI (dr_cb (a 1) (i + 1)))), (0, .ref (q 0)), (1, .int (nI R))]) hx hb dX0_notesBefore_26 hl (k := 3) rfl (by rw [← nI_1]; rfl) (by decide) rfl (fun ls hl => ?_)
          refine lv_goto (tgt := 4) hx hb dX0_notesBefore_29 (by decide) ?_
          exact ih (i + 1) (by omega) (by omega) H locs hP hD hS ls (lv_sub hl [2, 3, 1, 0] rfl)
        refine lv_if_eq (tgt := 23) hx hb dX0_notesBefore_16 (by decide) (fun c_16 => ?_) (fun c_16 => ?_)
        · refine lv_iconst (v := (nI 0)) hx hb dX0_notesBefore_23 (by decide) ?_
          exact K24 0 (by first | exact (if_pos c_16).symm | exact (if_neg c_16).symm | exact (if_pos (by omega)).symm | exact (if_neg (by omega)).symm)
        · refine lv_iconst (v := (nI 1)) hx hb dX0_notesBefore_19 (by decide) ?_
          refine lv_goto (tgt := 24) hx hb dX0_notesBefore_20 (by decide) ?_
          exact K24 1 (by first | exact (if_pos c_16).symm | exact (if_neg c_16).symm | exact (if_pos (by omega)).symm | exact (if_neg (by omega)).symm)
  exact loop (R + 1) 0 (by omega) (Nat.zero_le _) H locs hP hD hS ls (lv_sub hl [2, 3, 1, 0] rfl)
abbrev wsX0_findTag : List Cond := ws_ yX0_findTag cX0_findTag 6 none
set_option maxHeartbeats 4000000 in
set_option maxRecDepth 100000 in
theorem metX0_findTag (l : Launch) (dC : Nat → ClassId) (dI : Nat → Nat → Nat) (cB cI : ClassId) (q : Nat → Nat) (sz : Nat) (n : Nat → Nat) (a : Nat → Nat → Int32) (R G k0 : Nat) (hR : R < 1000) (hG : G < 1000) (hb0 : n 6 ≤ 52) (hk : k0 < n 6 ∧ dr_zc (a 3) (k0 + 1) = R + 1 ∧ dr_gc (a 3) (k0 + 1) = G ∧ ∀ i, i < k0 → ¬ (dr_zc (a 3) (i + 1) = R + 1 ∧ dr_gc (a 3) (i + 1) = G)) : Met l yX0_findTag wsX0_findTag ({ frames := 0, cells := 0, slots := 0, locals := 0 }) (va_Pc [.ref (q 0), .int (nI R), .int (nI G)] (PX0 dC dI cB cI q n a sz)) (va_Qv (fun (u : SX) => u = (fd n (dr_c2 (a 4) k0) k0, a)) (BX0 dC dI cB cI q (va_A (WX0 cB cI q n a) sz)) (va_A (WX0 cB cI q n a) sz)) 0 0 (va_A (WX0 cB cI q n a) sz) := by
  refine Met.ofW (cc := cX0_findTag) (maxL := 6) (ret := none) (by decide) rfl ?_
  intro p e s m args below meth c s₁ B hml hv
  obtain ⟨rfl, hsz, hP, hK, hD0⟩ := hv
  have hx := B.exec
  have hb := B.bytes
  have hr := B.returns
  have hts := atoms_spec (ws := wsX0_findTag) B.pre
  have hts : ∀ w ∈ lw_all, w.before _ s = true := fun w h => hts w (List.mem_cons_of_mem _ h)
  have hown : s.vm.findClass RX0 = some m.cls := findClass_of_methodNamed B.named
  have hlocks := B.notSynchronized
  subst hsz
  have hD := hD0.self (sz := s.heap.size)
  generalize hAe : va_A (WX0 cB cI q n a) s.heap.size = A at hD ⊢
  have hA : ∀ q : Nat, s.heap.size ≤ q → A q := fun q h => by rw [← hAe]; exact Or.inr h
  have hl := lv_entry ([.ref (q 0), .int (nI R), .int (nI G)]) (n := 6) (Nat.le_of_ble_eq_true rfl)
  rw [lg_entry_eq]
  generalize (lg_sl ([.ref (q 0), .int (nI R), .int (nI G)]) ++ List.replicate (6 - (lg_sl ([.ref (q 0), .int (nI R), .int (nI G)])).length) Slot.unset).toArray = ls at hl ⊢
  have hl : lv_has ls 6 [(0, .ref (q 0)), (1, .int (nI R)), (2, .int (nI G))] := hl
  suffices hh : ∀ (H : Heap) (locs : List Loc), va_P (dC, dI) vwCl (WX0 cB cI q n a) H → va_S A s.heap H locs → W p l e (headSpec wsX0_findTag ({ frames := 0, cells := 0, slots := 0, locals := 0 })).room s m ([.ref (q 0), .int (nI R), .int (nI G)] : List Value).toArray below meth c H locs 0 0 (MQ below (va_Qv (fun (u : SX) => u = (fd n (dr_c2 (a 4) k0) k0, a)) (BX0 dC dI cB cI q A) A) ([.ref (q 0), .int (nI R), .int (nI G)] : List Value).toArray s 0 0 A) (F0 m 0 ls []) from hh _ _ hP va_S.rf
  clear hP
  intro H locs hP hS
  obtain ⟨hk0, hz, hg, hno⟩ := hk
  refine lv_iconst (v := (-1)) hx hb dX0_findTag_0 (by decide) ?_
  refine lv_istore_n (lv' := [(3, .int (-1)), (0, .ref (q 0)), (1, .int (nI R)), (2, .int (nI G))]) hx hb dX0_findTag_1 rfl hl (by decide) rfl (fun ls hl => ?_)
  refine lv_iconst (v := (nI 0)) hx hb dX0_findTag_2 (by decide) ?_
  refine lv_istore (lv' := [(4, .int (nI 0)), (3, .int (-1)), (0, .ref (q 0)), (1, .int (nI R)), (2, .int (nI G))]) hx hb dX0_findTag_3 hl (by decide) rfl (fun ls hl => ?_)
  refine lv_aload_n hx hb dX0_findTag_5 rfl (lv_at hl 2 rfl) ?_
  refine lv_iconst (v := (nI 0)) hx hb dX0_findTag_6 (by decide) ?_
  refine pX0 (n' := va_up n 20 0) (ty := .int) hx hb hts hown hK hP hD hS 20 (by decide) q43 rfl (by decide +kernel) rfl rfl rfl dX0_findTag_7 (fun H locs hP hD hS => ?_)
  refine lv_aload_n hx hb dX0_findTag_10 rfl (lv_at hl 2 rfl) ?_
  refine lv_iconst (v := (nI 0)) hx hb dX0_findTag_11 (by decide) ?_
  refine pX0 (n' := va_up (va_up n 20 0) 19 0) (ty := .int) hx hb hts hown hK hP hD hS 19 (by decide) q42 rfl (by decide +kernel) rfl rfl rfl dX0_findTag_12 (fun H locs hP hD hS => ?_)
  refine lv_iconst (v := (nI 0)) hx hb dX0_findTag_15 (by decide) ?_
  refine lv_istore (lv' := [(5, .int (nI 0)), (4, .int (nI 0)), (3, .int (-1)), (0, .ref (q 0)), (1, .int (nI R)), (2, .int (nI G))]) hx hb dX0_findTag_16 hl (by decide) rfl (fun ls hl => ?_)
  have hP : va_P (dC, dI) vwCl (WX0 cB cI q (fd n (dr_c2 (a 4) 0) 0) a) H := hP
  have hD : va_D A (WX0 cB cI q (fd n (dr_c2 (a 4) 0) 0) a) := hD
  have loop : ∀ (k : Nat) (i : Nat), k0 + 1 ≤ i + k → i ≤ k0 → ∀ (H : Heap) (locs : List Loc), va_P (dC, dI) vwCl (WX0 cB cI q (fd n (dr_c2 (a 4) i) 0) a) H → va_D A (WX0 cB cI q (fd n (dr_c2 (a 4) i) 0) a) → va_S A s.heap H locs → ∀ (ls : Array Slot), lv_has ls 6 [(0, .ref (q 0)), (1, .int (nI R)), (2, .int (nI G)), (3, .int (mI (dr_zc (a 3) i))), (4, .int (nI (dr_gc (a 3) i))), (5, .int (nI i))] → W p l e (headSpec wsX0_findTag ({ frames := 0, cells := 0, slots := 0, locals := 0 })).room s m ([.ref (q 0), .int (nI R), .int (nI G)] : List Value).toArray below meth c H locs 0 0 (MQ below (va_Qv (fun (u : SX) => u = (fd n (dr_c2 (a 4) k0) k0, a)) (BX0 dC dI cB cI q A) A) ([.ref (q 0), .int (nI R), .int (nI G)] : List Value).toArray s 0 0 A) (F0 m 18 ls []) := by
    intro k
    induction k with
    | zero => intro i h1 h2; exact absurd h1 (by omega)
    | succ k ih =>
      intro i hm hi H locs hP hD hS ls hl
      have hzb := dr_zc_le (a 3) i
      have hzb1 := dr_zc_le (a 3) (i + 1)
      have hgb := dr_gc_le (a 3) i
      have hgb1 := dr_gc_le (a 3) (i + 1)
      have hcb := dr_c2_le (a 4) i
      refine lv_iload hx hb dX0_findTag_18 (lv_at hl 5 rfl) ?_
      refine lv_aload_n hx hb dX0_findTag_20 rfl (lv_at hl 0 rfl) ?_
      refine gX0 (v := .int (nI (n 6))) hx hb hts hown hK hP 6 (by decide) q29 rfl dX0_findTag_21 ?_
      refine xn_icmp_ge (tgt := 114) hx hb dX0_findTag_24 (by decide) (by omega) (by omega) (fun c_24 => ?_) (fun c_24 => ?_)
      · exact absurd c_24 (by omega)
      · refine lv_iload_n hx hb dX0_findTag_27 rfl (lv_at hl 3 rfl) ?_
        refine lv_aload_n hx hb dX0_findTag_28 rfl (lv_at hl 0 rfl) ?_
        refine gX0 (v := .ref (q 3)) hx hb hts hown hK hP 7 (by decide) q30 rfl dX0_findTag_29 ?_
        refine lv_iload hx hb dX0_findTag_32 (lv_at hl 5 rfl) ?_
        refine xa_ild (v := (a 3 i)) hx hb hK hP 3 1 rfl rfl i (by omega) (by decide) rfl dX0_findTag_34 ?_
        have K43 : ∀ v_43 : Nat, v_43 = (if a 3 i = 0 then 1 else 0) → W p l e (headSpec wsX0_findTag ({ frames := 0, cells := 0, slots := 0, locals := 0 })).room s m ([.ref (q 0), .int (nI R), .int (nI G)] : List Value).toArray below meth c H locs 0 0 (MQ below (va_Qv (fun (u : SX) => u = (fd n (dr_c2 (a 4) k0) k0, a)) (BX0 dC dI cB cI q A) A) ([.ref (q 0), .int (nI R), .int (nI G)] : List Value).toArray s 0 0 A) (F0 m 43 ls [.int (nI v_43), .int (mI (dr_zc (a 3) i))]) := by
          intro v_43 hv_43
          obtain rfl : v_43 = (if a 3 i = 0 then 1 else 0) := hv_43
          refine xm_iadd hx hb dX0_findTag_43 ?_
          refine lv_istore_n (lv' := [(3, .int (mI (dr_zc (a 3) i + (if a 3 i = 0 then 1 else 0)))), (0, .ref (q 0)), (1, .int (nI R)), (2, .int (nI G)), (4, .int (nI (dr_gc (a 3) i))), (5, .int (nI i))]) hx hb dX0_findTag_44 rfl hl (by decide) rfl (fun ls hl => ?_)
          have hl : lv_has ls 6 [(3, .int (mI (dr_zc (a 3) (i + 1)))), (0, .ref (q 0)), (1, .int (nI R)), (2, .int (nI G)), (4, .int (nI (dr_gc (a 3) i))), (5, .int (nI i))] := hl
          refine lv_aload_n hx hb dX0_findTag_45 rfl (lv_at hl 1 rfl) ?_
          refine gX0 (v := .ref (q 3)) hx hb hts hown hK hP 7 (by decide) q30 rfl dX0_findTag_46 ?_
          refine lv_iload hx hb dX0_findTag_49 (lv_at hl 5 rfl) ?_
          refine xa_ild (v := (a 3 i)) hx hb hK hP 3 1 rfl rfl i (by omega) (by decide) rfl dX0_findTag_51 ?_
          have K63 : ∀ v_63 : Nat, v_63 = (if a 3 i = 0 then 0 else dr_gc (a 3) i + 1) → W p l e (headSpec wsX0_findTag ({ frames := 0, cells := 0, slots := 0, locals := 0 })).room s m ([.ref (q 0), .int (nI R), .int (nI G)] : List Value).toArray below meth c H locs 0 0 (MQ below (va_Qv (fun (u : SX) => u = (fd n (dr_c2 (a 4) k0) k0, a)) (BX0 dC dI cB cI q A) A) ([.ref (q 0), .int (nI R), .int (nI G)] : List Value).toArray s 0 0 A) (F0 m 63 ls [.int (nI v_63)]) := by
            intro v_63 hv_63
            obtain rfl : v_63 = dr_gc (a 3) (i + 1) := hv_63
            refine lv_istore (lv' := [(4, .int (nI (dr_gc (a 3) (i + 1)))), (3, .int (mI (dr_zc (a 3) (i + 1)))), (0, .ref (q 0)), (1, .int (nI R)), (2, .int (nI G)), (5, .int (nI i))]) hx hb dX0_findTag_63 hl (by decide) rfl (fun ls hl => ?_)
            refine lv_iload_n hx hb dX0_findTag_65 rfl (lv_at hl 1 rfl) ?_
            refine lv_iload_n hx hb dX0_findTag_66 rfl (lv_at hl 3 rfl) ?_
            have K83 : ¬ (dr_zc (a 3) (i + 1) = R + 1 ∧ dr_gc (a 3) (i + 1) = G) → W p l e (headSpec wsX0_findTag ({ frames := 0, cells := 0, slots := 0, locals := 0 })).room s m ([.ref (q 0), .int (nI R), .int (nI G)] : List Value).toArray below meth c H locs 0 0 (MQ below (va_Qv (fun (u : SX) => u = (fd n (dr_c2 (a 4) k0) k0, a)) (BX0 dC dI cB cI q A) A) ([.ref (q 0), .int (nI R), .int (nI G)] : List Value).toArray s 0 0 A) (F0 m 83 ls []) := by
              intro hne
              have hik : i < k0 := by
                rcases Nat.lt_or_ge i k0 with hq | hq
                · exact hq
                · obtain rfl : i = k0 := by omega
                  exact absurd ⟨hz, hg⟩ hne
              refine lv_aload_n hx hb dX0_findTag_83 rfl (lv_at hl 2 rfl) ?_
              refine lv_dup hx hb dX0_findTag_84 rfl ?_
              refine gX0 (v := .int (nI (dr_c2 (a 4) i))) hx hb hts hown hK hP 20 (by decide) q43 rfl dX0_findTag_85 ?_
              refine lv_aload_n hx hb dX0_findTag_88 rfl (lv_at hl 2 rfl) ?_
              refine gX0 (v := .ref (q 4)) hx hb hts hown hK hP 8 (by decide) q31 rfl dX0_findTag_89 ?_
              refine lv_iload hx hb dX0_findTag_92 (lv_at hl 5 rfl) ?_
              refine xa_ild (v := (a 4 i)) hx hb hK hP 4 1 rfl rfl i (by omega) (by decide) rfl dX0_findTag_94 ?_
              refine lv_iconst (v := (nI 2)) hx hb dX0_findTag_95 (by decide) ?_
              have K104 : ∀ v_104 : Nat, v_104 = (if a 4 i = 2 then 1 else 0) → W p l e (headSpec wsX0_findTag ({ frames := 0, cells := 0, slots := 0, locals := 0 })).room s m ([.ref (q 0), .int (nI R), .int (nI G)] : List Value).toArray below meth c H locs 0 0 (MQ below (va_Qv (fun (u : SX) => u = (fd n (dr_c2 (a 4) k0) k0, a)) (BX0 dC dI cB cI q A) A) ([.ref (q 0), .int (nI R), .int (nI G)] : List Value).toArray s 0 0 A) (F0 m 104 ls [.int (nI v_104), .int (nI (dr_c2 (a 4) i)), .ref (q 0)]) := by
                intro v_104 hv_104
                obtain rfl : v_104 = (if a 4 i = 2 then 1 else 0) := hv_104
                refine xn_iadd hx hb dX0_findTag_104 ?_
                refine pX0 (n' := fd n (dr_c2 (a 4) (i + 1)) 0) (ty := .int) hx hb hts hown hK hP hD hS 20 (by decide) q43 rfl (by decide +kernel) rfl rfl rfl dX0_findTag_105 (fun H locs hP hD hS => ?_)
                refine lv_iinc (v := (nI (i + 1))) (lv' := [(5, .int (nI (i + 1))), (4, .int (nI (dr_gc (a 3) (i + 1)))), (3, .int (mI (dr_zc (a 3) (i + 1)))), (0, .ref (q 0)), (1, .int (nI R)), (2, .int (nI G))]) hx hb dX0_findTag_108 hl (k := 5) rfl (by rw [← nI_1]; rfl) (by decide) rfl (fun ls hl => ?_)
                refine lv_goto (tgt := 18) hx hb dX0_findTag_111 (by decide) ?_
                exact ih (i + 1) (by omega) (by omega) H locs hP hD hS ls (lv_sub hl [3, 4, 5, 2, 1, 0] rfl)
              refine lv_icmp_ne (tgt := 103) hx hb dX0_findTag_96 (by decide) (fun c_96 => ?_) (fun c_96 => ?_)
              · refine lv_iconst (v := (nI 0)) hx hb dX0_findTag_103 (by decide) ?_
                exact K104 0 (by first | exact (if_pos c_96).symm | exact (if_neg c_96).symm | exact (if_pos (by omega)).symm | exact (if_neg (by omega)).symm)
              · refine lv_iconst (v := (nI 1)) hx hb dX0_findTag_99 (by decide) ?_
                refine lv_goto (tgt := 104) hx hb dX0_findTag_100 (by decide) ?_
                exact K104 1 (by first | exact (if_pos c_96).symm | exact (if_neg c_96).symm | exact (if_pos (by omega)).symm | exact (if_neg (by omega)).symm)
            refine xm_icmp_ne (tgt := 83) hx hb dX0_findTag_67 (by decide) (by omega) (by omega) (fun c_67 => ?_) (fun c_67 => ?_)
            · exact K83 (fun h => c_67 h.1)
            · refine lv_iload hx hb dX0_findTag_70 (lv_at hl 0 rfl) ?_
              refine lv_iload_n hx hb dX0_findTag_72 rfl (lv_at hl 4 rfl) ?_
              refine xn_icmp_ne (tgt := 83) hx hb dX0_findTag_73 (by decide) (by omega) (by omega) (fun c_73 => ?_) (fun c_73 => ?_)
              · exact K83 (fun h => c_73 h.2)
              · have hik : i = k0 := by
                  rcases Nat.lt_or_ge i k0 with hq | hq
                  · exact absurd ⟨c_67, c_73⟩ (hno i hq)
                  · omega
                subst hik
                refine lv_aload_n hx hb dX0_findTag_76 rfl (lv_at hl 2 rfl) ?_
                refine lv_iload hx hb dX0_findTag_77 (lv_at hl 5 rfl) ?_
                refine pX0 (n' := va_up (fd n (dr_c2 (a 4) i) 0) 19 i) (ty := .int) hx hb hts hown hK hP hD hS 19 (by decide) q42 rfl (by decide +kernel) rfl rfl rfl dX0_findTag_79 (fun H locs hP hD hS => ?_)
                exact W.vret hx hb hr (fun t ht hW => ⟨⟨(fd n (dr_c2 (a 4) i) i, a), rfl, rfl, by rw [ht]; exact hP, va_K.moved hW.alike hK, hD⟩, hS.F ht⟩) hS.2.2 dX0_findTag_82
          refine lv_if_ne (tgt := 59) hx hb dX0_findTag_52 (by decide) (fun c_52 => ?_) (fun c_52 => ?_)
          · refine lv_iload hx hb dX0_findTag_59 (lv_at hl 4 rfl) ?_
            refine lv_iconst (v := (nI 1)) hx hb dX0_findTag_61 (by decide) ?_
            refine xn_iadd hx hb dX0_findTag_62 ?_
            exact K63 (dr_gc (a 3) i + 1) (by first | exact (if_pos c_52).symm | exact (if_neg c_52).symm | exact (if_pos (by omega)).symm | exact (if_neg (by omega)).symm)
          · refine lv_iconst (v := (nI 0)) hx hb dX0_findTag_55 (by decide) ?_
            refine lv_goto (tgt := 63) hx hb dX0_findTag_56 (by decide) ?_
            exact K63 0 (by first | exact (if_pos c_52).symm | exact (if_neg c_52).symm | exact (if_pos (by omega)).symm | exact (if_neg (by omega)).symm)
        refine lv_if_ne (tgt := 42) hx hb dX0_findTag_35 (by decide) (fun c_35 => ?_) (fun c_35 => ?_)
        · refine lv_iconst (v := (nI 0)) hx hb dX0_findTag_42 (by decide) ?_
          exact K43 0 (by first | exact (if_pos c_35).symm | exact (if_neg c_35).symm | exact (if_pos (by omega)).symm | exact (if_neg (by omega)).symm)
        · refine lv_iconst (v := (nI 1)) hx hb dX0_findTag_38 (by decide) ?_
          refine lv_goto (tgt := 43) hx hb dX0_findTag_39 (by decide) ?_
          exact K43 1 (by first | exact (if_pos c_35).symm | exact (if_neg c_35).symm | exact (if_pos (by omega)).symm | exact (if_neg (by omega)).symm)
  have hl : lv_has ls 6 [(5, .int (nI 0)), (4, .int (nI 0)), (3, .int (mI 0)), (0, .ref (q 0)), (1, .int (nI R)), (2, .int (nI G))] := hl
  exact loop (k0 + 1) 0 (by omega) (Nat.zero_le _) H locs hP hD hS ls (lv_sub hl [3, 4, 5, 2, 1, 0] rfl)
abbrev wsX0_findValue : List Cond := ws_ yX0_findValue cX0_findValue 6 none
set_option maxHeartbeats 4000000 in
set_option maxRecDepth 100000 in
theorem metX0_findValue (l : Launch) (dC : Nat → ClassId) (dI : Nat → Nat → Nat) (cB cI : ClassId) (q : Nat → Nat) (sz : Nat) (n : Nat → Nat) (a : Nat → Nat → Int32) (R G k0 : Nat) (hR : R < 1000) (hG : G < 1000) (hb0 : n 11 ≤ 112) (hk : k0 < n 11 ∧ dr_zc (a 6) (k0 + 1) = R + 1 ∧ dr_gw (a 6) (k0 + 1) = G ∧ ∀ i, i < k0 → ¬ (dr_zc (a 6) (i + 1) = R + 1 ∧ dr_gw (a 6) (i + 1) = G)) : Met l yX0_findValue wsX0_findValue ({ frames := 0, cells := 0, slots := 0, locals := 0 }) (va_Pc [.ref (q 0), .int (nI R), .int (nI G)] (PX0 dC dI cB cI q n a sz)) (va_Qv (fun (u : SX) => u = (fd n (dr_c2 (a 7) k0) k0, a)) (BX0 dC dI cB cI q (va_A (WX0 cB cI q n a) sz)) (va_A (WX0 cB cI q n a) sz)) 0 0 (va_A (WX0 cB cI q n a) sz) := by
  refine Met.ofW (cc := cX0_findValue) (maxL := 6) (ret := none) (by decide) rfl ?_
  intro p e s m args below meth c s₁ B hml hv
  obtain ⟨rfl, hsz, hP, hK, hD0⟩ := hv
  have hx := B.exec
  have hb := B.bytes
  have hr := B.returns
  have hts := atoms_spec (ws := wsX0_findValue) B.pre
  have hts : ∀ w ∈ lw_all, w.before _ s = true := fun w h => hts w (List.mem_cons_of_mem _ h)
  have hown : s.vm.findClass RX0 = some m.cls := findClass_of_methodNamed B.named
  have hlocks := B.notSynchronized
  subst hsz
  have hD := hD0.self (sz := s.heap.size)
  generalize hAe : va_A (WX0 cB cI q n a) s.heap.size = A at hD ⊢
  have hA : ∀ q : Nat, s.heap.size ≤ q → A q := fun q h => by rw [← hAe]; exact Or.inr h
  have hl := lv_entry ([.ref (q 0), .int (nI R), .int (nI G)]) (n := 6) (Nat.le_of_ble_eq_true rfl)
  rw [lg_entry_eq]
  generalize (lg_sl ([.ref (q 0), .int (nI R), .int (nI G)]) ++ List.replicate (6 - (lg_sl ([.ref (q 0), .int (nI R), .int (nI G)])).length) Slot.unset).toArray = ls at hl ⊢
  have hl : lv_has ls 6 [(0, .ref (q 0)), (1, .int (nI R)), (2, .int (nI G))] := hl
  suffices hh : ∀ (H : Heap) (locs : List Loc), va_P (dC, dI) vwCl (WX0 cB cI q n a) H → va_S A s.heap H locs → W p l e (headSpec wsX0_findValue ({ frames := 0, cells := 0, slots := 0, locals := 0 })).room s m ([.ref (q 0), .int (nI R), .int (nI G)] : List Value).toArray below meth c H locs 0 0 (MQ below (va_Qv (fun (u : SX) => u = (fd n (dr_c2 (a 7) k0) k0, a)) (BX0 dC dI cB cI q A) A) ([.ref (q 0), .int (nI R), .int (nI G)] : List Value).toArray s 0 0 A) (F0 m 0 ls []) from hh _ _ hP va_S.rf
  clear hP
  intro H locs hP hS
  obtain ⟨hk0, hz, hg, hno⟩ := hk
  refine lv_iconst (v := (-1)) hx hb dX0_findValue_0 (by decide) ?_
  refine lv_istore_n (lv' := [(3, .int (-1)), (0, .ref (q 0)), (1, .int (nI R)), (2, .int (nI G))]) hx hb dX0_findValue_1 rfl hl (by decide) rfl (fun ls hl => ?_)
  refine lv_iconst (v := (nI 0)) hx hb dX0_findValue_2 (by decide) ?_
  refine lv_istore (lv' := [(4, .int (nI 0)), (3, .int (-1)), (0, .ref (q 0)), (1, .int (nI R)), (2, .int (nI G))]) hx hb dX0_findValue_3 hl (by decide) rfl (fun ls hl => ?_)
  refine lv_aload_n hx hb dX0_findValue_5 rfl (lv_at hl 2 rfl) ?_
  refine lv_iconst (v := (nI 0)) hx hb dX0_findValue_6 (by decide) ?_
  refine pX0 (n' := va_up n 20 0) (ty := .int) hx hb hts hown hK hP hD hS 20 (by decide) q43 rfl (by decide +kernel) rfl rfl rfl dX0_findValue_7 (fun H locs hP hD hS => ?_)
  refine lv_aload_n hx hb dX0_findValue_10 rfl (lv_at hl 2 rfl) ?_
  refine lv_iconst (v := (nI 0)) hx hb dX0_findValue_11 (by decide) ?_
  refine pX0 (n' := va_up (va_up n 20 0) 19 0) (ty := .int) hx hb hts hown hK hP hD hS 19 (by decide) q42 rfl (by decide +kernel) rfl rfl rfl dX0_findValue_12 (fun H locs hP hD hS => ?_)
  refine lv_iconst (v := (nI 0)) hx hb dX0_findValue_15 (by decide) ?_
  refine lv_istore (lv' := [(5, .int (nI 0)), (4, .int (nI 0)), (3, .int (-1)), (0, .ref (q 0)), (1, .int (nI R)), (2, .int (nI G))]) hx hb dX0_findValue_16 hl (by decide) rfl (fun ls hl => ?_)
  have hP : va_P (dC, dI) vwCl (WX0 cB cI q (fd n (dr_c2 (a 7) 0) 0) a) H := hP
  have hD : va_D A (WX0 cB cI q (fd n (dr_c2 (a 7) 0) 0) a) := hD
  have loop : ∀ (k : Nat) (i : Nat), k0 + 1 ≤ i + k → i ≤ k0 → ∀ (H : Heap) (locs : List Loc), va_P (dC, dI) vwCl (WX0 cB cI q (fd n (dr_c2 (a 7) i) 0) a) H → va_D A (WX0 cB cI q (fd n (dr_c2 (a 7) i) 0) a) → va_S A s.heap H locs → ∀ (ls : Array Slot), lv_has ls 6 [(0, .ref (q 0)), (1, .int (nI R)), (2, .int (nI G)), (3, .int (mI (dr_zc (a 6) i))), (4, .int (nI (dr_gw (a 6) i))), (5, .int (nI i))] → W p l e (headSpec wsX0_findValue ({ frames := 0, cells := 0, slots := 0, locals := 0 })).room s m ([.ref (q 0), .int (nI R), .int (nI G)] : List Value).toArray below meth c H locs 0 0 (MQ below (va_Qv (fun (u : SX) => u = (fd n (dr_c2 (a 7) k0) k0, a)) (BX0 dC dI cB cI q A) A) ([.ref (q 0), .int (nI R), .int (nI G)] : List Value).toArray s 0 0 A) (F0 m 18 ls []) := by
    intro k
    induction k with
    | zero => intro i h1 h2; exact absurd h1 (by omega)
    | succ k ih =>
      intro i hm hi H locs hP hD hS ls hl
      have hzb := dr_zc_le (a 6) i
      have hzb1 := dr_zc_le (a 6) (i + 1)
      have hgb := dr_gw_le (a 6) i
      have hgb1 := dr_gw_le (a 6) (i + 1)
      have hcb := dr_c2_le (a 7) i
      refine lv_iload hx hb dX0_findValue_18 (lv_at hl 5 rfl) ?_
      refine lv_aload_n hx hb dX0_findValue_20 rfl (lv_at hl 0 rfl) ?_
      refine gX0 (v := .int (nI (n 11))) hx hb hts hown hK hP 11 (by decide) q34 rfl dX0_findValue_21 ?_
      refine xn_icmp_ge (tgt := 130) hx hb dX0_findValue_24 (by decide) (by omega) (by omega) (fun c_24 => ?_) (fun c_24 => ?_)
      · exact absurd c_24 (by omega)
      · refine lv_iload_n hx hb dX0_findValue_27 rfl (lv_at hl 3 rfl) ?_
        refine lv_aload_n hx hb dX0_findValue_28 rfl (lv_at hl 0 rfl) ?_
        refine gX0 (v := .ref (q 6)) hx hb hts hown hK hP 12 (by decide) q35 rfl dX0_findValue_29 ?_
        refine lv_iload hx hb dX0_findValue_32 (lv_at hl 5 rfl) ?_
        refine xa_ild (v := (a 6 i)) hx hb hK hP 6 1 rfl rfl i (by omega) (by decide) rfl dX0_findValue_34 ?_
        have K43 : ∀ v_43 : Nat, v_43 = (if a 6 i = 0 then 1 else 0) → W p l e (headSpec wsX0_findValue ({ frames := 0, cells := 0, slots := 0, locals := 0 })).room s m ([.ref (q 0), .int (nI R), .int (nI G)] : List Value).toArray below meth c H locs 0 0 (MQ below (va_Qv (fun (u : SX) => u = (fd n (dr_c2 (a 7) k0) k0, a)) (BX0 dC dI cB cI q A) A) ([.ref (q 0), .int (nI R), .int (nI G)] : List Value).toArray s 0 0 A) (F0 m 43 ls [.int (nI v_43), .int (mI (dr_zc (a 6) i))]) := by
          intro v_43 hv_43
          obtain rfl : v_43 = (if a 6 i = 0 then 1 else 0) := hv_43
          refine xm_iadd hx hb dX0_findValue_43 ?_
          refine lv_istore_n (lv' := [(3, .int (mI (dr_zc (a 6) i + (if a 6 i = 0 then 1 else 0)))), (0, .ref (q 0)), (1, .int (nI R)), (2, .int (nI G)), (4, .int (nI (dr_gw (a 6) i))), (5, .int (nI i))]) hx hb dX0_findValue_44 rfl hl (by decide) rfl (fun ls hl => ?_)
          have hl : lv_has ls 6 [(3, .int (mI (dr_zc (a 6) (i + 1)))), (0, .ref (q 0)), (1, .int (nI R)), (2, .int (nI G)), (4, .int (nI (dr_gw (a 6) i))), (5, .int (nI i))] := hl
          refine lv_aload_n hx hb dX0_findValue_45 rfl (lv_at hl 1 rfl) ?_
          refine gX0 (v := .ref (q 6)) hx hb hts hown hK hP 12 (by decide) q35 rfl dX0_findValue_46 ?_
          refine lv_iload hx hb dX0_findValue_49 (lv_at hl 5 rfl) ?_
          refine xa_ild (v := (a 6 i)) hx hb hK hP 6 1 rfl rfl i (by omega) (by decide) rfl dX0_findValue_51 ?_
          have K79 : ∀ v_79 : Nat, v_79 = (if a 6 i = 0 then 0 else (if a 6 i = 1 then dr_gw (a 6) i + 1 else dr_gw (a 6) i)) → W p l e (headSpec wsX0_findValue ({ frames := 0, cells := 0, slots := 0, locals := 0 })).room s m ([.ref (q 0), .int (nI R), .int (nI G)] : List Value).toArray below meth c H locs 0 0 (MQ below (va_Qv (fun (u : SX) => u = (fd n (dr_c2 (a 7) k0) k0, a)) (BX0 dC dI cB cI q A) A) ([.ref (q 0), .int (nI R), .int (nI G)] : List Value).toArray s 0 0 A) (F0 m 79 ls [.int (nI v_79)]) := by
            intro v_79 hv_79
            obtain rfl : v_79 = dr_gw (a 6) (i + 1) := hv_79
            refine lv_istore (lv' := [(4, .int (nI (dr_gw (a 6) (i + 1)))), (3, .int (mI (dr_zc (a 6) (i + 1)))), (0, .ref (q 0)), (1, .int (nI R)), (2, .int (nI G)), (5, .int (nI i))]) hx hb dX0_findValue_79 hl (by decide) rfl (fun ls hl => ?_)
            refine lv_iload_n hx hb dX0_findValue_81 rfl (lv_at hl 1 rfl) ?_
            refine lv_iload_n hx hb dX0_findValue_82 rfl (lv_at hl 3 rfl) ?_
            have K99 : ¬ (dr_zc (a 6) (i + 1) = R + 1 ∧ dr_gw (a 6) (i + 1) = G) → W p l e (headSpec wsX0_findValue ({ frames := 0, cells := 0, slots := 0, locals := 0 })).room s m ([.ref (q 0), .int (nI R), .int (nI G)] : List Value).toArray below meth c H locs 0 0 (MQ below (va_Qv (fun (u : SX) => u = (fd n (dr_c2 (a 7) k0) k0, a)) (BX0 dC dI cB cI q A) A) ([.ref (q 0), .int (nI R), .int (nI G)] : List Value).toArray s 0 0 A) (F0 m 99 ls []) := by
              intro hne
              have hik : i < k0 := by
                rcases Nat.lt_or_ge i k0 with hq | hq
                · exact hq
                · obtain rfl : i = k0 := by omega
                  exact absurd ⟨hz, hg⟩ hne
              refine lv_aload_n hx hb dX0_findValue_99 rfl (lv_at hl 2 rfl) ?_
              refine lv_dup hx hb dX0_findValue_100 rfl ?_
              refine gX0 (v := .int (nI (dr_c2 (a 7) i))) hx hb hts hown hK hP 20 (by decide) q43 rfl dX0_findValue_101 ?_
              refine lv_aload_n hx hb dX0_findValue_104 rfl (lv_at hl 2 rfl) ?_
              refine gX0 (v := .ref (q 7)) hx hb hts hown hK hP 13 (by decide) q36 rfl dX0_findValue_105 ?_
              refine lv_iload hx hb dX0_findValue_108 (lv_at hl 5 rfl) ?_
              refine xa_ild (v := (a 7 i)) hx hb hK hP 7 1 rfl rfl i (by omega) (by decide) rfl dX0_findValue_110 ?_
              refine lv_iconst (v := (nI 2)) hx hb dX0_findValue_111 (by decide) ?_
              have K120 : ∀ v_120 : Nat, v_120 = (if a 7 i = 2 then 1 else 0) → W p l e (headSpec wsX0_findValue ({ frames := 0, cells := 0, slots := 0, locals := 0 })).room s m ([.ref (q 0), .int (nI R), .int (nI G)] : List Value).toArray below meth c H locs 0 0 (MQ below (va_Qv (fun (u : SX) => u = (fd n (dr_c2 (a 7) k0) k0, a)) (BX0 dC dI cB cI q A) A) ([.ref (q 0), .int (nI R), .int (nI G)] : List Value).toArray s 0 0 A) (F0 m 120 ls [.int (nI v_120), .int (nI (dr_c2 (a 7) i)), .ref (q 0)]) := by
                intro v_120 hv_120
                obtain rfl : v_120 = (if a 7 i = 2 then 1 else 0) := hv_120
                refine xn_iadd hx hb dX0_findValue_120 ?_
                refine pX0 (n' := fd n (dr_c2 (a 7) (i + 1)) 0) (ty := .int) hx hb hts hown hK hP hD hS 20 (by decide) q43 rfl (by decide +kernel) rfl rfl rfl dX0_findValue_121 (fun H locs hP hD hS => ?_)
                refine lv_iinc (v := (nI (i + 1))) (lv' := [(5, .int (nI (i + 1))), (4, .int (nI (dr_gw (a 6) (i + 1)))), (3, .int (mI (dr_zc (a 6) (i + 1)))), (0, .ref (q 0)), (1, .int (nI R)), (2, .int (nI G))]) hx hb dX0_findValue_124 hl (k := 5) rfl (by rw [← nI_1]; rfl) (by decide) rfl (fun ls hl => ?_)
                refine lv_goto (tgt := 18) hx hb dX0_findValue_127 (by decide) ?_
                exact ih (i + 1) (by omega) (by omega) H locs hP hD hS ls (lv_sub hl [3, 4, 5, 2, 1, 0] rfl)
              refine lv_icmp_ne (tgt := 119) hx hb dX0_findValue_112 (by decide) (fun c_112 => ?_) (fun c_112 => ?_)
              · refine lv_iconst (v := (nI 0)) hx hb dX0_findValue_119 (by decide) ?_
                exact K120 0 (by first | exact (if_pos c_112).symm | exact (if_neg c_112).symm | exact (if_pos (by omega)).symm | exact (if_neg (by omega)).symm)
              · refine lv_iconst (v := (nI 1)) hx hb dX0_findValue_115 (by decide) ?_
                refine lv_goto (tgt := 120) hx hb dX0_findValue_116 (by decide) ?_
                exact K120 1 (by first | exact (if_pos c_112).symm | exact (if_neg c_112).symm | exact (if_pos (by omega)).symm | exact (if_neg (by omega)).symm)
            refine xm_icmp_ne (tgt := 99) hx hb dX0_findValue_83 (by decide) (by omega) (by omega) (fun c_83 => ?_) (fun c_83 => ?_)
            · exact K99 (fun h => c_83 h.1)
            · refine lv_iload hx hb dX0_findValue_86 (lv_at hl 0 rfl) ?_
              refine lv_iload_n hx hb dX0_findValue_88 rfl (lv_at hl 4 rfl) ?_
              refine xn_icmp_ne (tgt := 99) hx hb dX0_findValue_89 (by decide) (by omega) (by omega) (fun c_89 => ?_) (fun c_89 => ?_)
              · exact K99 (fun h => c_89 h.2)
              · have hik : i = k0 := by
                  rcases Nat.lt_or_ge i k0 with hq | hq
                  · exact absurd ⟨c_83, c_89⟩ (hno i hq)
                  · omega
                subst hik
                refine lv_aload_n hx hb dX0_findValue_92 rfl (lv_at hl 2 rfl) ?_
                refine lv_iload hx hb dX0_findValue_93 (lv_at hl 5 rfl) ?_
                refine pX0 (n' := va_up (fd n (dr_c2 (a 7) i) 0) 19 i) (ty := .int) hx hb hts hown hK hP hD hS 19 (by decide) q42 rfl (by decide +kernel) rfl rfl rfl dX0_findValue_95 (fun H locs hP hD hS => ?_)
                exact W.vret hx hb hr (fun t ht hW => ⟨⟨(fd n (dr_c2 (a 7) i) i, a), rfl, rfl, by rw [ht]; exact hP, va_K.moved hW.alike hK, hD⟩, hS.F ht⟩) hS.2.2 dX0_findValue_98
          refine lv_if_ne (tgt := 59) hx hb dX0_findValue_52 (by decide) (fun c_52 => ?_) (fun c_52 => ?_)
          · refine lv_aload_n hx hb dX0_findValue_59 rfl (lv_at hl 1 rfl) ?_
            refine gX0 (v := .ref (q 6)) hx hb hts hown hK hP 12 (by decide) q35 rfl dX0_findValue_60 ?_
            refine lv_iload hx hb dX0_findValue_63 (lv_at hl 5 rfl) ?_
            refine xa_ild (v := (a 6 i)) hx hb hK hP 6 1 rfl rfl i (by omega) (by decide) rfl dX0_findValue_65 ?_
            refine lv_iconst (v := (nI 1)) hx hb dX0_findValue_66 (by decide) ?_
            refine lv_icmp_ne (tgt := 77) hx hb dX0_findValue_67 (by decide) (fun c_67 => ?_) (fun c_67 => ?_)
            · refine lv_iload hx hb dX0_findValue_77 (lv_at hl 4 rfl) ?_
              exact K79 (dr_gw (a 6) i) (by rw [if_neg c_52, if_neg (show ¬ a 6 i = 1 from c_67)])
            · refine lv_iload hx hb dX0_findValue_70 (lv_at hl 4 rfl) ?_
              refine lv_iconst (v := (nI 1)) hx hb dX0_findValue_72 (by decide) ?_
              refine xn_iadd hx hb dX0_findValue_73 ?_
              refine lv_goto (tgt := 79) hx hb dX0_findValue_74 (by decide) ?_
              exact K79 (dr_gw (a 6) i + 1) (by rw [if_neg c_52, if_pos (show a 6 i = 1 from c_67)])
          · refine lv_iconst (v := (nI 0)) hx hb dX0_findValue_55 (by decide) ?_
            refine lv_goto (tgt := 79) hx hb dX0_findValue_56 (by decide) ?_
            exact K79 0 (if_pos c_52).symm
        refine lv_if_ne (tgt := 42) hx hb dX0_findValue_35 (by decide) (fun c_35 => ?_) (fun c_35 => ?_)
        · refine lv_iconst (v := (nI 0)) hx hb dX0_findValue_42 (by decide) ?_
          exact K43 0 (by first | exact (if_pos c_35).symm | exact (if_neg c_35).symm | exact (if_pos (by omega)).symm | exact (if_neg (by omega)).symm)
        · refine lv_iconst (v := (nI 1)) hx hb dX0_findValue_38 (by decide) ?_
          refine lv_goto (tgt := 43) hx hb dX0_findValue_39 (by decide) ?_
          exact K43 1 (by first | exact (if_pos c_35).symm | exact (if_neg c_35).symm | exact (if_pos (by omega)).symm | exact (if_neg (by omega)).symm)
  have hl : lv_has ls 6 [(5, .int (nI 0)), (4, .int (nI 0)), (3, .int (mI 0)), (0, .ref (q 0)), (1, .int (nI R)), (2, .int (nI G))] := hl
  exact loop (k0 + 1) 0 (by omega) (Nat.zero_le _) H locs hP hD hS ls (lv_sub hl [3, 4, 5, 2, 1, 0] rfl)
end
section
set_option maxRecDepth 100000
abbrev wsX0_groups : List Cond := ws_ yX0_groups cX0_groups 4 (some .int)
set_option maxHeartbeats 4000000 in
set_option maxRecDepth 100000 in
theorem metX0_groups (l : Launch) (dC : Nat → ClassId) (dI : Nat → Nat → Nat) (cB cI : ClassId) (q : Nat → Nat) (sz : Nat) (n : Nat → Nat) (a : Nat → Nat → Int32) (p0 : Int32) (gO vn : Nat → Nat) (hI : XI gO vn n a) : Met l yX0_groups wsX0_groups ({ frames := 1, cells := 0, slots := 0, locals := 25 }) (va_Pc [.ref (q 0), .int p0] (PX0 dC dI cB cI q n a sz)) (va_Qi (fun (r : Int32) (u : SX) => r = ansG gO (n 2) p0 ∧ ∃ x y, u = (fd n x y, a)) (BX0 dC dI cB cI q (va_A (WX0 cB cI q n a) sz)) (va_A (WX0 cB cI q n a) sz)) 0 0 (va_A (WX0 cB cI q n a) sz) := by
  refine Met.ofW (cc := cX0_groups) (maxL := 4) (ret := (some .int)) (by decide) rfl ?_
  intro p e s m args below meth c s₁ B hml hv
  obtain ⟨rfl, hsz, hP, hK, hD0⟩ := hv
  have hx := B.exec
  have hb := B.bytes
  have hr := B.returns
  have hts := atoms_spec (ws := wsX0_groups) B.pre
  have hts : ∀ w ∈ lw_all, w.before _ s = true := fun w h => hts w (List.mem_cons_of_mem _ h)
  have hown : s.vm.findClass RX0 = some m.cls := findClass_of_methodNamed B.named
  have hlocks := B.notSynchronized
  subst hsz
  have hD := hD0.self (sz := s.heap.size)
  generalize hAe : va_A (WX0 cB cI q n a) s.heap.size = A at hD ⊢
  have hA : ∀ q : Nat, s.heap.size ≤ q → A q := fun q h => by rw [← hAe]; exact Or.inr h
  have hl := lv_entry ([.ref (q 0), .int p0]) (n := 4) (Nat.le_of_ble_eq_true rfl)
  rw [lg_entry_eq]
  generalize (lg_sl ([.ref (q 0), .int p0]) ++ List.replicate (4 - (lg_sl ([.ref (q 0), .int p0])).length) Slot.unset).toArray = ls at hl ⊢
  have hl : lv_has ls 4 [(0, .ref (q 0)), (1, .int p0)] := hl
  suffices hh : ∀ (H : Heap) (locs : List Loc), va_P (dC, dI) vwCl (WX0 cB cI q n a) H → va_S A s.heap H locs → W p l e (headSpec wsX0_groups ({ frames := 1, cells := 0, slots := 0, locals := 25 })).room s m ([.ref (q 0), .int p0] : List Value).toArray below meth c H locs 0 0 (MQ below (va_Qi (fun (r : Int32) (u : SX) => r = ansG gO (n 2) p0 ∧ ∃ x y, u = (fd n x y, a)) (BX0 dC dI cB cI q A) A) ([.ref (q 0), .int p0] : List Value).toArray s 0 0 A) (F0 m 0 ls []) from hh _ _ hP va_S.rf
  clear hP
  intro H locs hP hS
  have h2 := xi_2 hI
  have h6 := xi_6 hI
  have g4 := hI.2.1.2.1
  refine lv_aload_n hx hb dX0_groups_0 rfl (lv_at hl 0 rfl) ?_
  refine lv_iload_n hx hb dX0_groups_1 rfl (lv_at hl 1 rfl) ?_
  refine sX0i (As := [.int p0]) (rest := []) ⟨hx, hb, hml, hown, hts⟩ (metX0_isEnded l dC dI cB cI q H.size n a p0 h2) (cwV 1 hts (lw_V q121 q123 qs3 q13 q124) rfl rfl rfl (by decide +kernel) ⟨Nat.le_of_ble_eq_true rfl, Nat.le_of_ble_eq_true rfl⟩) hK hP hD hS hA rfl hl.1 rfl (Nat.le_of_ble_eq_true rfl) dX0_groups_2 ⟨Nat.zero_le _, Nat.zero_le _⟩ (fun r1 u H locs hpost hP hD hS => ?_)
  obtain ⟨e1, rfl⟩ := hpost
  have hP : va_P (dC, dI) vwCl (WX0 cB cI q n a) H := hP
  have hD : va_D A (WX0 cB cI q n a) := hD
  refine lv_if_ne (tgt := 10) hx hb dX0_groups_5 (by decide) (fun c_5 => ?_) (fun c_5 => ?_)
  · have hin : ¬ outR p0 (n 2) := fun h => c_5 (by rw [e1]; exact if_pos h)
    obtain ⟨R, hR, hp⟩ := outR_ex hin (by omega)
    have ha : ansG gO (n 2) p0 = nI (gO R) := by rw [ansG, if_neg hin, hp, cl_nI (by omega)]
    rw [hp] at hl
    have htag := xi_tag hI (r := R) (g := 0) (Or.inl ⟨hR, dr_o1_pos _⟩)
    have hlt : dr_sT gO R < n 6 := htag.1
    refine lv_aload_n hx hb dX0_groups_10 rfl (lv_at hl 0 rfl) ?_
    refine lv_iload_n hx hb dX0_groups_11 rfl (lv_at hl 1 rfl) ?_
    refine lv_iconst (v := (nI 0)) hx hb dX0_groups_12 (by decide) ?_
    refine sX0v (As := [.int (nI R), .int (nI 0)]) (rest := []) ⟨hx, hb, hml, hown, hts⟩ (metX0_findTag l dC dI cB cI q H.size n a R 0 (dr_sT gO R + 0) (by omega) (by omega) h6 htag) (cwV 2 hts (lw_V q125 q127 qs4 q13 q128) rfl rfl rfl (by decide +kernel) ⟨Nat.le_of_ble_eq_true rfl, Nat.le_of_ble_eq_true rfl⟩) hK hP hD hS hA rfl hl.1 rfl (Nat.le_of_ble_eq_true rfl) dX0_groups_13 ⟨Nat.zero_le _, Nat.zero_le _⟩ (fun u H locs hpost hP hD hS => ?_)
    subst hpost
    have hP : va_P (dC, dI) vwCl (WX0 cB cI q (fd n (dr_c2 (a 4) (dr_sT gO R)) (dr_sT gO R)) a) H := hP
    have hD : va_D A (WX0 cB cI q (fd n (dr_c2 (a 4) (dr_sT gO R)) (dr_sT gO R)) a) := hD
    refine lv_aload_n hx hb dX0_groups_16 rfl (lv_at hl 0 rfl) ?_
    refine gX0 (v := .ref (q 4)) hx hb hts hown hK hP 8 (by decide) q31 rfl dX0_groups_17 ?_
    refine lv_aload_n hx hb dX0_groups_20 rfl (lv_at hl 0 rfl) ?_
    refine gX0 (v := .int (nI (dr_sT gO R))) hx hb hts hown hK hP 19 (by decide) q42 rfl dX0_groups_21 ?_
    refine xa_ild (v := (a 4 (dr_sT gO R))) hx hb hK hP 4 1 rfl rfl (dr_sT gO R) (by omega) (by decide) rfl dX0_groups_24 ?_
    refine lv_if_ne (tgt := 30) hx hb dX0_groups_25 (by decide) (fun c_25 => ?_) (fun c_25 => ?_)
    · have hg : 0 < gO R := Nat.pos_of_ne_zero (fun z => c_25 ((xi_td hI hR).mpr z))
      obtain ⟨ge1, ge2⟩ := xi_gend hI hR hg
      have g4R := g4 R
      refine lv_iconst (v := (nI 1)) hx hb dX0_groups_30 (by decide) ?_
      refine lv_istore_n (lv' := [(2, .int (nI 1)), (0, .ref (q 0)), (1, .int (nI R))]) hx hb dX0_groups_31 rfl hl (by decide) rfl (fun ls hl => ?_)
      refine lv_aload_n hx hb dX0_groups_32 rfl (lv_at hl 1 rfl) ?_
      refine gX0 (v := .int (nI (dr_sT gO R))) hx hb hts hown hK hP 19 (by decide) q42 rfl dX0_groups_33 ?_
      refine lv_iconst (v := (nI 1)) hx hb dX0_groups_36 (by decide) ?_
      refine xn_iadd hx hb dX0_groups_37 ?_
      refine lv_istore_n (lv' := [(3, .int (nI (dr_sT gO R + 1))), (2, .int (nI 1)), (0, .ref (q 0)), (1, .int (nI R))]) hx hb dX0_groups_38 rfl hl (by decide) rfl (fun ls hl => ?_)
      have loop : ∀ (k : Nat) (j : Nat), gO R + 1 ≤ j + k → 0 < j → j ≤ gO R → ∀ (H : Heap) (locs : List Loc), va_P (dC, dI) vwCl (WX0 cB cI q (fd n (dr_c2 (a 4) (dr_sT gO R)) (dr_sT gO R)) a) H → va_D A (WX0 cB cI q (fd n (dr_c2 (a 4) (dr_sT gO R)) (dr_sT gO R)) a) → va_S A s.heap H locs → ∀ (ls : Array Slot), lv_has ls 4 [(0, .ref (q 0)), (1, .int (nI R)), (2, .int (nI j)), (3, .int (nI (dr_sT gO R + j)))] → W p l e (headSpec wsX0_groups ({ frames := 1, cells := 0, slots := 0, locals := 25 })).room s m ([.ref (q 0), .int p0] : List Value).toArray below meth c H locs 0 0 (MQ below (va_Qi (fun (r : Int32) (u : SX) => r = ansG gO (n 2) p0 ∧ ∃ x y, u = (fd n x y, a)) (BX0 dC dI cB cI q A) A) ([.ref (q 0), .int p0] : List Value).toArray s 0 0 A) (F0 m 39 ls []) := by
        intro k
        induction k with
        | zero => intro j hm hj0 hj; exact absurd hm (by omega)
        | succ k ih =>
          intro j hm hj0 hj H locs hP hD hS ls hl
          refine lv_iload_n hx hb dX0_groups_39 rfl (lv_at hl 3 rfl) ?_
          refine lv_aload_n hx hb dX0_groups_40 rfl (lv_at hl 0 rfl) ?_
          refine gX0 (v := .int (nI (n 6))) hx hb hts hown hK hP 6 (by decide) q29 rfl dX0_groups_41 ?_
          refine xn_icmp_ge (tgt := 65) hx hb dX0_groups_44 (by decide) (by omega) (by omega) (fun c_44 => ?_) (fun c_44 => ?_)
          · have hjg : j = gO R := by
              rcases Nat.lt_or_ge j (gO R) with hq | hq
              · omega
              · omega
            refine lv_iload_n hx hb dX0_groups_65 rfl (lv_at hl 2 rfl) ?_
            exact W.iret (v := (nI j)) hx hb hr (fun t ht hW => ⟨⟨(nI j), (fd n (dr_c2 (a 4) (dr_sT gO R)) (dr_sT gO R), a), rfl, ⟨by rw [ha, hjg], _, _, rfl⟩, by rw [ht]; exact hP, va_K.moved hW.alike hK, hD⟩, hS.F ht⟩) hS.2.2 dX0_groups_66
          · refine lv_aload_n hx hb dX0_groups_47 rfl (lv_at hl 0 rfl) ?_
            refine gX0 (v := .ref (q 3)) hx hb hts hown hK hP 7 (by decide) q30 rfl dX0_groups_48 ?_
            refine lv_iload_n hx hb dX0_groups_51 rfl (lv_at hl 3 rfl) ?_
            refine xa_ild (v := (a 3 (dr_sT gO R + j))) hx hb hK hP 3 1 rfl rfl (dr_sT gO R + j) (by omega) (by decide) rfl dX0_groups_52 ?_
            refine lv_if_le (tgt := 65) hx hb dX0_groups_53 (by decide) (fun c_53 => ?_) (fun c_53 => ?_)
            · have hjg : j = gO R := by
                rcases Nat.lt_or_ge j (gO R) with hq | hq
                · exact absurd c_53 (xi_more hI hR hj0 hq)
                · omega
              refine lv_iload_n hx hb dX0_groups_65 rfl (lv_at hl 2 rfl) ?_
              exact W.iret (v := (nI j)) hx hb hr (fun t ht hW => ⟨⟨(nI j), (fd n (dr_c2 (a 4) (dr_sT gO R)) (dr_sT gO R), a), rfl, ⟨by rw [ha, hjg], _, _, rfl⟩, by rw [ht]; exact hP, va_K.moved hW.alike hK, hD⟩, hS.F ht⟩) hS.2.2 dX0_groups_66
            · have hjg : j < gO R := by
                rcases Nat.lt_or_ge j (gO R) with hq | hq
                · exact hq
                · have hjq : j = gO R := by omega
                  rw [hjq] at c_44 c_53
                  exact absurd (ge2 c_44) c_53
              refine lv_iinc (v := (nI (j + 1))) (lv' := [(2, .int (nI (j + 1))), (0, .ref (q 0)), (1, .int (nI R)), (3, .int (nI (dr_sT gO R + j)))]) hx hb dX0_groups_56 hl (k := 2) rfl (by rw [← nI_1]; rfl) (by decide) rfl (fun ls hl => ?_)
              refine lv_iinc (v := (nI (dr_sT gO R + j + 1))) (lv' := [(3, .int (nI (dr_sT gO R + j + 1))), (2, .int (nI (j + 1))), (0, .ref (q 0)), (1, .int (nI R))]) hx hb dX0_groups_59 hl (k := 3) rfl (by rw [← nI_1]; rfl) (by decide) rfl (fun ls hl => ?_)
              refine lv_goto (tgt := 39) hx hb dX0_groups_62 (by decide) ?_
              exact ih (j + 1) (by omega) (by omega) (by omega) H locs hP hD hS ls (lv_sub hl [2, 3, 1, 0] rfl)
      exact loop (gO R + 1) 1 (by omega) (by omega) (by omega) H locs hP hD hS ls (lv_sub hl [2, 3, 1, 0] rfl)
    · refine lv_iconst (v := (nI 0)) hx hb dX0_groups_28 (by decide) ?_
      exact W.iret (v := (nI 0)) hx hb hr (fun t ht hW => ⟨⟨(nI 0), (fd n (dr_c2 (a 4) (dr_sT gO R)) (dr_sT gO R), a), rfl, ⟨by rw [ha, (xi_td hI hR).mp c_25], _, _, rfl⟩, by rw [ht]; exact hP, va_K.moved hW.alike hK, hD⟩, hS.F ht⟩) hS.2.2 dX0_groups_29
  · have ho : outR p0 (n 2) := by rw [e1] at c_5; exact ite01.mp c_5
    refine lv_iconst (v := (-1)) hx hb dX0_groups_8 (by decide) ?_
    exact W.iret (v := (-1)) hx hb hr (fun t ht hW => ⟨⟨(-1), (n, a), rfl, ⟨(if_pos ho).symm, n 20, n 19, by rw [fd_self]⟩, by rw [ht]; exact hP, va_K.moved hW.alike hK, hD⟩, hS.F ht⟩) hS.2.2 dX0_groups_9
abbrev wsX0_isGroup : List Cond := ws_ yX0_isGroup cX0_isGroup 3 (some .boolean)
set_option maxHeartbeats 4000000 in
set_option maxRecDepth 100000 in
theorem metX0_isGroup (l : Launch) (dC : Nat → ClassId) (dI : Nat → Nat → Nat) (cB cI : ClassId) (q : Nat → Nat) (sz : Nat) (n : Nat → Nat) (a : Nat → Nat → Int32) (p0 p1 : Int32) (gO vn : Nat → Nat) (hI : XI gO vn n a) : Met l yX0_isGroup wsX0_isGroup ({ frames := 2, cells := 0, slots := 0, locals := 48 }) (va_Pc [.ref (q 0), .int p0, .int p1] (PX0 dC dI cB cI q n a sz)) (va_Qi (fun (r : Int32) (u : SX) => r = (if outG gO (n 2) p0 p1 then 0 else 1) ∧ ∃ x y, u = (fd n x y, a)) (BX0 dC dI cB cI q (va_A (WX0 cB cI q n a) sz)) (va_A (WX0 cB cI q n a) sz)) 0 0 (va_A (WX0 cB cI q n a) sz) := by
  refine Met.ofW (cc := cX0_isGroup) (maxL := 3) (ret := (some .boolean)) (by decide) rfl ?_
  intro p e s m args below meth c s₁ B hml hv
  obtain ⟨rfl, hsz, hP, hK, hD0⟩ := hv
  have hx := B.exec
  have hb := B.bytes
  have hr := B.returns
  have hts := atoms_spec (ws := wsX0_isGroup) B.pre
  have hts : ∀ w ∈ lw_all, w.before _ s = true := fun w h => hts w (List.mem_cons_of_mem _ h)
  have hown : s.vm.findClass RX0 = some m.cls := findClass_of_methodNamed B.named
  have hlocks := B.notSynchronized
  subst hsz
  have hD := hD0.self (sz := s.heap.size)
  generalize hAe : va_A (WX0 cB cI q n a) s.heap.size = A at hD ⊢
  have hA : ∀ q : Nat, s.heap.size ≤ q → A q := fun q h => by rw [← hAe]; exact Or.inr h
  have hl := lv_entry ([.ref (q 0), .int p0, .int p1]) (n := 3) (Nat.le_of_ble_eq_true rfl)
  rw [lg_entry_eq]
  generalize (lg_sl ([.ref (q 0), .int p0, .int p1]) ++ List.replicate (3 - (lg_sl ([.ref (q 0), .int p0, .int p1])).length) Slot.unset).toArray = ls at hl ⊢
  have hl : lv_has ls 3 [(0, .ref (q 0)), (1, .int p0), (2, .int p1)] := hl
  suffices hh : ∀ (H : Heap) (locs : List Loc), va_P (dC, dI) vwCl (WX0 cB cI q n a) H → va_S A s.heap H locs → W p l e (headSpec wsX0_isGroup ({ frames := 2, cells := 0, slots := 0, locals := 48 })).room s m ([.ref (q 0), .int p0, .int p1] : List Value).toArray below meth c H locs 0 0 (MQ below (va_Qi (fun (r : Int32) (u : SX) => r = (if outG gO (n 2) p0 p1 then 0 else 1) ∧ ∃ x y, u = (fd n x y, a)) (BX0 dC dI cB cI q A) A) ([.ref (q 0), .int p0, .int p1] : List Value).toArray s 0 0 A) (F0 m 0 ls []) from hh _ _ hP va_S.rf
  clear hP
  intro H locs hP hS
  have h2 := xi_2 hI
  refine lv_aload_n hx hb dX0_isGroup_0 rfl (lv_at hl 0 rfl) ?_
  refine lv_iload_n hx hb dX0_isGroup_1 rfl (lv_at hl 1 rfl) ?_
  refine sX0i (As := [.int p0]) (rest := []) ⟨hx, hb, hml, hown, hts⟩ (metX0_isEnded l dC dI cB cI q H.size n a p0 h2) (cwV 1 hts (lw_V q121 q123 qs3 q13 q124) rfl rfl rfl (by decide +kernel) ⟨Nat.le_of_ble_eq_true rfl, Nat.le_of_ble_eq_true rfl⟩) hK hP hD hS hA rfl hl.1 rfl (Nat.le_of_ble_eq_true rfl) dX0_isGroup_2 ⟨Nat.zero_le _, Nat.zero_le _⟩ (fun r1 u H locs hpost hP hD hS => ?_)
  obtain ⟨e1, rfl⟩ := hpost
  have hP : va_P (dC, dI) vwCl (WX0 cB cI q n a) H := hP
  have hD : va_D A (WX0 cB cI q n a) := hD
  refine lv_if_eq (tgt := 25) hx hb dX0_isGroup_5 (by decide) (fun c_5 => ?_) (fun c_5 => ?_)
  · have ho : outR p0 (n 2) := by rw [e1] at c_5; exact ite01.mp c_5
    refine lv_iconst (v := (nI 0)) hx hb dX0_isGroup_25 (by decide) ?_
    exact W.zret (v := (nI 0)) hx hb hr rfl (fun t ht hW => ⟨⟨(nI 0), (n, a), rfl, ⟨(if_pos (Or.inl ho)).symm, n 20, n 19, by rw [fd_self]⟩, by rw [ht]; exact hP, va_K.moved hW.alike hK, hD⟩, hS.F ht⟩) hS.2.2 dX0_isGroup_26
  · have hin : ¬ outR p0 (n 2) := fun h => c_5 (by rw [e1]; exact if_pos h)
    refine lv_iload_n hx hb dX0_isGroup_8 rfl (lv_at hl 2 rfl) ?_
    refine lv_if_lt (tgt := 25) hx hb dX0_isGroup_9 (by decide) (fun c_9 => ?_) (fun c_9 => ?_)
    · refine lv_iconst (v := (nI 0)) hx hb dX0_isGroup_25 (by decide) ?_
      exact W.zret (v := (nI 0)) hx hb hr rfl (fun t ht hW => ⟨⟨(nI 0), (n, a), rfl, ⟨(if_pos (Or.inr (Or.inl c_9))).symm, n 20, n 19, by rw [fd_self]⟩, by rw [ht]; exact hP, va_K.moved hW.alike hK, hD⟩, hS.F ht⟩) hS.2.2 dX0_isGroup_26
    · refine lv_iload_n hx hb dX0_isGroup_12 rfl (lv_at hl 2 rfl) ?_
      refine lv_aload_n hx hb dX0_isGroup_13 rfl (lv_at hl 0 rfl) ?_
      refine lv_iload_n hx hb dX0_isGroup_14 rfl (lv_at hl 1 rfl) ?_
      refine sX0i (As := [.int p0]) (rest := [.int p1]) ⟨hx, hb, hml, hown, hts⟩ (metX0_groups l dC dI cB cI q H.size n a p0 gO vn hI) (cwV 1 hts (lw_V q137 q118 q119 q13 q120) rfl rfl rfl (by decide +kernel) ⟨Nat.le_of_ble_eq_true rfl, Nat.le_of_ble_eq_true rfl⟩) hK hP hD hS hA rfl hl.1 rfl (Nat.le_of_ble_eq_true rfl) dX0_isGroup_15 ⟨Nat.zero_le _, Nat.zero_le _⟩ (fun r2 u H locs hpost hP hD hS => ?_)
      obtain ⟨e2, x2, y2, rfl⟩ := hpost
      have hP : va_P (dC, dI) vwCl (WX0 cB cI q (fd n x2 y2) a) H := hP
      have hD : va_D A (WX0 cB cI q (fd n x2 y2) a) := hD
      rw [ansG, if_neg hin] at e2
      refine lv_icmp_ge (tgt := 25) hx hb dX0_isGroup_18 (by decide) (fun c_18 => ?_) (fun c_18 => ?_)
      · refine lv_iconst (v := (nI 0)) hx hb dX0_isGroup_25 (by decide) ?_
        exact W.zret (v := (nI 0)) hx hb hr rfl (fun t ht hW => ⟨⟨(nI 0), (fd n x2 y2, a), rfl, ⟨(if_pos (Or.inr (Or.inr (by rw [← e2]; exact c_18)))).symm, x2, y2, rfl⟩, by rw [ht]; exact hP, va_K.moved hW.alike hK, hD⟩, hS.F ht⟩) hS.2.2 dX0_isGroup_26
      · refine lv_iconst (v := (nI 1)) hx hb dX0_isGroup_21 (by decide) ?_
        refine lv_goto (tgt := 26) hx hb dX0_isGroup_22 (by decide) ?_
        exact W.zret (v := (nI 1)) hx hb hr rfl (fun t ht hW => ⟨⟨(nI 1), (fd n x2 y2, a), rfl, ⟨(if_neg (fun h => h.elim hin (fun h => h.elim c_9 (fun h => c_18 (by rw [e2]; exact h))))).symm, x2, y2, rfl⟩, by rw [ht]; exact hP, va_K.moved hW.alike hK, hD⟩, hS.F ht⟩) hS.2.2 dX0_isGroup_26
end
section
set_option maxRecDepth 100000
abbrev wsX0_values : List Cond := ws_ yX0_values cX0_values 5 (some .int)
set_option maxHeartbeats 4000000 in
set_option maxRecDepth 100000 in
theorem metX0_values (l : Launch) (dC : Nat → ClassId) (dI : Nat → Nat → Nat) (cB cI : ClassId) (q : Nat → Nat) (sz : Nat) (n : Nat → Nat) (a : Nat → Nat → Int32) (p0 p1 : Int32) (gO vn : Nat → Nat) (hI : XI gO vn n a) : Met l yX0_values wsX0_values ({ frames := 3, cells := 0, slots := 0, locals := 70 }) (va_Pc [.ref (q 0), .int p0, .int p1] (PX0 dC dI cB cI q n a sz)) (va_Qi (fun (r : Int32) (u : SX) => r = ansV gO (fun R G => vn (dr_sT gO R + G)) (n 2) p0 p1 ∧ ∃ x y, u = (fd n x y, a)) (BX0 dC dI cB cI q (va_A (WX0 cB cI q n a) sz)) (va_A (WX0 cB cI q n a) sz)) 0 0 (va_A (WX0 cB cI q n a) sz) := by
  refine Met.ofW (cc := cX0_values) (maxL := 5) (ret := (some .int)) (by decide) rfl ?_
  intro p e s m args below meth c s₁ B hml hv
  obtain ⟨rfl, hsz, hP, hK, hD0⟩ := hv
  have hx := B.exec
  have hb := B.bytes
  have hr := B.returns
  have hts := atoms_spec (ws := wsX0_values) B.pre
  have hts : ∀ w ∈ lw_all, w.before _ s = true := fun w h => hts w (List.mem_cons_of_mem _ h)
  have hown : s.vm.findClass RX0 = some m.cls := findClass_of_methodNamed B.named
  have hlocks := B.notSynchronized
  subst hsz
  have hD := hD0.self (sz := s.heap.size)
  generalize hAe : va_A (WX0 cB cI q n a) s.heap.size = A at hD ⊢
  have hA : ∀ q : Nat, s.heap.size ≤ q → A q := fun q h => by rw [← hAe]; exact Or.inr h
  have hl := lv_entry ([.ref (q 0), .int p0, .int p1]) (n := 5) (Nat.le_of_ble_eq_true rfl)
  rw [lg_entry_eq]
  generalize (lg_sl ([.ref (q 0), .int p0, .int p1]) ++ List.replicate (5 - (lg_sl ([.ref (q 0), .int p0, .int p1])).length) Slot.unset).toArray = ls at hl ⊢
  have hl : lv_has ls 5 [(0, .ref (q 0)), (1, .int p0), (2, .int p1)] := hl
  suffices hh : ∀ (H : Heap) (locs : List Loc), va_P (dC, dI) vwCl (WX0 cB cI q n a) H → va_S A s.heap H locs → W p l e (headSpec wsX0_values ({ frames := 3, cells := 0, slots := 0, locals := 70 })).room s m ([.ref (q 0), .int p0, .int p1] : List Value).toArray below meth c H locs 0 0 (MQ below (va_Qi (fun (r : Int32) (u : SX) => r = ansV gO (fun R G => vn (dr_sT gO R + G)) (n 2) p0 p1 ∧ ∃ x y, u = (fd n x y, a)) (BX0 dC dI cB cI q A) A) ([.ref (q 0), .int p0, .int p1] : List Value).toArray s 0 0 A) (F0 m 0 ls []) from hh _ _ hP va_S.rf
  clear hP
  intro H locs hP hS
  have h2 := xi_2 hI
  have h11 := xi_11 hI
  have g4 := hI.2.1.2.1
  refine lv_aload_n hx hb dX0_values_0 rfl (lv_at hl 0 rfl) ?_
  refine lv_iload_n hx hb dX0_values_1 rfl (lv_at hl 1 rfl) ?_
  refine lv_iload_n hx hb dX0_values_2 rfl (lv_at hl 2 rfl) ?_
  refine sX0i (As := [.int p0, .int p1]) (rest := []) ⟨hx, hb, hml, hown, hts⟩ (metX0_isGroup l dC dI cB cI q H.size n a p0 p1 gO vn hI) (cwV 2 hts (lw_V q133 q135 qs5 q13 q136) rfl rfl rfl (by decide +kernel) ⟨Nat.le_of_ble_eq_true rfl, Nat.le_of_ble_eq_true rfl⟩) hK hP hD hS hA rfl hl.1 rfl (Nat.le_of_ble_eq_true rfl) dX0_values_3 ⟨Nat.zero_le _, Nat.zero_le _⟩ (fun r1 u H locs hpost hP hD hS => ?_)
  obtain ⟨e1, x1, y1, rfl⟩ := hpost
  have hP : va_P (dC, dI) vwCl (WX0 cB cI q (fd n x1 y1) a) H := hP
  have hD : va_D A (WX0 cB cI q (fd n x1 y1) a) := hD
  refine lv_if_ne (tgt := 11) hx hb dX0_values_6 (by decide) (fun c_6 => ?_) (fun c_6 => ?_)
  · have hin : ¬ outG gO (n 2) p0 p1 := fun h => c_6 (by rw [e1]; exact if_pos h)
    obtain ⟨R, G, hR, hG, hp, hz⟩ := outG_ex hin h2 g4
    have g4R := g4 R
    rw [hp, hz] at hl
    have ha : ansV gO (fun R G => vn (dr_sT gO R + G)) (n 2) p0 p1 = nI (vn (dr_sT gO R + G)) := by rw [ansV, if_neg hin, hp, hz, cl_nI (by omega), cl_nI (by omega)]
    have hval := xi_val hI hR hG
    have hlt := hval.1
    have het := xi_end_tC hI hR (Nat.lt_of_lt_of_le hG (dr_o1_ge _))
    have hv4 := hI.2.2.2.1.2.1 (dr_sT gO R + G)
    refine lv_aload_n hx hb dX0_values_11 rfl (lv_at hl 0 rfl) ?_
    refine lv_iload_n hx hb dX0_values_12 rfl (lv_at hl 1 rfl) ?_
    refine lv_iload_n hx hb dX0_values_13 rfl (lv_at hl 2 rfl) ?_
    refine sX0v (As := [.int (nI R), .int (nI G)]) (rest := []) ⟨hx, hb, hml, hown, hts⟩ (metX0_findValue l dC dI cB cI q H.size (fd n x1 y1) a R G (dr_sV vn (dr_sT gO R + G)) (by omega) (by omega) h11 hval) (cwV 2 hts (lw_V q138 q140 qs6 q13 q141) rfl rfl rfl (by decide +kernel) ⟨Nat.le_of_ble_eq_true rfl, Nat.le_of_ble_eq_true rfl⟩) hK hP hD hS hA rfl hl.1 rfl (Nat.le_of_ble_eq_true rfl) dX0_values_14 ⟨Nat.zero_le _, Nat.zero_le _⟩ (fun u H locs hpost hP hD hS => ?_)
    subst hpost
    have hP : va_P (dC, dI) vwCl (WX0 cB cI q (fd n (dr_c2 (a 7) (dr_sV vn (dr_sT gO R + G))) (dr_sV vn (dr_sT gO R + G))) a) H := hP
    have hD : va_D A (WX0 cB cI q (fd n (dr_c2 (a 7) (dr_sV vn (dr_sT gO R + G))) (dr_sV vn (dr_sT gO R + G))) a) := hD
    refine lv_aload_n hx hb dX0_values_17 rfl (lv_at hl 0 rfl) ?_
    refine gX0 (v := .ref (q 7)) hx hb hts hown hK hP 13 (by decide) q36 rfl dX0_values_18 ?_
    refine lv_aload_n hx hb dX0_values_21 rfl (lv_at hl 0 rfl) ?_
    refine gX0 (v := .int (nI (dr_sV vn (dr_sT gO R + G)))) hx hb hts hown hK hP 19 (by decide) q42 rfl dX0_values_22 ?_
    refine xa_ild (v := (a 7 (dr_sV vn (dr_sT gO R + G)))) hx hb hK hP 7 1 rfl rfl (dr_sV vn (dr_sT gO R + G)) (by omega) (by decide) rfl dX0_values_25 ?_
    refine lv_iconst (v := (nI 2)) hx hb dX0_values_26 (by decide) ?_
    refine lv_icmp_ge (tgt := 32) hx hb dX0_values_27 (by decide) (fun c_27 => ?_) (fun c_27 => ?_)
    · have hg : 0 < vn (dr_sT gO R + G) := (xi_vd hI het).1 c_27
      obtain ⟨ge1, ge2⟩ := xi_vend hI het hg
      refine lv_iconst (v := (nI 1)) hx hb dX0_values_32 (by decide) ?_
      refine lv_istore_n (lv' := [(3, .int (nI 1)), (0, .ref (q 0)), (1, .int (nI R)), (2, .int (nI G))]) hx hb dX0_values_33 rfl hl (by decide) rfl (fun ls hl => ?_)
      refine lv_aload_n hx hb dX0_values_34 rfl (lv_at hl 1 rfl) ?_
      refine gX0 (v := .int (nI (dr_sV vn (dr_sT gO R + G)))) hx hb hts hown hK hP 19 (by decide) q42 rfl dX0_values_35 ?_
      refine lv_iconst (v := (nI 1)) hx hb dX0_values_38 (by decide) ?_
      refine xn_iadd hx hb dX0_values_39 ?_
      refine lv_istore (lv' := [(4, .int (nI (dr_sV vn (dr_sT gO R + G) + 1))), (3, .int (nI 1)), (0, .ref (q 0)), (1, .int (nI R)), (2, .int (nI G))]) hx hb dX0_values_40 hl (by decide) rfl (fun ls hl => ?_)
      have loop : ∀ (k : Nat) (j : Nat), vn (dr_sT gO R + G) + 1 ≤ j + k → 0 < j → j ≤ vn (dr_sT gO R + G) → ∀ (H : Heap) (locs : List Loc), va_P (dC, dI) vwCl (WX0 cB cI q (fd n (dr_c2 (a 7) (dr_sV vn (dr_sT gO R + G))) (dr_sV vn (dr_sT gO R + G))) a) H → va_D A (WX0 cB cI q (fd n (dr_c2 (a 7) (dr_sV vn (dr_sT gO R + G))) (dr_sV vn (dr_sT gO R + G))) a) → va_S A s.heap H locs → ∀ (ls : Array Slot), lv_has ls 5 [(0, .ref (q 0)), (1, .int (nI R)), (2, .int (nI G)), (3, .int (nI j)), (4, .int (nI (dr_sV vn (dr_sT gO R + G) + j)))] → W p l e (headSpec wsX0_values ({ frames := 3, cells := 0, slots := 0, locals := 70 })).room s m ([.ref (q 0), .int p0, .int p1] : List Value).toArray below meth c H locs 0 0 (MQ below (va_Qi (fun (r : Int32) (u : SX) => r = ansV gO (fun R G => vn (dr_sT gO R + G)) (n 2) p0 p1 ∧ ∃ x y, u = (fd n x y, a)) (BX0 dC dI cB cI q A) A) ([.ref (q 0), .int p0, .int p1] : List Value).toArray s 0 0 A) (F0 m 42 ls []) := by
        intro k
        induction k with
        | zero => intro j hm hj0 hj; exact absurd hm (by omega)
        | succ k ih =>
          intro j hm hj0 hj H locs hP hD hS ls hl
          refine lv_iload hx hb dX0_values_42 (lv_at hl 4 rfl) ?_
          refine lv_aload_n hx hb dX0_values_44 rfl (lv_at hl 0 rfl) ?_
          refine gX0 (v := .int (nI (n 11))) hx hb hts hown hK hP 11 (by decide) q34 rfl dX0_values_45 ?_
          refine xn_icmp_ge (tgt := 71) hx hb dX0_values_48 (by decide) (by omega) (by omega) (fun c_48 => ?_) (fun c_48 => ?_)
          · have hjg : j = vn (dr_sT gO R + G) := by
              rcases Nat.lt_or_ge j (vn (dr_sT gO R + G)) with hq | hq
              · omega
              · omega
            refine lv_iload_n hx hb dX0_values_71 rfl (lv_at hl 3 rfl) ?_
            exact W.iret (v := (nI j)) hx hb hr (fun t ht hW => ⟨⟨(nI j), (fd n (dr_c2 (a 7) (dr_sV vn (dr_sT gO R + G))) (dr_sV vn (dr_sT gO R + G)), a), rfl, ⟨by rw [ha, hjg], _, _, rfl⟩, by rw [ht]; exact hP, va_K.moved hW.alike hK, hD⟩, hS.F ht⟩) hS.2.2 dX0_values_72
          · refine lv_aload_n hx hb dX0_values_51 rfl (lv_at hl 0 rfl) ?_
            refine gX0 (v := .ref (q 6)) hx hb hts hown hK hP 12 (by decide) q35 rfl dX0_values_52 ?_
            refine lv_iload hx hb dX0_values_55 (lv_at hl 4 rfl) ?_
            refine xa_ild (v := (a 6 (dr_sV vn (dr_sT gO R + G) + j))) hx hb hK hP 6 1 rfl rfl (dr_sV vn (dr_sT gO R + G) + j) (by omega) (by decide) rfl dX0_values_57 ?_
            refine lv_iconst (v := (nI 2)) hx hb dX0_values_58 (by decide) ?_
            refine lv_icmp_ne (tgt := 71) hx hb dX0_values_59 (by decide) (fun c_59 => ?_) (fun c_59 => ?_)
            · have hjg : j = vn (dr_sT gO R + G) := by
                rcases Nat.lt_or_ge j (vn (dr_sT gO R + G)) with hq | hq
                · exact absurd (xi_vmore hI het hj0 hq) c_59
                · omega
              refine lv_iload_n hx hb dX0_values_71 rfl (lv_at hl 3 rfl) ?_
              exact W.iret (v := (nI j)) hx hb hr (fun t ht hW => ⟨⟨(nI j), (fd n (dr_c2 (a 7) (dr_sV vn (dr_sT gO R + G))) (dr_sV vn (dr_sT gO R + G)), a), rfl, ⟨by rw [ha, hjg], _, _, rfl⟩, by rw [ht]; exact hP, va_K.moved hW.alike hK, hD⟩, hS.F ht⟩) hS.2.2 dX0_values_72
            · have hjg : j < vn (dr_sT gO R + G) := by
                rcases Nat.lt_or_ge j (vn (dr_sT gO R + G)) with hq | hq
                · exact hq
                · have hjq : j = vn (dr_sT gO R + G) := by omega
                  rw [hjq] at c_48 c_59
                  exact absurd c_59 (ge2 c_48)
              refine lv_iinc (v := (nI (j + 1))) (lv' := [(3, .int (nI (j + 1))), (0, .ref (q 0)), (1, .int (nI R)), (2, .int (nI G)), (4, .int (nI (dr_sV vn (dr_sT gO R + G) + j)))]) hx hb dX0_values_62 hl (k := 3) rfl (by rw [← nI_1]; rfl) (by decide) rfl (fun ls hl => ?_)
              refine lv_iinc (v := (nI (dr_sV vn (dr_sT gO R + G) + j + 1))) (lv' := [(4, .int (nI (dr_sV vn (dr_sT gO R + G) + j + 1))), (3, .int (nI (j + 1))), (0, .ref (q 0)), (1, .int (nI R)), (2, .int (nI G))]) hx hb dX0_values_65 hl (k := 4) rfl (by rw [← nI_1]; rfl) (by decide) rfl (fun ls hl => ?_)
              refine lv_goto (tgt := 42) hx hb dX0_values_68 (by decide) ?_
              exact ih (j + 1) (by omega) (by omega) (by omega) H locs hP hD hS ls (lv_sub hl [2, 3, 4, 1, 0] rfl)
      exact loop (vn (dr_sT gO R + G) + 1) 1 (by omega) (by omega) (by omega) H locs hP hD hS ls (lv_sub hl [2, 3, 4, 1, 0] rfl)
    · have hv0 : vn (dr_sT gO R + G) = 0 := (xi_vd hI het).2 c_27
      refine lv_iconst (v := (nI 0)) hx hb dX0_values_30 (by decide) ?_
      exact W.iret (v := (nI 0)) hx hb hr (fun t ht hW => ⟨⟨(nI 0), (fd n (dr_c2 (a 7) (dr_sV vn (dr_sT gO R + G))) (dr_sV vn (dr_sT gO R + G)), a), rfl, ⟨by rw [ha, hv0], _, _, rfl⟩, by rw [ht]; exact hP, va_K.moved hW.alike hK, hD⟩, hS.F ht⟩) hS.2.2 dX0_values_31
  · have ho : outG gO (n 2) p0 p1 := by rw [e1] at c_6; exact ite01.mp c_6
    refine lv_iconst (v := (-1)) hx hb dX0_values_9 (by decide) ?_
    exact W.iret (v := (-1)) hx hb hr (fun t ht hW => ⟨⟨(-1), (fd n x1 y1, a), rfl, ⟨(if_pos ho).symm, x1, y1, rfl⟩, by rw [ht]; exact hP, va_K.moved hW.alike hK, hD⟩, hS.F ht⟩) hS.2.2 dX0_values_10
abbrev wsX0_valueAt : List Cond := ws_ yX0_valueAt cX0_valueAt 4 (some .int)
set_option maxHeartbeats 4000000 in
set_option maxRecDepth 100000 in
theorem metX0_valueAt (l : Launch) (dC : Nat → ClassId) (dI : Nat → Nat → Nat) (cB cI : ClassId) (q : Nat → Nat) (sz : Nat) (n : Nat → Nat) (a : Nat → Nat → Int32) (p0 p1 p2 : Int32) (gO vn : Nat → Nat) (hI : XI gO vn n a) : Met l yX0_valueAt wsX0_valueAt ({ frames := 4, cells := 0, slots := 0, locals := 94 }) (va_Pc [.ref (q 0), .int p0, .int p1, .int p2] (PX0 dC dI cB cI q n a sz)) (va_Qi (fun (r : Int32) (u : SX) => r = ansA gO (fun R G => vn (dr_sT gO R + G)) (fun R G k => a 8 (dr_bs vn (dr_sT gO R + G) + k)) (n 2) p0 p1 p2 ∧ ∃ x y, u = (fd n x y, a)) (BX0 dC dI cB cI q (va_A (WX0 cB cI q n a) sz)) (va_A (WX0 cB cI q n a) sz)) 0 0 (va_A (WX0 cB cI q n a) sz) := by
  refine Met.ofW (cc := cX0_valueAt) (maxL := 4) (ret := (some .int)) (by decide) rfl ?_
  intro p e s m args below meth c s₁ B hml hv
  obtain ⟨rfl, hsz, hP, hK, hD0⟩ := hv
  have hx := B.exec
  have hb := B.bytes
  have hr := B.returns
  have hts := atoms_spec (ws := wsX0_valueAt) B.pre
  have hts : ∀ w ∈ lw_all, w.before _ s = true := fun w h => hts w (List.mem_cons_of_mem _ h)
  have hown : s.vm.findClass RX0 = some m.cls := findClass_of_methodNamed B.named
  have hlocks := B.notSynchronized
  subst hsz
  have hD := hD0.self (sz := s.heap.size)
  generalize hAe : va_A (WX0 cB cI q n a) s.heap.size = A at hD ⊢
  have hA : ∀ q : Nat, s.heap.size ≤ q → A q := fun q h => by rw [← hAe]; exact Or.inr h
  have hl := lv_entry ([.ref (q 0), .int p0, .int p1, .int p2]) (n := 4) (Nat.le_of_ble_eq_true rfl)
  rw [lg_entry_eq]
  generalize (lg_sl ([.ref (q 0), .int p0, .int p1, .int p2]) ++ List.replicate (4 - (lg_sl ([.ref (q 0), .int p0, .int p1, .int p2])).length) Slot.unset).toArray = ls at hl ⊢
  have hl : lv_has ls 4 [(0, .ref (q 0)), (1, .int p0), (2, .int p1), (3, .int p2)] := hl
  suffices hh : ∀ (H : Heap) (locs : List Loc), va_P (dC, dI) vwCl (WX0 cB cI q n a) H → va_S A s.heap H locs → W p l e (headSpec wsX0_valueAt ({ frames := 4, cells := 0, slots := 0, locals := 94 })).room s m ([.ref (q 0), .int p0, .int p1, .int p2] : List Value).toArray below meth c H locs 0 0 (MQ below (va_Qi (fun (r : Int32) (u : SX) => r = ansA gO (fun R G => vn (dr_sT gO R + G)) (fun R G k => a 8 (dr_bs vn (dr_sT gO R + G) + k)) (n 2) p0 p1 p2 ∧ ∃ x y, u = (fd n x y, a)) (BX0 dC dI cB cI q A) A) ([.ref (q 0), .int p0, .int p1, .int p2] : List Value).toArray s 0 0 A) (F0 m 0 ls []) from hh _ _ hP va_S.rf
  clear hP
  intro H locs hP hS
  have h2 := xi_2 hI
  have h11 := xi_11 hI
  have g4 := hI.2.1.2.1
  refine lv_aload_n hx hb dX0_valueAt_0 rfl (lv_at hl 0 rfl) ?_
  refine lv_iload_n hx hb dX0_valueAt_1 rfl (lv_at hl 1 rfl) ?_
  refine lv_iload_n hx hb dX0_valueAt_2 rfl (lv_at hl 2 rfl) ?_
  refine sX0i (As := [.int p0, .int p1]) (rest := []) ⟨hx, hb, hml, hown, hts⟩ (metX0_isGroup l dC dI cB cI q H.size n a p0 p1 gO vn hI) (cwV 2 hts (lw_V q133 q135 qs5 q13 q136) rfl rfl rfl (by decide +kernel) ⟨Nat.le_of_ble_eq_true rfl, Nat.le_of_ble_eq_true rfl⟩) hK hP hD hS hA rfl hl.1 rfl (Nat.le_of_ble_eq_true rfl) dX0_valueAt_3 ⟨Nat.zero_le _, Nat.zero_le _⟩ (fun r1 u H locs hpost hP hD hS => ?_)
  obtain ⟨e1, x1, y1, rfl⟩ := hpost
  have hP : va_P (dC, dI) vwCl (WX0 cB cI q (fd n x1 y1) a) H := hP
  have hD : va_D A (WX0 cB cI q (fd n x1 y1) a) := hD
  refine lv_if_eq (tgt := 23) hx hb dX0_valueAt_6 (by decide) (fun c_6 => ?_) (fun c_6 => ?_)
  · have ho : outG gO (n 2) p0 p1 := by rw [e1] at c_6; exact ite01.mp c_6
    refine lv_iconst (v := (nI 0)) hx hb dX0_valueAt_23 (by decide) ?_
    exact W.iret (v := (nI 0)) hx hb hr (fun t ht hW => ⟨⟨(nI 0), (fd n x1 y1, a), rfl, ⟨(if_pos (Or.inl ho)).symm, x1, y1, rfl⟩, by rw [ht]; exact hP, va_K.moved hW.alike hK, hD⟩, hS.F ht⟩) hS.2.2 dX0_valueAt_24
  · have hin0 : ¬ outG gO (n 2) p0 p1 := fun h => c_6 (by rw [e1]; exact if_pos h)
    refine lv_iload_n hx hb dX0_valueAt_9 rfl (lv_at hl 3 rfl) ?_
    refine lv_if_lt (tgt := 23) hx hb dX0_valueAt_10 (by decide) (fun c_10 => ?_) (fun c_10 => ?_)
    · refine lv_iconst (v := (nI 0)) hx hb dX0_valueAt_23 (by decide) ?_
      exact W.iret (v := (nI 0)) hx hb hr (fun t ht hW => ⟨⟨(nI 0), (fd n x1 y1, a), rfl, ⟨(if_pos (Or.inr (Or.inl c_10))).symm, x1, y1, rfl⟩, by rw [ht]; exact hP, va_K.moved hW.alike hK, hD⟩, hS.F ht⟩) hS.2.2 dX0_valueAt_24
    · refine lv_iload_n hx hb dX0_valueAt_13 rfl (lv_at hl 3 rfl) ?_
      refine lv_aload_n hx hb dX0_valueAt_14 rfl (lv_at hl 0 rfl) ?_
      refine lv_iload_n hx hb dX0_valueAt_15 rfl (lv_at hl 1 rfl) ?_
      refine lv_iload_n hx hb dX0_valueAt_16 rfl (lv_at hl 2 rfl) ?_
      refine sX0i (As := [.int p0, .int p1]) (rest := [.int p2]) ⟨hx, hb, hml, hown, hts⟩ (metX0_values l dC dI cB cI q H.size (fd n x1 y1) a p0 p1 gO vn (XI_fd hI)) (cwV 2 hts (lw_V q146 q130 q131 q13 q132) rfl rfl rfl (by decide +kernel) ⟨Nat.le_of_ble_eq_true rfl, Nat.le_of_ble_eq_true rfl⟩) hK hP hD hS hA rfl hl.1 rfl (Nat.le_of_ble_eq_true rfl) dX0_valueAt_17 ⟨Nat.zero_le _, Nat.zero_le _⟩ (fun r2 u H locs hpost hP hD hS => ?_)
      obtain ⟨e2, x2, y2, rfl⟩ := hpost
      have hP : va_P (dC, dI) vwCl (WX0 cB cI q (fd n x2 y2) a) H := hP
      have hD : va_D A (WX0 cB cI q (fd n x2 y2) a) := hD
      have e2 : r2 = ansV gO (fun R G => vn (dr_sT gO R + G)) (n 2) p0 p1 := e2
      rw [ansV, if_neg hin0] at e2
      refine lv_icmp_lt (tgt := 25) hx hb dX0_valueAt_20 (by decide) (fun c_20 => ?_) (fun c_20 => ?_)
      · have hin : ¬ outG gO (n 2) p0 p1 := fun h => c_6 (by rw [e1]; exact if_pos h)
        obtain ⟨R, G, hR, hG, hp, hz⟩ := outG_ex hin h2 g4
        have g4R := g4 R
        rw [hp, hz] at hl
        rw [hp, hz, cl_nI (by omega), cl_nI (by omega)] at e2
        have hv4 := hI.2.2.2.1.2.1 (dr_sT gO R + G)
        have hin2 : ¬ outR p2 (vn (dr_sT gO R + G)) := fun h => h.elim c_10 (fun h => absurd c_20 (Int32.not_lt.mpr (by rw [e2]; exact h)))
        obtain ⟨k2, hk2, hy⟩ := outR_ex hin2 (by omega)
        rw [hy] at hl
        have ha : ansA gO (fun R G => vn (dr_sT gO R + G)) (fun R G k => a 8 (dr_bs vn (dr_sT gO R + G) + k)) (n 2) p0 p1 p2 = a 8 (dr_bs vn (dr_sT gO R + G) + k2) := by
          rw [ansA, if_neg]
          · rw [hp, hz, hy, cl_nI (by omega), cl_nI (by omega), cl_nI (by omega)]
          · rintro (h | h)
            · exact hin h
            · rw [hp, hz, cl_nI (by omega), cl_nI (by omega)] at h; exact hin2 h
        have hval := xi_val hI hR hG
        have hlt := hval.1
        have het := xi_end_tC hI hR (Nat.lt_of_lt_of_le hG (dr_o1_ge _))
        have hcb := (xi_vS hI (dr_sT gO R + G) (by omega)).2.2.1
        have h60 := xi_p60 hI hR hG hk2
        refine lv_aload_n hx hb dX0_valueAt_25 rfl (lv_at hl 0 rfl) ?_
        refine lv_iload_n hx hb dX0_valueAt_26 rfl (lv_at hl 1 rfl) ?_
        refine lv_iload_n hx hb dX0_valueAt_27 rfl (lv_at hl 2 rfl) ?_
        refine sX0v (As := [.int (nI R), .int (nI G)]) (rest := []) ⟨hx, hb, hml, hown, hts⟩ (metX0_findValue l dC dI cB cI q H.size (fd n x2 y2) a R G (dr_sV vn (dr_sT gO R + G)) (by omega) (by omega) h11 hval) (cwV 2 hts (lw_V q138 q140 qs6 q13 q141) rfl rfl rfl (by decide +kernel) ⟨Nat.le_of_ble_eq_true rfl, Nat.le_of_ble_eq_true rfl⟩) hK hP hD hS hA rfl hl.1 rfl (Nat.le_of_ble_eq_true rfl) dX0_valueAt_28 ⟨Nat.zero_le _, Nat.zero_le _⟩ (fun u H locs hpost hP hD hS => ?_)
        subst hpost
        have hP : va_P (dC, dI) vwCl (WX0 cB cI q (fd n (dr_c2 (a 7) (dr_sV vn (dr_sT gO R + G))) (dr_sV vn (dr_sT gO R + G))) a) H := hP
        have hD : va_D A (WX0 cB cI q (fd n (dr_c2 (a 7) (dr_sV vn (dr_sT gO R + G))) (dr_sV vn (dr_sT gO R + G))) a) := hD
        refine lv_aload_n hx hb dX0_valueAt_31 rfl (lv_at hl 0 rfl) ?_
        refine gX0 (v := .ref (q 8)) hx hb hts hown hK hP 14 (by decide) q37 rfl dX0_valueAt_32 ?_
        refine lv_aload_n hx hb dX0_valueAt_35 rfl (lv_at hl 0 rfl) ?_
        refine gX0 (v := .int (nI (dr_c2 (a 7) (dr_sV vn (dr_sT gO R + G))))) hx hb hts hown hK hP 20 (by decide) q43 rfl dX0_valueAt_36 ?_
        refine lv_iload_n hx hb dX0_valueAt_39 rfl (lv_at hl 3 rfl) ?_
        refine xn_iadd hx hb dX0_valueAt_40 ?_
        refine xa_ild (v := (a 8 (dr_c2 (a 7) (dr_sV vn (dr_sT gO R + G)) + k2))) hx hb hK hP 8 1 rfl rfl (dr_c2 (a 7) (dr_sV vn (dr_sT gO R + G)) + k2) (by omega) (by decide) rfl dX0_valueAt_41 ?_
        exact W.iret (v := (a 8 (dr_c2 (a 7) (dr_sV vn (dr_sT gO R + G)) + k2))) hx hb hr (fun t ht hW => ⟨⟨(a 8 (dr_c2 (a 7) (dr_sV vn (dr_sT gO R + G)) + k2)), (fd n (dr_c2 (a 7) (dr_sV vn (dr_sT gO R + G))) (dr_sV vn (dr_sT gO R + G)), a), rfl, ⟨by rw [ha, hcb], _, _, rfl⟩, by rw [ht]; exact hP, va_K.moved hW.alike hK, hD⟩, hS.F ht⟩) hS.2.2 dX0_valueAt_42
      · refine lv_iconst (v := (nI 0)) hx hb dX0_valueAt_23 (by decide) ?_
        exact W.iret (v := (nI 0)) hx hb hr (fun t ht hW => ⟨⟨(nI 0), (fd n x2 y2, a), rfl, ⟨(if_pos (Or.inr (Or.inr (by rw [← e2]; exact Int32.not_lt.mp c_20)))).symm, x2, y2, rfl⟩, by rw [ht]; exact hP, va_K.moved hW.alike hK, hD⟩, hS.F ht⟩) hS.2.2 dX0_valueAt_24
abbrev wsX0_hasNote : List Cond := ws_ yX0_hasNote cX0_hasNote 2 (some .int)
set_option maxHeartbeats 4000000 in
set_option maxRecDepth 100000 in
theorem metX0_hasNote (l : Launch) (dC : Nat → ClassId) (dI : Nat → Nat → Nat) (cB cI : ClassId) (q : Nat → Nat) (sz : Nat) (n : Nat → Nat) (a : Nat → Nat → Int32) (p0 : Int32) (gO vn : Nat → Nat) (hI : XI gO vn n a) : Met l yX0_hasNote wsX0_hasNote ({ frames := 1, cells := 0, slots := 0, locals := 21 }) (va_Pc [.ref (q 0), .int p0] (PX0 dC dI cB cI q n a sz)) (va_Qi (fun (r : Int32) (u : SX) => r = ansH (a 1) (n 2) p0 ∧ ∃ x y, u = (fd n x y, a)) (BX0 dC dI cB cI q (va_A (WX0 cB cI q n a) sz)) (va_A (WX0 cB cI q n a) sz)) 0 0 (va_A (WX0 cB cI q n a) sz) := by
  refine Met.ofW (cc := cX0_hasNote) (maxL := 2) (ret := (some .int)) (by decide) rfl ?_
  intro p e s m args below meth c s₁ B hml hv
  obtain ⟨rfl, hsz, hP, hK, hD0⟩ := hv
  have hx := B.exec
  have hb := B.bytes
  have hr := B.returns
  have hts := atoms_spec (ws := wsX0_hasNote) B.pre
  have hts : ∀ w ∈ lw_all, w.before _ s = true := fun w h => hts w (List.mem_cons_of_mem _ h)
  have hown : s.vm.findClass RX0 = some m.cls := findClass_of_methodNamed B.named
  have hlocks := B.notSynchronized
  subst hsz
  have hD := hD0.self (sz := s.heap.size)
  generalize hAe : va_A (WX0 cB cI q n a) s.heap.size = A at hD ⊢
  have hA : ∀ q : Nat, s.heap.size ≤ q → A q := fun q h => by rw [← hAe]; exact Or.inr h
  have hl := lv_entry ([.ref (q 0), .int p0]) (n := 2) (Nat.le_of_ble_eq_true rfl)
  rw [lg_entry_eq]
  generalize (lg_sl ([.ref (q 0), .int p0]) ++ List.replicate (2 - (lg_sl ([.ref (q 0), .int p0])).length) Slot.unset).toArray = ls at hl ⊢
  have hl : lv_has ls 2 [(0, .ref (q 0)), (1, .int p0)] := hl
  suffices hh : ∀ (H : Heap) (locs : List Loc), va_P (dC, dI) vwCl (WX0 cB cI q n a) H → va_S A s.heap H locs → W p l e (headSpec wsX0_hasNote ({ frames := 1, cells := 0, slots := 0, locals := 21 })).room s m ([.ref (q 0), .int p0] : List Value).toArray below meth c H locs 0 0 (MQ below (va_Qi (fun (r : Int32) (u : SX) => r = ansH (a 1) (n 2) p0 ∧ ∃ x y, u = (fd n x y, a)) (BX0 dC dI cB cI q A) A) ([.ref (q 0), .int p0] : List Value).toArray s 0 0 A) (F0 m 0 ls []) from hh _ _ hP va_S.rf
  clear hP
  intro H locs hP hS
  have h2 := xi_2 hI
  refine lv_aload_n hx hb dX0_hasNote_0 rfl (lv_at hl 0 rfl) ?_
  refine lv_iload_n hx hb dX0_hasNote_1 rfl (lv_at hl 1 rfl) ?_
  refine sX0i (As := [.int p0]) (rest := []) ⟨hx, hb, hml, hown, hts⟩ (metX0_isEnded l dC dI cB cI q H.size n a p0 h2) (cwV 1 hts (lw_V q121 q123 qs3 q13 q124) rfl rfl rfl (by decide +kernel) ⟨Nat.le_of_ble_eq_true rfl, Nat.le_of_ble_eq_true rfl⟩) hK hP hD hS hA rfl hl.1 rfl (Nat.le_of_ble_eq_true rfl) dX0_hasNote_2 ⟨Nat.zero_le _, Nat.zero_le _⟩ (fun r1 u H locs hpost hP hD hS => ?_)
  obtain ⟨e1, rfl⟩ := hpost
  have hP : va_P (dC, dI) vwCl (WX0 cB cI q n a) H := hP
  have hD : va_D A (WX0 cB cI q n a) := hD
  refine lv_if_ne (tgt := 10) hx hb dX0_hasNote_5 (by decide) (fun c_5 => ?_) (fun c_5 => ?_)
  · have hin : ¬ outR p0 (n 2) := fun h => c_5 (by rw [e1]; exact if_pos h)
    obtain ⟨R, hR, hp⟩ := outR_ex hin (by omega)
    rw [hp] at hl
    refine lv_aload_n hx hb dX0_hasNote_10 rfl (lv_at hl 0 rfl) ?_
    refine gX0 (v := .ref (q 1)) hx hb hts hown hK hP 3 (by decide) q26 rfl dX0_hasNote_11 ?_
    refine lv_iload_n hx hb dX0_hasNote_14 rfl (lv_at hl 1 rfl) ?_
    refine xa_zld (v := (a 1 R)) hx hb hK hP 1 0 rfl rfl R (by omega) (by decide) rfl dX0_hasNote_15 ?_
    have K24 : ∀ v_24 : Nat, v_24 = (if a 1 R = 0 then 0 else 1) → W p l e (headSpec wsX0_hasNote ({ frames := 1, cells := 0, slots := 0, locals := 21 })).room s m ([.ref (q 0), .int p0] : List Value).toArray below meth c H locs 0 0 (MQ below (va_Qi (fun (r : Int32) (u : SX) => r = ansH (a 1) (n 2) p0 ∧ ∃ x y, u = (fd n x y, a)) (BX0 dC dI cB cI q A) A) ([.ref (q 0), .int p0] : List Value).toArray s 0 0 A) (F0 m 24 ls [.int (nI v_24)]) := by
      intro v_24 hv_24
      obtain rfl : v_24 = (if a 1 R = 0 then 0 else 1) := hv_24
      exact W.iret (v := (nI (if a 1 R = 0 then 0 else 1))) hx hb hr (fun t ht hW => ⟨⟨(nI (if a 1 R = 0 then 0 else 1)), (n, a), rfl, ⟨by rw [ansH, if_neg hin, hp, cl_nI (by omega)], n 20, n 19, by rw [fd_self]⟩, by rw [ht]; exact hP, va_K.moved hW.alike hK, hD⟩, hS.F ht⟩) hS.2.2 dX0_hasNote_24
    refine lv_if_eq (tgt := 23) hx hb dX0_hasNote_16 (by decide) (fun c_16 => ?_) (fun c_16 => ?_)
    · refine lv_iconst (v := (nI 0)) hx hb dX0_hasNote_23 (by decide) ?_
      exact K24 0 (by first | exact (if_pos c_16).symm | exact (if_neg c_16).symm | exact (if_pos (by omega)).symm | exact (if_neg (by omega)).symm)
    · refine lv_iconst (v := (nI 1)) hx hb dX0_hasNote_19 (by decide) ?_
      refine lv_goto (tgt := 24) hx hb dX0_hasNote_20 (by decide) ?_
      exact K24 1 (by first | exact (if_pos c_16).symm | exact (if_neg c_16).symm | exact (if_pos (by omega)).symm | exact (if_neg (by omega)).symm)
  · have ho : outR p0 (n 2) := by rw [e1] at c_5; exact ite01.mp c_5
    refine lv_iconst (v := (-1)) hx hb dX0_hasNote_8 (by decide) ?_
    exact W.iret (v := (-1)) hx hb hr (fun t ht hW => ⟨⟨(-1), (n, a), rfl, ⟨(if_pos ho).symm, n 20, n 19, by rw [fd_self]⟩, by rw [ht]; exact hP, va_K.moved hW.alike hK, hD⟩, hS.F ht⟩) hS.2.2 dX0_hasNote_9
abbrev wsX0_label : List Cond := ws_ yX0_label cX0_label 3 (some .int)
set_option maxHeartbeats 4000000 in
set_option maxRecDepth 100000 in
theorem metX0_label (l : Launch) (dC : Nat → ClassId) (dI : Nat → Nat → Nat) (cB cI : ClassId) (q : Nat → Nat) (sz : Nat) (n : Nat → Nat) (a : Nat → Nat → Int32) (p0 p1 : Int32) (gO vn : Nat → Nat) (hI : XI gO vn n a) : Met l yX0_label wsX0_label ({ frames := 3, cells := 0, slots := 0, locals := 70 }) (va_Pc [.ref (q 0), .int p0, .int p1] (PX0 dC dI cB cI q n a sz)) (va_Qi (fun (r : Int32) (u : SX) => r = ansL gO (fun R => if a 1 R = 0 then 0 else a 2 (dr_cb (a 1) R)) (fun R G => if a 4 (dr_sT gO R + G) = 2 then a 5 (dr_c2 (a 4) (dr_sT gO R + G)) else 0) (n 2) p0 p1 ∧ ∃ x y, u = (fd n x y, a)) (BX0 dC dI cB cI q (va_A (WX0 cB cI q n a) sz)) (va_A (WX0 cB cI q n a) sz)) 0 0 (va_A (WX0 cB cI q n a) sz) := by
  refine Met.ofW (cc := cX0_label) (maxL := 3) (ret := (some .int)) (by decide) rfl ?_
  intro p e s m args below meth c s₁ B hml hv
  obtain ⟨rfl, hsz, hP, hK, hD0⟩ := hv
  have hx := B.exec
  have hb := B.bytes
  have hr := B.returns
  have hts := atoms_spec (ws := wsX0_label) B.pre
  have hts : ∀ w ∈ lw_all, w.before _ s = true := fun w h => hts w (List.mem_cons_of_mem _ h)
  have hown : s.vm.findClass RX0 = some m.cls := findClass_of_methodNamed B.named
  have hlocks := B.notSynchronized
  subst hsz
  have hD := hD0.self (sz := s.heap.size)
  generalize hAe : va_A (WX0 cB cI q n a) s.heap.size = A at hD ⊢
  have hA : ∀ q : Nat, s.heap.size ≤ q → A q := fun q h => by rw [← hAe]; exact Or.inr h
  have hl := lv_entry ([.ref (q 0), .int p0, .int p1]) (n := 3) (Nat.le_of_ble_eq_true rfl)
  rw [lg_entry_eq]
  generalize (lg_sl ([.ref (q 0), .int p0, .int p1]) ++ List.replicate (3 - (lg_sl ([.ref (q 0), .int p0, .int p1])).length) Slot.unset).toArray = ls at hl ⊢
  have hl : lv_has ls 3 [(0, .ref (q 0)), (1, .int p0), (2, .int p1)] := hl
  suffices hh : ∀ (H : Heap) (locs : List Loc), va_P (dC, dI) vwCl (WX0 cB cI q n a) H → va_S A s.heap H locs → W p l e (headSpec wsX0_label ({ frames := 3, cells := 0, slots := 0, locals := 70 })).room s m ([.ref (q 0), .int p0, .int p1] : List Value).toArray below meth c H locs 0 0 (MQ below (va_Qi (fun (r : Int32) (u : SX) => r = ansL gO (fun R => if a 1 R = 0 then 0 else a 2 (dr_cb (a 1) R)) (fun R G => if a 4 (dr_sT gO R + G) = 2 then a 5 (dr_c2 (a 4) (dr_sT gO R + G)) else 0) (n 2) p0 p1 ∧ ∃ x y, u = (fd n x y, a)) (BX0 dC dI cB cI q A) A) ([.ref (q 0), .int p0, .int p1] : List Value).toArray s 0 0 A) (F0 m 0 ls []) from hh _ _ hP va_S.rf
  clear hP
  intro H locs hP hS
  have h2 := xi_2 hI
  have h6 := xi_6 hI
  have g4 := hI.2.1.2.1
  refine lv_aload_n hx hb dX0_label_0 rfl (lv_at hl 0 rfl) ?_
  refine lv_iload_n hx hb dX0_label_1 rfl (lv_at hl 1 rfl) ?_
  refine sX0i (As := [.int p0]) (rest := []) ⟨hx, hb, hml, hown, hts⟩ (metX0_isEnded l dC dI cB cI q H.size n a p0 h2) (cwV 1 hts (lw_V q121 q123 qs3 q13 q124) rfl rfl rfl (by decide +kernel) ⟨Nat.le_of_ble_eq_true rfl, Nat.le_of_ble_eq_true rfl⟩) hK hP hD hS hA rfl hl.1 rfl (Nat.le_of_ble_eq_true rfl) dX0_label_2 ⟨Nat.zero_le _, Nat.zero_le _⟩ (fun r1 u H locs hpost hP hD hS => ?_)
  obtain ⟨e1, rfl⟩ := hpost
  have hP : va_P (dC, dI) vwCl (WX0 cB cI q n a) H := hP
  have hD : va_D A (WX0 cB cI q n a) := hD
  refine lv_if_ne (tgt := 10) hx hb dX0_label_5 (by decide) (fun c_5 => ?_) (fun c_5 => ?_)
  · have hin0 : ¬ outR p0 (n 2) := fun h => c_5 (by rw [e1]; exact if_pos h)
    refine lv_iload_n hx hb dX0_label_10 rfl (lv_at hl 2 rfl) ?_
    refine lv_iconst (v := (-1)) hx hb dX0_label_11 (by decide) ?_
    refine lv_icmp_ne (tgt := 39) hx hb dX0_label_12 (by decide) (fun c_12 => ?_) (fun c_12 => ?_)
    · refine lv_aload_n hx hb dX0_label_39 rfl (lv_at hl 0 rfl) ?_
      refine lv_iload_n hx hb dX0_label_40 rfl (lv_at hl 1 rfl) ?_
      refine lv_iload_n hx hb dX0_label_41 rfl (lv_at hl 2 rfl) ?_
      refine sX0i (As := [.int p0, .int p1]) (rest := []) ⟨hx, hb, hml, hown, hts⟩ (metX0_isGroup l dC dI cB cI q H.size n a p0 p1 gO vn hI) (cwV 2 hts (lw_V q133 q135 qs5 q13 q136) rfl rfl rfl (by decide +kernel) ⟨Nat.le_of_ble_eq_true rfl, Nat.le_of_ble_eq_true rfl⟩) hK hP hD hS hA rfl hl.1 rfl (Nat.le_of_ble_eq_true rfl) dX0_label_42 ⟨Nat.zero_le _, Nat.zero_le _⟩ (fun r2 u H locs hpost hP hD hS => ?_)
      have e0 := e1
      obtain ⟨e1, x1, y1, rfl⟩ := hpost
      have hP : va_P (dC, dI) vwCl (WX0 cB cI q (fd n x1 y1) a) H := hP
      have hD : va_D A (WX0 cB cI q (fd n x1 y1) a) := hD
      refine lv_if_ne (tgt := 50) hx hb dX0_label_45 (by decide) (fun c_45 => ?_) (fun c_45 => ?_)
      · have hin : ¬ outG gO (n 2) p0 p1 := fun h => c_45 (by rw [e1]; exact if_pos h)
        obtain ⟨R, G, hR, hG, hp, hz⟩ := outG_ex hin h2 g4
        have g4R := g4 R
        rw [hp, hz] at hl
        have ha : ansL gO (fun R => if a 1 R = 0 then 0 else a 2 (dr_cb (a 1) R)) (fun R G => if a 4 (dr_sT gO R + G) = 2 then a 5 (dr_c2 (a 4) (dr_sT gO R + G)) else 0) (n 2) p0 p1 = (if a 4 (dr_sT gO R + G) = 2 then a 5 (dr_c2 (a 4) (dr_sT gO R + G)) else 0) := by rw [ansL, if_neg hin0, if_neg c_12, if_neg (fun h => hin (Or.inr h)), hp, hz, cl_nI (by omega), cl_nI (by omega)]
        have htag := xi_tag hI (r := R) (g := G) (Or.inl ⟨hR, Nat.lt_of_lt_of_le hG (dr_o1_ge _)⟩)
        have hlt := htag.1
        refine lv_aload_n hx hb dX0_label_50 rfl (lv_at hl 0 rfl) ?_
        refine lv_iload_n hx hb dX0_label_51 rfl (lv_at hl 1 rfl) ?_
        refine lv_iload_n hx hb dX0_label_52 rfl (lv_at hl 2 rfl) ?_
        refine sX0v (As := [.int (nI R), .int (nI G)]) (rest := []) ⟨hx, hb, hml, hown, hts⟩ (metX0_findTag l dC dI cB cI q H.size (fd n x1 y1) a R G (dr_sT gO R + G) (by omega) (by omega) h6 htag) (cwV 2 hts (lw_V q125 q127 qs4 q13 q128) rfl rfl rfl (by decide +kernel) ⟨Nat.le_of_ble_eq_true rfl, Nat.le_of_ble_eq_true rfl⟩) hK hP hD hS hA rfl hl.1 rfl (Nat.le_of_ble_eq_true rfl) dX0_label_53 ⟨Nat.zero_le _, Nat.zero_le _⟩ (fun u H locs hpost hP hD hS => ?_)
        subst hpost
        have hP : va_P (dC, dI) vwCl (WX0 cB cI q (fd n (dr_c2 (a 4) (dr_sT gO R + G)) (dr_sT gO R + G)) a) H := hP
        have hD : va_D A (WX0 cB cI q (fd n (dr_c2 (a 4) (dr_sT gO R + G)) (dr_sT gO R + G)) a) := hD
        refine lv_aload_n hx hb dX0_label_56 rfl (lv_at hl 0 rfl) ?_
        refine gX0 (v := .ref (q 4)) hx hb hts hown hK hP 8 (by decide) q31 rfl dX0_label_57 ?_
        refine lv_aload_n hx hb dX0_label_60 rfl (lv_at hl 0 rfl) ?_
        refine gX0 (v := .int (nI (dr_sT gO R + G))) hx hb hts hown hK hP 19 (by decide) q42 rfl dX0_label_61 ?_
        refine xa_ild (v := (a 4 (dr_sT gO R + G))) hx hb hK hP 4 1 rfl rfl (dr_sT gO R + G) (by omega) (by decide) rfl dX0_label_64 ?_
        refine lv_iconst (v := (nI 2)) hx hb dX0_label_65 (by decide) ?_
        refine lv_icmp_ne (tgt := 81) hx hb dX0_label_66 (by decide) (fun c_66 => ?_) (fun c_66 => ?_)
        · refine lv_iconst (v := (nI 0)) hx hb dX0_label_81 (by decide) ?_
          exact W.iret (v := (nI 0)) hx hb hr (fun t ht hW => ⟨⟨(nI 0), (fd n (dr_c2 (a 4) (dr_sT gO R + G)) (dr_sT gO R + G), a), rfl, ⟨by rw [ha, if_neg (show ¬ a 4 (dr_sT gO R + G) = 2 from c_66)]; rfl, _, _, rfl⟩, by rw [ht]; exact hP, va_K.moved hW.alike hK, hD⟩, hS.F ht⟩) hS.2.2 dX0_label_82
        · have h40 := xi_t40 hI hlt c_66
          refine lv_aload_n hx hb dX0_label_69 rfl (lv_at hl 0 rfl) ?_
          refine gX0 (v := .ref (q 5)) hx hb hts hown hK hP 9 (by decide) q32 rfl dX0_label_70 ?_
          refine lv_aload_n hx hb dX0_label_73 rfl (lv_at hl 0 rfl) ?_
          refine gX0 (v := .int (nI (dr_c2 (a 4) (dr_sT gO R + G)))) hx hb hts hown hK hP 20 (by decide) q43 rfl dX0_label_74 ?_
          refine xa_ild (v := (a 5 (dr_c2 (a 4) (dr_sT gO R + G)))) hx hb hK hP 5 1 rfl rfl (dr_c2 (a 4) (dr_sT gO R + G)) (by omega) (by decide) rfl dX0_label_77 ?_
          refine lv_goto (tgt := 82) hx hb dX0_label_78 (by decide) ?_
          exact W.iret (v := (a 5 (dr_c2 (a 4) (dr_sT gO R + G)))) hx hb hr (fun t ht hW => ⟨⟨(a 5 (dr_c2 (a 4) (dr_sT gO R + G))), (fd n (dr_c2 (a 4) (dr_sT gO R + G)) (dr_sT gO R + G), a), rfl, ⟨by rw [ha, if_pos (show a 4 (dr_sT gO R + G) = 2 from c_66)], _, _, rfl⟩, by rw [ht]; exact hP, va_K.moved hW.alike hK, hD⟩, hS.F ht⟩) hS.2.2 dX0_label_82
      · have ho : outG gO (n 2) p0 p1 := by rw [e1] at c_45; exact ite01.mp c_45
        have ho := ho.resolve_left hin0
        refine lv_iconst (v := (nI 0)) hx hb dX0_label_48 (by decide) ?_
        exact W.iret (v := (nI 0)) hx hb hr (fun t ht hW => ⟨⟨(nI 0), (fd n x1 y1, a), rfl, ⟨by rw [ansL, if_neg hin0, if_neg c_12, if_pos ho]; rfl, x1, y1, rfl⟩, by rw [ht]; exact hP, va_K.moved hW.alike hK, hD⟩, hS.F ht⟩) hS.2.2 dX0_label_49
    · have hin : ¬ outR p0 (n 2) := fun h => c_5 (by rw [e1]; exact if_pos h)
      obtain ⟨R, hR, hp⟩ := outR_ex hin (by omega)
      rw [hp] at hl
      have ha : ansL gO (fun R => if a 1 R = 0 then 0 else a 2 (dr_cb (a 1) R)) (fun R G => if a 4 (dr_sT gO R + G) = 2 then a 5 (dr_c2 (a 4) (dr_sT gO R + G)) else 0) (n 2) p0 p1 = (if a 1 R = 0 then 0 else a 2 (dr_cb (a 1) R)) := by rw [ansL, if_neg hin, if_pos c_12, hp, cl_nI (by omega)]
      have h12 := xi_nb hI hR
      refine lv_aload_n hx hb dX0_label_15 rfl (lv_at hl 0 rfl) ?_
      refine gX0 (v := .ref (q 1)) hx hb hts hown hK hP 3 (by decide) q26 rfl dX0_label_16 ?_
      refine lv_iload_n hx hb dX0_label_19 rfl (lv_at hl 1 rfl) ?_
      refine xa_zld (v := (a 1 R)) hx hb hK hP 1 0 rfl rfl R (by omega) (by decide) rfl dX0_label_20 ?_
      refine lv_if_eq (tgt := 37) hx hb dX0_label_21 (by decide) (fun c_21 => ?_) (fun c_21 => ?_)
      · refine lv_iconst (v := (nI 0)) hx hb dX0_label_37 (by decide) ?_
        exact W.iret (v := (nI 0)) hx hb hr (fun t ht hW => ⟨⟨(nI 0), (n, a), rfl, ⟨by rw [ha, if_pos c_21]; rfl, n 20, n 19, by rw [fd_self]⟩, by rw [ht]; exact hP, va_K.moved hW.alike hK, hD⟩, hS.F ht⟩) hS.2.2 dX0_label_38
      · refine lv_aload_n hx hb dX0_label_24 rfl (lv_at hl 0 rfl) ?_
        refine gX0 (v := .ref (q 2)) hx hb hts hown hK hP 4 (by decide) q27 rfl dX0_label_25 ?_
        refine lv_aload_n hx hb dX0_label_28 rfl (lv_at hl 0 rfl) ?_
        refine lv_iload_n hx hb dX0_label_29 rfl (lv_at hl 1 rfl) ?_
        refine sX0i (As := [.int (nI R)]) (rest := [.ref (q 2)]) ⟨hx, hb, hml, hown, hts⟩ (metX0_notesBefore l dC dI cB cI q H.size n a R (by omega)) (cwV 1 hts (lw_V q155 q157 qs7 q13 q158) rfl rfl rfl (by decide +kernel) ⟨Nat.le_of_ble_eq_true rfl, Nat.le_of_ble_eq_true rfl⟩) hK hP hD hS hA rfl hl.1 rfl (Nat.le_of_ble_eq_true rfl) dX0_label_30 ⟨Nat.zero_le _, Nat.zero_le _⟩ (fun r2 u H locs hpost hP hD hS => ?_)
        obtain ⟨rfl, rfl⟩ := hpost
        have hP : va_P (dC, dI) vwCl (WX0 cB cI q n a) H := hP
        have hD : va_D A (WX0 cB cI q n a) := hD
        refine xa_ild (v := (a 2 (dr_cb (a 1) R))) hx hb hK hP 2 1 rfl rfl (dr_cb (a 1) R) (by omega) (by decide) rfl dX0_label_33 ?_
        refine lv_goto (tgt := 38) hx hb dX0_label_34 (by decide) ?_
        exact W.iret (v := (a 2 (dr_cb (a 1) R))) hx hb hr (fun t ht hW => ⟨⟨(a 2 (dr_cb (a 1) R)), (n, a), rfl, ⟨by rw [ha, if_neg c_21], n 20, n 19, by rw [fd_self]⟩, by rw [ht]; exact hP, va_K.moved hW.alike hK, hD⟩, hS.F ht⟩) hS.2.2 dX0_label_38
  · have ho : outR p0 (n 2) := by rw [e1] at c_5; exact ite01.mp c_5
    refine lv_iconst (v := (nI 0)) hx hb dX0_label_8 (by decide) ?_
    exact W.iret (v := (nI 0)) hx hb hr (fun t ht hW => ⟨⟨(nI 0), (n, a), rfl, ⟨(if_pos ho).symm, n 20, n 19, by rw [fd_self]⟩, by rw [ht]; exact hP, va_K.moved hW.alike hK, hD⟩, hS.F ht⟩) hS.2.2 dX0_label_9
end
section
set_option maxRecDepth 100000
abbrev wsX0_sumByTag : List Cond := ws_ yX0_sumByTag cX0_sumByTag 10 (some .int)
set_option maxHeartbeats 4000000 in
set_option maxRecDepth 100000 in
theorem metX0_sumByTag (l : Launch) (dC : Nat → ClassId) (dI : Nat → Nat → Nat) (cB cI : ClassId) (q : Nat → Nat) (sz : Nat) (n : Nat → Nat) (a : Nat → Nat → Int32) (p0 : Int32) (gO vn : Nat → Nat) (hI : XI gO vn n a) : Met l yX0_sumByTag wsX0_sumByTag ({ frames := 0, cells := 0, slots := 0, locals := 0 }) (va_Pc [.ref (q 0), .int p0] (PX0 dC dI cB cI q n a sz)) (va_Qi (fun (r : Int32) (u : SX) => r = sbS n a p0 (n 11) ∧ ∃ x y, u = (fd n x y, a)) (BX0 dC dI cB cI q (va_A (WX0 cB cI q n a) sz)) (va_A (WX0 cB cI q n a) sz)) 0 0 (va_A (WX0 cB cI q n a) sz) := by
  refine Met.ofW (cc := cX0_sumByTag) (maxL := 10) (ret := (some .int)) (by decide) rfl ?_
  intro p e s m args below meth c s₁ B hml hv
  obtain ⟨rfl, hsz, hP, hK, hD0⟩ := hv
  have hx := B.exec
  have hb := B.bytes
  have hr := B.returns
  have hts := atoms_spec (ws := wsX0_sumByTag) B.pre
  have hts : ∀ w ∈ lw_all, w.before _ s = true := fun w h => hts w (List.mem_cons_of_mem _ h)
  have hown : s.vm.findClass RX0 = some m.cls := findClass_of_methodNamed B.named
  have hlocks := B.notSynchronized
  subst hsz
  have hD := hD0.self (sz := s.heap.size)
  generalize hAe : va_A (WX0 cB cI q n a) s.heap.size = A at hD ⊢
  have hA : ∀ q : Nat, s.heap.size ≤ q → A q := fun q h => by rw [← hAe]; exact Or.inr h
  have hl := lv_entry ([.ref (q 0), .int p0]) (n := 10) (Nat.le_of_ble_eq_true rfl)
  rw [lg_entry_eq]
  generalize (lg_sl ([.ref (q 0), .int p0]) ++ List.replicate (10 - (lg_sl ([.ref (q 0), .int p0])).length) Slot.unset).toArray = ls at hl ⊢
  have hl : lv_has ls 10 [(0, .ref (q 0)), (1, .int p0)] := hl
  suffices hh : ∀ (H : Heap) (locs : List Loc), va_P (dC, dI) vwCl (WX0 cB cI q n a) H → va_S A s.heap H locs → W p l e (headSpec wsX0_sumByTag ({ frames := 0, cells := 0, slots := 0, locals := 0 })).room s m ([.ref (q 0), .int p0] : List Value).toArray below meth c H locs 0 0 (MQ below (va_Qi (fun (r : Int32) (u : SX) => r = sbS n a p0 (n 11) ∧ ∃ x y, u = (fd n x y, a)) (BX0 dC dI cB cI q A) A) ([.ref (q 0), .int p0] : List Value).toArray s 0 0 A) (F0 m 0 ls []) from hh _ _ hP va_S.rf
  clear hP
  intro H locs hP hS
  have h2 := xi_2 hI
  have h6 := xi_6 hI
  have h11 := xi_11 hI
  refine lv_iconst (v := (nI 0)) hx hb dX0_sumByTag_0 (by decide) ?_
  refine lv_istore_n (lv' := [(2, .int (nI 0)), (0, .ref (q 0)), (1, .int p0)]) hx hb dX0_sumByTag_1 rfl hl (by decide) rfl (fun ls hl => ?_)
  refine lv_iconst (v := (-1)) hx hb dX0_sumByTag_2 (by decide) ?_
  refine lv_istore_n (lv' := [(3, .int (-1)), (2, .int (nI 0)), (0, .ref (q 0)), (1, .int p0)]) hx hb dX0_sumByTag_3 rfl hl (by decide) rfl (fun ls hl => ?_)
  refine lv_iconst (v := (nI 0)) hx hb dX0_sumByTag_4 (by decide) ?_
  refine lv_istore (lv' := [(4, .int (nI 0)), (3, .int (-1)), (2, .int (nI 0)), (0, .ref (q 0)), (1, .int p0)]) hx hb dX0_sumByTag_5 hl (by decide) rfl (fun ls hl => ?_)
  refine lv_iconst (v := (nI 0)) hx hb dX0_sumByTag_7 (by decide) ?_
  refine lv_istore (lv' := [(5, .int (nI 0)), (4, .int (nI 0)), (3, .int (-1)), (2, .int (nI 0)), (0, .ref (q 0)), (1, .int p0)]) hx hb dX0_sumByTag_8 hl (by decide) rfl (fun ls hl => ?_)
  refine lv_iconst (v := (-1)) hx hb dX0_sumByTag_10 (by decide) ?_
  refine lv_istore (lv' := [(6, .int (-1)), (5, .int (nI 0)), (4, .int (nI 0)), (3, .int (-1)), (2, .int (nI 0)), (0, .ref (q 0)), (1, .int p0)]) hx hb dX0_sumByTag_11 hl (by decide) rfl (fun ls hl => ?_)
  refine lv_iconst (v := (nI 0)) hx hb dX0_sumByTag_13 (by decide) ?_
  refine lv_istore (lv' := [(7, .int (nI 0)), (6, .int (-1)), (5, .int (nI 0)), (4, .int (nI 0)), (3, .int (-1)), (2, .int (nI 0)), (0, .ref (q 0)), (1, .int p0)]) hx hb dX0_sumByTag_14 hl (by decide) rfl (fun ls hl => ?_)
  refine lv_iconst (v := (nI 0)) hx hb dX0_sumByTag_16 (by decide) ?_
  refine lv_istore (lv' := [(8, .int (nI 0)), (7, .int (nI 0)), (6, .int (-1)), (5, .int (nI 0)), (4, .int (nI 0)), (3, .int (-1)), (2, .int (nI 0)), (0, .ref (q 0)), (1, .int p0)]) hx hb dX0_sumByTag_17 hl (by decide) rfl (fun ls hl => ?_)
  have loop : ∀ (k : Nat) (i : Nat), n 11 + 1 ≤ i + k → i ≤ n 11 → ∀ (H : Heap) (locs : List Loc), va_P (dC, dI) vwCl (WX0 cB cI q n a) H → va_D A (WX0 cB cI q n a) → va_S A s.heap H locs → ∀ (ls : Array Slot), lv_has ls 10 [(0, .ref (q 0)), (1, .int p0), (2, .int (sbS n a p0 i)), (3, .int (mI (dr_en (a 6) i))), (4, .int (nI (dr_c2 (a 4) (dr_en (a 6) i)))), (5, .int (nI (dr_c2 (a 7) i))), (6, .int (mI (dr_zc (a 6) i))), (7, .int (nI (sbW n a p0 i))), (8, .int (nI i))] → W p l e (headSpec wsX0_sumByTag ({ frames := 0, cells := 0, slots := 0, locals := 0 })).room s m ([.ref (q 0), .int p0] : List Value).toArray below meth c H locs 0 0 (MQ below (va_Qi (fun (r : Int32) (u : SX) => r = sbS n a p0 (n 11) ∧ ∃ x y, u = (fd n x y, a)) (BX0 dC dI cB cI q A) A) ([.ref (q 0), .int p0] : List Value).toArray s 0 0 A) (F0 m 19 ls []) := by
    intro k
    induction k with
    | zero => intro i hm hi; exact absurd hm (by omega)
    | succ k ih =>
      intro i hm hi H locs hP hD hS ls hl
      have hzb := dr_zc_le (a 6) i
      have hzb1 := dr_zc_le (a 6) (i + 1)
      have heb := dr_en_le (a 6) i
      have hcb := dr_c2_le (a 7) i
      have hcb4 := dr_c2_le (a 4) (dr_en (a 6) i)
      have hw1 := sbW_le n a p0 (i + 1)
      refine lv_iload hx hb dX0_sumByTag_19 (lv_at hl 8 rfl) ?_
      refine lv_aload_n hx hb dX0_sumByTag_21 rfl (lv_at hl 0 rfl) ?_
      refine gX0 (v := .int (nI (n 11))) hx hb hts hown hK hP 11 (by decide) q34 rfl dX0_sumByTag_22 ?_
      refine xn_icmp_ge (tgt := 165) hx hb dX0_sumByTag_25 (by decide) (by omega) (by omega) (fun c_25 => ?_) (fun c_25 => ?_)
      · have hiN : i = n 11 := by omega
        refine lv_iload_n hx hb dX0_sumByTag_165 rfl (lv_at hl 2 rfl) ?_
        exact W.iret (v := (sbS n a p0 i)) hx hb hr (fun t ht hW => ⟨⟨(sbS n a p0 i), (n, a), rfl, ⟨by rw [hiN], n 20, n 19, by rw [fd_self]⟩, by rw [ht]; exact hP, va_K.moved hW.alike hK, hD⟩, hS.F ht⟩) hS.2.2 dX0_sumByTag_166
      · have K126 : ∀ ls : Array Slot, lv_has ls 10 [(0, .ref (q 0)), (1, .int p0), (2, .int (sbS n a p0 i)), (3, .int (mI (dr_en (a 6) (i + 1)))), (4, .int (nI (dr_c2 (a 4) (dr_en (a 6) (i + 1))))), (5, .int (nI (dr_c2 (a 7) i))), (6, .int (mI (dr_zc (a 6) (i + 1)))), (7, .int (nI (sbW n a p0 (i + 1)))), (8, .int (nI i))] → W p l e (headSpec wsX0_sumByTag ({ frames := 0, cells := 0, slots := 0, locals := 0 })).room s m ([.ref (q 0), .int p0] : List Value).toArray below meth c H locs 0 0 (MQ below (va_Qi (fun (r : Int32) (u : SX) => r = sbS n a p0 (n 11) ∧ ∃ x y, u = (fd n x y, a)) (BX0 dC dI cB cI q A) A) ([.ref (q 0), .int p0] : List Value).toArray s 0 0 A) (F0 m 126 ls []) := by
          intro ls hl
          refine lv_aload_n hx hb dX0_sumByTag_126 rfl (lv_at hl 0 rfl) ?_
          refine gX0 (v := .ref (q 7)) hx hb hts hown hK hP 13 (by decide) q36 rfl dX0_sumByTag_127 ?_
          refine lv_iload hx hb dX0_sumByTag_130 (lv_at hl 8 rfl) ?_
          refine xa_ild (v := (a 7 i)) hx hb hK hP 7 1 rfl rfl i (by omega) (by decide) rfl dX0_sumByTag_132 ?_
          refine lv_iconst (v := (nI 2)) hx hb dX0_sumByTag_133 (by decide) ?_
          refine lv_icmp_ne (tgt := 159) hx hb dX0_sumByTag_134 (by decide) (fun c_134 => ?_) (fun c_134 => ?_)
          · have es : sbS n a p0 (i + 1) = sbS n a p0 i := by rw [sbS, if_neg (show ¬ a 7 i = 2 from c_134)]
            have ec : dr_c2 (a 7) (i + 1) = dr_c2 (a 7) i := by rw [dr_c2, if_neg (show ¬ a 7 i = 2 from c_134), Nat.add_zero]
            refine lv_iinc (v := (nI (i + 1))) (lv' := [(8, .int (nI (i + 1))), (0, .ref (q 0)), (1, .int p0), (2, .int (sbS n a p0 i)), (3, .int (mI (dr_en (a 6) (i + 1)))), (4, .int (nI (dr_c2 (a 4) (dr_en (a 6) (i + 1))))), (5, .int (nI (dr_c2 (a 7) i))), (6, .int (mI (dr_zc (a 6) (i + 1)))), (7, .int (nI (sbW n a p0 (i + 1))))]) hx hb dX0_sumByTag_159 hl (k := 8) rfl (by rw [← nI_1]; rfl) (by decide) rfl (fun ls hl => ?_)
            refine lv_goto (tgt := 19) hx hb dX0_sumByTag_162 (by decide) ?_
            exact ih (i + 1) (by omega) (by omega) H locs hP hD hS ls (by rw [es, ec]; exact lv_sub hl [1, 2, 3, 4, 5, 6, 7, 8, 0] rfl)
          · have h60 := xi_v60 hI c_25 c_134
            refine lv_iload_n hx hb dX0_sumByTag_137 rfl (lv_at hl 2 rfl) ?_
            refine lv_iload hx hb dX0_sumByTag_138 (lv_at hl 7 rfl) ?_
            have K154 : ∀ v_154 : Int32, v_154 = (if sbW n a p0 (i + 1) = 0 then 0 else a 8 (dr_c2 (a 7) i)) → W p l e (headSpec wsX0_sumByTag ({ frames := 0, cells := 0, slots := 0, locals := 0 })).room s m ([.ref (q 0), .int p0] : List Value).toArray below meth c H locs 0 0 (MQ below (va_Qi (fun (r : Int32) (u : SX) => r = sbS n a p0 (n 11) ∧ ∃ x y, u = (fd n x y, a)) (BX0 dC dI cB cI q A) A) ([.ref (q 0), .int p0] : List Value).toArray s 0 0 A) (F0 m 154 ls [.int v_154, .int (sbS n a p0 i)]) := by
              intro v_154 hv_154
              have es : sbS n a p0 (i + 1) = sbS n a p0 i + v_154 := by rw [sbS, if_pos (show a 7 i = 2 from c_134), hv_154]
              have ec : dr_c2 (a 7) (i + 1) = dr_c2 (a 7) i + 1 := by rw [dr_c2, if_pos (show a 7 i = 2 from c_134)]
              refine lv_iadd hx hb dX0_sumByTag_154 ?_
              refine lv_istore_n (lv' := [(2, .int ((sbS n a p0 i) + v_154)), (0, .ref (q 0)), (1, .int p0), (3, .int (mI (dr_en (a 6) (i + 1)))), (4, .int (nI (dr_c2 (a 4) (dr_en (a 6) (i + 1))))), (5, .int (nI (dr_c2 (a 7) i))), (6, .int (mI (dr_zc (a 6) (i + 1)))), (7, .int (nI (sbW n a p0 (i + 1)))), (8, .int (nI i))]) hx hb dX0_sumByTag_155 rfl hl (by decide) rfl (fun ls hl => ?_)
              refine lv_iinc (v := (nI (dr_c2 (a 7) i + 1))) (lv' := [(5, .int (nI (dr_c2 (a 7) i + 1))), (2, .int ((sbS n a p0 i) + v_154)), (0, .ref (q 0)), (1, .int p0), (3, .int (mI (dr_en (a 6) (i + 1)))), (4, .int (nI (dr_c2 (a 4) (dr_en (a 6) (i + 1))))), (6, .int (mI (dr_zc (a 6) (i + 1)))), (7, .int (nI (sbW n a p0 (i + 1)))), (8, .int (nI i))]) hx hb dX0_sumByTag_156 hl (k := 5) rfl (by rw [← nI_1]; rfl) (by decide) rfl (fun ls hl => ?_)
              refine lv_iinc (v := (nI (i + 1))) (lv' := [(8, .int (nI (i + 1))), (5, .int (nI (dr_c2 (a 7) i + 1))), (2, .int ((sbS n a p0 i) + v_154)), (0, .ref (q 0)), (1, .int p0), (3, .int (mI (dr_en (a 6) (i + 1)))), (4, .int (nI (dr_c2 (a 4) (dr_en (a 6) (i + 1))))), (6, .int (mI (dr_zc (a 6) (i + 1)))), (7, .int (nI (sbW n a p0 (i + 1))))]) hx hb dX0_sumByTag_159 hl (k := 8) rfl (by rw [← nI_1]; rfl) (by decide) rfl (fun ls hl => ?_)
              refine lv_goto (tgt := 19) hx hb dX0_sumByTag_162 (by decide) ?_
              exact ih (i + 1) (by omega) (by omega) H locs hP hD hS ls (by rw [es, ec]; exact lv_sub hl [3, 4, 2, 5, 6, 1, 7, 8, 0] rfl)
            refine xn_if_eq (tgt := 153) hx hb dX0_sumByTag_140 (by decide) (by omega) (fun c_140 => ?_) (fun c_140 => ?_)
            · refine lv_iconst (v := (nI 0)) hx hb dX0_sumByTag_153 (by decide) ?_
              exact K154 0 (if_pos c_140).symm
            · refine lv_aload_n hx hb dX0_sumByTag_143 rfl (lv_at hl 0 rfl) ?_
              refine gX0 (v := .ref (q 8)) hx hb hts hown hK hP 14 (by decide) q37 rfl dX0_sumByTag_144 ?_
              refine lv_iload hx hb dX0_sumByTag_147 (lv_at hl 5 rfl) ?_
              refine xa_ild (v := (a 8 (dr_c2 (a 7) i))) hx hb hK hP 8 1 rfl rfl (dr_c2 (a 7) i) (by omega) (by decide) rfl dX0_sumByTag_149 ?_
              refine lv_goto (tgt := 154) hx hb dX0_sumByTag_150 (by decide) ?_
              exact K154 (a 8 (dr_c2 (a 7) i)) (if_neg c_140).symm
        refine lv_aload_n hx hb dX0_sumByTag_28 rfl (lv_at hl 0 rfl) ?_
        refine gX0 (v := .ref (q 6)) hx hb hts hown hK hP 12 (by decide) q35 rfl dX0_sumByTag_29 ?_
        refine lv_iload hx hb dX0_sumByTag_32 (lv_at hl 8 rfl) ?_
        refine xa_ild (v := (a 6 i)) hx hb hK hP 6 1 rfl rfl i (by omega) (by decide) rfl dX0_sumByTag_34 ?_
        refine lv_iconst (v := (nI 2)) hx hb dX0_sumByTag_35 (by decide) ?_
        refine lv_icmp_ge (tgt := 126) hx hb dX0_sumByTag_36 (by decide) (fun c_36 => ?_) (fun c_36 => ?_)
        · have hge : ¬ a 6 i < 2 := Int32.not_lt.mpr c_36
          have e1 : dr_en (a 6) (i + 1) = dr_en (a 6) i := by rw [dr_en, if_neg hge, Nat.add_zero]
          have e2 : dr_zc (a 6) (i + 1) = dr_zc (a 6) i := by rw [dr_zc, if_neg (fun h => hge (by rw [h]; decide)), Nat.add_zero]
          have e3 : sbW n a p0 (i + 1) = sbW n a p0 i := by rw [sbW, if_neg hge]
          exact K126 ls (by rw [e1, e2, e3]; exact lv_sub hl [0, 1, 2, 3, 4, 5, 6, 7, 8] rfl)
        · have hlt : a 6 i < 2 := Int32.not_le.mp c_36
          have e52 := xi_e52 hI c_25 hlt
          have e1 : dr_en (a 6) (i + 1) = dr_en (a 6) i + 1 := by rw [dr_en, if_pos hlt]
          refine lv_iinc (v := (mI (dr_en (a 6) i + 1))) (lv' := [(3, .int (mI (dr_en (a 6) i + 1))), (0, .ref (q 0)), (1, .int p0), (2, .int (sbS n a p0 i)), (4, .int (nI (dr_c2 (a 4) (dr_en (a 6) i)))), (5, .int (nI (dr_c2 (a 7) i))), (6, .int (mI (dr_zc (a 6) i))), (7, .int (nI (sbW n a p0 i))), (8, .int (nI i))]) hx hb dX0_sumByTag_39 hl (k := 3) rfl (by rw [← mI_1]; rfl) (by decide) rfl (fun ls hl => ?_)
          rw [mI_s] at hl
          refine lv_iload hx hb dX0_sumByTag_42 (lv_at hl 6 rfl) ?_
          refine lv_aload_n hx hb dX0_sumByTag_44 rfl (lv_at hl 1 rfl) ?_
          refine gX0 (v := .ref (q 6)) hx hb hts hown hK hP 12 (by decide) q35 rfl dX0_sumByTag_45 ?_
          refine lv_iload hx hb dX0_sumByTag_48 (lv_at hl 8 rfl) ?_
          refine xa_ild (v := (a 6 i)) hx hb hK hP 6 1 rfl rfl i (by omega) (by decide) rfl dX0_sumByTag_50 ?_
          have K59 : ∀ v_59 : Nat, v_59 = (if a 6 i = 0 then 1 else 0) → W p l e (headSpec wsX0_sumByTag ({ frames := 0, cells := 0, slots := 0, locals := 0 })).room s m ([.ref (q 0), .int p0] : List Value).toArray below meth c H locs 0 0 (MQ below (va_Qi (fun (r : Int32) (u : SX) => r = sbS n a p0 (n 11) ∧ ∃ x y, u = (fd n x y, a)) (BX0 dC dI cB cI q A) A) ([.ref (q 0), .int p0] : List Value).toArray s 0 0 A) (F0 m 59 ls [.int (nI v_59), .int (mI (dr_zc (a 6) i))]) := by
            intro v_59 hv_59
            obtain rfl : v_59 = (if a 6 i = 0 then 1 else 0) := hv_59
            refine xm_iadd hx hb dX0_sumByTag_59 ?_
            refine lv_istore (lv' := [(6, .int (mI (dr_zc (a 6) i + (if a 6 i = 0 then 1 else 0)))), (3, .int (nI (dr_en (a 6) i))), (0, .ref (q 0)), (1, .int p0), (2, .int (sbS n a p0 i)), (4, .int (nI (dr_c2 (a 4) (dr_en (a 6) i)))), (5, .int (nI (dr_c2 (a 7) i))), (7, .int (nI (sbW n a p0 i))), (8, .int (nI i))]) hx hb dX0_sumByTag_60 hl (by decide) rfl (fun ls hl => ?_)
            have hl : lv_has ls 10 [(6, .int (mI (dr_zc (a 6) (i + 1)))), (3, .int (nI (dr_en (a 6) i))), (0, .ref (q 0)), (1, .int p0), (2, .int (sbS n a p0 i)), (4, .int (nI (dr_c2 (a 4) (dr_en (a 6) i)))), (5, .int (nI (dr_c2 (a 7) i))), (7, .int (nI (sbW n a p0 i))), (8, .int (nI i))] := hl
            refine lv_aload_n hx hb dX0_sumByTag_62 rfl (lv_at hl 2 rfl) ?_
            refine gX0 (v := .ref (q 4)) hx hb hts hown hK hP 8 (by decide) q31 rfl dX0_sumByTag_63 ?_
            refine lv_iload_n hx hb dX0_sumByTag_66 rfl (lv_at hl 1 rfl) ?_
            refine xa_ild (v := (a 4 (dr_en (a 6) i))) hx hb hK hP 4 1 rfl rfl (dr_en (a 6) i) (by omega) (by decide) rfl dX0_sumByTag_67 ?_
            refine lv_iconst (v := (nI 2)) hx hb dX0_sumByTag_68 (by decide) ?_
            have K77 : ∀ v_77 : Nat, v_77 = (if a 4 (dr_en (a 6) i) = 2 then 1 else 0) → W p l e (headSpec wsX0_sumByTag ({ frames := 0, cells := 0, slots := 0, locals := 0 })).room s m ([.ref (q 0), .int p0] : List Value).toArray below meth c H locs 0 0 (MQ below (va_Qi (fun (r : Int32) (u : SX) => r = sbS n a p0 (n 11) ∧ ∃ x y, u = (fd n x y, a)) (BX0 dC dI cB cI q A) A) ([.ref (q 0), .int p0] : List Value).toArray s 0 0 A) (F0 m 77 ls [.int (nI v_77)]) := by
              intro v_77 hv_77
              have h9 : v_77 ≤ 1 := by rw [hv_77]; split <;> omega
              refine lv_istore (lv' := [(9, .int (nI v_77)), (6, .int (mI (dr_zc (a 6) (i + 1)))), (3, .int (nI (dr_en (a 6) i))), (0, .ref (q 0)), (1, .int p0), (2, .int (sbS n a p0 i)), (4, .int (nI (dr_c2 (a 4) (dr_en (a 6) i)))), (5, .int (nI (dr_c2 (a 7) i))), (7, .int (nI (sbW n a p0 i))), (8, .int (nI i))]) hx hb dX0_sumByTag_77 hl (by decide) rfl (fun ls hl => ?_)
              refine lv_iload hx hb dX0_sumByTag_79 (lv_at hl 0 rfl) ?_
              have K109 : ∀ v_109 : Nat, v_109 = (if a 4 (dr_en (a 6) i) = 2 ∧ a 5 (dr_c2 (a 4) (dr_en (a 6) i)) = p0 ∧ dr_zc (a 6) (i + 1) ≤ n 2 then 1 else 0) → W p l e (headSpec wsX0_sumByTag ({ frames := 0, cells := 0, slots := 0, locals := 0 })).room s m ([.ref (q 0), .int p0] : List Value).toArray below meth c H locs 0 0 (MQ below (va_Qi (fun (r : Int32) (u : SX) => r = sbS n a p0 (n 11) ∧ ∃ x y, u = (fd n x y, a)) (BX0 dC dI cB cI q A) A) ([.ref (q 0), .int p0] : List Value).toArray s 0 0 A) (F0 m 109 ls [.int (nI v_109)]) := by
                intro v_109 hv_109
                refine lv_istore (lv' := [(7, .int (nI v_109)), (9, .int (nI v_77)), (6, .int (mI (dr_zc (a 6) (i + 1)))), (3, .int (nI (dr_en (a 6) i))), (0, .ref (q 0)), (1, .int p0), (2, .int (sbS n a p0 i)), (4, .int (nI (dr_c2 (a 4) (dr_en (a 6) i)))), (5, .int (nI (dr_c2 (a 7) i))), (8, .int (nI i))]) hx hb dX0_sumByTag_109 hl (by decide) rfl (fun ls hl => ?_)
                refine lv_iload hx hb dX0_sumByTag_111 (lv_at hl 7 rfl) ?_
                refine lv_iload hx hb dX0_sumByTag_113 (lv_at hl 1 rfl) ?_
                have K123 : ∀ v_123 : Nat, v_123 = (if v_77 = 0 then 0 else 1) → W p l e (headSpec wsX0_sumByTag ({ frames := 0, cells := 0, slots := 0, locals := 0 })).room s m ([.ref (q 0), .int p0] : List Value).toArray below meth c H locs 0 0 (MQ below (va_Qi (fun (r : Int32) (u : SX) => r = sbS n a p0 (n 11) ∧ ∃ x y, u = (fd n x y, a)) (BX0 dC dI cB cI q A) A) ([.ref (q 0), .int p0] : List Value).toArray s 0 0 A) (F0 m 123 ls [.int (nI v_123), .int (nI (dr_c2 (a 4) (dr_en (a 6) i)))]) := by
                  intro v_123 hv_123
                  have e123 : v_123 = v_77 := by rw [hv_123]; split <;> omega
                  rw [e123]
                  refine xn_iadd hx hb dX0_sumByTag_123 ?_
                  refine lv_istore (lv' := [(4, .int (nI (dr_c2 (a 4) (dr_en (a 6) i) + v_77))), (7, .int (nI v_109)), (9, .int (nI v_77)), (6, .int (mI (dr_zc (a 6) (i + 1)))), (3, .int (nI (dr_en (a 6) i))), (0, .ref (q 0)), (1, .int p0), (2, .int (sbS n a p0 i)), (5, .int (nI (dr_c2 (a 7) i))), (8, .int (nI i))]) hx hb dX0_sumByTag_124 hl (by decide) rfl (fun ls hl => ?_)
                  have e4 : dr_c2 (a 4) (dr_en (a 6) (i + 1)) = dr_c2 (a 4) (dr_en (a 6) i) + v_77 := by rw [e1, dr_c2, hv_77]
                  have e5 : sbW n a p0 (i + 1) = v_109 := by rw [sbW, if_pos hlt, hv_109]
                  exact K126 ls (by rw [e4, e5, e1, mI_s]; exact lv_sub hl [5, 6, 7, 4, 0, 8, 3, 1, 9] rfl)
                refine xn_if_eq (tgt := 122) hx hb dX0_sumByTag_115 (by decide) (by omega) (fun c_115 => ?_) (fun c_115 => ?_)
                · refine lv_iconst (v := (nI 0)) hx hb dX0_sumByTag_122 (by decide) ?_
                  exact K123 0 (by first | exact (if_pos c_115).symm | exact (if_neg c_115).symm | exact (if_pos (by omega)).symm | exact (if_neg (by omega)).symm)
                · refine lv_iconst (v := (nI 1)) hx hb dX0_sumByTag_118 (by decide) ?_
                  refine lv_goto (tgt := 123) hx hb dX0_sumByTag_119 (by decide) ?_
                  exact K123 1 (by first | exact (if_pos c_115).symm | exact (if_neg c_115).symm | exact (if_pos (by omega)).symm | exact (if_neg (by omega)).symm)
              refine xn_if_eq (tgt := 108) hx hb dX0_sumByTag_81 (by decide) (by omega) (fun c_81 => ?_) (fun c_81 => ?_)
              · refine lv_iconst (v := (nI 0)) hx hb dX0_sumByTag_108 (by decide) ?_
                exact K109 0 (if_neg (fun h => by rw [hv_77, if_pos h.1] at c_81; exact absurd c_81 (by decide))).symm
              · have hA : a 4 (dr_en (a 6) i) = 2 := by
                  by_cases hq : a 4 (dr_en (a 6) i) = 2
                  · exact hq
                  · rw [hv_77, if_neg hq] at c_81; exact absurd rfl c_81
                have h40 := xi_t40 hI e52 hA
                refine lv_aload_n hx hb dX0_sumByTag_84 rfl (lv_at hl 3 rfl) ?_
                refine gX0 (v := .ref (q 5)) hx hb hts hown hK hP 9 (by decide) q32 rfl dX0_sumByTag_85 ?_
                refine lv_iload hx hb dX0_sumByTag_88 (lv_at hl 6 rfl) ?_
                refine xa_ild (v := (a 5 (dr_c2 (a 4) (dr_en (a 6) i)))) hx hb hK hP 5 1 rfl rfl (dr_c2 (a 4) (dr_en (a 6) i)) (by omega) (by decide) rfl dX0_sumByTag_90 ?_
                refine lv_iload_n hx hb dX0_sumByTag_91 rfl (lv_at hl 4 rfl) ?_
                refine lv_icmp_ne (tgt := 108) hx hb dX0_sumByTag_92 (by decide) (fun c_92 => ?_) (fun c_92 => ?_)
                · refine lv_iconst (v := (nI 0)) hx hb dX0_sumByTag_108 (by decide) ?_
                  exact K109 0 (if_neg (fun h => c_92 h.2.1)).symm
                · refine lv_iload hx hb dX0_sumByTag_95 (lv_at hl 1 rfl) ?_
                  refine lv_aload_n hx hb dX0_sumByTag_97 rfl (lv_at hl 3 rfl) ?_
                  refine gX0 (v := .int (nI (n 2))) hx hb hts hown hK hP 2 (by decide) q25 rfl dX0_sumByTag_98 ?_
                  refine xm_icmp_ge (tgt := 108) hx hb dX0_sumByTag_101 (by decide) (by omega) (by omega) (fun c_101 => ?_) (fun c_101 => ?_)
                  · refine lv_iconst (v := (nI 0)) hx hb dX0_sumByTag_108 (by decide) ?_
                    exact K109 0 (if_neg (fun h => by have := h.2.2; omega)).symm
                  · refine lv_iconst (v := (nI 1)) hx hb dX0_sumByTag_104 (by decide) ?_
                    refine lv_goto (tgt := 109) hx hb dX0_sumByTag_105 (by decide) ?_
                    exact K109 1 (if_pos ⟨hA, c_92, c_101⟩).symm
            refine lv_icmp_ne (tgt := 76) hx hb dX0_sumByTag_69 (by decide) (fun c_69 => ?_) (fun c_69 => ?_)
            · refine lv_iconst (v := (nI 0)) hx hb dX0_sumByTag_76 (by decide) ?_
              exact K77 0 (by first | exact (if_pos c_69).symm | exact (if_neg c_69).symm | exact (if_pos (by omega)).symm | exact (if_neg (by omega)).symm)
            · refine lv_iconst (v := (nI 1)) hx hb dX0_sumByTag_72 (by decide) ?_
              refine lv_goto (tgt := 77) hx hb dX0_sumByTag_73 (by decide) ?_
              exact K77 1 (by first | exact (if_pos c_69).symm | exact (if_neg c_69).symm | exact (if_pos (by omega)).symm | exact (if_neg (by omega)).symm)
          refine lv_if_ne (tgt := 58) hx hb dX0_sumByTag_51 (by decide) (fun c_51 => ?_) (fun c_51 => ?_)
          · refine lv_iconst (v := (nI 0)) hx hb dX0_sumByTag_58 (by decide) ?_
            exact K59 0 (by first | exact (if_pos c_51).symm | exact (if_neg c_51).symm | exact (if_pos (by omega)).symm | exact (if_neg (by omega)).symm)
          · refine lv_iconst (v := (nI 1)) hx hb dX0_sumByTag_54 (by decide) ?_
            refine lv_goto (tgt := 59) hx hb dX0_sumByTag_55 (by decide) ?_
            exact K59 1 (by first | exact (if_pos c_51).symm | exact (if_neg c_51).symm | exact (if_pos (by omega)).symm | exact (if_neg (by omega)).symm)
  have hl : lv_has ls 10 [(8, .int (nI 0)), (7, .int (nI (sbW n a p0 0))), (6, .int (mI (dr_zc (a 6) 0))), (5, .int (nI (dr_c2 (a 7) 0))), (4, .int (nI (dr_c2 (a 4) (dr_en (a 6) 0)))), (3, .int (mI (dr_en (a 6) 0))), (2, .int (sbS n a p0 0)), (0, .ref (q 0)), (1, .int p0)] := hl
  exact loop (n 11 + 1) 0 (by omega) (Nat.zero_le _) H locs hP hD hS ls (lv_sub hl [7, 8, 6, 5, 4, 3, 2, 1, 0] rfl)
abbrev wsX0_recordsWith : List Cond := ws_ yX0_recordsWith cX0_recordsWith 9 (some .int)
set_option maxHeartbeats 4000000 in
set_option maxRecDepth 100000 in
theorem metX0_recordsWith (l : Launch) (dC : Nat → ClassId) (dI : Nat → Nat → Nat) (cB cI : ClassId) (q : Nat → Nat) (sz : Nat) (n : Nat → Nat) (a : Nat → Nat → Int32) (p0 p1 : Int32) (gO vn : Nat → Nat) (hI : XI gO vn n a) : Met l yX0_recordsWith wsX0_recordsWith ({ frames := 0, cells := 0, slots := 0, locals := 0 }) (va_Pc [.ref (q 0), .int p0, .int p1] (PX0 dC dI cB cI q n a sz)) (va_Qi (fun (r : Int32) (u : SX) => r = nI (rwP n a p0 p1 (n 11)).1 ∧ ∃ x y, u = (fd n x y, a)) (BX0 dC dI cB cI q (va_A (WX0 cB cI q n a) sz)) (va_A (WX0 cB cI q n a) sz)) 0 0 (va_A (WX0 cB cI q n a) sz) := by
  refine Met.ofW (cc := cX0_recordsWith) (maxL := 9) (ret := (some .int)) (by decide) rfl ?_
  intro p e s m args below meth c s₁ B hml hv
  obtain ⟨rfl, hsz, hP, hK, hD0⟩ := hv
  have hx := B.exec
  have hb := B.bytes
  have hr := B.returns
  have hts := atoms_spec (ws := wsX0_recordsWith) B.pre
  have hts : ∀ w ∈ lw_all, w.before _ s = true := fun w h => hts w (List.mem_cons_of_mem _ h)
  have hown : s.vm.findClass RX0 = some m.cls := findClass_of_methodNamed B.named
  have hlocks := B.notSynchronized
  subst hsz
  have hD := hD0.self (sz := s.heap.size)
  generalize hAe : va_A (WX0 cB cI q n a) s.heap.size = A at hD ⊢
  have hA : ∀ q : Nat, s.heap.size ≤ q → A q := fun q h => by rw [← hAe]; exact Or.inr h
  have hl := lv_entry ([.ref (q 0), .int p0, .int p1]) (n := 9) (Nat.le_of_ble_eq_true rfl)
  rw [lg_entry_eq]
  generalize (lg_sl ([.ref (q 0), .int p0, .int p1]) ++ List.replicate (9 - (lg_sl ([.ref (q 0), .int p0, .int p1])).length) Slot.unset).toArray = ls at hl ⊢
  have hl : lv_has ls 9 [(0, .ref (q 0)), (1, .int p0), (2, .int p1)] := hl
  suffices hh : ∀ (H : Heap) (locs : List Loc), va_P (dC, dI) vwCl (WX0 cB cI q n a) H → va_S A s.heap H locs → W p l e (headSpec wsX0_recordsWith ({ frames := 0, cells := 0, slots := 0, locals := 0 })).room s m ([.ref (q 0), .int p0, .int p1] : List Value).toArray below meth c H locs 0 0 (MQ below (va_Qi (fun (r : Int32) (u : SX) => r = nI (rwP n a p0 p1 (n 11)).1 ∧ ∃ x y, u = (fd n x y, a)) (BX0 dC dI cB cI q A) A) ([.ref (q 0), .int p0, .int p1] : List Value).toArray s 0 0 A) (F0 m 0 ls []) from hh _ _ hP va_S.rf
  clear hP
  intro H locs hP hS
  have h2 := xi_2 hI
  have h11 := xi_11 hI
  refine lv_iconst (v := (nI 0)) hx hb dX0_recordsWith_0 (by decide) ?_
  refine lv_istore_n (lv' := [(3, .int (nI 0)), (0, .ref (q 0)), (1, .int p0), (2, .int p1)]) hx hb dX0_recordsWith_1 rfl hl (by decide) rfl (fun ls hl => ?_)
  refine lv_iconst (v := (-1)) hx hb dX0_recordsWith_2 (by decide) ?_
  refine lv_istore (lv' := [(4, .int (-1)), (3, .int (nI 0)), (0, .ref (q 0)), (1, .int p0), (2, .int p1)]) hx hb dX0_recordsWith_3 hl (by decide) rfl (fun ls hl => ?_)
  refine lv_iconst (v := (nI 0)) hx hb dX0_recordsWith_5 (by decide) ?_
  refine lv_istore (lv' := [(5, .int (nI 0)), (4, .int (-1)), (3, .int (nI 0)), (0, .ref (q 0)), (1, .int p0), (2, .int p1)]) hx hb dX0_recordsWith_6 hl (by decide) rfl (fun ls hl => ?_)
  refine lv_iconst (v := (-1)) hx hb dX0_recordsWith_8 (by decide) ?_
  refine lv_istore (lv' := [(6, .int (-1)), (5, .int (nI 0)), (4, .int (-1)), (3, .int (nI 0)), (0, .ref (q 0)), (1, .int p0), (2, .int p1)]) hx hb dX0_recordsWith_9 hl (by decide) rfl (fun ls hl => ?_)
  refine lv_iconst (v := (nI 0)) hx hb dX0_recordsWith_11 (by decide) ?_
  refine lv_istore (lv' := [(7, .int (nI 0)), (6, .int (-1)), (5, .int (nI 0)), (4, .int (-1)), (3, .int (nI 0)), (0, .ref (q 0)), (1, .int p0), (2, .int p1)]) hx hb dX0_recordsWith_12 hl (by decide) rfl (fun ls hl => ?_)
  have loop : ∀ (k : Nat) (i : Nat), n 11 + 1 ≤ i + k → i ≤ n 11 → ∀ (H : Heap) (locs : List Loc), va_P (dC, dI) vwCl (WX0 cB cI q n a) H → va_D A (WX0 cB cI q n a) → va_S A s.heap H locs → ∀ (ls : Array Slot), lv_has ls 9 [(0, .ref (q 0)), (1, .int p0), (2, .int p1), (3, .int (nI ((rwP n a p0 p1 i).1))), (4, .int (mI (dr_zc (a 6) i))), (5, .int (nI (dr_c2 (a 7) i))), (6, .int (mI ((rwP n a p0 p1 i).2))), (7, .int (nI i))] → W p l e (headSpec wsX0_recordsWith ({ frames := 0, cells := 0, slots := 0, locals := 0 })).room s m ([.ref (q 0), .int p0, .int p1] : List Value).toArray below meth c H locs 0 0 (MQ below (va_Qi (fun (r : Int32) (u : SX) => r = nI (rwP n a p0 p1 (n 11)).1 ∧ ∃ x y, u = (fd n x y, a)) (BX0 dC dI cB cI q A) A) ([.ref (q 0), .int p0, .int p1] : List Value).toArray s 0 0 A) (F0 m 14 ls []) := by
    intro k
    induction k with
    | zero => intro i hm hi; exact absurd hm (by omega)
    | succ k ih =>
      intro i hm hi H locs hP hD hS ls hl
      have hzb := dr_zc_le (a 6) i
      have hzb1 := dr_zc_le (a 6) (i + 1)
      have hcb := dr_c2_le (a 7) i
      have hrb := rwP_le n a p0 p1 i
      refine lv_iload hx hb dX0_recordsWith_14 (lv_at hl 7 rfl) ?_
      refine lv_aload_n hx hb dX0_recordsWith_16 rfl (lv_at hl 0 rfl) ?_
      refine gX0 (v := .int (nI (n 11))) hx hb hts hown hK hP 11 (by decide) q34 rfl dX0_recordsWith_17 ?_
      refine xn_icmp_ge (tgt := 107) hx hb dX0_recordsWith_20 (by decide) (by omega) (by omega) (fun c_20 => ?_) (fun c_20 => ?_)
      · have hiN : i = n 11 := by omega
        refine lv_iload_n hx hb dX0_recordsWith_107 rfl (lv_at hl 3 rfl) ?_
        exact W.iret (v := (nI ((rwP n a p0 p1 i).1))) hx hb hr (fun t ht hW => ⟨⟨(nI ((rwP n a p0 p1 i).1)), (n, a), rfl, ⟨by rw [hiN], n 20, n 19, by rw [fd_self]⟩, by rw [ht]; exact hP, va_K.moved hW.alike hK, hD⟩, hS.F ht⟩) hS.2.2 dX0_recordsWith_108
      · refine lv_iload hx hb dX0_recordsWith_23 (lv_at hl 4 rfl) ?_
        refine lv_aload_n hx hb dX0_recordsWith_25 rfl (lv_at hl 0 rfl) ?_
        refine gX0 (v := .ref (q 6)) hx hb hts hown hK hP 12 (by decide) q35 rfl dX0_recordsWith_26 ?_
        refine lv_iload hx hb dX0_recordsWith_29 (lv_at hl 7 rfl) ?_
        refine xa_ild (v := (a 6 i)) hx hb hK hP 6 1 rfl rfl i (by omega) (by decide) rfl dX0_recordsWith_31 ?_
        have K40 : ∀ v_40 : Nat, v_40 = (if a 6 i = 0 then 1 else 0) → W p l e (headSpec wsX0_recordsWith ({ frames := 0, cells := 0, slots := 0, locals := 0 })).room s m ([.ref (q 0), .int p0, .int p1] : List Value).toArray below meth c H locs 0 0 (MQ below (va_Qi (fun (r : Int32) (u : SX) => r = nI (rwP n a p0 p1 (n 11)).1 ∧ ∃ x y, u = (fd n x y, a)) (BX0 dC dI cB cI q A) A) ([.ref (q 0), .int p0, .int p1] : List Value).toArray s 0 0 A) (F0 m 40 ls [.int (nI v_40), .int (mI (dr_zc (a 6) i))]) := by
          intro v_40 hv_40
          obtain rfl : v_40 = (if a 6 i = 0 then 1 else 0) := hv_40
          refine xm_iadd hx hb dX0_recordsWith_40 ?_
          refine lv_istore (lv' := [(4, .int (mI (dr_zc (a 6) i + (if a 6 i = 0 then 1 else 0)))), (0, .ref (q 0)), (1, .int p0), (2, .int p1), (3, .int (nI ((rwP n a p0 p1 i).1))), (5, .int (nI (dr_c2 (a 7) i))), (6, .int (mI ((rwP n a p0 p1 i).2))), (7, .int (nI i))]) hx hb dX0_recordsWith_41 hl (by decide) rfl (fun ls hl => ?_)
          have hl : lv_has ls 9 [(4, .int (mI (dr_zc (a 6) (i + 1)))), (0, .ref (q 0)), (1, .int p0), (2, .int p1), (3, .int (nI ((rwP n a p0 p1 i).1))), (5, .int (nI (dr_c2 (a 7) i))), (6, .int (mI ((rwP n a p0 p1 i).2))), (7, .int (nI i))] := hl
          have K101 : ∀ ls : Array Slot, lv_has ls 9 [(0, .ref (q 0)), (1, .int p0), (2, .int p1), (3, .int (nI ((rwP n a p0 p1 (i + 1)).1))), (4, .int (mI (dr_zc (a 6) (i + 1)))), (5, .int (nI (dr_c2 (a 7) (i + 1)))), (6, .int (mI ((rwP n a p0 p1 (i + 1)).2))), (7, .int (nI i))] → W p l e (headSpec wsX0_recordsWith ({ frames := 0, cells := 0, slots := 0, locals := 0 })).room s m ([.ref (q 0), .int p0, .int p1] : List Value).toArray below meth c H locs 0 0 (MQ below (va_Qi (fun (r : Int32) (u : SX) => r = nI (rwP n a p0 p1 (n 11)).1 ∧ ∃ x y, u = (fd n x y, a)) (BX0 dC dI cB cI q A) A) ([.ref (q 0), .int p0, .int p1] : List Value).toArray s 0 0 A) (F0 m 101 ls []) := by
            intro ls hl
            refine lv_iinc (v := (nI (i + 1))) (lv' := [(7, .int (nI (i + 1))), (0, .ref (q 0)), (1, .int p0), (2, .int p1), (3, .int (nI ((rwP n a p0 p1 (i + 1)).1))), (4, .int (mI (dr_zc (a 6) (i + 1)))), (5, .int (nI (dr_c2 (a 7) (i + 1)))), (6, .int (mI ((rwP n a p0 p1 (i + 1)).2)))]) hx hb dX0_recordsWith_101 hl (k := 7) rfl (by rw [← nI_1]; rfl) (by decide) rfl (fun ls hl => ?_)
            refine lv_goto (tgt := 14) hx hb dX0_recordsWith_104 (by decide) ?_
            exact ih (i + 1) (by omega) (by omega) H locs hP hD hS ls (lv_sub hl [1, 2, 3, 4, 5, 6, 7, 0] rfl)
          refine lv_aload_n hx hb dX0_recordsWith_43 rfl (lv_at hl 1 rfl) ?_
          refine gX0 (v := .ref (q 7)) hx hb hts hown hK hP 13 (by decide) q36 rfl dX0_recordsWith_44 ?_
          refine lv_iload hx hb dX0_recordsWith_47 (lv_at hl 7 rfl) ?_
          refine xa_ild (v := (a 7 i)) hx hb hK hP 7 1 rfl rfl i (by omega) (by decide) rfl dX0_recordsWith_49 ?_
          refine lv_iconst (v := (nI 2)) hx hb dX0_recordsWith_50 (by decide) ?_
          refine lv_icmp_ne (tgt := 101) hx hb dX0_recordsWith_51 (by decide) (fun c_51 => ?_) (fun c_51 => ?_)
          · have er : rwP n a p0 p1 (i + 1) = rwP n a p0 p1 i := by rw [rwP, if_neg (fun h => c_51 h.1)]
            have ec : dr_c2 (a 7) (i + 1) = dr_c2 (a 7) i := by rw [dr_c2, if_neg (show ¬ a 7 i = 2 from c_51), Nat.add_zero]
            exact K101 ls (by rw [er, ec]; exact lv_sub hl [1, 2, 3, 4, 0, 5, 6, 7] rfl)
          · have h60 := xi_v60 hI c_20 c_51
            refine lv_aload_n hx hb dX0_recordsWith_54 rfl (lv_at hl 1 rfl) ?_
            refine gX0 (v := .ref (q 8)) hx hb hts hown hK hP 14 (by decide) q37 rfl dX0_recordsWith_55 ?_
            refine lv_iload hx hb dX0_recordsWith_58 (lv_at hl 5 rfl) ?_
            refine xa_ild (v := (a 8 (dr_c2 (a 7) i))) hx hb hK hP 8 1 rfl rfl (dr_c2 (a 7) i) (by omega) (by decide) rfl dX0_recordsWith_60 ?_
            refine lv_istore (lv' := [(8, .int (a 8 (dr_c2 (a 7) i))), (4, .int (mI (dr_zc (a 6) (i + 1)))), (0, .ref (q 0)), (1, .int p0), (2, .int p1), (3, .int (nI ((rwP n a p0 p1 i).1))), (5, .int (nI (dr_c2 (a 7) i))), (6, .int (mI ((rwP n a p0 p1 i).2))), (7, .int (nI i))]) hx hb dX0_recordsWith_61 hl (by decide) rfl (fun ls hl => ?_)
            refine lv_iinc (v := (nI (dr_c2 (a 7) i + 1))) (lv' := [(5, .int (nI (dr_c2 (a 7) i + 1))), (8, .int (a 8 (dr_c2 (a 7) i))), (4, .int (mI (dr_zc (a 6) (i + 1)))), (0, .ref (q 0)), (1, .int p0), (2, .int p1), (3, .int (nI ((rwP n a p0 p1 i).1))), (6, .int (mI ((rwP n a p0 p1 i).2))), (7, .int (nI i))]) hx hb dX0_recordsWith_63 hl (k := 6) rfl (by rw [← nI_1]; rfl) (by decide) rfl (fun ls hl => ?_)
            refine lv_iload_n hx hb dX0_recordsWith_66 rfl (lv_at hl 4 rfl) ?_
            refine lv_iload hx hb dX0_recordsWith_67 (lv_at hl 1 rfl) ?_
            refine lv_icmp_gt (tgt := 101) hx hb dX0_recordsWith_69 (by decide) (fun c_69 => ?_) (fun c_69 => ?_)
            · have er : rwP n a p0 p1 (i + 1) = rwP n a p0 p1 i := by rw [rwP, if_neg (fun h => h.2.1 c_69)]
              have ec : dr_c2 (a 7) (i + 1) = dr_c2 (a 7) i + 1 := by rw [dr_c2, if_pos (show a 7 i = 2 from c_51)]
              exact K101 ls (by rw [er, ec]; exact lv_sub hl [3, 4, 5, 6, 2, 0, 7, 8] rfl)
            · refine lv_iload hx hb dX0_recordsWith_72 (lv_at hl 1 rfl) ?_
              refine lv_iload_n hx hb dX0_recordsWith_74 rfl (lv_at hl 5 rfl) ?_
              refine lv_icmp_gt (tgt := 101) hx hb dX0_recordsWith_75 (by decide) (fun c_75 => ?_) (fun c_75 => ?_)
              · have er : rwP n a p0 p1 (i + 1) = rwP n a p0 p1 i := by rw [rwP, if_neg (fun h => h.2.2.1 c_75)]
                have ec : dr_c2 (a 7) (i + 1) = dr_c2 (a 7) i + 1 := by rw [dr_c2, if_pos (show a 7 i = 2 from c_51)]
                exact K101 ls (by rw [er, ec]; exact lv_sub hl [3, 4, 5, 6, 2, 0, 7, 8] rfl)
              · refine lv_iload hx hb dX0_recordsWith_78 (lv_at hl 2 rfl) ?_
                refine lv_iload hx hb dX0_recordsWith_80 (lv_at hl 7 rfl) ?_
                refine xmm_icmp_eq (tgt := 101) hx hb dX0_recordsWith_82 (by decide) (by omega) (by omega) (fun c_82 => ?_) (fun c_82 => ?_)
                · have er : rwP n a p0 p1 (i + 1) = rwP n a p0 p1 i := by rw [rwP, if_neg (fun h => h.2.2.2.1 c_82)]
                  have ec : dr_c2 (a 7) (i + 1) = dr_c2 (a 7) i + 1 := by rw [dr_c2, if_pos (show a 7 i = 2 from c_51)]
                  exact K101 ls (by rw [er, ec]; exact lv_sub hl [3, 4, 5, 6, 2, 0, 7, 8] rfl)
                · refine lv_iload hx hb dX0_recordsWith_85 (lv_at hl 2 rfl) ?_
                  refine lv_aload_n hx hb dX0_recordsWith_87 rfl (lv_at hl 3 rfl) ?_
                  refine gX0 (v := .int (nI (n 2))) hx hb hts hown hK hP 2 (by decide) q25 rfl dX0_recordsWith_88 ?_
                  refine xm_icmp_ge (tgt := 101) hx hb dX0_recordsWith_91 (by decide) (by omega) (by omega) (fun c_91 => ?_) (fun c_91 => ?_)
                  · have er : rwP n a p0 p1 (i + 1) = rwP n a p0 p1 i := by rw [rwP, if_neg (fun h => by have := h.2.2.2.2; omega)]
                    have ec : dr_c2 (a 7) (i + 1) = dr_c2 (a 7) i + 1 := by rw [dr_c2, if_pos (show a 7 i = 2 from c_51)]
                    exact K101 ls (by rw [er, ec]; exact lv_sub hl [3, 4, 5, 6, 2, 0, 7, 8] rfl)
                  · refine lv_iinc (v := (nI ((rwP n a p0 p1 i).1 + 1))) (lv' := [(3, .int (nI ((rwP n a p0 p1 i).1 + 1))), (5, .int (nI (dr_c2 (a 7) i + 1))), (8, .int (a 8 (dr_c2 (a 7) i))), (4, .int (mI (dr_zc (a 6) (i + 1)))), (0, .ref (q 0)), (1, .int p0), (2, .int p1), (6, .int (mI ((rwP n a p0 p1 i).2))), (7, .int (nI i))]) hx hb dX0_recordsWith_94 hl (k := 6) rfl (by rw [← nI_1]; rfl) (by decide) rfl (fun ls hl => ?_)
                    refine lv_iload hx hb dX0_recordsWith_97 (lv_at hl 3 rfl) ?_
                    refine lv_istore (lv' := [(6, .int (mI (dr_zc (a 6) (i + 1)))), (3, .int (nI ((rwP n a p0 p1 i).1 + 1))), (5, .int (nI (dr_c2 (a 7) i + 1))), (8, .int (a 8 (dr_c2 (a 7) i))), (4, .int (mI (dr_zc (a 6) (i + 1)))), (0, .ref (q 0)), (1, .int p0), (2, .int p1), (7, .int (nI i))]) hx hb dX0_recordsWith_99 hl (by decide) rfl (fun ls hl => ?_)
                    have er : rwP n a p0 p1 (i + 1) = ((rwP n a p0 p1 i).1 + 1, dr_zc (a 6) (i + 1)) := by rw [rwP, if_pos ⟨c_51, c_69, c_75, c_82, c_91⟩]
                    have ec : dr_c2 (a 7) (i + 1) = dr_c2 (a 7) i + 1 := by rw [dr_c2, if_pos (show a 7 i = 2 from c_51)]
                    exact K101 ls (by rw [er, ec]; exact lv_sub hl [5, 6, 7, 1, 4, 2, 0, 8] rfl)
        refine lv_if_ne (tgt := 39) hx hb dX0_recordsWith_32 (by decide) (fun c_32 => ?_) (fun c_32 => ?_)
        · refine lv_iconst (v := (nI 0)) hx hb dX0_recordsWith_39 (by decide) ?_
          exact K40 0 (by first | exact (if_pos c_32).symm | exact (if_neg c_32).symm | exact (if_pos (by omega)).symm | exact (if_neg (by omega)).symm)
        · refine lv_iconst (v := (nI 1)) hx hb dX0_recordsWith_35 (by decide) ?_
          refine lv_goto (tgt := 40) hx hb dX0_recordsWith_36 (by decide) ?_
          exact K40 1 (by first | exact (if_pos c_32).symm | exact (if_neg c_32).symm | exact (if_pos (by omega)).symm | exact (if_neg (by omega)).symm)
  have hl : lv_has ls 9 [(7, .int (nI 0)), (6, .int (mI ((rwP n a p0 p1 0).2))), (5, .int (nI (dr_c2 (a 7) 0))), (4, .int (mI (dr_zc (a 6) 0))), (3, .int (nI ((rwP n a p0 p1 0).1))), (0, .ref (q 0)), (1, .int p0), (2, .int p1)] := hl
  exact loop (n 11 + 1) 0 (by omega) (Nat.zero_le _) H locs hP hD hS ls (lv_sub hl [5, 6, 7, 4, 3, 2, 1, 0] rfl)
end
section
set_option maxRecDepth 100000
/-! the model's state in numbers -/
/-- THE MODEL'S INVARIANT: gO r the groups of record r, vO t the values of group t = 4 r + g -/
def YI (gO vO n : Nat → Nat) (a : Nat → Nat → Int32) : Prop := (n 0 ≤ 12 ∧ n 1 ≤ 1 ∧ n 1 ≤ n 0 ∧ n 2 ≤ 40 ∧ n 3 ≤ 60) ∧ (∀ r, r < 12 → a 3 r = nI (gO r)) ∧ (∀ r, gO r ≤ 4) ∧ (∀ t, t < 48 → a 6 t = nI (vO t)) ∧ ∀ t, vO t ≤ 4
def ybX (n : Nat → Nat) (a : Nat → Nat → Int32) (hs : Nat) (x : Int32) : SX := (va_up (va_up n 1 1) 0 (n 0 + 1), va_up (va_up a 1 (upd (a 1) (n 0) (nI hs))) 2 (upd (a 2) (n 0) (if hs = 0 then 0 else x)))
abbrev ygC (gO n : Nat → Nat) : Prop := n 1 = 1 ∧ ¬ gO (n 0 - 1) = 4 ∧ ¬ n 2 = 40
def ygX (gO n : Nat → Nat) (a : Nat → Nat → Int32) (hs : Nat) (x : Int32) : SX := (va_up n 2 (n 2 + 1), va_up (va_up (va_up a 4 (upd (a 4) (4 * (n 0 - 1) + gO (n 0 - 1)) (nI hs))) 5 (upd (a 5) (4 * (n 0 - 1) + gO (n 0 - 1)) (if hs = 0 then 0 else x))) 3 (upd (a 3) (n 0 - 1) (nI (gO (n 0 - 1) + 1))))
def yat (gO n : Nat → Nat) : Nat := 4 * (n 0 - 1) + gO (n 0 - 1) - 1
abbrev yvC (gO vO n : Nat → Nat) : Prop := n 1 = 1 ∧ ¬ gO (n 0 - 1) = 0 ∧ ¬ n 3 = 60 ∧ ¬ vO (yat gO n) = 4
def yvX (gO vO n : Nat → Nat) (a : Nat → Nat → Int32) (x : Int32) : SX := (va_up n 3 (n 3 + 1), va_up (va_up a 7 (upd (a 7) (4 * yat gO n + vO (yat gO n)) x)) 6 (upd (a 6) (yat gO n) (nI (vO (yat gO n) + 1))))
abbrev twC (gO vO : Nat → Nat) (a : Nat → Nat → Int32) (tag : Int32) (t v : Nat) : Prop := t % 4 < gO (t / 4) ∧ ¬ a 4 t = 0 ∧ a 5 t = tag ∧ v < vO t
def twI (gO vO : Nat → Nat) (a : Nat → Nat → Int32) (tag : Int32) (t : Nat) (s : Int32) : Nat → Int32
  | 0 => s
  | v + 1 => if twC gO vO a tag t v then twI gO vO a tag t s v + a 7 (4 * t + v) else twI gO vO a tag t s v
def twS (gO vO : Nat → Nat) (a : Nat → Nat → Int32) (tag : Int32) : Nat → Int32
  | 0 => 0
  | t + 1 => twI gO vO a tag t (twS gO vO a tag t) 4
def hAny (h : Nat → Bool) : Nat → Bool
  | 0 => false
  | k + 1 => hAny h k || h k
theorem hAny_true {h : Nat → Bool} {i : Nat} (hi : h i = true) : ∀ {k : Nat}, i < k → hAny h k = true
  | 0, hk => absurd hk (Nat.not_lt_zero _)
  | k + 1, hk => by
    rw [hAny, Bool.or_eq_true]
    rcases Nat.lt_or_ge i k with q | q
    · exact Or.inl (hAny_true hi q)
    · have : i = k := by omega
      subst this
      exact Or.inr hi
theorem hAny_ex {h : Nat → Bool} : ∀ {k : Nat}, hAny h k = true → ∃ i, i < k ∧ h i = true
  | 0, hk => by simp [hAny] at hk
  | k + 1, hk => by
    rw [hAny, Bool.or_eq_true] at hk
    rcases hk with q | q
    · obtain ⟨i, h1, h2⟩ := hAny_ex q
      exact ⟨i, by omega, h2⟩
    · exact ⟨k, by omega, q⟩
abbrev hC (gO vO : Nat → Nat) (a : Nat → Nat → Int32) (lo hi : Int32) (r i : Nat) : Prop := (i / 4 < gO r ∧ i % 4 < vO (4 * r + i / 4)) ∧ ¬ a 7 (16 * r + i) < lo ∧ ¬ hi < a 7 (16 * r + i)
def hB (gO vO : Nat → Nat) (a : Nat → Nat → Int32) (lo hi : Int32) (r i : Nat) : Bool := decide (hC gO vO a lo hi r i)
def rwT (gO vO : Nat → Nat) (a : Nat → Nat → Int32) (lo hi : Int32) : Nat → Nat
  | 0 => 0
  | r + 1 => rwT gO vO a lo hi r + (if hAny (hB gO vO a lo hi r) 16 = true then 1 else 0)
theorem rwT_le (gO vO : Nat → Nat) (a : Nat → Nat → Int32) (lo hi : Int32) : ∀ r, rwT gO vO a lo hi r ≤ r
  | 0 => Nat.le_refl _
  | r + 1 => by
    have := rwT_le gO vO a lo hi r
    rw [rwT]
    split <;> omega
end
section
set_option maxRecDepth 100000
abbrev wsX1_begin : List Cond := ws_ yX1_begin cX1_begin 3 (some .int)
set_option maxHeartbeats 4000000 in
set_option maxRecDepth 100000 in
theorem metX1_begin (l : Launch) (dC : Nat → ClassId) (dI : Nat → Nat → Nat) (cB cI : ClassId) (q : Nat → Nat) (sz : Nat) (n : Nat → Nat) (a : Nat → Nat → Int32) (hs : Nat) (p1 : Int32) (gO vO : Nat → Nat) (hhs : hs ≤ 1) (hY : YI gO vO n a) : Met l yX1_begin wsX1_begin ({ frames := 0, cells := 0, slots := 0, locals := 0 }) (va_Pc [.ref (q 0), .int (nI hs), .int p1] (PX1 dC dI cB cI q n a sz)) (va_Qi (fun (r : Int32) (u : SX) => (n 1 = 0 ∧ ¬ n 0 = 12 ∧ r = nI (n 0) ∧ u = ybX n a hs p1) ∨ (¬ (n 1 = 0 ∧ ¬ n 0 = 12) ∧ r = -1 ∧ u = (n, a))) (BX1 dC dI cB cI q (va_A (WX1 cB cI q n a) sz)) (va_A (WX1 cB cI q n a) sz)) 0 0 (va_A (WX1 cB cI q n a) sz) := by
  refine Met.ofW (cc := cX1_begin) (maxL := 3) (ret := (some .int)) (by decide) rfl ?_
  intro p e s m args below meth c s₁ B hml hv
  obtain ⟨rfl, hsz, hP, hK, hD0⟩ := hv
  have hx := B.exec
  have hb := B.bytes
  have hr := B.returns
  have hts := atoms_spec (ws := wsX1_begin) B.pre
  have hts : ∀ w ∈ lw_all, w.before _ s = true := fun w h => hts w (List.mem_cons_of_mem _ h)
  have hown : s.vm.findClass RX1 = some m.cls := findClass_of_methodNamed B.named
  have hlocks := B.notSynchronized
  subst hsz
  have hD := hD0.self (sz := s.heap.size)
  generalize hAe : va_A (WX1 cB cI q n a) s.heap.size = A at hD ⊢
  have hA : ∀ q : Nat, s.heap.size ≤ q → A q := fun q h => by rw [← hAe]; exact Or.inr h
  have hl := lv_entry ([.ref (q 0), .int (nI hs), .int p1]) (n := 3) (Nat.le_of_ble_eq_true rfl)
  rw [lg_entry_eq]
  generalize (lg_sl ([.ref (q 0), .int (nI hs), .int p1]) ++ List.replicate (3 - (lg_sl ([.ref (q 0), .int (nI hs), .int p1])).length) Slot.unset).toArray = ls at hl ⊢
  have hl : lv_has ls 3 [(0, .ref (q 0)), (1, .int (nI hs)), (2, .int p1)] := hl
  suffices hh : ∀ (H : Heap) (locs : List Loc), va_P (dC, dI) vwCl (WX1 cB cI q n a) H → va_S A s.heap H locs → W p l e (headSpec wsX1_begin ({ frames := 0, cells := 0, slots := 0, locals := 0 })).room s m ([.ref (q 0), .int (nI hs), .int p1] : List Value).toArray below meth c H locs 0 0 (MQ below (va_Qi (fun (r : Int32) (u : SX) => (n 1 = 0 ∧ ¬ n 0 = 12 ∧ r = nI (n 0) ∧ u = ybX n a hs p1) ∨ (¬ (n 1 = 0 ∧ ¬ n 0 = 12) ∧ r = -1 ∧ u = (n, a))) (BX1 dC dI cB cI q A) A) ([.ref (q 0), .int (nI hs), .int p1] : List Value).toArray s 0 0 A) (F0 m 0 ls []) from hh _ _ hP va_S.rf
  clear hP
  intro H locs hP hS
  obtain ⟨⟨y0, y1, y10, y2, y3⟩, yg, yg4, yv, yv4⟩ := id hY
  refine lv_aload_n hx hb dX1_begin_0 rfl (lv_at hl 0 rfl) ?_
  refine gX1 (v := .int (nI (n 1))) hx hb hts hown hK hP 1 (by decide) q174 rfl dX1_begin_1 ?_
  refine xn_if_ne (tgt := 16) hx hb dX1_begin_4 (by decide) (by omega) (fun c_4 => ?_) (fun c_4 => ?_)
  · refine lv_iconst (v := (-1)) hx hb dX1_begin_16 (by decide) ?_
    exact W.iret (v := (-1)) hx hb hr (fun t9 ht hW => ⟨⟨(-1), (n, a), rfl, Or.inr ⟨fun h => by obtain ⟨z1, z2⟩ := h; omega, rfl, rfl⟩, by rw [ht]; exact hP, va_K.moved hW.alike hK, hD⟩, hS.F ht⟩) hS.2.2 dX1_begin_17
  · refine lv_aload_n hx hb dX1_begin_7 rfl (lv_at hl 0 rfl) ?_
    refine gX1 (v := .int (nI (n 0))) hx hb hts hown hK hP 0 (by decide) q173 rfl dX1_begin_8 ?_
    refine lv_bipush (v := (nI 12)) hx hb dX1_begin_11 (by decide) ?_
    refine xn_icmp_ne (tgt := 18) hx hb dX1_begin_13 (by decide) (by omega) (by omega) (fun c_13 => ?_) (fun c_13 => ?_)
    · refine lv_aload_n hx hb dX1_begin_18 rfl (lv_at hl 0 rfl) ?_
      refine gX1 (v := .ref (q 1)) hx hb hts hown hK hP 4 (by decide) q177 rfl dX1_begin_19 ?_
      refine lv_aload_n hx hb dX1_begin_22 rfl (lv_at hl 0 rfl) ?_
      refine gX1 (v := .int (nI (n 0))) hx hb hts hown hK hP 0 (by decide) q173 rfl dX1_begin_23 ?_
      refine lv_iload_n hx hb dX1_begin_26 rfl (lv_at hl 1 rfl) ?_
      refine xa_zst (ws' := (WX1 cB cI q n (va_up a 1 (upd (a 1) (n 0) (nI hs))))) hx hb hK hP hD hS 1 0 rfl rfl (n 0) (by omega) (by decide) (xz_hs hhs) rfl dX1_begin_27 (fun H locs hP hD hS => ?_)
      refine lv_aload_n hx hb dX1_begin_28 rfl (lv_at hl 0 rfl) ?_
      refine gX1 (v := .ref (q 2)) hx hb hts hown hK hP 5 (by decide) q178 rfl dX1_begin_29 ?_
      refine lv_aload_n hx hb dX1_begin_32 rfl (lv_at hl 0 rfl) ?_
      refine gX1 (v := .int (nI (n 0))) hx hb hts hown hK hP 0 (by decide) q173 rfl dX1_begin_33 ?_
      refine lv_iload_n hx hb dX1_begin_36 rfl (lv_at hl 1 rfl) ?_
      have K45 : ∀ v_45 : Int32, v_45 = (if hs = 0 then 0 else p1) → W p l e (headSpec wsX1_begin ({ frames := 0, cells := 0, slots := 0, locals := 0 })).room s m ([.ref (q 0), .int (nI hs), .int p1] : List Value).toArray below meth c H locs 0 0 (MQ below (va_Qi (fun (r : Int32) (u : SX) => (n 1 = 0 ∧ ¬ n 0 = 12 ∧ r = nI (n 0) ∧ u = ybX n a hs p1) ∨ (¬ (n 1 = 0 ∧ ¬ n 0 = 12) ∧ r = -1 ∧ u = (n, a))) (BX1 dC dI cB cI q A) A) ([.ref (q 0), .int (nI hs), .int p1] : List Value).toArray s 0 0 A) (F0 m 45 ls [.int v_45, .int (nI (n 0)), .ref (q 2)]) := by
        intro v_45 hv_45
        refine xa_ist (ws' := (WX1 cB cI q n (va_up (va_up a 1 (upd (a 1) (n 0) (nI hs))) 2 (upd (a 2) (n 0) v_45)))) hx hb hK hP hD hS 2 1 rfl rfl (n 0) (by omega) (by decide) rfl dX1_begin_45 (fun H locs hP hD hS => ?_)
        refine lv_aload_n hx hb dX1_begin_46 rfl (lv_at hl 0 rfl) ?_
        refine lv_iconst (v := (nI 1)) hx hb dX1_begin_47 (by decide) ?_
        refine pX1 (n' := va_up n 1 1) (ty := .boolean) hx hb hts hown hK hP hD hS 1 (by decide) q174 rfl (by decide +kernel) (by decide +kernel) rfl rfl dX1_begin_48 (fun H locs hP hD hS => ?_)
        refine lv_aload_n hx hb dX1_begin_51 rfl (lv_at hl 0 rfl) ?_
        refine lv_dup hx hb dX1_begin_52 rfl ?_
        refine gX1 (v := .int (nI (n 0))) hx hb hts hown hK hP 0 (by decide) q173 rfl dX1_begin_53 ?_
        refine lv_iconst (v := (nI 1)) hx hb dX1_begin_56 (by decide) ?_
        refine xn_iadd hx hb dX1_begin_57 ?_
        refine pX1 (n' := va_up (va_up n 1 1) 0 (n 0 + 1)) (ty := .int) hx hb hts hown hK hP hD hS 0 (by decide) q173 rfl (by decide +kernel) rfl rfl rfl dX1_begin_58 (fun H locs hP hD hS => ?_)
        refine lv_aload_n hx hb dX1_begin_61 rfl (lv_at hl 0 rfl) ?_
        refine gX1 (v := .int (nI (n 0 + 1))) hx hb hts hown hK hP 0 (by decide) q173 rfl dX1_begin_62 ?_
        refine lv_iconst (v := (nI 1)) hx hb dX1_begin_65 (by decide) ?_
        refine xn_isub hx hb (by omega) dX1_begin_66 ?_
        exact W.iret (v := (nI ((n 0 + 1) - 1))) hx hb hr (fun t9 ht hW => ⟨⟨(nI ((n 0 + 1) - 1)), (va_up (va_up n 1 1) 0 (n 0 + 1), va_up (va_up a 1 (upd (a 1) (n 0) (nI hs))) 2 (upd (a 2) (n 0) v_45)), rfl, Or.inl ⟨c_4, c_13, by rw [Nat.add_sub_cancel], by rw [ybX, ← hv_45]⟩, by rw [ht]; exact hP, va_K.moved hW.alike hK, hD⟩, hS.F ht⟩) hS.2.2 dX1_begin_67
      refine xn_if_eq (tgt := 44) hx hb dX1_begin_37 (by decide) (by omega) (fun c_37 => ?_) (fun c_37 => ?_)
      · refine lv_iconst (v := (nI 0)) hx hb dX1_begin_44 (by decide) ?_
        exact K45 0 (if_pos c_37).symm
      · refine lv_iload_n hx hb dX1_begin_40 rfl (lv_at hl 2 rfl) ?_
        refine lv_goto (tgt := 45) hx hb dX1_begin_41 (by decide) ?_
        exact K45 p1 (if_neg c_37).symm
    · refine lv_iconst (v := (-1)) hx hb dX1_begin_16 (by decide) ?_
      exact W.iret (v := (-1)) hx hb hr (fun t9 ht hW => ⟨⟨(-1), (n, a), rfl, Or.inr ⟨fun h => by obtain ⟨z1, z2⟩ := h; omega, rfl, rfl⟩, by rw [ht]; exact hP, va_K.moved hW.alike hK, hD⟩, hS.F ht⟩) hS.2.2 dX1_begin_17
abbrev wsX1_group : List Cond := ws_ yX1_group cX1_group 5 (some .int)
set_option maxHeartbeats 4000000 in
set_option maxRecDepth 100000 in
theorem metX1_group (l : Launch) (dC : Nat → ClassId) (dI : Nat → Nat → Nat) (cB cI : ClassId) (q : Nat → Nat) (sz : Nat) (n : Nat → Nat) (a : Nat → Nat → Int32) (hs : Nat) (p1 : Int32) (gO vO : Nat → Nat) (hhs : hs ≤ 1) (hY : YI gO vO n a) : Met l yX1_group wsX1_group ({ frames := 0, cells := 0, slots := 0, locals := 0 }) (va_Pc [.ref (q 0), .int (nI hs), .int p1] (PX1 dC dI cB cI q n a sz)) (va_Qi (fun (r : Int32) (u : SX) => (ygC gO n ∧ r = nI (gO (n 0 - 1) + 1) ∧ u = ygX gO n a hs p1) ∨ (¬ ygC gO n ∧ r = -1 ∧ u = (n, a))) (BX1 dC dI cB cI q (va_A (WX1 cB cI q n a) sz)) (va_A (WX1 cB cI q n a) sz)) 0 0 (va_A (WX1 cB cI q n a) sz) := by
  refine Met.ofW (cc := cX1_group) (maxL := 5) (ret := (some .int)) (by decide) rfl ?_
  intro p e s m args below meth c s₁ B hml hv
  obtain ⟨rfl, hsz, hP, hK, hD0⟩ := hv
  have hx := B.exec
  have hb := B.bytes
  have hr := B.returns
  have hts := atoms_spec (ws := wsX1_group) B.pre
  have hts : ∀ w ∈ lw_all, w.before _ s = true := fun w h => hts w (List.mem_cons_of_mem _ h)
  have hown : s.vm.findClass RX1 = some m.cls := findClass_of_methodNamed B.named
  have hlocks := B.notSynchronized
  subst hsz
  have hD := hD0.self (sz := s.heap.size)
  generalize hAe : va_A (WX1 cB cI q n a) s.heap.size = A at hD ⊢
  have hA : ∀ q : Nat, s.heap.size ≤ q → A q := fun q h => by rw [← hAe]; exact Or.inr h
  have hl := lv_entry ([.ref (q 0), .int (nI hs), .int p1]) (n := 5) (Nat.le_of_ble_eq_true rfl)
  rw [lg_entry_eq]
  generalize (lg_sl ([.ref (q 0), .int (nI hs), .int p1]) ++ List.replicate (5 - (lg_sl ([.ref (q 0), .int (nI hs), .int p1])).length) Slot.unset).toArray = ls at hl ⊢
  have hl : lv_has ls 5 [(0, .ref (q 0)), (1, .int (nI hs)), (2, .int p1)] := hl
  suffices hh : ∀ (H : Heap) (locs : List Loc), va_P (dC, dI) vwCl (WX1 cB cI q n a) H → va_S A s.heap H locs → W p l e (headSpec wsX1_group ({ frames := 0, cells := 0, slots := 0, locals := 0 })).room s m ([.ref (q 0), .int (nI hs), .int p1] : List Value).toArray below meth c H locs 0 0 (MQ below (va_Qi (fun (r : Int32) (u : SX) => (ygC gO n ∧ r = nI (gO (n 0 - 1) + 1) ∧ u = ygX gO n a hs p1) ∨ (¬ ygC gO n ∧ r = -1 ∧ u = (n, a))) (BX1 dC dI cB cI q A) A) ([.ref (q 0), .int (nI hs), .int p1] : List Value).toArray s 0 0 A) (F0 m 0 ls []) from hh _ _ hP va_S.rf
  clear hP
  intro H locs hP hS
  obtain ⟨⟨y0, y1, y10, y2, y3⟩, yg, yg4, yv, yv4⟩ := id hY
  have ygr := yg4 (n 0 - 1)
  refine lv_aload_n hx hb dX1_group_0 rfl (lv_at hl 0 rfl) ?_
  refine gX1 (v := .int (nI (n 1))) hx hb hts hown hK hP 1 (by decide) q174 rfl dX1_group_1 ?_
  refine xn_if_eq (tgt := 31) hx hb dX1_group_4 (by decide) (by omega) (fun c_4 => ?_) (fun c_4 => ?_)
  · refine lv_iconst (v := (-1)) hx hb dX1_group_31 (by decide) ?_
    exact W.iret (v := (-1)) hx hb hr (fun t9 ht hW => ⟨⟨(-1), (n, a), rfl, Or.inr ⟨fun h => by obtain ⟨z1, z2, z3⟩ := h; omega, rfl, rfl⟩, by rw [ht]; exact hP, va_K.moved hW.alike hK, hD⟩, hS.F ht⟩) hS.2.2 dX1_group_32
  · refine lv_aload_n hx hb dX1_group_7 rfl (lv_at hl 0 rfl) ?_
    refine gX1 (v := .ref (q 3)) hx hb hts hown hK hP 6 (by decide) q179 rfl dX1_group_8 ?_
    refine lv_aload_n hx hb dX1_group_11 rfl (lv_at hl 0 rfl) ?_
    refine gX1 (v := .int (nI (n 0))) hx hb hts hown hK hP 0 (by decide) q173 rfl dX1_group_12 ?_
    refine lv_iconst (v := (nI 1)) hx hb dX1_group_15 (by decide) ?_
    refine xn_isub hx hb (by omega) dX1_group_16 ?_
    refine xa_ild (v := (nI (gO (n 0 - 1)))) hx hb hK hP 3 1 rfl rfl (n 0 - 1) (by omega) (by decide) (yg _ (by omega)) dX1_group_17 ?_
    refine lv_iconst (v := (nI 4)) hx hb dX1_group_18 (by decide) ?_
    refine xn_icmp_eq (tgt := 31) hx hb dX1_group_19 (by decide) (by omega) (by omega) (fun c_19 => ?_) (fun c_19 => ?_)
    · refine lv_iconst (v := (-1)) hx hb dX1_group_31 (by decide) ?_
      exact W.iret (v := (-1)) hx hb hr (fun t9 ht hW => ⟨⟨(-1), (n, a), rfl, Or.inr ⟨fun h => by obtain ⟨z1, z2, z3⟩ := h; omega, rfl, rfl⟩, by rw [ht]; exact hP, va_K.moved hW.alike hK, hD⟩, hS.F ht⟩) hS.2.2 dX1_group_32
    · refine lv_aload_n hx hb dX1_group_22 rfl (lv_at hl 0 rfl) ?_
      refine gX1 (v := .int (nI (n 2))) hx hb hts hown hK hP 2 (by decide) q175 rfl dX1_group_23 ?_
      refine lv_bipush (v := (nI 40)) hx hb dX1_group_26 (by decide) ?_
      refine xn_icmp_ne (tgt := 33) hx hb dX1_group_28 (by decide) (by omega) (by omega) (fun c_28 => ?_) (fun c_28 => ?_)
      · refine lv_aload_n hx hb dX1_group_33 rfl (lv_at hl 0 rfl) ?_
        refine gX1 (v := .int (nI (n 0))) hx hb hts hown hK hP 0 (by decide) q173 rfl dX1_group_34 ?_
        refine lv_iconst (v := (nI 1)) hx hb dX1_group_37 (by decide) ?_
        refine xn_isub hx hb (by omega) dX1_group_38 ?_
        refine lv_istore_n (lv' := [(3, .int (nI (n 0 - 1))), (0, .ref (q 0)), (1, .int (nI hs)), (2, .int p1)]) hx hb dX1_group_39 rfl hl (by decide) rfl (fun ls hl => ?_)
        refine lv_iconst (v := (nI 4)) hx hb dX1_group_40 (by decide) ?_
        refine lv_iload_n hx hb dX1_group_41 rfl (lv_at hl 0 rfl) ?_
        refine xn_imul hx hb dX1_group_42 ?_
        refine lv_aload_n hx hb dX1_group_43 rfl (lv_at hl 1 rfl) ?_
        refine gX1 (v := .ref (q 3)) hx hb hts hown hK hP 6 (by decide) q179 rfl dX1_group_44 ?_
        refine lv_iload_n hx hb dX1_group_47 rfl (lv_at hl 0 rfl) ?_
        refine xa_ild (v := (nI (gO (n 0 - 1)))) hx hb hK hP 3 1 rfl rfl (n 0 - 1) (by omega) (by decide) (yg _ (by omega)) dX1_group_48 ?_
        refine xn_iadd hx hb dX1_group_49 ?_
        refine lv_istore (lv' := [(4, .int (nI (4 * (n 0 - 1) + (gO (n 0 - 1))))), (3, .int (nI (n 0 - 1))), (0, .ref (q 0)), (1, .int (nI hs)), (2, .int p1)]) hx hb dX1_group_50 hl (by decide) rfl (fun ls hl => ?_)
        refine lv_aload_n hx hb dX1_group_52 rfl (lv_at hl 2 rfl) ?_
        refine gX1 (v := .ref (q 4)) hx hb hts hown hK hP 7 (by decide) q180 rfl dX1_group_53 ?_
        refine lv_iload hx hb dX1_group_56 (lv_at hl 0 rfl) ?_
        refine lv_iload_n hx hb dX1_group_58 rfl (lv_at hl 3 rfl) ?_
        refine xa_zst (ws' := (WX1 cB cI q n (va_up a 4 (upd (a 4) (4 * (n 0 - 1) + (gO (n 0 - 1))) (nI hs))))) hx hb hK hP hD hS 4 0 rfl rfl (4 * (n 0 - 1) + (gO (n 0 - 1))) (by omega) (by decide) (xz_hs hhs) rfl dX1_group_59 (fun H locs hP hD hS => ?_)
        refine lv_aload_n hx hb dX1_group_60 rfl (lv_at hl 2 rfl) ?_
        refine gX1 (v := .ref (q 5)) hx hb hts hown hK hP 8 (by decide) q181 rfl dX1_group_61 ?_
        refine lv_iload hx hb dX1_group_64 (lv_at hl 0 rfl) ?_
        refine lv_iload_n hx hb dX1_group_66 rfl (lv_at hl 3 rfl) ?_
        have K75 : ∀ v_75 : Int32, v_75 = (if hs = 0 then 0 else p1) → W p l e (headSpec wsX1_group ({ frames := 0, cells := 0, slots := 0, locals := 0 })).room s m ([.ref (q 0), .int (nI hs), .int p1] : List Value).toArray below meth c H locs 0 0 (MQ below (va_Qi (fun (r : Int32) (u : SX) => (ygC gO n ∧ r = nI (gO (n 0 - 1) + 1) ∧ u = ygX gO n a hs p1) ∨ (¬ ygC gO n ∧ r = -1 ∧ u = (n, a))) (BX1 dC dI cB cI q A) A) ([.ref (q 0), .int (nI hs), .int p1] : List Value).toArray s 0 0 A) (F0 m 75 ls [.int v_75, .int (nI (4 * (n 0 - 1) + (gO (n 0 - 1)))), .ref (q 5)]) := by
          intro v_75 hv_75
          refine xa_ist (ws' := (WX1 cB cI q n (va_up (va_up a 4 (upd (a 4) (4 * (n 0 - 1) + (gO (n 0 - 1))) (nI hs))) 5 (upd (a 5) (4 * (n 0 - 1) + (gO (n 0 - 1))) v_75)))) hx hb hK hP hD hS 5 1 rfl rfl (4 * (n 0 - 1) + (gO (n 0 - 1))) (by omega) (by decide) rfl dX1_group_75 (fun H locs hP hD hS => ?_)
          refine lv_aload_n hx hb dX1_group_76 rfl (lv_at hl 2 rfl) ?_
          refine gX1 (v := .ref (q 3)) hx hb hts hown hK hP 6 (by decide) q179 rfl dX1_group_77 ?_
          refine lv_iload_n hx hb dX1_group_80 rfl (lv_at hl 1 rfl) ?_
          refine lv_dup2_11 hx hb dX1_group_81 rfl rfl ?_
          refine xa_ild (v := (nI (gO (n 0 - 1)))) hx hb hK hP 3 1 rfl rfl (n 0 - 1) (by omega) (by decide) (yg _ (by omega)) dX1_group_82 ?_
          refine lv_iconst (v := (nI 1)) hx hb dX1_group_83 (by decide) ?_
          refine xn_iadd hx hb dX1_group_84 ?_
          refine xa_ist (ws' := (WX1 cB cI q n (va_up (va_up (va_up a 4 (upd (a 4) (4 * (n 0 - 1) + (gO (n 0 - 1))) (nI hs))) 5 (upd (a 5) (4 * (n 0 - 1) + (gO (n 0 - 1))) v_75)) 3 (upd (a 3) (n 0 - 1) (nI (gO (n 0 - 1) + 1)))))) hx hb hK hP hD hS 3 1 rfl rfl (n 0 - 1) (by omega) (by decide) rfl dX1_group_85 (fun H locs hP hD hS => ?_)
          refine lv_aload_n hx hb dX1_group_86 rfl (lv_at hl 2 rfl) ?_
          refine lv_dup hx hb dX1_group_87 rfl ?_
          refine gX1 (v := .int (nI (n 2))) hx hb hts hown hK hP 2 (by decide) q175 rfl dX1_group_88 ?_
          refine lv_iconst (v := (nI 1)) hx hb dX1_group_91 (by decide) ?_
          refine xn_iadd hx hb dX1_group_92 ?_
          refine pX1 (n' := va_up n 2 (n 2 + 1)) (ty := .int) hx hb hts hown hK hP hD hS 2 (by decide) q175 rfl (by decide +kernel) rfl rfl rfl dX1_group_93 (fun H locs hP hD hS => ?_)
          refine lv_aload_n hx hb dX1_group_96 rfl (lv_at hl 2 rfl) ?_
          refine gX1 (v := .ref (q 3)) hx hb hts hown hK hP 6 (by decide) q179 rfl dX1_group_97 ?_
          refine lv_iload_n hx hb dX1_group_100 rfl (lv_at hl 1 rfl) ?_
          refine xa_ild (v := (nI (gO (n 0 - 1) + 1))) hx hb hK hP 3 1 rfl rfl (n 0 - 1) (by omega) (by decide) pk_us dX1_group_101 ?_
          exact W.iret (v := (nI (gO (n 0 - 1) + 1))) hx hb hr (fun t9 ht hW => ⟨⟨(nI (gO (n 0 - 1) + 1)), (va_up n 2 (n 2 + 1), va_up (va_up (va_up a 4 (upd (a 4) (4 * (n 0 - 1) + (gO (n 0 - 1))) (nI hs))) 5 (upd (a 5) (4 * (n 0 - 1) + (gO (n 0 - 1))) v_75)) 3 (upd (a 3) (n 0 - 1) (nI (gO (n 0 - 1) + 1)))), rfl, Or.inl ⟨⟨by omega, c_19, c_28⟩, rfl, by rw [ygX, ← hv_75]⟩, by rw [ht]; exact hP, va_K.moved hW.alike hK, hD⟩, hS.F ht⟩) hS.2.2 dX1_group_102
        refine xn_if_eq (tgt := 74) hx hb dX1_group_67 (by decide) (by omega) (fun c_67 => ?_) (fun c_67 => ?_)
        · refine lv_iconst (v := (nI 0)) hx hb dX1_group_74 (by decide) ?_
          exact K75 0 (if_pos c_67).symm
        · refine lv_iload_n hx hb dX1_group_70 rfl (lv_at hl 4 rfl) ?_
          refine lv_goto (tgt := 75) hx hb dX1_group_71 (by decide) ?_
          exact K75 p1 (if_neg c_67).symm
      · refine lv_iconst (v := (-1)) hx hb dX1_group_31 (by decide) ?_
        exact W.iret (v := (-1)) hx hb hr (fun t9 ht hW => ⟨⟨(-1), (n, a), rfl, Or.inr ⟨fun h => by obtain ⟨z1, z2, z3⟩ := h; omega, rfl, rfl⟩, by rw [ht]; exact hP, va_K.moved hW.alike hK, hD⟩, hS.F ht⟩) hS.2.2 dX1_group_32
abbrev wsX1_value : List Cond := ws_ yX1_value cX1_value 3 (some .int)
set_option maxHeartbeats 4000000 in
set_option maxRecDepth 100000 in
theorem metX1_value (l : Launch) (dC : Nat → ClassId) (dI : Nat → Nat → Nat) (cB cI : ClassId) (q : Nat → Nat) (sz : Nat) (n : Nat → Nat) (a : Nat → Nat → Int32) (x : Int32) (gO vO : Nat → Nat) (hY : YI gO vO n a) : Met l yX1_value wsX1_value ({ frames := 0, cells := 0, slots := 0, locals := 0 }) (va_Pc [.ref (q 0), .int x] (PX1 dC dI cB cI q n a sz)) (va_Qi (fun (r : Int32) (u : SX) => (yvC gO vO n ∧ r = nI (vO (yat gO n) + 1) ∧ u = yvX gO vO n a x) ∨ (¬ yvC gO vO n ∧ r = -1 ∧ u = (n, a))) (BX1 dC dI cB cI q (va_A (WX1 cB cI q n a) sz)) (va_A (WX1 cB cI q n a) sz)) 0 0 (va_A (WX1 cB cI q n a) sz) := by
  refine Met.ofW (cc := cX1_value) (maxL := 3) (ret := (some .int)) (by decide) rfl ?_
  intro p e s m args below meth c s₁ B hml hv
  obtain ⟨rfl, hsz, hP, hK, hD0⟩ := hv
  have hx := B.exec
  have hb := B.bytes
  have hr := B.returns
  have hts := atoms_spec (ws := wsX1_value) B.pre
  have hts : ∀ w ∈ lw_all, w.before _ s = true := fun w h => hts w (List.mem_cons_of_mem _ h)
  have hown : s.vm.findClass RX1 = some m.cls := findClass_of_methodNamed B.named
  have hlocks := B.notSynchronized
  subst hsz
  have hD := hD0.self (sz := s.heap.size)
  generalize hAe : va_A (WX1 cB cI q n a) s.heap.size = A at hD ⊢
  have hA : ∀ q : Nat, s.heap.size ≤ q → A q := fun q h => by rw [← hAe]; exact Or.inr h
  have hl := lv_entry ([.ref (q 0), .int x]) (n := 3) (Nat.le_of_ble_eq_true rfl)
  rw [lg_entry_eq]
  generalize (lg_sl ([.ref (q 0), .int x]) ++ List.replicate (3 - (lg_sl ([.ref (q 0), .int x])).length) Slot.unset).toArray = ls at hl ⊢
  have hl : lv_has ls 3 [(0, .ref (q 0)), (1, .int x)] := hl
  suffices hh : ∀ (H : Heap) (locs : List Loc), va_P (dC, dI) vwCl (WX1 cB cI q n a) H → va_S A s.heap H locs → W p l e (headSpec wsX1_value ({ frames := 0, cells := 0, slots := 0, locals := 0 })).room s m ([.ref (q 0), .int x] : List Value).toArray below meth c H locs 0 0 (MQ below (va_Qi (fun (r : Int32) (u : SX) => (yvC gO vO n ∧ r = nI (vO (yat gO n) + 1) ∧ u = yvX gO vO n a x) ∨ (¬ yvC gO vO n ∧ r = -1 ∧ u = (n, a))) (BX1 dC dI cB cI q A) A) ([.ref (q 0), .int x] : List Value).toArray s 0 0 A) (F0 m 0 ls []) from hh _ _ hP va_S.rf
  clear hP
  intro H locs hP hS
  obtain ⟨⟨y0, y1, y10, y2, y3⟩, yg, yg4, yv, yv4⟩ := id hY
  have ygr := yg4 (n 0 - 1)
  have yvr := yv4 (yat gO n)
  have eat : yat gO n = 4 * (n 0 - 1) + gO (n 0 - 1) - 1 := rfl
  refine lv_aload_n hx hb dX1_value_0 rfl (lv_at hl 0 rfl) ?_
  refine gX1 (v := .int (nI (n 1))) hx hb hts hown hK hP 1 (by decide) q174 rfl dX1_value_1 ?_
  refine xn_if_eq (tgt := 30) hx hb dX1_value_4 (by decide) (by omega) (fun c_4 => ?_) (fun c_4 => ?_)
  · refine lv_iconst (v := (-1)) hx hb dX1_value_30 (by decide) ?_
    exact W.iret (v := (-1)) hx hb hr (fun t9 ht hW => ⟨⟨(-1), (n, a), rfl, Or.inr ⟨fun h => by obtain ⟨z1, z2, z3, z4⟩ := h; omega, rfl, rfl⟩, by rw [ht]; exact hP, va_K.moved hW.alike hK, hD⟩, hS.F ht⟩) hS.2.2 dX1_value_31
  · refine lv_aload_n hx hb dX1_value_7 rfl (lv_at hl 0 rfl) ?_
    refine gX1 (v := .ref (q 3)) hx hb hts hown hK hP 6 (by decide) q179 rfl dX1_value_8 ?_
    refine lv_aload_n hx hb dX1_value_11 rfl (lv_at hl 0 rfl) ?_
    refine gX1 (v := .int (nI (n 0))) hx hb hts hown hK hP 0 (by decide) q173 rfl dX1_value_12 ?_
    refine lv_iconst (v := (nI 1)) hx hb dX1_value_15 (by decide) ?_
    refine xn_isub hx hb (by omega) dX1_value_16 ?_
    refine xa_ild (v := (nI (gO (n 0 - 1)))) hx hb hK hP 3 1 rfl rfl (n 0 - 1) (by omega) (by decide) (yg _ (by omega)) dX1_value_17 ?_
    refine xn_if_eq (tgt := 30) hx hb dX1_value_18 (by decide) (by omega) (fun c_18 => ?_) (fun c_18 => ?_)
    · refine lv_iconst (v := (-1)) hx hb dX1_value_30 (by decide) ?_
      exact W.iret (v := (-1)) hx hb hr (fun t9 ht hW => ⟨⟨(-1), (n, a), rfl, Or.inr ⟨fun h => by obtain ⟨z1, z2, z3, z4⟩ := h; omega, rfl, rfl⟩, by rw [ht]; exact hP, va_K.moved hW.alike hK, hD⟩, hS.F ht⟩) hS.2.2 dX1_value_31
    · refine lv_aload_n hx hb dX1_value_21 rfl (lv_at hl 0 rfl) ?_
      refine gX1 (v := .int (nI (n 3))) hx hb hts hown hK hP 3 (by decide) q176 rfl dX1_value_22 ?_
      refine lv_bipush (v := (nI 60)) hx hb dX1_value_25 (by decide) ?_
      refine xn_icmp_ne (tgt := 32) hx hb dX1_value_27 (by decide) (by omega) (by omega) (fun c_27 => ?_) (fun c_27 => ?_)
      · refine lv_iconst (v := (nI 4)) hx hb dX1_value_32 (by decide) ?_
        refine lv_aload_n hx hb dX1_value_33 rfl (lv_at hl 0 rfl) ?_
        refine gX1 (v := .int (nI (n 0))) hx hb hts hown hK hP 0 (by decide) q173 rfl dX1_value_34 ?_
        refine lv_iconst (v := (nI 1)) hx hb dX1_value_37 (by decide) ?_
        refine xn_isub hx hb (by omega) dX1_value_38 ?_
        refine xn_imul hx hb dX1_value_39 ?_
        refine lv_aload_n hx hb dX1_value_40 rfl (lv_at hl 0 rfl) ?_
        refine gX1 (v := .ref (q 3)) hx hb hts hown hK hP 6 (by decide) q179 rfl dX1_value_41 ?_
        refine lv_aload_n hx hb dX1_value_44 rfl (lv_at hl 0 rfl) ?_
        refine gX1 (v := .int (nI (n 0))) hx hb hts hown hK hP 0 (by decide) q173 rfl dX1_value_45 ?_
        refine lv_iconst (v := (nI 1)) hx hb dX1_value_48 (by decide) ?_
        refine xn_isub hx hb (by omega) dX1_value_49 ?_
        refine xa_ild (v := (nI (gO (n 0 - 1)))) hx hb hK hP 3 1 rfl rfl (n 0 - 1) (by omega) (by decide) (yg _ (by omega)) dX1_value_50 ?_
        refine xn_iadd hx hb dX1_value_51 ?_
        refine lv_iconst (v := (nI 1)) hx hb dX1_value_52 (by decide) ?_
        refine xn_isub hx hb (by omega) dX1_value_53 ?_
        refine lv_istore_n (lv' := [(2, .int (nI ((4 * (n 0 - 1) + (gO (n 0 - 1))) - 1))), (0, .ref (q 0)), (1, .int x)]) hx hb dX1_value_54 rfl hl (by decide) rfl (fun ls hl => ?_)
        have hl : lv_has ls 3 [(2, .int (nI (yat gO n))), (0, .ref (q 0)), (1, .int x)] := hl
        refine lv_aload_n hx hb dX1_value_55 rfl (lv_at hl 1 rfl) ?_
        refine gX1 (v := .ref (q 6)) hx hb hts hown hK hP 9 (by decide) q182 rfl dX1_value_56 ?_
        refine lv_iload_n hx hb dX1_value_59 rfl (lv_at hl 0 rfl) ?_
        refine xa_ild (v := (nI (vO (yat gO n)))) hx hb hK hP 6 1 rfl rfl (yat gO n) (by omega) (by decide) (yv _ (by omega)) dX1_value_60 ?_
        refine lv_iconst (v := (nI 4)) hx hb dX1_value_61 (by decide) ?_
        refine xn_icmp_ne (tgt := 67) hx hb dX1_value_62 (by decide) (by omega) (by omega) (fun c_62 => ?_) (fun c_62 => ?_)
        · refine lv_aload_n hx hb dX1_value_67 rfl (lv_at hl 1 rfl) ?_
          refine gX1 (v := .ref (q 7)) hx hb hts hown hK hP 10 (by decide) q183 rfl dX1_value_68 ?_
          refine lv_iconst (v := (nI 4)) hx hb dX1_value_71 (by decide) ?_
          refine lv_iload_n hx hb dX1_value_72 rfl (lv_at hl 0 rfl) ?_
          refine xn_imul hx hb dX1_value_73 ?_
          refine lv_aload_n hx hb dX1_value_74 rfl (lv_at hl 1 rfl) ?_
          refine gX1 (v := .ref (q 6)) hx hb hts hown hK hP 9 (by decide) q182 rfl dX1_value_75 ?_
          refine lv_iload_n hx hb dX1_value_78 rfl (lv_at hl 0 rfl) ?_
          refine xa_ild (v := (nI (vO (yat gO n)))) hx hb hK hP 6 1 rfl rfl (yat gO n) (by omega) (by decide) (yv _ (by omega)) dX1_value_79 ?_
          refine xn_iadd hx hb dX1_value_80 ?_
          refine lv_iload_n hx hb dX1_value_81 rfl (lv_at hl 2 rfl) ?_
          refine xa_ist (ws' := (WX1 cB cI q n (va_up a 7 (upd (a 7) (4 * (yat gO n) + (vO (yat gO n))) x)))) hx hb hK hP hD hS 7 1 rfl rfl (4 * (yat gO n) + (vO (yat gO n))) (by omega) (by decide) rfl dX1_value_82 (fun H locs hP hD hS => ?_)
          refine lv_aload_n hx hb dX1_value_83 rfl (lv_at hl 1 rfl) ?_
          refine gX1 (v := .ref (q 6)) hx hb hts hown hK hP 9 (by decide) q182 rfl dX1_value_84 ?_
          refine lv_iload_n hx hb dX1_value_87 rfl (lv_at hl 0 rfl) ?_
          refine lv_dup2_11 hx hb dX1_value_88 rfl rfl ?_
          refine xa_ild (v := (nI (vO (yat gO n)))) hx hb hK hP 6 1 rfl rfl (yat gO n) (by omega) (by decide) (yv _ (by omega)) dX1_value_89 ?_
          refine lv_iconst (v := (nI 1)) hx hb dX1_value_90 (by decide) ?_
          refine xn_iadd hx hb dX1_value_91 ?_
          refine xa_ist (ws' := (WX1 cB cI q n (va_up (va_up a 7 (upd (a 7) (4 * (yat gO n) + (vO (yat gO n))) x)) 6 (upd (a 6) (yat gO n) (nI (vO (yat gO n) + 1)))))) hx hb hK hP hD hS 6 1 rfl rfl (yat gO n) (by omega) (by decide) rfl dX1_value_92 (fun H locs hP hD hS => ?_)
          refine lv_aload_n hx hb dX1_value_93 rfl (lv_at hl 1 rfl) ?_
          refine lv_dup hx hb dX1_value_94 rfl ?_
          refine gX1 (v := .int (nI (n 3))) hx hb hts hown hK hP 3 (by decide) q176 rfl dX1_value_95 ?_
          refine lv_iconst (v := (nI 1)) hx hb dX1_value_98 (by decide) ?_
          refine xn_iadd hx hb dX1_value_99 ?_
          refine pX1 (n' := va_up n 3 (n 3 + 1)) (ty := .int) hx hb hts hown hK hP hD hS 3 (by decide) q176 rfl (by decide +kernel) rfl rfl rfl dX1_value_100 (fun H locs hP hD hS => ?_)
          refine lv_aload_n hx hb dX1_value_103 rfl (lv_at hl 1 rfl) ?_
          refine gX1 (v := .ref (q 6)) hx hb hts hown hK hP 9 (by decide) q182 rfl dX1_value_104 ?_
          refine lv_iload_n hx hb dX1_value_107 rfl (lv_at hl 0 rfl) ?_
          refine xa_ild (v := (nI (vO (yat gO n) + 1))) hx hb hK hP 6 1 rfl rfl (yat gO n) (by omega) (by decide) pk_us dX1_value_108 ?_
          exact W.iret (v := (nI (vO (yat gO n) + 1))) hx hb hr (fun t9 ht hW => ⟨⟨(nI (vO (yat gO n) + 1)), (va_up n 3 (n 3 + 1), va_up (va_up a 7 (upd (a 7) (4 * (yat gO n) + (vO (yat gO n))) x)) 6 (upd (a 6) (yat gO n) (nI (vO (yat gO n) + 1)))), rfl, Or.inl ⟨⟨by omega, c_18, c_27, c_62⟩, rfl, rfl⟩, by rw [ht]; exact hP, va_K.moved hW.alike hK, hD⟩, hS.F ht⟩) hS.2.2 dX1_value_109
        · refine lv_iconst (v := (-1)) hx hb dX1_value_65 (by decide) ?_
          exact W.iret (v := (-1)) hx hb hr (fun t9 ht hW => ⟨⟨(-1), (n, a), rfl, Or.inr ⟨fun h => by obtain ⟨z1, z2, z3, z4⟩ := h; omega, rfl, rfl⟩, by rw [ht]; exact hP, va_K.moved hW.alike hK, hD⟩, hS.F ht⟩) hS.2.2 dX1_value_66
      · refine lv_iconst (v := (-1)) hx hb dX1_value_30 (by decide) ?_
        exact W.iret (v := (-1)) hx hb hr (fun t9 ht hW => ⟨⟨(-1), (n, a), rfl, Or.inr ⟨fun h => by obtain ⟨z1, z2, z3, z4⟩ := h; omega, rfl, rfl⟩, by rw [ht]; exact hP, va_K.moved hW.alike hK, hD⟩, hS.F ht⟩) hS.2.2 dX1_value_31
abbrev wsX1_end : List Cond := ws_ yX1_end cX1_end 1 (some .int)
set_option maxHeartbeats 4000000 in
set_option maxRecDepth 100000 in
theorem metX1_end (l : Launch) (dC : Nat → ClassId) (dI : Nat → Nat → Nat) (cB cI : ClassId) (q : Nat → Nat) (sz : Nat) (n : Nat → Nat) (a : Nat → Nat → Int32) (gO vO : Nat → Nat) (hY : YI gO vO n a) : Met l yX1_end wsX1_end ({ frames := 0, cells := 0, slots := 0, locals := 0 }) (va_Pc [.ref (q 0)] (PX1 dC dI cB cI q n a sz)) (va_Qi (fun (r : Int32) (u : SX) => (n 1 = 1 ∧ r = nI (n 0) ∧ u = (va_up n 1 0, a)) ∨ (¬ n 1 = 1 ∧ r = -1 ∧ u = (n, a))) (BX1 dC dI cB cI q (va_A (WX1 cB cI q n a) sz)) (va_A (WX1 cB cI q n a) sz)) 0 0 (va_A (WX1 cB cI q n a) sz) := by
  refine Met.ofW (cc := cX1_end) (maxL := 1) (ret := (some .int)) (by decide) rfl ?_
  intro p e s m args below meth c s₁ B hml hv
  obtain ⟨rfl, hsz, hP, hK, hD0⟩ := hv
  have hx := B.exec
  have hb := B.bytes
  have hr := B.returns
  have hts := atoms_spec (ws := wsX1_end) B.pre
  have hts : ∀ w ∈ lw_all, w.before _ s = true := fun w h => hts w (List.mem_cons_of_mem _ h)
  have hown : s.vm.findClass RX1 = some m.cls := findClass_of_methodNamed B.named
  have hlocks := B.notSynchronized
  subst hsz
  have hD := hD0.self (sz := s.heap.size)
  generalize hAe : va_A (WX1 cB cI q n a) s.heap.size = A at hD ⊢
  have hA : ∀ q : Nat, s.heap.size ≤ q → A q := fun q h => by rw [← hAe]; exact Or.inr h
  have hl := lv_entry ([.ref (q 0)]) (n := 1) (Nat.le_of_ble_eq_true rfl)
  rw [lg_entry_eq]
  generalize (lg_sl ([.ref (q 0)]) ++ List.replicate (1 - (lg_sl ([.ref (q 0)])).length) Slot.unset).toArray = ls at hl ⊢
  have hl : lv_has ls 1 [(0, .ref (q 0))] := hl
  suffices hh : ∀ (H : Heap) (locs : List Loc), va_P (dC, dI) vwCl (WX1 cB cI q n a) H → va_S A s.heap H locs → W p l e (headSpec wsX1_end ({ frames := 0, cells := 0, slots := 0, locals := 0 })).room s m ([.ref (q 0)] : List Value).toArray below meth c H locs 0 0 (MQ below (va_Qi (fun (r : Int32) (u : SX) => (n 1 = 1 ∧ r = nI (n 0) ∧ u = (va_up n 1 0, a)) ∨ (¬ n 1 = 1 ∧ r = -1 ∧ u = (n, a))) (BX1 dC dI cB cI q A) A) ([.ref (q 0)] : List Value).toArray s 0 0 A) (F0 m 0 ls []) from hh _ _ hP va_S.rf
  clear hP
  intro H locs hP hS
  obtain ⟨⟨y0, y1, y10, y2, y3⟩, yg, yg4, yv, yv4⟩ := id hY
  refine lv_aload_n hx hb dX1_end_0 rfl (lv_at hl 0 rfl) ?_
  refine gX1 (v := .int (nI (n 1))) hx hb hts hown hK hP 1 (by decide) q174 rfl dX1_end_1 ?_
  refine xn_if_ne (tgt := 9) hx hb dX1_end_4 (by decide) (by omega) (fun c_4 => ?_) (fun c_4 => ?_)
  · refine lv_aload_n hx hb dX1_end_9 rfl (lv_at hl 0 rfl) ?_
    refine lv_iconst (v := (nI 0)) hx hb dX1_end_10 (by decide) ?_
    refine pX1 (n' := va_up n 1 0) (ty := .boolean) hx hb hts hown hK hP hD hS 1 (by decide) q174 rfl (by decide +kernel) (by decide +kernel) rfl rfl dX1_end_11 (fun H locs hP hD hS => ?_)
    refine lv_aload_n hx hb dX1_end_14 rfl (lv_at hl 0 rfl) ?_
    refine gX1 (v := .int (nI (n 0))) hx hb hts hown hK hP 0 (by decide) q173 rfl dX1_end_15 ?_
    exact W.iret (v := (nI (n 0))) hx hb hr (fun t9 ht hW => ⟨⟨(nI (n 0)), (va_up n 1 0, a), rfl, Or.inl ⟨by omega, rfl, rfl⟩, by rw [ht]; exact hP, va_K.moved hW.alike hK, hD⟩, hS.F ht⟩) hS.2.2 dX1_end_18
  · refine lv_iconst (v := (-1)) hx hb dX1_end_7 (by decide) ?_
    exact W.iret (v := (-1)) hx hb hr (fun t9 ht hW => ⟨⟨(-1), (n, a), rfl, Or.inr ⟨by omega, rfl, rfl⟩, by rw [ht]; exact hP, va_K.moved hW.alike hK, hD⟩, hS.F ht⟩) hS.2.2 dX1_end_8
abbrev wsX1_ended : List Cond := ws_ yX1_ended cX1_ended 1 (some .int)
set_option maxHeartbeats 4000000 in
set_option maxRecDepth 100000 in
theorem metX1_ended (l : Launch) (dC : Nat → ClassId) (dI : Nat → Nat → Nat) (cB cI : ClassId) (q : Nat → Nat) (sz : Nat) (n : Nat → Nat) (a : Nat → Nat → Int32) (gO vO : Nat → Nat) (hY : YI gO vO n a) : Met l yX1_ended wsX1_ended ({ frames := 0, cells := 0, slots := 0, locals := 0 }) (va_Pc [.ref (q 0)] (PX1 dC dI cB cI q n a sz)) (va_Qi (fun (r : Int32) (u : SX) => r = nI (n 0 - n 1) ∧ u = (n, a)) (BX1 dC dI cB cI q (va_A (WX1 cB cI q n a) sz)) (va_A (WX1 cB cI q n a) sz)) 0 0 (va_A (WX1 cB cI q n a) sz) := by
  refine Met.ofW (cc := cX1_ended) (maxL := 1) (ret := (some .int)) (by decide) rfl ?_
  intro p e s m args below meth c s₁ B hml hv
  obtain ⟨rfl, hsz, hP, hK, hD0⟩ := hv
  have hx := B.exec
  have hb := B.bytes
  have hr := B.returns
  have hts := atoms_spec (ws := wsX1_ended) B.pre
  have hts : ∀ w ∈ lw_all, w.before _ s = true := fun w h => hts w (List.mem_cons_of_mem _ h)
  have hown : s.vm.findClass RX1 = some m.cls := findClass_of_methodNamed B.named
  have hlocks := B.notSynchronized
  subst hsz
  have hD := hD0.self (sz := s.heap.size)
  generalize hAe : va_A (WX1 cB cI q n a) s.heap.size = A at hD ⊢
  have hA : ∀ q : Nat, s.heap.size ≤ q → A q := fun q h => by rw [← hAe]; exact Or.inr h
  have hl := lv_entry ([.ref (q 0)]) (n := 1) (Nat.le_of_ble_eq_true rfl)
  rw [lg_entry_eq]
  generalize (lg_sl ([.ref (q 0)]) ++ List.replicate (1 - (lg_sl ([.ref (q 0)])).length) Slot.unset).toArray = ls at hl ⊢
  have hl : lv_has ls 1 [(0, .ref (q 0))] := hl
  suffices hh : ∀ (H : Heap) (locs : List Loc), va_P (dC, dI) vwCl (WX1 cB cI q n a) H → va_S A s.heap H locs → W p l e (headSpec wsX1_ended ({ frames := 0, cells := 0, slots := 0, locals := 0 })).room s m ([.ref (q 0)] : List Value).toArray below meth c H locs 0 0 (MQ below (va_Qi (fun (r : Int32) (u : SX) => r = nI (n 0 - n 1) ∧ u = (n, a)) (BX1 dC dI cB cI q A) A) ([.ref (q 0)] : List Value).toArray s 0 0 A) (F0 m 0 ls []) from hh _ _ hP va_S.rf
  clear hP
  intro H locs hP hS
  obtain ⟨⟨y0, y1, y10, y2, y3⟩, yg, yg4, yv, yv4⟩ := id hY
  refine lv_aload_n hx hb dX1_ended_0 rfl (lv_at hl 0 rfl) ?_
  refine gX1 (v := .int (nI (n 1))) hx hb hts hown hK hP 1 (by decide) q174 rfl dX1_ended_1 ?_
  refine xn_if_eq (tgt := 16) hx hb dX1_ended_4 (by decide) (by omega) (fun c_4 => ?_) (fun c_4 => ?_)
  · refine lv_aload_n hx hb dX1_ended_16 rfl (lv_at hl 0 rfl) ?_
    refine gX1 (v := .int (nI (n 0))) hx hb hts hown hK hP 0 (by decide) q173 rfl dX1_ended_17 ?_
    exact W.iret (v := (nI (n 0))) hx hb hr (fun t9 ht hW => ⟨⟨(nI (n 0)), (n, a), rfl, ⟨by rw [c_4, Nat.sub_zero], rfl⟩, by rw [ht]; exact hP, va_K.moved hW.alike hK, hD⟩, hS.F ht⟩) hS.2.2 dX1_ended_20
  · have e1 : n 1 = 1 := by omega
    refine lv_aload_n hx hb dX1_ended_7 rfl (lv_at hl 0 rfl) ?_
    refine gX1 (v := .int (nI (n 0))) hx hb hts hown hK hP 0 (by decide) q173 rfl dX1_ended_8 ?_
    refine lv_iconst (v := (nI 1)) hx hb dX1_ended_11 (by decide) ?_
    refine xn_isub hx hb (by omega) dX1_ended_12 ?_
    refine lv_goto (tgt := 20) hx hb dX1_ended_13 (by decide) ?_
    exact W.iret (v := (nI (n 0 - 1))) hx hb hr (fun t9 ht hW => ⟨⟨(nI (n 0 - 1)), (n, a), rfl, ⟨by rw [e1], rfl⟩, by rw [ht]; exact hP, va_K.moved hW.alike hK, hD⟩, hS.F ht⟩) hS.2.2 dX1_ended_20
abbrev wsX1_missing : List Cond := ws_ yX1_missing cX1_missing 2 (some .boolean)
set_option maxHeartbeats 4000000 in
set_option maxRecDepth 100000 in
theorem metX1_missing (l : Launch) (dC : Nat → ClassId) (dI : Nat → Nat → Nat) (cB cI : ClassId) (q : Nat → Nat) (sz : Nat) (n : Nat → Nat) (a : Nat → Nat → Int32) (p0 : Int32) (gO vO : Nat → Nat) (hY : YI gO vO n a) : Met l yX1_missing wsX1_missing ({ frames := 1, cells := 0, slots := 0, locals := 20 }) (va_Pc [.ref (q 0), .int p0] (PX1 dC dI cB cI q n a sz)) (va_Qi (fun (r : Int32) (u : SX) => r = (if outR p0 (n 0 - n 1) then 1 else 0) ∧ u = (n, a)) (BX1 dC dI cB cI q (va_A (WX1 cB cI q n a) sz)) (va_A (WX1 cB cI q n a) sz)) 0 0 (va_A (WX1 cB cI q n a) sz) := by
  refine Met.ofW (cc := cX1_missing) (maxL := 2) (ret := (some .boolean)) (by decide) rfl ?_
  intro p e s m args below meth c s₁ B hml hv
  obtain ⟨rfl, hsz, hP, hK, hD0⟩ := hv
  have hx := B.exec
  have hb := B.bytes
  have hr := B.returns
  have hts := atoms_spec (ws := wsX1_missing) B.pre
  have hts : ∀ w ∈ lw_all, w.before _ s = true := fun w h => hts w (List.mem_cons_of_mem _ h)
  have hown : s.vm.findClass RX1 = some m.cls := findClass_of_methodNamed B.named
  have hlocks := B.notSynchronized
  subst hsz
  have hD := hD0.self (sz := s.heap.size)
  generalize hAe : va_A (WX1 cB cI q n a) s.heap.size = A at hD ⊢
  have hA : ∀ q : Nat, s.heap.size ≤ q → A q := fun q h => by rw [← hAe]; exact Or.inr h
  have hl := lv_entry ([.ref (q 0), .int p0]) (n := 2) (Nat.le_of_ble_eq_true rfl)
  rw [lg_entry_eq]
  generalize (lg_sl ([.ref (q 0), .int p0]) ++ List.replicate (2 - (lg_sl ([.ref (q 0), .int p0])).length) Slot.unset).toArray = ls at hl ⊢
  have hl : lv_has ls 2 [(0, .ref (q 0)), (1, .int p0)] := hl
  suffices hh : ∀ (H : Heap) (locs : List Loc), va_P (dC, dI) vwCl (WX1 cB cI q n a) H → va_S A s.heap H locs → W p l e (headSpec wsX1_missing ({ frames := 1, cells := 0, slots := 0, locals := 20 })).room s m ([.ref (q 0), .int p0] : List Value).toArray below meth c H locs 0 0 (MQ below (va_Qi (fun (r : Int32) (u : SX) => r = (if outR p0 (n 0 - n 1) then 1 else 0) ∧ u = (n, a)) (BX1 dC dI cB cI q A) A) ([.ref (q 0), .int p0] : List Value).toArray s 0 0 A) (F0 m 0 ls []) from hh _ _ hP va_S.rf
  clear hP
  intro H locs hP hS
  obtain ⟨⟨y0, y1, y10, y2, y3⟩, yg, yg4, yv, yv4⟩ := id hY
  refine lv_iload_n hx hb dX1_missing_0 rfl (lv_at hl 1 rfl) ?_
  refine lv_if_lt (tgt := 12) hx hb dX1_missing_1 (by decide) (fun c_1 => ?_) (fun c_1 => ?_)
  · refine lv_iconst (v := (nI 1)) hx hb dX1_missing_12 (by decide) ?_
    refine lv_goto (tgt := 17) hx hb dX1_missing_13 (by decide) ?_
    exact W.zret (v := (nI 1)) hx hb hr rfl (fun t9 ht hW => ⟨⟨(nI 1), (n, a), rfl, ⟨by rw [if_pos (Or.inl c_1)]; rfl, rfl⟩, by rw [ht]; exact hP, va_K.moved hW.alike hK, hD⟩, hS.F ht⟩) hS.2.2 dX1_missing_17
  · refine lv_iload_n hx hb dX1_missing_4 rfl (lv_at hl 1 rfl) ?_
    refine lv_aload_n hx hb dX1_missing_5 rfl (lv_at hl 0 rfl) ?_
    refine sX1i (As := []) (rest := [.int p0]) ⟨hx, hb, hml, hown, hts⟩ (metX1_ended l dC dI cB cI q H.size n a gO vO hY) (cwV 0 hts (lw_V q231 q233 qs9 q14 q234) rfl rfl rfl (by decide +kernel) ⟨Nat.le_of_ble_eq_true rfl, Nat.le_of_ble_eq_true rfl⟩) hK hP hD hS hA rfl hl.1 rfl (Nat.le_of_ble_eq_true rfl) dX1_missing_6 ⟨Nat.zero_le _, Nat.zero_le _⟩ (fun r1 u H locs hpost hP hD hS => ?_)
    obtain ⟨rfl, rfl⟩ := hpost
    have hP : va_P (dC, dI) vwCl (WX1 cB cI q n a) H := hP
    have hD : va_D A (WX1 cB cI q n a) := hD
    refine lv_icmp_lt (tgt := 16) hx hb dX1_missing_9 (by decide) (fun c_9 => ?_) (fun c_9 => ?_)
    · refine lv_iconst (v := (nI 0)) hx hb dX1_missing_16 (by decide) ?_
      exact W.zret (v := (nI 0)) hx hb hr rfl (fun t9 ht hW => ⟨⟨(nI 0), (n, a), rfl, ⟨by rw [if_neg (fun h => h.elim c_1 (fun h => absurd c_9 (Int32.not_lt.mpr h)))]; rfl, rfl⟩, by rw [ht]; exact hP, va_K.moved hW.alike hK, hD⟩, hS.F ht⟩) hS.2.2 dX1_missing_17
    · refine lv_iconst (v := (nI 1)) hx hb dX1_missing_12 (by decide) ?_
      refine lv_goto (tgt := 17) hx hb dX1_missing_13 (by decide) ?_
      exact W.zret (v := (nI 1)) hx hb hr rfl (fun t9 ht hW => ⟨⟨(nI 1), (n, a), rfl, ⟨by rw [if_pos (Or.inr (Int32.not_lt.mp c_9))]; rfl, rfl⟩, by rw [ht]; exact hP, va_K.moved hW.alike hK, hD⟩, hS.F ht⟩) hS.2.2 dX1_missing_17
abbrev wsX1_noGroup : List Cond := ws_ yX1_noGroup cX1_noGroup 3 (some .boolean)
set_option maxHeartbeats 4000000 in
set_option maxRecDepth 100000 in
theorem metX1_noGroup (l : Launch) (dC : Nat → ClassId) (dI : Nat → Nat → Nat) (cB cI : ClassId) (q : Nat → Nat) (sz : Nat) (n : Nat → Nat) (a : Nat → Nat → Int32) (p0 p1 : Int32) (gO vO : Nat → Nat) (hY : YI gO vO n a) : Met l yX1_noGroup wsX1_noGroup ({ frames := 2, cells := 0, slots := 0, locals := 41 }) (va_Pc [.ref (q 0), .int p0, .int p1] (PX1 dC dI cB cI q n a sz)) (va_Qi (fun (r : Int32) (u : SX) => r = (if outG gO (n 0 - n 1) p0 p1 then 1 else 0) ∧ u = (n, a)) (BX1 dC dI cB cI q (va_A (WX1 cB cI q n a) sz)) (va_A (WX1 cB cI q n a) sz)) 0 0 (va_A (WX1 cB cI q n a) sz) := by
  refine Met.ofW (cc := cX1_noGroup) (maxL := 3) (ret := (some .boolean)) (by decide) rfl ?_
  intro p e s m args below meth c s₁ B hml hv
  obtain ⟨rfl, hsz, hP, hK, hD0⟩ := hv
  have hx := B.exec
  have hb := B.bytes
  have hr := B.returns
  have hts := atoms_spec (ws := wsX1_noGroup) B.pre
  have hts : ∀ w ∈ lw_all, w.before _ s = true := fun w h => hts w (List.mem_cons_of_mem _ h)
  have hown : s.vm.findClass RX1 = some m.cls := findClass_of_methodNamed B.named
  have hlocks := B.notSynchronized
  subst hsz
  have hD := hD0.self (sz := s.heap.size)
  generalize hAe : va_A (WX1 cB cI q n a) s.heap.size = A at hD ⊢
  have hA : ∀ q : Nat, s.heap.size ≤ q → A q := fun q h => by rw [← hAe]; exact Or.inr h
  have hl := lv_entry ([.ref (q 0), .int p0, .int p1]) (n := 3) (Nat.le_of_ble_eq_true rfl)
  rw [lg_entry_eq]
  generalize (lg_sl ([.ref (q 0), .int p0, .int p1]) ++ List.replicate (3 - (lg_sl ([.ref (q 0), .int p0, .int p1])).length) Slot.unset).toArray = ls at hl ⊢
  have hl : lv_has ls 3 [(0, .ref (q 0)), (1, .int p0), (2, .int p1)] := hl
  suffices hh : ∀ (H : Heap) (locs : List Loc), va_P (dC, dI) vwCl (WX1 cB cI q n a) H → va_S A s.heap H locs → W p l e (headSpec wsX1_noGroup ({ frames := 2, cells := 0, slots := 0, locals := 41 })).room s m ([.ref (q 0), .int p0, .int p1] : List Value).toArray below meth c H locs 0 0 (MQ below (va_Qi (fun (r : Int32) (u : SX) => r = (if outG gO (n 0 - n 1) p0 p1 then 1 else 0) ∧ u = (n, a)) (BX1 dC dI cB cI q A) A) ([.ref (q 0), .int p0, .int p1] : List Value).toArray s 0 0 A) (F0 m 0 ls []) from hh _ _ hP va_S.rf
  clear hP
  intro H locs hP hS
  obtain ⟨⟨y0, y1, y10, y2, y3⟩, yg, yg4, yv, yv4⟩ := id hY
  refine lv_aload_n hx hb dX1_noGroup_0 rfl (lv_at hl 0 rfl) ?_
  refine lv_iload_n hx hb dX1_noGroup_1 rfl (lv_at hl 1 rfl) ?_
  refine sX1i (As := [.int p0]) (rest := []) ⟨hx, hb, hml, hown, hts⟩ (metX1_missing l dC dI cB cI q H.size n a p0 gO vO hY) (cwV 1 hts (lw_V q227 q229 qs8 q14 q230) rfl rfl rfl (by decide +kernel) ⟨Nat.le_of_ble_eq_true rfl, Nat.le_of_ble_eq_true rfl⟩) hK hP hD hS hA rfl hl.1 rfl (Nat.le_of_ble_eq_true rfl) dX1_noGroup_2 ⟨Nat.zero_le _, Nat.zero_le _⟩ (fun r1 u H locs hpost hP hD hS => ?_)
  obtain ⟨e1, rfl⟩ := hpost
  have hP : va_P (dC, dI) vwCl (WX1 cB cI q n a) H := hP
  have hD : va_D A (WX1 cB cI q n a) := hD
  refine lv_if_ne (tgt := 22) hx hb dX1_noGroup_5 (by decide) (fun c_5 => ?_) (fun c_5 => ?_)
  · have ho : outR p0 (n 0 - n 1) := by
      by_cases hq : outR p0 (n 0 - n 1)
      · exact hq
      · exact absurd (by rw [e1]; exact if_neg hq) c_5
    refine lv_iconst (v := (nI 1)) hx hb dX1_noGroup_22 (by decide) ?_
    refine lv_goto (tgt := 27) hx hb dX1_noGroup_23 (by decide) ?_
    exact W.zret (v := (nI 1)) hx hb hr rfl (fun t9 ht hW => ⟨⟨(nI 1), (n, a), rfl, ⟨by rw [if_pos (Or.inl ho)]; rfl, rfl⟩, by rw [ht]; exact hP, va_K.moved hW.alike hK, hD⟩, hS.F ht⟩) hS.2.2 dX1_noGroup_27
  · have hin : ¬ outR p0 (n 0 - n 1) := by rw [e1] at c_5; exact ite10.mp c_5
    obtain ⟨R, hR, hp⟩ := outR_ex hin (by omega)
    rw [hp] at hl
    have ygR := yg4 R
    have hcl : p0.toNatClampNeg = R := by rw [hp]; exact cl_nI (by omega)
    refine lv_iload_n hx hb dX1_noGroup_8 rfl (lv_at hl 2 rfl) ?_
    refine lv_if_lt (tgt := 22) hx hb dX1_noGroup_9 (by decide) (fun c_9 => ?_) (fun c_9 => ?_)
    · refine lv_iconst (v := (nI 1)) hx hb dX1_noGroup_22 (by decide) ?_
      refine lv_goto (tgt := 27) hx hb dX1_noGroup_23 (by decide) ?_
      exact W.zret (v := (nI 1)) hx hb hr rfl (fun t9 ht hW => ⟨⟨(nI 1), (n, a), rfl, ⟨by rw [if_pos (Or.inr (Or.inl c_9))]; rfl, rfl⟩, by rw [ht]; exact hP, va_K.moved hW.alike hK, hD⟩, hS.F ht⟩) hS.2.2 dX1_noGroup_27
    · refine lv_iload_n hx hb dX1_noGroup_12 rfl (lv_at hl 2 rfl) ?_
      refine lv_aload_n hx hb dX1_noGroup_13 rfl (lv_at hl 0 rfl) ?_
      refine gX1 (v := .ref (q 3)) hx hb hts hown hK hP 6 (by decide) q179 rfl dX1_noGroup_14 ?_
      refine lv_iload_n hx hb dX1_noGroup_17 rfl (lv_at hl 1 rfl) ?_
      refine xa_ild (v := (nI (gO R))) hx hb hK hP 3 1 rfl rfl R (by omega) (by decide) (yg _ (by omega)) dX1_noGroup_18 ?_
      refine lv_icmp_lt (tgt := 26) hx hb dX1_noGroup_19 (by decide) (fun c_19 => ?_) (fun c_19 => ?_)
      · refine lv_iconst (v := (nI 0)) hx hb dX1_noGroup_26 (by decide) ?_
        exact W.zret (v := (nI 0)) hx hb hr rfl (fun t9 ht hW => ⟨⟨(nI 0), (n, a), rfl, ⟨by rw [if_neg (fun h => h.elim hin (fun h => h.elim c_9 (fun h => absurd c_19 (Int32.not_lt.mpr (by rw [hcl] at h; exact h)))))]; rfl, rfl⟩, by rw [ht]; exact hP, va_K.moved hW.alike hK, hD⟩, hS.F ht⟩) hS.2.2 dX1_noGroup_27
      · refine lv_iconst (v := (nI 1)) hx hb dX1_noGroup_22 (by decide) ?_
        refine lv_goto (tgt := 27) hx hb dX1_noGroup_23 (by decide) ?_
        exact W.zret (v := (nI 1)) hx hb hr rfl (fun t9 ht hW => ⟨⟨(nI 1), (n, a), rfl, ⟨by rw [if_pos (Or.inr (Or.inr (by rw [hcl]; exact Int32.not_lt.mp c_19)))]; rfl, rfl⟩, by rw [ht]; exact hP, va_K.moved hW.alike hK, hD⟩, hS.F ht⟩) hS.2.2 dX1_noGroup_27
end
section
set_option maxRecDepth 100000
abbrev wsX1_groups : List Cond := ws_ yX1_groups cX1_groups 2 (some .int)
set_option maxHeartbeats 4000000 in
set_option maxRecDepth 100000 in
theorem metX1_groups (l : Launch) (dC : Nat → ClassId) (dI : Nat → Nat → Nat) (cB cI : ClassId) (q : Nat → Nat) (sz : Nat) (n : Nat → Nat) (a : Nat → Nat → Int32) (p0 : Int32) (gO vO : Nat → Nat) (hY : YI gO vO n a) : Met l yX1_groups wsX1_groups ({ frames := 2, cells := 0, slots := 0, locals := 41 }) (va_Pc [.ref (q 0), .int p0] (PX1 dC dI cB cI q n a sz)) (va_Qi (fun (r : Int32) (u : SX) => r = ansG gO (n 0 - n 1) p0 ∧ u = (n, a)) (BX1 dC dI cB cI q (va_A (WX1 cB cI q n a) sz)) (va_A (WX1 cB cI q n a) sz)) 0 0 (va_A (WX1 cB cI q n a) sz) := by
  refine Met.ofW (cc := cX1_groups) (maxL := 2) (ret := (some .int)) (by decide) rfl ?_
  intro p e s m args below meth c s₁ B hml hv
  obtain ⟨rfl, hsz, hP, hK, hD0⟩ := hv
  have hx := B.exec
  have hb := B.bytes
  have hr := B.returns
  have hts := atoms_spec (ws := wsX1_groups) B.pre
  have hts : ∀ w ∈ lw_all, w.before _ s = true := fun w h => hts w (List.mem_cons_of_mem _ h)
  have hown : s.vm.findClass RX1 = some m.cls := findClass_of_methodNamed B.named
  have hlocks := B.notSynchronized
  subst hsz
  have hD := hD0.self (sz := s.heap.size)
  generalize hAe : va_A (WX1 cB cI q n a) s.heap.size = A at hD ⊢
  have hA : ∀ q : Nat, s.heap.size ≤ q → A q := fun q h => by rw [← hAe]; exact Or.inr h
  have hl := lv_entry ([.ref (q 0), .int p0]) (n := 2) (Nat.le_of_ble_eq_true rfl)
  rw [lg_entry_eq]
  generalize (lg_sl ([.ref (q 0), .int p0]) ++ List.replicate (2 - (lg_sl ([.ref (q 0), .int p0])).length) Slot.unset).toArray = ls at hl ⊢
  have hl : lv_has ls 2 [(0, .ref (q 0)), (1, .int p0)] := hl
  suffices hh : ∀ (H : Heap) (locs : List Loc), va_P (dC, dI) vwCl (WX1 cB cI q n a) H → va_S A s.heap H locs → W p l e (headSpec wsX1_groups ({ frames := 2, cells := 0, slots := 0, locals := 41 })).room s m ([.ref (q 0), .int p0] : List Value).toArray below meth c H locs 0 0 (MQ below (va_Qi (fun (r : Int32) (u : SX) => r = ansG gO (n 0 - n 1) p0 ∧ u = (n, a)) (BX1 dC dI cB cI q A) A) ([.ref (q 0), .int p0] : List Value).toArray s 0 0 A) (F0 m 0 ls []) from hh _ _ hP va_S.rf
  clear hP
  intro H locs hP hS
  obtain ⟨⟨y0, y1, y10, y2, y3⟩, yg, yg4, yv, yv4⟩ := id hY
  refine lv_aload_n hx hb dX1_groups_0 rfl (lv_at hl 0 rfl) ?_
  refine lv_iload_n hx hb dX1_groups_1 rfl (lv_at hl 1 rfl) ?_
  refine sX1i (As := [.int p0]) (rest := []) ⟨hx, hb, hml, hown, hts⟩ (metX1_missing l dC dI cB cI q H.size n a p0 gO vO hY) (cwV 1 hts (lw_V q227 q229 qs8 q14 q230) rfl rfl rfl (by decide +kernel) ⟨Nat.le_of_ble_eq_true rfl, Nat.le_of_ble_eq_true rfl⟩) hK hP hD hS hA rfl hl.1 rfl (Nat.le_of_ble_eq_true rfl) dX1_groups_2 ⟨Nat.zero_le _, Nat.zero_le _⟩ (fun r1 u H locs hpost hP hD hS => ?_)
  obtain ⟨e1, rfl⟩ := hpost
  have hP : va_P (dC, dI) vwCl (WX1 cB cI q n a) H := hP
  have hD : va_D A (WX1 cB cI q n a) := hD
  refine lv_if_eq (tgt := 12) hx hb dX1_groups_5 (by decide) (fun c_5 => ?_) (fun c_5 => ?_)
  · have hin : ¬ outR p0 (n 0 - n 1) := by rw [e1] at c_5; exact ite10.mp c_5
    obtain ⟨R, hR, hp⟩ := outR_ex hin (by omega)
    rw [hp] at hl
    refine lv_aload_n hx hb dX1_groups_12 rfl (lv_at hl 0 rfl) ?_
    refine gX1 (v := .ref (q 3)) hx hb hts hown hK hP 6 (by decide) q179 rfl dX1_groups_13 ?_
    refine lv_iload_n hx hb dX1_groups_16 rfl (lv_at hl 1 rfl) ?_
    refine xa_ild (v := (nI (gO R))) hx hb hK hP 3 1 rfl rfl R (by omega) (by decide) (yg _ (by omega)) dX1_groups_17 ?_
    exact W.iret (v := (nI (gO R))) hx hb hr (fun t9 ht hW => ⟨⟨(nI (gO R)), (n, a), rfl, ⟨by rw [ansG, if_neg hin, hp, cl_nI (by omega)], rfl⟩, by rw [ht]; exact hP, va_K.moved hW.alike hK, hD⟩, hS.F ht⟩) hS.2.2 dX1_groups_18
  · have ho : outR p0 (n 0 - n 1) := by
      by_cases hq : outR p0 (n 0 - n 1)
      · exact hq
      · exact absurd (by rw [e1]; exact if_neg hq) c_5
    refine lv_iconst (v := (-1)) hx hb dX1_groups_8 (by decide) ?_
    refine lv_goto (tgt := 18) hx hb dX1_groups_9 (by decide) ?_
    exact W.iret (v := (-1)) hx hb hr (fun t9 ht hW => ⟨⟨(-1), (n, a), rfl, ⟨(if_pos ho).symm, rfl⟩, by rw [ht]; exact hP, va_K.moved hW.alike hK, hD⟩, hS.F ht⟩) hS.2.2 dX1_groups_18
abbrev wsX1_hasNote : List Cond := ws_ yX1_hasNote cX1_hasNote 2 (some .int)
set_option maxHeartbeats 4000000 in
set_option maxRecDepth 100000 in
theorem metX1_hasNote (l : Launch) (dC : Nat → ClassId) (dI : Nat → Nat → Nat) (cB cI : ClassId) (q : Nat → Nat) (sz : Nat) (n : Nat → Nat) (a : Nat → Nat → Int32) (p0 : Int32) (gO vO : Nat → Nat) (hY : YI gO vO n a) : Met l yX1_hasNote wsX1_hasNote ({ frames := 2, cells := 0, slots := 0, locals := 41 }) (va_Pc [.ref (q 0), .int p0] (PX1 dC dI cB cI q n a sz)) (va_Qi (fun (r : Int32) (u : SX) => r = ansH (a 1) (n 0 - n 1) p0 ∧ u = (n, a)) (BX1 dC dI cB cI q (va_A (WX1 cB cI q n a) sz)) (va_A (WX1 cB cI q n a) sz)) 0 0 (va_A (WX1 cB cI q n a) sz) := by
  refine Met.ofW (cc := cX1_hasNote) (maxL := 2) (ret := (some .int)) (by decide) rfl ?_
  intro p e s m args below meth c s₁ B hml hv
  obtain ⟨rfl, hsz, hP, hK, hD0⟩ := hv
  have hx := B.exec
  have hb := B.bytes
  have hr := B.returns
  have hts := atoms_spec (ws := wsX1_hasNote) B.pre
  have hts : ∀ w ∈ lw_all, w.before _ s = true := fun w h => hts w (List.mem_cons_of_mem _ h)
  have hown : s.vm.findClass RX1 = some m.cls := findClass_of_methodNamed B.named
  have hlocks := B.notSynchronized
  subst hsz
  have hD := hD0.self (sz := s.heap.size)
  generalize hAe : va_A (WX1 cB cI q n a) s.heap.size = A at hD ⊢
  have hA : ∀ q : Nat, s.heap.size ≤ q → A q := fun q h => by rw [← hAe]; exact Or.inr h
  have hl := lv_entry ([.ref (q 0), .int p0]) (n := 2) (Nat.le_of_ble_eq_true rfl)
  rw [lg_entry_eq]
  generalize (lg_sl ([.ref (q 0), .int p0]) ++ List.replicate (2 - (lg_sl ([.ref (q 0), .int p0])).length) Slot.unset).toArray = ls at hl ⊢
  have hl : lv_has ls 2 [(0, .ref (q 0)), (1, .int p0)] := hl
  suffices hh : ∀ (H : Heap) (locs : List Loc), va_P (dC, dI) vwCl (WX1 cB cI q n a) H → va_S A s.heap H locs → W p l e (headSpec wsX1_hasNote ({ frames := 2, cells := 0, slots := 0, locals := 41 })).room s m ([.ref (q 0), .int p0] : List Value).toArray below meth c H locs 0 0 (MQ below (va_Qi (fun (r : Int32) (u : SX) => r = ansH (a 1) (n 0 - n 1) p0 ∧ u = (n, a)) (BX1 dC dI cB cI q A) A) ([.ref (q 0), .int p0] : List Value).toArray s 0 0 A) (F0 m 0 ls []) from hh _ _ hP va_S.rf
  clear hP
  intro H locs hP hS
  obtain ⟨⟨y0, y1, y10, y2, y3⟩, yg, yg4, yv, yv4⟩ := id hY
  refine lv_aload_n hx hb dX1_hasNote_0 rfl (lv_at hl 0 rfl) ?_
  refine lv_iload_n hx hb dX1_hasNote_1 rfl (lv_at hl 1 rfl) ?_
  refine sX1i (As := [.int p0]) (rest := []) ⟨hx, hb, hml, hown, hts⟩ (metX1_missing l dC dI cB cI q H.size n a p0 gO vO hY) (cwV 1 hts (lw_V q227 q229 qs8 q14 q230) rfl rfl rfl (by decide +kernel) ⟨Nat.le_of_ble_eq_true rfl, Nat.le_of_ble_eq_true rfl⟩) hK hP hD hS hA rfl hl.1 rfl (Nat.le_of_ble_eq_true rfl) dX1_hasNote_2 ⟨Nat.zero_le _, Nat.zero_le _⟩ (fun r1 u H locs hpost hP hD hS => ?_)
  obtain ⟨e1, rfl⟩ := hpost
  have hP : va_P (dC, dI) vwCl (WX1 cB cI q n a) H := hP
  have hD : va_D A (WX1 cB cI q n a) := hD
  refine lv_if_eq (tgt := 10) hx hb dX1_hasNote_5 (by decide) (fun c_5 => ?_) (fun c_5 => ?_)
  · have hin : ¬ outR p0 (n 0 - n 1) := by rw [e1] at c_5; exact ite10.mp c_5
    obtain ⟨R, hR, hp⟩ := outR_ex hin (by omega)
    rw [hp] at hl
    refine lv_aload_n hx hb dX1_hasNote_10 rfl (lv_at hl 0 rfl) ?_
    refine gX1 (v := .ref (q 1)) hx hb hts hown hK hP 4 (by decide) q177 rfl dX1_hasNote_11 ?_
    refine lv_iload_n hx hb dX1_hasNote_14 rfl (lv_at hl 1 rfl) ?_
    refine xa_zld (v := (a 1 R)) hx hb hK hP 1 0 rfl rfl R (by omega) (by decide) rfl dX1_hasNote_15 ?_
    have K24 : ∀ v_24 : Nat, v_24 = (if a 1 R = 0 then 0 else 1) → W p l e (headSpec wsX1_hasNote ({ frames := 2, cells := 0, slots := 0, locals := 41 })).room s m ([.ref (q 0), .int p0] : List Value).toArray below meth c H locs 0 0 (MQ below (va_Qi (fun (r : Int32) (u : SX) => r = ansH (a 1) (n 0 - n 1) p0 ∧ u = (n, a)) (BX1 dC dI cB cI q A) A) ([.ref (q 0), .int p0] : List Value).toArray s 0 0 A) (F0 m 24 ls [.int (nI v_24)]) := by
      intro v_24 hv_24
      obtain rfl : v_24 = (if a 1 R = 0 then 0 else 1) := hv_24
      exact W.iret (v := (nI (if a 1 R = 0 then 0 else 1))) hx hb hr (fun t9 ht hW => ⟨⟨(nI (if a 1 R = 0 then 0 else 1)), (n, a), rfl, ⟨by rw [ansH, if_neg hin, hp, cl_nI (by omega)], rfl⟩, by rw [ht]; exact hP, va_K.moved hW.alike hK, hD⟩, hS.F ht⟩) hS.2.2 dX1_hasNote_24
    refine lv_if_eq (tgt := 23) hx hb dX1_hasNote_16 (by decide) (fun c_16 => ?_) (fun c_16 => ?_)
    · refine lv_iconst (v := (nI 0)) hx hb dX1_hasNote_23 (by decide) ?_
      exact K24 0 (by first | exact (if_pos c_16).symm | exact (if_neg c_16).symm | exact (if_pos (by omega)).symm | exact (if_neg (by omega)).symm)
    · refine lv_iconst (v := (nI 1)) hx hb dX1_hasNote_19 (by decide) ?_
      refine lv_goto (tgt := 24) hx hb dX1_hasNote_20 (by decide) ?_
      exact K24 1 (by first | exact (if_pos c_16).symm | exact (if_neg c_16).symm | exact (if_pos (by omega)).symm | exact (if_neg (by omega)).symm)
  · have ho : outR p0 (n 0 - n 1) := by
      by_cases hq : outR p0 (n 0 - n 1)
      · exact hq
      · exact absurd (by rw [e1]; exact if_neg hq) c_5
    refine lv_iconst (v := (-1)) hx hb dX1_hasNote_8 (by decide) ?_
    exact W.iret (v := (-1)) hx hb hr (fun t9 ht hW => ⟨⟨(-1), (n, a), rfl, ⟨(if_pos ho).symm, rfl⟩, by rw [ht]; exact hP, va_K.moved hW.alike hK, hD⟩, hS.F ht⟩) hS.2.2 dX1_hasNote_9
abbrev wsX1_values : List Cond := ws_ yX1_values cX1_values 3 (some .int)
set_option maxHeartbeats 4000000 in
set_option maxRecDepth 100000 in
theorem metX1_values (l : Launch) (dC : Nat → ClassId) (dI : Nat → Nat → Nat) (cB cI : ClassId) (q : Nat → Nat) (sz : Nat) (n : Nat → Nat) (a : Nat → Nat → Int32) (p0 p1 : Int32) (gO vO : Nat → Nat) (hY : YI gO vO n a) : Met l yX1_values wsX1_values ({ frames := 3, cells := 0, slots := 0, locals := 63 }) (va_Pc [.ref (q 0), .int p0, .int p1] (PX1 dC dI cB cI q n a sz)) (va_Qi (fun (r : Int32) (u : SX) => r = ansV gO (fun R G => vO (4 * R + G)) (n 0 - n 1) p0 p1 ∧ u = (n, a)) (BX1 dC dI cB cI q (va_A (WX1 cB cI q n a) sz)) (va_A (WX1 cB cI q n a) sz)) 0 0 (va_A (WX1 cB cI q n a) sz) := by
  refine Met.ofW (cc := cX1_values) (maxL := 3) (ret := (some .int)) (by decide) rfl ?_
  intro p e s m args below meth c s₁ B hml hv
  obtain ⟨rfl, hsz, hP, hK, hD0⟩ := hv
  have hx := B.exec
  have hb := B.bytes
  have hr := B.returns
  have hts := atoms_spec (ws := wsX1_values) B.pre
  have hts : ∀ w ∈ lw_all, w.before _ s = true := fun w h => hts w (List.mem_cons_of_mem _ h)
  have hown : s.vm.findClass RX1 = some m.cls := findClass_of_methodNamed B.named
  have hlocks := B.notSynchronized
  subst hsz
  have hD := hD0.self (sz := s.heap.size)
  generalize hAe : va_A (WX1 cB cI q n a) s.heap.size = A at hD ⊢
  have hA : ∀ q : Nat, s.heap.size ≤ q → A q := fun q h => by rw [← hAe]; exact Or.inr h
  have hl := lv_entry ([.ref (q 0), .int p0, .int p1]) (n := 3) (Nat.le_of_ble_eq_true rfl)
  rw [lg_entry_eq]
  generalize (lg_sl ([.ref (q 0), .int p0, .int p1]) ++ List.replicate (3 - (lg_sl ([.ref (q 0), .int p0, .int p1])).length) Slot.unset).toArray = ls at hl ⊢
  have hl : lv_has ls 3 [(0, .ref (q 0)), (1, .int p0), (2, .int p1)] := hl
  suffices hh : ∀ (H : Heap) (locs : List Loc), va_P (dC, dI) vwCl (WX1 cB cI q n a) H → va_S A s.heap H locs → W p l e (headSpec wsX1_values ({ frames := 3, cells := 0, slots := 0, locals := 63 })).room s m ([.ref (q 0), .int p0, .int p1] : List Value).toArray below meth c H locs 0 0 (MQ below (va_Qi (fun (r : Int32) (u : SX) => r = ansV gO (fun R G => vO (4 * R + G)) (n 0 - n 1) p0 p1 ∧ u = (n, a)) (BX1 dC dI cB cI q A) A) ([.ref (q 0), .int p0, .int p1] : List Value).toArray s 0 0 A) (F0 m 0 ls []) from hh _ _ hP va_S.rf
  clear hP
  intro H locs hP hS
  obtain ⟨⟨y0, y1, y10, y2, y3⟩, yg, yg4, yv, yv4⟩ := id hY
  refine lv_aload_n hx hb dX1_values_0 rfl (lv_at hl 0 rfl) ?_
  refine lv_iload_n hx hb dX1_values_1 rfl (lv_at hl 1 rfl) ?_
  refine lv_iload_n hx hb dX1_values_2 rfl (lv_at hl 2 rfl) ?_
  refine sX1i (As := [.int p0, .int p1]) (rest := []) ⟨hx, hb, hml, hown, hts⟩ (metX1_noGroup l dC dI cB cI q H.size n a p0 p1 gO vO hY) (cwV 2 hts (lw_V q239 q241 qs10 q14 q242) rfl rfl rfl (by decide +kernel) ⟨Nat.le_of_ble_eq_true rfl, Nat.le_of_ble_eq_true rfl⟩) hK hP hD hS hA rfl hl.1 rfl (Nat.le_of_ble_eq_true rfl) dX1_values_3 ⟨Nat.zero_le _, Nat.zero_le _⟩ (fun r2 u H locs hpost hP hD hS => ?_)
  obtain ⟨e2, rfl⟩ := hpost
  have hP : va_P (dC, dI) vwCl (WX1 cB cI q n a) H := hP
  have hD : va_D A (WX1 cB cI q n a) := hD
  refine lv_if_eq (tgt := 13) hx hb dX1_values_6 (by decide) (fun c_6 => ?_) (fun c_6 => ?_)
  · have hin : ¬ outG gO (n 0 - n 1) p0 p1 := by rw [e2] at c_6; exact ite10.mp c_6
    obtain ⟨R, G, hR, hG, hp, hz⟩ := outG_ex hin (by omega) yg4
    have ygR := yg4 R
    rw [hp, hz] at hl
    refine lv_aload_n hx hb dX1_values_13 rfl (lv_at hl 0 rfl) ?_
    refine gX1 (v := .ref (q 6)) hx hb hts hown hK hP 9 (by decide) q182 rfl dX1_values_14 ?_
    refine lv_iconst (v := (nI 4)) hx hb dX1_values_17 (by decide) ?_
    refine lv_iload_n hx hb dX1_values_18 rfl (lv_at hl 1 rfl) ?_
    refine xn_imul hx hb dX1_values_19 ?_
    refine lv_iload_n hx hb dX1_values_20 rfl (lv_at hl 2 rfl) ?_
    refine xn_iadd hx hb dX1_values_21 ?_
    refine xa_ild (v := (nI (vO (4 * R + G)))) hx hb hK hP 6 1 rfl rfl (4 * R + G) (by omega) (by decide) (yv _ (by omega)) dX1_values_22 ?_
    exact W.iret (v := (nI (vO (4 * R + G)))) hx hb hr (fun t9 ht hW => ⟨⟨(nI (vO (4 * R + G))), (n, a), rfl, ⟨by rw [ansV, if_neg hin, hp, hz, cl_nI (by omega), cl_nI (by omega)], rfl⟩, by rw [ht]; exact hP, va_K.moved hW.alike hK, hD⟩, hS.F ht⟩) hS.2.2 dX1_values_23
  · have ho : outG gO (n 0 - n 1) p0 p1 := by
      by_cases hq : outG gO (n 0 - n 1) p0 p1
      · exact hq
      · exact absurd (by rw [e2]; exact if_neg hq) c_6
    refine lv_iconst (v := (-1)) hx hb dX1_values_9 (by decide) ?_
    refine lv_goto (tgt := 23) hx hb dX1_values_10 (by decide) ?_
    exact W.iret (v := (-1)) hx hb hr (fun t9 ht hW => ⟨⟨(-1), (n, a), rfl, ⟨(if_pos ho).symm, rfl⟩, by rw [ht]; exact hP, va_K.moved hW.alike hK, hD⟩, hS.F ht⟩) hS.2.2 dX1_values_23
abbrev wsX1_valueAt : List Cond := ws_ yX1_valueAt cX1_valueAt 4 (some .int)
set_option maxHeartbeats 4000000 in
set_option maxRecDepth 100000 in
theorem metX1_valueAt (l : Launch) (dC : Nat → ClassId) (dI : Nat → Nat → Nat) (cB cI : ClassId) (q : Nat → Nat) (sz : Nat) (n : Nat → Nat) (a : Nat → Nat → Int32) (p0 p1 p2 : Int32) (gO vO : Nat → Nat) (hY : YI gO vO n a) : Met l yX1_valueAt wsX1_valueAt ({ frames := 3, cells := 0, slots := 0, locals := 63 }) (va_Pc [.ref (q 0), .int p0, .int p1, .int p2] (PX1 dC dI cB cI q n a sz)) (va_Qi (fun (r : Int32) (u : SX) => r = ansA gO (fun R G => vO (4 * R + G)) (fun R G k => a 7 (16 * R + 4 * G + k)) (n 0 - n 1) p0 p1 p2 ∧ u = (n, a)) (BX1 dC dI cB cI q (va_A (WX1 cB cI q n a) sz)) (va_A (WX1 cB cI q n a) sz)) 0 0 (va_A (WX1 cB cI q n a) sz) := by
  refine Met.ofW (cc := cX1_valueAt) (maxL := 4) (ret := (some .int)) (by decide) rfl ?_
  intro p e s m args below meth c s₁ B hml hv
  obtain ⟨rfl, hsz, hP, hK, hD0⟩ := hv
  have hx := B.exec
  have hb := B.bytes
  have hr := B.returns
  have hts := atoms_spec (ws := wsX1_valueAt) B.pre
  have hts : ∀ w ∈ lw_all, w.before _ s = true := fun w h => hts w (List.mem_cons_of_mem _ h)
  have hown : s.vm.findClass RX1 = some m.cls := findClass_of_methodNamed B.named
  have hlocks := B.notSynchronized
  subst hsz
  have hD := hD0.self (sz := s.heap.size)
  generalize hAe : va_A (WX1 cB cI q n a) s.heap.size = A at hD ⊢
  have hA : ∀ q : Nat, s.heap.size ≤ q → A q := fun q h => by rw [← hAe]; exact Or.inr h
  have hl := lv_entry ([.ref (q 0), .int p0, .int p1, .int p2]) (n := 4) (Nat.le_of_ble_eq_true rfl)
  rw [lg_entry_eq]
  generalize (lg_sl ([.ref (q 0), .int p0, .int p1, .int p2]) ++ List.replicate (4 - (lg_sl ([.ref (q 0), .int p0, .int p1, .int p2])).length) Slot.unset).toArray = ls at hl ⊢
  have hl : lv_has ls 4 [(0, .ref (q 0)), (1, .int p0), (2, .int p1), (3, .int p2)] := hl
  suffices hh : ∀ (H : Heap) (locs : List Loc), va_P (dC, dI) vwCl (WX1 cB cI q n a) H → va_S A s.heap H locs → W p l e (headSpec wsX1_valueAt ({ frames := 3, cells := 0, slots := 0, locals := 63 })).room s m ([.ref (q 0), .int p0, .int p1, .int p2] : List Value).toArray below meth c H locs 0 0 (MQ below (va_Qi (fun (r : Int32) (u : SX) => r = ansA gO (fun R G => vO (4 * R + G)) (fun R G k => a 7 (16 * R + 4 * G + k)) (n 0 - n 1) p0 p1 p2 ∧ u = (n, a)) (BX1 dC dI cB cI q A) A) ([.ref (q 0), .int p0, .int p1, .int p2] : List Value).toArray s 0 0 A) (F0 m 0 ls []) from hh _ _ hP va_S.rf
  clear hP
  intro H locs hP hS
  obtain ⟨⟨y0, y1, y10, y2, y3⟩, yg, yg4, yv, yv4⟩ := id hY
  refine lv_aload_n hx hb dX1_valueAt_0 rfl (lv_at hl 0 rfl) ?_
  refine lv_iload_n hx hb dX1_valueAt_1 rfl (lv_at hl 1 rfl) ?_
  refine lv_iload_n hx hb dX1_valueAt_2 rfl (lv_at hl 2 rfl) ?_
  refine sX1i (As := [.int p0, .int p1]) (rest := []) ⟨hx, hb, hml, hown, hts⟩ (metX1_noGroup l dC dI cB cI q H.size n a p0 p1 gO vO hY) (cwV 2 hts (lw_V q239 q241 qs10 q14 q242) rfl rfl rfl (by decide +kernel) ⟨Nat.le_of_ble_eq_true rfl, Nat.le_of_ble_eq_true rfl⟩) hK hP hD hS hA rfl hl.1 rfl (Nat.le_of_ble_eq_true rfl) dX1_valueAt_3 ⟨Nat.zero_le _, Nat.zero_le _⟩ (fun r2 u H locs hpost hP hD hS => ?_)
  obtain ⟨e2, rfl⟩ := hpost
  have hP : va_P (dC, dI) vwCl (WX1 cB cI q n a) H := hP
  have hD : va_D A (WX1 cB cI q n a) := hD
  refine lv_if_ne (tgt := 27) hx hb dX1_valueAt_6 (by decide) (fun c_6 => ?_) (fun c_6 => ?_)
  · have ho : outG gO (n 0 - n 1) p0 p1 := by
      by_cases hq : outG gO (n 0 - n 1) p0 p1
      · exact hq
      · exact absurd (by rw [e2]; exact if_neg hq) c_6
    refine lv_iconst (v := (nI 0)) hx hb dX1_valueAt_27 (by decide) ?_
    exact W.iret (v := (nI 0)) hx hb hr (fun t9 ht hW => ⟨⟨(nI 0), (n, a), rfl, ⟨(if_pos (Or.inl ho)).symm, rfl⟩, by rw [ht]; exact hP, va_K.moved hW.alike hK, hD⟩, hS.F ht⟩) hS.2.2 dX1_valueAt_28
  · have hin : ¬ outG gO (n 0 - n 1) p0 p1 := by rw [e2] at c_6; exact ite10.mp c_6
    obtain ⟨R, G, hR, hG, hp, hz⟩ := outG_ex hin (by omega) yg4
    have ygR := yg4 R
    rw [hp, hz] at hl
    have yvR := yv4 (4 * R + G)
    have hcv : vO (4 * p0.toNatClampNeg + p1.toNatClampNeg) = vO (4 * R + G) := by rw [hp, hz, cl_nI (by omega), cl_nI (by omega)]
    refine lv_iload_n hx hb dX1_valueAt_9 rfl (lv_at hl 3 rfl) ?_
    refine lv_if_lt (tgt := 27) hx hb dX1_valueAt_10 (by decide) (fun c_10 => ?_) (fun c_10 => ?_)
    · refine lv_iconst (v := (nI 0)) hx hb dX1_valueAt_27 (by decide) ?_
      exact W.iret (v := (nI 0)) hx hb hr (fun t9 ht hW => ⟨⟨(nI 0), (n, a), rfl, ⟨(if_pos (Or.inr (Or.inl c_10))).symm, rfl⟩, by rw [ht]; exact hP, va_K.moved hW.alike hK, hD⟩, hS.F ht⟩) hS.2.2 dX1_valueAt_28
    · refine lv_iload_n hx hb dX1_valueAt_13 rfl (lv_at hl 3 rfl) ?_
      refine lv_aload_n hx hb dX1_valueAt_14 rfl (lv_at hl 0 rfl) ?_
      refine gX1 (v := .ref (q 6)) hx hb hts hown hK hP 9 (by decide) q182 rfl dX1_valueAt_15 ?_
      refine lv_iconst (v := (nI 4)) hx hb dX1_valueAt_18 (by decide) ?_
      refine lv_iload_n hx hb dX1_valueAt_19 rfl (lv_at hl 1 rfl) ?_
      refine xn_imul hx hb dX1_valueAt_20 ?_
      refine lv_iload_n hx hb dX1_valueAt_21 rfl (lv_at hl 2 rfl) ?_
      refine xn_iadd hx hb dX1_valueAt_22 ?_
      refine xa_ild (v := (nI (vO (4 * R + G)))) hx hb hK hP 6 1 rfl rfl (4 * R + G) (by omega) (by decide) (yv _ (by omega)) dX1_valueAt_23 ?_
      refine lv_icmp_lt (tgt := 29) hx hb dX1_valueAt_24 (by decide) (fun c_24 => ?_) (fun c_24 => ?_)
      · have hin2 : ¬ outR p2 (vO (4 * R + G)) := fun h => h.elim c_10 (fun h => absurd c_24 (Int32.not_lt.mpr h))
        obtain ⟨k2, hk2, hy⟩ := outR_ex hin2 (by omega)
        rw [hy] at hl
        refine lv_aload_n hx hb dX1_valueAt_29 rfl (lv_at hl 0 rfl) ?_
        refine gX1 (v := .ref (q 7)) hx hb hts hown hK hP 10 (by decide) q183 rfl dX1_valueAt_30 ?_
        refine lv_bipush (v := (nI 16)) hx hb dX1_valueAt_33 (by decide) ?_
        refine lv_iload_n hx hb dX1_valueAt_35 rfl (lv_at hl 1 rfl) ?_
        refine xn_imul hx hb dX1_valueAt_36 ?_
        refine lv_iconst (v := (nI 4)) hx hb dX1_valueAt_37 (by decide) ?_
        refine lv_iload_n hx hb dX1_valueAt_38 rfl (lv_at hl 2 rfl) ?_
        refine xn_imul hx hb dX1_valueAt_39 ?_
        refine xn_iadd hx hb dX1_valueAt_40 ?_
        refine lv_iload_n hx hb dX1_valueAt_41 rfl (lv_at hl 3 rfl) ?_
        refine xn_iadd hx hb dX1_valueAt_42 ?_
        refine xa_ild (v := (a 7 (16 * R + (4 * G) + k2))) hx hb hK hP 7 1 rfl rfl (16 * R + (4 * G) + k2) (by omega) (by decide) rfl dX1_valueAt_43 ?_
        exact W.iret (v := (a 7 (16 * R + (4 * G) + k2))) hx hb hr (fun t9 ht hW => ⟨⟨(a 7 (16 * R + (4 * G) + k2)), (n, a), rfl, ⟨by rw [ansA, if_neg (fun h => h.elim hin (fun h => hin2 (by rw [hcv] at h; exact h))), hp, hz, hy, cl_nI (by omega), cl_nI (by omega), cl_nI (by omega)], rfl⟩, by rw [ht]; exact hP, va_K.moved hW.alike hK, hD⟩, hS.F ht⟩) hS.2.2 dX1_valueAt_44
      · refine lv_iconst (v := (nI 0)) hx hb dX1_valueAt_27 (by decide) ?_
        exact W.iret (v := (nI 0)) hx hb hr (fun t9 ht hW => ⟨⟨(nI 0), (n, a), rfl, ⟨(if_pos (Or.inr (Or.inr (by dsimp only; rw [hcv]; exact Int32.not_lt.mp c_24)))).symm, rfl⟩, by rw [ht]; exact hP, va_K.moved hW.alike hK, hD⟩, hS.F ht⟩) hS.2.2 dX1_valueAt_28
abbrev wsX1_label : List Cond := ws_ yX1_label cX1_label 3 (some .int)
set_option maxHeartbeats 4000000 in
set_option maxRecDepth 100000 in
theorem metX1_label (l : Launch) (dC : Nat → ClassId) (dI : Nat → Nat → Nat) (cB cI : ClassId) (q : Nat → Nat) (sz : Nat) (n : Nat → Nat) (a : Nat → Nat → Int32) (p0 p1 : Int32) (gO vO : Nat → Nat) (hY : YI gO vO n a) : Met l yX1_label wsX1_label ({ frames := 3, cells := 0, slots := 0, locals := 63 }) (va_Pc [.ref (q 0), .int p0, .int p1] (PX1 dC dI cB cI q n a sz)) (va_Qi (fun (r : Int32) (u : SX) => r = ansL gO (a 2) (fun R G => a 5 (4 * R + G)) (n 0 - n 1) p0 p1 ∧ u = (n, a)) (BX1 dC dI cB cI q (va_A (WX1 cB cI q n a) sz)) (va_A (WX1 cB cI q n a) sz)) 0 0 (va_A (WX1 cB cI q n a) sz) := by
  refine Met.ofW (cc := cX1_label) (maxL := 3) (ret := (some .int)) (by decide) rfl ?_
  intro p e s m args below meth c s₁ B hml hv
  obtain ⟨rfl, hsz, hP, hK, hD0⟩ := hv
  have hx := B.exec
  have hb := B.bytes
  have hr := B.returns
  have hts := atoms_spec (ws := wsX1_label) B.pre
  have hts : ∀ w ∈ lw_all, w.before _ s = true := fun w h => hts w (List.mem_cons_of_mem _ h)
  have hown : s.vm.findClass RX1 = some m.cls := findClass_of_methodNamed B.named
  have hlocks := B.notSynchronized
  subst hsz
  have hD := hD0.self (sz := s.heap.size)
  generalize hAe : va_A (WX1 cB cI q n a) s.heap.size = A at hD ⊢
  have hA : ∀ q : Nat, s.heap.size ≤ q → A q := fun q h => by rw [← hAe]; exact Or.inr h
  have hl := lv_entry ([.ref (q 0), .int p0, .int p1]) (n := 3) (Nat.le_of_ble_eq_true rfl)
  rw [lg_entry_eq]
  generalize (lg_sl ([.ref (q 0), .int p0, .int p1]) ++ List.replicate (3 - (lg_sl ([.ref (q 0), .int p0, .int p1])).length) Slot.unset).toArray = ls at hl ⊢
  have hl : lv_has ls 3 [(0, .ref (q 0)), (1, .int p0), (2, .int p1)] := hl
  suffices hh : ∀ (H : Heap) (locs : List Loc), va_P (dC, dI) vwCl (WX1 cB cI q n a) H → va_S A s.heap H locs → W p l e (headSpec wsX1_label ({ frames := 3, cells := 0, slots := 0, locals := 63 })).room s m ([.ref (q 0), .int p0, .int p1] : List Value).toArray below meth c H locs 0 0 (MQ below (va_Qi (fun (r : Int32) (u : SX) => r = ansL gO (a 2) (fun R G => a 5 (4 * R + G)) (n 0 - n 1) p0 p1 ∧ u = (n, a)) (BX1 dC dI cB cI q A) A) ([.ref (q 0), .int p0, .int p1] : List Value).toArray s 0 0 A) (F0 m 0 ls []) from hh _ _ hP va_S.rf
  clear hP
  intro H locs hP hS
  obtain ⟨⟨y0, y1, y10, y2, y3⟩, yg, yg4, yv, yv4⟩ := id hY
  refine lv_aload_n hx hb dX1_label_0 rfl (lv_at hl 0 rfl) ?_
  refine lv_iload_n hx hb dX1_label_1 rfl (lv_at hl 1 rfl) ?_
  refine sX1i (As := [.int p0]) (rest := []) ⟨hx, hb, hml, hown, hts⟩ (metX1_missing l dC dI cB cI q H.size n a p0 gO vO hY) (cwV 1 hts (lw_V q227 q229 qs8 q14 q230) rfl rfl rfl (by decide +kernel) ⟨Nat.le_of_ble_eq_true rfl, Nat.le_of_ble_eq_true rfl⟩) hK hP hD hS hA rfl hl.1 rfl (Nat.le_of_ble_eq_true rfl) dX1_label_2 ⟨Nat.zero_le _, Nat.zero_le _⟩ (fun r1 u H locs hpost hP hD hS => ?_)
  obtain ⟨e1, rfl⟩ := hpost
  have hP : va_P (dC, dI) vwCl (WX1 cB cI q n a) H := hP
  have hD : va_D A (WX1 cB cI q n a) := hD
  refine lv_if_eq (tgt := 10) hx hb dX1_label_5 (by decide) (fun c_5 => ?_) (fun c_5 => ?_)
  · have hin : ¬ outR p0 (n 0 - n 1) := by rw [e1] at c_5; exact ite10.mp c_5
    have hin0 := hin
    refine lv_iload_n hx hb dX1_label_10 rfl (lv_at hl 2 rfl) ?_
    refine lv_iconst (v := (-1)) hx hb dX1_label_11 (by decide) ?_
    refine lv_icmp_ne (tgt := 22) hx hb dX1_label_12 (by decide) (fun c_12 => ?_) (fun c_12 => ?_)
    · refine lv_aload_n hx hb dX1_label_22 rfl (lv_at hl 0 rfl) ?_
      refine lv_iload_n hx hb dX1_label_23 rfl (lv_at hl 1 rfl) ?_
      refine lv_iload_n hx hb dX1_label_24 rfl (lv_at hl 2 rfl) ?_
      refine sX1i (As := [.int p0, .int p1]) (rest := []) ⟨hx, hb, hml, hown, hts⟩ (metX1_noGroup l dC dI cB cI q H.size n a p0 p1 gO vO hY) (cwV 2 hts (lw_V q239 q241 qs10 q14 q242) rfl rfl rfl (by decide +kernel) ⟨Nat.le_of_ble_eq_true rfl, Nat.le_of_ble_eq_true rfl⟩) hK hP hD hS hA rfl hl.1 rfl (Nat.le_of_ble_eq_true rfl) dX1_label_25 ⟨Nat.zero_le _, Nat.zero_le _⟩ (fun r2 u H locs hpost hP hD hS => ?_)
      obtain ⟨e2, rfl⟩ := hpost
      have hP : va_P (dC, dI) vwCl (WX1 cB cI q n a) H := hP
      have hD : va_D A (WX1 cB cI q n a) := hD
      refine lv_if_eq (tgt := 35) hx hb dX1_label_28 (by decide) (fun c_28 => ?_) (fun c_28 => ?_)
      · have hin : ¬ outG gO (n 0 - n 1) p0 p1 := by rw [e2] at c_28; exact ite10.mp c_28
        obtain ⟨R, G, hR, hG, hp, hz⟩ := outG_ex hin (by omega) yg4
        have ygR := yg4 R
        rw [hp, hz] at hl
        refine lv_aload_n hx hb dX1_label_35 rfl (lv_at hl 0 rfl) ?_
        refine gX1 (v := .ref (q 5)) hx hb hts hown hK hP 8 (by decide) q181 rfl dX1_label_36 ?_
        refine lv_iconst (v := (nI 4)) hx hb dX1_label_39 (by decide) ?_
        refine lv_iload_n hx hb dX1_label_40 rfl (lv_at hl 1 rfl) ?_
        refine xn_imul hx hb dX1_label_41 ?_
        refine lv_iload_n hx hb dX1_label_42 rfl (lv_at hl 2 rfl) ?_
        refine xn_iadd hx hb dX1_label_43 ?_
        refine xa_ild (v := (a 5 (4 * R + G))) hx hb hK hP 5 1 rfl rfl (4 * R + G) (by omega) (by decide) rfl dX1_label_44 ?_
        exact W.iret (v := (a 5 (4 * R + G))) hx hb hr (fun t9 ht hW => ⟨⟨(a 5 (4 * R + G)), (n, a), rfl, ⟨by rw [ansL, if_neg hin0, if_neg c_12, if_neg (fun h => hin (Or.inr h)), hp, hz, cl_nI (by omega), cl_nI (by omega)], rfl⟩, by rw [ht]; exact hP, va_K.moved hW.alike hK, hD⟩, hS.F ht⟩) hS.2.2 dX1_label_45
      · have ho : outG gO (n 0 - n 1) p0 p1 := by
          by_cases hq : outG gO (n 0 - n 1) p0 p1
          · exact hq
          · exact absurd (by rw [e2]; exact if_neg hq) c_28
        have ho := ho.resolve_left hin0
        refine lv_iconst (v := (nI 0)) hx hb dX1_label_31 (by decide) ?_
        refine lv_goto (tgt := 45) hx hb dX1_label_32 (by decide) ?_
        exact W.iret (v := (nI 0)) hx hb hr (fun t9 ht hW => ⟨⟨(nI 0), (n, a), rfl, ⟨by rw [ansL, if_neg hin0, if_neg c_12, if_pos ho]; rfl, rfl⟩, by rw [ht]; exact hP, va_K.moved hW.alike hK, hD⟩, hS.F ht⟩) hS.2.2 dX1_label_45
    · have hin : ¬ outR p0 (n 0 - n 1) := by rw [e1] at c_5; exact ite10.mp c_5
      obtain ⟨R, hR, hp⟩ := outR_ex hin (by omega)
      rw [hp] at hl
      refine lv_aload_n hx hb dX1_label_15 rfl (lv_at hl 0 rfl) ?_
      refine gX1 (v := .ref (q 2)) hx hb hts hown hK hP 5 (by decide) q178 rfl dX1_label_16 ?_
      refine lv_iload_n hx hb dX1_label_19 rfl (lv_at hl 1 rfl) ?_
      refine xa_ild (v := (a 2 R)) hx hb hK hP 2 1 rfl rfl R (by omega) (by decide) rfl dX1_label_20 ?_
      exact W.iret (v := (a 2 R)) hx hb hr (fun t9 ht hW => ⟨⟨(a 2 R), (n, a), rfl, ⟨by rw [ansL, if_neg hin0, if_pos c_12, hp, cl_nI (by omega)], rfl⟩, by rw [ht]; exact hP, va_K.moved hW.alike hK, hD⟩, hS.F ht⟩) hS.2.2 dX1_label_21
  · have ho : outR p0 (n 0 - n 1) := by
      by_cases hq : outR p0 (n 0 - n 1)
      · exact hq
      · exact absurd (by rw [e1]; exact if_neg hq) c_5
    refine lv_iconst (v := (nI 0)) hx hb dX1_label_8 (by decide) ?_
    exact W.iret (v := (nI 0)) hx hb hr (fun t9 ht hW => ⟨⟨(nI 0), (n, a), rfl, ⟨(if_pos ho).symm, rfl⟩, by rw [ht]; exact hP, va_K.moved hW.alike hK, hD⟩, hS.F ht⟩) hS.2.2 dX1_label_9
end
section
set_option maxRecDepth 100000
abbrev wsX1_sumByTag : List Cond := ws_ yX1_sumByTag cX1_sumByTag 6 (some .int)
set_option maxHeartbeats 4000000 in
set_option maxRecDepth 100000 in
theorem metX1_sumByTag (l : Launch) (dC : Nat → ClassId) (dI : Nat → Nat → Nat) (cB cI : ClassId) (q : Nat → Nat) (sz : Nat) (n : Nat → Nat) (a : Nat → Nat → Int32) (p0 : Int32) (gO vO : Nat → Nat) (hY : YI gO vO n a) : Met l yX1_sumByTag wsX1_sumByTag ({ frames := 1, cells := 0, slots := 0, locals := 20 }) (va_Pc [.ref (q 0), .int p0] (PX1 dC dI cB cI q n a sz)) (va_Qi (fun (r : Int32) (u : SX) => r = twS gO vO a p0 (4 * (n 0 - n 1)) ∧ u = (n, a)) (BX1 dC dI cB cI q (va_A (WX1 cB cI q n a) sz)) (va_A (WX1 cB cI q n a) sz)) 0 0 (va_A (WX1 cB cI q n a) sz) := by
  refine Met.ofW (cc := cX1_sumByTag) (maxL := 6) (ret := (some .int)) (by decide) rfl ?_
  intro p e s m args below meth c s₁ B hml hv
  obtain ⟨rfl, hsz, hP, hK, hD0⟩ := hv
  have hx := B.exec
  have hb := B.bytes
  have hr := B.returns
  have hts := atoms_spec (ws := wsX1_sumByTag) B.pre
  have hts : ∀ w ∈ lw_all, w.before _ s = true := fun w h => hts w (List.mem_cons_of_mem _ h)
  have hown : s.vm.findClass RX1 = some m.cls := findClass_of_methodNamed B.named
  have hlocks := B.notSynchronized
  subst hsz
  have hD := hD0.self (sz := s.heap.size)
  generalize hAe : va_A (WX1 cB cI q n a) s.heap.size = A at hD ⊢
  have hA : ∀ q : Nat, s.heap.size ≤ q → A q := fun q h => by rw [← hAe]; exact Or.inr h
  have hl := lv_entry ([.ref (q 0), .int p0]) (n := 6) (Nat.le_of_ble_eq_true rfl)
  rw [lg_entry_eq]
  generalize (lg_sl ([.ref (q 0), .int p0]) ++ List.replicate (6 - (lg_sl ([.ref (q 0), .int p0])).length) Slot.unset).toArray = ls at hl ⊢
  have hl : lv_has ls 6 [(0, .ref (q 0)), (1, .int p0)] := hl
  suffices hh : ∀ (H : Heap) (locs : List Loc), va_P (dC, dI) vwCl (WX1 cB cI q n a) H → va_S A s.heap H locs → W p l e (headSpec wsX1_sumByTag ({ frames := 1, cells := 0, slots := 0, locals := 20 })).room s m ([.ref (q 0), .int p0] : List Value).toArray below meth c H locs 0 0 (MQ below (va_Qi (fun (r : Int32) (u : SX) => r = twS gO vO a p0 (4 * (n 0 - n 1)) ∧ u = (n, a)) (BX1 dC dI cB cI q A) A) ([.ref (q 0), .int p0] : List Value).toArray s 0 0 A) (F0 m 0 ls []) from hh _ _ hP va_S.rf
  clear hP
  intro H locs hP hS
  obtain ⟨⟨y0, y1, y10, y2, y3⟩, yg, yg4, yv, yv4⟩ := id hY
  refine lv_iconst (v := (nI 0)) hx hb dX1_sumByTag_0 (by decide) ?_
  refine lv_istore_n (lv' := [(2, .int (nI 0)), (0, .ref (q 0)), (1, .int p0)]) hx hb dX1_sumByTag_1 rfl hl (by decide) rfl (fun ls hl => ?_)
  refine lv_iconst (v := (nI 0)) hx hb dX1_sumByTag_2 (by decide) ?_
  refine lv_istore_n (lv' := [(3, .int (nI 0)), (2, .int (nI 0)), (0, .ref (q 0)), (1, .int p0)]) hx hb dX1_sumByTag_3 rfl hl (by decide) rfl (fun ls hl => ?_)
  have loop : ∀ (k : Nat) (t : Nat), 4 * (n 0 - n 1) + 1 ≤ t + k → t ≤ 4 * (n 0 - n 1) → ∀ (H : Heap) (locs : List Loc), va_P (dC, dI) vwCl (WX1 cB cI q n a) H → va_D A (WX1 cB cI q n a) → va_S A s.heap H locs → ∀ (ls : Array Slot), lv_has ls 6 [(0, .ref (q 0)), (1, .int p0), (2, .int (twS gO vO a p0 t)), (3, .int (nI t))] → W p l e (headSpec wsX1_sumByTag ({ frames := 1, cells := 0, slots := 0, locals := 20 })).room s m ([.ref (q 0), .int p0] : List Value).toArray below meth c H locs 0 0 (MQ below (va_Qi (fun (r : Int32) (u : SX) => r = twS gO vO a p0 (4 * (n 0 - n 1)) ∧ u = (n, a)) (BX1 dC dI cB cI q A) A) ([.ref (q 0), .int p0] : List Value).toArray s 0 0 A) (F0 m 4 ls []) := by
    intro k
    induction k with
    | zero => intro t hm ht; exact absurd hm (by omega)
    | succ k ihO =>
      intro t hm ht H locs hP hD hS ls hl
      have ygt := yg4 (t / 4)
      have yvt := yv4 t
      refine lv_iload_n hx hb dX1_sumByTag_4 rfl (lv_at hl 3 rfl) ?_
      refine lv_iconst (v := (nI 4)) hx hb dX1_sumByTag_5 (by decide) ?_
      refine lv_aload_n hx hb dX1_sumByTag_6 rfl (lv_at hl 0 rfl) ?_
      refine sX1i (As := []) (rest := [.int (nI 4), .int (nI t)]) ⟨hx, hb, hml, hown, hts⟩ (metX1_ended l dC dI cB cI q H.size n a gO vO hY) (cwV 0 hts (lw_V q231 q233 qs9 q14 q234) rfl rfl rfl (by decide +kernel) ⟨Nat.le_of_ble_eq_true rfl, Nat.le_of_ble_eq_true rfl⟩) hK hP hD hS hA rfl hl.1 rfl (Nat.le_of_ble_eq_true rfl) dX1_sumByTag_7 ⟨Nat.zero_le _, Nat.zero_le _⟩ (fun r1 u H locs hpost hP hD hS => ?_)
      obtain ⟨rfl, rfl⟩ := hpost
      have hP : va_P (dC, dI) vwCl (WX1 cB cI q n a) H := hP
      have hD : va_D A (WX1 cB cI q n a) := hD
      refine xn_imul hx hb dX1_sumByTag_10 ?_
      refine xn_icmp_ge (tgt := 105) hx hb dX1_sumByTag_11 (by decide) (by omega) (by omega) (fun c_11 => ?_) (fun c_11 => ?_)
      · have htN : t = 4 * (n 0 - n 1) := by omega
        refine lv_iload_n hx hb dX1_sumByTag_105 rfl (lv_at hl 2 rfl) ?_
        exact W.iret (v := (twS gO vO a p0 t)) hx hb hr (fun t9 ht hW => ⟨⟨(twS gO vO a p0 t), (n, a), rfl, ⟨by rw [htN], rfl⟩, by rw [ht]; exact hP, va_K.moved hW.alike hK, hD⟩, hS.F ht⟩) hS.2.2 dX1_sumByTag_106
      · refine lv_iload_n hx hb dX1_sumByTag_14 rfl (lv_at hl 3 rfl) ?_
        refine lv_iconst (v := (nI 4)) hx hb dX1_sumByTag_15 (by decide) ?_
        refine xn_irem hx hb (by omega) (by omega) (by omega) dX1_sumByTag_16 ?_
        refine lv_aload_n hx hb dX1_sumByTag_17 rfl (lv_at hl 0 rfl) ?_
        refine gX1 (v := .ref (q 3)) hx hb hts hown hK hP 6 (by decide) q179 rfl dX1_sumByTag_18 ?_
        refine lv_iload_n hx hb dX1_sumByTag_21 rfl (lv_at hl 3 rfl) ?_
        refine lv_iconst (v := (nI 4)) hx hb dX1_sumByTag_22 (by decide) ?_
        refine xn_idiv hx hb (by omega) (by omega) (by omega) dX1_sumByTag_23 ?_
        refine xa_ild (v := (nI (gO (t / 4)))) hx hb hK hP 3 1 rfl rfl (t / 4) (by omega) (by decide) (yg _ (by omega)) dX1_sumByTag_24 ?_
        have K33 : ∀ v_33 : Nat, v_33 = (if t % 4 < gO (t / 4) then 1 else 0) → W p l e (headSpec wsX1_sumByTag ({ frames := 1, cells := 0, slots := 0, locals := 20 })).room s m ([.ref (q 0), .int p0] : List Value).toArray below meth c H locs 0 0 (MQ below (va_Qi (fun (r : Int32) (u : SX) => r = twS gO vO a p0 (4 * (n 0 - n 1)) ∧ u = (n, a)) (BX1 dC dI cB cI q A) A) ([.ref (q 0), .int p0] : List Value).toArray s 0 0 A) (F0 m 33 ls [.int (nI v_33)]) := by
          intro v_33 hv_33
          refine lv_istore (lv' := [(4, .int (nI v_33)), (0, .ref (q 0)), (1, .int p0), (2, .int (twS gO vO a p0 t)), (3, .int (nI t))]) hx hb dX1_sumByTag_33 hl (by decide) rfl (fun ls hl => ?_)
          refine lv_iconst (v := (nI 0)) hx hb dX1_sumByTag_35 (by decide) ?_
          refine lv_istore (lv' := [(5, .int (nI 0)), (4, .int (nI v_33)), (0, .ref (q 0)), (1, .int p0), (2, .int (twS gO vO a p0 t)), (3, .int (nI t))]) hx hb dX1_sumByTag_36 hl (by decide) rfl (fun ls hl => ?_)
          have inner : ∀ (k2 : Nat) (v : Nat), 4 + 1 ≤ v + k2 → v ≤ 4 → ∀ (H : Heap) (locs : List Loc), va_P (dC, dI) vwCl (WX1 cB cI q n a) H → va_D A (WX1 cB cI q n a) → va_S A s.heap H locs → ∀ (ls : Array Slot), lv_has ls 6 [(0, .ref (q 0)), (1, .int p0), (2, .int (twI gO vO a p0 t (twS gO vO a p0 t) v)), (3, .int (nI t)), (4, .int (nI v_33)), (5, .int (nI v))] → W p l e (headSpec wsX1_sumByTag ({ frames := 1, cells := 0, slots := 0, locals := 20 })).room s m ([.ref (q 0), .int p0] : List Value).toArray below meth c H locs 0 0 (MQ below (va_Qi (fun (r : Int32) (u : SX) => r = twS gO vO a p0 (4 * (n 0 - n 1)) ∧ u = (n, a)) (BX1 dC dI cB cI q A) A) ([.ref (q 0), .int p0] : List Value).toArray s 0 0 A) (F0 m 38 ls []) := by
            intro k2
            induction k2 with
            | zero => intro v hm hv; exact absurd hm (by omega)
            | succ k2 ih =>
              intro v hm hv H locs hP hD hS ls hl
              have h33 : v_33 ≤ 1 := by rw [hv_33]; split <;> omega
              refine lv_iload hx hb dX1_sumByTag_38 (lv_at hl 5 rfl) ?_
              refine lv_iconst (v := (nI 4)) hx hb dX1_sumByTag_40 (by decide) ?_
              refine xn_icmp_ge (tgt := 99) hx hb dX1_sumByTag_41 (by decide) (by omega) (by omega) (fun c_41 => ?_) (fun c_41 => ?_)
              · obtain rfl : v = 4 := by omega
                refine lv_iinc (v := (nI (t + 1))) (lv' := [(3, .int (nI (t + 1))), (0, .ref (q 0)), (1, .int p0), (2, .int (twI gO vO a p0 t (twS gO vO a p0 t) 4)), (4, .int (nI v_33)), (5, .int (nI 4))]) hx hb dX1_sumByTag_99 hl (k := 3) rfl (by rw [← nI_1]; rfl) (by decide) rfl (fun ls hl => ?_)
                refine lv_goto (tgt := 4) hx hb dX1_sumByTag_102 (by decide) ?_
                exact ihO (t + 1) (by omega) (by omega) H locs hP hD hS ls (lv_sub hl [1, 2, 3, 0] rfl)
              · have K93 : ∀ ls : Array Slot, lv_has ls 6 [(0, .ref (q 0)), (1, .int p0), (2, .int (twI gO vO a p0 t (twS gO vO a p0 t) (v + 1))), (3, .int (nI t)), (4, .int (nI v_33)), (5, .int (nI v))] → W p l e (headSpec wsX1_sumByTag ({ frames := 1, cells := 0, slots := 0, locals := 20 })).room s m ([.ref (q 0), .int p0] : List Value).toArray below meth c H locs 0 0 (MQ below (va_Qi (fun (r : Int32) (u : SX) => r = twS gO vO a p0 (4 * (n 0 - n 1)) ∧ u = (n, a)) (BX1 dC dI cB cI q A) A) ([.ref (q 0), .int p0] : List Value).toArray s 0 0 A) (F0 m 93 ls []) := by
                  intro ls hl
                  refine lv_iinc (v := (nI (v + 1))) (lv' := [(5, .int (nI (v + 1))), (0, .ref (q 0)), (1, .int p0), (2, .int (twI gO vO a p0 t (twS gO vO a p0 t) (v + 1))), (3, .int (nI t)), (4, .int (nI v_33))]) hx hb dX1_sumByTag_93 hl (k := 5) rfl (by rw [← nI_1]; rfl) (by decide) rfl (fun ls hl => ?_)
                  refine lv_goto (tgt := 38) hx hb dX1_sumByTag_96 (by decide) ?_
                  exact ih (v + 1) (by omega) (by omega) H locs hP hD hS ls (lv_sub hl [1, 2, 3, 4, 5, 0] rfl)
                refine lv_iload hx hb dX1_sumByTag_44 (lv_at hl 4 rfl) ?_
                refine xn_if_eq (tgt := 93) hx hb dX1_sumByTag_46 (by decide) (by omega) (fun c_46 => ?_) (fun c_46 => ?_)
                · have es : twI gO vO a p0 t (twS gO vO a p0 t) (v + 1) = twI gO vO a p0 t (twS gO vO a p0 t) v := by rw [twI, if_neg (fun h => by rw [hv_33, if_pos h.1] at c_46; exact absurd c_46 (by decide))]
                  exact K93 ls (by rw [es]; exact lv_sub hl [0, 1, 2, 3, 4, 5] rfl)
                · have hA : t % 4 < gO (t / 4) := by
                    by_cases hq : t % 4 < gO (t / 4)
                    · exact hq
                    · rw [hv_33, if_neg hq] at c_46; exact absurd rfl c_46
                  refine lv_aload_n hx hb dX1_sumByTag_49 rfl (lv_at hl 0 rfl) ?_
                  refine gX1 (v := .ref (q 4)) hx hb hts hown hK hP 7 (by decide) q180 rfl dX1_sumByTag_50 ?_
                  refine lv_iload_n hx hb dX1_sumByTag_53 rfl (lv_at hl 3 rfl) ?_
                  refine xa_zld (v := (a 4 t)) hx hb hK hP 4 0 rfl rfl t (by omega) (by decide) rfl dX1_sumByTag_54 ?_
                  refine lv_if_eq (tgt := 93) hx hb dX1_sumByTag_55 (by decide) (fun c_55 => ?_) (fun c_55 => ?_)
                  · have es : twI gO vO a p0 t (twS gO vO a p0 t) (v + 1) = twI gO vO a p0 t (twS gO vO a p0 t) v := by rw [twI, if_neg (fun h => h.2.1 c_55)]
                    exact K93 ls (by rw [es]; exact lv_sub hl [0, 1, 2, 3, 4, 5] rfl)
                  · refine lv_aload_n hx hb dX1_sumByTag_58 rfl (lv_at hl 0 rfl) ?_
                    refine gX1 (v := .ref (q 5)) hx hb hts hown hK hP 8 (by decide) q181 rfl dX1_sumByTag_59 ?_
                    refine lv_iload_n hx hb dX1_sumByTag_62 rfl (lv_at hl 3 rfl) ?_
                    refine xa_ild (v := (a 5 t)) hx hb hK hP 5 1 rfl rfl t (by omega) (by decide) rfl dX1_sumByTag_63 ?_
                    refine lv_iload_n hx hb dX1_sumByTag_64 rfl (lv_at hl 1 rfl) ?_
                    refine lv_icmp_ne (tgt := 93) hx hb dX1_sumByTag_65 (by decide) (fun c_65 => ?_) (fun c_65 => ?_)
                    · have es : twI gO vO a p0 t (twS gO vO a p0 t) (v + 1) = twI gO vO a p0 t (twS gO vO a p0 t) v := by rw [twI, if_neg (fun h => c_65 h.2.2.1)]
                      exact K93 ls (by rw [es]; exact lv_sub hl [0, 1, 2, 3, 4, 5] rfl)
                    · refine lv_iload hx hb dX1_sumByTag_68 (lv_at hl 5 rfl) ?_
                      refine lv_aload_n hx hb dX1_sumByTag_70 rfl (lv_at hl 0 rfl) ?_
                      refine gX1 (v := .ref (q 6)) hx hb hts hown hK hP 9 (by decide) q182 rfl dX1_sumByTag_71 ?_
                      refine lv_iload_n hx hb dX1_sumByTag_74 rfl (lv_at hl 3 rfl) ?_
                      refine xa_ild (v := (nI (vO t))) hx hb hK hP 6 1 rfl rfl t (by omega) (by decide) (yv _ (by omega)) dX1_sumByTag_75 ?_
                      refine xn_icmp_ge (tgt := 93) hx hb dX1_sumByTag_76 (by decide) (by omega) (by omega) (fun c_76 => ?_) (fun c_76 => ?_)
                      · have es : twI gO vO a p0 t (twS gO vO a p0 t) (v + 1) = twI gO vO a p0 t (twS gO vO a p0 t) v := by rw [twI, if_neg (fun h => by have := h.2.2.2; omega)]
                        exact K93 ls (by rw [es]; exact lv_sub hl [0, 1, 2, 3, 4, 5] rfl)
                      · have es : twI gO vO a p0 t (twS gO vO a p0 t) (v + 1) = twI gO vO a p0 t (twS gO vO a p0 t) v + a 7 (4 * t + v) := by rw [twI, if_pos ⟨hA, c_55, c_65, c_76⟩]
                        refine lv_iload_n hx hb dX1_sumByTag_79 rfl (lv_at hl 2 rfl) ?_
                        refine lv_aload_n hx hb dX1_sumByTag_80 rfl (lv_at hl 0 rfl) ?_
                        refine gX1 (v := .ref (q 7)) hx hb hts hown hK hP 10 (by decide) q183 rfl dX1_sumByTag_81 ?_
                        refine lv_iconst (v := (nI 4)) hx hb dX1_sumByTag_84 (by decide) ?_
                        refine lv_iload_n hx hb dX1_sumByTag_85 rfl (lv_at hl 3 rfl) ?_
                        refine xn_imul hx hb dX1_sumByTag_86 ?_
                        refine lv_iload hx hb dX1_sumByTag_87 (lv_at hl 5 rfl) ?_
                        refine xn_iadd hx hb dX1_sumByTag_89 ?_
                        refine xa_ild (v := (a 7 (4 * t + v))) hx hb hK hP 7 1 rfl rfl (4 * t + v) (by omega) (by decide) rfl dX1_sumByTag_90 ?_
                        refine lv_iadd hx hb dX1_sumByTag_91 ?_
                        refine lv_istore_n (lv' := [(2, .int ((twI gO vO a p0 t (twS gO vO a p0 t) v) + (a 7 (4 * t + v)))), (0, .ref (q 0)), (1, .int p0), (3, .int (nI t)), (4, .int (nI v_33)), (5, .int (nI v))]) hx hb dX1_sumByTag_92 rfl hl (by decide) rfl (fun ls hl => ?_)
                        exact K93 ls (by rw [es]; exact lv_sub hl [1, 2, 0, 3, 4, 5] rfl)
          exact inner 5 0 (by omega) (by omega) H locs hP hD hS ls (lv_sub hl [2, 3, 4, 5, 1, 0] rfl)
        refine xn_icmp_ge (tgt := 32) hx hb dX1_sumByTag_25 (by decide) (by omega) (by omega) (fun c_25 => ?_) (fun c_25 => ?_)
        · refine lv_iconst (v := (nI 0)) hx hb dX1_sumByTag_32 (by decide) ?_
          exact K33 0 (by first | exact (if_pos c_25).symm | exact (if_neg c_25).symm | exact (if_pos (by omega)).symm | exact (if_neg (by omega)).symm)
        · refine lv_iconst (v := (nI 1)) hx hb dX1_sumByTag_28 (by decide) ?_
          refine lv_goto (tgt := 33) hx hb dX1_sumByTag_29 (by decide) ?_
          exact K33 1 (by first | exact (if_pos c_25).symm | exact (if_neg c_25).symm | exact (if_pos (by omega)).symm | exact (if_neg (by omega)).symm)
  exact loop (4 * (n 0 - n 1) + 1) 0 (by omega) (Nat.zero_le _) H locs hP hD hS ls (lv_sub hl [2, 3, 1, 0] rfl)
abbrev wsX1_holds : List Cond := ws_ yX1_holds cX1_holds 7 (some .boolean)
set_option maxHeartbeats 4000000 in
set_option maxRecDepth 100000 in
theorem metX1_holds (l : Launch) (dC : Nat → ClassId) (dI : Nat → Nat → Nat) (cB cI : ClassId) (q : Nat → Nat) (sz : Nat) (n : Nat → Nat) (a : Nat → Nat → Int32) (R : Nat) (p1 p2 : Int32) (gO vO : Nat → Nat) (hR : R < 12) (hY : YI gO vO n a) : Met l yX1_holds wsX1_holds ({ frames := 0, cells := 0, slots := 0, locals := 0 }) (va_Pc [.ref (q 0), .int (nI R), .int p1, .int p2] (PX1 dC dI cB cI q n a sz)) (va_Qi (fun (r : Int32) (u : SX) => r = nI (if hAny (hB gO vO a p1 p2 R) 16 = true then 1 else 0) ∧ u = (n, a)) (BX1 dC dI cB cI q (va_A (WX1 cB cI q n a) sz)) (va_A (WX1 cB cI q n a) sz)) 0 0 (va_A (WX1 cB cI q n a) sz) := by
  refine Met.ofW (cc := cX1_holds) (maxL := 7) (ret := (some .boolean)) (by decide) rfl ?_
  intro p e s m args below meth c s₁ B hml hv
  obtain ⟨rfl, hsz, hP, hK, hD0⟩ := hv
  have hx := B.exec
  have hb := B.bytes
  have hr := B.returns
  have hts := atoms_spec (ws := wsX1_holds) B.pre
  have hts : ∀ w ∈ lw_all, w.before _ s = true := fun w h => hts w (List.mem_cons_of_mem _ h)
  have hown : s.vm.findClass RX1 = some m.cls := findClass_of_methodNamed B.named
  have hlocks := B.notSynchronized
  subst hsz
  have hD := hD0.self (sz := s.heap.size)
  generalize hAe : va_A (WX1 cB cI q n a) s.heap.size = A at hD ⊢
  have hA : ∀ q : Nat, s.heap.size ≤ q → A q := fun q h => by rw [← hAe]; exact Or.inr h
  have hl := lv_entry ([.ref (q 0), .int (nI R), .int p1, .int p2]) (n := 7) (Nat.le_of_ble_eq_true rfl)
  rw [lg_entry_eq]
  generalize (lg_sl ([.ref (q 0), .int (nI R), .int p1, .int p2]) ++ List.replicate (7 - (lg_sl ([.ref (q 0), .int (nI R), .int p1, .int p2])).length) Slot.unset).toArray = ls at hl ⊢
  have hl : lv_has ls 7 [(0, .ref (q 0)), (1, .int (nI R)), (2, .int p1), (3, .int p2)] := hl
  suffices hh : ∀ (H : Heap) (locs : List Loc), va_P (dC, dI) vwCl (WX1 cB cI q n a) H → va_S A s.heap H locs → W p l e (headSpec wsX1_holds ({ frames := 0, cells := 0, slots := 0, locals := 0 })).room s m ([.ref (q 0), .int (nI R), .int p1, .int p2] : List Value).toArray below meth c H locs 0 0 (MQ below (va_Qi (fun (r : Int32) (u : SX) => r = nI (if hAny (hB gO vO a p1 p2 R) 16 = true then 1 else 0) ∧ u = (n, a)) (BX1 dC dI cB cI q A) A) ([.ref (q 0), .int (nI R), .int p1, .int p2] : List Value).toArray s 0 0 A) (F0 m 0 ls []) from hh _ _ hP va_S.rf
  clear hP
  intro H locs hP hS
  obtain ⟨⟨y0, y1, y10, y2, y3⟩, yg, yg4, yv, yv4⟩ := id hY
  have ygR := yg4 R
  refine lv_iconst (v := (nI 0)) hx hb dX1_holds_0 (by decide) ?_
  refine lv_istore (lv' := [(4, .int (nI 0)), (0, .ref (q 0)), (1, .int (nI R)), (2, .int p1), (3, .int p2)]) hx hb dX1_holds_1 hl (by decide) rfl (fun ls hl => ?_)
  have loop : ∀ (k : Nat) (i : Nat), 16 + 1 ≤ i + k → i ≤ 16 → hAny (hB gO vO a p1 p2 R) i = false → ∀ (H : Heap) (locs : List Loc), va_P (dC, dI) vwCl (WX1 cB cI q n a) H → va_D A (WX1 cB cI q n a) → va_S A s.heap H locs → ∀ (ls : Array Slot), lv_has ls 7 [(0, .ref (q 0)), (1, .int (nI R)), (2, .int p1), (3, .int p2), (4, .int (nI i))] → W p l e (headSpec wsX1_holds ({ frames := 0, cells := 0, slots := 0, locals := 0 })).room s m ([.ref (q 0), .int (nI R), .int p1, .int p2] : List Value).toArray below meth c H locs 0 0 (MQ below (va_Qi (fun (r : Int32) (u : SX) => r = nI (if hAny (hB gO vO a p1 p2 R) 16 = true then 1 else 0) ∧ u = (n, a)) (BX1 dC dI cB cI q A) A) ([.ref (q 0), .int (nI R), .int p1, .int p2] : List Value).toArray s 0 0 A) (F0 m 3 ls []) := by
    intro k
    induction k with
    | zero => intro i hm hi hf; exact absurd hm (by omega)
    | succ k ih =>
      intro i hm hi hf H locs hP hD hS ls hl
      have yvt := yv4 (4 * R + i / 4)
      refine lv_iload hx hb dX1_holds_3 (lv_at hl 4 rfl) ?_
      refine lv_bipush (v := (nI 16)) hx hb dX1_holds_5 (by decide) ?_
      refine xn_icmp_ge (tgt := 89) hx hb dX1_holds_7 (by decide) (by omega) (by omega) (fun c_7 => ?_) (fun c_7 => ?_)
      · have hiN : i = 16 := by omega
        rw [hiN] at hf
        refine lv_iconst (v := (nI 0)) hx hb dX1_holds_89 (by decide) ?_
        exact W.zret (v := (nI 0)) hx hb hr rfl (fun t9 ht hW => ⟨⟨(nI 0), (n, a), rfl, ⟨by rw [hf]; rfl, rfl⟩, by rw [ht]; exact hP, va_K.moved hW.alike hK, hD⟩, hS.F ht⟩) hS.2.2 dX1_holds_90
      · refine lv_iload hx hb dX1_holds_10 (lv_at hl 4 rfl) ?_
        refine lv_iconst (v := (nI 4)) hx hb dX1_holds_12 (by decide) ?_
        refine xn_idiv hx hb (by omega) (by omega) (by omega) dX1_holds_13 ?_
        refine lv_aload_n hx hb dX1_holds_14 rfl (lv_at hl 0 rfl) ?_
        refine gX1 (v := .ref (q 3)) hx hb hts hown hK hP 6 (by decide) q179 rfl dX1_holds_15 ?_
        refine lv_iload_n hx hb dX1_holds_18 rfl (lv_at hl 1 rfl) ?_
        refine xa_ild (v := (nI (gO R))) hx hb hK hP 3 1 rfl rfl R (by omega) (by decide) (yg _ (by omega)) dX1_holds_19 ?_
        have K48 : ∀ v_48 : Nat, v_48 = (if i / 4 < gO R ∧ i % 4 < vO (4 * R + i / 4) then 1 else 0) → W p l e (headSpec wsX1_holds ({ frames := 0, cells := 0, slots := 0, locals := 0 })).room s m ([.ref (q 0), .int (nI R), .int p1, .int p2] : List Value).toArray below meth c H locs 0 0 (MQ below (va_Qi (fun (r : Int32) (u : SX) => r = nI (if hAny (hB gO vO a p1 p2 R) 16 = true then 1 else 0) ∧ u = (n, a)) (BX1 dC dI cB cI q A) A) ([.ref (q 0), .int (nI R), .int p1, .int p2] : List Value).toArray s 0 0 A) (F0 m 48 ls [.int (nI v_48)]) := by
          intro v_48 hv_48
          have h48 : v_48 ≤ 1 := by rw [hv_48]; split <;> omega
          refine lv_istore (lv' := [(5, .int (nI v_48)), (0, .ref (q 0)), (1, .int (nI R)), (2, .int p1), (3, .int p2), (4, .int (nI i))]) hx hb dX1_holds_48 hl (by decide) rfl (fun ls hl => ?_)
          refine lv_aload_n hx hb dX1_holds_50 rfl (lv_at hl 1 rfl) ?_
          refine gX1 (v := .ref (q 7)) hx hb hts hown hK hP 10 (by decide) q183 rfl dX1_holds_51 ?_
          refine lv_bipush (v := (nI 16)) hx hb dX1_holds_54 (by decide) ?_
          refine lv_iload_n hx hb dX1_holds_56 rfl (lv_at hl 2 rfl) ?_
          refine xn_imul hx hb dX1_holds_57 ?_
          refine lv_iload hx hb dX1_holds_58 (lv_at hl 5 rfl) ?_
          refine xn_iadd hx hb dX1_holds_60 ?_
          refine xa_ild (v := (a 7 (16 * R + i))) hx hb hK hP 7 1 rfl rfl (16 * R + i) (by omega) (by decide) rfl dX1_holds_61 ?_
          refine lv_istore (lv' := [(6, .int (a 7 (16 * R + i))), (5, .int (nI v_48)), (0, .ref (q 0)), (1, .int (nI R)), (2, .int p1), (3, .int p2), (4, .int (nI i))]) hx hb dX1_holds_62 hl (by decide) rfl (fun ls hl => ?_)
          refine lv_iload hx hb dX1_holds_64 (lv_at hl 1 rfl) ?_
          have K83 : ¬ hC gO vO a p1 p2 R i → ∀ ls : Array Slot, lv_has ls 7 [(0, .ref (q 0)), (1, .int (nI R)), (2, .int p1), (3, .int p2), (4, .int (nI i))] → W p l e (headSpec wsX1_holds ({ frames := 0, cells := 0, slots := 0, locals := 0 })).room s m ([.ref (q 0), .int (nI R), .int p1, .int p2] : List Value).toArray below meth c H locs 0 0 (MQ below (va_Qi (fun (r : Int32) (u : SX) => r = nI (if hAny (hB gO vO a p1 p2 R) 16 = true then 1 else 0) ∧ u = (n, a)) (BX1 dC dI cB cI q A) A) ([.ref (q 0), .int (nI R), .int p1, .int p2] : List Value).toArray s 0 0 A) (F0 m 83 ls []) := by
            intro hno ls hl
            have hf1 : hAny (hB gO vO a p1 p2 R) (i + 1) = false := by rw [hAny, hf, Bool.false_or]; exact decide_eq_false hno
            refine lv_iinc (v := (nI (i + 1))) (lv' := [(4, .int (nI (i + 1))), (0, .ref (q 0)), (1, .int (nI R)), (2, .int p1), (3, .int p2)]) hx hb dX1_holds_83 hl (k := 4) rfl (by rw [← nI_1]; rfl) (by decide) rfl (fun ls hl => ?_)
            refine lv_goto (tgt := 3) hx hb dX1_holds_86 (by decide) ?_
            exact ih (i + 1) (by omega) (by omega) hf1 H locs hP hD hS ls (lv_sub hl [1, 2, 3, 4, 0] rfl)
          refine xn_if_eq (tgt := 83) hx hb dX1_holds_66 (by decide) (by omega) (fun c_66 => ?_) (fun c_66 => ?_)
          · exact K83 (fun h => by rw [hv_48, if_pos h.1] at c_66; exact absurd c_66 (by decide)) ls (lv_sub hl [2, 3, 4, 5, 6] rfl)
          · have hA : i / 4 < gO R ∧ i % 4 < vO (4 * R + i / 4) := by
              by_cases hq : i / 4 < gO R ∧ i % 4 < vO (4 * R + i / 4)
              · exact hq
              · rw [hv_48, if_neg hq] at c_66; exact absurd rfl c_66
            refine lv_iload_n hx hb dX1_holds_69 rfl (lv_at hl 4 rfl) ?_
            refine lv_iload hx hb dX1_holds_70 (lv_at hl 0 rfl) ?_
            refine lv_icmp_gt (tgt := 83) hx hb dX1_holds_72 (by decide) (fun c_72 => ?_) (fun c_72 => ?_)
            · exact K83 (fun h => h.2.1 c_72) ls (lv_sub hl [2, 3, 4, 5, 6] rfl)
            · refine lv_iload hx hb dX1_holds_75 (lv_at hl 0 rfl) ?_
              refine lv_iload_n hx hb dX1_holds_77 rfl (lv_at hl 5 rfl) ?_
              refine lv_icmp_gt (tgt := 83) hx hb dX1_holds_78 (by decide) (fun c_78 => ?_) (fun c_78 => ?_)
              · exact K83 (fun h => h.2.2 c_78) ls (lv_sub hl [2, 3, 4, 5, 6] rfl)
              · have hh := hAny_true (h := hB gO vO a p1 p2 R) (i := i) (decide_eq_true ⟨hA, c_72, c_78⟩) (show i < 16 by omega)
                refine lv_iconst (v := (nI 1)) hx hb dX1_holds_81 (by decide) ?_
                exact W.zret (v := (nI 1)) hx hb hr rfl (fun t9 ht hW => ⟨⟨(nI 1), (n, a), rfl, ⟨by rw [if_pos hh], rfl⟩, by rw [ht]; exact hP, va_K.moved hW.alike hK, hD⟩, hS.F ht⟩) hS.2.2 dX1_holds_82
        refine xn_icmp_ge (tgt := 47) hx hb dX1_holds_20 (by decide) (by omega) (by omega) (fun c_20 => ?_) (fun c_20 => ?_)
        · refine lv_iconst (v := (nI 0)) hx hb dX1_holds_47 (by decide) ?_
          exact K48 0 (if_neg (fun h => by have := h.1; omega)).symm
        · refine lv_iload hx hb dX1_holds_23 (lv_at hl 4 rfl) ?_
          refine lv_iconst (v := (nI 4)) hx hb dX1_holds_25 (by decide) ?_
          refine xn_irem hx hb (by omega) (by omega) (by omega) dX1_holds_26 ?_
          refine lv_aload_n hx hb dX1_holds_27 rfl (lv_at hl 0 rfl) ?_
          refine gX1 (v := .ref (q 6)) hx hb hts hown hK hP 9 (by decide) q182 rfl dX1_holds_28 ?_
          refine lv_iconst (v := (nI 4)) hx hb dX1_holds_31 (by decide) ?_
          refine lv_iload_n hx hb dX1_holds_32 rfl (lv_at hl 1 rfl) ?_
          refine xn_imul hx hb dX1_holds_33 ?_
          refine lv_iload hx hb dX1_holds_34 (lv_at hl 4 rfl) ?_
          refine lv_iconst (v := (nI 4)) hx hb dX1_holds_36 (by decide) ?_
          refine xn_idiv hx hb (by omega) (by omega) (by omega) dX1_holds_37 ?_
          refine xn_iadd hx hb dX1_holds_38 ?_
          refine xa_ild (v := (nI (vO (4 * R + (i / 4))))) hx hb hK hP 6 1 rfl rfl (4 * R + (i / 4)) (by omega) (by decide) (yv _ (by omega)) dX1_holds_39 ?_
          refine xn_icmp_ge (tgt := 47) hx hb dX1_holds_40 (by decide) (by omega) (by omega) (fun c_40 => ?_) (fun c_40 => ?_)
          · refine lv_iconst (v := (nI 0)) hx hb dX1_holds_47 (by decide) ?_
            exact K48 0 (if_neg (fun h => by have := h.2; omega)).symm
          · refine lv_iconst (v := (nI 1)) hx hb dX1_holds_43 (by decide) ?_
            refine lv_goto (tgt := 48) hx hb dX1_holds_44 (by decide) ?_
            exact K48 1 (if_pos ⟨c_20, c_40⟩).symm
  exact loop 17 0 (by omega) (by omega) rfl H locs hP hD hS ls (lv_sub hl [1, 2, 3, 4, 0] rfl)
abbrev wsX1_recordsWith : List Cond := ws_ yX1_recordsWith cX1_recordsWith 5 (some .int)
set_option maxHeartbeats 4000000 in
set_option maxRecDepth 100000 in
theorem metX1_recordsWith (l : Launch) (dC : Nat → ClassId) (dI : Nat → Nat → Nat) (cB cI : ClassId) (q : Nat → Nat) (sz : Nat) (n : Nat → Nat) (a : Nat → Nat → Int32) (p0 p1 : Int32) (gO vO : Nat → Nat) (hY : YI gO vO n a) : Met l yX1_recordsWith wsX1_recordsWith ({ frames := 1, cells := 0, slots := 0, locals := 26 }) (va_Pc [.ref (q 0), .int p0, .int p1] (PX1 dC dI cB cI q n a sz)) (va_Qi (fun (r : Int32) (u : SX) => r = nI (rwT gO vO a p0 p1 (n 0 - n 1)) ∧ u = (n, a)) (BX1 dC dI cB cI q (va_A (WX1 cB cI q n a) sz)) (va_A (WX1 cB cI q n a) sz)) 0 0 (va_A (WX1 cB cI q n a) sz) := by
  refine Met.ofW (cc := cX1_recordsWith) (maxL := 5) (ret := (some .int)) (by decide) rfl ?_
  intro p e s m args below meth c s₁ B hml hv
  obtain ⟨rfl, hsz, hP, hK, hD0⟩ := hv
  have hx := B.exec
  have hb := B.bytes
  have hr := B.returns
  have hts := atoms_spec (ws := wsX1_recordsWith) B.pre
  have hts : ∀ w ∈ lw_all, w.before _ s = true := fun w h => hts w (List.mem_cons_of_mem _ h)
  have hown : s.vm.findClass RX1 = some m.cls := findClass_of_methodNamed B.named
  have hlocks := B.notSynchronized
  subst hsz
  have hD := hD0.self (sz := s.heap.size)
  generalize hAe : va_A (WX1 cB cI q n a) s.heap.size = A at hD ⊢
  have hA : ∀ q : Nat, s.heap.size ≤ q → A q := fun q h => by rw [← hAe]; exact Or.inr h
  have hl := lv_entry ([.ref (q 0), .int p0, .int p1]) (n := 5) (Nat.le_of_ble_eq_true rfl)
  rw [lg_entry_eq]
  generalize (lg_sl ([.ref (q 0), .int p0, .int p1]) ++ List.replicate (5 - (lg_sl ([.ref (q 0), .int p0, .int p1])).length) Slot.unset).toArray = ls at hl ⊢
  have hl : lv_has ls 5 [(0, .ref (q 0)), (1, .int p0), (2, .int p1)] := hl
  suffices hh : ∀ (H : Heap) (locs : List Loc), va_P (dC, dI) vwCl (WX1 cB cI q n a) H → va_S A s.heap H locs → W p l e (headSpec wsX1_recordsWith ({ frames := 1, cells := 0, slots := 0, locals := 26 })).room s m ([.ref (q 0), .int p0, .int p1] : List Value).toArray below meth c H locs 0 0 (MQ below (va_Qi (fun (r : Int32) (u : SX) => r = nI (rwT gO vO a p0 p1 (n 0 - n 1)) ∧ u = (n, a)) (BX1 dC dI cB cI q A) A) ([.ref (q 0), .int p0, .int p1] : List Value).toArray s 0 0 A) (F0 m 0 ls []) from hh _ _ hP va_S.rf
  clear hP
  intro H locs hP hS
  obtain ⟨⟨y0, y1, y10, y2, y3⟩, yg, yg4, yv, yv4⟩ := id hY
  refine lv_iconst (v := (nI 0)) hx hb dX1_recordsWith_0 (by decide) ?_
  refine lv_istore_n (lv' := [(3, .int (nI 0)), (0, .ref (q 0)), (1, .int p0), (2, .int p1)]) hx hb dX1_recordsWith_1 rfl hl (by decide) rfl (fun ls hl => ?_)
  refine lv_iconst (v := (nI 0)) hx hb dX1_recordsWith_2 (by decide) ?_
  refine lv_istore (lv' := [(4, .int (nI 0)), (3, .int (nI 0)), (0, .ref (q 0)), (1, .int p0), (2, .int p1)]) hx hb dX1_recordsWith_3 hl (by decide) rfl (fun ls hl => ?_)
  have loop : ∀ (k : Nat) (i : Nat), (n 0 - n 1) + 1 ≤ i + k → i ≤ (n 0 - n 1) → ∀ (H : Heap) (locs : List Loc), va_P (dC, dI) vwCl (WX1 cB cI q n a) H → va_D A (WX1 cB cI q n a) → va_S A s.heap H locs → ∀ (ls : Array Slot), lv_has ls 5 [(0, .ref (q 0)), (1, .int p0), (2, .int p1), (3, .int (nI (rwT gO vO a p0 p1 i))), (4, .int (nI i))] → W p l e (headSpec wsX1_recordsWith ({ frames := 1, cells := 0, slots := 0, locals := 26 })).room s m ([.ref (q 0), .int p0, .int p1] : List Value).toArray below meth c H locs 0 0 (MQ below (va_Qi (fun (r : Int32) (u : SX) => r = nI (rwT gO vO a p0 p1 (n 0 - n 1)) ∧ u = (n, a)) (BX1 dC dI cB cI q A) A) ([.ref (q 0), .int p0, .int p1] : List Value).toArray s 0 0 A) (F0 m 5 ls []) := by
    intro k
    induction k with
    | zero => intro i hm hi; exact absurd hm (by omega)
    | succ k ih =>
      intro i hm hi H locs hP hD hS ls hl
      refine lv_iload hx hb dX1_recordsWith_5 (lv_at hl 4 rfl) ?_
      refine lv_aload_n hx hb dX1_recordsWith_7 rfl (lv_at hl 0 rfl) ?_
      refine sX1i (As := []) (rest := [.int (nI i)]) ⟨hx, hb, hml, hown, hts⟩ (metX1_ended l dC dI cB cI q H.size n a gO vO hY) (cwV 0 hts (lw_V q231 q233 qs9 q14 q234) rfl rfl rfl (by decide +kernel) ⟨Nat.le_of_ble_eq_true rfl, Nat.le_of_ble_eq_true rfl⟩) hK hP hD hS hA rfl hl.1 rfl (Nat.le_of_ble_eq_true rfl) dX1_recordsWith_8 ⟨Nat.zero_le _, Nat.zero_le _⟩ (fun r1 u H locs hpost hP hD hS => ?_)
      obtain ⟨rfl, rfl⟩ := hpost
      have hP : va_P (dC, dI) vwCl (WX1 cB cI q n a) H := hP
      have hD : va_D A (WX1 cB cI q n a) := hD
      refine xn_icmp_ge (tgt := 34) hx hb dX1_recordsWith_11 (by decide) (by omega) (by omega) (fun c_11 => ?_) (fun c_11 => ?_)
      · have hiN : i = (n 0 - n 1) := by omega
        refine lv_iload_n hx hb dX1_recordsWith_34 rfl (lv_at hl 3 rfl) ?_
        exact W.iret (v := (nI (rwT gO vO a p0 p1 i))) hx hb hr (fun t9 ht hW => ⟨⟨(nI (rwT gO vO a p0 p1 i)), (n, a), rfl, ⟨by rw [hiN], rfl⟩, by rw [ht]; exact hP, va_K.moved hW.alike hK, hD⟩, hS.F ht⟩) hS.2.2 dX1_recordsWith_35
      · refine lv_aload_n hx hb dX1_recordsWith_14 rfl (lv_at hl 0 rfl) ?_
        refine lv_iload hx hb dX1_recordsWith_15 (lv_at hl 4 rfl) ?_
        refine lv_iload_n hx hb dX1_recordsWith_17 rfl (lv_at hl 1 rfl) ?_
        refine lv_iload_n hx hb dX1_recordsWith_18 rfl (lv_at hl 2 rfl) ?_
        refine sX1i (As := [.int (nI i), .int p0, .int p1]) (rest := []) ⟨hx, hb, hml, hown, hts⟩ (metX1_holds l dC dI cB cI q H.size n a i p0 p1 gO vO (by omega) hY) (cwV 3 hts (lw_V q263 q265 qs11 q14 q266) rfl rfl rfl (by decide +kernel) ⟨Nat.le_of_ble_eq_true rfl, Nat.le_of_ble_eq_true rfl⟩) hK hP hD hS hA rfl hl.1 rfl (Nat.le_of_ble_eq_true rfl) dX1_recordsWith_19 ⟨Nat.zero_le _, Nat.zero_le _⟩ (fun r1 u H locs hpost hP hD hS => ?_)
        obtain ⟨rfl, rfl⟩ := hpost
        have hP : va_P (dC, dI) vwCl (WX1 cB cI q n a) H := hP
        have hD : va_D A (WX1 cB cI q n a) := hD
        obtain ⟨w, hw⟩ : ∃ w : Nat, w = (if hAny (hB gO vO a p0 p1 i) 16 = true then 1 else 0) := ⟨_, rfl⟩
        have hw1 : w ≤ 1 := by rw [hw]; split <;> omega
        rw [← hw]
        refine xn_if_eq (tgt := 28) hx hb dX1_recordsWith_22 (by decide) (by omega) (fun c_22 => ?_) (fun c_22 => ?_)
        · have es : rwT gO vO a p0 p1 (i + 1) = rwT gO vO a p0 p1 i := by rw [rwT, ← hw, c_22]; rfl
          refine lv_iinc (v := (nI (i + 1))) (lv' := [(4, .int (nI (i + 1))), (0, .ref (q 0)), (1, .int p0), (2, .int p1), (3, .int (nI (rwT gO vO a p0 p1 i)))]) hx hb dX1_recordsWith_28 hl (k := 4) rfl (by rw [← nI_1]; rfl) (by decide) rfl (fun ls hl => ?_)
          refine lv_goto (tgt := 5) hx hb dX1_recordsWith_31 (by decide) ?_
          exact ih (i + 1) (by omega) (by omega) H locs hP hD hS ls (by rw [es]; exact lv_sub hl [1, 2, 3, 4, 0] rfl)
        · have es : rwT gO vO a p0 p1 (i + 1) = rwT gO vO a p0 p1 i + 1 := by rw [rwT, ← hw]; omega
          refine lv_iinc (v := (nI (rwT gO vO a p0 p1 i + 1))) (lv' := [(3, .int (nI (rwT gO vO a p0 p1 i + 1))), (0, .ref (q 0)), (1, .int p0), (2, .int p1), (4, .int (nI i))]) hx hb dX1_recordsWith_25 hl (k := 3) rfl (by rw [← nI_1]; rfl) (by decide) rfl (fun ls hl => ?_)
          refine lv_iinc (v := (nI (i + 1))) (lv' := [(4, .int (nI (i + 1))), (3, .int (nI (rwT gO vO a p0 p1 i + 1))), (0, .ref (q 0)), (1, .int p0), (2, .int p1)]) hx hb dX1_recordsWith_28 hl (k := 4) rfl (by rw [← nI_1]; rfl) (by decide) rfl (fun ls hl => ?_)
          refine lv_goto (tgt := 5) hx hb dX1_recordsWith_31 (by decide) ?_
          exact ih (i + 1) (by omega) (by omega) H locs hP hD hS ls (by rw [es]; exact lv_sub hl [2, 3, 4, 1, 0] rfl)
  exact loop ((n 0 - n 1) + 1) 0 (by omega) (Nat.zero_le _) H locs hP hD hS ls (lv_sub hl [2, 3, 4, 1, 0] rfl)
end
section
set_option maxRecDepth 100000
/-- the fields of a new DremelStore -/
abbrev zX0 : List Value := [.int 0, .int 0, .int 0, .null, .null, .int 0, .int 0, .null, .null, .null, .int 0, .int 0, .null, .null, .null, .int 0, .int 0, .int 0, .int 0, .int 0, .int 0]
abbrev wsX0_init : List Cond := ws_ yX0_init cX0_init 1 none
abbrev IX0 (dC : Nat → ClassId) (dI : Nat → Nat → Nat) (h0 : Nat) (A : Nat → Prop) (_ : Unit) (t : State) : Prop := ∃ (q : Nat → Nat) (cB cI : ClassId), q 0 = h0 ∧ va_P (dC, dI) vwCl (WX0 cB cI q (fun _ => 0) (fun _ _ => 0)) t.heap ∧ va_K (dC, dI) vwCl [(cB, .boolean), (cI, .int)] t ∧ va_D A (WX0 cB cI q (fun _ => 0) (fun _ _ => 0))
set_option maxHeartbeats 4000000 in
set_option maxRecDepth 100000 in
theorem metX0_init (l : Launch) (dC : Nat → ClassId) (dI : Nat → Nat → Nat) (h0 : Nat) (sz : Nat) : Met l yX0_init wsX0_init ({ frames := 1, cells := 8, slots := 452, locals := 12 }) (va_Pc [.ref h0] (fun U => U.heap.size = sz ∧ va_P (dC, dI) vwCl [(h0, .inr (0, zX0))] U.heap ∧ va_K (dC, dI) vwCl [] U ∧ va_D (fun _ => True) [(h0, .inr (0, zX0))])) (va_Qv (fun _ : Unit => True) (IX0 dC dI h0 (va_A [(h0, .inr (0, zX0))] sz)) (va_A [(h0, .inr (0, zX0))] sz)) 8 452 (va_A [(h0, .inr (0, zX0))] sz) := by
  refine Met.ofW (cc := cX0_init) (maxL := 1) (ret := none) (by decide) rfl ?_
  intro p e s m args below meth c s₁ B hml hv
  obtain ⟨rfl, hsz, hP, hK, hD0⟩ := hv
  have hx := B.exec
  have hb := B.bytes
  have hr := B.returns
  have hts := atoms_spec (ws := wsX0_init) B.pre
  have hts : ∀ w ∈ lw_all, w.before _ s = true := fun w h => hts w (List.mem_cons_of_mem _ h)
  have hown : s.vm.findClass RX0 = some m.cls := findClass_of_methodNamed B.named
  have hlocks := B.notSynchronized
  have hin : meth.name = "<init>" := (name_of_methodNamed B.named B.method).1
  subst hsz
  have hD := hD0.self (sz := s.heap.size)
  generalize hAe : va_A [(h0, .inr (0, zX0))] s.heap.size = A at hD ⊢
  have hA : ∀ q : Nat, s.heap.size ≤ q → A q := fun q h => by rw [← hAe]; exact Or.inr h
  have hS : va_S A s.heap s.heap [] := va_S.rf
  have hl := lv_entry ([.ref h0]) (n := 1) (Nat.le_of_ble_eq_true rfl)
  rw [lg_entry_eq]
  generalize (lg_sl ([.ref h0]) ++ List.replicate (1 - (lg_sl ([.ref h0])).length) Slot.unset).toArray = ls at hl ⊢
  have hl : lv_has ls 1 [(0, .ref h0)] := hl
  refine lv_aload_n hx hb dX0_init_0 rfl (lv_at hl 0 rfl) ?_
  refine W.objInit hx hb hown (hts _ q20) (hts _ q21) (hts _ q22) rfl (by rw [hml]; exact hl.1) rfl dX0_init_1 (Nat.le_of_ble_eq_true rfl) (Nat.le_of_ble_eq_true rfl) ?_
  refine W.eq (g2 := F0 m 4 ls []) rfl ?_
  refine lv_aload_n hx hb dX0_init_4 rfl (lv_at hl 0 rfl) ?_
  refine lv_bipush (v := 12) hx hb dX0_init_5 (by decide) ?_
  refine va_newa (atype := .boolean) (a0 := (12, .inl (fun _ => 0))) (ty := .boolean) hx hb (hts _ q87) rfl hK hP hD hS hA (fun cA => rfl) (by decide) (by decide +kernel) (by decide) (Nat.le_of_ble_eq_true rfl) (Nat.le_of_ble_eq_true rfl) dX0_init_7 (fun q1 c1 H hK hP hD hS => ?_)
  have hP : va_P (dC, dI) vwCl [(h0, .inr (0, [.int 0, .int 0, .int 0, .null, .null, .int 0, .int 0, .null, .null, .null, .int 0, .int 0, .null, .null, .null, .int 0, .int 0, .int 0, .int 0, .int 0, .int 0])), (q1, .inl (c1, 12, .inl (fun _ => 0)))] H := hP
  have hD : va_D A [(h0, .inr (0, [.int 0, .int 0, .int 0, .null, .null, .int 0, .int 0, .null, .null, .null, .int 0, .int 0, .null, .null, .null, .int 0, .int 0, .int 0, .int 0, .int 0, .int 0])), (q1, .inl (c1, 12, .inl (fun _ => 0)))] := hD
  have hK : va_K (dC, dI) vwCl [(c1, .boolean)] s := hK
  refine va_putF (D := (dC, dI)) (ci := 0) (v := .ref q1) (ty := .array .boolean) (C := RX0) (T := TX0) (N := 21) hx hb hts in_X0 tyX0 tyX0_ok nmX0 hown hK hP hD hS 0 rfl rfl 3 (by decide) (hts _ q26) (fun _ h9 => h9) rfl hin rfl (by decide +kernel) rfl rfl (Nat.le_of_ble_eq_true rfl) dX0_init_9 (fun H locs hP hD hS => ?_)
  have hP : va_P (dC, dI) vwCl [(h0, .inr (0, [.int 0, .int 0, .int 0, .ref q1, .null, .int 0, .int 0, .null, .null, .null, .int 0, .int 0, .null, .null, .null, .int 0, .int 0, .int 0, .int 0, .int 0, .int 0])), (q1, .inl (c1, 12, .inl (fun _ => 0)))] H := hP
  have hD : va_D A [(h0, .inr (0, [.int 0, .int 0, .int 0, .ref q1, .null, .int 0, .int 0, .null, .null, .null, .int 0, .int 0, .null, .null, .null, .int 0, .int 0, .int 0, .int 0, .int 0, .int 0])), (q1, .inl (c1, 12, .inl (fun _ => 0)))] := hD
  refine lv_aload_n hx hb dX0_init_12 rfl (lv_at hl 0 rfl) ?_
  refine lv_bipush (v := 12) hx hb dX0_init_13 (by decide) ?_
  refine va_newa (atype := .int) (a0 := (12, .inl (fun _ => 0))) (ty := .int) hx hb (hts _ q88) rfl hK hP hD hS hA (fun cA => rfl) (by decide) (by decide +kernel) (by decide) (Nat.le_of_ble_eq_true rfl) (Nat.le_of_ble_eq_true rfl) dX0_init_15 (fun q2 c2 H hK hP hD hS => ?_)
  have hP : va_P (dC, dI) vwCl [(h0, .inr (0, [.int 0, .int 0, .int 0, .ref q1, .null, .int 0, .int 0, .null, .null, .null, .int 0, .int 0, .null, .null, .null, .int 0, .int 0, .int 0, .int 0, .int 0, .int 0])), (q1, .inl (c1, 12, .inl (fun _ => 0))), (q2, .inl (c2, 12, .inl (fun _ => 0)))] H := hP
  have hD : va_D A [(h0, .inr (0, [.int 0, .int 0, .int 0, .ref q1, .null, .int 0, .int 0, .null, .null, .null, .int 0, .int 0, .null, .null, .null, .int 0, .int 0, .int 0, .int 0, .int 0, .int 0])), (q1, .inl (c1, 12, .inl (fun _ => 0))), (q2, .inl (c2, 12, .inl (fun _ => 0)))] := hD
  have hK : va_K (dC, dI) vwCl [(c1, .boolean), (c2, .int)] s := hK
  refine va_putF (D := (dC, dI)) (ci := 0) (v := .ref q2) (ty := .array .int) (C := RX0) (T := TX0) (N := 21) hx hb hts in_X0 tyX0 tyX0_ok nmX0 hown hK hP hD hS 0 rfl rfl 4 (by decide) (hts _ q27) (fun _ h9 => h9) rfl hin rfl (by decide +kernel) rfl rfl (Nat.le_of_ble_eq_true rfl) dX0_init_17 (fun H locs hP hD hS => ?_)
  have hP : va_P (dC, dI) vwCl [(h0, .inr (0, [.int 0, .int 0, .int 0, .ref q1, .ref q2, .int 0, .int 0, .null, .null, .null, .int 0, .int 0, .null, .null, .null, .int 0, .int 0, .int 0, .int 0, .int 0, .int 0])), (q1, .inl (c1, 12, .inl (fun _ => 0))), (q2, .inl (c2, 12, .inl (fun _ => 0)))] H := hP
  have hD : va_D A [(h0, .inr (0, [.int 0, .int 0, .int 0, .ref q1, .ref q2, .int 0, .int 0, .null, .null, .null, .int 0, .int 0, .null, .null, .null, .int 0, .int 0, .int 0, .int 0, .int 0, .int 0])), (q1, .inl (c1, 12, .inl (fun _ => 0))), (q2, .inl (c2, 12, .inl (fun _ => 0)))] := hD
  refine lv_aload_n hx hb dX0_init_20 rfl (lv_at hl 0 rfl) ?_
  refine lv_bipush (v := 52) hx hb dX0_init_21 (by decide) ?_
  refine va_newa (atype := .int) (a0 := (52, .inl (fun _ => 0))) (ty := .int) hx hb (hts _ q88) rfl hK hP hD hS hA (fun cA => rfl) (by decide) (by decide +kernel) (by decide) (Nat.le_of_ble_eq_true rfl) (Nat.le_of_ble_eq_true rfl) dX0_init_23 (fun q3 c3 H hK hP hD hS => ?_)
  have hP : va_P (dC, dI) vwCl [(h0, .inr (0, [.int 0, .int 0, .int 0, .ref q1, .ref q2, .int 0, .int 0, .null, .null, .null, .int 0, .int 0, .null, .null, .null, .int 0, .int 0, .int 0, .int 0, .int 0, .int 0])), (q1, .inl (c1, 12, .inl (fun _ => 0))), (q2, .inl (c2, 12, .inl (fun _ => 0))), (q3, .inl (c3, 52, .inl (fun _ => 0)))] H := hP
  have hD : va_D A [(h0, .inr (0, [.int 0, .int 0, .int 0, .ref q1, .ref q2, .int 0, .int 0, .null, .null, .null, .int 0, .int 0, .null, .null, .null, .int 0, .int 0, .int 0, .int 0, .int 0, .int 0])), (q1, .inl (c1, 12, .inl (fun _ => 0))), (q2, .inl (c2, 12, .inl (fun _ => 0))), (q3, .inl (c3, 52, .inl (fun _ => 0)))] := hD
  have hK : va_K (dC, dI) vwCl [(c1, .boolean), (c2, .int), (c3, .int)] s := hK
  refine va_putF (D := (dC, dI)) (ci := 0) (v := .ref q3) (ty := .array .int) (C := RX0) (T := TX0) (N := 21) hx hb hts in_X0 tyX0 tyX0_ok nmX0 hown hK hP hD hS 0 rfl rfl 7 (by decide) (hts _ q30) (fun _ h9 => h9) rfl hin rfl (by decide +kernel) rfl rfl (Nat.le_of_ble_eq_true rfl) dX0_init_25 (fun H locs hP hD hS => ?_)
  have hP : va_P (dC, dI) vwCl [(h0, .inr (0, [.int 0, .int 0, .int 0, .ref q1, .ref q2, .int 0, .int 0, .ref q3, .null, .null, .int 0, .int 0, .null, .null, .null, .int 0, .int 0, .int 0, .int 0, .int 0, .int 0])), (q1, .inl (c1, 12, .inl (fun _ => 0))), (q2, .inl (c2, 12, .inl (fun _ => 0))), (q3, .inl (c3, 52, .inl (fun _ => 0)))] H := hP
  have hD : va_D A [(h0, .inr (0, [.int 0, .int 0, .int 0, .ref q1, .ref q2, .int 0, .int 0, .ref q3, .null, .null, .int 0, .int 0, .null, .null, .null, .int 0, .int 0, .int 0, .int 0, .int 0, .int 0])), (q1, .inl (c1, 12, .inl (fun _ => 0))), (q2, .inl (c2, 12, .inl (fun _ => 0))), (q3, .inl (c3, 52, .inl (fun _ => 0)))] := hD
  refine lv_aload_n hx hb dX0_init_28 rfl (lv_at hl 0 rfl) ?_
  refine lv_bipush (v := 52) hx hb dX0_init_29 (by decide) ?_
  refine va_newa (atype := .int) (a0 := (52, .inl (fun _ => 0))) (ty := .int) hx hb (hts _ q88) rfl hK hP hD hS hA (fun cA => rfl) (by decide) (by decide +kernel) (by decide) (Nat.le_of_ble_eq_true rfl) (Nat.le_of_ble_eq_true rfl) dX0_init_31 (fun q4 c4 H hK hP hD hS => ?_)
  have hP : va_P (dC, dI) vwCl [(h0, .inr (0, [.int 0, .int 0, .int 0, .ref q1, .ref q2, .int 0, .int 0, .ref q3, .null, .null, .int 0, .int 0, .null, .null, .null, .int 0, .int 0, .int 0, .int 0, .int 0, .int 0])), (q1, .inl (c1, 12, .inl (fun _ => 0))), (q2, .inl (c2, 12, .inl (fun _ => 0))), (q3, .inl (c3, 52, .inl (fun _ => 0))), (q4, .inl (c4, 52, .inl (fun _ => 0)))] H := hP
  have hD : va_D A [(h0, .inr (0, [.int 0, .int 0, .int 0, .ref q1, .ref q2, .int 0, .int 0, .ref q3, .null, .null, .int 0, .int 0, .null, .null, .null, .int 0, .int 0, .int 0, .int 0, .int 0, .int 0])), (q1, .inl (c1, 12, .inl (fun _ => 0))), (q2, .inl (c2, 12, .inl (fun _ => 0))), (q3, .inl (c3, 52, .inl (fun _ => 0))), (q4, .inl (c4, 52, .inl (fun _ => 0)))] := hD
  have hK : va_K (dC, dI) vwCl [(c1, .boolean), (c2, .int), (c3, .int), (c4, .int)] s := hK
  refine va_putF (D := (dC, dI)) (ci := 0) (v := .ref q4) (ty := .array .int) (C := RX0) (T := TX0) (N := 21) hx hb hts in_X0 tyX0 tyX0_ok nmX0 hown hK hP hD hS 0 rfl rfl 8 (by decide) (hts _ q31) (fun _ h9 => h9) rfl hin rfl (by decide +kernel) rfl rfl (Nat.le_of_ble_eq_true rfl) dX0_init_33 (fun H locs hP hD hS => ?_)
  have hP : va_P (dC, dI) vwCl [(h0, .inr (0, [.int 0, .int 0, .int 0, .ref q1, .ref q2, .int 0, .int 0, .ref q3, .ref q4, .null, .int 0, .int 0, .null, .null, .null, .int 0, .int 0, .int 0, .int 0, .int 0, .int 0])), (q1, .inl (c1, 12, .inl (fun _ => 0))), (q2, .inl (c2, 12, .inl (fun _ => 0))), (q3, .inl (c3, 52, .inl (fun _ => 0))), (q4, .inl (c4, 52, .inl (fun _ => 0)))] H := hP
  have hD : va_D A [(h0, .inr (0, [.int 0, .int 0, .int 0, .ref q1, .ref q2, .int 0, .int 0, .ref q3, .ref q4, .null, .int 0, .int 0, .null, .null, .null, .int 0, .int 0, .int 0, .int 0, .int 0, .int 0])), (q1, .inl (c1, 12, .inl (fun _ => 0))), (q2, .inl (c2, 12, .inl (fun _ => 0))), (q3, .inl (c3, 52, .inl (fun _ => 0))), (q4, .inl (c4, 52, .inl (fun _ => 0)))] := hD
  refine lv_aload_n hx hb dX0_init_36 rfl (lv_at hl 0 rfl) ?_
  refine lv_bipush (v := 40) hx hb dX0_init_37 (by decide) ?_
  refine va_newa (atype := .int) (a0 := (40, .inl (fun _ => 0))) (ty := .int) hx hb (hts _ q88) rfl hK hP hD hS hA (fun cA => rfl) (by decide) (by decide +kernel) (by decide) (Nat.le_of_ble_eq_true rfl) (Nat.le_of_ble_eq_true rfl) dX0_init_39 (fun q5 c5 H hK hP hD hS => ?_)
  have hP : va_P (dC, dI) vwCl [(h0, .inr (0, [.int 0, .int 0, .int 0, .ref q1, .ref q2, .int 0, .int 0, .ref q3, .ref q4, .null, .int 0, .int 0, .null, .null, .null, .int 0, .int 0, .int 0, .int 0, .int 0, .int 0])), (q1, .inl (c1, 12, .inl (fun _ => 0))), (q2, .inl (c2, 12, .inl (fun _ => 0))), (q3, .inl (c3, 52, .inl (fun _ => 0))), (q4, .inl (c4, 52, .inl (fun _ => 0))), (q5, .inl (c5, 40, .inl (fun _ => 0)))] H := hP
  have hD : va_D A [(h0, .inr (0, [.int 0, .int 0, .int 0, .ref q1, .ref q2, .int 0, .int 0, .ref q3, .ref q4, .null, .int 0, .int 0, .null, .null, .null, .int 0, .int 0, .int 0, .int 0, .int 0, .int 0])), (q1, .inl (c1, 12, .inl (fun _ => 0))), (q2, .inl (c2, 12, .inl (fun _ => 0))), (q3, .inl (c3, 52, .inl (fun _ => 0))), (q4, .inl (c4, 52, .inl (fun _ => 0))), (q5, .inl (c5, 40, .inl (fun _ => 0)))] := hD
  have hK : va_K (dC, dI) vwCl [(c1, .boolean), (c2, .int), (c3, .int), (c4, .int), (c5, .int)] s := hK
  refine va_putF (D := (dC, dI)) (ci := 0) (v := .ref q5) (ty := .array .int) (C := RX0) (T := TX0) (N := 21) hx hb hts in_X0 tyX0 tyX0_ok nmX0 hown hK hP hD hS 0 rfl rfl 9 (by decide) (hts _ q32) (fun _ h9 => h9) rfl hin rfl (by decide +kernel) rfl rfl (Nat.le_of_ble_eq_true rfl) dX0_init_41 (fun H locs hP hD hS => ?_)
  have hP : va_P (dC, dI) vwCl [(h0, .inr (0, [.int 0, .int 0, .int 0, .ref q1, .ref q2, .int 0, .int 0, .ref q3, .ref q4, .ref q5, .int 0, .int 0, .null, .null, .null, .int 0, .int 0, .int 0, .int 0, .int 0, .int 0])), (q1, .inl (c1, 12, .inl (fun _ => 0))), (q2, .inl (c2, 12, .inl (fun _ => 0))), (q3, .inl (c3, 52, .inl (fun _ => 0))), (q4, .inl (c4, 52, .inl (fun _ => 0))), (q5, .inl (c5, 40, .inl (fun _ => 0)))] H := hP
  have hD : va_D A [(h0, .inr (0, [.int 0, .int 0, .int 0, .ref q1, .ref q2, .int 0, .int 0, .ref q3, .ref q4, .ref q5, .int 0, .int 0, .null, .null, .null, .int 0, .int 0, .int 0, .int 0, .int 0, .int 0])), (q1, .inl (c1, 12, .inl (fun _ => 0))), (q2, .inl (c2, 12, .inl (fun _ => 0))), (q3, .inl (c3, 52, .inl (fun _ => 0))), (q4, .inl (c4, 52, .inl (fun _ => 0))), (q5, .inl (c5, 40, .inl (fun _ => 0)))] := hD
  refine lv_aload_n hx hb dX0_init_44 rfl (lv_at hl 0 rfl) ?_
  refine lv_bipush (v := 112) hx hb dX0_init_45 (by decide) ?_
  refine va_newa (atype := .int) (a0 := (112, .inl (fun _ => 0))) (ty := .int) hx hb (hts _ q88) rfl hK hP hD hS hA (fun cA => rfl) (by decide) (by decide +kernel) (by decide) (Nat.le_of_ble_eq_true rfl) (Nat.le_of_ble_eq_true rfl) dX0_init_47 (fun q6 c6 H hK hP hD hS => ?_)
  have hP : va_P (dC, dI) vwCl [(h0, .inr (0, [.int 0, .int 0, .int 0, .ref q1, .ref q2, .int 0, .int 0, .ref q3, .ref q4, .ref q5, .int 0, .int 0, .null, .null, .null, .int 0, .int 0, .int 0, .int 0, .int 0, .int 0])), (q1, .inl (c1, 12, .inl (fun _ => 0))), (q2, .inl (c2, 12, .inl (fun _ => 0))), (q3, .inl (c3, 52, .inl (fun _ => 0))), (q4, .inl (c4, 52, .inl (fun _ => 0))), (q5, .inl (c5, 40, .inl (fun _ => 0))), (q6, .inl (c6, 112, .inl (fun _ => 0)))] H := hP
  have hD : va_D A [(h0, .inr (0, [.int 0, .int 0, .int 0, .ref q1, .ref q2, .int 0, .int 0, .ref q3, .ref q4, .ref q5, .int 0, .int 0, .null, .null, .null, .int 0, .int 0, .int 0, .int 0, .int 0, .int 0])), (q1, .inl (c1, 12, .inl (fun _ => 0))), (q2, .inl (c2, 12, .inl (fun _ => 0))), (q3, .inl (c3, 52, .inl (fun _ => 0))), (q4, .inl (c4, 52, .inl (fun _ => 0))), (q5, .inl (c5, 40, .inl (fun _ => 0))), (q6, .inl (c6, 112, .inl (fun _ => 0)))] := hD
  have hK : va_K (dC, dI) vwCl [(c1, .boolean), (c2, .int), (c3, .int), (c4, .int), (c5, .int), (c6, .int)] s := hK
  refine va_putF (D := (dC, dI)) (ci := 0) (v := .ref q6) (ty := .array .int) (C := RX0) (T := TX0) (N := 21) hx hb hts in_X0 tyX0 tyX0_ok nmX0 hown hK hP hD hS 0 rfl rfl 12 (by decide) (hts _ q35) (fun _ h9 => h9) rfl hin rfl (by decide +kernel) rfl rfl (Nat.le_of_ble_eq_true rfl) dX0_init_49 (fun H locs hP hD hS => ?_)
  have hP : va_P (dC, dI) vwCl [(h0, .inr (0, [.int 0, .int 0, .int 0, .ref q1, .ref q2, .int 0, .int 0, .ref q3, .ref q4, .ref q5, .int 0, .int 0, .ref q6, .null, .null, .int 0, .int 0, .int 0, .int 0, .int 0, .int 0])), (q1, .inl (c1, 12, .inl (fun _ => 0))), (q2, .inl (c2, 12, .inl (fun _ => 0))), (q3, .inl (c3, 52, .inl (fun _ => 0))), (q4, .inl (c4, 52, .inl (fun _ => 0))), (q5, .inl (c5, 40, .inl (fun _ => 0))), (q6, .inl (c6, 112, .inl (fun _ => 0)))] H := hP
  have hD : va_D A [(h0, .inr (0, [.int 0, .int 0, .int 0, .ref q1, .ref q2, .int 0, .int 0, .ref q3, .ref q4, .ref q5, .int 0, .int 0, .ref q6, .null, .null, .int 0, .int 0, .int 0, .int 0, .int 0, .int 0])), (q1, .inl (c1, 12, .inl (fun _ => 0))), (q2, .inl (c2, 12, .inl (fun _ => 0))), (q3, .inl (c3, 52, .inl (fun _ => 0))), (q4, .inl (c4, 52, .inl (fun _ => 0))), (q5, .inl (c5, 40, .inl (fun _ => 0))), (q6, .inl (c6, 112, .inl (fun _ => 0)))] := hD
  refine lv_aload_n hx hb dX0_init_52 rfl (lv_at hl 0 rfl) ?_
  refine lv_bipush (v := 112) hx hb dX0_init_53 (by decide) ?_
  refine va_newa (atype := .int) (a0 := (112, .inl (fun _ => 0))) (ty := .int) hx hb (hts _ q88) rfl hK hP hD hS hA (fun cA => rfl) (by decide) (by decide +kernel) (by decide) (Nat.le_of_ble_eq_true rfl) (Nat.le_of_ble_eq_true rfl) dX0_init_55 (fun q7 c7 H hK hP hD hS => ?_)
  have hP : va_P (dC, dI) vwCl [(h0, .inr (0, [.int 0, .int 0, .int 0, .ref q1, .ref q2, .int 0, .int 0, .ref q3, .ref q4, .ref q5, .int 0, .int 0, .ref q6, .null, .null, .int 0, .int 0, .int 0, .int 0, .int 0, .int 0])), (q1, .inl (c1, 12, .inl (fun _ => 0))), (q2, .inl (c2, 12, .inl (fun _ => 0))), (q3, .inl (c3, 52, .inl (fun _ => 0))), (q4, .inl (c4, 52, .inl (fun _ => 0))), (q5, .inl (c5, 40, .inl (fun _ => 0))), (q6, .inl (c6, 112, .inl (fun _ => 0))), (q7, .inl (c7, 112, .inl (fun _ => 0)))] H := hP
  have hD : va_D A [(h0, .inr (0, [.int 0, .int 0, .int 0, .ref q1, .ref q2, .int 0, .int 0, .ref q3, .ref q4, .ref q5, .int 0, .int 0, .ref q6, .null, .null, .int 0, .int 0, .int 0, .int 0, .int 0, .int 0])), (q1, .inl (c1, 12, .inl (fun _ => 0))), (q2, .inl (c2, 12, .inl (fun _ => 0))), (q3, .inl (c3, 52, .inl (fun _ => 0))), (q4, .inl (c4, 52, .inl (fun _ => 0))), (q5, .inl (c5, 40, .inl (fun _ => 0))), (q6, .inl (c6, 112, .inl (fun _ => 0))), (q7, .inl (c7, 112, .inl (fun _ => 0)))] := hD
  have hK : va_K (dC, dI) vwCl [(c1, .boolean), (c2, .int), (c3, .int), (c4, .int), (c5, .int), (c6, .int), (c7, .int)] s := hK
  refine va_putF (D := (dC, dI)) (ci := 0) (v := .ref q7) (ty := .array .int) (C := RX0) (T := TX0) (N := 21) hx hb hts in_X0 tyX0 tyX0_ok nmX0 hown hK hP hD hS 0 rfl rfl 13 (by decide) (hts _ q36) (fun _ h9 => h9) rfl hin rfl (by decide +kernel) rfl rfl (Nat.le_of_ble_eq_true rfl) dX0_init_57 (fun H locs hP hD hS => ?_)
  have hP : va_P (dC, dI) vwCl [(h0, .inr (0, [.int 0, .int 0, .int 0, .ref q1, .ref q2, .int 0, .int 0, .ref q3, .ref q4, .ref q5, .int 0, .int 0, .ref q6, .ref q7, .null, .int 0, .int 0, .int 0, .int 0, .int 0, .int 0])), (q1, .inl (c1, 12, .inl (fun _ => 0))), (q2, .inl (c2, 12, .inl (fun _ => 0))), (q3, .inl (c3, 52, .inl (fun _ => 0))), (q4, .inl (c4, 52, .inl (fun _ => 0))), (q5, .inl (c5, 40, .inl (fun _ => 0))), (q6, .inl (c6, 112, .inl (fun _ => 0))), (q7, .inl (c7, 112, .inl (fun _ => 0)))] H := hP
  have hD : va_D A [(h0, .inr (0, [.int 0, .int 0, .int 0, .ref q1, .ref q2, .int 0, .int 0, .ref q3, .ref q4, .ref q5, .int 0, .int 0, .ref q6, .ref q7, .null, .int 0, .int 0, .int 0, .int 0, .int 0, .int 0])), (q1, .inl (c1, 12, .inl (fun _ => 0))), (q2, .inl (c2, 12, .inl (fun _ => 0))), (q3, .inl (c3, 52, .inl (fun _ => 0))), (q4, .inl (c4, 52, .inl (fun _ => 0))), (q5, .inl (c5, 40, .inl (fun _ => 0))), (q6, .inl (c6, 112, .inl (fun _ => 0))), (q7, .inl (c7, 112, .inl (fun _ => 0)))] := hD
  refine lv_aload_n hx hb dX0_init_60 rfl (lv_at hl 0 rfl) ?_
  refine lv_bipush (v := 60) hx hb dX0_init_61 (by decide) ?_
  refine va_newa (atype := .int) (a0 := (60, .inl (fun _ => 0))) (ty := .int) hx hb (hts _ q88) rfl hK hP hD hS hA (fun cA => rfl) (by decide) (by decide +kernel) (by decide) (Nat.le_of_ble_eq_true rfl) (Nat.le_of_ble_eq_true rfl) dX0_init_63 (fun q8 c8 H hK hP hD hS => ?_)
  have hP : va_P (dC, dI) vwCl [(h0, .inr (0, [.int 0, .int 0, .int 0, .ref q1, .ref q2, .int 0, .int 0, .ref q3, .ref q4, .ref q5, .int 0, .int 0, .ref q6, .ref q7, .null, .int 0, .int 0, .int 0, .int 0, .int 0, .int 0])), (q1, .inl (c1, 12, .inl (fun _ => 0))), (q2, .inl (c2, 12, .inl (fun _ => 0))), (q3, .inl (c3, 52, .inl (fun _ => 0))), (q4, .inl (c4, 52, .inl (fun _ => 0))), (q5, .inl (c5, 40, .inl (fun _ => 0))), (q6, .inl (c6, 112, .inl (fun _ => 0))), (q7, .inl (c7, 112, .inl (fun _ => 0))), (q8, .inl (c8, 60, .inl (fun _ => 0)))] H := hP
  have hD : va_D A [(h0, .inr (0, [.int 0, .int 0, .int 0, .ref q1, .ref q2, .int 0, .int 0, .ref q3, .ref q4, .ref q5, .int 0, .int 0, .ref q6, .ref q7, .null, .int 0, .int 0, .int 0, .int 0, .int 0, .int 0])), (q1, .inl (c1, 12, .inl (fun _ => 0))), (q2, .inl (c2, 12, .inl (fun _ => 0))), (q3, .inl (c3, 52, .inl (fun _ => 0))), (q4, .inl (c4, 52, .inl (fun _ => 0))), (q5, .inl (c5, 40, .inl (fun _ => 0))), (q6, .inl (c6, 112, .inl (fun _ => 0))), (q7, .inl (c7, 112, .inl (fun _ => 0))), (q8, .inl (c8, 60, .inl (fun _ => 0)))] := hD
  have hK : va_K (dC, dI) vwCl [(c1, .boolean), (c2, .int), (c3, .int), (c4, .int), (c5, .int), (c6, .int), (c7, .int), (c8, .int)] s := hK
  refine va_putF (D := (dC, dI)) (ci := 0) (v := .ref q8) (ty := .array .int) (C := RX0) (T := TX0) (N := 21) hx hb hts in_X0 tyX0 tyX0_ok nmX0 hown hK hP hD hS 0 rfl rfl 14 (by decide) (hts _ q37) (fun _ h9 => h9) rfl hin rfl (by decide +kernel) rfl rfl (Nat.le_of_ble_eq_true rfl) dX0_init_65 (fun H locs hP hD hS => ?_)
  have hP : va_P (dC, dI) vwCl [(h0, .inr (0, [.int 0, .int 0, .int 0, .ref q1, .ref q2, .int 0, .int 0, .ref q3, .ref q4, .ref q5, .int 0, .int 0, .ref q6, .ref q7, .ref q8, .int 0, .int 0, .int 0, .int 0, .int 0, .int 0])), (q1, .inl (c1, 12, .inl (fun _ => 0))), (q2, .inl (c2, 12, .inl (fun _ => 0))), (q3, .inl (c3, 52, .inl (fun _ => 0))), (q4, .inl (c4, 52, .inl (fun _ => 0))), (q5, .inl (c5, 40, .inl (fun _ => 0))), (q6, .inl (c6, 112, .inl (fun _ => 0))), (q7, .inl (c7, 112, .inl (fun _ => 0))), (q8, .inl (c8, 60, .inl (fun _ => 0)))] H := hP
  have hD : va_D A [(h0, .inr (0, [.int 0, .int 0, .int 0, .ref q1, .ref q2, .int 0, .int 0, .ref q3, .ref q4, .ref q5, .int 0, .int 0, .ref q6, .ref q7, .ref q8, .int 0, .int 0, .int 0, .int 0, .int 0, .int 0])), (q1, .inl (c1, 12, .inl (fun _ => 0))), (q2, .inl (c2, 12, .inl (fun _ => 0))), (q3, .inl (c3, 52, .inl (fun _ => 0))), (q4, .inl (c4, 52, .inl (fun _ => 0))), (q5, .inl (c5, 40, .inl (fun _ => 0))), (q6, .inl (c6, 112, .inl (fun _ => 0))), (q7, .inl (c7, 112, .inl (fun _ => 0))), (q8, .inl (c8, 60, .inl (fun _ => 0)))] := hD
  have e3 : c2 = c3 := Option.some.inj ((hK.2 1 _ rfl).2.symm.trans (hK.2 2 _ rfl).2)
  have e4 : c2 = c4 := Option.some.inj ((hK.2 1 _ rfl).2.symm.trans (hK.2 3 _ rfl).2)
  have e5 : c2 = c5 := Option.some.inj ((hK.2 1 _ rfl).2.symm.trans (hK.2 4 _ rfl).2)
  have e6 : c2 = c6 := Option.some.inj ((hK.2 1 _ rfl).2.symm.trans (hK.2 5 _ rfl).2)
  have e7 : c2 = c7 := Option.some.inj ((hK.2 1 _ rfl).2.symm.trans (hK.2 6 _ rfl).2)
  have e8 : c2 = c8 := Option.some.inj ((hK.2 1 _ rfl).2.symm.trans (hK.2 7 _ rfl).2)
  subst e3
  subst e4
  subst e5
  subst e6
  subst e7
  subst e8
  have hK := hK.sub (tys' := [(c1, .boolean), (c2, .int)]) [0, 1] rfl
  refine W.widen (k := 8) (n := 452) (Nat.le_of_ble_eq_true rfl) (Nat.le_of_ble_eq_true rfl) ?_
  exact W.vret hx hb hr (fun t ht hW => ⟨⟨(), rfl, trivial, (fun k => match k with | 0 => h0 | 1 => q1 | 2 => q2 | 3 => q3 | 4 => q4 | 5 => q5 | 6 => q6 | 7 => q7 | _ => q8), c1, c2, rfl, by rw [ht]; exact hP, va_K.moved hW.alike hK, hD⟩, hS.F ht⟩) hS.2.2 dX0_init_68
/-- the fields of a new DremelStoreModel -/
abbrev zX1 : List Value := [.int 0, .int 0, .int 0, .int 0, .null, .null, .null, .null, .null, .null, .null]
abbrev wsX1_init : List Cond := ws_ yX1_init cX1_init 1 none
abbrev IX1 (dC : Nat → ClassId) (dI : Nat → Nat → Nat) (h0 : Nat) (A : Nat → Prop) (_ : Unit) (t : State) : Prop := ∃ (q : Nat → Nat) (cB cI : ClassId), q 0 = h0 ∧ va_P (dC, dI) vwCl (WX1 cB cI q (fun _ => 0) (fun _ _ => 0)) t.heap ∧ va_K (dC, dI) vwCl [(cB, .boolean), (cI, .int)] t ∧ va_D A (WX1 cB cI q (fun _ => 0) (fun _ _ => 0))
set_option maxHeartbeats 4000000 in
set_option maxRecDepth 100000 in
theorem metX1_init (l : Launch) (dC : Nat → ClassId) (dI : Nat → Nat → Nat) (h0 : Nat) (sz : Nat) : Met l yX1_init wsX1_init ({ frames := 1, cells := 7, slots := 372, locals := 12 }) (va_Pc [.ref h0] (fun U => U.heap.size = sz ∧ va_P (dC, dI) vwCl [(h0, .inr (1, zX1))] U.heap ∧ va_K (dC, dI) vwCl [] U ∧ va_D (fun _ => True) [(h0, .inr (1, zX1))])) (va_Qv (fun _ : Unit => True) (IX1 dC dI h0 (va_A [(h0, .inr (1, zX1))] sz)) (va_A [(h0, .inr (1, zX1))] sz)) 7 372 (va_A [(h0, .inr (1, zX1))] sz) := by
  refine Met.ofW (cc := cX1_init) (maxL := 1) (ret := none) (by decide) rfl ?_
  intro p e s m args below meth c s₁ B hml hv
  obtain ⟨rfl, hsz, hP, hK, hD0⟩ := hv
  have hx := B.exec
  have hb := B.bytes
  have hr := B.returns
  have hts := atoms_spec (ws := wsX1_init) B.pre
  have hts : ∀ w ∈ lw_all, w.before _ s = true := fun w h => hts w (List.mem_cons_of_mem _ h)
  have hown : s.vm.findClass RX1 = some m.cls := findClass_of_methodNamed B.named
  have hlocks := B.notSynchronized
  have hin : meth.name = "<init>" := (name_of_methodNamed B.named B.method).1
  subst hsz
  have hD := hD0.self (sz := s.heap.size)
  generalize hAe : va_A [(h0, .inr (1, zX1))] s.heap.size = A at hD ⊢
  have hA : ∀ q : Nat, s.heap.size ≤ q → A q := fun q h => by rw [← hAe]; exact Or.inr h
  have hS : va_S A s.heap s.heap [] := va_S.rf
  have hl := lv_entry ([.ref h0]) (n := 1) (Nat.le_of_ble_eq_true rfl)
  rw [lg_entry_eq]
  generalize (lg_sl ([.ref h0]) ++ List.replicate (1 - (lg_sl ([.ref h0])).length) Slot.unset).toArray = ls at hl ⊢
  have hl : lv_has ls 1 [(0, .ref h0)] := hl
  refine lv_aload_n hx hb dX1_init_0 rfl (lv_at hl 0 rfl) ?_
  refine W.objInit hx hb hown (hts _ q172) (hts _ q21) (hts _ q22) rfl (by rw [hml]; exact hl.1) rfl dX1_init_1 (Nat.le_of_ble_eq_true rfl) (Nat.le_of_ble_eq_true rfl) ?_
  refine W.eq (g2 := F0 m 4 ls []) rfl ?_
  refine lv_aload_n hx hb dX1_init_4 rfl (lv_at hl 0 rfl) ?_
  refine lv_bipush (v := 12) hx hb dX1_init_5 (by decide) ?_
  refine va_newa (atype := .boolean) (a0 := (12, .inl (fun _ => 0))) (ty := .boolean) hx hb (hts _ q87) rfl hK hP hD hS hA (fun cA => rfl) (by decide) (by decide +kernel) (by decide) (Nat.le_of_ble_eq_true rfl) (Nat.le_of_ble_eq_true rfl) dX1_init_7 (fun q1 c1 H hK hP hD hS => ?_)
  have hP : va_P (dC, dI) vwCl [(h0, .inr (1, [.int 0, .int 0, .int 0, .int 0, .null, .null, .null, .null, .null, .null, .null])), (q1, .inl (c1, 12, .inl (fun _ => 0)))] H := hP
  have hD : va_D A [(h0, .inr (1, [.int 0, .int 0, .int 0, .int 0, .null, .null, .null, .null, .null, .null, .null])), (q1, .inl (c1, 12, .inl (fun _ => 0)))] := hD
  have hK : va_K (dC, dI) vwCl [(c1, .boolean)] s := hK
  refine va_putF (D := (dC, dI)) (ci := 1) (v := .ref q1) (ty := .array .boolean) (C := RX1) (T := TX1) (N := 11) hx hb hts in_X1 tyX1 tyX1_ok nmX1 hown hK hP hD hS 0 rfl rfl 4 (by decide) (hts _ q177) (fun _ h9 => h9) rfl hin rfl (by decide +kernel) rfl rfl (Nat.le_of_ble_eq_true rfl) dX1_init_9 (fun H locs hP hD hS => ?_)
  have hP : va_P (dC, dI) vwCl [(h0, .inr (1, [.int 0, .int 0, .int 0, .int 0, .ref q1, .null, .null, .null, .null, .null, .null])), (q1, .inl (c1, 12, .inl (fun _ => 0)))] H := hP
  have hD : va_D A [(h0, .inr (1, [.int 0, .int 0, .int 0, .int 0, .ref q1, .null, .null, .null, .null, .null, .null])), (q1, .inl (c1, 12, .inl (fun _ => 0)))] := hD
  refine lv_aload_n hx hb dX1_init_12 rfl (lv_at hl 0 rfl) ?_
  refine lv_bipush (v := 12) hx hb dX1_init_13 (by decide) ?_
  refine va_newa (atype := .int) (a0 := (12, .inl (fun _ => 0))) (ty := .int) hx hb (hts _ q88) rfl hK hP hD hS hA (fun cA => rfl) (by decide) (by decide +kernel) (by decide) (Nat.le_of_ble_eq_true rfl) (Nat.le_of_ble_eq_true rfl) dX1_init_15 (fun q2 c2 H hK hP hD hS => ?_)
  have hP : va_P (dC, dI) vwCl [(h0, .inr (1, [.int 0, .int 0, .int 0, .int 0, .ref q1, .null, .null, .null, .null, .null, .null])), (q1, .inl (c1, 12, .inl (fun _ => 0))), (q2, .inl (c2, 12, .inl (fun _ => 0)))] H := hP
  have hD : va_D A [(h0, .inr (1, [.int 0, .int 0, .int 0, .int 0, .ref q1, .null, .null, .null, .null, .null, .null])), (q1, .inl (c1, 12, .inl (fun _ => 0))), (q2, .inl (c2, 12, .inl (fun _ => 0)))] := hD
  have hK : va_K (dC, dI) vwCl [(c1, .boolean), (c2, .int)] s := hK
  refine va_putF (D := (dC, dI)) (ci := 1) (v := .ref q2) (ty := .array .int) (C := RX1) (T := TX1) (N := 11) hx hb hts in_X1 tyX1 tyX1_ok nmX1 hown hK hP hD hS 0 rfl rfl 5 (by decide) (hts _ q178) (fun _ h9 => h9) rfl hin rfl (by decide +kernel) rfl rfl (Nat.le_of_ble_eq_true rfl) dX1_init_17 (fun H locs hP hD hS => ?_)
  have hP : va_P (dC, dI) vwCl [(h0, .inr (1, [.int 0, .int 0, .int 0, .int 0, .ref q1, .ref q2, .null, .null, .null, .null, .null])), (q1, .inl (c1, 12, .inl (fun _ => 0))), (q2, .inl (c2, 12, .inl (fun _ => 0)))] H := hP
  have hD : va_D A [(h0, .inr (1, [.int 0, .int 0, .int 0, .int 0, .ref q1, .ref q2, .null, .null, .null, .null, .null])), (q1, .inl (c1, 12, .inl (fun _ => 0))), (q2, .inl (c2, 12, .inl (fun _ => 0)))] := hD
  refine lv_aload_n hx hb dX1_init_20 rfl (lv_at hl 0 rfl) ?_
  refine lv_bipush (v := 12) hx hb dX1_init_21 (by decide) ?_
  refine va_newa (atype := .int) (a0 := (12, .inl (fun _ => 0))) (ty := .int) hx hb (hts _ q88) rfl hK hP hD hS hA (fun cA => rfl) (by decide) (by decide +kernel) (by decide) (Nat.le_of_ble_eq_true rfl) (Nat.le_of_ble_eq_true rfl) dX1_init_23 (fun q3 c3 H hK hP hD hS => ?_)
  have hP : va_P (dC, dI) vwCl [(h0, .inr (1, [.int 0, .int 0, .int 0, .int 0, .ref q1, .ref q2, .null, .null, .null, .null, .null])), (q1, .inl (c1, 12, .inl (fun _ => 0))), (q2, .inl (c2, 12, .inl (fun _ => 0))), (q3, .inl (c3, 12, .inl (fun _ => 0)))] H := hP
  have hD : va_D A [(h0, .inr (1, [.int 0, .int 0, .int 0, .int 0, .ref q1, .ref q2, .null, .null, .null, .null, .null])), (q1, .inl (c1, 12, .inl (fun _ => 0))), (q2, .inl (c2, 12, .inl (fun _ => 0))), (q3, .inl (c3, 12, .inl (fun _ => 0)))] := hD
  have hK : va_K (dC, dI) vwCl [(c1, .boolean), (c2, .int), (c3, .int)] s := hK
  refine va_putF (D := (dC, dI)) (ci := 1) (v := .ref q3) (ty := .array .int) (C := RX1) (T := TX1) (N := 11) hx hb hts in_X1 tyX1 tyX1_ok nmX1 hown hK hP hD hS 0 rfl rfl 6 (by decide) (hts _ q179) (fun _ h9 => h9) rfl hin rfl (by decide +kernel) rfl rfl (Nat.le_of_ble_eq_true rfl) dX1_init_25 (fun H locs hP hD hS => ?_)
  have hP : va_P (dC, dI) vwCl [(h0, .inr (1, [.int 0, .int 0, .int 0, .int 0, .ref q1, .ref q2, .ref q3, .null, .null, .null, .null])), (q1, .inl (c1, 12, .inl (fun _ => 0))), (q2, .inl (c2, 12, .inl (fun _ => 0))), (q3, .inl (c3, 12, .inl (fun _ => 0)))] H := hP
  have hD : va_D A [(h0, .inr (1, [.int 0, .int 0, .int 0, .int 0, .ref q1, .ref q2, .ref q3, .null, .null, .null, .null])), (q1, .inl (c1, 12, .inl (fun _ => 0))), (q2, .inl (c2, 12, .inl (fun _ => 0))), (q3, .inl (c3, 12, .inl (fun _ => 0)))] := hD
  refine lv_aload_n hx hb dX1_init_28 rfl (lv_at hl 0 rfl) ?_
  refine lv_bipush (v := 48) hx hb dX1_init_29 (by decide) ?_
  refine va_newa (atype := .boolean) (a0 := (48, .inl (fun _ => 0))) (ty := .boolean) hx hb (hts _ q87) rfl hK hP hD hS hA (fun cA => rfl) (by decide) (by decide +kernel) (by decide) (Nat.le_of_ble_eq_true rfl) (Nat.le_of_ble_eq_true rfl) dX1_init_31 (fun q4 c4 H hK hP hD hS => ?_)
  have hP : va_P (dC, dI) vwCl [(h0, .inr (1, [.int 0, .int 0, .int 0, .int 0, .ref q1, .ref q2, .ref q3, .null, .null, .null, .null])), (q1, .inl (c1, 12, .inl (fun _ => 0))), (q2, .inl (c2, 12, .inl (fun _ => 0))), (q3, .inl (c3, 12, .inl (fun _ => 0))), (q4, .inl (c4, 48, .inl (fun _ => 0)))] H := hP
  have hD : va_D A [(h0, .inr (1, [.int 0, .int 0, .int 0, .int 0, .ref q1, .ref q2, .ref q3, .null, .null, .null, .null])), (q1, .inl (c1, 12, .inl (fun _ => 0))), (q2, .inl (c2, 12, .inl (fun _ => 0))), (q3, .inl (c3, 12, .inl (fun _ => 0))), (q4, .inl (c4, 48, .inl (fun _ => 0)))] := hD
  have hK : va_K (dC, dI) vwCl [(c1, .boolean), (c2, .int), (c3, .int), (c4, .boolean)] s := hK
  refine va_putF (D := (dC, dI)) (ci := 1) (v := .ref q4) (ty := .array .boolean) (C := RX1) (T := TX1) (N := 11) hx hb hts in_X1 tyX1 tyX1_ok nmX1 hown hK hP hD hS 0 rfl rfl 7 (by decide) (hts _ q180) (fun _ h9 => h9) rfl hin rfl (by decide +kernel) rfl rfl (Nat.le_of_ble_eq_true rfl) dX1_init_33 (fun H locs hP hD hS => ?_)
  have hP : va_P (dC, dI) vwCl [(h0, .inr (1, [.int 0, .int 0, .int 0, .int 0, .ref q1, .ref q2, .ref q3, .ref q4, .null, .null, .null])), (q1, .inl (c1, 12, .inl (fun _ => 0))), (q2, .inl (c2, 12, .inl (fun _ => 0))), (q3, .inl (c3, 12, .inl (fun _ => 0))), (q4, .inl (c4, 48, .inl (fun _ => 0)))] H := hP
  have hD : va_D A [(h0, .inr (1, [.int 0, .int 0, .int 0, .int 0, .ref q1, .ref q2, .ref q3, .ref q4, .null, .null, .null])), (q1, .inl (c1, 12, .inl (fun _ => 0))), (q2, .inl (c2, 12, .inl (fun _ => 0))), (q3, .inl (c3, 12, .inl (fun _ => 0))), (q4, .inl (c4, 48, .inl (fun _ => 0)))] := hD
  refine lv_aload_n hx hb dX1_init_36 rfl (lv_at hl 0 rfl) ?_
  refine lv_bipush (v := 48) hx hb dX1_init_37 (by decide) ?_
  refine va_newa (atype := .int) (a0 := (48, .inl (fun _ => 0))) (ty := .int) hx hb (hts _ q88) rfl hK hP hD hS hA (fun cA => rfl) (by decide) (by decide +kernel) (by decide) (Nat.le_of_ble_eq_true rfl) (Nat.le_of_ble_eq_true rfl) dX1_init_39 (fun q5 c5 H hK hP hD hS => ?_)
  have hP : va_P (dC, dI) vwCl [(h0, .inr (1, [.int 0, .int 0, .int 0, .int 0, .ref q1, .ref q2, .ref q3, .ref q4, .null, .null, .null])), (q1, .inl (c1, 12, .inl (fun _ => 0))), (q2, .inl (c2, 12, .inl (fun _ => 0))), (q3, .inl (c3, 12, .inl (fun _ => 0))), (q4, .inl (c4, 48, .inl (fun _ => 0))), (q5, .inl (c5, 48, .inl (fun _ => 0)))] H := hP
  have hD : va_D A [(h0, .inr (1, [.int 0, .int 0, .int 0, .int 0, .ref q1, .ref q2, .ref q3, .ref q4, .null, .null, .null])), (q1, .inl (c1, 12, .inl (fun _ => 0))), (q2, .inl (c2, 12, .inl (fun _ => 0))), (q3, .inl (c3, 12, .inl (fun _ => 0))), (q4, .inl (c4, 48, .inl (fun _ => 0))), (q5, .inl (c5, 48, .inl (fun _ => 0)))] := hD
  have hK : va_K (dC, dI) vwCl [(c1, .boolean), (c2, .int), (c3, .int), (c4, .boolean), (c5, .int)] s := hK
  refine va_putF (D := (dC, dI)) (ci := 1) (v := .ref q5) (ty := .array .int) (C := RX1) (T := TX1) (N := 11) hx hb hts in_X1 tyX1 tyX1_ok nmX1 hown hK hP hD hS 0 rfl rfl 8 (by decide) (hts _ q181) (fun _ h9 => h9) rfl hin rfl (by decide +kernel) rfl rfl (Nat.le_of_ble_eq_true rfl) dX1_init_41 (fun H locs hP hD hS => ?_)
  have hP : va_P (dC, dI) vwCl [(h0, .inr (1, [.int 0, .int 0, .int 0, .int 0, .ref q1, .ref q2, .ref q3, .ref q4, .ref q5, .null, .null])), (q1, .inl (c1, 12, .inl (fun _ => 0))), (q2, .inl (c2, 12, .inl (fun _ => 0))), (q3, .inl (c3, 12, .inl (fun _ => 0))), (q4, .inl (c4, 48, .inl (fun _ => 0))), (q5, .inl (c5, 48, .inl (fun _ => 0)))] H := hP
  have hD : va_D A [(h0, .inr (1, [.int 0, .int 0, .int 0, .int 0, .ref q1, .ref q2, .ref q3, .ref q4, .ref q5, .null, .null])), (q1, .inl (c1, 12, .inl (fun _ => 0))), (q2, .inl (c2, 12, .inl (fun _ => 0))), (q3, .inl (c3, 12, .inl (fun _ => 0))), (q4, .inl (c4, 48, .inl (fun _ => 0))), (q5, .inl (c5, 48, .inl (fun _ => 0)))] := hD
  refine lv_aload_n hx hb dX1_init_44 rfl (lv_at hl 0 rfl) ?_
  refine lv_bipush (v := 48) hx hb dX1_init_45 (by decide) ?_
  refine va_newa (atype := .int) (a0 := (48, .inl (fun _ => 0))) (ty := .int) hx hb (hts _ q88) rfl hK hP hD hS hA (fun cA => rfl) (by decide) (by decide +kernel) (by decide) (Nat.le_of_ble_eq_true rfl) (Nat.le_of_ble_eq_true rfl) dX1_init_47 (fun q6 c6 H hK hP hD hS => ?_)
  have hP : va_P (dC, dI) vwCl [(h0, .inr (1, [.int 0, .int 0, .int 0, .int 0, .ref q1, .ref q2, .ref q3, .ref q4, .ref q5, .null, .null])), (q1, .inl (c1, 12, .inl (fun _ => 0))), (q2, .inl (c2, 12, .inl (fun _ => 0))), (q3, .inl (c3, 12, .inl (fun _ => 0))), (q4, .inl (c4, 48, .inl (fun _ => 0))), (q5, .inl (c5, 48, .inl (fun _ => 0))), (q6, .inl (c6, 48, .inl (fun _ => 0)))] H := hP
  have hD : va_D A [(h0, .inr (1, [.int 0, .int 0, .int 0, .int 0, .ref q1, .ref q2, .ref q3, .ref q4, .ref q5, .null, .null])), (q1, .inl (c1, 12, .inl (fun _ => 0))), (q2, .inl (c2, 12, .inl (fun _ => 0))), (q3, .inl (c3, 12, .inl (fun _ => 0))), (q4, .inl (c4, 48, .inl (fun _ => 0))), (q5, .inl (c5, 48, .inl (fun _ => 0))), (q6, .inl (c6, 48, .inl (fun _ => 0)))] := hD
  have hK : va_K (dC, dI) vwCl [(c1, .boolean), (c2, .int), (c3, .int), (c4, .boolean), (c5, .int), (c6, .int)] s := hK
  refine va_putF (D := (dC, dI)) (ci := 1) (v := .ref q6) (ty := .array .int) (C := RX1) (T := TX1) (N := 11) hx hb hts in_X1 tyX1 tyX1_ok nmX1 hown hK hP hD hS 0 rfl rfl 9 (by decide) (hts _ q182) (fun _ h9 => h9) rfl hin rfl (by decide +kernel) rfl rfl (Nat.le_of_ble_eq_true rfl) dX1_init_49 (fun H locs hP hD hS => ?_)
  have hP : va_P (dC, dI) vwCl [(h0, .inr (1, [.int 0, .int 0, .int 0, .int 0, .ref q1, .ref q2, .ref q3, .ref q4, .ref q5, .ref q6, .null])), (q1, .inl (c1, 12, .inl (fun _ => 0))), (q2, .inl (c2, 12, .inl (fun _ => 0))), (q3, .inl (c3, 12, .inl (fun _ => 0))), (q4, .inl (c4, 48, .inl (fun _ => 0))), (q5, .inl (c5, 48, .inl (fun _ => 0))), (q6, .inl (c6, 48, .inl (fun _ => 0)))] H := hP
  have hD : va_D A [(h0, .inr (1, [.int 0, .int 0, .int 0, .int 0, .ref q1, .ref q2, .ref q3, .ref q4, .ref q5, .ref q6, .null])), (q1, .inl (c1, 12, .inl (fun _ => 0))), (q2, .inl (c2, 12, .inl (fun _ => 0))), (q3, .inl (c3, 12, .inl (fun _ => 0))), (q4, .inl (c4, 48, .inl (fun _ => 0))), (q5, .inl (c5, 48, .inl (fun _ => 0))), (q6, .inl (c6, 48, .inl (fun _ => 0)))] := hD
  refine lv_aload_n hx hb dX1_init_52 rfl (lv_at hl 0 rfl) ?_
  refine lv_sipush (v := 192) hx hb dX1_init_53 (by decide) ?_
  refine va_newa (atype := .int) (a0 := (192, .inl (fun _ => 0))) (ty := .int) hx hb (hts _ q88) rfl hK hP hD hS hA (fun cA => rfl) (by decide) (by decide +kernel) (by decide) (Nat.le_of_ble_eq_true rfl) (Nat.le_of_ble_eq_true rfl) dX1_init_56 (fun q7 c7 H hK hP hD hS => ?_)
  have hP : va_P (dC, dI) vwCl [(h0, .inr (1, [.int 0, .int 0, .int 0, .int 0, .ref q1, .ref q2, .ref q3, .ref q4, .ref q5, .ref q6, .null])), (q1, .inl (c1, 12, .inl (fun _ => 0))), (q2, .inl (c2, 12, .inl (fun _ => 0))), (q3, .inl (c3, 12, .inl (fun _ => 0))), (q4, .inl (c4, 48, .inl (fun _ => 0))), (q5, .inl (c5, 48, .inl (fun _ => 0))), (q6, .inl (c6, 48, .inl (fun _ => 0))), (q7, .inl (c7, 192, .inl (fun _ => 0)))] H := hP
  have hD : va_D A [(h0, .inr (1, [.int 0, .int 0, .int 0, .int 0, .ref q1, .ref q2, .ref q3, .ref q4, .ref q5, .ref q6, .null])), (q1, .inl (c1, 12, .inl (fun _ => 0))), (q2, .inl (c2, 12, .inl (fun _ => 0))), (q3, .inl (c3, 12, .inl (fun _ => 0))), (q4, .inl (c4, 48, .inl (fun _ => 0))), (q5, .inl (c5, 48, .inl (fun _ => 0))), (q6, .inl (c6, 48, .inl (fun _ => 0))), (q7, .inl (c7, 192, .inl (fun _ => 0)))] := hD
  have hK : va_K (dC, dI) vwCl [(c1, .boolean), (c2, .int), (c3, .int), (c4, .boolean), (c5, .int), (c6, .int), (c7, .int)] s := hK
  refine va_putF (D := (dC, dI)) (ci := 1) (v := .ref q7) (ty := .array .int) (C := RX1) (T := TX1) (N := 11) hx hb hts in_X1 tyX1 tyX1_ok nmX1 hown hK hP hD hS 0 rfl rfl 10 (by decide) (hts _ q183) (fun _ h9 => h9) rfl hin rfl (by decide +kernel) rfl rfl (Nat.le_of_ble_eq_true rfl) dX1_init_58 (fun H locs hP hD hS => ?_)
  have hP : va_P (dC, dI) vwCl [(h0, .inr (1, [.int 0, .int 0, .int 0, .int 0, .ref q1, .ref q2, .ref q3, .ref q4, .ref q5, .ref q6, .ref q7])), (q1, .inl (c1, 12, .inl (fun _ => 0))), (q2, .inl (c2, 12, .inl (fun _ => 0))), (q3, .inl (c3, 12, .inl (fun _ => 0))), (q4, .inl (c4, 48, .inl (fun _ => 0))), (q5, .inl (c5, 48, .inl (fun _ => 0))), (q6, .inl (c6, 48, .inl (fun _ => 0))), (q7, .inl (c7, 192, .inl (fun _ => 0)))] H := hP
  have hD : va_D A [(h0, .inr (1, [.int 0, .int 0, .int 0, .int 0, .ref q1, .ref q2, .ref q3, .ref q4, .ref q5, .ref q6, .ref q7])), (q1, .inl (c1, 12, .inl (fun _ => 0))), (q2, .inl (c2, 12, .inl (fun _ => 0))), (q3, .inl (c3, 12, .inl (fun _ => 0))), (q4, .inl (c4, 48, .inl (fun _ => 0))), (q5, .inl (c5, 48, .inl (fun _ => 0))), (q6, .inl (c6, 48, .inl (fun _ => 0))), (q7, .inl (c7, 192, .inl (fun _ => 0)))] := hD
  have e4 : c1 = c4 := Option.some.inj ((hK.2 0 _ rfl).2.symm.trans (hK.2 3 _ rfl).2)
  have e3 : c2 = c3 := Option.some.inj ((hK.2 1 _ rfl).2.symm.trans (hK.2 2 _ rfl).2)
  have e5 : c2 = c5 := Option.some.inj ((hK.2 1 _ rfl).2.symm.trans (hK.2 4 _ rfl).2)
  have e6 : c2 = c6 := Option.some.inj ((hK.2 1 _ rfl).2.symm.trans (hK.2 5 _ rfl).2)
  have e7 : c2 = c7 := Option.some.inj ((hK.2 1 _ rfl).2.symm.trans (hK.2 6 _ rfl).2)
  subst e4
  subst e3
  subst e5
  subst e6
  subst e7
  have hK := hK.sub (tys' := [(c1, .boolean), (c2, .int)]) [0, 1] rfl
  refine W.widen (k := 7) (n := 372) (Nat.le_of_ble_eq_true rfl) (Nat.le_of_ble_eq_true rfl) ?_
  exact W.vret hx hb hr (fun t ht hW => ⟨⟨(), rfl, trivial, (fun k => match k with | 0 => h0 | 1 => q1 | 2 => q2 | 3 => q3 | 4 => q4 | 5 => q5 | 6 => q6 | _ => q7), c1, c2, rfl, by rw [ht]; exact hP, va_K.moved hW.alike hK, hD⟩, hS.F ht⟩) hS.2.2 dX1_init_61
end
section
set_option maxRecDepth 100000
/-! the store against the model: what holds between two calls, and that each call keeps it -/
theorem dr_c2_congr {s t : Nat → Int32} : ∀ {k : Nat}, (∀ i, i < k → s i = t i) → dr_c2 s k = dr_c2 t k
  | 0, _ => rfl
  | k + 1, h => by
    rw [dr_c2, dr_c2, dr_c2_congr (fun i hi => h i (by omega)), h k (by omega)]
theorem dr_cb_congr {s t : Nat → Int32} : ∀ {k : Nat}, (∀ i, i < k → s i = t i) → dr_cb s k = dr_cb t k
  | 0, _ => rfl
  | k + 1, h => by
    rw [dr_cb, dr_cb, dr_cb_congr (fun i hi => h i (by omega)), h k (by omega)]
theorem dr_c2_upd {t : Nat → Int32} {T k : Nat} {x : Int32} (h : k ≤ T) : dr_c2 (upd t T x) k = dr_c2 t k := dr_c2_congr (fun i hi => pk_un (by omega))
theorem dr_cb_upd {t : Nat → Int32} {T k : Nat} {x : Int32} (h : k ≤ T) : dr_cb (upd t T x) k = dr_cb t k := dr_cb_congr (fun i hi => pk_un (by omega))
theorem dr_bs_up {f : Nat → Nat} {T k x : Nat} (h : k ≤ T) : dr_bs (va_up f T x) k = dr_bs f k := dr_bs_congr (fun i hi => by simp only [va_up]; rw [if_neg (by omega)])
theorem dr_sT_up {f : Nat → Nat} {T k x : Nat} (h : k ≤ T) : dr_sT (va_up f T x) k = dr_sT f k := dr_bs_congr (fun i hi => by simp only [va_up]; rw [if_neg (by omega)])
theorem dr_sV_up {f : Nat → Nat} {T k x : Nat} (h : k ≤ T) : dr_sV (va_up f T x) k = dr_sV f k := dr_bs_congr (fun i hi => by simp only [va_up]; rw [if_neg (by omega)])
theorem va_up_s {α : Type} {f : Nat → α} {k : Nat} {v : α} : va_up f k v k = v := if_pos rfl
theorem va_up_n {α : Type} {f : Nat → α} {k j : Nat} {v : α} (h : j ≠ k) : va_up f k v j = f j := if_neg h
/-- THE RELATION: gO, vn as in XI, vO as in YI -/
def RIa (n m : Nat → Nat) : Prop := m 0 = n 1 ∧ m 1 = n 0 ∧ m 2 = n 18 ∧ m 3 = n 15
def RIb (n : Nat → Nat) (a b : Nat → Nat → Int32) : Prop := ∀ r, r < n 1 → b 1 r = a 1 r ∧ b 2 r = (if a 1 r = 0 then 0 else a 2 (dr_cb (a 1) r))
def RIc (gO vn vO n : Nat → Nat) (a b : Nat → Nat → Int32) : Prop := ∀ r g, r ≤ n 2 → g < gO r → vO (4 * r + g) = vn (dr_sT gO r + g) ∧ b 4 (4 * r + g) = (if a 4 (dr_sT gO r + g) = 2 then 1 else 0) ∧ b 5 (4 * r + g) = (if a 4 (dr_sT gO r + g) = 2 then a 5 (dr_c2 (a 4) (dr_sT gO r + g)) else 0) ∧ ∀ k, k < vn (dr_sT gO r + g) → b 7 (16 * r + 4 * g + k) = a 8 (dr_bs vn (dr_sT gO r + g) + k)
def RId (gO vO : Nat → Nat) : Prop := ∀ r g, g < 4 → gO r ≤ g → vO (4 * r + g) = 0
def RI (gO vn vO n : Nat → Nat) (a : Nat → Nat → Int32) (m : Nat → Nat) (b : Nat → Nat → Int32) : Prop := XI gO vn n a ∧ YI gO vO m b ∧ RIa n m ∧ RIb n a b ∧ RIc gO vn vO n a b ∧ RId gO vO
theorem RI_fd {gO vn vO n m : Nat → Nat} {a b : Nat → Nat → Int32} {x y : Nat} (h : RI gO vn vO n a m b) : RI gO vn vO (fd n x y) a m b := h
theorem RI_N {gO vn vO n m : Nat → Nat} {a b : Nat → Nat → Int32} (h : RI gO vn vO n a m b) : m 0 - m 1 = n 2 := by
  obtain ⟨⟨⟨x0, x1, -⟩, -⟩, -, ⟨p0, p1, -⟩, -⟩ := h
  omega
section RIS
variable {gO vn vO n m n' : Nat → Nat} {a b a' : Nat → Nat → Int32}
/-- behind closeGroup every entry has its values' entries -/
theorem clG_X (h : XI gO vn n a) (h0 : n 0 = 1) {n1 : Nat → Nat} {a1 : Nat → Nat → Int32} (hc : (n1, a1) = clG n a) : n1 11 = dr_sV vn (n 6) ∧ (∀ e, e < n 6 → a1 6 (dr_sV vn e) = a 3 e ∧ (∀ k, 0 < k → k < vn e → a1 6 (dr_sV vn e + k) = 2) ∧ (∀ k, k < vn e → a1 7 (dr_sV vn e + k) = 2) ∧ (vn e = 0 → a1 7 (dr_sV vn e) < 2)) ∧ a1 1 = a 1 ∧ a1 2 = a 2 ∧ a1 3 = a 3 ∧ a1 4 = a 4 ∧ a1 5 = a 5 ∧ a1 8 = a 8 := by
  have h' := h
  obtain ⟨-, ⟨-, -, -, -, g6, g16, -⟩, ⟨t1, -⟩, ⟨-, -, -, -, v11, v17⟩, w⟩ := h'
  have g16 := g16 h0
  unfold clG at hc
  by_cases hcl : 0 < n 16 ∧ n 17 = 0
  · rw [if_pos hcl] at hc
    have hn1 : n1 = va_up n 11 (n 11 + 1) := congrArg Prod.fst hc
    have ha1 : a1 = va_up (va_up a 6 (upd (a 6) (n 11) (nI (if 1 < n 16 then 1 else 0)))) 7 (upd (a 7) (n 11) (nI 1)) := congrArg Prod.snd hc
    have hC : tC n = n 6 - 1 := by unfold tC; rw [if_pos ⟨h0, hcl.1, hcl.2⟩]
    obtain ⟨E, hE⟩ : ∃ E, n 6 = E + 1 := ⟨n 6 - 1, by omega⟩
    have hC : tC n = E := by omega
    have v17 := v17 h0 hcl.1
    have hvE : vn E = 0 := by rw [show E = n 6 - 1 by omega, ← v17]; exact hcl.2
    unfold XI5 at w
    rw [hC] at v11 w
    have h6 : a1 6 = upd (a 6) (n 11) (nI (if 1 < n 16 then 1 else 0)) := by rw [ha1]; rfl
    have h7 : a1 7 = upd (a 7) (n 11) (nI 1) := by rw [ha1]; rfl
    refine ⟨?_, ?_, by rw [ha1]; rfl, by rw [ha1]; rfl, by rw [ha1]; rfl, by rw [ha1]; rfl, by rw [ha1]; rfl, by rw [ha1]; rfl⟩
    · rw [hn1, hE, dr_sV_s, hvE, ← v11]; rfl
    · intro e he
      rw [h6, h7]
      rcases Nat.lt_or_ge e E with q | q
      · obtain ⟨b1, b2, b3, b4⟩ := w e q
        have hle : dr_sV vn (e + 1) ≤ dr_sV vn E := dr_bs_le q
        rw [dr_sV_s] at hle
        have hp := dr_o1_pos (vn e)
        have hge := dr_o1_ge (vn e)
        refine ⟨by rw [pk_un (by omega)]; exact b1, fun k k0 k1 => by rw [pk_un (by omega)]; exact b2 k k0 k1, fun k k1 => by rw [pk_un (by omega)]; exact b3 k k1, fun hz => by rw [pk_un (by omega)]; exact b4 hz⟩
      · have heE : e = E := by omega
        subst heE
        refine ⟨?_, fun k k0 k1 => by omega, fun k k1 => by omega, fun hz => ?_⟩
        · rw [← v11, pk_us]
          have hg : n 16 - 1 < gO (n 2) := by omega
          have := (t1 (n 2) (n 16 - 1) (Nat.le_refl _) hg).1
          rw [show dr_sT gO (n 2) + (n 16 - 1) = e by omega] at this
          rw [this]
          congr 1
          split
          · rw [if_neg (by omega)]
          · rw [if_pos (by omega)]
        · rw [← v11, pk_us]
          decide
  · rw [if_neg hcl] at hc
    have hn1 : n1 = n := congrArg Prod.fst hc
    have ha1 : a1 = a := congrArg Prod.snd hc
    have hC : tC n = n 6 := by
      unfold tC
      rw [if_neg (fun z => hcl ⟨z.2.1, z.2.2⟩)]
    unfold XI5 at w
    rw [hC] at v11 w
    subst hn1 ha1
    exact ⟨v11, w, rfl, rfl, rfl, rfl, rfl, rfl⟩
theorem XI_begin {hs : Nat} (h : XI gO vn n a) (h0 : n 0 = 0) (h1 : n 1 < 12) (hhs : hs ≤ 1) (e0 : n' 0 = 1) (e1 : n' 1 = n 1 + 1) (e2 : n' 2 = n 2) (e5 : n' 5 = n 5 + hs) (e6 : n' 6 = n 6) (e10 : n' 10 = n 10) (e11 : n' 11 = n 11) (e15 : n' 15 = n 15) (e16 : n' 16 = 0) (e17 : n' 17 = n 17) (e18 : n' 18 = n 18) (a1 : a' 1 = upd (a 1) (n 1) (nI hs)) (a3 : a' 3 = a 3) (a4 : a' 4 = a 4) (a6 : a' 6 = a 6) (a7 : a' 7 = a 7) : XI gO vn n' a' := by
  obtain ⟨⟨x0, x1, x2, x5, xb⟩, ⟨g0, g1, g18, g40, g6, g16, g16b, g17b⟩, ⟨t1, t2, t10, t10b⟩, ⟨v0, v1, v15, v60, v11, v17⟩, w⟩ := h
  have hC0 : tC n = n 6 := by unfold tC; rw [if_neg (by omega)]
  have hC : tC n' = n 6 := by unfold tC; rw [if_neg (by omega), e6]
  unfold XI5 at w
  rw [hC0] at v11 w
  refine ⟨⟨by omega, by omega, by omega, ?_, ?_⟩, ⟨fun r hr => g0 r (by omega), g1, ?_, by omega, by rw [e6, e2]; exact g6, fun _ => ?_, by omega, by omega⟩, ⟨?_, ?_, by rw [e10, a4, e6]; exact t10, by omega⟩, ⟨fun e he => v0 e (by omega), v1, by rw [e15, e6]; exact v15, by omega, by rw [e11, hC]; exact v11, fun _ hz => by omega⟩, ?_⟩
  · rw [e5, e1, a1, dr_cb, dr_cb_upd (Nat.le_refl _), pk_us, x5]
    rcases (show hs = 0 ∨ hs = 1 by omega) with rfl | rfl <;> rfl
  · intro r hr
    rw [a1]
    by_cases hq : r = n 1
    · subst hq
      rw [pk_us]
      rcases (show hs = 0 ∨ hs = 1 by omega) with rfl | rfl
      · exact Or.inl rfl
      · exact Or.inr rfl
    · rw [pk_un hq]
      exact xb r (by omega)
  · rw [e18, e1, dr_bs, ← g18, g0 (n 1) (Nat.le_refl _)]; rfl
  · rw [e16, e2, g0 (n 2) (by omega)]
  · intro r g hr hg
    rw [a3, a4]
    exact t1 r g (by omega) hg
  · intro r hr hz
    rw [a3, a4]
    exact t2 r (by omega) hz
  · intro e he
    rw [hC] at he
    rw [a6, a7, a3]
    exact w e he
theorem RI_begin {hs : Nat} {x : Int32} (h : RI gO vn vO n a m b) (h0 : n 0 = 0) (h1 : n 1 < 12) (hhs : hs ≤ 1) : RI gO vn vO (bgX n a hs x).1 (bgX n a hs x).2 (ybX m b hs x).1 (ybX m b hs x).2 := by
  obtain ⟨hX, ⟨⟨y0, y1, y10, y2, y3⟩, yg, yg4, yv, yv4⟩, ⟨p0, p1, p2, p3⟩, hb, hc, hd⟩ := h
  have hX' := hX
  obtain ⟨⟨x0, x1, x2, x5, xb⟩, -⟩ := hX'
  have ha2 : (bgX n a hs x).2 2 = if hs = 0 then a 2 else upd (a 2) (n 5) x := by
    unfold bgX
    rcases (show hs = 0 ∨ hs = 1 by omega) with rfl | rfl <;> rfl
  have hak : ∀ k, k ≠ 1 → k ≠ 2 → (bgX n a hs x).2 k = a k := by
    intro k k1 k2
    unfold bgX
    dsimp only
    split
    · exact va_up_n k1
    · rw [va_up_n k2, va_up_n k1]
  have ha1 : (bgX n a hs x).2 1 = upd (a 1) (n 1) (nI hs) := by
    unfold bgX
    rcases (show hs = 0 ∨ hs = 1 by omega) with rfl | rfl <;> rfl
  refine ⟨XI_begin hX h0 h1 hhs rfl rfl rfl rfl rfl rfl rfl rfl rfl rfl rfl ha1 (hak 3 (by decide) (by decide)) (hak 4 (by decide) (by decide)) (hak 6 (by decide) (by decide)) (hak 7 (by decide) (by decide)), ⟨⟨?_, ?_, ?_, y2, y3⟩, yg, yg4, yv, yv4⟩, ⟨?_, ?_, p2, p3⟩, ?_, ?_, hd⟩
  · show m 0 + 1 ≤ 12; omega
  · show 1 ≤ 1; omega
  · show 1 ≤ m 0 + 1; omega
  · show m 0 + 1 = n 1 + 1; omega
  · rfl
  · intro r hr
    have hr : r < n 1 + 1 := hr
    show upd (b 1) (m 0) (nI hs) r = _ ∧ upd (b 2) (m 0) (if hs = 0 then 0 else x) r = _
    rw [ha1, ha2, p0]
    by_cases hq : r = n 1
    · subst hq
      rw [pk_us, pk_us, pk_us, dr_cb_upd (Nat.le_refl _), ← x5]
      refine ⟨rfl, ?_⟩
      rcases (show hs = 0 ∨ hs = 1 by omega) with rfl | rfl
      · rfl
      · rw [if_neg (by decide), if_neg (by decide), if_neg (by decide), pk_us]
    · obtain ⟨q1, q2⟩ := hb r (by omega)
      rw [pk_un hq, pk_un hq, pk_un hq, dr_cb_upd (by omega)]
      refine ⟨q1, ?_⟩
      rw [q2]
      by_cases hz : a 1 r = 0
      · rw [if_pos hz, if_pos hz]
      · rw [if_neg hz, if_neg hz]
        split
        · rfl
        · rw [pk_un]
          have := dr_cb_mono (t := a 1) (show r + 1 ≤ n 1 by omega)
          rw [dr_cb, if_neg hz] at this
          omega
  · intro r g hr hg
    rw [hak 4 (by decide) (by decide), hak 5 (by decide) (by decide), hak 8 (by decide) (by decide)]
    exact hc r g hr hg
theorem XI_group {hs : Nat} (h : XI gO vn n a) (hc : gpC n) (hhs : hs ≤ 1) {n1 : Nat → Nat} {a1 : Nat → Nat → Int32} (hcl : (n1, a1) = clG n a) (e0 : n' 0 = n 0) (e1 : n' 1 = n 1) (e2 : n' 2 = n 2) (e5 : n' 5 = n 5) (e6 : n' 6 = n 6 + 1) (e10 : n' 10 = n 10 + hs) (e11 : n' 11 = n1 11) (e15 : n' 15 = n 15) (e16 : n' 16 = n 16 + 1) (e17 : n' 17 = 0) (e18 : n' 18 = n 18 + 1) (q1 : a' 1 = a1 1) (q3 : a' 3 = upd (a1 3) (n 6) (nI (if n 16 = 0 then 0 else 1))) (q4 : a' 4 = upd (a1 4) (n 6) (nI (if hs = 0 then 1 else 2))) (q6 : a' 6 = a1 6) (q7 : a' 7 = a1 7) : XI (va_up gO (n 2) (gO (n 2) + 1)) vn n' a' := by
  obtain ⟨z11, zw, z1, z2, z3, z4, z5, z8⟩ := clG_X h hc.1 hcl
  obtain ⟨⟨x0, x1, x2, x5, xb⟩, ⟨g0, g1, g18, g40, g6, g16, g16b, g17b⟩, ⟨t1, t2, t10, t10b⟩, ⟨v0, v1, v15, v60, v11, v17⟩, w⟩ := h
  obtain ⟨c0, c16, c18⟩ := hc
  have g16 := g16 c0
  rw [z3] at q3
  rw [z4] at q4
  rw [z1] at q1
  have hC : tC n' = n 6 := by unfold tC; rw [if_pos ⟨by omega, by omega, e17⟩, e6]; omega
  have hT : ∀ r g, (r < n 2 ∧ g < dr_o1 (gO r)) ∨ (r = n 2 ∧ g < gO r) → dr_sT gO r + g < n 6 := by
    intro r g hv
    rcases hv with ⟨h1, h2⟩ | ⟨h1, h2⟩
    · have : dr_sT gO (r + 1) ≤ dr_sT gO (n 2) := dr_bs_le h1
      rw [dr_sT_s] at this
      omega
    · subst h1
      omega
  refine ⟨⟨by omega, by omega, by omega, by rw [e5, e1, q1]; exact x5, by rw [e1, q1]; exact xb⟩, ⟨?_, ?_, ?_, by omega, ?_, ?_, by omega, by omega⟩, ⟨?_, ?_, ?_, by omega⟩, ⟨fun e he => v0 e (by omega), v1, ?_, by omega, by rw [e11, hC]; exact z11, ?_⟩, ?_⟩
  · intro r hr
    rw [va_up_n (by omega)]
    exact g0 r (by omega)
  · intro r
    by_cases hq : r = n 2
    · subst hq
      rw [va_up_s]
      omega
    · rw [va_up_n hq]
      exact g1 r
  · rw [e18, e1, show n 1 = n 2 + 1 by omega, dr_bs, dr_bs_up (Nat.le_refl _), va_up_s, g18, show n 1 = n 2 + 1 by omega, dr_bs]
    omega
  · rw [e6, e2, dr_sT_up (Nat.le_refl _), va_up_s, g6]
    omega
  · intro _
    rw [e16, e2, va_up_s, g16]
  · intro r g hr hg
    rw [e2] at hr
    rw [dr_sT_up hr, q3, q4]
    by_cases hq : r = n 2 ∧ g = gO (n 2)
    · obtain ⟨rfl, rfl⟩ := hq
      rw [← g6, pk_us, pk_us, ← g16]
      refine ⟨rfl, ?_⟩
      rcases (show hs = 0 ∨ hs = 1 by omega) with rfl | rfl
      · exact Or.inl rfl
      · exact Or.inr rfl
    · have hg2 : g < gO r := by
        by_cases hr2 : r = n 2
        · subst hr2
          rw [va_up_s] at hg
          omega
        · rw [va_up_n hr2] at hg
          exact hg
      have hge := dr_o1_ge (gO r)
      have hlt := hT r g (by rcases Nat.lt_or_ge r (n 2) with z | z; exact Or.inl ⟨z, by omega⟩; exact Or.inr ⟨by omega, hg2⟩)
      rw [pk_un (by omega), pk_un (by omega)]
      exact t1 r g hr hg2
  · intro r hr hz
    rw [e2] at hr
    rw [va_up_n (by omega)] at hz
    have hlt := hT r 0 (Or.inl ⟨hr, dr_o1_pos _⟩)
    rw [dr_sT_up (by omega), q3, q4, pk_un (by omega), pk_un (by omega)]
    exact t2 r hr hz
  · rw [e10, e6, dr_c2, q4, dr_c2_upd (Nat.le_refl _), pk_us, ← t10]
    rcases (show hs = 0 ∨ hs = 1 by omega) with rfl | rfl <;> rfl
  · rw [e15, e6, dr_bs, ← v15, v0 (n 6) (Nat.le_refl _)]; rfl
  · intro _ _
    rw [e17, e6, Nat.add_sub_cancel, v0 (n 6) (Nat.le_refl _)]
  · intro e he
    rw [hC] at he
    rw [q6, q7, q3, pk_un (by omega)]
    exact zw e he
theorem RI_group {hs : Nat} {x : Int32} (h : RI gO vn vO n a m b) (hg : gpC n) (hhs : hs ≤ 1) : RI (va_up gO (n 2) (gO (n 2) + 1)) vn vO (gpX n a hs x).1 (gpX n a hs x).2 (ygX gO m b hs x).1 (ygX gO m b hs x).2 := by
  have hN := RI_N h
  obtain ⟨hX, ⟨⟨y0, y1, y10, y2, y3⟩, yg, yg4, yv, yv4⟩, ⟨p0, p1, p2, p3⟩, hb, hc, hd⟩ := h
  obtain ⟨n1, a1, hcl⟩ : ∃ n1 a1, (n1, a1) = clG n a := ⟨_, _, rfl⟩
  obtain ⟨z11, zw, z1, z2, z3, z4, z5, z8⟩ := clG_X hX hg.1 hcl
  have hk := clG_n hcl
  have hX' := hX
  obtain ⟨⟨x0, x1, x2, x5, xb⟩, ⟨g0, g1, g18, g40, g6, g16, g16b, g17b⟩, ⟨t1, t2, t10, t10b⟩, -⟩ := hX'
  have c0 := hg.1
  have g16 := g16 c0
  have c16 := hg.2.1
  have c18 := hg.2.2
  have hm : m 0 - 1 = n 2 := by omega
  have hu : gpX n a hs x = gpE (adT n1 a1 (if n 16 = 0 then 0 else 1) (if hs = 0 then 1 else 2)).1 (adT n1 a1 (if n 16 = 0 then 0 else 1) (if hs = 0 then 1 else 2)).2 hs x := by
    unfold gpX
    rw [← hcl]
  have hT : ∀ r g, r ≤ n 2 → g < gO r → dr_sT gO r + g < n 6 := by
    intro r g hr h2
    rcases Nat.lt_or_ge r (n 2) with z | z
    · have : dr_sT gO (r + 1) ≤ dr_sT gO (n 2) := dr_bs_le z
      rw [dr_sT_s] at this
      have := dr_o1_ge (gO r)
      omega
    · rw [show r = n 2 by omega] at h2 ⊢
      omega
  generalize hU : gpX n a hs x = U at hu
  obtain ⟨n', a'⟩ := U
  have hn' : n' = va_up (va_up (va_up (va_up (va_up n1 6 (n1 6 + 1)) 10 (n1 10 + hs)) 16 (n1 16 + 1)) 18 (n1 18 + 1)) 17 0 := congrArg Prod.fst hu
  have ha' : a' = if hs = 0 then va_up (va_up a1 3 (upd (a1 3) (n1 6) (nI (if n 16 = 0 then 0 else 1)))) 4 (upd (a1 4) (n1 6) (nI (if hs = 0 then 1 else 2))) else va_up (va_up (va_up a1 3 (upd (a1 3) (n1 6) (nI (if n 16 = 0 then 0 else 1)))) 4 (upd (a1 4) (n1 6) (nI (if hs = 0 then 1 else 2)))) 5 (upd (a1 5) (n1 10) x) := congrArg Prod.snd hu
  have k6 := hk 6 (by decide)
  have k10 := hk 10 (by decide)
  have f3 : a' 3 = upd (a1 3) (n 6) (nI (if n 16 = 0 then 0 else 1)) := by rw [ha', k6]; rcases (show hs = 0 ∨ hs = 1 by omega) with rfl | rfl <;> rfl
  have f4 : a' 4 = upd (a1 4) (n 6) (nI (if hs = 0 then 1 else 2)) := by rw [ha', k6]; rcases (show hs = 0 ∨ hs = 1 by omega) with rfl | rfl <;> rfl
  have f5 : a' 5 = if hs = 0 then a 5 else upd (a 5) (n 10) x := by rw [ha', k10, ← z5]; rcases (show hs = 0 ∨ hs = 1 by omega) with rfl | rfl <;> rfl
  have fk : ∀ k, k ≠ 3 → k ≠ 4 → k ≠ 5 → a' k = a1 k := by
    intro k k3 k4 k5
    rw [ha']
    split
    · rw [va_up_n k4, va_up_n k3]
    · rw [va_up_n k5, va_up_n k4, va_up_n k3]
  have hXI := XI_group (n' := n') (a' := a') hX hg hhs hcl (by rw [hn']; exact hk 0 (by decide)) (by rw [hn']; exact hk 1 (by decide)) (by rw [hn']; exact hk 2 (by decide)) (by rw [hn']; exact hk 5 (by decide)) (by rw [hn', ← k6]; rfl) (by rw [hn', ← k10]; rfl) (by rw [hn']; rfl) (by rw [hn']; exact hk 15 (by decide)) (by rw [hn', ← hk 16 (by decide)]; rfl) (by rw [hn']; rfl) (by rw [hn', ← hk 18 (by decide)]; rfl) (fk 1 (by decide) (by decide) (by decide)) f3 f4 (fk 6 (by decide) (by decide) (by decide)) (fk 7 (by decide) (by decide) (by decide))
  have w1 : n' 1 = n 1 := by rw [hn']; exact hk 1 (by decide)
  have w2 : n' 2 = n 2 := by rw [hn']; exact hk 2 (by decide)
  have w0 : n' 0 = n 0 := by rw [hn']; exact hk 0 (by decide)
  have w18 : n' 18 = n 18 + 1 := by rw [hn', ← hk 18 (by decide)]; rfl
  have w15 : n' 15 = n 15 := by rw [hn']; exact hk 15 (by decide)
  rw [z3] at f3
  rw [z4] at f4
  have e1 := fk 1 (by decide) (by decide) (by decide)
  have e2 := fk 2 (by decide) (by decide) (by decide)
  have e8 := fk 8 (by decide) (by decide) (by decide)
  rw [z1] at e1
  rw [z2] at e2
  rw [z8] at e8
  show RI (va_up gO (n 2) (gO (n 2) + 1)) vn vO n' a' (ygX gO m b hs x).1 (ygX gO m b hs x).2
  refine ⟨hXI, ⟨⟨y0, y1, y10, ?_, y3⟩, ?_, hXI.2.1.2.1, yv, yv4⟩, ⟨?_, ?_, ?_, ?_⟩, ?_, ?_, ?_⟩
  · show m 2 + 1 ≤ 40; omega
  · intro r hr
    show upd (b 3) (m 0 - 1) (nI (gO (m 0 - 1) + 1)) r = _
    rw [hm]
    by_cases hq : r = n 2
    · subst hq
      rw [pk_us, va_up_s]
    · rw [pk_un hq, va_up_n hq]
      exact yg r hr
  · show m 0 = n' 1; omega
  · show m 1 = n' 0; omega
  · show m 2 + 1 = n' 18; omega
  · show m 3 = n' 15; omega
  · intro r hr
    show b 1 r = _ ∧ b 2 r = _
    rw [e1, e2]
    exact hb r (by rw [← w1]; exact hr)
  · intro r g hr hg2
    have hr : r ≤ n 2 := by rw [← w2]; exact hr
    show _ ∧ upd (b 4) (4 * (m 0 - 1) + gO (m 0 - 1)) (nI hs) (4 * r + g) = _ ∧ upd (b 5) (4 * (m 0 - 1) + gO (m 0 - 1)) (if hs = 0 then 0 else x) (4 * r + g) = _ ∧ _
    rw [dr_sT_up hr, f4, f5, e8, hm]
    by_cases hq : r = n 2 ∧ g = gO (n 2)
    · obtain ⟨rfl, rfl⟩ := hq
      have hv0 : vn (n 6) = 0 := hX.2.2.2.1.1 (n 6) (Nat.le_refl _)
      rw [← g6, pk_us, pk_us, pk_us, hv0, dr_c2_upd (Nat.le_refl _), ← t10]
      refine ⟨hd (n 2) (gO (n 2)) (by omega) (Nat.le_refl _), ?_, ?_, fun k hk0 => absurd hk0 (Nat.not_lt_zero _)⟩
      · rcases (show hs = 0 ∨ hs = 1 by omega) with rfl | rfl <;> rfl
      · rcases (show hs = 0 ∨ hs = 1 by omega) with rfl | rfl
        · rfl
        · rw [if_neg (by decide), if_pos (by decide), if_neg (by decide), pk_us]
    · have hg2 : g < gO r := by
        by_cases hr2 : r = n 2
        · subst hr2
          rw [va_up_s] at hg2
          omega
        · rw [va_up_n hr2] at hg2
          exact hg2
      have hlt := hT r g hr hg2
      have := g1 r
      have hne : 4 * r + g ≠ 4 * n 2 + gO (n 2) := by
        intro hz
        exact hq (by omega)
      obtain ⟨c1, c2, c3, c4⟩ := hc r g hr hg2
      rw [pk_un hne, pk_un hne, pk_un (by omega), dr_c2_upd (by omega)]
      refine ⟨c1, c2, ?_, c4⟩
      rw [c3]
      by_cases hz : a 4 (dr_sT gO r + g) = 2
      · rw [if_pos hz, if_pos hz]
        split
        · rfl
        · rw [pk_un]
          have := dr_c2_mono (t := a 4) (show dr_sT gO r + g + 1 ≤ n 6 by omega)
          rw [dr_c2, if_pos hz] at this
          omega
      · rw [if_neg hz, if_neg hz]
  · intro r g hg4 hge
    by_cases hr2 : r = n 2
    · subst hr2
      rw [va_up_s] at hge
      exact hd (n 2) g hg4 (by omega)
    · rw [va_up_n hr2] at hge
      exact hd r g hg4 hge
end RIS
end
section
set_option maxRecDepth 100000
section RIS2
variable {gO vn vO n m n' : Nat → Nat} {a b a' : Nat → Nat → Int32}
theorem XI_value {E : Nat} (h : XI gO vn n a) (hc : vlC n) (hE : n 6 = E + 1) (e0 : n' 0 = n 0) (e1 : n' 1 = n 1) (e2 : n' 2 = n 2) (e5 : n' 5 = n 5) (e6 : n' 6 = n 6) (e10 : n' 10 = n 10) (e11 : n' 11 = n 11 + 1) (e15 : n' 15 = n 15 + 1) (e16 : n' 16 = n 16) (e17 : n' 17 = n 17 + 1) (e18 : n' 18 = n 18) (q1 : a' 1 = a 1) (q3 : a' 3 = a 3) (q4 : a' 4 = a 4) (q6 : a' 6 = upd (a 6) (n 11) (nI (vlT n))) (q7 : a' 7 = upd (a 7) (n 11) (nI 2)) : XI gO (va_up vn E (vn E + 1)) n' a' := by
  obtain ⟨⟨x0, x1, x2, x5, xb⟩, ⟨g0, g1, g18, g40, g6, g16, g16b, g17b⟩, ⟨t1, t2, t10, t10b⟩, ⟨v0, v1, v15, v60, v11, v17⟩, w⟩ := h
  obtain ⟨c0, c16, c17, c15⟩ := hc
  have g16 := g16 c0
  have v17 := v17 c0 (by omega)
  rw [hE, Nat.add_sub_cancel] at v17
  unfold XI5 at w
  have h11 : n 11 = dr_sV vn E + vn E ∧ E ≤ tC n := by
    by_cases hz : n 17 = 0
    · have hC : tC n = E := by unfold tC; rw [if_pos ⟨c0, by omega, hz⟩]; omega
      rw [hC] at v11
      exact ⟨by omega, by omega⟩
    · have hC : tC n = E + 1 := by unfold tC; rw [if_neg (by omega)]; omega
      rw [hC, dr_sV_s, dr_o1_eq (by omega)] at v11
      exact ⟨v11, by omega⟩
  obtain ⟨h11, hEC⟩ := h11
  have hC : tC n' = E + 1 := by unfold tC; rw [if_neg (by omega)]; omega
  have hEs : va_up vn E (vn E + 1) E = vn E + 1 := va_up_s
  refine ⟨⟨by omega, by omega, by omega, by rw [e5, e1, q1]; exact x5, by rw [e1, q1]; exact xb⟩, ⟨fun r hr => g0 r (by omega), g1, by rw [e18, e1]; exact g18, by omega, by rw [e6, e2]; exact g6, fun _ => by rw [e16, e2]; exact g16, by omega, by omega⟩, ⟨?_, ?_, by rw [e10, e6, q4]; exact t10, by omega⟩, ⟨?_, ?_, ?_, by omega, ?_, ?_⟩, ?_⟩
  · intro r g hr hg
    rw [q3, q4]
    exact t1 r g (by omega) hg
  · intro r hr hz
    rw [e2] at hr
    obtain ⟨u1, u2, u3⟩ := t2 r hr hz
    rw [q3, q4]
    refine ⟨u1, u2, ?_⟩
    rw [va_up_n, u3]
    have : dr_sT gO (r + 1) ≤ dr_sT gO (n 2) := dr_bs_le hr
    rw [dr_sT_s] at this
    have := dr_o1_pos (gO r)
    omega
  · intro e he
    rw [va_up_n (by omega)]
    exact v0 e (by omega)
  · intro e
    by_cases hq : e = E
    · subst hq
      rw [va_up_s]
      omega
    · rw [va_up_n hq]
      exact v1 e
  · rw [e15, e6, hE, dr_bs, dr_bs_up (Nat.le_refl _), va_up_s, v15, hE, dr_bs]
    omega
  · rw [e11, hC, dr_sV_s, dr_sV_up (Nat.le_refl _), va_up_s, dr_o1_eq (by omega), h11]
    omega
  · intro _ _
    rw [e17, e6, hE, Nat.add_sub_cancel, va_up_s, v17]
  · intro e he
    rw [hC] at he
    rw [q6, q7, q3]
    rcases Nat.lt_or_ge e E with q | q
    · obtain ⟨b1, b2, b3, b4⟩ := w e (by omega)
      have hle : dr_sV vn (e + 1) ≤ dr_sV vn E := dr_bs_le q
      rw [dr_sV_s] at hle
      have hp := dr_o1_pos (vn e)
      have hge := dr_o1_ge (vn e)
      rw [dr_sV_up (by omega), va_up_n (by omega)]
      refine ⟨by rw [pk_un (by omega)]; exact b1, fun k k0 k1 => by rw [pk_un (by omega)]; exact b2 k k0 k1, fun k k1 => by rw [pk_un (by omega)]; exact b3 k k1, fun hz => by rw [pk_un (by omega)]; exact b4 hz⟩
    · have heE : e = E := by omega
      subst heE
      rw [dr_sV_up (Nat.le_refl _), va_up_s]
      have hta : a 3 e = nI (if 1 < n 16 then 1 else 0) := by
        have hg : n 16 - 1 < gO (n 2) := by omega
        have := (t1 (n 2) (n 16 - 1) (Nat.le_refl _) hg).1
        rw [show dr_sT gO (n 2) + (n 16 - 1) = e by omega] at this
        rw [this]
        congr 1
        split
        · rw [if_neg (by omega)]
        · rw [if_pos (by omega)]
      rcases Nat.eq_zero_or_pos (vn e) with hz | hz
      · rw [hz, Nat.add_zero] at h11
        refine ⟨?_, fun k k0 k1 => by omega, fun k k1 => ?_, fun hh => by omega⟩
        · rw [← h11, pk_us, hta, vlT, if_neg (by omega)]
        · rw [show k = 0 by omega, Nat.add_zero, ← h11, pk_us]; rfl
      · have hlt : e < tC n := by
          unfold tC
          rw [if_neg (by omega)]
          omega
        obtain ⟨b1, b2, b3, b4⟩ := w e hlt
        refine ⟨?_, fun k k0 k1 => ?_, fun k k1 => ?_, fun hh => by omega⟩
        · rw [pk_un (by omega)]; exact b1
        · by_cases hk : k = vn e
          · rw [hk, ← h11, pk_us, vlT, if_pos (by omega)]; rfl
          · rw [pk_un (by omega)]; exact b2 k k0 (by omega)
        · by_cases hk : k = vn e
          · rw [hk, ← h11, pk_us]; rfl
          · rw [pk_un (by omega)]; exact b3 k (by omega)
/-- the conditions of value agree -/
theorem RI_vC (h : RI gO vn vO n a m b) : vlC n ↔ yvC gO vO m := by
  have hN := RI_N h
  obtain ⟨⟨⟨x0, x1, x2, -⟩, ⟨g0, g1, g18, g40, g6, g16, g16b, g17b⟩, -, ⟨v0, v1, v15, v60, v11, v17⟩, -⟩, -, ⟨p0, p1, p2, p3⟩, -, hc, -⟩ := h
  have g4 := g1 (n 2)
  have key : n 0 = 1 → ¬ gO (n 2) = 0 → vO (yat gO m) = n 17 := by
    intro h0 hg
    have g16 := g16 h0
    have hm : m 0 - 1 = n 2 := by omega
    have := (hc (n 2) (gO (n 2) - 1) (Nat.le_refl _) (by omega)).1
    unfold yat
    rw [hm, v17 h0 (by omega), g6]
    rw [show 4 * n 2 + gO (n 2) - 1 = 4 * n 2 + (gO (n 2) - 1) by omega, this]
    congr 1
    omega
  constructor
  · intro ⟨c0, c16, c17, c15⟩
    have g16 := g16 c0
    have hm : m 0 - 1 = n 2 := by omega
    have hk := key c0 (by omega)
    refine ⟨by omega, by rw [hm]; omega, by omega, by omega⟩
  · intro ⟨c0, c16, c3, cv⟩
    have h0 : n 0 = 1 := by omega
    have g16 := g16 h0
    have hm : m 0 - 1 = n 2 := by omega
    rw [hm] at c16
    have hk := key h0 c16
    refine ⟨h0, by omega, by omega, by omega⟩
theorem RI_vV (h : RI gO vn vO n a m b) (hg : vlC n) : vO (yat gO m) = n 17 ∧ ∃ E, n 6 = E + 1 ∧ n 17 = vn E ∧ E = dr_sT gO (n 2) + (gO (n 2) - 1) ∧ 0 < gO (n 2) ∧ yat gO m = 4 * n 2 + (gO (n 2) - 1) := by
  have hN := RI_N h
  obtain ⟨⟨⟨x0, x1, x2, -⟩, ⟨g0, g1, g18, g40, g6, g16, g16b, g17b⟩, -, ⟨v0, v1, v15, v60, v11, v17⟩, -⟩, -, ⟨p0, p1, p2, p3⟩, -, hc, -⟩ := h
  obtain ⟨c0, c16, c17, c15⟩ := hg
  have g16 := g16 c0
  have hm : m 0 - 1 = n 2 := by omega
  have hy : yat gO m = 4 * n 2 + (gO (n 2) - 1) := by unfold yat; rw [hm]; omega
  have hv := v17 c0 (by omega)
  have := (hc (n 2) (gO (n 2) - 1) (Nat.le_refl _) (by omega)).1
  have hE : n 6 - 1 = dr_sT gO (n 2) + (gO (n 2) - 1) := by omega
  refine ⟨by rw [hy, this, hv, hE], n 6 - 1, by omega, hv, hE, by omega, hy⟩
theorem RI_value {x : Int32} (h : RI gO vn vO n a m b) (hg : vlC n) : ∃ vn' vO', RI gO vn' vO' (vlX n a x).1 (vlX n a x).2 (yvX gO vO m b x).1 (yvX gO vO m b x).2 := by
  obtain ⟨hvo, E, hE, hvE, hEs, hgp, hy⟩ := RI_vV h hg
  obtain ⟨hX, ⟨⟨y0, y1, y10, y2, y3⟩, yg, yg4, yv, yv4⟩, ⟨p0, p1, p2, p3⟩, hb, hc, hd⟩ := h
  have hXI := XI_value (n' := (vlX n a x).1) (a' := (vlX n a x).2) hX hg hE rfl rfl rfl rfl rfl rfl rfl rfl rfl rfl rfl rfl rfl rfl rfl rfl
  obtain ⟨-, ⟨g0, g1, g18, g40, g6, g16, g16b, g17b⟩, -, ⟨v0, v1, v15, v60, v11, v17⟩, -⟩ := hX
  obtain ⟨c0, c16, c17, c15⟩ := hg
  have g4 := g1 (n 2)
  have hT : ∀ r g, r ≤ n 2 → g < gO r → ¬ (r = n 2 ∧ g = gO (n 2) - 1) → dr_sT gO r + g < E := by
    intro r g hr h2 hne
    rcases Nat.lt_or_ge r (n 2) with z | z
    · have : dr_sT gO (r + 1) ≤ dr_sT gO (n 2) := dr_bs_le z
      rw [dr_sT_s] at this
      have := dr_o1_ge (gO r)
      omega
    · have hr2 : r = n 2 := by omega
      subst hr2
      omega
  have h15 : n 15 = dr_bs vn E + vn E := by rw [v15, hE, dr_bs]
  refine ⟨va_up vn E (vn E + 1), va_up vO (yat gO m) (vO (yat gO m) + 1), hXI, ⟨⟨y0, y1, y10, y2, ?_⟩, yg, yg4, ?_, ?_⟩, ⟨p0, p1, p2, ?_⟩, hb, ?_, ?_⟩
  · show m 3 + 1 ≤ 60; omega
  · intro t ht
    show upd (b 6) (yat gO m) (nI (vO (yat gO m) + 1)) t = _
    by_cases hq : t = yat gO m
    · subst hq
      rw [pk_us, va_up_s]
    · rw [pk_un hq, va_up_n hq]
      exact yv t ht
  · intro t
    by_cases hq : t = yat gO m
    · subst hq
      rw [va_up_s]
      omega
    · rw [va_up_n hq]
      exact yv4 t
  · show m 3 + 1 = n 15 + 1; omega
  · intro r g hr hg2
    have hr : r ≤ n 2 := hr
    show _ ∧ b 4 (4 * r + g) = (if a 4 _ = 2 then 1 else 0) ∧ b 5 (4 * r + g) = (if a 4 _ = 2 then a 5 (dr_c2 (a 4) _) else 0) ∧ ∀ k, _ → upd (b 7) (4 * yat gO m + vO (yat gO m)) x (16 * r + 4 * g + k) = upd (a 8) (n 15) x _
    obtain ⟨c1, c2, c3, c4⟩ := hc r g hr hg2
    have gr4 := g1 r
    by_cases hq : r = n 2 ∧ g = gO (n 2) - 1
    · obtain ⟨rfl, rfl⟩ := hq
      rw [← hEs] at c1 c2 c3 c4 ⊢
      rw [← hy] at c1 c2 c3 ⊢
      rw [va_up_s, va_up_s]
      refine ⟨by omega, c2, c3, fun k hk => ?_⟩
      rw [dr_bs_up (Nat.le_refl _), hvo]
      by_cases hkv : k = vn E
      · rw [show 16 * n 2 + 4 * (gO (n 2) - 1) + k = 4 * yat gO m + n 17 by omega, pk_us, show dr_bs vn E + k = n 15 by omega, pk_us]
      · rw [pk_un (by omega), pk_un (by omega)]
        exact c4 k (by omega)
    · have hlt := hT r g hr hg2 hq
      have hne : 4 * r + g ≠ yat gO m := by
        intro hz
        exact hq (by omega)
      have hv4 := v1 (dr_sT gO r + g)
      rw [va_up_n hne, va_up_n (by omega)]
      refine ⟨c1, c2, c3, fun k hk => ?_⟩
      rw [dr_bs_up (by omega)]
      have hbs : dr_bs vn (dr_sT gO r + g + 1) ≤ dr_bs vn E := dr_bs_le hlt
      rw [dr_bs] at hbs
      rw [pk_un (by rw [hvo]; omega), pk_un (by omega)]
      exact c4 k hk
  · intro r g hg4 hge
    rw [va_up_n]
    · exact hd r g hg4 hge
    · intro hz
      have hrn : r = n 2 := by omega
      subst hrn
      omega
theorem XI_end1 (h : XI gO vn n a) (h0 : n 0 = 1) (h16 : ¬ n 16 = 0) {n1 : Nat → Nat} {a1 : Nat → Nat → Int32} (hcl : (n1, a1) = clG n a) (e0 : n' 0 = 0) (e1 : n' 1 = n 1) (e2 : n' 2 = n 2 + 1) (e5 : n' 5 = n 5) (e6 : n' 6 = n 6) (e10 : n' 10 = n 10) (e11 : n' 11 = n1 11) (e15 : n' 15 = n 15) (e16 : n' 16 = n 16) (e17 : n' 17 = n 17) (e18 : n' 18 = n 18) : XI gO vn n' a1 := by
  obtain ⟨z11, zw, z1, z2, z3, z4, z5, z8⟩ := clG_X h h0 hcl
  obtain ⟨⟨x0, x1, x2, x5, xb⟩, ⟨g0, g1, g18, g40, g6, g16, g16b, g17b⟩, ⟨t1, t2, t10, t10b⟩, ⟨v0, v1, v15, v60, v11, v17⟩, w⟩ := h
  have g16 := g16 h0
  have hC : tC n' = n 6 := by unfold tC; rw [if_neg (by omega), e6]
  have hz1 : gO (n 2 + 1) = 0 := g0 _ (by omega)
  refine ⟨⟨by omega, by omega, by omega, by rw [e5, e1, z1]; exact x5, by rw [e1, z1]; exact xb⟩, ⟨fun r hr => g0 r (by omega), g1, by rw [e18, e1]; exact g18, by omega, ?_, fun hh => by omega, by omega, by omega⟩, ⟨?_, ?_, by rw [e10, e6, z4]; exact t10, by omega⟩, ⟨fun e he => v0 e (by omega), v1, by rw [e15, e6]; exact v15, by omega, by rw [e11, hC]; exact z11, fun hh => by omega⟩, ?_⟩
  · rw [e6, e2, dr_sT_s, hz1, dr_o1_eq (by omega)]; omega
  · intro r g hr hg
    rw [z3, z4]
    have : r ≤ n 2 := by
      rcases Nat.lt_or_ge (n 2) r with q | q
      · rw [show r = n 2 + 1 by omega, hz1] at hg
        exact absurd hg (Nat.not_lt_zero _)
      · exact q
    exact t1 r g this hg
  · intro r hr hz
    rw [z3, z4]
    have : r ≠ n 2 := by
      intro hq
      subst hq
      omega
    exact t2 r (by omega) hz
  · intro e he
    rw [hC] at he
    rw [z3]
    exact zw e he
theorem XI_end0 (h : XI gO vn n a) (h0 : n 0 = 1) (h16 : n 16 = 0) (e0 : n' 0 = 0) (e1 : n' 1 = n 1) (e2 : n' 2 = n 2 + 1) (e5 : n' 5 = n 5) (e6 : n' 6 = n 6 + 1) (e10 : n' 10 = n 10) (e11 : n' 11 = n 11 + 1) (e15 : n' 15 = n 15) (e16 : n' 16 = n 16) (e17 : n' 17 = n 17) (e18 : n' 18 = n 18) (q1 : a' 1 = a 1) (q3 : a' 3 = upd (a 3) (n 6) (nI 0)) (q4 : a' 4 = upd (a 4) (n 6) (nI 0)) (q6 : a' 6 = upd (a 6) (n 11) (nI 0)) (q7 : a' 7 = upd (a 7) (n 11) (nI 0)) : XI gO vn n' a' := by
  obtain ⟨⟨x0, x1, x2, x5, xb⟩, ⟨g0, g1, g18, g40, g6, g16, g16b, g17b⟩, ⟨t1, t2, t10, t10b⟩, ⟨v0, v1, v15, v60, v11, v17⟩, w⟩ := h
  have g16 := g16 h0
  have hC0 : tC n = n 6 := by unfold tC; rw [if_neg (by omega)]
  have hC : tC n' = n 6 + 1 := by unfold tC; rw [if_neg (by omega), e6]
  unfold XI5 at w
  rw [hC0] at v11 w
  have hz1 : gO (n 2 + 1) = 0 := g0 _ (by omega)
  have hz0 : gO (n 2) = 0 := by omega
  have hv6 := v0 (n 6) (Nat.le_refl _)
  have hT : ∀ r, r < n 2 → dr_sT gO r + dr_o1 (gO r) ≤ n 6 := by
    intro r hr
    have : dr_sT gO (r + 1) ≤ dr_sT gO (n 2) := dr_bs_le hr
    rw [dr_sT_s] at this
    omega
  refine ⟨⟨by omega, by omega, by omega, by rw [e5, e1, q1]; exact x5, by rw [e1, q1]; exact xb⟩, ⟨fun r hr => g0 r (by omega), g1, by rw [e18, e1]; exact g18, by omega, ?_, fun hh => by omega, by omega, by omega⟩, ⟨?_, ?_, ?_, by omega⟩, ⟨fun e he => v0 e (by omega), v1, ?_, by omega, ?_, fun hh => by omega⟩, ?_⟩
  · rw [e6, e2, dr_sT_s, hz1, hz0, dr_o1_0]; omega
  · intro r g hr hg
    have hr2 : r < n 2 := by
      rcases Nat.lt_or_ge r (n 2) with q | q
      · exact q
      · rcases (show r = n 2 ∨ r = n 2 + 1 by omega) with z | z <;> rw [z] at hg <;> omega
    have hle := hT r hr2
    have hge := dr_o1_ge (gO r)
    rw [q3, q4, pk_un (by omega), pk_un (by omega)]
    exact t1 r g (by omega) hg
  · intro r hr hz
    rcases Nat.lt_or_ge r (n 2) with q | q
    · have hle := hT r q
      have hp := dr_o1_pos (gO r)
      rw [q3, q4, pk_un (by omega), pk_un (by omega)]
      exact t2 r q hz
    · have hrn : r = n 2 := by omega
      have hs : dr_sT gO r = n 6 := by rw [hrn]; omega
      rw [q3, q4, hs, pk_us, pk_us]
      exact ⟨rfl, rfl, hv6⟩
  · rw [e10, e6, dr_c2, q4, dr_c2_upd (Nat.le_refl _), pk_us, ← t10]; rfl
  · rw [e15, e6, dr_bs, ← v15, hv6]; rfl
  · rw [e11, hC, dr_sV_s, hv6, ← v11]; rfl
  · intro e he
    rw [hC] at he
    rw [q6, q7, q3]
    rcases Nat.lt_or_ge e (n 6) with q | q
    · obtain ⟨b1, b2, b3, b4⟩ := w e q
      have hle : dr_sV vn (e + 1) ≤ dr_sV vn (n 6) := dr_bs_le q
      rw [dr_sV_s] at hle
      have hp := dr_o1_pos (vn e)
      have hge := dr_o1_ge (vn e)
      refine ⟨by rw [pk_un (by omega), pk_un (by omega)]; exact b1, fun k k0 k1 => by rw [pk_un (by omega)]; exact b2 k k0 k1, fun k k1 => by rw [pk_un (by omega)]; exact b3 k k1, fun hz => by rw [pk_un (by omega)]; exact b4 hz⟩
    · have heE : e = n 6 := by omega
      subst heE
      refine ⟨by rw [← v11, pk_us, pk_us], fun k k0 k1 => by omega, fun k k1 => by omega, fun hz => ?_⟩
      rw [← v11, pk_us]
      decide
theorem RI_end (h : RI gO vn vO n a m b) (h0 : n 0 = 1) : RI gO vn vO (enX n a).1 (enX n a).2 (va_up m 1 0) b := by
  obtain ⟨hX, ⟨⟨y0, y1, y10, y2, y3⟩, yg, yg4, yv, yv4⟩, ⟨p0, p1, p2, p3⟩, hb, hc, hd⟩ := h
  have hX' := hX
  obtain ⟨⟨x0, x1, x2, x5, xb⟩, ⟨g0, g1, g18, g40, g6, g16, g16b, g17b⟩, -⟩ := hX'
  have g16 := g16 h0
  have hz1 : gO (n 2 + 1) = 0 := g0 _ (by omega)
  have hYI : YI gO vO (va_up m 1 0) b := ⟨⟨y0, Nat.zero_le _, Nat.zero_le _, y2, y3⟩, yg, yg4, yv, yv4⟩
  by_cases h16 : n 16 = 0
  · have hu : enX n a = enE (va_up (va_up n 6 (n 6 + 1)) 11 (n 11 + 1)) (va_up (va_up (va_up (va_up a 3 (upd (a 3) (n 6) (nI 0))) 4 (upd (a 4) (n 6) (nI 0))) 6 (upd (a 6) (n 11) (nI 0))) 7 (upd (a 7) (n 11) (nI 0))) := by unfold enX; rw [if_pos h16]
    rw [hu]
    refine ⟨XI_end0 hX h0 h16 rfl rfl rfl rfl rfl rfl rfl rfl rfl rfl rfl rfl rfl rfl rfl rfl, hYI, ⟨p0, rfl, p2, p3⟩, hb, ?_, hd⟩
    intro r g hr hg
    have hr : r ≤ n 2 + 1 := hr
    have hr2 : r < n 2 := by
      rcases Nat.lt_or_ge r (n 2) with q | q
      · exact q
      · rcases (show r = n 2 ∨ r = n 2 + 1 by omega) with z | z <;> rw [z] at hg <;> omega
    have hle : dr_sT gO (r + 1) ≤ dr_sT gO (n 2) := dr_bs_le hr2
    rw [dr_sT_s] at hle
    have hge := dr_o1_ge (gO r)
    show _ ∧ _ = (if upd (a 4) (n 6) (nI 0) _ = 2 then 1 else 0) ∧ _ = (if upd (a 4) (n 6) (nI 0) _ = 2 then a 5 (dr_c2 (upd (a 4) (n 6) (nI 0)) _) else 0) ∧ ∀ k, _ → _ = a 8 _
    rw [pk_un (by omega), dr_c2_upd (by omega)]
    exact hc r g (by omega) hg
  · obtain ⟨n1, a1, hcl⟩ : ∃ n1 a1, (n1, a1) = clG n a := ⟨_, _, rfl⟩
    obtain ⟨z11, zw, z1, z2, z3, z4, z5, z8⟩ := clG_X hX h0 hcl
    have hk := clG_n hcl
    have hu : enX n a = enE n1 a1 := by unfold enX; rw [if_neg h16, ← hcl]
    rw [hu]
    have k1 : (enE n1 a1).1 1 = n 1 := hk 1 (by decide)
    have k2 : (enE n1 a1).1 2 = n 2 + 1 := by rw [← hk 2 (by decide)]; rfl
    have k18 : (enE n1 a1).1 18 = n 18 := hk 18 (by decide)
    have k15 : (enE n1 a1).1 15 = n 15 := hk 15 (by decide)
    refine ⟨XI_end1 hX h0 h16 hcl rfl k1 k2 (hk 5 (by decide)) (hk 6 (by decide)) (hk 10 (by decide)) rfl k15 (hk 16 (by decide)) (hk 17 (by decide)) k18, hYI, ⟨by rw [k1]; exact p0, rfl, by rw [k18]; exact p2, by rw [k15]; exact p3⟩, ?_, ?_, hd⟩
    · intro r hr
      rw [k1] at hr
      show b 1 r = a1 1 r ∧ b 2 r = (if a1 1 r = 0 then 0 else a1 2 (dr_cb (a1 1) r))
      rw [z1, z2]
      exact hb r hr
    · intro r g hr hg
      rw [k2] at hr
      show _ ∧ b 4 _ = (if a1 4 _ = 2 then 1 else 0) ∧ b 5 _ = (if a1 4 _ = 2 then a1 5 (dr_c2 (a1 4) _) else 0) ∧ ∀ k, _ → b 7 _ = a1 8 _
      rw [z4, z5, z8]
      refine hc r g ?_ hg
      rcases Nat.lt_or_ge (n 2) r with q | q
      · rw [show r = n 2 + 1 by omega, hz1] at hg
        exact absurd hg (Nat.not_lt_zero _)
      · exact q
end RIS2
theorem RI_0 : RI (fun _ => 0) (fun _ => 0) (fun _ => 0) (fun _ => 0) (fun _ _ => 0) (fun _ => 0) (fun _ _ => 0) := by
  refine ⟨⟨⟨by decide, rfl, by decide, rfl, fun r _ => Or.inl rfl⟩, ⟨fun _ _ => rfl, fun _ => Nat.zero_le _, rfl, Nat.zero_le _, rfl, fun _ => rfl, Nat.zero_le _, Nat.zero_le _⟩, ⟨fun r g _ hg => absurd hg (Nat.not_lt_zero _), fun r hr => absurd hr (Nat.not_lt_zero _), rfl, Nat.zero_le _⟩, ⟨fun _ _ => rfl, fun _ => Nat.zero_le _, rfl, Nat.zero_le _, rfl, fun _ _ => rfl⟩, fun e he => absurd he (Nat.not_lt_zero _)⟩, ⟨⟨by decide, by decide, by decide, by decide, by decide⟩, fun _ _ => rfl, fun _ => Nat.zero_le _, fun _ _ => rfl, fun _ => Nat.zero_le _⟩, ⟨rfl, rfl, rfl, rfl⟩, fun r hr => absurd hr (Nat.not_lt_zero _), fun r g _ hg => absurd hg (Nat.not_lt_zero _), fun _ _ _ _ => rfl⟩
end
section
set_option maxRecDepth 100000
/-! the queries answer alike -/
/-- sum of the first k, with wrap -/
def gsum (f : Nat → Int32) : Nat → Int32
  | 0 => 0
  | k + 1 => gsum f k + f k
theorem gsum_congr {f g : Nat → Int32} : ∀ {k : Nat}, (∀ i, i < k → f i = g i) → gsum f k = gsum g k
  | 0, _ => rfl
  | k + 1, h => by
    rw [gsum, gsum, gsum_congr (fun i hi => h i (by omega)), h k (by omega)]
section ANS
variable {gO vn vO n m : Nat → Nat} {a b : Nat → Nat → Int32}
theorem RI_groups (h : RI gO vn vO n a m b) (p : Int32) : ansG gO (n 2) p = ansG gO (m 0 - m 1) p := by rw [RI_N h]
theorem RI_values (h : RI gO vn vO n a m b) (p z : Int32) : ansV gO (fun R G => vn (dr_sT gO R + G)) (n 2) p z = ansV gO (fun R G => vO (4 * R + G)) (m 0 - m 1) p z := by
  rw [RI_N h]
  unfold ansV
  by_cases ho : outG gO (n 2) p z
  · rw [if_pos ho, if_pos ho]
  · rw [if_neg ho, if_neg ho]
    have h2 := xi_2 h.1
    obtain ⟨R, G, hR, hG, rfl, rfl⟩ := outG_ex ho h2 h.1.2.1.2.1
    have := h.1.2.1.2.1 R
    rw [cl_nI (by omega), cl_nI (by omega)]
    dsimp only
    rw [(h.2.2.2.2.1 R G (by omega) hG).1]
theorem RI_valueAt (h : RI gO vn vO n a m b) (p z k : Int32) : ansA gO (fun R G => vn (dr_sT gO R + G)) (fun R G k => a 8 (dr_bs vn (dr_sT gO R + G) + k)) (n 2) p z k = ansA gO (fun R G => vO (4 * R + G)) (fun R G k => b 7 (16 * R + 4 * G + k)) (m 0 - m 1) p z k := by
  rw [RI_N h]
  unfold ansA
  by_cases ho : outG gO (n 2) p z
  · rw [if_pos (Or.inl ho), if_pos (Or.inl ho)]
  · have h2 := xi_2 h.1
    obtain ⟨R, G, hR, hG, rfl, rfl⟩ := outG_ex ho h2 h.1.2.1.2.1
    have := h.1.2.1.2.1 R
    obtain ⟨c1, -, -, c4⟩ := h.2.2.2.2.1 R G (by omega) hG
    have hv4 := h.1.2.2.2.1.2.1 (dr_sT gO R + G)
    have eR := cl_nI (show R < 1000 by omega)
    have eG := cl_nI (show G < 1000 by omega)
    by_cases hk : outR k (vn (dr_sT gO R + G))
    · exact (if_pos (Or.inr (by (try dsimp only); rw [eR, eG]; exact hk))).trans (if_pos (Or.inr (by (try dsimp only); rw [eR, eG, c1]; exact hk))).symm
    · refine (if_neg (fun q => q.elim ho (fun q => hk (by (try dsimp only at q); rw [eR, eG] at q; exact q)))).trans (Eq.trans ?_ (if_neg (fun q => q.elim ho (fun q => hk (by (try dsimp only at q); rw [eR, eG, c1] at q; exact q)))).symm)
      obtain ⟨K, hK, rfl⟩ := outR_ex hk (by omega)
      rw [eR, eG, cl_nI (by omega)]
      exact (c4 K hK).symm
theorem RI_hasNote (h : RI gO vn vO n a m b) (p : Int32) : ansH (a 1) (n 2) p = ansH (b 1) (m 0 - m 1) p := by
  rw [RI_N h]
  unfold ansH
  by_cases ho : outR p (n 2)
  · rw [if_pos ho, if_pos ho]
  · rw [if_neg ho, if_neg ho]
    have h2 := xi_2 h.1
    obtain ⟨R, hR, rfl⟩ := outR_ex ho (by omega)
    have := h.1.1.2.1
    rw [cl_nI (by omega), (h.2.2.2.1 R (by omega)).1]
theorem RI_label (h : RI gO vn vO n a m b) (p z : Int32) : ansL gO (fun R => if a 1 R = 0 then 0 else a 2 (dr_cb (a 1) R)) (fun R G => if a 4 (dr_sT gO R + G) = 2 then a 5 (dr_c2 (a 4) (dr_sT gO R + G)) else 0) (n 2) p z = ansL gO (b 2) (fun R G => b 5 (4 * R + G)) (m 0 - m 1) p z := by
  rw [RI_N h]
  unfold ansL
  by_cases ho : outR p (n 2)
  · rw [if_pos ho, if_pos ho]
  · rw [if_neg ho, if_neg ho]
    have h2 := xi_2 h.1
    obtain ⟨R, hR, rfl⟩ := outR_ex ho (by omega)
    have h1 := h.1.1.2.1
    rw [cl_nI (by omega)]
    by_cases hz : z = -1
    · rw [if_pos hz, if_pos hz, (h.2.2.2.1 R (by omega)).2]
    · rw [if_neg hz, if_neg hz]
      by_cases hg : outR z (gO R)
      · rw [if_pos hg, if_pos hg]
      · rw [if_neg hg, if_neg hg]
        have := h.1.2.1.2.1 R
        obtain ⟨G, hG, rfl⟩ := outR_ex hg (by omega)
        rw [cl_nI (by omega)]
        exact (h.2.2.2.2.1 R G (by omega) hG).2.2.1.symm
/-- values seen before value k of entry e -/
theorem xi_c2 (h : XI gO vn n a) {e k : Nat} (he : e < tC n) (hk : k < vn e) : dr_c2 (a 7) (dr_sV vn e + k) = dr_bs vn e + k := by
  rcases Nat.eq_zero_or_pos k with z | z
  · subst z
    exact (xi_vS h e (by omega)).2.2.1
  · have hge := dr_o1_ge (vn e)
    have := (xi_vpos h he (k := k - 1) (by omega)).2.2.1
    rw [if_neg (by omega)] at this
    rw [show dr_sV vn e + k = dr_sV vn e + (k - 1) + 1 by omega, this]
    omega
/-- is entry e wanted -/
abbrev wE (n : Nat → Nat) (a : Nat → Nat → Int32) (tag : Int32) (e : Nat) : Prop := a 4 e = 2 ∧ a 5 (dr_c2 (a 4) e) = tag ∧ dr_zc (a 3) (e + 1) ≤ n 2
theorem sb_w (h : XI gO vn n a) (tag : Int32) {e : Nat} (he : e < tC n) : ∀ k, k < dr_o1 (vn e) → sbW n a tag (dr_sV vn e + k + 1) = if wE n a tag e then 1 else 0 := by
  intro k
  obtain ⟨b1, b2, b3, b4⟩ := h.2.2.2.2 e he
  induction k with
  | zero =>
    intro hk
    rw [Nat.add_zero]
    have h01 := xi_t01 h (Nat.lt_of_lt_of_le he (tC_le n))
    have hlt : a 6 (dr_sV vn e) < 2 := by
      rw [b1]
      rcases h01 with z | z <;> rw [z] <;> decide
    have p1 := (xi_vpos h he hk).1
    rw [Nat.add_zero] at p1
    rw [sbW, if_pos hlt, (xi_vS h e (by omega)).2.2.2, p1]
  | succ k ih =>
    intro hk
    have hpos : 0 < vn e := by
      rcases Nat.eq_zero_or_pos (vn e) with z | z
      · rw [z, dr_o1_0] at hk; omega
      · exact z
    rw [dr_o1_eq hpos] at hk
    have q6 := b2 (k + 1) (by omega) hk
    rw [sbW, if_neg (by rw [q6]; decide)]
    exact ih (by rw [dr_o1_eq hpos]; omega)
theorem sb_in (h : XI gO vn n a) (tag : Int32) {e : Nat} (he : e < tC n) : ∀ k, k ≤ vn e → sbS n a tag (dr_sV vn e + k) = sbS n a tag (dr_sV vn e) + (if wE n a tag e then gsum (fun j => a 8 (dr_bs vn e + j)) k else 0) := by
  intro k
  induction k with
  | zero =>
    intro _
    rw [Nat.add_zero]
    split
    · rw [gsum]; exact (Int32.add_zero _).symm
    · exact (Int32.add_zero _).symm
  | succ k ih =>
    intro hk
    have q7 := (h.2.2.2.2 e he).2.2.1 k (by omega)
    have hge := dr_o1_ge (vn e)
    show sbS n a tag (dr_sV vn e + k + 1) = _
    rw [sbS, if_pos q7, ih (by omega), sb_w h tag he k (by omega), xi_c2 h he (by omega)]
    by_cases hw : wE n a tag e
    · rw [if_pos hw, if_pos hw, if_pos hw, if_neg (by decide), gsum, Int32.add_assoc]
    · rw [if_neg hw, if_neg hw, if_neg hw, if_pos rfl, Int32.add_zero]
theorem sb_e (h : XI gO vn n a) (tag : Int32) {e : Nat} (he : e < tC n) : sbS n a tag (dr_sV vn (e + 1)) = sbS n a tag (dr_sV vn e) + (if wE n a tag e then gsum (fun j => a 8 (dr_bs vn e + j)) (vn e) else 0) := by
  rcases Nat.eq_zero_or_pos (vn e) with z | z
  · rw [dr_sV_s, z, dr_o1_0]
    have h2 := (h.2.2.2.2 e he).2.2.2 z
    rw [sbS, if_neg (by intro hc; rw [hc] at h2; exact absurd h2 (by decide))]
    split
    · rw [gsum]; exact (Int32.add_zero _).symm
    · exact (Int32.add_zero _).symm
  · rw [dr_sV_s, dr_o1_eq z]
    exact sb_in h tag he (vn e) (Nat.le_refl _)
theorem tw_in (hv4 : ∀ t, vO t ≤ 4) (tag : Int32) (t : Nat) (s : Int32) : ∀ v, v ≤ 4 → twI gO vO b tag t s v = s + (if t % 4 < gO (t / 4) ∧ ¬ b 4 t = 0 ∧ b 5 t = tag then gsum (fun j => b 7 (4 * t + j)) (if v < vO t then v else vO t) else 0) := by
  intro v
  induction v with
  | zero =>
    intro _
    rw [twI]
    split
    · rw [show (if 0 < vO t then 0 else vO t) = 0 by split <;> omega, gsum]; exact (Int32.add_zero _).symm
    · exact (Int32.add_zero _).symm
  | succ v ih =>
    intro hv
    rw [twI, ih (by omega)]
    by_cases hc : t % 4 < gO (t / 4) ∧ ¬ b 4 t = 0 ∧ b 5 t = tag
    · rw [if_pos hc, if_pos hc]
      by_cases hlt : v < vO t
      · rw [if_pos ⟨hc.1, hc.2.1, hc.2.2, hlt⟩, if_pos hlt, show (if v + 1 < vO t then v + 1 else vO t) = v + 1 by split <;> omega, gsum, Int32.add_assoc]
      · rw [if_neg (fun q => hlt q.2.2.2), if_neg hlt, if_neg (by omega)]
    · rw [if_neg hc, if_neg hc, if_neg (fun q => hc ⟨q.1, q.2.1, q.2.2.1⟩)]
theorem tw_s (hv4 : ∀ t, vO t ≤ 4) (tag : Int32) (t : Nat) : twS gO vO b tag (t + 1) = twS gO vO b tag t + (if t % 4 < gO (t / 4) ∧ ¬ b 4 t = 0 ∧ b 5 t = tag then gsum (fun j => b 7 (4 * t + j)) (vO t) else 0) := by
  rw [twS, tw_in hv4 tag t _ 4 (Nat.le_refl _)]
  have := hv4 t
  rw [show (if 4 < vO t then 4 else vO t) = vO t by split <;> omega]
/-- within a record that has ended, group by group -/
theorem sb_g (h : RI gO vn vO n a m b) (tag : Int32) {r : Nat} (hr : r < n 2) (h0 : sbS n a tag (dr_sV vn (dr_sT gO r)) = twS gO vO b tag (4 * r)) : ∀ g, g ≤ gO r → sbS n a tag (dr_sV vn (dr_sT gO r + g)) = twS gO vO b tag (4 * r + g) := by
  intro g
  induction g with
  | zero => intro _; exact h0
  | succ g ih =>
    intro hg
    have hge := dr_o1_ge (gO r)
    have g4 := h.1.2.1.2.1 r
    have het := xi_end_tC h.1 hr (show g < dr_o1 (gO r) by omega)
    obtain ⟨c1, c2, c3, c4⟩ := h.2.2.2.2.1 r g (by omega) (by omega)
    have hzc := (xi_pos h.1 (r := r) (g := g) (Or.inl ⟨hr, by omega⟩)).1
    show sbS n a tag (dr_sV vn (dr_sT gO r + g + 1)) = twS gO vO b tag (4 * r + g + 1)
    rw [sb_e h.1 tag (by omega), tw_s h.2.1.2.2.2.2 tag, ih (by omega)]
    congr 1
    rw [show (4 * r + g) % 4 = g by omega, show (4 * r + g) / 4 = r by omega]
    by_cases hA : a 4 (dr_sT gO r + g) = 2
    · rw [if_pos hA] at c2 c3
      by_cases hB : a 5 (dr_c2 (a 4) (dr_sT gO r + g)) = tag
      · rw [if_pos ⟨hA, hB, by omega⟩, if_pos ⟨by omega, by rw [c2]; decide, by rw [c3]; exact hB⟩, c1]
        refine gsum_congr (fun i hi => ?_)
        rw [show 4 * (4 * r + g) + i = 16 * r + 4 * g + i by omega]
        exact (c4 i hi).symm
      · rw [if_neg (fun q => hB q.2.1), if_neg (fun q => hB (by rw [← c3]; exact q.2.2))]
    · rw [if_neg hA] at c2
      rw [if_neg (fun q => hA q.1), if_neg (fun q => q.2.1 c2)]
theorem tw_tail (hv4 : ∀ t, vO t ≤ 4) (tag : Int32) {r : Nat} (g4 : gO r ≤ 4) : ∀ k, gO r + k ≤ 4 → twS gO vO b tag (4 * r + (gO r + k)) = twS gO vO b tag (4 * r + gO r) := by
  intro k
  induction k with
  | zero => intro _; rfl
  | succ k ih =>
    intro hk
    show twS gO vO b tag (4 * r + (gO r + k) + 1) = _
    rw [tw_s hv4 tag, ih (by omega), if_neg, Int32.add_zero]
    intro q
    have := q.1
    rw [show (4 * r + (gO r + k)) % 4 = gO r + k by omega, show (4 * r + (gO r + k)) / 4 = r by omega] at this
    omega
theorem sb_r (h : RI gO vn vO n a m b) (tag : Int32) : ∀ r, r ≤ n 2 → sbS n a tag (dr_sV vn (dr_sT gO r)) = twS gO vO b tag (4 * r) := by
  intro r
  induction r with
  | zero => intro _; rfl
  | succ r ih =>
    intro hr
    have ih := ih (by omega)
    have g4 := h.1.2.1.2.1 r
    have hs : sbS n a tag (dr_sV vn (dr_sT gO (r + 1))) = twS gO vO b tag (4 * r + gO r) := by
      rcases Nat.eq_zero_or_pos (gO r) with z | z
      · obtain ⟨-, t2, t3⟩ := h.1.2.2.1.2.1 r hr z
        have het := xi_end_tC h.1 (show r < n 2 by omega) (dr_o1_pos (gO r))
        rw [Nat.add_zero] at het
        rw [dr_sT_s, z, dr_o1_0, sb_e h.1 tag (by omega), ih, if_neg (fun q => by have q1 := q.1; rw [t2] at q1; exact absurd q1 (by decide)), Int32.add_zero]; rfl
      · rw [dr_sT_s, dr_o1_eq z]
        exact sb_g h tag hr ih (gO r) (Nat.le_refl _)
    rw [hs]
    have := tw_tail (b := b) h.2.1.2.2.2.2 tag g4 (4 - gO r) (by omega)
    rw [← this]
    congr 1
    omega
/-- entries of the open record add nothing -/
theorem xi_open (h : XI gO vn n a) {e : Nat} (h1 : dr_sT gO (n 2) ≤ e) (h2 : e < n 6) : dr_zc (a 3) (e + 1) = n 2 + 1 := by
  have g6 := h.2.1.2.2.2.2.1
  have := (xi_pos h (r := n 2) (g := e - dr_sT gO (n 2)) (Or.inr ⟨rfl, by omega⟩)).1
  rw [show dr_sT gO (n 2) + (e - dr_sT gO (n 2)) = e by omega] at this
  exact this
theorem xi_sTtC (h : XI gO vn n a) : dr_sT gO (n 2) ≤ tC n := by
  have g6 := h.2.1.2.2.2.2.1
  unfold tC
  split
  · next hc =>
    have := h.2.1.2.2.2.2.2.1 hc.1
    omega
  · omega
theorem sb_o (h : RI gO vn vO n a m b) (tag : Int32) : ∀ k, dr_sT gO (n 2) + k ≤ tC n → sbS n a tag (dr_sV vn (dr_sT gO (n 2) + k)) = sbS n a tag (dr_sV vn (dr_sT gO (n 2))) := by
  intro k
  induction k with
  | zero => intro _; rfl
  | succ k ih =>
    intro hk
    show sbS n a tag (dr_sV vn (dr_sT gO (n 2) + k + 1)) = _
    have hle := tC_le n
    have hz := xi_open h.1 (show dr_sT gO (n 2) ≤ dr_sT gO (n 2) + k by omega) (by omega)
    rw [sb_e h.1 tag (by omega), ih (by omega), if_neg (fun q => by have := q.2.2; omega), Int32.add_zero]
theorem RI_sum (h : RI gO vn vO n a m b) (tag : Int32) : sbS n a tag (n 11) = twS gO vO b tag (4 * (m 0 - m 1)) := by
  rw [RI_N h, h.1.2.2.2.1.2.2.2.2.1, ← sb_r h tag (n 2) (Nat.le_refl _)]
  have hle := xi_sTtC h.1
  have := sb_o h tag (tC n - dr_sT gO (n 2)) (by omega)
  rw [show dr_sT gO (n 2) + (tC n - dr_sT gO (n 2)) = tC n by omega] at this
  exact this
/-- a value entry lies in the block of a record -/
theorem xi_vrec (h : XI gO vn n a) {r i : Nat} (hr : r < n 2) (h1 : dr_sV vn (dr_sT gO r) ≤ i) (h2 : i < dr_sV vn (dr_sT gO (r + 1))) : ∃ g k, g < dr_o1 (gO r) ∧ k < dr_o1 (vn (dr_sT gO r + g)) ∧ i = dr_sV vn (dr_sT gO r + g) + k := by
  have hle : dr_sT gO (r + 1) ≤ dr_sT gO (n 2) := dr_bs_le hr
  have htc := xi_sTtC h
  have hb : dr_sV vn (dr_sT gO (r + 1)) ≤ dr_sV vn (tC n) := dr_bs_le (by omega)
  have h11 := h.2.2.2.1.2.2.2.2.1
  obtain ⟨e, k, he, hk, rfl⟩ := xi_vdec h (show i < n 11 by omega)
  have e1 : dr_sT gO r ≤ e := by
    rcases Nat.lt_or_ge e (dr_sT gO r) with q | q
    · have : dr_sV vn (e + 1) ≤ dr_sV vn (dr_sT gO r) := dr_bs_le q
      rw [dr_sV_s] at this
      omega
    · exact q
  have e2 : e < dr_sT gO (r + 1) := by
    rcases Nat.lt_or_ge e (dr_sT gO (r + 1)) with q | q
    · exact q
    · have : dr_sV vn (dr_sT gO (r + 1)) ≤ dr_sV vn e := dr_bs_le q
      omega
  rw [dr_sT_s] at e2
  refine ⟨e - dr_sT gO r, k, by omega, ?_, ?_⟩
  · rw [show dr_sT gO r + (e - dr_sT gO r) = e by omega]; exact hk
  · rw [show dr_sT gO r + (e - dr_sT gO r) = e by omega]
abbrev rH (a : Nat → Nat → Int32) (lo hi : Int32) (i : Nat) : Prop := a 7 i = 2 ∧ ¬ a 8 (dr_c2 (a 7) i) < lo ∧ ¬ hi < a 8 (dr_c2 (a 7) i)
theorem rw_in (h : XI gO vn n a) (lo hi : Int32) {r : Nat} (hr : r < n 2) (hl : (rwP n a lo hi (dr_sV vn (dr_sT gO r))).2 ≤ r) : ∀ d, dr_sV vn (dr_sT gO r) + d ≤ dr_sV vn (dr_sT gO (r + 1)) → rwP n a lo hi (dr_sV vn (dr_sT gO r) + d) = if hAny (fun j => decide (rH a lo hi (dr_sV vn (dr_sT gO r) + j))) d = true then ((rwP n a lo hi (dr_sV vn (dr_sT gO r))).1 + 1, r + 1) else rwP n a lo hi (dr_sV vn (dr_sT gO r)) := by
  intro d
  induction d with
  | zero =>
    intro _
    rw [hAny, Nat.add_zero, if_neg (by decide)]
  | succ d ih =>
    intro hd
    have ih := ih (by omega)
    obtain ⟨g, k, hg, hk, hi2⟩ := xi_vrec h hr (show dr_sV vn (dr_sT gO r) ≤ dr_sV vn (dr_sT gO r) + d by omega) (by omega)
    have het := xi_end_tC h hr hg
    have hz : dr_zc (a 6) (dr_sV vn (dr_sT gO r) + d + 1) = r + 1 := by
      rw [hi2, (xi_vpos h (by omega) hk).1]
      exact (xi_pos h (Or.inl ⟨hr, hg⟩)).1
    show rwP n a lo hi (dr_sV vn (dr_sT gO r) + d + 1) = _
    rw [rwP, ih, hAny]
    unfold rwC
    rw [hz]
    by_cases hA : hAny (fun j => decide (rH a lo hi (dr_sV vn (dr_sT gO r) + j))) d = true
    · rw [if_pos hA, if_neg (fun q => q.2.2.2.1 rfl), if_pos (by rw [hA]; rfl)]
    · rw [if_neg hA]
      have hA : hAny (fun j => decide (rH a lo hi (dr_sV vn (dr_sT gO r) + j))) d = false := by simpa using hA
      rw [hA, Bool.false_or]
      by_cases hq : rH a lo hi (dr_sV vn (dr_sT gO r) + d)
      · rw [if_pos ⟨hq.1, hq.2.1, hq.2.2, by omega, by omega⟩, if_pos (decide_eq_true hq)]
      · rw [if_neg (fun q => hq ⟨q.1, q.2.1, q.2.2.1⟩), if_neg (by rw [decide_eq_true_iff]; exact hq)]
/-- a record holds a value of the range in the store just when in the model -/
theorem rw_any (h : RI gO vn vO n a m b) (lo hi : Int32) {r : Nat} (hr : r < n 2) : hAny (fun j => decide (rH a lo hi (dr_sV vn (dr_sT gO r) + j))) (dr_sV vn (dr_sT gO (r + 1)) - dr_sV vn (dr_sT gO r)) = hAny (hB gO vO b lo hi r) 16 := by
  have g4 := h.1.2.1.2.1 r
  have hmono : dr_sV vn (dr_sT gO r) ≤ dr_sV vn (dr_sT gO (r + 1)) := dr_bs_le (by rw [dr_sT_s]; omega)
  rw [Bool.eq_iff_iff]
  constructor
  · intro hx
    obtain ⟨d, hd, hd2⟩ := hAny_ex hx
    have hd2 := of_decide_eq_true hd2
    obtain ⟨g, k, hg, hk, hi2⟩ := xi_vrec h.1 hr (show dr_sV vn (dr_sT gO r) ≤ dr_sV vn (dr_sT gO r) + d by omega) (by omega)
    have het := xi_end_tC h.1 hr hg
    have hv4 := h.1.2.2.2.1.2.1 (dr_sT gO r + g)
    unfold rH at hd2
    rw [hi2] at hd2
    have hvp : 0 < vn (dr_sT gO r + g) := by
      rcases Nat.eq_zero_or_pos (vn (dr_sT gO r + g)) with z | z
      · rw [z, dr_o1_0] at hk
        have h2 := (h.1.2.2.2.2 (dr_sT gO r + g) (by omega)).2.2.2 z
        rw [show k = 0 by omega, Nat.add_zero] at hd2
        rw [hd2.1] at h2
        exact absurd h2 (by decide)
      · exact z
    rw [dr_o1_eq hvp] at hk
    have hgp : g < gO r := by
      rcases Nat.eq_zero_or_pos (gO r) with z | z
      · have h3 := (h.1.2.2.1.2.1 r hr z).2.2
        rw [z, dr_o1_0] at hg
        rw [show g = 0 by omega, Nat.add_zero] at hvp
        omega
      · rw [dr_o1_eq z] at hg; exact hg
    obtain ⟨c1, c2, c3, c4⟩ := h.2.2.2.2.1 r g (by omega) hgp
    rw [xi_c2 h.1 (by omega) hk, ← c4 k hk] at hd2
    refine hAny_true (i := 4 * g + k) (decide_eq_true ?_) (by omega)
    unfold hC
    rw [show (4 * g + k) / 4 = g by omega, show (4 * g + k) % 4 = k by omega, c1, ← Nat.add_assoc]
    exact ⟨⟨hgp, hk⟩, hd2.2.1, hd2.2.2⟩
  · intro hx
    obtain ⟨i, hi1, hi2⟩ := hAny_ex hx
    have hi2 := of_decide_eq_true hi2
    obtain ⟨⟨q1, q2⟩, q3, q4⟩ := hi2
    obtain ⟨c1, c2, c3, c4⟩ := h.2.2.2.2.1 r (i / 4) (by omega) q1
    rw [c1] at q2
    have hge := dr_o1_ge (gO r)
    have het := xi_end_tC h.1 hr (show i / 4 < dr_o1 (gO r) by omega)
    have c4 := c4 (i % 4) q2
    rw [show 16 * r + 4 * (i / 4) + i % 4 = 16 * r + i by omega] at c4
    have m1 : dr_sV vn (dr_sT gO r) ≤ dr_sV vn (dr_sT gO r + i / 4) := dr_bs_le (by omega)
    have m2 : dr_sV vn (dr_sT gO r + i / 4 + 1) ≤ dr_sV vn (dr_sT gO (r + 1)) := dr_bs_le (by rw [dr_sT_s]; omega)
    rw [dr_sV_s] at m2
    have hge2 := dr_o1_ge (vn (dr_sT gO r + i / 4))
    refine hAny_true (i := dr_sV vn (dr_sT gO r + i / 4) + i % 4 - dr_sV vn (dr_sT gO r)) (decide_eq_true ?_) (by omega)
    unfold rH
    rw [show dr_sV vn (dr_sT gO r) + (dr_sV vn (dr_sT gO r + i / 4) + i % 4 - dr_sV vn (dr_sT gO r)) = dr_sV vn (dr_sT gO r + i / 4) + i % 4 by omega, xi_c2 h.1 (by omega) q2, ← c4]
    exact ⟨(h.1.2.2.2.2 (dr_sT gO r + i / 4) (by omega)).2.2.1 (i % 4) q2, q3, q4⟩
theorem rw_r (h : RI gO vn vO n a m b) (lo hi : Int32) : ∀ r, r ≤ n 2 → (rwP n a lo hi (dr_sV vn (dr_sT gO r))).1 = rwT gO vO b lo hi r ∧ (rwP n a lo hi (dr_sV vn (dr_sT gO r))).2 ≤ r := by
  intro r
  induction r with
  | zero => intro _; exact ⟨rfl, Nat.le_refl _⟩
  | succ r ih =>
    intro hr
    obtain ⟨i1, i2⟩ := ih (by omega)
    have hmono : dr_sV vn (dr_sT gO r) ≤ dr_sV vn (dr_sT gO (r + 1)) := dr_bs_le (by rw [dr_sT_s]; omega)
    have hx := rw_in h.1 lo hi (show r < n 2 by omega) i2 (dr_sV vn (dr_sT gO (r + 1)) - dr_sV vn (dr_sT gO r)) (by omega)
    rw [show dr_sV vn (dr_sT gO r) + (dr_sV vn (dr_sT gO (r + 1)) - dr_sV vn (dr_sT gO r)) = dr_sV vn (dr_sT gO (r + 1)) by omega, rw_any h lo hi (by omega)] at hx
    rw [hx, rwT]
    by_cases hq : hAny (hB gO vO b lo hi r) 16 = true
    · rw [if_pos hq, if_pos hq]
      exact ⟨by rw [i1], Nat.le_refl _⟩
    · rw [if_neg hq, if_neg hq]
      exact ⟨by rw [i1]; rfl, by omega⟩
theorem rw_o (h : RI gO vn vO n a m b) (lo hi : Int32) : ∀ d, dr_sV vn (dr_sT gO (n 2)) + d ≤ n 11 → rwP n a lo hi (dr_sV vn (dr_sT gO (n 2)) + d) = rwP n a lo hi (dr_sV vn (dr_sT gO (n 2))) := by
  intro d
  induction d with
  | zero => intro _; rfl
  | succ d ih =>
    intro hd
    show rwP n a lo hi (dr_sV vn (dr_sT gO (n 2)) + d + 1) = _
    rw [rwP, if_neg, ih (by omega)]
    intro q
    have hq := q.2.2.2.2
    obtain ⟨e, k, he, hk, hi2⟩ := xi_vdec h.1 (show dr_sV vn (dr_sT gO (n 2)) + d < n 11 by omega)
    have e1 : dr_sT gO (n 2) ≤ e := by
      rcases Nat.lt_or_ge e (dr_sT gO (n 2)) with z | z
      · have : dr_sV vn (e + 1) ≤ dr_sV vn (dr_sT gO (n 2)) := dr_bs_le z
        rw [dr_sV_s] at this
        omega
      · exact z
    rw [hi2, (xi_vpos h.1 he hk).1, xi_open h.1 e1 (Nat.lt_of_lt_of_le he (tC_le n))] at hq
    omega
theorem RI_rw (h : RI gO vn vO n a m b) (lo hi : Int32) : nI (rwP n a lo hi (n 11)).1 = nI (rwT gO vO b lo hi (m 0 - m 1)) := by
  rw [RI_N h, ← (rw_r h lo hi (n 2) (Nat.le_refl _)).1]
  have h11 := h.1.2.2.2.1.2.2.2.2.1
  have hle : dr_sV vn (dr_sT gO (n 2)) ≤ dr_sV vn (tC n) := dr_bs_le (xi_sTtC h.1)
  have := rw_o h lo hi (n 11 - dr_sV vn (dr_sT gO (n 2))) (by omega)
  rw [show dr_sV vn (dr_sT gO (n 2)) + (n 11 - dr_sV vn (dr_sT gO (n 2))) = n 11 by omega] at this
  rw [this]
end ANS
end
section
set_option maxRecDepth 100000
/-! one call on both sides: the answers are the same, and the relation holds again -/
section GLUE
variable {gO vn vO n m : Nat → Nat} {a b : Nat → Nat → Int32} {r1 r2 : Int32} {u v : SX}
theorem gl_q {X Y : Int32} (h : RI gO vn vO n a m b) (e : X = Y) (h0 : r1 = X ∧ ∃ x y, u = (fd n x y, a)) (h1 : r2 = Y ∧ v = (m, b)) : r1 = r2 ∧ ∃ gO vn vO, RI gO vn vO u.1 u.2 v.1 v.2 := by
  obtain ⟨e1, x, y, rfl⟩ := h0
  obtain ⟨e2, rfl⟩ := h1
  exact ⟨by rw [e1, e2, e], gO, vn, vO, h⟩
theorem gl_begin {hs : Nat} {x : Int32} (h : RI gO vn vO n a m b) (hhs : hs ≤ 1) (h0 : (n 0 = 0 ∧ n 1 < 12 ∧ r1 = nI (n 1) ∧ u = bgX n a hs x) ∨ (¬ (n 0 = 0 ∧ n 1 < 12) ∧ r1 = -1 ∧ u = (n, a))) (h1 : (m 1 = 0 ∧ ¬ m 0 = 12 ∧ r2 = nI (m 0) ∧ v = ybX m b hs x) ∨ (¬ (m 1 = 0 ∧ ¬ m 0 = 12) ∧ r2 = -1 ∧ v = (m, b))) : r1 = r2 ∧ ∃ gO vn vO, RI gO vn vO u.1 u.2 v.1 v.2 := by
  have x2 := h.1.1.2.2.1
  have p0 := h.2.2.1.1
  have p1 := h.2.2.1.2.1
  rcases h0 with ⟨c0, c1, e1, rfl⟩ | ⟨c0, e1, rfl⟩ <;> rcases h1 with ⟨d0, d1, e2, rfl⟩ | ⟨d0, e2, rfl⟩
  · exact ⟨by rw [e1, e2, p0], _, _, _, RI_begin h c0 c1 hhs⟩
  · exact absurd ⟨by omega, by omega⟩ d0
  · exact absurd ⟨by omega, by omega⟩ c0
  · exact ⟨by rw [e1, e2], _, _, _, h⟩
theorem gl_group {hs : Nat} {x : Int32} (h : RI gO vn vO n a m b) (hhs : hs ≤ 1) (h0 : (gpC n ∧ r1 = nI (n 16 + 1) ∧ u = gpX n a hs x) ∨ (¬ gpC n ∧ r1 = -1 ∧ u = (n, a))) (h1 : (ygC gO m ∧ r2 = nI (gO (m 0 - 1) + 1) ∧ v = ygX gO m b hs x) ∨ (¬ ygC gO m ∧ r2 = -1 ∧ v = (m, b))) : r1 = r2 ∧ ∃ gO vn vO, RI gO vn vO u.1 u.2 v.1 v.2 := by
  obtain ⟨p0, p1, p2, p3⟩ := h.2.2.1
  obtain ⟨⟨x0, x1, x2, -⟩, ⟨g0, g1, g18, g40, g6, g16, g16b, g17b⟩, -⟩ := h.1
  have g4 := g1 (n 2)
  have hm : n 0 = 1 → m 0 - 1 = n 2 := by intro _; omega
  have hiff : gpC n ↔ ygC gO m := by
    constructor
    · intro ⟨c0, c1, c2⟩
      have g16 := g16 c0
      refine ⟨by omega, by rw [hm c0]; omega, by omega⟩
    · intro ⟨c0, c1, c2⟩
      have c0 : n 0 = 1 := by omega
      have g16 := g16 c0
      rw [hm c0] at c1
      exact ⟨c0, by omega, by omega⟩
  rcases h0 with ⟨c0, e1, rfl⟩ | ⟨c0, e1, rfl⟩ <;> rcases h1 with ⟨d0, e2, rfl⟩ | ⟨d0, e2, rfl⟩
  · exact ⟨by rw [e1, e2, hm c0.1, g16 c0.1], _, _, _, RI_group h c0 hhs⟩
  · exact absurd (hiff.mp c0) d0
  · exact absurd (hiff.mpr d0) c0
  · exact ⟨by rw [e1, e2], _, _, _, h⟩
theorem gl_value {x : Int32} (h : RI gO vn vO n a m b) (h0 : (vlC n ∧ r1 = nI (n 17 + 1) ∧ u = vlX n a x) ∨ (¬ vlC n ∧ r1 = -1 ∧ u = (n, a))) (h1 : (yvC gO vO m ∧ r2 = nI (vO (yat gO m) + 1) ∧ v = yvX gO vO m b x) ∨ (¬ yvC gO vO m ∧ r2 = -1 ∧ v = (m, b))) : r1 = r2 ∧ ∃ gO vn vO, RI gO vn vO u.1 u.2 v.1 v.2 := by
  have hiff := RI_vC h
  rcases h0 with ⟨c0, e1, rfl⟩ | ⟨c0, e1, rfl⟩ <;> rcases h1 with ⟨d0, e2, rfl⟩ | ⟨d0, e2, rfl⟩
  · obtain ⟨vn', vO', hR⟩ := RI_value (x := x) h c0
    exact ⟨by rw [e1, e2, (RI_vV h c0).1], _, _, _, hR⟩
  · exact absurd (hiff.mp c0) d0
  · exact absurd (hiff.mpr d0) c0
  · exact ⟨by rw [e1, e2], _, _, _, h⟩
theorem gl_end (h : RI gO vn vO n a m b) (h0 : (n 0 = 1 ∧ r1 = nI (n 2 + 1) ∧ u = enX n a) ∨ (¬ n 0 = 1 ∧ r1 = -1 ∧ u = (n, a))) (h1 : (m 1 = 1 ∧ r2 = nI (m 0) ∧ v = (va_up m 1 0, b)) ∨ (¬ m 1 = 1 ∧ r2 = -1 ∧ v = (m, b))) : r1 = r2 ∧ ∃ gO vn vO, RI gO vn vO u.1 u.2 v.1 v.2 := by
  have p0 := h.2.2.1.1
  have p1 := h.2.2.1.2.1
  have x1 := h.1.1.2.1
  rcases h0 with ⟨c0, e1, rfl⟩ | ⟨c0, e1, rfl⟩ <;> rcases h1 with ⟨d0, e2, rfl⟩ | ⟨d0, e2, rfl⟩
  · exact ⟨by rw [e1, e2, show n 2 + 1 = m 0 by omega], _, _, _, RI_end h c0⟩
  · exact absurd (by omega) d0
  · exact absurd (by omega) c0
  · exact ⟨by rw [e1, e2], _, _, _, h⟩
/-- room in the columns -/
theorem xi_r5 (h : XI gO vn n a) : n 5 ≤ n 1 := by
  rw [h.1.2.2.2.1]
  exact dr_cb_le _ _
theorem xi_rg (h : XI gO vn n a) : gpC n → n 6 < 52 ∧ n 10 < 40 ∧ (0 < n 16 → n 17 = 0 → n 11 < 112) := by
  intro ⟨c0, c1, c2⟩
  have h6 := xi_b6 h
  have h11 := xi_b11 h
  obtain ⟨⟨x0, x1, x2, -⟩, -, ⟨-, -, -, t10⟩, ⟨-, -, -, v60, -⟩, -⟩ := h
  refine ⟨by omega, by omega, fun q1 q2 => ?_⟩
  have hC : tC n = n 6 - 1 := by unfold tC; rw [if_pos ⟨c0, q1, q2⟩]
  omega
theorem xi_rv (h : XI gO vn n a) : n 15 < 60 → n 11 < 112 := by
  intro hq
  have h6 := xi_6 h
  have h11 := xi_b11 h
  have := tC_le n
  omega
theorem xi_re (h : XI gO vn n a) : n 0 = 1 → n 16 = 0 → n 6 < 52 ∧ n 11 < 112 := by
  intro c0 _
  have h6 := xi_b6 h
  have h11 := xi_b11 h
  have := tC_le n
  obtain ⟨⟨x0, x1, x2, -⟩, ⟨-, -, -, g40, -⟩, -, ⟨-, -, -, v60, -⟩, -⟩ := h
  omega
theorem xi_rf (h : XI gO vn n a) : n 0 = 1 → 0 < n 16 → n 17 = 0 → n 11 < 112 := by
  intro c0 q1 q2
  have h6 := xi_6 h
  have h11 := xi_b11 h
  have hC : tC n = n 6 - 1 := by unfold tC; rw [if_pos ⟨c0, q1, q2⟩]
  obtain ⟨-, -, -, ⟨-, -, -, v60, -⟩, -⟩ := h
  omega
end GLUE
end
section
set_option maxRecDepth 100000
/-! THE CLAIM OUT OF ONE WALK OF THE LAW'S BODY. Your part is whole_start (and what it stands on); all else here is the same for every law, but numbers. -/
def R_law : String := "DremelStoreLaw"
def lw_P (b : Addr) (xs : List Int32) (args : Array Value) (s : State) : Prop := args = #[.ref b] ∧ s.IntsAt b xs ∧ xs.length ≤ 256 ∧ (Jvm.Cond.and given_1 narrow_1).before args s = true
def lw_Q (_ : Array Value) (s : State) (o : Outcome) (t : State) : Prop := o = .returned (some (.int 1)) ∧ Framed s o t [] 600000 7290000
def lw_Z (below : List Frame) (a : Array Value) (s : State) : State → Prop := fun t => ∃ o, t.status = .running ∧ Ended t below o ∧ lw_Q a s o t
/-- the law's own end, with 1 on the stack, nothing written that was there before, its room as the claim has it -/
theorem lw_ret {p : Program} {l : Launch} {e : Env} {s : State} {m : MethodId} {below : List Frame} {meth : Method} {c : Code} {b : Nat} (hx : p.tables.exec = Jvm.exec) (hb : c.code = code) (hr : meth.sig.returnType = ret) (hlocks : meth.locks = false) {pc : Nat} {H : Heap} {ls : Array Slot} (hdg : decode code pc = .ok (.ireturn, 1)) : W p l e room_1 s m #[Value.ref b] below meth c H [] 600000 7290000 (lw_Z below #[Value.ref b] s) (F0 m pc ls [.int 1]) := by
  intro T hT X
  obtain ⟨fs, hret, hrun, hended, hW, hframe⟩ := X.leave (v := some (.int 1)) (hlocks := hlocks) (fun h => by rw [hr] at h; cases h)
  have hmeth' : T.vm.method? m = some meth := X.method'
  refine ⟨T.setFrames fs, ?_, .returned (some (.int 1)), hrun, hended, rfl, ⟨_, rfl⟩, hW, hframe⟩
  jvm_step X.here [X.here.top, hx, hb, hdg, hmeth', hr, ret, narrow_b1]
  (try refine ⟨rfl, ?_⟩); (try refine ⟨rfl, ?_⟩)
  first | (intro acts; rw [hret _ acts rfl rfl rfl]) | rw [hret _ _ rfl rfl rfl]
  exact Steps.refl _
/-- what holds at the law's entry: the machine, the code, the tables' words (any of lw_tbl by 'hts w (by decide +kernel)'), the script of L ints xs at the cell b, what the Statement gives of the start (any of its parts by flat_of_before) -/
def lw_At (p : Program) (s : State) (m : MethodId) (meth : Method) (c : Code) (b L : Nat) (xs : Nat → Int32) : Prop :=
  p.tables.exec = Jvm.exec ∧ c.code = code ∧ meth.sig.returnType = ret ∧ c.maxLocals = 4 ∧ s.vm.findClass R_law = some m.cls ∧ (∀ w ∈ lw_tbl, w.before #[Value.ref b] s = true) ∧ va_X b L xs s s.heap ∧ b < s.heap.size ∧ meth.locks = false ∧ (Jvm.Cond.and given_1 narrow_1).before #[Value.ref b] s = true
section XL
variable {p : Program} {l : Launch} {e : Env} {R : Room} {s : State} {m : MethodId} {args : Array Value} {below : List Frame} {meth : Method} {c : Code} {H : Heap} {locs : List Loc} {cells slots : Nat} {Q : State → Prop}
variable {cc : ByteArray} {pc : Nat} {ls : Array Slot} {rest : List Value} {A : Nat → Prop} {H0 : Heap}
theorem xl_sld (hx : p.tables.exec = Jvm.exec) (hb : c.code = cc) {b L : Nat} {xs : Nat → Int32} (hX : va_X b L xs s H0) (hbl : b < H0.size) (hbA : ¬ A b) (hS : va_S A H0 H locs) {j : Nat} (hj : j < L) (hL : L < 2 ^ 31) (hdg : decode cc pc = .ok (.iaload, 1)) (kk : W p l e R s m args below meth c H locs cells slots Q (F0 m (pc + 1) ls (.int (xs j) :: rest))) : W p l e R s m args below meth c H locs cells slots Q (F0 m pc ls (.int (nI j) :: .ref b :: rest)) := by
  refine va_sld hx hb hX hbl hbA hS (vp_in_nI hj hL) hdg ?_
  rw [nI_clamp (Nat.lt_trans hj hL)]
  exact kk
theorem xl_le {i L : Nat} (hi : i < 2 ^ 30) (hL : L < 2 ^ 30) (h : ¬ nI L - nI 4 < nI i) : i + 4 ≤ L := by
  rw [Int32.lt_iff_toInt_lt, pk_sub_toInt hL (by decide), nI_toInt (by omega)] at h
  omega
end XL
end
section
set_option maxRecDepth 100000
set_option maxHeartbeats 8000000 in
set_option maxRecDepth 100000 in
/-- THE LAW'S LOOP: at its head, with i ints read, the store and the model are related -/
theorem law_loop {p : Program} {e : Env} {s : State} {m : MethodId} {below : List Frame} {meth : Method} {c : Code} (l : Launch) {dC : Nat → ClassId} {dI : Nat → Nat → Nat} {cB cI cB1 cI1 : ClassId} {q q1 : Nat → Nat} {b L : Nat} {xs : Nat → Int32} (hL : L ≤ 256) (C0 : lw_At p s m meth c b L xs) (hK0 : va_K (dC, dI) vwCl [(cB, .boolean), (cI, .int)] s) (hK1 : va_K (dC, dI) vwCl [(cB1, .boolean), (cI1, .int)] s) :
    ∀ (k i : Nat), L + 1 ≤ i + k → i ≤ L → ∀ (n mm : Nat → Nat) (a bb : Nat → Nat → Int32), (∃ gO vn vO, RI gO vn vO n a mm bb) → ∀ (H : Heap) (locs : List Loc), va_P (dC, dI) vwCl (WX0 cB cI q n a ++ WX1 cB1 cI1 q1 mm bb) H → va_D (fun x : Nat => s.heap.size ≤ x) (WX0 cB cI q n a ++ WX1 cB1 cI1 q1 mm bb) → va_S (fun x : Nat => s.heap.size ≤ x) s.heap H locs → ∀ (ls : Array Slot), lv_has ls 4 [(0, .ref b), (1, .ref (q 0)), (2, .ref (q1 0)), (3, .int (nI i))] → W p l e room_1 s m #[Value.ref b] below meth c H locs 600000 7290000 (lw_Z below #[Value.ref b] s) (F0 m 18 ls []) := by
  obtain ⟨hx, hb, hr, hml, hown, hts0, hX, hbl, hlocks, hgv⟩ := C0
  have hts : ∀ w ∈ lw_all, w.before #[Value.ref b] s = true := fun w h => hts0 w (lw_all_tbl h)
  have hA : ∀ x : Nat, s.heap.size ≤ x → (fun x : Nat => s.heap.size ≤ x) x := fun _ h => h
  have hbA : ¬ (fun x : Nat => s.heap.size ≤ x) b := Nat.not_le.mpr hbl
  have hL31 : L < 2 ^ 31 := by omega
  intro k
  induction k with
  | zero => intro i hm hi; exact absurd hm (by omega)
  | succ k ih =>
    intro i hm hi n mm a bb hR H locs hP hD hS ls hl
    refine lv_iload_n hx hb dL_law_18 rfl (lv_at hl 3 rfl) ?_
    refine lv_aload_n hx hb dL_law_19 rfl (lv_at hl 0 rfl) ?_
    refine va_slen hx hb hX hbl hbA hS dL_law_20 ?_
    refine lv_iconst (v := nI 4) hx hb dL_law_21 (by decide) ?_
    refine lv_isub hx hb dL_law_22 ?_
    refine lv_icmp_gt (tgt := 443) hx hb dL_law_23 (by decide) (fun c_23 => ?_) (fun c_23 => ?_)
    · refine lv_iconst (v := 1) hx hb dL_law_443 (by decide) ?_
      refine va_forget (fun x hx9 => hS.2.2 x hx9) ?_
      exact lw_ret hx hb hr hlocks dL_law_444
    have hi4 : i + 4 ≤ L := xl_le (by omega) (by omega) c_23
    have K437 : ∀ (n mm : Nat → Nat) (a bb : Nat → Nat → Int32), (∃ gO vn vO, RI gO vn vO n a mm bb) → ∀ (H : Heap) (locs : List Loc), va_P (dC, dI) vwCl (WX0 cB cI q n a ++ WX1 cB1 cI1 q1 mm bb) H → va_D (fun x : Nat => s.heap.size ≤ x) (WX0 cB cI q n a ++ WX1 cB1 cI1 q1 mm bb) → va_S (fun x : Nat => s.heap.size ≤ x) s.heap H locs → ∀ (ls : Array Slot), lv_has ls 4 [(0, .ref b), (1, .ref (q 0)), (2, .ref (q1 0)), (3, .int (nI i))] → W p l e room_1 s m #[Value.ref b] below meth c H locs 600000 7290000 (lw_Z below #[Value.ref b] s) (F0 m 437 ls []) := by
      intro n mm a bb hR H locs hP hD hS ls hl
      refine lv_iinc (v := nI (i + 4)) (lv' := [(3, .int (nI (i + 4))), (0, .ref b), (1, .ref (q 0)), (2, .ref (q1 0))]) hx hb dL_law_437 hl (k := 3) rfl (by rw [← nI_add]; rfl) (by decide) rfl (fun ls hl => ?_)
      refine lv_goto (tgt := 18) hx hb dL_law_440 (by decide) ?_
      exact ih (i + 4) (by omega) (by omega) n mm a bb hR H locs hP hD hS ls (lv_sub hl [1, 2, 3, 0] rfl)
    refine lv_aload_n hx hb dL_law_26 rfl (lv_at hl 0 rfl) ?_
    refine lv_iload_n hx hb dL_law_27 rfl (lv_at hl 3 rfl) ?_
    refine xl_sld hx hb hX hbl hbA hS (show i < L by omega) hL31 dL_law_28 ?_
    refine lv_bipush (v := 15) hx hb dL_law_29 (by decide) ?_
    refine lv_iand hx hb dL_law_31 ?_
    obtain ⟨j, hj, ej⟩ := pk_andE (xs i) (m := 15) 4 (by decide +kernel)
    rw [ej]
    obtain ⟨gO, vn, vO, hRI⟩ := hR
    have hXI := hRI.1
    have hYI := hRI.2.1
    by_cases hj10 : 10 < j
    · refine lv_tableOut (tgt := 437) hx hb dL_law_32 (Or.inr (by rw [nI_toInt (by omega)]; omega)) (by decide) ?_
      exact K437 n mm a bb ⟨gO, vn, vO, hRI⟩ H locs hP hD hS ls hl
    rcases (show j = 0 ∨ j = 1 ∨ j = 2 ∨ j = 3 ∨ j = 4 ∨ j = 5 ∨ j = 6 ∨ j = 7 ∨ j = 8 ∨ j = 9 ∨ j = 10 by omega) with rfl | rfl | rfl | rfl | rfl | rfl | rfl | rfl | rfl | rfl | rfl
    · refine lv_tableIn (tgt := 92) (off := 60) hx hb dL_law_32 (by decide +kernel) (by decide +kernel) (by decide +kernel) (by decide) ?_
      refine lv_aload_n hx hb dL_law_92 rfl (lv_at hl 1 rfl) ?_
      refine lv_aload_n hx hb dL_law_93 rfl (lv_at hl 0 rfl) ?_
      refine lv_iload_n hx hb dL_law_94 rfl (lv_at hl 3 rfl) ?_
      refine lv_iconst (v := nI 1) hx hb dL_law_95 (by decide) ?_
      refine xn_iadd hx hb dL_law_96 ?_
      refine xl_sld hx hb hX hbl hbA hS (show i + 1 < L by omega) hL31 dL_law_97 ?_
      have K106 : ∀ v_106 : Nat, v_106 = (if xs (i + 1) = 0 then 0 else 1) → W p l e room_1 s m #[Value.ref b] below meth c H locs 600000 7290000 (lw_Z below #[Value.ref b] s) (F0 m 106 ls [.int (nI v_106), .ref (q 0)]) := by
        intro v_106 hv_106
        obtain ⟨hs, ehs⟩ : ∃ hs : Nat, hs = (if xs (i + 1) = 0 then 0 else 1) := ⟨_, rfl⟩
        have hhs : hs ≤ 1 := by rw [ehs]; split <;> omega
        rw [show v_106 = hs by rw [hv_106, ehs]]
        refine lv_aload_n hx hb dL_law_106 rfl (lv_at hl 0 rfl) ?_
        refine lv_iload_n hx hb dL_law_107 rfl (lv_at hl 3 rfl) ?_
        refine lv_iconst (v := nI 2) hx hb dL_law_108 (by decide) ?_
        refine xn_iadd hx hb dL_law_109 ?_
        refine xl_sld hx hb hX hbl hbA hS (show i + 2 < L by omega) hL31 dL_law_110 ?_
        refine kX0i (As := [.int (nI hs), .int (xs (i + 2))]) (rest := []) ⟨hx, hb, hml, hown, hts⟩ (metX0_begin l dC dI cB cI q H.size n a hs (xs (i + 2)) hhs hXI.1.1 hXI.1.2.2.1 (xi_r5 hXI)) (cwV 2 hts (lw_V q89 q90 q91 q13 q92) rfl rfl rfl (by decide +kernel) ⟨Nat.le_of_ble_eq_true rfl, Nat.le_of_ble_eq_true rfl⟩) hK0 hP hD hS hA rfl hl.1 rfl (Nat.le_of_ble_eq_true rfl) dL_law_111 ⟨Nat.le_of_ble_eq_true rfl, Nat.le_of_ble_eq_true rfl⟩ (fun r1 u H locs hpost0 hP hD hS => ?_)
        refine lv_aload_n hx hb dL_law_114 rfl (lv_at hl 2 rfl) ?_
        refine lv_aload_n hx hb dL_law_115 rfl (lv_at hl 0 rfl) ?_
        refine lv_iload_n hx hb dL_law_116 rfl (lv_at hl 3 rfl) ?_
        refine lv_iconst (v := nI 1) hx hb dL_law_117 (by decide) ?_
        refine xn_iadd hx hb dL_law_118 ?_
        refine xl_sld hx hb hX hbl hbA hS (show i + 1 < L by omega) hL31 dL_law_119 ?_
        have K128 : ∀ v_128 : Nat, v_128 = (if xs (i + 1) = 0 then 0 else 1) → W p l e room_1 s m #[Value.ref b] below meth c H locs 600000 7290000 (lw_Z below #[Value.ref b] s) (F0 m 128 ls [.int (nI v_128), .ref (q1 0), .int r1]) := by
          intro v_128 hv_128
          rw [show v_128 = hs by rw [hv_128, ehs]]
          refine lv_aload_n hx hb dL_law_128 rfl (lv_at hl 0 rfl) ?_
          refine lv_iload_n hx hb dL_law_129 rfl (lv_at hl 3 rfl) ?_
          refine lv_iconst (v := nI 2) hx hb dL_law_130 (by decide) ?_
          refine xn_iadd hx hb dL_law_131 ?_
          refine xl_sld hx hb hX hbl hbA hS (show i + 2 < L by omega) hL31 dL_law_132 ?_
          obtain ⟨hP, hD⟩ := xsw hP hD
          refine kX1i (As := [.int (nI hs), .int (xs (i + 2))]) (rest := [.int r1]) ⟨hx, hb, hml, hown, hts⟩ (metX1_begin l dC dI cB1 cI1 q1 H.size mm bb hs (xs (i + 2)) gO vO hhs hYI) (cwV 2 hts (lw_V q207 q208 q209 q14 q210) rfl rfl rfl (by decide +kernel) ⟨Nat.le_of_ble_eq_true rfl, Nat.le_of_ble_eq_true rfl⟩) hK1 hP hD hS hA rfl hl.1 rfl (Nat.le_of_ble_eq_true rfl) dL_law_133 ⟨Nat.le_of_ble_eq_true rfl, Nat.le_of_ble_eq_true rfl⟩ (fun r2 v H locs hpost1 hP hD hS => ?_)
          obtain ⟨hP, hD⟩ := xsw hP hD
          obtain ⟨er, hR⟩ := gl_begin hRI hhs hpost0 hpost1
          refine lv_icmp_eq (tgt := 437) hx hb dL_law_136 (by decide) (fun c_e => ?_) (fun c_e => ?_)
          · exact K437 u.1 v.1 u.2 v.2 hR H locs hP hD hS ls hl
          · exact absurd er c_e
        refine lv_if_eq (tgt := 127) hx hb dL_law_120 (by decide) (fun c_120 => ?_) (fun c_120 => ?_)
        · refine lv_iconst (v := nI 0) hx hb dL_law_127 (by decide) ?_
          exact K128 0 (if_pos c_120).symm
        · refine lv_iconst (v := nI 1) hx hb dL_law_123 (by decide) ?_
          refine lv_goto (tgt := 128) hx hb dL_law_124 (by decide) ?_
          exact K128 1 (if_neg c_120).symm
      refine lv_if_eq (tgt := 105) hx hb dL_law_98 (by decide) (fun c_98 => ?_) (fun c_98 => ?_)
      · refine lv_iconst (v := nI 0) hx hb dL_law_105 (by decide) ?_
        exact K106 0 (if_pos c_98).symm
      · refine lv_iconst (v := nI 1) hx hb dL_law_101 (by decide) ?_
        refine lv_goto (tgt := 106) hx hb dL_law_102 (by decide) ?_
        exact K106 1 (if_neg c_98).symm
    · refine lv_tableIn (tgt := 141) (off := 109) hx hb dL_law_32 (by decide +kernel) (by decide +kernel) (by decide +kernel) (by decide) ?_
      refine lv_aload_n hx hb dL_law_141 rfl (lv_at hl 1 rfl) ?_
      refine lv_aload_n hx hb dL_law_142 rfl (lv_at hl 0 rfl) ?_
      refine lv_iload_n hx hb dL_law_143 rfl (lv_at hl 3 rfl) ?_
      refine lv_iconst (v := nI 1) hx hb dL_law_144 (by decide) ?_
      refine xn_iadd hx hb dL_law_145 ?_
      refine xl_sld hx hb hX hbl hbA hS (show i + 1 < L by omega) hL31 dL_law_146 ?_
      have K155 : ∀ v_155 : Nat, v_155 = (if xs (i + 1) = 0 then 0 else 1) → W p l e room_1 s m #[Value.ref b] below meth c H locs 600000 7290000 (lw_Z below #[Value.ref b] s) (F0 m 155 ls [.int (nI v_155), .ref (q 0)]) := by
        intro v_155 hv_155
        obtain ⟨hs, ehs⟩ : ∃ hs : Nat, hs = (if xs (i + 1) = 0 then 0 else 1) := ⟨_, rfl⟩
        have hhs : hs ≤ 1 := by rw [ehs]; split <;> omega
        rw [show v_155 = hs by rw [hv_155, ehs]]
        refine lv_aload_n hx hb dL_law_155 rfl (lv_at hl 0 rfl) ?_
        refine lv_iload_n hx hb dL_law_156 rfl (lv_at hl 3 rfl) ?_
        refine lv_iconst (v := nI 2) hx hb dL_law_157 (by decide) ?_
        refine xn_iadd hx hb dL_law_158 ?_
        refine xl_sld hx hb hX hbl hbA hS (show i + 2 < L by omega) hL31 dL_law_159 ?_
        refine kX0i (As := [.int (nI hs), .int (xs (i + 2))]) (rest := []) ⟨hx, hb, hml, hown, hts⟩ (metX0_group l dC dI cB cI q H.size n a hs (xs (i + 2)) hhs hXI.1.1 hXI.2.1.2.2.2.2.2.2.1 hXI.2.1.2.2.2.2.2.2.2 hXI.2.1.2.2.2.1 (xi_rg hXI)) (cwV 2 hts (lw_V q93 q94 q95 q13 q96) rfl rfl rfl (by decide +kernel) ⟨Nat.le_of_ble_eq_true rfl, Nat.le_of_ble_eq_true rfl⟩) hK0 hP hD hS hA rfl hl.1 rfl (Nat.le_of_ble_eq_true rfl) dL_law_160 ⟨Nat.le_of_ble_eq_true rfl, Nat.le_of_ble_eq_true rfl⟩ (fun r1 u H locs hpost0 hP hD hS => ?_)
        refine lv_aload_n hx hb dL_law_163 rfl (lv_at hl 2 rfl) ?_
        refine lv_aload_n hx hb dL_law_164 rfl (lv_at hl 0 rfl) ?_
        refine lv_iload_n hx hb dL_law_165 rfl (lv_at hl 3 rfl) ?_
        refine lv_iconst (v := nI 1) hx hb dL_law_166 (by decide) ?_
        refine xn_iadd hx hb dL_law_167 ?_
        refine xl_sld hx hb hX hbl hbA hS (show i + 1 < L by omega) hL31 dL_law_168 ?_
        have K177 : ∀ v_177 : Nat, v_177 = (if xs (i + 1) = 0 then 0 else 1) → W p l e room_1 s m #[Value.ref b] below meth c H locs 600000 7290000 (lw_Z below #[Value.ref b] s) (F0 m 177 ls [.int (nI v_177), .ref (q1 0), .int r1]) := by
          intro v_177 hv_177
          rw [show v_177 = hs by rw [hv_177, ehs]]
          refine lv_aload_n hx hb dL_law_177 rfl (lv_at hl 0 rfl) ?_
          refine lv_iload_n hx hb dL_law_178 rfl (lv_at hl 3 rfl) ?_
          refine lv_iconst (v := nI 2) hx hb dL_law_179 (by decide) ?_
          refine xn_iadd hx hb dL_law_180 ?_
          refine xl_sld hx hb hX hbl hbA hS (show i + 2 < L by omega) hL31 dL_law_181 ?_
          obtain ⟨hP, hD⟩ := xsw hP hD
          refine kX1i (As := [.int (nI hs), .int (xs (i + 2))]) (rest := [.int r1]) ⟨hx, hb, hml, hown, hts⟩ (metX1_group l dC dI cB1 cI1 q1 H.size mm bb hs (xs (i + 2)) gO vO hhs hYI) (cwV 2 hts (lw_V q211 q212 q213 q14 q214) rfl rfl rfl (by decide +kernel) ⟨Nat.le_of_ble_eq_true rfl, Nat.le_of_ble_eq_true rfl⟩) hK1 hP hD hS hA rfl hl.1 rfl (Nat.le_of_ble_eq_true rfl) dL_law_182 ⟨Nat.le_of_ble_eq_true rfl, Nat.le_of_ble_eq_true rfl⟩ (fun r2 v H locs hpost1 hP hD hS => ?_)
          obtain ⟨hP, hD⟩ := xsw hP hD
          obtain ⟨er, hR⟩ := gl_group hRI hhs hpost0 hpost1
          refine lv_icmp_eq (tgt := 437) hx hb dL_law_185 (by decide) (fun c_e => ?_) (fun c_e => ?_)
          · exact K437 u.1 v.1 u.2 v.2 hR H locs hP hD hS ls hl
          · exact absurd er c_e
        refine lv_if_eq (tgt := 176) hx hb dL_law_169 (by decide) (fun c_169 => ?_) (fun c_169 => ?_)
        · refine lv_iconst (v := nI 0) hx hb dL_law_176 (by decide) ?_
          exact K177 0 (if_pos c_169).symm
        · refine lv_iconst (v := nI 1) hx hb dL_law_172 (by decide) ?_
          refine lv_goto (tgt := 177) hx hb dL_law_173 (by decide) ?_
          exact K177 1 (if_neg c_169).symm
      refine lv_if_eq (tgt := 154) hx hb dL_law_147 (by decide) (fun c_147 => ?_) (fun c_147 => ?_)
      · refine lv_iconst (v := nI 0) hx hb dL_law_154 (by decide) ?_
        exact K155 0 (if_pos c_147).symm
      · refine lv_iconst (v := nI 1) hx hb dL_law_150 (by decide) ?_
        refine lv_goto (tgt := 155) hx hb dL_law_151 (by decide) ?_
        exact K155 1 (if_neg c_147).symm
    · refine lv_tableIn (tgt := 190) (off := 158) hx hb dL_law_32 (by decide +kernel) (by decide +kernel) (by decide +kernel) (by decide) ?_
      refine lv_aload_n hx hb dL_law_190 rfl (lv_at hl 1 rfl) ?_
      refine lv_aload_n hx hb dL_law_191 rfl (lv_at hl 0 rfl) ?_
      refine lv_iload_n hx hb dL_law_192 rfl (lv_at hl 3 rfl) ?_
      refine lv_iconst (v := nI 1) hx hb dL_law_193 (by decide) ?_
      refine xn_iadd hx hb dL_law_194 ?_
      refine xl_sld hx hb hX hbl hbA hS (show i + 1 < L by omega) hL31 dL_law_195 ?_
      refine kX0i (As := [.int (xs (i + 1))]) (rest := []) ⟨hx, hb, hml, hown, hts⟩ (metX0_value l dC dI cB cI q H.size n a (xs (i + 1)) hXI.1.1 hXI.2.1.2.2.2.2.2.2.1 hXI.2.1.2.2.2.2.2.2.2 hXI.2.2.2.1.2.2.2.1 (xi_rv hXI)) (cwV 1 hts (lw_V q109 q110 q111 q13 q112) rfl rfl rfl (by decide +kernel) ⟨Nat.le_of_ble_eq_true rfl, Nat.le_of_ble_eq_true rfl⟩) hK0 hP hD hS hA rfl hl.1 rfl (Nat.le_of_ble_eq_true rfl) dL_law_196 ⟨Nat.le_of_ble_eq_true rfl, Nat.le_of_ble_eq_true rfl⟩ (fun r1 u H locs hpost0 hP hD hS => ?_)
      refine lv_aload_n hx hb dL_law_199 rfl (lv_at hl 2 rfl) ?_
      refine lv_aload_n hx hb dL_law_200 rfl (lv_at hl 0 rfl) ?_
      refine lv_iload_n hx hb dL_law_201 rfl (lv_at hl 3 rfl) ?_
      refine lv_iconst (v := nI 1) hx hb dL_law_202 (by decide) ?_
      refine xn_iadd hx hb dL_law_203 ?_
      refine xl_sld hx hb hX hbl hbA hS (show i + 1 < L by omega) hL31 dL_law_204 ?_
      obtain ⟨hP, hD⟩ := xsw hP hD
      refine kX1i (As := [.int (xs (i + 1))]) (rest := [.int r1]) ⟨hx, hb, hml, hown, hts⟩ (metX1_value l dC dI cB1 cI1 q1 H.size mm bb (xs (i + 1)) gO vO hYI) (cwV 1 hts (lw_V q215 q216 q217 q14 q218) rfl rfl rfl (by decide +kernel) ⟨Nat.le_of_ble_eq_true rfl, Nat.le_of_ble_eq_true rfl⟩) hK1 hP hD hS hA rfl hl.1 rfl (Nat.le_of_ble_eq_true rfl) dL_law_205 ⟨Nat.le_of_ble_eq_true rfl, Nat.le_of_ble_eq_true rfl⟩ (fun r2 v H locs hpost1 hP hD hS => ?_)
      obtain ⟨hP, hD⟩ := xsw hP hD
      obtain ⟨er, hR⟩ := gl_value hRI hpost0 hpost1
      refine lv_icmp_eq (tgt := 437) hx hb dL_law_208 (by decide) (fun c_e => ?_) (fun c_e => ?_)
      · exact K437 u.1 v.1 u.2 v.2 hR H locs hP hD hS ls hl
      · exact absurd er c_e
    · refine lv_tableIn (tgt := 213) (off := 181) hx hb dL_law_32 (by decide +kernel) (by decide +kernel) (by decide +kernel) (by decide) ?_
      refine lv_aload_n hx hb dL_law_213 rfl (lv_at hl 1 rfl) ?_
      refine kX0i (As := []) (rest := []) ⟨hx, hb, hml, hown, hts⟩ (metX0_end l dC dI cB cI q H.size n a  hXI.1.1 hXI.2.1.2.2.2.2.2.2.1 hXI.2.1.2.2.2.2.2.2.2 (xi_re hXI) (xi_rf hXI)) (cwV 0 hts (lw_V q113 q114 q115 q13 q116) rfl rfl rfl (by decide +kernel) ⟨Nat.le_of_ble_eq_true rfl, Nat.le_of_ble_eq_true rfl⟩) hK0 hP hD hS hA rfl hl.1 rfl (Nat.le_of_ble_eq_true rfl) dL_law_214 ⟨Nat.le_of_ble_eq_true rfl, Nat.le_of_ble_eq_true rfl⟩ (fun r1 u H locs hpost0 hP hD hS => ?_)
      refine lv_aload_n hx hb dL_law_217 rfl (lv_at hl 2 rfl) ?_
      obtain ⟨hP, hD⟩ := xsw hP hD
      refine kX1i (As := []) (rest := [.int r1]) ⟨hx, hb, hml, hown, hts⟩ (metX1_end l dC dI cB1 cI1 q1 H.size mm bb  gO vO hYI) (cwV 0 hts (lw_V q219 q220 q221 q14 q222) rfl rfl rfl (by decide +kernel) ⟨Nat.le_of_ble_eq_true rfl, Nat.le_of_ble_eq_true rfl⟩) hK1 hP hD hS hA rfl hl.1 rfl (Nat.le_of_ble_eq_true rfl) dL_law_218 ⟨Nat.le_of_ble_eq_true rfl, Nat.le_of_ble_eq_true rfl⟩ (fun r2 v H locs hpost1 hP hD hS => ?_)
      obtain ⟨hP, hD⟩ := xsw hP hD
      obtain ⟨er, hR⟩ := gl_end hRI hpost0 hpost1
      refine lv_icmp_eq (tgt := 437) hx hb dL_law_221 (by decide) (fun c_e => ?_) (fun c_e => ?_)
      · exact K437 u.1 v.1 u.2 v.2 hR H locs hP hD hS ls hl
      · exact absurd er c_e
    · refine lv_tableIn (tgt := 226) (off := 194) hx hb dL_law_32 (by decide +kernel) (by decide +kernel) (by decide +kernel) (by decide) ?_
      refine lv_aload_n hx hb dL_law_226 rfl (lv_at hl 1 rfl) ?_
      refine lv_aload_n hx hb dL_law_227 rfl (lv_at hl 0 rfl) ?_
      refine lv_iload_n hx hb dL_law_228 rfl (lv_at hl 3 rfl) ?_
      refine lv_iconst (v := nI 1) hx hb dL_law_229 (by decide) ?_
      refine xn_iadd hx hb dL_law_230 ?_
      refine xl_sld hx hb hX hbl hbA hS (show i + 1 < L by omega) hL31 dL_law_231 ?_
      refine kX0i (As := [.int (xs (i + 1))]) (rest := []) ⟨hx, hb, hml, hown, hts⟩ (metX0_groups l dC dI cB cI q H.size n a (xs (i + 1)) gO vn hXI) (cwV 1 hts (lw_V q117 q118 q119 q13 q120) rfl rfl rfl (by decide +kernel) ⟨Nat.le_of_ble_eq_true rfl, Nat.le_of_ble_eq_true rfl⟩) hK0 hP hD hS hA rfl hl.1 rfl (Nat.le_of_ble_eq_true rfl) dL_law_232 ⟨Nat.le_of_ble_eq_true rfl, Nat.le_of_ble_eq_true rfl⟩ (fun r1 u H locs hpost0 hP hD hS => ?_)
      refine lv_aload_n hx hb dL_law_235 rfl (lv_at hl 2 rfl) ?_
      refine lv_aload_n hx hb dL_law_236 rfl (lv_at hl 0 rfl) ?_
      refine lv_iload_n hx hb dL_law_237 rfl (lv_at hl 3 rfl) ?_
      refine lv_iconst (v := nI 1) hx hb dL_law_238 (by decide) ?_
      refine xn_iadd hx hb dL_law_239 ?_
      refine xl_sld hx hb hX hbl hbA hS (show i + 1 < L by omega) hL31 dL_law_240 ?_
      obtain ⟨hP, hD⟩ := xsw hP hD
      refine kX1i (As := [.int (xs (i + 1))]) (rest := [.int r1]) ⟨hx, hb, hml, hown, hts⟩ (metX1_groups l dC dI cB1 cI1 q1 H.size mm bb (xs (i + 1)) gO vO hYI) (cwV 1 hts (lw_V q223 q224 q225 q14 q226) rfl rfl rfl (by decide +kernel) ⟨Nat.le_of_ble_eq_true rfl, Nat.le_of_ble_eq_true rfl⟩) hK1 hP hD hS hA rfl hl.1 rfl (Nat.le_of_ble_eq_true rfl) dL_law_241 ⟨Nat.le_of_ble_eq_true rfl, Nat.le_of_ble_eq_true rfl⟩ (fun r2 v H locs hpost1 hP hD hS => ?_)
      obtain ⟨hP, hD⟩ := xsw hP hD
      obtain ⟨er, hR⟩ := gl_q hRI (RI_groups hRI _) hpost0 hpost1
      refine lv_icmp_eq (tgt := 437) hx hb dL_law_244 (by decide) (fun c_e => ?_) (fun c_e => ?_)
      · exact K437 u.1 v.1 u.2 v.2 hR H locs hP hD hS ls hl
      · exact absurd er c_e
    · refine lv_tableIn (tgt := 249) (off := 217) hx hb dL_law_32 (by decide +kernel) (by decide +kernel) (by decide +kernel) (by decide) ?_
      refine lv_aload_n hx hb dL_law_249 rfl (lv_at hl 1 rfl) ?_
      refine lv_aload_n hx hb dL_law_250 rfl (lv_at hl 0 rfl) ?_
      refine lv_iload_n hx hb dL_law_251 rfl (lv_at hl 3 rfl) ?_
      refine lv_iconst (v := nI 1) hx hb dL_law_252 (by decide) ?_
      refine xn_iadd hx hb dL_law_253 ?_
      refine xl_sld hx hb hX hbl hbA hS (show i + 1 < L by omega) hL31 dL_law_254 ?_
      refine lv_aload_n hx hb dL_law_255 rfl (lv_at hl 0 rfl) ?_
      refine lv_iload_n hx hb dL_law_256 rfl (lv_at hl 3 rfl) ?_
      refine lv_iconst (v := nI 2) hx hb dL_law_257 (by decide) ?_
      refine xn_iadd hx hb dL_law_258 ?_
      refine xl_sld hx hb hX hbl hbA hS (show i + 2 < L by omega) hL31 dL_law_259 ?_
      refine kX0i (As := [.int (xs (i + 1)), .int (xs (i + 2))]) (rest := []) ⟨hx, hb, hml, hown, hts⟩ (metX0_values l dC dI cB cI q H.size n a (xs (i + 1)) (xs (i + 2)) gO vn hXI) (cwV 2 hts (lw_V q129 q130 q131 q13 q132) rfl rfl rfl (by decide +kernel) ⟨Nat.le_of_ble_eq_true rfl, Nat.le_of_ble_eq_true rfl⟩) hK0 hP hD hS hA rfl hl.1 rfl (Nat.le_of_ble_eq_true rfl) dL_law_260 ⟨Nat.le_of_ble_eq_true rfl, Nat.le_of_ble_eq_true rfl⟩ (fun r1 u H locs hpost0 hP hD hS => ?_)
      refine lv_aload_n hx hb dL_law_263 rfl (lv_at hl 2 rfl) ?_
      refine lv_aload_n hx hb dL_law_264 rfl (lv_at hl 0 rfl) ?_
      refine lv_iload_n hx hb dL_law_265 rfl (lv_at hl 3 rfl) ?_
      refine lv_iconst (v := nI 1) hx hb dL_law_266 (by decide) ?_
      refine xn_iadd hx hb dL_law_267 ?_
      refine xl_sld hx hb hX hbl hbA hS (show i + 1 < L by omega) hL31 dL_law_268 ?_
      refine lv_aload_n hx hb dL_law_269 rfl (lv_at hl 0 rfl) ?_
      refine lv_iload_n hx hb dL_law_270 rfl (lv_at hl 3 rfl) ?_
      refine lv_iconst (v := nI 2) hx hb dL_law_271 (by decide) ?_
      refine xn_iadd hx hb dL_law_272 ?_
      refine xl_sld hx hb hX hbl hbA hS (show i + 2 < L by omega) hL31 dL_law_273 ?_
      obtain ⟨hP, hD⟩ := xsw hP hD
      refine kX1i (As := [.int (xs (i + 1)), .int (xs (i + 2))]) (rest := [.int r1]) ⟨hx, hb, hml, hown, hts⟩ (metX1_values l dC dI cB1 cI1 q1 H.size mm bb (xs (i + 1)) (xs (i + 2)) gO vO hYI) (cwV 2 hts (lw_V q235 q236 q237 q14 q238) rfl rfl rfl (by decide +kernel) ⟨Nat.le_of_ble_eq_true rfl, Nat.le_of_ble_eq_true rfl⟩) hK1 hP hD hS hA rfl hl.1 rfl (Nat.le_of_ble_eq_true rfl) dL_law_274 ⟨Nat.le_of_ble_eq_true rfl, Nat.le_of_ble_eq_true rfl⟩ (fun r2 v H locs hpost1 hP hD hS => ?_)
      obtain ⟨hP, hD⟩ := xsw hP hD
      obtain ⟨er, hR⟩ := gl_q hRI (RI_values hRI _ _) hpost0 hpost1
      refine lv_icmp_eq (tgt := 437) hx hb dL_law_277 (by decide) (fun c_e => ?_) (fun c_e => ?_)
      · exact K437 u.1 v.1 u.2 v.2 hR H locs hP hD hS ls hl
      · exact absurd er c_e
    · refine lv_tableIn (tgt := 282) (off := 250) hx hb dL_law_32 (by decide +kernel) (by decide +kernel) (by decide +kernel) (by decide) ?_
      refine lv_aload_n hx hb dL_law_282 rfl (lv_at hl 1 rfl) ?_
      refine lv_aload_n hx hb dL_law_283 rfl (lv_at hl 0 rfl) ?_
      refine lv_iload_n hx hb dL_law_284 rfl (lv_at hl 3 rfl) ?_
      refine lv_iconst (v := nI 1) hx hb dL_law_285 (by decide) ?_
      refine xn_iadd hx hb dL_law_286 ?_
      refine xl_sld hx hb hX hbl hbA hS (show i + 1 < L by omega) hL31 dL_law_287 ?_
      refine lv_aload_n hx hb dL_law_288 rfl (lv_at hl 0 rfl) ?_
      refine lv_iload_n hx hb dL_law_289 rfl (lv_at hl 3 rfl) ?_
      refine lv_iconst (v := nI 2) hx hb dL_law_290 (by decide) ?_
      refine xn_iadd hx hb dL_law_291 ?_
      refine xl_sld hx hb hX hbl hbA hS (show i + 2 < L by omega) hL31 dL_law_292 ?_
      refine lv_aload_n hx hb dL_law_293 rfl (lv_at hl 0 rfl) ?_
      refine lv_iload_n hx hb dL_law_294 rfl (lv_at hl 3 rfl) ?_
      refine lv_iconst (v := nI 3) hx hb dL_law_295 (by decide) ?_
      refine xn_iadd hx hb dL_law_296 ?_
      refine xl_sld hx hb hX hbl hbA hS (show i + 3 < L by omega) hL31 dL_law_297 ?_
      refine kX0i (As := [.int (xs (i + 1)), .int (xs (i + 2)), .int (xs (i + 3))]) (rest := []) ⟨hx, hb, hml, hown, hts⟩ (metX0_valueAt l dC dI cB cI q H.size n a (xs (i + 1)) (xs (i + 2)) (xs (i + 3)) gO vn hXI) (cwV 3 hts (lw_V q142 q143 q144 q13 q145) rfl rfl rfl (by decide +kernel) ⟨Nat.le_of_ble_eq_true rfl, Nat.le_of_ble_eq_true rfl⟩) hK0 hP hD hS hA rfl hl.1 rfl (Nat.le_of_ble_eq_true rfl) dL_law_298 ⟨Nat.le_of_ble_eq_true rfl, Nat.le_of_ble_eq_true rfl⟩ (fun r1 u H locs hpost0 hP hD hS => ?_)
      refine lv_aload_n hx hb dL_law_301 rfl (lv_at hl 2 rfl) ?_
      refine lv_aload_n hx hb dL_law_302 rfl (lv_at hl 0 rfl) ?_
      refine lv_iload_n hx hb dL_law_303 rfl (lv_at hl 3 rfl) ?_
      refine lv_iconst (v := nI 1) hx hb dL_law_304 (by decide) ?_
      refine xn_iadd hx hb dL_law_305 ?_
      refine xl_sld hx hb hX hbl hbA hS (show i + 1 < L by omega) hL31 dL_law_306 ?_
      refine lv_aload_n hx hb dL_law_307 rfl (lv_at hl 0 rfl) ?_
      refine lv_iload_n hx hb dL_law_308 rfl (lv_at hl 3 rfl) ?_
      refine lv_iconst (v := nI 2) hx hb dL_law_309 (by decide) ?_
      refine xn_iadd hx hb dL_law_310 ?_
      refine xl_sld hx hb hX hbl hbA hS (show i + 2 < L by omega) hL31 dL_law_311 ?_
      refine lv_aload_n hx hb dL_law_312 rfl (lv_at hl 0 rfl) ?_
      refine lv_iload_n hx hb dL_law_313 rfl (lv_at hl 3 rfl) ?_
      refine lv_iconst (v := nI 3) hx hb dL_law_314 (by decide) ?_
      refine xn_iadd hx hb dL_law_315 ?_
      refine xl_sld hx hb hX hbl hbA hS (show i + 3 < L by omega) hL31 dL_law_316 ?_
      obtain ⟨hP, hD⟩ := xsw hP hD
      refine kX1i (As := [.int (xs (i + 1)), .int (xs (i + 2)), .int (xs (i + 3))]) (rest := [.int r1]) ⟨hx, hb, hml, hown, hts⟩ (metX1_valueAt l dC dI cB1 cI1 q1 H.size mm bb (xs (i + 1)) (xs (i + 2)) (xs (i + 3)) gO vO hYI) (cwV 3 hts (lw_V q243 q244 q245 q14 q246) rfl rfl rfl (by decide +kernel) ⟨Nat.le_of_ble_eq_true rfl, Nat.le_of_ble_eq_true rfl⟩) hK1 hP hD hS hA rfl hl.1 rfl (Nat.le_of_ble_eq_true rfl) dL_law_317 ⟨Nat.le_of_ble_eq_true rfl, Nat.le_of_ble_eq_true rfl⟩ (fun r2 v H locs hpost1 hP hD hS => ?_)
      obtain ⟨hP, hD⟩ := xsw hP hD
      obtain ⟨er, hR⟩ := gl_q hRI (RI_valueAt hRI _ _ _) hpost0 hpost1
      refine lv_icmp_eq (tgt := 437) hx hb dL_law_320 (by decide) (fun c_e => ?_) (fun c_e => ?_)
      · exact K437 u.1 v.1 u.2 v.2 hR H locs hP hD hS ls hl
      · exact absurd er c_e
    · refine lv_tableIn (tgt := 325) (off := 293) hx hb dL_law_32 (by decide +kernel) (by decide +kernel) (by decide +kernel) (by decide) ?_
      refine lv_aload_n hx hb dL_law_325 rfl (lv_at hl 1 rfl) ?_
      refine lv_aload_n hx hb dL_law_326 rfl (lv_at hl 0 rfl) ?_
      refine lv_iload_n hx hb dL_law_327 rfl (lv_at hl 3 rfl) ?_
      refine lv_iconst (v := nI 1) hx hb dL_law_328 (by decide) ?_
      refine xn_iadd hx hb dL_law_329 ?_
      refine xl_sld hx hb hX hbl hbA hS (show i + 1 < L by omega) hL31 dL_law_330 ?_
      refine kX0i (As := [.int (xs (i + 1))]) (rest := []) ⟨hx, hb, hml, hown, hts⟩ (metX0_hasNote l dC dI cB cI q H.size n a (xs (i + 1)) gO vn hXI) (cwV 1 hts (lw_V q147 q148 q149 q13 q150) rfl rfl rfl (by decide +kernel) ⟨Nat.le_of_ble_eq_true rfl, Nat.le_of_ble_eq_true rfl⟩) hK0 hP hD hS hA rfl hl.1 rfl (Nat.le_of_ble_eq_true rfl) dL_law_331 ⟨Nat.le_of_ble_eq_true rfl, Nat.le_of_ble_eq_true rfl⟩ (fun r1 u H locs hpost0 hP hD hS => ?_)
      refine lv_aload_n hx hb dL_law_334 rfl (lv_at hl 2 rfl) ?_
      refine lv_aload_n hx hb dL_law_335 rfl (lv_at hl 0 rfl) ?_
      refine lv_iload_n hx hb dL_law_336 rfl (lv_at hl 3 rfl) ?_
      refine lv_iconst (v := nI 1) hx hb dL_law_337 (by decide) ?_
      refine xn_iadd hx hb dL_law_338 ?_
      refine xl_sld hx hb hX hbl hbA hS (show i + 1 < L by omega) hL31 dL_law_339 ?_
      obtain ⟨hP, hD⟩ := xsw hP hD
      refine kX1i (As := [.int (xs (i + 1))]) (rest := [.int r1]) ⟨hx, hb, hml, hown, hts⟩ (metX1_hasNote l dC dI cB1 cI1 q1 H.size mm bb (xs (i + 1)) gO vO hYI) (cwV 1 hts (lw_V q247 q248 q249 q14 q250) rfl rfl rfl (by decide +kernel) ⟨Nat.le_of_ble_eq_true rfl, Nat.le_of_ble_eq_true rfl⟩) hK1 hP hD hS hA rfl hl.1 rfl (Nat.le_of_ble_eq_true rfl) dL_law_340 ⟨Nat.le_of_ble_eq_true rfl, Nat.le_of_ble_eq_true rfl⟩ (fun r2 v H locs hpost1 hP hD hS => ?_)
      obtain ⟨hP, hD⟩ := xsw hP hD
      obtain ⟨er, hR⟩ := gl_q hRI (RI_hasNote hRI _) hpost0 hpost1
      refine lv_icmp_eq (tgt := 437) hx hb dL_law_343 (by decide) (fun c_e => ?_) (fun c_e => ?_)
      · exact K437 u.1 v.1 u.2 v.2 hR H locs hP hD hS ls hl
      · exact absurd er c_e
    · refine lv_tableIn (tgt := 348) (off := 316) hx hb dL_law_32 (by decide +kernel) (by decide +kernel) (by decide +kernel) (by decide) ?_
      refine lv_aload_n hx hb dL_law_348 rfl (lv_at hl 1 rfl) ?_
      refine lv_aload_n hx hb dL_law_349 rfl (lv_at hl 0 rfl) ?_
      refine lv_iload_n hx hb dL_law_350 rfl (lv_at hl 3 rfl) ?_
      refine lv_iconst (v := nI 1) hx hb dL_law_351 (by decide) ?_
      refine xn_iadd hx hb dL_law_352 ?_
      refine xl_sld hx hb hX hbl hbA hS (show i + 1 < L by omega) hL31 dL_law_353 ?_
      refine lv_aload_n hx hb dL_law_354 rfl (lv_at hl 0 rfl) ?_
      refine lv_iload_n hx hb dL_law_355 rfl (lv_at hl 3 rfl) ?_
      refine lv_iconst (v := nI 2) hx hb dL_law_356 (by decide) ?_
      refine xn_iadd hx hb dL_law_357 ?_
      refine xl_sld hx hb hX hbl hbA hS (show i + 2 < L by omega) hL31 dL_law_358 ?_
      refine kX0i (As := [.int (xs (i + 1)), .int (xs (i + 2))]) (rest := []) ⟨hx, hb, hml, hown, hts⟩ (metX0_label l dC dI cB cI q H.size n a (xs (i + 1)) (xs (i + 2)) gO vn hXI) (cwV 2 hts (lw_V q151 q152 q153 q13 q154) rfl rfl rfl (by decide +kernel) ⟨Nat.le_of_ble_eq_true rfl, Nat.le_of_ble_eq_true rfl⟩) hK0 hP hD hS hA rfl hl.1 rfl (Nat.le_of_ble_eq_true rfl) dL_law_359 ⟨Nat.le_of_ble_eq_true rfl, Nat.le_of_ble_eq_true rfl⟩ (fun r1 u H locs hpost0 hP hD hS => ?_)
      refine lv_aload_n hx hb dL_law_362 rfl (lv_at hl 2 rfl) ?_
      refine lv_aload_n hx hb dL_law_363 rfl (lv_at hl 0 rfl) ?_
      refine lv_iload_n hx hb dL_law_364 rfl (lv_at hl 3 rfl) ?_
      refine lv_iconst (v := nI 1) hx hb dL_law_365 (by decide) ?_
      refine xn_iadd hx hb dL_law_366 ?_
      refine xl_sld hx hb hX hbl hbA hS (show i + 1 < L by omega) hL31 dL_law_367 ?_
      refine lv_aload_n hx hb dL_law_368 rfl (lv_at hl 0 rfl) ?_
      refine lv_iload_n hx hb dL_law_369 rfl (lv_at hl 3 rfl) ?_
      refine lv_iconst (v := nI 2) hx hb dL_law_370 (by decide) ?_
      refine xn_iadd hx hb dL_law_371 ?_
      refine xl_sld hx hb hX hbl hbA hS (show i + 2 < L by omega) hL31 dL_law_372 ?_
      obtain ⟨hP, hD⟩ := xsw hP hD
      refine kX1i (As := [.int (xs (i + 1)), .int (xs (i + 2))]) (rest := [.int r1]) ⟨hx, hb, hml, hown, hts⟩ (metX1_label l dC dI cB1 cI1 q1 H.size mm bb (xs (i + 1)) (xs (i + 2)) gO vO hYI) (cwV 2 hts (lw_V q251 q252 q253 q14 q254) rfl rfl rfl (by decide +kernel) ⟨Nat.le_of_ble_eq_true rfl, Nat.le_of_ble_eq_true rfl⟩) hK1 hP hD hS hA rfl hl.1 rfl (Nat.le_of_ble_eq_true rfl) dL_law_373 ⟨Nat.le_of_ble_eq_true rfl, Nat.le_of_ble_eq_true rfl⟩ (fun r2 v H locs hpost1 hP hD hS => ?_)
      obtain ⟨hP, hD⟩ := xsw hP hD
      obtain ⟨er, hR⟩ := gl_q hRI (RI_label hRI _ _) hpost0 hpost1
      refine lv_icmp_eq (tgt := 437) hx hb dL_law_376 (by decide) (fun c_e => ?_) (fun c_e => ?_)
      · exact K437 u.1 v.1 u.2 v.2 hR H locs hP hD hS ls hl
      · exact absurd er c_e
    · refine lv_tableIn (tgt := 381) (off := 349) hx hb dL_law_32 (by decide +kernel) (by decide +kernel) (by decide +kernel) (by decide) ?_
      refine lv_aload_n hx hb dL_law_381 rfl (lv_at hl 1 rfl) ?_
      refine lv_aload_n hx hb dL_law_382 rfl (lv_at hl 0 rfl) ?_
      refine lv_iload_n hx hb dL_law_383 rfl (lv_at hl 3 rfl) ?_
      refine lv_iconst (v := nI 1) hx hb dL_law_384 (by decide) ?_
      refine xn_iadd hx hb dL_law_385 ?_
      refine xl_sld hx hb hX hbl hbA hS (show i + 1 < L by omega) hL31 dL_law_386 ?_
      refine kX0i (As := [.int (xs (i + 1))]) (rest := []) ⟨hx, hb, hml, hown, hts⟩ (metX0_sumByTag l dC dI cB cI q H.size n a (xs (i + 1)) gO vn hXI) (cwV 1 hts (lw_V q159 q160 q161 q13 q162) rfl rfl rfl (by decide +kernel) ⟨Nat.le_of_ble_eq_true rfl, Nat.le_of_ble_eq_true rfl⟩) hK0 hP hD hS hA rfl hl.1 rfl (Nat.le_of_ble_eq_true rfl) dL_law_387 ⟨Nat.le_of_ble_eq_true rfl, Nat.le_of_ble_eq_true rfl⟩ (fun r1 u H locs hpost0 hP hD hS => ?_)
      refine lv_aload_n hx hb dL_law_390 rfl (lv_at hl 2 rfl) ?_
      refine lv_aload_n hx hb dL_law_391 rfl (lv_at hl 0 rfl) ?_
      refine lv_iload_n hx hb dL_law_392 rfl (lv_at hl 3 rfl) ?_
      refine lv_iconst (v := nI 1) hx hb dL_law_393 (by decide) ?_
      refine xn_iadd hx hb dL_law_394 ?_
      refine xl_sld hx hb hX hbl hbA hS (show i + 1 < L by omega) hL31 dL_law_395 ?_
      obtain ⟨hP, hD⟩ := xsw hP hD
      refine kX1i (As := [.int (xs (i + 1))]) (rest := [.int r1]) ⟨hx, hb, hml, hown, hts⟩ (metX1_sumByTag l dC dI cB1 cI1 q1 H.size mm bb (xs (i + 1)) gO vO hYI) (cwV 1 hts (lw_V q255 q256 q257 q14 q258) rfl rfl rfl (by decide +kernel) ⟨Nat.le_of_ble_eq_true rfl, Nat.le_of_ble_eq_true rfl⟩) hK1 hP hD hS hA rfl hl.1 rfl (Nat.le_of_ble_eq_true rfl) dL_law_396 ⟨Nat.le_of_ble_eq_true rfl, Nat.le_of_ble_eq_true rfl⟩ (fun r2 v H locs hpost1 hP hD hS => ?_)
      obtain ⟨hP, hD⟩ := xsw hP hD
      obtain ⟨er, hR⟩ := gl_q hRI (RI_sum hRI _) hpost0 hpost1
      refine lv_icmp_eq (tgt := 437) hx hb dL_law_399 (by decide) (fun c_e => ?_) (fun c_e => ?_)
      · exact K437 u.1 v.1 u.2 v.2 hR H locs hP hD hS ls hl
      · exact absurd er c_e
    · refine lv_tableIn (tgt := 404) (off := 372) hx hb dL_law_32 (by decide +kernel) (by decide +kernel) (by decide +kernel) (by decide) ?_
      refine lv_aload_n hx hb dL_law_404 rfl (lv_at hl 1 rfl) ?_
      refine lv_aload_n hx hb dL_law_405 rfl (lv_at hl 0 rfl) ?_
      refine lv_iload_n hx hb dL_law_406 rfl (lv_at hl 3 rfl) ?_
      refine lv_iconst (v := nI 1) hx hb dL_law_407 (by decide) ?_
      refine xn_iadd hx hb dL_law_408 ?_
      refine xl_sld hx hb hX hbl hbA hS (show i + 1 < L by omega) hL31 dL_law_409 ?_
      refine lv_aload_n hx hb dL_law_410 rfl (lv_at hl 0 rfl) ?_
      refine lv_iload_n hx hb dL_law_411 rfl (lv_at hl 3 rfl) ?_
      refine lv_iconst (v := nI 2) hx hb dL_law_412 (by decide) ?_
      refine xn_iadd hx hb dL_law_413 ?_
      refine xl_sld hx hb hX hbl hbA hS (show i + 2 < L by omega) hL31 dL_law_414 ?_
      refine kX0i (As := [.int (xs (i + 1)), .int (xs (i + 2))]) (rest := []) ⟨hx, hb, hml, hown, hts⟩ (metX0_recordsWith l dC dI cB cI q H.size n a (xs (i + 1)) (xs (i + 2)) gO vn hXI) (cwV 2 hts (lw_V q163 q164 q165 q13 q166) rfl rfl rfl (by decide +kernel) ⟨Nat.le_of_ble_eq_true rfl, Nat.le_of_ble_eq_true rfl⟩) hK0 hP hD hS hA rfl hl.1 rfl (Nat.le_of_ble_eq_true rfl) dL_law_415 ⟨Nat.le_of_ble_eq_true rfl, Nat.le_of_ble_eq_true rfl⟩ (fun r1 u H locs hpost0 hP hD hS => ?_)
      refine lv_aload_n hx hb dL_law_418 rfl (lv_at hl 2 rfl) ?_
      refine lv_aload_n hx hb dL_law_419 rfl (lv_at hl 0 rfl) ?_
      refine lv_iload_n hx hb dL_law_420 rfl (lv_at hl 3 rfl) ?_
      refine lv_iconst (v := nI 1) hx hb dL_law_421 (by decide) ?_
      refine xn_iadd hx hb dL_law_422 ?_
      refine xl_sld hx hb hX hbl hbA hS (show i + 1 < L by omega) hL31 dL_law_423 ?_
      refine lv_aload_n hx hb dL_law_424 rfl (lv_at hl 0 rfl) ?_
      refine lv_iload_n hx hb dL_law_425 rfl (lv_at hl 3 rfl) ?_
      refine lv_iconst (v := nI 2) hx hb dL_law_426 (by decide) ?_
      refine xn_iadd hx hb dL_law_427 ?_
      refine xl_sld hx hb hX hbl hbA hS (show i + 2 < L by omega) hL31 dL_law_428 ?_
      obtain ⟨hP, hD⟩ := xsw hP hD
      refine kX1i (As := [.int (xs (i + 1)), .int (xs (i + 2))]) (rest := [.int r1]) ⟨hx, hb, hml, hown, hts⟩ (metX1_recordsWith l dC dI cB1 cI1 q1 H.size mm bb (xs (i + 1)) (xs (i + 2)) gO vO hYI) (cwV 2 hts (lw_V q259 q260 q261 q14 q262) rfl rfl rfl (by decide +kernel) ⟨Nat.le_of_ble_eq_true rfl, Nat.le_of_ble_eq_true rfl⟩) hK1 hP hD hS hA rfl hl.1 rfl (Nat.le_of_ble_eq_true rfl) dL_law_429 ⟨Nat.le_of_ble_eq_true rfl, Nat.le_of_ble_eq_true rfl⟩ (fun r2 v H locs hpost1 hP hD hS => ?_)
      obtain ⟨hP, hD⟩ := xsw hP hD
      obtain ⟨er, hR⟩ := gl_q hRI (RI_rw hRI _ _) hpost0 hpost1
      refine lv_icmp_eq (tgt := 437) hx hb dL_law_432 (by decide) (fun c_e => ?_) (fun c_e => ?_)
      · exact K437 u.1 v.1 u.2 v.2 hR H locs hP hD hS ls hl
      · exact absurd er c_e
set_option maxHeartbeats 8000000 in
set_option maxRecDepth 100000 in
/-- THE LAW, from its entry -/
theorem whole_start {p : Program} {e : Env} {s : State} {m : MethodId} {below : List Frame} {meth : Method} {c : Code} (l : Launch) {b L : Nat} {xs : Nat → Int32} (hL : L ≤ 256) (C0 : lw_At p s m meth c b L xs) : W p l e room_1 s m #[Value.ref b] below meth c s.heap [] 0 0 (lw_Z below #[Value.ref b] s) (entryFrame m ([Value.ref b] : List Value).toArray 4) := by
  obtain ⟨hx, hb, hr, hml, hown, hts0, hX, hbl, hlocks, hgv⟩ := id C0
  have hts : ∀ w ∈ lw_all, w.before #[Value.ref b] s = true := fun w h => hts0 w (lw_all_tbl h)
  have hA : ∀ x : Nat, s.heap.size ≤ x → (fun x : Nat => s.heap.size ≤ x) x := fun _ h => h
  obtain ⟨c0_, iS0, hKn0⟩ := u_known (C := RX0) (T := TX0) (N := 21) (n := 21) hts0 (fun w h => lw_all_tbl (in_X0 w h)) (hts0 _ (lw_all_tbl q16))
  obtain ⟨c1_, iS1, hKn1⟩ := u_known (C := RX1) (T := TX1) (N := 11) (n := 11) hts0 (fun w h => lw_all_tbl (in_X1 w h)) (hts0 _ (lw_all_tbl q168))
  obtain ⟨dC, dI, hKc⟩ : ∃ (dC : Nat → ClassId) (dI : Nat → Nat → Nat), ∀ (k : Nat) (z : vw_C), vwCl[k]? = some z → u_Kn s z.1 z.2.1 z.2.2 (dC k) (dI k) := by
    refine ⟨fun k => if k = 0 then c0_ else c1_, fun k => if k = 0 then iS0 else iS1, ?_⟩
    intro k z hz
    match k, hz with
    | 0, hz => cases hz; exact hKn0
    | 1, hz => cases hz; exact hKn1
    | k + 2, hz => simp [vwCl] at hz
  have hS : va_S (fun x : Nat => s.heap.size ≤ x) s.heap s.heap [] := va_S.rf
  have hK : va_K (dC, dI) vwCl [] s := ⟨hKc, fun k z h => by simp at h⟩
  have hP : va_P (dC, dI) vwCl [] s.heap := fun k z h => by simp at h
  have hD : va_D (fun x : Nat => s.heap.size ≤ x) [] := ⟨fun i j y z h => by simp at h, fun k z h => by simp at h⟩
  have hl := lv_entry ([.ref b]) (n := 4) (Nat.le_of_ble_eq_true rfl)
  rw [lg_entry_eq]
  generalize (lg_sl ([.ref b]) ++ List.replicate (4 - (lg_sl ([.ref b])).length) Slot.unset).toArray = ls at hl ⊢
  have hl : lv_has ls 4 [(0, .ref b)] := hl
  refine va_new (ci := 0) (fs := zX0) (C := RX0) (T := TX0) (N := 21) hx hb hts in_X0 tyX0 tyX0_ok hown (hts _ q15) (hts _ q16) (hts _ q13) hK hP hD hS hA rfl (fun j hj => by rcases (show j = 0 ∨ j = 1 ∨ j = 2 ∨ j = 3 ∨ j = 4 ∨ j = 5 ∨ j = 6 ∨ j = 7 ∨ j = 8 ∨ j = 9 ∨ j = 10 ∨ j = 11 ∨ j = 12 ∨ j = 13 ∨ j = 14 ∨ j = 15 ∨ j = 16 ∨ j = 17 ∨ j = 18 ∨ j = 19 ∨ j = 20 by omega) with rfl | rfl | rfl | rfl | rfl | rfl | rfl | rfl | rfl | rfl | rfl | rfl | rfl | rfl | rfl | rfl | rfl | rfl | rfl | rfl | rfl <;> rfl) (Nat.le_of_ble_eq_true rfl) (Nat.le_of_ble_eq_true rfl) dL_law_0 (fun h0 H hP hD hS => ?_)
  have hP : va_P (dC, dI) vwCl ([(h0, .inr (0, zX0))] ++ []) H := hP
  have hD : va_D (fun x : Nat => s.heap.size ≤ x) ([(h0, .inr (0, zX0))] ++ []) := hD
  refine lv_dup hx hb dL_law_3 rfl ?_
  have hFc : ∀ x, va_A [(h0, .inr (0, zX0))] H.size x → s.heap.size ≤ x := by
    intro x h
    rcases h with ⟨k, e, h⟩ | h
    · exact (xD_l hD).2 k (x, e) h
    · exact hA x (Nat.le_trans hS.1 h)
  have hPc := xP_l hP
  have hDc := xD_l hD
  refine va_callv (va_runI (As := []) (rest := [.ref h0]) ⟨hx, hb, hml, hown, hts⟩ (metX0_init l dC dI h0 H.size) (cwI 0 hts (lw_meth q19) rfl rfl rfl (hts _ q13) (hts _ q17) (hts _ q18) rfl (by decide +kernel) ⟨Nat.le_of_ble_eq_true rfl, Nat.le_of_ble_eq_true rfl⟩) ⟨fun a U g mk z => by obtain ⟨z0, z1, zP, zK, zD⟩ := z; exact ⟨z0, z1, zP, va_K.moved (u := U) (U := U.calling g mk a) (Vm.Alike.refl U.vm) zK, zD⟩, fun U hU hW => ⟨rfl, by rw [hU], by rw [hU]; exact hPc, va_K.moved hW.alike hK, hDc.weaken (fun _ _ _ _ => trivial)⟩⟩ rfl rfl hl.1 rfl (lv_room (Nat.le_of_ble_eq_true rfl)) dL_law_4 ⟨Nat.le_of_ble_eq_true rfl, Nat.le_of_ble_eq_true rfl⟩) hS (fun x _ h => hFc x h) hFc (fun u t H1 locs ht hvm hw hB hz hk hS => ?_)
  obtain ⟨q, cB, cI, hq, hP1, hK0, hD1⟩ := hB
  rw [ht] at hP1
  have hK0 := va_K.moved hvm.symm hK0
  obtain ⟨hP, hD⟩ := xj (wc := [(h0, .inr (0, zX0))]) (wr := []) hP hD hk hFc hP1 hD1
  generalize H1 = H at hP hS ⊢
  have hP : va_P (dC, dI) vwCl (WX0 cB cI q (fun _ => 0) (fun _ _ => 0)) H := by rw [List.append_nil] at hP; exact hP
  have hD : va_D (fun x : Nat => s.heap.size ≤ x) (WX0 cB cI q (fun _ => 0) (fun _ _ => 0)) := by rw [List.append_nil] at hD; exact hD
  rw [← hq]
  refine lv_astore_n (lv' := [(1, .ref (q 0)), (0, .ref b)]) hx hb dL_law_7 rfl hl (by decide) rfl (fun ls hl => ?_)
  refine va_new (ci := 1) (fs := zX1) (C := RX1) (T := TX1) (N := 11) hx hb hts in_X1 tyX1 tyX1_ok hown (hts _ q167) (hts _ q168) (hts _ q14) hK hP hD hS hA rfl (fun j hj => by rcases (show j = 0 ∨ j = 1 ∨ j = 2 ∨ j = 3 ∨ j = 4 ∨ j = 5 ∨ j = 6 ∨ j = 7 ∨ j = 8 ∨ j = 9 ∨ j = 10 by omega) with rfl | rfl | rfl | rfl | rfl | rfl | rfl | rfl | rfl | rfl | rfl <;> rfl) (Nat.le_of_ble_eq_true rfl) (Nat.le_of_ble_eq_true rfl) dL_law_8 (fun h1 H hP hD hS => ?_)
  obtain ⟨hP, hD⟩ := xsw hP hD
  have hP : va_P (dC, dI) vwCl ([(h1, .inr (1, zX1))] ++ (WX0 cB cI q (fun _ => 0) (fun _ _ => 0))) H := hP
  have hD : va_D (fun x : Nat => s.heap.size ≤ x) ([(h1, .inr (1, zX1))] ++ (WX0 cB cI q (fun _ => 0) (fun _ _ => 0))) := hD
  refine lv_dup hx hb dL_law_11 rfl ?_
  have hFc : ∀ x, va_A [(h1, .inr (1, zX1))] H.size x → s.heap.size ≤ x := by
    intro x h
    rcases h with ⟨k, e, h⟩ | h
    · exact (xD_l hD).2 k (x, e) h
    · exact hA x (Nat.le_trans hS.1 h)
  have hPc := xP_l hP
  have hDc := xD_l hD
  refine va_callv (va_runI (As := []) (rest := [.ref h1]) ⟨hx, hb, hml, hown, hts⟩ (metX1_init l dC dI h1 H.size) (cwI 0 hts (lw_meth q171) rfl rfl rfl (hts _ q14) (hts _ q169) (hts _ q170) rfl (by decide +kernel) ⟨Nat.le_of_ble_eq_true rfl, Nat.le_of_ble_eq_true rfl⟩) ⟨fun a U g mk z => by obtain ⟨z0, z1, zP, zK, zD⟩ := z; exact ⟨z0, z1, zP, va_K.moved (u := U) (U := U.calling g mk a) (Vm.Alike.refl U.vm) zK, zD⟩, fun U hU hW => ⟨rfl, by rw [hU], by rw [hU]; exact hPc, va_K.moved hW.alike hK, hDc.weaken (fun _ _ _ _ => trivial)⟩⟩ rfl rfl hl.1 rfl (lv_room (Nat.le_of_ble_eq_true rfl)) dL_law_12 ⟨Nat.le_of_ble_eq_true rfl, Nat.le_of_ble_eq_true rfl⟩) hS (fun x _ h => hFc x h) hFc (fun u t H1 locs ht hvm hw hB hz hk hS => ?_)
  obtain ⟨q1, cB1, cI1, hq1, hP1, hK1, hD1⟩ := hB
  rw [ht] at hP1
  have hK1 := va_K.moved hvm.symm hK1
  obtain ⟨hP, hD⟩ := xj (wc := [(h1, .inr (1, zX1))]) (wr := (WX0 cB cI q (fun _ => 0) (fun _ _ => 0))) hP hD hk hFc hP1 hD1
  generalize H1 = H at hP hS ⊢
  obtain ⟨hP, hD⟩ := xsw hP hD
  rw [← hq1]
  refine lv_astore_n (lv' := [(2, .ref (q1 0)), (1, .ref (q 0)), (0, .ref b)]) hx hb dL_law_15 rfl hl (by decide) rfl (fun ls hl => ?_)
  refine lv_iconst (v := nI 0) hx hb dL_law_16 (by decide) ?_
  refine lv_istore_n (lv' := [(3, .int (nI 0)), (2, .ref (q1 0)), (1, .ref (q 0)), (0, .ref b)]) hx hb dL_law_17 rfl hl (by decide) rfl (fun ls hl => ?_)
  refine W.widen (k := 600000) (n := 7290000) (Nat.le_of_ble_eq_true rfl) (Nat.le_of_ble_eq_true rfl) ?_
  exact law_loop l hL C0 hK0 hK1 (L + 1) 0 (by omega) (Nat.zero_le _) _ _ _ _ ⟨_, _, _, RI_0⟩ H locs hP hD hS ls (lv_sub hl [3, 2, 1, 0] rfl)
end
section
set_option maxRecDepth 100000
set_option maxHeartbeats 4000000 in
theorem lw_walk (l : Launch) (b : Addr) (xs : List Int32) : MetFree l x (headSpec (Jvm.Cond.code x code maxLocals ret :: tables_1) room_1) (lw_P b xs) (fun _ _ _ _ _ => True) lw_Q := by
  refine MetFree.of_bodyS (code := code) (maxLocals := maxLocals) (ret := ret) (by decide) ?_ ?_
  · intro args s m h hn
    obtain ⟨meth, c, h1, h2, h3, h4, h5, h6, -, -⟩ := Cond.code_spec hn (atoms_spec (ws := Jvm.Cond.code x code maxLocals ret :: tables_1) h _ List.mem_cons_self)
    exact ⟨meth, c, h1, h2, h3, h4, h5, h6⟩
  · intro p e s m args below meth c s₁ B hml0 hP _
    obtain ⟨rfl, hx, hbd, hgv⟩ := hP
    obtain ⟨scr, harrAt, hlist, hof, hsmall⟩ := hx
    obtain ⟨hcb, hkn, -, -⟩ := State.arrayAt?_spec harrAt
    have hown : s.vm.findClass R_law = some m.cls := findClass_of_methodNamed B.named
    have hts0 : ∀ c ∈ (Jvm.Cond.code x code maxLocals ret :: tables_1), c.before #[Value.ref b] s = true := atoms_spec (ws := Jvm.Cond.code x code maxLocals ret :: tables_1) B.pre
    have hts : ∀ w ∈ lw_tbl, w.before #[Value.ref b] s = true := k2_hts_sels lw_privs (fun w hw => hts0 w (List.mem_cons_of_mem _ hw)) lw_privs_ok
    have hml : c.maxLocals = 4 := B.maxLocals_eq (hts0 _ List.mem_cons_self)
    have X₀ : Stand p l e room_1 s m #[Value.ref b] below meth c s₁ [] 0 0 := Stand.of_body B
    have hh0 : s₁.heap = s.heap := by rw [B.state]; rfl
    have hsz : scr.slots.size = xs.length := by rw [← Array.length_toList, hlist, List.length_map]
    have hval : ∀ j : Nat, j < xs.length → scr.slots[j]? = some (.int (xs.getD j 0)) := fun j hj => by
      rw [← Array.getElem?_toList, hlist]
      simp [hj]
    have hbl : b < s.heap.size := (Array.getElem?_eq_some_iff.mp hcb).1
    have hX : va_X b xs.length (fun j => xs.getD j 0) s s.heap := ⟨scr, hcb, hof, hkn, hsz, hval⟩
    have K : W p l e room_1 s m #[Value.ref b] below meth c s₁.heap [] 0 0 (lw_Z below #[Value.ref b] s) (entryFrame m ([Value.ref b] : List Value).toArray 4) := by
      rw [hh0]
      exact whole_start l hbd ⟨B.exec, B.bytes, B.returns, hml, hown, hts, hX, hbl, B.notSynchronized, hgv⟩
    obtain ⟨t, a1, o, b1, b2, b3⟩ := K s₁ rfl X₀
    exact ⟨t, o, a1, b1, b2, b3⟩
theorem lw_pre_spec {args : Array Value} {s : State} (h : (Jvm.Cond.and given_1 narrow_1).before args s = true) (hr : rest_1_c.before args s = true) : ∃ (b : Addr) (xs : List Int32), lw_P b xs args s := by
  have hs := flat_of_before _ h
  have hq := flat_of_before _ hr
  have hc : (Cond.count 1).before args s = true := hs _ (by decide +kernel)
  have harr : (Cond.arrayOf (.arg 0) .int).before args s = true := hs _ (by decide +kernel)
  have hle : (Cond.le (.length (.arg 0)) (.int 256)).before args s = true := hs _ (by decide +kernel)
  have hlen : (Cond.isInt (.length (.arg 0))).before args s = true := hq _ (by decide +kernel)
  have hall : (Cond.all (.arg 0) (.isInt (.elem (.arg 0) (.index 0)))).before args s = true := hq _ (by decide +kernel)
  obtain ⟨b, xs, hb, hx⟩ := State.ints_of_pre rfl harr hlen hall
  have hsm : xs.length < 2 ^ 31 := hx.choose_spec.2.2.2
  have hev : (Term.length (.arg 0)).eval args s none [] s = some (.int xs.length.toInt32) := hx.length_eval hb
  have hv := Cond.le_ints hev (show (Term.int 256).eval args s none [] s = some (.int 256) from rfl)
  have hd : xs.length.toInt32 ≤ 256 := by
    simpa [Cond.before, Cond.holds, hv] using hle
  have hN : xs.length ≤ 256 := (Int32.ofNat_le_ofNat hsm (by decide)).mp (show Int32.ofNat xs.length ≤ Int32.ofNat 256 from hd)
  exact ⟨b, xs, Cond.one_arg hc (show args[0]? = some (.ref b) from hb), hx, hN, h⟩
theorem lw_comes (l : Launch) : Comes l x (Jvm.Cond.code x code maxLocals ret :: tables_1) room_1 (fun tb e args s => Calls_1 tb e args s ∧ rest_1 tb e args s ∧ Pre_1 tb e args s)
    (fun _ _ args s o t => lw_Q args s o t) := by
  intro p e ha hc hk s m args below hf hfit hheap happ hpre
  obtain ⟨b, xs, hP⟩ := lw_pre_spec hpre.2.2 hpre.2.1
  obtain ⟨k, o, h1, h2, h3, hQ⟩ := lw_walk l b xs p e ha hc hk s m args below hf ((Spec.applies_iff_loose hf).mp happ).1 hP trivial
  exact ⟨k, o, h1, h2, h3, hQ⟩
theorem lw_frame {s t : State} {o : Outcome} {args : Array Value} (h : Framed s o t [] 600000 7290000) :
    Framed s o t (fieldLocs frame_1_writes args s ++ arrayLocs frame_1_arrays args s ++ staticLocs frame_1_statics s) 600000 7290000 := h
theorem lw_limb (L : Cond) (hL : ∀ (args : Array Value) (s t : State), L.after args s (.returned (some (.int 1))) t = true) :
    ArmFor flags0 classFile x code maxLocals ret World_1 tables_1 room_1 Calls_1 rest_1 Pre_1
      (fun tb e a s o t => postC L tb e a s o t ∧ Framed s o t (fieldLocs frame_1_writes a s ++ arrayLocs frame_1_arrays a s ++ staticLocs frame_1_statics s) 600000 7290000) := by
  intro l _ _ _ p e ha hc hk s m args below hf hfit hheap happ hpre
  obtain ⟨k, o, h1, h2, h3, rfl, hF⟩ := lw_comes l p e ha hc hk s m args below hf hfit hheap happ hpre
  exact ⟨k, _, h1, h2, h3, hL args s _, lw_frame hF⟩
theorem i_vc : Claimed_1_1 ∧ Claimed_1_2 := ⟨lw_limb limb_1_1 (fun args s t => by simp [limb_1_1, Cond.after, Cond.holds, Cond.value]), lw_limb limb_1_2 (fun args s t => Cond.after_iff.mpr (by
  first | (rw [show limb_1_2 = Cond.eq .result (.int 1) from rfl, Cond.eq_ints (x := 1) (y := 1) rfl rfl]; simp; done) | (simp [limb_1_2, Cond.value, Term.eval]; done)))⟩
end
